section
/-! rows of the kit (PURE-ROWS, BITS), taken as they stand -/
theorem pk_us {f : Nat → Int32} {k : Nat} {x : Int32} : upd f k x k = x := if_pos rfl
theorem pk_un {f : Nat → Int32} {k j : Nat} {x : Int32} (h : j ≠ k) : upd f k x j = f j := if_neg h
theorem pk_sub {a b : Nat} (h : b ≤ a) : nI a - nI b = nI (a - b) := by
  obtain ⟨c, rfl⟩ : ∃ c, a = c + b := ⟨a - b, by omega⟩
  rw [← nI_add, Int32.add_sub_cancel, Nat.add_sub_cancel]
theorem pk_m1 (n : Nat) : nI (n + 1) + (-1) = nI n := by
  rw [← nI_1, Int32.add_assoc, show (1 : Int32) + (-1) = 0 from rfl, Int32.add_zero]
theorem pk_mul (a b : Nat) : nI a * nI b = nI (a * b) := (Int32.ofNat_mul a b).symm
theorem pk_div {a d : Nat} (ha : a < 2 ^ 31) (h0 : 0 < d) (hd : d < 2 ^ 31) : nI a / nI d = nI (a / d) := by
  apply Int32.toInt_inj.mp
  rw [lg_idiv_nonneg (by rw [nI_toInt ha]; omega) (by rw [nI_toInt hd]; omega), nI_toInt ha, nI_toInt hd, nI_toInt (Nat.lt_of_le_of_lt (Nat.div_le_self a d) ha)]
  first | rfl | exact (Int.natCast_ediv _ _).symm
theorem pk_rem {a d : Nat} (ha : a < 2 ^ 31) (h0 : 0 < d) (hd : d < 2 ^ 31) : nI a - nI a / nI d * nI d = nI (a % d) := by
  rw [pk_div ha h0 hd, pk_mul, pk_sub (Nat.div_mul_le_self a d)]
  exact congrArg nI (by have := Nat.div_add_mod' a d; omega)
theorem pk_ix (x : Int32) {n : Nat} (hn : n < 2 ^ 31) : x < 0 ∨ nI n ≤ x ∨ ∃ j : Nat, j < n ∧ x = nI j := by
  by_cases h : x < 0
  · exact Or.inl h
  · obtain ⟨j, hj, rfl⟩ := nI_of h
    by_cases h2 : j < n
    · exact Or.inr (Or.inr ⟨j, h2, rfl⟩)
    · exact Or.inr (Or.inl (nI_le (by omega) hj))
theorem pk_le {x y : Int32} {A B : Prop} (a b : Nat) (f : a ≤ b → A) (g : b < a → B) (hx : x = nI a := by rfl) (hy : y = nI b := by rfl) (ha : a < 2 ^ 31 := by omega) (hb : b < 2 ^ 31 := by omega) : (x ≤ y → A) ∧ (¬ x ≤ y → B) := by
  subst hx hy
  rw [nI_leI ha hb]
  exact ⟨f, fun z => g (by omega)⟩
theorem pk_lt {x y : Int32} {A B : Prop} (a b : Nat) (f : a < b → A) (g : b ≤ a → B) (hx : x = nI a := by rfl) (hy : y = nI b := by rfl) (ha : a < 2 ^ 31 := by omega) (hb : b < 2 ^ 31 := by omega) : (x < y → A) ∧ (¬ x < y → B) := by
  subst hx hy
  rw [nI_ltI ha hb]
  exact ⟨f, fun z => g (by omega)⟩
theorem pk_eq {x y : Int32} {A B : Prop} (a b : Nat) (f : a = b → A) (g : a ≠ b → B) (hx : x = nI a := by rfl) (hy : y = nI b := by rfl) (ha : a < 2 ^ 31 := by omega) (hb : b < 2 ^ 31 := by omega) : (x = y → A) ∧ (¬ x = y → B) := by
  subst hx hy
  rw [nI_eq ha hb]
  exact ⟨f, g⟩
theorem pk_in {x : Int32} (n N : Nat) (h : n < N) (hx : x = nI n := by rfl) (hN : N < 2 ^ 31 := by omega) : vp_in x N := by
  subst hx
  exact vp_in_nI h hN
theorem pk_cl {x : Int32} (n : Nat) (hx : x = nI n := by rfl) (h : n < 2 ^ 31 := by omega) : x.toNatClampNeg = n := by
  subst hx
  exact nI_clamp h
theorem pk_tn {n : Nat} (h : n < 2 ^ 32) : (nI n).toBitVec.toNat = n := Nat.mod_eq_of_lt h
theorem pk_and (x : Int32) {m : Int32} (k : Nat) (hm : m.toBitVec.toNat = 2 ^ k - 1) : x &&& m = nI (x.toBitVec.toNat % 2 ^ k) := by
  apply Int32.toBitVec_inj.mp
  apply BitVec.eq_of_toNat_eq
  rw [Int32.toBitVec_and, BitVec.toNat_and, hm, Nat.and_two_pow_sub_one_eq_mod]
  show _ = (BitVec.ofNat 32 _).toNat
  rw [BitVec.toNat_ofNat]
  exact (Nat.mod_eq_of_lt (Nat.lt_of_le_of_lt (Nat.mod_le _ _) x.toBitVec.isLt)).symm
theorem pk_andN {n : Nat} (h : n < 2 ^ 32) {m : Int32} (k : Nat) (hm : m.toBitVec.toNat = 2 ^ k - 1) : nI n &&& m = nI (n % 2 ^ k) := by
  rw [pk_and _ k hm, pk_tn h]
theorem pk_shl (a s : Int32) (k : Nat) (hs : (s.toBitVec.smod 32).toNat = k) : (a <<< s).toBitVec.toNat = a.toBitVec.toNat * 2 ^ k % 2 ^ 32 := by
  show (a.toBitVec <<< (s.toBitVec.smod 32).toNat).toNat = _
  rw [hs, BitVec.toNat_shiftLeft, Nat.shiftLeft_eq]
theorem pk_shlN {n : Nat} (s : Int32) (k : Nat) (hs : (s.toBitVec.smod 32).toNat = k) (h : n * 2 ^ k < 2 ^ 32) : nI n <<< s = nI (n * 2 ^ k) := by
  apply Int32.toBitVec_inj.mp
  apply BitVec.eq_of_toNat_eq
  have hn : n < 2 ^ 32 := Nat.lt_of_le_of_lt (Nat.le_mul_of_pos_right n (Nat.two_pow_pos k)) h
  rw [pk_shl _ _ k hs, pk_tn hn, pk_tn h, Nat.mod_eq_of_lt h]
theorem pk_shr (a s : Int32) (k : Nat) (hs : (s.toBitVec.smod 32).toNat = k) : (a >>> s).toInt = a.toInt >>> k := by
  show (a.toBitVec.sshiftRight (s.toBitVec.smod 32).toNat).toInt = _
  rw [hs, BitVec.toInt_sshiftRight]
  rfl
theorem pk_shrN {n : Nat} (h : n < 2 ^ 31) (s : Int32) (k : Nat) (hs : (s.toBitVec.smod 32).toNat = k) : nI n >>> s = nI (n / 2 ^ k) := by
  apply Int32.toInt_inj.mp
  have h2 : n / 2 ^ k ≤ n := Nat.div_le_self _ _
  rw [pk_shr _ _ k hs, nI_toInt h, nI_toInt (by omega), Int.shiftRight_eq_div_pow]
  rfl
theorem pk_vb (z : Int32) : vp_nar .byte z.toInt8.toInt32 = z.toInt8.toInt32 := by rw [vp_nar_byte]; simp
theorem pk_least (P : Nat → Prop) (h : ∃ k, P k) : ∃ k, P k ∧ ∀ j, j < k → ¬ P j := by
  obtain ⟨k, hk⟩ := h
  induction k using Nat.strongRecOn with
  | ind k ih =>
    by_cases e : ∃ j, j < k ∧ P j
    · obtain ⟨j, hj, pj⟩ := e
      exact ih j hj pj
    · exact ⟨k, hk, fun j hj pj => e ⟨j, hj, pj⟩⟩
def bt (x : Int32) (i : Nat) : Bool := x.toBitVec.getLsbD i
theorem b_ext {x y : Int32} (h : ∀ i, i < 32 → bt x i = bt y i) : x = y := Int32.toBitVec_inj.mp (BitVec.eq_of_getLsbD_eq (fun i hi => h i hi))
theorem b_or (x y : Int32) (i : Nat) : bt (x ||| y) i = (bt x i || bt y i) := by unfold bt; rw [Int32.toBitVec_or, BitVec.getLsbD_or]
theorem b_and (x y : Int32) (i : Nat) : bt (x &&& y) i = (bt x i && bt y i) := by unfold bt; rw [Int32.toBitVec_and, BitVec.getLsbD_and]
theorem b_xor (x y : Int32) (i : Nat) : bt (x ^^^ y) i = (bt x i ^^ bt y i) := by unfold bt; rw [Int32.toBitVec_xor, BitVec.getLsbD_xor]
theorem b_big {x : Int32} {i : Nat} (h : 32 ≤ i) : bt x i = false := BitVec.getLsbD_of_ge _ _ h
theorem b_m1 : ∀ i, i < 32 → bt (-1) i = true := by decide +kernel
theorem b_0 (i : Nat) : bt 0 i = false := BitVec.getLsbD_zero
theorem s_l : ∀ n, n < 32 → ((nI n &&& 31).toBitVec.smod 32).toNat = n := by decide +kernel
theorem s_u : ∀ n, n < 32 → (((nI n).toUInt32 &&& Int32.toUInt32 31).toBitVec % 32).toNat = n := by decide +kernel
theorem b_shl (n : Nat) (hn : n < 32) (x : Int32) {i : Nat} (hi : i < 32) : bt (x <<< (nI n &&& 31)) i = (decide (n ≤ i) && bt x (i - n)) := by
  unfold bt
  rw [Int32.toBitVec_shiftLeft]
  show (x.toBitVec <<< ((nI n &&& 31).toBitVec.smod 32).toNat).getLsbD i = _
  rw [s_l n hn, BitVec.getLsbD_shiftLeft]
  rcases Nat.lt_or_ge i n with h | h
  · simp [h, Nat.not_le.mpr h]
  · simp [hi, h, Nat.not_lt.mpr h]
theorem b_ushr (n : Nat) (hn : n < 32) (x : Int32) (i : Nat) : bt ((x.toUInt32 >>> ((nI n).toUInt32 &&& Int32.toUInt32 31)).toInt32) i = bt x (n + i) := by
  show (x.toUInt32 >>> ((nI n).toUInt32 &&& Int32.toUInt32 31)).toBitVec.getLsbD i = x.toUInt32.toBitVec.getLsbD (n + i)
  rw [UInt32.toBitVec_shiftRight]
  show (x.toUInt32.toBitVec >>> (((nI n).toUInt32 &&& Int32.toUInt32 31).toBitVec % 32).toNat).getLsbD i = _
  rw [s_u n hn, BitVec.getLsbD_ushiftRight]
theorem b_sshr (n : Nat) (hn : n < 32) (x : Int32) {i : Nat} (hi : i < 32) : bt (x >>> (nI n &&& 31)) i = if n + i < 32 then bt x (n + i) else bt x 31 := by
  unfold bt
  rw [Int32.toBitVec_shiftRight]
  show (x.toBitVec.sshiftRight ((nI n &&& 31).toBitVec.smod 32).toNat).getLsbD i = _
  rw [s_l n hn, BitVec.getLsbD_sshiftRight, BitVec.msb_eq_getLsbD_last]
  simp [hi]
theorem nx_and (a b : Nat) : nI a &&& nI b = nI (a &&& b) := by
  apply Int32.toBitVec_inj.1
  show BitVec.ofNat 32 a &&& BitVec.ofNat 32 b = BitVec.ofNat 32 (a &&& b)
  apply BitVec.eq_of_getLsbD_eq
  intro i hi
  simp [hi]
theorem nx_xor (a b : Nat) : nI a ^^^ nI b = nI (a ^^^ b) := by
  apply Int32.toBitVec_inj.1
  show BitVec.ofNat 32 a ^^^ BitVec.ofNat 32 b = BitVec.ofNat 32 (a ^^^ b)
  apply BitVec.eq_of_getLsbD_eq
  intro i hi
  simp [hi]
end
section
/-! ===== naturals as sets; the odd corners and the length of a set of streets ===== -/
/-- a without the bits of b -/
def sw_an (a b : Nat) : Nat := a ^^^ (a &&& b)
theorem sw_an_t (a b i : Nat) : (sw_an a b).testBit i = (a.testBit i && !b.testBit i) := by
  unfold sw_an
  rw [Nat.testBit_xor, Nat.testBit_and]
  cases a.testBit i <;> cases b.testBit i <;> rfl
def sw_sub (S T : Nat) : Prop := ∀ i, S.testBit i = true → T.testBit i = true
theorem sw_sub_0 (T : Nat) : sw_sub 0 T := fun i h => by
  rw [Nat.zero_testBit] at h
  exact absurd h (by decide)
theorem sw_sub_r (T : Nat) : sw_sub T T := fun _ h => h
theorem sw_sub_tr {S T U : Nat} (h : sw_sub S T) (g : sw_sub T U) : sw_sub S U := fun i z => g i (h i z)
theorem sw_sub_eq {S T : Nat} (h : sw_sub S T) (g : sw_sub T S) : S = T := by
  apply Nat.eq_of_testBit_eq
  intro i
  have h1 := h i
  have h2 := g i
  revert h1 h2
  cases S.testBit i <;> cases T.testBit i <;> simp
theorem sw_sub_x {S T G : Nat} (h : sw_sub S G) (g : sw_sub T G) : sw_sub (S ^^^ T) G := by
  intro i z
  rw [Nat.testBit_xor] at z
  have h1 := h i
  have h2 := g i
  revert h1 h2 z
  cases S.testBit i <;> cases T.testBit i <;> simp
theorem sw_sub_lt {S T n : Nat} (h : sw_sub S T) (hT : T < 2 ^ n) : S < 2 ^ n :=
  Nat.lt_of_le_of_lt (Nat.le_of_testBit h) hT
theorem sw_2_sub {S s : Nat} (h : S.testBit s = true) : sw_sub (2 ^ s) S := by
  intro i z
  rw [Nat.testBit_two_pow] at z
  have e : s = i := of_decide_eq_true z
  rw [← e]
  exact h
theorem sw_x_sub {S s : Nat} (h : S.testBit s = true) : sw_sub (S ^^^ 2 ^ s) S := sw_sub_x (sw_sub_r S) (sw_2_sub h)
theorem sw_x_off {S s : Nat} (h : S.testBit s = true) : (S ^^^ 2 ^ s).testBit s = false := by
  rw [Nat.testBit_xor, Nat.testBit_two_pow_self, h]
  rfl
theorem sw_x_on {S s : Nat} (h : S.testBit s = false) : (S ^^^ 2 ^ s).testBit s = true := by
  rw [Nat.testBit_xor, Nat.testBit_two_pow_self, h]
  rfl
theorem sw_x_ne {S s i : Nat} (h : s ≠ i) : (S ^^^ 2 ^ s).testBit i = S.testBit i := by
  rw [Nat.testBit_xor, Nat.testBit_two_pow_of_ne h, Bool.xor_false]
theorem sw_x_lt {S s : Nat} (h : S.testBit s = true) : S ^^^ 2 ^ s < S := by
  have h1 : S ^^^ 2 ^ s ≤ S := Nat.le_of_testBit (sw_x_sub h)
  have h2 : S ^^^ 2 ^ s ≠ S := by
    intro z
    have h3 := sw_x_off h
    rw [z, h] at h3
    exact absurd h3 (by decide)
  omega
theorem sw_xx (S T : Nat) : S ^^^ T ^^^ T = S := by
  rw [Nat.xor_assoc, Nat.xor_self, Nat.xor_zero]
theorem sw_x22 (x y e f : Nat) : (x ^^^ y) ^^^ (e ^^^ f) = (x ^^^ e) ^^^ (y ^^^ f) := by
  apply Nat.eq_of_testBit_eq
  intro i
  simp only [Nat.testBit_xor]
  cases x.testBit i <;> cases y.testBit i <;> cases e.testBit i <;> cases f.testBit i <;> rfl
theorem sw_xcan (x v w c : Nat) : x ^^^ v ^^^ w ^^^ w ^^^ c = x ^^^ v ^^^ c := by
  rw [sw_xx]
theorem sw_xmid (a b c : Nat) : (a ^^^ c) ^^^ (c ^^^ b) = a ^^^ b := by
  apply Nat.eq_of_testBit_eq
  intro i
  simp only [Nat.testBit_xor]
  cases a.testBit i <;> cases b.testBit i <;> cases c.testBit i <;> rfl
theorem sw_xback (a b m : Nat) : (a ^^^ b) ^^^ (m ^^^ a ^^^ b) = m := by
  apply Nat.eq_of_testBit_eq
  intro i
  simp only [Nat.testBit_xor]
  cases a.testBit i <;> cases b.testBit i <;> cases m.testBit i <;> rfl
/-- the two ends of street s, by xor -/
def sw_e (A B : Nat → Nat) (s : Nat) : Nat := 2 ^ A s ^^^ 2 ^ B s
/-- the corners at which an odd number of the streets of S below n ends -/
def sw_od (A B : Nat → Nat) (S : Nat) : Nat → Nat
  | 0 => 0
  | n + 1 => sw_od A B S n ^^^ (if S.testBit n = true then sw_e A B n else 0)
/-- the length of the streets of S below n -/
def sw_ln (L : Nat → Nat) (S : Nat) : Nat → Nat
  | 0 => 0
  | n + 1 => sw_ln L S n + (if S.testBit n = true then L n else 0)
theorem sw_od_x (A B : Nat → Nat) (S T : Nat) : ∀ n, sw_od A B (S ^^^ T) n = sw_od A B S n ^^^ sw_od A B T n := by
  intro n
  induction n with
  | zero => exact (Nat.xor_self 0).symm
  | succ n ih =>
    have key : (if (S ^^^ T).testBit n = true then sw_e A B n else 0) = (if S.testBit n = true then sw_e A B n else 0) ^^^ (if T.testBit n = true then sw_e A B n else 0) := by
      rw [Nat.testBit_xor]
      cases S.testBit n <;> cases T.testBit n <;> simp
    show sw_od A B (S ^^^ T) n ^^^ _ = (sw_od A B S n ^^^ _) ^^^ (sw_od A B T n ^^^ _)
    rw [key, ih, sw_x22]
theorem sw_od_0 (A B : Nat → Nat) : ∀ n, sw_od A B 0 n = 0 := by
  intro n
  induction n with
  | zero => rfl
  | succ n ih =>
    show sw_od A B 0 n ^^^ (if (0 : Nat).testBit n = true then sw_e A B n else 0) = 0
    rw [ih, Nat.zero_testBit, if_neg (by decide), Nat.xor_self]
theorem sw_ln_0 (L : Nat → Nat) : ∀ n, sw_ln L 0 n = 0 := by
  intro n
  induction n with
  | zero => rfl
  | succ n ih =>
    show sw_ln L 0 n + _ = 0
    rw [ih, Nat.zero_testBit]
    rfl
theorem sw_ln_x (L : Nat → Nat) (S T : Nat) : ∀ n, sw_ln L (S ^^^ T) n ≤ sw_ln L S n + sw_ln L T n := by
  intro n
  induction n with
  | zero => exact Nat.le_refl _
  | succ n ih =>
    simp only [sw_ln, Nat.testBit_xor]
    cases S.testBit n <;> cases T.testBit n <;> simp <;> omega
theorem sw_ln_sub {L : Nat → Nat} {S C : Nat} (h : sw_sub C S) : ∀ n, sw_ln L (S ^^^ C) n + sw_ln L C n = sw_ln L S n := by
  intro n
  induction n with
  | zero => rfl
  | succ n ih =>
    have hn := h n
    simp only [sw_ln, Nat.testBit_xor]
    revert hn
    cases S.testBit n <;> cases C.testBit n <;> simp <;> omega
theorem sw_ln_le {L : Nat → Nat} (hL : ∀ s, L s ≤ 20) (S : Nat) : ∀ n, sw_ln L S n ≤ 20 * n := by
  intro n
  induction n with
  | zero => exact Nat.le_refl _
  | succ n ih =>
    have := hL n
    simp only [sw_ln]
    split <;> omega
theorem sw_od_2' (A B : Nat → Nat) (s : Nat) : ∀ n, sw_od A B (2 ^ s) n = if s < n then sw_e A B s else 0 := by
  intro n
  induction n with
  | zero => rw [if_neg (by omega)]; rfl
  | succ n ih =>
    show sw_od A B (2 ^ s) n ^^^ _ = _
    rw [ih]
    rcases Nat.lt_trichotomy s n with h | h | h
    · rw [if_pos h, if_pos (show s < n + 1 by omega), Nat.testBit_two_pow_of_ne (show s ≠ n by omega)]
      simp
    · subst h
      rw [if_neg (show ¬ s < s by omega), if_pos (show s < s + 1 by omega), Nat.testBit_two_pow_self]
      simp
    · rw [if_neg (show ¬ s < n by omega), if_neg (show ¬ s < n + 1 by omega), Nat.testBit_two_pow_of_ne (show s ≠ n by omega)]
      simp
theorem sw_od_2 {A B : Nat → Nat} {s n : Nat} (h : s < n) : sw_od A B (2 ^ s) n = sw_e A B s := by
  rw [sw_od_2', if_pos h]
theorem sw_ln_2' (L : Nat → Nat) (s : Nat) : ∀ n, sw_ln L (2 ^ s) n = if s < n then L s else 0 := by
  intro n
  induction n with
  | zero => rw [if_neg (by omega)]; rfl
  | succ n ih =>
    show sw_ln L (2 ^ s) n + _ = _
    rw [ih]
    rcases Nat.lt_trichotomy s n with h | h | h
    · rw [if_pos h, if_pos (show s < n + 1 by omega), Nat.testBit_two_pow_of_ne (show s ≠ n by omega)]
      simp
    · subst h
      rw [if_neg (show ¬ s < s by omega), if_pos (show s < s + 1 by omega), Nat.testBit_two_pow_self]
      simp
    · rw [if_neg (show ¬ s < n by omega), if_neg (show ¬ s < n + 1 by omega), Nat.testBit_two_pow_of_ne (show s ≠ n by omega)]
      simp
theorem sw_ln_2 {L : Nat → Nat} {s n : Nat} (h : s < n) : sw_ln L (2 ^ s) n = L s := by
  rw [sw_ln_2', if_pos h]
theorem sw_ln_r {L : Nat → Nat} {S s n : Nat} (h : s < n) (hS : S.testBit s = true) : sw_ln L (S ^^^ 2 ^ s) n + L s = sw_ln L S n := by
  have z := sw_ln_sub (L := L) (sw_2_sub hS) n
  rw [sw_ln_2 h] at z
  exact z
theorem sw_ln_a {L : Nat → Nat} {S s n : Nat} (h : s < n) (hS : S.testBit s = false) : sw_ln L (S ^^^ 2 ^ s) n = sw_ln L S n + L s := by
  have z := sw_ln_r (L := L) h (sw_x_on hS)
  rw [sw_xx] at z
  exact z.symm
theorem sw_od_s {A B : Nat → Nat} {S s n : Nat} (h : s < n) : sw_od A B (S ^^^ 2 ^ s) n = sw_od A B S n ^^^ sw_e A B s := by
  rw [sw_od_x, sw_od_2 h]
theorem sw_p6 {a : Nat} (h : a < 6) : 2 ^ a < 2 ^ 6 := Nat.pow_lt_pow_right (by omega) h
theorem sw_e_lt {A B : Nat → Nat} (hA : ∀ s, A s < 6) (hB : ∀ s, B s < 6) (s : Nat) : sw_e A B s < 64 :=
  Nat.xor_lt_two_pow (n := 6) (sw_p6 (hA s)) (sw_p6 (hB s))
theorem sw_od_lt {A B : Nat → Nat} (hA : ∀ s, A s < 6) (hB : ∀ s, B s < 6) (S : Nat) : ∀ n, sw_od A B S n < 64 := by
  intro n
  induction n with
  | zero => exact (by decide : 0 < 64)
  | succ n ih =>
    have h2 : (if S.testBit n = true then sw_e A B n else 0) < 64 := by
      have := sw_e_lt hA hB n
      split <;> omega
    exact Nat.xor_lt_two_pow (n := 6) ih h2
theorem sw_od_end {A B : Nat → Nat} {S v : Nat} : ∀ n, (sw_od A B S n).testBit v = true → ∃ s, s < n ∧ S.testBit s = true ∧ (A s = v ∨ B s = v) := by
  intro n
  induction n with
  | zero =>
    intro h
    have h' : (0 : Nat).testBit v = true := h
    rw [Nat.zero_testBit] at h'
    exact absurd h' (by decide)
  | succ n ih =>
    intro h
    have h' : (sw_od A B S n ^^^ (if S.testBit n = true then sw_e A B n else 0)).testBit v = true := h
    rw [Nat.testBit_xor] at h'
    cases h1 : (sw_od A B S n).testBit v
    · rw [h1] at h'
      by_cases hS : S.testBit n = true
      · rw [if_pos hS] at h'
        refine ⟨n, by omega, hS, ?_⟩
        by_cases ha : A n = v
        · exact Or.inl ha
        · by_cases hb : B n = v
          · exact Or.inr hb
          · unfold sw_e at h'
            rw [Nat.testBit_xor, Nat.testBit_two_pow_of_ne ha, Nat.testBit_two_pow_of_ne hb] at h'
            exact absurd h' (by decide)
      · rw [if_neg hS, Nat.zero_testBit] at h'
        exact absurd h' (by decide)
    · obtain ⟨s, hs, r⟩ := ih h1
      exact ⟨s, by omega, r⟩
/-- a number is less when it has no bit where they first differ from above -/
theorem sw_lt_bit {x y i : Nat} (hx : x.testBit i = false) (hy : y.testBit i = true) (h : ∀ j, i < j → x.testBit j = y.testBit j) : x < y := by
  have e : x / 2 ^ i / 2 = y / 2 ^ i / 2 := by
    apply Nat.eq_of_testBit_eq
    intro j
    rw [Nat.testBit_div_two, Nat.testBit_div_two, Nat.testBit_div_two_pow, Nat.testBit_div_two_pow]
    exact h _ (by omega)
  rw [Nat.testBit_eq_decide_div_mod_eq] at hx hy
  have hx' := of_decide_eq_false hx
  have hy' := of_decide_eq_true hy
  rcases Nat.lt_or_ge x y with z | z
  · exact z
  · have := Nat.div_le_div_right (c := 2 ^ i) z
    omega
end
section
/-! ===== the table of ways: what each step of its working out keeps ===== -/
/-- kept from the first cell on: the diagonal, the cap, a set of streets behind each length, no length below what a potential allows -/
def sw_K (A B L : Nat → Nat) (G : Nat) (d : Nat → Nat → Nat) : Prop :=
  (∀ a, a < 6 → d a a = 0) ∧ (∀ a b, a < 6 → b < 6 → d a b ≤ 100000) ∧
  (∀ a b, a < 6 → b < 6 → d a b < 100000 → ∃ S, sw_sub S G ∧ sw_od A B S 10 = 2 ^ a ^^^ 2 ^ b ∧ sw_ln L S 10 ≤ d a b) ∧
  (∀ h : Nat → Nat, (∀ v, v < 6 → h v ≤ 100000) → (∀ s, s < 10 → G.testBit s = true → h (B s) ≤ h (A s) + L s ∧ h (A s) ≤ h (B s) + L s) → ∀ a b, a < 6 → b < 6 → h b ≤ h a + d a b)
def sw_E (A B L : Nat → Nat) (G n : Nat) (d : Nat → Nat → Nat) : Prop := ∀ s, s < n → G.testBit s = true → d (A s) (B s) ≤ L s ∧ d (B s) (A s) ≤ L s
def sw_T (c : Nat) (d : Nat → Nat → Nat) : Prop := ∀ k a b, k < c → a < 6 → b < 6 → d a b ≤ d a k + d k b
def sw_M (A B L : Nat → Nat) (G : Nat) (d : Nat → Nat → Nat) : Prop := sw_K A B L G d ∧ sw_E A B L G 10 d ∧ sw_T 6 d
def sw_d0 (a b : Nat) : Nat := if a = b then 0 else 100000
def sw_sh (d : Nat → Nat → Nat) (a b l : Nat) : Nat → Nat → Nat := fun x y => if x = a ∧ y = b then min (d x y) l else d x y
def sw_fw (d : Nat → Nat → Nat) (c : Nat) : Nat → Nat → Nat := fun a b => min (d a b) (d a c + d c b)
theorem sw_K_0 (A B L : Nat → Nat) (G : Nat) : sw_K A B L G sw_d0 := by
  refine ⟨fun a _ => if_pos rfl, fun a b _ _ => ?_, fun a b _ _ h => ?_, fun h h1 _ a b ha hb => ?_⟩
  · unfold sw_d0; split <;> omega
  · unfold sw_d0 at h
    by_cases e : a = b
    · subst e
      exact ⟨0, sw_sub_0 G, by rw [sw_od_0, Nat.xor_self], by rw [sw_ln_0]; omega⟩
    · rw [if_neg e] at h
      omega
  · have := h1 b hb
    unfold sw_d0
    by_cases e : a = b
    · subst e; omega
    · rw [if_neg e]; omega
theorem sw_sh_le (d : Nat → Nat → Nat) (a b l x y : Nat) : sw_sh d a b l x y ≤ d x y := by
  unfold sw_sh
  split <;> omega
theorem sw_sh_at (d : Nat → Nat → Nat) (a b l : Nat) : sw_sh d a b l a b ≤ l := by
  unfold sw_sh
  rw [if_pos ⟨rfl, rfl⟩]
  omega
theorem sw_K_sh {A B L : Nat → Nat} {G s : Nat} {d : Nat → Nat → Nat} (K : sw_K A B L G d) (hs : s < 10) (hG : G.testBit s = true) {a b : Nat} (hab : (a = A s ∧ b = B s) ∨ (a = B s ∧ b = A s)) : sw_K A B L G (sw_sh d a b (L s)) := by
  obtain ⟨k1, k2, k3, k4⟩ := K
  refine ⟨fun x hx => ?_, fun x y hx hy => ?_, fun x y hx hy h => ?_, fun h h1 h2 x y hx hy => ?_⟩
  · have := sw_sh_le d a b (L s) x x
    have := k1 x hx
    omega
  · have := sw_sh_le d a b (L s) x y
    have := k2 x y hx hy
    omega
  · by_cases e : x = a ∧ y = b
    · have e2 : sw_sh d a b (L s) x y = min (d x y) (L s) := if_pos e
      rw [e2] at h ⊢
      rcases Nat.lt_or_ge (L s) (d x y) with z | z
      · refine ⟨2 ^ s, sw_2_sub hG, ?_, ?_⟩
        · rw [sw_od_2 hs, e.1, e.2]
          unfold sw_e
          rcases hab with ⟨p, q⟩ | ⟨p, q⟩
          · rw [p, q]
          · rw [p, q, Nat.xor_comm]
        · rw [sw_ln_2 hs]; omega
      · obtain ⟨S, g1, g2, g3⟩ := k3 x y hx hy (by omega)
        exact ⟨S, g1, g2, by omega⟩
    · have e2 : sw_sh d a b (L s) x y = d x y := if_neg e
      rw [e2] at h ⊢
      exact k3 x y hx hy h
  · have g := k4 h h1 h2 x y hx hy
    by_cases e : x = a ∧ y = b
    · have e2 : sw_sh d a b (L s) x y = min (d x y) (L s) := if_pos e
      rw [e2]
      have g2 := h2 s hs hG
      have g3 : h y ≤ h x + L s := by
        rw [e.1, e.2]
        rcases hab with ⟨p, q⟩ | ⟨p, q⟩
        · rw [p, q]; exact g2.1
        · rw [p, q]; exact g2.2
      omega
    · have e2 : sw_sh d a b (L s) x y = d x y := if_neg e
      rw [e2]
      exact g
theorem sw_E_sh {A B L : Nat → Nat} {G n : Nat} {d : Nat → Nat → Nat} (E : sw_E A B L G n d) (a b l : Nat) : sw_E A B L G n (sw_sh d a b l) := by
  intro s hs hG
  have := E s hs hG
  have := sw_sh_le d a b l (A s) (B s)
  have := sw_sh_le d a b l (B s) (A s)
  omega
/-- both cells of a street shortened -/
def sw_s2 (A B L : Nat → Nat) (s : Nat) (d : Nat → Nat → Nat) : Nat → Nat → Nat := sw_sh (sw_sh d (A s) (B s) (L s)) (B s) (A s) (L s)
theorem sw_K_s2 {A B L : Nat → Nat} {G s : Nat} {d : Nat → Nat → Nat} (K : sw_K A B L G d) (hs : s < 10) (hG : G.testBit s = true) : sw_K A B L G (sw_s2 A B L s d) :=
  sw_K_sh (sw_K_sh K hs hG (Or.inl ⟨rfl, rfl⟩)) hs hG (Or.inr ⟨rfl, rfl⟩)
theorem sw_E_s2 {A B L : Nat → Nat} {G n : Nat} {d : Nat → Nat → Nat} (E : sw_E A B L G n d) : sw_E A B L G (n + 1) (sw_s2 A B L n d) := by
  intro s hs hG
  by_cases e : s = n
  · subst e
    have h1 := sw_sh_at (sw_sh d (A s) (B s) (L s)) (B s) (A s) (L s)
    have h2 := sw_sh_at d (A s) (B s) (L s)
    have h3 := sw_sh_le (sw_sh d (A s) (B s) (L s)) (B s) (A s) (L s) (A s) (B s)
    exact ⟨Nat.le_trans h3 h2, h1⟩
  · exact sw_E_sh (sw_E_sh E _ _ _) _ _ _ s (by omega) hG
theorem sw_E_skip {A B L : Nat → Nat} {G n : Nat} {d : Nat → Nat → Nat} (E : sw_E A B L G n d) (hG : ¬ G.testBit n = true) : sw_E A B L G (n + 1) d := by
  intro s hs g
  by_cases e : s = n
  · subst e
    exact absurd g hG
  · exact E s (by omega) g
theorem sw_fw_le (d : Nat → Nat → Nat) (c x y : Nat) : sw_fw d c x y ≤ d x y := by
  unfold sw_fw
  omega
theorem sw_K_fw {A B L : Nat → Nat} {G c : Nat} {d : Nat → Nat → Nat} (K : sw_K A B L G d) (hc : c < 6) : sw_K A B L G (sw_fw d c) := by
  obtain ⟨k1, k2, k3, k4⟩ := K
  refine ⟨fun x hx => ?_, fun x y hx hy => ?_, fun x y hx hy h => ?_, fun h h1 h2 x y hx hy => ?_⟩
  · have := sw_fw_le d c x x
    have := k1 x hx
    omega
  · have := sw_fw_le d c x y
    have := k2 x y hx hy
    omega
  · have e2 : sw_fw d c x y = min (d x y) (d x c + d c y) := rfl
    rw [e2] at h ⊢
    rcases Nat.lt_or_ge (d x c + d c y) (d x y) with z | z
    · obtain ⟨S, g1, g2, g3⟩ := k3 x c hx hc (by omega)
      obtain ⟨T, f1, f2, f3⟩ := k3 c y hc hy (by omega)
      refine ⟨S ^^^ T, sw_sub_x g1 f1, ?_, ?_⟩
      · rw [sw_od_x, g2, f2, sw_xmid]
      · have := sw_ln_x L S T 10
        omega
    · obtain ⟨S, g1, g2, g3⟩ := k3 x y hx hy (by omega)
      exact ⟨S, g1, g2, by omega⟩
  · have g := k4 h h1 h2 x y hx hy
    have g1 := k4 h h1 h2 x c hx hc
    have g2 := k4 h h1 h2 c y hc hy
    have e2 : sw_fw d c x y = min (d x y) (d x c + d c y) := rfl
    rw [e2]
    omega
theorem sw_E_fw {A B L : Nat → Nat} {G n : Nat} {d : Nat → Nat → Nat} (E : sw_E A B L G n d) (c : Nat) : sw_E A B L G n (sw_fw d c) := by
  intro s hs hG
  have := E s hs hG
  have := sw_fw_le d c (A s) (B s)
  have := sw_fw_le d c (B s) (A s)
  omega
theorem sw_T_fw {c : Nat} {d : Nat → Nat → Nat} (T : sw_T c d) (hc : c < 6) (h0 : d c c = 0) : sw_T (c + 1) (sw_fw d c) := by
  intro k a b hk ha hb
  show min (d a b) (d a c + d c b) ≤ min (d a k) (d a c + d c k) + min (d k b) (d k c + d c b)
  by_cases e : k = c
  · subst e
    omega
  · have h1 := T k a b (by omega) ha hb
    have h2 := T k a c (by omega) ha hc
    have h3 := T k c b (by omega) hc hb
    omega
/-- the table within a pass: the cells below i are done -/
def sw_mid (d : Nat → Nat → Nat) (c i : Nat) : Nat → Nat → Nat := fun a b => if a * 6 + b < i then sw_fw d c a b else d a b
theorem sw_mid_c1 {d : Nat → Nat → Nat} {c : Nat} (h0 : d c c = 0) (i a : Nat) : sw_mid d c i a c = d a c := by
  unfold sw_mid sw_fw
  split <;> omega
theorem sw_mid_c2 {d : Nat → Nat → Nat} {c : Nat} (h0 : d c c = 0) (i b : Nat) : sw_mid d c i c b = d c b := by
  unfold sw_mid sw_fw
  split <;> omega
theorem sw_mid_ge {d : Nat → Nat → Nat} {c i a b : Nat} (h : i ≤ a * 6 + b) : sw_mid d c i a b = d a b := if_neg (by omega)
/-! ===== the least length of a set with given odd corners ===== -/
def sw_J (A B L : Nat → Nat) (G T q : Nat) : Prop :=
  (∀ S, sw_sub S G → sw_od A B S 10 = T → q ≤ sw_ln L S 10) ∧ (q < 100000 → ∃ S, sw_sub S G ∧ sw_od A B S 10 = T ∧ sw_ln L S 10 ≤ q)
theorem sw_J_0 (A B L : Nat → Nat) (G : Nat) : sw_J A B L G 0 0 :=
  ⟨fun _ _ _ => Nat.zero_le _, fun _ => ⟨0, sw_sub_0 G, sw_od_0 A B 10, by rw [sw_ln_0]; omega⟩⟩
theorem sw_path {A B L : Nat → Nat} {d : Nat → Nat → Nat} {G : Nat} (hA : ∀ s, A s < 6) (hB : ∀ s, B s < 6) (hn : ∀ s, s < 10 → G.testBit s = true → A s ≠ B s) (E : sw_E A B L G 10 d) (tri : sw_T 6 d) : ∀ (N S v : Nat), S < N → sw_sub S G → v < 6 → (sw_od A B S 10).testBit v = true →
    ∃ c S' : Nat, c < 6 ∧ c ≠ v ∧ (sw_od A B S 10).testBit c = true ∧ sw_sub S' S ∧ sw_od A B S' 10 = sw_od A B S 10 ^^^ 2 ^ v ^^^ 2 ^ c ∧ d v c + sw_ln L S' 10 ≤ sw_ln L S 10 := by
  intro N
  induction N with
  | zero => intro S v h; omega
  | succ N ih =>
    intro S v hS hG hv ho
    obtain ⟨s, hs, hSs, hse⟩ := sw_od_end 10 ho
    have hGs := hG s hSs
    have hne := hn s hs hGs
    have hed := E s hs hGs
    obtain ⟨w, hw, hwv, hes, hdw⟩ : ∃ w, w < 6 ∧ w ≠ v ∧ sw_e A B s = 2 ^ v ^^^ 2 ^ w ∧ d v w ≤ L s := by
      rcases hse with h | h
      · exact ⟨B s, hB s, fun z => hne (h.trans z.symm), by unfold sw_e; rw [h], by rw [← h]; exact hed.1⟩
      · exact ⟨A s, hA s, fun z => hne (z.trans h.symm), by unfold sw_e; rw [h, Nat.xor_comm], by rw [← h]; exact hed.2⟩
    have hlt := sw_x_lt hSs
    have hsub := sw_x_sub hSs
    have hod : sw_od A B (S ^^^ 2 ^ s) 10 = sw_od A B S 10 ^^^ 2 ^ v ^^^ 2 ^ w := by
      rw [sw_od_s hs, hes, ← Nat.xor_assoc]
    have hln := sw_ln_r (L := L) hs hSs
    by_cases hc : (sw_od A B S 10).testBit w = true
    · exact ⟨w, S ^^^ 2 ^ s, hw, hwv, hc, hsub, hod, by omega⟩
    · have h1 : (sw_od A B (S ^^^ 2 ^ s) 10).testBit w = true := by
        rw [hod, Nat.testBit_xor, Nat.testBit_xor, Nat.testBit_two_pow_of_ne (Ne.symm hwv), Nat.testBit_two_pow_self, Bool.eq_false_iff.mpr hc]
        rfl
      obtain ⟨c, S', hc6, hcw, hco, hS', hod', hln'⟩ := ih (S ^^^ 2 ^ s) w (by omega) (sw_sub_tr hsub hG) hw h1
      have hcv : c ≠ v := by
        intro z
        rw [z, hod, Nat.testBit_xor, Nat.testBit_xor, Nat.testBit_two_pow_of_ne hwv, Nat.testBit_two_pow_self, ho] at hco
        exact absurd hco (by decide)
      have hco' : (sw_od A B S 10).testBit c = true := by
        rw [hod, Nat.testBit_xor, Nat.testBit_xor, Nat.testBit_two_pow_of_ne (Ne.symm hcv), Nat.testBit_two_pow_of_ne (Ne.symm hcw), Bool.xor_false, Bool.xor_false] at hco
        exact hco
      refine ⟨c, S', hc6, hcv, hco', sw_sub_tr hS' hsub, ?_, ?_⟩
      · rw [hod', hod, sw_xx]
      · have := tri w v c hw hv hc6
        omega
def sw_rest (m low c : Nat) : Nat := sw_an (sw_an m (2 ^ low)) (2 ^ c)
theorem sw_rest_t (m low c i : Nat) : (sw_rest m low c).testBit i = (m.testBit i && !(decide (low = i)) && !(decide (c = i))) := by
  unfold sw_rest
  rw [sw_an_t, sw_an_t, Nat.testBit_two_pow, Nat.testBit_two_pow]
theorem sw_rest_sub (m low c : Nat) : sw_sub (sw_rest m low c) m := by
  intro i h
  rw [sw_rest_t] at h
  revert h
  cases m.testBit i <;> simp
theorem sw_rest_lt {m low : Nat} (c : Nat) (h : m.testBit low = true) : sw_rest m low c < m := by
  have h1 : sw_rest m low c ≤ m := Nat.le_of_testBit (sw_rest_sub m low c)
  have h2 : sw_rest m low c ≠ m := by
    intro z
    have h3 := sw_rest_t m low c low
    rw [z, h, decide_eq_true rfl] at h3
    exact absurd h3 (by cases decide (c = low) <;> decide)
  omega
theorem sw_rest_x {m low c : Nat} (h : m.testBit low = true) (hc : m.testBit c = true) (hne : low ≠ c) : sw_rest m low c = m ^^^ 2 ^ low ^^^ 2 ^ c := by
  apply Nat.eq_of_testBit_eq
  intro i
  rw [sw_rest_t, Nat.testBit_xor, Nat.testBit_xor, Nat.testBit_two_pow, Nat.testBit_two_pow]
  by_cases e1 : low = i
  · subst e1
    rw [h, decide_eq_true rfl, decide_eq_false (Ne.symm hne)]
    rfl
  · by_cases e2 : c = i
    · subst e2
      rw [hc, decide_eq_true rfl, decide_eq_false hne]
      rfl
    · rw [decide_eq_false e1, decide_eq_false e2]
      cases m.testBit i <;> rfl
theorem sw_J_pair {A B L : Nat → Nat} {d : Nat → Nat → Nat} {G : Nat} (hA : ∀ s, A s < 6) (hB : ∀ s, B s < 6) (hn : ∀ s, s < 10 → G.testBit s = true → A s ≠ B s) (M : sw_M A B L G d) {m low acc : Nat} {Q : Nat → Nat} (hl : low < 6) (hlm : m.testBit low = true) (hlow : ∀ i, i < low → m.testBit i = false)
    (hm : m < 64) (hQ : ∀ m', m' < m → sw_sub m' m → sw_J A B L G m' (Q m'))
    (h1 : ∀ c, low < c → c < 6 → m.testBit c = true → acc ≤ d low c + Q (sw_rest m low c))
    (h2 : acc < 200000 → ∃ c, low < c ∧ c < 6 ∧ m.testBit c = true ∧ acc = d low c + Q (sw_rest m low c)) : sw_J A B L G m acc := by
  obtain ⟨K, E, T⟩ := M
  constructor
  · intro S hS hod
    obtain ⟨c, S', hc6, hcv, hco, hS', hod', hln⟩ := sw_path hA hB hn E T (S + 1) S low (by omega) hS hl (by rw [hod]; exact hlm)
    rw [hod] at hco hod'
    have hlc : low < c := by
      rcases Nat.lt_trichotomy low c with z | z | z
      · exact z
      · exact absurd z.symm hcv
      · rw [hlow c z] at hco
        exact absurd hco (by decide)
    have g1 := h1 c hlc hc6 hco
    have g2 := (hQ (sw_rest m low c) (sw_rest_lt c hlm) (sw_rest_sub m low c)).1 S' (sw_sub_tr hS' hS) (by rw [hod', sw_rest_x hlm hco (by omega)])
    omega
  · intro ha
    obtain ⟨c, hlc, hc6, hco, e⟩ := h2 (by omega)
    obtain ⟨S, g1, g2, g3⟩ := K.2.2.1 low c hl hc6 (by omega)
    obtain ⟨R, f1, f2, f3⟩ := (hQ (sw_rest m low c) (sw_rest_lt c hlm) (sw_rest_sub m low c)).2 (by omega)
    refine ⟨S ^^^ R, sw_sub_x g1 f1, ?_, ?_⟩
    · rw [sw_od_x, g2, f2, sw_rest_x hlm hco (by omega), sw_xback]
    · have := sw_ln_x L S R 10
      omega
end
section
/-! ===== the first of the least sets: street by street, and by the row of digits ===== -/
/-- before street s: the rest op of the streets, what was chosen, what is still wanted odd, and its least length -/
def sw_G (A B L : Nat → Nat) (P s want least op ch : Nat) : Prop :=
  (∀ i, op.testBit i = (P.testBit i && decide (s ≤ i))) ∧ (∀ i, ch.testBit i = true → P.testBit i = true ∧ i < s) ∧
  want = sw_od A B P 10 ^^^ sw_od A B ch 10 ∧ sw_J A B L op want least ∧ least < 100000 ∧
  (∀ S, sw_sub S P → sw_od A B S 10 = sw_od A B P 10 → least + sw_ln L ch 10 ≤ sw_ln L S 10) ∧
  (∀ S, sw_sub S P → sw_od A B S 10 = sw_od A B P 10 → sw_ln L S 10 ≤ least + sw_ln L ch 10 → ∀ t, t < s → (∀ i, i < t → S.testBit i = ch.testBit i) → ch.testBit t = true → S.testBit t = true)
theorem sw_G_0 {A B L : Nat → Nat} {P q : Nat} (J : sw_J A B L P (sw_od A B P 10) q) (hq : q < 100000) : sw_G A B L P 0 (sw_od A B P 10) q P 0 := by
  refine ⟨fun i => ?_, fun i h => ?_, ?_, J, hq, fun S hS ho => ?_, fun S _ _ _ t ht => by omega⟩
  · rw [decide_eq_true (Nat.zero_le i), Bool.and_true]
  · rw [Nat.zero_testBit] at h
    exact absurd h (by decide)
  · rw [sw_od_0, Nat.xor_zero]
  · rw [sw_ln_0]
    exact J.1 S hS ho
theorem sw_G_no {A B L : Nat → Nat} {P s want least op ch : Nat} (g : sw_G A B L P s want least op ch) (hs : P.testBit s = false) : sw_G A B L P (s + 1) want least op ch := by
  obtain ⟨g1, g2, g3, g4, g5, g6, g7⟩ := g
  refine ⟨fun i => ?_, fun i h => ?_, g3, g4, g5, g6, fun S a b c t ht e1 e2 => ?_⟩
  · rw [g1 i]
    by_cases e : i = s
    · subst e
      rw [hs]; rfl
    · by_cases z : s ≤ i
      · rw [decide_eq_true z, decide_eq_true (show s + 1 ≤ i by omega)]
      · rw [decide_eq_false z, decide_eq_false (show ¬ s + 1 ≤ i by omega)]
  · have := g2 i h
    exact ⟨this.1, by omega⟩
  · rcases Nat.lt_or_ge t s with z | z
    · exact g7 S a b c t z e1 e2
    · have := (g2 t e2).2
      omega
theorem sw_op_an {P s op : Nat} (g1 : ∀ i, op.testBit i = (P.testBit i && decide (s ≤ i))) (i : Nat) : (sw_an op (2 ^ s)).testBit i = (P.testBit i && decide (s + 1 ≤ i)) := by
  rw [sw_an_t, g1 i, Nat.testBit_two_pow]
  by_cases e : s = i
  · subst e
    rw [decide_eq_true rfl, decide_eq_false (show ¬ s + 1 ≤ s by omega)]
    simp
  · rw [decide_eq_false e]
    by_cases z : s ≤ i
    · rw [decide_eq_true z, decide_eq_true (show s + 1 ≤ i by omega)]
      simp
    · rw [decide_eq_false z, decide_eq_false (show ¬ s + 1 ≤ i by omega)]
      simp
theorem sw_an_sub (a b : Nat) : sw_sub (sw_an a b) a := by
  intro i h
  rw [sw_an_t] at h
  revert h
  cases a.testBit i <;> simp
theorem sw_G_out {A B L : Nat → Nat} {P s want least op ch : Nat} (g : sw_G A B L P s want least op ch) (J : sw_J A B L (sw_an op (2 ^ s)) want least) : sw_G A B L P (s + 1) want least (sw_an op (2 ^ s)) ch := by
  obtain ⟨g1, g2, g3, g4, g5, g6, g7⟩ := g
  refine ⟨sw_op_an g1, fun i h => ?_, g3, J, g5, g6, fun S a b c t ht e1 e2 => ?_⟩
  · have := g2 i h
    exact ⟨this.1, by omega⟩
  · rcases Nat.lt_or_ge t s with z | z
    · exact g7 S a b c t z e1 e2
    · have := (g2 t e2).2
      omega
/-- no set of the wanted kind and length does without street s -/
theorem sw_G_key {A B L : Nat → Nat} {P s want least op ch q : Nat} (g : sw_G A B L P s want least op ch) (J : sw_J A B L (sw_an op (2 ^ s)) want q) (hq : q ≠ least) (S : Nat) (hS : sw_sub S (sw_an op (2 ^ s))) (ho : sw_od A B S 10 = want) : ¬ sw_ln L S 10 ≤ least := by
  obtain ⟨g1, g2, g3, g4, g5, g6, g7⟩ := g
  intro h
  have h1 := J.1 S hS ho
  obtain ⟨R, f1, f2, f3⟩ := J.2 (by omega)
  have h2 := g4.1 R (sw_sub_tr f1 (sw_an_sub _ _)) f2
  omega
theorem sw_G_in {A B L : Nat → Nat} {P s want least op ch q : Nat} (hs : s < 10) (hP : P.testBit s = true) (g : sw_G A B L P s want least op ch) (J : sw_J A B L (sw_an op (2 ^ s)) want q) (hq : q ≠ least) :
    L s ≤ least ∧ sw_G A B L P (s + 1) (want ^^^ sw_e A B s) (least - L s) (sw_an op (2 ^ s)) (ch ^^^ 2 ^ s) := by
  have key := sw_G_key g J hq
  obtain ⟨g1, g2, g3, g4, g5, g6, g7⟩ := g
  have hops : op.testBit s = true := by rw [g1, hP, decide_eq_true (Nat.le_refl s)]; rfl
  have hchs : ch.testBit s = false := by
    cases z : ch.testBit s
    · rfl
    · have := (g2 s z).2
      omega
  have hln := sw_ln_a (L := L) hs hchs
  -- a set without s is a set of what is left
  have out : ∀ S, sw_sub S op → S.testBit s = false → sw_sub S (sw_an op (2 ^ s)) := by
    intro S hS hs0 i hi
    rw [sw_an_t, hS i hi, Nat.testBit_two_pow]
    by_cases e : s = i
    · subst e
      rw [hs0] at hi
      exact absurd hi (by decide)
    · rw [decide_eq_false e]; rfl
  obtain ⟨S0, f1, f2, f3⟩ := g4.2 g5
  have hS0 : S0.testBit s = true := by
    cases z : S0.testBit s
    · exact absurd f3 (key S0 (out S0 f1 z) f2)
    · rfl
  have hr := sw_ln_r (L := L) hs hS0
  have hle : L s ≤ least := by omega
  refine ⟨hle, sw_op_an g1, fun i h => ?_, ?_, ⟨fun S hS ho => ?_, fun _ => ?_⟩, by omega, fun S a b => ?_, fun S a b c t ht e1 e2 => ?_⟩
  · by_cases e : s = i
    · subst e
      exact ⟨hP, by omega⟩
    · rw [sw_x_ne e] at h
      have := g2 i h
      exact ⟨this.1, by omega⟩
  · rw [sw_od_s hs, g3, Nat.xor_assoc]
  · have hSs : S.testBit s = false := by
      cases z : S.testBit s
      · rfl
      · have := hS s z
        rw [sw_an_t, Nat.testBit_two_pow_self] at this
        revert this
        cases op.testBit s <;> simp
    have h1 := g4.1 (S ^^^ 2 ^ s) (sw_sub_x (sw_sub_tr hS (sw_an_sub _ _)) (sw_2_sub hops)) (by rw [sw_od_s hs, ho, sw_xx])
    rw [sw_ln_a hs hSs] at h1
    omega
  · refine ⟨S0 ^^^ 2 ^ s, out _ (sw_sub_tr (sw_x_sub hS0) f1) (sw_x_off hS0), by rw [sw_od_s hs, f2], by omega⟩
  · have := g6 S a b
    omega
  · rw [hln] at c
    rcases Nat.lt_or_ge t s with z | z
    · rw [sw_x_ne (by omega)] at e2
      exact g7 S a b (by omega) t z (fun i hi => by rw [e1 i hi, sw_x_ne (by omega)]) e2
    · have ets : t = s := by omega
      subst ets
      cases z2 : S.testBit t
      · exfalso
        have e3 : ∀ i, i < t → S.testBit i = ch.testBit i := fun i hi => by rw [e1 i hi, sw_x_ne (by omega)]
        have hsub : sw_sub ch S := by
          intro i hi
          rw [e3 i (g2 i hi).2]
          exact hi
        have hsub2 : sw_sub (S ^^^ ch) op := by
          intro i hi
          rw [Nat.testBit_xor] at hi
          rcases Nat.lt_or_ge i t with z3 | z3
          · rw [e3 i z3] at hi
            revert hi
            cases ch.testBit i <;> simp
          · have h5 : ch.testBit i = false := by
              cases z4 : ch.testBit i
              · rfl
              · have := (g2 i z4).2
                omega
            rw [h5, Bool.xor_false] at hi
            rw [g1, a i hi, decide_eq_true z3]
            rfl
        have h6 : (S ^^^ ch).testBit t = false := by rw [Nat.testBit_xor, z2, hchs]; rfl
        have h7 := sw_ln_sub (L := L) hsub 10
        exact key (S ^^^ ch) (out _ hsub2 h6) (by rw [sw_od_x, b, g3]) (by omega)
      · rfl
theorem sw_bit_big {P i : Nat} (hP : P < 1024) (hi : 10 ≤ i) : P.testBit i = false :=
  Nat.testBit_lt_two_pow (Nat.lt_of_lt_of_le hP (show 2 ^ 10 ≤ 2 ^ i from Nat.pow_le_pow_right (by decide) hi))
/-- what the choice street by street ends with -/
def sw_B (A B L : Nat → Nat) (P b : Nat) : Prop :=
  sw_sub b P ∧ sw_od A B b 10 = sw_od A B P 10 ∧ (∀ S, sw_sub S P → sw_od A B S 10 = sw_od A B P 10 → sw_ln L b 10 ≤ sw_ln L S 10) ∧
  (∀ S, sw_sub S P → sw_od A B S 10 = sw_od A B P 10 → sw_ln L S 10 ≤ sw_ln L b 10 → ∀ t, t < 10 → (∀ i, i < t → S.testBit i = b.testBit i) → b.testBit t = true → S.testBit t = true)
theorem sw_G_end {A B L : Nat → Nat} {P want least op ch : Nat} (hP : P < 1024) (g : sw_G A B L P 10 want least op ch) : sw_B A B L P ch := by
  obtain ⟨g1, g2, g3, g4, g5, g6, g7⟩ := g
  have hop : ∀ S, sw_sub S op → S = 0 := by
    intro S hS
    apply Nat.eq_of_testBit_eq
    intro i
    rw [Nat.zero_testBit]
    cases z : S.testBit i
    · rfl
    · have h1 := hS i z
      rw [g1 i] at h1
      rcases Nat.lt_or_ge i 10 with z2 | z2
      · rw [decide_eq_false (show ¬ 10 ≤ i by omega)] at h1
        revert h1
        cases P.testBit i <;> simp
      · rw [sw_bit_big hP z2, Bool.false_and] at h1
        exact absurd h1 (by decide)
  obtain ⟨S0, f1, f2, f3⟩ := g4.2 g5
  have e0 := hop S0 f1
  subst e0
  rw [sw_od_0] at f2
  have hodc : sw_od A B ch 10 = sw_od A B P 10 := by
    have h1 : sw_od A B P 10 ^^^ sw_od A B ch 10 = 0 := by rw [← g3, ← f2]
    have h2 : sw_od A B P 10 ^^^ sw_od A B ch 10 ^^^ sw_od A B ch 10 = 0 ^^^ sw_od A B ch 10 := by rw [h1]
    rw [sw_xx, Nat.zero_xor] at h2
    exact h2.symm
  refine ⟨fun i h => (g2 i h).1, hodc, fun S a b => ?_, fun S a b c => g7 S a b (by omega)⟩
  have := g6 S a b
  omega
/-! ===== rows of digits ===== -/
def sw_rvn (c : Nat) : Nat → Nat
  | 0 => 0
  | n + 1 => sw_rvn c n ||| (if c.testBit (9 - n) = true then 2 ^ n else 0)
def sw_rv (c : Nat) : Nat := sw_rvn c 10
theorem sw_rvn_t (c i : Nat) : ∀ n, (sw_rvn c n).testBit i = (decide (i < n) && c.testBit (9 - i)) := by
  intro n
  induction n with
  | zero =>
    show (0 : Nat).testBit i = _
    rw [Nat.zero_testBit, decide_eq_false (by omega)]
    rfl
  | succ n ih =>
    show (sw_rvn c n ||| _).testBit i = _
    rw [Nat.testBit_or, ih]
    rcases Nat.lt_trichotomy i n with h | h | h
    · rw [decide_eq_true h, decide_eq_true (show i < n + 1 by omega)]
      split
      · rw [Nat.testBit_two_pow_of_ne (by omega), Bool.or_false]
      · rw [Nat.zero_testBit, Bool.or_false]
    · subst h
      rw [decide_eq_false (by omega), decide_eq_true (show i < i + 1 by omega)]
      cases z : c.testBit (9 - i)
      · simp
      · simp
    · rw [decide_eq_false (show ¬ i < n by omega), decide_eq_false (show ¬ i < n + 1 by omega)]
      split
      · rw [Nat.testBit_two_pow_of_ne (by omega)]; rfl
      · rw [Nat.zero_testBit]; rfl
theorem sw_rv_t {c i : Nat} (h : i < 10) : (sw_rv c).testBit i = c.testBit (9 - i) := by
  unfold sw_rv
  rw [sw_rvn_t, decide_eq_true h, Bool.true_and]
theorem sw_rv_big {c i : Nat} (h : 10 ≤ i) : (sw_rv c).testBit i = false := by
  unfold sw_rv
  rw [sw_rvn_t, decide_eq_false (by omega), Bool.false_and]
theorem sw_rvn_lt (c : Nat) {n : Nat} (hn : n ≤ 10) : sw_rvn c n < 1024 := by
  apply Nat.lt_pow_two_of_testBit (n := 10)
  intro i hi
  rw [sw_rvn_t, decide_eq_false (by omega), Bool.false_and]
theorem sw_rv_lt (c : Nat) : sw_rv c < 1024 := sw_rvn_lt c (Nat.le_refl 10)
theorem sw_rv_rv {c : Nat} (hc : c < 1024) : sw_rv (sw_rv c) = c := by
  apply Nat.eq_of_testBit_eq
  intro i
  rcases Nat.lt_or_ge i 10 with h | h
  · rw [sw_rv_t h, sw_rv_t (show 9 - i < 10 by omega), show 9 - (9 - i) = i by omega]
  · rw [sw_rv_big h, sw_bit_big hc h]
/-- the sets that count -/
def sw_C (A B : Nat → Nat) (P must never S : Nat) : Prop :=
  sw_sub S P ∧ sw_sub must S ∧ (∀ i, S.testBit i = true → never.testBit i = false) ∧ sw_od A B S 10 = sw_od A B P 10
/-- the first of the least, in the order of the codes below n -/
def sw_F (A B L : Nat → Nat) (P must never n : Nat) (r : Int32) : Prop :=
  (r = -1 ∧ ∀ c, c < n → ¬ sw_C A B P must never (sw_rv c)) ∨
  (∃ c0, c0 < n ∧ r = nI (sw_rv c0) ∧ sw_C A B P must never (sw_rv c0) ∧ ∀ c, c < n → sw_C A B P must never (sw_rv c) → sw_ln L (sw_rv c0) 10 ≤ sw_ln L (sw_rv c) 10 ∧ (c < c0 → sw_ln L (sw_rv c0) 10 < sw_ln L (sw_rv c) 10))
theorem sw_F_some {A B L : Nat → Nat} {P must never : Nat} {r : Int32} (F : sw_F A B L P must never 1024 r) {S : Nat} (hS : S < 1024) (hC : sw_C A B P must never S) : ∃ c0, c0 < 1024 ∧ r = nI (sw_rv c0) ∧ sw_C A B P must never (sw_rv c0) ∧ ∀ T, T < 1024 → sw_C A B P must never T → sw_ln L (sw_rv c0) 10 ≤ sw_ln L T 10 ∧ (sw_rv T < c0 → sw_ln L (sw_rv c0) 10 < sw_ln L T 10) := by
  rcases F with ⟨_, h⟩ | ⟨c0, h1, h2, h3, h4⟩
  · have := h (sw_rv S) (sw_rv_lt S)
    rw [sw_rv_rv hS] at this
    exact absurd hC this
  · refine ⟨c0, h1, h2, h3, fun T hT hC => ?_⟩
    have := h4 (sw_rv T) (sw_rv_lt T)
    rw [sw_rv_rv hT] at this
    exact this hC
theorem sw_C00 {A B : Nat → Nat} {P S : Nat} (h : sw_sub S P) (ho : sw_od A B S 10 = sw_od A B P 10) : sw_C A B P 0 0 S :=
  ⟨h, sw_sub_0 S, fun i _ => Nat.zero_testBit i, ho⟩
/-- the two choices are one -/
theorem sw_F_B {A B L : Nat → Nat} {P b : Nat} {r : Int32} (hP : P < 1024) (F : sw_F A B L P 0 0 1024 r) (hb : sw_B A B L P b) : r = nI b := by
  obtain ⟨b1, b2, b3, b4⟩ := hb
  have hb' : b < 1024 := sw_sub_lt (n := 10) b1 hP
  obtain ⟨c0, h1, h2, h3, h4⟩ := sw_F_some F hb' (sw_C00 b1 b2)
  obtain ⟨p1, _, _, p4⟩ := h3
  have q1 := h4 b hb' (sw_C00 b1 b2)
  have q2 := b3 (sw_rv c0) p1 p4
  by_cases e : sw_rv c0 = b
  · rw [h2, e]
  · exfalso
    obtain ⟨t, ht, hmin⟩ := pk_least (fun i => (sw_rv c0).testBit i ≠ b.testBit i) (Nat.exists_testBit_ne_of_ne e)
    have hag : ∀ i, i < t → (sw_rv c0).testBit i = b.testBit i := fun i hi => Classical.not_not.mp (hmin i hi)
    have ht10 : t < 10 := by
      rcases Nat.lt_or_ge t 10 with z | z
      · exact z
      · rw [sw_rv_big z, sw_bit_big hb' z] at ht
        exact absurd rfl ht
    cases hbt : b.testBit t
    · -- the code of b is less than c0
      have hc : (sw_rv c0).testBit t = true := by
        rw [hbt] at ht
        revert ht
        cases (sw_rv c0).testBit t <;> simp
      have hlt : sw_rv b < c0 := by
        apply sw_lt_bit (i := 9 - t)
        · rw [sw_rv_t (by omega), show 9 - (9 - t) = t by omega]
          exact hbt
        · rw [← sw_rv_rv h1, sw_rv_t (by omega), show 9 - (9 - t) = t by omega]
          exact hc
        · intro j hj
          rcases Nat.lt_or_ge j 10 with z | z
          · rw [← sw_rv_rv h1, sw_rv_t z, sw_rv_t z, hag (9 - j) (by omega)]
          · rw [sw_rv_big z, sw_bit_big h1 z]
      have := q1.2 hlt
      omega
    · have := b4 (sw_rv c0) p1 p4 (by omega) t ht10 hag hbt
      rw [this, hbt] at ht
      exact absurd rfl ht
/-- the least length with no condition -/
theorem sw_F_J {A B L : Nat → Nat} {P q : Nat} {r : Int32} (hP : P < 1024) (hL : ∀ s, L s ≤ 20) (F : sw_F A B L P 0 0 1024 r) (J : sw_J A B L P (sw_od A B P 10) q) : ∃ b, b < 1024 ∧ r = nI b ∧ sw_ln L b 10 = q ∧ q ≤ 200 := by
  obtain ⟨c0, h1, h2, h3, h4⟩ := sw_F_some F hP (sw_C00 (sw_sub_r P) rfl)
  obtain ⟨p1, _, _, p4⟩ := h3
  have j1 := J.1 (sw_rv c0) p1 p4
  have hle := sw_ln_le hL (sw_rv c0) 10
  obtain ⟨S, f1, f2, f3⟩ := J.2 (by omega)
  have j2 := (h4 S (sw_sub_lt (n := 10) f1 hP) (sw_C00 f1 f2)).1
  exact ⟨sw_rv c0, sw_rv_lt c0, h2, by omega, by omega⟩
/-- with street s -/
theorem sw_F_with {A B L : Nat → Nat} {P q s : Nat} {r : Int32} (hP : P < 1024) (hL : ∀ s, L s ≤ 20) (hs : s < 10) (hPs : P.testBit s = true) (F : sw_F A B L P (2 ^ s) 0 1024 r) (J : sw_J A B L (sw_an P (2 ^ s)) (sw_od A B P 10 ^^^ sw_e A B s) q) :
    (100000 ≤ q ∧ r = -1) ∨ (q ≤ 200 ∧ ∃ b, b < 1024 ∧ r = nI b ∧ sw_ln L b 10 = q + L s) := by
  have hoff : ∀ S, sw_sub S (sw_an P (2 ^ s)) → S.testBit s = false := by
    intro S hS
    cases z : S.testBit s
    · rfl
    · have := hS s z
      rw [sw_an_t, Nat.testBit_two_pow_self] at this
      revert this
      cases P.testBit s <;> simp
  have hon : ∀ S, sw_sub S P → S.testBit s = false → sw_sub S (sw_an P (2 ^ s)) := by
    intro S hS hs0 i hi
    rw [sw_an_t, hS i hi, Nat.testBit_two_pow]
    by_cases e : s = i
    · subst e
      rw [hs0] at hi
      exact absurd hi (by decide)
    · rw [decide_eq_false e]; rfl
  have hfw : ∀ S, sw_sub S (sw_an P (2 ^ s)) → sw_od A B S 10 = sw_od A B P 10 ^^^ sw_e A B s → sw_C A B P (2 ^ s) 0 (S ^^^ 2 ^ s) := by
    intro S hS ho
    refine ⟨sw_sub_x (sw_sub_tr hS (sw_an_sub _ _)) (sw_2_sub hPs), sw_2_sub (sw_x_on (hoff S hS)), fun i _ => Nat.zero_testBit i, ?_⟩
    rw [sw_od_s hs, ho, sw_xx]
  rcases F with ⟨h1, h2⟩ | ⟨c0, h1, h2, h3, h4⟩
  · refine Or.inl ⟨?_, h1⟩
    rcases Nat.lt_or_ge q 100000 with z | z
    · obtain ⟨S, f1, f2, f3⟩ := J.2 z
      have hC := hfw S f1 f2
      have h5 := h2 (sw_rv (S ^^^ 2 ^ s)) (sw_rv_lt _)
      rw [sw_rv_rv (sw_sub_lt (n := 10) hC.1 hP)] at h5
      exact absurd hC h5
    · exact z
  · have F' := sw_F_some (S := sw_rv c0) (Or.inr ⟨c0, h1, h2, h3, h4⟩ : sw_F A B L P (2 ^ s) 0 1024 r) (sw_rv_lt c0) h3
    obtain ⟨p1, p2, _, p4⟩ := h3
    have hbs : (sw_rv c0).testBit s = true := p2 s Nat.testBit_two_pow_self
    have hr := sw_ln_r (L := L) hs hbs
    have j1 := J.1 (sw_rv c0 ^^^ 2 ^ s) (hon _ (sw_sub_tr (sw_x_sub hbs) p1) (sw_x_off hbs)) (by rw [sw_od_s hs, p4])
    have hle := sw_ln_le hL (sw_rv c0) 10
    obtain ⟨S, f1, f2, f3⟩ := J.2 (by omega)
    have hC := hfw S f1 f2
    have h5 := h4 (sw_rv (S ^^^ 2 ^ s)) (sw_rv_lt _)
    rw [sw_rv_rv (sw_sub_lt (n := 10) hC.1 hP)] at h5
    have h6 := (h5 hC).1
    rw [sw_ln_a hs (hoff S f1)] at h6
    exact Or.inr ⟨by omega, sw_rv c0, sw_rv_lt c0, h2, by omega⟩
/-- without street s -/
theorem sw_F_wo {A B L : Nat → Nat} {P q s : Nat} {r : Int32} (hP : P < 1024) (hL : ∀ s, L s ≤ 20) (F : sw_F A B L P 0 (2 ^ s) 1024 r) (J : sw_J A B L (sw_an P (2 ^ s)) (sw_od A B P 10) q) :
    (100000 ≤ q ∧ r = -1) ∨ (q ≤ 200 ∧ ∃ b, b < 1024 ∧ r = nI b ∧ sw_ln L b 10 = q) := by
  have hfw : ∀ S, sw_sub S (sw_an P (2 ^ s)) → sw_od A B S 10 = sw_od A B P 10 → sw_C A B P 0 (2 ^ s) S := by
    intro S hS ho
    refine ⟨sw_sub_tr hS (sw_an_sub _ _), sw_sub_0 S, fun i hi => ?_, ho⟩
    have := hS i hi
    rw [sw_an_t] at this
    revert this
    cases (2 ^ s).testBit i <;> simp
  have hbw : ∀ S, sw_C A B P 0 (2 ^ s) S → sw_sub S (sw_an P (2 ^ s)) := by
    intro S hS i hi
    rw [sw_an_t, hS.1 i hi, hS.2.2.1 i hi]
    rfl
  rcases F with ⟨h1, h2⟩ | ⟨c0, h1, h2, h3, h4⟩
  · refine Or.inl ⟨?_, h1⟩
    rcases Nat.lt_or_ge q 100000 with z | z
    · obtain ⟨S, f1, f2, f3⟩ := J.2 z
      have hC := hfw S f1 f2
      have h5 := h2 (sw_rv S) (sw_rv_lt _)
      rw [sw_rv_rv (sw_sub_lt (n := 10) hC.1 hP)] at h5
      exact absurd hC h5
    · exact z
  · have j1 := J.1 (sw_rv c0) (hbw _ h3) h3.2.2.2
    have hle := sw_ln_le hL (sw_rv c0) 10
    obtain ⟨S, f1, f2, f3⟩ := J.2 (by omega)
    have hC := hfw S f1 f2
    have h5 := h4 (sw_rv S) (sw_rv_lt _)
    rw [sw_rv_rv (sw_sub_lt (n := 10) hC.1 hP)] at h5
    have h6 := (h5 hC).1
    exact Or.inr ⟨by omega, sw_rv c0, sw_rv_lt c0, h2, by omega⟩
end
section
/-! ===== the corners that can be got to ===== -/
def sw_en (A B : Nat → Nat) (s : Nat) : Nat := 2 ^ A s ||| 2 ^ B s
def sw_ri (A B : Nat → Nat) (S c : Nat) : Nat → Nat
  | 0 => c
  | n + 1 => if S.testBit n = true ∧ sw_en A B n &&& sw_ri A B S c n ≠ 0 then sw_ri A B S c n ||| sw_en A B n else sw_ri A B S c n
def sw_ro (A B : Nat → Nat) (S c : Nat) : Nat → Nat
  | 0 => c
  | r + 1 => sw_ri A B S (sw_ro A B S c r) 10
def sw_to (A B : Nat → Nat) (S : Nat) : Nat → Nat
  | 0 => 0
  | n + 1 => if S.testBit n = true then sw_to A B S n ||| sw_en A B n else sw_to A B S n
/-- closed: each street has both of its ends in C or none -/
def sw_cl (A B : Nat → Nat) (S C : Nat) : Prop := ∀ s, s < 10 → S.testBit s = true → C.testBit (A s) = C.testBit (B s)
theorem sw_en_t (A B : Nat → Nat) (s v : Nat) : (sw_en A B s).testBit v = (decide (A s = v) || decide (B s = v)) := by
  unfold sw_en
  rw [Nat.testBit_or, Nat.testBit_two_pow, Nat.testBit_two_pow]
theorem sw_en_ne (A B : Nat → Nat) (s x : Nat) : sw_en A B s &&& x ≠ 0 ↔ (x.testBit (A s) = true ∨ x.testBit (B s) = true) := by
  constructor
  · intro h
    obtain ⟨i, hi⟩ := Nat.exists_testBit_of_ne_zero h
    rw [Nat.testBit_and, sw_en_t, Bool.and_eq_true, Bool.or_eq_true, decide_eq_true_iff, decide_eq_true_iff] at hi
    rcases hi.1 with e | e
    · rw [e]; exact Or.inl hi.2
    · rw [e]; exact Or.inr hi.2
  · intro h z
    rcases h with h | h
    · have h2 : (sw_en A B s &&& x).testBit (A s) = true := by rw [Nat.testBit_and, sw_en_t, h, decide_eq_true rfl]; rfl
      rw [z, Nat.zero_testBit] at h2
      exact absurd h2 (by decide)
    · have h2 : (sw_en A B s &&& x).testBit (B s) = true := by
        rw [Nat.testBit_and, sw_en_t, h, decide_eq_true (show B s = B s from rfl), Bool.or_true]; rfl
      rw [z, Nat.zero_testBit] at h2
      exact absurd h2 (by decide)
theorem sw_en_lt {A B : Nat → Nat} (hA : ∀ s, A s < 6) (hB : ∀ s, B s < 6) (s : Nat) : sw_en A B s < 64 :=
  Nat.or_lt_two_pow (n := 6) (sw_p6 (hA s)) (sw_p6 (hB s))
theorem sw_sub_or (a b : Nat) : sw_sub a (a ||| b) := by
  intro i h
  rw [Nat.testBit_or, h]
  rfl
theorem sw_ri_st (A B : Nat → Nat) (S c n : Nat) : sw_sub (sw_ri A B S c n) (sw_ri A B S c (n + 1)) := by
  show sw_sub _ (if S.testBit n = true ∧ sw_en A B n &&& sw_ri A B S c n ≠ 0 then sw_ri A B S c n ||| sw_en A B n else sw_ri A B S c n)
  split
  · exact sw_sub_or _ _
  · exact sw_sub_r _
theorem sw_ri_mo (A B : Nat → Nat) (S c m : Nat) : ∀ k, sw_sub (sw_ri A B S c m) (sw_ri A B S c (m + k)) := by
  intro k
  induction k with
  | zero => exact sw_sub_r _
  | succ k ih => exact sw_sub_tr ih (sw_ri_st A B S c (m + k))
theorem sw_ri_in (A B : Nat → Nat) (S c n : Nat) : sw_sub c (sw_ri A B S c n) := by
  have := sw_ri_mo A B S c 0 n
  rw [Nat.zero_add] at this
  exact this
theorem sw_ri_lt {A B : Nat → Nat} (hA : ∀ s, A s < 6) (hB : ∀ s, B s < 6) (S : Nat) {c : Nat} (hc : c < 64) : ∀ n, sw_ri A B S c n < 64 := by
  intro n
  induction n with
  | zero => exact hc
  | succ n ih =>
    show (if S.testBit n = true ∧ sw_en A B n &&& sw_ri A B S c n ≠ 0 then sw_ri A B S c n ||| sw_en A B n else sw_ri A B S c n) < 64
    split
    · exact Nat.or_lt_two_pow (n := 6) ih (sw_en_lt hA hB n)
    · exact ih
theorem sw_ro_lt {A B : Nat → Nat} (hA : ∀ s, A s < 6) (hB : ∀ s, B s < 6) (S : Nat) {c : Nat} (hc : c < 64) : ∀ r, sw_ro A B S c r < 64 := by
  intro r
  induction r with
  | zero => exact hc
  | succ r ih => exact sw_ri_lt hA hB S ih 10
theorem sw_ro_in (A B : Nat → Nat) (S c : Nat) : ∀ r, sw_sub c (sw_ro A B S c r) := by
  intro r
  induction r with
  | zero => exact sw_sub_r _
  | succ r ih => exact sw_sub_tr ih (sw_ri_in A B S _ 10)
theorem sw_ri_cl {A B : Nat → Nat} {S C c : Nat} (hC : sw_cl A B S C) (hc : sw_sub c C) : ∀ n, n ≤ 10 → sw_sub (sw_ri A B S c n) C := by
  intro n
  induction n with
  | zero => exact fun _ => hc
  | succ n ih =>
    intro hn
    have ih' := ih (by omega)
    show sw_sub (if S.testBit n = true ∧ sw_en A B n &&& sw_ri A B S c n ≠ 0 then sw_ri A B S c n ||| sw_en A B n else sw_ri A B S c n) C
    split
    · next h =>
      obtain ⟨h1, h2⟩ := h
      have h3 := hC n (by omega) h1
      have h4 : C.testBit (A n) = true ∧ C.testBit (B n) = true := by
        rcases (sw_en_ne A B n _).mp h2 with z | z
        · have := ih' _ z
          exact ⟨this, by rw [← h3]; exact this⟩
        · have := ih' _ z
          exact ⟨by rw [h3]; exact this, this⟩
      intro i hi
      rw [Nat.testBit_or, sw_en_t, Bool.or_eq_true, Bool.or_eq_true, decide_eq_true_iff, decide_eq_true_iff] at hi
      rcases hi with z | z | z
      · exact ih' i z
      · rw [← z]; exact h4.1
      · rw [← z]; exact h4.2
    · exact ih'
theorem sw_ro_cl {A B : Nat → Nat} {S C c : Nat} (hC : sw_cl A B S C) (hc : sw_sub c C) : ∀ r, sw_sub (sw_ro A B S c r) C := by
  intro r
  induction r with
  | zero => exact hc
  | succ r ih => exact sw_ri_cl hC ih 10 (Nat.le_refl 10)
theorem sw_ri_fix {A B : Nat → Nat} {S c : Nat} (h : sw_ri A B S c 10 = c) : sw_cl A B S c := by
  intro s hs hS
  have e1 : sw_ri A B S c s = c := by
    apply sw_sub_eq _ (sw_ri_in A B S c s)
    have := sw_ri_mo A B S c s (10 - s)
    rw [show s + (10 - s) = 10 by omega, h] at this
    exact this
  have e2 : sw_ri A B S c (s + 1) = c := by
    apply sw_sub_eq _ (sw_ri_in A B S c (s + 1))
    have := sw_ri_mo A B S c (s + 1) (10 - (s + 1))
    rw [show s + 1 + (10 - (s + 1)) = 10 by omega, h] at this
    exact this
  have e3 : (if S.testBit s = true ∧ sw_en A B s &&& sw_ri A B S c s ≠ 0 then sw_ri A B S c s ||| sw_en A B s else sw_ri A B S c s) = c := e2
  rw [e1] at e3
  by_cases z : sw_en A B s &&& c ≠ 0
  · rw [if_pos ⟨hS, z⟩] at e3
    have a1 : c.testBit (A s) = true := by
      rw [← e3, Nat.testBit_or, sw_en_t, decide_eq_true (show A s = A s from rfl)]; simp
    have a2 : c.testBit (B s) = true := by
      rw [← e3, Nat.testBit_or, sw_en_t, decide_eq_true (show B s = B s from rfl)]; simp
    rw [a1, a2]
  · have z' := mt (sw_en_ne A B s c).mpr z
    cases h1 : c.testBit (A s) <;> cases h2 : c.testBit (B s)
    · rfl
    · exact absurd (Or.inr h2) z'
    · exact absurd (Or.inl h1) z'
    · rfl
def sw_pc (x : Nat) : Nat := (x.testBit 0).toNat + (x.testBit 1).toNat + (x.testBit 2).toNat + (x.testBit 3).toNat + (x.testBit 4).toNat + (x.testBit 5).toNat
theorem sw_bl (b : Bool) : b.toNat ≤ 1 := by cases b <;> decide
theorem sw_pc_le (x : Nat) : sw_pc x ≤ 6 := by
  unfold sw_pc
  have := sw_bl (x.testBit 0)
  have := sw_bl (x.testBit 1)
  have := sw_bl (x.testBit 2)
  have := sw_bl (x.testBit 3)
  have := sw_bl (x.testBit 4)
  have := sw_bl (x.testBit 5)
  omega
theorem sw_pc_lt {x y : Nat} (h : sw_sub x y) (hne : x ≠ y) (hy : y < 64) : sw_pc x < sw_pc y := by
  have hm : ∀ i, (x.testBit i).toNat ≤ (y.testBit i).toNat := by
    intro i
    have := h i
    revert this
    cases x.testBit i <;> cases y.testBit i <;> simp
  obtain ⟨i, hi⟩ := Nat.exists_testBit_ne_of_ne hne
  have hlt : (x.testBit i).toNat < (y.testBit i).toNat := by
    have := h i
    revert this hi
    cases x.testBit i <;> cases y.testBit i <;> simp
  have hi6 : i < 6 := by
    rcases Nat.lt_or_ge i 6 with z | z
    · exact z
    · rw [Nat.testBit_lt_two_pow (show y < 2 ^ i from Nat.lt_of_lt_of_le hy (show 2 ^ 6 ≤ 2 ^ i from Nat.pow_le_pow_right (by decide) z))] at hlt
      exact absurd hlt (Nat.not_lt_zero _)
  have m0 := hm 0
  have m1 := hm 1
  have m2 := hm 2
  have m3 := hm 3
  have m4 := hm 4
  have m5 := hm 5
  unfold sw_pc
  have hc : i = 0 ∨ i = 1 ∨ i = 2 ∨ i = 3 ∨ i = 4 ∨ i = 5 := by omega
  rcases hc with e | e | e | e | e | e <;> subst e <;> omega
theorem sw_ri_0 (A B : Nat → Nat) (S : Nat) : ∀ n, sw_ri A B S 0 n = 0 := by
  intro n
  induction n with
  | zero => rfl
  | succ n ih =>
    show (if S.testBit n = true ∧ sw_en A B n &&& sw_ri A B S 0 n ≠ 0 then sw_ri A B S 0 n ||| sw_en A B n else sw_ri A B S 0 n) = 0
    rw [ih, if_neg (by rw [Nat.and_zero]; exact fun z => z.2 rfl)]
theorem sw_ro_fix {A B : Nat → Nat} (hA : ∀ s, A s < 6) (hB : ∀ s, B s < 6) (S : Nat) {c : Nat} (hc : c < 64) : sw_cl A B S (sw_ro A B S c 6) := by
  apply sw_ri_fix
  by_cases h0 : c = 0
  · subst h0
    have : ∀ r, sw_ro A B S 0 r = 0 := by
      intro r
      induction r with
      | zero => rfl
      | succ r ih =>
        show sw_ri A B S (sw_ro A B S 0 r) 10 = 0
        rw [ih, sw_ri_0]
    rw [this, sw_ri_0]
  · have key : ∀ r, sw_ri A B S (sw_ro A B S c r) 10 = sw_ro A B S c r ∨ r + 1 ≤ sw_pc (sw_ro A B S c r) := by
      intro r
      induction r with
      | zero =>
        have := sw_pc_lt (sw_sub_0 c) (Ne.symm h0) hc
        exact Or.inr (by show 0 + 1 ≤ sw_pc c; omega)
      | succ r ih =>
        rcases ih with ih | ih
        · left
          show sw_ri A B S (sw_ri A B S (sw_ro A B S c r) 10) 10 = sw_ri A B S (sw_ro A B S c r) 10
          rw [ih, ih]
        · by_cases e : sw_ri A B S (sw_ro A B S c r) 10 = sw_ro A B S c r
          · left
            show sw_ri A B S (sw_ri A B S (sw_ro A B S c r) 10) 10 = sw_ri A B S (sw_ro A B S c r) 10
            rw [e, e]
          · right
            have := sw_pc_lt (sw_ri_in A B S (sw_ro A B S c r) 10) (Ne.symm e) (sw_ri_lt hA hB S (sw_ro_lt hA hB S hc r) 10)
            show r + 1 + 1 ≤ sw_pc (sw_ri A B S (sw_ro A B S c r) 10)
            omega
    rcases key 6 with z | z
    · exact z
    · have := sw_pc_le (sw_ro A B S c 6)
      omega
theorem sw_to_t (A B : Nat → Nat) (S v : Nat) : ∀ n, (sw_to A B S n).testBit v = true ↔ ∃ s, s < n ∧ S.testBit s = true ∧ (A s = v ∨ B s = v) := by
  intro n
  induction n with
  | zero =>
    show (0 : Nat).testBit v = true ↔ _
    rw [Nat.zero_testBit]
    exact ⟨fun h => absurd h (by decide), fun ⟨s, hs, _⟩ => absurd hs (Nat.not_lt_zero s)⟩
  | succ n ih =>
    show (if S.testBit n = true then sw_to A B S n ||| sw_en A B n else sw_to A B S n).testBit v = true ↔ _
    by_cases h : S.testBit n = true
    · rw [if_pos h, Nat.testBit_or, Bool.or_eq_true, ih, sw_en_t, Bool.or_eq_true, decide_eq_true_iff, decide_eq_true_iff]
      constructor
      · rintro (⟨s, hs, r⟩ | r)
        · exact ⟨s, by omega, r⟩
        · exact ⟨n, by omega, h, r⟩
      · rintro ⟨s, hs, r1, r2⟩
        by_cases e : s = n
        · subst e
          exact Or.inr r2
        · exact Or.inl ⟨s, by omega, r1, r2⟩
    · rw [if_neg h, ih]
      constructor
      · rintro ⟨s, hs, r⟩
        exact ⟨s, by omega, r⟩
      · rintro ⟨s, hs, r1, r2⟩
        by_cases e : s = n
        · subst e
          exact absurd r1 h
        · exact ⟨s, by omega, r1, r2⟩
theorem sw_to_lt {A B : Nat → Nat} (hA : ∀ s, A s < 6) (hB : ∀ s, B s < 6) (S : Nat) : ∀ n, sw_to A B S n < 64 := by
  intro n
  induction n with
  | zero => exact (by decide : 0 < 64)
  | succ n ih =>
    show (if S.testBit n = true then sw_to A B S n ||| sw_en A B n else sw_to A B S n) < 64
    split
    · exact Nat.or_lt_two_pow (n := 6) ih (sw_en_lt hA hB n)
    · exact ih
theorem sw_an_0 (a b : Nat) : sw_an a b = 0 ↔ sw_sub a b := by
  constructor
  · intro h i hi
    have h2 := sw_an_t a b i
    rw [h, Nat.zero_testBit, hi] at h2
    revert h2
    cases b.testBit i <;> simp
  · intro h
    apply Nat.eq_of_testBit_eq
    intro i
    rw [Nat.zero_testBit, sw_an_t]
    have := h i
    revert this
    cases a.testBit i <;> cases b.testBit i <;> simp
/-- in a closed set, all touched corners or all first ends -/
theorem sw_all {A B : Nat → Nat} {S R : Nat} (hR : sw_cl A B S R) : sw_an (sw_to A B S 10) R = 0 ↔ ∀ s, s < 10 → S.testBit s = true → R.testBit (A s) = true := by
  rw [sw_an_0]
  constructor
  · intro h s hs hS
    exact h (A s) ((sw_to_t A B S (A s) 10).mpr ⟨s, hs, hS, Or.inl rfl⟩)
  · intro h v hv
    obtain ⟨s, hs, hS, e⟩ := (sw_to_t A B S v 10).mp hv
    rcases e with e | e
    · rw [← e]; exact h s hs hS
    · rw [← e, ← hR s hs hS]; exact h s hs hS
theorem sw_sym {A B : Nat → Nat} (hA : ∀ s, A s < 6) (hB : ∀ s, B s < 6) {S a b : Nat} (ha : a < 6) (hb : b < 6) (h : (sw_ro A B S (2 ^ a) 6).testBit b = true) : (sw_ro A B S (2 ^ b) 6).testBit a = true := by
  cases z : (sw_ro A B S (2 ^ b) 6).testBit a
  · exfalso
    have hR := sw_ro_fix hA hB S (sw_p6 hb)
    have hC : sw_cl A B S (sw_an 63 (sw_ro A B S (2 ^ b) 6)) := by
      intro s hs hS
      have t6 : ∀ v, v < 6 → (63 : Nat).testBit v = true := by decide
      rw [sw_an_t, sw_an_t, hR s hs hS, t6 _ (hA s), t6 _ (hB s)]
    have h1 : sw_sub (2 ^ a) (sw_an 63 (sw_ro A B S (2 ^ b) 6)) := by
      apply sw_2_sub
      have t6 : ∀ v, v < 6 → (63 : Nat).testBit v = true := by decide
      rw [sw_an_t, z, t6 a ha]
      rfl
    have h2 := sw_ro_cl hC h1 6 b h
    rw [sw_an_t, sw_ro_in A B S (2 ^ b) 6 b Nat.testBit_two_pow_self] at h2
    revert h2
    cases (63 : Nat).testBit b <;> simp
  · rfl
/-- connected, from the least touched corner or from the first street -/
theorem sw_conn {A B : Nat → Nat} (hA : ∀ s, A s < 6) (hB : ∀ s, B s < 6) {S low s0 : Nat} (hl : low < 6) (hlow : (sw_to A B S 10).testBit low = true) (hs0 : s0 < 10) (hS0 : S.testBit s0 = true) :
    sw_an (sw_to A B S 10) (sw_ro A B S (2 ^ low) 6) = 0 ↔ ∀ s, s < 10 → S.testBit s = true → (sw_ro A B S (2 ^ A s0) 6).testBit (A s) = true := by
  have hA0 : (sw_to A B S 10).testBit (A s0) = true := (sw_to_t A B S (A s0) 10).mpr ⟨s0, hs0, hS0, Or.inl rfl⟩
  have c1 := sw_ro_fix hA hB S (sw_p6 hl)
  have c2 := sw_ro_fix hA hB S (sw_p6 (hA s0))
  rw [← sw_all c2, sw_an_0, sw_an_0]
  constructor
  · intro h
    have h1 := sw_sym hA hB hl (hA s0) (h (A s0) hA0)
    exact sw_sub_tr h (sw_ro_cl c2 (sw_2_sub h1) 6)
  · intro h
    have h1 := sw_sym hA hB (hA s0) hl (h low hlow)
    exact sw_sub_tr h (sw_ro_cl c1 (sw_2_sub h1) 6)
end
section
/-! ===== the nearest lengths, pass by pass, against the table of ways ===== -/
def sw_ok (d : Nat → Nat → Nat) (a : Nat) (nr : Nat → Nat) (v : Nat) : Nat := if nr v ≤ d a v then 1 else 0
def sw_nc (d : Nat → Nat → Nat) (a : Nat) (nr : Nat → Nat) : Nat := sw_ok d a nr 0 + sw_ok d a nr 1 + sw_ok d a nr 2 + sw_ok d a nr 3 + sw_ok d a nr 4 + sw_ok d a nr 5
theorem sw_ok_1 (d : Nat → Nat → Nat) (a : Nat) (nr : Nat → Nat) (v : Nat) : sw_ok d a nr v ≤ 1 := by
  unfold sw_ok
  split <;> omega
theorem sw_nc_le (d : Nat → Nat → Nat) (a : Nat) (nr : Nat → Nat) : sw_nc d a nr ≤ 6 := by
  unfold sw_nc
  have := sw_ok_1 d a nr 0
  have := sw_ok_1 d a nr 1
  have := sw_ok_1 d a nr 2
  have := sw_ok_1 d a nr 3
  have := sw_ok_1 d a nr 4
  have := sw_ok_1 d a nr 5
  omega
theorem sw_ok_mo {d : Nat → Nat → Nat} {a : Nat} {n0 n1 : Nat → Nat} {v : Nat} (h : n1 v ≤ n0 v) : sw_ok d a n0 v ≤ sw_ok d a n1 v := by
  unfold sw_ok
  split <;> split <;> omega
theorem sw_nc_lt {d : Nat → Nat → Nat} {a : Nat} {n0 n1 : Nat → Nat} (h : ∀ v, v < 6 → n1 v ≤ n0 v) {w : Nat} (hw : w < 6) (h0 : ¬ n0 w ≤ d a w) (h1 : n1 w ≤ d a w) : sw_nc d a n0 + 1 ≤ sw_nc d a n1 := by
  have z0 : sw_ok d a n0 w = 0 := if_neg h0
  have z1 : sw_ok d a n1 w = 1 := if_pos h1
  have m0 := sw_ok_mo (d := d) (a := a) (h 0 (by omega))
  have m1 := sw_ok_mo (d := d) (a := a) (h 1 (by omega))
  have m2 := sw_ok_mo (d := d) (a := a) (h 2 (by omega))
  have m3 := sw_ok_mo (d := d) (a := a) (h 3 (by omega))
  have m4 := sw_ok_mo (d := d) (a := a) (h 4 (by omega))
  have m5 := sw_ok_mo (d := d) (a := a) (h 5 (by omega))
  unfold sw_nc
  have hc : w = 0 ∨ w = 1 ∨ w = 2 ∨ w = 3 ∨ w = 4 ∨ w = 5 := by omega
  rcases hc with e | e | e | e | e | e <;> subst e <;> omega
/-- kept in every pass: no length below the way's -/
def sw_N (d : Nat → Nat → Nat) (a : Nat) (nr : Nat → Nat) : Prop := nr a = 0 ∧ ∀ v, v < 6 → d a v ≤ nr v ∧ nr v ≤ 100000
/-- within a pass from n0: the streets below s are done -/
def sw_R (A B L : Nat → Nat) (P s : Nat) (n0 nr : Nat → Nat) : Prop :=
  (∀ v, v < 6 → nr v ≤ n0 v) ∧ ∀ t, t < s → P.testBit t = true → nr (B t) ≤ n0 (A t) + L t ∧ nr (A t) ≤ n0 (B t) + L t
/-- one street -/
def sw_n1 (A B L : Nat → Nat) (s : Nat) (nr : Nat → Nat) : Nat → Nat := fun v => if v = A s then min (nr (A s)) (nr (B s) + L s) else if v = B s then min (nr (B s)) (nr (A s) + L s) else nr v
theorem sw_n1_le (A B L : Nat → Nat) (s : Nat) (nr : Nat → Nat) (v : Nat) : sw_n1 A B L s nr v ≤ nr v := by
  unfold sw_n1
  split
  · next h => subst h; omega
  · split
    · next h => subst h; omega
    · omega
theorem sw_n1_A (A B L : Nat → Nat) (s : Nat) (nr : Nat → Nat) : sw_n1 A B L s nr (A s) = min (nr (A s)) (nr (B s) + L s) := if_pos rfl
theorem sw_n1_B {A B : Nat → Nat} (L : Nat → Nat) {s : Nat} (nr : Nat → Nat) (h : A s ≠ B s) : sw_n1 A B L s nr (B s) = min (nr (B s)) (nr (A s) + L s) := by
  unfold sw_n1
  rw [if_neg (Ne.symm h), if_pos rfl]
theorem sw_N_1 {A B L : Nat → Nat} (hA : ∀ s, A s < 6) (hB : ∀ s, B s < 6) {P s a : Nat} {d : Nat → Nat → Nat} {nr : Nat → Nat} (M : sw_M A B L P d) (ha : a < 6) (hs : s < 10) (hP : P.testBit s = true) (N : sw_N d a nr) : sw_N d a (sw_n1 A B L s nr) := by
  obtain ⟨K, E, T⟩ := M
  have e := E s hs hP
  have t1 := T (A s) a (B s) (hA s) ha (hB s)
  have t2 := T (B s) a (A s) (hB s) ha (hA s)
  have n1 := N.2 (A s) (hA s)
  have n2 := N.2 (B s) (hB s)
  constructor
  · have := sw_n1_le A B L s nr a
    have := N.1
    omega
  · intro v hv
    have n3 := N.2 v hv
    have := sw_n1_le A B L s nr v
    refine ⟨?_, by omega⟩
    unfold sw_n1
    split
    · next h => subst h; omega
    · split
      · next h => subst h; omega
      · omega
theorem sw_R_1 {A B L : Nat → Nat} (hA : ∀ s, A s < 6) (hB : ∀ s, B s < 6) {P s : Nat} {n0 nr : Nat → Nat} (hne : A s ≠ B s) (R : sw_R A B L P s n0 nr) : sw_R A B L P (s + 1) n0 (sw_n1 A B L s nr) := by
  obtain ⟨r1, r2⟩ := R
  refine ⟨fun v hv => Nat.le_trans (sw_n1_le A B L s nr v) (r1 v hv), fun t ht hP => ?_⟩
  by_cases e : t = s
  · subst e
    have a1 := r1 (A t) (hA t)
    have a2 := r1 (B t) (hB t)
    rw [sw_n1_A, sw_n1_B L nr hne]
    omega
  · have := r2 t (by omega) hP
    have := sw_n1_le A B L s nr (A t)
    have := sw_n1_le A B L s nr (B t)
    omega
theorem sw_R_no {A B L : Nat → Nat} {P s : Nat} {n0 nr : Nat → Nat} (hP : ¬ P.testBit s = true) (R : sw_R A B L P s n0 nr) : sw_R A B L P (s + 1) n0 nr := by
  refine ⟨R.1, fun t ht h => ?_⟩
  by_cases e : t = s
  · subst e
    exact absurd h hP
  · exact R.2 t (by omega) h
theorem sw_R_0 (A B L : Nat → Nat) (P : Nat) (nr : Nat → Nat) : sw_R A B L P 0 nr nr := ⟨fun _ _ => Nat.le_refl _, fun t ht => absurd ht (Nat.not_lt_zero t)⟩
/-- a pass that is not yet at the end brings a new corner to its length -/
theorem sw_pass {A B L : Nat → Nat} (hA : ∀ s, A s < 6) (hB : ∀ s, B s < 6) {P a : Nat} {d : Nat → Nat → Nat} {n0 n1 : Nat → Nat} (M : sw_M A B L P d) (ha : a < 6) (N : sw_N d a n0) (R : sw_R A B L P 10 n0 n1) (hx : ∃ v, v < 6 ∧ ¬ n0 v ≤ d a v) : ∃ w, w < 6 ∧ ¬ n0 w ≤ d a w ∧ n1 w ≤ d a w := by
  obtain ⟨K, E, T⟩ := M
  obtain ⟨m, ⟨w0, hw0, hf0, e0⟩, hmin⟩ := pk_least (fun k => ∃ v, v < 6 ∧ ¬ n0 v ≤ d a v ∧ d a v = k) (by
    obtain ⟨v, hv, hf⟩ := hx
    exact ⟨d a v, v, hv, hf, rfl⟩)
  have hm : ∀ v, v < 6 → ¬ n0 v ≤ d a v → m ≤ d a v := by
    intro v hv hf
    rcases Nat.lt_or_ge (d a v) m with z | z
    · exact absurd ⟨v, hv, hf, rfl⟩ (hmin (d a v) z)
    · exact z
  have hm1 : m + 1 ≤ 100000 := by
    have := (N.2 w0 hw0).2
    omega
  have hda := K.1 a ha
  -- a street across
  have hcut : ∃ s, s < 10 ∧ P.testBit s = true ∧ ((n0 (A s) ≤ d a (A s) ∧ ¬ n0 (B s) ≤ d a (B s) ∧ d a (A s) + L s ≤ m) ∨ (n0 (B s) ≤ d a (B s) ∧ ¬ n0 (A s) ≤ d a (A s) ∧ d a (B s) + L s ≤ m)) := by
    apply Classical.byContradiction
    intro hno
    have pot := K.2.2.2 (fun x => if n0 x ≤ d a x then min (d a x) (m + 1) else m + 1) (fun v _ => by
      show (if n0 v ≤ d a v then min (d a v) (m + 1) else m + 1) ≤ 100000
      split <;> omega) (fun s hs hP => by
      have e := E s hs hP
      have t1 := T (A s) a (B s) (hA s) ha (hB s)
      have t2 := T (B s) a (A s) (hB s) ha (hA s)
      show (if n0 (B s) ≤ d a (B s) then min (d a (B s)) (m + 1) else m + 1) ≤ (if n0 (A s) ≤ d a (A s) then min (d a (A s)) (m + 1) else m + 1) + L s ∧ (if n0 (A s) ≤ d a (A s) then min (d a (A s)) (m + 1) else m + 1) ≤ (if n0 (B s) ≤ d a (B s) then min (d a (B s)) (m + 1) else m + 1) + L s
      by_cases f1 : n0 (A s) ≤ d a (A s)
      · by_cases f2 : n0 (B s) ≤ d a (B s)
        · rw [if_pos f1, if_pos f2]
          omega
        · rw [if_pos f1, if_neg f2]
          have : ¬ d a (A s) + L s ≤ m := fun z => hno ⟨s, hs, hP, Or.inl ⟨f1, f2, z⟩⟩
          omega
      · by_cases f2 : n0 (B s) ≤ d a (B s)
        · rw [if_neg f1, if_pos f2]
          have : ¬ d a (B s) + L s ≤ m := fun z => hno ⟨s, hs, hP, Or.inr ⟨f2, f1, z⟩⟩
          omega
        · rw [if_neg f1, if_neg f2]
          omega) a w0 ha hw0
    have pot' : (if n0 w0 ≤ d a w0 then min (d a w0) (m + 1) else m + 1) ≤ (if n0 a ≤ d a a then min (d a a) (m + 1) else m + 1) + d a w0 := pot
    rw [if_neg hf0, if_pos (by have := N.1; omega), hda, e0] at pot'
    omega
  obtain ⟨s, hs, hP, h | h⟩ := hcut
  · obtain ⟨h1, h2, h3⟩ := h
    have := (R.2 s hs hP).1
    have := hm (B s) (hB s) h2
    exact ⟨B s, hB s, h2, by omega⟩
  · obtain ⟨h1, h2, h3⟩ := h
    have := (R.2 s hs hP).2
    have := hm (A s) (hA s) h2
    exact ⟨A s, hA s, h2, by omega⟩
/-- after r passes -/
def sw_Z (d : Nat → Nat → Nat) (a r : Nat) (nr : Nat → Nat) : Prop := (∀ v, v < 6 → nr v ≤ d a v) ∨ r + 1 ≤ sw_nc d a nr
theorem sw_Z_0 {A B L : Nat → Nat} {P a : Nat} {d : Nat → Nat → Nat} {nr : Nat → Nat} (M : sw_M A B L P d) (ha : a < 6) (N : sw_N d a nr) : sw_Z d a 0 nr := by
  right
  have hda := M.1.1 a ha
  have z1 : sw_ok d a nr a = 1 := if_pos (by have := N.1; omega)
  unfold sw_nc
  have hc : a = 0 ∨ a = 1 ∨ a = 2 ∨ a = 3 ∨ a = 4 ∨ a = 5 := by omega
  rcases hc with e | e | e | e | e | e <;> subst e <;> omega
theorem sw_Z_s {A B L : Nat → Nat} (hA : ∀ s, A s < 6) (hB : ∀ s, B s < 6) {P a r : Nat} {d : Nat → Nat → Nat} {n0 n1 : Nat → Nat} (M : sw_M A B L P d) (ha : a < 6) (N : sw_N d a n0) (R : sw_R A B L P 10 n0 n1) (Z : sw_Z d a r n0) : sw_Z d a (r + 1) n1 := by
  by_cases hx : ∃ v, v < 6 ∧ ¬ n0 v ≤ d a v
  · obtain ⟨w, hw, h0, h1⟩ := sw_pass hA hB M ha N R hx
    have := sw_nc_lt R.1 hw h0 h1
    rcases Z with z | z
    · exact absurd (z w hw) h0
    · exact Or.inr (by omega)
  · left
    intro v hv
    have h1 := R.1 v hv
    have h2 : n0 v ≤ d a v := Classical.byContradiction fun z => hx ⟨v, hv, z⟩
    omega
theorem sw_Z_6 {d : Nat → Nat → Nat} {a : Nat} {nr : Nat → Nat} (N : sw_N d a nr) (Z : sw_Z d a 6 nr) {v : Nat} (hv : v < 6) : nr v = d a v := by
  have h1 := N.2 v hv
  rcases Z with z | z
  · have := z v hv
    omega
  · have := sw_nc_le d a nr
    omega
end
section
/-! ===== numbers of the machine against naturals ===== -/
def sw_f (A : Nat → Nat) : Nat → Int32 := fun s => nI (A s)
theorem sw_rd {A : Nat → Nat} {s : Nat} (h : s < 2 ^ 31) : sw_f A (nI s).toNatClampNeg = nI (A s) := by
  unfold sw_f
  rw [nI_clamp h]
theorem sw_or (a b : Nat) : nI a ||| nI b = nI (a ||| b) := by
  apply Int32.toBitVec_inj.1
  show BitVec.ofNat 32 a ||| BitVec.ofNat 32 b = BitVec.ofNat 32 (a ||| b)
  apply BitVec.eq_of_getLsbD_eq
  intro i hi
  simp [hi]
theorem sw_bt (n : Nat) {i : Nat} (hi : i < 32) : bt (nI n) i = n.testBit i := by
  show (BitVec.ofNat 32 n).getLsbD i = _
  rw [BitVec.getLsbD_ofNat, decide_eq_true hi, Bool.true_and]
theorem sw_not (a b : Nat) : nI a &&& (nI b ^^^ (-1)) = nI (sw_an a b) := by
  apply b_ext
  intro i hi
  rw [b_and, b_xor, b_m1 i hi, sw_bt a hi, sw_bt b hi, sw_bt _ hi, sw_an_t]
  cases a.testBit i <;> cases b.testBit i <;> rfl
theorem sw_1 {k : Nat} (h : k < 31) : (1 : Int32) <<< (nI k &&& 31) = nI (2 ^ k) := by
  have h2 : 2 ^ k < 2 ^ 31 := Nat.pow_lt_pow_right (by omega) h
  have := pk_shlN (n := 1) (nI k &&& 31) k (s_l k (by omega)) (by omega)
  rw [Nat.one_mul] at this
  exact this
theorem sw_bit {m s : Nat} (hm : m < 2 ^ 31) (hs : s < 32) : (nI m >>> (nI s &&& 31)) &&& 1 = nI (m.testBit s).toNat := by
  have h2 : m / 2 ^ s ≤ m := Nat.div_le_self _ _
  rw [pk_shrN hm (nI s &&& 31) s (s_l s hs), pk_andN (m := 1) (by omega) 1 (by decide), Nat.testBit_eq_decide_div_mod_eq]
  congr 1
  have := Nat.mod_lt (m / 2 ^ s) (show 0 < 2 by omega)
  by_cases h : m / 2 ^ s % 2 = 1
  · rw [decide_eq_true h]
    show m / 2 ^ s % 2 ^ 1 = 1
    omega
  · rw [decide_eq_false h]
    show m / 2 ^ s % 2 ^ 1 = 0
    omega
theorem sw_b0 {m s : Nat} (hm : m < 2 ^ 31) (hs : s < 32) : ((nI m >>> (nI s &&& 31)) &&& 1) = 0 ↔ ¬ m.testBit s = true := by
  rw [sw_bit hm hs]
  cases m.testBit s
  · exact ⟨fun _ => by decide, fun _ => rfl⟩
  · exact ⟨fun h => absurd h (by decide), fun h => absurd rfl h⟩
theorem sw_b1 {m s : Nat} (hm : m < 2 ^ 31) (hs : s < 32) : ((nI m >>> (nI s &&& 31)) &&& 1) = 1 ↔ m.testBit s = true := by
  rw [sw_bit hm hs]
  cases m.testBit s
  · exact ⟨fun h => absurd h (by decide), fun h => absurd h (by decide)⟩
  · exact ⟨fun _ => rfl, fun _ => rfl⟩
/-- a branch by a bit, as the component asks -/
theorem sw_br0 {m s : Nat} {C D : Prop} (hm : m < 2 ^ 31) (hs : s < 32) (f : ¬ m.testBit s = true → C) (g : m.testBit s = true → D) : (((nI m >>> (nI s &&& 31)) &&& 1) = 0 → C) ∧ (¬ ((nI m >>> (nI s &&& 31)) &&& 1) = 0 → D) := by
  rw [sw_b0 hm hs]
  exact ⟨f, fun h => g (Classical.not_not.mp h)⟩
/-- and as the reference asks -/
theorem sw_br1 {m s : Nat} {C D : Prop} (hm : m < 2 ^ 31) (hs : s < 32) (f : m.testBit s = true → C) (g : ¬ m.testBit s = true → D) : (((nI m >>> (nI s &&& 31)) &&& 1) = 1 → C) ∧ (¬ ((nI m >>> (nI s &&& 31)) &&& 1) = 1 → D) := by
  rw [sw_b1 hm hs]
  exact ⟨f, g⟩
theorem sw_z {a : Nat} (h : a < 2 ^ 31) : nI a = 0 ↔ a = 0 := by
  have := nI_eq h (show 0 < 2 ^ 31 by decide)
  exact this
theorem sw_brz {a : Nat} {C D : Prop} (x : Int32) (e : x = nI a) (h : a < 2 ^ 31) (f : a = 0 → C) (g : a ≠ 0 → D) : (x = 0 → C) ∧ (¬ x = 0 → D) := by
  rw [e, sw_z h]
  exact ⟨f, g⟩
theorem sw_an_lt {a b n : Nat} (h : a < n) : sw_an a b < n := Nat.lt_of_le_of_lt (Nat.le_of_testBit (sw_an_sub a b)) h
theorem sw_upd_e {f : Nat → Int32} {i : Nat} {x : Int32} (h : i < 2 ^ 31) : upd f (nI i).toNatClampNeg x = upd f i x := by rw [nI_clamp h]
/-- natural arrays under a store -/
def sw_u (A : Nat → Nat) (k a : Nat) : Nat → Nat := fun j => if j = k then a else A j
theorem sw_u_f (A : Nat → Nat) (k a : Nat) : upd (sw_f A) k (nI a) = sw_f (sw_u A k a) := by
  funext j
  unfold upd sw_f sw_u
  split <;> rfl
theorem sw_nb : ∀ a, a < 128 → vp_nar .byte (nI a).toInt8.toInt32 = nI a := by
  intro a ha
  rw [pk_vb]
  exact (by decide +kernel : ∀ a, a < 128 → (nI a).toInt8.toInt32 = nI a) a ha
/-! ===== the state of the component, its small methods ===== -/
section
variable {P : Nat} {A B L : Nat → Nat} {w p l : Nat → Int32}
theorem sw_has {post : Int32 → Prop} (hP : P < 1024) {s : Nat} (hs : s < 10) (g : P.testBit s = true → post 1) (f : ¬ P.testBit s = true → post 0) : wpX_has post (nI P, sw_f A, sw_f B, sw_f L, w, p, l) (nI s) := by
  unfold wpX_has
  exact br_f (nI_pos (by omega)) (pk_le 10 s (fun h => absurd h (by omega)) (fun _ => sw_br0 (by omega) (by omega) f g))
/-- any street number -/
theorem sw_has' {post : Int32 → Prop} (hP : P < 1024) (x : Int32) (g : ∀ s, s < 10 → x = nI s → P.testBit s = true → post 1) (f : post 0) : wpX_has post (nI P, sw_f A, sw_f B, sw_f L, w, p, l) x := by
  rcases pk_ix x (n := 10) (by decide) with h | h | ⟨s, hs, rfl⟩
  · unfold wpX_has
    exact br_t h f
  · unfold wpX_has
    refine br_c (fun _ => f) (fun _ => br_t h f)
  · exact sw_has hP hs (g s hs rfl) (fun _ => f)
theorem sw_ends {post : Int32 → Prop} {fp : Int32} (hA : ∀ s, A s < 6) (hB : ∀ s, B s < 6) {s : Nat} (hs : s < 10) (h : post (nI (sw_en A B s))) : wpX_endsOf post (fp, sw_f A, sw_f B, sw_f L, w, p, l) (nI s) := by
  unfold wpX_endsOf
  refine ⟨vp_in_nI hs (by decide), vp_in_nI hs (by decide), ?_⟩
  have h1 := hA s
  have h2 := hB s
  rw [sw_rd (by omega), sw_rd (by omega), sw_1 (by omega), sw_1 (by omega), sw_or]
  exact h
end
theorem sw_en_e {A B : Nat → Nat} {s : Nat} (h : A s ≠ B s) : sw_en A B s = sw_e A B s := by
  apply Nat.eq_of_testBit_eq
  intro i
  unfold sw_en sw_e
  rw [Nat.testBit_or, Nat.testBit_xor, Nat.testBit_two_pow, Nat.testBit_two_pow]
  by_cases e1 : A s = i
  · rw [decide_eq_true e1, decide_eq_false (fun z => h (e1.trans z.symm))]; rfl
  · rw [decide_eq_false e1]; simp
end
section
/-! ===== the component's scans: odd, touched, reached, connected ===== -/
section
variable {P : Nat} {A B L : Nat → Nat} {w p l : Nat → Int32} {fp : Int32}
theorem sw_xodd_4 {post : Int32 → Prop} (hP : P < 1024) (hA : ∀ s, A s < 6) (hB : ∀ s, B s < 6) (hn : ∀ s, s < 10 → P.testBit s = true → A s ≠ B s) (hp : post (nI (sw_od A B P 10))) : ∀ n i, i ≤ 10 → 10 < n + i → wX_odd_4 post (nI P) (sw_f A) (sw_f B) (sw_f L) w p l n (nI (sw_od A B P i)) (nI i) := by
  intro n
  induction n with
  | zero => intro i hi h; omega
  | succ n ih =>
    intro i hi h
    refine pk_le 10 i (fun z => ?_) (fun z => ?_)
    · have e : i = 10 := by omega
      subst e
      exact hp
    · refine sw_has hP z (fun hb => br_f (by decide) ?_) (fun hb => br_t rfl ?_)
      · refine sw_ends hA hB z ?_
        refine nm_r (e' := nI (sw_od A B P (i + 1))) ?_ (nm_r (nI_1 i) (ih (i + 1) (by omega) (by omega)))
        rw [nx_xor, sw_en_e (hn i z hb)]
        show _ = nI (sw_od A B P i ^^^ (if P.testBit i = true then sw_e A B i else 0))
        rw [if_pos hb]
      · have e : sw_od A B P (i + 1) = sw_od A B P i := by
          show sw_od A B P i ^^^ (if P.testBit i = true then sw_e A B i else 0) = _
          rw [if_neg hb, Nat.xor_zero]
        have := ih (i + 1) (by omega) (by omega)
        rw [e] at this
        exact nm_r (nI_1 i) this
theorem sw_xodd {post : Int32 → Prop} (hP : P < 1024) (hA : ∀ s, A s < 6) (hB : ∀ s, B s < 6) (hn : ∀ s, s < 10 → P.testBit s = true → A s ≠ B s) (hp : post (nI (sw_od A B P 10))) : wpX_odd post (nI P, sw_f A, sw_f B, sw_f L, w, p, l) :=
  ⟨11, sw_xodd_4 hP hA hB hn hp 11 0 (by omega) (by omega)⟩
theorem sw_xtou_4 {post : Int32 → Prop} {S : Nat} (hS : S < 1024) (hA : ∀ s, A s < 6) (hB : ∀ s, B s < 6) (hp : post (nI (sw_to A B S 10))) : ∀ n i, i ≤ 10 → 10 < n + i → wX_touched_4 post (nI S) fp (sw_f A) (sw_f B) (sw_f L) w p l n (nI (sw_to A B S i)) (nI i) := by
  intro n
  induction n with
  | zero => intro i hi h; omega
  | succ n ih =>
    intro i hi h
    refine pk_le 10 i (fun z => ?_) (fun z => ?_)
    · have e : i = 10 := by omega
      subst e
      exact hp
    · refine sw_br0 (by omega) (by omega) (fun hb => ?_) (fun hb => ?_)
      · have e : sw_to A B S (i + 1) = sw_to A B S i := if_neg hb
        have := ih (i + 1) (by omega) (by omega)
        rw [e] at this
        exact nm_r (nI_1 i) this
      · refine sw_ends hA hB z ?_
        refine nm_r (e' := nI (sw_to A B S (i + 1))) ?_ (nm_r (nI_1 i) (ih (i + 1) (by omega) (by omega)))
        rw [sw_or]
        show _ = nI (if S.testBit i = true then sw_to A B S i ||| sw_en A B i else sw_to A B S i)
        rw [if_pos hb]
theorem sw_xtou {post : Int32 → Prop} {S : Nat} (hS : S < 1024) (hA : ∀ s, A s < 6) (hB : ∀ s, B s < 6) (hp : post (nI (sw_to A B S 10))) : wpX_touched post (fp, sw_f A, sw_f B, sw_f L, w, p, l) (nI S) :=
  ⟨11, sw_xtou_4 hS hA hB hp 11 0 (by omega) (by omega)⟩
theorem sw_xrea_15 {post : Int32 → Prop} {J : Int32 → Int32 → Prop} {S c r : Nat} (hS : S < 1024) (hc : c < 64) (hA : ∀ s, A s < 6) (hB : ∀ s, B s < 6) (hJ : J (nI (sw_ri A B S c 10)) (nI (r + 1))) : ∀ n i, i ≤ 10 → 10 < n + i → wX_reached_15 post J (nI S) (nI r) fp (sw_f A) (sw_f B) (sw_f L) w p l n (nI (sw_ri A B S c i)) (nI i) := by
  intro n
  induction n with
  | zero => intro i hi h; omega
  | succ n ih =>
    intro i hi h
    have hlt := sw_ri_lt hA hB S hc i
    refine pk_le 10 i (fun z => ?_) (fun z => ?_)
    · have e : i = 10 := by omega
      subst e
      exact nm_r (nI_1 r) hJ
    · refine sw_br0 (by omega) (by omega) (fun hb => ?_) (fun hb => ?_)
      · have e : sw_ri A B S c (i + 1) = sw_ri A B S c i := if_neg (fun y => hb y.1)
        have := ih (i + 1) (by omega) (by omega)
        rw [e] at this
        exact nm_r (nI_1 i) this
      · refine sw_ends hA hB z ?_
        have hand : sw_en A B i &&& sw_ri A B S c i < 64 := Nat.and_lt_two_pow (n := 6) _ hlt
        refine sw_brz _ (nx_and _ _) (by omega) (fun y => ?_) (fun y => ?_)
        · have e : sw_ri A B S c (i + 1) = sw_ri A B S c i := if_neg (fun x => x.2 y)
          have := ih (i + 1) (by omega) (by omega)
          rw [e] at this
          exact nm_r (nI_1 i) this
        · refine sw_ends hA hB z ?_
          have e : sw_ri A B S c (i + 1) = sw_ri A B S c i ||| sw_en A B i := if_pos ⟨hb, y⟩
          have := ih (i + 1) (by omega) (by omega)
          rw [e] at this
          exact nm_r (sw_or _ _) (nm_r (nI_1 i) this)
theorem sw_xrea_5 {post : Int32 → Prop} {S c : Nat} (hS : S < 1024) (hc : c < 64) (hA : ∀ s, A s < 6) (hB : ∀ s, B s < 6) (hp : post (nI (sw_ro A B S c 6))) : ∀ n i, i ≤ 6 → 6 < n + i → wX_reached_5 post (nI S) fp (sw_f A) (sw_f B) (sw_f L) w p l n (nI (sw_ro A B S c i)) (nI i) := by
  intro n
  induction n with
  | zero => intro i hi h; omega
  | succ n ih =>
    intro i hi h
    refine pk_le 6 i (fun z => ?_) (fun z => ?_)
    · have e : i = 6 := by omega
      subst e
      exact hp
    · exact ⟨11, sw_xrea_15 hS (sw_ro_lt hA hB S hc i) hA hB (ih (i + 1) (by omega) (by omega)) 11 0 (by omega) (by omega)⟩
theorem sw_xrea {post : Int32 → Prop} {S c : Nat} (hS : S < 1024) (hc : c < 64) (hA : ∀ s, A s < 6) (hB : ∀ s, B s < 6) (hp : post (nI (sw_ro A B S c 6))) : wpX_reached post (fp, sw_f A, sw_f B, sw_f L, w, p, l) (nI c) (nI S) :=
  ⟨7, sw_xrea_5 hS hc hA hB hp 7 0 (by omega) (by omega)⟩
/-- the least bit -/
def sw_low (T : Nat) : Nat := if T.testBit 0 then 1 else if T.testBit 1 then 2 else if T.testBit 2 then 4 else if T.testBit 3 then 8 else if T.testBit 4 then 16 else if T.testBit 5 then 32 else 0
theorem sw_low_I : ∀ T, T < 64 → nI T &&& (-nI T) = nI (sw_low T) := by decide +kernel
theorem sw_low_s : ∀ T, T < 64 → (T = 0 ∧ sw_low T = 0) ∨ (sw_low T = 2 ^ 0 ∧ T.testBit 0 = true) ∨ (sw_low T = 2 ^ 1 ∧ T.testBit 1 = true) ∨ (sw_low T = 2 ^ 2 ∧ T.testBit 2 = true) ∨ (sw_low T = 2 ^ 3 ∧ T.testBit 3 = true) ∨ (sw_low T = 2 ^ 4 ∧ T.testBit 4 = true) ∨ (sw_low T = 2 ^ 5 ∧ T.testBit 5 = true) := by decide +kernel
theorem sw_low_e {T : Nat} (h : T < 64) : (T = 0 ∧ sw_low T = 0) ∨ ∃ j, j < 6 ∧ sw_low T = 2 ^ j ∧ T.testBit j = true := by
  rcases sw_low_s T h with z | z | z | z | z | z | z
  · exact Or.inl z
  · exact Or.inr ⟨0, by omega, z⟩
  · exact Or.inr ⟨1, by omega, z⟩
  · exact Or.inr ⟨2, by omega, z⟩
  · exact Or.inr ⟨3, by omega, z⟩
  · exact Or.inr ⟨4, by omega, z⟩
  · exact Or.inr ⟨5, by omega, z⟩
/-- hanging together: every first end is got to from the first end of every street -/
def sw_co (A B : Nat → Nat) (P : Nat) : Prop := ∀ s0, s0 < 10 → P.testBit s0 = true → ∀ s, s < 10 → P.testBit s = true → (sw_ro A B P (2 ^ A s0) 6).testBit (A s) = true
theorem sw_xcon {post : Int32 → Prop} (hP : P < 1024) (hA : ∀ s, A s < 6) (hB : ∀ s, B s < 6) (h1 : sw_co A B P → post 1) (h0 : ¬ sw_co A B P → post 0) : wpX_connected post (nI P, sw_f A, sw_f B, sw_f L, w, p, l) := by
  unfold wpX_connected
  refine sw_xtou hP hA hB ?_
  have ht := sw_to_lt hA hB P 10
  refine nm_r (sw_low_I _ ht) ?_
  have hl : sw_low (sw_to A B P 10) < 64 := by
    rcases sw_low_e ht with z | ⟨j, hj, z, _⟩
    · omega
    · rw [z]; exact sw_p6 hj
  refine sw_xrea hP hl hA hB ?_
  refine sw_brz _ (sw_not _ _) (Nat.lt_trans (sw_an_lt ht) (by decide)) (fun y => h1 ?_) (fun y => h0 ?_)
  · intro s0 hs0 hb
    have hb0 : (sw_to A B P 10).testBit (A s0) = true := (sw_to_t A B P (A s0) 10).mpr ⟨s0, hs0, hb, Or.inl rfl⟩
    rcases sw_low_e ht with z | ⟨j, hj, z, zj⟩
    · rw [z.1, Nat.zero_testBit] at hb0
      exact absurd hb0 (by decide)
    · rw [z] at y
      exact (sw_conn hA hB hj zj hs0 hb).mp y
  · intro hco
    apply y
    rcases sw_low_e ht with z | ⟨j, hj, z, zj⟩
    · rw [z.1]
      exact (sw_an_0 0 _).mpr (sw_sub_0 _)
    · obtain ⟨s0, hs0, hb, _⟩ := (sw_to_t A B P j 10).mp zj
      rw [z]
      exact (sw_conn hA hB hj zj hs0 hb).mpr (hco s0 hs0 hb)
end
end
section
/-! ===== the component's table of ways ===== -/
/-- the cells below n hold d -/
def sw_Rp (w : Nat → Int32) (d : Nat → Nat → Nat) (n : Nat) : Prop := ∀ j, j < n → w j = nI (d (j / 6) (j % 6))
theorem sw_Rp_at {w : Nat → Int32} {d : Nat → Nat → Nat} (R : sw_Rp w d 36) {a b : Nat} (ha : a < 6) (hb : b < 6) : w (a * 6 + b) = nI (d a b) := by
  have := R (a * 6 + b) (by omega)
  rw [show (a * 6 + b) / 6 = a by omega, show (a * 6 + b) % 6 = b by omega] at this
  exact this
section
variable {A B L : Nat → Nat} {w p l : Nat → Int32} {fp : Int32} {G : Nat}
theorem sw_xm_2 {post : SX → Prop} (H : ∀ w, sw_Rp w sw_d0 36 → ∃ n, wX_measure_39 post (nI G) n 0 fp (sw_f A) (sw_f B) (sw_f L) w p l) : ∀ n i w, i ≤ 36 → 36 < n + i → sw_Rp w sw_d0 i → wX_measure_2 post (nI G) fp n (nI i) (sw_f A) (sw_f B) (sw_f L) w p l := by
  intro n
  induction n with
  | zero => intro i w hi h; omega
  | succ n ih =>
    intro i w hi h R
    refine pk_le 36 i (fun z => ?_) (fun z => ?_)
    · have e : i = 36 := by omega
      subst e
      exact H w R
    · refine ⟨by decide, by decide, ?_⟩
      refine pk_eq (i / 6) (i % 6) (fun e => ?_) (fun e => ?_) (hx := pk_div (d := 6) (by omega) (by decide) (by decide)) (hy := pk_rem (d := 6) (by omega) (by decide) (by decide))
      · refine ⟨vp_in_nI z (by decide), nm_r (sw_upd_e (by omega)) (nm_r (nI_1 i) (ih (i + 1) _ (by omega) (by omega) ?_))⟩
        intro j hj
        by_cases ej : j = i
        · subst ej
          rw [pk_us]
          unfold sw_d0
          rw [if_pos e]
          rfl
        · rw [pk_un ej]
          exact R j (by omega)
      · refine ⟨vp_in_nI z (by decide), nm_r (sw_upd_e (by omega)) (nm_r (nI_1 i) (ih (i + 1) _ (by omega) (by omega) ?_))⟩
        intro j hj
        by_cases ej : j = i
        · subst ej
          rw [pk_us]
          unfold sw_d0
          rw [if_neg e]
          rfl
        · rw [pk_un ej]
          exact R j (by omega)
theorem sw_xsho {post : SX → Prop} {d : Nat → Nat → Nat} {a b m : Nat} {x y z : Int32} (ex : x = nI a) (ey : y = nI b) (ez : z = nI m) (ha : a < 6) (hb : b < 6) (hm : m ≤ 20) (R : sw_Rp w d 36) (hd : d a b ≤ 100000) (H : ∀ w', sw_Rp w' (sw_sh d a b m) 36 → post (fp, sw_f A, sw_f B, sw_f L, w', p, l)) : wpX_shorten post (fp, sw_f A, sw_f B, sw_f L, w, p, l) x y z := by
  subst ex ey ez
  have hi : a * 6 + b < 36 := by omega
  unfold wpX_shorten
  refine nm_r (e' := nI (a * 6 + b)) ?_ ⟨vp_in_nI hi (by decide), ?_⟩
  · rw [show (6 : Int32) = nI 6 from rfl, pk_mul, nI_add]
  · rw [nI_clamp (show a * 6 + b < 2 ^ 31 by omega)]
    refine pk_le (d a b) m (fun k => ?_) (fun k => ?_) (hx := sw_Rp_at R ha hb)
    · apply H
      intro j hj
      rw [R j hj]
      unfold sw_sh
      split
      · next e => rw [e.1, e.2]; congr 1; omega
      · rfl
    · refine ⟨vp_in_nI hi (by decide), nm_e (H _ ?_)⟩
      intro j hj
      unfold sw_sh
      by_cases ej : j = a * 6 + b
      · rw [ej, pk_us, if_pos ⟨by omega, by omega⟩]
        congr 1
        rw [show (a * 6 + b) / 6 = a by omega, show (a * 6 + b) % 6 = b by omega]
        omega
      · rw [pk_un ej, if_neg (by omega)]
        exact R j hj
theorem sw_xm_39 {post : SX → Prop} (hG : G < 1024) (hA : ∀ s, A s < 6) (hB : ∀ s, B s < 6) (hL : ∀ s, L s ≤ 20) (H : ∀ w d, sw_Rp w d 36 → sw_K A B L G d → sw_E A B L G 10 d → ∃ n, wX_measure_105 post fp n 0 (sw_f A) (sw_f B) (sw_f L) w p l) : ∀ n i w d, i ≤ 10 → 10 < n + i → sw_Rp w d 36 → sw_K A B L G d → sw_E A B L G i d → wX_measure_39 post (nI G) n (nI i) fp (sw_f A) (sw_f B) (sw_f L) w p l := by
  intro n
  induction n with
  | zero => intro i w d hi h; omega
  | succ n ih =>
    intro i w d hi h R K E
    refine pk_le 10 i (fun z => ?_) (fun z => ?_)
    · have e : i = 10 := by omega
      subst e
      exact H w d R K E
    · refine sw_br0 (by omega) (by omega) (fun hb => ?_) (fun hb => ?_)
      · exact nm_r (nI_1 i) (ih (i + 1) w d (by omega) (by omega) R K (sw_E_skip E hb))
      · have hin : vp_in (nI i) 10 := vp_in_nI z (by decide)
        refine ⟨hin, hin, hin, ?_⟩
        refine sw_xsho (sw_rd (by omega)) (sw_rd (by omega)) (sw_rd (by omega)) (hA i) (hB i) (hL i) R (K.2.1 _ _ (hA i) (hB i)) (fun w1 R1 => ?_)
        refine ⟨hin, hin, hin, ?_⟩
        have K1 := sw_K_sh K z hb (Or.inl ⟨rfl, rfl⟩)
        refine sw_xsho (sw_rd (by omega)) (sw_rd (by omega)) (sw_rd (by omega)) (hB i) (hA i) (hL i) R1 (K1.2.1 _ _ (hB i) (hA i)) (fun w2 R2 => ?_)
        exact nm_r (nI_1 i) (ih (i + 1) w2 (sw_s2 A B L i d) (by omega) (by omega) R2 (sw_K_s2 K z hb) (sw_E_s2 E))
theorem sw_xm_113 {post : SX → Prop} {J : Int32 → (Nat → Int32) → (Nat → Int32) → (Nat → Int32) → (Nat → Int32) → (Nat → Int32) → (Nat → Int32) → Prop} {c : Nat} {d : Nat → Nat → Nat} (hc : c < 6) (h0 : d c c = 0) (hd : ∀ a b, a < 6 → b < 6 → d a b ≤ 100000) (H : ∀ w, sw_Rp w (sw_fw d c) 36 → J (nI (c + 1)) (sw_f A) (sw_f B) (sw_f L) w p l) : ∀ n i w, i ≤ 36 → 36 < n + i → sw_Rp w (sw_mid d c i) 36 → wX_measure_113 post J (nI c) fp n (nI i) (sw_f A) (sw_f B) (sw_f L) w p l := by
  intro n
  induction n with
  | zero => intro i w hi h; omega
  | succ n ih =>
    intro i w hi h R
    refine pk_le 36 i (fun z => ?_) (fun z => ?_)
    · refine nm_r (nI_1 c) (H w (fun j hj => ?_))
      rw [R j hj]
      unfold sw_mid
      rw [if_pos (by omega)]
    · have ha : i / 6 < 6 := by omega
      have hb : i % 6 < 6 := by omega
      have ei : i / 6 * 6 + i % 6 = i := by omega
      have e1 : (nI i / 6) * 6 + nI c = nI (i / 6 * 6 + c) := by
        rw [show (6 : Int32) = nI 6 from rfl, pk_div (by omega) (by decide) (by decide), pk_mul, nI_add]
      have e2 : nI c * 6 + (nI i - nI i / 6 * 6) = nI (c * 6 + i % 6) := by
        rw [show (6 : Int32) = nI 6 from rfl, pk_rem (by omega) (by decide) (by decide), pk_mul, nI_add]
      have r1 := sw_Rp_at R ha hc
      have r2 := sw_Rp_at R hc hb
      have r3 := sw_Rp_at R ha hb
      rw [sw_mid_c1 h0] at r1
      rw [sw_mid_c2 h0] at r2
      rw [sw_mid_ge (by omega), ei] at r3
      have d1 := hd _ _ ha hc
      have d2 := hd _ _ hc hb
      have d3 := hd _ _ ha hb
      refine ⟨by decide, by rw [e1]; exact vp_in_nI (by omega) (by decide), by decide, by rw [e2]; exact vp_in_nI (by omega) (by decide), ?_⟩
      refine nm_r (e' := nI (d (i / 6) c + d c (i % 6))) ?_ ⟨vp_in_nI z (by decide), ?_⟩
      · rw [e1, e2, nI_clamp (show i / 6 * 6 + c < 2 ^ 31 by omega), nI_clamp (show c * 6 + i % 6 < 2 ^ 31 by omega), r1, r2, nI_add]
      · rw [nI_clamp (show i < 2 ^ 31 by omega)]
        refine pk_le (d (i / 6) (i % 6)) (d (i / 6) c + d c (i % 6)) (fun k => ?_) (fun k => ?_) (hx := r3)
        · refine nm_r (nI_1 i) (ih (i + 1) w (by omega) (by omega) (fun j hj => ?_))
          rw [R j hj]
          congr 1
          unfold sw_mid
          by_cases ej : j = i
          · subst ej
            rw [if_neg (by omega), if_pos (by omega)]
            unfold sw_fw
            omega
          · by_cases lj : j < i
            · rw [if_pos (by omega), if_pos (by omega)]
            · rw [if_neg (by omega), if_neg (by omega)]
        · refine ⟨vp_in_nI z (by decide), nm_e (nm_r (nI_1 i) (ih (i + 1) _ (by omega) (by omega) (fun j hj => ?_)))⟩
          by_cases ej : j = i
          · subst ej
            rw [pk_us]
            congr 1
            unfold sw_mid
            rw [if_pos (by omega)]
            unfold sw_fw
            omega
          · rw [pk_un ej, R j hj]
            congr 1
            unfold sw_mid
            by_cases lj : j < i
            · rw [if_pos (by omega), if_pos (by omega)]
            · rw [if_neg (by omega), if_neg (by omega)]
theorem sw_xm_105 {post : SX → Prop} (H : ∀ w d, sw_Rp w d 36 → sw_M A B L G d → post (fp, sw_f A, sw_f B, sw_f L, w, p, l)) : ∀ n c w d, c ≤ 6 → 6 < n + c → sw_Rp w d 36 → sw_K A B L G d → sw_E A B L G 10 d → sw_T c d → wX_measure_105 post fp n (nI c) (sw_f A) (sw_f B) (sw_f L) w p l := by
  intro n
  induction n with
  | zero => intro c w d hi h; omega
  | succ n ih =>
    intro c w d hi h R K E T
    refine pk_le 6 c (fun z => ?_) (fun z => ?_)
    · have e : c = 6 := by omega
      subst e
      exact H w d R ⟨K, E, T⟩
    · refine ⟨37, sw_xm_113 z (K.1 c z) K.2.1 (fun w' R' => ?_) 37 0 w (by omega) (by omega) (fun j hj => ?_)⟩
      · exact ih (c + 1) w' (sw_fw d c) (by omega) (by omega) R' (sw_K_fw K z) (sw_E_fw E c) (sw_T_fw T z (K.1 c z))
      · rw [R j hj]
        unfold sw_mid
        rw [if_neg (by omega)]
theorem sw_xmea {post : SX → Prop} (hG : G < 1024) (hA : ∀ s, A s < 6) (hB : ∀ s, B s < 6) (hL : ∀ s, L s ≤ 20) (H : ∀ w d, sw_Rp w d 36 → sw_M A B L G d → post (fp, sw_f A, sw_f B, sw_f L, w, p, l)) : wpX_measure post (fp, sw_f A, sw_f B, sw_f L, w, p, l) (nI G) :=
  ⟨37, sw_xm_2 (fun w1 R1 => ⟨11, sw_xm_39 hG hA hB hL (fun w2 d2 R2 K2 E2 => ⟨7, sw_xm_105 H 7 0 w2 d2 (by omega) (by omega) R2 K2 E2 (fun k a b hk => absurd hk (Nat.not_lt_zero k))⟩) 11 0 w1 sw_d0 (by omega) (by omega) R1 (sw_K_0 A B L G) (fun s hs => absurd hs (Nat.not_lt_zero s))⟩) 37 0 w (by omega) (by omega) (fun j hj => absurd hj (Nat.not_lt_zero j))⟩
end
end
section
/-! ===== the component's pairings ===== -/
/-- the cells of the sets below m within T hold least lengths -/
def sw_Q (A B L : Nat → Nat) (G T m : Nat) (p : Nat → Int32) : Prop := ∀ k, k < m → sw_sub k T → ∃ q, p k = nI q ∧ q ≤ 200000 ∧ sw_J A B L G k q
section
variable {A B L : Nat → Nat} {w p l : Nat → Int32} {fp : Int32} {G : Nat}
theorem sw_rest_I {m low c : Nat} (hl : low < 6) (hc : c < 6) : (nI m &&& (((1 : Int32) <<< (nI low &&& 31)) ^^^ (-1))) &&& (((1 : Int32) <<< (nI c &&& 31)) ^^^ (-1)) = nI (sw_rest m low c) := by
  rw [sw_1 (by omega), sw_1 (by omega), sw_not, sw_not]
  rfl
theorem sw_xpu_30 {post : Int32 → Prop} {d : Nat → Nat → Nat} {m low : Nat} {Q : Nat → Nat} (hm : m < 64) (hl : low < 6) (hlm : m.testBit low = true) (R : sw_Rp w d 36) (hd : ∀ a b, a < 6 → b < 6 → d a b ≤ 100000) (hQ : ∀ k, k < m → sw_sub k m → p k = nI (Q k) ∧ Q k ≤ 200000)
    (H : ∀ acc, acc ≤ 200000 → (∀ c, low < c → c < 6 → m.testBit c = true → acc ≤ d low c + Q (sw_rest m low c)) → (acc < 200000 → ∃ c, low < c ∧ c < 6 ∧ m.testBit c = true ∧ acc = d low c + Q (sw_rest m low c)) → post (nI acc)) :
    ∀ n i acc, low < i → i ≤ 6 → 6 < n + i → acc ≤ 200000 → (∀ c, low < c → c < i → m.testBit c = true → acc ≤ d low c + Q (sw_rest m low c)) → (acc < 200000 → ∃ c, low < c ∧ c < 6 ∧ m.testBit c = true ∧ acc = d low c + Q (sw_rest m low c)) → wX_pairUp_30 post (nI m) (nI low) fp (sw_f A) (sw_f B) (sw_f L) w p l n (nI acc) (nI i) := by
  intro n
  induction n with
  | zero => intro i acc h1 h2 h3; omega
  | succ n ih =>
    intro i acc h1 h2 h3 h4 h5 h6
    refine pk_le 6 i (fun z => ?_) (fun z => ?_)
    · have e : i = 6 := by omega
      subst e
      exact H acc h4 h5 h6
    · refine sw_br0 (by omega) (by omega) (fun hb => ?_) (fun hb => ?_)
      · refine nm_r (nI_1 i) (ih (i + 1) acc (by omega) (by omega) (by omega) h4 (fun c c1 c2 c3 => ?_) h6)
        by_cases e : c = i
        · subst e
          exact absurd c3 hb
        · exact h5 c c1 (by omega) c3
      · have hr := sw_rest_lt i hlm
        have hq := hQ _ hr (sw_rest_sub m low i)
        have hdd := hd low i hl z
        have e1 : nI low * 6 + nI i = nI (low * 6 + i) := by
          rw [show (6 : Int32) = nI 6 from rfl, pk_mul, nI_add]
        refine nm_r (sw_rest_I hl z) ⟨by rw [e1]; exact vp_in_nI (by omega) (by decide), vp_in_nI (by omega) (by decide), ?_⟩
        refine nm_r (e' := nI (d low i + Q (sw_rest m low i))) ?_ ?_
        · rw [e1, nI_clamp (show low * 6 + i < 2 ^ 31 by omega), nI_clamp (show sw_rest m low i < 2 ^ 31 by omega), sw_Rp_at R hl z, hq.1, nI_add]
        · refine pk_le acc (d low i + Q (sw_rest m low i)) (fun k => ?_) (fun k => ?_)
          · refine nm_r (nI_1 i) (ih (i + 1) acc (by omega) (by omega) (by omega) h4 (fun c c1 c2 c3 => ?_) h6)
            by_cases e : c = i
            · subst e
              exact k
            · exact h5 c c1 (by omega) c3
          · refine nm_r (nI_1 i) (ih (i + 1) _ (by omega) (by omega) (by omega) (by omega) (fun c c1 c2 c3 => ?_) (fun _ => ⟨i, h1, z, hb, rfl⟩))
            by_cases e : c = i
            · subst e
              exact Nat.le_refl _
            · have := h5 c c1 (by omega) c3
              omega
theorem sw_xpu_2 {post : Int32 → Prop} {m : Nat} (hm : m < 64) (h0 : m ≠ 0) (H : ∀ low, low < 6 → m.testBit low = true → (∀ i, i < low → m.testBit i = false) → ∃ n, wX_pairUp_30 post (nI m) (nI low) fp (sw_f A) (sw_f B) (sw_f L) w p l n (nI 200000) (nI (low + 1))) : ∀ n i, i ≤ 6 → 6 < n + i → (∀ j, j < i → m.testBit j = false) → wX_pairUp_2 post (nI m) fp (sw_f A) (sw_f B) (sw_f L) w p l n (nI i) := by
  intro n
  induction n with
  | zero => intro i hi h; omega
  | succ n ih =>
    intro i hi h hj
    refine pk_le 6 i (fun z => ?_) (fun z => ?_)
    · exfalso
      obtain ⟨j, hj'⟩ := Nat.exists_testBit_of_ne_zero h0
      rcases Nat.lt_or_ge j 6 with y | y
      · rw [hj j (by omega)] at hj'
        exact absurd hj' (by decide)
      · rw [Nat.testBit_lt_two_pow (show m < 2 ^ j from Nat.lt_of_lt_of_le hm (show 2 ^ 6 ≤ 2 ^ j from Nat.pow_le_pow_right (by decide) y))] at hj'
        exact absurd hj' (by decide)
    · refine sw_br0 (by omega) (by omega) (fun hb => ?_) (fun hb => ?_)
      · refine nm_r (nI_1 i) (ih (i + 1) (by omega) (by omega) (fun j hj2 => ?_))
        by_cases e : j = i
        · subst e
          exact Bool.eq_false_iff.mpr hb
        · exact hj j (by omega)
      · exact nm_r (nI_1 i) (H i z hb hj)
theorem sw_xpu {post : Int32 → Prop} {d : Nat → Nat → Nat} {m : Nat} (hA : ∀ s, A s < 6) (hB : ∀ s, B s < 6) (hn : ∀ s, s < 10 → G.testBit s = true → A s ≠ B s) (R : sw_Rp w d 36) (M : sw_M A B L G d) (hm : m < 64) (h0 : m ≠ 0) (hQ : sw_Q A B L G m m p) (H : ∀ q, q ≤ 200000 → sw_J A B L G m q → post (nI q)) : wpX_pairUp post (fp, sw_f A, sw_f B, sw_f L, w, p, l) (nI m) := by
  have hQ' : ∀ k, k < m → sw_sub k m → p k = nI ((p k).toNatClampNeg) ∧ (p k).toNatClampNeg ≤ 200000 ∧ sw_J A B L G k ((p k).toNatClampNeg) := by
    intro k k1 k2
    obtain ⟨q, e, h1, h2⟩ := hQ k k1 k2
    rw [e, nI_clamp (by omega)]
    exact ⟨rfl, h1, h2⟩
  refine ⟨7, sw_xpu_2 hm h0 (fun low hl hlm hlow => ⟨7, ?_⟩) 7 0 (by omega) (by omega) (fun j hj => absurd hj (Nat.not_lt_zero j))⟩
  refine sw_xpu_30 (Q := fun k => (p k).toNatClampNeg) hm hl hlm R M.1.2.1 (fun k k1 k2 => ⟨(hQ' k k1 k2).1, (hQ' k k1 k2).2.1⟩) (fun acc a1 a2 a3 => H acc a1 ?_) 7 (low + 1) 200000 (by omega) (by omega) (by omega) (by omega) (fun c c1 c2 => absurd c1 (by omega)) (fun z => absurd z (by omega))
  exact sw_J_pair (Q := fun k => (p k).toNatClampNeg) hA hB hn M hl hlm hlow hm (fun k k1 k2 => (hQ' k k1 k2).2.2) a2 a3
theorem sw_xj_14 {post : Int32 → SX → Prop} {d : Nat → Nat → Nat} {T : Nat} (hA : ∀ s, A s < 6) (hB : ∀ s, B s < 6) (hn : ∀ s, s < 10 → G.testBit s = true → A s ≠ B s) (R : sw_Rp w d 36) (M : sw_M A B L G d) (hT : T < 64) (H : ∀ q p', q ≤ 200000 → sw_J A B L G T q → post (nI q) (fp, sw_f A, sw_f B, sw_f L, w, p', l)) : ∀ n m p, 1 ≤ m → m ≤ 64 → 64 < n + m → sw_Q A B L G T m p → wX_join_14 post (nI T) fp n (nI m) (sw_f A) (sw_f B) (sw_f L) w p l := by
  intro n
  induction n with
  | zero => intro m p h1 h2 h3; omega
  | succ n ih =>
    intro m p h1 h2 h3 hQ
    refine pk_le 64 m (fun z => ?_) (fun z => ?_)
    · obtain ⟨q, e, q1, q2⟩ := hQ T (by omega) (sw_sub_r T)
      refine ⟨vp_in_nI hT (by decide), ?_⟩
      rw [nI_clamp (by omega), e]
      exact H q p q1 q2
    · refine ⟨vp_in_nI z (by decide), nm_r (sw_upd_e (by omega)) ?_⟩
      have hlow : ∀ (x : Int32) k, k < m → upd p m x k = p k := fun x k hk => pk_un (by omega)
      refine sw_brz _ (sw_not m T) (Nat.lt_trans (sw_an_lt z) (by decide)) (fun y => ?_) (fun y => ?_)
      · have hsub := (sw_an_0 m T).mp y
        refine sw_xpu hA hB hn R M z (by omega) ?_ (fun q q1 q2 => ?_)
        · intro k k1 k2
          rw [hlow _ k k1]
          exact hQ k k1 (sw_sub_tr k2 hsub)
        · refine ⟨vp_in_nI z (by decide), nm_r (sw_upd_e (by omega)) (nm_r (nI_1 m) (ih (m + 1) _ (by omega) (by omega) (by omega) ?_))⟩
          intro k k1 k2
          by_cases e : k = m
          · subst e
            exact ⟨q, pk_us, q1, q2⟩
          · rw [pk_un e, pk_un e]
            exact hQ k (by omega) k2
      · refine nm_r (nI_1 m) (ih (m + 1) _ (by omega) (by omega) (by omega) ?_)
        intro k k1 k2
        by_cases e : k = m
        · subst e
          exact absurd ((sw_an_0 k T).mpr k2) y
        · rw [hlow _ k (by omega)]
          exact hQ k (by omega) k2
theorem sw_xjoin {post : Int32 → SX → Prop} {T : Nat} {x y : Int32} (ex : x = nI T) (ey : y = nI G) (hG : G < 1024) (hT : T < 64) (hA : ∀ s, A s < 6) (hB : ∀ s, B s < 6) (hL : ∀ s, L s ≤ 20) (hn : ∀ s, s < 10 → G.testBit s = true → A s ≠ B s) (H : ∀ q w' p', q ≤ 200000 → sw_J A B L G T q → post (nI q) (fp, sw_f A, sw_f B, sw_f L, w', p', l)) : wpX_join post (fp, sw_f A, sw_f B, sw_f L, w, p, l) x y := by
  subst ex ey
  unfold wpX_join
  refine sw_xmea hG hA hB hL (fun w' d R M => ?_)
  refine nm_e ⟨64, sw_xj_14 hA hB hn R M hT (fun q p' => H q w' p') 64 1 _ (by omega) (by omega) (by omega) ?_⟩
  intro k k1 _
  have e : k = 0 := by omega
  subst e
  exact ⟨0, pk_us, by omega, sw_J_0 A B L G⟩
end
end
section
/-! ===== the component's answers on extra sets ===== -/
section
variable {P : Nat} {A B L : Nat → Nat} {w p l : Nat → Int32}
theorem sw_J_P {A B L : Nat → Nat} {P q : Nat} (hL : ∀ s, L s ≤ 20) (J : sw_J A B L P (sw_od A B P 10) q) : q ≤ 200 := by
  have h1 := J.1 P (sw_sub_r P) rfl
  have h2 := sw_ln_le hL P 10
  omega
theorem sw_xextra {post : Int32 → SX → Prop} (hP : P < 1024) (hA : ∀ s, A s < 6) (hB : ∀ s, B s < 6) (hL : ∀ s, L s ≤ 20) (hn : ∀ s, s < 10 → P.testBit s = true → A s ≠ B s) (H : ∀ q w' p', q ≤ 200 → sw_J A B L P (sw_od A B P 10) q → post (nI q) (nI P, sw_f A, sw_f B, sw_f L, w', p', l)) : wpX_extra post (nI P, sw_f A, sw_f B, sw_f L, w, p, l) := by
  unfold wpX_extra
  refine sw_xodd hP hA hB hn ?_
  refine sw_xjoin rfl rfl hP (sw_od_lt hA hB P 10) hA hB hL hn (fun q w' p' _ J => ?_)
  have hq := sw_J_P hL J
  exact pk_le 100000 q (fun z => absurd z (by omega)) (fun _ => H q w' p' hq J)
theorem sw_xb_34 {post : Int32 → SX → Prop} (hP : P < 1024) (hA : ∀ s, A s < 6) (hB : ∀ s, B s < 6) (hL : ∀ s, L s ≤ 20) (hn : ∀ s, s < 10 → P.testBit s = true → A s ≠ B s) (H : ∀ b w' p', sw_B A B L P b → post (nI b) (nI P, sw_f A, sw_f B, sw_f L, w', p', l)) : ∀ n s want least op ch w p, s ≤ 10 → 10 < n + s → want < 64 → op < 1024 → ch < 1024 → sw_G A B L P s want least op ch → wX_bestSet_34 post n (nI want) (nI least) (nI op) (nI ch) (nI s) (nI P) (sw_f A) (sw_f B) (sw_f L) w p l := by
  intro n
  induction n with
  | zero => intro s want least op ch w p hi h; omega
  | succ n ih =>
    intro s want least op ch w p hi h hw hop hch g
    refine pk_le 10 s (fun z => ?_) (fun z => ?_)
    · have e : s = 10 := by omega
      subst e
      exact H ch w p (sw_G_end hP g)
    · refine sw_has hP z (fun hb => br_f (by decide) ?_) (fun hb => br_t rfl ?_)
      · have eop : nI op &&& (((1 : Int32) <<< (nI s &&& 31)) ^^^ (-1)) = nI (sw_an op (2 ^ s)) := by
          rw [sw_1 (by omega), sw_not]
        have hop' : sw_an op (2 ^ s) < 1024 := sw_an_lt hop
        have hsub : sw_sub (sw_an op (2 ^ s)) P := by
          intro i hi
          have h1 := sw_an_sub _ _ i hi
          rw [g.1 i] at h1
          revert h1
          cases P.testBit i <;> simp
        refine nm_r eop ?_
        refine sw_xjoin rfl rfl hop' hw hA hB hL (fun t ht hb' => hn t ht (hsub t hb')) (fun q w' p' q1 J => ?_)
        have hl := g.2.2.2.2.1
        refine pk_eq q least (fun e => ?_) (fun e => ?_)
        · subst e
          exact nm_r (nI_1 s) (ih (s + 1) want q (sw_an op (2 ^ s)) ch w' p' (by omega) (by omega) hw hop' hch (sw_G_out g J))
        · obtain ⟨g1, g2⟩ := sw_G_in z hb g J e
          have hcs : ch.testBit s = false := by
            cases y : ch.testBit s
            · rfl
            · have := (g.2.1 s y).2
              omega
          have ech : nI ch ||| ((1 : Int32) <<< (nI s &&& 31)) = nI (ch ^^^ 2 ^ s) := by
            rw [sw_1 (by omega), sw_or]
            congr 1
            apply Nat.eq_of_testBit_eq
            intro i
            rw [Nat.testBit_or, Nat.testBit_xor]
            by_cases ei : s = i
            · subst ei
              rw [hcs, Nat.testBit_two_pow_self]
              rfl
            · rw [Nat.testBit_two_pow_of_ne ei]
              simp
          refine nm_r ech ?_
          refine sw_ends hA hB z ?_
          refine nm_r (e' := nI (want ^^^ sw_e A B s)) (by rw [nx_xor, sw_en_e (hn s z hb)]) ⟨vp_in_nI z (by decide), ?_⟩
          refine nm_r (e' := nI (least - L s)) (by rw [sw_rd (by omega), pk_sub g1]) (nm_r (nI_1 s) ?_)
          exact ih (s + 1) _ _ _ _ w' p' (by omega) (by omega) (Nat.xor_lt_two_pow (n := 6) hw (sw_e_lt hA hB s)) hop' (Nat.xor_lt_two_pow (n := 10) hch (Nat.pow_lt_pow_right (by omega) z)) g2
      · exact nm_r (nI_1 s) (ih (s + 1) want least op ch w p (by omega) (by omega) hw hop hch (sw_G_no g (Bool.eq_false_iff.mpr hb)))
theorem sw_xbest {post : Int32 → SX → Prop} (hP : P < 1024) (hA : ∀ s, A s < 6) (hB : ∀ s, B s < 6) (hL : ∀ s, L s ≤ 20) (hn : ∀ s, s < 10 → P.testBit s = true → A s ≠ B s) (H : ∀ b w' p', sw_B A B L P b → post (nI b) (nI P, sw_f A, sw_f B, sw_f L, w', p', l)) : wpX_bestSet post (nI P, sw_f A, sw_f B, sw_f L, w, p, l) := by
  unfold wpX_bestSet
  refine sw_xodd hP hA hB hn ?_
  refine sw_xjoin rfl rfl hP (sw_od_lt hA hB P 10) hA hB hL hn (fun q w' p' _ J => ?_)
  have hq := sw_J_P hL J
  refine pk_lt q 100000 (fun _ => ?_) (fun z => absurd z (by omega))
  exact ⟨11, sw_xb_34 hP hA hB hL hn H 11 0 _ q P 0 w' p' (by omega) (by omega) (sw_od_lt hA hB P 10) hP (by decide) (sw_G_0 J (by omega))⟩
theorem sw_cls (P : Nat) (x : Int32) : (∃ s, s < 10 ∧ x = nI s ∧ P.testBit s = true) ∨ (∀ s, s < 10 → x = nI s → ¬ P.testBit s = true) := by
  by_cases h : ∃ s, s < 10 ∧ x = nI s ∧ P.testBit s = true
  · exact Or.inl h
  · exact Or.inr fun s h1 h2 h3 => h ⟨s, h1, h2, h3⟩
theorem sw_hasN {post : Int32 → Prop} (hP : P < 1024) {x : Int32} (hx : ∀ s, s < 10 → x = nI s → ¬ P.testBit s = true) (f : post 0) : wpX_has post (nI P, sw_f A, sw_f B, sw_f L, w, p, l) x :=
  sw_has' hP x (fun s h1 h2 h3 => absurd h3 (hx s h1 h2)) f
theorem sw_off_I {s : Nat} (hs : s < 10) : nI P &&& (((1 : Int32) <<< (nI s &&& 31)) ^^^ (-1)) = nI (sw_an P (2 ^ s)) := by
  rw [sw_1 (by omega), sw_not]
theorem sw_xwith {post : Int32 → SX → Prop} (hP : P < 1024) (hA : ∀ s, A s < 6) (hB : ∀ s, B s < 6) (hL : ∀ s, L s ≤ 20) (hn : ∀ s, s < 10 → P.testBit s = true → A s ≠ B s) {s : Nat} (hs : s < 10) (hPs : P.testBit s = true)
    (H : ∀ q w' p', sw_J A B L (sw_an P (2 ^ s)) (sw_od A B P 10 ^^^ sw_e A B s) q → (100000 ≤ q → post (-1) (nI P, sw_f A, sw_f B, sw_f L, w', p', l)) ∧ (q < 100000 → post (nI (q + L s)) (nI P, sw_f A, sw_f B, sw_f L, w', p', l))) : wpX_extraWith post (nI P, sw_f A, sw_f B, sw_f L, w, p, l) (nI s) := by
  unfold wpX_extraWith
  refine sw_has hP hs (fun _ => br_f (by decide) ?_) (fun hb => absurd hPs hb)
  refine sw_xodd hP hA hB hn ?_
  refine sw_ends hA hB hs ?_
  refine nm_r (e' := nI (sw_od A B P 10 ^^^ sw_e A B s)) (by rw [nx_xor, sw_en_e (hn s hs hPs)]) ?_
  refine sw_xjoin rfl (sw_off_I hs) (sw_an_lt hP) (Nat.xor_lt_two_pow (n := 6) (sw_od_lt hA hB P 10) (sw_e_lt hA hB s)) hA hB hL (fun t ht hb => hn t ht (sw_an_sub _ _ t hb)) (fun q w' p' q1 J => ?_)
  have h := H q w' p' J
  refine pk_le 100000 q (fun z => h.1 z) (fun z => ⟨vp_in_nI hs (by decide), ?_⟩)
  rw [sw_rd (by omega), nI_add]
  exact h.2 z
theorem sw_xwo {post : Int32 → SX → Prop} (hP : P < 1024) (hA : ∀ s, A s < 6) (hB : ∀ s, B s < 6) (hL : ∀ s, L s ≤ 20) (hn : ∀ s, s < 10 → P.testBit s = true → A s ≠ B s) {s : Nat} (hs : s < 10) (hPs : P.testBit s = true)
    (H : ∀ q w' p', sw_J A B L (sw_an P (2 ^ s)) (sw_od A B P 10) q → (100000 ≤ q → post (-1) (nI P, sw_f A, sw_f B, sw_f L, w', p', l)) ∧ (q < 100000 → post (nI q) (nI P, sw_f A, sw_f B, sw_f L, w', p', l))) : wpX_extraWithout post (nI P, sw_f A, sw_f B, sw_f L, w, p, l) (nI s) := by
  unfold wpX_extraWithout
  refine sw_has hP hs (fun _ => br_f (by decide) ?_) (fun hb => absurd hPs hb)
  refine sw_xodd hP hA hB hn ?_
  refine sw_xjoin rfl (sw_off_I hs) (sw_an_lt hP) (sw_od_lt hA hB P 10) hA hB hL (fun t ht hb => hn t ht (sw_an_sub _ _ t hb)) (fun q w' p' q1 J => ?_)
  have h := H q w' p' J
  exact pk_le 100000 q (fun z => h.1 z) (fun z => h.2 z)
theorem sw_xwl_20 {post : Int32 → SX → Prop} {q : Nat} (hP : P < 1024) (H : post (nI (q + sw_ln L P 10)) (nI P, sw_f A, sw_f B, sw_f L, w, p, l)) : ∀ n i, i ≤ 10 → 10 < n + i → wX_walkLength_20 post (nI P) (sw_f A) (sw_f B) (sw_f L) w p l n (nI (q + sw_ln L P i)) (nI i) := by
  intro n
  induction n with
  | zero => intro i hi h; omega
  | succ n ih =>
    intro i hi h
    refine pk_le 10 i (fun z => ?_) (fun z => ?_)
    · have e : i = 10 := by omega
      subst e
      exact H
    · have ih' := ih (i + 1) (by omega) (by omega)
      have e : sw_ln L P (i + 1) = sw_ln L P i + (if P.testBit i = true then L i else 0) := rfl
      refine sw_has hP z (fun hb => br_f (by decide) ⟨vp_in_nI z (by decide), ?_⟩) (fun hb => br_t rfl ?_)
      · rw [if_pos hb] at e
        rw [e] at ih'
        exact nm_r (e' := nI (q + (sw_ln L P i + L i))) (by rw [sw_rd (by omega), nI_add, Nat.add_assoc]) (nm_r (nI_1 i) ih')
      · rw [if_neg hb, Nat.add_zero] at e
        rw [e] at ih'
        exact nm_r (nI_1 i) ih'
theorem sw_xwl {post : Int32 → SX → Prop} (hP : P < 1024) (hA : ∀ s, A s < 6) (hB : ∀ s, B s < 6) (hL : ∀ s, L s ≤ 20) (hn : ∀ s, s < 10 → P.testBit s = true → A s ≠ B s) (H : ∀ q w' p', q ≤ 200 → sw_J A B L P (sw_od A B P 10) q → (sw_co A B P → post (nI (q + sw_ln L P 10)) (nI P, sw_f A, sw_f B, sw_f L, w', p', l)) ∧ (¬ sw_co A B P → post (-1) (nI P, sw_f A, sw_f B, sw_f L, w', p', l))) : wpX_walkLength post (nI P, sw_f A, sw_f B, sw_f L, w, p, l) := by
  unfold wpX_walkLength
  refine sw_xextra hP hA hB hL hn (fun q w' p' hq J => ?_)
  have h := H q w' p' hq J
  refine br_f (nI_pos (by omega)) ?_
  refine sw_xcon hP hA hB (fun hc => br_f (by decide) ?_) (fun hc => br_t rfl (h.2 hc))
  exact ⟨11, sw_xwl_20 (q := q) hP (h.1 hc) 11 0 (by omega) (by omega)⟩
theorem sw_isc {post : Int32 → Prop} {c : Nat} (hc : c < 6) (h : post 1) : wpX_isCorner post (nI c) := by
  unfold wpX_isCorner
  exact br_f (nI_pos (by omega)) (pk_le 6 c (fun z => absurd z (by omega)) (fun _ => h))
theorem sw_iscN {post : Int32 → Prop} {x : Int32} (hx : ∀ c, c < 6 → x ≠ nI c) (h : post 0) : wpX_isCorner post x := by
  unfold wpX_isCorner
  rcases pk_ix x (n := 6) (by decide) with z | z | ⟨c, hc, e⟩
  · exact br_t z h
  · exact br_c (fun _ => h) (fun _ => br_t z h)
  · exact absurd e (hx c hc)
theorem sw_cor (x : Int32) : (∃ c, c < 6 ∧ x = nI c) ∨ (∀ c, c < 6 → x ≠ nI c) := by
  by_cases h : ∃ c, c < 6 ∧ x = nI c
  · exact Or.inl h
  · exact Or.inr fun c h1 h2 => h ⟨c, h1, h2⟩
end
end
section
/-! ===== what is left of the walk; the component's next street ===== -/
/-- the streets with something left, below n -/
def sw_sl (F : Nat → Nat) : Nat → Nat
  | 0 => 0
  | n + 1 => if 0 < F n then sw_sl F n ||| 2 ^ n else sw_sl F n
theorem sw_sl_lt (F : Nat → Nat) : ∀ n, n ≤ 10 → sw_sl F n < 1024 := by
  intro n
  induction n with
  | zero => exact fun _ => (by decide : 0 < 1024)
  | succ n ih =>
    intro hn
    show (if 0 < F n then sw_sl F n ||| 2 ^ n else sw_sl F n) < 1024
    split
    · exact Nat.or_lt_two_pow (n := 10) (ih (by omega)) (Nat.pow_lt_pow_right (by omega) (by omega))
    · exact ih (by omega)
theorem sw_sl_c {F F' : Nat → Nat} : ∀ n, (∀ s, s < n → F s = F' s) → sw_sl F n = sw_sl F' n := by
  intro n
  induction n with
  | zero => exact fun _ => rfl
  | succ n ih =>
    intro h
    show (if 0 < F n then sw_sl F n ||| 2 ^ n else sw_sl F n) = (if 0 < F' n then sw_sl F' n ||| 2 ^ n else sw_sl F' n)
    rw [ih (fun s hs => h s (by omega)), h n (by omega)]
/-- the streets left when s is gone along once -/
def sw_rs (F : Nat → Nat) (s : Nat) : Nat := sw_sl (sw_u F s (F s - 1)) 10
/-- the other end -/
def sw_ot (A B : Nat → Nat) (c s : Nat) : Nat := A s + B s - c
/-- street s can be gone along from c -/
def sw_go (A B F : Nat → Nat) (c s : Nat) : Prop := 0 < F s ∧ (A s = c ∨ B s = c) ∧ ∀ t, t < 10 → (sw_rs F s).testBit t = true → (sw_ro A B (sw_rs F s) (2 ^ sw_ot A B c s) 6).testBit (A t) = true
theorem sw_ot_lt {A B : Nat → Nat} (hA : ∀ s, A s < 6) (hB : ∀ s, B s < 6) {c s : Nat} (h : A s = c ∨ B s = c) : sw_ot A B c s < 6 := by
  have := hA s
  have := hB s
  unfold sw_ot
  omega
/-- the array holds F -/
def sw_Lf (l : Nat → Int32) (F : Nat → Nat) : Prop := ∀ s, s < 10 → l s = nI (F s) ∧ F s ≤ 2
theorem sw_Lf_dec {l : Nat → Int32} {F : Nat → Nat} (h : sw_Lf l F) (s : Nat) : sw_Lf (upd l s (nI (F s - 1))) (sw_u F s (F s - 1)) := by
  intro t ht
  unfold sw_u
  by_cases e : t = s
  · subst e
    have := (h t ht).2
    rw [pk_us, if_pos rfl]
    exact ⟨rfl, by omega⟩
  · rw [pk_un e, if_neg e]
    exact h t ht
theorem sw_upd_back {l : Nat → Int32} {s : Nat} (x : Int32) : upd (upd l s x) s (l s) = l := by
  funext j
  unfold upd
  by_cases e : j = s
  · rw [if_pos e, e]
  · rw [if_neg e, if_neg e]
theorem sw_b_dec : ∀ f, f < 3 → 0 < f → vp_nar .byte ((nI f - 1).toInt8.toInt32) = nI (f - 1) := by
  intro f hf h0
  rw [pk_vb]
  exact (by decide +kernel : ∀ f, f < 3 → 0 < f → (nI f - 1).toInt8.toInt32 = nI (f - 1)) f hf h0
theorem sw_b_inc : ∀ f, f < 3 → 0 < f → vp_nar .byte ((nI (f - 1) + 1).toInt8.toInt32) = nI f := by
  intro f hf h0
  rw [pk_vb]
  exact (by decide +kernel : ∀ f, f < 3 → 0 < f → (nI (f - 1) + 1).toInt8.toInt32 = nI f) f hf h0
section
variable {P : Nat} {A B L : Nat → Nat} {w p l : Nat → Int32} {fp : Int32}
theorem sw_xsl_4 {post : Int32 → Prop} {F : Nat → Nat} (hl : sw_Lf l F) (H : post (nI (sw_sl F 10))) : ∀ n i, i ≤ 10 → 10 < n + i → wX_stillLeft_4 post fp (sw_f A) (sw_f B) (sw_f L) w p l n (nI (sw_sl F i)) (nI i) := by
  intro n
  induction n with
  | zero => intro i hi h; omega
  | succ n ih =>
    intro i hi h
    refine pk_le 10 i (fun z => ?_) (fun z => ?_)
    · have e : i = 10 := by omega
      subst e
      exact H
    · have ih' := ih (i + 1) (by omega) (by omega)
      have hli := hl i z
      have e : sw_sl F (i + 1) = (if 0 < F i then sw_sl F i ||| 2 ^ i else sw_sl F i) := rfl
      refine ⟨vp_in_nI z (by decide), pk_le (F i) 0 (fun k => ?_) (fun k => ?_) (hx := by rw [nI_clamp (by omega)]; exact hli.1)⟩
      · rw [if_neg (by omega)] at e
        rw [e] at ih'
        exact nm_r (nI_1 i) ih'
      · rw [if_pos (by omega)] at e
        rw [e] at ih'
        exact nm_r (e' := nI (sw_sl F i ||| 2 ^ i)) (by rw [sw_1 (by omega), sw_or]) (nm_r (nI_1 i) ih')
theorem sw_xsl {post : Int32 → Prop} {F : Nat → Nat} (hl : sw_Lf l F) (H : post (nI (sw_sl F 10))) : wpX_stillLeft post (fp, sw_f A, sw_f B, sw_f L, w, p, l) :=
  ⟨11, sw_xsl_4 hl H 11 0 (by omega) (by omega)⟩
theorem sw_xn_33 {post : Int32 → SX → Prop} {J : Int32 → (Nat → Int32) → (Nat → Int32) → (Nat → Int32) → (Nat → Int32) → (Nat → Int32) → (Nat → Int32) → Prop} {F : Nat → Nat} {c s : Nat} (hA : ∀ s, A s < 6) (hB : ∀ s, B s < 6) (hl : sw_Lf l F) (hs : s < 10) (hh : A s = c ∨ B s = c) (hg : sw_go A B F c s → post (nI s) (fp, sw_f A, sw_f B, sw_f L, w, p, l)) (hJ : ¬ sw_go A B F c s → J (nI (s + 1)) (sw_f A) (sw_f B) (sw_f L) w p l) : wX_nextStreet_33 post J (nI c) (nI s) 1 fp (sw_f A) (sw_f B) (sw_f L) w p l := by
  have hin : vp_in (nI s) 10 := vp_in_nI hs (by decide)
  have hls := hl s hs
  have ecl : (nI s).toNatClampNeg = s := nI_clamp (by omega)
  unfold wX_nextStreet_33
  rw [ecl]
  refine ⟨hin, pk_le (F s) 0 (fun k => ?_) (fun k => ?_) (hx := hls.1)⟩
  · exact nm_r (nI_1 s) (hJ (fun g => absurd g.1 (by omega)))
  · refine br_f (by decide) ⟨hin, hin, ?_⟩
    refine nm_r (e' := upd l s (nI (F s - 1))) (by rw [hls.1, sw_b_dec _ (by omega) k]) ?_
    have hl' := sw_Lf_dec hl s
    refine sw_xsl hl' ⟨hin, hin, ?_⟩
    have ho := sw_ot_lt hA hB hh
    have hcs : c ≤ A s + B s := by omega
    refine nm_r (e' := nI (sw_ot A B c s)) (by show nI (A s) + nI (B s) - nI c = _; rw [nI_add, pk_sub hcs]; rfl) ?_
    have hr : sw_rs F s < 1024 := sw_sl_lt _ 10 (by omega)
    rw [sw_1 (show sw_ot A B c s < 31 by omega)]
    refine sw_xrea (c := 2 ^ sw_ot A B c s) hr (sw_p6 ho) hA hB ⟨hin, hin, ?_⟩
    refine nm_r (e' := l) (by rw [pk_us, sw_b_inc _ (by omega) k, ← hls.1, sw_upd_back]) ?_
    refine sw_xtou hr hA hB ?_
    have hcl := sw_ro_fix hA hB (sw_rs F s) (sw_p6 ho)
    refine sw_brz _ (sw_not _ _) (Nat.lt_trans (sw_an_lt (sw_to_lt hA hB _ 10)) (by decide)) (fun y => hg ⟨k, hh, (sw_all hcl).mp y⟩) (fun y => ?_)
    exact nm_r (nI_1 s) (hJ (fun g => y ((sw_all hcl).mpr g.2.2)))
theorem sw_xn_33z {post : Int32 → SX → Prop} {J : Int32 → (Nat → Int32) → (Nat → Int32) → (Nat → Int32) → (Nat → Int32) → (Nat → Int32) → (Nat → Int32) → Prop} {c s : Nat} (hs : s < 10) (hJ : J (nI (s + 1)) (sw_f A) (sw_f B) (sw_f L) w p l) : wX_nextStreet_33 post J (nI c) (nI s) 0 fp (sw_f A) (sw_f B) (sw_f L) w p l := by
  unfold wX_nextStreet_33
  exact ⟨vp_in_nI hs (by decide), br_c (fun _ => nm_r (nI_1 s) hJ) (fun _ => br_t rfl (nm_r (nI_1 s) hJ))⟩
theorem sw_xn_2 {post : Int32 → SX → Prop} {F : Nat → Nat} {c : Nat} (hA : ∀ s, A s < 6) (hB : ∀ s, B s < 6) (hc : c < 6) (hl : sw_Lf l F) (hg : ∀ s, s < 10 → sw_go A B F c s → (∀ t, t < s → ¬ sw_go A B F c t) → post (nI s) (fp, sw_f A, sw_f B, sw_f L, w, p, l)) (h0 : (∀ t, t < 10 → ¬ sw_go A B F c t) → post (-1) (fp, sw_f A, sw_f B, sw_f L, w, p, l)) : ∀ n i, i ≤ 10 → 10 < n + i → (∀ t, t < i → ¬ sw_go A B F c t) → wX_nextStreet_2 post (nI c) fp n (nI i) (sw_f A) (sw_f B) (sw_f L) w p l := by
  intro n
  induction n with
  | zero => intro i hi h; omega
  | succ n ih =>
    intro i hi h hno
    have step : ∀ z : i < 10, ¬ sw_go A B F c i → wX_nextStreet_2 post (nI c) fp n (nI (i + 1)) (sw_f A) (sw_f B) (sw_f L) w p l := by
      intro z hi2
      refine ih (i + 1) (by omega) (by omega) (fun t ht => ?_)
      by_cases e : t = i
      · subst e
        exact hi2
      · exact hno t (by omega)
    refine pk_le 10 i (fun z => ?_) (fun z => ?_)
    · have e : i = 10 := by omega
      subst e
      exact h0 hno
    · have hAi := hA i
      have hBi := hB i
      refine ⟨vp_in_nI z (by decide), pk_eq (A i) c (fun k => ?_) (fun k => ⟨vp_in_nI z (by decide), pk_eq (B i) c (fun k2 => ?_) (fun k2 => ?_) (hx := sw_rd (by omega))⟩) (hx := sw_rd (by omega))⟩
      · exact sw_xn_33 hA hB hl z (Or.inl k) (fun g => hg i z g hno) (step z)
      · exact sw_xn_33 hA hB hl z (Or.inr k2) (fun g => hg i z g hno) (step z)
      · refine sw_xn_33z z (step z (fun g => ?_))
        rcases g.2.1 with e | e
        · exact k e
        · exact k2 e
theorem sw_xn {post : Int32 → SX → Prop} {F : Nat → Nat} {c : Nat} (hA : ∀ s, A s < 6) (hB : ∀ s, B s < 6) (hc : c < 6) (hl : sw_Lf l F) (hg : ∀ s, s < 10 → sw_go A B F c s → (∀ t, t < s → ¬ sw_go A B F c t) → post (nI s) (fp, sw_f A, sw_f B, sw_f L, w, p, l)) (h0 : (∀ t, t < 10 → ¬ sw_go A B F c t) → post (-1) (fp, sw_f A, sw_f B, sw_f L, w, p, l)) : wpX_nextStreet post (fp, sw_f A, sw_f B, sw_f L, w, p, l) (nI c) :=
  ⟨11, sw_xn_2 hA hB hc hl hg h0 11 0 (by omega) (by omega) (fun t ht => absurd ht (Nat.not_lt_zero t))⟩
end
end
section
/-! ===== the reference's scans ===== -/
def sw_th (P : Nat) : Nat → Int32 := fun s => if P.testBit s = true then 1 else 0
def sw_tb (P : Nat) : Nat → Nat := fun s => (P.testBit s).toNat
theorem sw_sl_t (F : Nat → Nat) (i : Nat) : ∀ n, (sw_sl F n).testBit i = (decide (i < n) && decide (0 < F i)) := by
  intro n
  induction n with
  | zero =>
    show (0 : Nat).testBit i = _
    rw [Nat.zero_testBit, decide_eq_false (by omega)]
    rfl
  | succ n ih =>
    show (if 0 < F n then sw_sl F n ||| 2 ^ n else sw_sl F n).testBit i = _
    rcases Nat.lt_trichotomy i n with h | h | h
    · rw [decide_eq_true h] at ih
      rw [decide_eq_true (show i < n + 1 by omega)]
      split
      · rw [Nat.testBit_or, ih, Nat.testBit_two_pow_of_ne (by omega), Bool.or_false]
      · exact ih
    · subst h
      rw [decide_eq_false (by omega)] at ih
      rw [decide_eq_true (show i < i + 1 by omega)]
      by_cases h0 : 0 < F i
      · rw [if_pos h0, Nat.testBit_or, Nat.testBit_two_pow_self, decide_eq_true h0, Bool.or_true]
        rfl
      · rw [if_neg h0, ih, decide_eq_false h0]
        rfl
    · rw [decide_eq_false (show ¬ i < n by omega)] at ih
      rw [decide_eq_false (show ¬ i < n + 1 by omega)]
      split
      · rw [Nat.testBit_or, ih, Nat.testBit_two_pow_of_ne (by omega)]
        rfl
      · rw [ih]
theorem sw_tb_P {P : Nat} (hP : P < 1024) : sw_sl (sw_tb P) 10 = P := by
  apply Nat.eq_of_testBit_eq
  intro i
  rw [sw_sl_t]
  rcases Nat.lt_or_ge i 10 with h | h
  · rw [decide_eq_true h]
    show (true && decide (0 < (P.testBit i).toNat)) = _
    cases P.testBit i <;> rfl
  · rw [sw_bit_big hP h, decide_eq_false (by omega)]
    rfl
section
variable {P : Nat} {A B L : Nat → Nat} {t l r : Nat → Int32}
theorem sw_yth {s : Nat} {C D : Prop} (hs : s < 10) (f : ¬ P.testBit s = true → C) (g : P.testBit s = true → D) : (sw_th P (nI s).toNatClampNeg = 0 → C) ∧ (¬ sw_th P (nI s).toNatClampNeg = 0 → D) := by
  rw [nI_clamp (show s < 2 ^ 31 by omega)]
  unfold sw_th
  by_cases h : P.testBit s = true
  · rw [if_pos h]
    exact br_f (by decide) (g h)
  · rw [if_neg h]
    exact br_t rfl (f h)
theorem sw_ystr_4 {post : Int32 → Prop} (hP : P < 1024) (H : post (nI P)) : ∀ n i, i ≤ 10 → 10 < n + i → wY_streets_4 post (sw_th P) (sw_f A) (sw_f B) (sw_f L) l r n (nI (sw_sl (sw_tb P) i)) (nI i) := by
  intro n
  induction n with
  | zero => intro i hi h; omega
  | succ n ih =>
    intro i hi h
    refine pk_le 10 i (fun z => ?_) (fun z => ?_)
    · have e : i = 10 := by omega
      subst e
      rw [sw_tb_P hP]
      exact H
    · have ih' := ih (i + 1) (by omega) (by omega)
      have e : sw_sl (sw_tb P) (i + 1) = (if 0 < sw_tb P i then sw_sl (sw_tb P) i ||| 2 ^ i else sw_sl (sw_tb P) i) := rfl
      refine ⟨vp_in_nI z (by decide), sw_yth z (fun hb => ?_) (fun hb => ?_)⟩
      · have h0 : ¬ 0 < sw_tb P i := by
          unfold sw_tb
          rw [Bool.eq_false_iff.mpr hb]
          decide
        rw [if_neg h0] at e
        rw [e] at ih'
        exact nm_r (e' := nI (sw_sl (sw_tb P) i)) (by rw [show (0 : Int32) = nI 0 from rfl, sw_or, Nat.or_zero]) (nm_r (nI_1 i) ih')
      · have h0 : 0 < sw_tb P i := by
          unfold sw_tb
          rw [hb]
          decide
        rw [if_pos h0] at e
        rw [e] at ih'
        exact nm_r (e' := nI (sw_sl (sw_tb P) i ||| 2 ^ i)) (by rw [sw_1 (by omega), sw_or]) (nm_r (nI_1 i) ih')
theorem sw_ystr {post : Int32 → Prop} (hP : P < 1024) (H : post (nI P)) : wpY_streets post (sw_th P, sw_f A, sw_f B, sw_f L, l, r) :=
  ⟨11, sw_ystr_4 hP H 11 0 (by omega) (by omega)⟩
theorem sw_yodd_4 {post : Int32 → Prop} {S : Nat} (hS : S < 1024) (hA : ∀ s, A s < 6) (hB : ∀ s, B s < 6) (H : post (nI (sw_od A B S 10))) : ∀ n i, i ≤ 10 → 10 < n + i → wY_oddOf_4 post (nI S) t (sw_f A) (sw_f B) (sw_f L) l r n (nI (sw_od A B S i)) (nI i) := by
  intro n
  induction n with
  | zero => intro i hi h; omega
  | succ n ih =>
    intro i hi h
    refine pk_le 10 i (fun z => ?_) (fun z => ?_)
    · have e : i = 10 := by omega
      subst e
      exact H
    · have ih' := ih (i + 1) (by omega) (by omega)
      have e : sw_od A B S (i + 1) = sw_od A B S i ^^^ (if S.testBit i = true then sw_e A B i else 0) := rfl
      refine sw_br1 (by omega) (by omega) (fun hb => ?_) (fun hb => ?_)
      · rw [if_pos hb] at e
        rw [e] at ih'
        have h1 := hA i
        have h2 := hB i
        refine ⟨vp_in_nI z (by decide), vp_in_nI z (by decide), nm_r (e' := nI (sw_od A B S i ^^^ sw_e A B i)) ?_ (nm_r (nI_1 i) ih')⟩
        rw [sw_rd (by omega), sw_rd (by omega), sw_1 (by omega), sw_1 (by omega), nx_xor, nx_xor, Nat.xor_assoc]
        rfl
      · rw [if_neg hb, Nat.xor_zero] at e
        rw [e] at ih'
        exact nm_r (nI_1 i) ih'
theorem sw_yoddOf {post : Int32 → Prop} {S : Nat} (hS : S < 1024) (hA : ∀ s, A s < 6) (hB : ∀ s, B s < 6) (H : post (nI (sw_od A B S 10))) : wpY_oddOf post (t, sw_f A, sw_f B, sw_f L, l, r) (nI S) :=
  ⟨11, sw_yodd_4 hS hA hB H 11 0 (by omega) (by omega)⟩
theorem sw_yodd {post : Int32 → Prop} (hP : P < 1024) (hA : ∀ s, A s < 6) (hB : ∀ s, B s < 6) (H : post (nI (sw_od A B P 10))) : wpY_odd post (sw_th P, sw_f A, sw_f B, sw_f L, l, r) := by
  unfold wpY_odd
  refine sw_ystr hP ?_
  exact sw_yoddOf hP hA hB H
theorem sw_yrea_17 {post : Int32 → Prop} {J : Int32 → Int32 → Prop} {S c k : Nat} (hS : S < 1024) (hc : c < 64) (hA : ∀ s, A s < 6) (hB : ∀ s, B s < 6) (hJ : J (nI (sw_ri A B S c 10)) (nI (k + 1))) : ∀ n i, i ≤ 10 → 10 < n + i → wY_reached_17 post J (nI S) (nI k) t (sw_f A) (sw_f B) (sw_f L) l r n (nI (sw_ri A B S c i)) (nI i) := by
  intro n
  induction n with
  | zero => intro i hi h; omega
  | succ n ih =>
    intro i hi h
    have hlt := sw_ri_lt hA hB S hc i
    refine pk_le 10 i (fun z => ?_) (fun z => ?_)
    · have e : i = 10 := by omega
      subst e
      exact nm_r (nI_1 k) hJ
    · have ih' := ih (i + 1) (by omega) (by omega)
      have h1 := hA i
      have h2 := hB i
      refine ⟨vp_in_nI z (by decide), vp_in_nI z (by decide), nm_r (e' := nI (sw_en A B i)) ?_ ?_⟩
      · rw [sw_rd (by omega), sw_rd (by omega), sw_1 (by omega), sw_1 (by omega), sw_or]
        rfl
      · refine sw_br1 (by omega) (by omega) (fun hb => ?_) (fun hb => ?_)
        · have hand : sw_en A B i &&& sw_ri A B S c i < 64 := Nat.and_lt_two_pow (n := 6) _ hlt
          refine sw_brz (a := sw_en A B i &&& sw_ri A B S c i) _ (by rw [nx_and, Nat.and_comm]) (by omega) (fun y => ?_) (fun y => ?_)
          · have e : sw_ri A B S c (i + 1) = sw_ri A B S c i := if_neg (fun x => x.2 y)
            rw [e] at ih'
            exact nm_r (nI_1 i) ih'
          · have e : sw_ri A B S c (i + 1) = sw_ri A B S c i ||| sw_en A B i := if_pos ⟨hb, y⟩
            rw [e] at ih'
            exact nm_r (sw_or _ _) (nm_r (nI_1 i) ih')
        · have e : sw_ri A B S c (i + 1) = sw_ri A B S c i := if_neg (fun y => hb y.1)
          rw [e] at ih'
          exact nm_r (nI_1 i) ih'
theorem sw_yrea_7 {post : Int32 → Prop} {S c : Nat} (hS : S < 1024) (hc : c < 64) (hA : ∀ s, A s < 6) (hB : ∀ s, B s < 6) (hp : post (nI (sw_ro A B S c 6))) : ∀ n i, i ≤ 6 → 6 < n + i → wY_reached_7 post (nI S) t (sw_f A) (sw_f B) (sw_f L) l r n (nI (sw_ro A B S c i)) (nI i) := by
  intro n
  induction n with
  | zero => intro i hi h; omega
  | succ n ih =>
    intro i hi h
    refine pk_le 6 i (fun z => ?_) (fun z => ?_)
    · have e : i = 6 := by omega
      subst e
      exact hp
    · exact ⟨11, sw_yrea_17 hS (sw_ro_lt hA hB S hc i) hA hB (ih (i + 1) (by omega) (by omega)) 11 0 (by omega) (by omega)⟩
theorem sw_yrea {post : Int32 → Prop} {S c : Nat} {x : Int32} (ex : x = nI c) (hS : S < 1024) (hc : c < 6) (hA : ∀ s, A s < 6) (hB : ∀ s, B s < 6) (hp : post (nI (sw_ro A B S (2 ^ c) 6))) : wpY_reached post (t, sw_f A, sw_f B, sw_f L, l, r) x (nI S) := by
  subst ex
  unfold wpY_reached
  exact nm_r (sw_1 (by omega)) ⟨7, sw_yrea_7 hS (sw_p6 hc) hA hB hp 7 0 (by omega) (by omega)⟩
theorem sw_yall_13 {post : Int32 → Prop} {S R : Nat} (hS : S < 1024) (hR : R < 64) (hA : ∀ s, A s < 6) (h1 : (∀ s, s < 10 → S.testBit s = true → R.testBit (A s) = true) → post 1) (h0 : ¬ (∀ s, s < 10 → S.testBit s = true → R.testBit (A s) = true) → post 0) : ∀ n i x, i ≤ 10 → 10 < n + i → ((x = 1 ∧ ∀ s, s < i → S.testBit s = true → R.testBit (A s) = true) ∨ (x = 0 ∧ ¬ (∀ s, s < 10 → S.testBit s = true → R.testBit (A s) = true))) → wY_allFrom_13 post (nI S) (nI R) t (sw_f A) (sw_f B) (sw_f L) l r n x (nI i) := by
  intro n
  induction n with
  | zero => intro i x hi h; omega
  | succ n ih =>
    intro i x hi h hx
    refine pk_le 10 i (fun z => ?_) (fun z => ?_)
    · have e : i = 10 := by omega
      subst e
      rcases hx with ⟨rfl, hx⟩ | ⟨rfl, hx⟩
      · exact ⟨narrow_b1, h1 hx⟩
      · exact ⟨narrow_b0, h0 hx⟩
    · have h2 := hA i
      rcases hx with ⟨rfl, hx⟩ | ⟨rfl, hx⟩
      · refine br_f (by decide) (sw_br0 (by omega) (by omega) (fun hb => ?_) (fun hb => ⟨vp_in_nI z (by decide), ?_⟩))
        · refine nm_r (nI_1 i) (ih (i + 1) 1 (by omega) (by omega) (Or.inl ⟨rfl, fun s hs g => ?_⟩))
          by_cases e : s = i
          · subst e
            exact absurd g hb
          · exact hx s (by omega) g
        · rw [sw_rd (by omega)]
          refine sw_br1 (by omega) (by omega) (fun hc => ?_) (fun hc => ?_)
          · refine nm_r (nI_1 i) (ih (i + 1) 1 (by omega) (by omega) (Or.inl ⟨rfl, fun s hs g => ?_⟩))
            by_cases e : s = i
            · subst e
              exact hc
            · exact hx s (by omega) g
          · exact nm_r (nI_1 i) (ih (i + 1) 0 (by omega) (by omega) (Or.inr ⟨rfl, fun g => hc (g i z hb)⟩))
      · exact br_t rfl (nm_r (nI_1 i) (ih (i + 1) 0 (by omega) (by omega) (Or.inr ⟨rfl, hx⟩)))
theorem sw_yall {post : Int32 → Prop} {S c : Nat} {x : Int32} (ex : x = nI c) (hS : S < 1024) (hc : c < 6) (hA : ∀ s, A s < 6) (hB : ∀ s, B s < 6) (h1 : (∀ s, s < 10 → S.testBit s = true → (sw_ro A B S (2 ^ c) 6).testBit (A s) = true) → post 1) (h0 : ¬ (∀ s, s < 10 → S.testBit s = true → (sw_ro A B S (2 ^ c) 6).testBit (A s) = true) → post 0) : wpY_allFrom post (t, sw_f A, sw_f B, sw_f L, l, r) x (nI S) := by
  unfold wpY_allFrom
  refine sw_yrea ex hS hc hA hB ?_
  exact ⟨11, sw_yall_13 hS (sw_ro_lt hA hB S (sw_p6 hc) 6) hA h1 h0 11 0 1 (by omega) (by omega) (Or.inl ⟨rfl, fun s hs => absurd hs (Nat.not_lt_zero s)⟩)⟩
theorem sw_ycon_7 {post : Int32 → Prop} (hP : P < 1024) (hA : ∀ s, A s < 6) (hB : ∀ s, B s < 6) (h1 : sw_co A B P → post 1) (h0 : ¬ sw_co A B P → post 0) : ∀ n i, i ≤ 10 → 10 < n + i → (∀ s, s < i → ¬ P.testBit s = true) → wY_connected_7 post (nI P) (sw_th P) (sw_f A) (sw_f B) (sw_f L) l r n (nI i) := by
  intro n
  induction n with
  | zero => intro i hi h; omega
  | succ n ih =>
    intro i hi h hno
    refine pk_le 10 i (fun z => ?_) (fun z => ⟨vp_in_nI z (by decide), sw_yth z (fun hb => ?_) (fun hb => ?_)⟩)
    · exact h1 (fun s hs g => absurd g (hno s (by omega)))
    · refine nm_r (nI_1 i) (ih (i + 1) (by omega) (by omega) (fun s hs => ?_))
      by_cases e : s = i
      · subst e
        exact hb
      · exact hno s (by omega)
    · have hcl := sw_ro_fix hA hB P (sw_p6 (hA i))
      have hto : (sw_to A B P 10).testBit (A i) = true := (sw_to_t A B P (A i) 10).mpr ⟨i, z, hb, Or.inl rfl⟩
      refine ⟨vp_in_nI z (by decide), sw_yall (sw_rd (by omega)) hP (hA i) hA hB (fun g => ⟨narrow_b1, h1 ?_⟩) (fun g => ⟨narrow_b0, h0 (fun hc => g (hc i z hb))⟩)⟩
      intro s0 hs0 hb0
      exact (sw_conn hA hB (hA i) hto hs0 hb0).mp ((sw_all hcl).mpr g)
theorem sw_ycon {post : Int32 → Prop} (hP : P < 1024) (hA : ∀ s, A s < 6) (hB : ∀ s, B s < 6) (h1 : sw_co A B P → post 1) (h0 : ¬ sw_co A B P → post 0) : wpY_connected post (sw_th P, sw_f A, sw_f B, sw_f L, l, r) := by
  unfold wpY_connected
  refine sw_ystr hP ?_
  exact ⟨11, sw_ycon_7 hP hA hB h1 h0 11 0 (by omega) (by omega) (fun s hs => absurd hs (Nat.not_lt_zero s))⟩
theorem sw_ylen_4 {post : Int32 → Prop} {S : Nat} (hS : S < 1024) (H : post (nI (sw_ln L S 10))) : ∀ n i, i ≤ 10 → 10 < n + i → wY_lengthOf_4 post (nI S) t (sw_f A) (sw_f B) (sw_f L) l r n (nI (sw_ln L S i)) (nI i) := by
  intro n
  induction n with
  | zero => intro i hi h; omega
  | succ n ih =>
    intro i hi h
    refine pk_le 10 i (fun z => ?_) (fun z => ?_)
    · have e : i = 10 := by omega
      subst e
      exact H
    · have ih' := ih (i + 1) (by omega) (by omega)
      have e : sw_ln L S (i + 1) = sw_ln L S i + (if S.testBit i = true then L i else 0) := rfl
      refine sw_br1 (by omega) (by omega) (fun hb => ⟨vp_in_nI z (by decide), ?_⟩) (fun hb => ?_)
      · rw [if_pos hb] at e
        rw [e] at ih'
        exact nm_r (e' := nI (sw_ln L S i + L i)) (by rw [sw_rd (by omega), nI_add]) (nm_r (nI_1 i) ih')
      · rw [if_neg hb] at e
        rw [e] at ih'
        exact nm_r (e' := nI (sw_ln L S i + 0)) (by rw [show (0 : Int32) = nI 0 from rfl, nI_add]) (nm_r (nI_1 i) ih')
theorem sw_ylen {post : Int32 → Prop} {S : Nat} (hS : S < 1024) (H : post (nI (sw_ln L S 10))) : wpY_lengthOf post (t, sw_f A, sw_f B, sw_f L, l, r) (nI S) :=
  ⟨11, sw_ylen_4 hS H 11 0 (by omega) (by omega)⟩
theorem sw_yset_4 {post : Int32 → Prop} {c : Nat} (hc : c < 1024) (H : post (nI (sw_rv c))) : ∀ n i, i ≤ 10 → 10 < n + i → wY_setOf_4 post (nI c) t (sw_f A) (sw_f B) (sw_f L) l r n (nI (sw_rvn c i)) (nI i) := by
  intro n
  induction n with
  | zero => intro i hi h; omega
  | succ n ih =>
    intro i hi h
    refine pk_le 10 i (fun z => ?_) (fun z => ?_)
    · have e : i = 10 := by omega
      subst e
      exact H
    · have ih' := ih (i + 1) (by omega) (by omega)
      refine nm_r (e' := nI (sw_rvn c (i + 1))) ?_ (nm_r (nI_1 i) ih')
      have h2 : 2 ^ i < 2 ^ 10 := Nat.pow_lt_pow_right (by omega) z
      rw [show (9 : Int32) = nI 9 from rfl, pk_sub (show i ≤ 9 by omega), sw_bit (by omega) (by omega)]
      show nI (sw_rvn c i) ||| _ = nI (sw_rvn c i ||| (if c.testBit (9 - i) = true then 2 ^ i else 0))
      cases c.testBit (9 - i)
      · rw [if_neg (by decide), Bool.toNat_false, pk_shlN (n := 0) (nI i &&& 31) i (s_l i (by omega)) (by omega), Nat.zero_mul, sw_or]
      · rw [if_pos rfl, Bool.toNat_true, pk_shlN (n := 1) (nI i &&& 31) i (s_l i (by omega)) (by omega), Nat.one_mul, sw_or]
theorem sw_yset {post : Int32 → Prop} {c : Nat} (hc : c < 1024) (H : post (nI (sw_rv c))) : wpY_setOf post (t, sw_f A, sw_f B, sw_f L, l, r) (nI c) :=
  ⟨11, sw_yset_4 hc H 11 0 (by omega) (by omega)⟩
end
end
section
/-! ===== the reference's first of the least sets ===== -/
theorem sw_and_e (a b : Nat) : a &&& b = b ↔ sw_sub b a := by
  constructor
  · intro h i hi
    rw [← h, Nat.testBit_and] at hi
    revert hi
    cases a.testBit i <;> simp
  · intro h
    apply Nat.eq_of_testBit_eq
    intro i
    rw [Nat.testBit_and]
    have := h i
    revert this
    cases a.testBit i <;> cases b.testBit i <;> simp
theorem sw_and_z (a b : Nat) : a &&& b = 0 ↔ ∀ i, a.testBit i = true → b.testBit i = false := by
  constructor
  · intro h i hi
    have h2 := Nat.testBit_and a b i
    rw [h, Nat.zero_testBit, hi] at h2
    exact h2.symm
  · intro h
    apply Nat.eq_of_testBit_eq
    intro i
    rw [Nat.testBit_and, Nat.zero_testBit]
    have := h i
    revert this
    cases a.testBit i <;> cases b.testBit i <;> simp
section
variable {A B L : Nat → Nat} {P M N i : Nat} {x : Int32}
theorem sw_F_skip (F : sw_F A B L P M N i x) (h : ¬ sw_C A B P M N (sw_rv i)) : sw_F A B L P M N (i + 1) x := by
  rcases F with ⟨h1, h2⟩ | ⟨c0, h1, h2, h3, h4⟩
  · refine Or.inl ⟨h1, fun c hc => ?_⟩
    by_cases e : c = i
    · subst e
      exact h
    · exact h2 c (by omega)
  · refine Or.inr ⟨c0, by omega, h2, h3, fun c hc g => ?_⟩
    by_cases e : c = i
    · subst e
      exact absurd g h
    · exact h4 c (by omega) g
/-- the first one, or a better one -/
theorem sw_F_new (F : sw_F A B L P M N i x) (h : sw_C A B P M N (sw_rv i)) (hb : ∀ c, c < i → sw_C A B P M N (sw_rv c) → sw_ln L (sw_rv i) 10 < sw_ln L (sw_rv c) 10) : sw_F A B L P M N (i + 1) (nI (sw_rv i)) := by
  refine Or.inr ⟨i, by omega, rfl, h, fun c hc g => ?_⟩
  by_cases e : c = i
  · subst e
    exact ⟨Nat.le_refl _, fun z => absurd z (Nat.lt_irrefl c)⟩
  · have := hb c (by omega) g
    exact ⟨by omega, fun _ => this⟩
end
section
variable {P : Nat} {A B L : Nat → Nat} {t l r : Nat → Int32}
theorem sw_yf_17 {post : Int32 → Prop} {M N : Nat} (hP : P < 1024) (hM : M < 1024) (hN : N < 1024) (hA : ∀ s, A s < 6) (hB : ∀ s, B s < 6) (hL : ∀ s, L s ≤ 20) (H : ∀ x, sw_F A B L P M N 1024 x → post x) : ∀ n i x, i ≤ 1024 → 1024 < n + i → sw_F A B L P M N i x → wY_first_17 post (nI M) (nI N) (nI P) (nI (sw_od A B P 10)) t (sw_f A) (sw_f B) (sw_f L) l r n x (nI i) := by
  intro n
  induction n with
  | zero => intro i x hi h; omega
  | succ n ih =>
    intro i x hi h F
    refine pk_le 1024 i (fun z => ?_) (fun z => ?_)
    · have e : i = 1024 := by omega
      subst e
      exact H x F
    · refine sw_yset z ?_
      have hr := sw_rv_lt i
      have skip : ¬ sw_C A B P M N (sw_rv i) → wY_first_17 post (nI M) (nI N) (nI P) (nI (sw_od A B P 10)) t (sw_f A) (sw_f B) (sw_f L) l r n x (nI (i + 1)) := fun g => ih (i + 1) x (by omega) (by omega) (sw_F_skip F g)
      refine sw_brz _ (sw_not _ _) (Nat.lt_trans (sw_an_lt hr) (by decide)) (fun y1 => ?_) (fun y1 => nm_r (nI_1 i) (skip (fun g => y1 ((sw_an_0 _ _).mpr g.1))))
      have hM2 : sw_rv i &&& M < 1024 := Nat.and_lt_two_pow (n := 10) _ hM
      have hN2 : sw_rv i &&& N < 1024 := Nat.and_lt_two_pow (n := 10) _ hN
      refine pk_eq (sw_rv i &&& M) M (fun y2 => ?_) (fun y2 => nm_r (nI_1 i) (skip (fun g => y2 ((sw_and_e _ _).mpr g.2.1)))) (hx := nx_and _ _)
      refine sw_brz _ (nx_and _ _) (Nat.lt_trans hN2 (by decide)) (fun y3 => ?_) (fun y3 => nm_r (nI_1 i) (skip (fun g => y3 ((sw_and_z _ _).mpr g.2.2.1))))
      refine sw_yoddOf hr hA hB ?_
      have ho1 := sw_od_lt hA hB (sw_rv i) 10
      have ho2 := sw_od_lt hA hB P 10
      refine pk_eq (sw_od A B (sw_rv i) 10) (sw_od A B P 10) (fun y4 => ?_) (fun y4 => nm_r (nI_1 i) (skip (fun g => y4 g.2.2.2)))
      have hC : sw_C A B P M N (sw_rv i) := ⟨(sw_an_0 _ _).mp y1, (sw_and_e _ _).mp y2, (sw_and_z _ _).mp y3, y4⟩
      refine sw_ylen hr ?_
      have hl1 := sw_ln_le hL (sw_rv i) 10
      rcases F with ⟨h1, h2⟩ | ⟨c0, h1, h2, h3, h4⟩
      · refine br_f (by rw [h1]; decide) ?_
        unfold wY_first_91
        refine pk_le 100000 (sw_ln L (sw_rv i) 10) (fun k => absurd k (by omega)) (fun k => nm_r (nI_1 i) (ih (i + 1) _ (by omega) (by omega) ?_))
        exact sw_F_new (Or.inl ⟨h1, h2⟩) hC (fun c hc g => absurd g (h2 c hc))
      · have hr0 := sw_rv_lt c0
        have hl0 := sw_ln_le hL (sw_rv c0) 10
        refine br_t (by rw [h2]; exact nI_pos' (by omega)) ?_
        rw [h2]
        refine sw_ylen hr0 ?_
        unfold wY_first_91
        refine pk_le (sw_ln L (sw_rv c0) 10) (sw_ln L (sw_rv i) 10) (fun k => nm_r (nI_1 i) (ih (i + 1) _ (by omega) (by omega) ?_)) (fun k => nm_r (nI_1 i) (ih (i + 1) _ (by omega) (by omega) ?_))
        · refine Or.inr ⟨c0, by omega, rfl, h3, fun c hc g => ?_⟩
          by_cases e : c = i
          · subst e
            exact ⟨k, fun q => absurd q (by omega)⟩
          · exact h4 c (by omega) g
        · refine sw_F_new (Or.inr ⟨c0, h1, h2, h3, h4⟩) hC (fun c hc g => ?_)
          have := (h4 c hc g).1
          omega
theorem sw_yfirst {post : Int32 → Prop} {M N : Nat} {x y : Int32} (ex : x = nI M) (ey : y = nI N) (hP : P < 1024) (hM : M < 1024) (hN : N < 1024) (hA : ∀ s, A s < 6) (hB : ∀ s, B s < 6) (hL : ∀ s, L s ≤ 20) (H : ∀ x, sw_F A B L P M N 1024 x → post x) : wpY_first post (sw_th P, sw_f A, sw_f B, sw_f L, l, r) x y := by
  subst ex ey
  unfold wpY_first
  refine sw_ystr hP ?_
  refine sw_yodd hP hA hB ?_
  exact ⟨1025, sw_yf_17 hP hM hN hA hB hL H 1025 0 (-1) (by omega) (by omega) (Or.inl ⟨rfl, fun c hc => absurd hc (Nat.not_lt_zero c)⟩)⟩
theorem sw_ybest {post : Int32 → Prop} (hP : P < 1024) (hA : ∀ s, A s < 6) (hB : ∀ s, B s < 6) (hL : ∀ s, L s ≤ 20) (H : ∀ x, sw_F A B L P 0 0 1024 x → post x) : wpY_bestSet post (sw_th P, sw_f A, sw_f B, sw_f L, l, r) := by
  unfold wpY_bestSet
  exact sw_yfirst (M := 0) (N := 0) rfl rfl hP (by decide) (by decide) hA hB hL H
theorem sw_yextra {post : Int32 → Prop} {q : Nat} (hP : P < 1024) (hA : ∀ s, A s < 6) (hB : ∀ s, B s < 6) (hL : ∀ s, L s ≤ 20) (J : sw_J A B L P (sw_od A B P 10) q) (H : post (nI q)) : wpY_extra post (sw_th P, sw_f A, sw_f B, sw_f L, l, r) := by
  unfold wpY_extra
  refine sw_yfirst (M := 0) (N := 0) rfl rfl hP (by decide) (by decide) hA hB hL (fun x F => ?_)
  obtain ⟨b, hb, e, e2, _⟩ := sw_F_J hP hL F J
  subst e
  refine br_t (nI_pos' (by omega)) (sw_ylen hb ?_)
  rw [e2]
  exact H
theorem sw_ystreet {post : Int32 → Prop} {s : Nat} (hs : s < 10) (hb : P.testBit s = true) (H : post 1) : wpY_street post (sw_th P, sw_f A, sw_f B, sw_f L, l, r) (nI s) := by
  unfold wpY_street
  exact br_f (nI_pos (by omega)) (pk_le 10 s (fun z => absurd z (by omega)) (fun _ => ⟨vp_in_nI hs (by decide), sw_yth hs (fun z => absurd hb z) (fun _ => H)⟩))
theorem sw_ystreetN {post : Int32 → Prop} {x : Int32} (hx : ∀ s, s < 10 → x = nI s → ¬ P.testBit s = true) (H : post 0) : wpY_street post (sw_th P, sw_f A, sw_f B, sw_f L, l, r) x := by
  unfold wpY_street
  rcases pk_ix x (n := 10) (by decide) with h | h | ⟨s, hs, rfl⟩
  · exact br_t h H
  · exact br_c (fun _ => H) (fun _ => br_t h H)
  · exact br_f (nI_pos (by omega)) (pk_le 10 s (fun z => absurd z (by omega)) (fun _ => ⟨vp_in_nI hs (by decide), sw_yth hs (fun _ => H) (fun z => absurd z (hx s hs rfl))⟩))
theorem sw_p10 {s : Nat} (h : s < 10) : 2 ^ s < 1024 := Nat.pow_lt_pow_right (m := s) (n := 10) (by omega) h
theorem sw_ywith {post : Int32 → Prop} {s q : Nat} (hP : P < 1024) (hA : ∀ s, A s < 6) (hB : ∀ s, B s < 6) (hL : ∀ s, L s ≤ 20) (hs : s < 10) (hb : P.testBit s = true) (J : sw_J A B L (sw_an P (2 ^ s)) (sw_od A B P 10 ^^^ sw_e A B s) q) (H1 : 100000 ≤ q → post (-1)) (H2 : q < 100000 → post (nI (q + L s))) : wpY_extraWith post (sw_th P, sw_f A, sw_f B, sw_f L, l, r) (nI s) := by
  unfold wpY_extraWith
  refine sw_ystreet hs hb (br_f (by decide) ?_)
  refine sw_yfirst (M := 2 ^ s) (N := 0) (sw_1 (by omega)) rfl hP (sw_p10 hs) (by decide) hA hB hL (fun x F => ?_)
  rcases sw_F_with hP hL hs hb F J with ⟨h1, h2⟩ | ⟨h1, b, hb', h2, h3⟩
  · exact br_f (by rw [h2]; decide) (H1 h1)
  · subst h2
    refine br_t (nI_pos' (by omega)) (sw_ylen hb' ?_)
    rw [h3]
    exact H2 (by omega)
theorem sw_ywo {post : Int32 → Prop} {s q : Nat} (hP : P < 1024) (hA : ∀ s, A s < 6) (hB : ∀ s, B s < 6) (hL : ∀ s, L s ≤ 20) (hs : s < 10) (hb : P.testBit s = true) (J : sw_J A B L (sw_an P (2 ^ s)) (sw_od A B P 10) q) (H1 : 100000 ≤ q → post (-1)) (H2 : q < 100000 → post (nI q)) : wpY_extraWithout post (sw_th P, sw_f A, sw_f B, sw_f L, l, r) (nI s) := by
  unfold wpY_extraWithout
  refine sw_ystreet hs hb (br_f (by decide) ?_)
  refine sw_yfirst (M := 0) (N := 2 ^ s) rfl (sw_1 (by omega)) hP (by decide) (sw_p10 hs) hA hB hL (fun x F => ?_)
  rcases sw_F_wo hP hL F J with ⟨h1, h2⟩ | ⟨h1, b, hb', h2, h3⟩
  · exact br_f (by rw [h2]; decide) (H1 h1)
  · subst h2
    refine br_t (nI_pos' (by omega)) (sw_ylen hb' ?_)
    rw [h3]
    exact H2 (by omega)
theorem sw_ywl {post : Int32 → Prop} {q : Nat} (hP : P < 1024) (hA : ∀ s, A s < 6) (hB : ∀ s, B s < 6) (hL : ∀ s, L s ≤ 20) (J : sw_J A B L P (sw_od A B P 10) q) (H1 : sw_co A B P → post (nI (q + sw_ln L P 10))) (H0 : ¬ sw_co A B P → post (-1)) : wpY_walkLength post (sw_th P, sw_f A, sw_f B, sw_f L, l, r) := by
  unfold wpY_walkLength
  refine sw_ybest hP hA hB hL (fun x F => ?_)
  obtain ⟨b, hb, e, e2, _⟩ := sw_F_J hP hL F J
  subst e
  refine sw_ystr hP ?_
  refine br_f (nI_pos (by omega)) ?_
  refine sw_ycon hP hA hB (fun hc => br_f (by decide) ?_) (fun hc => br_t rfl (H0 hc))
  refine sw_ylen hP (sw_ylen hb ?_)
  rw [nI_add, e2, Nat.add_comm]
  exact H1 hc
theorem sw_yc {post : Int32 → Prop} {c : Nat} (hc : c < 6) (h : post 1) : wpY_corner post (t, sw_f A, sw_f B, sw_f L, l, r) (nI c) := by
  unfold wpY_corner
  exact br_f (nI_pos (by omega)) (pk_le 6 c (fun z => absurd z (by omega)) (fun _ => h))
theorem sw_ycN {post : Int32 → Prop} {x : Int32} (hx : ∀ c, c < 6 → x ≠ nI c) (h : post 0) : wpY_corner post (t, sw_f A, sw_f B, sw_f L, l, r) x := by
  unfold wpY_corner
  rcases pk_ix x (n := 6) (by decide) with z | z | ⟨c, hc, e⟩
  · exact br_t z h
  · exact br_c (fun _ => h) (fun _ => br_t z h)
  · exact absurd e (hx c hc)
end
end
section
/-! ===== the reference's ways ===== -/
def sw_Nr (r : Nat → Int32) (nr : Nat → Nat) : Prop := ∀ v, v < 6 → r v = nI (nr v)
section
variable {P : Nat} {A B L : Nat → Nat} {l : Nat → Int32} {d : Nat → Nat → Nat} {a : Nat}
theorem sw_yw_166 {post : Int32 → SY → Prop} {J K : Int32 → (Nat → Int32) → (Nat → Int32) → (Nat → Int32) → (Nat → Int32) → (Nat → Int32) → (Nat → Int32) → Prop} {x2 x3 x6 z0 z1 : Int32} {i : Nat} {r : Nat → Int32} {nr : Nat → Nat} (hA : ∀ s, A s < 6) (hB : ∀ s, B s < 6) (hL : ∀ s, L s ≤ 20) (hi : i < 10) (hne : A i ≠ B i) (R : sw_Nr r nr) (hb : ∀ v, v < 6 → nr v ≤ 100000) (e0 : z0 = nI (min (nr (B i)) (nr (A i) + L i))) (e1 : z1 = nI (B i)) (e6 : x6 = nI (nr (B i) + L i))
    (H : ∀ r', sw_Nr r' (sw_n1 A B L i nr) → K (nI (i + 1)) (sw_th P) (sw_f A) (sw_f B) (sw_f L) l r') : wY_way_166 post J K x2 x3 (nI i) x6 z0 z1 (sw_th P) (sw_f A) (sw_f B) (sw_f L) l r := by
  subst e0 e1 e6
  have hAi := hA i
  have hBi := hB i
  have hLi := hL i
  have b1 := hb _ hAi
  have b2 := hb _ hBi
  have hin : vp_in (nI i) 10 := vp_in_nI hi (by decide)
  have hA6 : vp_in (nI (A i)) 6 := vp_in_nI hAi (by decide)
  unfold wY_way_166
  rw [show sw_f A (nI i).toNatClampNeg = nI (A i) from sw_rd (by omega), nI_clamp (show A i < 2 ^ 31 by omega), nI_clamp (show B i < 2 ^ 31 by omega)]
  refine ⟨vp_in_nI hBi (by decide), nm_e ⟨hin, hin, hA6, pk_le (nr (A i)) (nr (B i) + L i) (fun k => ⟨hin, hA6, hA6, nm_e (nm_r (nI_1 i) (H _ ?_))⟩) (fun k => ⟨hA6, nm_e (nm_r (nI_1 i) (H _ ?_))⟩) (hx := by rw [pk_un hne]; exact R _ hAi)⟩⟩
  · intro v hv
    unfold sw_n1
    by_cases ea : v = A i
    · subst ea
      rw [pk_us, pk_un hne, if_pos rfl, R _ hAi]
      congr 1
      omega
    · rw [pk_un ea, if_neg ea]
      by_cases eb : v = B i
      · subst eb
        rw [pk_us, if_pos rfl]
      · rw [pk_un eb, if_neg eb]
        exact R v hv
  · intro v hv
    unfold sw_n1
    by_cases ea : v = A i
    · subst ea
      rw [pk_us, if_pos rfl]
      congr 1
      omega
    · rw [pk_un ea, if_neg ea]
      by_cases eb : v = B i
      · subst eb
        rw [pk_us, if_pos rfl]
      · rw [pk_un eb, if_neg eb]
        exact R v hv
theorem sw_yw_60 {post : Int32 → SY → Prop} {J : Int32 → (Nat → Int32) → (Nat → Int32) → (Nat → Int32) → (Nat → Int32) → (Nat → Int32) → (Nat → Int32) → Prop} {x2 : Int32} {k : Nat} {n0 : Nat → Nat} (hA : ∀ s, A s < 6) (hB : ∀ s, B s < 6) (hL : ∀ s, L s ≤ 20) (hn : ∀ s, s < 10 → P.testBit s = true → A s ≠ B s) (M : sw_M A B L P d) (ha : a < 6)
    (H : ∀ r nr, sw_Nr r nr → sw_N d a nr → sw_R A B L P 10 n0 nr → J (nI (k + 1)) (sw_th P) (sw_f A) (sw_f B) (sw_f L) l r) : ∀ n i r nr, i ≤ 10 → 10 < n + i → sw_Nr r nr → sw_N d a nr → sw_R A B L P i n0 nr → wY_way_60 post J x2 (nI k) n (nI i) (sw_th P) (sw_f A) (sw_f B) (sw_f L) l r := by
  intro n
  induction n with
  | zero => intro i r nr hi h; omega
  | succ n ih =>
    intro i r nr hi h hr N R
    refine pk_le 10 i (fun z => ?_) (fun z => ?_)
    · have e : i = 10 := by omega
      subst e
      exact nm_r (nI_1 k) (H r nr hr N R)
    · have hin : vp_in (nI i) 10 := vp_in_nI z (by decide)
      have hAi := hA i
      have hBi := hB i
      have hLi := hL i
      have b1 := (N.2 _ hAi).2
      have b2 := (N.2 _ hBi).2
      refine ⟨hin, sw_yth z (fun hb => ?_) (fun hb => ?_)⟩
      · exact nm_r (nI_1 i) (ih (i + 1) r nr (by omega) (by omega) hr N (sw_R_no hb R))
      · have hA6 : vp_in (nI (A i)) 6 := vp_in_nI hAi (by decide)
        have hB6 : vp_in (nI (B i)) 6 := vp_in_nI hBi (by decide)
        have hgo : ∀ r', sw_Nr r' (sw_n1 A B L i nr) → wY_way_60 post J x2 (nI k) n (nI (i + 1)) (sw_th P) (sw_f A) (sw_f B) (sw_f L) l r' := fun r' hr' => ih (i + 1) r' _ (by omega) (by omega) hr' (sw_N_1 hA hB M ha z hb N) (sw_R_1 hA hB (hn i z hb) R)
        have eA : sw_f A (nI i).toNatClampNeg = nI (A i) := sw_rd (by omega)
        have eB : sw_f B (nI i).toNatClampNeg = nI (B i) := sw_rd (by omega)
        have eL : sw_f L (nI i).toNatClampNeg = nI (L i) := sw_rd (by omega)
        rw [eA, eB, eL, nI_clamp (show A i < 2 ^ 31 by omega), nI_clamp (show B i < 2 ^ 31 by omega)]
        refine ⟨hin, hA6, hin, nm_r (e' := nI (nr (A i) + L i)) (by rw [hr _ hAi, nI_add]) ⟨hin, hB6, hin, nm_r (e' := nI (nr (B i) + L i)) (by rw [hr _ hBi, nI_add]) ⟨hin, hin, hB6, ?_⟩⟩⟩
        refine pk_le (nr (B i)) (nr (A i) + L i) (fun q => ⟨hin, hB6, ?_⟩) (fun q => ?_) (hx := hr _ hBi)
        · exact sw_yw_166 hA hB hL z (hn i z hb) hr (fun v hv => (N.2 v hv).2) (by rw [hr _ hBi]; congr 1; omega) rfl rfl hgo
        · exact sw_yw_166 hA hB hL z (hn i z hb) hr (fun v hv => (N.2 v hv).2) (by congr 1; omega) rfl rfl hgo
theorem sw_yw_51 {post : Int32 → SY → Prop} {b : Nat} (hA : ∀ s, A s < 6) (hB : ∀ s, B s < 6) (hL : ∀ s, L s ≤ 20) (hn : ∀ s, s < 10 → P.testBit s = true → A s ≠ B s) (M : sw_M A B L P d) (ha : a < 6) (hb : b < 6)
    (H : ∀ r, (100000 ≤ d a b → post (-1) (sw_th P, sw_f A, sw_f B, sw_f L, l, r)) ∧ (d a b < 100000 → post (nI (d a b)) (sw_th P, sw_f A, sw_f B, sw_f L, l, r))) : ∀ n k r nr, k ≤ 6 → 6 < n + k → sw_Nr r nr → sw_N d a nr → sw_Z d a k nr → wY_way_51 post (nI b) n (nI k) (sw_th P) (sw_f A) (sw_f B) (sw_f L) l r := by
  intro n
  induction n with
  | zero => intro k r nr hi h; omega
  | succ n ih =>
    intro k r nr hi h hr N Z
    refine pk_le 6 k (fun z => ?_) (fun z => ?_)
    · have e : k = 6 := by omega
      subst e
      have hv := sw_Z_6 N Z hb
      have er : r (nI b).toNatClampNeg = nI (d a b) := by rw [nI_clamp (by omega), hr b hb, hv]
      have hd := M.1.2.1 a b ha hb
      have h2 := H r
      rw [er]
      exact ⟨vp_in_nI hb (by decide), pk_le 100000 (d a b) (fun q => h2.1 q) (fun q => ⟨vp_in_nI hb (by decide), h2.2 q⟩)⟩
    · refine ⟨11, sw_yw_60 (n0 := nr) hA hB hL hn M ha (fun r' nr' hr' N' R' => ?_) 11 0 r nr (by omega) (by omega) hr N (sw_R_0 A B L P nr)⟩
      exact ih (k + 1) r' nr' (by omega) (by omega) hr' N' (sw_Z_s hA hB M ha N R' Z)
theorem sw_yw_20 {post : Int32 → SY → Prop} {x2 : Int32} (ha : a < 6) (H : ∀ r, sw_Nr r (fun v => if v = a then 0 else 100000) → ∃ n, wY_way_51 post x2 n 0 (sw_th P) (sw_f A) (sw_f B) (sw_f L) l r) : ∀ n i r, i ≤ 6 → 6 < n + i → (∀ v, v < i → r v = nI (if v = a then 0 else 100000)) → wY_way_20 post (nI a) x2 n (nI i) (sw_th P) (sw_f A) (sw_f B) (sw_f L) l r := by
  intro n
  induction n with
  | zero => intro i r hi h; omega
  | succ n ih =>
    intro i r hi h hr
    refine pk_le 6 i (fun z => ?_) (fun z => ?_)
    · have e : i = 6 := by omega
      subst e
      exact H r hr
    · refine pk_eq i a (fun e => ?_) (fun e => ?_)
      · refine ⟨vp_in_nI z (by decide), nm_r (sw_upd_e (by omega)) (nm_r (nI_1 i) (ih (i + 1) _ (by omega) (by omega) (fun v hv => ?_)))⟩
        by_cases ev : v = i
        · rw [ev, pk_us, if_pos e]
          rfl
        · rw [pk_un ev]
          exact hr v (by omega)
      · refine ⟨vp_in_nI z (by decide), nm_r (sw_upd_e (by omega)) (nm_r (nI_1 i) (ih (i + 1) _ (by omega) (by omega) (fun v hv => ?_)))⟩
        by_cases ev : v = i
        · rw [ev, pk_us, if_neg e]
          rfl
        · rw [pk_un ev]
          exact hr v (by omega)
theorem sw_yway {post : Int32 → SY → Prop} {b : Nat} {r : Nat → Int32} (hA : ∀ s, A s < 6) (hB : ∀ s, B s < 6) (hL : ∀ s, L s ≤ 20) (hn : ∀ s, s < 10 → P.testBit s = true → A s ≠ B s) (M : sw_M A B L P d) (ha : a < 6) (hb : b < 6)
    (H : ∀ r, (100000 ≤ d a b → post (-1) (sw_th P, sw_f A, sw_f B, sw_f L, l, r)) ∧ (d a b < 100000 → post (nI (d a b)) (sw_th P, sw_f A, sw_f B, sw_f L, l, r))) : wpY_way post (sw_th P, sw_f A, sw_f B, sw_f L, l, r) (nI a) (nI b) := by
  unfold wpY_way
  refine sw_yc ha (br_f (by decide) (sw_yc hb (br_f (by decide) ?_)))
  refine ⟨7, sw_yw_20 ha (fun r' hr' => ?_) 7 0 r (by omega) (by omega) (fun v hv => absurd hv (Nat.not_lt_zero v))⟩
  have N : sw_N d a (fun v => if v = a then 0 else 100000) := by
    refine ⟨if_pos rfl, fun v hv => ?_⟩
    show d a v ≤ (if v = a then 0 else 100000) ∧ (if v = a then 0 else 100000) ≤ 100000
    have h1 := M.1.1 a ha
    have h2 := M.1.2.1 a v ha hv
    by_cases e : v = a
    · rw [if_pos e, e]
      omega
    · rw [if_neg e]
      omega
  exact ⟨7, sw_yw_51 hA hB hL hn M ha hb H 7 0 r' _ (by omega) (by omega) hr' N (sw_Z_0 M ha N)⟩
end
end
section
/-! ===== the reference's next street; both walks in step ===== -/
section
variable {P : Nat} {A B L : Nat → Nat} {w p l r : Nat → Int32} {fp : Int32} {t : Nat → Int32}
theorem sw_yrest_4 {post : Int32 → Prop} {F : Nat → Nat} (hl : sw_Lf l F) (H : post (nI (sw_sl F 10))) : ∀ n i, i ≤ 10 → 10 < n + i → wY_rest_4 post t (sw_f A) (sw_f B) (sw_f L) l r n (nI (sw_sl F i)) (nI i) := by
  intro n
  induction n with
  | zero => intro i hi h; omega
  | succ n ih =>
    intro i hi h
    refine pk_le 10 i (fun z => ?_) (fun z => ?_)
    · have e : i = 10 := by omega
      subst e
      exact H
    · have ih' := ih (i + 1) (by omega) (by omega)
      have hli := hl i z
      have e : sw_sl F (i + 1) = (if 0 < F i then sw_sl F i ||| 2 ^ i else sw_sl F i) := rfl
      refine ⟨vp_in_nI z (by decide), pk_le (F i) 0 (fun k => ?_) (fun k => ?_) (hx := by rw [nI_clamp (by omega)]; exact hli.1)⟩
      · rw [if_neg (by omega)] at e
        rw [e] at ih'
        exact nm_r (e' := nI (sw_sl F i)) (by rw [show (0 : Int32) = nI 0 from rfl, sw_or, Nat.or_zero]) (nm_r (nI_1 i) ih')
      · rw [if_pos (by omega)] at e
        rw [e] at ih'
        exact nm_r (e' := nI (sw_sl F i ||| 2 ^ i)) (by rw [sw_1 (by omega), sw_or]) (nm_r (nI_1 i) ih')
theorem sw_yrest {post : Int32 → Prop} {F : Nat → Nat} (hl : sw_Lf l F) (H : post (nI (sw_sl F 10))) : wpY_rest post (t, sw_f A, sw_f B, sw_f L, l, r) :=
  ⟨11, sw_yrest_4 hl H 11 0 (by omega) (by omega)⟩
theorem sw_yn_72 {post : Int32 → SY → Prop} {J : Int32 → (Nat → Int32) → (Nat → Int32) → (Nat → Int32) → (Nat → Int32) → (Nat → Int32) → (Nat → Int32) → Prop} {F : Nat → Nat} {c s : Nat} {z0 : Int32} (hA : ∀ s, A s < 6) (hB : ∀ s, B s < 6) (hl : sw_Lf l F) (hs : s < 10) (k : 0 < F s) (hh : A s = c ∨ B s = c) (e0 : z0 = nI (sw_ot A B c s)) (hg : sw_go A B F c s → post (nI s) (t, sw_f A, sw_f B, sw_f L, upd l s (nI (F s - 1)), r)) (hJ : ¬ sw_go A B F c s → J (nI (s + 1)) t (sw_f A) (sw_f B) (sw_f L) l r) : wY_nextStreet_72 post J (nI c) (nI s) z0 t (sw_f A) (sw_f B) (sw_f L) (upd l s (nI (F s - 1))) r := by
  have hin : vp_in (nI s) 10 := vp_in_nI hs (by decide)
  have hls := hl s hs
  have ho := sw_ot_lt hA hB hh
  have hr : sw_rs F s < 1024 := sw_sl_lt _ 10 (by omega)
  unfold wY_nextStreet_72
  refine sw_yrest (sw_Lf_dec hl s) ?_
  refine sw_yall (S := sw_rs F s) e0 hr ho hA hB (fun g => br_f (by decide) (hg ⟨k, hh, g⟩)) (fun g => br_t rfl ⟨hin, hin, ?_⟩)
  refine nm_r (e' := l) ?_ (nm_r (nI_1 s) (hJ (fun y => g y.2.2)))
  rw [nI_clamp (show s < 2 ^ 31 by omega), pk_us, nI_1, show F s - 1 + 1 = F s by omega, ← hls.1, sw_upd_back]
theorem sw_yn_37 {post : Int32 → SY → Prop} {J : Int32 → (Nat → Int32) → (Nat → Int32) → (Nat → Int32) → (Nat → Int32) → (Nat → Int32) → (Nat → Int32) → Prop} {F : Nat → Nat} {c s : Nat} (hA : ∀ s, A s < 6) (hB : ∀ s, B s < 6) (hc : c < 6) (hl : sw_Lf l F) (hs : s < 10) (k : 0 < F s) (hh : A s = c ∨ B s = c) (hg : sw_go A B F c s → post (nI s) (t, sw_f A, sw_f B, sw_f L, upd l s (nI (F s - 1)), r)) (hJ : ¬ sw_go A B F c s → J (nI (s + 1)) t (sw_f A) (sw_f B) (sw_f L) l r) : wY_nextStreet_37 post J (nI c) (nI s) t (sw_f A) (sw_f B) (sw_f L) l r := by
  have hin : vp_in (nI s) 10 := vp_in_nI hs (by decide)
  have hls := hl s hs
  have hAs := hA s
  unfold wY_nextStreet_37
  refine ⟨hin, hin, nm_r (e' := upd l s (nI (F s - 1))) (by rw [nI_clamp (show s < 2 ^ 31 by omega), hls.1]; exact congrArg _ (pk_sub (b := 1) (by omega))) ⟨hin, ?_⟩⟩
  refine pk_eq (A s) c (fun e => ⟨hin, ?_⟩) (fun e => ⟨hin, ?_⟩) (hx := sw_rd (by omega))
  · refine sw_yn_72 hA hB hl hs k hh ?_ hg hJ
    rw [sw_rd (by omega)]
    congr 1
    unfold sw_ot
    omega
  · refine sw_yn_72 hA hB hl hs k hh ?_ hg hJ
    rw [sw_rd (by omega)]
    congr 1
    unfold sw_ot
    omega
theorem sw_yn_2 {post : Int32 → SY → Prop} {F : Nat → Nat} {c : Nat} (hA : ∀ s, A s < 6) (hB : ∀ s, B s < 6) (hc : c < 6) (hl : sw_Lf l F) (hg : ∀ s, s < 10 → sw_go A B F c s → (∀ t, t < s → ¬ sw_go A B F c t) → post (nI s) (t, sw_f A, sw_f B, sw_f L, upd l s (nI (F s - 1)), r)) (h0 : (∀ t, t < 10 → ¬ sw_go A B F c t) → post (-1) (t, sw_f A, sw_f B, sw_f L, l, r)) : ∀ n i, i ≤ 10 → 10 < n + i → (∀ t, t < i → ¬ sw_go A B F c t) → wY_nextStreet_2 post (nI c) n (nI i) t (sw_f A) (sw_f B) (sw_f L) l r := by
  intro n
  induction n with
  | zero => intro i hi h; omega
  | succ n ih =>
    intro i hi h hno
    have step : ∀ z : i < 10, ¬ sw_go A B F c i → wY_nextStreet_2 post (nI c) n (nI (i + 1)) t (sw_f A) (sw_f B) (sw_f L) l r := by
      intro z hi2
      refine ih (i + 1) (by omega) (by omega) (fun t ht => ?_)
      by_cases e : t = i
      · subst e
        exact hi2
      · exact hno t (by omega)
    refine pk_le 10 i (fun z => ?_) (fun z => ?_)
    · have e : i = 10 := by omega
      subst e
      exact h0 hno
    · have hAi := hA i
      have hBi := hB i
      have hin : vp_in (nI i) 10 := vp_in_nI z (by decide)
      have hli := hl i z
      refine ⟨hin, pk_le (F i) 0 (fun k => nm_r (nI_1 i) (step z (fun g => absurd g.1 (by omega)))) (fun k => ⟨hin, ?_⟩) (hx := by rw [nI_clamp (by omega)]; exact hli.1)⟩
      refine pk_eq (A i) c (fun e => ?_) (fun e => ⟨hin, pk_eq (B i) c (fun e2 => ?_) (fun e2 => nm_r (nI_1 i) (step z (fun g => ?_))) (hx := sw_rd (by omega))⟩) (hx := sw_rd (by omega))
      · exact sw_yn_37 hA hB hc hl z k (Or.inl e) (fun g => hg i z g hno) (step z)
      · exact sw_yn_37 hA hB hc hl z k (Or.inr e2) (fun g => hg i z g hno) (step z)
      · rcases g.2.1 with y | y
        · exact e y
        · exact e2 y
theorem sw_yn {post : Int32 → SY → Prop} {F : Nat → Nat} {c : Nat} (hA : ∀ s, A s < 6) (hB : ∀ s, B s < 6) (hc : c < 6) (hl : sw_Lf l F) (hg : ∀ s, s < 10 → sw_go A B F c s → (∀ t, t < s → ¬ sw_go A B F c t) → post (nI s) (t, sw_f A, sw_f B, sw_f L, upd l s (nI (F s - 1)), r)) (h0 : (∀ t, t < 10 → ¬ sw_go A B F c t) → post (-1) (t, sw_f A, sw_f B, sw_f L, l, r)) : wpY_nextStreet post (t, sw_f A, sw_f B, sw_f L, l, r) (nI c) :=
  ⟨11, sw_yn_2 hA hB hc hl hg h0 11 0 (by omega) (by omega) (fun t ht => absurd ht (Nat.not_lt_zero t))⟩
/-- the answer of the rest of the walk, for both -/
theorem sw_walk (hA : ∀ s, A s < 6) (hB : ∀ s, B s < 6) {k : Nat} (hk : k < 20) : ∀ j i F c, i + j = k → c < 6 → ∃ x : Int32,
    (∀ lX, sw_Lf lX F → ∀ post : Int32 → SX → Prop, (∀ l', post x (fp, sw_f A, sw_f B, sw_f L, w, p, l')) → ∀ x5 n, j + 1 < n → wX_walkAt_106 post (nI k) n (nI c) x5 (nI i) fp (sw_f A) (sw_f B) (sw_f L) w p lX) ∧
    (∀ lY, sw_Lf lY F → ∀ post : Int32 → SY → Prop, (∀ l', post x (t, sw_f A, sw_f B, sw_f L, l', r)) → ∀ n, j + 1 < n → wY_walkAt_81 post (nI k) n (nI c) (nI i) t (sw_f A) (sw_f B) (sw_f L) lY r) := by
  intro j
  induction j with
  | zero =>
    intro i F c hij hc
    have eik : i = k := by omega
    subst eik
    by_cases hex : ∃ s, s < 10 ∧ sw_go A B F c s
    · obtain ⟨s, ⟨hs, hgo⟩, hmin⟩ := pk_least _ hex
      have uniq : ∀ s', s' < 10 → sw_go A B F c s' → (∀ u, u < s' → ¬ sw_go A B F c u) → s' = s := by
        intro s' h1 h2 h3
        rcases Nat.lt_trichotomy s' s with y | y | y
        · exact absurd ⟨h1, h2⟩ (hmin s' y)
        · exact y
        · exact absurd hgo (h3 s y)
      have h0F := hgo.1
      have hin : vp_in (nI s) 10 := vp_in_nI hs (by decide)
      have hAs := hA s
      have hBs := hB s
      refine ⟨nI s, fun lX hX post hp x5 n hn => ?_, fun lY hY post hp n hn => ?_⟩
      · obtain ⟨n, rfl⟩ : ∃ m, n = m + 1 + 1 := ⟨n - 2, by omega⟩
        refine br_f (nI_nlt (by omega) (by omega)) (sw_xn hA hB hc hX (fun s' h1 h2 h3 => ?_) (fun hno => absurd hgo (hno s hs)))
        have es := uniq s' h1 h2 h3
        subst es
        refine br_t (nI_pos' (by omega)) ⟨hin, hin, nm_e ⟨hin, hin, nm_e (nm_r (nI_1 i) ?_)⟩⟩
        exact br_t (nI_lt (by omega) (by omega)) (hp _)
      · obtain ⟨n, rfl⟩ : ∃ m, n = m + 1 := ⟨n - 1, by omega⟩
        refine br_f (nI_nlt (by omega) (by omega)) (sw_yn hA hB hc hY (fun s' h1 h2 h3 => ?_) (fun hno => absurd hgo (hno s hs)))
        have es := uniq s' h1 h2 h3
        subst es
        exact br_f (nI_pos (by omega)) (br_t rfl (hp _))
    · refine ⟨-1, fun lX hX post hp x5 n hn => ?_, fun lY hY post hp n hn => ?_⟩
      · obtain ⟨n, rfl⟩ : ∃ m, n = m + 1 := ⟨n - 1, by omega⟩
        exact br_f (nI_nlt (by omega) (by omega)) (sw_xn hA hB hc hX (fun s' h1 h2 h3 => absurd ⟨s', h1, h2⟩ hex) (fun _ => br_f (by decide) (hp _)))
      · obtain ⟨n, rfl⟩ : ∃ m, n = m + 1 := ⟨n - 1, by omega⟩
        exact br_f (nI_nlt (by omega) (by omega)) (sw_yn hA hB hc hY (fun s' h1 h2 h3 => absurd ⟨s', h1, h2⟩ hex) (fun _ => br_t (by decide) (hp _)))
  | succ j ih =>
    intro i F c hij hc
    by_cases hex : ∃ s, s < 10 ∧ sw_go A B F c s
    · obtain ⟨s, ⟨hs, hgo⟩, hmin⟩ := pk_least _ hex
      have uniq : ∀ s', s' < 10 → sw_go A B F c s' → (∀ u, u < s' → ¬ sw_go A B F c u) → s' = s := by
        intro s' h1 h2 h3
        rcases Nat.lt_trichotomy s' s with y | y | y
        · exact absurd ⟨h1, h2⟩ (hmin s' y)
        · exact y
        · exact absurd hgo (h3 s y)
      have h0F := hgo.1
      have hin : vp_in (nI s) 10 := vp_in_nI hs (by decide)
      have hAs := hA s
      have hBs := hB s
      have hh := hgo.2.1
      obtain ⟨x, gX, gY⟩ := ih (i + 1) (sw_u F s (F s - 1)) (sw_ot A B c s) (by omega) (sw_ot_lt hA hB hh)
      have ecl : (nI s).toNatClampNeg = s := nI_clamp (by omega)
      refine ⟨x, fun lX hX post hp x5 n hn => ?_, fun lY hY post hp n hn => ?_⟩
      · obtain ⟨n, rfl⟩ : ∃ m, n = m + 1 := ⟨n - 1, by omega⟩
        refine br_f (nI_nlt (by omega) (by omega)) (sw_xn hA hB hc hX (fun s' h1 h2 h3 => ?_) (fun hno => absurd hgo (hno s hs)))
        have es := uniq s' h1 h2 h3
        subst es
        refine br_t (nI_pos' (by omega)) ⟨hin, hin, nm_r (e' := upd lX s' (nI (F s' - 1))) ?_ ⟨hin, hin, nm_r (e' := nI (sw_ot A B c s')) ?_ (nm_r (nI_1 i) (gX _ (sw_Lf_dec hX s') post hp _ n (by omega)))⟩⟩
        · have hF := (hX s' hs).2
          rw [ecl, (hX s' hs).1, sw_b_dec _ (by omega) h0F]
        · rw [sw_rd (by omega), sw_rd (by omega), nI_add, pk_sub (by omega)]
          rfl
      · obtain ⟨n, rfl⟩ : ∃ m, n = m + 1 := ⟨n - 1, by omega⟩
        refine br_f (nI_nlt (by omega) (by omega)) (sw_yn hA hB hc hY (fun s' h1 h2 h3 => ?_) (fun hno => absurd hgo (hno s hs)))
        have es := uniq s' h1 h2 h3
        subst es
        refine br_f (nI_pos (by omega)) (pk_eq i k (fun e => absurd e (by omega)) (fun _ => ⟨hin, pk_eq (A s') c (fun e => ⟨hin, nm_r (e' := nI (sw_ot A B c s')) ?_ (nm_r (nI_1 i) (gY _ (sw_Lf_dec hY s') post hp n (by omega)))⟩) (fun e => ⟨hin, nm_r (e' := nI (sw_ot A B c s')) ?_ (nm_r (nI_1 i) (gY _ (sw_Lf_dec hY s') post hp n (by omega)))⟩) (hx := sw_rd (by omega))⟩))
        · rw [sw_rd (by omega)]
          congr 1
          unfold sw_ot
          omega
        · rw [sw_rd (by omega)]
          congr 1
          unfold sw_ot
          omega
    · refine ⟨-1, fun lX hX post hp x5 n hn => ?_, fun lY hY post hp n hn => ?_⟩
      · obtain ⟨n, rfl⟩ : ∃ m, n = m + 1 := ⟨n - 1, by omega⟩
        exact br_f (nI_nlt (by omega) (by omega)) (sw_xn hA hB hc hX (fun s' h1 h2 h3 => absurd ⟨s', h1, h2⟩ hex) (fun _ => br_f (by decide) (hp _)))
      · obtain ⟨n, rfl⟩ : ∃ m, n = m + 1 := ⟨n - 1, by omega⟩
        exact br_f (nI_nlt (by omega) (by omega)) (sw_yn hA hB hc hY (fun s' h1 h2 h3 => absurd ⟨s', h1, h2⟩ hex) (fun _ => br_t (by decide) (hp _)))
end
end
section
/-! ===== before the walk: what is to be gone along; building ===== -/
def sw_F0 (P b : Nat) : Nat → Nat := fun s => (P.testBit s).toNat + (b.testBit s).toNat
theorem sw_F0_le (P b s : Nat) : sw_F0 P b s ≤ 2 := by
  unfold sw_F0
  have := sw_bl (P.testBit s)
  have := sw_bl (b.testBit s)
  omega
theorem sw_F_toB {A B L : Nat → Nat} {P : Nat} {x : Int32} (hP : P < 1024) (F : sw_F A B L P 0 0 1024 x) : ∃ b, b < 1024 ∧ x = nI b ∧ sw_sub b P ∧ sw_J A B L P (sw_od A B P 10) (sw_ln L b 10) := by
  obtain ⟨c0, h1, h2, h3, h4⟩ := sw_F_some F hP (sw_C00 (sw_sub_r P) rfl)
  refine ⟨sw_rv c0, sw_rv_lt c0, h2, h3.1, fun S hS ho => ?_, fun _ => ⟨sw_rv c0, h3.1, h3.2.2.2, Nat.le_refl _⟩⟩
  exact (h4 S (sw_sub_lt (n := 10) hS hP) (sw_C00 hS ho)).1
section
variable {P : Nat} {A B L : Nat → Nat} {w p l r : Nat → Int32}
theorem sw_b_two : ∀ f g : Bool, vp_nar .byte ((nI f.toNat + nI g.toNat).toInt8.toInt32) = nI (f.toNat + g.toNat) := by
  intro f g
  rw [pk_vb]
  cases f <;> cases g <;> rfl
theorem sw_xf_72 {post : Int32 → SX → Prop} {J : Int32 → (Nat → Int32) → (Nat → Int32) → (Nat → Int32) → (Nat → Int32) → (Nat → Int32) → (Nat → Int32) → Prop} {x1 x2 z0 fp : Int32} {b i : Nat} (hb : b < 1024) (hi : i < 10) (e0 : z0 = nI (P.testBit i).toNat) (H : J (nI (i + 1)) (sw_f A) (sw_f B) (sw_f L) w p (upd l i (nI (sw_F0 P b i)))) : wX_walkAt_72 post J x1 x2 (nI b) (nI i) z0 fp (sw_f A) (sw_f B) (sw_f L) w p l := by
  subst e0
  unfold wX_walkAt_72
  refine ⟨vp_in_nI hi (by decide), nm_r (e' := upd l i (nI (sw_F0 P b i))) ?_ (nm_r (nI_1 i) H)⟩
  rw [nI_clamp (show i < 2 ^ 31 by omega), sw_bit (by omega) (by omega), sw_b_two]
  rfl
theorem sw_xf_51 {post : Int32 → SX → Prop} {x1 x2 : Int32} {b : Nat} (hP : P < 1024) (hb : b < 1024) (H : ∀ l, sw_Lf l (sw_F0 P b) → ∃ n, wX_walkAt_106 post x2 n x1 (-1) 0 (nI P) (sw_f A) (sw_f B) (sw_f L) w p l) : ∀ n i l, i ≤ 10 → 10 < n + i → (∀ s, s < i → l s = nI (sw_F0 P b s)) → wX_walkAt_51 post x1 x2 (nI b) (nI P) n (nI i) (sw_f A) (sw_f B) (sw_f L) w p l := by
  intro n
  induction n with
  | zero => intro i l hi h; omega
  | succ n ih =>
    intro i l hi h hl
    refine pk_le 10 i (fun z => ?_) (fun z => ?_)
    · have e : i = 10 := by omega
      subst e
      exact H l (fun s hs => ⟨hl s hs, sw_F0_le P b s⟩)
    · have next : wX_walkAt_51 post x1 x2 (nI b) (nI P) n (nI (i + 1)) (sw_f A) (sw_f B) (sw_f L) w p (upd l i (nI (sw_F0 P b i))) := by
        refine ih (i + 1) _ (by omega) (by omega) (fun s hs => ?_)
        by_cases e : s = i
        · subst e
          exact pk_us
        · rw [pk_un e]
          exact hl s (by omega)
      refine sw_has hP z (fun hbt => br_f (by decide) (sw_xf_72 hb z (by rw [hbt]; rfl) next)) (fun hbt => br_t rfl (sw_xf_72 hb z (by rw [Bool.eq_false_iff.mpr hbt]; rfl) next))
theorem sw_yf_41 {post : Int32 → SY → Prop} {t : Nat → Int32} {x1 x2 : Int32} {b : Nat} (hP : P < 1024) (hb : b < 1024) (H : ∀ l, sw_Lf l (sw_F0 P b) → ∃ n, wY_walkAt_81 post x2 n x1 0 t (sw_f A) (sw_f B) (sw_f L) l r) : ∀ n i l, i ≤ 10 → 10 < n + i → (∀ s, s < i → l s = nI (sw_F0 P b s)) → wY_walkAt_41 post x1 x2 (nI P) (nI b) n (nI i) t (sw_f A) (sw_f B) (sw_f L) l r := by
  intro n
  induction n with
  | zero => intro i l hi h; omega
  | succ n ih =>
    intro i l hi h hl
    refine pk_le 10 i (fun z => ?_) (fun z => ?_)
    · have e : i = 10 := by omega
      subst e
      exact H l (fun s hs => ⟨hl s hs, sw_F0_le P b s⟩)
    · refine ⟨vp_in_nI z (by decide), nm_r (e' := upd l i (nI (sw_F0 P b i))) ?_ (nm_r (nI_1 i) (ih (i + 1) _ (by omega) (by omega) (fun s hs => ?_)))⟩
      · rw [nI_clamp (show i < 2 ^ 31 by omega), sw_bit (by omega) (by omega), sw_bit (by omega) (by omega), nI_add]
        rfl
      · by_cases e : s = i
        · subst e
          exact pk_us
        · rw [pk_un e]
          exact hl s (by omega)
/-- the reference's walk, from the head -/
theorem sw_ywa {post : Int32 → SY → Prop} {c k : Nat} (hP : P < 1024) (hA : ∀ s, A s < 6) (hB : ∀ s, B s < 6) (hL : ∀ s, L s ≤ 20) (hc : c < 6) (hk : k < 20) (hco : sw_co A B P) (H : ∀ b l, b < 1024 → sw_sub b P → sw_F A B L P 0 0 1024 (nI b) → sw_Lf l (sw_F0 P b) → ∃ n, wY_walkAt_81 post (nI k) n (nI c) 0 (sw_th P) (sw_f A) (sw_f B) (sw_f L) l r) : wpY_walkAt post (sw_th P, sw_f A, sw_f B, sw_f L, l, r) (nI c) (nI k) := by
  unfold wpY_walkAt
  refine sw_ystr hP ?_
  refine sw_ybest hP hA hB hL (fun x F => ?_)
  obtain ⟨b, hb, e, hsub, J⟩ := sw_F_toB hP F
  subst e
  have hq := sw_J_P hL J
  have hl2 := sw_ln_le hL P 10
  refine sw_ywl hP hA hB hL J (fun _ => ?_) (fun z => absurd hco z)
  refine br_f (nI_pos (by omega)) (sw_yc hc (br_f (by decide) (br_f (nI_pos (by omega)) (pk_lt k 20 (fun _ => ?_) (fun z => absurd z (by omega))))))
  exact ⟨11, sw_yf_41 hP hb (fun l' hl' => H b l' hb hsub F hl') 11 0 l (by omega) (by omega) (fun s hs => absurd hs (Nat.not_lt_zero s))⟩
theorem sw_ywaN {post : Int32 → SY → Prop} {x y : Int32} (hP : P < 1024) (hA : ∀ s, A s < 6) (hB : ∀ s, B s < 6) (hL : ∀ s, L s ≤ 20) (hbad : (∀ c, c < 6 → x ≠ nI c) ∨ y < 0 ∨ nI 20 ≤ y ∨ ¬ sw_co A B P) (H : post (-1) (sw_th P, sw_f A, sw_f B, sw_f L, l, r)) : wpY_walkAt post (sw_th P, sw_f A, sw_f B, sw_f L, l, r) x y := by
  unfold wpY_walkAt
  refine sw_ystr hP ?_
  refine sw_ybest hP hA hB hL (fun x' F => ?_)
  obtain ⟨b, hb, e, hsub, J⟩ := sw_F_toB hP F
  subst e
  have hq := sw_J_P hL J
  have hl2 := sw_ln_le hL P 10
  refine sw_ywl hP hA hB hL J (fun hco => ?_) (fun z => br_t (by decide) H)
  refine br_f (nI_pos (by omega)) ?_
  rcases sw_cor x with ⟨c, hc, rfl⟩ | hx
  · refine sw_yc hc (br_f (by decide) ?_)
    rcases hbad with h | h | h | h
    · exact absurd rfl (h c hc)
    · exact br_t h H
    · refine br_c (fun _ => H) (fun _ => br_f ?_ H)
      exact Int32.not_lt.mpr h
    · exact absurd hco h
  · exact sw_ycN hx (br_t rfl H)
theorem sw_xbu {post : Int32 → SX → Prop} {a b m s : Nat} (hP : P < 1024) (ha : a < 6) (hb : b < 6) (hm : m ≤ 20) (hs : s < 10) (hbit : ¬ P.testBit s = true) (hmin : ∀ u, u < s → P.testBit u = true) (H : post (nI s) (nI (P ||| 2 ^ s), sw_f (sw_u A s a), sw_f (sw_u B s b), sw_f (sw_u L s m), w, p, l)) : ∀ n i, i ≤ s → 10 < n + i → wX_build_34 post (nI a) (nI b) (nI m) (nI P) (sw_f A) (sw_f B) (sw_f L) w p l n (nI i) := by
  intro n
  induction n with
  | zero => intro i hi h; omega
  | succ n ih =>
    intro i hi h
    refine pk_le 10 i (fun z => absurd z (by omega)) (fun z => ?_)
    have hin : vp_in (nI i) 10 := vp_in_nI z (by decide)
    refine sw_has hP z (fun hbt => br_f (by decide) ?_) (fun hbt => br_t rfl ?_)
    · refine nm_r (nI_1 i) (ih (i + 1) ?_ (by omega))
      rcases Nat.lt_or_ge i s with y | y
      · omega
      · have e : i = s := by omega
        subst e
        exact absurd hbt hbit
    · have e : i = s := by
        rcases Nat.lt_or_ge i s with y | y
        · exact absurd (hmin i y) hbt
        · omega
      subst e
      have ecl : (nI i).toNatClampNeg = i := nI_clamp (by omega)
      refine nm_r (e' := nI (P ||| 2 ^ i)) (by rw [sw_1 (by omega), sw_or]) ⟨hin, nm_r (e' := sw_f (sw_u A i a)) ?_ ⟨hin, nm_r (e' := sw_f (sw_u B i b)) ?_ ⟨hin, nm_r (e' := sw_f (sw_u L i m)) ?_ H⟩⟩⟩
      · rw [ecl, sw_nb a (by omega), sw_u_f]
      · rw [ecl, sw_nb b (by omega), sw_u_f]
      · rw [ecl, sw_nb m (by omega), sw_u_f]
theorem sw_xbuN {post : Int32 → SX → Prop} {x1 x2 x3 : Int32} (hP : P < 1024) (hall : ∀ u, u < 10 → P.testBit u = true) (H : post (-2) (nI P, sw_f A, sw_f B, sw_f L, w, p, l)) : ∀ n i, i ≤ 10 → 10 < n + i → wX_build_34 post x1 x2 x3 (nI P) (sw_f A) (sw_f B) (sw_f L) w p l n (nI i) := by
  intro n
  induction n with
  | zero => intro i hi h; omega
  | succ n ih =>
    intro i hi h
    refine pk_le 10 i (fun z => H) (fun z => ?_)
    exact sw_has hP z (fun hbt => br_f (by decide) (nm_r (nI_1 i) (ih (i + 1) (by omega) (by omega)))) (fun hbt => absurd (hall i z) hbt)
theorem sw_th_on {s : Nat} : upd (sw_th P) s (vp_nar .boolean 1) = sw_th (P ||| 2 ^ s) := by
  funext j
  have e1 : vp_nar .boolean 1 = 1 := rfl
  rw [e1]
  by_cases e : j = s
  · rw [e, pk_us]
    unfold sw_th
    rw [Nat.testBit_or, Nat.testBit_two_pow_self, Bool.or_true, if_pos rfl]
  · rw [pk_un e]
    unfold sw_th
    rw [Nat.testBit_or, Nat.testBit_two_pow_of_ne (Ne.symm e), Bool.or_false]
theorem sw_th_off {s : Nat} : upd (sw_th P) s (vp_nar .boolean 0) = sw_th (sw_an P (2 ^ s)) := by
  funext j
  have e1 : vp_nar .boolean 0 = 0 := rfl
  rw [e1]
  by_cases e : j = s
  · rw [e, pk_us]
    unfold sw_th
    rw [sw_an_t, Nat.testBit_two_pow_self, Bool.not_true, Bool.and_false, if_neg (by decide)]
  · rw [pk_un e]
    unfold sw_th
    rw [sw_an_t, Nat.testBit_two_pow_of_ne (Ne.symm e), Bool.not_false, Bool.and_true]
theorem sw_ybu {post : Int32 → SY → Prop} {a b m s : Nat} (hs : s < 10) (hbit : ¬ P.testBit s = true) (hmin : ∀ u, u < s → P.testBit u = true) (H : post (nI s) (sw_th (P ||| 2 ^ s), sw_f (sw_u A s a), sw_f (sw_u B s b), sw_f (sw_u L s m), l, r)) : ∀ n i, i ≤ s → 10 < n + i → wY_build_36 post (nI a) (nI b) (nI m) (sw_th P) (sw_f A) (sw_f B) (sw_f L) l r n (nI i) := by
  intro n
  induction n with
  | zero => intro i hi h; omega
  | succ n ih =>
    intro i hi h
    refine pk_le 10 i (fun z => absurd z (by omega)) (fun z => ?_)
    have hin : vp_in (nI i) 10 := vp_in_nI z (by decide)
    refine ⟨hin, sw_yth z (fun hbt => ?_) (fun hbt => ?_)⟩
    · have e : i = s := by
        rcases Nat.lt_or_ge i s with y | y
        · exact absurd (hmin i y) hbt
        · omega
      subst e
      have ecl : (nI i).toNatClampNeg = i := nI_clamp (by omega)
      refine ⟨hin, nm_r (e' := sw_th (P ||| 2 ^ i)) (by rw [ecl, sw_th_on]) ⟨hin, nm_r (e' := sw_f (sw_u A i a)) ?_ ⟨hin, nm_r (e' := sw_f (sw_u B i b)) ?_ ⟨hin, nm_r (e' := sw_f (sw_u L i m)) ?_ H⟩⟩⟩⟩
      · rw [ecl, sw_u_f]
      · rw [ecl, sw_u_f]
      · rw [ecl, sw_u_f]
    · refine nm_r (nI_1 i) (ih (i + 1) ?_ (by omega))
      rcases Nat.lt_or_ge i s with y | y
      · omega
      · have e : i = s := by omega
        subst e
        exact absurd hbt hbit
theorem sw_ybuN {post : Int32 → SY → Prop} {x1 x2 x3 : Int32} (hall : ∀ u, u < 10 → P.testBit u = true) (H : post (-2) (sw_th P, sw_f A, sw_f B, sw_f L, l, r)) : ∀ n i, i ≤ 10 → 10 < n + i → wY_build_36 post x1 x2 x3 (sw_th P) (sw_f A) (sw_f B) (sw_f L) l r n (nI i) := by
  intro n
  induction n with
  | zero => intro i hi h; omega
  | succ n ih =>
    intro i hi h
    refine pk_le 10 i (fun z => H) (fun z => ⟨vp_in_nI z (by decide), ?_⟩)
    exact sw_yth z (fun hbt => absurd (hall i z) hbt) (fun hbt => nm_r (nI_1 i) (ih (i + 1) (by omega) (by omega)))
end
end
section
/-! ===== the relation and the owed statements ===== -/
/-- what a town is: P the streets, A and B their ends, L their lengths -/
def sw_W (P : Nat) (A B L : Nat → Nat) : Prop := P < 1024 ∧ (∀ s, A s < 6) ∧ (∀ s, B s < 6) ∧ (∀ s, L s ≤ 20) ∧ ∀ s, s < 10 → P.testBit s = true → A s ≠ B s
def i_Rel (_ : Nat) (u : SX) (v : SY) : Prop :=
  ∃ (P : Nat) (A B L : Nat → Nat) (w p l l' r : Nat → Int32), sw_W P A B L ∧ u = (nI P, sw_f A, sw_f B, sw_f L, w, p, l) ∧ v = (sw_th P, sw_f A, sw_f B, sw_f L, l', r)
theorem sw_rel {k P : Nat} {A B L : Nat → Nat} {w p l l' r : Nat → Int32} (W : sw_W P A B L) : i_Rel k (nI P, sw_f A, sw_f B, sw_f L, w, p, l) (sw_th P, sw_f A, sw_f B, sw_f L, l', r) :=
  ⟨P, A, B, L, w, p, l, l', r, W, rfl, rfl⟩
theorem i_up {k : Nat} {u : SX} {v : SY} (h : i_Rel k u v) : i_Rel (k + 4) u v := h
theorem i_vc0 : wpX_init (fun u => wpY_init (fun v => i_Rel 0 u v)) := by
  unfold wpX_init wpY_init
  refine ⟨0, fun _ => 0, fun _ => 0, fun _ => 0, fun _ => 0, fun _ => 0, fun _ => 0, fun _ => 0, fun _ => 0, ⟨by decide, fun _ => show 0 < 6 by decide, fun _ => show 0 < 6 by decide, fun _ => show 0 ≤ 20 by decide, fun s _ h => ?_⟩, rfl, ?_⟩
  · rw [Nat.zero_testBit] at h
    exact absurd h (by decide)
  · have e : sw_th 0 = fun _ => 0 := by
      funext j
      unfold sw_th
      rw [Nat.zero_testBit, if_neg (by decide)]
    rw [e]
    rfl
theorem i_vc_build {k : Nat} {u : SX} {v : SY} (I : i_Rel k u v) (hk : k + 4 ≤ 2048) (v1 : Int32) (v2 : Int32) (v3 : Int32) : wpX_build (fun r u' => wpY_build (fun r' v' => r' = r ∧ i_Rel (k + 4) u' v') v v1 v2 v3) u v1 v2 v3 := by
  obtain ⟨P, A, B, L, w, p, l, l', r, W, rfl, rfl⟩ := I
  have W' := W
  obtain ⟨hP, hA, hB, hL, hn⟩ := W'
  unfold wpX_build wpY_build
  by_cases h12 : v1 = v2
  · exact br_t h12 (br_t h12 ⟨rfl, sw_rel W⟩)
  refine br_f h12 ?_
  rcases sw_cor v1 with ⟨a, ha, rfl⟩ | hx
  · refine sw_isc ha (br_f (by decide) ?_)
    rcases sw_cor v2 with ⟨b, hb, rfl⟩ | hx
    · refine sw_isc hb (br_f (by decide) ?_)
      by_cases h0 : v3 < 0
      · exact br_t h0 (br_f h12 (sw_yc ha (br_f (by decide) (sw_yc hb (br_f (by decide) (br_t h0 ⟨rfl, sw_rel W⟩))))))
      · refine br_f h0 ?_
        by_cases h20 : v3 ≤ 20
        · obtain ⟨m, hm, rfl⟩ := nI_of2 (n := 20) (by decide) h0 h20
          refine br_t h20 ?_
          have hab : a ≠ b := fun e => h12 (congrArg nI e)
          by_cases hex : ∃ s, s < 10 ∧ ¬ P.testBit s = true
          · obtain ⟨s, ⟨hs, hbit⟩, hmin⟩ := pk_least _ hex
            have hmin' : ∀ u, u < s → P.testBit u = true := by
              intro u hu
              cases z : P.testBit u
              · exact absurd ⟨by omega, by rw [z]; decide⟩ (hmin u hu)
              · rfl
            refine ⟨11, sw_xbu hP ha hb hm hs hbit hmin' ?_ 11 0 (by omega) (by omega)⟩
            refine br_f h12 (sw_yc ha (br_f (by decide) (sw_yc hb (br_f (by decide) (br_f h0 (br_t h20 ?_))))))
            refine ⟨11, sw_ybu hs hbit hmin' ⟨rfl, sw_rel ⟨?_, ?_, ?_, ?_, ?_⟩⟩ 11 0 (by omega) (by omega)⟩
            · exact Nat.or_lt_two_pow (n := 10) hP (Nat.pow_lt_pow_right (by omega) hs)
            · intro j
              unfold sw_u
              split
              · exact ha
              · exact hA j
            · intro j
              unfold sw_u
              split
              · exact hb
              · exact hB j
            · intro j
              unfold sw_u
              split
              · exact hm
              · exact hL j
            · intro j hj hbj
              unfold sw_u
              by_cases e : j = s
              · rw [if_pos e, if_pos e]
                exact hab
              · rw [if_neg e, if_neg e]
                rw [Nat.testBit_or, Nat.testBit_two_pow_of_ne (Ne.symm e), Bool.or_false] at hbj
                exact hn j hj hbj
          · have hall : ∀ u, u < 10 → P.testBit u = true := by
              intro u hu
              cases z : P.testBit u
              · exact absurd ⟨u, hu, by rw [z]; decide⟩ hex
              · rfl
            refine ⟨11, sw_xbuN hP hall ?_ 11 0 (by omega) (by omega)⟩
            refine br_f h12 (sw_yc ha (br_f (by decide) (sw_yc hb (br_f (by decide) (br_f h0 (br_t h20 ?_))))))
            exact ⟨11, sw_ybuN hall ⟨rfl, sw_rel W⟩ 11 0 (by omega) (by omega)⟩
        · exact br_f h20 (br_f h12 (sw_yc ha (br_f (by decide) (sw_yc hb (br_f (by decide) (br_f h0 (br_f h20 ⟨rfl, sw_rel W⟩)))))))
    · exact sw_iscN hx (br_t rfl (br_f h12 (sw_yc ha (br_f (by decide) (sw_ycN hx (br_t rfl ⟨rfl, sw_rel W⟩))))))
  · exact sw_iscN hx (br_t rfl (br_f h12 (sw_ycN hx (br_t rfl ⟨rfl, sw_rel W⟩))))
theorem i_vc_close {k : Nat} {u : SX} {v : SY} (I : i_Rel k u v) (hk : k + 4 ≤ 2048) (v1 : Int32) : wpX_close (fun r u' => wpY_close (fun r' v' => r' = r ∧ i_Rel (k + 4) u' v') v v1) u v1 := by
  obtain ⟨P, A, B, L, w, p, l, l', r, W, rfl, rfl⟩ := I
  have W' := W
  obtain ⟨hP, hA, hB, hL, hn⟩ := W'
  unfold wpX_close wpY_close
  rcases sw_cls P v1 with ⟨s, hs, rfl, hb⟩ | hx
  · refine sw_has hP hs (fun _ => br_f (by decide) (nm_r (sw_off_I hs) ?_)) (fun z => absurd hb z)
    refine sw_ystreet hs hb (br_f (by decide) ⟨vp_in_nI hs (by decide), nm_r (e' := sw_th (sw_an P (2 ^ s))) (by rw [nI_clamp (show s < 2 ^ 31 by omega), sw_th_off]) ⟨rfl, sw_rel ⟨sw_an_lt hP, hA, hB, hL, fun j hj g => hn j hj (sw_an_sub _ _ j g)⟩⟩⟩)
  · exact sw_hasN hP hx (br_t rfl (sw_ystreetN hx (br_t rfl ⟨rfl, sw_rel W⟩)))
theorem i_vc_setLength {k : Nat} {u : SX} {v : SY} (I : i_Rel k u v) (hk : k + 4 ≤ 2048) (v1 : Int32) (v2 : Int32) : wpX_setLength (fun r u' => wpY_setLength (fun r' v' => r' = r ∧ i_Rel (k + 4) u' v') v v1 v2) u v1 v2 := by
  obtain ⟨P, A, B, L, w, p, l, l', r, W, rfl, rfl⟩ := I
  have W' := W
  obtain ⟨hP, hA, hB, hL, hn⟩ := W'
  unfold wpX_setLength wpY_setLength
  rcases sw_cls P v1 with ⟨s, hs, rfl, hb⟩ | hx
  · refine sw_has hP hs (fun _ => br_f (by decide) ?_) (fun z => absurd hb z)
    by_cases h0 : v2 < 0
    · exact br_t h0 (sw_ystreet hs hb (br_f (by decide) (br_t h0 ⟨rfl, sw_rel W⟩)))
    · by_cases h20 : v2 ≤ 20
      · obtain ⟨m, hm, rfl⟩ := nI_of2 (n := 20) (by decide) h0 h20
        have ecl : (nI s).toNatClampNeg = s := nI_clamp (by omega)
        refine br_f h0 (br_t h20 ⟨vp_in_nI hs (by decide), nm_r (e' := sw_f (sw_u L s m)) (by rw [ecl, sw_nb m (by omega), sw_u_f]) ?_⟩)
        refine sw_ystreet hs hb (br_f (by decide) (br_f h0 (br_t h20 ⟨vp_in_nI hs (by decide), nm_r (e' := sw_f (sw_u L s m)) (by rw [ecl, sw_u_f]) ⟨rfl, sw_rel ⟨hP, hA, hB, ?_, hn⟩⟩⟩)))
        intro j
        unfold sw_u
        split
        · exact hm
        · exact hL j
      · exact br_f h0 (br_f h20 (sw_ystreet hs hb (br_f (by decide) (br_f h0 (br_f h20 ⟨rfl, sw_rel W⟩)))))
  · exact sw_hasN hP hx (br_t rfl (sw_ystreetN hx (br_t rfl ⟨rfl, sw_rel W⟩)))
theorem i_vc_streets {k : Nat} {u : SX} {v : SY} (I : i_Rel k u v) (hk : k + 4 ≤ 2048) : wpX_streets (fun r => wpY_streets (fun r' => r' = r ∧ i_Rel (k + 4) u v) v) u := by
  obtain ⟨P, A, B, L, w, p, l, l', r, W, rfl, rfl⟩ := I
  unfold wpX_streets
  exact sw_ystr W.1 ⟨rfl, sw_rel W⟩
theorem i_vc_odd {k : Nat} {u : SX} {v : SY} (I : i_Rel k u v) (hk : k + 4 ≤ 2048) : wpX_odd (fun r => wpY_odd (fun r' => r' = r ∧ i_Rel (k + 4) u v) v) u := by
  obtain ⟨P, A, B, L, w, p, l, l', r, W, rfl, rfl⟩ := I
  have W' := W
  obtain ⟨hP, hA, hB, hL, hn⟩ := W'
  exact sw_xodd hP hA hB hn (sw_yodd hP hA hB ⟨rfl, sw_rel W⟩)
theorem i_vc_connected {k : Nat} {u : SX} {v : SY} (I : i_Rel k u v) (hk : k + 4 ≤ 2048) : wpX_connected (fun r => wpY_connected (fun r' => r' = r ∧ i_Rel (k + 4) u v) v) u := by
  obtain ⟨P, A, B, L, w, p, l, l', r, W, rfl, rfl⟩ := I
  have W' := W
  obtain ⟨hP, hA, hB, hL, hn⟩ := W'
  exact sw_xcon hP hA hB (fun h => sw_ycon hP hA hB (fun _ => ⟨rfl, sw_rel W⟩) (fun z => absurd h z)) (fun h => sw_ycon hP hA hB (fun z => absurd z h) (fun _ => ⟨rfl, sw_rel W⟩))
theorem i_vc_extra {k : Nat} {u : SX} {v : SY} (I : i_Rel k u v) (hk : k + 4 ≤ 2048) : wpX_extra (fun r u' => wpY_extra (fun r' => r' = r ∧ i_Rel (k + 4) u' v) v) u := by
  obtain ⟨P, A, B, L, w, p, l, l', r, W, rfl, rfl⟩ := I
  have W' := W
  obtain ⟨hP, hA, hB, hL, hn⟩ := W'
  exact sw_xextra hP hA hB hL hn (fun q w' p' _ J => sw_yextra hP hA hB hL J ⟨rfl, sw_rel W⟩)
theorem i_vc_bestSet {k : Nat} {u : SX} {v : SY} (I : i_Rel k u v) (hk : k + 4 ≤ 2048) : wpX_bestSet (fun r u' => wpY_bestSet (fun r' => r' = r ∧ i_Rel (k + 4) u' v) v) u := by
  obtain ⟨P, A, B, L, w, p, l, l', r, W, rfl, rfl⟩ := I
  have W' := W
  obtain ⟨hP, hA, hB, hL, hn⟩ := W'
  exact sw_xbest hP hA hB hL hn (fun b w' p' hb => sw_ybest hP hA hB hL (fun x F => ⟨sw_F_B hP F hb, sw_rel W⟩))
theorem i_vc_extraWith {k : Nat} {u : SX} {v : SY} (I : i_Rel k u v) (hk : k + 4 ≤ 2048) (v1 : Int32) : wpX_extraWith (fun r u' => wpY_extraWith (fun r' => r' = r ∧ i_Rel (k + 4) u' v) v v1) u v1 := by
  obtain ⟨P, A, B, L, w, p, l, l', r, W, rfl, rfl⟩ := I
  have W' := W
  obtain ⟨hP, hA, hB, hL, hn⟩ := W'
  rcases sw_cls P v1 with ⟨s, hs, rfl, hb⟩ | hx
  · exact sw_xwith hP hA hB hL hn hs hb (fun q w' p' J => ⟨fun hq => sw_ywith hP hA hB hL hs hb J (fun _ => ⟨rfl, sw_rel W⟩) (fun z => absurd z (by omega)), fun hq => sw_ywith hP hA hB hL hs hb J (fun z => absurd z (by omega)) (fun _ => ⟨rfl, sw_rel W⟩)⟩)
  · unfold wpX_extraWith wpY_extraWith
    exact sw_hasN hP hx (br_t rfl (sw_ystreetN hx (br_t rfl ⟨rfl, sw_rel W⟩)))
theorem i_vc_extraWithout {k : Nat} {u : SX} {v : SY} (I : i_Rel k u v) (hk : k + 4 ≤ 2048) (v1 : Int32) : wpX_extraWithout (fun r u' => wpY_extraWithout (fun r' => r' = r ∧ i_Rel (k + 4) u' v) v v1) u v1 := by
  obtain ⟨P, A, B, L, w, p, l, l', r, W, rfl, rfl⟩ := I
  have W' := W
  obtain ⟨hP, hA, hB, hL, hn⟩ := W'
  rcases sw_cls P v1 with ⟨s, hs, rfl, hb⟩ | hx
  · exact sw_xwo hP hA hB hL hn hs hb (fun q w' p' J => ⟨fun hq => sw_ywo hP hA hB hL hs hb J (fun _ => ⟨rfl, sw_rel W⟩) (fun z => absurd z (by omega)), fun hq => sw_ywo hP hA hB hL hs hb J (fun z => absurd z (by omega)) (fun _ => ⟨rfl, sw_rel W⟩)⟩)
  · unfold wpX_extraWithout wpY_extraWithout
    exact sw_hasN hP hx (br_t rfl (sw_ystreetN hx (br_t rfl ⟨rfl, sw_rel W⟩)))
theorem i_vc_way {k : Nat} {u : SX} {v : SY} (I : i_Rel k u v) (hk : k + 4 ≤ 2048) (v1 : Int32) (v2 : Int32) : wpX_way (fun r u' => wpY_way (fun r' v' => r' = r ∧ i_Rel (k + 4) u' v') v v1 v2) u v1 v2 := by
  obtain ⟨P, A, B, L, w, p, l, l', r, W, rfl, rfl⟩ := I
  have W' := W
  obtain ⟨hP, hA, hB, hL, hn⟩ := W'
  rcases sw_cor v1 with ⟨a, ha, rfl⟩ | hx
  · rcases sw_cor v2 with ⟨b, hb, rfl⟩ | hx
    · unfold wpX_way
      refine sw_isc ha (br_f (by decide) (sw_isc hb (br_f (by decide) ?_)))
      refine sw_xmea hP hA hB hL (fun w' d R M => ?_)
      have e1 : nI a * 6 + nI b = nI (a * 6 + b) := by
        rw [show (6 : Int32) = nI 6 from rfl, pk_mul, nI_add]
      have hd := M.1.2.1 a b ha hb
      refine ⟨by rw [e1]; exact vp_in_nI (by omega) (by decide), nm_r (e' := nI (d a b)) ?_ ?_⟩
      · rw [e1, nI_clamp (show a * 6 + b < 2 ^ 31 by omega), sw_Rp_at R ha hb]
      · exact pk_le 100000 (d a b) (fun z => sw_yway hA hB hL hn M ha hb (fun r' => ⟨fun _ => ⟨rfl, sw_rel W⟩, fun y => absurd y (by omega)⟩)) (fun z => sw_yway hA hB hL hn M ha hb (fun r' => ⟨fun y => absurd y (by omega), fun _ => ⟨rfl, sw_rel W⟩⟩))
    · unfold wpX_way wpY_way
      exact sw_isc ha (br_f (by decide) (sw_iscN hx (br_t rfl (sw_yc ha (br_f (by decide) (sw_ycN hx (br_t rfl ⟨rfl, sw_rel W⟩)))))))
  · unfold wpX_way wpY_way
    exact sw_iscN hx (br_t rfl (sw_ycN hx (br_t rfl ⟨rfl, sw_rel W⟩)))
theorem i_vc_walkLength {k : Nat} {u : SX} {v : SY} (I : i_Rel k u v) (hk : k + 4 ≤ 2048) : wpX_walkLength (fun r u' => wpY_walkLength (fun r' => r' = r ∧ i_Rel (k + 4) u' v) v) u := by
  obtain ⟨P, A, B, L, w, p, l, l', r, W, rfl, rfl⟩ := I
  have W' := W
  obtain ⟨hP, hA, hB, hL, hn⟩ := W'
  exact sw_xwl hP hA hB hL hn (fun q w' p' _ J => ⟨fun hc => sw_ywl hP hA hB hL J (fun _ => ⟨rfl, sw_rel W⟩) (fun z => absurd hc z), fun hc => sw_ywl hP hA hB hL J (fun z => absurd z hc) (fun _ => ⟨rfl, sw_rel W⟩)⟩)
theorem i_vc_walkAt {k : Nat} {u : SX} {v : SY} (I : i_Rel k u v) (hk : k + 4 ≤ 2048) (v1 : Int32) (v2 : Int32) : wpX_walkAt (fun r u' => wpY_walkAt (fun r' v' => r' = r ∧ i_Rel (k + 4) u' v') v v1 v2) u v1 v2 := by
  obtain ⟨P, A, B, L, w, p, l, l', r, W, rfl, rfl⟩ := I
  have W' := W
  obtain ⟨hP, hA, hB, hL, hn⟩ := W'
  unfold wpX_walkAt
  rcases sw_cor v1 with ⟨c, hc, rfl⟩ | hx
  · refine sw_isc hc (br_f (by decide) ?_)
    rcases pk_ix v2 (n := 20) (by decide) with h | h | ⟨j, hj, rfl⟩
    · exact br_t h (sw_ywaN hP hA hB hL (Or.inr (Or.inl h)) ⟨rfl, sw_rel W⟩)
    · have hN := sw_ywaN (l := l') (r := r) (x := nI c) (post := fun r' v' => r' = -1 ∧ i_Rel (k + 4) (nI P, sw_f A, sw_f B, sw_f L, w, p, l) v') hP hA hB hL (Or.inr (Or.inr (Or.inl h))) ⟨rfl, sw_rel W⟩
      refine br_c (fun _ => hN) (fun h0 => ?_)
      obtain ⟨j, hj, rfl⟩ := nI_of h0
      rw [nI_leI (by decide) hj] at h
      exact pk_lt 19 j (fun _ => hN) (fun z => absurd z (by omega))
    · refine br_f (nI_pos (by omega)) (pk_lt 19 j (fun z => absurd z (by omega)) (fun _ => ?_))
      refine sw_xwl hP hA hB hL hn (fun q w' p' hq J => ⟨fun hco => ?_, fun hco => br_f (by decide) (sw_ywaN hP hA hB hL (Or.inr (Or.inr (Or.inr hco))) ⟨rfl, sw_rel W⟩)⟩)
      have hl2 := sw_ln_le hL P 10
      have htl := sw_to_lt hA hB P 10
      refine br_t (nI_pos' (by omega)) (sw_xtou hP hA hB (sw_br0 (by omega) (by omega) (fun ht => ?_) (fun ht => ?_)))
      · -- nothing ends at c
        refine sw_ywa hP hA hB hL hc hj hco (fun b l1 hb hsub F hl1 => ⟨1, ?_⟩)
        refine br_f (nI_nlt (a := j) (b := 0) (by omega) (by omega)) (sw_yn hA hB hc hl1 (fun s hs hg _ => ?_) (fun _ => br_t (by decide) ⟨rfl, sw_rel W⟩))
        exfalso
        apply ht
        refine (sw_to_t A B P c 10).mpr ⟨s, hs, ?_, hg.2.1⟩
        have h0 := hg.1
        unfold sw_F0 at h0
        cases z : P.testBit s
        · cases z2 : b.testBit s
          · rw [z, z2] at h0
            exact absurd h0 (by decide)
          · have := hsub s z2
            rw [z] at this
            exact this
        · rfl
      · refine sw_xbest hP hA hB hL hn (fun b w2 p2 hb => ?_)
        have hb' : b < 1024 := sw_sub_lt (n := 10) hb.1 hP
        refine ⟨11, sw_xf_51 hP hb' (fun lX hlX => ?_) 11 0 _ (by omega) (by omega) (fun s hs => absurd hs (Nat.not_lt_zero s))⟩
        obtain ⟨x, gX, gY⟩ := sw_walk (L := L) (w := w2) (p := p2) (r := r) (fp := nI P) (t := sw_th P) hA hB hj j 0 (sw_F0 P b) c (by omega) hc
        refine ⟨j + 2, gX lX hlX _ (fun l1 => ?_) (-1) (j + 2) (by omega)⟩
        refine sw_ywa hP hA hB hL hc hj hco (fun b2 lY hb2 hsub F hlY => ⟨j + 2, ?_⟩)
        have eb : b2 = b := by
          have := sw_F_B hP F hb
          exact (nI_eq (by omega) (by omega)).mp this
        subst eb
        exact gY lY hlY _ (fun l2 => ⟨rfl, sw_rel W⟩) (j + 2) (by omega)
  · exact sw_iscN hx (br_t rfl (sw_ywaN hP hA hB hL (Or.inl hx) ⟨rfl, sw_rel W⟩))
end
