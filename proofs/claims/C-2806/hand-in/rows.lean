section
/-! rows of the kit to paste (starting text) -/
theorem pk_us {f : Nat → Int32} {k : Nat} {x : Int32} : upd f k x k = x := if_pos rfl
theorem pk_un {f : Nat → Int32} {k j : Nat} {x : Int32} (h : j ≠ k) : upd f k x j = f j := if_neg h
theorem pk_sub {a b : Nat} (h : b ≤ a) : nI a - nI b = nI (a - b) := by
  obtain ⟨c, rfl⟩ : ∃ c, a = c + b := ⟨a - b, by omega⟩
  rw [← nI_add, Int32.add_sub_cancel, Nat.add_sub_cancel]
theorem pk_m1 (n : Nat) : nI (n + 1) + (-1) = nI n := by
  rw [← nI_1, Int32.add_assoc, show (1 : Int32) + (-1) = 0 from rfl, Int32.add_zero]
theorem pk_mul (a b : Nat) : nI a * nI b = nI (a * b) := (Int32.ofNat_mul a b).symm
theorem pk_div {a d : Nat} (ha : a < 2 ^ 31) (h0 : 0 < d) (hd : d < 2 ^ 31) : nI a / nI d = nI (a / d) := by
  apply Int32.toInt_inj.mp
  rw [lg_idiv_nonneg (by rw [nI_toInt ha]; omega) (by rw [nI_toInt hd]; omega), nI_toInt ha, nI_toInt hd, nI_toInt (Nat.lt_of_le_of_lt (Nat.div_le_self a d) ha)]
  first | rfl | exact (Int.natCast_ediv _ _).symm
theorem pk_rem {a d : Nat} (ha : a < 2 ^ 31) (h0 : 0 < d) (hd : d < 2 ^ 31) : nI a - nI a / nI d * nI d = nI (a % d) := by
  rw [pk_div ha h0 hd, pk_mul, pk_sub (Nat.div_mul_le_self a d)]
  exact congrArg nI (by have := Nat.div_add_mod' a d; omega)
theorem pk_le {x y : Int32} {A B : Prop} (a b : Nat) (f : a ≤ b → A) (g : b < a → B) (hx : x = nI a := by rfl) (hy : y = nI b := by rfl) (ha : a < 2 ^ 31 := by omega) (hb : b < 2 ^ 31 := by omega) : (x ≤ y → A) ∧ (¬ x ≤ y → B) := by
  subst hx hy
  rw [nI_leI ha hb]
  exact ⟨f, fun z => g (by omega)⟩
theorem pk_lt {x y : Int32} {A B : Prop} (a b : Nat) (f : a < b → A) (g : b ≤ a → B) (hx : x = nI a := by rfl) (hy : y = nI b := by rfl) (ha : a < 2 ^ 31 := by omega) (hb : b < 2 ^ 31 := by omega) : (x < y → A) ∧ (¬ x < y → B) := by
  subst hx hy
  rw [nI_ltI ha hb]
  exact ⟨f, fun z => g (by omega)⟩
theorem pk_eq {x y : Int32} {A B : Prop} (a b : Nat) (f : a = b → A) (g : a ≠ b → B) (hx : x = nI a := by rfl) (hy : y = nI b := by rfl) (ha : a < 2 ^ 31 := by omega) (hb : b < 2 ^ 31 := by omega) : (x = y → A) ∧ (¬ x = y → B) := by
  subst hx hy
  rw [nI_eq ha hb]
  exact ⟨f, g⟩
theorem pk_in {x : Int32} (n N : Nat) (h : n < N) (hx : x = nI n := by rfl) (hN : N < 2 ^ 31 := by omega) : vp_in x N := by
  subst hx
  exact vp_in_nI h hN
theorem pk_cl {x : Int32} (n : Nat) (hx : x = nI n := by rfl) (h : n < 2 ^ 31 := by omega) : x.toNatClampNeg = n := by
  subst hx
  exact nI_clamp h
theorem pk_tn {n : Nat} (h : n < 2 ^ 32) : (nI n).toBitVec.toNat = n := Nat.mod_eq_of_lt h
theorem pk_shl (a s : Int32) (k : Nat) (hs : (s.toBitVec.smod 32).toNat = k) : (a <<< s).toBitVec.toNat = a.toBitVec.toNat * 2 ^ k % 2 ^ 32 := by
  show (a.toBitVec <<< (s.toBitVec.smod 32).toNat).toNat = _
  rw [hs, BitVec.toNat_shiftLeft, Nat.shiftLeft_eq]
theorem pk_shlN {n : Nat} (s : Int32) (k : Nat) (hs : (s.toBitVec.smod 32).toNat = k) (h : n * 2 ^ k < 2 ^ 32) : nI n <<< s = nI (n * 2 ^ k) := by
  apply Int32.toBitVec_inj.mp
  apply BitVec.eq_of_toNat_eq
  have hn : n < 2 ^ 32 := Nat.lt_of_le_of_lt (Nat.le_mul_of_pos_right n (Nat.two_pow_pos k)) h
  rw [pk_shl _ _ k hs, pk_tn hn, pk_tn h, Nat.mod_eq_of_lt h]
theorem pk_shr (a s : Int32) (k : Nat) (hs : (s.toBitVec.smod 32).toNat = k) : (a >>> s).toInt = a.toInt >>> k := by
  show (a.toBitVec.sshiftRight (s.toBitVec.smod 32).toNat).toInt = _
  rw [hs, BitVec.toInt_sshiftRight]
  rfl
theorem pk_shrN {n : Nat} (h : n < 2 ^ 31) (s : Int32) (k : Nat) (hs : (s.toBitVec.smod 32).toNat = k) : nI n >>> s = nI (n / 2 ^ k) := by
  apply Int32.toInt_inj.mp
  have h2 : n / 2 ^ k ≤ n := Nat.div_le_self _ _
  rw [pk_shr _ _ k hs, nI_toInt h, nI_toInt (by omega), Int.shiftRight_eq_div_pow]
  rfl
theorem s_l : ∀ n, n < 32 → ((nI n &&& 31).toBitVec.smod 32).toNat = n := by decide +kernel
theorem nx_and (a b : Nat) : nI a &&& nI b = nI (a &&& b) := by
  apply Int32.toBitVec_inj.1
  show BitVec.ofNat 32 a &&& BitVec.ofNat 32 b = BitVec.ofNat 32 (a &&& b)
  apply BitVec.eq_of_getLsbD_eq
  intro i hi
  simp [hi]
theorem nx_xor (a b : Nat) : nI a ^^^ nI b = nI (a ^^^ b) := by
  apply Int32.toBitVec_inj.1
  show BitVec.ofNat 32 a ^^^ BitVec.ofNat 32 b = BitVec.ofNat 32 (a ^^^ b)
  apply BitVec.eq_of_getLsbD_eq
  intro i hi
  simp [hi]
theorem nx_cnt : ∀ j : Fin 32, (UInt32.ofNat j.val &&& Int32.toUInt32 31).toNat % 32 = j.val := by decide +kernel
theorem nx_ush {k j : Nat} (hk : k < 65536) (hj : j < 32) : ((nI k).toUInt32 >>> ((nI j).toUInt32 &&& Int32.toUInt32 31)).toInt32 = nI (k >>> j) := by
  have hs : k >>> j ≤ k := by
    rw [Nat.shiftRight_eq_div_pow]
    exact Nat.div_le_self _ _
  have e2 : UInt32.ofNat k >>> (UInt32.ofNat j &&& Int32.toUInt32 31) = UInt32.ofNat (k >>> j) := by
    apply UInt32.toNat_inj.1
    have h1 : (UInt32.ofNat k).toNat = k := Nat.mod_eq_of_lt (by omega)
    have h2 : (UInt32.ofNat (k >>> j)).toNat = k >>> j := Nat.mod_eq_of_lt (by omega)
    rw [UInt32.toNat_shiftRight, nx_cnt ⟨j, hj⟩, h1, h2]
  show (UInt32.ofNat k >>> (UInt32.ofNat j &&& Int32.toUInt32 31)).toInt32 = _
  rw [e2]
  rfl
theorem nx_bit {k j : Nat} (hk : k < 65536) (hj : j < 16) : (((nI k).toUInt32 >>> ((nI j).toUInt32 &&& Int32.toUInt32 31)).toInt32 &&& 1) = 0 ↔ k.testBit j = false := by
  rw [nx_ush hk (by omega)]
  show nI (k >>> j) &&& nI 1 = 0 ↔ _
  rw [nx_and, Nat.and_one_is_mod, ← nI_0, nI_eq (by omega) (by omega), Nat.testBit_eq_decide_div_mod_eq, Nat.shiftRight_eq_div_pow, decide_eq_false_iff_not]
  generalize k / 2 ^ j = z
  omega
/-! own rows: ints as naturals -/
theorem ba_or (a b : Nat) : nI a ||| nI b = nI (a ||| b) := by
  apply Int32.toBitVec_inj.1
  show BitVec.ofNat 32 a ||| BitVec.ofNat 32 b = BitVec.ofNat 32 (a ||| b)
  apply BitVec.eq_of_getLsbD_eq
  intro i hi
  simp [hi]
theorem ba_shl : ∀ j, j < 32 → (1 : Int32) <<< (nI j &&& 31) = nI (2 ^ j) := by decide +kernel
theorem ba_shr {c j : Nat} (hc : c < 2 ^ 31) (hj : j < 32) : nI c >>> (nI j &&& 31) = nI (c / 2 ^ j) := pk_shrN hc _ j (s_l j hj)
theorem ba_bitY {c j : Nat} (hc : c < 2 ^ 31) (hj : j < 32) : (nI c >>> (nI j &&& 31)) &&& 1 = 1 ↔ c.testBit j = true := by
  rw [ba_shr hc hj]
  show nI (c / 2 ^ j) &&& nI 1 = nI 1 ↔ _
  rw [nx_and, Nat.and_one_is_mod, nI_eq (by omega) (by omega), Nat.testBit_eq_decide_div_mod_eq, decide_eq_true_iff]
theorem ba_nar1 : vp_nar .boolean 1 = 1 := by rfl
theorem ba_nar0 : vp_nar .boolean 0 = 0 := by rfl
theorem ba_pow {a b : Nat} (h : a ≤ b) : 2 ^ a ≤ 2 ^ b := Nat.pow_le_pow_right (by decide) h
theorem ba_powlt {a b : Nat} (h : a < b) : 2 ^ a < 2 ^ b := Nat.pow_lt_pow_right (by decide) h
theorem ba_nf {x : Bool} (h : ¬ x = false) : x = true := by cases x <;> first | rfl | exact absurd rfl h
theorem ba_nt {x : Bool} (h : ¬ x = true) : x = false := by cases x <;> first | rfl | exact absurd rfl h
end
section
/-! chains as naturals, the sum is xor: leading bits, elimination's invariant, counts -/
theorem li_xx (a b : Nat) : a ^^^ b ^^^ b = a := by rw [Nat.xor_assoc, Nat.xor_self, Nat.xor_zero]
theorem li_xl (a b : Nat) : a ^^^ (a ^^^ b) = b := by rw [← Nat.xor_assoc, Nat.xor_self, Nat.zero_xor]
theorem li_x0 {a b : Nat} (h : a ^^^ b = 0) : a = b := by
  have e := li_xx a b
  rw [h, Nat.zero_xor] at e
  exact e.symm
theorem li_hi {w m j : Nat} (h : w < 2 ^ m) (hj : m ≤ j) : w.testBit j = false := Nat.testBit_lt_two_pow (Nat.lt_of_lt_of_le h (ba_pow hj))
theorem li_lt {x y i : Nat} (hx : x.testBit i = false) (hy : y.testBit i = true) (h : ∀ j, i < j → x.testBit j = y.testBit j) : x < y := by
  have e : x / 2 ^ (i + 1) = y / 2 ^ (i + 1) := by
    apply Nat.eq_of_testBit_eq
    intro j
    rw [Nat.testBit_div_two_pow, Nat.testBit_div_two_pow]
    exact h _ (by omega)
  rw [Nat.testBit_eq_decide_div_mod_eq] at hx hy
  have hx := of_decide_eq_false hx
  have hy := of_decide_eq_true hy
  rw [Nat.pow_succ, ← Nat.div_div_eq_div_mul, ← Nat.div_div_eq_div_mul] at e
  apply Nat.lt_of_not_le
  intro hle
  have hd := Nat.div_le_div_right (c := 2 ^ i) hle
  generalize x / 2 ^ i = q at *
  generalize y / 2 ^ i = r at *
  omega
theorem li_addx {i c : Nat} (h : c < 2 ^ i) : 2 ^ i + c = 2 ^ i ^^^ c := by
  apply Nat.eq_of_testBit_eq
  intro j
  rw [Nat.testBit_xor, Nat.testBit_two_pow]
  rcases Nat.lt_trichotomy j i with z | z | z
  · rw [Nat.testBit_two_pow_add_gt z, decide_eq_false (by omega), Bool.false_xor]
  · subst z
    rw [Nat.testBit_two_pow_add_eq, li_hi h (Nat.le_refl _), decide_eq_true rfl]
    rfl
  · have a1 := ba_pow (show i + 1 ≤ j from z)
    have a2 : 2 ^ (i + 1) = 2 ^ i + 2 ^ i := by rw [Nat.pow_succ]; omega
    rw [Nat.testBit_lt_two_pow (show 2 ^ i + c < 2 ^ j by omega), Nat.testBit_lt_two_pow (show c < 2 ^ j by omega), decide_eq_false (by omega)]
    rfl
/-- b is the leading bit of w -/
def li_ld (w b : Nat) : Prop := w.testBit b = true ∧ ∀ j, b < j → w.testBit j = false
theorem li_ldE {w : Nat} (h : w ≠ 0) : li_ld w w.log2 := ⟨Nat.testBit_log2 h, fun _ hj => li_hi Nat.lt_log2_self hj⟩
theorem li_ldb {w b : Nat} (h : li_ld w b) : w < 2 ^ (b + 1) := Nat.lt_pow_two_of_testBit w (fun i hi => h.2 i hi)
theorem li_ldn {w b : Nat} (h : li_ld w b) : w ≠ 0 := by
  intro z
  have e := h.1
  rw [z, Nat.zero_testBit] at e
  cases e
theorem li_ldlt {w b m : Nat} (h : li_ld w b) (hw : w < 2 ^ m) : b < m := by
  apply Nat.lt_of_not_le
  intro hm
  have e := li_hi hw hm
  rw [h.1] at e
  cases e
theorem li_ldu {w b c : Nat} (h : li_ld w b) (k : li_ld w c) : b = c := by
  rcases Nat.lt_trichotomy b c with z | z | z
  · have e := h.2 c z
    rw [k.1] at e
    cases e
  · exact z
  · have e := k.2 b z
    rw [h.1] at e
    cases e
theorem li_min {l w b : Nat} (hb : li_ld w b) (hl : l.testBit b = false) : l < l ^^^ w :=
  li_lt hl (by rw [Nat.testBit_xor, hl, hb.1]; rfl) (fun j hj => by rw [Nat.testBit_xor, hb.2 j hj, Bool.xor_false])
theorem li_ldt {t i : Nat} (h : t < 2 ^ i) : li_ld (t ^^^ 2 ^ i) i := by
  constructor
  · rw [Nat.testBit_xor, li_hi h (Nat.le_refl _), Nat.testBit_two_pow_self]
    rfl
  · intro j hj
    rw [Nat.testBit_xor, li_hi h (by omega), Nat.testBit_two_pow_of_ne (by omega)]
    rfl
theorem li_low {c t i : Nat} (hc : c < 2 ^ (i + 1)) (hb : c.testBit i = true) (ht : li_ld t i) : c ^^^ t < 2 ^ i := by
  apply Nat.lt_pow_two_of_testBit
  intro j hj
  rw [Nat.testBit_xor]
  rcases Nat.lt_or_ge i j with z | z
  · rw [li_hi hc (by omega), ht.2 j z]
    rfl
  · have e : j = i := by omega
    rw [e, hb, ht.1]
    rfl
theorem li_small {c i : Nat} (hc : c < 2 ^ (i + 1)) (hb : c.testBit i = false) : c < 2 ^ i := by
  apply Nat.lt_pow_two_of_testBit
  intro j hj
  rcases Nat.lt_or_ge i j with z | z
  · exact li_hi hc (by omega)
  · have e : j = i := by omega
    rw [e, hb]
def li_u (f : Nat → Nat) (k x : Nat) : Nat → Nat := fun j => if j = k then x else f j
theorem li_us {f : Nat → Nat} {k x : Nat} : li_u f k x k = x := if_pos rfl
theorem li_un {f : Nat → Nat} {k x j : Nat} (h : j ≠ k) : li_u f k x j = f j := if_neg h
/-- how many of the first n are there -/
def li_n (C : Nat → Nat) : Nat → Nat
  | 0 => 0
  | n + 1 => li_n C n + (if C n = 0 then 0 else 1)
theorem li_n_le {C E : Nat → Nat} : ∀ n, (∀ b, b < n → C b ≠ 0 → E b ≠ 0) → li_n C n ≤ li_n E n
  | 0, _ => Nat.le_refl _
  | n + 1, h => by
    have ih := li_n_le n (fun b hb => h b (by omega))
    have hn := h n (by omega)
    simp only [li_n]
    by_cases z : C n = 0
    · rw [if_pos z]
      omega
    · rw [if_neg z, if_neg (hn z)]
      omega
theorem li_n_eq {C E : Nat → Nat} : ∀ n, (∀ b, b < n → C b = E b) → li_n C n = li_n E n
  | 0, _ => rfl
  | n + 1, h => by
    simp only [li_n]
    rw [li_n_eq n (fun b hb => h b (by omega)), h n (by omega)]
theorem li_n_u {C : Nat → Nat} {k x : Nat} (h0 : C k = 0) (hx : x ≠ 0) : ∀ n, k < n → li_n (li_u C k x) n = li_n C n + 1
  | 0, h => absurd h (Nat.not_lt_zero _)
  | n + 1, h => by
    simp only [li_n]
    by_cases z : n = k
    · subst z
      rw [li_us, if_neg hx, if_pos h0, li_n_eq n (fun b hb => li_un (by omega))]
    · rw [li_un z, li_n_u h0 hx n (by omega)]
      omega
theorem li_n_0 : ∀ n, li_n (fun _ => 0) n = 0
  | 0 => rfl
  | n + 1 => by simp only [li_n, li_n_0 n]; rfl
/-- values met by the first chains -/
def li_F (D : Nat → Nat) : Nat → Nat
  | 0 => 0
  | c + 1 => li_F D c + (if (List.range c).any (fun e => D e == D c) = true then 0 else 1)
theorem li_Fo {D : Nat → Nat} {c e : Nat} (he : e < c) (h : D e = D c) : li_F D (c + 1) = li_F D c := by
  simp only [li_F]
  rw [if_pos (List.any_eq_true.mpr ⟨e, List.mem_range.mpr he, by rw [h]; exact beq_self_eq_true _⟩)]
  rfl
theorem li_Fn {D : Nat → Nat} {c : Nat} (h : ∀ e, e < c → D e ≠ D c) : li_F D (c + 1) = li_F D c + 1 := by
  simp only [li_F]
  rw [if_neg]
  intro z
  obtain ⟨e, h1, h2⟩ := List.any_eq_true.mp z
  exact h e (List.mem_range.mp h1) (eq_of_beq h2)
/-- how many of the first chains have the value v -/
def li_G (D : Nat → Nat) (v : Nat) : Nat → Nat
  | 0 => 0
  | c + 1 => li_G D v c + (if D c = v then 1 else 0)
theorem li_G0 {D : Nat → Nat} {v : Nat} : ∀ n, (∀ c, c < n → D c ≠ v) → li_G D v n = 0
  | 0, _ => rfl
  | n + 1, h => by
    simp only [li_G]
    rw [li_G0 n (fun c hc => h c (by omega)), if_neg (h n (by omega))]
def li_Lin (D : Nat → Nat) : Prop := ∀ a b, D (a ^^^ b) = D a ^^^ D b
theorem li_D0 {D : Nat → Nat} (L : li_Lin D) : D 0 = 0 := by
  have e := L 0 0
  rw [Nat.xor_self, Nat.xor_self] at e
  exact e
theorem li_dbl (i : Nat) : 2 ^ (i + 1) = 2 ^ i + 2 ^ i := by rw [Nat.pow_succ]; omega
theorem li_Dadd {D : Nat → Nat} (L : li_Lin D) {i c : Nat} (h : c < 2 ^ i) : D (2 ^ i + c) = D (2 ^ i) ^^^ D c := by rw [li_addx h, L]
theorem li_Fdep {D : Nat → Nat} (L : li_Lin D) {i e : Nat} (he : e < 2 ^ i) (hd : D e = D (2 ^ i)) : ∀ c, c ≤ 2 ^ i → li_F D (2 ^ i + c) = li_F D (2 ^ i)
  | 0, _ => rfl
  | c + 1, h => by
    rw [← li_Fdep L he hd c (by omega)]
    have h1 : e ^^^ c < 2 ^ i := Nat.xor_lt_two_pow he (by omega)
    exact li_Fo (c := 2 ^ i + c) (e := e ^^^ c) (by omega) (by rw [L, hd, li_Dadd L (by omega)])
theorem li_Find {D : Nat → Nat} (L : li_Lin D) {i : Nat} (hn : ∀ e, e < 2 ^ i → D e ≠ D (2 ^ i)) : ∀ c, c ≤ 2 ^ i → li_F D (2 ^ i + c) = li_F D (2 ^ i) + li_F D c
  | 0, _ => rfl
  | c + 1, h => by
    have ih := li_Find L hn c (by omega)
    by_cases z : ∃ e, e < c ∧ D e = D c
    · obtain ⟨e, he, hd⟩ := z
      rw [li_Fo he hd, ← ih]
      exact li_Fo (c := 2 ^ i + c) (e := 2 ^ i + e) (by omega) (by rw [li_Dadd L (by omega), li_Dadd L (by omega), hd])
    · rw [li_Fn (c := c) (fun e he hd => z ⟨e, he, hd⟩), ← Nat.add_assoc (li_F D (2 ^ i)), ← ih]
      refine li_Fn (c := 2 ^ i + c) (fun e he hd => ?_)
      rw [li_Dadd L (by omega)] at hd
      rcases Nat.lt_or_ge e (2 ^ i) with y | y
      · apply hn (e ^^^ c) (Nat.xor_lt_two_pow y (by omega))
        rw [L, hd, li_xx]
      · obtain ⟨f, rfl⟩ : ∃ f, e = 2 ^ i + f := ⟨e - 2 ^ i, by omega⟩
        rw [li_Dadd L (by omega)] at hd
        have hd2 := congrArg (fun x => D (2 ^ i) ^^^ x) hd
        rw [li_xl, li_xl] at hd2
        exact z ⟨f, by omega, hd2⟩
theorem li_Gadd {D : Nat → Nat} (L : li_Lin D) {i v : Nat} : ∀ c, c ≤ 2 ^ i → li_G D v (2 ^ i + c) = li_G D v (2 ^ i) + li_G D (v ^^^ D (2 ^ i)) c
  | 0, _ => rfl
  | c + 1, h => by
    have ih := li_Gadd L (i := i) (v := v) c (by omega)
    show li_G D v (2 ^ i + c) + (if D (2 ^ i + c) = v then 1 else 0) = li_G D v (2 ^ i) + (li_G D (v ^^^ D (2 ^ i)) c + (if D c = v ^^^ D (2 ^ i) then 1 else 0))
    rw [ih, Nat.add_assoc, li_Dadd L (by omega)]
    by_cases z : D c = v ^^^ D (2 ^ i)
    · rw [if_pos z, if_pos (by rw [z, Nat.xor_comm v, li_xl])]
    · rw [if_neg z, if_neg (fun y => z (by rw [← y, Nat.xor_comm (D (2 ^ i)), li_xx]))]
def li_Cnt (D : Nat → Nat) (i rk z : Nat) : Prop := li_F D (2 ^ i) = 2 ^ rk ∧ ∀ c, c < 2 ^ i → li_G D (D c) (2 ^ i) = 2 ^ z
theorem li_Cdep {D : Nat → Nat} (L : li_Lin D) {i rk z e : Nat} (h : li_Cnt D i rk z) (he : e < 2 ^ i) (hd : D e = D (2 ^ i)) : li_Cnt D (i + 1) rk (z + 1) := by
  constructor
  · rw [li_dbl, li_Fdep L he hd _ (Nat.le_refl _)]
    exact h.1
  · intro c hc
    have key : ∀ c', c' < 2 ^ i → li_G D (D c') (2 ^ (i + 1)) = 2 ^ (z + 1) := by
      intro c' hc'
      rw [li_dbl i, li_Gadd L _ (Nat.le_refl _), h.2 c' hc', ← hd, ← L, h.2 _ (Nat.xor_lt_two_pow hc' he), li_dbl z]
    by_cases y : c.testBit i = true
    · have ht := li_ldt he
      have e1 : D (c ^^^ (e ^^^ 2 ^ i)) = D c := by rw [L, L, hd, Nat.xor_self, Nat.xor_zero]
      rw [← e1]
      exact key _ (li_low hc y ht)
    · exact key c (li_small hc (ba_nt y))
theorem li_Cind {D : Nat → Nat} (L : li_Lin D) {i rk z : Nat} (h : li_Cnt D i rk z) (hn : ∀ e, e < 2 ^ i → D e ≠ D (2 ^ i)) : li_Cnt D (i + 1) (rk + 1) z := by
  constructor
  · rw [li_dbl, li_Find L hn _ (Nat.le_refl _), h.1, li_dbl]
  · intro c hc
    rw [li_dbl i, li_Gadd L _ (Nat.le_refl _)]
    by_cases y : c.testBit i = true
    · have ht : li_ld (2 ^ i) i := by
        have := li_ldt (t := 0) (i := i) (Nat.two_pow_pos i)
        rw [Nat.zero_xor] at this
        exact this
      have hl := li_low hc y ht
      have e1 : D c ^^^ D (2 ^ i) = D (c ^^^ 2 ^ i) := (L _ _).symm
      rw [e1, h.2 _ hl, li_G0 _ (fun f hf hd => ?_), Nat.zero_add]
      apply hn (f ^^^ (c ^^^ 2 ^ i)) (Nat.xor_lt_two_pow hf hl)
      rw [L, L, hd, li_xl]
    · have hl := li_small hc (ba_nt y)
      rw [h.2 _ hl, li_G0 _ (fun f hf hd => ?_), Nat.add_zero]
      apply hn (f ^^^ c) (Nat.xor_lt_two_pow hf hl)
      rw [L, hd, Nat.xor_comm (D c), li_xx]
end
section
/-! the invariant of the elimination -/
def li_Row (D : Nat → Nat) (i : Nat) (R O : Nat → Nat) : Prop := ∀ b, b < 10 → R b ≠ 0 → li_ld (R b) b ∧ D (O b) = R b ∧ O b < 2 ^ i
def li_Img (D : Nat → Nat) (i : Nat) (R : Nat → Nat) : Prop := ∀ c b, c < 2 ^ i → li_ld (D c) b → R b ≠ 0
def li_Cyc (D : Nat → Nat) (i : Nat) (C : Nat → Nat) : Prop := ∀ j, j < 10 → C j ≠ 0 → j < i ∧ li_ld (C j) j ∧ D (C j) = 0
def li_Ker (D : Nat → Nat) (i : Nat) (C : Nat → Nat) : Prop := ∀ c j, c < 2 ^ i → li_ld c j → D c = 0 → C j ≠ 0
def li_Num (i : Nat) (R C : Nat → Nat) (rk z : Nat) : Prop := li_n R 10 = rk ∧ li_n C 10 = z ∧ rk + z = i
def li_E (D : Nat → Nat) (i : Nat) (R O C : Nat → Nat) (rk z : Nat) : Prop := li_Row D i R O ∧ li_Img D i R ∧ li_Cyc D i C ∧ li_Ker D i C ∧ li_Cnt D i rk z ∧ li_Num i R C rk z
/-- no bit where a row stands -/
def li_Red (R : Nat → Nat) (l : Nat) : Prop := ∀ b, b < 10 → R b ≠ 0 → l.testBit b = false
def li_RedF (R : Nat → Nat) (b l : Nat) : Prop := ∀ c, b ≤ c → c < 10 → R c ≠ 0 → l.testBit c = false
theorem li_E0 {D : Nat → Nat} (L : li_Lin D) : li_E D 0 (fun _ => 0) (fun _ => 0) (fun _ => 0) 0 0 := by
  refine ⟨fun b _ h => absurd rfl h, ?_, fun b _ h => absurd rfl h, ?_, ⟨?_, ?_⟩, li_n_0 10, li_n_0 10, rfl⟩
  · intro c b hc hl
    have e : c = 0 := by omega
    rw [e, li_D0 L] at hl
    exact absurd rfl (li_ldn hl)
  · intro c b hc hl
    have e : c = 0 := by omega
    rw [e] at hl
    exact absurd rfl (li_ldn hl)
  · exact li_Fn (c := 0) (fun e he => absurd he (Nat.not_lt_zero _))
  · intro c hc
    have e : c = 0 := by omega
    subst e
    show 0 + (if D 0 = D 0 then 1 else 0) = 1
    rw [if_pos rfl]
theorem li_R1024 {D : Nat → Nat} {i : Nat} {R O : Nat → Nat} (h : li_Row D i R O) {b : Nat} (hb : b < 10) : R b < 1024 := by
  by_cases z : R b = 0
  · omega
  · have e := li_ldb (h b hb z).1
    have e2 := ba_pow (show b + 1 ≤ 10 by omega)
    omega
theorem li_C1024 {D : Nat → Nat} {i : Nat} {C : Nat → Nat} (h : li_Cyc D i C) {b : Nat} (hb : b < 10) : C b < 1024 := by
  by_cases z : C b = 0
  · omega
  · have e := li_ldb (h b hb z).2.1
    have e2 := ba_pow (show b + 1 ≤ 10 by omega)
    omega
/-- a step of reduce: the row at b is taken off -/
theorem li_rstep {D : Nat → Nat} (L : li_Lin D) {i b l t ch : Nat} {R O : Nat → Nat} (h : li_Row D i R O) (hb : b < 10) (hz : R b ≠ 0) (hl : l < 1024) (ht : t < 2 ^ i) (e : l = ch ^^^ D t) (hr : li_RedF R (b + 1) l) (hs : l.testBit b = true) :
    l ^^^ R b < 1024 ∧ t ^^^ O b < 2 ^ i ∧ l ^^^ R b = ch ^^^ D (t ^^^ O b) ∧ li_RedF R b (l ^^^ R b) := by
  obtain ⟨h1, h2, h3⟩ := h b hb hz
  refine ⟨Nat.xor_lt_two_pow (n := 10) hl (li_R1024 h hb), Nat.xor_lt_two_pow ht h3, ?_, ?_⟩
  · rw [L, h2, e, Nat.xor_assoc]
  · intro c hc hc2 hR
    rw [Nat.testBit_xor]
    rcases Nat.lt_or_ge b c with y | y
    · rw [h1.2 c y, hr c y hc2 hR]
      rfl
    · have e2 : c = b := by omega
      rw [e2, hs, h1.1]
      rfl
theorem li_redS {R : Nat → Nat} {b l : Nat} (hr : li_RedF R (b + 1) l) (h : R b ≠ 0 → l.testBit b = false) : li_RedF R b l := by
  intro c hc hc2 hR
  rcases Nat.lt_or_ge b c with y | y
  · exact hr c y hc2 hR
  · have e2 : c = b := by omega
    subst e2
    exact h hR
/-- a step of the filling's loop -/
theorem li_cstep {D : Nat → Nat} (L : li_Lin D) {i b x ch : Nat} {C : Nat → Nat} (h : li_Cyc D i C) (hb : b < 10) (hz : C b ≠ 0) (ht : x < 2 ^ i) (e : D x = ch) (hr : li_RedF C (b + 1) x) (hs : x.testBit b = true) :
    x ^^^ C b < 2 ^ i ∧ D (x ^^^ C b) = ch ∧ li_RedF C b (x ^^^ C b) := by
  obtain ⟨h1, h2, h3⟩ := h b hb hz
  refine ⟨Nat.xor_lt_two_pow ht (Nat.lt_of_lt_of_le (li_ldb h2) (ba_pow h1)), ?_, ?_⟩
  · rw [L, h3, e, Nat.xor_zero]
  · intro c hc hc2 hR
    rw [Nat.testBit_xor]
    rcases Nat.lt_or_ge b c with y | y
    · rw [h2.2 c y, hr c y hc2 hR]
      rfl
    · have e2 : c = b := by omega
      rw [e2, hs, h2.1]
      rfl
/-- the column depends on those before it: one more chain without boundary -/
theorem li_Edep {D : Nat → Nat} (L : li_Lin D) {i rk z t : Nat} {R O C : Nat → Nat} (h : li_E D i R O C rk z) (hi : i < 10) (ht : t < 2 ^ i) (hd : D t = D (2 ^ i)) :
    li_E D (i + 1) R O (li_u C i (t ^^^ 2 ^ i)) rk (z + 1) := by
  obtain ⟨h1, h2, h3, h4, h5, h6, h7, h8⟩ := h
  have hp := li_dbl i
  have hl := li_ldt ht
  have hD : D (t ^^^ 2 ^ i) = 0 := by rw [L, hd, Nat.xor_self]
  have c0 : C i = 0 := by
    apply Decidable.byContradiction
    intro y
    have := (h3 i hi y).1
    omega
  refine ⟨?_, ?_, ?_, ?_, li_Cdep L h5 ht hd, h6, ?_, by omega⟩
  · intro b hb hR
    obtain ⟨a1, a2, a3⟩ := h1 b hb hR
    exact ⟨a1, a2, by omega⟩
  · intro c b hc hb
    by_cases y : c.testBit i = true
    · refine h2 (c ^^^ (t ^^^ 2 ^ i)) b (li_low hc y hl) ?_
      rw [L, hD, Nat.xor_zero]
      exact hb
    · exact h2 c b (li_small hc (ba_nt y)) hb
  · intro j hj hC
    by_cases y : j = i
    · subst y
      rw [li_us]
      exact ⟨by omega, hl, hD⟩
    · rw [li_un y] at hC ⊢
      obtain ⟨a1, a2, a3⟩ := h3 j hj hC
      exact ⟨by omega, a2, a3⟩
  · intro c j hc hj hz
    by_cases y : j = i
    · subst y
      rw [li_us]
      exact li_ldn hl
    · rw [li_un y]
      refine h4 c j (li_small hc ?_) hj hz
      apply ba_nt
      intro y2
      apply y
      refine li_ldu hj ⟨y2, fun k hk => li_hi hc hk⟩
  · rw [li_n_u c0 (li_ldn hl) 10 hi, h7]
/-- the column is new: one more row -/
theorem li_ind {D : Nat → Nat} (L : li_Lin D) {i rk z t l top : Nat} {R O C : Nat → Nat} (h : li_E D i R O C rk z) (ht : t < 2 ^ i) (e : l = D (2 ^ i) ^^^ D t) (hr : li_Red R l) (hl : l < 1024) (hT : li_ld l top) : R top = 0 ∧ top < 10 ∧ ∀ f, f < 2 ^ i → D f ≠ l ∧ D f ≠ D (2 ^ i) := by
  obtain ⟨h1, h2, h3, h4, h5, h6, h7, h8⟩ := h
  have hb : top < 10 := li_ldlt (m := 10) hT hl
  have r0 : R top = 0 := by
    apply Decidable.byContradiction
    intro y
    have e2 := hr top hb y
    rw [hT.1] at e2
    cases e2
  have key : ∀ f, f < 2 ^ i → D f ≠ l := by
    intro f hf hd
    rw [← hd] at hT
    exact h2 f top hf hT r0
  refine ⟨r0, hb, fun f hf => ⟨key f hf, fun hd => ?_⟩⟩
  apply key (f ^^^ t) (Nat.xor_lt_two_pow hf ht)
  rw [L, hd, e]
theorem li_Eind {D : Nat → Nat} (L : li_Lin D) {i rk z t l top : Nat} {R O C : Nat → Nat} (h : li_E D i R O C rk z) (ht : t < 2 ^ i) (e : l = D (2 ^ i) ^^^ D t) (hr : li_Red R l) (hl : l < 1024) (hT : li_ld l top) :
    li_E D (i + 1) (li_u R top l) (li_u O top (t ^^^ 2 ^ i)) C (rk + 1) z := by
  obtain ⟨r0, hb, hf⟩ := li_ind L h ht e hr hl hT
  obtain ⟨h1, h2, h3, h4, h5, h6, h7, h8⟩ := h
  have hp := li_dbl i
  have hlt := li_ldt ht
  have hD : D (t ^^^ 2 ^ i) = l := by rw [L, e, Nat.xor_comm]
  have hlo : t ^^^ 2 ^ i < 2 ^ (i + 1) := li_ldb hlt
  refine ⟨?_, ?_, ?_, ?_, li_Cind L h5 (fun f hf' => (hf f hf').2), ?_, h7, by omega⟩
  · intro b hb2 hR
    by_cases y : b = top
    · subst y
      rw [li_us, li_us]
      exact ⟨hT, hD, hlo⟩
    · rw [li_un y] at hR
      rw [li_un y, li_un y]
      obtain ⟨a1, a2, a3⟩ := h1 b hb2 hR
      exact ⟨a1, a2, by omega⟩
  · intro c b hc hb2
    by_cases y : b = top
    · subst y
      rw [li_us]
      exact li_ldn hT
    · rw [li_un y]
      by_cases y2 : c.testBit i = true
      · have hc' := li_low hc y2 hlt
        have eD : D (c ^^^ (t ^^^ 2 ^ i)) = D c ^^^ l := by rw [L, hD]
        rcases Nat.lt_or_ge top b with y3 | y3
        · refine h2 _ b hc' ?_
          rw [eD]
          refine ⟨?_, fun k hk => ?_⟩
          · rw [Nat.testBit_xor, hb2.1, hT.2 b y3]
            rfl
          · rw [Nat.testBit_xor, hb2.2 k hk, hT.2 k (by omega)]
            rfl
        · exfalso
          refine h2 _ top hc' ?_ r0
          rw [eD]
          refine ⟨?_, fun k hk => ?_⟩
          · rw [Nat.testBit_xor, hT.1, hb2.2 top (by omega)]
            rfl
          · rw [Nat.testBit_xor, hb2.2 k (by omega), hT.2 k hk]
            rfl
      · exact h2 c b (li_small hc (ba_nt y2)) hb2
  · intro j hj hC
    obtain ⟨a1, a2, a3⟩ := h3 j hj hC
    exact ⟨by omega, a2, a3⟩
  · intro c j hc hj hz
    refine h4 c j (li_small hc ?_) hj hz
    apply ba_nt
    intro y2
    refine (hf (c ^^^ (t ^^^ 2 ^ i)) (li_low hc y2 hlt)).1 ?_
    rw [L, hD, hz, Nat.zero_xor]
  · rw [li_n_u r0 (li_ldn hT) 10 hb, h6]
/-! what the elimination answers -/
theorem li_zero {D : Nat → Nat} {i rk z w : Nat} {R O C : Nat → Nat} (h : li_E D i R O C rk z) {c : Nat} (hc : c < 2 ^ i) (hw : D c = w) {l : Nat} (hr : li_Red R l) (hb : D c < 1024) (hlt : ¬ l < l ^^^ w) : w = 0 := by
  apply Decidable.byContradiction
  intro y
  have hl := li_ldE y
  have hb2 : w.log2 < 10 := li_ldlt (m := 10) hl (by rw [← hw]; exact hb)
  have hR := h.2.1 c w.log2 hc (by rw [hw]; exact hl)
  exact hlt (li_min hl (hr _ hb2 hR))
theorem li_filled {D : Nat → Nat} (L : li_Lin D) {i rk z t l ch : Nat} {R O C : Nat → Nat} (h : li_E D i R O C rk z) (hD : ∀ c, c < 2 ^ i → D c < 1024) (ht : t < 2 ^ i) (e : l = ch ^^^ D t) (hr : li_Red R l) : l = 0 ↔ ∃ c, c < 2 ^ i ∧ D c = ch := by
  constructor
  · intro y
    rw [y] at e
    exact ⟨t, ht, (li_x0 e.symm).symm⟩
  · rintro ⟨c, hc, hd⟩
    have hx := Nat.xor_lt_two_pow hc ht
    refine li_zero h hx ?_ hr (hD _ hx) ?_
    · rw [L, hd, e]
    · rw [Nat.xor_self]
      omega
theorem li_least {D : Nat → Nat} (L : li_Lin D) {i rk z t l ch : Nat} {R O C : Nat → Nat} (h : li_E D i R O C rk z) (hD : ∀ c, c < 2 ^ i → D c < 1024) (ht : t < 2 ^ i) (e : l = ch ^^^ D t) (hr : li_Red R l) {c : Nat} (hc : c < 2 ^ i) : l ≤ ch ^^^ D c := by
  apply Nat.le_of_not_lt
  intro hlt
  have hx := Nat.xor_lt_two_pow hc ht
  have e2 : l ^^^ D (c ^^^ t) = ch ^^^ D c := by
    rw [L, e, Nat.xor_assoc, Nat.xor_comm (D c), li_xl]
  have hz := li_zero h hx rfl hr (hD _ hx) (by rw [e2]; omega)
  rw [hz, Nat.xor_zero] at e2
  omega
theorem li_fill {D : Nat → Nat} (L : li_Lin D) {i rk z x ch : Nat} {R O C : Nat → Nat} (h : li_E D i R O C rk z) (hi : i ≤ 10) (hx : x < 2 ^ i) (e : D x = ch) (hr : li_Red C x) {c : Nat} (hc : c < 2 ^ i) (hd : D c = ch) : x ≤ c := by
  apply Nat.le_of_not_lt
  intro hlt
  have hy : x ^^^ c ≠ 0 := by
    intro y
    have := li_x0 y
    omega
  have hb := Nat.xor_lt_two_pow hx hc
  have hl := li_ldE hy
  have hlt2 := li_ldlt hl hb
  have hC := h.2.2.2.1 (x ^^^ c) _ hb hl (by rw [L, e, hd, Nat.xor_self])
  have hm := li_min hl (hr _ (by omega) hC)
  rw [li_xl] at hm
  omega
theorem li_ranks {D D' : Nat → Nat} {n m rk z rk' z' : Nat} {R O C R' O' C' : Nat → Nat} (h : li_E D n R O C rk z) (h' : li_E D' m R' O' C' rk' z') (hB : ∀ c, c < 2 ^ m → D' c < 2 ^ n ∧ D (D' c) = 0) : rk' ≤ z := by
  have a := h'.2.2.2.2.2.1
  have b := h.2.2.2.2.2.2.1
  rw [← a, ← b]
  apply li_n_le
  intro b hb hR
  obtain ⟨a1, a2, a3⟩ := h'.1 b hb hR
  obtain ⟨b1, b2⟩ := hB _ a3
  rw [a2] at b1 b2
  exact h.2.2.2.1 _ b b1 a1 b2
end
section
/-! the complex: simplices are naturals below 32; those of p points are numbered -/
def cx_pp (s : Nat) : Nat → Nat
  | 0 => 0
  | x + 1 => cx_pp s x + s / 2 ^ x % 2
def cx_pts (s : Nat) : Nat := cx_pp s 5
def cx_m (h : Nat → Bool) (p s : Nat) : Bool := decide (1 ≤ s) && h s && decide (cx_pts s = p)
def cx_c (h : Nat → Bool) (p : Nat) : Nat → Nat
  | 0 => 0
  | s + 1 => cx_c h p s + (if cx_m h p s = true then 1 else 0)
theorem cx_ci {h : Nat → Bool} {p s : Nat} (e : cx_m h p s = true) : cx_c h p (s + 1) = cx_c h p s + 1 := by
  show cx_c h p s + (if cx_m h p s = true then 1 else 0) = _
  rw [if_pos e]
theorem cx_co {h : Nat → Bool} {p s : Nat} (e : ¬ cx_m h p s = true) : cx_c h p (s + 1) = cx_c h p s := by
  show cx_c h p s + (if cx_m h p s = true then 1 else 0) = _
  rw [if_neg e]
  rfl
theorem cx_mi {h : Nat → Bool} {p s : Nat} : cx_m h p s = true ↔ 1 ≤ s ∧ h s = true ∧ cx_pts s = p := by
  unfold cx_m
  rw [Bool.and_eq_true, Bool.and_eq_true, decide_eq_true_iff, decide_eq_true_iff, and_assoc]
theorem cx_c_1 (h : Nat → Bool) (p : Nat) : cx_c h p 1 = 0 := cx_co (s := 0) (fun z => absurd (cx_mi.mp z).1 (by decide))
theorem cx_c_le (h : Nat → Bool) (p : Nat) : ∀ s, cx_c h p s ≤ s
  | 0 => Nat.le_refl _
  | s + 1 => by
    have ih := cx_c_le h p s
    by_cases z : cx_m h p s = true
    · rw [cx_ci z]
      omega
    · rw [cx_co z]
      omega
theorem cx_mono (h : Nat → Bool) (p s : Nat) : ∀ d, cx_c h p s ≤ cx_c h p (s + d)
  | 0 => Nat.le_refl _
  | d + 1 => by
    have ih := cx_mono h p s d
    rw [← Nat.add_assoc]
    by_cases z : cx_m h p (s + d) = true
    · rw [cx_ci z]
      omega
    · rw [cx_co z]
      omega
theorem cx_lt {h : Nat → Bool} {p s t : Nat} (e : cx_m h p s = true) (hs : s < t) : cx_c h p s < cx_c h p t := by
  have a := cx_mono h p (s + 1) (t - (s + 1))
  rw [show s + 1 + (t - (s + 1)) = t by omega, cx_ci e] at a
  omega
theorem cx_inj {h : Nat → Bool} {p s t : Nat} (es : cx_m h p s = true) (et : cx_m h p t = true) (e : cx_c h p s = cx_c h p t) : s = t := by
  rcases Nat.lt_trichotomy s t with z | z | z
  · have := cx_lt es z
    omega
  · exact z
  · have := cx_lt et z
    omega
theorem cx_ex {h : Nat → Bool} {p i : Nat} : ∀ n, i < cx_c h p n → ∃ s, s < n ∧ cx_m h p s = true ∧ cx_c h p s = i
  | 0, z => absurd z (Nat.not_lt_zero _)
  | n + 1, z => by
    by_cases y : i < cx_c h p n
    · obtain ⟨s, a, b, c⟩ := cx_ex n y
      exact ⟨s, by omega, b, c⟩
    · by_cases w : cx_m h p n = true
      · rw [cx_ci w] at z
        exact ⟨n, by omega, w, by omega⟩
      · rw [cx_co w] at z
        exact absurd z y
def cx_s (h : Nat → Bool) (p i : Nat) : Nat := ((List.range 32).find? (fun s => cx_m h p s && decide (cx_c h p s = i))).getD 0
theorem cx_of {h : Nat → Bool} {p s : Nat} (hs : s < 32) (e : cx_m h p s = true) : cx_s h p (cx_c h p s) = s := by
  unfold cx_s
  cases hf : (List.range 32).find? (fun t => cx_m h p t && decide (cx_c h p t = cx_c h p s)) with
  | none =>
    have a := List.find?_eq_none.mp hf s (List.mem_range.mpr hs)
    rw [e, decide_eq_true rfl] at a
    exact absurd rfl a
  | some t =>
    have a := List.find?_some hf
    rw [Bool.and_eq_true, decide_eq_true_iff] at a
    exact cx_inj a.1 e a.2
theorem cx_sp {h : Nat → Bool} {p i : Nat} (hi : i < cx_c h p 32) : cx_s h p i < 32 ∧ cx_m h p (cx_s h p i) = true ∧ cx_c h p (cx_s h p i) = i := by
  obtain ⟨s, a, b, c⟩ := cx_ex 32 hi
  have e := cx_of a b
  rw [c] at e
  rw [e]
  exact ⟨a, b, c⟩
theorem cx_cle {h g : Nat → Bool} {p : Nat} (hg : ∀ s, h s = true → g s = true) : ∀ s, cx_c h p s ≤ cx_c g p s
  | 0 => Nat.le_refl _
  | s + 1 => by
    have ih := cx_cle (p := p) hg s
    by_cases z : cx_m h p s = true
    · have y := cx_mi.mp z
      rw [cx_ci z, cx_ci (h := g) (cx_mi.mpr ⟨y.1, hg s y.2.1, y.2.2⟩)]
      omega
    · have a := cx_mono g p s 1
      rw [cx_co z]
      omega
theorem cx_all : ∀ p, p < 7 → cx_c (fun _ => true) p 32 ≤ 10 := by decide +kernel
theorem cx_c10 (h : Nat → Bool) {p : Nat} (hp : p < 7) : cx_c h p 32 ≤ 10 := Nat.le_trans (cx_cle (fun _ _ => rfl) 32) (cx_all p hp)
theorem cx_all6 : cx_c (fun _ => true) 6 32 = 0 := by decide +kernel
theorem cx_c6 (h : Nat → Bool) : cx_c h 6 32 = 0 := by
  have a := cx_cle (h := h) (g := fun _ => true) (p := 6) (fun _ _ => rfl) 32
  rw [cx_all6] at a
  omega
theorem cx_p1024 (h : Nat → Bool) {p : Nat} (hp : p < 7) : 2 ^ cx_c h p 32 ≤ 1024 := ba_pow (cx_c10 h hp)
/-! sums -/
def cx_x (g : Nat → Nat) : Nat → Nat
  | 0 => 0
  | n + 1 => cx_x g n ^^^ g n
def cx_b (g : Nat → Bool) : Nat → Bool
  | 0 => false
  | n + 1 => cx_b g n ^^ g n
theorem cx_xb (g : Nat → Nat) (i : Nat) : ∀ n, (cx_x g n).testBit i = cx_b (fun j => (g j).testBit i) n
  | 0 => Nat.zero_testBit i
  | n + 1 => by
    show (cx_x g n ^^^ g n).testBit i = (cx_b (fun j => (g j).testBit i) n ^^ (g n).testBit i)
    rw [Nat.testBit_xor, cx_xb g i n]
theorem cx_bc {g k : Nat → Bool} : ∀ n, (∀ j, j < n → g j = k j) → cx_b g n = cx_b k n
  | 0, _ => rfl
  | n + 1, h => by
    show (cx_b g n ^^ g n) = (cx_b k n ^^ k n)
    rw [cx_bc n (fun j hj => h j (by omega)), h n (by omega)]
theorem cx_b0 {g : Nat → Bool} : ∀ n, (∀ j, j < n → g j = false) → cx_b g n = false
  | 0, _ => rfl
  | n + 1, h => by
    show (cx_b g n ^^ g n) = false
    rw [cx_b0 n (fun j hj => h j (by omega)), h n (by omega)]
    rfl
theorem cx_bt {g : Nat → Bool} {n : Nat} : ∀ d, (∀ j, n ≤ j → g j = false) → cx_b g (n + d) = cx_b g n
  | 0, _ => rfl
  | d + 1, h => by
    show (cx_b g (n + d) ^^ g (n + d)) = cx_b g n
    rw [cx_bt d h, h (n + d) (by omega), Bool.xor_false]
theorem cx_xc {g k : Nat → Nat} : ∀ n, (∀ j, j < n → g j = k j) → cx_x g n = cx_x k n
  | 0, _ => rfl
  | n + 1, h => by
    show cx_x g n ^^^ g n = cx_x k n ^^^ k n
    rw [cx_xc n (fun j hj => h j (by omega)), h n (by omega)]
theorem cx_xx (g k : Nat → Nat) : ∀ n, cx_x (fun j => g j ^^^ k j) n = cx_x g n ^^^ cx_x k n
  | 0 => (Nat.xor_self 0).symm
  | n + 1 => by
    show cx_x (fun j => g j ^^^ k j) n ^^^ (g n ^^^ k n) = (cx_x g n ^^^ g n) ^^^ (cx_x k n ^^^ k n)
    rw [cx_xx g k n]
    ac_rfl
theorem cx_x0 {g : Nat → Nat} : ∀ n, (∀ j, j < n → g j = 0) → cx_x g n = 0
  | 0, _ => rfl
  | n + 1, h => by
    show cx_x g n ^^^ g n = 0
    rw [cx_x0 n (fun j hj => h j (by omega)), h n (by omega)]
    rfl
theorem cx_xl {g : Nat → Nat} {m : Nat} : ∀ n, (∀ j, j < n → g j < 2 ^ m) → cx_x g n < 2 ^ m
  | 0, _ => Nat.two_pow_pos m
  | n + 1, h => Nat.xor_lt_two_pow (cx_xl n (fun j hj => h j (by omega))) (h n (by omega))
theorem cx_x1 {g : Nat → Nat} {a : Nat} : ∀ n, a < n → cx_x (fun j => if (2 ^ a).testBit j = true then g j else 0) n = g a
  | 0, h => absurd h (Nat.not_lt_zero _)
  | n + 1, h => by
    show cx_x (fun j => if (2 ^ a).testBit j = true then g j else 0) n ^^^ (if (2 ^ a).testBit n = true then g n else 0) = g a
    by_cases z : a = n
    · subst z
      rw [if_pos Nat.testBit_two_pow_self, cx_x0 a (fun j hj => ?_), Nat.zero_xor]
      rw [Nat.testBit_two_pow_of_ne (by omega)]
      rfl
    · rw [cx_x1 n (by omega), Nat.testBit_two_pow_of_ne z]
      exact Nat.xor_zero _
theorem cx_xD {D : Nat → Nat} (L : li_Lin D) (g : Nat → Nat) : ∀ n, D (cx_x g n) = cx_x (fun j => D (g j)) n
  | 0 => li_D0 L
  | n + 1 => by
    show D (cx_x g n ^^^ g n) = cx_x (fun j => D (g j)) n ^^^ D (g n)
    rw [L, cx_xD L g n]
theorem cx_sym {G : Nat → Nat → Nat} (hs : ∀ x y, G x y = G y x) (hd : ∀ x, G x x = 0) : ∀ n, cx_x (fun x => cx_x (G x) n) n = 0
  | 0 => rfl
  | n + 1 => by
    show cx_x (fun x => cx_x (G x) n ^^^ G x n) n ^^^ (cx_x (G n) n ^^^ G n n) = 0
    rw [cx_xx, cx_sym hs hd n, hd n, Nat.xor_zero, Nat.zero_xor, cx_xc n (fun j _ => hs j n), Nat.xor_self]
/-! faces and boundary -/
def cx_g (h : Nat → Bool) (s x : Nat) : Nat := if s.testBit x = true then 2 ^ cx_c h (cx_pts (s ^^^ 2 ^ x)) (s ^^^ 2 ^ x) else 0
def cx_f (h : Nat → Bool) (s : Nat) : Nat := cx_x (cx_g h s) 5
def cx_k (h : Nat → Bool) (p c j : Nat) : Nat := if (decide (2 ≤ p) && c.testBit j) = true then cx_f h (cx_s h p j) else 0
def cx_D (h : Nat → Bool) (p c : Nat) : Nat := cx_x (cx_k h p c) 10
def cx_Dn (h : Nat → Bool) : Prop := ∀ s t, s < 32 → h s = true → 1 ≤ t → t &&& s = t → h t = true
theorem cx_L (h : Nat → Bool) (p : Nat) : li_Lin (cx_D h p) := by
  intro a b
  unfold cx_D
  rw [← cx_xx]
  apply cx_xc
  intro j _
  unfold cx_k
  rw [Nat.testBit_xor]
  cases decide (2 ≤ p)
  · exact (Nat.xor_self 0).symm
  · cases a.testBit j <;> cases b.testBit j
    · exact (Nat.xor_self 0).symm
    · exact (Nat.zero_xor _).symm
    · exact (Nat.xor_zero _).symm
    · exact (Nat.xor_self _).symm
theorem cx_D1 (h : Nat → Bool) {p : Nat} (hp : p ≤ 1) (c : Nat) : cx_D h p c = 0 := by
  apply cx_x0
  intro j _
  unfold cx_k
  rw [decide_eq_false (by omega)]
  rfl
theorem cx_pt0 : cx_pts 0 = 0 := rfl
theorem cx_fp : ∀ s, s < 32 → ∀ x, x < 5 → s.testBit x = true → cx_pts (s ^^^ 2 ^ x) + 1 = cx_pts s ∧ s ^^^ 2 ^ x < 32 ∧ (s ^^^ 2 ^ x) &&& s = s ^^^ 2 ^ x := by decide +kernel
theorem cx_fm {h : Nat → Bool} (N : cx_Dn h) {p s x : Nat} (hp : 1 ≤ p) (hs : s < 32) (e : cx_m h (p + 1) s = true) (hx : x < 5) (hb : s.testBit x = true) : cx_pts (s ^^^ 2 ^ x) = p ∧ s ^^^ 2 ^ x < 32 ∧ cx_m h p (s ^^^ 2 ^ x) = true := by
  obtain ⟨a, b, c⟩ := cx_fp s hs x hx hb
  obtain ⟨e1, e2, e3⟩ := cx_mi.mp e
  have hp2 : cx_pts (s ^^^ 2 ^ x) = p := by omega
  have h1 : 1 ≤ s ^^^ 2 ^ x := by
    apply Nat.pos_of_ne_zero
    intro z
    rw [z, cx_pt0] at hp2
    omega
  exact ⟨hp2, b, cx_mi.mpr ⟨h1, N s _ hs e2 h1 c, hp2⟩⟩
theorem cx_inc : ∀ s, s < 32 → ∀ f, f < 32 → cx_pts s = cx_pts f + 1 → cx_b (fun x => s.testBit x && decide (s ^^^ 2 ^ x = f)) 5 = decide (s &&& f = f) := by decide +kernel
theorem cx_gb {h : Nat → Bool} (N : cx_Dn h) {p s : Nat} (hp : 1 ≤ p) (hs : s < 32) (e : cx_m h (p + 1) s = true) {i x : Nat} (hx : x < 5) : (cx_g h s x).testBit i = (s.testBit x && decide (cx_c h p (s ^^^ 2 ^ x) = i)) := by
  unfold cx_g
  by_cases z : s.testBit x = true
  · rw [if_pos z, (cx_fm N hp hs e hx z).1, Nat.testBit_two_pow, z, Bool.true_and]
  · rw [if_neg z, ba_nt z, Nat.zero_testBit]
    rfl
theorem cx_fb {h : Nat → Bool} (N : cx_Dn h) {p s : Nat} (hp : 1 ≤ p) (hs : s < 32) (e : cx_m h (p + 1) s = true) {i : Nat} (hi : i < cx_c h p 32) : (cx_f h s).testBit i = decide (s &&& cx_s h p i = cx_s h p i) := by
  obtain ⟨a, b, c⟩ := cx_sp hi
  unfold cx_f
  rw [cx_xb, ← cx_inc s hs _ a (by rw [(cx_mi.mp e).2.2, (cx_mi.mp b).2.2])]
  apply cx_bc
  intro x hx
  rw [cx_gb N hp hs e hx]
  by_cases z : s.testBit x = true
  · obtain ⟨d1, d2, d3⟩ := cx_fm N hp hs e hx z
    rw [z, Bool.true_and, Bool.true_and]
    apply decide_eq_decide.mpr
    constructor
    · intro y
      exact cx_inj d3 b (by rw [y, c])
    · intro y
      rw [y, c]
  · rw [ba_nt z]
    rfl
theorem cx_gl {h : Nat → Bool} (N : cx_Dn h) {p s : Nat} (hp : 1 ≤ p) (hs : s < 32) (e : cx_m h (p + 1) s = true) {x : Nat} (hx : x < 5) : cx_g h s x < 2 ^ cx_c h p 32 := by
  unfold cx_g
  by_cases z : s.testBit x = true
  · obtain ⟨d1, d2, d3⟩ := cx_fm N hp hs e hx z
    rw [if_pos z, d1]
    exact ba_powlt (cx_lt d3 d2)
  · rw [if_neg z]
    exact Nat.two_pow_pos _
theorem cx_fl {h : Nat → Bool} (N : cx_Dn h) {p s : Nat} (hp : 1 ≤ p) (hs : s < 32) (e : cx_m h (p + 1) s = true) : cx_f h s < 2 ^ cx_c h p 32 := cx_xl 5 (fun _ hx => cx_gl N hp hs e hx)
theorem cx_in {n c j : Nat} (hc : c < 2 ^ n) (hb : c.testBit j = true) : j < n := by
  apply Nat.lt_of_not_le
  intro z
  rw [li_hi hc z] at hb
  cases hb
theorem cx_Dl {h : Nat → Bool} (N : cx_Dn h) {p c : Nat} (hp : 1 ≤ p) (hc : c < 2 ^ cx_c h (p + 1) 32) : cx_D h (p + 1) c < 2 ^ cx_c h p 32 := by
  apply cx_xl
  intro j hj
  unfold cx_k
  by_cases z : c.testBit j = true
  · obtain ⟨a, b, _⟩ := cx_sp (cx_in hc z)
    rw [z, decide_eq_true (by omega)]
    exact cx_fl N hp a b
  · rw [ba_nt z, Bool.and_false]
    exact Nat.two_pow_pos _
theorem cx_D1024 {h : Nat → Bool} (N : cx_Dn h) {p c : Nat} (hp : p < 6) (hc : c < 2 ^ cx_c h (p + 1) 32) : cx_D h (p + 1) c < 1024 := by
  by_cases z : 1 ≤ p
  · exact Nat.lt_of_lt_of_le (cx_Dl N z hc) (cx_p1024 h (by omega))
  · rw [cx_D1 h (by omega)]
    decide
theorem cx_Db {h : Nat → Bool} (N : cx_Dn h) {p c i : Nat} (hp : 1 ≤ p) (hp2 : p < 6) (hc : c < 2 ^ cx_c h (p + 1) 32) (hi : i < cx_c h p 32) : (cx_D h (p + 1) c).testBit i = cx_b (fun j => c.testBit j && decide (cx_s h (p + 1) j &&& cx_s h p i = cx_s h p i)) (cx_c h (p + 1) 32) := by
  unfold cx_D
  have h10 := cx_c10 h (p := p + 1) (by omega)
  rw [cx_xb]
  have e1 : cx_b (fun j => (cx_k h (p + 1) c j).testBit i) 10 = cx_b (fun j => c.testBit j && decide (cx_s h (p + 1) j &&& cx_s h p i = cx_s h p i)) 10 := by
    apply cx_bc
    intro j _
    unfold cx_k
    by_cases z : c.testBit j = true
    · obtain ⟨a, b, _⟩ := cx_sp (cx_in hc z)
      rw [z, decide_eq_true (show 2 ≤ p + 1 by omega), Bool.true_and]
      exact cx_fb N hp a b hi
    · rw [ba_nt z, Bool.and_false, Bool.false_and]
      exact Nat.zero_testBit i
  rw [e1]
  have e2 := cx_bt (g := fun j => c.testBit j && decide (cx_s h (p + 1) j &&& cx_s h p i = cx_s h p i)) (n := cx_c h (p + 1) 32) (10 - cx_c h (p + 1) 32) (fun j hj => by rw [li_hi hc hj]; rfl)
  rw [← e2]
  exact congrArg _ (by omega)
theorem cx_D2 (h : Nat → Bool) {p a : Nat} (hp : 2 ≤ p) (ha : a < 10) : cx_D h p (2 ^ a) = cx_f h (cx_s h p a) := by
  rw [← cx_x1 (g := fun j => cx_f h (cx_s h p j)) 10 ha]
  apply cx_xc
  intro j _
  unfold cx_k
  rw [decide_eq_true hp, Bool.true_and]
theorem cx_ff {h : Nat → Bool} (N : cx_Dn h) {p s : Nat} (hp : 2 ≤ p) (hp2 : p < 7) (hs : s < 32) (e : cx_m h (p + 1) s = true) : cx_D h p (cx_f h s) = 0 := by
  unfold cx_f
  rw [cx_xD (cx_L h p)]
  have e1 : cx_x (fun j => cx_D h p (cx_g h s j)) 5 = cx_x (fun x => cx_x ((fun x y => if s.testBit x = true then cx_g h (s ^^^ 2 ^ x) y else 0) x) 5) 5 := by
    apply cx_xc
    intro x hx
    dsimp only
    by_cases z : s.testBit x = true
    · obtain ⟨d1, d2, d3⟩ := cx_fm N (by omega) hs e hx z
      have e2 : cx_g h s x = 2 ^ cx_c h p (s ^^^ 2 ^ x) := by
        unfold cx_g
        rw [if_pos z, d1]
      have h10 := cx_c10 h hp2
      have hl := cx_lt d3 d2
      rw [e2, cx_D2 h hp (by omega), cx_of d2 d3]
      apply cx_xc
      intro y _
      rw [if_pos z]
    · have e2 : cx_g h s x = 0 := by
        unfold cx_g
        rw [if_neg z]
      rw [e2, li_D0 (cx_L h p), cx_x0]
      intro y _
      rw [if_neg z]
  rw [e1]
  apply cx_sym
  · intro x y
    by_cases w : x = y
    · rw [w]
    · unfold cx_g
      have f1 : (s ^^^ 2 ^ x).testBit y = s.testBit y := by rw [Nat.testBit_xor, Nat.testBit_two_pow_of_ne w, Bool.xor_false]
      have f2 : (s ^^^ 2 ^ y).testBit x = s.testBit x := by rw [Nat.testBit_xor, Nat.testBit_two_pow_of_ne (Ne.symm w), Bool.xor_false]
      have f3 : s ^^^ 2 ^ x ^^^ 2 ^ y = s ^^^ 2 ^ y ^^^ 2 ^ x := by ac_rfl
      rw [f1, f2, f3]
      by_cases z1 : s.testBit x = true
      · rw [if_pos z1, if_pos z1]
      · rw [if_neg z1, if_neg z1]
        split <;> rfl
  · intro x
    unfold cx_g
    have f1 : (s ^^^ 2 ^ x).testBit x = !s.testBit x := by rw [Nat.testBit_xor, Nat.testBit_two_pow_self, Bool.xor_true]
    rw [f1]
    by_cases z1 : s.testBit x = true
    · rw [if_pos z1, z1]
      rfl
    · rw [if_neg z1]
theorem cx_DD {h : Nat → Bool} (N : cx_Dn h) {p c : Nat} (hp : p < 6) (hc : c < 2 ^ cx_c h (p + 1) 32) : cx_D h p (cx_D h (p + 1) c) = 0 := by
  by_cases y : p ≤ 1
  · exact cx_D1 h y _
  · rw [show cx_D h (p + 1) c = cx_x (cx_k h (p + 1) c) 10 from rfl, cx_xD (cx_L h p)]
    apply cx_x0
    intro j _
    unfold cx_k
    by_cases z : c.testBit j = true
    · obtain ⟨a, b, _⟩ := cx_sp (cx_in hc z)
      rw [z, decide_eq_true (show 2 ≤ p + 1 by omega)]
      exact cx_ff N (by omega) (by omega) a b
    · rw [ba_nt z, Bool.and_false]
      exact li_D0 (cx_L h p)
end
section
/-! the component's small methods -/
def wx_h (H : Nat → Int32) : Nat → Bool := fun s => !decide (H s = 0)
theorem hd_1 {H : Nat → Int32} {s : Nat} : wx_h H s = true ↔ ¬ H s = 0 := by
  unfold wx_h
  rw [Bool.not_eq_true', decide_eq_false_iff_not]
theorem cx_p5 : ∀ s, s < 32 → cx_pts s ≤ 5 := by decide +kernel
theorem wx_bit5 : ∀ s, s < 32 → ∀ x, x < 5 → (((nI s).toUInt32 >>> ((nI x).toUInt32 &&& Int32.toUInt32 31)).toInt32) &&& 1 = nI (s / 2 ^ x % 2) := by decide +kernel
theorem wx_ptl {post : Int32 → Prop} {s : Nat} (hs : s < 32) (h : post (nI (cx_pts s))) : ∀ d x, x + d = 5 → wX_points_4 post (nI s) (d + 1) (nI (cx_pp s x)) (nI x)
  | 0, x, e => by
    have ex : x = 5 := by omega
    subst ex
    exact br_t (nI_le (a := 5) (b := 5) (Nat.le_refl _) (by decide)) h
  | d + 1, x, e => by
    refine br_f (nI_ge (b := 5) (by omega) (by decide)) (nm_r (e' := nI (cx_pp s (x + 1))) ?_ (nm_r (nI_1 x) (wx_ptl hs h d (x + 1) (by omega))))
    rw [wx_bit5 s hs x (by omega), nI_add]
    rfl
theorem wx_pt {post : Int32 → Prop} {s : Nat} (hs : s < 32) (h : post (nI (cx_pts s))) : wpX_points post (nI s) := Exists.intro 6 (wx_ptl hs h 5 0 rfl)
section
variable {f_rank f_left f_taken : Int32} {a_held a_row a_origin a_cycle : Nat → Int32}
theorem wx_cl {post : Int32 → Prop} {k : Nat} (hk : k ≤ 5) (h : post (nI (cx_c (wx_h a_held) (k + 1) 32))) : ∀ d s, 1 ≤ s → s + d = 32 → wX_countOf_4 post (nI k) f_rank f_left f_taken a_held a_row a_origin a_cycle (d + 1) (nI (cx_c (wx_h a_held) (k + 1) s)) (nI s)
  | 0, s, _, e => by
    have ex : s = 32 := by omega
    subst ex
    exact br_t (nI_le (a := 32) (b := 32) (Nat.le_refl _) (by decide)) h
  | d + 1, s, h1, e => by
    have ih := wx_cl hk h d (s + 1) (by omega) (by omega)
    have hs : s < 32 := by omega
    have hp := cx_p5 s hs
    refine br_f (nI_ge (b := 32) hs (by decide)) ⟨vp_in_nI hs (by decide), br_c (fun z => ?_) (fun z => ?_)⟩
    · rw [nI_clamp (by omega)] at z
      refine nm_r (e' := nI (cx_c (wx_h a_held) (k + 1) (s + 1))) ?_ (nm_r (nI_1 s) ih)
      rw [cx_co (fun y => (hd_1.mp (cx_mi.mp y).2.1) z)]
      exact Int32.add_zero _
    · rw [nI_clamp (by omega)] at z
      refine wx_pt hs (pk_eq (cx_pts s) (k + 1) (fun y => ?_) (fun y => ?_) rfl (nI_1 k) (by omega) (by omega))
      · refine nm_r (e' := nI (cx_c (wx_h a_held) (k + 1) (s + 1))) ?_ (nm_r (nI_1 s) ih)
        rw [cx_ci (cx_mi.mpr ⟨h1, hd_1.mpr z, y⟩)]
        exact nI_1 _
      · refine nm_r (e' := nI (cx_c (wx_h a_held) (k + 1) (s + 1))) ?_ (nm_r (nI_1 s) ih)
        rw [cx_co (fun v => y (cx_mi.mp v).2.2)]
        exact Int32.add_zero _
theorem wx_cnt {post : Int32 → Prop} {k : Nat} (hk : k ≤ 5) (h : post (nI (cx_c (wx_h a_held) (k + 1) 32))) : wpX_countOf post (f_rank, f_left, f_taken, a_held, a_row, a_origin, a_cycle) (nI k) := by
  have e := wx_cl (f_rank := f_rank) (f_left := f_left) (f_taken := f_taken) (a_row := a_row) (a_origin := a_origin) (a_cycle := a_cycle) hk h 31 1 (Nat.le_refl _) rfl
  rw [cx_c_1] at e
  exact Exists.intro 32 e
theorem wx_sl {post : Int32 → Prop} {k i : Nat} (hk : k ≤ 4) (hi : i < cx_c (wx_h a_held) (k + 1) 32) (h : post (nI (cx_s (wx_h a_held) (k + 1) i))) : ∀ d s, 1 ≤ s → s ≤ cx_s (wx_h a_held) (k + 1) i → s + d = 32 → wX_simplexAt_5 post (nI k) f_rank f_left f_taken a_held a_row a_origin a_cycle (d + 1) (nI (i - cx_c (wx_h a_held) (k + 1) s)) (nI s)
  | 0, s, _, hS, e => by
    have a := (cx_sp hi).1
    omega
  | d + 1, s, h1, hS, e => by
    obtain ⟨a, b, c⟩ := cx_sp hi
    have hs : s < 32 := by omega
    have hp := cx_p5 s hs
    have hle := cx_c_le (wx_h a_held) (k + 1) 32
    have stay : ¬ cx_m (wx_h a_held) (k + 1) s = true → wX_simplexAt_5 post (nI k) f_rank f_left f_taken a_held a_row a_origin a_cycle (d + 1) (nI (i - cx_c (wx_h a_held) (k + 1) s)) (nI (s + 1)) := by
      intro y
      have hne : s ≠ cx_s (wx_h a_held) (k + 1) i := by
        intro w
        rw [← w] at b
        exact y b
      have ih := wx_sl hk hi h d (s + 1) (by omega) (by omega) (by omega)
      rw [cx_co y] at ih
      exact ih
    refine br_f (nI_ge (b := 32) hs (by decide)) ⟨vp_in_nI hs (by decide), br_c (fun z => ?_) (fun z => ?_)⟩
    · rw [nI_clamp (by omega)] at z
      exact nm_r (nI_1 s) (stay (fun y => hd_1.mp (cx_mi.mp y).2.1 z))
    · rw [nI_clamp (by omega)] at z
      refine wx_pt hs (pk_eq (cx_pts s) (k + 1) (fun y => ?_) (fun y => ?_) rfl (nI_1 k) (by omega) (by omega))
      · have hm : cx_m (wx_h a_held) (k + 1) s = true := cx_mi.mpr ⟨h1, hd_1.mpr z, y⟩
        by_cases w : s = cx_s (wx_h a_held) (k + 1) i
        · refine br_t ?_ ?_
          · rw [w, c, Nat.sub_self, nI_0]
          · rw [w]
            exact h
        · have hlt := cx_lt hm (show s < cx_s (wx_h a_held) (k + 1) i by omega)
          rw [c] at hlt
          have ih := wx_sl hk hi h d (s + 1) (by omega) (by omega) (by omega)
          refine br_f (nI_ne0 (by omega) (by omega)) (nm_r (e' := nI (i - cx_c (wx_h a_held) (k + 1) (s + 1))) ?_ (nm_r (nI_1 s) ih))
          rw [cx_ci hm, show i - cx_c (wx_h a_held) (k + 1) s = (i - (cx_c (wx_h a_held) (k + 1) s + 1)) + 1 by omega]
          exact pk_m1 _
      · exact nm_r (nI_1 s) (stay (fun v => y (cx_mi.mp v).2.2))
theorem wx_sat {post : Int32 → Prop} {k i : Nat} (hk : k ≤ 4) (hi : i < cx_c (wx_h a_held) (k + 1) 32) (h : post (nI (cx_s (wx_h a_held) (k + 1) i))) : wpX_simplexAt post (f_rank, f_left, f_taken, a_held, a_row, a_origin, a_cycle) (nI k) (nI i) := by
  have e := wx_sl (f_rank := f_rank) (f_left := f_left) (f_taken := f_taken) (a_row := a_row) (a_origin := a_origin) (a_cycle := a_cycle) hk hi h 31 1 (Nat.le_refl _) (cx_mi.mp (cx_sp hi).2.1).1 rfl
  rw [cx_c_1, Nat.sub_zero] at e
  exact Exists.intro 32 e
theorem wx_pll {post : Int32 → Prop} {t : Nat} (ht : t < 32) (h : post (nI (cx_c (wx_h a_held) (cx_pts t) t))) : ∀ d s, 1 ≤ s → s + d = t → wX_placeOf_10 post (nI t) (nI (cx_pts t)) f_rank f_left f_taken a_held a_row a_origin a_cycle (d + 1) (nI (cx_c (wx_h a_held) (cx_pts t) s)) (nI s)
  | 0, s, _, e => by
    have ex : s = t := by omega
    subst ex
    exact br_t (nI_le (Nat.le_refl _) (by omega)) h
  | d + 1, s, h1, e => by
    have ih := wx_pll ht h d (s + 1) (by omega) (by omega)
    have hs : s < 32 := by omega
    have hp := cx_p5 s hs
    have hp2 := cx_p5 t ht
    refine br_f (nI_ge (by omega) (by omega)) ⟨vp_in_nI hs (by decide), br_c (fun z => ?_) (fun z => ?_)⟩
    · rw [nI_clamp (by omega)] at z
      refine nm_r (e' := nI (cx_c (wx_h a_held) (cx_pts t) (s + 1))) ?_ (nm_r (nI_1 s) ih)
      rw [cx_co (fun y => (hd_1.mp (cx_mi.mp y).2.1) z)]
      exact Int32.add_zero _
    · rw [nI_clamp (by omega)] at z
      refine wx_pt hs (pk_eq (cx_pts s) (cx_pts t) (fun y => ?_) (fun y => ?_) rfl rfl (by omega) (by omega))
      · refine nm_r (e' := nI (cx_c (wx_h a_held) (cx_pts t) (s + 1))) ?_ (nm_r (nI_1 s) ih)
        rw [cx_ci (cx_mi.mpr ⟨h1, hd_1.mpr z, y⟩)]
        exact nI_1 _
      · refine nm_r (e' := nI (cx_c (wx_h a_held) (cx_pts t) (s + 1))) ?_ (nm_r (nI_1 s) ih)
        rw [cx_co (fun v => y (cx_mi.mp v).2.2)]
        exact Int32.add_zero _
theorem wx_pla {post : Int32 → Prop} {t : Nat} (ht : t < 32) (h : post (nI (cx_c (wx_h a_held) (cx_pts t) t))) : wpX_placeOf post (f_rank, f_left, f_taken, a_held, a_row, a_origin, a_cycle) (nI t) := by
  unfold wpX_placeOf
  dsimp only
  refine wx_pt ht ?_
  by_cases z : t ≤ 1
  · refine ⟨1, br_t (nI_le (b := 1) z (by decide)) ?_⟩
    have e : cx_c (wx_h a_held) (cx_pts t) t = 0 := by
      have a := cx_mono (wx_h a_held) (cx_pts t) t (1 - t)
      rw [show t + (1 - t) = 1 by omega, cx_c_1] at a
      omega
    rw [e] at h
    exact h
  · have e := wx_pll (f_rank := f_rank) (f_left := f_left) (f_taken := f_taken) (a_row := a_row) (a_origin := a_origin) (a_cycle := a_cycle) ht h (t - 1) 1 (Nat.le_refl _) (by omega)
    rw [cx_c_1] at e
    exact ⟨t - 1 + 1, e⟩
theorem wx_clr : ∀ s, s < 32 → ∀ x, x < 5 → s.testBit x = true → nI s &&& (((1 : Int32) <<< (nI x &&& 31)) ^^^ (-1)) = nI (s ^^^ 2 ^ x) := by decide +kernel
theorem wx_fl {post : Int32 → Prop} {s : Nat} (hs : s < 32) (h : post (nI (cx_f (wx_h a_held) s))) : ∀ d x, x + d = 5 → wX_facesOf_4 post (nI s) f_rank f_left f_taken a_held a_row a_origin a_cycle (d + 1) (nI (cx_x (cx_g (wx_h a_held) s) x)) (nI x)
  | 0, x, e => by
    have ex : x = 5 := by omega
    subst ex
    exact br_t (nI_le (a := 5) (b := 5) (Nat.le_refl _) (by decide)) h
  | d + 1, x, e => by
    have ih := wx_fl hs h d (x + 1) (by omega)
    refine br_f (nI_ge (b := 5) (by omega) (by decide)) ?_
    by_cases z : s.testBit x = true
    · refine br_f (fun y => ?_) ?_
      · rw [nx_bit (by omega) (by omega), z] at y
        cases y
      · rw [wx_clr s hs x (by omega) z]
        obtain ⟨_, b, _⟩ := cx_fp s hs x (by omega) z
        have hle := cx_c_le (wx_h a_held) (cx_pts (s ^^^ 2 ^ x)) (s ^^^ 2 ^ x)
        have e2 : cx_g (wx_h a_held) s x = 2 ^ cx_c (wx_h a_held) (cx_pts (s ^^^ 2 ^ x)) (s ^^^ 2 ^ x) := if_pos z
        refine wx_pla b (nm_r (e' := nI (cx_x (cx_g (wx_h a_held) s) (x + 1))) ?_ (nm_r (nI_1 x) ih))
        rw [ba_shl _ (by omega), nx_xor, ← e2]
        rfl
    · refine br_t ((nx_bit (by omega) (by omega)).mpr (ba_nt z)) (nm_r (nI_1 x) ?_)
      have e2 : cx_x (cx_g (wx_h a_held) s) (x + 1) = cx_x (cx_g (wx_h a_held) s) x := by
        show cx_x (cx_g (wx_h a_held) s) x ^^^ cx_g (wx_h a_held) s x = _
        rw [show cx_g (wx_h a_held) s x = 0 from if_neg z, Nat.xor_zero]
      rw [e2] at ih
      exact ih
theorem wx_fc {post : Int32 → Prop} {s : Nat} (hs : s < 32) (h : post (nI (cx_f (wx_h a_held) s))) : wpX_facesOf post (f_rank, f_left, f_taken, a_held, a_row, a_origin, a_cycle) (nI s) := Exists.intro 6 (wx_fl hs h 5 0 rfl)
theorem wx_bl {post : Int32 → Prop} {k c : Nat} (hk : k ≤ 4) (hc : c < 2 ^ cx_c (wx_h a_held) (k + 1) 32) (h : post (nI (cx_D (wx_h a_held) (k + 1) c))) : ∀ d i, i + d = 10 → wX_boundaryOf_5 post (nI k) (nI c) f_rank f_left f_taken a_held a_row a_origin a_cycle (d + 1) (nI (cx_x (cx_k (wx_h a_held) (k + 1) c) i)) (nI i)
  | 0, i, e => by
    have ex : i = 10 := by omega
    subst ex
    exact br_t (nI_le (a := 10) (b := 10) (Nat.le_refl _) (by decide)) h
  | d + 1, i, e => by
    have ih := wx_bl hk hc h d (i + 1) (by omega)
    have hp := cx_p1024 (wx_h a_held) (p := k + 1) (by omega)
    refine br_f (nI_ge (b := 10) (by omega) (by decide)) ?_
    have skip : cx_k (wx_h a_held) (k + 1) c i = 0 → wX_boundaryOf_5 post (nI k) (nI c) f_rank f_left f_taken a_held a_row a_origin a_cycle (d + 1) (nI (cx_x (cx_k (wx_h a_held) (k + 1) c) i)) (nI (i + 1)) := by
      intro y
      have e2 : cx_x (cx_k (wx_h a_held) (k + 1) c) (i + 1) = cx_x (cx_k (wx_h a_held) (k + 1) c) i := by
        show cx_x (cx_k (wx_h a_held) (k + 1) c) i ^^^ cx_k (wx_h a_held) (k + 1) c i = _
        rw [y, Nat.xor_zero]
      rw [e2] at ih
      exact ih
    by_cases z0 : k = 0
    · refine br_t ?_ (nm_r (nI_1 i) (skip ?_))
      · rw [z0, nI_0]
        decide
      · unfold cx_k
        rw [decide_eq_false (by omega)]
        rfl
    · refine br_f (nI_nle (by omega) (by omega)) ?_
      by_cases z : c.testBit i = true
      · refine br_f (fun y => ?_) ?_
        · rw [nx_bit (by omega) (by omega), z] at y
          cases y
        · obtain ⟨a, b, _⟩ := cx_sp (cx_in hc z)
          have e2 : cx_k (wx_h a_held) (k + 1) c i = cx_f (wx_h a_held) (cx_s (wx_h a_held) (k + 1) i) := by
            unfold cx_k
            rw [decide_eq_true (by omega), z]
            rfl
          refine wx_sat hk (cx_in hc z) ?_
          refine wx_fc a (nm_r (e' := nI (cx_x (cx_k (wx_h a_held) (k + 1) c) (i + 1))) ?_ (nm_r (nI_1 i) ih))
          rw [nx_xor, ← e2]
          rfl
      · refine br_t ((nx_bit (by omega) (by omega)).mpr (ba_nt z)) (nm_r (nI_1 i) (skip ?_))
        unfold cx_k
        rw [ba_nt z, Bool.and_false]
        rfl
theorem wx_bd {post : Int32 → Prop} {k c : Nat} (hk : k ≤ 4) (hc : c < 2 ^ cx_c (wx_h a_held) (k + 1) 32) (h : post (nI (cx_D (wx_h a_held) (k + 1) c))) : wpX_boundaryOf post (f_rank, f_left, f_taken, a_held, a_row, a_origin, a_cycle) (nI k) (nI c) := Exists.intro 11 (wx_bl hk hc h 10 0 rfl)
/-! dimensions and chains -/
def dm_bad (p0 : Int32) : Prop := p0 < 0 ∨ 4 < p0
def dm_ok (H : Nat → Int32) (p0 p1 : Int32) : Prop := ∃ k c, k ≤ 4 ∧ c < 2 ^ cx_c (wx_h H) (k + 1) 32 ∧ p0 = nI k ∧ p1 = nI c
theorem dm_or (p0 : Int32) : dm_bad p0 ∨ ∃ k, k ≤ 4 ∧ p0 = nI k := by
  by_cases z : p0 < 0
  · exact Or.inl (Or.inl z)
  · obtain ⟨j, hj, rfl⟩ := nI_of z
    by_cases y : j ≤ 4
    · exact Or.inr ⟨j, y, rfl⟩
    · exact Or.inl (Or.inr (nI_lt (a := 4) (by omega) hj))
theorem wx_dimf {post : Int32 → Prop} {p0 : Int32} (hb : dm_bad p0) (h : post 0) : wpX_isDimension post p0 := by
  unfold wpX_isDimension
  rcases hb with z | z
  · exact br_t z h
  · exact br_c (fun _ => h) (fun _ => br_t z h)
theorem wx_dimt {post : Int32 → Prop} {k : Nat} (hk : k ≤ 4) (h : post 1) : wpX_isDimension post (nI k) := by
  unfold wpX_isDimension
  exact br_f (nI_pos (by omega)) (br_f (nI_nlt (a := 4) hk (by decide)) h)
theorem wx_ic0 {post : Int32 → Prop} {p0 p1 : Int32} (hb : ¬ dm_ok a_held p0 p1) (h : post 0) : wpX_isChain post (f_rank, f_left, f_taken, a_held, a_row, a_origin, a_cycle) p0 p1 := by
  unfold wpX_isChain
  dsimp only
  rcases dm_or p0 with z | ⟨k, hk, rfl⟩
  · exact wx_dimf z (br_t rfl h)
  · have h10 := cx_c10 (wx_h a_held) (p := k + 1) (by omega)
    have hp := cx_p1024 (wx_h a_held) (p := k + 1) (by omega)
    refine wx_dimt hk (br_f (by decide) (br_c (fun _ => h) (fun y => ?_)))
    obtain ⟨j, hj, rfl⟩ := nI_of y
    refine wx_cnt (by omega) ?_
    rw [ba_shl _ (by omega)]
    refine br_t (nI_le ?_ hj) h
    apply Nat.le_of_not_lt
    intro w
    exact hb ⟨k, j, hk, w, rfl, rfl⟩
theorem wx_ic1 {post : Int32 → Prop} {k c : Nat} (hk : k ≤ 4) (hc : c < 2 ^ cx_c (wx_h a_held) (k + 1) 32) (h : post 1) : wpX_isChain post (f_rank, f_left, f_taken, a_held, a_row, a_origin, a_cycle) (nI k) (nI c) := by
  unfold wpX_isChain
  dsimp only
  have h10 := cx_c10 (wx_h a_held) (p := k + 1) (by omega)
  have hp := cx_p1024 (wx_h a_held) (p := k + 1) (by omega)
  refine wx_dimt hk (br_f (by decide) (br_f (nI_pos (by omega)) (wx_cnt (by omega) ?_)))
  rw [ba_shl _ (by omega)]
  exact br_f (nI_ge hc (by omega)) h
end
end
section
/-! the component's elimination -/
def wx_A (R : Nat → Nat) (a : Nat → Int32) : Prop := ∀ b, b < 10 → a b = nI (R b)
theorem wx_Au {R : Nat → Nat} {a : Nat → Int32} {k x : Nat} (h : wx_A R a) : wx_A (li_u R k x) (upd a k (nI x)) := by
  intro b hb
  by_cases z : b = k
  · rw [z, pk_us, li_us]
  · rw [pk_un z, li_un z]
    exact h b hb
theorem li_C0 {D : Nat → Nat} {i rk zz : Nat} {R O C : Nat → Nat} (h : li_E D i R O C rk zz) (hi : i < 10) : C i = 0 := by
  apply Decidable.byContradiction
  intro y
  have := (h.2.2.1 i hi y).1
  omega
theorem wx_hl {post : Int32 → Prop} {l : Nat} (hl : l < 1024) (h : post (nI l.log2)) : ∀ d x, x + d = 10 → wX_highest_4 post (nI l) (d + 1) (nI (l % 2 ^ x).log2) (nI x)
  | 0, x, e => by
    have ex : x = 10 := by omega
    subst ex
    rw [Nat.mod_eq_of_lt (show l < 2 ^ 10 from hl)]
    exact br_t (nI_le (a := 10) (b := 10) (Nat.le_refl _) (by decide)) h
  | d + 1, x, e => by
    have ih := wx_hl hl h d (x + 1) (by omega)
    have em : l % 2 ^ (x + 1) = l % 2 ^ x + 2 ^ x * (l / 2 ^ x % 2) := Nat.mod_pow_succ
    have hm := Nat.mod_lt l (Nat.two_pow_pos x)
    refine br_f (nI_ge (b := 10) (by omega) (by decide)) ?_
    by_cases z : l.testBit x = true
    · refine br_f (fun y => ?_) (nm_r (nI_1 x) ?_)
      · rw [nx_bit (by omega) (by omega), z] at y
        cases y
      · have e1 : l / 2 ^ x % 2 = 1 := by
          rw [Nat.testBit_eq_decide_div_mod_eq] at z
          exact of_decide_eq_true z
        rw [e1, Nat.mul_one] at em
        have e2 : (l % 2 ^ (x + 1)).log2 = x := by
          have hd := li_dbl x
          have hp := Nat.two_pow_pos x
          exact (Nat.log2_eq_iff (by omega)).mpr ⟨by omega, by omega⟩
        rw [e2] at ih
        exact ih
    · refine br_t ((nx_bit (by omega) (by omega)).mpr (ba_nt z)) (nm_r (nI_1 x) ?_)
      have e1 : l / 2 ^ x % 2 = 0 := by
        rw [Nat.testBit_eq_decide_div_mod_eq] at z
        have z2 := of_decide_eq_false (ba_nt z)
        omega
      rw [e1, Nat.mul_zero, Nat.add_zero] at em
      rw [em] at ih
      exact ih
theorem wx_hi {post : Int32 → Prop} {l : Nat} (hl : l < 1024) (h : post (nI l.log2)) : wpX_highest post (nI l) := by
  have e := wx_hl hl h 10 0 rfl
  rw [Nat.pow_zero, Nat.mod_one, Nat.log2_zero] at e
  exact Exists.intro 11 e
section
variable {f_rank f_left f_taken : Int32} {a_held a_row a_origin a_cycle : Nat → Int32}
theorem wx_rl {post : SX → Prop} {D R O : Nat → Nat} {ch i : Nat} (L : li_Lin D) (hR : li_Row D i R O) (hi : i ≤ 10) (aR : wx_A R a_row) (aO : wx_A O a_origin)
    (K : ∀ l t, l < 1024 → t < 2 ^ i → l = ch ^^^ D t → li_Red R l → post (f_rank, nI l, nI t, a_held, a_row, a_origin, a_cycle)) :
    ∀ b l t, b ≤ 10 → l < 1024 → t < 2 ^ i → l = ch ^^^ D t → li_RedF R b l → wX_reduce_13 post f_rank a_held a_row a_origin a_cycle (b + 1) (nI b + (-1)) (nI l) (nI t)
  | 0, l, t, _, h1, h2, h3, h4 => br_t (show nI 0 + (-1) < 0 by decide) (K l t h1 h2 h3 (fun c hc hR => h4 c (Nat.zero_le _) hc hR))
  | b + 1, l, t, hb, h1, h2, h3, h4 => by
    have hb2 : b < 10 := by omega
    have hRb := li_R1024 hR hb2
    rw [pk_m1]
    refine br_f (nI_pos (by omega)) ⟨vp_in_nI hb2 (by decide), ?_⟩
    rw [nI_clamp (by omega), aR b hb2]
    by_cases z : R b = 0
    · refine br_t (by rw [z, nI_0]) (nm_e ?_)
      exact wx_rl L hR hi aR aO K b l t (by omega) h1 h2 h3 (li_redS h4 (fun y => absurd z y))
    · refine br_f (nI_ne0 (by omega) (by omega)) ?_
      by_cases y : l.testBit b = true
      · refine br_f (fun w => ?_) ⟨vp_in_nI hb2 (by decide), nm_r (nx_xor l (R b)) ⟨vp_in_nI hb2 (by decide), nm_r (e' := nI (t ^^^ O b)) (by rw [aO b hb2, nx_xor]) (nm_e ?_)⟩⟩
        · rw [nx_bit (by omega) (by omega), y] at w
          cases w
        · obtain ⟨s1, s2, s3, s4⟩ := li_rstep L hR hb2 z h1 h2 h3 h4 y
          exact wx_rl L hR hi aR aO K b _ _ (by omega) s1 s2 s3 s4
      · refine br_t ((nx_bit (by omega) (by omega)).mpr (ba_nt y)) (nm_e ?_)
        exact wx_rl L hR hi aR aO K b l t (by omega) h1 h2 h3 (li_redS h4 (fun _ => ba_nt y))
theorem wx_red {post : SX → Prop} {D R O : Nat → Nat} {ch i : Nat} (L : li_Lin D) (hR : li_Row D i R O) (hi : i ≤ 10) (aR : wx_A R a_row) (aO : wx_A O a_origin) (hc : ch < 1024)
    (K : ∀ l t, l < 1024 → t < 2 ^ i → l = ch ^^^ D t → li_Red R l → post (f_rank, nI l, nI t, a_held, a_row, a_origin, a_cycle)) :
    wpX_reduce post (f_rank, f_left, f_taken, a_held, a_row, a_origin, a_cycle) (nI ch) := by
  have e := wx_rl L hR hi aR aO K 10 ch 0 (Nat.le_refl _) hc (Nat.two_pow_pos i) (by rw [li_D0 L, Nat.xor_zero]) (fun c h1 h2 => absurd h2 (by omega))
  rw [pk_m1] at e
  exact Exists.intro 11 e
theorem wx_al {post : SX → Prop} {C : Nat → Nat} {i t : Nat} (aC : wx_A C a_cycle) (hi : i < 10) (hl : li_ld t i) (h0 : C i = 0) (h : post (f_rank, f_left, f_taken, a_held, a_row, a_origin, upd a_cycle i (nI t))) :
    ∀ b, i < b → b ≤ 10 → wX_addCycle_5 post f_rank f_left f_taken a_held a_row a_origin a_cycle (b + 1) (nI t) (nI b + (-1))
  | 0, z, _ => absurd z (Nat.not_lt_zero _)
  | b + 1, z, hb => by
    have ht := li_ldb hl
    have hp := ba_pow (show i + 1 ≤ 10 by omega)
    rw [pk_m1]
    refine br_f (nI_pos (by omega)) ?_
    by_cases y : b = i
    · rw [y]
      refine br_f (fun w => ?_) ⟨vp_in_nI hi (by decide), ?_⟩
      · rw [nx_bit (by omega) (by omega), hl.1] at w
        cases w
      · rw [nI_clamp (by omega), aC i hi, h0]
        exact br_t nI_0 ⟨vp_in_nI hi (by decide), nm_e h⟩
    · exact br_t ((nx_bit (by omega) (by omega)).mpr (hl.2 b (by omega))) (nm_e (wx_al aC hi hl h0 h b (by omega) (by omega)))
theorem wx_ac {post : SX → Prop} {C : Nat → Nat} {i t : Nat} (aC : wx_A C a_cycle) (hi : i < 10) (hl : li_ld t i) (h0 : C i = 0) (h : post (f_rank, f_left, f_taken, a_held, a_row, a_origin, upd a_cycle i (nI t))) : wpX_addCycle post (f_rank, f_left, f_taken, a_held, a_row, a_origin, a_cycle) (nI t) := by
  have e := wx_al aC hi hl h0 h 10 hi (Nat.le_refl _)
  rw [pk_m1] at e
  exact Exists.intro 11 e
/-- what holds behind eliminate(k) -/
def wx_K (post : SX → Prop) (H : Nat → Int32) (k : Nat) : Prop := ∀ (R O C : Nat → Nat) (rk zz : Nat) (l t : Int32) (row origin cycle : Nat → Int32), li_E (cx_D (wx_h H) (k + 1)) (cx_c (wx_h H) (k + 1) 32) R O C rk zz → wx_A R row → wx_A O origin → wx_A C cycle → post (nI rk, l, t, H, row, origin, cycle)
theorem wx_e57 {post : SX → Prop} {k : Nat} (hk : k ≤ 4) (N : cx_Dn (wx_h a_held)) (K : wx_K post a_held k) :
    ∀ (d i : Nat) (R O C : Nat → Nat) (rk zz : Nat) (l t : Int32) (row origin cycle : Nat → Int32), i + d = cx_c (wx_h a_held) (k + 1) 32 → li_E (cx_D (wx_h a_held) (k + 1)) i R O C rk zz → wx_A R row → wx_A O origin → wx_A C cycle →
      wX_eliminate_57 post (nI k) (nI (cx_c (wx_h a_held) (k + 1) 32)) (d + 1) (nI i) (nI rk) l t a_held row origin cycle
  | 0, i, R, O, C, rk, zz, l, t, row, origin, cycle, e, hE, aR, aO, aC => by
    have h10 := cx_c10 (wx_h a_held) (p := k + 1) (by omega)
    rw [Nat.add_zero] at e
    rw [e] at hE ⊢
    exact br_t (nI_le (Nat.le_refl _) (by omega)) (K R O C rk zz l t row origin cycle hE aR aO aC)
  | d + 1, i, R, O, C, rk, zz, l, t, row, origin, cycle, e, hE, aR, aO, aC => by
    have h10 := cx_c10 (wx_h a_held) (p := k + 1) (by omega)
    have hn : i < cx_c (wx_h a_held) (k + 1) 32 := by omega
    have hi : i < 10 := by omega
    have L := cx_L (wx_h a_held) (k + 1)
    refine br_f (nI_ge hn (by omega)) ?_
    rw [ba_shl i (by omega)]
    refine wx_bd hk (ba_powlt hn) ?_
    refine wx_red L hE.1 (by omega) aR aO (cx_D1024 N (by omega) (ba_powlt hn)) ?_
    intro l' t' hl ht el hr
    dsimp only
    refine nm_r (nx_xor t' (2 ^ i)) ?_
    by_cases z : l' = 0
    · refine br_t (by rw [z, nI_0]) ?_
      have hd : cx_D (wx_h a_held) (k + 1) t' = cx_D (wx_h a_held) (k + 1) (2 ^ i) := by
        rw [z] at el
        exact (li_x0 el.symm).symm
      refine wx_ac aC hi (li_ldt ht) (li_C0 hE hi) ?_
      dsimp only
      exact nm_r (nI_1 i) (wx_e57 hk N K d (i + 1) R O (li_u C i (t' ^^^ 2 ^ i)) rk (zz + 1) _ _ row origin _ (by omega) (li_Edep L hE hi ht hd) aR aO (wx_Au aC))
    · have hT := li_ldE z
      obtain ⟨_, htop, _⟩ := li_ind L hE ht el hr hl hT
      refine br_f (nI_ne0 (by omega) (by omega)) (wx_hi hl ?_)
      rw [nI_clamp (by omega)]
      exact ⟨vp_in_nI htop (by decide), nm_e ⟨vp_in_nI htop (by decide), nm_e (nm_r (nI_1 rk) (nm_r (nI_1 i) (wx_e57 hk N K d (i + 1) (li_u R l'.log2 l') (li_u O l'.log2 (t' ^^^ 2 ^ i)) C (rk + 1) zz _ _ _ _ cycle (by omega) (li_Eind L hE ht el hr hl hT) (wx_Au aR) (wx_Au aO) aC)))⟩⟩
theorem wx_e7 {post : SX → Prop} {k : Nat} (hk : k ≤ 5) (N : cx_Dn (wx_h a_held)) (K : wx_K post a_held k) :
    ∀ (d b : Nat) (row origin cycle : Nat → Int32), b + d = 10 → (∀ j, j < b → row j = 0) → (∀ j, j < b → origin j = 0) → (∀ j, j < b → cycle j = 0) → wX_eliminate_7 post (nI k) 0 f_left f_taken (d + 1) (nI b) a_held row origin cycle
  | 0, b, row, origin, cycle, e, h1, h2, h3 => by
    have ex : b = 10 := by omega
    subst ex
    have E0 := li_E0 (cx_L (wx_h a_held) (k + 1))
    refine br_t (nI_le (a := 10) (b := 10) (Nat.le_refl _) (by decide)) (pk_le k 4 (fun y => ?_) (fun y => ?_))
    · refine wx_cnt (by omega) ⟨cx_c (wx_h a_held) (k + 1) 32 + 1, ?_⟩
      exact wx_e57 y N K _ 0 (fun _ => 0) (fun _ => 0) (fun _ => 0) 0 0 _ _ row origin cycle (Nat.zero_add _) E0 (fun b hb => h1 b hb) (fun b hb => h2 b hb) (fun b hb => h3 b hb)
    · have ek : k = 5 := by omega
      subst ek
      refine ⟨1, br_t (by decide) ?_⟩
      refine K (fun _ => 0) (fun _ => 0) (fun _ => 0) 0 0 _ _ row origin cycle ?_ (fun b hb => h1 b hb) (fun b hb => h2 b hb) (fun b hb => h3 b hb)
      rw [cx_c6]
      exact E0
  | d + 1, b, row, origin, cycle, e, h1, h2, h3 => by
    have hb : b < 10 := by omega
    have up : ∀ a : Nat → Int32, (∀ j, j < b → a j = 0) → ∀ j, j < b + 1 → upd a b 0 j = 0 := by
      intro a ha j hj
      by_cases z : j = b
      · rw [z, pk_us]
      · rw [pk_un z]
        exact ha j (by omega)
    refine br_f (nI_ge (b := 10) hb (by decide)) ?_
    rw [nI_clamp (by omega)]
    exact ⟨vp_in_nI hb (by decide), nm_e ⟨vp_in_nI hb (by decide), nm_e ⟨vp_in_nI hb (by decide), nm_e (nm_r (nI_1 b) (wx_e7 hk N K d (b + 1) _ _ _ (by omega) (up _ h1) (up _ h2) (up _ h3)))⟩⟩⟩
theorem wx_el {post : SX → Prop} {k : Nat} (hk : k ≤ 5) (N : cx_Dn (wx_h a_held)) (K : wx_K post a_held k) : wpX_eliminate post (f_rank, f_left, f_taken, a_held, a_row, a_origin, a_cycle) (nI k) :=
  Exists.intro 11 (wx_e7 hk N K 10 0 a_row a_origin a_cycle rfl (fun j hj => absurd hj (Nat.not_lt_zero _)) (fun j hj => absurd hj (Nat.not_lt_zero _)) (fun j hj => absurd hj (Nat.not_lt_zero _)))
end
end
section
/-! the component's questions -/
section
variable {f_rank f_left f_taken : Int32} {a_held a_row a_origin a_cycle : Nat → Int32}
theorem wx_holes {post : Int32 → SX → Prop} {k : Nat} (hk : k ≤ 4) (N : cx_Dn (wx_h a_held))
    (K : ∀ r z : Nat, r ≤ z → z ≤ 10 → li_F (cx_D (wx_h a_held) (k + 1 + 1)) (2 ^ cx_c (wx_h a_held) (k + 1 + 1) 32) = 2 ^ r → li_G (cx_D (wx_h a_held) (k + 1)) 0 (2 ^ cx_c (wx_h a_held) (k + 1) 32) = 2 ^ z →
      ∀ (fr l t : Int32) (row origin cycle : Nat → Int32), post (nI (z - r)) (fr, l, t, a_held, row, origin, cycle)) :
    wpX_holes post (f_rank, f_left, f_taken, a_held, a_row, a_origin, a_cycle) (nI k) := by
  unfold wpX_holes
  dsimp only
  refine wx_dimt hk (br_f (by decide) (wx_cnt (by omega) (wx_el (by omega) N ?_)))
  intro R O C rk zz l t row origin cycle hE aR aO aC
  dsimp only
  refine nm_e ?_
  rw [nI_1 k]
  refine wx_el (by omega) N ?_
  intro R' O' C' rk' zz' l' t' row' origin' cycle' hE' aR' aO' aC'
  dsimp only
  have h10 := cx_c10 (wx_h a_held) (p := k + 1) (by omega)
  have hr : rk' ≤ zz := li_ranks hE hE' (fun c hc => ⟨cx_Dl N (by omega) hc, cx_DD N (by omega) hc⟩)
  have hs := hE.2.2.2.2.2.2.2
  have e : nI (cx_c (wx_h a_held) (k + 1) 32) - nI rk - nI rk' = nI (zz - rk') := by
    rw [pk_sub (by omega), pk_sub (by omega)]
    exact congrArg nI (by omega)
  rw [e]
  have hG := hE.2.2.2.2.1.2 0 (Nat.two_pow_pos _)
  rw [li_D0 (cx_L _ _)] at hG
  exact K rk' zz hr (by omega) hE'.2.2.2.2.1.1 hG _ _ _ _ _ _
theorem wx_filled {post : Int32 → SX → Prop} {k c : Nat} (hk : k ≤ 4) (N : cx_Dn (wx_h a_held)) (hc : c < 2 ^ cx_c (wx_h a_held) (k + 1) 32)
    (K1 : (∃ e, e < 2 ^ cx_c (wx_h a_held) (k + 1 + 1) 32 ∧ cx_D (wx_h a_held) (k + 1 + 1) e = c) → ∀ (fr l t : Int32) (row origin cycle : Nat → Int32), post 1 (fr, l, t, a_held, row, origin, cycle))
    (K0 : ¬ (∃ e, e < 2 ^ cx_c (wx_h a_held) (k + 1 + 1) 32 ∧ cx_D (wx_h a_held) (k + 1 + 1) e = c) → ∀ (fr l t : Int32) (row origin cycle : Nat → Int32), post 0 (fr, l, t, a_held, row, origin, cycle)) :
    wpX_filled post (f_rank, f_left, f_taken, a_held, a_row, a_origin, a_cycle) (nI k) (nI c) := by
  unfold wpX_filled
  dsimp only
  have hp := cx_p1024 (wx_h a_held) (p := k + 1) (by omega)
  have h10 := cx_c10 (wx_h a_held) (p := k + 1 + 1) (by omega)
  have L := cx_L (wx_h a_held) (k + 1 + 1)
  refine wx_ic1 hk hc (br_f (by decide) ?_)
  rw [nI_1 k]
  refine wx_el (by omega) N ?_
  intro R O C rk zz l t row origin cycle hE aR aO aC
  dsimp only
  refine wx_red L hE.1 h10 aR aO (by omega) ?_
  intro l' t' hl ht el hr
  dsimp only
  have hf := li_filled L hE (fun e he => cx_D1024 N (by omega) he) ht el hr
  by_cases z : l' = 0
  · exact br_t (by rw [z, nI_0]) (K1 (hf.mp z) _ _ _ _ _ _)
  · exact br_f (nI_ne0 (by omega) (by omega)) (K0 (fun y => z (hf.mpr y)) _ _ _ _ _ _)
theorem wx_least {post : Int32 → SX → Prop} {k c : Nat} (hk : k ≤ 4) (N : cx_Dn (wx_h a_held)) (hc : c < 2 ^ cx_c (wx_h a_held) (k + 1) 32)
    (K : ∀ l, (∃ e, e < 2 ^ cx_c (wx_h a_held) (k + 1 + 1) 32 ∧ l = c ^^^ cx_D (wx_h a_held) (k + 1 + 1) e) → (∀ e, e < 2 ^ cx_c (wx_h a_held) (k + 1 + 1) 32 → l ≤ c ^^^ cx_D (wx_h a_held) (k + 1 + 1) e) → ∀ (fr l' t : Int32) (row origin cycle : Nat → Int32), post (nI l) (fr, l', t, a_held, row, origin, cycle)) :
    wpX_least post (f_rank, f_left, f_taken, a_held, a_row, a_origin, a_cycle) (nI k) (nI c) := by
  unfold wpX_least
  dsimp only
  have hp := cx_p1024 (wx_h a_held) (p := k + 1) (by omega)
  have h10 := cx_c10 (wx_h a_held) (p := k + 1 + 1) (by omega)
  have L := cx_L (wx_h a_held) (k + 1 + 1)
  refine wx_ic1 hk hc (br_f (by decide) ?_)
  rw [nI_1 k]
  refine wx_el (by omega) N ?_
  intro R O C rk zz l t row origin cycle hE aR aO aC
  dsimp only
  refine wx_red L hE.1 h10 aR aO (by omega) ?_
  intro l' t' hl ht el hr
  dsimp only
  exact K l' ⟨t', ht, el⟩ (fun e he => li_least L hE (fun e he => cx_D1024 N (by omega) he) ht el hr he) _ _ _ _ _ _
theorem wx_fll {post : Int32 → SX → Prop} {D C : Nat → Nat} {i ch : Nat} (L : li_Lin D) (hC : li_Cyc D i C) (hi : i ≤ 10) (aC : wx_A C a_cycle)
    (K : ∀ x, x < 2 ^ i → D x = ch → li_Red C x → post (nI x) (f_rank, f_left, f_taken, a_held, a_row, a_origin, a_cycle)) :
    ∀ b x, b ≤ 10 → x < 2 ^ i → D x = ch → li_RedF C b x → wX_filling_42 post f_rank f_left f_taken a_held a_row a_origin a_cycle (b + 1) (nI x) (nI b + (-1))
  | 0, x, _, h1, h2, h3 => br_t (show nI 0 + (-1) < 0 by decide) (K x h1 h2 (fun c hc hR => h3 c (Nat.zero_le _) hc hR))
  | b + 1, x, hb, h1, h2, h3 => by
    have hb2 : b < 10 := by omega
    have hCb := li_C1024 hC hb2
    have hx : x < 1024 := Nat.lt_of_lt_of_le h1 (ba_pow hi)
    rw [pk_m1]
    refine br_f (nI_pos (by omega)) ⟨vp_in_nI hb2 (by decide), ?_⟩
    rw [nI_clamp (by omega), aC b hb2]
    by_cases z : C b = 0
    · refine br_t (by rw [z, nI_0]) (nm_e ?_)
      exact wx_fll L hC hi aC K b x (by omega) h1 h2 (li_redS h3 (fun y => absurd z y))
    · refine br_f (nI_ne0 (by omega) (by omega)) ?_
      by_cases y : x.testBit b = true
      · refine br_f (fun w => ?_) ⟨vp_in_nI hb2 (by decide), nm_r (nx_xor x (C b)) (nm_e ?_)⟩
        · rw [nx_bit (by omega) (by omega), y] at w
          cases w
        · obtain ⟨s1, s2, s3⟩ := li_cstep L hC hb2 z h1 h2 h3 y
          exact wx_fll L hC hi aC K b _ (by omega) s1 s2 s3
      · refine br_t ((nx_bit (by omega) (by omega)).mpr (ba_nt y)) (nm_e ?_)
        exact wx_fll L hC hi aC K b x (by omega) h1 h2 (li_redS h3 (fun _ => ba_nt y))
theorem wx_filling {post : Int32 → SX → Prop} {k c : Nat} (hk : k ≤ 4) (N : cx_Dn (wx_h a_held)) (hc : c < 2 ^ cx_c (wx_h a_held) (k + 1) 32)
    (K1 : ∀ x, x < 2 ^ cx_c (wx_h a_held) (k + 1 + 1) 32 → cx_D (wx_h a_held) (k + 1 + 1) x = c → (∀ e, e < 2 ^ cx_c (wx_h a_held) (k + 1 + 1) 32 → cx_D (wx_h a_held) (k + 1 + 1) e = c → x ≤ e) → ∀ (fr l t : Int32) (row origin cycle : Nat → Int32), post (nI x) (fr, l, t, a_held, row, origin, cycle))
    (K0 : ¬ (∃ e, e < 2 ^ cx_c (wx_h a_held) (k + 1 + 1) 32 ∧ cx_D (wx_h a_held) (k + 1 + 1) e = c) → ∀ (fr l t : Int32) (row origin cycle : Nat → Int32), post (-2) (fr, l, t, a_held, row, origin, cycle)) :
    wpX_filling post (f_rank, f_left, f_taken, a_held, a_row, a_origin, a_cycle) (nI k) (nI c) := by
  unfold wpX_filling
  dsimp only
  have hp := cx_p1024 (wx_h a_held) (p := k + 1) (by omega)
  have h10 := cx_c10 (wx_h a_held) (p := k + 1 + 1) (by omega)
  have L := cx_L (wx_h a_held) (k + 1 + 1)
  refine wx_ic1 hk hc (br_f (by decide) ?_)
  rw [nI_1 k]
  refine wx_el (by omega) N ?_
  intro R O C rk zz l t row origin cycle hE aR aO aC
  dsimp only
  refine wx_red L hE.1 h10 aR aO (by omega) ?_
  intro l' t' hl ht el hr
  dsimp only
  have hf := li_filled L hE (fun e he => cx_D1024 N (by omega) he) ht el hr
  by_cases z : l' = 0
  · refine br_t (by rw [z, nI_0]) ?_
    have hd : cx_D (wx_h a_held) (k + 1 + 1) t' = c := by
      rw [z] at el
      exact (li_x0 el.symm).symm
    have e := wx_fll (post := post) (f_rank := nI rk) (f_left := nI l') (f_taken := nI t') (a_held := a_held) (a_row := row) (a_origin := origin) L hE.2.2.1 h10 aC (fun x h1 h2 h3 => K1 x h1 h2 (fun e he hd => li_fill L hE h10 h1 h2 h3 he hd) _ _ _ _ _ _) 10 t' (Nat.le_refl _) ht hd (fun c h1 h2 => absurd h2 (by omega))
    rw [pk_m1] at e
    exact ⟨11, e⟩
  · exact br_f (nI_ne0 (by omega) (by omega)) (K0 (fun y => z (hf.mpr y)) _ _ _ _ _ _)
end
end
section
/-! the reference's small methods -/
def cx_t (g : Nat → Bool) : Nat → Nat
  | 0 => 0
  | n + 1 => cx_t g n + (if g n = true then 1 else 0)
theorem cx_ti {g : Nat → Bool} {n : Nat} (h : g n = true) : cx_t g (n + 1) = cx_t g n + 1 := by
  show cx_t g n + (if g n = true then 1 else 0) = _
  rw [if_pos h]
theorem cx_to {g : Nat → Bool} {n : Nat} (h : ¬ g n = true) : cx_t g (n + 1) = cx_t g n := by
  show cx_t g n + (if g n = true then 1 else 0) = _
  rw [if_neg h]
  rfl
theorem cx_tl (g : Nat → Bool) : ∀ n, cx_t g n ≤ n
  | 0 => Nat.le_refl _
  | n + 1 => by
    have ih := cx_tl g n
    by_cases z : g n = true
    · rw [cx_ti z]
      omega
    · rw [cx_to z]
      omega
theorem cx_tb (g : Nat → Bool) : ∀ n, cx_b g n = decide (cx_t g n % 2 = 1)
  | 0 => rfl
  | n + 1 => by
    show (cx_b g n ^^ g n) = _
    rw [cx_tb g n]
    by_cases z : g n = true
    · rw [cx_ti z, z]
      rcases Nat.mod_two_eq_zero_or_one (cx_t g n) with y | y
      · rw [decide_eq_false (by omega), decide_eq_true (by omega)]
        rfl
      · rw [decide_eq_true (by omega), decide_eq_false (by omega)]
        rfl
    · rw [cx_to z, ba_nt z, Bool.xor_false]
theorem wy_bit5 : ∀ s, s < 32 → ∀ x, x < 5 → ((nI s >>> (nI x &&& 31)) &&& 1) = nI (s / 2 ^ x % 2) := by decide +kernel
theorem wy_ptl {post : Int32 → Prop} {s : Nat} (hs : s < 32) (h : post (nI (cx_pts s))) : ∀ d x, x + d = 5 → wY_points_4 post (nI s) (d + 1) (nI (cx_pp s x)) (nI x)
  | 0, x, e => by
    have ex : x = 5 := by omega
    subst ex
    exact br_t (nI_le (a := 5) (b := 5) (Nat.le_refl _) (by decide)) h
  | d + 1, x, e => by
    refine br_f (nI_ge (b := 5) (by omega) (by decide)) (nm_r (e' := nI (cx_pp s (x + 1))) ?_ (nm_r (nI_1 x) (wy_ptl hs h d (x + 1) (by omega))))
    rw [wy_bit5 s hs x (by omega), nI_add]
    rfl
theorem wy_pt {post : Int32 → Prop} {s : Nat} (hs : s < 32) (h : post (nI (cx_pts s))) : wpY_points post (nI s) := Exists.intro 6 (wy_ptl hs h 5 0 rfl)
theorem wy_badt {post : Int32 → Prop} {p0 : Int32} (hb : dm_bad p0) (h : post 1) : wpY_bad post p0 := by
  unfold wpY_bad
  rcases hb with z | z
  · exact br_t z h
  · exact br_c (fun _ => h) (fun _ => br_f (Int32.not_le.mpr z) h)
theorem wy_badf {post : Int32 → Prop} {k : Nat} (hk : k ≤ 4) (h : post 0) : wpY_bad post (nI k) := by
  unfold wpY_bad
  exact br_f (nI_pos (by omega)) (br_t (nI_le (b := 4) hk (by decide)) h)
theorem dm_5 : dm_bad (nI 5) := Or.inr (by decide)
section
variable {a_held a_marked : Nat → Int32}
theorem wy_cl {post : Int32 → Prop} {k : Nat} (hk : k ≤ 4) (h : post (nI (cx_c (wx_h a_held) (k + 1) 32))) : ∀ d s, 1 ≤ s → s + d = 32 → wY_count_13 post (nI k) a_held a_marked (d + 1) (nI (cx_c (wx_h a_held) (k + 1) s)) (nI s)
  | 0, s, _, e => by
    have ex : s = 32 := by omega
    subst ex
    exact br_t (nI_le (a := 32) (b := 32) (Nat.le_refl _) (by decide)) h
  | d + 1, s, h1, e => by
    have ih := wy_cl hk h d (s + 1) (by omega) (by omega)
    have hs : s < 32 := by omega
    have hp := cx_p5 s hs
    refine br_f (nI_ge (b := 32) hs (by decide)) ⟨vp_in_nI hs (by decide), br_c (fun z => ?_) (fun z => ?_)⟩
    · rw [nI_clamp (by omega)] at z
      refine nm_r (nI_1 s) ?_
      rw [cx_co (fun y => (hd_1.mp (cx_mi.mp y).2.1) z)] at ih
      exact ih
    · rw [nI_clamp (by omega)] at z
      refine wy_pt hs (pk_eq (cx_pts s) (k + 1) (fun y => ?_) (fun y => ?_) rfl (nI_1 k) (by omega) (by omega))
      · refine nm_r (e' := nI (cx_c (wx_h a_held) (k + 1) (s + 1))) ?_ (nm_r (nI_1 s) ih)
        rw [cx_ci (cx_mi.mpr ⟨h1, hd_1.mpr z, y⟩)]
        exact nI_1 _
      · refine nm_r (nI_1 s) ?_
        rw [cx_co (fun v => y (cx_mi.mp v).2.2)] at ih
        exact ih
theorem wy_cnt {post : Int32 → Prop} {k : Nat} (hk : k ≤ 4) (h : post (nI (cx_c (wx_h a_held) (k + 1) 32))) : wpY_count post (a_held, a_marked) (nI k) := by
  unfold wpY_count
  dsimp only
  have e := wy_cl (a_marked := a_marked) hk h 31 1 (Nat.le_refl _) rfl
  rw [cx_c_1] at e
  exact wy_badf hk (br_t rfl ⟨32, e⟩)
theorem wy_cntb {post : Int32 → Prop} {p0 : Int32} (hb : dm_bad p0) (h : post (-1)) : wpY_count post (a_held, a_marked) p0 := by
  unfold wpY_count
  dsimp only
  exact wy_badt hb (br_f (by decide) h)
theorem wy_sl {post : Int32 → Prop} {k i : Nat} (hk : k ≤ 4) (hi : i < cx_c (wx_h a_held) (k + 1) 32) (h : post (nI (cx_s (wx_h a_held) (k + 1) i))) : ∀ d s, 1 ≤ s → s ≤ cx_s (wx_h a_held) (k + 1) i → s + d = 32 → wY_simplex_18 post (nI k) (nI i) a_held a_marked (d + 1) (nI (cx_c (wx_h a_held) (k + 1) s)) (nI s)
  | 0, s, _, hS, e => by
    have a := (cx_sp hi).1
    omega
  | d + 1, s, h1, hS, e => by
    obtain ⟨a, b, c⟩ := cx_sp hi
    have hs : s < 32 := by omega
    have hp := cx_p5 s hs
    have hle := cx_c_le (wx_h a_held) (k + 1) 32
    have hle2 := cx_c_le (wx_h a_held) (k + 1) s
    have stay : ¬ cx_m (wx_h a_held) (k + 1) s = true → wY_simplex_18 post (nI k) (nI i) a_held a_marked (d + 1) (nI (cx_c (wx_h a_held) (k + 1) s)) (nI (s + 1)) := by
      intro y
      have hne : s ≠ cx_s (wx_h a_held) (k + 1) i := by
        intro w
        rw [← w] at b
        exact y b
      have ih := wy_sl hk hi h d (s + 1) (by omega) (by omega) (by omega)
      rw [cx_co y] at ih
      exact ih
    refine br_f (nI_ge (b := 32) hs (by decide)) ⟨vp_in_nI hs (by decide), br_c (fun z => ?_) (fun z => ?_)⟩
    · rw [nI_clamp (by omega)] at z
      exact nm_r (nI_1 s) (stay (fun y => hd_1.mp (cx_mi.mp y).2.1 z))
    · rw [nI_clamp (by omega)] at z
      refine wy_pt hs (pk_eq (cx_pts s) (k + 1) (fun y => ?_) (fun y => ?_) rfl (nI_1 k) (by omega) (by omega))
      · have hm : cx_m (wx_h a_held) (k + 1) s = true := cx_mi.mpr ⟨h1, hd_1.mpr z, y⟩
        by_cases w : s = cx_s (wx_h a_held) (k + 1) i
        · refine br_t ?_ ?_
          · rw [w, c]
          · rw [w]
            exact h
        · have hlt := cx_lt hm (show s < cx_s (wx_h a_held) (k + 1) i by omega)
          rw [c] at hlt
          have ih := wy_sl hk hi h d (s + 1) (by omega) (by omega) (by omega)
          refine br_f (fun v => ?_) (nm_r (e' := nI (cx_c (wx_h a_held) (k + 1) (s + 1))) ?_ (nm_r (nI_1 s) ih))
          · rw [nI_eq (by omega) (by omega)] at v
            omega
          · rw [cx_ci hm]
            exact nI_1 _
      · exact nm_r (nI_1 s) (stay (fun v => y (cx_mi.mp v).2.2))
theorem wy_sim {post : Int32 → Prop} {k i : Nat} (hk : k ≤ 4) (hi : i < cx_c (wx_h a_held) (k + 1) 32) (h : post (nI (cx_s (wx_h a_held) (k + 1) i))) : wpY_simplex post (a_held, a_marked) (nI k) (nI i) := by
  unfold wpY_simplex
  dsimp only
  have hle := cx_c_le (wx_h a_held) (k + 1) 32
  have e := wy_sl (a_marked := a_marked) hk hi h 31 1 (Nat.le_refl _) (cx_mi.mp (cx_sp hi).2.1).1 rfl
  rw [cx_c_1] at e
  exact wy_badf hk (br_t rfl (br_t (nI_pos' (by omega)) ⟨32, e⟩))
theorem wy_snl {post : Int32 → Prop} {k i : Nat} (hk : k ≤ 4) (hi : cx_c (wx_h a_held) (k + 1) 32 ≤ i) (hi2 : i < 2 ^ 31) (h : post (-1)) : ∀ d s, 1 ≤ s → s + d = 32 → wY_simplex_18 post (nI k) (nI i) a_held a_marked (d + 1) (nI (cx_c (wx_h a_held) (k + 1) s)) (nI s)
  | 0, s, _, e => by
    have ex : s = 32 := by omega
    subst ex
    exact br_t (nI_le (a := 32) (b := 32) (Nat.le_refl _) (by decide)) h
  | d + 1, s, h1, e => by
    have hs : s < 32 := by omega
    have hp := cx_p5 s hs
    have hle2 := cx_c_le (wx_h a_held) (k + 1) s
    have ih := wy_snl hk hi hi2 h d (s + 1) (by omega) (by omega)
    refine br_f (nI_ge (b := 32) hs (by decide)) ⟨vp_in_nI hs (by decide), br_c (fun z => ?_) (fun z => ?_)⟩
    · rw [nI_clamp (by omega)] at z
      refine nm_r (nI_1 s) ?_
      rw [cx_co (fun y => hd_1.mp (cx_mi.mp y).2.1 z)] at ih
      exact ih
    · rw [nI_clamp (by omega)] at z
      refine wy_pt hs (pk_eq (cx_pts s) (k + 1) (fun y => ?_) (fun y => ?_) rfl (nI_1 k) (by omega) (by omega))
      · have hm : cx_m (wx_h a_held) (k + 1) s = true := cx_mi.mpr ⟨h1, hd_1.mpr z, y⟩
        have hlt := cx_lt hm hs
        refine br_f (fun v => ?_) (nm_r (e' := nI (cx_c (wx_h a_held) (k + 1) (s + 1))) ?_ (nm_r (nI_1 s) ih))
        · rw [nI_eq (by omega) (by omega)] at v
          omega
        · rw [cx_ci hm]
          exact nI_1 _
      · refine nm_r (nI_1 s) ?_
        rw [cx_co (fun v => y (cx_mi.mp v).2.2)] at ih
        exact ih
theorem wy_simn {post : Int32 → Prop} {k i : Nat} (hk : k ≤ 4) (hi : cx_c (wx_h a_held) (k + 1) 32 ≤ i) (hi2 : i < 2 ^ 31) (h : post (-1)) : wpY_simplex post (a_held, a_marked) (nI k) (nI i) := by
  unfold wpY_simplex
  dsimp only
  have e := wy_snl (a_marked := a_marked) hk hi hi2 h 31 1 (Nat.le_refl _) rfl
  rw [cx_c_1] at e
  exact wy_badf hk (br_t rfl (br_t (nI_pos' hi2) ⟨32, e⟩))
theorem wy_simb {post : Int32 → Prop} {p0 p1 : Int32} (hb : dm_bad p0 ∨ p1 < 0) (h : post (-1)) : wpY_simplex post (a_held, a_marked) p0 p1 := by
  unfold wpY_simplex
  dsimp only
  rcases dm_or p0 with z | ⟨k, hk, rfl⟩
  · exact wy_badt z (br_f (by decide) h)
  · rcases hb with z | z
    · exact wy_badt z (br_f (by decide) h)
    · exact wy_badf hk (br_t rfl (br_f (Int32.not_le.mpr z) h))
theorem wy_chains {post : Int32 → Prop} {k : Nat} (hk : k ≤ 5) (h : post (nI (2 ^ cx_c (wx_h a_held) (k + 1) 32))) : wpY_chains post (a_held, a_marked) (nI k) := by
  unfold wpY_chains
  dsimp only
  by_cases z : k ≤ 4
  · have h10 := cx_c10 (wx_h a_held) (p := k + 1) (by omega)
    refine wy_badf z (br_t rfl (wy_cnt z ?_))
    rw [ba_shl _ (by omega)]
    exact h
  · have ek : k = 5 := by omega
    subst ek
    rw [cx_c6] at h
    refine wy_badt dm_5 (br_f (by decide) ?_)
    have e : (1 : Int32) <<< ((0 : Int32) &&& 31) = nI (2 ^ 0) := ba_shl 0 (by decide)
    rw [e]
    exact h
theorem wy_nc0 {post : Int32 → Prop} {p0 p1 : Int32} (hb : ¬ dm_ok a_held p0 p1) (h : post 1) : wpY_noChain post (a_held, a_marked) p0 p1 := by
  unfold wpY_noChain
  dsimp only
  rcases dm_or p0 with z | ⟨k, hk, rfl⟩
  · exact wy_badt z (br_f (by decide) h)
  · have hp := cx_p1024 (wx_h a_held) (p := k + 1) (by omega)
    refine wy_badf hk (br_t rfl (br_c (fun _ => h) (fun y => ?_)))
    obtain ⟨j, hj, rfl⟩ := nI_of y
    refine wy_chains (by omega) (br_f (nI_nlt ?_ hj) h)
    apply Nat.le_of_not_lt
    intro w
    exact hb ⟨k, j, hk, w, rfl, rfl⟩
theorem wy_nc1 {post : Int32 → Prop} {k c : Nat} (hk : k ≤ 4) (hc : c < 2 ^ cx_c (wx_h a_held) (k + 1) 32) (h : post 0) : wpY_noChain post (a_held, a_marked) (nI k) (nI c) := by
  unfold wpY_noChain
  dsimp only
  have hp := cx_p1024 (wx_h a_held) (p := k + 1) (by omega)
  exact wy_badf hk (br_t rfl (br_f (nI_pos (by omega)) (wy_chains (by omega) (br_t (nI_lt hc (by omega)) h))))
/-- the simplices of the chain c that have the face f -/
def wy_g (h : Nat → Bool) (p c f : Nat) : Nat → Bool := fun j => c.testBit j && decide (cx_s h p j &&& f = f)
theorem wy_ol {post : Int32 → Prop} {k c f : Nat} (hk : k ≤ 4) (hc : c < 2 ^ cx_c (wx_h a_held) (k + 1) 32) (hf : f < 32)
    (h1 : cx_b (wy_g (wx_h a_held) (k + 1) c f) (cx_c (wx_h a_held) (k + 1) 32) = true → post 1) (h0 : cx_b (wy_g (wx_h a_held) (k + 1) c f) (cx_c (wx_h a_held) (k + 1) 32) = false → post 0) :
    ∀ d i, i + d = cx_c (wx_h a_held) (k + 1) 32 → wY_odd_13 post (nI k) (nI c) (nI f) (nI (cx_c (wx_h a_held) (k + 1) 32)) a_held a_marked (d + 1) (nI (cx_t (wy_g (wx_h a_held) (k + 1) c f) i)) (nI i)
  | 0, i, e => by
    have h10 := cx_c10 (wx_h a_held) (p := k + 1) (by omega)
    rw [Nat.add_zero] at e
    rw [e]
    have ht := cx_tl (wy_g (wx_h a_held) (k + 1) c f) (cx_c (wx_h a_held) (k + 1) 32)
    rw [cx_tb] at h1 h0
    refine br_t (nI_le (Nat.le_refl _) (by omega)) ⟨by decide, ?_⟩
    refine pk_eq (cx_t (wy_g (wx_h a_held) (k + 1) c f) (cx_c (wx_h a_held) (k + 1) 32) % 2) 1 (fun y => ?_) (fun y => ?_) (pk_rem (d := 2) (by omega) (by decide) (by decide)) rfl (by omega) (by omega)
    · exact h1 (decide_eq_true y)
    · exact h0 (decide_eq_false y)
  | d + 1, i, e => by
    have h10 := cx_c10 (wx_h a_held) (p := k + 1) (by omega)
    have hp := cx_p1024 (wx_h a_held) (p := k + 1) (by omega)
    have hi : i < cx_c (wx_h a_held) (k + 1) 32 := by omega
    have ih := wy_ol hk hc hf h1 h0 d (i + 1) (by omega)
    obtain ⟨a, b, _⟩ := cx_sp hi
    refine br_f (nI_ge hi (by omega)) (wy_sim hk hi ?_)
    by_cases z : c.testBit i = true
    · refine br_t ((ba_bitY (by omega) (by omega)).mpr z) ?_
      rw [nx_and]
      have hand : cx_s (wx_h a_held) (k + 1) i &&& f < 2 ^ 5 := Nat.and_lt_two_pow _ hf
      refine pk_eq (cx_s (wx_h a_held) (k + 1) i &&& f) f (fun y => ?_) (fun y => ?_) rfl rfl (by omega) (by omega)
      · have hg : wy_g (wx_h a_held) (k + 1) c f i = true := by
          unfold wy_g
          rw [z, decide_eq_true y]
          rfl
        rw [cx_ti hg] at ih
        exact nm_r (nI_1 _) (nm_r (nI_1 i) ih)
      · have hg : ¬ wy_g (wx_h a_held) (k + 1) c f i = true := by
          unfold wy_g
          rw [z, decide_eq_false y]
          decide
        rw [cx_to hg] at ih
        exact nm_r (nI_1 i) ih
    · refine br_f (fun y => z ((ba_bitY (by omega) (by omega)).mp y)) ?_
      have hg : ¬ wy_g (wx_h a_held) (k + 1) c f i = true := by
        unfold wy_g
        rw [ba_nt z, Bool.false_and]
        decide
      rw [cx_to hg] at ih
      exact nm_r (nI_1 i) ih
theorem wy_odd {post : Int32 → Prop} {k c f : Nat} (hk : k ≤ 4) (hc : c < 2 ^ cx_c (wx_h a_held) (k + 1) 32) (hf : f < 32)
    (h1 : cx_b (wy_g (wx_h a_held) (k + 1) c f) (cx_c (wx_h a_held) (k + 1) 32) = true → post 1) (h0 : cx_b (wy_g (wx_h a_held) (k + 1) c f) (cx_c (wx_h a_held) (k + 1) 32) = false → post 0) :
    wpY_odd post (a_held, a_marked) (nI k) (nI c) (nI f) := by
  unfold wpY_odd
  dsimp only
  exact wy_cnt hk ⟨_, wy_ol hk hc hf h1 h0 _ 0 (Nat.zero_add _)⟩
theorem wy_bl {post : Int32 → Prop} {k c : Nat} (hk : k + 1 ≤ 4) (N : cx_Dn (wx_h a_held)) (hc : c < 2 ^ cx_c (wx_h a_held) (k + 1 + 1) 32) (h : post (nI (cx_D (wx_h a_held) (k + 1 + 1) c))) :
    ∀ d i, i + d = cx_c (wx_h a_held) (k + 1) 32 → wY_boundaryOf_26 post (nI (k + 1)) (nI c) (nI (cx_c (wx_h a_held) (k + 1) 32)) a_held a_marked (d + 1) (nI (cx_D (wx_h a_held) (k + 1 + 1) c % 2 ^ i)) (nI i)
  | 0, i, e => by
    have h10 := cx_c10 (wx_h a_held) (p := k + 1) (by omega)
    rw [Nat.add_zero] at e
    rw [e, Nat.mod_eq_of_lt (cx_Dl N (by omega) hc)]
    exact br_t (nI_le (Nat.le_refl _) (by omega)) h
  | d + 1, i, e => by
    have h10 := cx_c10 (wx_h a_held) (p := k + 1) (by omega)
    have hi : i < cx_c (wx_h a_held) (k + 1) 32 := by omega
    have ih := wy_bl hk N hc h d (i + 1) (by omega)
    obtain ⟨a, b, _⟩ := cx_sp hi
    have hb := cx_Db N (p := k + 1) (by omega) (by omega) hc hi
    have em : cx_D (wx_h a_held) (k + 1 + 1) c % 2 ^ (i + 1) = cx_D (wx_h a_held) (k + 1 + 1) c % 2 ^ i + 2 ^ i * (cx_D (wx_h a_held) (k + 1 + 1) c / 2 ^ i % 2) := Nat.mod_pow_succ
    have hm := Nat.mod_lt (cx_D (wx_h a_held) (k + 1 + 1) c) (Nat.two_pow_pos i)
    rw [Nat.testBit_eq_decide_div_mod_eq] at hb
    refine br_f (nI_ge hi (by omega)) ?_
    rw [nI_pred]
    refine wy_sim (by omega) hi (wy_odd hk hc a (fun y => ?_) (fun y => ?_))
    · have e1 : cx_D (wx_h a_held) (k + 1 + 1) c / 2 ^ i % 2 = 1 := of_decide_eq_true (hb.trans y)
      rw [e1, Nat.mul_one] at em
      have e2 : cx_D (wx_h a_held) (k + 1 + 1) c % 2 ^ i ||| 2 ^ i = cx_D (wx_h a_held) (k + 1 + 1) c % 2 ^ (i + 1) := by
        have e3 := Nat.two_pow_add_eq_or_of_lt hm 1
        rw [Nat.mul_one] at e3
        rw [em, Nat.or_comm, ← e3, Nat.add_comm]
      refine br_f (by decide) (nm_r (e' := nI (cx_D (wx_h a_held) (k + 1 + 1) c % 2 ^ (i + 1))) ?_ (nm_r (nI_1 i) ih))
      rw [ba_shl i (by omega), ba_or, e2]
    · have e1 := of_decide_eq_false (hb.trans y)
      have e2 : cx_D (wx_h a_held) (k + 1 + 1) c / 2 ^ i % 2 = 0 := by omega
      rw [e2, Nat.mul_zero, Nat.add_zero] at em
      rw [em] at ih
      exact br_t rfl (nm_r (nI_1 i) ih)
theorem wy_bd {post : Int32 → Prop} {k c : Nat} (hk : k ≤ 5) (N : cx_Dn (wx_h a_held)) (hc : c < 2 ^ cx_c (wx_h a_held) (k + 1) 32) (h : post (nI (cx_D (wx_h a_held) (k + 1) c))) : wpY_boundaryOf post (a_held, a_marked) (nI k) (nI c) := by
  unfold wpY_boundaryOf
  dsimp only
  cases k with
  | zero =>
    rw [cx_D1 _ (by omega)] at h
    exact br_t (by decide) h
  | succ k =>
    refine br_f (nI_nlt (b := 1) (by omega) (by omega)) (pk_le (k + 1) 4 (fun y => ?_) (fun y => ?_))
    · rw [nI_pred]
      have e := wy_bl (a_marked := a_marked) y N hc h (cx_c (wx_h a_held) (k + 1) 32) 0 (Nat.zero_add _)
      rw [Nat.pow_zero, Nat.mod_one] at e
      exact wy_cnt (by omega) ⟨_, e⟩
    · have ek : k = 4 := by omega
      subst ek
      have hc2 := hc
      rw [cx_c6] at hc2
      have ec : c = 0 := by omega
      rw [ec, li_D0 (cx_L _ _)] at h
      exact h
end
end
section
/-! the reference's questions -/
section
variable {a_held a_marked : Nat → Int32}
/-- what holds behind mark(k) -/
def wy_M (H : Nat → Int32) (k c : Nat) (marked : Nat → Int32) : Prop := ∀ b, b < 2 ^ cx_c (wx_h H) (k + 1) 32 → (¬ marked b = 0 ↔ ∃ e, e < c ∧ cx_D (wx_h H) (k + 1 + 1) e = b)
theorem wy_Mu {H : Nat → Int32} {k c : Nat} {marked : Nat → Int32} (h : wy_M H k c marked) : wy_M H k (c + 1) (upd marked (cx_D (wx_h H) (k + 1 + 1) c) (vp_nar .boolean 1)) := by
  intro b hb
  rw [ba_nar1]
  by_cases z : b = cx_D (wx_h H) (k + 1 + 1) c
  · rw [z, pk_us]
    exact ⟨fun _ => ⟨c, by omega, rfl⟩, fun _ => by decide⟩
  · rw [pk_un z, h b hb]
    constructor
    · rintro ⟨e, h1, h2⟩
      exact ⟨e, by omega, h2⟩
    · rintro ⟨e, h1, h2⟩
      by_cases y : e = c
      · rw [y] at h2
        exact absurd h2.symm z
      · exact ⟨e, by omega, h2⟩
theorem wy_m43 {post : Int32 → SY → Prop} {k : Nat} (hk : k ≤ 4) (N : cx_Dn (wx_h a_held))
    (K : ∀ marked, wy_M a_held k (2 ^ cx_c (wx_h a_held) (k + 1 + 1) 32) marked → post (nI (li_F (cx_D (wx_h a_held) (k + 1 + 1)) (2 ^ cx_c (wx_h a_held) (k + 1 + 1) 32))) (a_held, marked)) :
    ∀ (d c : Nat) (marked : Nat → Int32), c + d = 2 ^ cx_c (wx_h a_held) (k + 1 + 1) 32 → wy_M a_held k c marked → wY_mark_43 post (nI k) (nI (2 ^ cx_c (wx_h a_held) (k + 1 + 1) 32)) (d + 1) (nI (li_F (cx_D (wx_h a_held) (k + 1 + 1)) c)) (nI c) a_held marked
  | 0, c, marked, e, hM => by
    have hp := cx_p1024 (wx_h a_held) (p := k + 1 + 1) (by omega)
    rw [Nat.add_zero] at e
    rw [e] at hM ⊢
    exact br_t (nI_le (Nat.le_refl _) (by omega)) (K marked hM)
  | d + 1, c, marked, e, hM => by
    have hp := cx_p1024 (wx_h a_held) (p := k + 1 + 1) (by omega)
    have hp1 := cx_p1024 (wx_h a_held) (p := k + 1) (by omega)
    have hc : c < 2 ^ cx_c (wx_h a_held) (k + 1 + 1) 32 := by omega
    have hD := cx_Dl N (by omega) hc
    have ih := wy_m43 hk N K d (c + 1) (upd marked (cx_D (wx_h a_held) (k + 1 + 1) c) (vp_nar .boolean 1)) (by omega) (wy_Mu hM)
    have hi : vp_in (nI (cx_D (wx_h a_held) (k + 1 + 1) c)) 1024 := vp_in_nI (by omega) (by decide)
    have hMc := hM _ hD
    refine br_f (nI_ge hc (by omega)) ?_
    rw [nI_1 k]
    refine wy_bd (by omega) N hc ⟨hi, ?_⟩
    rw [nI_clamp (by omega)]
    by_cases z : marked (cx_D (wx_h a_held) (k + 1 + 1) c) = 0
    · rw [li_Fn (fun e he hd => (hMc.mpr ⟨e, he, hd⟩) z)] at ih
      exact br_t z (nm_r (nI_1 _) ⟨hi, nm_e (nm_r (nI_1 c) ih)⟩)
    · obtain ⟨f, h1, h2⟩ := hMc.mp z
      rw [li_Fo h1 h2] at ih
      exact br_f z ⟨hi, nm_e (nm_r (nI_1 c) ih)⟩
theorem wy_m20 {post : Int32 → SY → Prop} {k : Nat} (hk : k ≤ 4) (N : cx_Dn (wx_h a_held))
    (K : ∀ marked, wy_M a_held k (2 ^ cx_c (wx_h a_held) (k + 1 + 1) 32) marked → post (nI (li_F (cx_D (wx_h a_held) (k + 1 + 1)) (2 ^ cx_c (wx_h a_held) (k + 1 + 1) 32))) (a_held, marked)) :
    ∀ (d b : Nat) (marked : Nat → Int32), b + d = 2 ^ cx_c (wx_h a_held) (k + 1) 32 → (∀ j, j < b → marked j = 0) → wY_mark_20 post (nI k) 0 (nI (2 ^ cx_c (wx_h a_held) (k + 1) 32)) (nI (2 ^ cx_c (wx_h a_held) (k + 1 + 1) 32)) (d + 1) (nI b) a_held marked
  | 0, b, marked, e, h0 => by
    have hp1 := cx_p1024 (wx_h a_held) (p := k + 1) (by omega)
    rw [Nat.add_zero] at e
    rw [e] at h0 ⊢
    refine br_t (nI_le (Nat.le_refl _) (by omega)) ⟨_, wy_m43 hk N K _ 0 marked (Nat.zero_add _) ?_⟩
    intro b hb
    constructor
    · intro y
      exact absurd (h0 b hb) y
    · rintro ⟨e, h1, _⟩
      exact absurd h1 (Nat.not_lt_zero _)
  | d + 1, b, marked, e, h0 => by
    have hp1 := cx_p1024 (wx_h a_held) (p := k + 1) (by omega)
    have ih := wy_m20 hk N K d (b + 1) (upd marked b (vp_nar .boolean 0)) (by omega) (by
      intro j hj
      rw [ba_nar0]
      by_cases z : j = b
      · rw [z, pk_us]
      · rw [pk_un z]
        exact h0 j (by omega))
    refine br_f (nI_ge (by omega) (by omega)) ⟨vp_in_nI (by omega) (by decide), ?_⟩
    rw [nI_clamp (by omega)]
    exact nm_e (nm_r (nI_1 b) ih)
theorem wy_mark {post : Int32 → SY → Prop} {k : Nat} (hk : k ≤ 4) (N : cx_Dn (wx_h a_held))
    (K : ∀ marked, wy_M a_held k (2 ^ cx_c (wx_h a_held) (k + 1 + 1) 32) marked → post (nI (li_F (cx_D (wx_h a_held) (k + 1 + 1)) (2 ^ cx_c (wx_h a_held) (k + 1 + 1) 32))) (a_held, marked)) :
    wpY_mark post (a_held, a_marked) (nI k) := by
  unfold wpY_mark
  dsimp only
  rw [nI_1 k]
  exact wy_chains (by omega) (wy_chains (by omega) ⟨_, wy_m20 hk N K _ 0 a_marked (Nat.zero_add _) (fun j hj => absurd hj (Nat.not_lt_zero _))⟩)
theorem wy_h56 {post : Int32 → SY → Prop} {r z : Nat} (hr : r ≤ z) (hz : z ≤ 10) (h : post (nI (z - r)) (a_held, a_marked)) : ∀ d b, b + d = z - r → wY_holes_56 post (nI (2 ^ r)) (nI (2 ^ z)) a_held a_marked (d + 1) (nI b)
  | 0, b, e => by
    have hb : b = z - r := by omega
    have hs : nI (2 ^ r) <<< (nI b &&& 31) = nI (2 ^ z) := by
      have hm : 2 ^ r * 2 ^ b = 2 ^ z := by
        rw [← Nat.pow_add]
        exact congrArg _ (by omega)
      have hzz := ba_pow hz
      rw [pk_shlN _ b (s_l b (by omega)) (by omega), hm]
    rw [← hb] at h
    refine br_c (fun _ => h) (fun _ => br_t ?_ h)
    rw [hs]
    exact Int32.le_refl _
  | d + 1, b, e => by
    have hzz := ba_pow hz
    have hm : 2 ^ r * 2 ^ b < 2 ^ z := by
      rw [← Nat.pow_add]
      exact ba_powlt (by omega)
    have hs : nI (2 ^ r) <<< (nI b &&& 31) = nI (2 ^ r * 2 ^ b) := pk_shlN _ b (s_l b (by omega)) (by omega)
    refine br_f (nI_ge (b := 10) (by omega) (by decide)) (br_f ?_ (nm_r (nI_1 b) (wy_h56 hr hz h d (b + 1) (by omega))))
    rw [hs]
    exact nI_ge hm (by omega)
theorem wy_h27 {post : Int32 → SY → Prop} {k r z : Nat} (hk : k ≤ 4) (N : cx_Dn (wx_h a_held)) (hr : r ≤ z) (hz : z ≤ 10) (hG : li_G (cx_D (wx_h a_held) (k + 1)) 0 (2 ^ cx_c (wx_h a_held) (k + 1) 32) = 2 ^ z) (h : post (nI (z - r)) (a_held, a_marked)) :
    ∀ d c, c + d = 2 ^ cx_c (wx_h a_held) (k + 1) 32 → wY_holes_27 post (nI k) (nI (2 ^ r)) (nI (2 ^ cx_c (wx_h a_held) (k + 1) 32)) a_held a_marked (d + 1) (nI (li_G (cx_D (wx_h a_held) (k + 1)) 0 c)) (nI c)
  | 0, c, e => by
    have hp1 := cx_p1024 (wx_h a_held) (p := k + 1) (by omega)
    rw [Nat.add_zero] at e
    rw [e, hG]
    exact br_t (nI_le (Nat.le_refl _) (by omega)) ⟨_, wy_h56 hr hz h _ 0 (Nat.zero_add _)⟩
  | d + 1, c, e => by
    have hp1 := cx_p1024 (wx_h a_held) (p := k + 1) (by omega)
    have hc : c < 2 ^ cx_c (wx_h a_held) (k + 1) 32 := by omega
    have ih := wy_h27 hk N hr hz hG h d (c + 1) (by omega)
    have hD := cx_D1024 N (by omega) hc
    have eG : li_G (cx_D (wx_h a_held) (k + 1)) 0 (c + 1) = li_G (cx_D (wx_h a_held) (k + 1)) 0 c + (if cx_D (wx_h a_held) (k + 1) c = 0 then 1 else 0) := rfl
    refine br_f (nI_ge hc (by omega)) (wy_bd (by omega) N hc ?_)
    refine pk_eq (cx_D (wx_h a_held) (k + 1) c) 0 (fun y => ?_) (fun y => ?_) rfl rfl (by omega) (by omega)
    · rw [eG, if_pos y] at ih
      exact nm_r (nI_1 _) (nm_r (nI_1 c) ih)
    · rw [eG, if_neg y, Nat.add_zero] at ih
      exact nm_r (nI_1 c) ih
theorem wy_holes {post : Int32 → SY → Prop} {k r z : Nat} (hk : k ≤ 4) (N : cx_Dn (wx_h a_held)) (hr : r ≤ z) (hz : z ≤ 10) (hF : li_F (cx_D (wx_h a_held) (k + 1 + 1)) (2 ^ cx_c (wx_h a_held) (k + 1 + 1) 32) = 2 ^ r) (hG : li_G (cx_D (wx_h a_held) (k + 1)) 0 (2 ^ cx_c (wx_h a_held) (k + 1) 32) = 2 ^ z) (h : ∀ marked, post (nI (z - r)) (a_held, marked)) :
    wpY_holes post (a_held, a_marked) (nI k) := by
  unfold wpY_holes
  dsimp only
  refine wy_badf hk (br_t rfl (wy_mark hk N ?_))
  intro marked _
  dsimp only
  rw [hF]
  exact wy_chains (by omega) ⟨_, wy_h27 hk N hr hz hG (h marked) _ 0 (Nat.zero_add _)⟩
theorem wy_filled {post : Int32 → SY → Prop} {k c : Nat} (hk : k ≤ 4) (N : cx_Dn (wx_h a_held)) (hc : c < 2 ^ cx_c (wx_h a_held) (k + 1) 32)
    (K1 : (∃ e, e < 2 ^ cx_c (wx_h a_held) (k + 1 + 1) 32 ∧ cx_D (wx_h a_held) (k + 1 + 1) e = c) → ∀ marked, post 1 (a_held, marked))
    (K0 : ¬ (∃ e, e < 2 ^ cx_c (wx_h a_held) (k + 1 + 1) 32 ∧ cx_D (wx_h a_held) (k + 1 + 1) e = c) → ∀ marked, post 0 (a_held, marked)) :
    wpY_filled post (a_held, a_marked) (nI k) (nI c) := by
  unfold wpY_filled
  dsimp only
  have hp1 := cx_p1024 (wx_h a_held) (p := k + 1) (by omega)
  refine wy_nc1 hk hc (br_t rfl (wy_mark hk N ?_))
  intro marked hM
  dsimp only
  refine ⟨vp_in_nI (by omega) (by decide), ?_⟩
  rw [nI_clamp (by omega)]
  have hMc := hM c hc
  refine br_c (fun z => K0 (fun y => hMc.mpr y z) marked) (fun z => K1 (hMc.mp z) marked)
theorem wy_fl1 {post : Int32 → Prop} {k c x : Nat} (hk : k ≤ 4) (N : cx_Dn (wx_h a_held)) (hc : c < 2 ^ cx_c (wx_h a_held) (k + 1) 32) (hx : x < 2 ^ cx_c (wx_h a_held) (k + 1 + 1) 32) (hD : cx_D (wx_h a_held) (k + 1 + 1) x = c) (hm : ∀ e, e < 2 ^ cx_c (wx_h a_held) (k + 1 + 1) 32 → cx_D (wx_h a_held) (k + 1 + 1) e = c → x ≤ e) (h : post (nI x)) :
    ∀ d e, e + d = x → wY_filling_22 post (nI k) (nI c) (nI (2 ^ cx_c (wx_h a_held) (k + 1 + 1) 32)) a_held a_marked (d + 1) (nI e)
  | 0, e, he => by
    have hp := cx_p1024 (wx_h a_held) (p := k + 1 + 1) (by omega)
    rw [Nat.add_zero] at he
    rw [he]
    refine br_f (nI_ge hx (by omega)) ?_
    rw [nI_1 k]
    refine wy_bd (by omega) N hx ?_
    rw [hD]
    exact br_t rfl h
  | d + 1, e, he => by
    have hp := cx_p1024 (wx_h a_held) (p := k + 1 + 1) (by omega)
    have hp1 := cx_p1024 (wx_h a_held) (p := k + 1) (by omega)
    have hlt : e < 2 ^ cx_c (wx_h a_held) (k + 1 + 1) 32 := by omega
    have hb := cx_D1024 N (by omega) hlt
    refine br_f (nI_ge hlt (by omega)) ?_
    rw [nI_1 k]
    refine wy_bd (by omega) N hlt (br_f (fun y => ?_) (nm_r (nI_1 e) (wy_fl1 hk N hc hx hD hm h d (e + 1) (by omega))))
    rw [nI_eq (by omega) (by omega)] at y
    have := hm e hlt y
    omega
theorem wy_fl0 {post : Int32 → Prop} {k c : Nat} (hk : k ≤ 4) (N : cx_Dn (wx_h a_held)) (hc : c < 2 ^ cx_c (wx_h a_held) (k + 1) 32) (hm : ¬ (∃ e, e < 2 ^ cx_c (wx_h a_held) (k + 1 + 1) 32 ∧ cx_D (wx_h a_held) (k + 1 + 1) e = c)) (h : post (-2)) :
    ∀ d e, e + d = 2 ^ cx_c (wx_h a_held) (k + 1 + 1) 32 → wY_filling_22 post (nI k) (nI c) (nI (2 ^ cx_c (wx_h a_held) (k + 1 + 1) 32)) a_held a_marked (d + 1) (nI e)
  | 0, e, he => by
    have hp := cx_p1024 (wx_h a_held) (p := k + 1 + 1) (by omega)
    rw [Nat.add_zero] at he
    rw [he]
    exact br_t (nI_le (Nat.le_refl _) (by omega)) h
  | d + 1, e, he => by
    have hp := cx_p1024 (wx_h a_held) (p := k + 1 + 1) (by omega)
    have hp1 := cx_p1024 (wx_h a_held) (p := k + 1) (by omega)
    have hlt : e < 2 ^ cx_c (wx_h a_held) (k + 1 + 1) 32 := by omega
    have hb := cx_D1024 N (by omega) hlt
    refine br_f (nI_ge hlt (by omega)) ?_
    rw [nI_1 k]
    refine wy_bd (by omega) N hlt (br_f (fun y => ?_) (nm_r (nI_1 e) (wy_fl0 hk N hc hm h d (e + 1) (by omega))))
    rw [nI_eq (by omega) (by omega)] at y
    exact hm ⟨e, hlt, y⟩
theorem wy_fill1 {post : Int32 → Prop} {k c x : Nat} (hk : k ≤ 4) (N : cx_Dn (wx_h a_held)) (hc : c < 2 ^ cx_c (wx_h a_held) (k + 1) 32) (hx : x < 2 ^ cx_c (wx_h a_held) (k + 1 + 1) 32) (hD : cx_D (wx_h a_held) (k + 1 + 1) x = c) (hm : ∀ e, e < 2 ^ cx_c (wx_h a_held) (k + 1 + 1) 32 → cx_D (wx_h a_held) (k + 1 + 1) e = c → x ≤ e) (h : post (nI x)) :
    wpY_filling post (a_held, a_marked) (nI k) (nI c) := by
  unfold wpY_filling
  dsimp only
  refine wy_nc1 hk hc (br_t rfl ?_)
  rw [nI_1 k]
  exact wy_chains (by omega) ⟨_, wy_fl1 hk N hc hx hD hm h _ 0 (Nat.zero_add _)⟩
theorem wy_fill0 {post : Int32 → Prop} {k c : Nat} (hk : k ≤ 4) (N : cx_Dn (wx_h a_held)) (hc : c < 2 ^ cx_c (wx_h a_held) (k + 1) 32) (hm : ¬ (∃ e, e < 2 ^ cx_c (wx_h a_held) (k + 1 + 1) 32 ∧ cx_D (wx_h a_held) (k + 1 + 1) e = c)) (h : post (-2)) :
    wpY_filling post (a_held, a_marked) (nI k) (nI c) := by
  unfold wpY_filling
  dsimp only
  refine wy_nc1 hk hc (br_t rfl ?_)
  rw [nI_1 k]
  exact wy_chains (by omega) ⟨_, wy_fl0 hk N hc hm h _ 0 (Nat.zero_add _)⟩
theorem wy_ll {post : Int32 → SY → Prop} {k c l : Nat} (hk : k ≤ 4) (hc : c < 2 ^ cx_c (wx_h a_held) (k + 1) 32) (hl : l < 2 ^ cx_c (wx_h a_held) (k + 1) 32) {marked : Nat → Int32} (hM : wy_M a_held k (2 ^ cx_c (wx_h a_held) (k + 1 + 1) 32) marked)
    (hD : ∃ e, e < 2 ^ cx_c (wx_h a_held) (k + 1 + 1) 32 ∧ l = c ^^^ cx_D (wx_h a_held) (k + 1 + 1) e) (hm : ∀ e, e < 2 ^ cx_c (wx_h a_held) (k + 1 + 1) 32 → l ≤ c ^^^ cx_D (wx_h a_held) (k + 1 + 1) e) (h : post (nI l) (a_held, marked)) :
    ∀ d e, e + d = l → wY_least_26 post (nI c) (nI (2 ^ cx_c (wx_h a_held) (k + 1) 32)) a_held marked (d + 1) (nI e)
  | 0, e, he => by
    have hp1 := cx_p1024 (wx_h a_held) (p := k + 1) (by omega)
    rw [Nat.add_zero] at he
    rw [he]
    have hx := Nat.xor_lt_two_pow hl hc
    refine br_f (nI_ge hl (by omega)) ?_
    rw [nx_xor, nI_clamp (by omega)]
    refine ⟨vp_in_nI (by omega) (by decide), br_f ((hM _ hx).mpr ?_) h⟩
    obtain ⟨f, h1, h2⟩ := hD
    exact ⟨f, h1, by rw [h2, Nat.xor_comm c, li_xx]⟩
  | d + 1, e, he => by
    have hp1 := cx_p1024 (wx_h a_held) (p := k + 1) (by omega)
    have hlt : e < 2 ^ cx_c (wx_h a_held) (k + 1) 32 := by omega
    have hx := Nat.xor_lt_two_pow hlt hc
    refine br_f (nI_ge hlt (by omega)) ?_
    rw [nx_xor, nI_clamp (by omega)]
    refine ⟨vp_in_nI (by omega) (by decide), br_t ?_ (nm_r (nI_1 e) (wy_ll hk hc hl hM hD hm h d (e + 1) (by omega)))⟩
    apply Decidable.byContradiction
    intro y
    obtain ⟨f, h1, h2⟩ := (hM _ hx).mp y
    have h3 := hm f h1
    rw [h2, Nat.xor_comm e, li_xl] at h3
    omega
theorem wy_least {post : Int32 → SY → Prop} {k c l : Nat} (hk : k ≤ 4) (N : cx_Dn (wx_h a_held)) (hc : c < 2 ^ cx_c (wx_h a_held) (k + 1) 32)
    (hD : ∃ e, e < 2 ^ cx_c (wx_h a_held) (k + 1 + 1) 32 ∧ l = c ^^^ cx_D (wx_h a_held) (k + 1 + 1) e) (hm : ∀ e, e < 2 ^ cx_c (wx_h a_held) (k + 1 + 1) 32 → l ≤ c ^^^ cx_D (wx_h a_held) (k + 1 + 1) e) (h : ∀ marked, post (nI l) (a_held, marked)) :
    wpY_least post (a_held, a_marked) (nI k) (nI c) := by
  unfold wpY_least
  dsimp only
  have hl : l < 2 ^ cx_c (wx_h a_held) (k + 1) 32 := by
    obtain ⟨f, h1, h2⟩ := hD
    rw [h2]
    exact Nat.xor_lt_two_pow hc (cx_Dl N (by omega) h1)
  refine wy_nc1 hk hc (br_t rfl (wy_mark hk N ?_))
  intro marked hM
  dsimp only
  exact wy_chains (by omega) ⟨_, wy_ll hk hc hl hM hD hm (h marked) _ 0 (Nat.zero_add _)⟩
end
end
section
/-! add and remove: both sides write the same -/
theorem ad_x : ∀ s, s < 32 → ∀ p, p < 32 → ((nI s &&& (nI p ^^^ (-1))) = 0 ↔ s &&& p = s) := by decide +kernel
theorem ad_y : ∀ s, s < 32 → ∀ p, p < 32 → ((nI s &&& nI p) = nI s ↔ s &&& p = s) := by decide +kernel
theorem rm_x : ∀ s, s < 32 → ∀ p, p < 32 → ((nI p &&& (nI s ^^^ (-1))) = 0 ↔ p &&& s = p) := by decide +kernel
theorem rm_y : ∀ s, s < 32 → ∀ p, p < 32 → ((nI s &&& nI p) = nI p ↔ p &&& s = p) := by decide +kernel
theorem ed_u {H : Nat → Int32} {s t : Nat} {x : Int32} : wx_h (upd H s x) t = if t = s then !decide (x = 0) else wx_h H t := by
  unfold wx_h
  by_cases z : t = s
  · rw [z, pk_us, if_pos rfl]
  · rw [pk_un z, if_neg z]
section
variable {f_rank f_left f_taken : Int32} {a_row a_origin a_cycle a_marked : Nat → Int32}
theorem ad_l {p : Nat} (hp : p < 32) : ∀ (d s n : Nat) (H : Nat → Int32), 1 ≤ s → s + d = 32 → ∃ (r : Int32) (H' : Nat → Int32),
    (∀ t, wx_h H' t = (wx_h H t || (decide (s ≤ t) && decide (t < 32) && decide (t &&& p = t)))) ∧
    (∀ post : Int32 → SX → Prop, post r (f_rank, f_left, f_taken, H', a_row, a_origin, a_cycle) → wX_add_17 post (nI p) f_rank f_left f_taken (d + 1) (nI n) (nI s) H a_row a_origin a_cycle) ∧
    (∀ post : Int32 → SY → Prop, post r (H', a_marked) → wY_add_17 post (nI p) (d + 1) (nI n) (nI s) H a_marked)
  | 0, s, n, H, _, e => by
    have ex : s = 32 := by omega
    subst ex
    have h : nI 32 ≤ nI 32 := nI_le (Nat.le_refl _) (by decide)
    refine ⟨nI n, H, fun t => ?_, fun post hp => br_t h hp, fun post hp => br_t h hp⟩
    by_cases z : 32 ≤ t
    · rw [decide_eq_false (show ¬ t < 32 by omega), Bool.and_false, Bool.false_and, Bool.or_false]
    · rw [decide_eq_false z, Bool.false_and, Bool.false_and, Bool.or_false]
  | d + 1, s, n, H, h1, e => by
    have hs : s < 32 := by omega
    have h : ¬ nI 32 ≤ nI s := nI_ge hs (by decide)
    have hi : vp_in (nI s) 32 := vp_in_nI hs (by decide)
    have hcl : (nI s).toNatClampNeg = s := nI_clamp (by omega)
    have tl : ∀ t : Nat, t ≠ s → (decide (s ≤ t) && decide (t < 32) && decide (t &&& p = t)) = (decide (s + 1 ≤ t) && decide (t < 32) && decide (t &&& p = t)) := by
      intro t ht
      rw [decide_eq_decide.mpr (show s ≤ t ↔ s + 1 ≤ t by omega)]
    have ts : (decide (s + 1 ≤ s) && decide (s < 32) && decide (s &&& p = s)) = false := by
      rw [decide_eq_false (show ¬ s + 1 ≤ s by omega), Bool.false_and, Bool.false_and]
    by_cases z : s &&& p = s
    · by_cases y : H s = 0
      · obtain ⟨r, H', hH, hX, hY⟩ := ad_l hp d (s + 1) (n + 1) (upd H s (vp_nar .boolean 1)) (by omega) (by omega)
        refine ⟨r, H', fun t => ?_, fun post hp' => br_f h (br_t ((ad_x s hs p hp).mpr z) ⟨hi, ?_⟩), fun post hp' => br_f h (br_t ((ad_y s hs p hp).mpr z) ⟨hi, ?_⟩)⟩
        · rw [hH t, ed_u, ba_nar1]
          by_cases w : t = s
          · rw [if_pos w, w, ts, decide_eq_true (Nat.le_refl s), decide_eq_true hs, decide_eq_true z]
            cases wx_h H s <;> decide
          · rw [if_neg w, tl t w]
        · rw [hcl]
          exact br_t y ⟨hi, nm_e (nm_r (nI_1 n) (nm_r (nI_1 s) (hX post hp')))⟩
        · rw [hcl]
          exact br_t y ⟨hi, nm_e (nm_r (nI_1 n) (nm_r (nI_1 s) (hY post hp')))⟩
      · obtain ⟨r, H', hH, hX, hY⟩ := ad_l hp d (s + 1) n H (by omega) (by omega)
        refine ⟨r, H', fun t => ?_, fun post hp' => br_f h (br_t ((ad_x s hs p hp).mpr z) ⟨hi, ?_⟩), fun post hp' => br_f h (br_t ((ad_y s hs p hp).mpr z) ⟨hi, ?_⟩)⟩
        · rw [hH t]
          by_cases w : t = s
          · rw [w, hd_1.mpr y, Bool.true_or, Bool.true_or]
          · rw [tl t w]
        · rw [hcl]
          exact br_f y (nm_r (nI_1 s) (hX post hp'))
        · rw [hcl]
          exact br_f y (nm_r (nI_1 s) (hY post hp'))
    · obtain ⟨r, H', hH, hX, hY⟩ := ad_l hp d (s + 1) n H (by omega) (by omega)
      refine ⟨r, H', fun t => ?_, fun post hp' => br_f h (br_f (fun w => z ((ad_x s hs p hp).mp w)) (nm_r (nI_1 s) (hX post hp'))), fun post hp' => br_f h (br_f (fun w => z ((ad_y s hs p hp).mp w)) (nm_r (nI_1 s) (hY post hp')))⟩
      rw [hH t]
      by_cases w : t = s
      · rw [w, ts, decide_eq_false z, Bool.and_false]
      · rw [tl t w]
theorem rm_l {p : Nat} (hp : p < 32) : ∀ (d s n : Nat) (H : Nat → Int32), 1 ≤ s → s + d = 32 → ∃ (r : Int32) (H' : Nat → Int32),
    (∀ t, wx_h H' t = (wx_h H t && !(decide (s ≤ t) && decide (t < 32) && decide (p &&& t = p)))) ∧
    (∀ post : Int32 → SX → Prop, post r (f_rank, f_left, f_taken, H', a_row, a_origin, a_cycle) → wX_remove_17 post (nI p) f_rank f_left f_taken (d + 1) (nI n) (nI s) H a_row a_origin a_cycle) ∧
    (∀ post : Int32 → SY → Prop, post r (H', a_marked) → wY_remove_17 post (nI p) (d + 1) (nI n) (nI s) H a_marked)
  | 0, s, n, H, _, e => by
    have ex : s = 32 := by omega
    subst ex
    have h : nI 32 ≤ nI 32 := nI_le (Nat.le_refl _) (by decide)
    refine ⟨nI n, H, fun t => ?_, fun post hp => br_t h hp, fun post hp => br_t h hp⟩
    by_cases z : 32 ≤ t
    · rw [decide_eq_false (show ¬ t < 32 by omega), Bool.and_false, Bool.false_and, Bool.not_false, Bool.and_true]
    · rw [decide_eq_false z, Bool.false_and, Bool.false_and, Bool.not_false, Bool.and_true]
  | d + 1, s, n, H, h1, e => by
    have hs : s < 32 := by omega
    have h : ¬ nI 32 ≤ nI s := nI_ge hs (by decide)
    have hi : vp_in (nI s) 32 := vp_in_nI hs (by decide)
    have hcl : (nI s).toNatClampNeg = s := nI_clamp (by omega)
    have tl : ∀ t : Nat, t ≠ s → (decide (s ≤ t) && decide (t < 32) && decide (p &&& t = p)) = (decide (s + 1 ≤ t) && decide (t < 32) && decide (p &&& t = p)) := by
      intro t ht
      rw [decide_eq_decide.mpr (show s ≤ t ↔ s + 1 ≤ t by omega)]
    have ts : (decide (s + 1 ≤ s) && decide (s < 32) && decide (p &&& s = p)) = false := by
      rw [decide_eq_false (show ¬ s + 1 ≤ s by omega), Bool.false_and, Bool.false_and]
    by_cases z : p &&& s = p
    · by_cases y : H s = 0
      · obtain ⟨r, H', hH, hX, hY⟩ := rm_l hp d (s + 1) n H (by omega) (by omega)
        refine ⟨r, H', fun t => ?_, fun post hp' => br_f h (br_t ((rm_x s hs p hp).mpr z) ⟨hi, ?_⟩), fun post hp' => br_f h (br_t ((rm_y s hs p hp).mpr z) ⟨hi, ?_⟩)⟩
        · rw [hH t]
          by_cases w : t = s
          · rw [w, ba_nt (fun v => hd_1.mp v y), Bool.false_and, Bool.false_and]
          · rw [tl t w]
        · rw [hcl]
          exact br_t y (nm_r (nI_1 s) (hX post hp'))
        · rw [hcl]
          exact br_t y (nm_r (nI_1 s) (hY post hp'))
      · obtain ⟨r, H', hH, hX, hY⟩ := rm_l hp d (s + 1) (n + 1) (upd H s (vp_nar .boolean 0)) (by omega) (by omega)
        refine ⟨r, H', fun t => ?_, fun post hp' => br_f h (br_t ((rm_x s hs p hp).mpr z) ⟨hi, ?_⟩), fun post hp' => br_f h (br_t ((rm_y s hs p hp).mpr z) ⟨hi, ?_⟩)⟩
        · rw [hH t, ed_u, ba_nar0]
          by_cases w : t = s
          · rw [if_pos w, w, ts, decide_eq_true (Nat.le_refl s), decide_eq_true hs, decide_eq_true z]
            cases wx_h H s <;> decide
          · rw [if_neg w, tl t w]
        · rw [hcl]
          exact br_f y ⟨hi, nm_e (nm_r (nI_1 n) (nm_r (nI_1 s) (hX post hp')))⟩
        · rw [hcl]
          exact br_f y ⟨hi, nm_e (nm_r (nI_1 n) (nm_r (nI_1 s) (hY post hp')))⟩
    · obtain ⟨r, H', hH, hX, hY⟩ := rm_l hp d (s + 1) n H (by omega) (by omega)
      refine ⟨r, H', fun t => ?_, fun post hp' => br_f h (br_f (fun w => z ((rm_x s hs p hp).mp w)) (nm_r (nI_1 s) (hX post hp'))), fun post hp' => br_f h (br_f (fun w => z ((rm_y s hs p hp).mp w)) (nm_r (nI_1 s) (hY post hp')))⟩
      rw [hH t]
      by_cases w : t = s
      · rw [w, ts, decide_eq_false z, Bool.and_false]
      · rw [tl t w]
end
theorem ed_sub {s t : Nat} (h : t &&& s = t) (hs : s < 32) : t < 32 := by
  rw [← h]
  exact Nat.lt_of_le_of_lt Nat.and_le_right hs
theorem ed_tr {s t p : Nat} (h : t &&& s = t) (k : s &&& p = s) : t &&& p = t := by
  rw [← h, Nat.and_assoc, k]
theorem ad_Dn {H H' : Nat → Int32} {p : Nat} (N : cx_Dn (wx_h H)) (h : ∀ t, wx_h H' t = (wx_h H t || (decide (1 ≤ t) && decide (t < 32) && decide (t &&& p = t)))) : cx_Dn (wx_h H') := by
  intro s t hs hh ht hsub
  rw [h t]
  rw [h s, Bool.or_eq_true, Bool.and_eq_true, Bool.and_eq_true, decide_eq_true_iff, decide_eq_true_iff, decide_eq_true_iff] at hh
  rcases hh with y | ⟨⟨y1, y2⟩, y3⟩
  · rw [N s t hs y ht hsub, Bool.true_or]
  · rw [decide_eq_true ht, decide_eq_true (ed_sub hsub hs), decide_eq_true (ed_tr hsub y3), Bool.and_true, Bool.and_true, Bool.or_true]
theorem rm_Dn {H H' : Nat → Int32} {p : Nat} (N : cx_Dn (wx_h H)) (h : ∀ t, wx_h H' t = (wx_h H t && !(decide (1 ≤ t) && decide (t < 32) && decide (p &&& t = p)))) : cx_Dn (wx_h H') := by
  intro s t hs hh ht hsub
  have ht2 := ed_sub hsub hs
  rw [h s, Bool.and_eq_true] at hh
  have hs1 : 1 ≤ s := by
    apply Nat.pos_of_ne_zero
    intro z
    rw [z, Nat.and_zero] at hsub
    omega
  rw [h t, N s t hs hh.1 ht hsub, decide_eq_true ht, decide_eq_true ht2, Bool.true_and, Bool.true_and, Bool.true_and]
  have h2 := hh.2
  rw [decide_eq_true hs1, decide_eq_true hs, Bool.true_and, Bool.true_and] at h2
  by_cases z : p &&& t = p
  · have y := ed_tr z hsub
    rw [decide_eq_true y] at h2
    cases h2
  · rw [decide_eq_false z]
    rfl
end
section
/-! the alternating sum -/
def al_A (h : Nat → Bool) (s : Nat) : Int32 := 0 + nI (cx_c h 1 s) + -nI (cx_c h 2 s) + nI (cx_c h 3 s) + -nI (cx_c h 4 s) + nI (cx_c h 5 s)
theorem al_ne {h : Nat → Bool} {p q s : Nat} (e : cx_pts s = q) (hp : q ≠ p) : cx_c h p (s + 1) = cx_c h p s := cx_co (fun y => hp (by rw [← e]; exact (cx_mi.mp y).2.2))
theorem al_0 {h : Nat → Bool} {s : Nat} (z : ¬ h s = true) : al_A h (s + 1) = al_A h s := by
  have e : ∀ p, cx_c h p (s + 1) = cx_c h p s := fun p => cx_co (fun y => z (cx_mi.mp y).2.1)
  unfold al_A
  rw [e, e, e, e, e]
theorem al_i : ∀ q, q ≤ 5 → (q % 2 = 1 → q = 1 ∨ q = 3 ∨ q = 5) ∧ (¬ q % 2 = 1 → q = 0 ∨ q = 2 ∨ q = 4) := by omega
theorem al_p1 : ∀ s, s < 32 → 1 ≤ s → 1 ≤ cx_pts s := by decide +kernel
theorem al_o {h : Nat → Bool} {s : Nat} (hs : s < 32) (h1 : 1 ≤ s) (z : h s = true) (q : cx_pts s % 2 = 1) : al_A h s + 1 = al_A h (s + 1) := by
  have hq := (al_i _ (cx_p5 s hs)).1 q
  unfold al_A
  rcases hq with e | e | e
  · rw [cx_ci (cx_mi.mpr ⟨h1, z, e⟩), al_ne (p := 2) e (by decide), al_ne (p := 3) e (by decide), al_ne (p := 4) e (by decide), al_ne (p := 5) e (by decide), ← nI_1]
    grind
  · rw [cx_ci (cx_mi.mpr ⟨h1, z, e⟩), al_ne (p := 1) e (by decide), al_ne (p := 2) e (by decide), al_ne (p := 4) e (by decide), al_ne (p := 5) e (by decide), ← nI_1]
    grind
  · rw [cx_ci (cx_mi.mpr ⟨h1, z, e⟩), al_ne (p := 1) e (by decide), al_ne (p := 2) e (by decide), al_ne (p := 3) e (by decide), al_ne (p := 4) e (by decide), ← nI_1]
    grind
theorem al_e {h : Nat → Bool} {s : Nat} (hs : s < 32) (h1 : 1 ≤ s) (z : h s = true) (q : ¬ cx_pts s % 2 = 1) : al_A h s + (-1) = al_A h (s + 1) := by
  have hq := (al_i _ (cx_p5 s hs)).2 q
  have hp := al_p1 s hs h1
  unfold al_A
  rcases hq with e | e | e
  · omega
  · rw [cx_ci (cx_mi.mpr ⟨h1, z, e⟩), al_ne (p := 1) e (by decide), al_ne (p := 3) e (by decide), al_ne (p := 4) e (by decide), al_ne (p := 5) e (by decide), ← nI_1]
    grind
  · rw [cx_ci (cx_mi.mpr ⟨h1, z, e⟩), al_ne (p := 1) e (by decide), al_ne (p := 2) e (by decide), al_ne (p := 3) e (by decide), al_ne (p := 5) e (by decide), ← nI_1]
    grind
theorem al_1 (h : Nat → Bool) : al_A h 1 = 0 := by
  unfold al_A
  rw [cx_c_1, cx_c_1, cx_c_1, cx_c_1, cx_c_1]
  decide
section
variable {f_rank f_left f_taken : Int32} {a_held a_row a_origin a_cycle a_marked : Nat → Int32}
theorem wx_alt {post : Int32 → Prop} (h : post (al_A (wx_h a_held) 32)) : wpX_alternating post (f_rank, f_left, f_taken, a_held, a_row, a_origin, a_cycle) := by
  refine Exists.intro (0 + 1 + 1 + 1 + 1 + 1 + 1) ?_
  refine br_f (by decide) (wx_cnt (k := 0) (by decide) (br_t (by decide) (nm_e (nm_r (e' := nI 1) (by decide) ?_))))
  refine br_f (by decide) (wx_cnt (k := 1) (by decide) (br_f (by decide) (nm_e (nm_r (e' := nI 2) (by decide) ?_))))
  refine br_f (by decide) (wx_cnt (k := 2) (by decide) (br_t (by decide) (nm_e (nm_r (e' := nI 3) (by decide) ?_))))
  refine br_f (by decide) (wx_cnt (k := 3) (by decide) (br_f (by decide) (nm_e (nm_r (e' := nI 4) (by decide) ?_))))
  refine br_f (by decide) (wx_cnt (k := 4) (by decide) (br_t (by decide) (nm_e (nm_r (e' := nI 5) (by decide) ?_))))
  exact br_t (by decide) h
theorem wy_altl {post : Int32 → Prop} (h : post (al_A (wx_h a_held) 32)) : ∀ d s, 1 ≤ s → s + d = 32 → wY_alternating_4 post a_held a_marked (d + 1) (al_A (wx_h a_held) s) (nI s)
  | 0, s, _, e => by
    have ex : s = 32 := by omega
    subst ex
    exact br_t (nI_le (a := 32) (b := 32) (Nat.le_refl _) (by decide)) h
  | d + 1, s, h1, e => by
    have ih := wy_altl h d (s + 1) (by omega) (by omega)
    have hs : s < 32 := by omega
    have hp := cx_p5 s hs
    refine br_f (nI_ge (b := 32) hs (by decide)) ⟨vp_in_nI hs (by decide), br_c (fun z => ?_) (fun z => ?_)⟩
    · rw [nI_clamp (by omega)] at z
      refine nm_r (nI_1 s) ?_
      rw [al_0 (fun y => hd_1.mp y z)] at ih
      exact ih
    · rw [nI_clamp (by omega)] at z
      refine wy_pt hs ⟨by decide, ?_⟩
      refine pk_eq (cx_pts s % 2) 1 (fun y => ?_) (fun y => ?_) (pk_rem (d := 2) (by omega) (by decide) (by decide)) rfl (by omega) (by omega)
      · exact nm_r (al_o hs h1 (hd_1.mpr z) y) (nm_r (nI_1 s) ih)
      · exact nm_r (al_e hs h1 (hd_1.mpr z) y) (nm_r (nI_1 s) ih)
theorem wy_alt {post : Int32 → Prop} (h : post (al_A (wx_h a_held) 32)) : wpY_alternating post (a_held, a_marked) := by
  have e := wy_altl (a_marked := a_marked) h 31 1 (Nat.le_refl _) rfl
  rw [al_1] at e
  exact Exists.intro 32 e
end
end
section
/-! the relation and what is owed -/
/-- one complex on both sides, closed under faces; nothing else is kept from call to call -/
def i_Rel (_ : Nat) (u : SX) (v : SY) : Prop := ∃ (fr l t : Int32) (H row origin cycle marked : Nat → Int32), u = (fr, l, t, H, row, origin, cycle) ∧ v = (H, marked) ∧ cx_Dn (wx_h H)
theorem i_mk {k : Nat} {fr l t : Int32} {H row origin cycle marked : Nat → Int32} (N : cx_Dn (wx_h H)) : i_Rel k (fr, l, t, H, row, origin, cycle) (H, marked) := ⟨fr, l, t, H, row, origin, cycle, marked, rfl, rfl, N⟩
theorem i_up {k : Nat} {u : SX} {v : SY} (h : i_Rel k u v) : i_Rel (k + 3) u v := h
theorem i_vc0 : wpX_init (fun u => wpY_init (fun v => i_Rel 0 u v)) := i_mk (k := 0) (fun s t _ h => absurd rfl (hd_1.mp h))
theorem i_vc_add {k : Nat} {u : SX} {v : SY} (I : i_Rel k u v) (hk : k + 3 ≤ 1536) (v1 : Int32) : wpX_add (fun r u' => wpY_add (fun r' v' => r' = r ∧ i_Rel (k + 3) u' v') v v1) u v1 := by
  obtain ⟨fr, l, t, H, row, origin, cycle, marked, rfl, rfl, N⟩ := I
  by_cases z : v1 < 1
  · exact br_t z (br_t z ⟨rfl, i_mk N⟩)
  · by_cases y : v1 ≤ 31
    · obtain ⟨p, hp, rfl⟩ := nI_of2 (M := 31) (n := 31) (by decide) (fun w => z (Int32.lt_trans w (by decide))) y
      obtain ⟨r, H', hH, hX, hY⟩ := ad_l (f_rank := fr) (f_left := l) (f_taken := t) (a_row := row) (a_origin := origin) (a_cycle := cycle) (a_marked := marked) (p := p) (by omega) 31 1 0 H (Nat.le_refl _) rfl
      exact br_f z (br_t y ⟨32, hX _ (br_f z (br_t y ⟨32, hY _ ⟨rfl, i_mk (ad_Dn N hH)⟩⟩))⟩)
    · exact br_f z (br_f y (br_f z (br_f y ⟨rfl, i_mk N⟩)))
theorem i_vc_remove {k : Nat} {u : SX} {v : SY} (I : i_Rel k u v) (hk : k + 3 ≤ 1536) (v1 : Int32) : wpX_remove (fun r u' => wpY_remove (fun r' v' => r' = r ∧ i_Rel (k + 3) u' v') v v1) u v1 := by
  obtain ⟨fr, l, t, H, row, origin, cycle, marked, rfl, rfl, N⟩ := I
  by_cases z : v1 < 1
  · exact br_t z (br_t z ⟨rfl, i_mk N⟩)
  · by_cases y : v1 ≤ 31
    · obtain ⟨p, hp, rfl⟩ := nI_of2 (M := 31) (n := 31) (by decide) (fun w => z (Int32.lt_trans w (by decide))) y
      obtain ⟨r, H', hH, hX, hY⟩ := rm_l (f_rank := fr) (f_left := l) (f_taken := t) (a_row := row) (a_origin := origin) (a_cycle := cycle) (a_marked := marked) (p := p) (by omega) 31 1 0 H (Nat.le_refl _) rfl
      exact br_f z (br_t y ⟨32, hX _ (br_f z (br_t y ⟨32, hY _ ⟨rfl, i_mk (rm_Dn N hH)⟩⟩))⟩)
    · exact br_f z (br_f y (br_f z (br_f y ⟨rfl, i_mk N⟩)))
theorem i_vc_count {k : Nat} {u : SX} {v : SY} (I : i_Rel k u v) (hk : k + 3 ≤ 1536) (v1 : Int32) : wpX_count (fun r => wpY_count (fun r' => r' = r ∧ i_Rel (k + 3) u v) v v1) u v1 := by
  obtain ⟨fr, l, t, H, row, origin, cycle, marked, rfl, rfl, N⟩ := I
  unfold wpX_count
  dsimp only
  rcases dm_or v1 with z | ⟨j, hj, rfl⟩
  · exact wx_dimf z (br_t rfl (wy_cntb z ⟨rfl, i_mk N⟩))
  · exact wx_dimt hj (br_f (by decide) (wx_cnt (by omega) (wy_cnt hj ⟨rfl, i_mk N⟩)))
theorem i_vc_simplex {k : Nat} {u : SX} {v : SY} (I : i_Rel k u v) (hk : k + 3 ≤ 1536) (v1 : Int32) (v2 : Int32) : wpX_simplex (fun r => wpY_simplex (fun r' => r' = r ∧ i_Rel (k + 3) u v) v v1 v2) u v1 v2 := by
  obtain ⟨fr, l, t, H, row, origin, cycle, marked, rfl, rfl, N⟩ := I
  unfold wpX_simplex
  dsimp only
  rcases dm_or v1 with z | ⟨j, hj, rfl⟩
  · exact wx_dimf z (br_t rfl (wy_simb (Or.inl z) ⟨rfl, i_mk N⟩))
  · refine wx_dimt hj (br_f (by decide) (br_c (fun y => wy_simb (Or.inr y) ⟨rfl, i_mk N⟩) (fun y => ?_)))
    obtain ⟨i, hi, rfl⟩ := nI_of y
    have h10 := cx_c10 (wx_h H) (p := j + 1) (by omega)
    refine wx_cnt (by omega) (pk_le (cx_c (wx_h H) (j + 1) 32) i (fun w => ?_) (fun w => ?_))
    · exact wy_simn hj w hi ⟨rfl, i_mk N⟩
    · exact wx_sat hj w (wy_sim hj w ⟨rfl, i_mk N⟩)
theorem i_vc_boundary {k : Nat} {u : SX} {v : SY} (I : i_Rel k u v) (hk : k + 3 ≤ 1536) (v1 : Int32) (v2 : Int32) : wpX_boundary (fun r => wpY_boundary (fun r' => r' = r ∧ i_Rel (k + 3) u v) v v1 v2) u v1 v2 := by
  obtain ⟨fr, l, t, H, row, origin, cycle, marked, rfl, rfl, N⟩ := I
  unfold wpX_boundary wpY_boundary
  dsimp only
  by_cases z : dm_ok H v1 v2
  · obtain ⟨j, c, hj, hc, rfl, rfl⟩ := z
    exact wx_ic1 hj hc (br_f (by decide) (wx_bd hj hc (wy_nc1 hj hc (br_t rfl (wy_bd (by omega) N hc ⟨rfl, i_mk N⟩)))))
  · exact wx_ic0 z (br_t rfl (wy_nc0 z (br_f (by decide) ⟨rfl, i_mk N⟩)))
theorem i_vc_holes {k : Nat} {u : SX} {v : SY} (I : i_Rel k u v) (hk : k + 3 ≤ 1536) (v1 : Int32) : wpX_holes (fun r u' => wpY_holes (fun r' v' => r' = r ∧ i_Rel (k + 3) u' v') v v1) u v1 := by
  obtain ⟨fr, l, t, H, row, origin, cycle, marked, rfl, rfl, N⟩ := I
  rcases dm_or v1 with z | ⟨j, hj, rfl⟩
  · unfold wpX_holes wpY_holes
    dsimp only
    exact wx_dimf z (br_t rfl (wy_badt z (br_f (by decide) ⟨rfl, i_mk N⟩)))
  · refine wx_holes hj N (fun r z hr hz hF hG fr' l' t' row' origin' cycle' => ?_)
    exact wy_holes hj N hr hz hF hG (fun _ => ⟨rfl, i_mk N⟩)
theorem i_vc_filled {k : Nat} {u : SX} {v : SY} (I : i_Rel k u v) (hk : k + 3 ≤ 1536) (v1 : Int32) (v2 : Int32) : wpX_filled (fun r u' => wpY_filled (fun r' v' => r' = r ∧ i_Rel (k + 3) u' v') v v1 v2) u v1 v2 := by
  obtain ⟨fr, l, t, H, row, origin, cycle, marked, rfl, rfl, N⟩ := I
  by_cases z : dm_ok H v1 v2
  · obtain ⟨j, c, hj, hc, rfl, rfl⟩ := z
    refine wx_filled hj N hc (fun y fr' l' t' row' origin' cycle' => ?_) (fun y fr' l' t' row' origin' cycle' => ?_)
    · exact wy_filled hj N hc (fun _ _ => ⟨rfl, i_mk N⟩) (fun w => absurd y w)
    · exact wy_filled hj N hc (fun w => absurd w y) (fun _ _ => ⟨rfl, i_mk N⟩)
  · unfold wpX_filled wpY_filled
    dsimp only
    exact wx_ic0 z (br_t rfl (wy_nc0 z (br_f (by decide) ⟨rfl, i_mk N⟩)))
theorem i_vc_filling {k : Nat} {u : SX} {v : SY} (I : i_Rel k u v) (hk : k + 3 ≤ 1536) (v1 : Int32) (v2 : Int32) : wpX_filling (fun r u' => wpY_filling (fun r' => r' = r ∧ i_Rel (k + 3) u' v) v v1 v2) u v1 v2 := by
  obtain ⟨fr, l, t, H, row, origin, cycle, marked, rfl, rfl, N⟩ := I
  by_cases z : dm_ok H v1 v2
  · obtain ⟨j, c, hj, hc, rfl, rfl⟩ := z
    refine wx_filling hj N hc (fun x hx hD hm fr' l' t' row' origin' cycle' => ?_) (fun y fr' l' t' row' origin' cycle' => ?_)
    · exact wy_fill1 hj N hc hx hD hm ⟨rfl, i_mk N⟩
    · exact wy_fill0 hj N hc y ⟨rfl, i_mk N⟩
  · unfold wpX_filling wpY_filling
    dsimp only
    exact wx_ic0 z (br_t rfl (wy_nc0 z (br_f (by decide) ⟨rfl, i_mk N⟩)))
theorem i_vc_least {k : Nat} {u : SX} {v : SY} (I : i_Rel k u v) (hk : k + 3 ≤ 1536) (v1 : Int32) (v2 : Int32) : wpX_least (fun r u' => wpY_least (fun r' v' => r' = r ∧ i_Rel (k + 3) u' v') v v1 v2) u v1 v2 := by
  obtain ⟨fr, l, t, H, row, origin, cycle, marked, rfl, rfl, N⟩ := I
  by_cases z : dm_ok H v1 v2
  · obtain ⟨j, c, hj, hc, rfl, rfl⟩ := z
    refine wx_least hj N hc (fun x hD hm fr' l' t' row' origin' cycle' => ?_)
    exact wy_least hj N hc hD hm (fun _ => ⟨rfl, i_mk N⟩)
  · unfold wpX_least wpY_least
    dsimp only
    exact wx_ic0 z (br_t rfl (wy_nc0 z (br_f (by decide) ⟨rfl, i_mk N⟩)))
theorem i_vc_alternating {k : Nat} {u : SX} {v : SY} (I : i_Rel k u v) (hk : k + 3 ≤ 1536) : wpX_alternating (fun r => wpY_alternating (fun r' => r' = r ∧ i_Rel (k + 3) u v) v) u := by
  obtain ⟨fr, l, t, H, row, origin, cycle, marked, rfl, rfl, N⟩ := I
  exact wx_alt (wy_alt ⟨rfl, i_mk N⟩)
end
