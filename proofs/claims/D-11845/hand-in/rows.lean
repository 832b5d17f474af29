section
/-- evaluates n before k is entered (the kernel reads the literal off the successor) -/
noncomputable def ct_fc (n : Nat) (k : Nat → Bool) : Bool := Nat.rec (motive := fun _ => Bool) (k 0) (fun m _ => k m) (Nat.succ n)
theorem ct_fcE {c : Nat} {k : Nat → Bool} (h : ct_fc c k = true) : k c = true := h
theorem ct_cf {b x : Bool} (h : cond b x false = true) : b = true ∧ x = true := by
  cases b with
  | true => exact ⟨rfl, h⟩
  | false => exact Bool.noConfusion (show false = true from h)
theorem ct_cc {b x y : Bool} (h : cond b x y = true) : (b = true ∧ x = true) ∨ (b = false ∧ y = true) := by
  cases b with
  | true => exact Or.inl ⟨rfl, h⟩
  | false => exact Or.inr ⟨rfl, h⟩
theorem ct_bn {a b : Nat} (h : Nat.ble a b = false) : b < a := by
  have h2 : ¬ a ≤ b := Nat.not_le_of_not_ble_eq_true (by rw [h]; exact Bool.false_ne_true)
  omega
/-! ## codes: four fields of 32 bits, a sum of multiples of 1, F, U, V -/
def ct_dec (E : Nat × Int32 × Int32) (c : Nat) : Int32 :=
  nI c + nI (c / 4294967296) * nI (E.1 % 70) + nI (c / 18446744073709551616) * E.2.1 + nI (c / 79228162514264337593543950336) * E.2.2
theorem ct_nm (n : Nat) : nI (n % 4294967296) = nI n :=
  congrArg Int32.ofBitVec (BitVec.eq_of_toNat_eq (by rw [BitVec.toNat_ofNat, BitVec.toNat_ofNat]; omega))
theorem ct_nc {a b : Nat} (h : a % 4294967296 = b % 4294967296) : nI a = nI b := by
  rw [← ct_nm a, h, ct_nm b]
def ct_pk (x y z w : Nat) : Nat := x % 4294967296 + 4294967296 * (y % 4294967296) + 18446744073709551616 * (z % 4294967296) + 79228162514264337593543950336 * (w % 4294967296)
theorem ct_dpk (E : Nat × Int32 × Int32) (x y z w : Nat) : ct_dec E (ct_pk x y z w) = nI x + nI y * nI (E.1 % 70) + nI z * E.2.1 + nI w * E.2.2 := by
  have h0 : ct_pk x y z w % 4294967296 = x % 4294967296 := by unfold ct_pk; omega
  have h1 : ct_pk x y z w / 4294967296 % 4294967296 = y % 4294967296 := by unfold ct_pk; omega
  have h2 : ct_pk x y z w / 18446744073709551616 % 4294967296 = z % 4294967296 := by unfold ct_pk; omega
  have h3 : ct_pk x y z w / 79228162514264337593543950336 % 4294967296 = w % 4294967296 := by unfold ct_pk; omega
  unfold ct_dec
  rw [ct_nc h0, ct_nc h1, ct_nc h2, ct_nc h3]
theorem ct_dsm (E : Nat × Int32 × Int32) {c : Nat} (h : c < 4294967296) : ct_dec E c = nI c := by
  unfold ct_dec
  rw [Nat.div_eq_of_lt h, Nat.div_eq_of_lt (show c < 18446744073709551616 by omega), Nat.div_eq_of_lt (show c < 79228162514264337593543950336 by omega), nI_0]
  simp only [Int32.zero_mul, Int32.add_zero]
theorem ct_lit (E : Nat × Int32 × Int32) (k : Nat) (h : k < 4294967296) : nI k = ct_dec E k := (ct_dsm E h).symm
theorem ct_cl (E : Nat × Int32 × Int32) {t : Nat} (h : t < 2147483648) : (ct_dec E t).toNatClampNeg = t := by
  rw [ct_dsm E (show t < 4294967296 by omega)]
  exact nI_clamp (by omega)
theorem ct_r4 (a b c d a' b' c' d' F U V : Int32) : (a + a') + (b + b') * F + (c + c') * U + (d + d') * V = (a + b * F + c * U + d * V) + (a' + b' * F + c' * U + d' * V) := by
  grind
theorem ct_r5 (k a b c d F U V : Int32) : k * a + k * b * F + k * c * U + k * d * V = k * (a + b * F + c * U + d * V) := by
  grind
def ct_sl (a b : Nat) : Nat := ct_pk (a + b) (a / 4294967296 + b / 4294967296) (a / 18446744073709551616 + b / 18446744073709551616) (a / 79228162514264337593543950336 + b / 79228162514264337593543950336)
def ct_ad (a b : Nat) : Nat := cond (Nat.ble 4294967296 a) (ct_sl a b) (cond (Nat.ble 4294967296 b) (ct_sl a b) (Nat.mod (Nat.add a b) 4294967296))
theorem ct_dad (E : Nat × Int32 × Int32) (a b : Nat) : ct_dec E (ct_ad a b) = ct_dec E a + ct_dec E b := by
  have hs : ct_dec E (ct_sl a b) = ct_dec E a + ct_dec E b := by
    unfold ct_sl
    rw [ct_dpk, ← nI_add a b, ← nI_add (a / 4294967296), ← nI_add (a / 18446744073709551616), ← nI_add (a / 79228162514264337593543950336)]
    exact ct_r4 _ _ _ _ _ _ _ _ _ _ _
  unfold ct_ad
  cases ha : Nat.ble 4294967296 a with
  | true => exact hs
  | false =>
    cases hb : Nat.ble 4294967296 b with
    | true => exact hs
    | false =>
      have ha' := ct_bn ha
      have hb' := ct_bn hb
      show ct_dec E ((a + b) % 4294967296) = _
      rw [ct_dsm E (Nat.mod_lt _ (by decide)), ct_nm, ct_dsm E ha', ct_dsm E hb', nI_add]
def ct_ml (k a : Nat) : Nat := cond (Nat.ble 4294967296 a) (ct_pk (k * a) (k * (a / 4294967296)) (k * (a / 18446744073709551616)) (k * (a / 79228162514264337593543950336))) (Nat.mod (Nat.mul k a) 4294967296)
theorem ct_dml (E : Nat × Int32 × Int32) (k a : Nat) : ct_dec E (ct_ml k a) = nI k * ct_dec E a := by
  unfold ct_ml
  cases ha : Nat.ble 4294967296 a with
  | true =>
    show ct_dec E (ct_pk (k * a) (k * (a / 4294967296)) (k * (a / 18446744073709551616)) (k * (a / 79228162514264337593543950336))) = _
    rw [ct_dpk, ← pk_mul k a, ← pk_mul k (a / 4294967296), ← pk_mul k (a / 18446744073709551616), ← pk_mul k (a / 79228162514264337593543950336)]
    exact ct_r5 _ _ _ _ _ _ _ _
  | false =>
    have ha' := ct_bn ha
    show ct_dec E ((k * a) % 4294967296) = _
    rw [ct_dsm E (Nat.mod_lt _ (by decide)), ct_nm, ct_dsm E ha', pk_mul]
def ct_sb (a b : Nat) : Nat := ct_ad a (ct_ml 4294967295 b)
theorem ct_r6 (a b : Int32) : a - b = a + -1 * b := by grind
theorem ct_dsb (E : Nat × Int32 × Int32) (a b : Nat) : ct_dec E (ct_sb a b) = ct_dec E a - ct_dec E b := by
  unfold ct_sb
  rw [ct_dad, ct_dml, ct_r6, show nI 4294967295 = (-1 : Int32) from by decide]
theorem ct_v (E : Nat × Int32 × Int32) (c : Nat) : ct_dec E c = ct_dec E c := rfl
theorem ct_add {E : Nat × Int32 × Int32} {x y : Int32} {a b : Nat} (h : x = ct_dec E a) (h' : y = ct_dec E b) : x + y = ct_dec E (ct_ad a b) := by
  rw [h, h', ct_dad]
theorem ct_sub {P : Int32 → Prop} {x y : Int32} (h : x = y) (h' : P y) : P x := by
  rw [h]; exact h'
theorem ct_sbb {E : Nat × Int32 × Int32} {x y : Int32} {a b : Nat} (h : x = ct_dec E a) (h' : y = ct_dec E b) : x - y = ct_dec E (ct_sb a b) := by
  rw [h, h', ct_dsb]
theorem ct_mul {E : Nat × Int32 × Int32} {x y : Int32} {k b : Nat} (h : x = nI k) (h' : y = ct_dec E b) : x * y = ct_dec E (ct_ml k b) := by
  rw [h, h', ct_dml]
/-! ## comparing -/
def ct_bi (c : Nat) : Nat := Nat.mod (Nat.add c 2147483648) 4294967296
def ct_ok (c : Nat) : Bool := cond (Nat.ble 4294967296 c) (cond (Nat.beq (Nat.div c 4294967296) 1) (cond (Nat.ble 2147482648 (ct_bi c)) (Nat.ble (ct_bi c) 2147484648) false) false) true
theorem ct_ti (c : Nat) : (nI c).toInt = (ct_bi c : Int) - 2147483648 := by
  show (Int32.ofNat c).toInt = (((c + 2147483648) % 4294967296 : Nat) : Int) - 2147483648
  rw [Int32.toInt_ofNat', Int.bmod_def, show ((Int32.size : Nat) : Int) = 4294967296 from rfl]
  split <;> omega
theorem ct_oks (E : Nat × Int32 × Int32) {c : Nat} (h : ct_ok c = true) : (c / 4294967296 = 0 ∨ c / 4294967296 = 1) ∧ (ct_dec E c).toInt = (ct_bi c : Int) - 2147483648 + ((c / 4294967296 : Nat) : Int) * ((E.1 % 70 : Nat) : Int) := by
  rcases ct_cc h with ⟨_, h1⟩ | ⟨h0, _⟩
  · obtain ⟨h1, h2⟩ := ct_cf h1
    obtain ⟨h2, h3⟩ := ct_cf h2
    have h1 : c / 4294967296 = 1 := Nat.eq_of_beq_eq_true h1
    have h2 := Nat.le_of_ble_eq_true h2
    have h3 := Nat.le_of_ble_eq_true h3
    have hf : E.1 % 70 ≤ 69 := by omega
    refine ⟨Or.inr h1, ?_⟩
    have hd : ct_dec E c = nI c + nI (E.1 % 70) := by
      unfold ct_dec
      rw [h1, Nat.div_eq_of_lt (show c < 18446744073709551616 by omega), Nat.div_eq_of_lt (show c < 79228162514264337593543950336 by omega), nI_0, show nI 1 = (1 : Int32) from rfl]
      simp only [Int32.zero_mul, Int32.add_zero, Int32.one_mul]
    rw [hd, h1, Int32.toInt_add, ct_ti c, nI_toInt (show E.1 % 70 < 2 ^ 31 by omega), show ((1 : Nat) : Int) = 1 from rfl, Int.one_mul]
    generalize E.1 % 70 = f at hf ⊢
    generalize ct_bi c = b at h2 h3 ⊢
    exact Int.bmod_eq_of_le (by omega) (by omega)
  · have h0 := ct_bn h0
    have hz : c / 4294967296 = 0 := Nat.div_eq_of_lt h0
    refine ⟨Or.inl hz, ?_⟩
    rw [ct_dsm E h0, ct_ti c, hz, show ((0 : Nat) : Int) = 0 from rfl, Int.zero_mul, Int.add_zero]
def ct_leT (a b : Nat) : Bool := cond (ct_ok a) (cond (ct_ok b) (cond (Nat.beq (Nat.div a 4294967296) (Nat.div b 4294967296)) (Nat.ble (ct_bi a) (ct_bi b)) (Nat.ble (Nat.add (ct_bi a) (Nat.mul 69 (Nat.div a 4294967296))) (ct_bi b))) false) false
def ct_leF (a b : Nat) : Bool := cond (ct_ok a) (cond (ct_ok b) (cond (Nat.beq (Nat.div a 4294967296) (Nat.div b 4294967296)) (Nat.ble (Nat.succ (ct_bi b)) (ct_bi a)) (Nat.ble (Nat.succ (Nat.add (ct_bi b) (Nat.mul 69 (Nat.div b 4294967296)))) (ct_bi a))) false) false
theorem ct_leTs (E : Nat × Int32 × Int32) {a b : Nat} (h : ct_leT a b = true) : ct_dec E a ≤ ct_dec E b := by
  obtain ⟨ha, h⟩ := ct_cf h
  obtain ⟨hb, h⟩ := ct_cf h
  obtain ⟨ta, va⟩ := ct_oks E ha
  obtain ⟨tb, vb⟩ := ct_oks E hb
  have hf : E.1 % 70 ≤ 69 := by omega
  rw [Int32.le_iff_toInt_le, va, vb]
  generalize E.1 % 70 = f at hf ⊢
  rcases ct_cc h with ⟨h1, h2⟩ | ⟨h1, h2⟩
  · have h1 : a / 4294967296 = b / 4294967296 := Nat.eq_of_beq_eq_true h1
    have h2 := Nat.le_of_ble_eq_true h2
    rw [h1]
    omega
  · have h1 : ¬ a / 4294967296 = b / 4294967296 := Nat.ne_of_beq_eq_false h1
    have h2 : ct_bi a + 69 * (a / 4294967296) ≤ ct_bi b := Nat.le_of_ble_eq_true h2
    generalize ct_bi a = x at h2 ⊢
    generalize ct_bi b = y at h2 ⊢
    rcases ta with ta | ta <;> rcases tb with tb | tb <;> rw [ta, tb] at h1 ⊢ <;> rw [ta] at h2 <;> omega
theorem ct_leFs (E : Nat × Int32 × Int32) {a b : Nat} (h : ct_leF a b = true) : ¬ ct_dec E a ≤ ct_dec E b := by
  obtain ⟨ha, h⟩ := ct_cf h
  obtain ⟨hb, h⟩ := ct_cf h
  obtain ⟨ta, va⟩ := ct_oks E ha
  obtain ⟨tb, vb⟩ := ct_oks E hb
  have hf : E.1 % 70 ≤ 69 := by omega
  rw [Int32.le_iff_toInt_le, va, vb]
  generalize E.1 % 70 = f at hf ⊢
  rcases ct_cc h with ⟨h1, h2⟩ | ⟨h1, h2⟩
  · have h1 : a / 4294967296 = b / 4294967296 := Nat.eq_of_beq_eq_true h1
    have h2 : ct_bi b + 1 ≤ ct_bi a := Nat.le_of_ble_eq_true h2
    rw [h1]
    omega
  · have h1 : ¬ a / 4294967296 = b / 4294967296 := Nat.ne_of_beq_eq_false h1
    have h2 : ct_bi b + 69 * (b / 4294967296) + 1 ≤ ct_bi a := Nat.le_of_ble_eq_true h2
    generalize ct_bi a = x at h2 ⊢
    generalize ct_bi b = y at h2 ⊢
    rcases ta with ta | ta <;> rcases tb with tb | tb <;> rw [ta, tb] at h1 ⊢ <;> rw [tb] at h2 <;> omega
noncomputable def ct_le (a b : Nat) (A B : Bool) : Bool := ct_fc a fun x => ct_fc b fun y => cond (ct_leT x y) A (cond (ct_leF x y) B false)
noncomputable def ct_lt (a b : Nat) (A B : Bool) : Bool := ct_fc a fun x => ct_fc b fun y => cond (ct_leF y x) A (cond (ct_leT y x) B false)
noncomputable def ct_eq (a b : Nat) (A B : Bool) : Bool := ct_fc a fun x => ct_fc b fun y => cond (Nat.beq x y) A (cond (ct_leF x y) B (cond (ct_leF y x) B false))
theorem ct_leS {E : Nat × Int32 × Int32} {x y : Int32} {a b : Nat} {A B : Bool} {P Q : Prop} (hx : x = ct_dec E a) (hy : y = ct_dec E b) (h : ct_le a b A B = true) (hP : A = true → P) (hQ : B = true → Q) : (x ≤ y → P) ∧ (¬ x ≤ y → Q) := by
  rw [hx, hy]
  rcases ct_cc (ct_fcE (ct_fcE h)) with ⟨h1, h2⟩ | ⟨_, h2⟩
  · exact ⟨fun _ => hP h2, fun z => absurd (ct_leTs E h1) z⟩
  · obtain ⟨h1, h2⟩ := ct_cf h2
    exact ⟨fun z => absurd z (ct_leFs E h1), fun _ => hQ h2⟩
theorem ct_ltS {E : Nat × Int32 × Int32} {x y : Int32} {a b : Nat} {A B : Bool} {P Q : Prop} (hx : x = ct_dec E a) (hy : y = ct_dec E b) (h : ct_lt a b A B = true) (hP : A = true → P) (hQ : B = true → Q) : (x < y → P) ∧ (¬ x < y → Q) := by
  rw [hx, hy]
  rcases ct_cc (ct_fcE (ct_fcE h)) with ⟨h1, h2⟩ | ⟨_, h2⟩
  · exact ⟨fun _ => hP h2, fun z => absurd (Int32.not_le.mp (ct_leFs E h1)) z⟩
  · obtain ⟨h1, h2⟩ := ct_cf h2
    exact ⟨fun z => absurd (ct_leTs E h1) (Int32.not_le.mpr z), fun _ => hQ h2⟩
theorem ct_eqS {E : Nat × Int32 × Int32} {x y : Int32} {a b : Nat} {A B : Bool} {P Q : Prop} (hx : x = ct_dec E a) (hy : y = ct_dec E b) (h : ct_eq a b A B = true) (hP : A = true → P) (hQ : B = true → Q) : (x = y → P) ∧ (¬ x = y → Q) := by
  rw [hx, hy]
  rcases ct_cc (ct_fcE (ct_fcE h)) with ⟨h1, h2⟩ | ⟨_, h2⟩
  · exact ⟨fun _ => hP h2, fun z => absurd (congrArg (ct_dec E) (Nat.eq_of_beq_eq_true h1)) z⟩
  · rcases ct_cc h2 with ⟨h1, h2⟩ | ⟨_, h2⟩
    · exact ⟨fun z => absurd (by rw [z]; exact Int32.le_refl _) (ct_leFs E h1), fun _ => hQ h2⟩
    · obtain ⟨h1, h2⟩ := ct_cf h2
      exact ⟨fun z => absurd (by rw [z]; exact Int32.le_refl _) (ct_leFs E h1), fun _ => hQ h2⟩
/-! ## arrays: cells of 128 bits -/
def ct_gt (A i : Nat) : Nat := Nat.mod (Nat.shiftRight A (Nat.mul 128 i)) 340282366920938463463374607431768211456
def ct_st (A i c : Nat) : Nat := Nat.xor A (Nat.shiftLeft (Nat.xor (ct_gt A i) (Nat.mod c 340282366920938463463374607431768211456)) (Nat.mul 128 i))
def ct_da (E : Nat × Int32 × Int32) (A : Nat) : Nat → Int32 := fun i => ct_dec E (ct_gt A i)
theorem ct_tg (A i q : Nat) : (ct_gt A i).testBit q = (decide (q < 128) && A.testBit (128 * i + q)) := by
  show ((A >>> (128 * i)) % 2 ^ 128).testBit q = _
  rw [Nat.testBit_mod_two_pow, Nat.testBit_shiftRight]
theorem ct_tm (c q : Nat) : (Nat.mod c 340282366920938463463374607431768211456).testBit q = (decide (q < 128) && c.testBit q) := by
  show (c % 2 ^ 128).testBit q = _
  rw [Nat.testBit_mod_two_pow]
theorem ct_ts (A i c p : Nat) : (ct_st A i c).testBit p = (A.testBit p ^^ (decide (p ≥ 128 * i) && ((ct_gt A i).testBit (p - 128 * i) ^^ (Nat.mod c 340282366920938463463374607431768211456).testBit (p - 128 * i)))) := by
  show (A ^^^ ((ct_gt A i ^^^ (Nat.mod c 340282366920938463463374607431768211456)) <<< (128 * i))).testBit p = _
  rw [Nat.testBit_xor, Nat.testBit_shiftLeft, Nat.testBit_xor]
theorem ct_gs (A i c : Nat) : ct_gt (ct_st A i c) i = Nat.mod c 340282366920938463463374607431768211456 := by
  apply Nat.eq_of_testBit_eq
  intro q
  rw [ct_tg, ct_ts, ct_tg, ct_tm c q, ct_tm]
  by_cases hq : q < 128
  · rw [show 128 * i + q - 128 * i = q by omega, decide_eq_true hq, decide_eq_true (show 128 * i + q ≥ 128 * i by omega)]
    cases A.testBit (128 * i + q) <;> cases c.testBit q <;> rfl
  · rw [decide_eq_false hq]
    rfl
theorem ct_gn (A i c : Nat) {j : Nat} (hj : ¬ j = i) : ct_gt (ct_st A i c) j = ct_gt A j := by
  apply Nat.eq_of_testBit_eq
  intro q
  rw [ct_tg, ct_tg]
  by_cases hq : q < 128
  · rw [decide_eq_true hq, ct_ts]
    by_cases hl : j < i
    · rw [decide_eq_false (show ¬ 128 * j + q ≥ 128 * i by omega)]
      cases A.testBit (128 * j + q) <;> rfl
    · rw [ct_tg, ct_tm, decide_eq_false (show ¬ 128 * j + q - 128 * i < 128 by omega)]
      cases A.testBit (128 * j + q) <;> cases decide (128 * j + q ≥ 128 * i) <;> rfl
  · rw [decide_eq_false hq]
    rfl
theorem ct_dm (E : Nat × Int32 × Int32) (c : Nat) : ct_dec E (Nat.mod c 340282366920938463463374607431768211456) = ct_dec E c := by
  show ct_dec E (c % 340282366920938463463374607431768211456) = ct_dec E c
  have h0 : c % 340282366920938463463374607431768211456 % 4294967296 = c % 4294967296 := by omega
  have h1 : c % 340282366920938463463374607431768211456 / 4294967296 % 4294967296 = c / 4294967296 % 4294967296 := by omega
  have h2 : c % 340282366920938463463374607431768211456 / 18446744073709551616 % 4294967296 = c / 18446744073709551616 % 4294967296 := by omega
  have h3 : c % 340282366920938463463374607431768211456 / 79228162514264337593543950336 % 4294967296 = c / 79228162514264337593543950336 % 4294967296 := by omega
  unfold ct_dec
  rw [ct_nc h0, ct_nc h1, ct_nc h2, ct_nc h3]
theorem ct_va (E : Nat × Int32 × Int32) (A : Nat) : ct_da E A = ct_da E A := rfl
theorem ct_rk (E : Nat × Int32 × Int32) (A i : Nat) : ct_da E A i = ct_dec E (ct_gt A i) := rfl
theorem ct_rd {E : Nat × Int32 × Int32} (A : Nat) {e : Int32} {t : Nat} (he : e = ct_dec E t) (ht : t < 2147483648) : ct_da E A e.toNatClampNeg = ct_dec E (ct_gt A t) := by
  rw [he, ct_cl E ht]; rfl
theorem ct_uk {E : Nat × Int32 × Int32} (A i : Nat) {v : Int32} {c : Nat} (hv : v = ct_dec E c) : upd (ct_da E A) i v = ct_da E (ct_st A i c) := by
  funext j
  by_cases hj : j = i
  · rw [hj, pk_us, ct_rk, ct_gs, ct_dm, hv]
  · rw [pk_un hj, ct_rk, ct_rk, ct_gn A i c hj]
theorem ct_up {E : Nat × Int32 × Int32} (A : Nat) {e : Int32} {t : Nat} (he : e = ct_dec E t) (ht : t < 2147483648) {v : Int32} {c : Nat} (hv : v = ct_dec E c) : upd (ct_da E A) e.toNatClampNeg v = ct_da E (ct_st A t c) := by
  rw [he, ct_cl E ht]
  exact ct_uk A t hv
theorem ct_z (E : Nat × Int32 × Int32) : (fun _ => 0 : Nat → Int32) = ct_da E 0 := by
  funext j
  show (0 : Int32) = ct_dec E (ct_gt 0 j)
  have h : ct_gt 0 j = 0 := by
    show (0 >>> (128 * j)) % 340282366920938463463374607431768211456 = 0
    rw [Nat.zero_shiftRight]
  rw [h, ct_dsm E (by decide), nI_0]
/-! ## the steps -/
theorem ct_let {E : Nat × Int32 × Int32} {e : Int32} {c : Nat} {k : Nat → Bool} {P : Int32 → Prop} (he : e = ct_dec E c) (h : ct_fc c k = true) (H : ∀ y, k y = true → P (ct_dec E y)) : ∀ x, x = e → P x := by
  intro x hx
  rw [hx, he]
  exact H c (ct_fcE h)
theorem ct_leta {E : Nat × Int32 × Int32} {e : Nat → Int32} {c : Nat} {k : Nat → Bool} {P : (Nat → Int32) → Prop} (he : e = ct_da E c) (h : ct_fc c k = true) (H : ∀ y, k y = true → P (ct_da E y)) : ∀ x, x = e → P x := by
  intro x hx
  rw [hx, he]
  exact H c (ct_fcE h)
noncomputable def ct_in (c n : Nat) (k : Nat → Bool) : Bool := ct_fc c fun t => cond (Nat.ble (Nat.succ t) n) (k t) false
theorem ct_inS {E : Nat × Int32 × Int32} {e : Int32} {c n : Nat} {k : Nat → Bool} {P : Prop} (hn : n < 2147483648) (he : e = ct_dec E c) (h : ct_in c n k = true) (H : ∀ t, e = ct_dec E t → t < 2147483648 → k t = true → P) : vp_in e n ∧ P := by
  obtain ⟨h1, h2⟩ := ct_cf (ct_fcE h)
  have h1 : c < n := Nat.le_of_ble_eq_true h1
  refine ⟨?_, H c he (by omega) h2⟩
  rw [he, ct_dsm E (show c < 4294967296 by omega)]
  exact vp_in_nI h1 (by omega)
def ct_isb (c : Nat) : Bool := cond (ct_ok c) (cond (Nat.ble 2147483520 (ct_bi c)) (Nat.ble (Nat.add (ct_bi c) (Nat.mul 69 (Nat.div c 4294967296))) 2147483775) false) false
theorem ct_b8 {x : Int32} (h1 : -128 ≤ x.toInt) (h2 : x.toInt ≤ 127) : x.toInt8.toInt32 = x :=
  Int32.toInt_inj.1 (by rw [Int8.toInt_toInt32, Int32.toInt_toInt8]; exact Int.bmod_eq_of_le (by omega) (by omega))
noncomputable def ct_by (c : Nat) (k : Nat → Bool) : Bool := ct_fc c fun t => cond (ct_isb t) (k t) false
theorem ct_byS {E : Nat × Int32 × Int32} {e : Int32} {c : Nat} {k : Nat → Bool} {P : Prop} (he : e = ct_dec E c) (h : ct_by c k = true) (H : ∀ t, e.toInt8.toInt32 = ct_dec E t → k t = true → P) : P := by
  obtain ⟨h1, h2⟩ := ct_cf (ct_fcE h)
  refine H c ?_ h2
  obtain ⟨h3, h4⟩ := ct_cf h1
  obtain ⟨h4, h5⟩ := ct_cf h4
  have h4 := Nat.le_of_ble_eq_true h4
  have h5 : ct_bi c + 69 * (c / 4294967296) ≤ 2147483775 := Nat.le_of_ble_eq_true h5
  obtain ⟨t, v⟩ := ct_oks E h3
  have hf : E.1 % 70 ≤ 69 := by omega
  have hb : -128 ≤ (ct_dec E c).toInt ∧ (ct_dec E c).toInt ≤ 127 := by
    rw [v]
    generalize E.1 % 70 = f at hf ⊢
    generalize ct_bi c = b at h4 h5 ⊢
    rcases t with t | t <;> rw [t] at h5 ⊢ <;> omega
  rw [he]
  exact ct_b8 hb.1 hb.2
noncomputable def ct_bo (c : Nat) (k : Nat → Bool) : Bool := ct_fc c fun t => cond (Nat.ble t 1) (k t) false
theorem ct_boS {E : Nat × Int32 × Int32} {e : Int32} {c : Nat} {k : Nat → Bool} {P : Prop} (he : e = ct_dec E c) (h : ct_bo c k = true) (H : ∀ t, vp_nar .boolean e = ct_dec E t → k t = true → P) : P := by
  obtain ⟨h1, h2⟩ := ct_cf (ct_fcE h)
  refine H c ?_ h2
  have h1 := Nat.le_of_ble_eq_true h1
  rw [he, ct_dsm E (show c < 4294967296 by omega)]
  have hc : c = 0 ∨ c = 1 := by omega
  rcases hc with hc | hc <;> rw [hc] <;> rfl
noncomputable def ct_rm (c d : Nat) (k : Nat → Bool) : Bool := ct_fc c fun t => cond (Nat.ble t 2147483647) (ct_fc (Nat.mod t d) k) false
theorem ct_rmS {E : Nat × Int32 × Int32} {e z : Int32} {c d : Nat} {k : Nat → Bool} {P : Prop} (hz : z = nI d) (h0 : 0 < d) (hd : d < 2147483648) (he : e = ct_dec E c) (h : ct_rm c d k = true) (H : ∀ t, e - e / z * z = ct_dec E t → k t = true → P) : P := by
  obtain ⟨h1, h2⟩ := ct_cf (ct_fcE h)
  have h1 := Nat.le_of_ble_eq_true h1
  refine H (c % d) ?_ (ct_fcE h2)
  have hm : c % d < d := Nat.mod_lt _ h0
  rw [he, hz, ct_dsm E (show c < 4294967296 by omega), ct_dsm E (show c % d < 4294967296 by omega)]
  exact pk_rem (by omega) h0 (by omega)
end
section
theorem ct_m2147483648 (E : Nat × Int32 × Int32) : (-2147483648 : Int32) = ct_dec E 2147483648 := (show (-2147483648 : Int32) = nI 2147483648 by decide).trans (ct_lit E 2147483648 (by decide))
theorem ct_m3 (E : Nat × Int32 × Int32) : (-3 : Int32) = ct_dec E 4294967293 := (show (-3 : Int32) = nI 4294967293 by decide).trans (ct_lit E 4294967293 (by decide))
theorem ct_m2 (E : Nat × Int32 × Int32) : (-2 : Int32) = ct_dec E 4294967294 := (show (-2 : Int32) = nI 4294967294 by decide).trans (ct_lit E 4294967294 (by decide))
theorem ct_m1 (E : Nat × Int32 × Int32) : (-1 : Int32) = ct_dec E 4294967295 := (show (-1 : Int32) = nI 4294967295 by decide).trans (ct_lit E 4294967295 (by decide))
theorem ct_l0 (E : Nat × Int32 × Int32) : (0 : Int32) = ct_dec E 0 := ct_lit E 0 (by decide)
theorem ct_l1 (E : Nat × Int32 × Int32) : (1 : Int32) = ct_dec E 1 := ct_lit E 1 (by decide)
theorem ct_l2 (E : Nat × Int32 × Int32) : (2 : Int32) = ct_dec E 2 := ct_lit E 2 (by decide)
theorem ct_l3 (E : Nat × Int32 × Int32) : (3 : Int32) = ct_dec E 3 := ct_lit E 3 (by decide)
theorem ct_l4 (E : Nat × Int32 × Int32) : (4 : Int32) = ct_dec E 4 := ct_lit E 4 (by decide)
theorem ct_l5 (E : Nat × Int32 × Int32) : (5 : Int32) = ct_dec E 5 := ct_lit E 5 (by decide)
theorem ct_l6 (E : Nat × Int32 × Int32) : (6 : Int32) = ct_dec E 6 := ct_lit E 6 (by decide)
theorem ct_l7 (E : Nat × Int32 × Int32) : (7 : Int32) = ct_dec E 7 := ct_lit E 7 (by decide)
theorem ct_l8 (E : Nat × Int32 × Int32) : (8 : Int32) = ct_dec E 8 := ct_lit E 8 (by decide)
theorem ct_l17 (E : Nat × Int32 × Int32) : (17 : Int32) = ct_dec E 17 := ct_lit E 17 (by decide)
theorem ct_l23 (E : Nat × Int32 × Int32) : (23 : Int32) = ct_dec E 23 := ct_lit E 23 (by decide)
theorem ct_l24 (E : Nat × Int32 × Int32) : (24 : Int32) = ct_dec E 24 := ct_lit E 24 (by decide)
theorem ct_l99 (E : Nat × Int32 × Int32) : (99 : Int32) = ct_dec E 99 := ct_lit E 99 (by decide)
theorem ct_l100 (E : Nat × Int32 × Int32) : (100 : Int32) = ct_dec E 100 := ct_lit E 100 (by decide)
end
section
noncomputable def mf_wpX_validMeta (k_post : Nat → Bool) (f0_wayEnd : Nat) (a1 : Nat) (a2 : Nat) (a3 : Nat) (a4 : Nat) (a5 : Nat) (a6 : Nat) (a7 : Nat) (a8 : Nat) (a9 : Nat) (a10 : Nat) (a11 : Nat) (a12 : Nat) (a13 : Nat) (a14 : Nat) (a15 : Nat) (a16 : Nat) : Bool :=
  ct_eq (ct_gt a10 0) 0 (k_post 1) (ct_eq (ct_gt a10 1) 0 (k_post 0) (ct_le (ct_gt a9 0) (ct_gt a9 1) (k_post 1) (k_post 0)))
theorem mt_wpX_validMeta (E : Nat × Int32 × Int32) {post : Int32 → Prop} {k_post : Nat → Bool} {f0_wayEnd a1 a2 a3 a4 a5 a6 a7 a8 a9 a10 a11 a12 a13 a14 a15 a16 : Nat} (h : mf_wpX_validMeta k_post f0_wayEnd a1 a2 a3 a4 a5 a6 a7 a8 a9 a10 a11 a12 a13 a14 a15 a16 = true) (h_post : ∀ r0 : Nat, k_post r0 = true → post (ct_dec E r0)) :
    wpX_validMeta post (ct_dec E f0_wayEnd, ct_da E a1, ct_da E a2, ct_da E a3, ct_da E a4, ct_da E a5, ct_da E a6, ct_da E a7, ct_da E a8, ct_da E a9, ct_da E a10, ct_da E a11, ct_da E a12, ct_da E a13, ct_da E a14, ct_da E a15, ct_da E a16) := by
  unfold mf_wpX_validMeta at h
  unfold wpX_validMeta
  refine ct_eqS (ct_rk E a10 0) (ct_l0 E) h (fun h => ?_) (fun h => ?_)
  · refine ct_sub (P := fun z => post z) (ct_l1 E) ?_
    exact h_post _ h
  · refine ct_eqS (ct_rk E a10 1) (ct_l0 E) h (fun h => ?_) (fun h => ?_)
    · refine ct_sub (P := fun z => post z) (ct_l0 E) ?_
      exact h_post _ h
    · refine ct_leS (ct_rk E a9 0) (ct_rk E a9 1) h (fun h => ?_) (fun h => ?_)
      · refine ct_sub (P := fun z => post z) (ct_l1 E) ?_
        exact h_post _ h
      · refine ct_sub (P := fun z => post z) (ct_l0 E) ?_
        exact h_post _ h

noncomputable def mb_wX_settle_2 (k_post : Nat → Nat → Nat → Nat → Nat → Nat → Nat → Nat → Nat → Nat → Nat → Nat → Nat → Nat → Nat → Nat → Nat → Bool) (f0_wayEnd : Nat) (ih : Nat → Nat → Nat → Nat → Nat → Nat → Nat → Nat → Nat → Nat → Nat → Nat → Nat → Nat → Nat → Nat → Nat → Bool) (x1 : Nat) (a1 : Nat) (a2 : Nat) (a3 : Nat) (a4 : Nat) (a5 : Nat) (a6 : Nat) (a7 : Nat) (a8 : Nat) (a9 : Nat) (a10 : Nat) (a11 : Nat) (a12 : Nat) (a13 : Nat) (a14 : Nat) (a15 : Nat) (a16 : Nat) : Bool :=
  ct_le 100 x1 (k_post f0_wayEnd a1 a2 a3 a4 a5 a6 a7 a8 a9 a10 a11 a12 a13 a14 a15 a16) (ct_in x1 100 fun t1 => ct_fc (ct_st a5 t1 0) fun a5_3 => ct_fc (ct_ad x1 1) fun x1_4 => ih x1_4 a1 a2 a3 a4 a5_3 a6 a7 a8 a9 a10 a11 a12 a13 a14 a15 a16)
noncomputable def mf_wX_settle_2 (k_post : Nat → Nat → Nat → Nat → Nat → Nat → Nat → Nat → Nat → Nat → Nat → Nat → Nat → Nat → Nat → Nat → Nat → Bool) (f0_wayEnd : Nat) (n : Nat) : Nat → Nat → Nat → Nat → Nat → Nat → Nat → Nat → Nat → Nat → Nat → Nat → Nat → Nat → Nat → Nat → Nat → Bool :=
  Nat.rec (motive := fun _ => Nat → Nat → Nat → Nat → Nat → Nat → Nat → Nat → Nat → Nat → Nat → Nat → Nat → Nat → Nat → Nat → Nat → Bool) (fun _ _ _ _ _ _ _ _ _ _ _ _ _ _ _ _ _ => false) (fun _ ih => mb_wX_settle_2 k_post f0_wayEnd ih) n
theorem mt_wX_settle_2 (E : Nat × Int32 × Int32) {post : St2 → Prop} {k_post : Nat → Nat → Nat → Nat → Nat → Nat → Nat → Nat → Nat → Nat → Nat → Nat → Nat → Nat → Nat → Nat → Nat → Bool} {e_f0_wayEnd : Int32} {f0_wayEnd : Nat} (p_f0_wayEnd : e_f0_wayEnd = ct_dec E f0_wayEnd) {n : Nat} {e_x1 : Int32} {x1 : Nat} (p_x1 : e_x1 = ct_dec E x1) {a1 : Nat} {a2 : Nat} {a3 : Nat} {a4 : Nat} {a5 : Nat} {a6 : Nat} {a7 : Nat} {a8 : Nat} {a9 : Nat} {a10 : Nat} {a11 : Nat} {a12 : Nat} {a13 : Nat} {a14 : Nat} {a15 : Nat} {a16 : Nat} (h : mf_wX_settle_2 k_post f0_wayEnd n x1 a1 a2 a3 a4 a5 a6 a7 a8 a9 a10 a11 a12 a13 a14 a15 a16 = true) (h_post : ∀ r0 r1 r2 r3 r4 r5 r6 r7 r8 r9 r10 r11 r12 r13 r14 r15 r16 : Nat, k_post r0 r1 r2 r3 r4 r5 r6 r7 r8 r9 r10 r11 r12 r13 r14 r15 r16 = true → post (ct_dec E r0, ct_da E r1, ct_da E r2, ct_da E r3, ct_da E r4, ct_da E r5, ct_da E r6, ct_da E r7, ct_da E r8, ct_da E r9, ct_da E r10, ct_da E r11, ct_da E r12, ct_da E r13, ct_da E r14, ct_da E r15, ct_da E r16)) :
    wX_settle_2 post e_f0_wayEnd n e_x1 (ct_da E a1) (ct_da E a2) (ct_da E a3) (ct_da E a4) (ct_da E a5) (ct_da E a6) (ct_da E a7) (ct_da E a8) (ct_da E a9) (ct_da E a10) (ct_da E a11) (ct_da E a12) (ct_da E a13) (ct_da E a14) (ct_da E a15) (ct_da E a16) := by
  subst p_f0_wayEnd
  have key : ∀ (n : Nat) {e_x1 : Int32} {x1 : Nat} (p_x1 : e_x1 = ct_dec E x1) {a1 : Nat} {a2 : Nat} {a3 : Nat} {a4 : Nat} {a5 : Nat} {a6 : Nat} {a7 : Nat} {a8 : Nat} {a9 : Nat} {a10 : Nat} {a11 : Nat} {a12 : Nat} {a13 : Nat} {a14 : Nat} {a15 : Nat} {a16 : Nat}, mf_wX_settle_2 k_post f0_wayEnd n x1 a1 a2 a3 a4 a5 a6 a7 a8 a9 a10 a11 a12 a13 a14 a15 a16 = true → wX_settle_2 post (ct_dec E f0_wayEnd) n e_x1 (ct_da E a1) (ct_da E a2) (ct_da E a3) (ct_da E a4) (ct_da E a5) (ct_da E a6) (ct_da E a7) (ct_da E a8) (ct_da E a9) (ct_da E a10) (ct_da E a11) (ct_da E a12) (ct_da E a13) (ct_da E a14) (ct_da E a15) (ct_da E a16) := by
    intro n
    induction n with
    | zero =>
      intro e_x1 x1 p_x1 a1 a2 a3 a4 a5 a6 a7 a8 a9 a10 a11 a12 a13 a14 a15 a16 h
      exact Bool.noConfusion (show false = true from h)
    | succ n ih =>
      intro e_x1 x1 p_x1 a1 a2 a3 a4 a5 a6 a7 a8 a9 a10 a11 a12 a13 a14 a15 a16 h
      subst p_x1
      replace h : mb_wX_settle_2 k_post f0_wayEnd (mf_wX_settle_2 k_post f0_wayEnd n) x1 a1 a2 a3 a4 a5 a6 a7 a8 a9 a10 a11 a12 a13 a14 a15 a16 = true := h
      unfold mb_wX_settle_2 at h
      unfold wX_settle_2
      refine ct_leS (ct_l100 E) (ct_v E x1) h (fun h => ?_) (fun h => ?_)
      · exact h_post _ _ _ _ _ _ _ _ _ _ _ _ _ _ _ _ _ h
      · refine ct_inS (by decide) (ct_v E x1) h (fun t1 q1 l1 h => ?_)
        refine ct_leta (ct_up a5 q1 l1 (ct_l0 E)) h (fun a5_3 h => ?_)
        refine ct_let (ct_add (ct_v E x1) (ct_l1 E)) h (fun x1_4 h => ?_)
        exact ih (ct_v E x1_4) h
  exact key n p_x1 h

noncomputable def mf_wpX_settle (k_post : Nat → Nat → Nat → Nat → Nat → Nat → Nat → Nat → Nat → Nat → Nat → Nat → Nat → Nat → Nat → Nat → Nat → Bool) (f0_wayEnd : Nat) (a1 : Nat) (a2 : Nat) (a3 : Nat) (a4 : Nat) (a5 : Nat) (a6 : Nat) (a7 : Nat) (a8 : Nat) (a9 : Nat) (a10 : Nat) (a11 : Nat) (a12 : Nat) (a13 : Nat) (a14 : Nat) (a15 : Nat) (a16 : Nat) : Bool :=
  mf_wX_settle_2 k_post f0_wayEnd 128 0 a1 a2 a3 a4 a5 a6 a7 a8 a9 a10 a11 a12 a13 a14 a15 a16
theorem mt_wpX_settle (E : Nat × Int32 × Int32) {post : St2 → Prop} {k_post : Nat → Nat → Nat → Nat → Nat → Nat → Nat → Nat → Nat → Nat → Nat → Nat → Nat → Nat → Nat → Nat → Nat → Bool} {f0_wayEnd a1 a2 a3 a4 a5 a6 a7 a8 a9 a10 a11 a12 a13 a14 a15 a16 : Nat} (h : mf_wpX_settle k_post f0_wayEnd a1 a2 a3 a4 a5 a6 a7 a8 a9 a10 a11 a12 a13 a14 a15 a16 = true) (h_post : ∀ r0 r1 r2 r3 r4 r5 r6 r7 r8 r9 r10 r11 r12 r13 r14 r15 r16 : Nat, k_post r0 r1 r2 r3 r4 r5 r6 r7 r8 r9 r10 r11 r12 r13 r14 r15 r16 = true → post (ct_dec E r0, ct_da E r1, ct_da E r2, ct_da E r3, ct_da E r4, ct_da E r5, ct_da E r6, ct_da E r7, ct_da E r8, ct_da E r9, ct_da E r10, ct_da E r11, ct_da E r12, ct_da E r13, ct_da E r14, ct_da E r15, ct_da E r16)) :
    wpX_settle post (ct_dec E f0_wayEnd, ct_da E a1, ct_da E a2, ct_da E a3, ct_da E a4, ct_da E a5, ct_da E a6, ct_da E a7, ct_da E a8, ct_da E a9, ct_da E a10, ct_da E a11, ct_da E a12, ct_da E a13, ct_da E a14, ct_da E a15, ct_da E a16) := by
  unfold mf_wpX_settle at h
  unfold wpX_settle
  refine ⟨128, ?_⟩
  exact mt_wX_settle_2 E (ct_v E f0_wayEnd) (ct_l0 E) h h_post

noncomputable def mf_wpX_loadWriter (k_post : Nat → Nat → Nat → Nat → Nat → Nat → Nat → Nat → Nat → Nat → Nat → Nat → Nat → Nat → Nat → Nat → Nat → Bool) (f0_wayEnd : Nat) (a1 : Nat) (a2 : Nat) (a3 : Nat) (a4 : Nat) (a5 : Nat) (a6 : Nat) (a7 : Nat) (a8 : Nat) (a9 : Nat) (a10 : Nat) (a11 : Nat) (a12 : Nat) (a13 : Nat) (a14 : Nat) (a15 : Nat) (a16 : Nat) : Bool :=
  mf_wpX_validMeta (fun r_1 => mf_wpX_settle (fun f0_wayEnd_3 am61_6 am62_9 am63_12 am64_15 am65_18 am66_21 am67_24 am68_27 am69_30 am610_33 am611_36 am612_39 am613_42 am614_45 am615_48 am616_51 => ct_in r_1 2 fun t1 => ct_by (ct_gt am67_24 t1) fun b2 => ct_fc (ct_st am611_36 3 b2) fun am611_54 => ct_in r_1 2 fun t3 => ct_by (ct_gt am68_27 t3) fun b4 => ct_fc (ct_st am612_39 3 b4) fun am612_57 => k_post f0_wayEnd_3 am61_6 am62_9 am63_12 am64_15 am65_18 am66_21 am67_24 am68_27 am69_30 am610_33 am611_54 am612_57 am613_42 am614_45 am615_48 am616_51) f0_wayEnd a1 a2 a3 a4 a5 a6 a7 a8 a9 a10 a11 a12 a13 a14 a15 a16) f0_wayEnd a1 a2 a3 a4 a5 a6 a7 a8 a9 a10 a11 a12 a13 a14 a15 a16
theorem mt_wpX_loadWriter (E : Nat × Int32 × Int32) {post : St2 → Prop} {k_post : Nat → Nat → Nat → Nat → Nat → Nat → Nat → Nat → Nat → Nat → Nat → Nat → Nat → Nat → Nat → Nat → Nat → Bool} {f0_wayEnd a1 a2 a3 a4 a5 a6 a7 a8 a9 a10 a11 a12 a13 a14 a15 a16 : Nat} (h : mf_wpX_loadWriter k_post f0_wayEnd a1 a2 a3 a4 a5 a6 a7 a8 a9 a10 a11 a12 a13 a14 a15 a16 = true) (h_post : ∀ r0 r1 r2 r3 r4 r5 r6 r7 r8 r9 r10 r11 r12 r13 r14 r15 r16 : Nat, k_post r0 r1 r2 r3 r4 r5 r6 r7 r8 r9 r10 r11 r12 r13 r14 r15 r16 = true → post (ct_dec E r0, ct_da E r1, ct_da E r2, ct_da E r3, ct_da E r4, ct_da E r5, ct_da E r6, ct_da E r7, ct_da E r8, ct_da E r9, ct_da E r10, ct_da E r11, ct_da E r12, ct_da E r13, ct_da E r14, ct_da E r15, ct_da E r16)) :
    wpX_loadWriter post (ct_dec E f0_wayEnd, ct_da E a1, ct_da E a2, ct_da E a3, ct_da E a4, ct_da E a5, ct_da E a6, ct_da E a7, ct_da E a8, ct_da E a9, ct_da E a10, ct_da E a11, ct_da E a12, ct_da E a13, ct_da E a14, ct_da E a15, ct_da E a16) := by
  unfold mf_wpX_loadWriter at h
  unfold wpX_loadWriter
  refine mt_wpX_validMeta E  h (fun r_1 h => ?_)
  refine mt_wpX_settle E  h (fun f0_wayEnd_3 am61_6 am62_9 am63_12 am64_15 am65_18 am66_21 am67_24 am68_27 am69_30 am610_33 am611_36 am612_39 am613_42 am614_45 am615_48 am616_51 h => ?_)
  refine ct_inS (by decide) (ct_v E r_1) h (fun t1 q1 l1 h => ?_)
  refine ct_byS (ct_rd am67_24 q1 l1) h (fun b2 hb2 h => ?_)
  refine ct_leta (ct_uk am611_36 3 hb2) h (fun am611_54 h => ?_)
  refine ct_inS (by decide) (ct_v E r_1) h (fun t3 q3 l3 h => ?_)
  refine ct_byS (ct_rd am68_27 q3 l3) h (fun b4 hb4 h => ?_)
  refine ct_leta (ct_uk am612_39 3 hb4) h (fun am612_57 h => ?_)
  exact h_post _ _ _ _ _ _ _ _ _ _ _ _ _ _ _ _ _ h

noncomputable def mb_wX_init_144 (k_post : Nat → Nat → Nat → Nat → Nat → Nat → Nat → Nat → Nat → Nat → Nat → Nat → Nat → Nat → Nat → Nat → Nat → Bool) (f0_wayEnd : Nat) (ih : Nat → Nat → Nat → Nat → Nat → Nat → Nat → Nat → Nat → Nat → Nat → Nat → Nat → Nat → Nat → Nat → Nat → Bool) (x1 : Nat) (am7 : Nat) (am16 : Nat) (am25 : Nat) (am34 : Nat) (am42 : Nat) (am50 : Nat) (am57 : Nat) (am64 : Nat) (am71 : Nat) (am78 : Nat) (am85 : Nat) (am92 : Nat) (am99 : Nat) (am107 : Nat) (am115 : Nat) (am123 : Nat) : Bool :=
  ct_le 4 x1 (mf_wpX_loadWriter (fun f0_wayEnd_71 am1641_74 am1642_77 am1643_80 am1644_83 am1645_86 am1646_89 am1647_92 am1648_95 am1649_98 am16410_101 am16411_104 am16412_107 am16413_110 am16414_113 am16415_116 am16416_119 => k_post f0_wayEnd_71 am1641_74 am1642_77 am1643_80 am1644_83 am1645_86 am1646_89 am1647_92 am1648_95 am1649_98 am16410_101 am16411_104 am16412_107 am16413_110 am16414_113 am16415_116 am16416_119) f0_wayEnd am7 am16 am25 am34 am42 am50 am57 am64 am71 am78 am85 am92 am99 am107 am115 am123) (ct_in x1 4 fun t1 => ct_fc (ct_st am85 t1 4294967294) fun am85_121 => ct_fc (ct_ad x1 1) fun x1_122 => ih x1_122 am7 am16 am25 am34 am42 am50 am57 am64 am71 am78 am85_121 am92 am99 am107 am115 am123)
noncomputable def mf_wX_init_144 (k_post : Nat → Nat → Nat → Nat → Nat → Nat → Nat → Nat → Nat → Nat → Nat → Nat → Nat → Nat → Nat → Nat → Nat → Bool) (f0_wayEnd : Nat) (n : Nat) : Nat → Nat → Nat → Nat → Nat → Nat → Nat → Nat → Nat → Nat → Nat → Nat → Nat → Nat → Nat → Nat → Nat → Bool :=
  Nat.rec (motive := fun _ => Nat → Nat → Nat → Nat → Nat → Nat → Nat → Nat → Nat → Nat → Nat → Nat → Nat → Nat → Nat → Nat → Nat → Bool) (fun _ _ _ _ _ _ _ _ _ _ _ _ _ _ _ _ _ => false) (fun _ ih => mb_wX_init_144 k_post f0_wayEnd ih) n
theorem mt_wX_init_144 (E : Nat × Int32 × Int32) {post : St2 → Prop} {k_post : Nat → Nat → Nat → Nat → Nat → Nat → Nat → Nat → Nat → Nat → Nat → Nat → Nat → Nat → Nat → Nat → Nat → Bool} {mc ms kc ks : Nat} {e_f0_wayEnd : Int32} {f0_wayEnd : Nat} (p_f0_wayEnd : e_f0_wayEnd = ct_dec E f0_wayEnd) {n : Nat} {e_x1 : Int32} {x1 : Nat} (p_x1 : e_x1 = ct_dec E x1) {am7 : Nat} {am16 : Nat} {am25 : Nat} {am34 : Nat} {am42 : Nat} {am50 : Nat} {am57 : Nat} {am64 : Nat} {am71 : Nat} {am78 : Nat} {am85 : Nat} {am92 : Nat} {am99 : Nat} {am107 : Nat} {am115 : Nat} {am123 : Nat} (h : mf_wX_init_144 k_post f0_wayEnd n x1 am7 am16 am25 am34 am42 am50 am57 am64 am71 am78 am85 am92 am99 am107 am115 am123 = true) (h_post : ∀ r0 r1 r2 r3 r4 r5 r6 r7 r8 r9 r10 r11 r12 r13 r14 r15 r16 : Nat, k_post r0 r1 r2 r3 r4 r5 r6 r7 r8 r9 r10 r11 r12 r13 r14 r15 r16 = true → post (ct_dec E r0, ct_da E r1, ct_da E r2, ct_da E r3, ct_da E r4, ct_da E r5, ct_da E r6, ct_da E r7, ct_da E r8, ct_da E r9, ct_da E r10, ct_da E r11, ct_da E r12, ct_da E r13, ct_da E r14, ct_da E r15, ct_da E r16)) :
    wX_init_144 post mc ms kc ks e_f0_wayEnd n e_x1 (ct_da E am7) (ct_da E am16) (ct_da E am25) (ct_da E am34) (ct_da E am42) (ct_da E am50) (ct_da E am57) (ct_da E am64) (ct_da E am71) (ct_da E am78) (ct_da E am85) (ct_da E am92) (ct_da E am99) (ct_da E am107) (ct_da E am115) (ct_da E am123) := by
  subst p_f0_wayEnd
  have key : ∀ (n : Nat) {e_x1 : Int32} {x1 : Nat} (p_x1 : e_x1 = ct_dec E x1) {am7 : Nat} {am16 : Nat} {am25 : Nat} {am34 : Nat} {am42 : Nat} {am50 : Nat} {am57 : Nat} {am64 : Nat} {am71 : Nat} {am78 : Nat} {am85 : Nat} {am92 : Nat} {am99 : Nat} {am107 : Nat} {am115 : Nat} {am123 : Nat}, mf_wX_init_144 k_post f0_wayEnd n x1 am7 am16 am25 am34 am42 am50 am57 am64 am71 am78 am85 am92 am99 am107 am115 am123 = true → wX_init_144 post mc ms kc ks (ct_dec E f0_wayEnd) n e_x1 (ct_da E am7) (ct_da E am16) (ct_da E am25) (ct_da E am34) (ct_da E am42) (ct_da E am50) (ct_da E am57) (ct_da E am64) (ct_da E am71) (ct_da E am78) (ct_da E am85) (ct_da E am92) (ct_da E am99) (ct_da E am107) (ct_da E am115) (ct_da E am123) := by
    intro n
    induction n with
    | zero =>
      intro e_x1 x1 p_x1 am7 am16 am25 am34 am42 am50 am57 am64 am71 am78 am85 am92 am99 am107 am115 am123 h
      exact Bool.noConfusion (show false = true from h)
    | succ n ih =>
      intro e_x1 x1 p_x1 am7 am16 am25 am34 am42 am50 am57 am64 am71 am78 am85 am92 am99 am107 am115 am123 h
      subst p_x1
      replace h : mb_wX_init_144 k_post f0_wayEnd (mf_wX_init_144 k_post f0_wayEnd n) x1 am7 am16 am25 am34 am42 am50 am57 am64 am71 am78 am85 am92 am99 am107 am115 am123 = true := h
      unfold mb_wX_init_144 at h
      unfold wX_init_144
      refine ct_leS (ct_l4 E) (ct_v E x1) h (fun h => ?_) (fun h => ?_)
      · refine mt_wpX_loadWriter E  h (fun f0_wayEnd_71 am1641_74 am1642_77 am1643_80 am1644_83 am1645_86 am1646_89 am1647_92 am1648_95 am1649_98 am16410_101 am16411_104 am16412_107 am16413_110 am16414_113 am16415_116 am16416_119 h => ?_)
        exact h_post _ _ _ _ _ _ _ _ _ _ _ _ _ _ _ _ _ h
      · refine ct_inS (by decide) (ct_v E x1) h (fun t1 q1 l1 h => ?_)
        refine ct_leta (ct_up am85 q1 l1 (ct_m2 E)) h (fun am85_121 h => ?_)
        refine ct_let (ct_add (ct_v E x1) (ct_l1 E)) h (fun x1_122 h => ?_)
        exact ih (ct_v E x1_122) h
  exact key n p_x1 h

noncomputable def mf_wpX_sees (k_post : Nat → Bool) (f0_wayEnd : Nat) (a1 : Nat) (a2 : Nat) (a3 : Nat) (a4 : Nat) (a5 : Nat) (a6 : Nat) (a7 : Nat) (a8 : Nat) (a9 : Nat) (a10 : Nat) (a11 : Nat) (a12 : Nat) (a13 : Nat) (a14 : Nat) (a15 : Nat) (a16 : Nat) (p0 : Nat) : Bool :=
  ct_lt p0 0 (k_post 0) (ct_lt 3 p0 (k_post 0) (ct_in p0 4 fun t1 => ct_eq (ct_gt a11 t1) 4294967294 (k_post 0) (k_post 1)))
theorem mt_wpX_sees (E : Nat × Int32 × Int32) {post : Int32 → Prop} {k_post : Nat → Bool} {f0_wayEnd a1 a2 a3 a4 a5 a6 a7 a8 a9 a10 a11 a12 a13 a14 a15 a16 : Nat} {e_p0 : Int32} {p0 : Nat} (p_p0 : e_p0 = ct_dec E p0) (h : mf_wpX_sees k_post f0_wayEnd a1 a2 a3 a4 a5 a6 a7 a8 a9 a10 a11 a12 a13 a14 a15 a16 p0 = true) (h_post : ∀ r0 : Nat, k_post r0 = true → post (ct_dec E r0)) :
    wpX_sees post (ct_dec E f0_wayEnd, ct_da E a1, ct_da E a2, ct_da E a3, ct_da E a4, ct_da E a5, ct_da E a6, ct_da E a7, ct_da E a8, ct_da E a9, ct_da E a10, ct_da E a11, ct_da E a12, ct_da E a13, ct_da E a14, ct_da E a15, ct_da E a16) e_p0 := by
  subst p_p0
  unfold mf_wpX_sees at h
  unfold wpX_sees
  refine ct_ltS (ct_v E p0) (ct_l0 E) h (fun h => ?_) (fun h => ?_)
  · refine ct_sub (P := fun z => post z) (ct_l0 E) ?_
    exact h_post _ h
  · refine ct_ltS (ct_l3 E) (ct_v E p0) h (fun h => ?_) (fun h => ?_)
    · refine ct_sub (P := fun z => post z) (ct_l0 E) ?_
      exact h_post _ h
    · refine ct_inS (by decide) (ct_v E p0) h (fun t1 q1 l1 h => ?_)
      refine ct_eqS (ct_rd a11 q1 l1) (ct_m2 E) h (fun h => ?_) (fun h => ?_)
      · refine ct_sub (P := fun z => post z) (ct_l0 E) ?_
        exact h_post _ h
      · refine ct_sub (P := fun z => post z) (ct_l1 E) ?_
        exact h_post _ h

noncomputable def mf_wpX_size (k_post : Nat → Bool) (f0_wayEnd : Nat) (a1 : Nat) (a2 : Nat) (a3 : Nat) (a4 : Nat) (a5 : Nat) (a6 : Nat) (a7 : Nat) (a8 : Nat) (a9 : Nat) (a10 : Nat) (a11 : Nat) (a12 : Nat) (a13 : Nat) (a14 : Nat) (a15 : Nat) (a16 : Nat) (p0 : Nat) : Bool :=
  mf_wpX_sees (fun r_1 => ct_eq r_1 0 (k_post 4294967295) (ct_in p0 4 fun t1 => ct_fc (ct_gt a12 t1) fun y2 => k_post y2)) f0_wayEnd a1 a2 a3 a4 a5 a6 a7 a8 a9 a10 a11 a12 a13 a14 a15 a16 p0
theorem mt_wpX_size (E : Nat × Int32 × Int32) {post : Int32 → Prop} {k_post : Nat → Bool} {f0_wayEnd a1 a2 a3 a4 a5 a6 a7 a8 a9 a10 a11 a12 a13 a14 a15 a16 : Nat} {e_p0 : Int32} {p0 : Nat} (p_p0 : e_p0 = ct_dec E p0) (h : mf_wpX_size k_post f0_wayEnd a1 a2 a3 a4 a5 a6 a7 a8 a9 a10 a11 a12 a13 a14 a15 a16 p0 = true) (h_post : ∀ r0 : Nat, k_post r0 = true → post (ct_dec E r0)) :
    wpX_size post (ct_dec E f0_wayEnd, ct_da E a1, ct_da E a2, ct_da E a3, ct_da E a4, ct_da E a5, ct_da E a6, ct_da E a7, ct_da E a8, ct_da E a9, ct_da E a10, ct_da E a11, ct_da E a12, ct_da E a13, ct_da E a14, ct_da E a15, ct_da E a16) e_p0 := by
  subst p_p0
  unfold mf_wpX_size at h
  unfold wpX_size
  refine mt_wpX_sees E (ct_v E p0) h (fun r_1 h => ?_)
  refine ct_eqS (ct_v E r_1) (ct_l0 E) h (fun h => ?_) (fun h => ?_)
  · refine ct_sub (P := fun z => post z) (ct_m1 E) ?_
    exact h_post _ h
  · refine ct_inS (by decide) (ct_v E p0) h (fun t1 q1 l1 h => ?_)
    replace h := ct_fcE h
    refine ct_sub (P := fun z => post z) (ct_rd a12 q1 l1) ?_
    exact h_post _ h

noncomputable def mf_wpX_isKey (k_post : Nat → Bool) (f0_wayEnd : Nat) (a1 : Nat) (a2 : Nat) (a3 : Nat) (a4 : Nat) (a5 : Nat) (a6 : Nat) (a7 : Nat) (a8 : Nat) (a9 : Nat) (a10 : Nat) (a11 : Nat) (a12 : Nat) (a13 : Nat) (a14 : Nat) (a15 : Nat) (a16 : Nat) (p0 : Nat) : Bool :=
  ct_lt p0 0 (k_post 0) (ct_lt 99 p0 (k_post 0) (k_post 1))
theorem mt_wpX_isKey (E : Nat × Int32 × Int32) {post : Int32 → Prop} {k_post : Nat → Bool} {f0_wayEnd a1 a2 a3 a4 a5 a6 a7 a8 a9 a10 a11 a12 a13 a14 a15 a16 : Nat} {e_p0 : Int32} {p0 : Nat} (p_p0 : e_p0 = ct_dec E p0) (h : mf_wpX_isKey k_post f0_wayEnd a1 a2 a3 a4 a5 a6 a7 a8 a9 a10 a11 a12 a13 a14 a15 a16 p0 = true) (h_post : ∀ r0 : Nat, k_post r0 = true → post (ct_dec E r0)) :
    wpX_isKey post (ct_dec E f0_wayEnd, ct_da E a1, ct_da E a2, ct_da E a3, ct_da E a4, ct_da E a5, ct_da E a6, ct_da E a7, ct_da E a8, ct_da E a9, ct_da E a10, ct_da E a11, ct_da E a12, ct_da E a13, ct_da E a14, ct_da E a15, ct_da E a16) e_p0 := by
  subst p_p0
  unfold mf_wpX_isKey at h
  unfold wpX_isKey
  refine ct_ltS (ct_v E p0) (ct_l0 E) h (fun h => ?_) (fun h => ?_)
  · refine ct_sub (P := fun z => post z) (ct_l0 E) ?_
    exact h_post _ h
  · refine ct_ltS (ct_l99 E) (ct_v E p0) h (fun h => ?_) (fun h => ?_)
    · refine ct_sub (P := fun z => post z) (ct_l0 E) ?_
      exact h_post _ h
    · refine ct_sub (P := fun z => post z) (ct_l1 E) ?_
      exact h_post _ h

noncomputable def mf_wpX_pushWay (k_post : Nat → Nat → Nat → Nat → Nat → Nat → Nat → Nat → Nat → Nat → Nat → Nat → Nat → Nat → Nat → Nat → Nat → Bool) (f0_wayEnd : Nat) (a1 : Nat) (a2 : Nat) (a3 : Nat) (a4 : Nat) (a5 : Nat) (a6 : Nat) (a7 : Nat) (a8 : Nat) (a9 : Nat) (a10 : Nat) (a11 : Nat) (a12 : Nat) (a13 : Nat) (a14 : Nat) (a15 : Nat) (a16 : Nat) (p0 : Nat) (p1 : Nat) : Bool :=
  ct_in f0_wayEnd 8 fun t1 => ct_by p0 fun b2 => ct_fc (ct_st a14 t1 b2) fun a14_2 => ct_in f0_wayEnd 8 fun t3 => ct_by p1 fun b4 => ct_fc (ct_st a15 t3 b4) fun a15_4 => ct_fc (ct_ad f0_wayEnd 1) fun f_5 => k_post f_5 a1 a2 a3 a4 a5 a6 a7 a8 a9 a10 a11 a12 a13 a14_2 a15_4 a16
theorem mt_wpX_pushWay (E : Nat × Int32 × Int32) {post : St2 → Prop} {k_post : Nat → Nat → Nat → Nat → Nat → Nat → Nat → Nat → Nat → Nat → Nat → Nat → Nat → Nat → Nat → Nat → Nat → Bool} {f0_wayEnd a1 a2 a3 a4 a5 a6 a7 a8 a9 a10 a11 a12 a13 a14 a15 a16 : Nat} {e_p0 : Int32} {p0 : Nat} (p_p0 : e_p0 = ct_dec E p0) {e_p1 : Int32} {p1 : Nat} (p_p1 : e_p1 = ct_dec E p1) (h : mf_wpX_pushWay k_post f0_wayEnd a1 a2 a3 a4 a5 a6 a7 a8 a9 a10 a11 a12 a13 a14 a15 a16 p0 p1 = true) (h_post : ∀ r0 r1 r2 r3 r4 r5 r6 r7 r8 r9 r10 r11 r12 r13 r14 r15 r16 : Nat, k_post r0 r1 r2 r3 r4 r5 r6 r7 r8 r9 r10 r11 r12 r13 r14 r15 r16 = true → post (ct_dec E r0, ct_da E r1, ct_da E r2, ct_da E r3, ct_da E r4, ct_da E r5, ct_da E r6, ct_da E r7, ct_da E r8, ct_da E r9, ct_da E r10, ct_da E r11, ct_da E r12, ct_da E r13, ct_da E r14, ct_da E r15, ct_da E r16)) :
    wpX_pushWay post (ct_dec E f0_wayEnd, ct_da E a1, ct_da E a2, ct_da E a3, ct_da E a4, ct_da E a5, ct_da E a6, ct_da E a7, ct_da E a8, ct_da E a9, ct_da E a10, ct_da E a11, ct_da E a12, ct_da E a13, ct_da E a14, ct_da E a15, ct_da E a16) e_p0 e_p1 := by
  subst p_p0 p_p1
  unfold mf_wpX_pushWay at h
  unfold wpX_pushWay
  refine ct_inS (by decide) (ct_v E f0_wayEnd) h (fun t1 q1 l1 h => ?_)
  refine ct_byS (ct_v E p0) h (fun b2 hb2 h => ?_)
  refine ct_leta (ct_up a14 q1 l1 hb2) h (fun a14_2 h => ?_)
  refine ct_inS (by decide) (ct_v E f0_wayEnd) h (fun t3 q3 l3 h => ?_)
  refine ct_byS (ct_v E p1) h (fun b4 hb4 h => ?_)
  refine ct_leta (ct_up a15 q3 l3 hb4) h (fun a15_4 h => ?_)
  refine ct_let (ct_add (ct_v E f0_wayEnd) (ct_l1 E)) h (fun f_5 h => ?_)
  exact h_post _ _ _ _ _ _ _ _ _ _ _ _ _ _ _ _ _ h

noncomputable def mf_wpX_isLeaf (k_post : Nat → Bool) (f0_wayEnd : Nat) (a1 : Nat) (a2 : Nat) (a3 : Nat) (a4 : Nat) (a5 : Nat) (a6 : Nat) (a7 : Nat) (a8 : Nat) (a9 : Nat) (a10 : Nat) (a11 : Nat) (a12 : Nat) (a13 : Nat) (a14 : Nat) (a15 : Nat) (a16 : Nat) (p0 : Nat) : Bool :=
  ct_in (ct_ml 6 p0) 600 fun t1 => ct_le 0 (ct_gt a4 t1) (k_post 0) (k_post 1)
theorem mt_wpX_isLeaf (E : Nat × Int32 × Int32) {post : Int32 → Prop} {k_post : Nat → Bool} {f0_wayEnd a1 a2 a3 a4 a5 a6 a7 a8 a9 a10 a11 a12 a13 a14 a15 a16 : Nat} {e_p0 : Int32} {p0 : Nat} (p_p0 : e_p0 = ct_dec E p0) (h : mf_wpX_isLeaf k_post f0_wayEnd a1 a2 a3 a4 a5 a6 a7 a8 a9 a10 a11 a12 a13 a14 a15 a16 p0 = true) (h_post : ∀ r0 : Nat, k_post r0 = true → post (ct_dec E r0)) :
    wpX_isLeaf post (ct_dec E f0_wayEnd, ct_da E a1, ct_da E a2, ct_da E a3, ct_da E a4, ct_da E a5, ct_da E a6, ct_da E a7, ct_da E a8, ct_da E a9, ct_da E a10, ct_da E a11, ct_da E a12, ct_da E a13, ct_da E a14, ct_da E a15, ct_da E a16) e_p0 := by
  subst p_p0
  unfold mf_wpX_isLeaf at h
  unfold wpX_isLeaf
  refine ct_inS (by decide) (ct_mul (x := 6) (k := 6) rfl (ct_v E p0)) h (fun t1 q1 l1 h => ?_)
  refine ct_leS (ct_l0 E) (ct_rd a4 q1 l1) h (fun h => ?_) (fun h => ?_)
  · refine ct_sub (P := fun z => post z) (ct_l0 E) ?_
    exact h_post _ h
  · refine ct_sub (P := fun z => post z) (ct_l1 E) ?_
    exact h_post _ h

noncomputable def mf_wX_find_81 (k_post : Nat → Nat → Nat → Nat → Nat → Nat → Nat → Nat → Nat → Nat → Nat → Nat → Nat → Nat → Nat → Nat → Nat → Nat → Bool) (k_J7 : Nat → Nat → Nat → Nat → Nat → Nat → Nat → Nat → Nat → Nat → Nat → Nat → Nat → Nat → Nat → Nat → Nat → Nat → Bool) (x2 : Nat) (x3 : Nat) (x4 : Nat) (f0_wayEnd : Nat) (am501 : Nat) (am502 : Nat) (am503 : Nat) (am504 : Nat) (am505 : Nat) (am506 : Nat) (am507 : Nat) (am508 : Nat) (am509 : Nat) (am5010 : Nat) (am5011 : Nat) (am5012 : Nat) (am5013 : Nat) (am5014 : Nat) (am5015 : Nat) (am5016 : Nat) : Bool :=
  mf_wpX_isLeaf (fun r_56 => ct_eq r_56 0 (ct_in (ct_ad (ct_ml 6 x3) x4) 600 fun t1 => ct_fc (ct_gt am504 t1) fun x3_59 => k_J7 x3_59 f0_wayEnd am501 am502 am503 am504 am505 am506 am507 am508 am509 am5010 am5011 am5012 am5013 am5014 am5015 am5016) (k_J7 4294967295 f0_wayEnd am501 am502 am503 am504 am505 am506 am507 am508 am509 am5010 am5011 am5012 am5013 am5014 am5015 am5016)) f0_wayEnd am501 am502 am503 am504 am505 am506 am507 am508 am509 am5010 am5011 am5012 am5013 am5014 am5015 am5016 x3
theorem mt_wX_find_81 (E : Nat × Int32 × Int32) {post : Int32 → St2 → Prop} {k_post : Nat → Nat → Nat → Nat → Nat → Nat → Nat → Nat → Nat → Nat → Nat → Nat → Nat → Nat → Nat → Nat → Nat → Nat → Bool} {J7 : Int32 → Int32 → (Nat → Int32) → (Nat → Int32) → (Nat → Int32) → (Nat → Int32) → (Nat → Int32) → (Nat → Int32) → (Nat → Int32) → (Nat → Int32) → (Nat → Int32) → (Nat → Int32) → (Nat → Int32) → (Nat → Int32) → (Nat → Int32) → (Nat → Int32) → (Nat → Int32) → (Nat → Int32) → Prop} {k_J7 : Nat → Nat → Nat → Nat → Nat → Nat → Nat → Nat → Nat → Nat → Nat → Nat → Nat → Nat → Nat → Nat → Nat → Nat → Bool} {e_x2 : Int32} {x2 : Nat} (p_x2 : e_x2 = ct_dec E x2) {e_x3 : Int32} {x3 : Nat} (p_x3 : e_x3 = ct_dec E x3) {e_x4 : Int32} {x4 : Nat} (p_x4 : e_x4 = ct_dec E x4) {e_f0_wayEnd : Int32} {f0_wayEnd : Nat} (p_f0_wayEnd : e_f0_wayEnd = ct_dec E f0_wayEnd) {am501 : Nat} {am502 : Nat} {am503 : Nat} {am504 : Nat} {am505 : Nat} {am506 : Nat} {am507 : Nat} {am508 : Nat} {am509 : Nat} {am5010 : Nat} {am5011 : Nat} {am5012 : Nat} {am5013 : Nat} {am5014 : Nat} {am5015 : Nat} {am5016 : Nat} (h : mf_wX_find_81 k_post k_J7 x2 x3 x4 f0_wayEnd am501 am502 am503 am504 am505 am506 am507 am508 am509 am5010 am5011 am5012 am5013 am5014 am5015 am5016 = true) (h_post : ∀ r0 r1 r2 r3 r4 r5 r6 r7 r8 r9 r10 r11 r12 r13 r14 r15 r16 r17 : Nat, k_post r0 r1 r2 r3 r4 r5 r6 r7 r8 r9 r10 r11 r12 r13 r14 r15 r16 r17 = true → post (ct_dec E r0) (ct_dec E r1, ct_da E r2, ct_da E r3, ct_da E r4, ct_da E r5, ct_da E r6, ct_da E r7, ct_da E r8, ct_da E r9, ct_da E r10, ct_da E r11, ct_da E r12, ct_da E r13, ct_da E r14, ct_da E r15, ct_da E r16, ct_da E r17)) (h_J7 : ∀ r0 r1 r2 r3 r4 r5 r6 r7 r8 r9 r10 r11 r12 r13 r14 r15 r16 r17 : Nat, k_J7 r0 r1 r2 r3 r4 r5 r6 r7 r8 r9 r10 r11 r12 r13 r14 r15 r16 r17 = true → J7 (ct_dec E r0) (ct_dec E r1) (ct_da E r2) (ct_da E r3) (ct_da E r4) (ct_da E r5) (ct_da E r6) (ct_da E r7) (ct_da E r8) (ct_da E r9) (ct_da E r10) (ct_da E r11) (ct_da E r12) (ct_da E r13) (ct_da E r14) (ct_da E r15) (ct_da E r16) (ct_da E r17)) :
    wX_find_81 post J7 e_x2 e_x3 e_x4 e_f0_wayEnd (ct_da E am501) (ct_da E am502) (ct_da E am503) (ct_da E am504) (ct_da E am505) (ct_da E am506) (ct_da E am507) (ct_da E am508) (ct_da E am509) (ct_da E am5010) (ct_da E am5011) (ct_da E am5012) (ct_da E am5013) (ct_da E am5014) (ct_da E am5015) (ct_da E am5016) := by
  subst p_x2 p_x3 p_x4 p_f0_wayEnd
  unfold mf_wX_find_81 at h
  unfold wX_find_81
  refine mt_wpX_isLeaf E (ct_v E x3) h (fun r_56 h => ?_)
  refine ct_eqS (ct_v E r_56) (ct_l0 E) h (fun h => ?_) (fun h => ?_)
  · refine ct_inS (by decide) (ct_add (ct_mul (x := 6) (k := 6) rfl (ct_v E x3)) (ct_v E x4)) h (fun t1 q1 l1 h => ?_)
    refine ct_let (ct_rd am504 q1 l1) h (fun x3_59 h => ?_)
    exact h_J7 _ _ _ _ _ _ _ _ _ _ _ _ _ _ _ _ _ _ h
  · refine ct_sub (P := fun z => J7 z (ct_dec E f0_wayEnd) (ct_da E am501) (ct_da E am502) (ct_da E am503) (ct_da E am504) (ct_da E am505) (ct_da E am506) (ct_da E am507) (ct_da E am508) (ct_da E am509) (ct_da E am5010) (ct_da E am5011) (ct_da E am5012) (ct_da E am5013) (ct_da E am5014) (ct_da E am5015) (ct_da E am5016)) (ct_m1 E) ?_
    exact h_J7 _ _ _ _ _ _ _ _ _ _ _ _ _ _ _ _ _ _ h

noncomputable def mf_wX_find_46 (k_post : Nat → Nat → Nat → Nat → Nat → Nat → Nat → Nat → Nat → Nat → Nat → Nat → Nat → Nat → Nat → Nat → Nat → Nat → Bool) (k_J7 : Nat → Nat → Nat → Nat → Nat → Nat → Nat → Nat → Nat → Nat → Nat → Nat → Nat → Nat → Nat → Nat → Nat → Nat → Bool) (x2 : Nat) (x3 : Nat) (x4 : Nat) (f0_wayEnd : Nat) (a1 : Nat) (a2 : Nat) (a3 : Nat) (a4 : Nat) (a5 : Nat) (a6 : Nat) (a7 : Nat) (a8 : Nat) (a9 : Nat) (a10 : Nat) (a11 : Nat) (a12 : Nat) (a13 : Nat) (a14 : Nat) (a15 : Nat) (a16 : Nat) : Bool :=
  mf_wpX_pushWay (fun f0_wayEnd_5 am501_8 am502_11 am503_14 am504_17 am505_20 am506_23 am507_26 am508_29 am509_32 am5010_35 am5011_38 am5012_41 am5013_44 am5014_47 am5015_50 am5016_53 => ct_in x3 100 fun t1 => ct_le (ct_gt am501_8 t1) x4 (mf_wX_find_81 k_post k_J7 x2 x3 x4 f0_wayEnd_5 am501_8 am502_11 am503_14 am504_17 am505_20 am506_23 am507_26 am508_29 am509_32 am5010_35 am5011_38 am5012_41 am5013_44 am5014_47 am5015_50 am5016_53) (ct_in (ct_ad (ct_ml 5 x3) x4) 500 fun t2 => ct_eq (ct_gt am502_11 t2) x2 (k_post 1 f0_wayEnd_5 am501_8 am502_11 am503_14 am504_17 am505_20 am506_23 am507_26 am508_29 am509_32 am5010_35 am5011_38 am5012_41 am5013_44 am5014_47 am5015_50 am5016_53) (mf_wX_find_81 k_post k_J7 x2 x3 x4 f0_wayEnd_5 am501_8 am502_11 am503_14 am504_17 am505_20 am506_23 am507_26 am508_29 am509_32 am5010_35 am5011_38 am5012_41 am5013_44 am5014_47 am5015_50 am5016_53))) f0_wayEnd a1 a2 a3 a4 a5 a6 a7 a8 a9 a10 a11 a12 a13 a14 a15 a16 x3 x4
theorem mt_wX_find_46 (E : Nat × Int32 × Int32) {post : Int32 → St2 → Prop} {k_post : Nat → Nat → Nat → Nat → Nat → Nat → Nat → Nat → Nat → Nat → Nat → Nat → Nat → Nat → Nat → Nat → Nat → Nat → Bool} {J7 : Int32 → Int32 → (Nat → Int32) → (Nat → Int32) → (Nat → Int32) → (Nat → Int32) → (Nat → Int32) → (Nat → Int32) → (Nat → Int32) → (Nat → Int32) → (Nat → Int32) → (Nat → Int32) → (Nat → Int32) → (Nat → Int32) → (Nat → Int32) → (Nat → Int32) → (Nat → Int32) → (Nat → Int32) → Prop} {k_J7 : Nat → Nat → Nat → Nat → Nat → Nat → Nat → Nat → Nat → Nat → Nat → Nat → Nat → Nat → Nat → Nat → Nat → Nat → Bool} {e_x2 : Int32} {x2 : Nat} (p_x2 : e_x2 = ct_dec E x2) {e_x3 : Int32} {x3 : Nat} (p_x3 : e_x3 = ct_dec E x3) {e_x4 : Int32} {x4 : Nat} (p_x4 : e_x4 = ct_dec E x4) {e_f0_wayEnd : Int32} {f0_wayEnd : Nat} (p_f0_wayEnd : e_f0_wayEnd = ct_dec E f0_wayEnd) {a1 : Nat} {a2 : Nat} {a3 : Nat} {a4 : Nat} {a5 : Nat} {a6 : Nat} {a7 : Nat} {a8 : Nat} {a9 : Nat} {a10 : Nat} {a11 : Nat} {a12 : Nat} {a13 : Nat} {a14 : Nat} {a15 : Nat} {a16 : Nat} (h : mf_wX_find_46 k_post k_J7 x2 x3 x4 f0_wayEnd a1 a2 a3 a4 a5 a6 a7 a8 a9 a10 a11 a12 a13 a14 a15 a16 = true) (h_post : ∀ r0 r1 r2 r3 r4 r5 r6 r7 r8 r9 r10 r11 r12 r13 r14 r15 r16 r17 : Nat, k_post r0 r1 r2 r3 r4 r5 r6 r7 r8 r9 r10 r11 r12 r13 r14 r15 r16 r17 = true → post (ct_dec E r0) (ct_dec E r1, ct_da E r2, ct_da E r3, ct_da E r4, ct_da E r5, ct_da E r6, ct_da E r7, ct_da E r8, ct_da E r9, ct_da E r10, ct_da E r11, ct_da E r12, ct_da E r13, ct_da E r14, ct_da E r15, ct_da E r16, ct_da E r17)) (h_J7 : ∀ r0 r1 r2 r3 r4 r5 r6 r7 r8 r9 r10 r11 r12 r13 r14 r15 r16 r17 : Nat, k_J7 r0 r1 r2 r3 r4 r5 r6 r7 r8 r9 r10 r11 r12 r13 r14 r15 r16 r17 = true → J7 (ct_dec E r0) (ct_dec E r1) (ct_da E r2) (ct_da E r3) (ct_da E r4) (ct_da E r5) (ct_da E r6) (ct_da E r7) (ct_da E r8) (ct_da E r9) (ct_da E r10) (ct_da E r11) (ct_da E r12) (ct_da E r13) (ct_da E r14) (ct_da E r15) (ct_da E r16) (ct_da E r17)) :
    wX_find_46 post J7 e_x2 e_x3 e_x4 e_f0_wayEnd (ct_da E a1) (ct_da E a2) (ct_da E a3) (ct_da E a4) (ct_da E a5) (ct_da E a6) (ct_da E a7) (ct_da E a8) (ct_da E a9) (ct_da E a10) (ct_da E a11) (ct_da E a12) (ct_da E a13) (ct_da E a14) (ct_da E a15) (ct_da E a16) := by
  subst p_x2 p_x3 p_x4 p_f0_wayEnd
  unfold mf_wX_find_46 at h
  unfold wX_find_46
  refine mt_wpX_pushWay E (ct_v E x3) (ct_v E x4) h (fun f0_wayEnd_5 am501_8 am502_11 am503_14 am504_17 am505_20 am506_23 am507_26 am508_29 am509_32 am5010_35 am5011_38 am5012_41 am5013_44 am5014_47 am5015_50 am5016_53 h => ?_)
  refine ct_inS (by decide) (ct_v E x3) h (fun t1 q1 l1 h => ?_)
  refine ct_leS (ct_rd am501_8 q1 l1) (ct_v E x4) h (fun h => ?_) (fun h => ?_)
  · exact mt_wX_find_81 E (ct_v E x2) (ct_v E x3) (ct_v E x4) (ct_v E f0_wayEnd_5) h h_post h_J7
  · refine ct_inS (by decide) (ct_add (ct_mul (x := 5) (k := 5) rfl (ct_v E x3)) (ct_v E x4)) h (fun t2 q2 l2 h => ?_)
    refine ct_eqS (ct_rd am502_11 q2 l2) (ct_v E x2) h (fun h => ?_) (fun h => ?_)
    · refine ct_sub (P := fun z => post z ((ct_dec E f0_wayEnd_5, ct_da E am501_8, ct_da E am502_11, ct_da E am503_14, ct_da E am504_17, ct_da E am505_20, ct_da E am506_23, ct_da E am507_26, ct_da E am508_29, ct_da E am509_32, ct_da E am5010_35, ct_da E am5011_38, ct_da E am5012_41, ct_da E am5013_44, ct_da E am5014_47, ct_da E am5015_50, ct_da E am5016_53))) (ct_l1 E) ?_
      exact h_post _ _ _ _ _ _ _ _ _ _ _ _ _ _ _ _ _ _ h
    · exact mt_wX_find_81 E (ct_v E x2) (ct_v E x3) (ct_v E x4) (ct_v E f0_wayEnd_5) h h_post h_J7

noncomputable def mb_wX_find_14 (k_post : Nat → Nat → Nat → Nat → Nat → Nat → Nat → Nat → Nat → Nat → Nat → Nat → Nat → Nat → Nat → Nat → Nat → Nat → Bool) (k_J7 : Nat → Nat → Nat → Nat → Nat → Nat → Nat → Nat → Nat → Nat → Nat → Nat → Nat → Nat → Nat → Nat → Nat → Nat → Bool) (x2 : Nat) (x3 : Nat) (f0_wayEnd : Nat) (a1 : Nat) (a2 : Nat) (a3 : Nat) (a4 : Nat) (a5 : Nat) (a6 : Nat) (a7 : Nat) (a8 : Nat) (a9 : Nat) (a10 : Nat) (a11 : Nat) (a12 : Nat) (a13 : Nat) (a14 : Nat) (a15 : Nat) (a16 : Nat) (ih : Nat → Bool) (x4 : Nat) : Bool :=
  ct_in x3 100 fun t1 => ct_le (ct_gt a1 t1) x4 (mf_wX_find_46 k_post k_J7 x2 x3 x4 f0_wayEnd a1 a2 a3 a4 a5 a6 a7 a8 a9 a10 a11 a12 a13 a14 a15 a16) (ct_in (ct_ad (ct_ml 5 x3) x4) 500 fun t2 => ct_le x2 (ct_gt a2 t2) (mf_wX_find_46 k_post k_J7 x2 x3 x4 f0_wayEnd a1 a2 a3 a4 a5 a6 a7 a8 a9 a10 a11 a12 a13 a14 a15 a16) (ct_fc (ct_ad x4 1) fun x4_64 => ih x4_64))
noncomputable def mf_wX_find_14 (k_post : Nat → Nat → Nat → Nat → Nat → Nat → Nat → Nat → Nat → Nat → Nat → Nat → Nat → Nat → Nat → Nat → Nat → Nat → Bool) (k_J7 : Nat → Nat → Nat → Nat → Nat → Nat → Nat → Nat → Nat → Nat → Nat → Nat → Nat → Nat → Nat → Nat → Nat → Nat → Bool) (x2 : Nat) (x3 : Nat) (f0_wayEnd : Nat) (a1 : Nat) (a2 : Nat) (a3 : Nat) (a4 : Nat) (a5 : Nat) (a6 : Nat) (a7 : Nat) (a8 : Nat) (a9 : Nat) (a10 : Nat) (a11 : Nat) (a12 : Nat) (a13 : Nat) (a14 : Nat) (a15 : Nat) (a16 : Nat) (n : Nat) : Nat → Bool :=
  Nat.rec (motive := fun _ => Nat → Bool) (fun _ => false) (fun _ ih => mb_wX_find_14 k_post k_J7 x2 x3 f0_wayEnd a1 a2 a3 a4 a5 a6 a7 a8 a9 a10 a11 a12 a13 a14 a15 a16 ih) n
theorem mt_wX_find_14 (E : Nat × Int32 × Int32) {post : Int32 → St2 → Prop} {k_post : Nat → Nat → Nat → Nat → Nat → Nat → Nat → Nat → Nat → Nat → Nat → Nat → Nat → Nat → Nat → Nat → Nat → Nat → Bool} {J7 : Int32 → Int32 → (Nat → Int32) → (Nat → Int32) → (Nat → Int32) → (Nat → Int32) → (Nat → Int32) → (Nat → Int32) → (Nat → Int32) → (Nat → Int32) → (Nat → Int32) → (Nat → Int32) → (Nat → Int32) → (Nat → Int32) → (Nat → Int32) → (Nat → Int32) → (Nat → Int32) → (Nat → Int32) → Prop} {k_J7 : Nat → Nat → Nat → Nat → Nat → Nat → Nat → Nat → Nat → Nat → Nat → Nat → Nat → Nat → Nat → Nat → Nat → Nat → Bool} {e_x2 : Int32} {x2 : Nat} (p_x2 : e_x2 = ct_dec E x2) {e_x3 : Int32} {x3 : Nat} (p_x3 : e_x3 = ct_dec E x3) {e_f0_wayEnd : Int32} {f0_wayEnd : Nat} (p_f0_wayEnd : e_f0_wayEnd = ct_dec E f0_wayEnd) {a1 : Nat} {a2 : Nat} {a3 : Nat} {a4 : Nat} {a5 : Nat} {a6 : Nat} {a7 : Nat} {a8 : Nat} {a9 : Nat} {a10 : Nat} {a11 : Nat} {a12 : Nat} {a13 : Nat} {a14 : Nat} {a15 : Nat} {a16 : Nat} {n : Nat} {e_x4 : Int32} {x4 : Nat} (p_x4 : e_x4 = ct_dec E x4) (h : mf_wX_find_14 k_post k_J7 x2 x3 f0_wayEnd a1 a2 a3 a4 a5 a6 a7 a8 a9 a10 a11 a12 a13 a14 a15 a16 n x4 = true) (h_post : ∀ r0 r1 r2 r3 r4 r5 r6 r7 r8 r9 r10 r11 r12 r13 r14 r15 r16 r17 : Nat, k_post r0 r1 r2 r3 r4 r5 r6 r7 r8 r9 r10 r11 r12 r13 r14 r15 r16 r17 = true → post (ct_dec E r0) (ct_dec E r1, ct_da E r2, ct_da E r3, ct_da E r4, ct_da E r5, ct_da E r6, ct_da E r7, ct_da E r8, ct_da E r9, ct_da E r10, ct_da E r11, ct_da E r12, ct_da E r13, ct_da E r14, ct_da E r15, ct_da E r16, ct_da E r17)) (h_J7 : ∀ r0 r1 r2 r3 r4 r5 r6 r7 r8 r9 r10 r11 r12 r13 r14 r15 r16 r17 : Nat, k_J7 r0 r1 r2 r3 r4 r5 r6 r7 r8 r9 r10 r11 r12 r13 r14 r15 r16 r17 = true → J7 (ct_dec E r0) (ct_dec E r1) (ct_da E r2) (ct_da E r3) (ct_da E r4) (ct_da E r5) (ct_da E r6) (ct_da E r7) (ct_da E r8) (ct_da E r9) (ct_da E r10) (ct_da E r11) (ct_da E r12) (ct_da E r13) (ct_da E r14) (ct_da E r15) (ct_da E r16) (ct_da E r17)) :
    wX_find_14 post J7 e_x2 e_x3 e_f0_wayEnd (ct_da E a1) (ct_da E a2) (ct_da E a3) (ct_da E a4) (ct_da E a5) (ct_da E a6) (ct_da E a7) (ct_da E a8) (ct_da E a9) (ct_da E a10) (ct_da E a11) (ct_da E a12) (ct_da E a13) (ct_da E a14) (ct_da E a15) (ct_da E a16) n e_x4 := by
  subst p_x2 p_x3 p_f0_wayEnd
  have key : ∀ (n : Nat) {e_x4 : Int32} {x4 : Nat} (p_x4 : e_x4 = ct_dec E x4), mf_wX_find_14 k_post k_J7 x2 x3 f0_wayEnd a1 a2 a3 a4 a5 a6 a7 a8 a9 a10 a11 a12 a13 a14 a15 a16 n x4 = true → wX_find_14 post J7 (ct_dec E x2) (ct_dec E x3) (ct_dec E f0_wayEnd) (ct_da E a1) (ct_da E a2) (ct_da E a3) (ct_da E a4) (ct_da E a5) (ct_da E a6) (ct_da E a7) (ct_da E a8) (ct_da E a9) (ct_da E a10) (ct_da E a11) (ct_da E a12) (ct_da E a13) (ct_da E a14) (ct_da E a15) (ct_da E a16) n e_x4 := by
    intro n
    induction n with
    | zero =>
      intro e_x4 x4 p_x4 h
      exact Bool.noConfusion (show false = true from h)
    | succ n ih =>
      intro e_x4 x4 p_x4 h
      subst p_x4
      replace h : mb_wX_find_14 k_post k_J7 x2 x3 f0_wayEnd a1 a2 a3 a4 a5 a6 a7 a8 a9 a10 a11 a12 a13 a14 a15 a16 (mf_wX_find_14 k_post k_J7 x2 x3 f0_wayEnd a1 a2 a3 a4 a5 a6 a7 a8 a9 a10 a11 a12 a13 a14 a15 a16 n) x4 = true := h
      unfold mb_wX_find_14 at h
      unfold wX_find_14
      refine ct_inS (by decide) (ct_v E x3) h (fun t1 q1 l1 h => ?_)
      refine ct_leS (ct_rd a1 q1 l1) (ct_v E x4) h (fun h => ?_) (fun h => ?_)
      · exact mt_wX_find_46 E (ct_v E x2) (ct_v E x3) (ct_v E x4) (ct_v E f0_wayEnd) h h_post h_J7
      · refine ct_inS (by decide) (ct_add (ct_mul (x := 5) (k := 5) rfl (ct_v E x3)) (ct_v E x4)) h (fun t2 q2 l2 h => ?_)
        refine ct_leS (ct_v E x2) (ct_rd a2 q2 l2) h (fun h => ?_) (fun h => ?_)
        · exact mt_wX_find_46 E (ct_v E x2) (ct_v E x3) (ct_v E x4) (ct_v E f0_wayEnd) h h_post h_J7
        · refine ct_let (ct_add (ct_v E x4) (ct_l1 E)) h (fun x4_64 h => ?_)
          exact ih (ct_v E x4_64) h
  exact key n p_x4 h

noncomputable def mb_wX_find_7 (k_post : Nat → Nat → Nat → Nat → Nat → Nat → Nat → Nat → Nat → Nat → Nat → Nat → Nat → Nat → Nat → Nat → Nat → Nat → Bool) (x2 : Nat) (ih : Nat → Nat → Nat → Nat → Nat → Nat → Nat → Nat → Nat → Nat → Nat → Nat → Nat → Nat → Nat → Nat → Nat → Nat → Bool) (x3 : Nat) (f0_wayEnd : Nat) (a1 : Nat) (a2 : Nat) (a3 : Nat) (a4 : Nat) (a5 : Nat) (a6 : Nat) (a7 : Nat) (a8 : Nat) (a9 : Nat) (a10 : Nat) (a11 : Nat) (a12 : Nat) (a13 : Nat) (a14 : Nat) (a15 : Nat) (a16 : Nat) : Bool :=
  ct_lt x3 0 (k_post 0 f0_wayEnd a1 a2 a3 a4 a5 a6 a7 a8 a9 a10 a11 a12 a13 a14 a15 a16) (mf_wX_find_14 k_post ih x2 x3 f0_wayEnd a1 a2 a3 a4 a5 a6 a7 a8 a9 a10 a11 a12 a13 a14 a15 a16 128 0)
noncomputable def mf_wX_find_7 (k_post : Nat → Nat → Nat → Nat → Nat → Nat → Nat → Nat → Nat → Nat → Nat → Nat → Nat → Nat → Nat → Nat → Nat → Nat → Bool) (x2 : Nat) (n : Nat) : Nat → Nat → Nat → Nat → Nat → Nat → Nat → Nat → Nat → Nat → Nat → Nat → Nat → Nat → Nat → Nat → Nat → Nat → Bool :=
  Nat.rec (motive := fun _ => Nat → Nat → Nat → Nat → Nat → Nat → Nat → Nat → Nat → Nat → Nat → Nat → Nat → Nat → Nat → Nat → Nat → Nat → Bool) (fun _ _ _ _ _ _ _ _ _ _ _ _ _ _ _ _ _ _ => false) (fun _ ih => mb_wX_find_7 k_post x2 ih) n
theorem mt_wX_find_7 (E : Nat × Int32 × Int32) {post : Int32 → St2 → Prop} {k_post : Nat → Nat → Nat → Nat → Nat → Nat → Nat → Nat → Nat → Nat → Nat → Nat → Nat → Nat → Nat → Nat → Nat → Nat → Bool} {e_x2 : Int32} {x2 : Nat} (p_x2 : e_x2 = ct_dec E x2) {n : Nat} {e_x3 : Int32} {x3 : Nat} (p_x3 : e_x3 = ct_dec E x3) {e_f0_wayEnd : Int32} {f0_wayEnd : Nat} (p_f0_wayEnd : e_f0_wayEnd = ct_dec E f0_wayEnd) {a1 : Nat} {a2 : Nat} {a3 : Nat} {a4 : Nat} {a5 : Nat} {a6 : Nat} {a7 : Nat} {a8 : Nat} {a9 : Nat} {a10 : Nat} {a11 : Nat} {a12 : Nat} {a13 : Nat} {a14 : Nat} {a15 : Nat} {a16 : Nat} (h : mf_wX_find_7 k_post x2 n x3 f0_wayEnd a1 a2 a3 a4 a5 a6 a7 a8 a9 a10 a11 a12 a13 a14 a15 a16 = true) (h_post : ∀ r0 r1 r2 r3 r4 r5 r6 r7 r8 r9 r10 r11 r12 r13 r14 r15 r16 r17 : Nat, k_post r0 r1 r2 r3 r4 r5 r6 r7 r8 r9 r10 r11 r12 r13 r14 r15 r16 r17 = true → post (ct_dec E r0) (ct_dec E r1, ct_da E r2, ct_da E r3, ct_da E r4, ct_da E r5, ct_da E r6, ct_da E r7, ct_da E r8, ct_da E r9, ct_da E r10, ct_da E r11, ct_da E r12, ct_da E r13, ct_da E r14, ct_da E r15, ct_da E r16, ct_da E r17)) :
    wX_find_7 post e_x2 n e_x3 e_f0_wayEnd (ct_da E a1) (ct_da E a2) (ct_da E a3) (ct_da E a4) (ct_da E a5) (ct_da E a6) (ct_da E a7) (ct_da E a8) (ct_da E a9) (ct_da E a10) (ct_da E a11) (ct_da E a12) (ct_da E a13) (ct_da E a14) (ct_da E a15) (ct_da E a16) := by
  subst p_x2
  have key : ∀ (n : Nat) {e_x3 : Int32} {x3 : Nat} (p_x3 : e_x3 = ct_dec E x3) {e_f0_wayEnd : Int32} {f0_wayEnd : Nat} (p_f0_wayEnd : e_f0_wayEnd = ct_dec E f0_wayEnd) {a1 : Nat} {a2 : Nat} {a3 : Nat} {a4 : Nat} {a5 : Nat} {a6 : Nat} {a7 : Nat} {a8 : Nat} {a9 : Nat} {a10 : Nat} {a11 : Nat} {a12 : Nat} {a13 : Nat} {a14 : Nat} {a15 : Nat} {a16 : Nat}, mf_wX_find_7 k_post x2 n x3 f0_wayEnd a1 a2 a3 a4 a5 a6 a7 a8 a9 a10 a11 a12 a13 a14 a15 a16 = true → wX_find_7 post (ct_dec E x2) n e_x3 e_f0_wayEnd (ct_da E a1) (ct_da E a2) (ct_da E a3) (ct_da E a4) (ct_da E a5) (ct_da E a6) (ct_da E a7) (ct_da E a8) (ct_da E a9) (ct_da E a10) (ct_da E a11) (ct_da E a12) (ct_da E a13) (ct_da E a14) (ct_da E a15) (ct_da E a16) := by
    intro n
    induction n with
    | zero =>
      intro e_x3 x3 p_x3 e_f0_wayEnd f0_wayEnd p_f0_wayEnd a1 a2 a3 a4 a5 a6 a7 a8 a9 a10 a11 a12 a13 a14 a15 a16 h
      exact Bool.noConfusion (show false = true from h)
    | succ n ih =>
      intro e_x3 x3 p_x3 e_f0_wayEnd f0_wayEnd p_f0_wayEnd a1 a2 a3 a4 a5 a6 a7 a8 a9 a10 a11 a12 a13 a14 a15 a16 h
      subst p_x3 p_f0_wayEnd
      replace h : mb_wX_find_7 k_post x2 (mf_wX_find_7 k_post x2 n) x3 f0_wayEnd a1 a2 a3 a4 a5 a6 a7 a8 a9 a10 a11 a12 a13 a14 a15 a16 = true := h
      unfold mb_wX_find_7 at h
      unfold wX_find_7
      refine ct_ltS (ct_v E x3) (ct_l0 E) h (fun h => ?_) (fun h => ?_)
      · refine ct_sub (P := fun z => post z ((ct_dec E f0_wayEnd, ct_da E a1, ct_da E a2, ct_da E a3, ct_da E a4, ct_da E a5, ct_da E a6, ct_da E a7, ct_da E a8, ct_da E a9, ct_da E a10, ct_da E a11, ct_da E a12, ct_da E a13, ct_da E a14, ct_da E a15, ct_da E a16))) (ct_l0 E) ?_
        exact h_post _ _ _ _ _ _ _ _ _ _ _ _ _ _ _ _ _ _ h
      · refine ⟨128, ?_⟩
        exact mt_wX_find_14 E (ct_v E x2) (ct_v E x3) (ct_v E f0_wayEnd) (ct_l0 E) h h_post (fun j0 j1 j2 j3 j4 j5 j6 j7 j8 j9 j10 j11 j12 j13 j14 j15 j16 j17 h => ih (ct_v E j0) (ct_v E j1) h)
  exact key n p_x3 p_f0_wayEnd h

noncomputable def mf_wpX_find (k_post : Nat → Nat → Nat → Nat → Nat → Nat → Nat → Nat → Nat → Nat → Nat → Nat → Nat → Nat → Nat → Nat → Nat → Nat → Bool) (f0_wayEnd : Nat) (a1 : Nat) (a2 : Nat) (a3 : Nat) (a4 : Nat) (a5 : Nat) (a6 : Nat) (a7 : Nat) (a8 : Nat) (a9 : Nat) (a10 : Nat) (a11 : Nat) (a12 : Nat) (a13 : Nat) (a14 : Nat) (a15 : Nat) (a16 : Nat) (p0 : Nat) (p1 : Nat) : Bool :=
  mf_wX_find_7 k_post p1 128 p0 0 a1 a2 a3 a4 a5 a6 a7 a8 a9 a10 a11 a12 a13 a14 a15 a16
theorem mt_wpX_find (E : Nat × Int32 × Int32) {post : Int32 → St2 → Prop} {k_post : Nat → Nat → Nat → Nat → Nat → Nat → Nat → Nat → Nat → Nat → Nat → Nat → Nat → Nat → Nat → Nat → Nat → Nat → Bool} {f0_wayEnd a1 a2 a3 a4 a5 a6 a7 a8 a9 a10 a11 a12 a13 a14 a15 a16 : Nat} {e_p0 : Int32} {p0 : Nat} (p_p0 : e_p0 = ct_dec E p0) {e_p1 : Int32} {p1 : Nat} (p_p1 : e_p1 = ct_dec E p1) (h : mf_wpX_find k_post f0_wayEnd a1 a2 a3 a4 a5 a6 a7 a8 a9 a10 a11 a12 a13 a14 a15 a16 p0 p1 = true) (h_post : ∀ r0 r1 r2 r3 r4 r5 r6 r7 r8 r9 r10 r11 r12 r13 r14 r15 r16 r17 : Nat, k_post r0 r1 r2 r3 r4 r5 r6 r7 r8 r9 r10 r11 r12 r13 r14 r15 r16 r17 = true → post (ct_dec E r0) (ct_dec E r1, ct_da E r2, ct_da E r3, ct_da E r4, ct_da E r5, ct_da E r6, ct_da E r7, ct_da E r8, ct_da E r9, ct_da E r10, ct_da E r11, ct_da E r12, ct_da E r13, ct_da E r14, ct_da E r15, ct_da E r16, ct_da E r17)) :
    wpX_find post (ct_dec E f0_wayEnd, ct_da E a1, ct_da E a2, ct_da E a3, ct_da E a4, ct_da E a5, ct_da E a6, ct_da E a7, ct_da E a8, ct_da E a9, ct_da E a10, ct_da E a11, ct_da E a12, ct_da E a13, ct_da E a14, ct_da E a15, ct_da E a16) e_p0 e_p1 := by
  subst p_p0 p_p1
  unfold mf_wpX_find at h
  unfold wpX_find
  refine ⟨128, ?_⟩
  exact mt_wX_find_7 E (ct_v E p1) (ct_v E p0) (ct_l0 E) h h_post

noncomputable def mb_wX_markTree_49 (k_post : Nat → Nat → Nat → Nat → Nat → Nat → Nat → Nat → Nat → Nat → Nat → Nat → Nat → Nat → Nat → Nat → Nat → Bool) (k_J10 : Nat → Nat → Nat → Nat → Nat → Nat → Nat → Nat → Nat → Nat → Nat → Nat → Nat → Nat → Nat → Nat → Nat → Bool) (x3 : Nat) (f0_wayEnd : Nat) (ih : Nat → Nat → Nat → Nat → Nat → Nat → Nat → Nat → Nat → Nat → Nat → Nat → Nat → Nat → Nat → Nat → Nat → Nat → Bool) (x2 : Nat) (x4 : Nat) (a1 : Nat) (a2 : Nat) (a3 : Nat) (a4 : Nat) (a5 : Nat) (a6 : Nat) (a7 : Nat) (a8 : Nat) (a9 : Nat) (a10 : Nat) (a11 : Nat) (a12 : Nat) (a13 : Nat) (a14 : Nat) (a15 : Nat) (a16 : Nat) : Bool :=
  ct_in x3 100 fun t1 => ct_lt (ct_gt a1 t1) x4 (k_J10 x2 a1 a2 a3 a4 a5 a6 a7 a8 a9 a10 a11 a12 a13 a14 a15 a16) (ct_in (ct_ad (ct_ml 6 x3) x4) 600 fun t2 => ct_in x2 100 fun t3 => ct_by (ct_gt a4 t2) fun b4 => ct_fc (ct_st a16 t3 b4) fun a16_15 => ct_fc (ct_ad x2 1) fun x2_16 => ct_fc (ct_ad x4 1) fun x4_17 => ih x2_16 x4_17 a1 a2 a3 a4 a5 a6 a7 a8 a9 a10 a11 a12 a13 a14 a15 a16_15)
noncomputable def mf_wX_markTree_49 (k_post : Nat → Nat → Nat → Nat → Nat → Nat → Nat → Nat → Nat → Nat → Nat → Nat → Nat → Nat → Nat → Nat → Nat → Bool) (k_J10 : Nat → Nat → Nat → Nat → Nat → Nat → Nat → Nat → Nat → Nat → Nat → Nat → Nat → Nat → Nat → Nat → Nat → Bool) (x3 : Nat) (f0_wayEnd : Nat) (n : Nat) : Nat → Nat → Nat → Nat → Nat → Nat → Nat → Nat → Nat → Nat → Nat → Nat → Nat → Nat → Nat → Nat → Nat → Nat → Bool :=
  Nat.rec (motive := fun _ => Nat → Nat → Nat → Nat → Nat → Nat → Nat → Nat → Nat → Nat → Nat → Nat → Nat → Nat → Nat → Nat → Nat → Nat → Bool) (fun _ _ _ _ _ _ _ _ _ _ _ _ _ _ _ _ _ _ => false) (fun _ ih => mb_wX_markTree_49 k_post k_J10 x3 f0_wayEnd ih) n
theorem mt_wX_markTree_49 (E : Nat × Int32 × Int32) {post : St2 → Prop} {k_post : Nat → Nat → Nat → Nat → Nat → Nat → Nat → Nat → Nat → Nat → Nat → Nat → Nat → Nat → Nat → Nat → Nat → Bool} {J10 : Int32 → (Nat → Int32) → (Nat → Int32) → (Nat → Int32) → (Nat → Int32) → (Nat → Int32) → (Nat → Int32) → (Nat → Int32) → (Nat → Int32) → (Nat → Int32) → (Nat → Int32) → (Nat → Int32) → (Nat → Int32) → (Nat → Int32) → (Nat → Int32) → (Nat → Int32) → (Nat → Int32) → Prop} {k_J10 : Nat → Nat → Nat → Nat → Nat → Nat → Nat → Nat → Nat → Nat → Nat → Nat → Nat → Nat → Nat → Nat → Nat → Bool} {e_x3 : Int32} {x3 : Nat} (p_x3 : e_x3 = ct_dec E x3) {e_f0_wayEnd : Int32} {f0_wayEnd : Nat} (p_f0_wayEnd : e_f0_wayEnd = ct_dec E f0_wayEnd) {n : Nat} {e_x2 : Int32} {x2 : Nat} (p_x2 : e_x2 = ct_dec E x2) {e_x4 : Int32} {x4 : Nat} (p_x4 : e_x4 = ct_dec E x4) {a1 : Nat} {a2 : Nat} {a3 : Nat} {a4 : Nat} {a5 : Nat} {a6 : Nat} {a7 : Nat} {a8 : Nat} {a9 : Nat} {a10 : Nat} {a11 : Nat} {a12 : Nat} {a13 : Nat} {a14 : Nat} {a15 : Nat} {a16 : Nat} (h : mf_wX_markTree_49 k_post k_J10 x3 f0_wayEnd n x2 x4 a1 a2 a3 a4 a5 a6 a7 a8 a9 a10 a11 a12 a13 a14 a15 a16 = true) (h_post : ∀ r0 r1 r2 r3 r4 r5 r6 r7 r8 r9 r10 r11 r12 r13 r14 r15 r16 : Nat, k_post r0 r1 r2 r3 r4 r5 r6 r7 r8 r9 r10 r11 r12 r13 r14 r15 r16 = true → post (ct_dec E r0, ct_da E r1, ct_da E r2, ct_da E r3, ct_da E r4, ct_da E r5, ct_da E r6, ct_da E r7, ct_da E r8, ct_da E r9, ct_da E r10, ct_da E r11, ct_da E r12, ct_da E r13, ct_da E r14, ct_da E r15, ct_da E r16)) (h_J10 : ∀ r0 r1 r2 r3 r4 r5 r6 r7 r8 r9 r10 r11 r12 r13 r14 r15 r16 : Nat, k_J10 r0 r1 r2 r3 r4 r5 r6 r7 r8 r9 r10 r11 r12 r13 r14 r15 r16 = true → J10 (ct_dec E r0) (ct_da E r1) (ct_da E r2) (ct_da E r3) (ct_da E r4) (ct_da E r5) (ct_da E r6) (ct_da E r7) (ct_da E r8) (ct_da E r9) (ct_da E r10) (ct_da E r11) (ct_da E r12) (ct_da E r13) (ct_da E r14) (ct_da E r15) (ct_da E r16)) :
    wX_markTree_49 post J10 e_x3 e_f0_wayEnd n e_x2 e_x4 (ct_da E a1) (ct_da E a2) (ct_da E a3) (ct_da E a4) (ct_da E a5) (ct_da E a6) (ct_da E a7) (ct_da E a8) (ct_da E a9) (ct_da E a10) (ct_da E a11) (ct_da E a12) (ct_da E a13) (ct_da E a14) (ct_da E a15) (ct_da E a16) := by
  subst p_x3 p_f0_wayEnd
  have key : ∀ (n : Nat) {e_x2 : Int32} {x2 : Nat} (p_x2 : e_x2 = ct_dec E x2) {e_x4 : Int32} {x4 : Nat} (p_x4 : e_x4 = ct_dec E x4) {a1 : Nat} {a2 : Nat} {a3 : Nat} {a4 : Nat} {a5 : Nat} {a6 : Nat} {a7 : Nat} {a8 : Nat} {a9 : Nat} {a10 : Nat} {a11 : Nat} {a12 : Nat} {a13 : Nat} {a14 : Nat} {a15 : Nat} {a16 : Nat}, mf_wX_markTree_49 k_post k_J10 x3 f0_wayEnd n x2 x4 a1 a2 a3 a4 a5 a6 a7 a8 a9 a10 a11 a12 a13 a14 a15 a16 = true → wX_markTree_49 post J10 (ct_dec E x3) (ct_dec E f0_wayEnd) n e_x2 e_x4 (ct_da E a1) (ct_da E a2) (ct_da E a3) (ct_da E a4) (ct_da E a5) (ct_da E a6) (ct_da E a7) (ct_da E a8) (ct_da E a9) (ct_da E a10) (ct_da E a11) (ct_da E a12) (ct_da E a13) (ct_da E a14) (ct_da E a15) (ct_da E a16) := by
    intro n
    induction n with
    | zero =>
      intro e_x2 x2 p_x2 e_x4 x4 p_x4 a1 a2 a3 a4 a5 a6 a7 a8 a9 a10 a11 a12 a13 a14 a15 a16 h
      exact Bool.noConfusion (show false = true from h)
    | succ n ih =>
      intro e_x2 x2 p_x2 e_x4 x4 p_x4 a1 a2 a3 a4 a5 a6 a7 a8 a9 a10 a11 a12 a13 a14 a15 a16 h
      subst p_x2 p_x4
      replace h : mb_wX_markTree_49 k_post k_J10 x3 f0_wayEnd (mf_wX_markTree_49 k_post k_J10 x3 f0_wayEnd n) x2 x4 a1 a2 a3 a4 a5 a6 a7 a8 a9 a10 a11 a12 a13 a14 a15 a16 = true := h
      unfold mb_wX_markTree_49 at h
      unfold wX_markTree_49
      refine ct_inS (by decide) (ct_v E x3) h (fun t1 q1 l1 h => ?_)
      refine ct_ltS (ct_rd a1 q1 l1) (ct_v E x4) h (fun h => ?_) (fun h => ?_)
      · exact h_J10 _ _ _ _ _ _ _ _ _ _ _ _ _ _ _ _ _ h
      · refine ct_inS (by decide) (ct_add (ct_mul (x := 6) (k := 6) rfl (ct_v E x3)) (ct_v E x4)) h (fun t2 q2 l2 h => ?_)
        refine ct_inS (by decide) (ct_v E x2) h (fun t3 q3 l3 h => ?_)
        refine ct_byS (ct_rd a4 q2 l2) h (fun b4 hb4 h => ?_)
        refine ct_leta (ct_up a16 q3 l3 hb4) h (fun a16_15 h => ?_)
        refine ct_let (ct_add (ct_v E x2) (ct_l1 E)) h (fun x2_16 h => ?_)
        refine ct_let (ct_add (ct_v E x4) (ct_l1 E)) h (fun x4_17 h => ?_)
        exact ih (ct_v E x2_16) (ct_v E x4_17) h
  exact key n p_x2 p_x4 h

noncomputable def mb_wX_markTree_10 (k_post : Nat → Nat → Nat → Nat → Nat → Nat → Nat → Nat → Nat → Nat → Nat → Nat → Nat → Nat → Nat → Nat → Nat → Bool) (f0_wayEnd : Nat) (ih : Nat → Nat → Nat → Nat → Nat → Nat → Nat → Nat → Nat → Nat → Nat → Nat → Nat → Nat → Nat → Nat → Nat → Bool) (x2 : Nat) (a1 : Nat) (a2 : Nat) (a3 : Nat) (a4 : Nat) (a5 : Nat) (a6 : Nat) (a7 : Nat) (a8 : Nat) (a9 : Nat) (a10 : Nat) (a11 : Nat) (a12 : Nat) (a13 : Nat) (a14 : Nat) (a15 : Nat) (a16 : Nat) : Bool :=
  ct_le x2 0 (k_post f0_wayEnd a1 a2 a3 a4 a5 a6 a7 a8 a9 a10 a11 a12 a13 a14 a15 a16) (ct_fc (ct_ad x2 4294967295) fun x2_4 => ct_in x2_4 100 fun t1 => ct_fc (ct_gt a16 t1) fun x3_6 => ct_in x3_6 100 fun t2 => ct_fc (ct_st a6 t2 1) fun a6_8 => ct_in (ct_ml 6 x3_6) 600 fun t3 => ct_le 0 (ct_gt a4 t3) (mf_wX_markTree_49 k_post ih x3_6 f0_wayEnd 128 x2_4 0 a1 a2 a3 a4 a5 a6_8 a7 a8 a9 a10 a11 a12 a13 a14 a15 a16) (ih x2_4 a1 a2 a3 a4 a5 a6_8 a7 a8 a9 a10 a11 a12 a13 a14 a15 a16))
noncomputable def mf_wX_markTree_10 (k_post : Nat → Nat → Nat → Nat → Nat → Nat → Nat → Nat → Nat → Nat → Nat → Nat → Nat → Nat → Nat → Nat → Nat → Bool) (f0_wayEnd : Nat) (n : Nat) : Nat → Nat → Nat → Nat → Nat → Nat → Nat → Nat → Nat → Nat → Nat → Nat → Nat → Nat → Nat → Nat → Nat → Bool :=
  Nat.rec (motive := fun _ => Nat → Nat → Nat → Nat → Nat → Nat → Nat → Nat → Nat → Nat → Nat → Nat → Nat → Nat → Nat → Nat → Nat → Bool) (fun _ _ _ _ _ _ _ _ _ _ _ _ _ _ _ _ _ => false) (fun _ ih => mb_wX_markTree_10 k_post f0_wayEnd ih) n
theorem mt_wX_markTree_10 (E : Nat × Int32 × Int32) {post : St2 → Prop} {k_post : Nat → Nat → Nat → Nat → Nat → Nat → Nat → Nat → Nat → Nat → Nat → Nat → Nat → Nat → Nat → Nat → Nat → Bool} {e_f0_wayEnd : Int32} {f0_wayEnd : Nat} (p_f0_wayEnd : e_f0_wayEnd = ct_dec E f0_wayEnd) {n : Nat} {e_x2 : Int32} {x2 : Nat} (p_x2 : e_x2 = ct_dec E x2) {a1 : Nat} {a2 : Nat} {a3 : Nat} {a4 : Nat} {a5 : Nat} {a6 : Nat} {a7 : Nat} {a8 : Nat} {a9 : Nat} {a10 : Nat} {a11 : Nat} {a12 : Nat} {a13 : Nat} {a14 : Nat} {a15 : Nat} {a16 : Nat} (h : mf_wX_markTree_10 k_post f0_wayEnd n x2 a1 a2 a3 a4 a5 a6 a7 a8 a9 a10 a11 a12 a13 a14 a15 a16 = true) (h_post : ∀ r0 r1 r2 r3 r4 r5 r6 r7 r8 r9 r10 r11 r12 r13 r14 r15 r16 : Nat, k_post r0 r1 r2 r3 r4 r5 r6 r7 r8 r9 r10 r11 r12 r13 r14 r15 r16 = true → post (ct_dec E r0, ct_da E r1, ct_da E r2, ct_da E r3, ct_da E r4, ct_da E r5, ct_da E r6, ct_da E r7, ct_da E r8, ct_da E r9, ct_da E r10, ct_da E r11, ct_da E r12, ct_da E r13, ct_da E r14, ct_da E r15, ct_da E r16)) :
    wX_markTree_10 post e_f0_wayEnd n e_x2 (ct_da E a1) (ct_da E a2) (ct_da E a3) (ct_da E a4) (ct_da E a5) (ct_da E a6) (ct_da E a7) (ct_da E a8) (ct_da E a9) (ct_da E a10) (ct_da E a11) (ct_da E a12) (ct_da E a13) (ct_da E a14) (ct_da E a15) (ct_da E a16) := by
  subst p_f0_wayEnd
  have key : ∀ (n : Nat) {e_x2 : Int32} {x2 : Nat} (p_x2 : e_x2 = ct_dec E x2) {a1 : Nat} {a2 : Nat} {a3 : Nat} {a4 : Nat} {a5 : Nat} {a6 : Nat} {a7 : Nat} {a8 : Nat} {a9 : Nat} {a10 : Nat} {a11 : Nat} {a12 : Nat} {a13 : Nat} {a14 : Nat} {a15 : Nat} {a16 : Nat}, mf_wX_markTree_10 k_post f0_wayEnd n x2 a1 a2 a3 a4 a5 a6 a7 a8 a9 a10 a11 a12 a13 a14 a15 a16 = true → wX_markTree_10 post (ct_dec E f0_wayEnd) n e_x2 (ct_da E a1) (ct_da E a2) (ct_da E a3) (ct_da E a4) (ct_da E a5) (ct_da E a6) (ct_da E a7) (ct_da E a8) (ct_da E a9) (ct_da E a10) (ct_da E a11) (ct_da E a12) (ct_da E a13) (ct_da E a14) (ct_da E a15) (ct_da E a16) := by
    intro n
    induction n with
    | zero =>
      intro e_x2 x2 p_x2 a1 a2 a3 a4 a5 a6 a7 a8 a9 a10 a11 a12 a13 a14 a15 a16 h
      exact Bool.noConfusion (show false = true from h)
    | succ n ih =>
      intro e_x2 x2 p_x2 a1 a2 a3 a4 a5 a6 a7 a8 a9 a10 a11 a12 a13 a14 a15 a16 h
      subst p_x2
      replace h : mb_wX_markTree_10 k_post f0_wayEnd (mf_wX_markTree_10 k_post f0_wayEnd n) x2 a1 a2 a3 a4 a5 a6 a7 a8 a9 a10 a11 a12 a13 a14 a15 a16 = true := h
      unfold mb_wX_markTree_10 at h
      unfold wX_markTree_10
      refine ct_leS (ct_v E x2) (ct_l0 E) h (fun h => ?_) (fun h => ?_)
      · exact h_post _ _ _ _ _ _ _ _ _ _ _ _ _ _ _ _ _ h
      · refine ct_let (ct_add (ct_v E x2) (ct_m1 E)) h (fun x2_4 h => ?_)
        refine ct_inS (by decide) (ct_v E x2_4) h (fun t1 q1 l1 h => ?_)
        refine ct_let (ct_rd a16 q1 l1) h (fun x3_6 h => ?_)
        refine ct_inS (by decide) (ct_v E x3_6) h (fun t2 q2 l2 h => ?_)
        refine ct_leta (ct_up a6 q2 l2 (ct_l1 E)) h (fun a6_8 h => ?_)
        refine ct_inS (by decide) (ct_mul (x := 6) (k := 6) rfl (ct_v E x3_6)) h (fun t3 q3 l3 h => ?_)
        refine ct_leS (ct_l0 E) (ct_rd a4 q3 l3) h (fun h => ?_) (fun h => ?_)
        · refine ⟨128, ?_⟩
          exact mt_wX_markTree_49 E (ct_v E x3_6) (ct_v E f0_wayEnd) (ct_v E x2_4) (ct_l0 E) h h_post (fun j0 j1 j2 j3 j4 j5 j6 j7 j8 j9 j10 j11 j12 j13 j14 j15 j16 h => ih (ct_v E j0) h)
        · exact ih (ct_v E x2_4) h
  exact key n p_x2 h

noncomputable def mf_wpX_markTree (k_post : Nat → Nat → Nat → Nat → Nat → Nat → Nat → Nat → Nat → Nat → Nat → Nat → Nat → Nat → Nat → Nat → Nat → Bool) (f0_wayEnd : Nat) (a1 : Nat) (a2 : Nat) (a3 : Nat) (a4 : Nat) (a5 : Nat) (a6 : Nat) (a7 : Nat) (a8 : Nat) (a9 : Nat) (a10 : Nat) (a11 : Nat) (a12 : Nat) (a13 : Nat) (a14 : Nat) (a15 : Nat) (a16 : Nat) (p0 : Nat) : Bool :=
  ct_by p0 fun b1 => ct_fc (ct_st a16 0 b1) fun a16_2 => mf_wX_markTree_10 k_post f0_wayEnd 128 1 a1 a2 a3 a4 a5 a6 a7 a8 a9 a10 a11 a12 a13 a14 a15 a16_2
theorem mt_wpX_markTree (E : Nat × Int32 × Int32) {post : St2 → Prop} {k_post : Nat → Nat → Nat → Nat → Nat → Nat → Nat → Nat → Nat → Nat → Nat → Nat → Nat → Nat → Nat → Nat → Nat → Bool} {f0_wayEnd a1 a2 a3 a4 a5 a6 a7 a8 a9 a10 a11 a12 a13 a14 a15 a16 : Nat} {e_p0 : Int32} {p0 : Nat} (p_p0 : e_p0 = ct_dec E p0) (h : mf_wpX_markTree k_post f0_wayEnd a1 a2 a3 a4 a5 a6 a7 a8 a9 a10 a11 a12 a13 a14 a15 a16 p0 = true) (h_post : ∀ r0 r1 r2 r3 r4 r5 r6 r7 r8 r9 r10 r11 r12 r13 r14 r15 r16 : Nat, k_post r0 r1 r2 r3 r4 r5 r6 r7 r8 r9 r10 r11 r12 r13 r14 r15 r16 = true → post (ct_dec E r0, ct_da E r1, ct_da E r2, ct_da E r3, ct_da E r4, ct_da E r5, ct_da E r6, ct_da E r7, ct_da E r8, ct_da E r9, ct_da E r10, ct_da E r11, ct_da E r12, ct_da E r13, ct_da E r14, ct_da E r15, ct_da E r16)) :
    wpX_markTree post (ct_dec E f0_wayEnd, ct_da E a1, ct_da E a2, ct_da E a3, ct_da E a4, ct_da E a5, ct_da E a6, ct_da E a7, ct_da E a8, ct_da E a9, ct_da E a10, ct_da E a11, ct_da E a12, ct_da E a13, ct_da E a14, ct_da E a15, ct_da E a16) e_p0 := by
  subst p_p0
  unfold mf_wpX_markTree at h
  unfold wpX_markTree
  refine ct_byS (ct_v E p0) h (fun b1 hb1 h => ?_)
  refine ct_leta (ct_uk a16 0 hb1) h (fun a16_2 h => ?_)
  refine ⟨128, ?_⟩
  exact mt_wX_markTree_10 E (ct_v E f0_wayEnd) (ct_l1 E) h h_post

noncomputable def mb_wX_findUsed_55 (k_post : Nat → Nat → Nat → Nat → Nat → Nat → Nat → Nat → Nat → Nat → Nat → Nat → Nat → Nat → Nat → Nat → Nat → Bool) (ih : Nat → Nat → Nat → Nat → Nat → Nat → Nat → Nat → Nat → Nat → Nat → Nat → Nat → Nat → Nat → Nat → Nat → Nat → Bool) (x1 : Nat) (f0_wayEnd : Nat) (a1 : Nat) (a2 : Nat) (a3 : Nat) (a4 : Nat) (a5 : Nat) (a6 : Nat) (a7 : Nat) (a8 : Nat) (a9 : Nat) (a10 : Nat) (a11 : Nat) (a12 : Nat) (a13 : Nat) (a14 : Nat) (a15 : Nat) (a16 : Nat) : Bool :=
  ct_le 2 x1 (k_post f0_wayEnd a1 a2 a3 a4 a5 a6 a7 a8 a9 a10 a11 a12 a13 a14 a15 a16) (ct_in x1 2 fun t1 => ct_eq (ct_gt a10 t1) 0 (ct_fc (ct_ad x1 1) fun x1_6 => ih x1_6 f0_wayEnd a1 a2 a3 a4 a5 a6 a7 a8 a9 a10 a11 a12 a13 a14 a15 a16) (ct_in x1 2 fun t2 => ct_lt (ct_gt a7 t2) 0 (ct_fc (ct_ad x1 1) fun x1_9 => ih x1_9 f0_wayEnd a1 a2 a3 a4 a5 a6 a7 a8 a9 a10 a11 a12 a13 a14 a15 a16) (ct_in x1 2 fun t3 => ct_fc (ct_gt a7 t3) fun y4 => mf_wpX_markTree (fun f0_wayEnd_12 am851_15 am852_18 am853_21 am854_24 am855_27 am856_30 am857_33 am858_36 am859_39 am8510_42 am8511_45 am8512_48 am8513_51 am8514_54 am8515_57 am8516_60 => ct_fc (ct_ad x1 1) fun x1_61 => ih x1_61 f0_wayEnd_12 am851_15 am852_18 am853_21 am854_24 am855_27 am856_30 am857_33 am858_36 am859_39 am8510_42 am8511_45 am8512_48 am8513_51 am8514_54 am8515_57 am8516_60) f0_wayEnd a1 a2 a3 a4 a5 a6 a7 a8 a9 a10 a11 a12 a13 a14 a15 a16 y4)))
noncomputable def mf_wX_findUsed_55 (k_post : Nat → Nat → Nat → Nat → Nat → Nat → Nat → Nat → Nat → Nat → Nat → Nat → Nat → Nat → Nat → Nat → Nat → Bool) (n : Nat) : Nat → Nat → Nat → Nat → Nat → Nat → Nat → Nat → Nat → Nat → Nat → Nat → Nat → Nat → Nat → Nat → Nat → Nat → Bool :=
  Nat.rec (motive := fun _ => Nat → Nat → Nat → Nat → Nat → Nat → Nat → Nat → Nat → Nat → Nat → Nat → Nat → Nat → Nat → Nat → Nat → Nat → Bool) (fun _ _ _ _ _ _ _ _ _ _ _ _ _ _ _ _ _ _ => false) (fun _ ih => mb_wX_findUsed_55 k_post ih) n
theorem mt_wX_findUsed_55 (E : Nat × Int32 × Int32) {post : St2 → Prop} {k_post : Nat → Nat → Nat → Nat → Nat → Nat → Nat → Nat → Nat → Nat → Nat → Nat → Nat → Nat → Nat → Nat → Nat → Bool} {n : Nat} {e_x1 : Int32} {x1 : Nat} (p_x1 : e_x1 = ct_dec E x1) {e_f0_wayEnd : Int32} {f0_wayEnd : Nat} (p_f0_wayEnd : e_f0_wayEnd = ct_dec E f0_wayEnd) {a1 : Nat} {a2 : Nat} {a3 : Nat} {a4 : Nat} {a5 : Nat} {a6 : Nat} {a7 : Nat} {a8 : Nat} {a9 : Nat} {a10 : Nat} {a11 : Nat} {a12 : Nat} {a13 : Nat} {a14 : Nat} {a15 : Nat} {a16 : Nat} (h : mf_wX_findUsed_55 k_post n x1 f0_wayEnd a1 a2 a3 a4 a5 a6 a7 a8 a9 a10 a11 a12 a13 a14 a15 a16 = true) (h_post : ∀ r0 r1 r2 r3 r4 r5 r6 r7 r8 r9 r10 r11 r12 r13 r14 r15 r16 : Nat, k_post r0 r1 r2 r3 r4 r5 r6 r7 r8 r9 r10 r11 r12 r13 r14 r15 r16 = true → post (ct_dec E r0, ct_da E r1, ct_da E r2, ct_da E r3, ct_da E r4, ct_da E r5, ct_da E r6, ct_da E r7, ct_da E r8, ct_da E r9, ct_da E r10, ct_da E r11, ct_da E r12, ct_da E r13, ct_da E r14, ct_da E r15, ct_da E r16)) :
    wX_findUsed_55 post n e_x1 e_f0_wayEnd (ct_da E a1) (ct_da E a2) (ct_da E a3) (ct_da E a4) (ct_da E a5) (ct_da E a6) (ct_da E a7) (ct_da E a8) (ct_da E a9) (ct_da E a10) (ct_da E a11) (ct_da E a12) (ct_da E a13) (ct_da E a14) (ct_da E a15) (ct_da E a16) := by
  have key : ∀ (n : Nat) {e_x1 : Int32} {x1 : Nat} (p_x1 : e_x1 = ct_dec E x1) {e_f0_wayEnd : Int32} {f0_wayEnd : Nat} (p_f0_wayEnd : e_f0_wayEnd = ct_dec E f0_wayEnd) {a1 : Nat} {a2 : Nat} {a3 : Nat} {a4 : Nat} {a5 : Nat} {a6 : Nat} {a7 : Nat} {a8 : Nat} {a9 : Nat} {a10 : Nat} {a11 : Nat} {a12 : Nat} {a13 : Nat} {a14 : Nat} {a15 : Nat} {a16 : Nat}, mf_wX_findUsed_55 k_post n x1 f0_wayEnd a1 a2 a3 a4 a5 a6 a7 a8 a9 a10 a11 a12 a13 a14 a15 a16 = true → wX_findUsed_55 post n e_x1 e_f0_wayEnd (ct_da E a1) (ct_da E a2) (ct_da E a3) (ct_da E a4) (ct_da E a5) (ct_da E a6) (ct_da E a7) (ct_da E a8) (ct_da E a9) (ct_da E a10) (ct_da E a11) (ct_da E a12) (ct_da E a13) (ct_da E a14) (ct_da E a15) (ct_da E a16) := by
    intro n
    induction n with
    | zero =>
      intro e_x1 x1 p_x1 e_f0_wayEnd f0_wayEnd p_f0_wayEnd a1 a2 a3 a4 a5 a6 a7 a8 a9 a10 a11 a12 a13 a14 a15 a16 h
      exact Bool.noConfusion (show false = true from h)
    | succ n ih =>
      intro e_x1 x1 p_x1 e_f0_wayEnd f0_wayEnd p_f0_wayEnd a1 a2 a3 a4 a5 a6 a7 a8 a9 a10 a11 a12 a13 a14 a15 a16 h
      subst p_x1 p_f0_wayEnd
      replace h : mb_wX_findUsed_55 k_post (mf_wX_findUsed_55 k_post n) x1 f0_wayEnd a1 a2 a3 a4 a5 a6 a7 a8 a9 a10 a11 a12 a13 a14 a15 a16 = true := h
      unfold mb_wX_findUsed_55 at h
      unfold wX_findUsed_55
      refine ct_leS (ct_l2 E) (ct_v E x1) h (fun h => ?_) (fun h => ?_)
      · exact h_post _ _ _ _ _ _ _ _ _ _ _ _ _ _ _ _ _ h
      · refine ct_inS (by decide) (ct_v E x1) h (fun t1 q1 l1 h => ?_)
        refine ct_eqS (ct_rd a10 q1 l1) (ct_l0 E) h (fun h => ?_) (fun h => ?_)
        · refine ct_let (ct_add (ct_v E x1) (ct_l1 E)) h (fun x1_6 h => ?_)
          exact ih (ct_v E x1_6) (ct_v E f0_wayEnd) h
        · refine ct_inS (by decide) (ct_v E x1) h (fun t2 q2 l2 h => ?_)
          refine ct_ltS (ct_rd a7 q2 l2) (ct_l0 E) h (fun h => ?_) (fun h => ?_)
          · refine ct_let (ct_add (ct_v E x1) (ct_l1 E)) h (fun x1_9 h => ?_)
            exact ih (ct_v E x1_9) (ct_v E f0_wayEnd) h
          · refine ct_inS (by decide) (ct_v E x1) h (fun t3 q3 l3 h => ?_)
            replace h := ct_fcE h
            refine mt_wpX_markTree E (ct_rd a7 q3 l3) h (fun f0_wayEnd_12 am851_15 am852_18 am853_21 am854_24 am855_27 am856_30 am857_33 am858_36 am859_39 am8510_42 am8511_45 am8512_48 am8513_51 am8514_54 am8515_57 am8516_60 h => ?_)
            refine ct_let (ct_add (ct_v E x1) (ct_l1 E)) h (fun x1_61 h => ?_)
            exact ih (ct_v E x1_61) (ct_v E f0_wayEnd_12) h
  exact key n p_x1 p_f0_wayEnd h

noncomputable def mb_wX_findUsed_23 (k_post : Nat → Nat → Nat → Nat → Nat → Nat → Nat → Nat → Nat → Nat → Nat → Nat → Nat → Nat → Nat → Nat → Nat → Bool) (ih : Nat → Nat → Nat → Nat → Nat → Nat → Nat → Nat → Nat → Nat → Nat → Nat → Nat → Nat → Nat → Nat → Nat → Nat → Bool) (x1 : Nat) (f0_wayEnd : Nat) (a1 : Nat) (a2 : Nat) (a3 : Nat) (a4 : Nat) (a5 : Nat) (a6 : Nat) (a7 : Nat) (a8 : Nat) (a9 : Nat) (a10 : Nat) (a11 : Nat) (a12 : Nat) (a13 : Nat) (a14 : Nat) (a15 : Nat) (a16 : Nat) : Bool :=
  ct_le 4 x1 (mf_wX_findUsed_55 k_post 128 0 f0_wayEnd a1 a2 a3 a4 a5 a6 a7 a8 a9 a10 a11 a12 a13 a14 a15 a16) (ct_in x1 4 fun t1 => ct_lt (ct_gt a11 t1) 0 (ct_fc (ct_ad x1 1) fun x1_64 => ih x1_64 f0_wayEnd a1 a2 a3 a4 a5 a6 a7 a8 a9 a10 a11 a12 a13 a14 a15 a16) (ct_in x1 4 fun t2 => ct_fc (ct_gt a11 t2) fun y3 => mf_wpX_markTree (fun f0_wayEnd_67 am441_70 am442_73 am443_76 am444_79 am445_82 am446_85 am447_88 am448_91 am449_94 am4410_97 am4411_100 am4412_103 am4413_106 am4414_109 am4415_112 am4416_115 => ct_fc (ct_ad x1 1) fun x1_116 => ih x1_116 f0_wayEnd_67 am441_70 am442_73 am443_76 am444_79 am445_82 am446_85 am447_88 am448_91 am449_94 am4410_97 am4411_100 am4412_103 am4413_106 am4414_109 am4415_112 am4416_115) f0_wayEnd a1 a2 a3 a4 a5 a6 a7 a8 a9 a10 a11 a12 a13 a14 a15 a16 y3))
noncomputable def mf_wX_findUsed_23 (k_post : Nat → Nat → Nat → Nat → Nat → Nat → Nat → Nat → Nat → Nat → Nat → Nat → Nat → Nat → Nat → Nat → Nat → Bool) (n : Nat) : Nat → Nat → Nat → Nat → Nat → Nat → Nat → Nat → Nat → Nat → Nat → Nat → Nat → Nat → Nat → Nat → Nat → Nat → Bool :=
  Nat.rec (motive := fun _ => Nat → Nat → Nat → Nat → Nat → Nat → Nat → Nat → Nat → Nat → Nat → Nat → Nat → Nat → Nat → Nat → Nat → Nat → Bool) (fun _ _ _ _ _ _ _ _ _ _ _ _ _ _ _ _ _ _ => false) (fun _ ih => mb_wX_findUsed_23 k_post ih) n
theorem mt_wX_findUsed_23 (E : Nat × Int32 × Int32) {post : St2 → Prop} {k_post : Nat → Nat → Nat → Nat → Nat → Nat → Nat → Nat → Nat → Nat → Nat → Nat → Nat → Nat → Nat → Nat → Nat → Bool} {n : Nat} {e_x1 : Int32} {x1 : Nat} (p_x1 : e_x1 = ct_dec E x1) {e_f0_wayEnd : Int32} {f0_wayEnd : Nat} (p_f0_wayEnd : e_f0_wayEnd = ct_dec E f0_wayEnd) {a1 : Nat} {a2 : Nat} {a3 : Nat} {a4 : Nat} {a5 : Nat} {a6 : Nat} {a7 : Nat} {a8 : Nat} {a9 : Nat} {a10 : Nat} {a11 : Nat} {a12 : Nat} {a13 : Nat} {a14 : Nat} {a15 : Nat} {a16 : Nat} (h : mf_wX_findUsed_23 k_post n x1 f0_wayEnd a1 a2 a3 a4 a5 a6 a7 a8 a9 a10 a11 a12 a13 a14 a15 a16 = true) (h_post : ∀ r0 r1 r2 r3 r4 r5 r6 r7 r8 r9 r10 r11 r12 r13 r14 r15 r16 : Nat, k_post r0 r1 r2 r3 r4 r5 r6 r7 r8 r9 r10 r11 r12 r13 r14 r15 r16 = true → post (ct_dec E r0, ct_da E r1, ct_da E r2, ct_da E r3, ct_da E r4, ct_da E r5, ct_da E r6, ct_da E r7, ct_da E r8, ct_da E r9, ct_da E r10, ct_da E r11, ct_da E r12, ct_da E r13, ct_da E r14, ct_da E r15, ct_da E r16)) :
    wX_findUsed_23 post n e_x1 e_f0_wayEnd (ct_da E a1) (ct_da E a2) (ct_da E a3) (ct_da E a4) (ct_da E a5) (ct_da E a6) (ct_da E a7) (ct_da E a8) (ct_da E a9) (ct_da E a10) (ct_da E a11) (ct_da E a12) (ct_da E a13) (ct_da E a14) (ct_da E a15) (ct_da E a16) := by
  have key : ∀ (n : Nat) {e_x1 : Int32} {x1 : Nat} (p_x1 : e_x1 = ct_dec E x1) {e_f0_wayEnd : Int32} {f0_wayEnd : Nat} (p_f0_wayEnd : e_f0_wayEnd = ct_dec E f0_wayEnd) {a1 : Nat} {a2 : Nat} {a3 : Nat} {a4 : Nat} {a5 : Nat} {a6 : Nat} {a7 : Nat} {a8 : Nat} {a9 : Nat} {a10 : Nat} {a11 : Nat} {a12 : Nat} {a13 : Nat} {a14 : Nat} {a15 : Nat} {a16 : Nat}, mf_wX_findUsed_23 k_post n x1 f0_wayEnd a1 a2 a3 a4 a5 a6 a7 a8 a9 a10 a11 a12 a13 a14 a15 a16 = true → wX_findUsed_23 post n e_x1 e_f0_wayEnd (ct_da E a1) (ct_da E a2) (ct_da E a3) (ct_da E a4) (ct_da E a5) (ct_da E a6) (ct_da E a7) (ct_da E a8) (ct_da E a9) (ct_da E a10) (ct_da E a11) (ct_da E a12) (ct_da E a13) (ct_da E a14) (ct_da E a15) (ct_da E a16) := by
    intro n
    induction n with
    | zero =>
      intro e_x1 x1 p_x1 e_f0_wayEnd f0_wayEnd p_f0_wayEnd a1 a2 a3 a4 a5 a6 a7 a8 a9 a10 a11 a12 a13 a14 a15 a16 h
      exact Bool.noConfusion (show false = true from h)
    | succ n ih =>
      intro e_x1 x1 p_x1 e_f0_wayEnd f0_wayEnd p_f0_wayEnd a1 a2 a3 a4 a5 a6 a7 a8 a9 a10 a11 a12 a13 a14 a15 a16 h
      subst p_x1 p_f0_wayEnd
      replace h : mb_wX_findUsed_23 k_post (mf_wX_findUsed_23 k_post n) x1 f0_wayEnd a1 a2 a3 a4 a5 a6 a7 a8 a9 a10 a11 a12 a13 a14 a15 a16 = true := h
      unfold mb_wX_findUsed_23 at h
      unfold wX_findUsed_23
      refine ct_leS (ct_l4 E) (ct_v E x1) h (fun h => ?_) (fun h => ?_)
      · refine ⟨128, ?_⟩
        exact mt_wX_findUsed_55 E (ct_l0 E) (ct_v E f0_wayEnd) h h_post
      · refine ct_inS (by decide) (ct_v E x1) h (fun t1 q1 l1 h => ?_)
        refine ct_ltS (ct_rd a11 q1 l1) (ct_l0 E) h (fun h => ?_) (fun h => ?_)
        · refine ct_let (ct_add (ct_v E x1) (ct_l1 E)) h (fun x1_64 h => ?_)
          exact ih (ct_v E x1_64) (ct_v E f0_wayEnd) h
        · refine ct_inS (by decide) (ct_v E x1) h (fun t2 q2 l2 h => ?_)
          replace h := ct_fcE h
          refine mt_wpX_markTree E (ct_rd a11 q2 l2) h (fun f0_wayEnd_67 am441_70 am442_73 am443_76 am444_79 am445_82 am446_85 am447_88 am448_91 am449_94 am4410_97 am4411_100 am4412_103 am4413_106 am4414_109 am4415_112 am4416_115 h => ?_)
          refine ct_let (ct_add (ct_v E x1) (ct_l1 E)) h (fun x1_116 h => ?_)
          exact ih (ct_v E x1_116) (ct_v E f0_wayEnd_67) h
  exact key n p_x1 p_f0_wayEnd h

noncomputable def mb_wX_findUsed_2 (k_post : Nat → Nat → Nat → Nat → Nat → Nat → Nat → Nat → Nat → Nat → Nat → Nat → Nat → Nat → Nat → Nat → Nat → Bool) (f0_wayEnd : Nat) (ih : Nat → Nat → Nat → Nat → Nat → Nat → Nat → Nat → Nat → Nat → Nat → Nat → Nat → Nat → Nat → Nat → Nat → Bool) (x1 : Nat) (a1 : Nat) (a2 : Nat) (a3 : Nat) (a4 : Nat) (a5 : Nat) (a6 : Nat) (a7 : Nat) (a8 : Nat) (a9 : Nat) (a10 : Nat) (a11 : Nat) (a12 : Nat) (a13 : Nat) (a14 : Nat) (a15 : Nat) (a16 : Nat) : Bool :=
  ct_le 100 x1 (mf_wX_findUsed_23 k_post 128 0 f0_wayEnd a1 a2 a3 a4 a5 a6 a7 a8 a9 a10 a11 a12 a13 a14 a15 a16) (ct_in x1 100 fun t1 => ct_fc (ct_st a6 t1 0) fun a6_118 => ct_fc (ct_ad x1 1) fun x1_119 => ih x1_119 a1 a2 a3 a4 a5 a6_118 a7 a8 a9 a10 a11 a12 a13 a14 a15 a16)
noncomputable def mf_wX_findUsed_2 (k_post : Nat → Nat → Nat → Nat → Nat → Nat → Nat → Nat → Nat → Nat → Nat → Nat → Nat → Nat → Nat → Nat → Nat → Bool) (f0_wayEnd : Nat) (n : Nat) : Nat → Nat → Nat → Nat → Nat → Nat → Nat → Nat → Nat → Nat → Nat → Nat → Nat → Nat → Nat → Nat → Nat → Bool :=
  Nat.rec (motive := fun _ => Nat → Nat → Nat → Nat → Nat → Nat → Nat → Nat → Nat → Nat → Nat → Nat → Nat → Nat → Nat → Nat → Nat → Bool) (fun _ _ _ _ _ _ _ _ _ _ _ _ _ _ _ _ _ => false) (fun _ ih => mb_wX_findUsed_2 k_post f0_wayEnd ih) n
theorem mt_wX_findUsed_2 (E : Nat × Int32 × Int32) {post : St2 → Prop} {k_post : Nat → Nat → Nat → Nat → Nat → Nat → Nat → Nat → Nat → Nat → Nat → Nat → Nat → Nat → Nat → Nat → Nat → Bool} {e_f0_wayEnd : Int32} {f0_wayEnd : Nat} (p_f0_wayEnd : e_f0_wayEnd = ct_dec E f0_wayEnd) {n : Nat} {e_x1 : Int32} {x1 : Nat} (p_x1 : e_x1 = ct_dec E x1) {a1 : Nat} {a2 : Nat} {a3 : Nat} {a4 : Nat} {a5 : Nat} {a6 : Nat} {a7 : Nat} {a8 : Nat} {a9 : Nat} {a10 : Nat} {a11 : Nat} {a12 : Nat} {a13 : Nat} {a14 : Nat} {a15 : Nat} {a16 : Nat} (h : mf_wX_findUsed_2 k_post f0_wayEnd n x1 a1 a2 a3 a4 a5 a6 a7 a8 a9 a10 a11 a12 a13 a14 a15 a16 = true) (h_post : ∀ r0 r1 r2 r3 r4 r5 r6 r7 r8 r9 r10 r11 r12 r13 r14 r15 r16 : Nat, k_post r0 r1 r2 r3 r4 r5 r6 r7 r8 r9 r10 r11 r12 r13 r14 r15 r16 = true → post (ct_dec E r0, ct_da E r1, ct_da E r2, ct_da E r3, ct_da E r4, ct_da E r5, ct_da E r6, ct_da E r7, ct_da E r8, ct_da E r9, ct_da E r10, ct_da E r11, ct_da E r12, ct_da E r13, ct_da E r14, ct_da E r15, ct_da E r16)) :
    wX_findUsed_2 post e_f0_wayEnd n e_x1 (ct_da E a1) (ct_da E a2) (ct_da E a3) (ct_da E a4) (ct_da E a5) (ct_da E a6) (ct_da E a7) (ct_da E a8) (ct_da E a9) (ct_da E a10) (ct_da E a11) (ct_da E a12) (ct_da E a13) (ct_da E a14) (ct_da E a15) (ct_da E a16) := by
  subst p_f0_wayEnd
  have key : ∀ (n : Nat) {e_x1 : Int32} {x1 : Nat} (p_x1 : e_x1 = ct_dec E x1) {a1 : Nat} {a2 : Nat} {a3 : Nat} {a4 : Nat} {a5 : Nat} {a6 : Nat} {a7 : Nat} {a8 : Nat} {a9 : Nat} {a10 : Nat} {a11 : Nat} {a12 : Nat} {a13 : Nat} {a14 : Nat} {a15 : Nat} {a16 : Nat}, mf_wX_findUsed_2 k_post f0_wayEnd n x1 a1 a2 a3 a4 a5 a6 a7 a8 a9 a10 a11 a12 a13 a14 a15 a16 = true → wX_findUsed_2 post (ct_dec E f0_wayEnd) n e_x1 (ct_da E a1) (ct_da E a2) (ct_da E a3) (ct_da E a4) (ct_da E a5) (ct_da E a6) (ct_da E a7) (ct_da E a8) (ct_da E a9) (ct_da E a10) (ct_da E a11) (ct_da E a12) (ct_da E a13) (ct_da E a14) (ct_da E a15) (ct_da E a16) := by
    intro n
    induction n with
    | zero =>
      intro e_x1 x1 p_x1 a1 a2 a3 a4 a5 a6 a7 a8 a9 a10 a11 a12 a13 a14 a15 a16 h
      exact Bool.noConfusion (show false = true from h)
    | succ n ih =>
      intro e_x1 x1 p_x1 a1 a2 a3 a4 a5 a6 a7 a8 a9 a10 a11 a12 a13 a14 a15 a16 h
      subst p_x1
      replace h : mb_wX_findUsed_2 k_post f0_wayEnd (mf_wX_findUsed_2 k_post f0_wayEnd n) x1 a1 a2 a3 a4 a5 a6 a7 a8 a9 a10 a11 a12 a13 a14 a15 a16 = true := h
      unfold mb_wX_findUsed_2 at h
      unfold wX_findUsed_2
      refine ct_leS (ct_l100 E) (ct_v E x1) h (fun h => ?_) (fun h => ?_)
      · refine ⟨128, ?_⟩
        exact mt_wX_findUsed_23 E (ct_l0 E) (ct_v E f0_wayEnd) h h_post
      · refine ct_inS (by decide) (ct_v E x1) h (fun t1 q1 l1 h => ?_)
        refine ct_leta (ct_up a6 q1 l1 (ct_l0 E)) h (fun a6_118 h => ?_)
        refine ct_let (ct_add (ct_v E x1) (ct_l1 E)) h (fun x1_119 h => ?_)
        exact ih (ct_v E x1_119) h
  exact key n p_x1 h

noncomputable def mf_wpX_findUsed (k_post : Nat → Nat → Nat → Nat → Nat → Nat → Nat → Nat → Nat → Nat → Nat → Nat → Nat → Nat → Nat → Nat → Nat → Bool) (f0_wayEnd : Nat) (a1 : Nat) (a2 : Nat) (a3 : Nat) (a4 : Nat) (a5 : Nat) (a6 : Nat) (a7 : Nat) (a8 : Nat) (a9 : Nat) (a10 : Nat) (a11 : Nat) (a12 : Nat) (a13 : Nat) (a14 : Nat) (a15 : Nat) (a16 : Nat) : Bool :=
  mf_wX_findUsed_2 k_post f0_wayEnd 128 0 a1 a2 a3 a4 a5 a6 a7 a8 a9 a10 a11 a12 a13 a14 a15 a16
theorem mt_wpX_findUsed (E : Nat × Int32 × Int32) {post : St2 → Prop} {k_post : Nat → Nat → Nat → Nat → Nat → Nat → Nat → Nat → Nat → Nat → Nat → Nat → Nat → Nat → Nat → Nat → Nat → Bool} {f0_wayEnd a1 a2 a3 a4 a5 a6 a7 a8 a9 a10 a11 a12 a13 a14 a15 a16 : Nat} (h : mf_wpX_findUsed k_post f0_wayEnd a1 a2 a3 a4 a5 a6 a7 a8 a9 a10 a11 a12 a13 a14 a15 a16 = true) (h_post : ∀ r0 r1 r2 r3 r4 r5 r6 r7 r8 r9 r10 r11 r12 r13 r14 r15 r16 : Nat, k_post r0 r1 r2 r3 r4 r5 r6 r7 r8 r9 r10 r11 r12 r13 r14 r15 r16 = true → post (ct_dec E r0, ct_da E r1, ct_da E r2, ct_da E r3, ct_da E r4, ct_da E r5, ct_da E r6, ct_da E r7, ct_da E r8, ct_da E r9, ct_da E r10, ct_da E r11, ct_da E r12, ct_da E r13, ct_da E r14, ct_da E r15, ct_da E r16)) :
    wpX_findUsed post (ct_dec E f0_wayEnd, ct_da E a1, ct_da E a2, ct_da E a3, ct_da E a4, ct_da E a5, ct_da E a6, ct_da E a7, ct_da E a8, ct_da E a9, ct_da E a10, ct_da E a11, ct_da E a12, ct_da E a13, ct_da E a14, ct_da E a15, ct_da E a16) := by
  unfold mf_wpX_findUsed at h
  unfold wpX_findUsed
  refine ⟨128, ?_⟩
  exact mt_wX_findUsed_2 E (ct_v E f0_wayEnd) (ct_l0 E) h h_post

noncomputable def mf_wX_newPage_36 (k_post : Nat → Nat → Nat → Nat → Nat → Nat → Nat → Nat → Nat → Nat → Nat → Nat → Nat → Nat → Nat → Nat → Nat → Nat → Bool) (x1 : Nat) (f0_wayEnd : Nat) (am11 : Nat) (am12 : Nat) (am13 : Nat) (am14 : Nat) (am15 : Nat) (am16 : Nat) (am17 : Nat) (am18 : Nat) (am19 : Nat) (am110 : Nat) (am111 : Nat) (am112 : Nat) (am113 : Nat) (am114 : Nat) (am115 : Nat) (am116 : Nat) : Bool :=
  ct_in x1 100 fun t1 => ct_fc (ct_st am15 t1 1) fun am15_53 => ct_in x1 100 fun t2 => ct_fc (ct_st am11 t2 0) fun am11_55 => ct_in (ct_ml 6 x1) 600 fun t3 => ct_fc (ct_st am14 t3 4294967295) fun am14_57 => k_post x1 f0_wayEnd am11_55 am12 am13 am14_57 am15_53 am16 am17 am18 am19 am110 am111 am112 am113 am114 am115 am116
theorem mt_wX_newPage_36 (E : Nat × Int32 × Int32) {post : Int32 → St2 → Prop} {k_post : Nat → Nat → Nat → Nat → Nat → Nat → Nat → Nat → Nat → Nat → Nat → Nat → Nat → Nat → Nat → Nat → Nat → Nat → Bool} {e_x1 : Int32} {x1 : Nat} (p_x1 : e_x1 = ct_dec E x1) {e_f0_wayEnd : Int32} {f0_wayEnd : Nat} (p_f0_wayEnd : e_f0_wayEnd = ct_dec E f0_wayEnd) {am11 : Nat} {am12 : Nat} {am13 : Nat} {am14 : Nat} {am15 : Nat} {am16 : Nat} {am17 : Nat} {am18 : Nat} {am19 : Nat} {am110 : Nat} {am111 : Nat} {am112 : Nat} {am113 : Nat} {am114 : Nat} {am115 : Nat} {am116 : Nat} (h : mf_wX_newPage_36 k_post x1 f0_wayEnd am11 am12 am13 am14 am15 am16 am17 am18 am19 am110 am111 am112 am113 am114 am115 am116 = true) (h_post : ∀ r0 r1 r2 r3 r4 r5 r6 r7 r8 r9 r10 r11 r12 r13 r14 r15 r16 r17 : Nat, k_post r0 r1 r2 r3 r4 r5 r6 r7 r8 r9 r10 r11 r12 r13 r14 r15 r16 r17 = true → post (ct_dec E r0) (ct_dec E r1, ct_da E r2, ct_da E r3, ct_da E r4, ct_da E r5, ct_da E r6, ct_da E r7, ct_da E r8, ct_da E r9, ct_da E r10, ct_da E r11, ct_da E r12, ct_da E r13, ct_da E r14, ct_da E r15, ct_da E r16, ct_da E r17)) :
    wX_newPage_36 post e_x1 e_f0_wayEnd (ct_da E am11) (ct_da E am12) (ct_da E am13) (ct_da E am14) (ct_da E am15) (ct_da E am16) (ct_da E am17) (ct_da E am18) (ct_da E am19) (ct_da E am110) (ct_da E am111) (ct_da E am112) (ct_da E am113) (ct_da E am114) (ct_da E am115) (ct_da E am116) := by
  subst p_x1 p_f0_wayEnd
  unfold mf_wX_newPage_36 at h
  unfold wX_newPage_36
  refine ct_inS (by decide) (ct_v E x1) h (fun t1 q1 l1 h => ?_)
  refine ct_leta (ct_up am15 q1 l1 (ct_l1 E)) h (fun am15_53 h => ?_)
  refine ct_inS (by decide) (ct_v E x1) h (fun t2 q2 l2 h => ?_)
  refine ct_leta (ct_up am11 q2 l2 (ct_l0 E)) h (fun am11_55 h => ?_)
  refine ct_inS (by decide) (ct_mul (x := 6) (k := 6) rfl (ct_v E x1)) h (fun t3 q3 l3 h => ?_)
  refine ct_leta (ct_up am14 q3 l3 (ct_m1 E)) h (fun am14_57 h => ?_)
  exact h_post _ _ _ _ _ _ _ _ _ _ _ _ _ _ _ _ _ _ h

noncomputable def mb_wX_newPage_6 (k_post : Nat → Nat → Nat → Nat → Nat → Nat → Nat → Nat → Nat → Nat → Nat → Nat → Nat → Nat → Nat → Nat → Nat → Nat → Bool) (f0_wayEnd : Nat) (am11 : Nat) (am12 : Nat) (am13 : Nat) (am14 : Nat) (am15 : Nat) (am16 : Nat) (am17 : Nat) (am18 : Nat) (am19 : Nat) (am110 : Nat) (am111 : Nat) (am112 : Nat) (am113 : Nat) (am114 : Nat) (am115 : Nat) (am116 : Nat) (ih : Nat → Bool) (x1 : Nat) : Bool :=
  ct_le 99 x1 (mf_wX_newPage_36 k_post x1 f0_wayEnd am11 am12 am13 am14 am15 am16 am17 am18 am19 am110 am111 am112 am113 am114 am115 am116) (ct_in x1 100 fun t1 => ct_eq (ct_gt am16 t1) 0 (ct_in x1 100 fun t2 => ct_eq (ct_gt am15 t2) 0 (mf_wX_newPage_36 k_post x1 f0_wayEnd am11 am12 am13 am14 am15 am16 am17 am18 am19 am110 am111 am112 am113 am114 am115 am116) (ct_fc (ct_ad x1 1) fun x1_63 => ih x1_63)) (ct_fc (ct_ad x1 1) fun x1_60 => ih x1_60))
noncomputable def mf_wX_newPage_6 (k_post : Nat → Nat → Nat → Nat → Nat → Nat → Nat → Nat → Nat → Nat → Nat → Nat → Nat → Nat → Nat → Nat → Nat → Nat → Bool) (f0_wayEnd : Nat) (am11 : Nat) (am12 : Nat) (am13 : Nat) (am14 : Nat) (am15 : Nat) (am16 : Nat) (am17 : Nat) (am18 : Nat) (am19 : Nat) (am110 : Nat) (am111 : Nat) (am112 : Nat) (am113 : Nat) (am114 : Nat) (am115 : Nat) (am116 : Nat) (n : Nat) : Nat → Bool :=
  Nat.rec (motive := fun _ => Nat → Bool) (fun _ => false) (fun _ ih => mb_wX_newPage_6 k_post f0_wayEnd am11 am12 am13 am14 am15 am16 am17 am18 am19 am110 am111 am112 am113 am114 am115 am116 ih) n
theorem mt_wX_newPage_6 (E : Nat × Int32 × Int32) {post : Int32 → St2 → Prop} {k_post : Nat → Nat → Nat → Nat → Nat → Nat → Nat → Nat → Nat → Nat → Nat → Nat → Nat → Nat → Nat → Nat → Nat → Nat → Bool} {e_f0_wayEnd : Int32} {f0_wayEnd : Nat} (p_f0_wayEnd : e_f0_wayEnd = ct_dec E f0_wayEnd) {am11 : Nat} {am12 : Nat} {am13 : Nat} {am14 : Nat} {am15 : Nat} {am16 : Nat} {am17 : Nat} {am18 : Nat} {am19 : Nat} {am110 : Nat} {am111 : Nat} {am112 : Nat} {am113 : Nat} {am114 : Nat} {am115 : Nat} {am116 : Nat} {n : Nat} {e_x1 : Int32} {x1 : Nat} (p_x1 : e_x1 = ct_dec E x1) (h : mf_wX_newPage_6 k_post f0_wayEnd am11 am12 am13 am14 am15 am16 am17 am18 am19 am110 am111 am112 am113 am114 am115 am116 n x1 = true) (h_post : ∀ r0 r1 r2 r3 r4 r5 r6 r7 r8 r9 r10 r11 r12 r13 r14 r15 r16 r17 : Nat, k_post r0 r1 r2 r3 r4 r5 r6 r7 r8 r9 r10 r11 r12 r13 r14 r15 r16 r17 = true → post (ct_dec E r0) (ct_dec E r1, ct_da E r2, ct_da E r3, ct_da E r4, ct_da E r5, ct_da E r6, ct_da E r7, ct_da E r8, ct_da E r9, ct_da E r10, ct_da E r11, ct_da E r12, ct_da E r13, ct_da E r14, ct_da E r15, ct_da E r16, ct_da E r17)) :
    wX_newPage_6 post e_f0_wayEnd (ct_da E am11) (ct_da E am12) (ct_da E am13) (ct_da E am14) (ct_da E am15) (ct_da E am16) (ct_da E am17) (ct_da E am18) (ct_da E am19) (ct_da E am110) (ct_da E am111) (ct_da E am112) (ct_da E am113) (ct_da E am114) (ct_da E am115) (ct_da E am116) n e_x1 := by
  subst p_f0_wayEnd
  have key : ∀ (n : Nat) {e_x1 : Int32} {x1 : Nat} (p_x1 : e_x1 = ct_dec E x1), mf_wX_newPage_6 k_post f0_wayEnd am11 am12 am13 am14 am15 am16 am17 am18 am19 am110 am111 am112 am113 am114 am115 am116 n x1 = true → wX_newPage_6 post (ct_dec E f0_wayEnd) (ct_da E am11) (ct_da E am12) (ct_da E am13) (ct_da E am14) (ct_da E am15) (ct_da E am16) (ct_da E am17) (ct_da E am18) (ct_da E am19) (ct_da E am110) (ct_da E am111) (ct_da E am112) (ct_da E am113) (ct_da E am114) (ct_da E am115) (ct_da E am116) n e_x1 := by
    intro n
    induction n with
    | zero =>
      intro e_x1 x1 p_x1 h
      exact Bool.noConfusion (show false = true from h)
    | succ n ih =>
      intro e_x1 x1 p_x1 h
      subst p_x1
      replace h : mb_wX_newPage_6 k_post f0_wayEnd am11 am12 am13 am14 am15 am16 am17 am18 am19 am110 am111 am112 am113 am114 am115 am116 (mf_wX_newPage_6 k_post f0_wayEnd am11 am12 am13 am14 am15 am16 am17 am18 am19 am110 am111 am112 am113 am114 am115 am116 n) x1 = true := h
      unfold mb_wX_newPage_6 at h
      unfold wX_newPage_6
      refine ct_leS (ct_l99 E) (ct_v E x1) h (fun h => ?_) (fun h => ?_)
      · exact mt_wX_newPage_36 E (ct_v E x1) (ct_v E f0_wayEnd) h h_post
      · refine ct_inS (by decide) (ct_v E x1) h (fun t1 q1 l1 h => ?_)
        refine ct_eqS (ct_rd am16 q1 l1) (ct_l0 E) h (fun h => ?_) (fun h => ?_)
        · refine ct_inS (by decide) (ct_v E x1) h (fun t2 q2 l2 h => ?_)
          refine ct_eqS (ct_rd am15 q2 l2) (ct_l0 E) h (fun h => ?_) (fun h => ?_)
          · exact mt_wX_newPage_36 E (ct_v E x1) (ct_v E f0_wayEnd) h h_post
          · refine ct_let (ct_add (ct_v E x1) (ct_l1 E)) h (fun x1_63 h => ?_)
            exact ih (ct_v E x1_63) h
        · refine ct_let (ct_add (ct_v E x1) (ct_l1 E)) h (fun x1_60 h => ?_)
          exact ih (ct_v E x1_60) h
  exact key n p_x1 h

noncomputable def mf_wpX_newPage (k_post : Nat → Nat → Nat → Nat → Nat → Nat → Nat → Nat → Nat → Nat → Nat → Nat → Nat → Nat → Nat → Nat → Nat → Nat → Bool) (f0_wayEnd : Nat) (a1 : Nat) (a2 : Nat) (a3 : Nat) (a4 : Nat) (a5 : Nat) (a6 : Nat) (a7 : Nat) (a8 : Nat) (a9 : Nat) (a10 : Nat) (a11 : Nat) (a12 : Nat) (a13 : Nat) (a14 : Nat) (a15 : Nat) (a16 : Nat) : Bool :=
  mf_wpX_findUsed (fun f0_wayEnd_2 am11_5 am12_8 am13_11 am14_14 am15_17 am16_20 am17_23 am18_26 am19_29 am110_32 am111_35 am112_38 am113_41 am114_44 am115_47 am116_50 => mf_wX_newPage_6 k_post f0_wayEnd_2 am11_5 am12_8 am13_11 am14_14 am15_17 am16_20 am17_23 am18_26 am19_29 am110_32 am111_35 am112_38 am113_41 am114_44 am115_47 am116_50 128 0) f0_wayEnd a1 a2 a3 a4 a5 a6 a7 a8 a9 a10 a11 a12 a13 a14 a15 a16
theorem mt_wpX_newPage (E : Nat × Int32 × Int32) {post : Int32 → St2 → Prop} {k_post : Nat → Nat → Nat → Nat → Nat → Nat → Nat → Nat → Nat → Nat → Nat → Nat → Nat → Nat → Nat → Nat → Nat → Nat → Bool} {f0_wayEnd a1 a2 a3 a4 a5 a6 a7 a8 a9 a10 a11 a12 a13 a14 a15 a16 : Nat} (h : mf_wpX_newPage k_post f0_wayEnd a1 a2 a3 a4 a5 a6 a7 a8 a9 a10 a11 a12 a13 a14 a15 a16 = true) (h_post : ∀ r0 r1 r2 r3 r4 r5 r6 r7 r8 r9 r10 r11 r12 r13 r14 r15 r16 r17 : Nat, k_post r0 r1 r2 r3 r4 r5 r6 r7 r8 r9 r10 r11 r12 r13 r14 r15 r16 r17 = true → post (ct_dec E r0) (ct_dec E r1, ct_da E r2, ct_da E r3, ct_da E r4, ct_da E r5, ct_da E r6, ct_da E r7, ct_da E r8, ct_da E r9, ct_da E r10, ct_da E r11, ct_da E r12, ct_da E r13, ct_da E r14, ct_da E r15, ct_da E r16, ct_da E r17)) :
    wpX_newPage post (ct_dec E f0_wayEnd, ct_da E a1, ct_da E a2, ct_da E a3, ct_da E a4, ct_da E a5, ct_da E a6, ct_da E a7, ct_da E a8, ct_da E a9, ct_da E a10, ct_da E a11, ct_da E a12, ct_da E a13, ct_da E a14, ct_da E a15, ct_da E a16) := by
  unfold mf_wpX_newPage at h
  unfold wpX_newPage
  refine mt_wpX_findUsed E  h (fun f0_wayEnd_2 am11_5 am12_8 am13_11 am14_14 am15_17 am16_20 am17_23 am18_26 am19_29 am110_32 am111_35 am112_38 am113_41 am114_44 am115_47 am116_50 h => ?_)
  refine ⟨128, ?_⟩
  exact mt_wX_newPage_6 E (ct_v E f0_wayEnd_2) (ct_l0 E) h h_post

noncomputable def mb_wX_freshCopy_83 (k_post : Nat → Nat → Nat → Nat → Nat → Nat → Nat → Nat → Nat → Nat → Nat → Nat → Nat → Nat → Nat → Nat → Nat → Nat → Bool) (x1 : Nat) (x2 : Nat) (f0_wayEnd : Nat) (ih : Nat → Nat → Nat → Nat → Nat → Nat → Nat → Nat → Nat → Nat → Nat → Nat → Nat → Nat → Nat → Nat → Nat → Bool) (x3 : Nat) (am121 : Nat) (am122 : Nat) (am123 : Nat) (am124 : Nat) (am125 : Nat) (am126 : Nat) (am127 : Nat) (am128 : Nat) (am129 : Nat) (am1210 : Nat) (am1211 : Nat) (am1212 : Nat) (am1213 : Nat) (am1214 : Nat) (am1215 : Nat) (am1216 : Nat) : Bool :=
  ct_le 6 x3 (k_post x2 f0_wayEnd am121 am122 am123 am124 am125 am126 am127 am128 am129 am1210 am1211 am1212 am1213 am1214 am1215 am1216) (ct_in (ct_ad (ct_ml 6 x1) x3) 600 fun t1 => ct_in (ct_ad (ct_ml 6 x2) x3) 600 fun t2 => ct_by (ct_gt am124 t1) fun b3 => ct_fc (ct_st am124 t2 b3) fun am124_60 => ct_fc (ct_ad x3 1) fun x3_61 => ih x3_61 am121 am122 am123 am124_60 am125 am126 am127 am128 am129 am1210 am1211 am1212 am1213 am1214 am1215 am1216)
noncomputable def mf_wX_freshCopy_83 (k_post : Nat → Nat → Nat → Nat → Nat → Nat → Nat → Nat → Nat → Nat → Nat → Nat → Nat → Nat → Nat → Nat → Nat → Nat → Bool) (x1 : Nat) (x2 : Nat) (f0_wayEnd : Nat) (n : Nat) : Nat → Nat → Nat → Nat → Nat → Nat → Nat → Nat → Nat → Nat → Nat → Nat → Nat → Nat → Nat → Nat → Nat → Bool :=
  Nat.rec (motive := fun _ => Nat → Nat → Nat → Nat → Nat → Nat → Nat → Nat → Nat → Nat → Nat → Nat → Nat → Nat → Nat → Nat → Nat → Bool) (fun _ _ _ _ _ _ _ _ _ _ _ _ _ _ _ _ _ => false) (fun _ ih => mb_wX_freshCopy_83 k_post x1 x2 f0_wayEnd ih) n
theorem mt_wX_freshCopy_83 (E : Nat × Int32 × Int32) {post : Int32 → St2 → Prop} {k_post : Nat → Nat → Nat → Nat → Nat → Nat → Nat → Nat → Nat → Nat → Nat → Nat → Nat → Nat → Nat → Nat → Nat → Nat → Bool} {e_x1 : Int32} {x1 : Nat} (p_x1 : e_x1 = ct_dec E x1) {e_x2 : Int32} {x2 : Nat} (p_x2 : e_x2 = ct_dec E x2) {e_f0_wayEnd : Int32} {f0_wayEnd : Nat} (p_f0_wayEnd : e_f0_wayEnd = ct_dec E f0_wayEnd) {n : Nat} {e_x3 : Int32} {x3 : Nat} (p_x3 : e_x3 = ct_dec E x3) {am121 : Nat} {am122 : Nat} {am123 : Nat} {am124 : Nat} {am125 : Nat} {am126 : Nat} {am127 : Nat} {am128 : Nat} {am129 : Nat} {am1210 : Nat} {am1211 : Nat} {am1212 : Nat} {am1213 : Nat} {am1214 : Nat} {am1215 : Nat} {am1216 : Nat} (h : mf_wX_freshCopy_83 k_post x1 x2 f0_wayEnd n x3 am121 am122 am123 am124 am125 am126 am127 am128 am129 am1210 am1211 am1212 am1213 am1214 am1215 am1216 = true) (h_post : ∀ r0 r1 r2 r3 r4 r5 r6 r7 r8 r9 r10 r11 r12 r13 r14 r15 r16 r17 : Nat, k_post r0 r1 r2 r3 r4 r5 r6 r7 r8 r9 r10 r11 r12 r13 r14 r15 r16 r17 = true → post (ct_dec E r0) (ct_dec E r1, ct_da E r2, ct_da E r3, ct_da E r4, ct_da E r5, ct_da E r6, ct_da E r7, ct_da E r8, ct_da E r9, ct_da E r10, ct_da E r11, ct_da E r12, ct_da E r13, ct_da E r14, ct_da E r15, ct_da E r16, ct_da E r17)) :
    wX_freshCopy_83 post e_x1 e_x2 e_f0_wayEnd n e_x3 (ct_da E am121) (ct_da E am122) (ct_da E am123) (ct_da E am124) (ct_da E am125) (ct_da E am126) (ct_da E am127) (ct_da E am128) (ct_da E am129) (ct_da E am1210) (ct_da E am1211) (ct_da E am1212) (ct_da E am1213) (ct_da E am1214) (ct_da E am1215) (ct_da E am1216) := by
  subst p_x1 p_x2 p_f0_wayEnd
  have key : ∀ (n : Nat) {e_x3 : Int32} {x3 : Nat} (p_x3 : e_x3 = ct_dec E x3) {am121 : Nat} {am122 : Nat} {am123 : Nat} {am124 : Nat} {am125 : Nat} {am126 : Nat} {am127 : Nat} {am128 : Nat} {am129 : Nat} {am1210 : Nat} {am1211 : Nat} {am1212 : Nat} {am1213 : Nat} {am1214 : Nat} {am1215 : Nat} {am1216 : Nat}, mf_wX_freshCopy_83 k_post x1 x2 f0_wayEnd n x3 am121 am122 am123 am124 am125 am126 am127 am128 am129 am1210 am1211 am1212 am1213 am1214 am1215 am1216 = true → wX_freshCopy_83 post (ct_dec E x1) (ct_dec E x2) (ct_dec E f0_wayEnd) n e_x3 (ct_da E am121) (ct_da E am122) (ct_da E am123) (ct_da E am124) (ct_da E am125) (ct_da E am126) (ct_da E am127) (ct_da E am128) (ct_da E am129) (ct_da E am1210) (ct_da E am1211) (ct_da E am1212) (ct_da E am1213) (ct_da E am1214) (ct_da E am1215) (ct_da E am1216) := by
    intro n
    induction n with
    | zero =>
      intro e_x3 x3 p_x3 am121 am122 am123 am124 am125 am126 am127 am128 am129 am1210 am1211 am1212 am1213 am1214 am1215 am1216 h
      exact Bool.noConfusion (show false = true from h)
    | succ n ih =>
      intro e_x3 x3 p_x3 am121 am122 am123 am124 am125 am126 am127 am128 am129 am1210 am1211 am1212 am1213 am1214 am1215 am1216 h
      subst p_x3
      replace h : mb_wX_freshCopy_83 k_post x1 x2 f0_wayEnd (mf_wX_freshCopy_83 k_post x1 x2 f0_wayEnd n) x3 am121 am122 am123 am124 am125 am126 am127 am128 am129 am1210 am1211 am1212 am1213 am1214 am1215 am1216 = true := h
      unfold mb_wX_freshCopy_83 at h
      unfold wX_freshCopy_83
      refine ct_leS (ct_l6 E) (ct_v E x3) h (fun h => ?_) (fun h => ?_)
      · exact h_post _ _ _ _ _ _ _ _ _ _ _ _ _ _ _ _ _ _ h
      · refine ct_inS (by decide) (ct_add (ct_mul (x := 6) (k := 6) rfl (ct_v E x1)) (ct_v E x3)) h (fun t1 q1 l1 h => ?_)
        refine ct_inS (by decide) (ct_add (ct_mul (x := 6) (k := 6) rfl (ct_v E x2)) (ct_v E x3)) h (fun t2 q2 l2 h => ?_)
        refine ct_byS (ct_rd am124 q1 l1) h (fun b3 hb3 h => ?_)
        refine ct_leta (ct_up am124 q2 l2 hb3) h (fun am124_60 h => ?_)
        refine ct_let (ct_add (ct_v E x3) (ct_l1 E)) h (fun x3_61 h => ?_)
        exact ih (ct_v E x3_61) h
  exact key n p_x3 h
end
section
noncomputable def mb_wX_freshCopy_30 (k_post : Nat → Nat → Nat → Nat → Nat → Nat → Nat → Nat → Nat → Nat → Nat → Nat → Nat → Nat → Nat → Nat → Nat → Nat → Bool) (x1 : Nat) (x2 : Nat) (f0_wayEnd : Nat) (ih : Nat → Nat → Nat → Nat → Nat → Nat → Nat → Nat → Nat → Nat → Nat → Nat → Nat → Nat → Nat → Nat → Nat → Bool) (x3 : Nat) (am121 : Nat) (am122 : Nat) (am123 : Nat) (am124 : Nat) (am125 : Nat) (am126 : Nat) (am127 : Nat) (am128 : Nat) (am129 : Nat) (am1210 : Nat) (am1211 : Nat) (am1212 : Nat) (am1213 : Nat) (am1214 : Nat) (am1215 : Nat) (am1216 : Nat) : Bool :=
  ct_le 5 x3 (mf_wX_freshCopy_83 k_post x1 x2 f0_wayEnd 128 0 am121 am122 am123 am124 am125 am126 am127 am128 am129 am1210 am1211 am1212 am1213 am1214 am1215 am1216) (ct_in (ct_ad (ct_ml 5 x1) x3) 500 fun t1 => ct_in (ct_ad (ct_ml 5 x2) x3) 500 fun t2 => ct_by (ct_gt am122 t1) fun b3 => ct_fc (ct_st am122 t2 b3) fun am122_64 => ct_in (ct_ad (ct_ml 5 x1) x3) 500 fun t4 => ct_in (ct_ad (ct_ml 5 x2) x3) 500 fun t5 => ct_fc (ct_st am123 t5 (ct_gt am123 t4)) fun am123_67 => ct_fc (ct_ad x3 1) fun x3_68 => ih x3_68 am121 am122_64 am123_67 am124 am125 am126 am127 am128 am129 am1210 am1211 am1212 am1213 am1214 am1215 am1216)
noncomputable def mf_wX_freshCopy_30 (k_post : Nat → Nat → Nat → Nat → Nat → Nat → Nat → Nat → Nat → Nat → Nat → Nat → Nat → Nat → Nat → Nat → Nat → Nat → Bool) (x1 : Nat) (x2 : Nat) (f0_wayEnd : Nat) (n : Nat) : Nat → Nat → Nat → Nat → Nat → Nat → Nat → Nat → Nat → Nat → Nat → Nat → Nat → Nat → Nat → Nat → Nat → Bool :=
  Nat.rec (motive := fun _ => Nat → Nat → Nat → Nat → Nat → Nat → Nat → Nat → Nat → Nat → Nat → Nat → Nat → Nat → Nat → Nat → Nat → Bool) (fun _ _ _ _ _ _ _ _ _ _ _ _ _ _ _ _ _ => false) (fun _ ih => mb_wX_freshCopy_30 k_post x1 x2 f0_wayEnd ih) n
theorem mt_wX_freshCopy_30 (E : Nat × Int32 × Int32) {post : Int32 → St2 → Prop} {k_post : Nat → Nat → Nat → Nat → Nat → Nat → Nat → Nat → Nat → Nat → Nat → Nat → Nat → Nat → Nat → Nat → Nat → Nat → Bool} {e_x1 : Int32} {x1 : Nat} (p_x1 : e_x1 = ct_dec E x1) {e_x2 : Int32} {x2 : Nat} (p_x2 : e_x2 = ct_dec E x2) {e_f0_wayEnd : Int32} {f0_wayEnd : Nat} (p_f0_wayEnd : e_f0_wayEnd = ct_dec E f0_wayEnd) {n : Nat} {e_x3 : Int32} {x3 : Nat} (p_x3 : e_x3 = ct_dec E x3) {am121 : Nat} {am122 : Nat} {am123 : Nat} {am124 : Nat} {am125 : Nat} {am126 : Nat} {am127 : Nat} {am128 : Nat} {am129 : Nat} {am1210 : Nat} {am1211 : Nat} {am1212 : Nat} {am1213 : Nat} {am1214 : Nat} {am1215 : Nat} {am1216 : Nat} (h : mf_wX_freshCopy_30 k_post x1 x2 f0_wayEnd n x3 am121 am122 am123 am124 am125 am126 am127 am128 am129 am1210 am1211 am1212 am1213 am1214 am1215 am1216 = true) (h_post : ∀ r0 r1 r2 r3 r4 r5 r6 r7 r8 r9 r10 r11 r12 r13 r14 r15 r16 r17 : Nat, k_post r0 r1 r2 r3 r4 r5 r6 r7 r8 r9 r10 r11 r12 r13 r14 r15 r16 r17 = true → post (ct_dec E r0) (ct_dec E r1, ct_da E r2, ct_da E r3, ct_da E r4, ct_da E r5, ct_da E r6, ct_da E r7, ct_da E r8, ct_da E r9, ct_da E r10, ct_da E r11, ct_da E r12, ct_da E r13, ct_da E r14, ct_da E r15, ct_da E r16, ct_da E r17)) :
    wX_freshCopy_30 post e_x1 e_x2 e_f0_wayEnd n e_x3 (ct_da E am121) (ct_da E am122) (ct_da E am123) (ct_da E am124) (ct_da E am125) (ct_da E am126) (ct_da E am127) (ct_da E am128) (ct_da E am129) (ct_da E am1210) (ct_da E am1211) (ct_da E am1212) (ct_da E am1213) (ct_da E am1214) (ct_da E am1215) (ct_da E am1216) := by
  subst p_x1 p_x2 p_f0_wayEnd
  have key : ∀ (n : Nat) {e_x3 : Int32} {x3 : Nat} (p_x3 : e_x3 = ct_dec E x3) {am121 : Nat} {am122 : Nat} {am123 : Nat} {am124 : Nat} {am125 : Nat} {am126 : Nat} {am127 : Nat} {am128 : Nat} {am129 : Nat} {am1210 : Nat} {am1211 : Nat} {am1212 : Nat} {am1213 : Nat} {am1214 : Nat} {am1215 : Nat} {am1216 : Nat}, mf_wX_freshCopy_30 k_post x1 x2 f0_wayEnd n x3 am121 am122 am123 am124 am125 am126 am127 am128 am129 am1210 am1211 am1212 am1213 am1214 am1215 am1216 = true → wX_freshCopy_30 post (ct_dec E x1) (ct_dec E x2) (ct_dec E f0_wayEnd) n e_x3 (ct_da E am121) (ct_da E am122) (ct_da E am123) (ct_da E am124) (ct_da E am125) (ct_da E am126) (ct_da E am127) (ct_da E am128) (ct_da E am129) (ct_da E am1210) (ct_da E am1211) (ct_da E am1212) (ct_da E am1213) (ct_da E am1214) (ct_da E am1215) (ct_da E am1216) := by
    intro n
    induction n with
    | zero =>
      intro e_x3 x3 p_x3 am121 am122 am123 am124 am125 am126 am127 am128 am129 am1210 am1211 am1212 am1213 am1214 am1215 am1216 h
      exact Bool.noConfusion (show false = true from h)
    | succ n ih =>
      intro e_x3 x3 p_x3 am121 am122 am123 am124 am125 am126 am127 am128 am129 am1210 am1211 am1212 am1213 am1214 am1215 am1216 h
      subst p_x3
      replace h : mb_wX_freshCopy_30 k_post x1 x2 f0_wayEnd (mf_wX_freshCopy_30 k_post x1 x2 f0_wayEnd n) x3 am121 am122 am123 am124 am125 am126 am127 am128 am129 am1210 am1211 am1212 am1213 am1214 am1215 am1216 = true := h
      unfold mb_wX_freshCopy_30 at h
      unfold wX_freshCopy_30
      refine ct_leS (ct_l5 E) (ct_v E x3) h (fun h => ?_) (fun h => ?_)
      · refine ⟨128, ?_⟩
        exact mt_wX_freshCopy_83 E (ct_v E x1) (ct_v E x2) (ct_v E f0_wayEnd) (ct_l0 E) h h_post
      · refine ct_inS (by decide) (ct_add (ct_mul (x := 5) (k := 5) rfl (ct_v E x1)) (ct_v E x3)) h (fun t1 q1 l1 h => ?_)
        refine ct_inS (by decide) (ct_add (ct_mul (x := 5) (k := 5) rfl (ct_v E x2)) (ct_v E x3)) h (fun t2 q2 l2 h => ?_)
        refine ct_byS (ct_rd am122 q1 l1) h (fun b3 hb3 h => ?_)
        refine ct_leta (ct_up am122 q2 l2 hb3) h (fun am122_64 h => ?_)
        refine ct_inS (by decide) (ct_add (ct_mul (x := 5) (k := 5) rfl (ct_v E x1)) (ct_v E x3)) h (fun t4 q4 l4 h => ?_)
        refine ct_inS (by decide) (ct_add (ct_mul (x := 5) (k := 5) rfl (ct_v E x2)) (ct_v E x3)) h (fun t5 q5 l5 h => ?_)
        refine ct_leta (ct_up am123 q5 l5 (ct_rd am123 q4 l4)) h (fun am123_67 h => ?_)
        refine ct_let (ct_add (ct_v E x3) (ct_l1 E)) h (fun x3_68 h => ?_)
        exact ih (ct_v E x3_68) h
  exact key n p_x3 h

noncomputable def mf_wpX_freshCopy (k_post : Nat → Nat → Nat → Nat → Nat → Nat → Nat → Nat → Nat → Nat → Nat → Nat → Nat → Nat → Nat → Nat → Nat → Nat → Bool) (f0_wayEnd : Nat) (a1 : Nat) (a2 : Nat) (a3 : Nat) (a4 : Nat) (a5 : Nat) (a6 : Nat) (a7 : Nat) (a8 : Nat) (a9 : Nat) (a10 : Nat) (a11 : Nat) (a12 : Nat) (a13 : Nat) (a14 : Nat) (a15 : Nat) (a16 : Nat) (p0 : Nat) : Bool :=
  ct_in p0 100 fun t1 => ct_eq (ct_gt a5 t1) 0 (mf_wpX_newPage (fun r_3 f0_wayEnd_4 am121_7 am122_10 am123_13 am124_16 am125_19 am126_22 am127_25 am128_28 am129_31 am1210_34 am1211_37 am1212_40 am1213_43 am1214_46 am1215_49 am1216_52 => ct_in p0 100 fun t2 => ct_in r_3 100 fun t3 => ct_by (ct_gt am121_7 t2) fun b4 => ct_fc (ct_st am121_7 t3 b4) fun am121_55 => mf_wX_freshCopy_30 k_post p0 r_3 f0_wayEnd_4 128 0 am121_55 am122_10 am123_13 am124_16 am125_19 am126_22 am127_25 am128_28 am129_31 am1210_34 am1211_37 am1212_40 am1213_43 am1214_46 am1215_49 am1216_52) f0_wayEnd a1 a2 a3 a4 a5 a6 a7 a8 a9 a10 a11 a12 a13 a14 a15 a16) (k_post p0 f0_wayEnd a1 a2 a3 a4 a5 a6 a7 a8 a9 a10 a11 a12 a13 a14 a15 a16)
theorem mt_wpX_freshCopy (E : Nat × Int32 × Int32) {post : Int32 → St2 → Prop} {k_post : Nat → Nat → Nat → Nat → Nat → Nat → Nat → Nat → Nat → Nat → Nat → Nat → Nat → Nat → Nat → Nat → Nat → Nat → Bool} {f0_wayEnd a1 a2 a3 a4 a5 a6 a7 a8 a9 a10 a11 a12 a13 a14 a15 a16 : Nat} {e_p0 : Int32} {p0 : Nat} (p_p0 : e_p0 = ct_dec E p0) (h : mf_wpX_freshCopy k_post f0_wayEnd a1 a2 a3 a4 a5 a6 a7 a8 a9 a10 a11 a12 a13 a14 a15 a16 p0 = true) (h_post : ∀ r0 r1 r2 r3 r4 r5 r6 r7 r8 r9 r10 r11 r12 r13 r14 r15 r16 r17 : Nat, k_post r0 r1 r2 r3 r4 r5 r6 r7 r8 r9 r10 r11 r12 r13 r14 r15 r16 r17 = true → post (ct_dec E r0) (ct_dec E r1, ct_da E r2, ct_da E r3, ct_da E r4, ct_da E r5, ct_da E r6, ct_da E r7, ct_da E r8, ct_da E r9, ct_da E r10, ct_da E r11, ct_da E r12, ct_da E r13, ct_da E r14, ct_da E r15, ct_da E r16, ct_da E r17)) :
    wpX_freshCopy post (ct_dec E f0_wayEnd, ct_da E a1, ct_da E a2, ct_da E a3, ct_da E a4, ct_da E a5, ct_da E a6, ct_da E a7, ct_da E a8, ct_da E a9, ct_da E a10, ct_da E a11, ct_da E a12, ct_da E a13, ct_da E a14, ct_da E a15, ct_da E a16) e_p0 := by
  subst p_p0
  unfold mf_wpX_freshCopy at h
  unfold wpX_freshCopy
  refine ct_inS (by decide) (ct_v E p0) h (fun t1 q1 l1 h => ?_)
  refine ct_eqS (ct_rd a5 q1 l1) (ct_l0 E) h (fun h => ?_) (fun h => ?_)
  · refine mt_wpX_newPage E  h (fun r_3 f0_wayEnd_4 am121_7 am122_10 am123_13 am124_16 am125_19 am126_22 am127_25 am128_28 am129_31 am1210_34 am1211_37 am1212_40 am1213_43 am1214_46 am1215_49 am1216_52 h => ?_)
    refine ct_inS (by decide) (ct_v E p0) h (fun t2 q2 l2 h => ?_)
    refine ct_inS (by decide) (ct_v E r_3) h (fun t3 q3 l3 h => ?_)
    refine ct_byS (ct_rd am121_7 q2 l2) h (fun b4 hb4 h => ?_)
    refine ct_leta (ct_up am121_7 q3 l3 hb4) h (fun am121_55 h => ?_)
    refine ⟨128, ?_⟩
    exact mt_wX_freshCopy_30 E (ct_v E p0) (ct_v E r_3) (ct_v E f0_wayEnd_4) (ct_l0 E) h h_post
  · exact h_post _ _ _ _ _ _ _ _ _ _ _ _ _ _ _ _ _ _ h

noncomputable def mb_wX_copyWay_2 (k_post : Nat → Nat → Nat → Nat → Nat → Nat → Nat → Nat → Nat → Nat → Nat → Nat → Nat → Nat → Nat → Nat → Nat → Bool) (ih : Nat → Nat → Nat → Nat → Nat → Nat → Nat → Nat → Nat → Nat → Nat → Nat → Nat → Nat → Nat → Nat → Nat → Nat → Bool) (x1 : Nat) (f0_wayEnd : Nat) (a1 : Nat) (a2 : Nat) (a3 : Nat) (a4 : Nat) (a5 : Nat) (a6 : Nat) (a7 : Nat) (a8 : Nat) (a9 : Nat) (a10 : Nat) (a11 : Nat) (a12 : Nat) (a13 : Nat) (a14 : Nat) (a15 : Nat) (a16 : Nat) : Bool :=
  ct_le f0_wayEnd x1 (k_post f0_wayEnd a1 a2 a3 a4 a5 a6 a7 a8 a9 a10 a11 a12 a13 a14 a15 a16) (ct_in x1 8 fun t1 => ct_fc (ct_gt a14 t1) fun y7 => mf_wpX_freshCopy (fun r_3 f0_wayEnd_4 am171_7 am172_10 am173_13 am174_16 am175_19 am176_22 am177_25 am178_28 am179_31 am1710_34 am1711_37 am1712_40 am1713_43 am1714_46 am1715_49 am1716_52 => ct_in x1 8 fun t2 => ct_by r_3 fun b3 => ct_fc (ct_st am1714_46 t2 b3) fun am1714_54 => ct_eq x1 0 (ct_fc (ct_st am1711_37 3 b3) fun am1711_62 => ct_fc (ct_ad x1 1) fun x1_63 => ih x1_63 f0_wayEnd_4 am171_7 am172_10 am173_13 am174_16 am175_19 am176_22 am177_25 am178_28 am179_31 am1710_34 am1711_62 am1712_40 am1713_43 am1714_54 am1715_49 am1716_52) (ct_in (ct_sb x1 1) 8 fun t4 => ct_in (ct_sb x1 1) 8 fun t5 => ct_in (ct_ad (ct_ml 6 (ct_gt am1714_54 t5)) (ct_gt am1715_49 t5)) 600 fun t6 => ct_fc (ct_st am174_16 t6 b3) fun am174_59 => ct_fc (ct_ad x1 1) fun x1_60 => ih x1_60 f0_wayEnd_4 am171_7 am172_10 am173_13 am174_59 am175_19 am176_22 am177_25 am178_28 am179_31 am1710_34 am1711_37 am1712_40 am1713_43 am1714_54 am1715_49 am1716_52)) f0_wayEnd a1 a2 a3 a4 a5 a6 a7 a8 a9 a10 a11 a12 a13 a14 a15 a16 y7)
noncomputable def mf_wX_copyWay_2 (k_post : Nat → Nat → Nat → Nat → Nat → Nat → Nat → Nat → Nat → Nat → Nat → Nat → Nat → Nat → Nat → Nat → Nat → Bool) (n : Nat) : Nat → Nat → Nat → Nat → Nat → Nat → Nat → Nat → Nat → Nat → Nat → Nat → Nat → Nat → Nat → Nat → Nat → Nat → Bool :=
  Nat.rec (motive := fun _ => Nat → Nat → Nat → Nat → Nat → Nat → Nat → Nat → Nat → Nat → Nat → Nat → Nat → Nat → Nat → Nat → Nat → Nat → Bool) (fun _ _ _ _ _ _ _ _ _ _ _ _ _ _ _ _ _ _ => false) (fun _ ih => mb_wX_copyWay_2 k_post ih) n
theorem mt_wX_copyWay_2 (E : Nat × Int32 × Int32) {post : St2 → Prop} {k_post : Nat → Nat → Nat → Nat → Nat → Nat → Nat → Nat → Nat → Nat → Nat → Nat → Nat → Nat → Nat → Nat → Nat → Bool} {n : Nat} {e_x1 : Int32} {x1 : Nat} (p_x1 : e_x1 = ct_dec E x1) {e_f0_wayEnd : Int32} {f0_wayEnd : Nat} (p_f0_wayEnd : e_f0_wayEnd = ct_dec E f0_wayEnd) {a1 : Nat} {a2 : Nat} {a3 : Nat} {a4 : Nat} {a5 : Nat} {a6 : Nat} {a7 : Nat} {a8 : Nat} {a9 : Nat} {a10 : Nat} {a11 : Nat} {a12 : Nat} {a13 : Nat} {a14 : Nat} {a15 : Nat} {a16 : Nat} (h : mf_wX_copyWay_2 k_post n x1 f0_wayEnd a1 a2 a3 a4 a5 a6 a7 a8 a9 a10 a11 a12 a13 a14 a15 a16 = true) (h_post : ∀ r0 r1 r2 r3 r4 r5 r6 r7 r8 r9 r10 r11 r12 r13 r14 r15 r16 : Nat, k_post r0 r1 r2 r3 r4 r5 r6 r7 r8 r9 r10 r11 r12 r13 r14 r15 r16 = true → post (ct_dec E r0, ct_da E r1, ct_da E r2, ct_da E r3, ct_da E r4, ct_da E r5, ct_da E r6, ct_da E r7, ct_da E r8, ct_da E r9, ct_da E r10, ct_da E r11, ct_da E r12, ct_da E r13, ct_da E r14, ct_da E r15, ct_da E r16)) :
    wX_copyWay_2 post n e_x1 e_f0_wayEnd (ct_da E a1) (ct_da E a2) (ct_da E a3) (ct_da E a4) (ct_da E a5) (ct_da E a6) (ct_da E a7) (ct_da E a8) (ct_da E a9) (ct_da E a10) (ct_da E a11) (ct_da E a12) (ct_da E a13) (ct_da E a14) (ct_da E a15) (ct_da E a16) := by
  have key : ∀ (n : Nat) {e_x1 : Int32} {x1 : Nat} (p_x1 : e_x1 = ct_dec E x1) {e_f0_wayEnd : Int32} {f0_wayEnd : Nat} (p_f0_wayEnd : e_f0_wayEnd = ct_dec E f0_wayEnd) {a1 : Nat} {a2 : Nat} {a3 : Nat} {a4 : Nat} {a5 : Nat} {a6 : Nat} {a7 : Nat} {a8 : Nat} {a9 : Nat} {a10 : Nat} {a11 : Nat} {a12 : Nat} {a13 : Nat} {a14 : Nat} {a15 : Nat} {a16 : Nat}, mf_wX_copyWay_2 k_post n x1 f0_wayEnd a1 a2 a3 a4 a5 a6 a7 a8 a9 a10 a11 a12 a13 a14 a15 a16 = true → wX_copyWay_2 post n e_x1 e_f0_wayEnd (ct_da E a1) (ct_da E a2) (ct_da E a3) (ct_da E a4) (ct_da E a5) (ct_da E a6) (ct_da E a7) (ct_da E a8) (ct_da E a9) (ct_da E a10) (ct_da E a11) (ct_da E a12) (ct_da E a13) (ct_da E a14) (ct_da E a15) (ct_da E a16) := by
    intro n
    induction n with
    | zero =>
      intro e_x1 x1 p_x1 e_f0_wayEnd f0_wayEnd p_f0_wayEnd a1 a2 a3 a4 a5 a6 a7 a8 a9 a10 a11 a12 a13 a14 a15 a16 h
      exact Bool.noConfusion (show false = true from h)
    | succ n ih =>
      intro e_x1 x1 p_x1 e_f0_wayEnd f0_wayEnd p_f0_wayEnd a1 a2 a3 a4 a5 a6 a7 a8 a9 a10 a11 a12 a13 a14 a15 a16 h
      subst p_x1 p_f0_wayEnd
      replace h : mb_wX_copyWay_2 k_post (mf_wX_copyWay_2 k_post n) x1 f0_wayEnd a1 a2 a3 a4 a5 a6 a7 a8 a9 a10 a11 a12 a13 a14 a15 a16 = true := h
      unfold mb_wX_copyWay_2 at h
      unfold wX_copyWay_2
      refine ct_leS (ct_v E f0_wayEnd) (ct_v E x1) h (fun h => ?_) (fun h => ?_)
      · exact h_post _ _ _ _ _ _ _ _ _ _ _ _ _ _ _ _ _ h
      · refine ct_inS (by decide) (ct_v E x1) h (fun t1 q1 l1 h => ?_)
        replace h := ct_fcE h
        refine mt_wpX_freshCopy E (ct_rd a14 q1 l1) h (fun r_3 f0_wayEnd_4 am171_7 am172_10 am173_13 am174_16 am175_19 am176_22 am177_25 am178_28 am179_31 am1710_34 am1711_37 am1712_40 am1713_43 am1714_46 am1715_49 am1716_52 h => ?_)
        refine ct_inS (by decide) (ct_v E x1) h (fun t2 q2 l2 h => ?_)
        refine ct_byS (ct_v E r_3) h (fun b3 hb3 h => ?_)
        refine ct_leta (ct_up am1714_46 q2 l2 hb3) h (fun am1714_54 h => ?_)
        refine ct_eqS (ct_v E x1) (ct_l0 E) h (fun h => ?_) (fun h => ?_)
        · refine ct_leta (ct_uk am1711_37 3 hb3) h (fun am1711_62 h => ?_)
          refine ct_let (ct_add (ct_v E x1) (ct_l1 E)) h (fun x1_63 h => ?_)
          exact ih (ct_v E x1_63) (ct_v E f0_wayEnd_4) h
        · refine ct_inS (by decide) (ct_sbb (ct_v E x1) (ct_l1 E)) h (fun t4 q4 l4 h => ?_)
          refine ct_inS (by decide) (ct_sbb (ct_v E x1) (ct_l1 E)) h (fun t5 q5 l5 h => ?_)
          refine ct_inS (by decide) (ct_add (ct_mul (x := 6) (k := 6) rfl (ct_rd am1714_54 q5 l5)) (ct_rd am1715_49 q5 l5)) h (fun t6 q6 l6 h => ?_)
          refine ct_leta (ct_up am174_16 q6 l6 hb3) h (fun am174_59 h => ?_)
          refine ct_let (ct_add (ct_v E x1) (ct_l1 E)) h (fun x1_60 h => ?_)
          exact ih (ct_v E x1_60) (ct_v E f0_wayEnd_4) h
  exact key n p_x1 p_f0_wayEnd h

noncomputable def mf_wpX_copyWay (k_post : Nat → Nat → Nat → Nat → Nat → Nat → Nat → Nat → Nat → Nat → Nat → Nat → Nat → Nat → Nat → Nat → Nat → Bool) (f0_wayEnd : Nat) (a1 : Nat) (a2 : Nat) (a3 : Nat) (a4 : Nat) (a5 : Nat) (a6 : Nat) (a7 : Nat) (a8 : Nat) (a9 : Nat) (a10 : Nat) (a11 : Nat) (a12 : Nat) (a13 : Nat) (a14 : Nat) (a15 : Nat) (a16 : Nat) : Bool :=
  mf_wX_copyWay_2 k_post 128 0 f0_wayEnd a1 a2 a3 a4 a5 a6 a7 a8 a9 a10 a11 a12 a13 a14 a15 a16
theorem mt_wpX_copyWay (E : Nat × Int32 × Int32) {post : St2 → Prop} {k_post : Nat → Nat → Nat → Nat → Nat → Nat → Nat → Nat → Nat → Nat → Nat → Nat → Nat → Nat → Nat → Nat → Nat → Bool} {f0_wayEnd a1 a2 a3 a4 a5 a6 a7 a8 a9 a10 a11 a12 a13 a14 a15 a16 : Nat} (h : mf_wpX_copyWay k_post f0_wayEnd a1 a2 a3 a4 a5 a6 a7 a8 a9 a10 a11 a12 a13 a14 a15 a16 = true) (h_post : ∀ r0 r1 r2 r3 r4 r5 r6 r7 r8 r9 r10 r11 r12 r13 r14 r15 r16 : Nat, k_post r0 r1 r2 r3 r4 r5 r6 r7 r8 r9 r10 r11 r12 r13 r14 r15 r16 = true → post (ct_dec E r0, ct_da E r1, ct_da E r2, ct_da E r3, ct_da E r4, ct_da E r5, ct_da E r6, ct_da E r7, ct_da E r8, ct_da E r9, ct_da E r10, ct_da E r11, ct_da E r12, ct_da E r13, ct_da E r14, ct_da E r15, ct_da E r16)) :
    wpX_copyWay post (ct_dec E f0_wayEnd, ct_da E a1, ct_da E a2, ct_da E a3, ct_da E a4, ct_da E a5, ct_da E a6, ct_da E a7, ct_da E a8, ct_da E a9, ct_da E a10, ct_da E a11, ct_da E a12, ct_da E a13, ct_da E a14, ct_da E a15, ct_da E a16) := by
  unfold mf_wpX_copyWay at h
  unfold wpX_copyWay
  refine ⟨128, ?_⟩
  exact mt_wX_copyWay_2 E (ct_l0 E) (ct_v E f0_wayEnd) h h_post

noncomputable def mb_wX_openPlace_7 (k_post : Nat → Nat → Nat → Nat → Nat → Nat → Nat → Nat → Nat → Nat → Nat → Nat → Nat → Nat → Nat → Nat → Nat → Bool) (x1 : Nat) (x2 : Nat) (f0_wayEnd : Nat) (ih : Nat → Nat → Nat → Nat → Nat → Nat → Nat → Nat → Nat → Nat → Nat → Nat → Nat → Nat → Nat → Nat → Nat → Bool) (x3 : Nat) (a1 : Nat) (a2 : Nat) (a3 : Nat) (a4 : Nat) (a5 : Nat) (a6 : Nat) (a7 : Nat) (a8 : Nat) (a9 : Nat) (a10 : Nat) (a11 : Nat) (a12 : Nat) (a13 : Nat) (a14 : Nat) (a15 : Nat) (a16 : Nat) : Bool :=
  ct_le x3 x2 (ct_in x1 100 fun t1 => ct_in x1 100 fun t2 => ct_by (ct_ad (ct_gt a1 t2) 1) fun b3 => ct_fc (ct_st a1 t2 b3) fun a1_6 => k_post f0_wayEnd a1_6 a2 a3 a4 a5 a6 a7 a8 a9 a10 a11 a12 a13 a14 a15 a16) (ct_in (ct_sb (ct_ad (ct_ml 5 x1) x3) 1) 500 fun t4 => ct_in (ct_ad (ct_ml 5 x1) x3) 500 fun t5 => ct_by (ct_gt a2 t4) fun b6 => ct_fc (ct_st a2 t5 b6) fun a2_9 => ct_in (ct_sb (ct_ad (ct_ml 5 x1) x3) 1) 500 fun t7 => ct_in (ct_ad (ct_ml 5 x1) x3) 500 fun t8 => ct_fc (ct_st a3 t8 (ct_gt a3 t7)) fun a3_12 => ct_fc (ct_ad x3 4294967295) fun x3_13 => ih x3_13 a1 a2_9 a3_12 a4 a5 a6 a7 a8 a9 a10 a11 a12 a13 a14 a15 a16)
noncomputable def mf_wX_openPlace_7 (k_post : Nat → Nat → Nat → Nat → Nat → Nat → Nat → Nat → Nat → Nat → Nat → Nat → Nat → Nat → Nat → Nat → Nat → Bool) (x1 : Nat) (x2 : Nat) (f0_wayEnd : Nat) (n : Nat) : Nat → Nat → Nat → Nat → Nat → Nat → Nat → Nat → Nat → Nat → Nat → Nat → Nat → Nat → Nat → Nat → Nat → Bool :=
  Nat.rec (motive := fun _ => Nat → Nat → Nat → Nat → Nat → Nat → Nat → Nat → Nat → Nat → Nat → Nat → Nat → Nat → Nat → Nat → Nat → Bool) (fun _ _ _ _ _ _ _ _ _ _ _ _ _ _ _ _ _ => false) (fun _ ih => mb_wX_openPlace_7 k_post x1 x2 f0_wayEnd ih) n
theorem mt_wX_openPlace_7 (E : Nat × Int32 × Int32) {post : St2 → Prop} {k_post : Nat → Nat → Nat → Nat → Nat → Nat → Nat → Nat → Nat → Nat → Nat → Nat → Nat → Nat → Nat → Nat → Nat → Bool} {e_x1 : Int32} {x1 : Nat} (p_x1 : e_x1 = ct_dec E x1) {e_x2 : Int32} {x2 : Nat} (p_x2 : e_x2 = ct_dec E x2) {e_f0_wayEnd : Int32} {f0_wayEnd : Nat} (p_f0_wayEnd : e_f0_wayEnd = ct_dec E f0_wayEnd) {n : Nat} {e_x3 : Int32} {x3 : Nat} (p_x3 : e_x3 = ct_dec E x3) {a1 : Nat} {a2 : Nat} {a3 : Nat} {a4 : Nat} {a5 : Nat} {a6 : Nat} {a7 : Nat} {a8 : Nat} {a9 : Nat} {a10 : Nat} {a11 : Nat} {a12 : Nat} {a13 : Nat} {a14 : Nat} {a15 : Nat} {a16 : Nat} (h : mf_wX_openPlace_7 k_post x1 x2 f0_wayEnd n x3 a1 a2 a3 a4 a5 a6 a7 a8 a9 a10 a11 a12 a13 a14 a15 a16 = true) (h_post : ∀ r0 r1 r2 r3 r4 r5 r6 r7 r8 r9 r10 r11 r12 r13 r14 r15 r16 : Nat, k_post r0 r1 r2 r3 r4 r5 r6 r7 r8 r9 r10 r11 r12 r13 r14 r15 r16 = true → post (ct_dec E r0, ct_da E r1, ct_da E r2, ct_da E r3, ct_da E r4, ct_da E r5, ct_da E r6, ct_da E r7, ct_da E r8, ct_da E r9, ct_da E r10, ct_da E r11, ct_da E r12, ct_da E r13, ct_da E r14, ct_da E r15, ct_da E r16)) :
    wX_openPlace_7 post e_x1 e_x2 e_f0_wayEnd n e_x3 (ct_da E a1) (ct_da E a2) (ct_da E a3) (ct_da E a4) (ct_da E a5) (ct_da E a6) (ct_da E a7) (ct_da E a8) (ct_da E a9) (ct_da E a10) (ct_da E a11) (ct_da E a12) (ct_da E a13) (ct_da E a14) (ct_da E a15) (ct_da E a16) := by
  subst p_x1 p_x2 p_f0_wayEnd
  have key : ∀ (n : Nat) {e_x3 : Int32} {x3 : Nat} (p_x3 : e_x3 = ct_dec E x3) {a1 : Nat} {a2 : Nat} {a3 : Nat} {a4 : Nat} {a5 : Nat} {a6 : Nat} {a7 : Nat} {a8 : Nat} {a9 : Nat} {a10 : Nat} {a11 : Nat} {a12 : Nat} {a13 : Nat} {a14 : Nat} {a15 : Nat} {a16 : Nat}, mf_wX_openPlace_7 k_post x1 x2 f0_wayEnd n x3 a1 a2 a3 a4 a5 a6 a7 a8 a9 a10 a11 a12 a13 a14 a15 a16 = true → wX_openPlace_7 post (ct_dec E x1) (ct_dec E x2) (ct_dec E f0_wayEnd) n e_x3 (ct_da E a1) (ct_da E a2) (ct_da E a3) (ct_da E a4) (ct_da E a5) (ct_da E a6) (ct_da E a7) (ct_da E a8) (ct_da E a9) (ct_da E a10) (ct_da E a11) (ct_da E a12) (ct_da E a13) (ct_da E a14) (ct_da E a15) (ct_da E a16) := by
    intro n
    induction n with
    | zero =>
      intro e_x3 x3 p_x3 a1 a2 a3 a4 a5 a6 a7 a8 a9 a10 a11 a12 a13 a14 a15 a16 h
      exact Bool.noConfusion (show false = true from h)
    | succ n ih =>
      intro e_x3 x3 p_x3 a1 a2 a3 a4 a5 a6 a7 a8 a9 a10 a11 a12 a13 a14 a15 a16 h
      subst p_x3
      replace h : mb_wX_openPlace_7 k_post x1 x2 f0_wayEnd (mf_wX_openPlace_7 k_post x1 x2 f0_wayEnd n) x3 a1 a2 a3 a4 a5 a6 a7 a8 a9 a10 a11 a12 a13 a14 a15 a16 = true := h
      unfold mb_wX_openPlace_7 at h
      unfold wX_openPlace_7
      refine ct_leS (ct_v E x3) (ct_v E x2) h (fun h => ?_) (fun h => ?_)
      · refine ct_inS (by decide) (ct_v E x1) h (fun t1 q1 l1 h => ?_)
        refine ct_inS (by decide) (ct_v E x1) h (fun t2 q2 l2 h => ?_)
        refine ct_byS (ct_add (ct_rd a1 q2 l2) (ct_l1 E)) h (fun b3 hb3 h => ?_)
        refine ct_leta (ct_up a1 q2 l2 hb3) h (fun a1_6 h => ?_)
        exact h_post _ _ _ _ _ _ _ _ _ _ _ _ _ _ _ _ _ h
      · refine ct_inS (by decide) (ct_sbb (ct_add (ct_mul (x := 5) (k := 5) rfl (ct_v E x1)) (ct_v E x3)) (ct_l1 E)) h (fun t4 q4 l4 h => ?_)
        refine ct_inS (by decide) (ct_add (ct_mul (x := 5) (k := 5) rfl (ct_v E x1)) (ct_v E x3)) h (fun t5 q5 l5 h => ?_)
        refine ct_byS (ct_rd a2 q4 l4) h (fun b6 hb6 h => ?_)
        refine ct_leta (ct_up a2 q5 l5 hb6) h (fun a2_9 h => ?_)
        refine ct_inS (by decide) (ct_sbb (ct_add (ct_mul (x := 5) (k := 5) rfl (ct_v E x1)) (ct_v E x3)) (ct_l1 E)) h (fun t7 q7 l7 h => ?_)
        refine ct_inS (by decide) (ct_add (ct_mul (x := 5) (k := 5) rfl (ct_v E x1)) (ct_v E x3)) h (fun t8 q8 l8 h => ?_)
        refine ct_leta (ct_up a3 q8 l8 (ct_rd a3 q7 l7)) h (fun a3_12 h => ?_)
        refine ct_let (ct_add (ct_v E x3) (ct_m1 E)) h (fun x3_13 h => ?_)
        exact ih (ct_v E x3_13) h
  exact key n p_x3 h

noncomputable def mf_wpX_openPlace (k_post : Nat → Nat → Nat → Nat → Nat → Nat → Nat → Nat → Nat → Nat → Nat → Nat → Nat → Nat → Nat → Nat → Nat → Bool) (f0_wayEnd : Nat) (a1 : Nat) (a2 : Nat) (a3 : Nat) (a4 : Nat) (a5 : Nat) (a6 : Nat) (a7 : Nat) (a8 : Nat) (a9 : Nat) (a10 : Nat) (a11 : Nat) (a12 : Nat) (a13 : Nat) (a14 : Nat) (a15 : Nat) (a16 : Nat) (p0 : Nat) (p1 : Nat) : Bool :=
  ct_in p0 100 fun t1 => ct_fc (ct_gt a1 t1) fun x3_2 => mf_wX_openPlace_7 k_post p0 p1 f0_wayEnd 128 x3_2 a1 a2 a3 a4 a5 a6 a7 a8 a9 a10 a11 a12 a13 a14 a15 a16
theorem mt_wpX_openPlace (E : Nat × Int32 × Int32) {post : St2 → Prop} {k_post : Nat → Nat → Nat → Nat → Nat → Nat → Nat → Nat → Nat → Nat → Nat → Nat → Nat → Nat → Nat → Nat → Nat → Bool} {f0_wayEnd a1 a2 a3 a4 a5 a6 a7 a8 a9 a10 a11 a12 a13 a14 a15 a16 : Nat} {e_p0 : Int32} {p0 : Nat} (p_p0 : e_p0 = ct_dec E p0) {e_p1 : Int32} {p1 : Nat} (p_p1 : e_p1 = ct_dec E p1) (h : mf_wpX_openPlace k_post f0_wayEnd a1 a2 a3 a4 a5 a6 a7 a8 a9 a10 a11 a12 a13 a14 a15 a16 p0 p1 = true) (h_post : ∀ r0 r1 r2 r3 r4 r5 r6 r7 r8 r9 r10 r11 r12 r13 r14 r15 r16 : Nat, k_post r0 r1 r2 r3 r4 r5 r6 r7 r8 r9 r10 r11 r12 r13 r14 r15 r16 = true → post (ct_dec E r0, ct_da E r1, ct_da E r2, ct_da E r3, ct_da E r4, ct_da E r5, ct_da E r6, ct_da E r7, ct_da E r8, ct_da E r9, ct_da E r10, ct_da E r11, ct_da E r12, ct_da E r13, ct_da E r14, ct_da E r15, ct_da E r16)) :
    wpX_openPlace post (ct_dec E f0_wayEnd, ct_da E a1, ct_da E a2, ct_da E a3, ct_da E a4, ct_da E a5, ct_da E a6, ct_da E a7, ct_da E a8, ct_da E a9, ct_da E a10, ct_da E a11, ct_da E a12, ct_da E a13, ct_da E a14, ct_da E a15, ct_da E a16) e_p0 e_p1 := by
  subst p_p0 p_p1
  unfold mf_wpX_openPlace at h
  unfold wpX_openPlace
  refine ct_inS (by decide) (ct_v E p0) h (fun t1 q1 l1 h => ?_)
  refine ct_let (ct_rd a1 q1 l1) h (fun x3_2 h => ?_)
  refine ⟨128, ?_⟩
  exact mt_wX_openPlace_7 E (ct_v E p0) (ct_v E p1) (ct_v E f0_wayEnd) (ct_v E x3_2) h h_post

noncomputable def mf_wpX_putAt (k_post : Nat → Nat → Nat → Nat → Nat → Nat → Nat → Nat → Nat → Nat → Nat → Nat → Nat → Nat → Nat → Nat → Nat → Bool) (f0_wayEnd : Nat) (a1 : Nat) (a2 : Nat) (a3 : Nat) (a4 : Nat) (a5 : Nat) (a6 : Nat) (a7 : Nat) (a8 : Nat) (a9 : Nat) (a10 : Nat) (a11 : Nat) (a12 : Nat) (a13 : Nat) (a14 : Nat) (a15 : Nat) (a16 : Nat) (p0 : Nat) (p1 : Nat) (p2 : Nat) (p3 : Nat) : Bool :=
  ct_in (ct_ad (ct_ml 5 p0) p1) 500 fun t1 => ct_by p2 fun b2 => ct_fc (ct_st a2 t1 b2) fun a2_2 => ct_in (ct_ad (ct_ml 5 p0) p1) 500 fun t3 => ct_fc (ct_st a3 t3 p3) fun a3_4 => k_post f0_wayEnd a1 a2_2 a3_4 a4 a5 a6 a7 a8 a9 a10 a11 a12 a13 a14 a15 a16
theorem mt_wpX_putAt (E : Nat × Int32 × Int32) {post : St2 → Prop} {k_post : Nat → Nat → Nat → Nat → Nat → Nat → Nat → Nat → Nat → Nat → Nat → Nat → Nat → Nat → Nat → Nat → Nat → Bool} {f0_wayEnd a1 a2 a3 a4 a5 a6 a7 a8 a9 a10 a11 a12 a13 a14 a15 a16 : Nat} {e_p0 : Int32} {p0 : Nat} (p_p0 : e_p0 = ct_dec E p0) {e_p1 : Int32} {p1 : Nat} (p_p1 : e_p1 = ct_dec E p1) {e_p2 : Int32} {p2 : Nat} (p_p2 : e_p2 = ct_dec E p2) {e_p3 : Int32} {p3 : Nat} (p_p3 : e_p3 = ct_dec E p3) (h : mf_wpX_putAt k_post f0_wayEnd a1 a2 a3 a4 a5 a6 a7 a8 a9 a10 a11 a12 a13 a14 a15 a16 p0 p1 p2 p3 = true) (h_post : ∀ r0 r1 r2 r3 r4 r5 r6 r7 r8 r9 r10 r11 r12 r13 r14 r15 r16 : Nat, k_post r0 r1 r2 r3 r4 r5 r6 r7 r8 r9 r10 r11 r12 r13 r14 r15 r16 = true → post (ct_dec E r0, ct_da E r1, ct_da E r2, ct_da E r3, ct_da E r4, ct_da E r5, ct_da E r6, ct_da E r7, ct_da E r8, ct_da E r9, ct_da E r10, ct_da E r11, ct_da E r12, ct_da E r13, ct_da E r14, ct_da E r15, ct_da E r16)) :
    wpX_putAt post (ct_dec E f0_wayEnd, ct_da E a1, ct_da E a2, ct_da E a3, ct_da E a4, ct_da E a5, ct_da E a6, ct_da E a7, ct_da E a8, ct_da E a9, ct_da E a10, ct_da E a11, ct_da E a12, ct_da E a13, ct_da E a14, ct_da E a15, ct_da E a16) e_p0 e_p1 e_p2 e_p3 := by
  subst p_p0 p_p1 p_p2 p_p3
  unfold mf_wpX_putAt at h
  unfold wpX_putAt
  refine ct_inS (by decide) (ct_add (ct_mul (x := 5) (k := 5) rfl (ct_v E p0)) (ct_v E p1)) h (fun t1 q1 l1 h => ?_)
  refine ct_byS (ct_v E p2) h (fun b2 hb2 h => ?_)
  refine ct_leta (ct_up a2 q1 l1 hb2) h (fun a2_2 h => ?_)
  refine ct_inS (by decide) (ct_add (ct_mul (x := 5) (k := 5) rfl (ct_v E p0)) (ct_v E p1)) h (fun t3 q3 l3 h => ?_)
  refine ct_leta (ct_up a3 q3 l3 (ct_v E p3)) h (fun a3_4 h => ?_)
  exact h_post _ _ _ _ _ _ _ _ _ _ _ _ _ _ _ _ _ h

noncomputable def mf_wpX_newRoot (k_post : Nat → Nat → Nat → Nat → Nat → Nat → Nat → Nat → Nat → Nat → Nat → Nat → Nat → Nat → Nat → Nat → Nat → Nat → Bool) (f0_wayEnd : Nat) (a1 : Nat) (a2 : Nat) (a3 : Nat) (a4 : Nat) (a5 : Nat) (a6 : Nat) (a7 : Nat) (a8 : Nat) (a9 : Nat) (a10 : Nat) (a11 : Nat) (a12 : Nat) (a13 : Nat) (a14 : Nat) (a15 : Nat) (a16 : Nat) (p0 : Nat) : Bool :=
  mf_wpX_newPage (fun r_1 f0_wayEnd_2 am11_5 am12_8 am13_11 am14_14 am15_17 am16_20 am17_23 am18_26 am19_29 am110_32 am111_35 am112_38 am113_41 am114_44 am115_47 am116_50 => ct_in (ct_ml 6 r_1) 600 fun t1 => ct_by p0 fun b2 => ct_fc (ct_st am14_14 t1 b2) fun am14_52 => ct_by r_1 fun b3 => ct_fc (ct_st am111_35 3 b3) fun am111_54 => k_post r_1 f0_wayEnd_2 am11_5 am12_8 am13_11 am14_52 am15_17 am16_20 am17_23 am18_26 am19_29 am110_32 am111_54 am112_38 am113_41 am114_44 am115_47 am116_50) f0_wayEnd a1 a2 a3 a4 a5 a6 a7 a8 a9 a10 a11 a12 a13 a14 a15 a16
theorem mt_wpX_newRoot (E : Nat × Int32 × Int32) {post : Int32 → St2 → Prop} {k_post : Nat → Nat → Nat → Nat → Nat → Nat → Nat → Nat → Nat → Nat → Nat → Nat → Nat → Nat → Nat → Nat → Nat → Nat → Bool} {f0_wayEnd a1 a2 a3 a4 a5 a6 a7 a8 a9 a10 a11 a12 a13 a14 a15 a16 : Nat} {e_p0 : Int32} {p0 : Nat} (p_p0 : e_p0 = ct_dec E p0) (h : mf_wpX_newRoot k_post f0_wayEnd a1 a2 a3 a4 a5 a6 a7 a8 a9 a10 a11 a12 a13 a14 a15 a16 p0 = true) (h_post : ∀ r0 r1 r2 r3 r4 r5 r6 r7 r8 r9 r10 r11 r12 r13 r14 r15 r16 r17 : Nat, k_post r0 r1 r2 r3 r4 r5 r6 r7 r8 r9 r10 r11 r12 r13 r14 r15 r16 r17 = true → post (ct_dec E r0) (ct_dec E r1, ct_da E r2, ct_da E r3, ct_da E r4, ct_da E r5, ct_da E r6, ct_da E r7, ct_da E r8, ct_da E r9, ct_da E r10, ct_da E r11, ct_da E r12, ct_da E r13, ct_da E r14, ct_da E r15, ct_da E r16, ct_da E r17)) :
    wpX_newRoot post (ct_dec E f0_wayEnd, ct_da E a1, ct_da E a2, ct_da E a3, ct_da E a4, ct_da E a5, ct_da E a6, ct_da E a7, ct_da E a8, ct_da E a9, ct_da E a10, ct_da E a11, ct_da E a12, ct_da E a13, ct_da E a14, ct_da E a15, ct_da E a16) e_p0 := by
  subst p_p0
  unfold mf_wpX_newRoot at h
  unfold wpX_newRoot
  refine mt_wpX_newPage E  h (fun r_1 f0_wayEnd_2 am11_5 am12_8 am13_11 am14_14 am15_17 am16_20 am17_23 am18_26 am19_29 am110_32 am111_35 am112_38 am113_41 am114_44 am115_47 am116_50 h => ?_)
  refine ct_inS (by decide) (ct_mul (x := 6) (k := 6) rfl (ct_v E r_1)) h (fun t1 q1 l1 h => ?_)
  refine ct_byS (ct_v E p0) h (fun b2 hb2 h => ?_)
  refine ct_leta (ct_up am14_14 q1 l1 hb2) h (fun am14_52 h => ?_)
  refine ct_byS (ct_v E r_1) h (fun b3 hb3 h => ?_)
  refine ct_leta (ct_uk am111_35 3 hb3) h (fun am111_54 h => ?_)
  exact h_post _ _ _ _ _ _ _ _ _ _ _ _ _ _ _ _ _ _ h

noncomputable def mb_wX_split_174 (k_post : Nat → Nat → Nat → Nat → Nat → Nat → Nat → Nat → Nat → Nat → Nat → Nat → Nat → Nat → Nat → Nat → Nat → Bool) (x2 : Nat) (x3 : Nat) (x4 : Nat) (x5 : Nat) (f0_wayEnd : Nat) (ih : Nat → Nat → Nat → Nat → Nat → Nat → Nat → Nat → Nat → Nat → Nat → Nat → Nat → Nat → Nat → Nat → Nat → Bool) (x6 : Nat) (am81 : Nat) (am82 : Nat) (am83 : Nat) (am84 : Nat) (am85 : Nat) (am86 : Nat) (am87 : Nat) (am88 : Nat) (am89 : Nat) (am810 : Nat) (am811 : Nat) (am812 : Nat) (am813 : Nat) (am814 : Nat) (am815 : Nat) (am816 : Nat) : Bool :=
  ct_le x6 (ct_ad x5 1) (mf_wpX_openPlace (fun f0_wayEnd_68 am2221_71 am2222_74 am2223_77 am2224_80 am2225_83 am2226_86 am2227_89 am2228_92 am2229_95 am22210_98 am22211_101 am22212_104 am22213_107 am22214_110 am22215_113 am22216_116 => ct_in (ct_ad (ct_ml 5 x2) 2) 500 fun t1 => ct_in (ct_ad (ct_ml 5 x2) 2) 500 fun t2 => ct_fc (ct_gt am2222_74 t2) fun y5 => ct_fc (ct_gt am2223_77 t2) fun y6 => mf_wpX_putAt (fun f0_wayEnd_120 am2501_123 am2502_126 am2503_129 am2504_132 am2505_135 am2506_138 am2507_141 am2508_144 am2509_147 am25010_150 am25011_153 am25012_156 am25013_159 am25014_162 am25015_165 am25016_168 => ct_in (ct_ad (ct_ad (ct_ml 6 x4) x5) 1) 600 fun t3 => ct_by x3 fun b4 => ct_fc (ct_st am2504_132 t3 b4) fun am2504_170 => k_post f0_wayEnd_120 am2501_123 am2502_126 am2503_129 am2504_170 am2505_135 am2506_138 am2507_141 am2508_144 am2509_147 am25010_150 am25011_153 am25012_156 am25013_159 am25014_162 am25015_165 am25016_168) f0_wayEnd_68 am2221_71 am2222_74 am2223_77 am2224_80 am2225_83 am2226_86 am2227_89 am2228_92 am2229_95 am22210_98 am22211_101 am22212_104 am22213_107 am22214_110 am22215_113 am22216_116 x4 x5 y5 y6) f0_wayEnd am81 am82 am83 am84 am85 am86 am87 am88 am89 am810 am811 am812 am813 am814 am815 am816 x4 x5) (ct_in (ct_sb (ct_ad (ct_ml 6 x4) x6) 1) 600 fun t7 => ct_in (ct_ad (ct_ml 6 x4) x6) 600 fun t8 => ct_by (ct_gt am84 t7) fun b9 => ct_fc (ct_st am84 t8 b9) fun am84_173 => ct_fc (ct_ad x6 4294967295) fun x6_174 => ih x6_174 am81 am82 am83 am84_173 am85 am86 am87 am88 am89 am810 am811 am812 am813 am814 am815 am816)
noncomputable def mf_wX_split_174 (k_post : Nat → Nat → Nat → Nat → Nat → Nat → Nat → Nat → Nat → Nat → Nat → Nat → Nat → Nat → Nat → Nat → Nat → Bool) (x2 : Nat) (x3 : Nat) (x4 : Nat) (x5 : Nat) (f0_wayEnd : Nat) (n : Nat) : Nat → Nat → Nat → Nat → Nat → Nat → Nat → Nat → Nat → Nat → Nat → Nat → Nat → Nat → Nat → Nat → Nat → Bool :=
  Nat.rec (motive := fun _ => Nat → Nat → Nat → Nat → Nat → Nat → Nat → Nat → Nat → Nat → Nat → Nat → Nat → Nat → Nat → Nat → Nat → Bool) (fun _ _ _ _ _ _ _ _ _ _ _ _ _ _ _ _ _ => false) (fun _ ih => mb_wX_split_174 k_post x2 x3 x4 x5 f0_wayEnd ih) n
theorem mt_wX_split_174 (E : Nat × Int32 × Int32) {post : St2 → Prop} {k_post : Nat → Nat → Nat → Nat → Nat → Nat → Nat → Nat → Nat → Nat → Nat → Nat → Nat → Nat → Nat → Nat → Nat → Bool} {e_x2 : Int32} {x2 : Nat} (p_x2 : e_x2 = ct_dec E x2) {e_x3 : Int32} {x3 : Nat} (p_x3 : e_x3 = ct_dec E x3) {e_x4 : Int32} {x4 : Nat} (p_x4 : e_x4 = ct_dec E x4) {e_x5 : Int32} {x5 : Nat} (p_x5 : e_x5 = ct_dec E x5) {e_f0_wayEnd : Int32} {f0_wayEnd : Nat} (p_f0_wayEnd : e_f0_wayEnd = ct_dec E f0_wayEnd) {n : Nat} {e_x6 : Int32} {x6 : Nat} (p_x6 : e_x6 = ct_dec E x6) {am81 : Nat} {am82 : Nat} {am83 : Nat} {am84 : Nat} {am85 : Nat} {am86 : Nat} {am87 : Nat} {am88 : Nat} {am89 : Nat} {am810 : Nat} {am811 : Nat} {am812 : Nat} {am813 : Nat} {am814 : Nat} {am815 : Nat} {am816 : Nat} (h : mf_wX_split_174 k_post x2 x3 x4 x5 f0_wayEnd n x6 am81 am82 am83 am84 am85 am86 am87 am88 am89 am810 am811 am812 am813 am814 am815 am816 = true) (h_post : ∀ r0 r1 r2 r3 r4 r5 r6 r7 r8 r9 r10 r11 r12 r13 r14 r15 r16 : Nat, k_post r0 r1 r2 r3 r4 r5 r6 r7 r8 r9 r10 r11 r12 r13 r14 r15 r16 = true → post (ct_dec E r0, ct_da E r1, ct_da E r2, ct_da E r3, ct_da E r4, ct_da E r5, ct_da E r6, ct_da E r7, ct_da E r8, ct_da E r9, ct_da E r10, ct_da E r11, ct_da E r12, ct_da E r13, ct_da E r14, ct_da E r15, ct_da E r16)) :
    wX_split_174 post e_x2 e_x3 e_x4 e_x5 e_f0_wayEnd n e_x6 (ct_da E am81) (ct_da E am82) (ct_da E am83) (ct_da E am84) (ct_da E am85) (ct_da E am86) (ct_da E am87) (ct_da E am88) (ct_da E am89) (ct_da E am810) (ct_da E am811) (ct_da E am812) (ct_da E am813) (ct_da E am814) (ct_da E am815) (ct_da E am816) := by
  subst p_x2 p_x3 p_x4 p_x5 p_f0_wayEnd
  have key : ∀ (n : Nat) {e_x6 : Int32} {x6 : Nat} (p_x6 : e_x6 = ct_dec E x6) {am81 : Nat} {am82 : Nat} {am83 : Nat} {am84 : Nat} {am85 : Nat} {am86 : Nat} {am87 : Nat} {am88 : Nat} {am89 : Nat} {am810 : Nat} {am811 : Nat} {am812 : Nat} {am813 : Nat} {am814 : Nat} {am815 : Nat} {am816 : Nat}, mf_wX_split_174 k_post x2 x3 x4 x5 f0_wayEnd n x6 am81 am82 am83 am84 am85 am86 am87 am88 am89 am810 am811 am812 am813 am814 am815 am816 = true → wX_split_174 post (ct_dec E x2) (ct_dec E x3) (ct_dec E x4) (ct_dec E x5) (ct_dec E f0_wayEnd) n e_x6 (ct_da E am81) (ct_da E am82) (ct_da E am83) (ct_da E am84) (ct_da E am85) (ct_da E am86) (ct_da E am87) (ct_da E am88) (ct_da E am89) (ct_da E am810) (ct_da E am811) (ct_da E am812) (ct_da E am813) (ct_da E am814) (ct_da E am815) (ct_da E am816) := by
    intro n
    induction n with
    | zero =>
      intro e_x6 x6 p_x6 am81 am82 am83 am84 am85 am86 am87 am88 am89 am810 am811 am812 am813 am814 am815 am816 h
      exact Bool.noConfusion (show false = true from h)
    | succ n ih =>
      intro e_x6 x6 p_x6 am81 am82 am83 am84 am85 am86 am87 am88 am89 am810 am811 am812 am813 am814 am815 am816 h
      subst p_x6
      replace h : mb_wX_split_174 k_post x2 x3 x4 x5 f0_wayEnd (mf_wX_split_174 k_post x2 x3 x4 x5 f0_wayEnd n) x6 am81 am82 am83 am84 am85 am86 am87 am88 am89 am810 am811 am812 am813 am814 am815 am816 = true := h
      unfold mb_wX_split_174 at h
      unfold wX_split_174
      refine ct_leS (ct_v E x6) (ct_add (ct_v E x5) (ct_l1 E)) h (fun h => ?_) (fun h => ?_)
      · refine mt_wpX_openPlace E (ct_v E x4) (ct_v E x5) h (fun f0_wayEnd_68 am2221_71 am2222_74 am2223_77 am2224_80 am2225_83 am2226_86 am2227_89 am2228_92 am2229_95 am22210_98 am22211_101 am22212_104 am22213_107 am22214_110 am22215_113 am22216_116 h => ?_)
        refine ct_inS (by decide) (ct_add (ct_mul (x := 5) (k := 5) rfl (ct_v E x2)) (ct_l2 E)) h (fun t1 q1 l1 h => ?_)
        refine ct_inS (by decide) (ct_add (ct_mul (x := 5) (k := 5) rfl (ct_v E x2)) (ct_l2 E)) h (fun t2 q2 l2 h => ?_)
        replace h := ct_fcE h
        replace h := ct_fcE h
        refine mt_wpX_putAt E (ct_v E x4) (ct_v E x5) (ct_rd am2222_74 q2 l2) (ct_rd am2223_77 q2 l2) h (fun f0_wayEnd_120 am2501_123 am2502_126 am2503_129 am2504_132 am2505_135 am2506_138 am2507_141 am2508_144 am2509_147 am25010_150 am25011_153 am25012_156 am25013_159 am25014_162 am25015_165 am25016_168 h => ?_)
        refine ct_inS (by decide) (ct_add (ct_add (ct_mul (x := 6) (k := 6) rfl (ct_v E x4)) (ct_v E x5)) (ct_l1 E)) h (fun t3 q3 l3 h => ?_)
        refine ct_byS (ct_v E x3) h (fun b4 hb4 h => ?_)
        refine ct_leta (ct_up am2504_132 q3 l3 hb4) h (fun am2504_170 h => ?_)
        exact h_post _ _ _ _ _ _ _ _ _ _ _ _ _ _ _ _ _ h
      · refine ct_inS (by decide) (ct_sbb (ct_add (ct_mul (x := 6) (k := 6) rfl (ct_v E x4)) (ct_v E x6)) (ct_l1 E)) h (fun t7 q7 l7 h => ?_)
        refine ct_inS (by decide) (ct_add (ct_mul (x := 6) (k := 6) rfl (ct_v E x4)) (ct_v E x6)) h (fun t8 q8 l8 h => ?_)
        refine ct_byS (ct_rd am84 q7 l7) h (fun b9 hb9 h => ?_)
        refine ct_leta (ct_up am84 q8 l8 hb9) h (fun am84_173 h => ?_)
        refine ct_let (ct_add (ct_v E x6) (ct_m1 E)) h (fun x6_174 h => ?_)
        exact ih (ct_v E x6_174) h
  exact key n p_x6 h

noncomputable def mf_wX_split_161 (k_post : Nat → Nat → Nat → Nat → Nat → Nat → Nat → Nat → Nat → Nat → Nat → Nat → Nat → Nat → Nat → Nat → Nat → Bool) (x2 : Nat) (x3 : Nat) (x4 : Nat) (z0 : Nat) (f0_wayEnd : Nat) (am81 : Nat) (am82 : Nat) (am83 : Nat) (am84 : Nat) (am85 : Nat) (am86 : Nat) (am87 : Nat) (am88 : Nat) (am89 : Nat) (am810 : Nat) (am811 : Nat) (am812 : Nat) (am813 : Nat) (am814 : Nat) (am815 : Nat) (am816 : Nat) : Bool :=
  ct_in x4 100 fun t1 => ct_fc (ct_ad (ct_gt am81 t1) 1) fun x6_65 => mf_wX_split_174 k_post x2 x3 x4 z0 f0_wayEnd 128 x6_65 am81 am82 am83 am84 am85 am86 am87 am88 am89 am810 am811 am812 am813 am814 am815 am816
theorem mt_wX_split_161 (E : Nat × Int32 × Int32) {post : St2 → Prop} {k_post : Nat → Nat → Nat → Nat → Nat → Nat → Nat → Nat → Nat → Nat → Nat → Nat → Nat → Nat → Nat → Nat → Nat → Bool} {e_x2 : Int32} {x2 : Nat} (p_x2 : e_x2 = ct_dec E x2) {e_x3 : Int32} {x3 : Nat} (p_x3 : e_x3 = ct_dec E x3) {e_x4 : Int32} {x4 : Nat} (p_x4 : e_x4 = ct_dec E x4) {e_z0 : Int32} {z0 : Nat} (p_z0 : e_z0 = ct_dec E z0) {e_f0_wayEnd : Int32} {f0_wayEnd : Nat} (p_f0_wayEnd : e_f0_wayEnd = ct_dec E f0_wayEnd) {am81 : Nat} {am82 : Nat} {am83 : Nat} {am84 : Nat} {am85 : Nat} {am86 : Nat} {am87 : Nat} {am88 : Nat} {am89 : Nat} {am810 : Nat} {am811 : Nat} {am812 : Nat} {am813 : Nat} {am814 : Nat} {am815 : Nat} {am816 : Nat} (h : mf_wX_split_161 k_post x2 x3 x4 z0 f0_wayEnd am81 am82 am83 am84 am85 am86 am87 am88 am89 am810 am811 am812 am813 am814 am815 am816 = true) (h_post : ∀ r0 r1 r2 r3 r4 r5 r6 r7 r8 r9 r10 r11 r12 r13 r14 r15 r16 : Nat, k_post r0 r1 r2 r3 r4 r5 r6 r7 r8 r9 r10 r11 r12 r13 r14 r15 r16 = true → post (ct_dec E r0, ct_da E r1, ct_da E r2, ct_da E r3, ct_da E r4, ct_da E r5, ct_da E r6, ct_da E r7, ct_da E r8, ct_da E r9, ct_da E r10, ct_da E r11, ct_da E r12, ct_da E r13, ct_da E r14, ct_da E r15, ct_da E r16)) :
    wX_split_161 post e_x2 e_x3 e_x4 e_z0 e_f0_wayEnd (ct_da E am81) (ct_da E am82) (ct_da E am83) (ct_da E am84) (ct_da E am85) (ct_da E am86) (ct_da E am87) (ct_da E am88) (ct_da E am89) (ct_da E am810) (ct_da E am811) (ct_da E am812) (ct_da E am813) (ct_da E am814) (ct_da E am815) (ct_da E am816) := by
  subst p_x2 p_x3 p_x4 p_z0 p_f0_wayEnd
  unfold mf_wX_split_161 at h
  unfold wX_split_161
  refine ct_inS (by decide) (ct_v E x4) h (fun t1 q1 l1 h => ?_)
  refine ct_let (ct_add (ct_rd am81 q1 l1) (ct_l1 E)) h (fun x6_65 h => ?_)
  refine ⟨128, ?_⟩
  exact mt_wX_split_174 E (ct_v E x2) (ct_v E x3) (ct_v E x4) (ct_v E z0) (ct_v E f0_wayEnd) (ct_v E x6_65) h h_post

noncomputable def mf_wX_split_143 (k_post : Nat → Nat → Nat → Nat → Nat → Nat → Nat → Nat → Nat → Nat → Nat → Nat → Nat → Nat → Nat → Nat → Nat → Bool) (x1 : Nat) (x2 : Nat) (x3 : Nat) (z0 : Nat) (f0_wayEnd : Nat) (am81 : Nat) (am82 : Nat) (am83 : Nat) (am84 : Nat) (am85 : Nat) (am86 : Nat) (am87 : Nat) (am88 : Nat) (am89 : Nat) (am810 : Nat) (am811 : Nat) (am812 : Nat) (am813 : Nat) (am814 : Nat) (am815 : Nat) (am816 : Nat) : Bool :=
  ct_eq x1 0 (mf_wX_split_161 k_post x2 x3 z0 0 f0_wayEnd am81 am82 am83 am84 am85 am86 am87 am88 am89 am810 am811 am812 am813 am814 am815 am816) (ct_in (ct_sb x1 1) 8 fun t1 => ct_fc (ct_gt am815 t1) fun y2 => mf_wX_split_161 k_post x2 x3 z0 y2 f0_wayEnd am81 am82 am83 am84 am85 am86 am87 am88 am89 am810 am811 am812 am813 am814 am815 am816)
theorem mt_wX_split_143 (E : Nat × Int32 × Int32) {post : St2 → Prop} {k_post : Nat → Nat → Nat → Nat → Nat → Nat → Nat → Nat → Nat → Nat → Nat → Nat → Nat → Nat → Nat → Nat → Nat → Bool} {e_x1 : Int32} {x1 : Nat} (p_x1 : e_x1 = ct_dec E x1) {e_x2 : Int32} {x2 : Nat} (p_x2 : e_x2 = ct_dec E x2) {e_x3 : Int32} {x3 : Nat} (p_x3 : e_x3 = ct_dec E x3) {e_z0 : Int32} {z0 : Nat} (p_z0 : e_z0 = ct_dec E z0) {e_f0_wayEnd : Int32} {f0_wayEnd : Nat} (p_f0_wayEnd : e_f0_wayEnd = ct_dec E f0_wayEnd) {am81 : Nat} {am82 : Nat} {am83 : Nat} {am84 : Nat} {am85 : Nat} {am86 : Nat} {am87 : Nat} {am88 : Nat} {am89 : Nat} {am810 : Nat} {am811 : Nat} {am812 : Nat} {am813 : Nat} {am814 : Nat} {am815 : Nat} {am816 : Nat} (h : mf_wX_split_143 k_post x1 x2 x3 z0 f0_wayEnd am81 am82 am83 am84 am85 am86 am87 am88 am89 am810 am811 am812 am813 am814 am815 am816 = true) (h_post : ∀ r0 r1 r2 r3 r4 r5 r6 r7 r8 r9 r10 r11 r12 r13 r14 r15 r16 : Nat, k_post r0 r1 r2 r3 r4 r5 r6 r7 r8 r9 r10 r11 r12 r13 r14 r15 r16 = true → post (ct_dec E r0, ct_da E r1, ct_da E r2, ct_da E r3, ct_da E r4, ct_da E r5, ct_da E r6, ct_da E r7, ct_da E r8, ct_da E r9, ct_da E r10, ct_da E r11, ct_da E r12, ct_da E r13, ct_da E r14, ct_da E r15, ct_da E r16)) :
    wX_split_143 post e_x1 e_x2 e_x3 e_z0 e_f0_wayEnd (ct_da E am81) (ct_da E am82) (ct_da E am83) (ct_da E am84) (ct_da E am85) (ct_da E am86) (ct_da E am87) (ct_da E am88) (ct_da E am89) (ct_da E am810) (ct_da E am811) (ct_da E am812) (ct_da E am813) (ct_da E am814) (ct_da E am815) (ct_da E am816) := by
  subst p_x1 p_x2 p_x3 p_z0 p_f0_wayEnd
  unfold mf_wX_split_143 at h
  unfold wX_split_143
  refine ct_eqS (ct_v E x1) (ct_l0 E) h (fun h => ?_) (fun h => ?_)
  · exact mt_wX_split_161 E (ct_v E x2) (ct_v E x3) (ct_v E z0) (ct_l0 E) (ct_v E f0_wayEnd) h h_post
  · refine ct_inS (by decide) (ct_sbb (ct_v E x1) (ct_l1 E)) h (fun t1 q1 l1 h => ?_)
    replace h := ct_fcE h
    exact mt_wX_split_161 E (ct_v E x2) (ct_v E x3) (ct_v E z0) (ct_rd am815 q1 l1) (ct_v E f0_wayEnd) h h_post

noncomputable def mf_wX_split_109 (k_post : Nat → Nat → Nat → Nat → Nat → Nat → Nat → Nat → Nat → Nat → Nat → Nat → Nat → Nat → Nat → Nat → Nat → Bool) (x1 : Nat) (x2 : Nat) (x3 : Nat) (f0_wayEnd : Nat) (am81 : Nat) (am82 : Nat) (am83 : Nat) (am84 : Nat) (am85 : Nat) (am86 : Nat) (am87 : Nat) (am88 : Nat) (am89 : Nat) (am810 : Nat) (am811 : Nat) (am812 : Nat) (am813 : Nat) (am814 : Nat) (am815 : Nat) (am816 : Nat) : Bool :=
  ct_in x3 100 fun t1 => ct_fc (ct_st am81 t1 2) fun am81_57 => ct_in x2 100 fun t2 => ct_fc (ct_st am81_57 t2 2) fun am81_59 => ct_eq x1 0 (mf_wpX_newRoot (fun r_175 f0_wayEnd_176 am1291_179 am1292_182 am1293_185 am1294_188 am1295_191 am1296_194 am1297_197 am1298_200 am1299_203 am12910_206 am12911_209 am12912_212 am12913_215 am12914_218 am12915_221 am12916_224 => mf_wX_split_143 k_post x1 x2 x3 r_175 f0_wayEnd_176 am1291_179 am1292_182 am1293_185 am1294_188 am1295_191 am1296_194 am1297_197 am1298_200 am1299_203 am12910_206 am12911_209 am12912_212 am12913_215 am12914_218 am12915_221 am12916_224) f0_wayEnd am81_59 am82 am83 am84 am85 am86 am87 am88 am89 am810 am811 am812 am813 am814 am815 am816 x2) (ct_in (ct_sb x1 1) 8 fun t3 => ct_fc (ct_gt am814 t3) fun y4 => mf_wX_split_143 k_post x1 x2 x3 y4 f0_wayEnd am81_59 am82 am83 am84 am85 am86 am87 am88 am89 am810 am811 am812 am813 am814 am815 am816)
theorem mt_wX_split_109 (E : Nat × Int32 × Int32) {post : St2 → Prop} {k_post : Nat → Nat → Nat → Nat → Nat → Nat → Nat → Nat → Nat → Nat → Nat → Nat → Nat → Nat → Nat → Nat → Nat → Bool} {e_x1 : Int32} {x1 : Nat} (p_x1 : e_x1 = ct_dec E x1) {e_x2 : Int32} {x2 : Nat} (p_x2 : e_x2 = ct_dec E x2) {e_x3 : Int32} {x3 : Nat} (p_x3 : e_x3 = ct_dec E x3) {e_f0_wayEnd : Int32} {f0_wayEnd : Nat} (p_f0_wayEnd : e_f0_wayEnd = ct_dec E f0_wayEnd) {am81 : Nat} {am82 : Nat} {am83 : Nat} {am84 : Nat} {am85 : Nat} {am86 : Nat} {am87 : Nat} {am88 : Nat} {am89 : Nat} {am810 : Nat} {am811 : Nat} {am812 : Nat} {am813 : Nat} {am814 : Nat} {am815 : Nat} {am816 : Nat} (h : mf_wX_split_109 k_post x1 x2 x3 f0_wayEnd am81 am82 am83 am84 am85 am86 am87 am88 am89 am810 am811 am812 am813 am814 am815 am816 = true) (h_post : ∀ r0 r1 r2 r3 r4 r5 r6 r7 r8 r9 r10 r11 r12 r13 r14 r15 r16 : Nat, k_post r0 r1 r2 r3 r4 r5 r6 r7 r8 r9 r10 r11 r12 r13 r14 r15 r16 = true → post (ct_dec E r0, ct_da E r1, ct_da E r2, ct_da E r3, ct_da E r4, ct_da E r5, ct_da E r6, ct_da E r7, ct_da E r8, ct_da E r9, ct_da E r10, ct_da E r11, ct_da E r12, ct_da E r13, ct_da E r14, ct_da E r15, ct_da E r16)) :
    wX_split_109 post e_x1 e_x2 e_x3 e_f0_wayEnd (ct_da E am81) (ct_da E am82) (ct_da E am83) (ct_da E am84) (ct_da E am85) (ct_da E am86) (ct_da E am87) (ct_da E am88) (ct_da E am89) (ct_da E am810) (ct_da E am811) (ct_da E am812) (ct_da E am813) (ct_da E am814) (ct_da E am815) (ct_da E am816) := by
  subst p_x1 p_x2 p_x3 p_f0_wayEnd
  unfold mf_wX_split_109 at h
  unfold wX_split_109
  refine ct_inS (by decide) (ct_v E x3) h (fun t1 q1 l1 h => ?_)
  refine ct_leta (ct_up am81 q1 l1 (ct_l2 E)) h (fun am81_57 h => ?_)
  refine ct_inS (by decide) (ct_v E x2) h (fun t2 q2 l2 h => ?_)
  refine ct_leta (ct_up am81_57 q2 l2 (ct_l2 E)) h (fun am81_59 h => ?_)
  refine ct_eqS (ct_v E x1) (ct_l0 E) h (fun h => ?_) (fun h => ?_)
  · refine mt_wpX_newRoot E (ct_v E x2) h (fun r_175 f0_wayEnd_176 am1291_179 am1292_182 am1293_185 am1294_188 am1295_191 am1296_194 am1297_197 am1298_200 am1299_203 am12910_206 am12911_209 am12912_212 am12913_215 am12914_218 am12915_221 am12916_224 h => ?_)
    exact mt_wX_split_143 E (ct_v E x1) (ct_v E x2) (ct_v E x3) (ct_v E r_175) (ct_v E f0_wayEnd_176) h h_post
  · refine ct_inS (by decide) (ct_sbb (ct_v E x1) (ct_l1 E)) h (fun t3 q3 l3 h => ?_)
    replace h := ct_fcE h
    exact mt_wX_split_143 E (ct_v E x1) (ct_v E x2) (ct_v E x3) (ct_rd am814 q3 l3) (ct_v E f0_wayEnd) h h_post

noncomputable def mb_wX_split_71 (k_post : Nat → Nat → Nat → Nat → Nat → Nat → Nat → Nat → Nat → Nat → Nat → Nat → Nat → Nat → Nat → Nat → Nat → Bool) (x1 : Nat) (x2 : Nat) (x3 : Nat) (f0_wayEnd : Nat) (ih : Nat → Nat → Nat → Nat → Nat → Nat → Nat → Nat → Nat → Nat → Nat → Nat → Nat → Nat → Nat → Nat → Nat → Bool) (x4 : Nat) (am81 : Nat) (am82 : Nat) (am83 : Nat) (am84 : Nat) (am85 : Nat) (am86 : Nat) (am87 : Nat) (am88 : Nat) (am89 : Nat) (am810 : Nat) (am811 : Nat) (am812 : Nat) (am813 : Nat) (am814 : Nat) (am815 : Nat) (am816 : Nat) : Bool :=
  ct_le 3 x4 (mf_wX_split_109 k_post x1 x2 x3 f0_wayEnd am81 am82 am83 am84 am85 am86 am87 am88 am89 am810 am811 am812 am813 am814 am815 am816) (ct_in (ct_ad (ct_ad (ct_ml 6 x2) 3) x4) 600 fun t1 => ct_in (ct_ad (ct_ml 6 x3) x4) 600 fun t2 => ct_by (ct_gt am84 t1) fun b3 => ct_fc (ct_st am84 t2 b3) fun am84_228 => ct_fc (ct_ad x4 1) fun x4_229 => ih x4_229 am81 am82 am83 am84_228 am85 am86 am87 am88 am89 am810 am811 am812 am813 am814 am815 am816)
noncomputable def mf_wX_split_71 (k_post : Nat → Nat → Nat → Nat → Nat → Nat → Nat → Nat → Nat → Nat → Nat → Nat → Nat → Nat → Nat → Nat → Nat → Bool) (x1 : Nat) (x2 : Nat) (x3 : Nat) (f0_wayEnd : Nat) (n : Nat) : Nat → Nat → Nat → Nat → Nat → Nat → Nat → Nat → Nat → Nat → Nat → Nat → Nat → Nat → Nat → Nat → Nat → Bool :=
  Nat.rec (motive := fun _ => Nat → Nat → Nat → Nat → Nat → Nat → Nat → Nat → Nat → Nat → Nat → Nat → Nat → Nat → Nat → Nat → Nat → Bool) (fun _ _ _ _ _ _ _ _ _ _ _ _ _ _ _ _ _ => false) (fun _ ih => mb_wX_split_71 k_post x1 x2 x3 f0_wayEnd ih) n
theorem mt_wX_split_71 (E : Nat × Int32 × Int32) {post : St2 → Prop} {k_post : Nat → Nat → Nat → Nat → Nat → Nat → Nat → Nat → Nat → Nat → Nat → Nat → Nat → Nat → Nat → Nat → Nat → Bool} {e_x1 : Int32} {x1 : Nat} (p_x1 : e_x1 = ct_dec E x1) {e_x2 : Int32} {x2 : Nat} (p_x2 : e_x2 = ct_dec E x2) {e_x3 : Int32} {x3 : Nat} (p_x3 : e_x3 = ct_dec E x3) {e_f0_wayEnd : Int32} {f0_wayEnd : Nat} (p_f0_wayEnd : e_f0_wayEnd = ct_dec E f0_wayEnd) {n : Nat} {e_x4 : Int32} {x4 : Nat} (p_x4 : e_x4 = ct_dec E x4) {am81 : Nat} {am82 : Nat} {am83 : Nat} {am84 : Nat} {am85 : Nat} {am86 : Nat} {am87 : Nat} {am88 : Nat} {am89 : Nat} {am810 : Nat} {am811 : Nat} {am812 : Nat} {am813 : Nat} {am814 : Nat} {am815 : Nat} {am816 : Nat} (h : mf_wX_split_71 k_post x1 x2 x3 f0_wayEnd n x4 am81 am82 am83 am84 am85 am86 am87 am88 am89 am810 am811 am812 am813 am814 am815 am816 = true) (h_post : ∀ r0 r1 r2 r3 r4 r5 r6 r7 r8 r9 r10 r11 r12 r13 r14 r15 r16 : Nat, k_post r0 r1 r2 r3 r4 r5 r6 r7 r8 r9 r10 r11 r12 r13 r14 r15 r16 = true → post (ct_dec E r0, ct_da E r1, ct_da E r2, ct_da E r3, ct_da E r4, ct_da E r5, ct_da E r6, ct_da E r7, ct_da E r8, ct_da E r9, ct_da E r10, ct_da E r11, ct_da E r12, ct_da E r13, ct_da E r14, ct_da E r15, ct_da E r16)) :
    wX_split_71 post e_x1 e_x2 e_x3 e_f0_wayEnd n e_x4 (ct_da E am81) (ct_da E am82) (ct_da E am83) (ct_da E am84) (ct_da E am85) (ct_da E am86) (ct_da E am87) (ct_da E am88) (ct_da E am89) (ct_da E am810) (ct_da E am811) (ct_da E am812) (ct_da E am813) (ct_da E am814) (ct_da E am815) (ct_da E am816) := by
  subst p_x1 p_x2 p_x3 p_f0_wayEnd
  have key : ∀ (n : Nat) {e_x4 : Int32} {x4 : Nat} (p_x4 : e_x4 = ct_dec E x4) {am81 : Nat} {am82 : Nat} {am83 : Nat} {am84 : Nat} {am85 : Nat} {am86 : Nat} {am87 : Nat} {am88 : Nat} {am89 : Nat} {am810 : Nat} {am811 : Nat} {am812 : Nat} {am813 : Nat} {am814 : Nat} {am815 : Nat} {am816 : Nat}, mf_wX_split_71 k_post x1 x2 x3 f0_wayEnd n x4 am81 am82 am83 am84 am85 am86 am87 am88 am89 am810 am811 am812 am813 am814 am815 am816 = true → wX_split_71 post (ct_dec E x1) (ct_dec E x2) (ct_dec E x3) (ct_dec E f0_wayEnd) n e_x4 (ct_da E am81) (ct_da E am82) (ct_da E am83) (ct_da E am84) (ct_da E am85) (ct_da E am86) (ct_da E am87) (ct_da E am88) (ct_da E am89) (ct_da E am810) (ct_da E am811) (ct_da E am812) (ct_da E am813) (ct_da E am814) (ct_da E am815) (ct_da E am816) := by
    intro n
    induction n with
    | zero =>
      intro e_x4 x4 p_x4 am81 am82 am83 am84 am85 am86 am87 am88 am89 am810 am811 am812 am813 am814 am815 am816 h
      exact Bool.noConfusion (show false = true from h)
    | succ n ih =>
      intro e_x4 x4 p_x4 am81 am82 am83 am84 am85 am86 am87 am88 am89 am810 am811 am812 am813 am814 am815 am816 h
      subst p_x4
      replace h : mb_wX_split_71 k_post x1 x2 x3 f0_wayEnd (mf_wX_split_71 k_post x1 x2 x3 f0_wayEnd n) x4 am81 am82 am83 am84 am85 am86 am87 am88 am89 am810 am811 am812 am813 am814 am815 am816 = true := h
      unfold mb_wX_split_71 at h
      unfold wX_split_71
      refine ct_leS (ct_l3 E) (ct_v E x4) h (fun h => ?_) (fun h => ?_)
      · exact mt_wX_split_109 E (ct_v E x1) (ct_v E x2) (ct_v E x3) (ct_v E f0_wayEnd) h h_post
      · refine ct_inS (by decide) (ct_add (ct_add (ct_mul (x := 6) (k := 6) rfl (ct_v E x2)) (ct_l3 E)) (ct_v E x4)) h (fun t1 q1 l1 h => ?_)
        refine ct_inS (by decide) (ct_add (ct_mul (x := 6) (k := 6) rfl (ct_v E x3)) (ct_v E x4)) h (fun t2 q2 l2 h => ?_)
        refine ct_byS (ct_rd am84 q1 l1) h (fun b3 hb3 h => ?_)
        refine ct_leta (ct_up am84 q2 l2 hb3) h (fun am84_228 h => ?_)
        refine ct_let (ct_add (ct_v E x4) (ct_l1 E)) h (fun x4_229 h => ?_)
        exact ih (ct_v E x4_229) h
  exact key n p_x4 h

noncomputable def mb_wX_split_15 (k_post : Nat → Nat → Nat → Nat → Nat → Nat → Nat → Nat → Nat → Nat → Nat → Nat → Nat → Nat → Nat → Nat → Nat → Bool) (x1 : Nat) (x2 : Nat) (x3 : Nat) (ih : Nat → Nat → Nat → Nat → Nat → Nat → Nat → Nat → Nat → Nat → Nat → Nat → Nat → Nat → Nat → Nat → Nat → Nat → Bool) (x4 : Nat) (f0_wayEnd : Nat) (am81 : Nat) (am82 : Nat) (am83 : Nat) (am84 : Nat) (am85 : Nat) (am86 : Nat) (am87 : Nat) (am88 : Nat) (am89 : Nat) (am810 : Nat) (am811 : Nat) (am812 : Nat) (am813 : Nat) (am814 : Nat) (am815 : Nat) (am816 : Nat) : Bool :=
  ct_le 2 x4 (mf_wpX_isLeaf (fun r_54 => ct_eq r_54 0 (mf_wX_split_71 k_post x1 x2 x3 f0_wayEnd 128 0 am81 am82 am83 am84 am85 am86 am87 am88 am89 am810 am811 am812 am813 am814 am815 am816) (mf_wX_split_109 k_post x1 x2 x3 f0_wayEnd am81 am82 am83 am84 am85 am86 am87 am88 am89 am810 am811 am812 am813 am814 am815 am816)) f0_wayEnd am81 am82 am83 am84 am85 am86 am87 am88 am89 am810 am811 am812 am813 am814 am815 am816 x2) (ct_in (ct_ad (ct_ad (ct_ml 5 x2) 3) x4) 500 fun t1 => ct_in (ct_ad (ct_ad (ct_ml 5 x2) 3) x4) 500 fun t2 => ct_fc (ct_gt am82 t2) fun y3 => ct_fc (ct_gt am83 t2) fun y4 => mf_wpX_putAt (fun f0_wayEnd_233 am511_236 am512_239 am513_242 am514_245 am515_248 am516_251 am517_254 am518_257 am519_260 am5110_263 am5111_266 am5112_269 am5113_272 am5114_275 am5115_278 am5116_281 => ct_fc (ct_ad x4 1) fun x4_282 => ih x4_282 f0_wayEnd_233 am511_236 am512_239 am513_242 am514_245 am515_248 am516_251 am517_254 am518_257 am519_260 am5110_263 am5111_266 am5112_269 am5113_272 am5114_275 am5115_278 am5116_281) f0_wayEnd am81 am82 am83 am84 am85 am86 am87 am88 am89 am810 am811 am812 am813 am814 am815 am816 x3 x4 y3 y4)
noncomputable def mf_wX_split_15 (k_post : Nat → Nat → Nat → Nat → Nat → Nat → Nat → Nat → Nat → Nat → Nat → Nat → Nat → Nat → Nat → Nat → Nat → Bool) (x1 : Nat) (x2 : Nat) (x3 : Nat) (n : Nat) : Nat → Nat → Nat → Nat → Nat → Nat → Nat → Nat → Nat → Nat → Nat → Nat → Nat → Nat → Nat → Nat → Nat → Nat → Bool :=
  Nat.rec (motive := fun _ => Nat → Nat → Nat → Nat → Nat → Nat → Nat → Nat → Nat → Nat → Nat → Nat → Nat → Nat → Nat → Nat → Nat → Nat → Bool) (fun _ _ _ _ _ _ _ _ _ _ _ _ _ _ _ _ _ _ => false) (fun _ ih => mb_wX_split_15 k_post x1 x2 x3 ih) n
theorem mt_wX_split_15 (E : Nat × Int32 × Int32) {post : St2 → Prop} {k_post : Nat → Nat → Nat → Nat → Nat → Nat → Nat → Nat → Nat → Nat → Nat → Nat → Nat → Nat → Nat → Nat → Nat → Bool} {e_x1 : Int32} {x1 : Nat} (p_x1 : e_x1 = ct_dec E x1) {e_x2 : Int32} {x2 : Nat} (p_x2 : e_x2 = ct_dec E x2) {e_x3 : Int32} {x3 : Nat} (p_x3 : e_x3 = ct_dec E x3) {n : Nat} {e_x4 : Int32} {x4 : Nat} (p_x4 : e_x4 = ct_dec E x4) {e_f0_wayEnd : Int32} {f0_wayEnd : Nat} (p_f0_wayEnd : e_f0_wayEnd = ct_dec E f0_wayEnd) {am81 : Nat} {am82 : Nat} {am83 : Nat} {am84 : Nat} {am85 : Nat} {am86 : Nat} {am87 : Nat} {am88 : Nat} {am89 : Nat} {am810 : Nat} {am811 : Nat} {am812 : Nat} {am813 : Nat} {am814 : Nat} {am815 : Nat} {am816 : Nat} (h : mf_wX_split_15 k_post x1 x2 x3 n x4 f0_wayEnd am81 am82 am83 am84 am85 am86 am87 am88 am89 am810 am811 am812 am813 am814 am815 am816 = true) (h_post : ∀ r0 r1 r2 r3 r4 r5 r6 r7 r8 r9 r10 r11 r12 r13 r14 r15 r16 : Nat, k_post r0 r1 r2 r3 r4 r5 r6 r7 r8 r9 r10 r11 r12 r13 r14 r15 r16 = true → post (ct_dec E r0, ct_da E r1, ct_da E r2, ct_da E r3, ct_da E r4, ct_da E r5, ct_da E r6, ct_da E r7, ct_da E r8, ct_da E r9, ct_da E r10, ct_da E r11, ct_da E r12, ct_da E r13, ct_da E r14, ct_da E r15, ct_da E r16)) :
    wX_split_15 post e_x1 e_x2 e_x3 n e_x4 e_f0_wayEnd (ct_da E am81) (ct_da E am82) (ct_da E am83) (ct_da E am84) (ct_da E am85) (ct_da E am86) (ct_da E am87) (ct_da E am88) (ct_da E am89) (ct_da E am810) (ct_da E am811) (ct_da E am812) (ct_da E am813) (ct_da E am814) (ct_da E am815) (ct_da E am816) := by
  subst p_x1 p_x2 p_x3
  have key : ∀ (n : Nat) {e_x4 : Int32} {x4 : Nat} (p_x4 : e_x4 = ct_dec E x4) {e_f0_wayEnd : Int32} {f0_wayEnd : Nat} (p_f0_wayEnd : e_f0_wayEnd = ct_dec E f0_wayEnd) {am81 : Nat} {am82 : Nat} {am83 : Nat} {am84 : Nat} {am85 : Nat} {am86 : Nat} {am87 : Nat} {am88 : Nat} {am89 : Nat} {am810 : Nat} {am811 : Nat} {am812 : Nat} {am813 : Nat} {am814 : Nat} {am815 : Nat} {am816 : Nat}, mf_wX_split_15 k_post x1 x2 x3 n x4 f0_wayEnd am81 am82 am83 am84 am85 am86 am87 am88 am89 am810 am811 am812 am813 am814 am815 am816 = true → wX_split_15 post (ct_dec E x1) (ct_dec E x2) (ct_dec E x3) n e_x4 e_f0_wayEnd (ct_da E am81) (ct_da E am82) (ct_da E am83) (ct_da E am84) (ct_da E am85) (ct_da E am86) (ct_da E am87) (ct_da E am88) (ct_da E am89) (ct_da E am810) (ct_da E am811) (ct_da E am812) (ct_da E am813) (ct_da E am814) (ct_da E am815) (ct_da E am816) := by
    intro n
    induction n with
    | zero =>
      intro e_x4 x4 p_x4 e_f0_wayEnd f0_wayEnd p_f0_wayEnd am81 am82 am83 am84 am85 am86 am87 am88 am89 am810 am811 am812 am813 am814 am815 am816 h
      exact Bool.noConfusion (show false = true from h)
    | succ n ih =>
      intro e_x4 x4 p_x4 e_f0_wayEnd f0_wayEnd p_f0_wayEnd am81 am82 am83 am84 am85 am86 am87 am88 am89 am810 am811 am812 am813 am814 am815 am816 h
      subst p_x4 p_f0_wayEnd
      replace h : mb_wX_split_15 k_post x1 x2 x3 (mf_wX_split_15 k_post x1 x2 x3 n) x4 f0_wayEnd am81 am82 am83 am84 am85 am86 am87 am88 am89 am810 am811 am812 am813 am814 am815 am816 = true := h
      unfold mb_wX_split_15 at h
      unfold wX_split_15
      refine ct_leS (ct_l2 E) (ct_v E x4) h (fun h => ?_) (fun h => ?_)
      · refine mt_wpX_isLeaf E (ct_v E x2) h (fun r_54 h => ?_)
        refine ct_eqS (ct_v E r_54) (ct_l0 E) h (fun h => ?_) (fun h => ?_)
        · refine ⟨128, ?_⟩
          exact mt_wX_split_71 E (ct_v E x1) (ct_v E x2) (ct_v E x3) (ct_v E f0_wayEnd) (ct_l0 E) h h_post
        · exact mt_wX_split_109 E (ct_v E x1) (ct_v E x2) (ct_v E x3) (ct_v E f0_wayEnd) h h_post
      · refine ct_inS (by decide) (ct_add (ct_add (ct_mul (x := 5) (k := 5) rfl (ct_v E x2)) (ct_l3 E)) (ct_v E x4)) h (fun t1 q1 l1 h => ?_)
        refine ct_inS (by decide) (ct_add (ct_add (ct_mul (x := 5) (k := 5) rfl (ct_v E x2)) (ct_l3 E)) (ct_v E x4)) h (fun t2 q2 l2 h => ?_)
        replace h := ct_fcE h
        replace h := ct_fcE h
        refine mt_wpX_putAt E (ct_v E x3) (ct_v E x4) (ct_rd am82 q2 l2) (ct_rd am83 q2 l2) h (fun f0_wayEnd_233 am511_236 am512_239 am513_242 am514_245 am515_248 am516_251 am517_254 am518_257 am519_260 am5110_263 am5111_266 am5112_269 am5113_272 am5114_275 am5115_278 am5116_281 h => ?_)
        refine ct_let (ct_add (ct_v E x4) (ct_l1 E)) h (fun x4_282 h => ?_)
        exact ih (ct_v E x4_282) (ct_v E f0_wayEnd_233) h
  exact key n p_x4 p_f0_wayEnd h

noncomputable def mf_wpX_split (k_post : Nat → Nat → Nat → Nat → Nat → Nat → Nat → Nat → Nat → Nat → Nat → Nat → Nat → Nat → Nat → Nat → Nat → Bool) (f0_wayEnd : Nat) (a1 : Nat) (a2 : Nat) (a3 : Nat) (a4 : Nat) (a5 : Nat) (a6 : Nat) (a7 : Nat) (a8 : Nat) (a9 : Nat) (a10 : Nat) (a11 : Nat) (a12 : Nat) (a13 : Nat) (a14 : Nat) (a15 : Nat) (a16 : Nat) (p0 : Nat) : Bool :=
  ct_in p0 8 fun t1 => ct_fc (ct_gt a14 t1) fun x2_2 => mf_wpX_newPage (fun r_3 f0_wayEnd_4 am81_7 am82_10 am83_13 am84_16 am85_19 am86_22 am87_25 am88_28 am89_31 am810_34 am811_37 am812_40 am813_43 am814_46 am815_49 am816_52 => mf_wX_split_15 k_post p0 x2_2 r_3 128 0 f0_wayEnd_4 am81_7 am82_10 am83_13 am84_16 am85_19 am86_22 am87_25 am88_28 am89_31 am810_34 am811_37 am812_40 am813_43 am814_46 am815_49 am816_52) f0_wayEnd a1 a2 a3 a4 a5 a6 a7 a8 a9 a10 a11 a12 a13 a14 a15 a16
theorem mt_wpX_split (E : Nat × Int32 × Int32) {post : St2 → Prop} {k_post : Nat → Nat → Nat → Nat → Nat → Nat → Nat → Nat → Nat → Nat → Nat → Nat → Nat → Nat → Nat → Nat → Nat → Bool} {f0_wayEnd a1 a2 a3 a4 a5 a6 a7 a8 a9 a10 a11 a12 a13 a14 a15 a16 : Nat} {e_p0 : Int32} {p0 : Nat} (p_p0 : e_p0 = ct_dec E p0) (h : mf_wpX_split k_post f0_wayEnd a1 a2 a3 a4 a5 a6 a7 a8 a9 a10 a11 a12 a13 a14 a15 a16 p0 = true) (h_post : ∀ r0 r1 r2 r3 r4 r5 r6 r7 r8 r9 r10 r11 r12 r13 r14 r15 r16 : Nat, k_post r0 r1 r2 r3 r4 r5 r6 r7 r8 r9 r10 r11 r12 r13 r14 r15 r16 = true → post (ct_dec E r0, ct_da E r1, ct_da E r2, ct_da E r3, ct_da E r4, ct_da E r5, ct_da E r6, ct_da E r7, ct_da E r8, ct_da E r9, ct_da E r10, ct_da E r11, ct_da E r12, ct_da E r13, ct_da E r14, ct_da E r15, ct_da E r16)) :
    wpX_split post (ct_dec E f0_wayEnd, ct_da E a1, ct_da E a2, ct_da E a3, ct_da E a4, ct_da E a5, ct_da E a6, ct_da E a7, ct_da E a8, ct_da E a9, ct_da E a10, ct_da E a11, ct_da E a12, ct_da E a13, ct_da E a14, ct_da E a15, ct_da E a16) e_p0 := by
  subst p_p0
  unfold mf_wpX_split at h
  unfold wpX_split
  refine ct_inS (by decide) (ct_v E p0) h (fun t1 q1 l1 h => ?_)
  refine ct_let (ct_rd a14 q1 l1) h (fun x2_2 h => ?_)
  refine mt_wpX_newPage E  h (fun r_3 f0_wayEnd_4 am81_7 am82_10 am83_13 am84_16 am85_19 am86_22 am87_25 am88_28 am89_31 am810_34 am811_37 am812_40 am813_43 am814_46 am815_49 am816_52 h => ?_)
  refine ⟨128, ?_⟩
  exact mt_wX_split_15 E (ct_v E p0) (ct_v E x2_2) (ct_v E r_3) (ct_l0 E) (ct_v E f0_wayEnd_4) h h_post

noncomputable def mb_wX_insert_67 (k_post : Nat → Nat → Nat → Nat → Nat → Nat → Nat → Nat → Nat → Nat → Nat → Nat → Nat → Nat → Nat → Nat → Nat → Bool) (ih : Nat → Nat → Nat → Nat → Nat → Nat → Nat → Nat → Nat → Nat → Nat → Nat → Nat → Nat → Nat → Nat → Nat → Nat → Bool) (x3 : Nat) (f0_wayEnd : Nat) (am641 : Nat) (am642 : Nat) (am643 : Nat) (am644 : Nat) (am645 : Nat) (am646 : Nat) (am647 : Nat) (am648 : Nat) (am649 : Nat) (am6410 : Nat) (am6411 : Nat) (am6412 : Nat) (am6413 : Nat) (am6414 : Nat) (am6415 : Nat) (am6416 : Nat) : Bool :=
  ct_lt x3 0 (k_post f0_wayEnd am641 am642 am643 am644 am645 am646 am647 am648 am649 am6410 am6411 am6412 am6413 am6414 am6415 am6416) (ct_in x3 8 fun t1 => ct_in (ct_gt am6414 t1) 100 fun t2 => ct_eq (ct_gt am641 t2) 5 (mf_wpX_split (fun f0_wayEnd_112 am881_115 am882_118 am883_121 am884_124 am885_127 am886_130 am887_133 am888_136 am889_139 am8810_142 am8811_145 am8812_148 am8813_151 am8814_154 am8815_157 am8816_160 => ct_fc (ct_ad x3 4294967295) fun x3_161 => ih x3_161 f0_wayEnd_112 am881_115 am882_118 am883_121 am884_124 am885_127 am886_130 am887_133 am888_136 am889_139 am8810_142 am8811_145 am8812_148 am8813_151 am8814_154 am8815_157 am8816_160) f0_wayEnd am641 am642 am643 am644 am645 am646 am647 am648 am649 am6410 am6411 am6412 am6413 am6414 am6415 am6416 x3) (k_post f0_wayEnd am641 am642 am643 am644 am645 am646 am647 am648 am649 am6410 am6411 am6412 am6413 am6414 am6415 am6416))
noncomputable def mf_wX_insert_67 (k_post : Nat → Nat → Nat → Nat → Nat → Nat → Nat → Nat → Nat → Nat → Nat → Nat → Nat → Nat → Nat → Nat → Nat → Bool) (n : Nat) : Nat → Nat → Nat → Nat → Nat → Nat → Nat → Nat → Nat → Nat → Nat → Nat → Nat → Nat → Nat → Nat → Nat → Nat → Bool :=
  Nat.rec (motive := fun _ => Nat → Nat → Nat → Nat → Nat → Nat → Nat → Nat → Nat → Nat → Nat → Nat → Nat → Nat → Nat → Nat → Nat → Nat → Bool) (fun _ _ _ _ _ _ _ _ _ _ _ _ _ _ _ _ _ _ => false) (fun _ ih => mb_wX_insert_67 k_post ih) n
theorem mt_wX_insert_67 (E : Nat × Int32 × Int32) {post : St2 → Prop} {k_post : Nat → Nat → Nat → Nat → Nat → Nat → Nat → Nat → Nat → Nat → Nat → Nat → Nat → Nat → Nat → Nat → Nat → Bool} {n : Nat} {e_x3 : Int32} {x3 : Nat} (p_x3 : e_x3 = ct_dec E x3) {e_f0_wayEnd : Int32} {f0_wayEnd : Nat} (p_f0_wayEnd : e_f0_wayEnd = ct_dec E f0_wayEnd) {am641 : Nat} {am642 : Nat} {am643 : Nat} {am644 : Nat} {am645 : Nat} {am646 : Nat} {am647 : Nat} {am648 : Nat} {am649 : Nat} {am6410 : Nat} {am6411 : Nat} {am6412 : Nat} {am6413 : Nat} {am6414 : Nat} {am6415 : Nat} {am6416 : Nat} (h : mf_wX_insert_67 k_post n x3 f0_wayEnd am641 am642 am643 am644 am645 am646 am647 am648 am649 am6410 am6411 am6412 am6413 am6414 am6415 am6416 = true) (h_post : ∀ r0 r1 r2 r3 r4 r5 r6 r7 r8 r9 r10 r11 r12 r13 r14 r15 r16 : Nat, k_post r0 r1 r2 r3 r4 r5 r6 r7 r8 r9 r10 r11 r12 r13 r14 r15 r16 = true → post (ct_dec E r0, ct_da E r1, ct_da E r2, ct_da E r3, ct_da E r4, ct_da E r5, ct_da E r6, ct_da E r7, ct_da E r8, ct_da E r9, ct_da E r10, ct_da E r11, ct_da E r12, ct_da E r13, ct_da E r14, ct_da E r15, ct_da E r16)) :
    wX_insert_67 post n e_x3 e_f0_wayEnd (ct_da E am641) (ct_da E am642) (ct_da E am643) (ct_da E am644) (ct_da E am645) (ct_da E am646) (ct_da E am647) (ct_da E am648) (ct_da E am649) (ct_da E am6410) (ct_da E am6411) (ct_da E am6412) (ct_da E am6413) (ct_da E am6414) (ct_da E am6415) (ct_da E am6416) := by
  have key : ∀ (n : Nat) {e_x3 : Int32} {x3 : Nat} (p_x3 : e_x3 = ct_dec E x3) {e_f0_wayEnd : Int32} {f0_wayEnd : Nat} (p_f0_wayEnd : e_f0_wayEnd = ct_dec E f0_wayEnd) {am641 : Nat} {am642 : Nat} {am643 : Nat} {am644 : Nat} {am645 : Nat} {am646 : Nat} {am647 : Nat} {am648 : Nat} {am649 : Nat} {am6410 : Nat} {am6411 : Nat} {am6412 : Nat} {am6413 : Nat} {am6414 : Nat} {am6415 : Nat} {am6416 : Nat}, mf_wX_insert_67 k_post n x3 f0_wayEnd am641 am642 am643 am644 am645 am646 am647 am648 am649 am6410 am6411 am6412 am6413 am6414 am6415 am6416 = true → wX_insert_67 post n e_x3 e_f0_wayEnd (ct_da E am641) (ct_da E am642) (ct_da E am643) (ct_da E am644) (ct_da E am645) (ct_da E am646) (ct_da E am647) (ct_da E am648) (ct_da E am649) (ct_da E am6410) (ct_da E am6411) (ct_da E am6412) (ct_da E am6413) (ct_da E am6414) (ct_da E am6415) (ct_da E am6416) := by
    intro n
    induction n with
    | zero =>
      intro e_x3 x3 p_x3 e_f0_wayEnd f0_wayEnd p_f0_wayEnd am641 am642 am643 am644 am645 am646 am647 am648 am649 am6410 am6411 am6412 am6413 am6414 am6415 am6416 h
      exact Bool.noConfusion (show false = true from h)
    | succ n ih =>
      intro e_x3 x3 p_x3 e_f0_wayEnd f0_wayEnd p_f0_wayEnd am641 am642 am643 am644 am645 am646 am647 am648 am649 am6410 am6411 am6412 am6413 am6414 am6415 am6416 h
      subst p_x3 p_f0_wayEnd
      replace h : mb_wX_insert_67 k_post (mf_wX_insert_67 k_post n) x3 f0_wayEnd am641 am642 am643 am644 am645 am646 am647 am648 am649 am6410 am6411 am6412 am6413 am6414 am6415 am6416 = true := h
      unfold mb_wX_insert_67 at h
      unfold wX_insert_67
      refine ct_ltS (ct_v E x3) (ct_l0 E) h (fun h => ?_) (fun h => ?_)
      · exact h_post _ _ _ _ _ _ _ _ _ _ _ _ _ _ _ _ _ h
      · refine ct_inS (by decide) (ct_v E x3) h (fun t1 q1 l1 h => ?_)
        refine ct_inS (by decide) (ct_rd am6414 q1 l1) h (fun t2 q2 l2 h => ?_)
        refine ct_eqS (ct_rd am641 q2 l2) (ct_l5 E) h (fun h => ?_) (fun h => ?_)
        · refine mt_wpX_split E (ct_v E x3) h (fun f0_wayEnd_112 am881_115 am882_118 am883_121 am884_124 am885_127 am886_130 am887_133 am888_136 am889_139 am8810_142 am8811_145 am8812_148 am8813_151 am8814_154 am8815_157 am8816_160 h => ?_)
          refine ct_let (ct_add (ct_v E x3) (ct_m1 E)) h (fun x3_161 h => ?_)
          exact ih (ct_v E x3_161) (ct_v E f0_wayEnd_112) h
        · exact h_post _ _ _ _ _ _ _ _ _ _ _ _ _ _ _ _ _ h
  exact key n p_x3 p_f0_wayEnd h

noncomputable def mf_wX_insert_26 (k_post : Nat → Nat → Nat → Nat → Nat → Nat → Nat → Nat → Nat → Nat → Nat → Nat → Nat → Nat → Nat → Nat → Nat → Bool) (x1 : Nat) (x2 : Nat) (f0_wayEnd : Nat) (a1 : Nat) (a2 : Nat) (a3 : Nat) (a4 : Nat) (a5 : Nat) (a6 : Nat) (a7 : Nat) (a8 : Nat) (a9 : Nat) (a10 : Nat) (a11 : Nat) (a12 : Nat) (a13 : Nat) (a14 : Nat) (a15 : Nat) (a16 : Nat) : Bool :=
  ct_fc (ct_sb f0_wayEnd 1) fun x3_2 => ct_in x3_2 8 fun t1 => ct_in x3_2 8 fun t2 => ct_fc (ct_gt a14 t2) fun y7 => ct_fc (ct_gt a15 t2) fun y8 => mf_wpX_openPlace (fun f0_wayEnd_6 am461_9 am462_12 am463_15 am464_18 am465_21 am466_24 am467_27 am468_30 am469_33 am4610_36 am4611_39 am4612_42 am4613_45 am4614_48 am4615_51 am4616_54 => ct_in x3_2 8 fun t3 => ct_in x3_2 8 fun t4 => ct_fc (ct_gt am4614_48 t4) fun y5 => ct_fc (ct_gt am4615_51 t4) fun y6 => mf_wpX_putAt (fun f0_wayEnd_58 am641_61 am642_64 am643_67 am644_70 am645_73 am646_76 am647_79 am648_82 am649_85 am6410_88 am6411_91 am6412_94 am6413_97 am6414_100 am6415_103 am6416_106 => mf_wX_insert_67 k_post 128 x3_2 f0_wayEnd_58 am641_61 am642_64 am643_67 am644_70 am645_73 am646_76 am647_79 am648_82 am649_85 am6410_88 am6411_91 am6412_94 am6413_97 am6414_100 am6415_103 am6416_106) f0_wayEnd_6 am461_9 am462_12 am463_15 am464_18 am465_21 am466_24 am467_27 am468_30 am469_33 am4610_36 am4611_39 am4612_42 am4613_45 am4614_48 am4615_51 am4616_54 y5 y6 x1 x2) f0_wayEnd a1 a2 a3 a4 a5 a6 a7 a8 a9 a10 a11 a12 a13 a14 a15 a16 y7 y8
theorem mt_wX_insert_26 (E : Nat × Int32 × Int32) {post : St2 → Prop} {k_post : Nat → Nat → Nat → Nat → Nat → Nat → Nat → Nat → Nat → Nat → Nat → Nat → Nat → Nat → Nat → Nat → Nat → Bool} {e_x1 : Int32} {x1 : Nat} (p_x1 : e_x1 = ct_dec E x1) {e_x2 : Int32} {x2 : Nat} (p_x2 : e_x2 = ct_dec E x2) {e_f0_wayEnd : Int32} {f0_wayEnd : Nat} (p_f0_wayEnd : e_f0_wayEnd = ct_dec E f0_wayEnd) {a1 : Nat} {a2 : Nat} {a3 : Nat} {a4 : Nat} {a5 : Nat} {a6 : Nat} {a7 : Nat} {a8 : Nat} {a9 : Nat} {a10 : Nat} {a11 : Nat} {a12 : Nat} {a13 : Nat} {a14 : Nat} {a15 : Nat} {a16 : Nat} (h : mf_wX_insert_26 k_post x1 x2 f0_wayEnd a1 a2 a3 a4 a5 a6 a7 a8 a9 a10 a11 a12 a13 a14 a15 a16 = true) (h_post : ∀ r0 r1 r2 r3 r4 r5 r6 r7 r8 r9 r10 r11 r12 r13 r14 r15 r16 : Nat, k_post r0 r1 r2 r3 r4 r5 r6 r7 r8 r9 r10 r11 r12 r13 r14 r15 r16 = true → post (ct_dec E r0, ct_da E r1, ct_da E r2, ct_da E r3, ct_da E r4, ct_da E r5, ct_da E r6, ct_da E r7, ct_da E r8, ct_da E r9, ct_da E r10, ct_da E r11, ct_da E r12, ct_da E r13, ct_da E r14, ct_da E r15, ct_da E r16)) :
    wX_insert_26 post e_x1 e_x2 e_f0_wayEnd (ct_da E a1) (ct_da E a2) (ct_da E a3) (ct_da E a4) (ct_da E a5) (ct_da E a6) (ct_da E a7) (ct_da E a8) (ct_da E a9) (ct_da E a10) (ct_da E a11) (ct_da E a12) (ct_da E a13) (ct_da E a14) (ct_da E a15) (ct_da E a16) := by
  subst p_x1 p_x2 p_f0_wayEnd
  unfold mf_wX_insert_26 at h
  unfold wX_insert_26
  refine ct_let (ct_sbb (ct_v E f0_wayEnd) (ct_l1 E)) h (fun x3_2 h => ?_)
  refine ct_inS (by decide) (ct_v E x3_2) h (fun t1 q1 l1 h => ?_)
  refine ct_inS (by decide) (ct_v E x3_2) h (fun t2 q2 l2 h => ?_)
  replace h := ct_fcE h
  replace h := ct_fcE h
  refine mt_wpX_openPlace E (ct_rd a14 q2 l2) (ct_rd a15 q2 l2) h (fun f0_wayEnd_6 am461_9 am462_12 am463_15 am464_18 am465_21 am466_24 am467_27 am468_30 am469_33 am4610_36 am4611_39 am4612_42 am4613_45 am4614_48 am4615_51 am4616_54 h => ?_)
  refine ct_inS (by decide) (ct_v E x3_2) h (fun t3 q3 l3 h => ?_)
  refine ct_inS (by decide) (ct_v E x3_2) h (fun t4 q4 l4 h => ?_)
  replace h := ct_fcE h
  replace h := ct_fcE h
  refine mt_wpX_putAt E (ct_rd am4614_48 q4 l4) (ct_rd am4615_51 q4 l4) (ct_v E x1) (ct_v E x2) h (fun f0_wayEnd_58 am641_61 am642_64 am643_67 am644_70 am645_73 am646_76 am647_79 am648_82 am649_85 am6410_88 am6411_91 am6412_94 am6413_97 am6414_100 am6415_103 am6416_106 h => ?_)
  refine ⟨128, ?_⟩
  exact mt_wX_insert_67 E (ct_v E x3_2) (ct_v E f0_wayEnd_58) h h_post

noncomputable def mf_wpX_insert (k_post : Nat → Nat → Nat → Nat → Nat → Nat → Nat → Nat → Nat → Nat → Nat → Nat → Nat → Nat → Nat → Nat → Nat → Bool) (f0_wayEnd : Nat) (a1 : Nat) (a2 : Nat) (a3 : Nat) (a4 : Nat) (a5 : Nat) (a6 : Nat) (a7 : Nat) (a8 : Nat) (a9 : Nat) (a10 : Nat) (a11 : Nat) (a12 : Nat) (a13 : Nat) (a14 : Nat) (a15 : Nat) (a16 : Nat) (p0 : Nat) (p1 : Nat) : Bool :=
  ct_eq f0_wayEnd 0 (mf_wpX_newPage (fun r_162 f0_wayEnd_163 am81_166 am82_169 am83_172 am84_175 am85_178 am86_181 am87_184 am88_187 am89_190 am810_193 am811_196 am812_199 am813_202 am814_205 am815_208 am816_211 => ct_by r_162 fun b1 => ct_fc (ct_st am811_196 3 b1) fun am811_213 => mf_wpX_pushWay (fun f0_wayEnd_215 am231_218 am232_221 am233_224 am234_227 am235_230 am236_233 am237_236 am238_239 am239_242 am2310_245 am2311_248 am2312_251 am2313_254 am2314_257 am2315_260 am2316_263 => mf_wX_insert_26 k_post p0 p1 f0_wayEnd_215 am231_218 am232_221 am233_224 am234_227 am235_230 am236_233 am237_236 am238_239 am239_242 am2310_245 am2311_248 am2312_251 am2313_254 am2314_257 am2315_260 am2316_263) f0_wayEnd_163 am81_166 am82_169 am83_172 am84_175 am85_178 am86_181 am87_184 am88_187 am89_190 am810_193 am811_213 am812_199 am813_202 am814_205 am815_208 am816_211 r_162 0) f0_wayEnd a1 a2 a3 a4 a5 a6 a7 a8 a9 a10 a11 a12 a13 a14 a15 a16) (mf_wX_insert_26 k_post p0 p1 f0_wayEnd a1 a2 a3 a4 a5 a6 a7 a8 a9 a10 a11 a12 a13 a14 a15 a16)
theorem mt_wpX_insert (E : Nat × Int32 × Int32) {post : St2 → Prop} {k_post : Nat → Nat → Nat → Nat → Nat → Nat → Nat → Nat → Nat → Nat → Nat → Nat → Nat → Nat → Nat → Nat → Nat → Bool} {f0_wayEnd a1 a2 a3 a4 a5 a6 a7 a8 a9 a10 a11 a12 a13 a14 a15 a16 : Nat} {e_p0 : Int32} {p0 : Nat} (p_p0 : e_p0 = ct_dec E p0) {e_p1 : Int32} {p1 : Nat} (p_p1 : e_p1 = ct_dec E p1) (h : mf_wpX_insert k_post f0_wayEnd a1 a2 a3 a4 a5 a6 a7 a8 a9 a10 a11 a12 a13 a14 a15 a16 p0 p1 = true) (h_post : ∀ r0 r1 r2 r3 r4 r5 r6 r7 r8 r9 r10 r11 r12 r13 r14 r15 r16 : Nat, k_post r0 r1 r2 r3 r4 r5 r6 r7 r8 r9 r10 r11 r12 r13 r14 r15 r16 = true → post (ct_dec E r0, ct_da E r1, ct_da E r2, ct_da E r3, ct_da E r4, ct_da E r5, ct_da E r6, ct_da E r7, ct_da E r8, ct_da E r9, ct_da E r10, ct_da E r11, ct_da E r12, ct_da E r13, ct_da E r14, ct_da E r15, ct_da E r16)) :
    wpX_insert post (ct_dec E f0_wayEnd, ct_da E a1, ct_da E a2, ct_da E a3, ct_da E a4, ct_da E a5, ct_da E a6, ct_da E a7, ct_da E a8, ct_da E a9, ct_da E a10, ct_da E a11, ct_da E a12, ct_da E a13, ct_da E a14, ct_da E a15, ct_da E a16) e_p0 e_p1 := by
  subst p_p0 p_p1
  unfold mf_wpX_insert at h
  unfold wpX_insert
  refine ct_eqS (ct_v E f0_wayEnd) (ct_l0 E) h (fun h => ?_) (fun h => ?_)
  · refine mt_wpX_newPage E  h (fun r_162 f0_wayEnd_163 am81_166 am82_169 am83_172 am84_175 am85_178 am86_181 am87_184 am88_187 am89_190 am810_193 am811_196 am812_199 am813_202 am814_205 am815_208 am816_211 h => ?_)
    refine ct_byS (ct_v E r_162) h (fun b1 hb1 h => ?_)
    refine ct_leta (ct_uk am811_196 3 hb1) h (fun am811_213 h => ?_)
    refine mt_wpX_pushWay E (ct_v E r_162) (ct_l0 E) h (fun f0_wayEnd_215 am231_218 am232_221 am233_224 am234_227 am235_230 am236_233 am237_236 am238_239 am239_242 am2310_245 am2311_248 am2312_251 am2313_254 am2314_257 am2315_260 am2316_263 h => ?_)
    exact mt_wX_insert_26 E (ct_v E p0) (ct_v E p1) (ct_v E f0_wayEnd_215) h h_post
  · exact mt_wX_insert_26 E (ct_v E p0) (ct_v E p1) (ct_v E f0_wayEnd) h h_post

noncomputable def mf_wX_put_40 (k_post : Nat → Nat → Nat → Nat → Nat → Nat → Nat → Nat → Nat → Nat → Nat → Nat → Nat → Nat → Nat → Nat → Nat → Nat → Bool) (x1 : Nat) (x2 : Nat) (x3 : Nat) (f0_wayEnd : Nat) (am181 : Nat) (am182 : Nat) (am183 : Nat) (am184 : Nat) (am185 : Nat) (am186 : Nat) (am187 : Nat) (am188 : Nat) (am189 : Nat) (am1810 : Nat) (am1811 : Nat) (am1812 : Nat) (am1813 : Nat) (am1814 : Nat) (am1815 : Nat) (am1816 : Nat) : Bool :=
  mf_wpX_copyWay (fun f0_wayEnd_55 am411_58 am412_61 am413_64 am414_67 am415_70 am416_73 am417_76 am418_79 am419_82 am4110_85 am4111_88 am4112_91 am4113_94 am4114_97 am4115_100 am4116_103 => ct_fc (ct_sb f0_wayEnd_55 1) fun x4_104 => ct_eq x3 0 (mf_wpX_insert (fun f0_wayEnd_107 am841_110 am842_113 am843_116 am844_119 am845_122 am846_125 am847_128 am848_131 am849_134 am8410_137 am8411_140 am8412_143 am8413_146 am8414_149 am8415_152 am8416_155 => ct_by (ct_ad (ct_gt am8412_143 3) 1) fun b1 => ct_fc (ct_st am8412_143 3 b1) fun am8412_157 => k_post 1 f0_wayEnd_107 am841_110 am842_113 am843_116 am844_119 am845_122 am846_125 am847_128 am848_131 am849_134 am8410_137 am8411_140 am8412_157 am8413_146 am8414_149 am8415_152 am8416_155) f0_wayEnd_55 am411_58 am412_61 am413_64 am414_67 am415_70 am416_73 am417_76 am418_79 am419_82 am4110_85 am4111_88 am4112_91 am4113_94 am4114_97 am4115_100 am4116_103 x1 x2) (ct_in x4_104 8 fun t2 => ct_in x4_104 8 fun t3 => ct_in (ct_ad (ct_ml 5 (ct_gt am4114_97 t3)) (ct_gt am4115_100 t3)) 500 fun t4 => ct_fc (ct_st am413_64 t4 x2) fun am413_161 => k_post 0 f0_wayEnd_55 am411_58 am412_61 am413_161 am414_67 am415_70 am416_73 am417_76 am418_79 am419_82 am4110_85 am4111_88 am4112_91 am4113_94 am4114_97 am4115_100 am4116_103)) f0_wayEnd am181 am182 am183 am184 am185 am186 am187 am188 am189 am1810 am1811 am1812 am1813 am1814 am1815 am1816
theorem mt_wX_put_40 (E : Nat × Int32 × Int32) {post : Int32 → St2 → Prop} {k_post : Nat → Nat → Nat → Nat → Nat → Nat → Nat → Nat → Nat → Nat → Nat → Nat → Nat → Nat → Nat → Nat → Nat → Nat → Bool} {e_x1 : Int32} {x1 : Nat} (p_x1 : e_x1 = ct_dec E x1) {e_x2 : Int32} {x2 : Nat} (p_x2 : e_x2 = ct_dec E x2) {e_x3 : Int32} {x3 : Nat} (p_x3 : e_x3 = ct_dec E x3) {e_f0_wayEnd : Int32} {f0_wayEnd : Nat} (p_f0_wayEnd : e_f0_wayEnd = ct_dec E f0_wayEnd) {am181 : Nat} {am182 : Nat} {am183 : Nat} {am184 : Nat} {am185 : Nat} {am186 : Nat} {am187 : Nat} {am188 : Nat} {am189 : Nat} {am1810 : Nat} {am1811 : Nat} {am1812 : Nat} {am1813 : Nat} {am1814 : Nat} {am1815 : Nat} {am1816 : Nat} (h : mf_wX_put_40 k_post x1 x2 x3 f0_wayEnd am181 am182 am183 am184 am185 am186 am187 am188 am189 am1810 am1811 am1812 am1813 am1814 am1815 am1816 = true) (h_post : ∀ r0 r1 r2 r3 r4 r5 r6 r7 r8 r9 r10 r11 r12 r13 r14 r15 r16 r17 : Nat, k_post r0 r1 r2 r3 r4 r5 r6 r7 r8 r9 r10 r11 r12 r13 r14 r15 r16 r17 = true → post (ct_dec E r0) (ct_dec E r1, ct_da E r2, ct_da E r3, ct_da E r4, ct_da E r5, ct_da E r6, ct_da E r7, ct_da E r8, ct_da E r9, ct_da E r10, ct_da E r11, ct_da E r12, ct_da E r13, ct_da E r14, ct_da E r15, ct_da E r16, ct_da E r17)) :
    wX_put_40 post e_x1 e_x2 e_x3 e_f0_wayEnd (ct_da E am181) (ct_da E am182) (ct_da E am183) (ct_da E am184) (ct_da E am185) (ct_da E am186) (ct_da E am187) (ct_da E am188) (ct_da E am189) (ct_da E am1810) (ct_da E am1811) (ct_da E am1812) (ct_da E am1813) (ct_da E am1814) (ct_da E am1815) (ct_da E am1816) := by
  subst p_x1 p_x2 p_x3 p_f0_wayEnd
  unfold mf_wX_put_40 at h
  unfold wX_put_40
  refine mt_wpX_copyWay E  h (fun f0_wayEnd_55 am411_58 am412_61 am413_64 am414_67 am415_70 am416_73 am417_76 am418_79 am419_82 am4110_85 am4111_88 am4112_91 am4113_94 am4114_97 am4115_100 am4116_103 h => ?_)
  refine ct_let (ct_sbb (ct_v E f0_wayEnd_55) (ct_l1 E)) h (fun x4_104 h => ?_)
  refine ct_eqS (ct_v E x3) (ct_l0 E) h (fun h => ?_) (fun h => ?_)
  · refine mt_wpX_insert E (ct_v E x1) (ct_v E x2) h (fun f0_wayEnd_107 am841_110 am842_113 am843_116 am844_119 am845_122 am846_125 am847_128 am848_131 am849_134 am8410_137 am8411_140 am8412_143 am8413_146 am8414_149 am8415_152 am8416_155 h => ?_)
    refine ct_byS (ct_add (ct_rk E am8412_143 3) (ct_l1 E)) h (fun b1 hb1 h => ?_)
    refine ct_leta (ct_uk am8412_143 3 hb1) h (fun am8412_157 h => ?_)
    refine ct_sub (P := fun z => post z ((ct_dec E f0_wayEnd_107, ct_da E am841_110, ct_da E am842_113, ct_da E am843_116, ct_da E am844_119, ct_da E am845_122, ct_da E am846_125, ct_da E am847_128, ct_da E am848_131, ct_da E am849_134, ct_da E am8410_137, ct_da E am8411_140, ct_da E am8412_157, ct_da E am8413_146, ct_da E am8414_149, ct_da E am8415_152, ct_da E am8416_155))) (ct_l1 E) ?_
    exact h_post _ _ _ _ _ _ _ _ _ _ _ _ _ _ _ _ _ _ h
  · refine ct_inS (by decide) (ct_v E x4_104) h (fun t2 q2 l2 h => ?_)
    refine ct_inS (by decide) (ct_v E x4_104) h (fun t3 q3 l3 h => ?_)
    refine ct_inS (by decide) (ct_add (ct_mul (x := 5) (k := 5) rfl (ct_rd am4114_97 q3 l3)) (ct_rd am4115_100 q3 l3)) h (fun t4 q4 l4 h => ?_)
    refine ct_leta (ct_up am413_64 q4 l4 (ct_v E x2)) h (fun am413_161 h => ?_)
    refine ct_sub (P := fun z => post z ((ct_dec E f0_wayEnd_55, ct_da E am411_58, ct_da E am412_61, ct_da E am413_161, ct_da E am414_67, ct_da E am415_70, ct_da E am416_73, ct_da E am417_76, ct_da E am418_79, ct_da E am419_82, ct_da E am4110_85, ct_da E am4111_88, ct_da E am4112_91, ct_da E am4113_94, ct_da E am4114_97, ct_da E am4115_100, ct_da E am4116_103))) (ct_l0 E) ?_
    exact h_post _ _ _ _ _ _ _ _ _ _ _ _ _ _ _ _ _ _ h

noncomputable def mf_wpX_put (k_post : Nat → Nat → Nat → Nat → Nat → Nat → Nat → Nat → Nat → Nat → Nat → Nat → Nat → Nat → Nat → Nat → Nat → Nat → Bool) (f0_wayEnd : Nat) (a1 : Nat) (a2 : Nat) (a3 : Nat) (a4 : Nat) (a5 : Nat) (a6 : Nat) (a7 : Nat) (a8 : Nat) (a9 : Nat) (a10 : Nat) (a11 : Nat) (a12 : Nat) (a13 : Nat) (a14 : Nat) (a15 : Nat) (a16 : Nat) (p0 : Nat) (p1 : Nat) : Bool :=
  mf_wpX_isKey (fun r_1 => ct_eq r_1 0 (k_post 4294967295 f0_wayEnd a1 a2 a3 a4 a5 a6 a7 a8 a9 a10 a11 a12 a13 a14 a15 a16) (ct_fc (ct_gt a11 3) fun y1 => mf_wpX_find (fun r_3 f0_wayEnd_4 am181_7 am182_10 am183_13 am184_16 am185_19 am186_22 am187_25 am188_28 am189_31 am1810_34 am1811_37 am1812_40 am1813_43 am1814_46 am1815_49 am1816_52 => ct_eq r_3 0 (ct_lt (ct_gt am1812_40 3) 24 (mf_wX_put_40 k_post p0 p1 r_3 f0_wayEnd_4 am181_7 am182_10 am183_13 am184_16 am185_19 am186_22 am187_25 am188_28 am189_31 am1810_34 am1811_37 am1812_40 am1813_43 am1814_46 am1815_49 am1816_52) (k_post 4294967294 f0_wayEnd_4 am181_7 am182_10 am183_13 am184_16 am185_19 am186_22 am187_25 am188_28 am189_31 am1810_34 am1811_37 am1812_40 am1813_43 am1814_46 am1815_49 am1816_52)) (mf_wX_put_40 k_post p0 p1 r_3 f0_wayEnd_4 am181_7 am182_10 am183_13 am184_16 am185_19 am186_22 am187_25 am188_28 am189_31 am1810_34 am1811_37 am1812_40 am1813_43 am1814_46 am1815_49 am1816_52)) f0_wayEnd a1 a2 a3 a4 a5 a6 a7 a8 a9 a10 a11 a12 a13 a14 a15 a16 y1 p0)) f0_wayEnd a1 a2 a3 a4 a5 a6 a7 a8 a9 a10 a11 a12 a13 a14 a15 a16 p0
theorem mt_wpX_put (E : Nat × Int32 × Int32) {post : Int32 → St2 → Prop} {k_post : Nat → Nat → Nat → Nat → Nat → Nat → Nat → Nat → Nat → Nat → Nat → Nat → Nat → Nat → Nat → Nat → Nat → Nat → Bool} {f0_wayEnd a1 a2 a3 a4 a5 a6 a7 a8 a9 a10 a11 a12 a13 a14 a15 a16 : Nat} {e_p0 : Int32} {p0 : Nat} (p_p0 : e_p0 = ct_dec E p0) {e_p1 : Int32} {p1 : Nat} (p_p1 : e_p1 = ct_dec E p1) (h : mf_wpX_put k_post f0_wayEnd a1 a2 a3 a4 a5 a6 a7 a8 a9 a10 a11 a12 a13 a14 a15 a16 p0 p1 = true) (h_post : ∀ r0 r1 r2 r3 r4 r5 r6 r7 r8 r9 r10 r11 r12 r13 r14 r15 r16 r17 : Nat, k_post r0 r1 r2 r3 r4 r5 r6 r7 r8 r9 r10 r11 r12 r13 r14 r15 r16 r17 = true → post (ct_dec E r0) (ct_dec E r1, ct_da E r2, ct_da E r3, ct_da E r4, ct_da E r5, ct_da E r6, ct_da E r7, ct_da E r8, ct_da E r9, ct_da E r10, ct_da E r11, ct_da E r12, ct_da E r13, ct_da E r14, ct_da E r15, ct_da E r16, ct_da E r17)) :
    wpX_put post (ct_dec E f0_wayEnd, ct_da E a1, ct_da E a2, ct_da E a3, ct_da E a4, ct_da E a5, ct_da E a6, ct_da E a7, ct_da E a8, ct_da E a9, ct_da E a10, ct_da E a11, ct_da E a12, ct_da E a13, ct_da E a14, ct_da E a15, ct_da E a16) e_p0 e_p1 := by
  subst p_p0 p_p1
  unfold mf_wpX_put at h
  unfold wpX_put
  refine mt_wpX_isKey E (ct_v E p0) h (fun r_1 h => ?_)
  refine ct_eqS (ct_v E r_1) (ct_l0 E) h (fun h => ?_) (fun h => ?_)
  · refine ct_sub (P := fun z => post z ((ct_dec E f0_wayEnd, ct_da E a1, ct_da E a2, ct_da E a3, ct_da E a4, ct_da E a5, ct_da E a6, ct_da E a7, ct_da E a8, ct_da E a9, ct_da E a10, ct_da E a11, ct_da E a12, ct_da E a13, ct_da E a14, ct_da E a15, ct_da E a16))) (ct_m1 E) ?_
    exact h_post _ _ _ _ _ _ _ _ _ _ _ _ _ _ _ _ _ _ h
  · replace h := ct_fcE h
    refine mt_wpX_find E (ct_rk E a11 3) (ct_v E p0) h (fun r_3 f0_wayEnd_4 am181_7 am182_10 am183_13 am184_16 am185_19 am186_22 am187_25 am188_28 am189_31 am1810_34 am1811_37 am1812_40 am1813_43 am1814_46 am1815_49 am1816_52 h => ?_)
    refine ct_eqS (ct_v E r_3) (ct_l0 E) h (fun h => ?_) (fun h => ?_)
    · refine ct_ltS (ct_rk E am1812_40 3) (ct_l24 E) h (fun h => ?_) (fun h => ?_)
      · exact mt_wX_put_40 E (ct_v E p0) (ct_v E p1) (ct_v E r_3) (ct_v E f0_wayEnd_4) h h_post
      · refine ct_sub (P := fun z => post z ((ct_dec E f0_wayEnd_4, ct_da E am181_7, ct_da E am182_10, ct_da E am183_13, ct_da E am184_16, ct_da E am185_19, ct_da E am186_22, ct_da E am187_25, ct_da E am188_28, ct_da E am189_31, ct_da E am1810_34, ct_da E am1811_37, ct_da E am1812_40, ct_da E am1813_43, ct_da E am1814_46, ct_da E am1815_49, ct_da E am1816_52))) (ct_m2 E) ?_
        exact h_post _ _ _ _ _ _ _ _ _ _ _ _ _ _ _ _ _ _ h
    · exact mt_wX_put_40 E (ct_v E p0) (ct_v E p1) (ct_v E r_3) (ct_v E f0_wayEnd_4) h h_post

noncomputable def mf_wX_next_84 (k_post : Nat → Bool) (k_J21 : Nat → Nat → Bool) (x2 : Nat) (x3 : Nat) (x4 : Nat) (x5 : Nat) (f0_wayEnd : Nat) (a1 : Nat) (a2 : Nat) (a3 : Nat) (a4 : Nat) (a5 : Nat) (a6 : Nat) (a7 : Nat) (a8 : Nat) (a9 : Nat) (a10 : Nat) (a11 : Nat) (a12 : Nat) (a13 : Nat) (a14 : Nat) (a15 : Nat) (a16 : Nat) : Bool :=
  ct_in (ct_ml 6 x3) 600 fun t1 => ct_le 0 (ct_gt a4 t1) (ct_in (ct_ad (ct_ml 6 x3) x5) 600 fun t2 => ct_fc (ct_gt a4 t2) fun x3_13 => k_J21 x3_13 x4) (k_J21 4294967295 x4)
theorem mt_wX_next_84 (E : Nat × Int32 × Int32) {post : Int32 → Prop} {k_post : Nat → Bool} {J21 : Int32 → Int32 → Prop} {k_J21 : Nat → Nat → Bool} {e_x2 : Int32} {x2 : Nat} (p_x2 : e_x2 = ct_dec E x2) {e_x3 : Int32} {x3 : Nat} (p_x3 : e_x3 = ct_dec E x3) {e_x4 : Int32} {x4 : Nat} (p_x4 : e_x4 = ct_dec E x4) {e_x5 : Int32} {x5 : Nat} (p_x5 : e_x5 = ct_dec E x5) {e_f0_wayEnd : Int32} {f0_wayEnd : Nat} (p_f0_wayEnd : e_f0_wayEnd = ct_dec E f0_wayEnd) {a1 : Nat} {a2 : Nat} {a3 : Nat} {a4 : Nat} {a5 : Nat} {a6 : Nat} {a7 : Nat} {a8 : Nat} {a9 : Nat} {a10 : Nat} {a11 : Nat} {a12 : Nat} {a13 : Nat} {a14 : Nat} {a15 : Nat} {a16 : Nat} (h : mf_wX_next_84 k_post k_J21 x2 x3 x4 x5 f0_wayEnd a1 a2 a3 a4 a5 a6 a7 a8 a9 a10 a11 a12 a13 a14 a15 a16 = true) (h_post : ∀ r0 : Nat, k_post r0 = true → post (ct_dec E r0)) (h_J21 : ∀ r0 r1 : Nat, k_J21 r0 r1 = true → J21 (ct_dec E r0) (ct_dec E r1)) :
    wX_next_84 post J21 e_x2 e_x3 e_x4 e_x5 e_f0_wayEnd (ct_da E a1) (ct_da E a2) (ct_da E a3) (ct_da E a4) (ct_da E a5) (ct_da E a6) (ct_da E a7) (ct_da E a8) (ct_da E a9) (ct_da E a10) (ct_da E a11) (ct_da E a12) (ct_da E a13) (ct_da E a14) (ct_da E a15) (ct_da E a16) := by
  subst p_x2 p_x3 p_x4 p_x5 p_f0_wayEnd
  unfold mf_wX_next_84 at h
  unfold wX_next_84
  refine ct_inS (by decide) (ct_mul (x := 6) (k := 6) rfl (ct_v E x3)) h (fun t1 q1 l1 h => ?_)
  refine ct_leS (ct_l0 E) (ct_rd a4 q1 l1) h (fun h => ?_) (fun h => ?_)
  · refine ct_inS (by decide) (ct_add (ct_mul (x := 6) (k := 6) rfl (ct_v E x3)) (ct_v E x5)) h (fun t2 q2 l2 h => ?_)
    refine ct_let (ct_rd a4 q2 l2) h (fun x3_13 h => ?_)
    exact h_J21 _ _ h
  · refine ct_sub (P := fun z => J21 z (ct_dec E x4)) (ct_m1 E) ?_
    exact h_J21 _ _ h

noncomputable def mf_wX_next_60 (k_post : Nat → Bool) (k_J21 : Nat → Nat → Bool) (x2 : Nat) (x3 : Nat) (x4 : Nat) (x5 : Nat) (f0_wayEnd : Nat) (a1 : Nat) (a2 : Nat) (a3 : Nat) (a4 : Nat) (a5 : Nat) (a6 : Nat) (a7 : Nat) (a8 : Nat) (a9 : Nat) (a10 : Nat) (a11 : Nat) (a12 : Nat) (a13 : Nat) (a14 : Nat) (a15 : Nat) (a16 : Nat) : Bool :=
  ct_in x3 100 fun t1 => ct_le (ct_gt a1 t1) x5 (mf_wX_next_84 k_post k_J21 x2 x3 x4 x5 f0_wayEnd a1 a2 a3 a4 a5 a6 a7 a8 a9 a10 a11 a12 a13 a14 a15 a16) (ct_in (ct_ad (ct_ml 5 x3) x5) 500 fun t2 => ct_fc (ct_gt a2 t2) fun x4_15 => mf_wX_next_84 k_post k_J21 x2 x3 x4_15 x5 f0_wayEnd a1 a2 a3 a4 a5 a6 a7 a8 a9 a10 a11 a12 a13 a14 a15 a16)
theorem mt_wX_next_60 (E : Nat × Int32 × Int32) {post : Int32 → Prop} {k_post : Nat → Bool} {J21 : Int32 → Int32 → Prop} {k_J21 : Nat → Nat → Bool} {e_x2 : Int32} {x2 : Nat} (p_x2 : e_x2 = ct_dec E x2) {e_x3 : Int32} {x3 : Nat} (p_x3 : e_x3 = ct_dec E x3) {e_x4 : Int32} {x4 : Nat} (p_x4 : e_x4 = ct_dec E x4) {e_x5 : Int32} {x5 : Nat} (p_x5 : e_x5 = ct_dec E x5) {e_f0_wayEnd : Int32} {f0_wayEnd : Nat} (p_f0_wayEnd : e_f0_wayEnd = ct_dec E f0_wayEnd) {a1 : Nat} {a2 : Nat} {a3 : Nat} {a4 : Nat} {a5 : Nat} {a6 : Nat} {a7 : Nat} {a8 : Nat} {a9 : Nat} {a10 : Nat} {a11 : Nat} {a12 : Nat} {a13 : Nat} {a14 : Nat} {a15 : Nat} {a16 : Nat} (h : mf_wX_next_60 k_post k_J21 x2 x3 x4 x5 f0_wayEnd a1 a2 a3 a4 a5 a6 a7 a8 a9 a10 a11 a12 a13 a14 a15 a16 = true) (h_post : ∀ r0 : Nat, k_post r0 = true → post (ct_dec E r0)) (h_J21 : ∀ r0 r1 : Nat, k_J21 r0 r1 = true → J21 (ct_dec E r0) (ct_dec E r1)) :
    wX_next_60 post J21 e_x2 e_x3 e_x4 e_x5 e_f0_wayEnd (ct_da E a1) (ct_da E a2) (ct_da E a3) (ct_da E a4) (ct_da E a5) (ct_da E a6) (ct_da E a7) (ct_da E a8) (ct_da E a9) (ct_da E a10) (ct_da E a11) (ct_da E a12) (ct_da E a13) (ct_da E a14) (ct_da E a15) (ct_da E a16) := by
  subst p_x2 p_x3 p_x4 p_x5 p_f0_wayEnd
  unfold mf_wX_next_60 at h
  unfold wX_next_60
  refine ct_inS (by decide) (ct_v E x3) h (fun t1 q1 l1 h => ?_)
  refine ct_leS (ct_rd a1 q1 l1) (ct_v E x5) h (fun h => ?_) (fun h => ?_)
  · exact mt_wX_next_84 E (ct_v E x2) (ct_v E x3) (ct_v E x4) (ct_v E x5) (ct_v E f0_wayEnd) h h_post h_J21
  · refine ct_inS (by decide) (ct_add (ct_mul (x := 5) (k := 5) rfl (ct_v E x3)) (ct_v E x5)) h (fun t2 q2 l2 h => ?_)
    refine ct_let (ct_rd a2 q2 l2) h (fun x4_15 h => ?_)
    exact mt_wX_next_84 E (ct_v E x2) (ct_v E x3) (ct_v E x4_15) (ct_v E x5) (ct_v E f0_wayEnd) h h_post h_J21
end
section
noncomputable def mb_wX_next_28 (k_post : Nat → Bool) (k_J21 : Nat → Nat → Bool) (x2 : Nat) (x3 : Nat) (x4 : Nat) (f0_wayEnd : Nat) (a1 : Nat) (a2 : Nat) (a3 : Nat) (a4 : Nat) (a5 : Nat) (a6 : Nat) (a7 : Nat) (a8 : Nat) (a9 : Nat) (a10 : Nat) (a11 : Nat) (a12 : Nat) (a13 : Nat) (a14 : Nat) (a15 : Nat) (a16 : Nat) (ih : Nat → Bool) (x5 : Nat) : Bool :=
  ct_in x3 100 fun t1 => ct_le (ct_gt a1 t1) x5 (mf_wX_next_60 k_post k_J21 x2 x3 x4 x5 f0_wayEnd a1 a2 a3 a4 a5 a6 a7 a8 a9 a10 a11 a12 a13 a14 a15 a16) (ct_in (ct_ad (ct_ml 5 x3) x5) 500 fun t2 => ct_lt x2 (ct_gt a2 t2) (mf_wX_next_60 k_post k_J21 x2 x3 x4 x5 f0_wayEnd a1 a2 a3 a4 a5 a6 a7 a8 a9 a10 a11 a12 a13 a14 a15 a16) (ct_fc (ct_ad x5 1) fun x5_18 => ih x5_18))
noncomputable def mf_wX_next_28 (k_post : Nat → Bool) (k_J21 : Nat → Nat → Bool) (x2 : Nat) (x3 : Nat) (x4 : Nat) (f0_wayEnd : Nat) (a1 : Nat) (a2 : Nat) (a3 : Nat) (a4 : Nat) (a5 : Nat) (a6 : Nat) (a7 : Nat) (a8 : Nat) (a9 : Nat) (a10 : Nat) (a11 : Nat) (a12 : Nat) (a13 : Nat) (a14 : Nat) (a15 : Nat) (a16 : Nat) (n : Nat) : Nat → Bool :=
  Nat.rec (motive := fun _ => Nat → Bool) (fun _ => false) (fun _ ih => mb_wX_next_28 k_post k_J21 x2 x3 x4 f0_wayEnd a1 a2 a3 a4 a5 a6 a7 a8 a9 a10 a11 a12 a13 a14 a15 a16 ih) n
theorem mt_wX_next_28 (E : Nat × Int32 × Int32) {post : Int32 → Prop} {k_post : Nat → Bool} {J21 : Int32 → Int32 → Prop} {k_J21 : Nat → Nat → Bool} {e_x2 : Int32} {x2 : Nat} (p_x2 : e_x2 = ct_dec E x2) {e_x3 : Int32} {x3 : Nat} (p_x3 : e_x3 = ct_dec E x3) {e_x4 : Int32} {x4 : Nat} (p_x4 : e_x4 = ct_dec E x4) {e_f0_wayEnd : Int32} {f0_wayEnd : Nat} (p_f0_wayEnd : e_f0_wayEnd = ct_dec E f0_wayEnd) {a1 : Nat} {a2 : Nat} {a3 : Nat} {a4 : Nat} {a5 : Nat} {a6 : Nat} {a7 : Nat} {a8 : Nat} {a9 : Nat} {a10 : Nat} {a11 : Nat} {a12 : Nat} {a13 : Nat} {a14 : Nat} {a15 : Nat} {a16 : Nat} {n : Nat} {e_x5 : Int32} {x5 : Nat} (p_x5 : e_x5 = ct_dec E x5) (h : mf_wX_next_28 k_post k_J21 x2 x3 x4 f0_wayEnd a1 a2 a3 a4 a5 a6 a7 a8 a9 a10 a11 a12 a13 a14 a15 a16 n x5 = true) (h_post : ∀ r0 : Nat, k_post r0 = true → post (ct_dec E r0)) (h_J21 : ∀ r0 r1 : Nat, k_J21 r0 r1 = true → J21 (ct_dec E r0) (ct_dec E r1)) :
    wX_next_28 post J21 e_x2 e_x3 e_x4 e_f0_wayEnd (ct_da E a1) (ct_da E a2) (ct_da E a3) (ct_da E a4) (ct_da E a5) (ct_da E a6) (ct_da E a7) (ct_da E a8) (ct_da E a9) (ct_da E a10) (ct_da E a11) (ct_da E a12) (ct_da E a13) (ct_da E a14) (ct_da E a15) (ct_da E a16) n e_x5 := by
  subst p_x2 p_x3 p_x4 p_f0_wayEnd
  have key : ∀ (n : Nat) {e_x5 : Int32} {x5 : Nat} (p_x5 : e_x5 = ct_dec E x5), mf_wX_next_28 k_post k_J21 x2 x3 x4 f0_wayEnd a1 a2 a3 a4 a5 a6 a7 a8 a9 a10 a11 a12 a13 a14 a15 a16 n x5 = true → wX_next_28 post J21 (ct_dec E x2) (ct_dec E x3) (ct_dec E x4) (ct_dec E f0_wayEnd) (ct_da E a1) (ct_da E a2) (ct_da E a3) (ct_da E a4) (ct_da E a5) (ct_da E a6) (ct_da E a7) (ct_da E a8) (ct_da E a9) (ct_da E a10) (ct_da E a11) (ct_da E a12) (ct_da E a13) (ct_da E a14) (ct_da E a15) (ct_da E a16) n e_x5 := by
    intro n
    induction n with
    | zero =>
      intro e_x5 x5 p_x5 h
      exact Bool.noConfusion (show false = true from h)
    | succ n ih =>
      intro e_x5 x5 p_x5 h
      subst p_x5
      replace h : mb_wX_next_28 k_post k_J21 x2 x3 x4 f0_wayEnd a1 a2 a3 a4 a5 a6 a7 a8 a9 a10 a11 a12 a13 a14 a15 a16 (mf_wX_next_28 k_post k_J21 x2 x3 x4 f0_wayEnd a1 a2 a3 a4 a5 a6 a7 a8 a9 a10 a11 a12 a13 a14 a15 a16 n) x5 = true := h
      unfold mb_wX_next_28 at h
      unfold wX_next_28
      refine ct_inS (by decide) (ct_v E x3) h (fun t1 q1 l1 h => ?_)
      refine ct_leS (ct_rd a1 q1 l1) (ct_v E x5) h (fun h => ?_) (fun h => ?_)
      · exact mt_wX_next_60 E (ct_v E x2) (ct_v E x3) (ct_v E x4) (ct_v E x5) (ct_v E f0_wayEnd) h h_post h_J21
      · refine ct_inS (by decide) (ct_add (ct_mul (x := 5) (k := 5) rfl (ct_v E x3)) (ct_v E x5)) h (fun t2 q2 l2 h => ?_)
        refine ct_ltS (ct_v E x2) (ct_rd a2 q2 l2) h (fun h => ?_) (fun h => ?_)
        · exact mt_wX_next_60 E (ct_v E x2) (ct_v E x3) (ct_v E x4) (ct_v E x5) (ct_v E f0_wayEnd) h h_post h_J21
        · refine ct_let (ct_add (ct_v E x5) (ct_l1 E)) h (fun x5_18 h => ?_)
          exact ih (ct_v E x5_18) h
  exact key n p_x5 h

noncomputable def mb_wX_next_21 (k_post : Nat → Bool) (x2 : Nat) (f0_wayEnd : Nat) (a1 : Nat) (a2 : Nat) (a3 : Nat) (a4 : Nat) (a5 : Nat) (a6 : Nat) (a7 : Nat) (a8 : Nat) (a9 : Nat) (a10 : Nat) (a11 : Nat) (a12 : Nat) (a13 : Nat) (a14 : Nat) (a15 : Nat) (a16 : Nat) (ih : Nat → Nat → Bool) (x3 : Nat) (x4 : Nat) : Bool :=
  ct_lt x3 0 (k_post x4) (mf_wX_next_28 k_post ih x2 x3 x4 f0_wayEnd a1 a2 a3 a4 a5 a6 a7 a8 a9 a10 a11 a12 a13 a14 a15 a16 128 0)
noncomputable def mf_wX_next_21 (k_post : Nat → Bool) (x2 : Nat) (f0_wayEnd : Nat) (a1 : Nat) (a2 : Nat) (a3 : Nat) (a4 : Nat) (a5 : Nat) (a6 : Nat) (a7 : Nat) (a8 : Nat) (a9 : Nat) (a10 : Nat) (a11 : Nat) (a12 : Nat) (a13 : Nat) (a14 : Nat) (a15 : Nat) (a16 : Nat) (n : Nat) : Nat → Nat → Bool :=
  Nat.rec (motive := fun _ => Nat → Nat → Bool) (fun _ _ => false) (fun _ ih => mb_wX_next_21 k_post x2 f0_wayEnd a1 a2 a3 a4 a5 a6 a7 a8 a9 a10 a11 a12 a13 a14 a15 a16 ih) n
theorem mt_wX_next_21 (E : Nat × Int32 × Int32) {post : Int32 → Prop} {k_post : Nat → Bool} {e_x2 : Int32} {x2 : Nat} (p_x2 : e_x2 = ct_dec E x2) {e_f0_wayEnd : Int32} {f0_wayEnd : Nat} (p_f0_wayEnd : e_f0_wayEnd = ct_dec E f0_wayEnd) {a1 : Nat} {a2 : Nat} {a3 : Nat} {a4 : Nat} {a5 : Nat} {a6 : Nat} {a7 : Nat} {a8 : Nat} {a9 : Nat} {a10 : Nat} {a11 : Nat} {a12 : Nat} {a13 : Nat} {a14 : Nat} {a15 : Nat} {a16 : Nat} {n : Nat} {e_x3 : Int32} {x3 : Nat} (p_x3 : e_x3 = ct_dec E x3) {e_x4 : Int32} {x4 : Nat} (p_x4 : e_x4 = ct_dec E x4) (h : mf_wX_next_21 k_post x2 f0_wayEnd a1 a2 a3 a4 a5 a6 a7 a8 a9 a10 a11 a12 a13 a14 a15 a16 n x3 x4 = true) (h_post : ∀ r0 : Nat, k_post r0 = true → post (ct_dec E r0)) :
    wX_next_21 post e_x2 e_f0_wayEnd (ct_da E a1) (ct_da E a2) (ct_da E a3) (ct_da E a4) (ct_da E a5) (ct_da E a6) (ct_da E a7) (ct_da E a8) (ct_da E a9) (ct_da E a10) (ct_da E a11) (ct_da E a12) (ct_da E a13) (ct_da E a14) (ct_da E a15) (ct_da E a16) n e_x3 e_x4 := by
  subst p_x2 p_f0_wayEnd
  have key : ∀ (n : Nat) {e_x3 : Int32} {x3 : Nat} (p_x3 : e_x3 = ct_dec E x3) {e_x4 : Int32} {x4 : Nat} (p_x4 : e_x4 = ct_dec E x4), mf_wX_next_21 k_post x2 f0_wayEnd a1 a2 a3 a4 a5 a6 a7 a8 a9 a10 a11 a12 a13 a14 a15 a16 n x3 x4 = true → wX_next_21 post (ct_dec E x2) (ct_dec E f0_wayEnd) (ct_da E a1) (ct_da E a2) (ct_da E a3) (ct_da E a4) (ct_da E a5) (ct_da E a6) (ct_da E a7) (ct_da E a8) (ct_da E a9) (ct_da E a10) (ct_da E a11) (ct_da E a12) (ct_da E a13) (ct_da E a14) (ct_da E a15) (ct_da E a16) n e_x3 e_x4 := by
    intro n
    induction n with
    | zero =>
      intro e_x3 x3 p_x3 e_x4 x4 p_x4 h
      exact Bool.noConfusion (show false = true from h)
    | succ n ih =>
      intro e_x3 x3 p_x3 e_x4 x4 p_x4 h
      subst p_x3 p_x4
      replace h : mb_wX_next_21 k_post x2 f0_wayEnd a1 a2 a3 a4 a5 a6 a7 a8 a9 a10 a11 a12 a13 a14 a15 a16 (mf_wX_next_21 k_post x2 f0_wayEnd a1 a2 a3 a4 a5 a6 a7 a8 a9 a10 a11 a12 a13 a14 a15 a16 n) x3 x4 = true := h
      unfold mb_wX_next_21 at h
      unfold wX_next_21
      refine ct_ltS (ct_v E x3) (ct_l0 E) h (fun h => ?_) (fun h => ?_)
      · exact h_post _ h
      · refine ⟨128, ?_⟩
        exact mt_wX_next_28 E (ct_v E x2) (ct_v E x3) (ct_v E x4) (ct_v E f0_wayEnd) (ct_l0 E) h h_post (fun j0 j1 h => ih (ct_v E j0) (ct_v E j1) h)
  exact key n p_x3 p_x4 h

noncomputable def mf_wpX_next (k_post : Nat → Bool) (f0_wayEnd : Nat) (a1 : Nat) (a2 : Nat) (a3 : Nat) (a4 : Nat) (a5 : Nat) (a6 : Nat) (a7 : Nat) (a8 : Nat) (a9 : Nat) (a10 : Nat) (a11 : Nat) (a12 : Nat) (a13 : Nat) (a14 : Nat) (a15 : Nat) (a16 : Nat) (p0 : Nat) (p1 : Nat) : Bool :=
  mf_wpX_sees (fun r_1 => ct_eq r_1 0 (k_post 4294967295) (ct_in p0 4 fun t1 => ct_fc (ct_gt a11 t1) fun x3_4 => mf_wX_next_21 k_post p1 f0_wayEnd a1 a2 a3 a4 a5 a6 a7 a8 a9 a10 a11 a12 a13 a14 a15 a16 128 x3_4 4294967293)) f0_wayEnd a1 a2 a3 a4 a5 a6 a7 a8 a9 a10 a11 a12 a13 a14 a15 a16 p0
theorem mt_wpX_next (E : Nat × Int32 × Int32) {post : Int32 → Prop} {k_post : Nat → Bool} {f0_wayEnd a1 a2 a3 a4 a5 a6 a7 a8 a9 a10 a11 a12 a13 a14 a15 a16 : Nat} {e_p0 : Int32} {p0 : Nat} (p_p0 : e_p0 = ct_dec E p0) {e_p1 : Int32} {p1 : Nat} (p_p1 : e_p1 = ct_dec E p1) (h : mf_wpX_next k_post f0_wayEnd a1 a2 a3 a4 a5 a6 a7 a8 a9 a10 a11 a12 a13 a14 a15 a16 p0 p1 = true) (h_post : ∀ r0 : Nat, k_post r0 = true → post (ct_dec E r0)) :
    wpX_next post (ct_dec E f0_wayEnd, ct_da E a1, ct_da E a2, ct_da E a3, ct_da E a4, ct_da E a5, ct_da E a6, ct_da E a7, ct_da E a8, ct_da E a9, ct_da E a10, ct_da E a11, ct_da E a12, ct_da E a13, ct_da E a14, ct_da E a15, ct_da E a16) e_p0 e_p1 := by
  subst p_p0 p_p1
  unfold mf_wpX_next at h
  unfold wpX_next
  refine mt_wpX_sees E (ct_v E p0) h (fun r_1 h => ?_)
  refine ct_eqS (ct_v E r_1) (ct_l0 E) h (fun h => ?_) (fun h => ?_)
  · refine ct_sub (P := fun z => post z) (ct_m1 E) ?_
    exact h_post _ h
  · refine ct_inS (by decide) (ct_v E p0) h (fun t1 q1 l1 h => ?_)
    refine ct_let (ct_rd a11 q1 l1) h (fun x3_4 h => ?_)
    refine ⟨128, ?_⟩
    exact mt_wX_next_21 E (ct_v E p1) (ct_v E f0_wayEnd) (ct_v E x3_4) (ct_m3 E) h h_post

noncomputable def mf_wpX_writeMeta (k_post : Nat → Nat → Nat → Nat → Nat → Nat → Nat → Nat → Nat → Nat → Nat → Nat → Nat → Nat → Nat → Nat → Nat → Bool) (f0_wayEnd : Nat) (a1 : Nat) (a2 : Nat) (a3 : Nat) (a4 : Nat) (a5 : Nat) (a6 : Nat) (a7 : Nat) (a8 : Nat) (a9 : Nat) (a10 : Nat) (a11 : Nat) (a12 : Nat) (a13 : Nat) (a14 : Nat) (a15 : Nat) (a16 : Nat) (p0 : Nat) : Bool :=
  mf_wpX_validMeta (fun r_1 => ct_fc (ct_sb 1 r_1) fun x3_2 => ct_in x3_2 2 fun t1 => ct_bo p0 fun b2 => ct_fc (ct_st a10 t1 b2) fun a10_4 => ct_in x3_2 2 fun t3 => ct_by (ct_gt a11 3) fun b4 => ct_fc (ct_st a7 t3 b4) fun a7_6 => ct_in x3_2 2 fun t5 => ct_by (ct_gt a12 3) fun b6 => ct_fc (ct_st a8 t5 b6) fun a8_8 => ct_in r_1 2 fun t7 => ct_in x3_2 2 fun t8 => ct_fc (ct_st a9 t8 (ct_ad (ct_gt a9 t7) 1)) fun a9_11 => k_post f0_wayEnd a1 a2 a3 a4 a5 a6 a7_6 a8_8 a9_11 a10_4 a11 a12 a13 a14 a15 a16) f0_wayEnd a1 a2 a3 a4 a5 a6 a7 a8 a9 a10 a11 a12 a13 a14 a15 a16
theorem mt_wpX_writeMeta (E : Nat × Int32 × Int32) {post : St2 → Prop} {k_post : Nat → Nat → Nat → Nat → Nat → Nat → Nat → Nat → Nat → Nat → Nat → Nat → Nat → Nat → Nat → Nat → Nat → Bool} {f0_wayEnd a1 a2 a3 a4 a5 a6 a7 a8 a9 a10 a11 a12 a13 a14 a15 a16 : Nat} {e_p0 : Int32} {p0 : Nat} (p_p0 : e_p0 = ct_dec E p0) (h : mf_wpX_writeMeta k_post f0_wayEnd a1 a2 a3 a4 a5 a6 a7 a8 a9 a10 a11 a12 a13 a14 a15 a16 p0 = true) (h_post : ∀ r0 r1 r2 r3 r4 r5 r6 r7 r8 r9 r10 r11 r12 r13 r14 r15 r16 : Nat, k_post r0 r1 r2 r3 r4 r5 r6 r7 r8 r9 r10 r11 r12 r13 r14 r15 r16 = true → post (ct_dec E r0, ct_da E r1, ct_da E r2, ct_da E r3, ct_da E r4, ct_da E r5, ct_da E r6, ct_da E r7, ct_da E r8, ct_da E r9, ct_da E r10, ct_da E r11, ct_da E r12, ct_da E r13, ct_da E r14, ct_da E r15, ct_da E r16)) :
    wpX_writeMeta post (ct_dec E f0_wayEnd, ct_da E a1, ct_da E a2, ct_da E a3, ct_da E a4, ct_da E a5, ct_da E a6, ct_da E a7, ct_da E a8, ct_da E a9, ct_da E a10, ct_da E a11, ct_da E a12, ct_da E a13, ct_da E a14, ct_da E a15, ct_da E a16) e_p0 := by
  subst p_p0
  unfold mf_wpX_writeMeta at h
  unfold wpX_writeMeta
  refine mt_wpX_validMeta E  h (fun r_1 h => ?_)
  refine ct_let (ct_sbb (ct_l1 E) (ct_v E r_1)) h (fun x3_2 h => ?_)
  refine ct_inS (by decide) (ct_v E x3_2) h (fun t1 q1 l1 h => ?_)
  refine ct_boS (ct_v E p0) h (fun b2 hb2 h => ?_)
  refine ct_leta (ct_up a10 q1 l1 hb2) h (fun a10_4 h => ?_)
  refine ct_inS (by decide) (ct_v E x3_2) h (fun t3 q3 l3 h => ?_)
  refine ct_byS (ct_rk E a11 3) h (fun b4 hb4 h => ?_)
  refine ct_leta (ct_up a7 q3 l3 hb4) h (fun a7_6 h => ?_)
  refine ct_inS (by decide) (ct_v E x3_2) h (fun t5 q5 l5 h => ?_)
  refine ct_byS (ct_rk E a12 3) h (fun b6 hb6 h => ?_)
  refine ct_leta (ct_up a8 q5 l5 hb6) h (fun a8_8 h => ?_)
  refine ct_inS (by decide) (ct_v E r_1) h (fun t7 q7 l7 h => ?_)
  refine ct_inS (by decide) (ct_v E x3_2) h (fun t8 q8 l8 h => ?_)
  refine ct_leta (ct_up a9 q8 l8 (ct_add (ct_rd a9 q7 l7) (ct_l1 E))) h (fun a9_11 h => ?_)
  exact h_post _ _ _ _ _ _ _ _ _ _ _ _ _ _ _ _ _ h

noncomputable def mf_wpX_number (k_post : Nat → Bool) (f0_wayEnd : Nat) (a1 : Nat) (a2 : Nat) (a3 : Nat) (a4 : Nat) (a5 : Nat) (a6 : Nat) (a7 : Nat) (a8 : Nat) (a9 : Nat) (a10 : Nat) (a11 : Nat) (a12 : Nat) (a13 : Nat) (a14 : Nat) (a15 : Nat) (a16 : Nat) : Bool :=
  mf_wpX_validMeta (fun r_1 => ct_in r_1 2 fun t1 => ct_fc (ct_gt a9 t1) fun y2 => k_post y2) f0_wayEnd a1 a2 a3 a4 a5 a6 a7 a8 a9 a10 a11 a12 a13 a14 a15 a16
theorem mt_wpX_number (E : Nat × Int32 × Int32) {post : Int32 → Prop} {k_post : Nat → Bool} {f0_wayEnd a1 a2 a3 a4 a5 a6 a7 a8 a9 a10 a11 a12 a13 a14 a15 a16 : Nat} (h : mf_wpX_number k_post f0_wayEnd a1 a2 a3 a4 a5 a6 a7 a8 a9 a10 a11 a12 a13 a14 a15 a16 = true) (h_post : ∀ r0 : Nat, k_post r0 = true → post (ct_dec E r0)) :
    wpX_number post (ct_dec E f0_wayEnd, ct_da E a1, ct_da E a2, ct_da E a3, ct_da E a4, ct_da E a5, ct_da E a6, ct_da E a7, ct_da E a8, ct_da E a9, ct_da E a10, ct_da E a11, ct_da E a12, ct_da E a13, ct_da E a14, ct_da E a15, ct_da E a16) := by
  unfold mf_wpX_number at h
  unfold wpX_number
  refine mt_wpX_validMeta E  h (fun r_1 h => ?_)
  refine ct_inS (by decide) (ct_v E r_1) h (fun t1 q1 l1 h => ?_)
  replace h := ct_fcE h
  refine ct_sub (P := fun z => post z) (ct_rd a9 q1 l1) ?_
  exact h_post _ h

noncomputable def mf_wpX_commit (k_post : Nat → Nat → Nat → Nat → Nat → Nat → Nat → Nat → Nat → Nat → Nat → Nat → Nat → Nat → Nat → Nat → Nat → Nat → Bool) (f0_wayEnd : Nat) (a1 : Nat) (a2 : Nat) (a3 : Nat) (a4 : Nat) (a5 : Nat) (a6 : Nat) (a7 : Nat) (a8 : Nat) (a9 : Nat) (a10 : Nat) (a11 : Nat) (a12 : Nat) (a13 : Nat) (a14 : Nat) (a15 : Nat) (a16 : Nat) : Bool :=
  mf_wpX_writeMeta (fun f0_wayEnd_2 am21_5 am22_8 am23_11 am24_14 am25_17 am26_20 am27_23 am28_26 am29_29 am210_32 am211_35 am212_38 am213_41 am214_44 am215_47 am216_50 => mf_wpX_settle (fun f0_wayEnd_52 am61_55 am62_58 am63_61 am64_64 am65_67 am66_70 am67_73 am68_76 am69_79 am610_82 am611_85 am612_88 am613_91 am614_94 am615_97 am616_100 => mf_wpX_number (fun r_101 => k_post r_101 f0_wayEnd_52 am61_55 am62_58 am63_61 am64_64 am65_67 am66_70 am67_73 am68_76 am69_79 am610_82 am611_85 am612_88 am613_91 am614_94 am615_97 am616_100) f0_wayEnd_52 am61_55 am62_58 am63_61 am64_64 am65_67 am66_70 am67_73 am68_76 am69_79 am610_82 am611_85 am612_88 am613_91 am614_94 am615_97 am616_100) f0_wayEnd_2 am21_5 am22_8 am23_11 am24_14 am25_17 am26_20 am27_23 am28_26 am29_29 am210_32 am211_35 am212_38 am213_41 am214_44 am215_47 am216_50) f0_wayEnd a1 a2 a3 a4 a5 a6 a7 a8 a9 a10 a11 a12 a13 a14 a15 a16 1
theorem mt_wpX_commit (E : Nat × Int32 × Int32) {post : Int32 → St2 → Prop} {k_post : Nat → Nat → Nat → Nat → Nat → Nat → Nat → Nat → Nat → Nat → Nat → Nat → Nat → Nat → Nat → Nat → Nat → Nat → Bool} {f0_wayEnd a1 a2 a3 a4 a5 a6 a7 a8 a9 a10 a11 a12 a13 a14 a15 a16 : Nat} (h : mf_wpX_commit k_post f0_wayEnd a1 a2 a3 a4 a5 a6 a7 a8 a9 a10 a11 a12 a13 a14 a15 a16 = true) (h_post : ∀ r0 r1 r2 r3 r4 r5 r6 r7 r8 r9 r10 r11 r12 r13 r14 r15 r16 r17 : Nat, k_post r0 r1 r2 r3 r4 r5 r6 r7 r8 r9 r10 r11 r12 r13 r14 r15 r16 r17 = true → post (ct_dec E r0) (ct_dec E r1, ct_da E r2, ct_da E r3, ct_da E r4, ct_da E r5, ct_da E r6, ct_da E r7, ct_da E r8, ct_da E r9, ct_da E r10, ct_da E r11, ct_da E r12, ct_da E r13, ct_da E r14, ct_da E r15, ct_da E r16, ct_da E r17)) :
    wpX_commit post (ct_dec E f0_wayEnd, ct_da E a1, ct_da E a2, ct_da E a3, ct_da E a4, ct_da E a5, ct_da E a6, ct_da E a7, ct_da E a8, ct_da E a9, ct_da E a10, ct_da E a11, ct_da E a12, ct_da E a13, ct_da E a14, ct_da E a15, ct_da E a16) := by
  unfold mf_wpX_commit at h
  unfold wpX_commit
  refine mt_wpX_writeMeta E (ct_l1 E) h (fun f0_wayEnd_2 am21_5 am22_8 am23_11 am24_14 am25_17 am26_20 am27_23 am28_26 am29_29 am210_32 am211_35 am212_38 am213_41 am214_44 am215_47 am216_50 h => ?_)
  refine mt_wpX_settle E  h (fun f0_wayEnd_52 am61_55 am62_58 am63_61 am64_64 am65_67 am66_70 am67_73 am68_76 am69_79 am610_82 am611_85 am612_88 am613_91 am614_94 am615_97 am616_100 h => ?_)
  refine mt_wpX_number E  h (fun r_101 h => ?_)
  exact h_post _ _ _ _ _ _ _ _ _ _ _ _ _ _ _ _ _ _ h

noncomputable def mf_wpX_open (k_post : Nat → Nat → Nat → Nat → Nat → Nat → Nat → Nat → Nat → Nat → Nat → Nat → Nat → Nat → Nat → Nat → Nat → Nat → Bool) (f0_wayEnd : Nat) (a1 : Nat) (a2 : Nat) (a3 : Nat) (a4 : Nat) (a5 : Nat) (a6 : Nat) (a7 : Nat) (a8 : Nat) (a9 : Nat) (a10 : Nat) (a11 : Nat) (a12 : Nat) (a13 : Nat) (a14 : Nat) (a15 : Nat) (a16 : Nat) (p0 : Nat) : Bool :=
  ct_lt p0 0 (k_post 4294967295 f0_wayEnd a1 a2 a3 a4 a5 a6 a7 a8 a9 a10 a11 a12 a13 a14 a15 a16) (ct_le p0 2 (mf_wpX_validMeta (fun r_3 => ct_in r_3 2 fun t1 => ct_in p0 4 fun t2 => ct_by (ct_gt a7 t1) fun b3 => ct_fc (ct_st a11 t2 b3) fun a11_6 => ct_in r_3 2 fun t4 => ct_in p0 4 fun t5 => ct_by (ct_gt a8 t4) fun b6 => ct_fc (ct_st a12 t5 b6) fun a12_9 => ct_in r_3 2 fun t7 => ct_in p0 4 fun t8 => ct_fc (ct_st a13 t8 (ct_gt a9 t7)) fun a13_12 => ct_in p0 4 fun t9 => ct_fc (ct_gt a13_12 t9) fun y10 => k_post y10 f0_wayEnd a1 a2 a3 a4 a5 a6 a7 a8 a9 a10 a11_6 a12_9 a13_12 a14 a15 a16) f0_wayEnd a1 a2 a3 a4 a5 a6 a7 a8 a9 a10 a11 a12 a13 a14 a15 a16) (k_post 4294967295 f0_wayEnd a1 a2 a3 a4 a5 a6 a7 a8 a9 a10 a11 a12 a13 a14 a15 a16))
theorem mt_wpX_open (E : Nat × Int32 × Int32) {post : Int32 → St2 → Prop} {k_post : Nat → Nat → Nat → Nat → Nat → Nat → Nat → Nat → Nat → Nat → Nat → Nat → Nat → Nat → Nat → Nat → Nat → Nat → Bool} {f0_wayEnd a1 a2 a3 a4 a5 a6 a7 a8 a9 a10 a11 a12 a13 a14 a15 a16 : Nat} {e_p0 : Int32} {p0 : Nat} (p_p0 : e_p0 = ct_dec E p0) (h : mf_wpX_open k_post f0_wayEnd a1 a2 a3 a4 a5 a6 a7 a8 a9 a10 a11 a12 a13 a14 a15 a16 p0 = true) (h_post : ∀ r0 r1 r2 r3 r4 r5 r6 r7 r8 r9 r10 r11 r12 r13 r14 r15 r16 r17 : Nat, k_post r0 r1 r2 r3 r4 r5 r6 r7 r8 r9 r10 r11 r12 r13 r14 r15 r16 r17 = true → post (ct_dec E r0) (ct_dec E r1, ct_da E r2, ct_da E r3, ct_da E r4, ct_da E r5, ct_da E r6, ct_da E r7, ct_da E r8, ct_da E r9, ct_da E r10, ct_da E r11, ct_da E r12, ct_da E r13, ct_da E r14, ct_da E r15, ct_da E r16, ct_da E r17)) :
    wpX_open post (ct_dec E f0_wayEnd, ct_da E a1, ct_da E a2, ct_da E a3, ct_da E a4, ct_da E a5, ct_da E a6, ct_da E a7, ct_da E a8, ct_da E a9, ct_da E a10, ct_da E a11, ct_da E a12, ct_da E a13, ct_da E a14, ct_da E a15, ct_da E a16) e_p0 := by
  subst p_p0
  unfold mf_wpX_open at h
  unfold wpX_open
  refine ct_ltS (ct_v E p0) (ct_l0 E) h (fun h => ?_) (fun h => ?_)
  · refine ct_sub (P := fun z => post z ((ct_dec E f0_wayEnd, ct_da E a1, ct_da E a2, ct_da E a3, ct_da E a4, ct_da E a5, ct_da E a6, ct_da E a7, ct_da E a8, ct_da E a9, ct_da E a10, ct_da E a11, ct_da E a12, ct_da E a13, ct_da E a14, ct_da E a15, ct_da E a16))) (ct_m1 E) ?_
    exact h_post _ _ _ _ _ _ _ _ _ _ _ _ _ _ _ _ _ _ h
  · refine ct_leS (ct_v E p0) (ct_l2 E) h (fun h => ?_) (fun h => ?_)
    · refine mt_wpX_validMeta E  h (fun r_3 h => ?_)
      refine ct_inS (by decide) (ct_v E r_3) h (fun t1 q1 l1 h => ?_)
      refine ct_inS (by decide) (ct_v E p0) h (fun t2 q2 l2 h => ?_)
      refine ct_byS (ct_rd a7 q1 l1) h (fun b3 hb3 h => ?_)
      refine ct_leta (ct_up a11 q2 l2 hb3) h (fun a11_6 h => ?_)
      refine ct_inS (by decide) (ct_v E r_3) h (fun t4 q4 l4 h => ?_)
      refine ct_inS (by decide) (ct_v E p0) h (fun t5 q5 l5 h => ?_)
      refine ct_byS (ct_rd a8 q4 l4) h (fun b6 hb6 h => ?_)
      refine ct_leta (ct_up a12 q5 l5 hb6) h (fun a12_9 h => ?_)
      refine ct_inS (by decide) (ct_v E r_3) h (fun t7 q7 l7 h => ?_)
      refine ct_inS (by decide) (ct_v E p0) h (fun t8 q8 l8 h => ?_)
      refine ct_leta (ct_up a13 q8 l8 (ct_rd a9 q7 l7)) h (fun a13_12 h => ?_)
      refine ct_inS (by decide) (ct_v E p0) h (fun t9 q9 l9 h => ?_)
      replace h := ct_fcE h
      refine ct_sub (P := fun z => post z ((ct_dec E f0_wayEnd, ct_da E a1, ct_da E a2, ct_da E a3, ct_da E a4, ct_da E a5, ct_da E a6, ct_da E a7, ct_da E a8, ct_da E a9, ct_da E a10, ct_da E a11_6, ct_da E a12_9, ct_da E a13_12, ct_da E a14, ct_da E a15, ct_da E a16))) (ct_rd a13_12 q9 l9) ?_
      exact h_post _ _ _ _ _ _ _ _ _ _ _ _ _ _ _ _ _ _ h
    · refine ct_sub (P := fun z => post z ((ct_dec E f0_wayEnd, ct_da E a1, ct_da E a2, ct_da E a3, ct_da E a4, ct_da E a5, ct_da E a6, ct_da E a7, ct_da E a8, ct_da E a9, ct_da E a10, ct_da E a11, ct_da E a12, ct_da E a13, ct_da E a14, ct_da E a15, ct_da E a16))) (ct_m1 E) ?_
      exact h_post _ _ _ _ _ _ _ _ _ _ _ _ _ _ _ _ _ _ h

noncomputable def mb_wX_lengthenWay_43 (k_post : Nat → Nat → Nat → Nat → Nat → Nat → Nat → Nat → Nat → Nat → Nat → Nat → Nat → Nat → Nat → Nat → Nat → Bool) (ih : Nat → Nat → Nat → Nat → Nat → Nat → Nat → Nat → Nat → Nat → Nat → Nat → Nat → Nat → Nat → Nat → Nat → Nat → Bool) (x2 : Nat) (f0_wayEnd : Nat) (a1 : Nat) (a2 : Nat) (a3 : Nat) (a4 : Nat) (a5 : Nat) (a6 : Nat) (a7 : Nat) (a8 : Nat) (a9 : Nat) (a10 : Nat) (a11 : Nat) (a12 : Nat) (a13 : Nat) (a14 : Nat) (a15 : Nat) (a16 : Nat) : Bool :=
  mf_wpX_isLeaf (fun r_8 => ct_eq r_8 0 (ct_in x2 100 fun t1 => ct_fc (ct_gt a1 t1) fun y4 => mf_wpX_pushWay (fun f0_wayEnd_63 am591_66 am592_69 am593_72 am594_75 am595_78 am596_81 am597_84 am598_87 am599_90 am5910_93 am5911_96 am5912_99 am5913_102 am5914_105 am5915_108 am5916_111 => ct_in x2 100 fun t2 => ct_in (ct_ad (ct_ml 6 x2) (ct_gt am591_66 t2)) 600 fun t3 => ct_fc (ct_gt am594_75 t3) fun x2_114 => ih x2_114 f0_wayEnd_63 am591_66 am592_69 am593_72 am594_75 am595_78 am596_81 am597_84 am598_87 am599_90 am5910_93 am5911_96 am5912_99 am5913_102 am5914_105 am5915_108 am5916_111) f0_wayEnd a1 a2 a3 a4 a5 a6 a7 a8 a9 a10 a11 a12 a13 a14 a15 a16 x2 y4) (ct_in x2 100 fun t5 => ct_fc (ct_sb (ct_gt a1 t5) 1) fun y6 => mf_wpX_pushWay (fun f0_wayEnd_12 am921_15 am922_18 am923_21 am924_24 am925_27 am926_30 am927_33 am928_36 am929_39 am9210_42 am9211_45 am9212_48 am9213_51 am9214_54 am9215_57 am9216_60 => k_post f0_wayEnd_12 am921_15 am922_18 am923_21 am924_24 am925_27 am926_30 am927_33 am928_36 am929_39 am9210_42 am9211_45 am9212_48 am9213_51 am9214_54 am9215_57 am9216_60) f0_wayEnd a1 a2 a3 a4 a5 a6 a7 a8 a9 a10 a11 a12 a13 a14 a15 a16 x2 y6)) f0_wayEnd a1 a2 a3 a4 a5 a6 a7 a8 a9 a10 a11 a12 a13 a14 a15 a16 x2
noncomputable def mf_wX_lengthenWay_43 (k_post : Nat → Nat → Nat → Nat → Nat → Nat → Nat → Nat → Nat → Nat → Nat → Nat → Nat → Nat → Nat → Nat → Nat → Bool) (n : Nat) : Nat → Nat → Nat → Nat → Nat → Nat → Nat → Nat → Nat → Nat → Nat → Nat → Nat → Nat → Nat → Nat → Nat → Nat → Bool :=
  Nat.rec (motive := fun _ => Nat → Nat → Nat → Nat → Nat → Nat → Nat → Nat → Nat → Nat → Nat → Nat → Nat → Nat → Nat → Nat → Nat → Nat → Bool) (fun _ _ _ _ _ _ _ _ _ _ _ _ _ _ _ _ _ _ => false) (fun _ ih => mb_wX_lengthenWay_43 k_post ih) n
theorem mt_wX_lengthenWay_43 (E : Nat × Int32 × Int32) {post : St2 → Prop} {k_post : Nat → Nat → Nat → Nat → Nat → Nat → Nat → Nat → Nat → Nat → Nat → Nat → Nat → Nat → Nat → Nat → Nat → Bool} {n : Nat} {e_x2 : Int32} {x2 : Nat} (p_x2 : e_x2 = ct_dec E x2) {e_f0_wayEnd : Int32} {f0_wayEnd : Nat} (p_f0_wayEnd : e_f0_wayEnd = ct_dec E f0_wayEnd) {a1 : Nat} {a2 : Nat} {a3 : Nat} {a4 : Nat} {a5 : Nat} {a6 : Nat} {a7 : Nat} {a8 : Nat} {a9 : Nat} {a10 : Nat} {a11 : Nat} {a12 : Nat} {a13 : Nat} {a14 : Nat} {a15 : Nat} {a16 : Nat} (h : mf_wX_lengthenWay_43 k_post n x2 f0_wayEnd a1 a2 a3 a4 a5 a6 a7 a8 a9 a10 a11 a12 a13 a14 a15 a16 = true) (h_post : ∀ r0 r1 r2 r3 r4 r5 r6 r7 r8 r9 r10 r11 r12 r13 r14 r15 r16 : Nat, k_post r0 r1 r2 r3 r4 r5 r6 r7 r8 r9 r10 r11 r12 r13 r14 r15 r16 = true → post (ct_dec E r0, ct_da E r1, ct_da E r2, ct_da E r3, ct_da E r4, ct_da E r5, ct_da E r6, ct_da E r7, ct_da E r8, ct_da E r9, ct_da E r10, ct_da E r11, ct_da E r12, ct_da E r13, ct_da E r14, ct_da E r15, ct_da E r16)) :
    wX_lengthenWay_43 post n e_x2 e_f0_wayEnd (ct_da E a1) (ct_da E a2) (ct_da E a3) (ct_da E a4) (ct_da E a5) (ct_da E a6) (ct_da E a7) (ct_da E a8) (ct_da E a9) (ct_da E a10) (ct_da E a11) (ct_da E a12) (ct_da E a13) (ct_da E a14) (ct_da E a15) (ct_da E a16) := by
  have key : ∀ (n : Nat) {e_x2 : Int32} {x2 : Nat} (p_x2 : e_x2 = ct_dec E x2) {e_f0_wayEnd : Int32} {f0_wayEnd : Nat} (p_f0_wayEnd : e_f0_wayEnd = ct_dec E f0_wayEnd) {a1 : Nat} {a2 : Nat} {a3 : Nat} {a4 : Nat} {a5 : Nat} {a6 : Nat} {a7 : Nat} {a8 : Nat} {a9 : Nat} {a10 : Nat} {a11 : Nat} {a12 : Nat} {a13 : Nat} {a14 : Nat} {a15 : Nat} {a16 : Nat}, mf_wX_lengthenWay_43 k_post n x2 f0_wayEnd a1 a2 a3 a4 a5 a6 a7 a8 a9 a10 a11 a12 a13 a14 a15 a16 = true → wX_lengthenWay_43 post n e_x2 e_f0_wayEnd (ct_da E a1) (ct_da E a2) (ct_da E a3) (ct_da E a4) (ct_da E a5) (ct_da E a6) (ct_da E a7) (ct_da E a8) (ct_da E a9) (ct_da E a10) (ct_da E a11) (ct_da E a12) (ct_da E a13) (ct_da E a14) (ct_da E a15) (ct_da E a16) := by
    intro n
    induction n with
    | zero =>
      intro e_x2 x2 p_x2 e_f0_wayEnd f0_wayEnd p_f0_wayEnd a1 a2 a3 a4 a5 a6 a7 a8 a9 a10 a11 a12 a13 a14 a15 a16 h
      exact Bool.noConfusion (show false = true from h)
    | succ n ih =>
      intro e_x2 x2 p_x2 e_f0_wayEnd f0_wayEnd p_f0_wayEnd a1 a2 a3 a4 a5 a6 a7 a8 a9 a10 a11 a12 a13 a14 a15 a16 h
      subst p_x2 p_f0_wayEnd
      replace h : mb_wX_lengthenWay_43 k_post (mf_wX_lengthenWay_43 k_post n) x2 f0_wayEnd a1 a2 a3 a4 a5 a6 a7 a8 a9 a10 a11 a12 a13 a14 a15 a16 = true := h
      unfold mb_wX_lengthenWay_43 at h
      unfold wX_lengthenWay_43
      refine mt_wpX_isLeaf E (ct_v E x2) h (fun r_8 h => ?_)
      refine ct_eqS (ct_v E r_8) (ct_l0 E) h (fun h => ?_) (fun h => ?_)
      · refine ct_inS (by decide) (ct_v E x2) h (fun t1 q1 l1 h => ?_)
        replace h := ct_fcE h
        refine mt_wpX_pushWay E (ct_v E x2) (ct_rd a1 q1 l1) h (fun f0_wayEnd_63 am591_66 am592_69 am593_72 am594_75 am595_78 am596_81 am597_84 am598_87 am599_90 am5910_93 am5911_96 am5912_99 am5913_102 am5914_105 am5915_108 am5916_111 h => ?_)
        refine ct_inS (by decide) (ct_v E x2) h (fun t2 q2 l2 h => ?_)
        refine ct_inS (by decide) (ct_add (ct_mul (x := 6) (k := 6) rfl (ct_v E x2)) (ct_rd am591_66 q2 l2)) h (fun t3 q3 l3 h => ?_)
        refine ct_let (ct_rd am594_75 q3 l3) h (fun x2_114 h => ?_)
        exact ih (ct_v E x2_114) (ct_v E f0_wayEnd_63) h
      · refine ct_inS (by decide) (ct_v E x2) h (fun t5 q5 l5 h => ?_)
        replace h := ct_fcE h
        refine mt_wpX_pushWay E (ct_v E x2) (ct_sbb (ct_rd a1 q5 l5) (ct_l1 E)) h (fun f0_wayEnd_12 am921_15 am922_18 am923_21 am924_24 am925_27 am926_30 am927_33 am928_36 am929_39 am9210_42 am9211_45 am9212_48 am9213_51 am9214_54 am9215_57 am9216_60 h => ?_)
        exact h_post _ _ _ _ _ _ _ _ _ _ _ _ _ _ _ _ _ h
  exact key n p_x2 p_f0_wayEnd h

noncomputable def mf_wpX_lengthenWay (k_post : Nat → Nat → Nat → Nat → Nat → Nat → Nat → Nat → Nat → Nat → Nat → Nat → Nat → Nat → Nat → Nat → Nat → Bool) (f0_wayEnd : Nat) (a1 : Nat) (a2 : Nat) (a3 : Nat) (a4 : Nat) (a5 : Nat) (a6 : Nat) (a7 : Nat) (a8 : Nat) (a9 : Nat) (a10 : Nat) (a11 : Nat) (a12 : Nat) (a13 : Nat) (a14 : Nat) (a15 : Nat) (a16 : Nat) : Bool :=
  ct_in (ct_sb f0_wayEnd 1) 8 fun t1 => ct_fc (ct_gt a14 t1) fun x1_2 => mf_wpX_isLeaf (fun r_3 => ct_eq r_3 0 (ct_in (ct_sb f0_wayEnd 1) 8 fun t2 => ct_in (ct_ad (ct_ml 6 x1_2) (ct_gt a15 t2)) 600 fun t3 => ct_fc (ct_gt a4 t3) fun x2_7 => mf_wX_lengthenWay_43 k_post 128 x2_7 f0_wayEnd a1 a2 a3 a4 a5 a6 a7 a8 a9 a10 a11 a12 a13 a14 a15 a16) (k_post f0_wayEnd a1 a2 a3 a4 a5 a6 a7 a8 a9 a10 a11 a12 a13 a14 a15 a16)) f0_wayEnd a1 a2 a3 a4 a5 a6 a7 a8 a9 a10 a11 a12 a13 a14 a15 a16 x1_2
theorem mt_wpX_lengthenWay (E : Nat × Int32 × Int32) {post : St2 → Prop} {k_post : Nat → Nat → Nat → Nat → Nat → Nat → Nat → Nat → Nat → Nat → Nat → Nat → Nat → Nat → Nat → Nat → Nat → Bool} {f0_wayEnd a1 a2 a3 a4 a5 a6 a7 a8 a9 a10 a11 a12 a13 a14 a15 a16 : Nat} (h : mf_wpX_lengthenWay k_post f0_wayEnd a1 a2 a3 a4 a5 a6 a7 a8 a9 a10 a11 a12 a13 a14 a15 a16 = true) (h_post : ∀ r0 r1 r2 r3 r4 r5 r6 r7 r8 r9 r10 r11 r12 r13 r14 r15 r16 : Nat, k_post r0 r1 r2 r3 r4 r5 r6 r7 r8 r9 r10 r11 r12 r13 r14 r15 r16 = true → post (ct_dec E r0, ct_da E r1, ct_da E r2, ct_da E r3, ct_da E r4, ct_da E r5, ct_da E r6, ct_da E r7, ct_da E r8, ct_da E r9, ct_da E r10, ct_da E r11, ct_da E r12, ct_da E r13, ct_da E r14, ct_da E r15, ct_da E r16)) :
    wpX_lengthenWay post (ct_dec E f0_wayEnd, ct_da E a1, ct_da E a2, ct_da E a3, ct_da E a4, ct_da E a5, ct_da E a6, ct_da E a7, ct_da E a8, ct_da E a9, ct_da E a10, ct_da E a11, ct_da E a12, ct_da E a13, ct_da E a14, ct_da E a15, ct_da E a16) := by
  unfold mf_wpX_lengthenWay at h
  unfold wpX_lengthenWay
  refine ct_inS (by decide) (ct_sbb (ct_v E f0_wayEnd) (ct_l1 E)) h (fun t1 q1 l1 h => ?_)
  refine ct_let (ct_rd a14 q1 l1) h (fun x1_2 h => ?_)
  refine mt_wpX_isLeaf E (ct_v E x1_2) h (fun r_3 h => ?_)
  refine ct_eqS (ct_v E r_3) (ct_l0 E) h (fun h => ?_) (fun h => ?_)
  · refine ct_inS (by decide) (ct_sbb (ct_v E f0_wayEnd) (ct_l1 E)) h (fun t2 q2 l2 h => ?_)
    refine ct_inS (by decide) (ct_add (ct_mul (x := 6) (k := 6) rfl (ct_v E x1_2)) (ct_rd a15 q2 l2)) h (fun t3 q3 l3 h => ?_)
    refine ct_let (ct_rd a4 q3 l3) h (fun x2_7 h => ?_)
    refine ⟨128, ?_⟩
    exact mt_wX_lengthenWay_43 E (ct_v E x2_7) (ct_v E f0_wayEnd) h h_post
  · exact h_post _ _ _ _ _ _ _ _ _ _ _ _ _ _ _ _ _ h

noncomputable def mb_wX_closePlace_13 (k_post : Nat → Nat → Nat → Nat → Nat → Nat → Nat → Nat → Nat → Nat → Nat → Nat → Nat → Nat → Nat → Nat → Nat → Bool) (x1 : Nat) (f0_wayEnd : Nat) (ih : Nat → Nat → Nat → Nat → Nat → Nat → Nat → Nat → Nat → Nat → Nat → Nat → Nat → Nat → Nat → Nat → Nat → Bool) (x3 : Nat) (a1 : Nat) (a2 : Nat) (a3 : Nat) (a4 : Nat) (a5 : Nat) (a6 : Nat) (a7 : Nat) (a8 : Nat) (a9 : Nat) (a10 : Nat) (a11 : Nat) (a12 : Nat) (a13 : Nat) (a14 : Nat) (a15 : Nat) (a16 : Nat) : Bool :=
  ct_in x1 100 fun t1 => ct_le (ct_gt a1 t1) x3 (k_post f0_wayEnd a1 a2 a3 a4 a5 a6 a7 a8 a9 a10 a11 a12 a13 a14 a15 a16) (ct_in (ct_ad (ct_ad (ct_ml 5 x1) x3) 1) 500 fun t2 => ct_in (ct_ad (ct_ml 5 x1) x3) 500 fun t3 => ct_by (ct_gt a2 t2) fun b4 => ct_fc (ct_st a2 t3 b4) fun a2_8 => ct_in (ct_ad (ct_ad (ct_ml 5 x1) x3) 1) 500 fun t5 => ct_in (ct_ad (ct_ml 5 x1) x3) 500 fun t6 => ct_fc (ct_st a3 t6 (ct_gt a3 t5)) fun a3_11 => ct_fc (ct_ad x3 1) fun x3_12 => ih x3_12 a1 a2_8 a3_11 a4 a5 a6 a7 a8 a9 a10 a11 a12 a13 a14 a15 a16)
noncomputable def mf_wX_closePlace_13 (k_post : Nat → Nat → Nat → Nat → Nat → Nat → Nat → Nat → Nat → Nat → Nat → Nat → Nat → Nat → Nat → Nat → Nat → Bool) (x1 : Nat) (f0_wayEnd : Nat) (n : Nat) : Nat → Nat → Nat → Nat → Nat → Nat → Nat → Nat → Nat → Nat → Nat → Nat → Nat → Nat → Nat → Nat → Nat → Bool :=
  Nat.rec (motive := fun _ => Nat → Nat → Nat → Nat → Nat → Nat → Nat → Nat → Nat → Nat → Nat → Nat → Nat → Nat → Nat → Nat → Nat → Bool) (fun _ _ _ _ _ _ _ _ _ _ _ _ _ _ _ _ _ => false) (fun _ ih => mb_wX_closePlace_13 k_post x1 f0_wayEnd ih) n
theorem mt_wX_closePlace_13 (E : Nat × Int32 × Int32) {post : St2 → Prop} {k_post : Nat → Nat → Nat → Nat → Nat → Nat → Nat → Nat → Nat → Nat → Nat → Nat → Nat → Nat → Nat → Nat → Nat → Bool} {e_x1 : Int32} {x1 : Nat} (p_x1 : e_x1 = ct_dec E x1) {e_f0_wayEnd : Int32} {f0_wayEnd : Nat} (p_f0_wayEnd : e_f0_wayEnd = ct_dec E f0_wayEnd) {n : Nat} {e_x3 : Int32} {x3 : Nat} (p_x3 : e_x3 = ct_dec E x3) {a1 : Nat} {a2 : Nat} {a3 : Nat} {a4 : Nat} {a5 : Nat} {a6 : Nat} {a7 : Nat} {a8 : Nat} {a9 : Nat} {a10 : Nat} {a11 : Nat} {a12 : Nat} {a13 : Nat} {a14 : Nat} {a15 : Nat} {a16 : Nat} (h : mf_wX_closePlace_13 k_post x1 f0_wayEnd n x3 a1 a2 a3 a4 a5 a6 a7 a8 a9 a10 a11 a12 a13 a14 a15 a16 = true) (h_post : ∀ r0 r1 r2 r3 r4 r5 r6 r7 r8 r9 r10 r11 r12 r13 r14 r15 r16 : Nat, k_post r0 r1 r2 r3 r4 r5 r6 r7 r8 r9 r10 r11 r12 r13 r14 r15 r16 = true → post (ct_dec E r0, ct_da E r1, ct_da E r2, ct_da E r3, ct_da E r4, ct_da E r5, ct_da E r6, ct_da E r7, ct_da E r8, ct_da E r9, ct_da E r10, ct_da E r11, ct_da E r12, ct_da E r13, ct_da E r14, ct_da E r15, ct_da E r16)) :
    wX_closePlace_13 post e_x1 e_f0_wayEnd n e_x3 (ct_da E a1) (ct_da E a2) (ct_da E a3) (ct_da E a4) (ct_da E a5) (ct_da E a6) (ct_da E a7) (ct_da E a8) (ct_da E a9) (ct_da E a10) (ct_da E a11) (ct_da E a12) (ct_da E a13) (ct_da E a14) (ct_da E a15) (ct_da E a16) := by
  subst p_x1 p_f0_wayEnd
  have key : ∀ (n : Nat) {e_x3 : Int32} {x3 : Nat} (p_x3 : e_x3 = ct_dec E x3) {a1 : Nat} {a2 : Nat} {a3 : Nat} {a4 : Nat} {a5 : Nat} {a6 : Nat} {a7 : Nat} {a8 : Nat} {a9 : Nat} {a10 : Nat} {a11 : Nat} {a12 : Nat} {a13 : Nat} {a14 : Nat} {a15 : Nat} {a16 : Nat}, mf_wX_closePlace_13 k_post x1 f0_wayEnd n x3 a1 a2 a3 a4 a5 a6 a7 a8 a9 a10 a11 a12 a13 a14 a15 a16 = true → wX_closePlace_13 post (ct_dec E x1) (ct_dec E f0_wayEnd) n e_x3 (ct_da E a1) (ct_da E a2) (ct_da E a3) (ct_da E a4) (ct_da E a5) (ct_da E a6) (ct_da E a7) (ct_da E a8) (ct_da E a9) (ct_da E a10) (ct_da E a11) (ct_da E a12) (ct_da E a13) (ct_da E a14) (ct_da E a15) (ct_da E a16) := by
    intro n
    induction n with
    | zero =>
      intro e_x3 x3 p_x3 a1 a2 a3 a4 a5 a6 a7 a8 a9 a10 a11 a12 a13 a14 a15 a16 h
      exact Bool.noConfusion (show false = true from h)
    | succ n ih =>
      intro e_x3 x3 p_x3 a1 a2 a3 a4 a5 a6 a7 a8 a9 a10 a11 a12 a13 a14 a15 a16 h
      subst p_x3
      replace h : mb_wX_closePlace_13 k_post x1 f0_wayEnd (mf_wX_closePlace_13 k_post x1 f0_wayEnd n) x3 a1 a2 a3 a4 a5 a6 a7 a8 a9 a10 a11 a12 a13 a14 a15 a16 = true := h
      unfold mb_wX_closePlace_13 at h
      unfold wX_closePlace_13
      refine ct_inS (by decide) (ct_v E x1) h (fun t1 q1 l1 h => ?_)
      refine ct_leS (ct_rd a1 q1 l1) (ct_v E x3) h (fun h => ?_) (fun h => ?_)
      · exact h_post _ _ _ _ _ _ _ _ _ _ _ _ _ _ _ _ _ h
      · refine ct_inS (by decide) (ct_add (ct_add (ct_mul (x := 5) (k := 5) rfl (ct_v E x1)) (ct_v E x3)) (ct_l1 E)) h (fun t2 q2 l2 h => ?_)
        refine ct_inS (by decide) (ct_add (ct_mul (x := 5) (k := 5) rfl (ct_v E x1)) (ct_v E x3)) h (fun t3 q3 l3 h => ?_)
        refine ct_byS (ct_rd a2 q2 l2) h (fun b4 hb4 h => ?_)
        refine ct_leta (ct_up a2 q3 l3 hb4) h (fun a2_8 h => ?_)
        refine ct_inS (by decide) (ct_add (ct_add (ct_mul (x := 5) (k := 5) rfl (ct_v E x1)) (ct_v E x3)) (ct_l1 E)) h (fun t5 q5 l5 h => ?_)
        refine ct_inS (by decide) (ct_add (ct_mul (x := 5) (k := 5) rfl (ct_v E x1)) (ct_v E x3)) h (fun t6 q6 l6 h => ?_)
        refine ct_leta (ct_up a3 q6 l6 (ct_rd a3 q5 l5)) h (fun a3_11 h => ?_)
        refine ct_let (ct_add (ct_v E x3) (ct_l1 E)) h (fun x3_12 h => ?_)
        exact ih (ct_v E x3_12) h
  exact key n p_x3 h

noncomputable def mf_wpX_closePlace (k_post : Nat → Nat → Nat → Nat → Nat → Nat → Nat → Nat → Nat → Nat → Nat → Nat → Nat → Nat → Nat → Nat → Nat → Bool) (f0_wayEnd : Nat) (a1 : Nat) (a2 : Nat) (a3 : Nat) (a4 : Nat) (a5 : Nat) (a6 : Nat) (a7 : Nat) (a8 : Nat) (a9 : Nat) (a10 : Nat) (a11 : Nat) (a12 : Nat) (a13 : Nat) (a14 : Nat) (a15 : Nat) (a16 : Nat) (p0 : Nat) (p1 : Nat) : Bool :=
  ct_in p0 100 fun t1 => ct_in p0 100 fun t2 => ct_by (ct_sb (ct_gt a1 t2) 1) fun b3 => ct_fc (ct_st a1 t2 b3) fun a1_3 => mf_wX_closePlace_13 k_post p0 f0_wayEnd 128 p1 a1_3 a2 a3 a4 a5 a6 a7 a8 a9 a10 a11 a12 a13 a14 a15 a16
theorem mt_wpX_closePlace (E : Nat × Int32 × Int32) {post : St2 → Prop} {k_post : Nat → Nat → Nat → Nat → Nat → Nat → Nat → Nat → Nat → Nat → Nat → Nat → Nat → Nat → Nat → Nat → Nat → Bool} {f0_wayEnd a1 a2 a3 a4 a5 a6 a7 a8 a9 a10 a11 a12 a13 a14 a15 a16 : Nat} {e_p0 : Int32} {p0 : Nat} (p_p0 : e_p0 = ct_dec E p0) {e_p1 : Int32} {p1 : Nat} (p_p1 : e_p1 = ct_dec E p1) (h : mf_wpX_closePlace k_post f0_wayEnd a1 a2 a3 a4 a5 a6 a7 a8 a9 a10 a11 a12 a13 a14 a15 a16 p0 p1 = true) (h_post : ∀ r0 r1 r2 r3 r4 r5 r6 r7 r8 r9 r10 r11 r12 r13 r14 r15 r16 : Nat, k_post r0 r1 r2 r3 r4 r5 r6 r7 r8 r9 r10 r11 r12 r13 r14 r15 r16 = true → post (ct_dec E r0, ct_da E r1, ct_da E r2, ct_da E r3, ct_da E r4, ct_da E r5, ct_da E r6, ct_da E r7, ct_da E r8, ct_da E r9, ct_da E r10, ct_da E r11, ct_da E r12, ct_da E r13, ct_da E r14, ct_da E r15, ct_da E r16)) :
    wpX_closePlace post (ct_dec E f0_wayEnd, ct_da E a1, ct_da E a2, ct_da E a3, ct_da E a4, ct_da E a5, ct_da E a6, ct_da E a7, ct_da E a8, ct_da E a9, ct_da E a10, ct_da E a11, ct_da E a12, ct_da E a13, ct_da E a14, ct_da E a15, ct_da E a16) e_p0 e_p1 := by
  subst p_p0 p_p1
  unfold mf_wpX_closePlace at h
  unfold wpX_closePlace
  refine ct_inS (by decide) (ct_v E p0) h (fun t1 q1 l1 h => ?_)
  refine ct_inS (by decide) (ct_v E p0) h (fun t2 q2 l2 h => ?_)
  refine ct_byS (ct_sbb (ct_rd a1 q2 l2) (ct_l1 E)) h (fun b3 hb3 h => ?_)
  refine ct_leta (ct_up a1 q2 l2 hb3) h (fun a1_3 h => ?_)
  refine ⟨128, ?_⟩
  exact mt_wX_closePlace_13 E (ct_v E p0) (ct_v E f0_wayEnd) (ct_v E p1) h h_post

noncomputable def mf_wX_takeFromRight_187 (k_post : Nat → Nat → Nat → Nat → Nat → Nat → Nat → Nat → Nat → Nat → Nat → Nat → Nat → Nat → Nat → Nat → Nat → Bool) (x4 : Nat) (f0_wayEnd : Nat) (am1261 : Nat) (am1262 : Nat) (am1263 : Nat) (am1264 : Nat) (am1265 : Nat) (am1266 : Nat) (am1267 : Nat) (am1268 : Nat) (am1269 : Nat) (am12610 : Nat) (am12611 : Nat) (am12612 : Nat) (am12613 : Nat) (am12614 : Nat) (am12615 : Nat) (am12616 : Nat) : Bool :=
  mf_wpX_closePlace (fun f0_wayEnd_119 am1911_122 am1912_125 am1913_128 am1914_131 am1915_134 am1916_137 am1917_140 am1918_143 am1919_146 am19110_149 am19111_152 am19112_155 am19113_158 am19114_161 am19115_164 am19116_167 => k_post f0_wayEnd_119 am1911_122 am1912_125 am1913_128 am1914_131 am1915_134 am1916_137 am1917_140 am1918_143 am1919_146 am19110_149 am19111_152 am19112_155 am19113_158 am19114_161 am19115_164 am19116_167) f0_wayEnd am1261 am1262 am1263 am1264 am1265 am1266 am1267 am1268 am1269 am12610 am12611 am12612 am12613 am12614 am12615 am12616 x4 0
theorem mt_wX_takeFromRight_187 (E : Nat × Int32 × Int32) {post : St2 → Prop} {k_post : Nat → Nat → Nat → Nat → Nat → Nat → Nat → Nat → Nat → Nat → Nat → Nat → Nat → Nat → Nat → Nat → Nat → Bool} {e_x4 : Int32} {x4 : Nat} (p_x4 : e_x4 = ct_dec E x4) {e_f0_wayEnd : Int32} {f0_wayEnd : Nat} (p_f0_wayEnd : e_f0_wayEnd = ct_dec E f0_wayEnd) {am1261 : Nat} {am1262 : Nat} {am1263 : Nat} {am1264 : Nat} {am1265 : Nat} {am1266 : Nat} {am1267 : Nat} {am1268 : Nat} {am1269 : Nat} {am12610 : Nat} {am12611 : Nat} {am12612 : Nat} {am12613 : Nat} {am12614 : Nat} {am12615 : Nat} {am12616 : Nat} (h : mf_wX_takeFromRight_187 k_post x4 f0_wayEnd am1261 am1262 am1263 am1264 am1265 am1266 am1267 am1268 am1269 am12610 am12611 am12612 am12613 am12614 am12615 am12616 = true) (h_post : ∀ r0 r1 r2 r3 r4 r5 r6 r7 r8 r9 r10 r11 r12 r13 r14 r15 r16 : Nat, k_post r0 r1 r2 r3 r4 r5 r6 r7 r8 r9 r10 r11 r12 r13 r14 r15 r16 = true → post (ct_dec E r0, ct_da E r1, ct_da E r2, ct_da E r3, ct_da E r4, ct_da E r5, ct_da E r6, ct_da E r7, ct_da E r8, ct_da E r9, ct_da E r10, ct_da E r11, ct_da E r12, ct_da E r13, ct_da E r14, ct_da E r15, ct_da E r16)) :
    wX_takeFromRight_187 post e_x4 e_f0_wayEnd (ct_da E am1261) (ct_da E am1262) (ct_da E am1263) (ct_da E am1264) (ct_da E am1265) (ct_da E am1266) (ct_da E am1267) (ct_da E am1268) (ct_da E am1269) (ct_da E am12610) (ct_da E am12611) (ct_da E am12612) (ct_da E am12613) (ct_da E am12614) (ct_da E am12615) (ct_da E am12616) := by
  subst p_x4 p_f0_wayEnd
  unfold mf_wX_takeFromRight_187 at h
  unfold wX_takeFromRight_187
  refine mt_wpX_closePlace E (ct_v E x4) (ct_l0 E) h (fun f0_wayEnd_119 am1911_122 am1912_125 am1913_128 am1914_131 am1915_134 am1916_137 am1917_140 am1918_143 am1919_146 am19110_149 am19111_152 am19112_155 am19113_158 am19114_161 am19115_164 am19116_167 h => ?_)
  exact h_post _ _ _ _ _ _ _ _ _ _ _ _ _ _ _ _ _ h

noncomputable def mb_wX_takeFromRight_141 (k_post : Nat → Nat → Nat → Nat → Nat → Nat → Nat → Nat → Nat → Nat → Nat → Nat → Nat → Nat → Nat → Nat → Nat → Bool) (x4 : Nat) (f0_wayEnd : Nat) (ih : Nat → Nat → Nat → Nat → Nat → Nat → Nat → Nat → Nat → Nat → Nat → Nat → Nat → Nat → Nat → Nat → Nat → Bool) (x6 : Nat) (am1261 : Nat) (am1262 : Nat) (am1263 : Nat) (am1264 : Nat) (am1265 : Nat) (am1266 : Nat) (am1267 : Nat) (am1268 : Nat) (am1269 : Nat) (am12610 : Nat) (am12611 : Nat) (am12612 : Nat) (am12613 : Nat) (am12614 : Nat) (am12615 : Nat) (am12616 : Nat) : Bool :=
  ct_in x4 100 fun t1 => ct_le (ct_gt am1261 t1) x6 (mf_wX_takeFromRight_187 k_post x4 f0_wayEnd am1261 am1262 am1263 am1264 am1265 am1266 am1267 am1268 am1269 am12610 am12611 am12612 am12613 am12614 am12615 am12616) (ct_in (ct_ad (ct_ad (ct_ml 6 x4) x6) 1) 600 fun t2 => ct_in (ct_ad (ct_ml 6 x4) x6) 600 fun t3 => ct_by (ct_gt am1264 t2) fun b4 => ct_fc (ct_st am1264 t3 b4) fun am1264_172 => ct_fc (ct_ad x6 1) fun x6_173 => ih x6_173 am1261 am1262 am1263 am1264_172 am1265 am1266 am1267 am1268 am1269 am12610 am12611 am12612 am12613 am12614 am12615 am12616)
noncomputable def mf_wX_takeFromRight_141 (k_post : Nat → Nat → Nat → Nat → Nat → Nat → Nat → Nat → Nat → Nat → Nat → Nat → Nat → Nat → Nat → Nat → Nat → Bool) (x4 : Nat) (f0_wayEnd : Nat) (n : Nat) : Nat → Nat → Nat → Nat → Nat → Nat → Nat → Nat → Nat → Nat → Nat → Nat → Nat → Nat → Nat → Nat → Nat → Bool :=
  Nat.rec (motive := fun _ => Nat → Nat → Nat → Nat → Nat → Nat → Nat → Nat → Nat → Nat → Nat → Nat → Nat → Nat → Nat → Nat → Nat → Bool) (fun _ _ _ _ _ _ _ _ _ _ _ _ _ _ _ _ _ => false) (fun _ ih => mb_wX_takeFromRight_141 k_post x4 f0_wayEnd ih) n
theorem mt_wX_takeFromRight_141 (E : Nat × Int32 × Int32) {post : St2 → Prop} {k_post : Nat → Nat → Nat → Nat → Nat → Nat → Nat → Nat → Nat → Nat → Nat → Nat → Nat → Nat → Nat → Nat → Nat → Bool} {e_x4 : Int32} {x4 : Nat} (p_x4 : e_x4 = ct_dec E x4) {e_f0_wayEnd : Int32} {f0_wayEnd : Nat} (p_f0_wayEnd : e_f0_wayEnd = ct_dec E f0_wayEnd) {n : Nat} {e_x6 : Int32} {x6 : Nat} (p_x6 : e_x6 = ct_dec E x6) {am1261 : Nat} {am1262 : Nat} {am1263 : Nat} {am1264 : Nat} {am1265 : Nat} {am1266 : Nat} {am1267 : Nat} {am1268 : Nat} {am1269 : Nat} {am12610 : Nat} {am12611 : Nat} {am12612 : Nat} {am12613 : Nat} {am12614 : Nat} {am12615 : Nat} {am12616 : Nat} (h : mf_wX_takeFromRight_141 k_post x4 f0_wayEnd n x6 am1261 am1262 am1263 am1264 am1265 am1266 am1267 am1268 am1269 am12610 am12611 am12612 am12613 am12614 am12615 am12616 = true) (h_post : ∀ r0 r1 r2 r3 r4 r5 r6 r7 r8 r9 r10 r11 r12 r13 r14 r15 r16 : Nat, k_post r0 r1 r2 r3 r4 r5 r6 r7 r8 r9 r10 r11 r12 r13 r14 r15 r16 = true → post (ct_dec E r0, ct_da E r1, ct_da E r2, ct_da E r3, ct_da E r4, ct_da E r5, ct_da E r6, ct_da E r7, ct_da E r8, ct_da E r9, ct_da E r10, ct_da E r11, ct_da E r12, ct_da E r13, ct_da E r14, ct_da E r15, ct_da E r16)) :
    wX_takeFromRight_141 post e_x4 e_f0_wayEnd n e_x6 (ct_da E am1261) (ct_da E am1262) (ct_da E am1263) (ct_da E am1264) (ct_da E am1265) (ct_da E am1266) (ct_da E am1267) (ct_da E am1268) (ct_da E am1269) (ct_da E am12610) (ct_da E am12611) (ct_da E am12612) (ct_da E am12613) (ct_da E am12614) (ct_da E am12615) (ct_da E am12616) := by
  subst p_x4 p_f0_wayEnd
  have key : ∀ (n : Nat) {e_x6 : Int32} {x6 : Nat} (p_x6 : e_x6 = ct_dec E x6) {am1261 : Nat} {am1262 : Nat} {am1263 : Nat} {am1264 : Nat} {am1265 : Nat} {am1266 : Nat} {am1267 : Nat} {am1268 : Nat} {am1269 : Nat} {am12610 : Nat} {am12611 : Nat} {am12612 : Nat} {am12613 : Nat} {am12614 : Nat} {am12615 : Nat} {am12616 : Nat}, mf_wX_takeFromRight_141 k_post x4 f0_wayEnd n x6 am1261 am1262 am1263 am1264 am1265 am1266 am1267 am1268 am1269 am12610 am12611 am12612 am12613 am12614 am12615 am12616 = true → wX_takeFromRight_141 post (ct_dec E x4) (ct_dec E f0_wayEnd) n e_x6 (ct_da E am1261) (ct_da E am1262) (ct_da E am1263) (ct_da E am1264) (ct_da E am1265) (ct_da E am1266) (ct_da E am1267) (ct_da E am1268) (ct_da E am1269) (ct_da E am12610) (ct_da E am12611) (ct_da E am12612) (ct_da E am12613) (ct_da E am12614) (ct_da E am12615) (ct_da E am12616) := by
    intro n
    induction n with
    | zero =>
      intro e_x6 x6 p_x6 am1261 am1262 am1263 am1264 am1265 am1266 am1267 am1268 am1269 am12610 am12611 am12612 am12613 am12614 am12615 am12616 h
      exact Bool.noConfusion (show false = true from h)
    | succ n ih =>
      intro e_x6 x6 p_x6 am1261 am1262 am1263 am1264 am1265 am1266 am1267 am1268 am1269 am12610 am12611 am12612 am12613 am12614 am12615 am12616 h
      subst p_x6
      replace h : mb_wX_takeFromRight_141 k_post x4 f0_wayEnd (mf_wX_takeFromRight_141 k_post x4 f0_wayEnd n) x6 am1261 am1262 am1263 am1264 am1265 am1266 am1267 am1268 am1269 am12610 am12611 am12612 am12613 am12614 am12615 am12616 = true := h
      unfold mb_wX_takeFromRight_141 at h
      unfold wX_takeFromRight_141
      refine ct_inS (by decide) (ct_v E x4) h (fun t1 q1 l1 h => ?_)
      refine ct_leS (ct_rd am1261 q1 l1) (ct_v E x6) h (fun h => ?_) (fun h => ?_)
      · exact mt_wX_takeFromRight_187 E (ct_v E x4) (ct_v E f0_wayEnd) h h_post
      · refine ct_inS (by decide) (ct_add (ct_add (ct_mul (x := 6) (k := 6) rfl (ct_v E x4)) (ct_v E x6)) (ct_l1 E)) h (fun t2 q2 l2 h => ?_)
        refine ct_inS (by decide) (ct_add (ct_mul (x := 6) (k := 6) rfl (ct_v E x4)) (ct_v E x6)) h (fun t3 q3 l3 h => ?_)
        refine ct_byS (ct_rd am1264 q2 l2) h (fun b4 hb4 h => ?_)
        refine ct_leta (ct_up am1264 q3 l3 hb4) h (fun am1264_172 h => ?_)
        refine ct_let (ct_add (ct_v E x6) (ct_l1 E)) h (fun x6_173 h => ?_)
        exact ih (ct_v E x6_173) h
  exact key n p_x6 h

noncomputable def mf_wX_takeFromRight_94 (k_post : Nat → Nat → Nat → Nat → Nat → Nat → Nat → Nat → Nat → Nat → Nat → Nat → Nat → Nat → Nat → Nat → Nat → Bool) (x1 : Nat) (x2 : Nat) (x3 : Nat) (x4 : Nat) (f0_wayEnd : Nat) (am591 : Nat) (am592 : Nat) (am593 : Nat) (am594 : Nat) (am595 : Nat) (am596 : Nat) (am597 : Nat) (am598 : Nat) (am599 : Nat) (am5910 : Nat) (am5911 : Nat) (am5912 : Nat) (am5913 : Nat) (am5914 : Nat) (am5915 : Nat) (am5916 : Nat) : Bool :=
  ct_in x3 100 fun t1 => ct_in x3 100 fun t2 => ct_by (ct_ad (ct_gt am591 t2) 1) fun b3 => ct_fc (ct_st am591 t2 b3) fun am591_63 => ct_in (ct_ml 5 x4) 500 fun t4 => ct_in (ct_ml 5 x4) 500 fun t5 => ct_fc (ct_gt am592 t5) fun y6 => ct_fc (ct_gt am593 t5) fun y7 => mf_wpX_putAt (fun f0_wayEnd_67 am1261_70 am1262_73 am1263_76 am1264_79 am1265_82 am1266_85 am1267_88 am1268_91 am1269_94 am12610_97 am12611_100 am12612_103 am12613_106 am12614_109 am12615_112 am12616_115 => mf_wpX_isLeaf (fun r_116 => ct_eq r_116 0 (mf_wX_takeFromRight_141 k_post x4 f0_wayEnd_67 128 0 am1261_70 am1262_73 am1263_76 am1264_79 am1265_82 am1266_85 am1267_88 am1268_91 am1269_94 am12610_97 am12611_100 am12612_103 am12613_106 am12614_109 am12615_112 am12616_115) (mf_wX_takeFromRight_187 k_post x4 f0_wayEnd_67 am1261_70 am1262_73 am1263_76 am1264_79 am1265_82 am1266_85 am1267_88 am1268_91 am1269_94 am12610_97 am12611_100 am12612_103 am12613_106 am12614_109 am12615_112 am12616_115)) f0_wayEnd_67 am1261_70 am1262_73 am1263_76 am1264_79 am1265_82 am1266_85 am1267_88 am1268_91 am1269_94 am12610_97 am12611_100 am12612_103 am12613_106 am12614_109 am12615_112 am12616_115 x4) f0_wayEnd am591_63 am592 am593 am594 am595 am596 am597 am598 am599 am5910 am5911 am5912 am5913 am5914 am5915 am5916 x1 x2 y6 y7
theorem mt_wX_takeFromRight_94 (E : Nat × Int32 × Int32) {post : St2 → Prop} {k_post : Nat → Nat → Nat → Nat → Nat → Nat → Nat → Nat → Nat → Nat → Nat → Nat → Nat → Nat → Nat → Nat → Nat → Bool} {e_x1 : Int32} {x1 : Nat} (p_x1 : e_x1 = ct_dec E x1) {e_x2 : Int32} {x2 : Nat} (p_x2 : e_x2 = ct_dec E x2) {e_x3 : Int32} {x3 : Nat} (p_x3 : e_x3 = ct_dec E x3) {e_x4 : Int32} {x4 : Nat} (p_x4 : e_x4 = ct_dec E x4) {e_f0_wayEnd : Int32} {f0_wayEnd : Nat} (p_f0_wayEnd : e_f0_wayEnd = ct_dec E f0_wayEnd) {am591 : Nat} {am592 : Nat} {am593 : Nat} {am594 : Nat} {am595 : Nat} {am596 : Nat} {am597 : Nat} {am598 : Nat} {am599 : Nat} {am5910 : Nat} {am5911 : Nat} {am5912 : Nat} {am5913 : Nat} {am5914 : Nat} {am5915 : Nat} {am5916 : Nat} (h : mf_wX_takeFromRight_94 k_post x1 x2 x3 x4 f0_wayEnd am591 am592 am593 am594 am595 am596 am597 am598 am599 am5910 am5911 am5912 am5913 am5914 am5915 am5916 = true) (h_post : ∀ r0 r1 r2 r3 r4 r5 r6 r7 r8 r9 r10 r11 r12 r13 r14 r15 r16 : Nat, k_post r0 r1 r2 r3 r4 r5 r6 r7 r8 r9 r10 r11 r12 r13 r14 r15 r16 = true → post (ct_dec E r0, ct_da E r1, ct_da E r2, ct_da E r3, ct_da E r4, ct_da E r5, ct_da E r6, ct_da E r7, ct_da E r8, ct_da E r9, ct_da E r10, ct_da E r11, ct_da E r12, ct_da E r13, ct_da E r14, ct_da E r15, ct_da E r16)) :
    wX_takeFromRight_94 post e_x1 e_x2 e_x3 e_x4 e_f0_wayEnd (ct_da E am591) (ct_da E am592) (ct_da E am593) (ct_da E am594) (ct_da E am595) (ct_da E am596) (ct_da E am597) (ct_da E am598) (ct_da E am599) (ct_da E am5910) (ct_da E am5911) (ct_da E am5912) (ct_da E am5913) (ct_da E am5914) (ct_da E am5915) (ct_da E am5916) := by
  subst p_x1 p_x2 p_x3 p_x4 p_f0_wayEnd
  unfold mf_wX_takeFromRight_94 at h
  unfold wX_takeFromRight_94
  refine ct_inS (by decide) (ct_v E x3) h (fun t1 q1 l1 h => ?_)
  refine ct_inS (by decide) (ct_v E x3) h (fun t2 q2 l2 h => ?_)
  refine ct_byS (ct_add (ct_rd am591 q2 l2) (ct_l1 E)) h (fun b3 hb3 h => ?_)
  refine ct_leta (ct_up am591 q2 l2 hb3) h (fun am591_63 h => ?_)
  refine ct_inS (by decide) (ct_mul (x := 5) (k := 5) rfl (ct_v E x4)) h (fun t4 q4 l4 h => ?_)
  refine ct_inS (by decide) (ct_mul (x := 5) (k := 5) rfl (ct_v E x4)) h (fun t5 q5 l5 h => ?_)
  replace h := ct_fcE h
  replace h := ct_fcE h
  refine mt_wpX_putAt E (ct_v E x1) (ct_v E x2) (ct_rd am592 q5 l5) (ct_rd am593 q5 l5) h (fun f0_wayEnd_67 am1261_70 am1262_73 am1263_76 am1264_79 am1265_82 am1266_85 am1267_88 am1268_91 am1269_94 am12610_97 am12611_100 am12612_103 am12613_106 am12614_109 am12615_112 am12616_115 h => ?_)
  refine mt_wpX_isLeaf E (ct_v E x4) h (fun r_116 h => ?_)
  refine ct_eqS (ct_v E r_116) (ct_l0 E) h (fun h => ?_) (fun h => ?_)
  · refine ⟨128, ?_⟩
    exact mt_wX_takeFromRight_141 E (ct_v E x4) (ct_v E f0_wayEnd_67) (ct_l0 E) h h_post
  · exact mt_wX_takeFromRight_187 E (ct_v E x4) (ct_v E f0_wayEnd_67) h h_post

noncomputable def mf_wpX_takeFromRight (k_post : Nat → Nat → Nat → Nat → Nat → Nat → Nat → Nat → Nat → Nat → Nat → Nat → Nat → Nat → Nat → Nat → Nat → Bool) (f0_wayEnd : Nat) (a1 : Nat) (a2 : Nat) (a3 : Nat) (a4 : Nat) (a5 : Nat) (a6 : Nat) (a7 : Nat) (a8 : Nat) (a9 : Nat) (a10 : Nat) (a11 : Nat) (a12 : Nat) (a13 : Nat) (a14 : Nat) (a15 : Nat) (a16 : Nat) (p0 : Nat) (p1 : Nat) : Bool :=
  ct_in (ct_ad (ct_ml 6 p0) p1) 600 fun t1 => ct_fc (ct_gt a4 t1) fun x3_2 => ct_in (ct_ad (ct_ad (ct_ml 6 p0) p1) 1) 600 fun t2 => ct_fc (ct_gt a4 t2) fun x4_4 => ct_in x3_2 100 fun t3 => ct_fc (ct_gt a1 t3) fun x5_6 => ct_in (ct_ad (ct_ml 5 p0) p1) 500 fun t4 => ct_in (ct_ad (ct_ml 5 p0) p1) 500 fun t5 => ct_fc (ct_gt a2 t5) fun y9 => ct_fc (ct_gt a3 t5) fun y10 => mf_wpX_putAt (fun f0_wayEnd_10 am591_13 am592_16 am593_19 am594_22 am595_25 am596_28 am597_31 am598_34 am599_37 am5910_40 am5911_43 am5912_46 am5913_49 am5914_52 am5915_55 am5916_58 => mf_wpX_isLeaf (fun r_59 => ct_eq r_59 0 (ct_in (ct_ml 6 x4_4) 600 fun t6 => ct_in (ct_ad (ct_ad (ct_ml 6 x3_2) x5_6) 1) 600 fun t7 => ct_by (ct_gt am594_22 t6) fun b8 => ct_fc (ct_st am594_22 t7 b8) fun am594_176 => mf_wX_takeFromRight_94 k_post p0 p1 x3_2 x4_4 f0_wayEnd_10 am591_13 am592_16 am593_19 am594_176 am595_25 am596_28 am597_31 am598_34 am599_37 am5910_40 am5911_43 am5912_46 am5913_49 am5914_52 am5915_55 am5916_58) (mf_wX_takeFromRight_94 k_post p0 p1 x3_2 x4_4 f0_wayEnd_10 am591_13 am592_16 am593_19 am594_22 am595_25 am596_28 am597_31 am598_34 am599_37 am5910_40 am5911_43 am5912_46 am5913_49 am5914_52 am5915_55 am5916_58)) f0_wayEnd_10 am591_13 am592_16 am593_19 am594_22 am595_25 am596_28 am597_31 am598_34 am599_37 am5910_40 am5911_43 am5912_46 am5913_49 am5914_52 am5915_55 am5916_58 x3_2) f0_wayEnd a1 a2 a3 a4 a5 a6 a7 a8 a9 a10 a11 a12 a13 a14 a15 a16 x3_2 x5_6 y9 y10
theorem mt_wpX_takeFromRight (E : Nat × Int32 × Int32) {post : St2 → Prop} {k_post : Nat → Nat → Nat → Nat → Nat → Nat → Nat → Nat → Nat → Nat → Nat → Nat → Nat → Nat → Nat → Nat → Nat → Bool} {f0_wayEnd a1 a2 a3 a4 a5 a6 a7 a8 a9 a10 a11 a12 a13 a14 a15 a16 : Nat} {e_p0 : Int32} {p0 : Nat} (p_p0 : e_p0 = ct_dec E p0) {e_p1 : Int32} {p1 : Nat} (p_p1 : e_p1 = ct_dec E p1) (h : mf_wpX_takeFromRight k_post f0_wayEnd a1 a2 a3 a4 a5 a6 a7 a8 a9 a10 a11 a12 a13 a14 a15 a16 p0 p1 = true) (h_post : ∀ r0 r1 r2 r3 r4 r5 r6 r7 r8 r9 r10 r11 r12 r13 r14 r15 r16 : Nat, k_post r0 r1 r2 r3 r4 r5 r6 r7 r8 r9 r10 r11 r12 r13 r14 r15 r16 = true → post (ct_dec E r0, ct_da E r1, ct_da E r2, ct_da E r3, ct_da E r4, ct_da E r5, ct_da E r6, ct_da E r7, ct_da E r8, ct_da E r9, ct_da E r10, ct_da E r11, ct_da E r12, ct_da E r13, ct_da E r14, ct_da E r15, ct_da E r16)) :
    wpX_takeFromRight post (ct_dec E f0_wayEnd, ct_da E a1, ct_da E a2, ct_da E a3, ct_da E a4, ct_da E a5, ct_da E a6, ct_da E a7, ct_da E a8, ct_da E a9, ct_da E a10, ct_da E a11, ct_da E a12, ct_da E a13, ct_da E a14, ct_da E a15, ct_da E a16) e_p0 e_p1 := by
  subst p_p0 p_p1
  unfold mf_wpX_takeFromRight at h
  unfold wpX_takeFromRight
  refine ct_inS (by decide) (ct_add (ct_mul (x := 6) (k := 6) rfl (ct_v E p0)) (ct_v E p1)) h (fun t1 q1 l1 h => ?_)
  refine ct_let (ct_rd a4 q1 l1) h (fun x3_2 h => ?_)
  refine ct_inS (by decide) (ct_add (ct_add (ct_mul (x := 6) (k := 6) rfl (ct_v E p0)) (ct_v E p1)) (ct_l1 E)) h (fun t2 q2 l2 h => ?_)
  refine ct_let (ct_rd a4 q2 l2) h (fun x4_4 h => ?_)
  refine ct_inS (by decide) (ct_v E x3_2) h (fun t3 q3 l3 h => ?_)
  refine ct_let (ct_rd a1 q3 l3) h (fun x5_6 h => ?_)
  refine ct_inS (by decide) (ct_add (ct_mul (x := 5) (k := 5) rfl (ct_v E p0)) (ct_v E p1)) h (fun t4 q4 l4 h => ?_)
  refine ct_inS (by decide) (ct_add (ct_mul (x := 5) (k := 5) rfl (ct_v E p0)) (ct_v E p1)) h (fun t5 q5 l5 h => ?_)
  replace h := ct_fcE h
  replace h := ct_fcE h
  refine mt_wpX_putAt E (ct_v E x3_2) (ct_v E x5_6) (ct_rd a2 q5 l5) (ct_rd a3 q5 l5) h (fun f0_wayEnd_10 am591_13 am592_16 am593_19 am594_22 am595_25 am596_28 am597_31 am598_34 am599_37 am5910_40 am5911_43 am5912_46 am5913_49 am5914_52 am5915_55 am5916_58 h => ?_)
  refine mt_wpX_isLeaf E (ct_v E x3_2) h (fun r_59 h => ?_)
  refine ct_eqS (ct_v E r_59) (ct_l0 E) h (fun h => ?_) (fun h => ?_)
  · refine ct_inS (by decide) (ct_mul (x := 6) (k := 6) rfl (ct_v E x4_4)) h (fun t6 q6 l6 h => ?_)
    refine ct_inS (by decide) (ct_add (ct_add (ct_mul (x := 6) (k := 6) rfl (ct_v E x3_2)) (ct_v E x5_6)) (ct_l1 E)) h (fun t7 q7 l7 h => ?_)
    refine ct_byS (ct_rd am594_22 q6 l6) h (fun b8 hb8 h => ?_)
    refine ct_leta (ct_up am594_22 q7 l7 hb8) h (fun am594_176 h => ?_)
    exact mt_wX_takeFromRight_94 E (ct_v E p0) (ct_v E p1) (ct_v E x3_2) (ct_v E x4_4) (ct_v E f0_wayEnd_10) h h_post
  · exact mt_wX_takeFromRight_94 E (ct_v E p0) (ct_v E p1) (ct_v E x3_2) (ct_v E x4_4) (ct_v E f0_wayEnd_10) h h_post

noncomputable def mf_wX_takeFromLeft_113 (k_post : Nat → Nat → Nat → Nat → Nat → Nat → Nat → Nat → Nat → Nat → Nat → Nat → Nat → Nat → Nat → Nat → Nat → Bool) (x1 : Nat) (x2 : Nat) (x3 : Nat) (x4 : Nat) (x5 : Nat) (f0_wayEnd : Nat) (a1 : Nat) (a2 : Nat) (a3 : Nat) (a4 : Nat) (a5 : Nat) (a6 : Nat) (a7 : Nat) (a8 : Nat) (a9 : Nat) (a10 : Nat) (a11 : Nat) (a12 : Nat) (a13 : Nat) (a14 : Nat) (a15 : Nat) (a16 : Nat) : Bool :=
  mf_wpX_openPlace (fun f0_wayEnd_10 am1161_13 am1162_16 am1163_19 am1164_22 am1165_25 am1166_28 am1167_31 am1168_34 am1169_37 am11610_40 am11611_43 am11612_46 am11613_49 am11614_52 am11615_55 am11616_58 => ct_in (ct_sb (ct_ad (ct_ml 5 x1) x2) 1) 500 fun t1 => ct_in (ct_sb (ct_ad (ct_ml 5 x1) x2) 1) 500 fun t2 => ct_fc (ct_gt am1162_16 t2) fun y11 => ct_fc (ct_gt am1163_19 t2) fun y12 => mf_wpX_putAt (fun f0_wayEnd_62 am1461_65 am1462_68 am1463_71 am1464_74 am1465_77 am1466_80 am1467_83 am1468_86 am1469_89 am14610_92 am14611_95 am14612_98 am14613_101 am14614_104 am14615_107 am14616_110 => ct_in (ct_sb (ct_ad (ct_ml 5 x4) x5) 1) 500 fun t3 => ct_in (ct_sb (ct_ad (ct_ml 5 x4) x5) 1) 500 fun t4 => ct_fc (ct_sb x2 1) fun y8 => ct_fc (ct_gt am1462_68 t4) fun y9 => ct_fc (ct_gt am1463_71 t4) fun y10 => mf_wpX_putAt (fun f0_wayEnd_114 am1821_117 am1822_120 am1823_123 am1824_126 am1825_129 am1826_132 am1827_135 am1828_138 am1829_141 am18210_144 am18211_147 am18212_150 am18213_153 am18214_156 am18215_159 am18216_162 => ct_in x4 100 fun t5 => ct_in x4 100 fun t6 => ct_by (ct_sb (ct_gt am1821_117 t6) 1) fun b7 => ct_fc (ct_st am1821_117 t6 b7) fun am1821_165 => k_post f0_wayEnd_114 am1821_165 am1822_120 am1823_123 am1824_126 am1825_129 am1826_132 am1827_135 am1828_138 am1829_141 am18210_144 am18211_147 am18212_150 am18213_153 am18214_156 am18215_159 am18216_162) f0_wayEnd_62 am1461_65 am1462_68 am1463_71 am1464_74 am1465_77 am1466_80 am1467_83 am1468_86 am1469_89 am14610_92 am14611_95 am14612_98 am14613_101 am14614_104 am14615_107 am14616_110 x1 y8 y9 y10) f0_wayEnd_10 am1161_13 am1162_16 am1163_19 am1164_22 am1165_25 am1166_28 am1167_31 am1168_34 am1169_37 am11610_40 am11611_43 am11612_46 am11613_49 am11614_52 am11615_55 am11616_58 x3 0 y11 y12) f0_wayEnd a1 a2 a3 a4 a5 a6 a7 a8 a9 a10 a11 a12 a13 a14 a15 a16 x3 0
theorem mt_wX_takeFromLeft_113 (E : Nat × Int32 × Int32) {post : St2 → Prop} {k_post : Nat → Nat → Nat → Nat → Nat → Nat → Nat → Nat → Nat → Nat → Nat → Nat → Nat → Nat → Nat → Nat → Nat → Bool} {e_x1 : Int32} {x1 : Nat} (p_x1 : e_x1 = ct_dec E x1) {e_x2 : Int32} {x2 : Nat} (p_x2 : e_x2 = ct_dec E x2) {e_x3 : Int32} {x3 : Nat} (p_x3 : e_x3 = ct_dec E x3) {e_x4 : Int32} {x4 : Nat} (p_x4 : e_x4 = ct_dec E x4) {e_x5 : Int32} {x5 : Nat} (p_x5 : e_x5 = ct_dec E x5) {e_f0_wayEnd : Int32} {f0_wayEnd : Nat} (p_f0_wayEnd : e_f0_wayEnd = ct_dec E f0_wayEnd) {a1 : Nat} {a2 : Nat} {a3 : Nat} {a4 : Nat} {a5 : Nat} {a6 : Nat} {a7 : Nat} {a8 : Nat} {a9 : Nat} {a10 : Nat} {a11 : Nat} {a12 : Nat} {a13 : Nat} {a14 : Nat} {a15 : Nat} {a16 : Nat} (h : mf_wX_takeFromLeft_113 k_post x1 x2 x3 x4 x5 f0_wayEnd a1 a2 a3 a4 a5 a6 a7 a8 a9 a10 a11 a12 a13 a14 a15 a16 = true) (h_post : ∀ r0 r1 r2 r3 r4 r5 r6 r7 r8 r9 r10 r11 r12 r13 r14 r15 r16 : Nat, k_post r0 r1 r2 r3 r4 r5 r6 r7 r8 r9 r10 r11 r12 r13 r14 r15 r16 = true → post (ct_dec E r0, ct_da E r1, ct_da E r2, ct_da E r3, ct_da E r4, ct_da E r5, ct_da E r6, ct_da E r7, ct_da E r8, ct_da E r9, ct_da E r10, ct_da E r11, ct_da E r12, ct_da E r13, ct_da E r14, ct_da E r15, ct_da E r16)) :
    wX_takeFromLeft_113 post e_x1 e_x2 e_x3 e_x4 e_x5 e_f0_wayEnd (ct_da E a1) (ct_da E a2) (ct_da E a3) (ct_da E a4) (ct_da E a5) (ct_da E a6) (ct_da E a7) (ct_da E a8) (ct_da E a9) (ct_da E a10) (ct_da E a11) (ct_da E a12) (ct_da E a13) (ct_da E a14) (ct_da E a15) (ct_da E a16) := by
  subst p_x1 p_x2 p_x3 p_x4 p_x5 p_f0_wayEnd
  unfold mf_wX_takeFromLeft_113 at h
  unfold wX_takeFromLeft_113
  refine mt_wpX_openPlace E (ct_v E x3) (ct_l0 E) h (fun f0_wayEnd_10 am1161_13 am1162_16 am1163_19 am1164_22 am1165_25 am1166_28 am1167_31 am1168_34 am1169_37 am11610_40 am11611_43 am11612_46 am11613_49 am11614_52 am11615_55 am11616_58 h => ?_)
  refine ct_inS (by decide) (ct_sbb (ct_add (ct_mul (x := 5) (k := 5) rfl (ct_v E x1)) (ct_v E x2)) (ct_l1 E)) h (fun t1 q1 l1 h => ?_)
  refine ct_inS (by decide) (ct_sbb (ct_add (ct_mul (x := 5) (k := 5) rfl (ct_v E x1)) (ct_v E x2)) (ct_l1 E)) h (fun t2 q2 l2 h => ?_)
  replace h := ct_fcE h
  replace h := ct_fcE h
  refine mt_wpX_putAt E (ct_v E x3) (ct_l0 E) (ct_rd am1162_16 q2 l2) (ct_rd am1163_19 q2 l2) h (fun f0_wayEnd_62 am1461_65 am1462_68 am1463_71 am1464_74 am1465_77 am1466_80 am1467_83 am1468_86 am1469_89 am14610_92 am14611_95 am14612_98 am14613_101 am14614_104 am14615_107 am14616_110 h => ?_)
  refine ct_inS (by decide) (ct_sbb (ct_add (ct_mul (x := 5) (k := 5) rfl (ct_v E x4)) (ct_v E x5)) (ct_l1 E)) h (fun t3 q3 l3 h => ?_)
  refine ct_inS (by decide) (ct_sbb (ct_add (ct_mul (x := 5) (k := 5) rfl (ct_v E x4)) (ct_v E x5)) (ct_l1 E)) h (fun t4 q4 l4 h => ?_)
  replace h := ct_fcE h
  replace h := ct_fcE h
  replace h := ct_fcE h
  refine mt_wpX_putAt E (ct_v E x1) (ct_sbb (ct_v E x2) (ct_l1 E)) (ct_rd am1462_68 q4 l4) (ct_rd am1463_71 q4 l4) h (fun f0_wayEnd_114 am1821_117 am1822_120 am1823_123 am1824_126 am1825_129 am1826_132 am1827_135 am1828_138 am1829_141 am18210_144 am18211_147 am18212_150 am18213_153 am18214_156 am18215_159 am18216_162 h => ?_)
  refine ct_inS (by decide) (ct_v E x4) h (fun t5 q5 l5 h => ?_)
  refine ct_inS (by decide) (ct_v E x4) h (fun t6 q6 l6 h => ?_)
  refine ct_byS (ct_sbb (ct_rd am1821_117 q6 l6) (ct_l1 E)) h (fun b7 hb7 h => ?_)
  refine ct_leta (ct_up am1821_117 q6 l6 hb7) h (fun am1821_165 h => ?_)
  exact h_post _ _ _ _ _ _ _ _ _ _ _ _ _ _ _ _ _ h

noncomputable def mb_wX_takeFromLeft_54 (k_post : Nat → Nat → Nat → Nat → Nat → Nat → Nat → Nat → Nat → Nat → Nat → Nat → Nat → Nat → Nat → Nat → Nat → Bool) (x1 : Nat) (x2 : Nat) (x3 : Nat) (x4 : Nat) (x5 : Nat) (f0_wayEnd : Nat) (ih : Nat → Nat → Nat → Nat → Nat → Nat → Nat → Nat → Nat → Nat → Nat → Nat → Nat → Nat → Nat → Nat → Nat → Bool) (x6 : Nat) (a1 : Nat) (a2 : Nat) (a3 : Nat) (a4 : Nat) (a5 : Nat) (a6 : Nat) (a7 : Nat) (a8 : Nat) (a9 : Nat) (a10 : Nat) (a11 : Nat) (a12 : Nat) (a13 : Nat) (a14 : Nat) (a15 : Nat) (a16 : Nat) : Bool :=
  ct_le x6 0 (ct_in (ct_ad (ct_ml 6 x4) x5) 600 fun t1 => ct_in (ct_ml 6 x3) 600 fun t2 => ct_by (ct_gt a4 t1) fun b3 => ct_fc (ct_st a4 t2 b3) fun a4_171 => mf_wX_takeFromLeft_113 k_post x1 x2 x3 x4 x5 f0_wayEnd a1 a2 a3 a4_171 a5 a6 a7 a8 a9 a10 a11 a12 a13 a14 a15 a16) (ct_in (ct_sb (ct_ad (ct_ml 6 x3) x6) 1) 600 fun t4 => ct_in (ct_ad (ct_ml 6 x3) x6) 600 fun t5 => ct_by (ct_gt a4 t4) fun b6 => ct_fc (ct_st a4 t5 b6) fun a4_174 => ct_fc (ct_ad x6 4294967295) fun x6_175 => ih x6_175 a1 a2 a3 a4_174 a5 a6 a7 a8 a9 a10 a11 a12 a13 a14 a15 a16)
noncomputable def mf_wX_takeFromLeft_54 (k_post : Nat → Nat → Nat → Nat → Nat → Nat → Nat → Nat → Nat → Nat → Nat → Nat → Nat → Nat → Nat → Nat → Nat → Bool) (x1 : Nat) (x2 : Nat) (x3 : Nat) (x4 : Nat) (x5 : Nat) (f0_wayEnd : Nat) (n : Nat) : Nat → Nat → Nat → Nat → Nat → Nat → Nat → Nat → Nat → Nat → Nat → Nat → Nat → Nat → Nat → Nat → Nat → Bool :=
  Nat.rec (motive := fun _ => Nat → Nat → Nat → Nat → Nat → Nat → Nat → Nat → Nat → Nat → Nat → Nat → Nat → Nat → Nat → Nat → Nat → Bool) (fun _ _ _ _ _ _ _ _ _ _ _ _ _ _ _ _ _ => false) (fun _ ih => mb_wX_takeFromLeft_54 k_post x1 x2 x3 x4 x5 f0_wayEnd ih) n
theorem mt_wX_takeFromLeft_54 (E : Nat × Int32 × Int32) {post : St2 → Prop} {k_post : Nat → Nat → Nat → Nat → Nat → Nat → Nat → Nat → Nat → Nat → Nat → Nat → Nat → Nat → Nat → Nat → Nat → Bool} {e_x1 : Int32} {x1 : Nat} (p_x1 : e_x1 = ct_dec E x1) {e_x2 : Int32} {x2 : Nat} (p_x2 : e_x2 = ct_dec E x2) {e_x3 : Int32} {x3 : Nat} (p_x3 : e_x3 = ct_dec E x3) {e_x4 : Int32} {x4 : Nat} (p_x4 : e_x4 = ct_dec E x4) {e_x5 : Int32} {x5 : Nat} (p_x5 : e_x5 = ct_dec E x5) {e_f0_wayEnd : Int32} {f0_wayEnd : Nat} (p_f0_wayEnd : e_f0_wayEnd = ct_dec E f0_wayEnd) {n : Nat} {e_x6 : Int32} {x6 : Nat} (p_x6 : e_x6 = ct_dec E x6) {a1 : Nat} {a2 : Nat} {a3 : Nat} {a4 : Nat} {a5 : Nat} {a6 : Nat} {a7 : Nat} {a8 : Nat} {a9 : Nat} {a10 : Nat} {a11 : Nat} {a12 : Nat} {a13 : Nat} {a14 : Nat} {a15 : Nat} {a16 : Nat} (h : mf_wX_takeFromLeft_54 k_post x1 x2 x3 x4 x5 f0_wayEnd n x6 a1 a2 a3 a4 a5 a6 a7 a8 a9 a10 a11 a12 a13 a14 a15 a16 = true) (h_post : ∀ r0 r1 r2 r3 r4 r5 r6 r7 r8 r9 r10 r11 r12 r13 r14 r15 r16 : Nat, k_post r0 r1 r2 r3 r4 r5 r6 r7 r8 r9 r10 r11 r12 r13 r14 r15 r16 = true → post (ct_dec E r0, ct_da E r1, ct_da E r2, ct_da E r3, ct_da E r4, ct_da E r5, ct_da E r6, ct_da E r7, ct_da E r8, ct_da E r9, ct_da E r10, ct_da E r11, ct_da E r12, ct_da E r13, ct_da E r14, ct_da E r15, ct_da E r16)) :
    wX_takeFromLeft_54 post e_x1 e_x2 e_x3 e_x4 e_x5 e_f0_wayEnd n e_x6 (ct_da E a1) (ct_da E a2) (ct_da E a3) (ct_da E a4) (ct_da E a5) (ct_da E a6) (ct_da E a7) (ct_da E a8) (ct_da E a9) (ct_da E a10) (ct_da E a11) (ct_da E a12) (ct_da E a13) (ct_da E a14) (ct_da E a15) (ct_da E a16) := by
  subst p_x1 p_x2 p_x3 p_x4 p_x5 p_f0_wayEnd
  have key : ∀ (n : Nat) {e_x6 : Int32} {x6 : Nat} (p_x6 : e_x6 = ct_dec E x6) {a1 : Nat} {a2 : Nat} {a3 : Nat} {a4 : Nat} {a5 : Nat} {a6 : Nat} {a7 : Nat} {a8 : Nat} {a9 : Nat} {a10 : Nat} {a11 : Nat} {a12 : Nat} {a13 : Nat} {a14 : Nat} {a15 : Nat} {a16 : Nat}, mf_wX_takeFromLeft_54 k_post x1 x2 x3 x4 x5 f0_wayEnd n x6 a1 a2 a3 a4 a5 a6 a7 a8 a9 a10 a11 a12 a13 a14 a15 a16 = true → wX_takeFromLeft_54 post (ct_dec E x1) (ct_dec E x2) (ct_dec E x3) (ct_dec E x4) (ct_dec E x5) (ct_dec E f0_wayEnd) n e_x6 (ct_da E a1) (ct_da E a2) (ct_da E a3) (ct_da E a4) (ct_da E a5) (ct_da E a6) (ct_da E a7) (ct_da E a8) (ct_da E a9) (ct_da E a10) (ct_da E a11) (ct_da E a12) (ct_da E a13) (ct_da E a14) (ct_da E a15) (ct_da E a16) := by
    intro n
    induction n with
    | zero =>
      intro e_x6 x6 p_x6 a1 a2 a3 a4 a5 a6 a7 a8 a9 a10 a11 a12 a13 a14 a15 a16 h
      exact Bool.noConfusion (show false = true from h)
    | succ n ih =>
      intro e_x6 x6 p_x6 a1 a2 a3 a4 a5 a6 a7 a8 a9 a10 a11 a12 a13 a14 a15 a16 h
      subst p_x6
      replace h : mb_wX_takeFromLeft_54 k_post x1 x2 x3 x4 x5 f0_wayEnd (mf_wX_takeFromLeft_54 k_post x1 x2 x3 x4 x5 f0_wayEnd n) x6 a1 a2 a3 a4 a5 a6 a7 a8 a9 a10 a11 a12 a13 a14 a15 a16 = true := h
      unfold mb_wX_takeFromLeft_54 at h
      unfold wX_takeFromLeft_54
      refine ct_leS (ct_v E x6) (ct_l0 E) h (fun h => ?_) (fun h => ?_)
      · refine ct_inS (by decide) (ct_add (ct_mul (x := 6) (k := 6) rfl (ct_v E x4)) (ct_v E x5)) h (fun t1 q1 l1 h => ?_)
        refine ct_inS (by decide) (ct_mul (x := 6) (k := 6) rfl (ct_v E x3)) h (fun t2 q2 l2 h => ?_)
        refine ct_byS (ct_rd a4 q1 l1) h (fun b3 hb3 h => ?_)
        refine ct_leta (ct_up a4 q2 l2 hb3) h (fun a4_171 h => ?_)
        exact mt_wX_takeFromLeft_113 E (ct_v E x1) (ct_v E x2) (ct_v E x3) (ct_v E x4) (ct_v E x5) (ct_v E f0_wayEnd) h h_post
      · refine ct_inS (by decide) (ct_sbb (ct_add (ct_mul (x := 6) (k := 6) rfl (ct_v E x3)) (ct_v E x6)) (ct_l1 E)) h (fun t4 q4 l4 h => ?_)
        refine ct_inS (by decide) (ct_add (ct_mul (x := 6) (k := 6) rfl (ct_v E x3)) (ct_v E x6)) h (fun t5 q5 l5 h => ?_)
        refine ct_byS (ct_rd a4 q4 l4) h (fun b6 hb6 h => ?_)
        refine ct_leta (ct_up a4 q5 l5 hb6) h (fun a4_174 h => ?_)
        refine ct_let (ct_add (ct_v E x6) (ct_m1 E)) h (fun x6_175 h => ?_)
        exact ih (ct_v E x6_175) h
  exact key n p_x6 h

noncomputable def mf_wpX_takeFromLeft (k_post : Nat → Nat → Nat → Nat → Nat → Nat → Nat → Nat → Nat → Nat → Nat → Nat → Nat → Nat → Nat → Nat → Nat → Bool) (f0_wayEnd : Nat) (a1 : Nat) (a2 : Nat) (a3 : Nat) (a4 : Nat) (a5 : Nat) (a6 : Nat) (a7 : Nat) (a8 : Nat) (a9 : Nat) (a10 : Nat) (a11 : Nat) (a12 : Nat) (a13 : Nat) (a14 : Nat) (a15 : Nat) (a16 : Nat) (p0 : Nat) (p1 : Nat) : Bool :=
  ct_in (ct_ad (ct_ml 6 p0) p1) 600 fun t1 => ct_fc (ct_gt a4 t1) fun x3_2 => ct_in (ct_sb (ct_ad (ct_ml 6 p0) p1) 1) 600 fun t2 => ct_fc (ct_gt a4 t2) fun x4_4 => ct_in x4_4 100 fun t3 => ct_fc (ct_gt a1 t3) fun x5_6 => mf_wpX_isLeaf (fun r_7 => ct_eq r_7 0 (ct_in x3_2 100 fun t4 => ct_fc (ct_ad (ct_gt a1 t4) 1) fun x6_167 => mf_wX_takeFromLeft_54 k_post p0 p1 x3_2 x4_4 x5_6 f0_wayEnd 128 x6_167 a1 a2 a3 a4 a5 a6 a7 a8 a9 a10 a11 a12 a13 a14 a15 a16) (mf_wX_takeFromLeft_113 k_post p0 p1 x3_2 x4_4 x5_6 f0_wayEnd a1 a2 a3 a4 a5 a6 a7 a8 a9 a10 a11 a12 a13 a14 a15 a16)) f0_wayEnd a1 a2 a3 a4 a5 a6 a7 a8 a9 a10 a11 a12 a13 a14 a15 a16 x3_2
theorem mt_wpX_takeFromLeft (E : Nat × Int32 × Int32) {post : St2 → Prop} {k_post : Nat → Nat → Nat → Nat → Nat → Nat → Nat → Nat → Nat → Nat → Nat → Nat → Nat → Nat → Nat → Nat → Nat → Bool} {f0_wayEnd a1 a2 a3 a4 a5 a6 a7 a8 a9 a10 a11 a12 a13 a14 a15 a16 : Nat} {e_p0 : Int32} {p0 : Nat} (p_p0 : e_p0 = ct_dec E p0) {e_p1 : Int32} {p1 : Nat} (p_p1 : e_p1 = ct_dec E p1) (h : mf_wpX_takeFromLeft k_post f0_wayEnd a1 a2 a3 a4 a5 a6 a7 a8 a9 a10 a11 a12 a13 a14 a15 a16 p0 p1 = true) (h_post : ∀ r0 r1 r2 r3 r4 r5 r6 r7 r8 r9 r10 r11 r12 r13 r14 r15 r16 : Nat, k_post r0 r1 r2 r3 r4 r5 r6 r7 r8 r9 r10 r11 r12 r13 r14 r15 r16 = true → post (ct_dec E r0, ct_da E r1, ct_da E r2, ct_da E r3, ct_da E r4, ct_da E r5, ct_da E r6, ct_da E r7, ct_da E r8, ct_da E r9, ct_da E r10, ct_da E r11, ct_da E r12, ct_da E r13, ct_da E r14, ct_da E r15, ct_da E r16)) :
    wpX_takeFromLeft post (ct_dec E f0_wayEnd, ct_da E a1, ct_da E a2, ct_da E a3, ct_da E a4, ct_da E a5, ct_da E a6, ct_da E a7, ct_da E a8, ct_da E a9, ct_da E a10, ct_da E a11, ct_da E a12, ct_da E a13, ct_da E a14, ct_da E a15, ct_da E a16) e_p0 e_p1 := by
  subst p_p0 p_p1
  unfold mf_wpX_takeFromLeft at h
  unfold wpX_takeFromLeft
  refine ct_inS (by decide) (ct_add (ct_mul (x := 6) (k := 6) rfl (ct_v E p0)) (ct_v E p1)) h (fun t1 q1 l1 h => ?_)
  refine ct_let (ct_rd a4 q1 l1) h (fun x3_2 h => ?_)
  refine ct_inS (by decide) (ct_sbb (ct_add (ct_mul (x := 6) (k := 6) rfl (ct_v E p0)) (ct_v E p1)) (ct_l1 E)) h (fun t2 q2 l2 h => ?_)
  refine ct_let (ct_rd a4 q2 l2) h (fun x4_4 h => ?_)
  refine ct_inS (by decide) (ct_v E x4_4) h (fun t3 q3 l3 h => ?_)
  refine ct_let (ct_rd a1 q3 l3) h (fun x5_6 h => ?_)
  refine mt_wpX_isLeaf E (ct_v E x3_2) h (fun r_7 h => ?_)
  refine ct_eqS (ct_v E r_7) (ct_l0 E) h (fun h => ?_) (fun h => ?_)
  · refine ct_inS (by decide) (ct_v E x3_2) h (fun t4 q4 l4 h => ?_)
    refine ct_let (ct_add (ct_rd a1 q4 l4) (ct_l1 E)) h (fun x6_167 h => ?_)
    refine ⟨128, ?_⟩
    exact mt_wX_takeFromLeft_54 E (ct_v E p0) (ct_v E p1) (ct_v E x3_2) (ct_v E x4_4) (ct_v E x5_6) (ct_v E f0_wayEnd) (ct_v E x6_167) h h_post
  · exact mt_wX_takeFromLeft_113 E (ct_v E p0) (ct_v E p1) (ct_v E x3_2) (ct_v E x4_4) (ct_v E x5_6) (ct_v E f0_wayEnd) h h_post

noncomputable def mb_wX_melt_208 (k_post : Nat → Nat → Nat → Nat → Nat → Nat → Nat → Nat → Nat → Nat → Nat → Nat → Nat → Nat → Nat → Nat → Nat → Bool) (x1 : Nat) (x4 : Nat) (f0_wayEnd : Nat) (ih : Nat → Nat → Nat → Nat → Nat → Nat → Nat → Nat → Nat → Nat → Nat → Nat → Nat → Nat → Nat → Nat → Nat → Bool) (x6 : Nat) (am2001 : Nat) (am2002 : Nat) (am2003 : Nat) (am2004 : Nat) (am2005 : Nat) (am2006 : Nat) (am2007 : Nat) (am2008 : Nat) (am2009 : Nat) (am20010 : Nat) (am20011 : Nat) (am20012 : Nat) (am20013 : Nat) (am20014 : Nat) (am20015 : Nat) (am20016 : Nat) : Bool :=
  ct_in x1 100 fun t1 => ct_lt (ct_gt am2001 t1) x6 (ct_in x4 100 fun t2 => ct_fc (ct_st am2005 t2 0) fun am2005_120 => k_post f0_wayEnd am2001 am2002 am2003 am2004 am2005_120 am2006 am2007 am2008 am2009 am20010 am20011 am20012 am20013 am20014 am20015 am20016) (ct_in (ct_ad (ct_ad (ct_ml 6 x1) x6) 1) 600 fun t3 => ct_in (ct_ad (ct_ml 6 x1) x6) 600 fun t4 => ct_by (ct_gt am2004 t3) fun b5 => ct_fc (ct_st am2004 t4 b5) fun am2004_123 => ct_fc (ct_ad x6 1) fun x6_124 => ih x6_124 am2001 am2002 am2003 am2004_123 am2005 am2006 am2007 am2008 am2009 am20010 am20011 am20012 am20013 am20014 am20015 am20016)
noncomputable def mf_wX_melt_208 (k_post : Nat → Nat → Nat → Nat → Nat → Nat → Nat → Nat → Nat → Nat → Nat → Nat → Nat → Nat → Nat → Nat → Nat → Bool) (x1 : Nat) (x4 : Nat) (f0_wayEnd : Nat) (n : Nat) : Nat → Nat → Nat → Nat → Nat → Nat → Nat → Nat → Nat → Nat → Nat → Nat → Nat → Nat → Nat → Nat → Nat → Bool :=
  Nat.rec (motive := fun _ => Nat → Nat → Nat → Nat → Nat → Nat → Nat → Nat → Nat → Nat → Nat → Nat → Nat → Nat → Nat → Nat → Nat → Bool) (fun _ _ _ _ _ _ _ _ _ _ _ _ _ _ _ _ _ => false) (fun _ ih => mb_wX_melt_208 k_post x1 x4 f0_wayEnd ih) n
theorem mt_wX_melt_208 (E : Nat × Int32 × Int32) {post : St2 → Prop} {k_post : Nat → Nat → Nat → Nat → Nat → Nat → Nat → Nat → Nat → Nat → Nat → Nat → Nat → Nat → Nat → Nat → Nat → Bool} {e_x1 : Int32} {x1 : Nat} (p_x1 : e_x1 = ct_dec E x1) {e_x4 : Int32} {x4 : Nat} (p_x4 : e_x4 = ct_dec E x4) {e_f0_wayEnd : Int32} {f0_wayEnd : Nat} (p_f0_wayEnd : e_f0_wayEnd = ct_dec E f0_wayEnd) {n : Nat} {e_x6 : Int32} {x6 : Nat} (p_x6 : e_x6 = ct_dec E x6) {am2001 : Nat} {am2002 : Nat} {am2003 : Nat} {am2004 : Nat} {am2005 : Nat} {am2006 : Nat} {am2007 : Nat} {am2008 : Nat} {am2009 : Nat} {am20010 : Nat} {am20011 : Nat} {am20012 : Nat} {am20013 : Nat} {am20014 : Nat} {am20015 : Nat} {am20016 : Nat} (h : mf_wX_melt_208 k_post x1 x4 f0_wayEnd n x6 am2001 am2002 am2003 am2004 am2005 am2006 am2007 am2008 am2009 am20010 am20011 am20012 am20013 am20014 am20015 am20016 = true) (h_post : ∀ r0 r1 r2 r3 r4 r5 r6 r7 r8 r9 r10 r11 r12 r13 r14 r15 r16 : Nat, k_post r0 r1 r2 r3 r4 r5 r6 r7 r8 r9 r10 r11 r12 r13 r14 r15 r16 = true → post (ct_dec E r0, ct_da E r1, ct_da E r2, ct_da E r3, ct_da E r4, ct_da E r5, ct_da E r6, ct_da E r7, ct_da E r8, ct_da E r9, ct_da E r10, ct_da E r11, ct_da E r12, ct_da E r13, ct_da E r14, ct_da E r15, ct_da E r16)) :
    wX_melt_208 post e_x1 e_x4 e_f0_wayEnd n e_x6 (ct_da E am2001) (ct_da E am2002) (ct_da E am2003) (ct_da E am2004) (ct_da E am2005) (ct_da E am2006) (ct_da E am2007) (ct_da E am2008) (ct_da E am2009) (ct_da E am20010) (ct_da E am20011) (ct_da E am20012) (ct_da E am20013) (ct_da E am20014) (ct_da E am20015) (ct_da E am20016) := by
  subst p_x1 p_x4 p_f0_wayEnd
  have key : ∀ (n : Nat) {e_x6 : Int32} {x6 : Nat} (p_x6 : e_x6 = ct_dec E x6) {am2001 : Nat} {am2002 : Nat} {am2003 : Nat} {am2004 : Nat} {am2005 : Nat} {am2006 : Nat} {am2007 : Nat} {am2008 : Nat} {am2009 : Nat} {am20010 : Nat} {am20011 : Nat} {am20012 : Nat} {am20013 : Nat} {am20014 : Nat} {am20015 : Nat} {am20016 : Nat}, mf_wX_melt_208 k_post x1 x4 f0_wayEnd n x6 am2001 am2002 am2003 am2004 am2005 am2006 am2007 am2008 am2009 am20010 am20011 am20012 am20013 am20014 am20015 am20016 = true → wX_melt_208 post (ct_dec E x1) (ct_dec E x4) (ct_dec E f0_wayEnd) n e_x6 (ct_da E am2001) (ct_da E am2002) (ct_da E am2003) (ct_da E am2004) (ct_da E am2005) (ct_da E am2006) (ct_da E am2007) (ct_da E am2008) (ct_da E am2009) (ct_da E am20010) (ct_da E am20011) (ct_da E am20012) (ct_da E am20013) (ct_da E am20014) (ct_da E am20015) (ct_da E am20016) := by
    intro n
    induction n with
    | zero =>
      intro e_x6 x6 p_x6 am2001 am2002 am2003 am2004 am2005 am2006 am2007 am2008 am2009 am20010 am20011 am20012 am20013 am20014 am20015 am20016 h
      exact Bool.noConfusion (show false = true from h)
    | succ n ih =>
      intro e_x6 x6 p_x6 am2001 am2002 am2003 am2004 am2005 am2006 am2007 am2008 am2009 am20010 am20011 am20012 am20013 am20014 am20015 am20016 h
      subst p_x6
      replace h : mb_wX_melt_208 k_post x1 x4 f0_wayEnd (mf_wX_melt_208 k_post x1 x4 f0_wayEnd n) x6 am2001 am2002 am2003 am2004 am2005 am2006 am2007 am2008 am2009 am20010 am20011 am20012 am20013 am20014 am20015 am20016 = true := h
      unfold mb_wX_melt_208 at h
      unfold wX_melt_208
      refine ct_inS (by decide) (ct_v E x1) h (fun t1 q1 l1 h => ?_)
      refine ct_ltS (ct_rd am2001 q1 l1) (ct_v E x6) h (fun h => ?_) (fun h => ?_)
      · refine ct_inS (by decide) (ct_v E x4) h (fun t2 q2 l2 h => ?_)
        refine ct_leta (ct_up am2005 q2 l2 (ct_l0 E)) h (fun am2005_120 h => ?_)
        exact h_post _ _ _ _ _ _ _ _ _ _ _ _ _ _ _ _ _ h
      · refine ct_inS (by decide) (ct_add (ct_add (ct_mul (x := 6) (k := 6) rfl (ct_v E x1)) (ct_v E x6)) (ct_l1 E)) h (fun t3 q3 l3 h => ?_)
        refine ct_inS (by decide) (ct_add (ct_mul (x := 6) (k := 6) rfl (ct_v E x1)) (ct_v E x6)) h (fun t4 q4 l4 h => ?_)
        refine ct_byS (ct_rd am2004 q3 l3) h (fun b5 hb5 h => ?_)
        refine ct_leta (ct_up am2004 q4 l4 hb5) h (fun am2004_123 h => ?_)
        refine ct_let (ct_add (ct_v E x6) (ct_l1 E)) h (fun x6_124 h => ?_)
        exact ih (ct_v E x6_124) h
  exact key n p_x6 h

noncomputable def mf_wX_melt_178 (k_post : Nat → Nat → Nat → Nat → Nat → Nat → Nat → Nat → Nat → Nat → Nat → Nat → Nat → Nat → Nat → Nat → Nat → Bool) (x1 : Nat) (x2 : Nat) (x3 : Nat) (x4 : Nat) (x5 : Nat) (f0_wayEnd : Nat) (am591 : Nat) (am592 : Nat) (am593 : Nat) (am594 : Nat) (am595 : Nat) (am596 : Nat) (am597 : Nat) (am598 : Nat) (am599 : Nat) (am5910 : Nat) (am5911 : Nat) (am5912 : Nat) (am5913 : Nat) (am5914 : Nat) (am5915 : Nat) (am5916 : Nat) : Bool :=
  ct_in x4 100 fun t1 => ct_in x3 100 fun t2 => ct_by (ct_ad (ct_ad x5 1) (ct_gt am591 t1)) fun b3 => ct_fc (ct_st am591 t2 b3) fun am591_65 => mf_wpX_closePlace (fun f0_wayEnd_67 am2001_70 am2002_73 am2003_76 am2004_79 am2005_82 am2006_85 am2007_88 am2008_91 am2009_94 am20010_97 am20011_100 am20012_103 am20013_106 am20014_109 am20015_112 am20016_115 => ct_fc (ct_ad x2 1) fun x6_116 => mf_wX_melt_208 k_post x1 x4 f0_wayEnd_67 128 x6_116 am2001_70 am2002_73 am2003_76 am2004_79 am2005_82 am2006_85 am2007_88 am2008_91 am2009_94 am20010_97 am20011_100 am20012_103 am20013_106 am20014_109 am20015_112 am20016_115) f0_wayEnd am591_65 am592 am593 am594 am595 am596 am597 am598 am599 am5910 am5911 am5912 am5913 am5914 am5915 am5916 x1 x2
theorem mt_wX_melt_178 (E : Nat × Int32 × Int32) {post : St2 → Prop} {k_post : Nat → Nat → Nat → Nat → Nat → Nat → Nat → Nat → Nat → Nat → Nat → Nat → Nat → Nat → Nat → Nat → Nat → Bool} {e_x1 : Int32} {x1 : Nat} (p_x1 : e_x1 = ct_dec E x1) {e_x2 : Int32} {x2 : Nat} (p_x2 : e_x2 = ct_dec E x2) {e_x3 : Int32} {x3 : Nat} (p_x3 : e_x3 = ct_dec E x3) {e_x4 : Int32} {x4 : Nat} (p_x4 : e_x4 = ct_dec E x4) {e_x5 : Int32} {x5 : Nat} (p_x5 : e_x5 = ct_dec E x5) {e_f0_wayEnd : Int32} {f0_wayEnd : Nat} (p_f0_wayEnd : e_f0_wayEnd = ct_dec E f0_wayEnd) {am591 : Nat} {am592 : Nat} {am593 : Nat} {am594 : Nat} {am595 : Nat} {am596 : Nat} {am597 : Nat} {am598 : Nat} {am599 : Nat} {am5910 : Nat} {am5911 : Nat} {am5912 : Nat} {am5913 : Nat} {am5914 : Nat} {am5915 : Nat} {am5916 : Nat} (h : mf_wX_melt_178 k_post x1 x2 x3 x4 x5 f0_wayEnd am591 am592 am593 am594 am595 am596 am597 am598 am599 am5910 am5911 am5912 am5913 am5914 am5915 am5916 = true) (h_post : ∀ r0 r1 r2 r3 r4 r5 r6 r7 r8 r9 r10 r11 r12 r13 r14 r15 r16 : Nat, k_post r0 r1 r2 r3 r4 r5 r6 r7 r8 r9 r10 r11 r12 r13 r14 r15 r16 = true → post (ct_dec E r0, ct_da E r1, ct_da E r2, ct_da E r3, ct_da E r4, ct_da E r5, ct_da E r6, ct_da E r7, ct_da E r8, ct_da E r9, ct_da E r10, ct_da E r11, ct_da E r12, ct_da E r13, ct_da E r14, ct_da E r15, ct_da E r16)) :
    wX_melt_178 post e_x1 e_x2 e_x3 e_x4 e_x5 e_f0_wayEnd (ct_da E am591) (ct_da E am592) (ct_da E am593) (ct_da E am594) (ct_da E am595) (ct_da E am596) (ct_da E am597) (ct_da E am598) (ct_da E am599) (ct_da E am5910) (ct_da E am5911) (ct_da E am5912) (ct_da E am5913) (ct_da E am5914) (ct_da E am5915) (ct_da E am5916) := by
  subst p_x1 p_x2 p_x3 p_x4 p_x5 p_f0_wayEnd
  unfold mf_wX_melt_178 at h
  unfold wX_melt_178
  refine ct_inS (by decide) (ct_v E x4) h (fun t1 q1 l1 h => ?_)
  refine ct_inS (by decide) (ct_v E x3) h (fun t2 q2 l2 h => ?_)
  refine ct_byS (ct_add (ct_add (ct_v E x5) (ct_l1 E)) (ct_rd am591 q1 l1)) h (fun b3 hb3 h => ?_)
  refine ct_leta (ct_up am591 q2 l2 hb3) h (fun am591_65 h => ?_)
  refine mt_wpX_closePlace E (ct_v E x1) (ct_v E x2) h (fun f0_wayEnd_67 am2001_70 am2002_73 am2003_76 am2004_79 am2005_82 am2006_85 am2007_88 am2008_91 am2009_94 am20010_97 am20011_100 am20012_103 am20013_106 am20014_109 am20015_112 am20016_115 h => ?_)
  refine ct_let (ct_add (ct_v E x2) (ct_l1 E)) h (fun x6_116 h => ?_)
  refine ⟨128, ?_⟩
  exact mt_wX_melt_208 E (ct_v E x1) (ct_v E x4) (ct_v E f0_wayEnd_67) (ct_v E x6_116) h h_post

noncomputable def mb_wX_melt_130 (k_post : Nat → Nat → Nat → Nat → Nat → Nat → Nat → Nat → Nat → Nat → Nat → Nat → Nat → Nat → Nat → Nat → Nat → Bool) (x1 : Nat) (x2 : Nat) (x3 : Nat) (x4 : Nat) (x5 : Nat) (f0_wayEnd : Nat) (ih : Nat → Nat → Nat → Nat → Nat → Nat → Nat → Nat → Nat → Nat → Nat → Nat → Nat → Nat → Nat → Nat → Nat → Bool) (x6 : Nat) (am591 : Nat) (am592 : Nat) (am593 : Nat) (am594 : Nat) (am595 : Nat) (am596 : Nat) (am597 : Nat) (am598 : Nat) (am599 : Nat) (am5910 : Nat) (am5911 : Nat) (am5912 : Nat) (am5913 : Nat) (am5914 : Nat) (am5915 : Nat) (am5916 : Nat) : Bool :=
  ct_in x4 100 fun t1 => ct_lt (ct_gt am591 t1) x6 (mf_wX_melt_178 k_post x1 x2 x3 x4 x5 f0_wayEnd am591 am592 am593 am594 am595 am596 am597 am598 am599 am5910 am5911 am5912 am5913 am5914 am5915 am5916) (ct_in (ct_ad (ct_ml 6 x4) x6) 600 fun t2 => ct_in (ct_ad (ct_ad (ct_ad (ct_ml 6 x3) x5) 1) x6) 600 fun t3 => ct_by (ct_gt am594 t2) fun b4 => ct_fc (ct_st am594 t3 b4) fun am594_129 => ct_fc (ct_ad x6 1) fun x6_130 => ih x6_130 am591 am592 am593 am594_129 am595 am596 am597 am598 am599 am5910 am5911 am5912 am5913 am5914 am5915 am5916)
noncomputable def mf_wX_melt_130 (k_post : Nat → Nat → Nat → Nat → Nat → Nat → Nat → Nat → Nat → Nat → Nat → Nat → Nat → Nat → Nat → Nat → Nat → Bool) (x1 : Nat) (x2 : Nat) (x3 : Nat) (x4 : Nat) (x5 : Nat) (f0_wayEnd : Nat) (n : Nat) : Nat → Nat → Nat → Nat → Nat → Nat → Nat → Nat → Nat → Nat → Nat → Nat → Nat → Nat → Nat → Nat → Nat → Bool :=
  Nat.rec (motive := fun _ => Nat → Nat → Nat → Nat → Nat → Nat → Nat → Nat → Nat → Nat → Nat → Nat → Nat → Nat → Nat → Nat → Nat → Bool) (fun _ _ _ _ _ _ _ _ _ _ _ _ _ _ _ _ _ => false) (fun _ ih => mb_wX_melt_130 k_post x1 x2 x3 x4 x5 f0_wayEnd ih) n
theorem mt_wX_melt_130 (E : Nat × Int32 × Int32) {post : St2 → Prop} {k_post : Nat → Nat → Nat → Nat → Nat → Nat → Nat → Nat → Nat → Nat → Nat → Nat → Nat → Nat → Nat → Nat → Nat → Bool} {e_x1 : Int32} {x1 : Nat} (p_x1 : e_x1 = ct_dec E x1) {e_x2 : Int32} {x2 : Nat} (p_x2 : e_x2 = ct_dec E x2) {e_x3 : Int32} {x3 : Nat} (p_x3 : e_x3 = ct_dec E x3) {e_x4 : Int32} {x4 : Nat} (p_x4 : e_x4 = ct_dec E x4) {e_x5 : Int32} {x5 : Nat} (p_x5 : e_x5 = ct_dec E x5) {e_f0_wayEnd : Int32} {f0_wayEnd : Nat} (p_f0_wayEnd : e_f0_wayEnd = ct_dec E f0_wayEnd) {n : Nat} {e_x6 : Int32} {x6 : Nat} (p_x6 : e_x6 = ct_dec E x6) {am591 : Nat} {am592 : Nat} {am593 : Nat} {am594 : Nat} {am595 : Nat} {am596 : Nat} {am597 : Nat} {am598 : Nat} {am599 : Nat} {am5910 : Nat} {am5911 : Nat} {am5912 : Nat} {am5913 : Nat} {am5914 : Nat} {am5915 : Nat} {am5916 : Nat} (h : mf_wX_melt_130 k_post x1 x2 x3 x4 x5 f0_wayEnd n x6 am591 am592 am593 am594 am595 am596 am597 am598 am599 am5910 am5911 am5912 am5913 am5914 am5915 am5916 = true) (h_post : ∀ r0 r1 r2 r3 r4 r5 r6 r7 r8 r9 r10 r11 r12 r13 r14 r15 r16 : Nat, k_post r0 r1 r2 r3 r4 r5 r6 r7 r8 r9 r10 r11 r12 r13 r14 r15 r16 = true → post (ct_dec E r0, ct_da E r1, ct_da E r2, ct_da E r3, ct_da E r4, ct_da E r5, ct_da E r6, ct_da E r7, ct_da E r8, ct_da E r9, ct_da E r10, ct_da E r11, ct_da E r12, ct_da E r13, ct_da E r14, ct_da E r15, ct_da E r16)) :
    wX_melt_130 post e_x1 e_x2 e_x3 e_x4 e_x5 e_f0_wayEnd n e_x6 (ct_da E am591) (ct_da E am592) (ct_da E am593) (ct_da E am594) (ct_da E am595) (ct_da E am596) (ct_da E am597) (ct_da E am598) (ct_da E am599) (ct_da E am5910) (ct_da E am5911) (ct_da E am5912) (ct_da E am5913) (ct_da E am5914) (ct_da E am5915) (ct_da E am5916) := by
  subst p_x1 p_x2 p_x3 p_x4 p_x5 p_f0_wayEnd
  have key : ∀ (n : Nat) {e_x6 : Int32} {x6 : Nat} (p_x6 : e_x6 = ct_dec E x6) {am591 : Nat} {am592 : Nat} {am593 : Nat} {am594 : Nat} {am595 : Nat} {am596 : Nat} {am597 : Nat} {am598 : Nat} {am599 : Nat} {am5910 : Nat} {am5911 : Nat} {am5912 : Nat} {am5913 : Nat} {am5914 : Nat} {am5915 : Nat} {am5916 : Nat}, mf_wX_melt_130 k_post x1 x2 x3 x4 x5 f0_wayEnd n x6 am591 am592 am593 am594 am595 am596 am597 am598 am599 am5910 am5911 am5912 am5913 am5914 am5915 am5916 = true → wX_melt_130 post (ct_dec E x1) (ct_dec E x2) (ct_dec E x3) (ct_dec E x4) (ct_dec E x5) (ct_dec E f0_wayEnd) n e_x6 (ct_da E am591) (ct_da E am592) (ct_da E am593) (ct_da E am594) (ct_da E am595) (ct_da E am596) (ct_da E am597) (ct_da E am598) (ct_da E am599) (ct_da E am5910) (ct_da E am5911) (ct_da E am5912) (ct_da E am5913) (ct_da E am5914) (ct_da E am5915) (ct_da E am5916) := by
    intro n
    induction n with
    | zero =>
      intro e_x6 x6 p_x6 am591 am592 am593 am594 am595 am596 am597 am598 am599 am5910 am5911 am5912 am5913 am5914 am5915 am5916 h
      exact Bool.noConfusion (show false = true from h)
    | succ n ih =>
      intro e_x6 x6 p_x6 am591 am592 am593 am594 am595 am596 am597 am598 am599 am5910 am5911 am5912 am5913 am5914 am5915 am5916 h
      subst p_x6
      replace h : mb_wX_melt_130 k_post x1 x2 x3 x4 x5 f0_wayEnd (mf_wX_melt_130 k_post x1 x2 x3 x4 x5 f0_wayEnd n) x6 am591 am592 am593 am594 am595 am596 am597 am598 am599 am5910 am5911 am5912 am5913 am5914 am5915 am5916 = true := h
      unfold mb_wX_melt_130 at h
      unfold wX_melt_130
      refine ct_inS (by decide) (ct_v E x4) h (fun t1 q1 l1 h => ?_)
      refine ct_ltS (ct_rd am591 q1 l1) (ct_v E x6) h (fun h => ?_) (fun h => ?_)
      · exact mt_wX_melt_178 E (ct_v E x1) (ct_v E x2) (ct_v E x3) (ct_v E x4) (ct_v E x5) (ct_v E f0_wayEnd) h h_post
      · refine ct_inS (by decide) (ct_add (ct_mul (x := 6) (k := 6) rfl (ct_v E x4)) (ct_v E x6)) h (fun t2 q2 l2 h => ?_)
        refine ct_inS (by decide) (ct_add (ct_add (ct_add (ct_mul (x := 6) (k := 6) rfl (ct_v E x3)) (ct_v E x5)) (ct_l1 E)) (ct_v E x6)) h (fun t3 q3 l3 h => ?_)
        refine ct_byS (ct_rd am594 q2 l2) h (fun b4 hb4 h => ?_)
        refine ct_leta (ct_up am594 q3 l3 hb4) h (fun am594_129 h => ?_)
        refine ct_let (ct_add (ct_v E x6) (ct_l1 E)) h (fun x6_130 h => ?_)
        exact ih (ct_v E x6_130) h
  exact key n p_x6 h
end
section
noncomputable def mb_wX_melt_65 (k_post : Nat → Nat → Nat → Nat → Nat → Nat → Nat → Nat → Nat → Nat → Nat → Nat → Nat → Nat → Nat → Nat → Nat → Bool) (x1 : Nat) (x2 : Nat) (x3 : Nat) (x4 : Nat) (x5 : Nat) (ih : Nat → Nat → Nat → Nat → Nat → Nat → Nat → Nat → Nat → Nat → Nat → Nat → Nat → Nat → Nat → Nat → Nat → Nat → Bool) (x6 : Nat) (f0_wayEnd : Nat) (am591 : Nat) (am592 : Nat) (am593 : Nat) (am594 : Nat) (am595 : Nat) (am596 : Nat) (am597 : Nat) (am598 : Nat) (am599 : Nat) (am5910 : Nat) (am5911 : Nat) (am5912 : Nat) (am5913 : Nat) (am5914 : Nat) (am5915 : Nat) (am5916 : Nat) : Bool :=
  ct_in x4 100 fun t1 => ct_le (ct_gt am591 t1) x6 (mf_wpX_isLeaf (fun r_61 => ct_eq r_61 0 (mf_wX_melt_130 k_post x1 x2 x3 x4 x5 f0_wayEnd 128 0 am591 am592 am593 am594 am595 am596 am597 am598 am599 am5910 am5911 am5912 am5913 am5914 am5915 am5916) (mf_wX_melt_178 k_post x1 x2 x3 x4 x5 f0_wayEnd am591 am592 am593 am594 am595 am596 am597 am598 am599 am5910 am5911 am5912 am5913 am5914 am5915 am5916)) f0_wayEnd am591 am592 am593 am594 am595 am596 am597 am598 am599 am5910 am5911 am5912 am5913 am5914 am5915 am5916 x3) (ct_in (ct_ad (ct_ml 5 x4) x6) 500 fun t2 => ct_in (ct_ad (ct_ml 5 x4) x6) 500 fun t3 => ct_fc (ct_ad (ct_ad x5 1) x6) fun y4 => ct_fc (ct_gt am592 t3) fun y5 => ct_fc (ct_gt am593 t3) fun y6 => mf_wpX_putAt (fun f0_wayEnd_134 am1101_137 am1102_140 am1103_143 am1104_146 am1105_149 am1106_152 am1107_155 am1108_158 am1109_161 am11010_164 am11011_167 am11012_170 am11013_173 am11014_176 am11015_179 am11016_182 => ct_fc (ct_ad x6 1) fun x6_183 => ih x6_183 f0_wayEnd_134 am1101_137 am1102_140 am1103_143 am1104_146 am1105_149 am1106_152 am1107_155 am1108_158 am1109_161 am11010_164 am11011_167 am11012_170 am11013_173 am11014_176 am11015_179 am11016_182) f0_wayEnd am591 am592 am593 am594 am595 am596 am597 am598 am599 am5910 am5911 am5912 am5913 am5914 am5915 am5916 x3 y4 y5 y6)
noncomputable def mf_wX_melt_65 (k_post : Nat → Nat → Nat → Nat → Nat → Nat → Nat → Nat → Nat → Nat → Nat → Nat → Nat → Nat → Nat → Nat → Nat → Bool) (x1 : Nat) (x2 : Nat) (x3 : Nat) (x4 : Nat) (x5 : Nat) (n : Nat) : Nat → Nat → Nat → Nat → Nat → Nat → Nat → Nat → Nat → Nat → Nat → Nat → Nat → Nat → Nat → Nat → Nat → Nat → Bool :=
  Nat.rec (motive := fun _ => Nat → Nat → Nat → Nat → Nat → Nat → Nat → Nat → Nat → Nat → Nat → Nat → Nat → Nat → Nat → Nat → Nat → Nat → Bool) (fun _ _ _ _ _ _ _ _ _ _ _ _ _ _ _ _ _ _ => false) (fun _ ih => mb_wX_melt_65 k_post x1 x2 x3 x4 x5 ih) n
theorem mt_wX_melt_65 (E : Nat × Int32 × Int32) {post : St2 → Prop} {k_post : Nat → Nat → Nat → Nat → Nat → Nat → Nat → Nat → Nat → Nat → Nat → Nat → Nat → Nat → Nat → Nat → Nat → Bool} {e_x1 : Int32} {x1 : Nat} (p_x1 : e_x1 = ct_dec E x1) {e_x2 : Int32} {x2 : Nat} (p_x2 : e_x2 = ct_dec E x2) {e_x3 : Int32} {x3 : Nat} (p_x3 : e_x3 = ct_dec E x3) {e_x4 : Int32} {x4 : Nat} (p_x4 : e_x4 = ct_dec E x4) {e_x5 : Int32} {x5 : Nat} (p_x5 : e_x5 = ct_dec E x5) {n : Nat} {e_x6 : Int32} {x6 : Nat} (p_x6 : e_x6 = ct_dec E x6) {e_f0_wayEnd : Int32} {f0_wayEnd : Nat} (p_f0_wayEnd : e_f0_wayEnd = ct_dec E f0_wayEnd) {am591 : Nat} {am592 : Nat} {am593 : Nat} {am594 : Nat} {am595 : Nat} {am596 : Nat} {am597 : Nat} {am598 : Nat} {am599 : Nat} {am5910 : Nat} {am5911 : Nat} {am5912 : Nat} {am5913 : Nat} {am5914 : Nat} {am5915 : Nat} {am5916 : Nat} (h : mf_wX_melt_65 k_post x1 x2 x3 x4 x5 n x6 f0_wayEnd am591 am592 am593 am594 am595 am596 am597 am598 am599 am5910 am5911 am5912 am5913 am5914 am5915 am5916 = true) (h_post : ∀ r0 r1 r2 r3 r4 r5 r6 r7 r8 r9 r10 r11 r12 r13 r14 r15 r16 : Nat, k_post r0 r1 r2 r3 r4 r5 r6 r7 r8 r9 r10 r11 r12 r13 r14 r15 r16 = true → post (ct_dec E r0, ct_da E r1, ct_da E r2, ct_da E r3, ct_da E r4, ct_da E r5, ct_da E r6, ct_da E r7, ct_da E r8, ct_da E r9, ct_da E r10, ct_da E r11, ct_da E r12, ct_da E r13, ct_da E r14, ct_da E r15, ct_da E r16)) :
    wX_melt_65 post e_x1 e_x2 e_x3 e_x4 e_x5 n e_x6 e_f0_wayEnd (ct_da E am591) (ct_da E am592) (ct_da E am593) (ct_da E am594) (ct_da E am595) (ct_da E am596) (ct_da E am597) (ct_da E am598) (ct_da E am599) (ct_da E am5910) (ct_da E am5911) (ct_da E am5912) (ct_da E am5913) (ct_da E am5914) (ct_da E am5915) (ct_da E am5916) := by
  subst p_x1 p_x2 p_x3 p_x4 p_x5
  have key : ∀ (n : Nat) {e_x6 : Int32} {x6 : Nat} (p_x6 : e_x6 = ct_dec E x6) {e_f0_wayEnd : Int32} {f0_wayEnd : Nat} (p_f0_wayEnd : e_f0_wayEnd = ct_dec E f0_wayEnd) {am591 : Nat} {am592 : Nat} {am593 : Nat} {am594 : Nat} {am595 : Nat} {am596 : Nat} {am597 : Nat} {am598 : Nat} {am599 : Nat} {am5910 : Nat} {am5911 : Nat} {am5912 : Nat} {am5913 : Nat} {am5914 : Nat} {am5915 : Nat} {am5916 : Nat}, mf_wX_melt_65 k_post x1 x2 x3 x4 x5 n x6 f0_wayEnd am591 am592 am593 am594 am595 am596 am597 am598 am599 am5910 am5911 am5912 am5913 am5914 am5915 am5916 = true → wX_melt_65 post (ct_dec E x1) (ct_dec E x2) (ct_dec E x3) (ct_dec E x4) (ct_dec E x5) n e_x6 e_f0_wayEnd (ct_da E am591) (ct_da E am592) (ct_da E am593) (ct_da E am594) (ct_da E am595) (ct_da E am596) (ct_da E am597) (ct_da E am598) (ct_da E am599) (ct_da E am5910) (ct_da E am5911) (ct_da E am5912) (ct_da E am5913) (ct_da E am5914) (ct_da E am5915) (ct_da E am5916) := by
    intro n
    induction n with
    | zero =>
      intro e_x6 x6 p_x6 e_f0_wayEnd f0_wayEnd p_f0_wayEnd am591 am592 am593 am594 am595 am596 am597 am598 am599 am5910 am5911 am5912 am5913 am5914 am5915 am5916 h
      exact Bool.noConfusion (show false = true from h)
    | succ n ih =>
      intro e_x6 x6 p_x6 e_f0_wayEnd f0_wayEnd p_f0_wayEnd am591 am592 am593 am594 am595 am596 am597 am598 am599 am5910 am5911 am5912 am5913 am5914 am5915 am5916 h
      subst p_x6 p_f0_wayEnd
      replace h : mb_wX_melt_65 k_post x1 x2 x3 x4 x5 (mf_wX_melt_65 k_post x1 x2 x3 x4 x5 n) x6 f0_wayEnd am591 am592 am593 am594 am595 am596 am597 am598 am599 am5910 am5911 am5912 am5913 am5914 am5915 am5916 = true := h
      unfold mb_wX_melt_65 at h
      unfold wX_melt_65
      refine ct_inS (by decide) (ct_v E x4) h (fun t1 q1 l1 h => ?_)
      refine ct_leS (ct_rd am591 q1 l1) (ct_v E x6) h (fun h => ?_) (fun h => ?_)
      · refine mt_wpX_isLeaf E (ct_v E x3) h (fun r_61 h => ?_)
        refine ct_eqS (ct_v E r_61) (ct_l0 E) h (fun h => ?_) (fun h => ?_)
        · refine ⟨128, ?_⟩
          exact mt_wX_melt_130 E (ct_v E x1) (ct_v E x2) (ct_v E x3) (ct_v E x4) (ct_v E x5) (ct_v E f0_wayEnd) (ct_l0 E) h h_post
        · exact mt_wX_melt_178 E (ct_v E x1) (ct_v E x2) (ct_v E x3) (ct_v E x4) (ct_v E x5) (ct_v E f0_wayEnd) h h_post
      · refine ct_inS (by decide) (ct_add (ct_mul (x := 5) (k := 5) rfl (ct_v E x4)) (ct_v E x6)) h (fun t2 q2 l2 h => ?_)
        refine ct_inS (by decide) (ct_add (ct_mul (x := 5) (k := 5) rfl (ct_v E x4)) (ct_v E x6)) h (fun t3 q3 l3 h => ?_)
        replace h := ct_fcE h
        replace h := ct_fcE h
        replace h := ct_fcE h
        refine mt_wpX_putAt E (ct_v E x3) (ct_add (ct_add (ct_v E x5) (ct_l1 E)) (ct_v E x6)) (ct_rd am592 q3 l3) (ct_rd am593 q3 l3) h (fun f0_wayEnd_134 am1101_137 am1102_140 am1103_143 am1104_146 am1105_149 am1106_152 am1107_155 am1108_158 am1109_161 am11010_164 am11011_167 am11012_170 am11013_173 am11014_176 am11015_179 am11016_182 h => ?_)
        refine ct_let (ct_add (ct_v E x6) (ct_l1 E)) h (fun x6_183 h => ?_)
        exact ih (ct_v E x6_183) (ct_v E f0_wayEnd_134) h
  exact key n p_x6 p_f0_wayEnd h

noncomputable def mf_wpX_melt (k_post : Nat → Nat → Nat → Nat → Nat → Nat → Nat → Nat → Nat → Nat → Nat → Nat → Nat → Nat → Nat → Nat → Nat → Bool) (f0_wayEnd : Nat) (a1 : Nat) (a2 : Nat) (a3 : Nat) (a4 : Nat) (a5 : Nat) (a6 : Nat) (a7 : Nat) (a8 : Nat) (a9 : Nat) (a10 : Nat) (a11 : Nat) (a12 : Nat) (a13 : Nat) (a14 : Nat) (a15 : Nat) (a16 : Nat) (p0 : Nat) (p1 : Nat) : Bool :=
  ct_in (ct_ad (ct_ml 6 p0) p1) 600 fun t1 => ct_fc (ct_gt a4 t1) fun x3_2 => ct_in (ct_ad (ct_ad (ct_ml 6 p0) p1) 1) 600 fun t2 => ct_fc (ct_gt a4 t2) fun x4_4 => ct_in x3_2 100 fun t3 => ct_fc (ct_gt a1 t3) fun x5_6 => ct_in (ct_ad (ct_ml 5 p0) p1) 500 fun t4 => ct_in (ct_ad (ct_ml 5 p0) p1) 500 fun t5 => ct_fc (ct_gt a2 t5) fun y6 => ct_fc (ct_gt a3 t5) fun y7 => mf_wpX_putAt (fun f0_wayEnd_10 am591_13 am592_16 am593_19 am594_22 am595_25 am596_28 am597_31 am598_34 am599_37 am5910_40 am5911_43 am5912_46 am5913_49 am5914_52 am5915_55 am5916_58 => mf_wX_melt_65 k_post p0 p1 x3_2 x4_4 x5_6 128 0 f0_wayEnd_10 am591_13 am592_16 am593_19 am594_22 am595_25 am596_28 am597_31 am598_34 am599_37 am5910_40 am5911_43 am5912_46 am5913_49 am5914_52 am5915_55 am5916_58) f0_wayEnd a1 a2 a3 a4 a5 a6 a7 a8 a9 a10 a11 a12 a13 a14 a15 a16 x3_2 x5_6 y6 y7
theorem mt_wpX_melt (E : Nat × Int32 × Int32) {post : St2 → Prop} {k_post : Nat → Nat → Nat → Nat → Nat → Nat → Nat → Nat → Nat → Nat → Nat → Nat → Nat → Nat → Nat → Nat → Nat → Bool} {f0_wayEnd a1 a2 a3 a4 a5 a6 a7 a8 a9 a10 a11 a12 a13 a14 a15 a16 : Nat} {e_p0 : Int32} {p0 : Nat} (p_p0 : e_p0 = ct_dec E p0) {e_p1 : Int32} {p1 : Nat} (p_p1 : e_p1 = ct_dec E p1) (h : mf_wpX_melt k_post f0_wayEnd a1 a2 a3 a4 a5 a6 a7 a8 a9 a10 a11 a12 a13 a14 a15 a16 p0 p1 = true) (h_post : ∀ r0 r1 r2 r3 r4 r5 r6 r7 r8 r9 r10 r11 r12 r13 r14 r15 r16 : Nat, k_post r0 r1 r2 r3 r4 r5 r6 r7 r8 r9 r10 r11 r12 r13 r14 r15 r16 = true → post (ct_dec E r0, ct_da E r1, ct_da E r2, ct_da E r3, ct_da E r4, ct_da E r5, ct_da E r6, ct_da E r7, ct_da E r8, ct_da E r9, ct_da E r10, ct_da E r11, ct_da E r12, ct_da E r13, ct_da E r14, ct_da E r15, ct_da E r16)) :
    wpX_melt post (ct_dec E f0_wayEnd, ct_da E a1, ct_da E a2, ct_da E a3, ct_da E a4, ct_da E a5, ct_da E a6, ct_da E a7, ct_da E a8, ct_da E a9, ct_da E a10, ct_da E a11, ct_da E a12, ct_da E a13, ct_da E a14, ct_da E a15, ct_da E a16) e_p0 e_p1 := by
  subst p_p0 p_p1
  unfold mf_wpX_melt at h
  unfold wpX_melt
  refine ct_inS (by decide) (ct_add (ct_mul (x := 6) (k := 6) rfl (ct_v E p0)) (ct_v E p1)) h (fun t1 q1 l1 h => ?_)
  refine ct_let (ct_rd a4 q1 l1) h (fun x3_2 h => ?_)
  refine ct_inS (by decide) (ct_add (ct_add (ct_mul (x := 6) (k := 6) rfl (ct_v E p0)) (ct_v E p1)) (ct_l1 E)) h (fun t2 q2 l2 h => ?_)
  refine ct_let (ct_rd a4 q2 l2) h (fun x4_4 h => ?_)
  refine ct_inS (by decide) (ct_v E x3_2) h (fun t3 q3 l3 h => ?_)
  refine ct_let (ct_rd a1 q3 l3) h (fun x5_6 h => ?_)
  refine ct_inS (by decide) (ct_add (ct_mul (x := 5) (k := 5) rfl (ct_v E p0)) (ct_v E p1)) h (fun t4 q4 l4 h => ?_)
  refine ct_inS (by decide) (ct_add (ct_mul (x := 5) (k := 5) rfl (ct_v E p0)) (ct_v E p1)) h (fun t5 q5 l5 h => ?_)
  replace h := ct_fcE h
  replace h := ct_fcE h
  refine mt_wpX_putAt E (ct_v E x3_2) (ct_v E x5_6) (ct_rd a2 q5 l5) (ct_rd a3 q5 l5) h (fun f0_wayEnd_10 am591_13 am592_16 am593_19 am594_22 am595_25 am596_28 am597_31 am598_34 am599_37 am5910_40 am5911_43 am5912_46 am5913_49 am5914_52 am5915_55 am5916_58 h => ?_)
  refine ⟨128, ?_⟩
  exact mt_wX_melt_65 E (ct_v E p0) (ct_v E p1) (ct_v E x3_2) (ct_v E x4_4) (ct_v E x5_6) (ct_l0 E) (ct_v E f0_wayEnd_10) h h_post

noncomputable def mf_wX_refill_165 (k_post : Nat → Nat → Nat → Nat → Nat → Nat → Nat → Nat → Nat → Nat → Nat → Nat → Nat → Nat → Nat → Nat → Nat → Bool) (z0 : Nat) (z1 : Nat) (f0_wayEnd : Nat) (am1201 : Nat) (am1202 : Nat) (am1203 : Nat) (am1204 : Nat) (am1205 : Nat) (am1206 : Nat) (am1207 : Nat) (am1208 : Nat) (am1209 : Nat) (am12010 : Nat) (am12011 : Nat) (am12012 : Nat) (am12013 : Nat) (am12014 : Nat) (am12015 : Nat) (am12016 : Nat) : Bool :=
  mf_wpX_melt (fun f0_wayEnd_166 am1651_169 am1652_172 am1653_175 am1654_178 am1655_181 am1656_184 am1657_187 am1658_190 am1659_193 am16510_196 am16511_199 am16512_202 am16513_205 am16514_208 am16515_211 am16516_214 => k_post f0_wayEnd_166 am1651_169 am1652_172 am1653_175 am1654_178 am1655_181 am1656_184 am1657_187 am1658_190 am1659_193 am16510_196 am16511_199 am16512_202 am16513_205 am16514_208 am16515_211 am16516_214) f0_wayEnd am1201 am1202 am1203 am1204 am1205 am1206 am1207 am1208 am1209 am12010 am12011 am12012 am12013 am12014 am12015 am12016 z1 z0
theorem mt_wX_refill_165 (E : Nat × Int32 × Int32) {post : St2 → Prop} {k_post : Nat → Nat → Nat → Nat → Nat → Nat → Nat → Nat → Nat → Nat → Nat → Nat → Nat → Nat → Nat → Nat → Nat → Bool} {e_z0 : Int32} {z0 : Nat} (p_z0 : e_z0 = ct_dec E z0) {e_z1 : Int32} {z1 : Nat} (p_z1 : e_z1 = ct_dec E z1) {e_f0_wayEnd : Int32} {f0_wayEnd : Nat} (p_f0_wayEnd : e_f0_wayEnd = ct_dec E f0_wayEnd) {am1201 : Nat} {am1202 : Nat} {am1203 : Nat} {am1204 : Nat} {am1205 : Nat} {am1206 : Nat} {am1207 : Nat} {am1208 : Nat} {am1209 : Nat} {am12010 : Nat} {am12011 : Nat} {am12012 : Nat} {am12013 : Nat} {am12014 : Nat} {am12015 : Nat} {am12016 : Nat} (h : mf_wX_refill_165 k_post z0 z1 f0_wayEnd am1201 am1202 am1203 am1204 am1205 am1206 am1207 am1208 am1209 am12010 am12011 am12012 am12013 am12014 am12015 am12016 = true) (h_post : ∀ r0 r1 r2 r3 r4 r5 r6 r7 r8 r9 r10 r11 r12 r13 r14 r15 r16 : Nat, k_post r0 r1 r2 r3 r4 r5 r6 r7 r8 r9 r10 r11 r12 r13 r14 r15 r16 = true → post (ct_dec E r0, ct_da E r1, ct_da E r2, ct_da E r3, ct_da E r4, ct_da E r5, ct_da E r6, ct_da E r7, ct_da E r8, ct_da E r9, ct_da E r10, ct_da E r11, ct_da E r12, ct_da E r13, ct_da E r14, ct_da E r15, ct_da E r16)) :
    wX_refill_165 post e_z0 e_z1 e_f0_wayEnd (ct_da E am1201) (ct_da E am1202) (ct_da E am1203) (ct_da E am1204) (ct_da E am1205) (ct_da E am1206) (ct_da E am1207) (ct_da E am1208) (ct_da E am1209) (ct_da E am12010) (ct_da E am12011) (ct_da E am12012) (ct_da E am12013) (ct_da E am12014) (ct_da E am12015) (ct_da E am12016) := by
  subst p_z0 p_z1 p_f0_wayEnd
  unfold mf_wX_refill_165 at h
  unfold wX_refill_165
  refine mt_wpX_melt E (ct_v E z1) (ct_v E z0) h (fun f0_wayEnd_166 am1651_169 am1652_172 am1653_175 am1654_178 am1655_181 am1656_184 am1657_187 am1658_190 am1659_193 am16510_196 am16511_199 am16512_202 am16513_205 am16514_208 am16515_211 am16516_214 h => ?_)
  exact h_post _ _ _ _ _ _ _ _ _ _ _ _ _ _ _ _ _ h

noncomputable def mf_wX_refill_105 (k_post : Nat → Nat → Nat → Nat → Nat → Nat → Nat → Nat → Nat → Nat → Nat → Nat → Nat → Nat → Nat → Nat → Nat → Bool) (x2 : Nat) (x3 : Nat) (x4 : Nat) (z0 : Nat) (f0_wayEnd : Nat) (a1 : Nat) (a2 : Nat) (a3 : Nat) (a4 : Nat) (a5 : Nat) (a6 : Nat) (a7 : Nat) (a8 : Nat) (a9 : Nat) (a10 : Nat) (a11 : Nat) (a12 : Nat) (a13 : Nat) (a14 : Nat) (a15 : Nat) (a16 : Nat) : Bool :=
  ct_in (ct_ad (ct_ml 6 x2) z0) 600 fun t1 => ct_fc (ct_gt a4 t1) fun y6 => mf_wpX_freshCopy (fun r_9 f0_wayEnd_10 am1201_13 am1202_16 am1203_19 am1204_22 am1205_25 am1206_28 am1207_31 am1208_34 am1209_37 am12010_40 am12011_43 am12012_46 am12013_49 am12014_52 am12015_55 am12016_58 => ct_in (ct_ad (ct_ml 6 x2) z0) 600 fun t2 => ct_by r_9 fun b3 => ct_fc (ct_st am1204_22 t2 b3) fun am1204_60 => ct_in r_9 100 fun t4 => ct_lt 2 (ct_gt am1201_13 t4) (ct_eq x4 0 (mf_wpX_takeFromRight (fun f0_wayEnd_65 am1881_68 am1882_71 am1883_74 am1884_77 am1885_80 am1886_83 am1887_86 am1888_89 am1889_92 am18810_95 am18811_98 am18812_101 am18813_104 am18814_107 am18815_110 am18816_113 => k_post f0_wayEnd_65 am1881_68 am1882_71 am1883_74 am1884_77 am1885_80 am1886_83 am1887_86 am1888_89 am1889_92 am18810_95 am18811_98 am18812_101 am18813_104 am18814_107 am18815_110 am18816_113) f0_wayEnd_10 am1201_13 am1202_16 am1203_19 am1204_60 am1205_25 am1206_28 am1207_31 am1208_34 am1209_37 am12010_40 am12011_43 am12012_46 am12013_49 am12014_52 am12015_55 am12016_58 x2 x3) (mf_wpX_takeFromLeft (fun f0_wayEnd_115 am1791_118 am1792_121 am1793_124 am1794_127 am1795_130 am1796_133 am1797_136 am1798_139 am1799_142 am17910_145 am17911_148 am17912_151 am17913_154 am17914_157 am17915_160 am17916_163 => k_post f0_wayEnd_115 am1791_118 am1792_121 am1793_124 am1794_127 am1795_130 am1796_133 am1797_136 am1798_139 am1799_142 am17910_145 am17911_148 am17912_151 am17913_154 am17914_157 am17915_160 am17916_163) f0_wayEnd_10 am1201_13 am1202_16 am1203_19 am1204_60 am1205_25 am1206_28 am1207_31 am1208_34 am1209_37 am12010_40 am12011_43 am12012_46 am12013_49 am12014_52 am12015_55 am12016_58 x2 x3)) (ct_eq x4 0 (mf_wX_refill_165 k_post x3 x2 f0_wayEnd_10 am1201_13 am1202_16 am1203_19 am1204_60 am1205_25 am1206_28 am1207_31 am1208_34 am1209_37 am12010_40 am12011_43 am12012_46 am12013_49 am12014_52 am12015_55 am12016_58) (ct_fc (ct_sb x3 1) fun y5 => mf_wX_refill_165 k_post y5 x2 f0_wayEnd_10 am1201_13 am1202_16 am1203_19 am1204_60 am1205_25 am1206_28 am1207_31 am1208_34 am1209_37 am12010_40 am12011_43 am12012_46 am12013_49 am12014_52 am12015_55 am12016_58))) f0_wayEnd a1 a2 a3 a4 a5 a6 a7 a8 a9 a10 a11 a12 a13 a14 a15 a16 y6
theorem mt_wX_refill_105 (E : Nat × Int32 × Int32) {post : St2 → Prop} {k_post : Nat → Nat → Nat → Nat → Nat → Nat → Nat → Nat → Nat → Nat → Nat → Nat → Nat → Nat → Nat → Nat → Nat → Bool} {e_x2 : Int32} {x2 : Nat} (p_x2 : e_x2 = ct_dec E x2) {e_x3 : Int32} {x3 : Nat} (p_x3 : e_x3 = ct_dec E x3) {e_x4 : Int32} {x4 : Nat} (p_x4 : e_x4 = ct_dec E x4) {e_z0 : Int32} {z0 : Nat} (p_z0 : e_z0 = ct_dec E z0) {e_f0_wayEnd : Int32} {f0_wayEnd : Nat} (p_f0_wayEnd : e_f0_wayEnd = ct_dec E f0_wayEnd) {a1 : Nat} {a2 : Nat} {a3 : Nat} {a4 : Nat} {a5 : Nat} {a6 : Nat} {a7 : Nat} {a8 : Nat} {a9 : Nat} {a10 : Nat} {a11 : Nat} {a12 : Nat} {a13 : Nat} {a14 : Nat} {a15 : Nat} {a16 : Nat} (h : mf_wX_refill_105 k_post x2 x3 x4 z0 f0_wayEnd a1 a2 a3 a4 a5 a6 a7 a8 a9 a10 a11 a12 a13 a14 a15 a16 = true) (h_post : ∀ r0 r1 r2 r3 r4 r5 r6 r7 r8 r9 r10 r11 r12 r13 r14 r15 r16 : Nat, k_post r0 r1 r2 r3 r4 r5 r6 r7 r8 r9 r10 r11 r12 r13 r14 r15 r16 = true → post (ct_dec E r0, ct_da E r1, ct_da E r2, ct_da E r3, ct_da E r4, ct_da E r5, ct_da E r6, ct_da E r7, ct_da E r8, ct_da E r9, ct_da E r10, ct_da E r11, ct_da E r12, ct_da E r13, ct_da E r14, ct_da E r15, ct_da E r16)) :
    wX_refill_105 post e_x2 e_x3 e_x4 e_z0 e_f0_wayEnd (ct_da E a1) (ct_da E a2) (ct_da E a3) (ct_da E a4) (ct_da E a5) (ct_da E a6) (ct_da E a7) (ct_da E a8) (ct_da E a9) (ct_da E a10) (ct_da E a11) (ct_da E a12) (ct_da E a13) (ct_da E a14) (ct_da E a15) (ct_da E a16) := by
  subst p_x2 p_x3 p_x4 p_z0 p_f0_wayEnd
  unfold mf_wX_refill_105 at h
  unfold wX_refill_105
  refine ct_inS (by decide) (ct_add (ct_mul (x := 6) (k := 6) rfl (ct_v E x2)) (ct_v E z0)) h (fun t1 q1 l1 h => ?_)
  replace h := ct_fcE h
  refine mt_wpX_freshCopy E (ct_rd a4 q1 l1) h (fun r_9 f0_wayEnd_10 am1201_13 am1202_16 am1203_19 am1204_22 am1205_25 am1206_28 am1207_31 am1208_34 am1209_37 am12010_40 am12011_43 am12012_46 am12013_49 am12014_52 am12015_55 am12016_58 h => ?_)
  refine ct_inS (by decide) (ct_add (ct_mul (x := 6) (k := 6) rfl (ct_v E x2)) (ct_v E z0)) h (fun t2 q2 l2 h => ?_)
  refine ct_byS (ct_v E r_9) h (fun b3 hb3 h => ?_)
  refine ct_leta (ct_up am1204_22 q2 l2 hb3) h (fun am1204_60 h => ?_)
  refine ct_inS (by decide) (ct_v E r_9) h (fun t4 q4 l4 h => ?_)
  refine ct_ltS (ct_l2 E) (ct_rd am1201_13 q4 l4) h (fun h => ?_) (fun h => ?_)
  · refine ct_eqS (ct_v E x4) (ct_l0 E) h (fun h => ?_) (fun h => ?_)
    · refine mt_wpX_takeFromRight E (ct_v E x2) (ct_v E x3) h (fun f0_wayEnd_65 am1881_68 am1882_71 am1883_74 am1884_77 am1885_80 am1886_83 am1887_86 am1888_89 am1889_92 am18810_95 am18811_98 am18812_101 am18813_104 am18814_107 am18815_110 am18816_113 h => ?_)
      exact h_post _ _ _ _ _ _ _ _ _ _ _ _ _ _ _ _ _ h
    · refine mt_wpX_takeFromLeft E (ct_v E x2) (ct_v E x3) h (fun f0_wayEnd_115 am1791_118 am1792_121 am1793_124 am1794_127 am1795_130 am1796_133 am1797_136 am1798_139 am1799_142 am17910_145 am17911_148 am17912_151 am17913_154 am17914_157 am17915_160 am17916_163 h => ?_)
      exact h_post _ _ _ _ _ _ _ _ _ _ _ _ _ _ _ _ _ h
  · refine ct_eqS (ct_v E x4) (ct_l0 E) h (fun h => ?_) (fun h => ?_)
    · exact mt_wX_refill_165 E (ct_v E x3) (ct_v E x2) (ct_v E f0_wayEnd_10) h h_post
    · replace h := ct_fcE h
      exact mt_wX_refill_165 E (ct_sbb (ct_v E x3) (ct_l1 E)) (ct_v E x2) (ct_v E f0_wayEnd_10) h h_post

noncomputable def mf_wX_refill_91 (k_post : Nat → Nat → Nat → Nat → Nat → Nat → Nat → Nat → Nat → Nat → Nat → Nat → Nat → Nat → Nat → Nat → Nat → Bool) (x2 : Nat) (x3 : Nat) (x4 : Nat) (f0_wayEnd : Nat) (a1 : Nat) (a2 : Nat) (a3 : Nat) (a4 : Nat) (a5 : Nat) (a6 : Nat) (a7 : Nat) (a8 : Nat) (a9 : Nat) (a10 : Nat) (a11 : Nat) (a12 : Nat) (a13 : Nat) (a14 : Nat) (a15 : Nat) (a16 : Nat) : Bool :=
  ct_eq x4 0 (ct_fc (ct_ad x3 1) fun y1 => mf_wX_refill_105 k_post x2 x3 x4 y1 f0_wayEnd a1 a2 a3 a4 a5 a6 a7 a8 a9 a10 a11 a12 a13 a14 a15 a16) (ct_fc (ct_sb x3 1) fun y2 => mf_wX_refill_105 k_post x2 x3 x4 y2 f0_wayEnd a1 a2 a3 a4 a5 a6 a7 a8 a9 a10 a11 a12 a13 a14 a15 a16)
theorem mt_wX_refill_91 (E : Nat × Int32 × Int32) {post : St2 → Prop} {k_post : Nat → Nat → Nat → Nat → Nat → Nat → Nat → Nat → Nat → Nat → Nat → Nat → Nat → Nat → Nat → Nat → Nat → Bool} {e_x2 : Int32} {x2 : Nat} (p_x2 : e_x2 = ct_dec E x2) {e_x3 : Int32} {x3 : Nat} (p_x3 : e_x3 = ct_dec E x3) {e_x4 : Int32} {x4 : Nat} (p_x4 : e_x4 = ct_dec E x4) {e_f0_wayEnd : Int32} {f0_wayEnd : Nat} (p_f0_wayEnd : e_f0_wayEnd = ct_dec E f0_wayEnd) {a1 : Nat} {a2 : Nat} {a3 : Nat} {a4 : Nat} {a5 : Nat} {a6 : Nat} {a7 : Nat} {a8 : Nat} {a9 : Nat} {a10 : Nat} {a11 : Nat} {a12 : Nat} {a13 : Nat} {a14 : Nat} {a15 : Nat} {a16 : Nat} (h : mf_wX_refill_91 k_post x2 x3 x4 f0_wayEnd a1 a2 a3 a4 a5 a6 a7 a8 a9 a10 a11 a12 a13 a14 a15 a16 = true) (h_post : ∀ r0 r1 r2 r3 r4 r5 r6 r7 r8 r9 r10 r11 r12 r13 r14 r15 r16 : Nat, k_post r0 r1 r2 r3 r4 r5 r6 r7 r8 r9 r10 r11 r12 r13 r14 r15 r16 = true → post (ct_dec E r0, ct_da E r1, ct_da E r2, ct_da E r3, ct_da E r4, ct_da E r5, ct_da E r6, ct_da E r7, ct_da E r8, ct_da E r9, ct_da E r10, ct_da E r11, ct_da E r12, ct_da E r13, ct_da E r14, ct_da E r15, ct_da E r16)) :
    wX_refill_91 post e_x2 e_x3 e_x4 e_f0_wayEnd (ct_da E a1) (ct_da E a2) (ct_da E a3) (ct_da E a4) (ct_da E a5) (ct_da E a6) (ct_da E a7) (ct_da E a8) (ct_da E a9) (ct_da E a10) (ct_da E a11) (ct_da E a12) (ct_da E a13) (ct_da E a14) (ct_da E a15) (ct_da E a16) := by
  subst p_x2 p_x3 p_x4 p_f0_wayEnd
  unfold mf_wX_refill_91 at h
  unfold wX_refill_91
  refine ct_eqS (ct_v E x4) (ct_l0 E) h (fun h => ?_) (fun h => ?_)
  · replace h := ct_fcE h
    exact mt_wX_refill_105 E (ct_v E x2) (ct_v E x3) (ct_v E x4) (ct_add (ct_v E x3) (ct_l1 E)) (ct_v E f0_wayEnd) h h_post
  · replace h := ct_fcE h
    exact mt_wX_refill_105 E (ct_v E x2) (ct_v E x3) (ct_v E x4) (ct_sbb (ct_v E x3) (ct_l1 E)) (ct_v E f0_wayEnd) h h_post

noncomputable def mf_wX_refill_27 (k_post : Nat → Nat → Nat → Nat → Nat → Nat → Nat → Nat → Nat → Nat → Nat → Nat → Nat → Nat → Nat → Nat → Nat → Bool) (x2 : Nat) (x3 : Nat) (z0 : Nat) (f0_wayEnd : Nat) (a1 : Nat) (a2 : Nat) (a3 : Nat) (a4 : Nat) (a5 : Nat) (a6 : Nat) (a7 : Nat) (a8 : Nat) (a9 : Nat) (a10 : Nat) (a11 : Nat) (a12 : Nat) (a13 : Nat) (a14 : Nat) (a15 : Nat) (a16 : Nat) : Bool :=
  ct_eq z0 0 (mf_wX_refill_91 k_post x2 x3 z0 f0_wayEnd a1 a2 a3 a4 a5 a6 a7 a8 a9 a10 a11 a12 a13 a14 a15 a16) (ct_in (ct_sb (ct_ad (ct_ml 6 x2) x3) 1) 600 fun t1 => ct_in (ct_gt a4 t1) 100 fun t2 => ct_lt 2 (ct_gt a1 t2) (mf_wX_refill_91 k_post x2 x3 z0 f0_wayEnd a1 a2 a3 a4 a5 a6 a7 a8 a9 a10 a11 a12 a13 a14 a15 a16) (ct_in x2 100 fun t3 => ct_le (ct_gt a1 t3) x3 (mf_wX_refill_91 k_post x2 x3 z0 f0_wayEnd a1 a2 a3 a4 a5 a6 a7 a8 a9 a10 a11 a12 a13 a14 a15 a16) (ct_in (ct_ad (ct_ad (ct_ml 6 x2) x3) 1) 600 fun t4 => ct_in (ct_gt a4 t4) 100 fun t5 => ct_le (ct_gt a1 t5) 2 (mf_wX_refill_91 k_post x2 x3 z0 f0_wayEnd a1 a2 a3 a4 a5 a6 a7 a8 a9 a10 a11 a12 a13 a14 a15 a16) (mf_wX_refill_91 k_post x2 x3 0 f0_wayEnd a1 a2 a3 a4 a5 a6 a7 a8 a9 a10 a11 a12 a13 a14 a15 a16))))
theorem mt_wX_refill_27 (E : Nat × Int32 × Int32) {post : St2 → Prop} {k_post : Nat → Nat → Nat → Nat → Nat → Nat → Nat → Nat → Nat → Nat → Nat → Nat → Nat → Nat → Nat → Nat → Nat → Bool} {e_x2 : Int32} {x2 : Nat} (p_x2 : e_x2 = ct_dec E x2) {e_x3 : Int32} {x3 : Nat} (p_x3 : e_x3 = ct_dec E x3) {e_z0 : Int32} {z0 : Nat} (p_z0 : e_z0 = ct_dec E z0) {e_f0_wayEnd : Int32} {f0_wayEnd : Nat} (p_f0_wayEnd : e_f0_wayEnd = ct_dec E f0_wayEnd) {a1 : Nat} {a2 : Nat} {a3 : Nat} {a4 : Nat} {a5 : Nat} {a6 : Nat} {a7 : Nat} {a8 : Nat} {a9 : Nat} {a10 : Nat} {a11 : Nat} {a12 : Nat} {a13 : Nat} {a14 : Nat} {a15 : Nat} {a16 : Nat} (h : mf_wX_refill_27 k_post x2 x3 z0 f0_wayEnd a1 a2 a3 a4 a5 a6 a7 a8 a9 a10 a11 a12 a13 a14 a15 a16 = true) (h_post : ∀ r0 r1 r2 r3 r4 r5 r6 r7 r8 r9 r10 r11 r12 r13 r14 r15 r16 : Nat, k_post r0 r1 r2 r3 r4 r5 r6 r7 r8 r9 r10 r11 r12 r13 r14 r15 r16 = true → post (ct_dec E r0, ct_da E r1, ct_da E r2, ct_da E r3, ct_da E r4, ct_da E r5, ct_da E r6, ct_da E r7, ct_da E r8, ct_da E r9, ct_da E r10, ct_da E r11, ct_da E r12, ct_da E r13, ct_da E r14, ct_da E r15, ct_da E r16)) :
    wX_refill_27 post e_x2 e_x3 e_z0 e_f0_wayEnd (ct_da E a1) (ct_da E a2) (ct_da E a3) (ct_da E a4) (ct_da E a5) (ct_da E a6) (ct_da E a7) (ct_da E a8) (ct_da E a9) (ct_da E a10) (ct_da E a11) (ct_da E a12) (ct_da E a13) (ct_da E a14) (ct_da E a15) (ct_da E a16) := by
  subst p_x2 p_x3 p_z0 p_f0_wayEnd
  unfold mf_wX_refill_27 at h
  unfold wX_refill_27
  refine ct_eqS (ct_v E z0) (ct_l0 E) h (fun h => ?_) (fun h => ?_)
  · exact mt_wX_refill_91 E (ct_v E x2) (ct_v E x3) (ct_v E z0) (ct_v E f0_wayEnd) h h_post
  · refine ct_inS (by decide) (ct_sbb (ct_add (ct_mul (x := 6) (k := 6) rfl (ct_v E x2)) (ct_v E x3)) (ct_l1 E)) h (fun t1 q1 l1 h => ?_)
    refine ct_inS (by decide) (ct_rd a4 q1 l1) h (fun t2 q2 l2 h => ?_)
    refine ct_ltS (ct_l2 E) (ct_rd a1 q2 l2) h (fun h => ?_) (fun h => ?_)
    · exact mt_wX_refill_91 E (ct_v E x2) (ct_v E x3) (ct_v E z0) (ct_v E f0_wayEnd) h h_post
    · refine ct_inS (by decide) (ct_v E x2) h (fun t3 q3 l3 h => ?_)
      refine ct_leS (ct_rd a1 q3 l3) (ct_v E x3) h (fun h => ?_) (fun h => ?_)
      · exact mt_wX_refill_91 E (ct_v E x2) (ct_v E x3) (ct_v E z0) (ct_v E f0_wayEnd) h h_post
      · refine ct_inS (by decide) (ct_add (ct_add (ct_mul (x := 6) (k := 6) rfl (ct_v E x2)) (ct_v E x3)) (ct_l1 E)) h (fun t4 q4 l4 h => ?_)
        refine ct_inS (by decide) (ct_rd a4 q4 l4) h (fun t5 q5 l5 h => ?_)
        refine ct_leS (ct_rd a1 q5 l5) (ct_l2 E) h (fun h => ?_) (fun h => ?_)
        · exact mt_wX_refill_91 E (ct_v E x2) (ct_v E x3) (ct_v E z0) (ct_v E f0_wayEnd) h h_post
        · exact mt_wX_refill_91 E (ct_v E x2) (ct_v E x3) (ct_l0 E) (ct_v E f0_wayEnd) h h_post

noncomputable def mf_wpX_refill (k_post : Nat → Nat → Nat → Nat → Nat → Nat → Nat → Nat → Nat → Nat → Nat → Nat → Nat → Nat → Nat → Nat → Nat → Bool) (f0_wayEnd : Nat) (a1 : Nat) (a2 : Nat) (a3 : Nat) (a4 : Nat) (a5 : Nat) (a6 : Nat) (a7 : Nat) (a8 : Nat) (a9 : Nat) (a10 : Nat) (a11 : Nat) (a12 : Nat) (a13 : Nat) (a14 : Nat) (a15 : Nat) (a16 : Nat) (p0 : Nat) : Bool :=
  ct_in (ct_sb p0 1) 8 fun t1 => ct_fc (ct_gt a14 t1) fun x2_2 => ct_in (ct_sb p0 1) 8 fun t2 => ct_fc (ct_gt a15 t2) fun x3_4 => ct_le x3_4 0 (mf_wX_refill_27 k_post x2_2 x3_4 0 f0_wayEnd a1 a2 a3 a4 a5 a6 a7 a8 a9 a10 a11 a12 a13 a14 a15 a16) (mf_wX_refill_27 k_post x2_2 x3_4 1 f0_wayEnd a1 a2 a3 a4 a5 a6 a7 a8 a9 a10 a11 a12 a13 a14 a15 a16)
theorem mt_wpX_refill (E : Nat × Int32 × Int32) {post : St2 → Prop} {k_post : Nat → Nat → Nat → Nat → Nat → Nat → Nat → Nat → Nat → Nat → Nat → Nat → Nat → Nat → Nat → Nat → Nat → Bool} {f0_wayEnd a1 a2 a3 a4 a5 a6 a7 a8 a9 a10 a11 a12 a13 a14 a15 a16 : Nat} {e_p0 : Int32} {p0 : Nat} (p_p0 : e_p0 = ct_dec E p0) (h : mf_wpX_refill k_post f0_wayEnd a1 a2 a3 a4 a5 a6 a7 a8 a9 a10 a11 a12 a13 a14 a15 a16 p0 = true) (h_post : ∀ r0 r1 r2 r3 r4 r5 r6 r7 r8 r9 r10 r11 r12 r13 r14 r15 r16 : Nat, k_post r0 r1 r2 r3 r4 r5 r6 r7 r8 r9 r10 r11 r12 r13 r14 r15 r16 = true → post (ct_dec E r0, ct_da E r1, ct_da E r2, ct_da E r3, ct_da E r4, ct_da E r5, ct_da E r6, ct_da E r7, ct_da E r8, ct_da E r9, ct_da E r10, ct_da E r11, ct_da E r12, ct_da E r13, ct_da E r14, ct_da E r15, ct_da E r16)) :
    wpX_refill post (ct_dec E f0_wayEnd, ct_da E a1, ct_da E a2, ct_da E a3, ct_da E a4, ct_da E a5, ct_da E a6, ct_da E a7, ct_da E a8, ct_da E a9, ct_da E a10, ct_da E a11, ct_da E a12, ct_da E a13, ct_da E a14, ct_da E a15, ct_da E a16) e_p0 := by
  subst p_p0
  unfold mf_wpX_refill at h
  unfold wpX_refill
  refine ct_inS (by decide) (ct_sbb (ct_v E p0) (ct_l1 E)) h (fun t1 q1 l1 h => ?_)
  refine ct_let (ct_rd a14 q1 l1) h (fun x2_2 h => ?_)
  refine ct_inS (by decide) (ct_sbb (ct_v E p0) (ct_l1 E)) h (fun t2 q2 l2 h => ?_)
  refine ct_let (ct_rd a15 q2 l2) h (fun x3_4 h => ?_)
  refine ct_leS (ct_v E x3_4) (ct_l0 E) h (fun h => ?_) (fun h => ?_)
  · exact mt_wX_refill_27 E (ct_v E x2_2) (ct_v E x3_4) (ct_l0 E) (ct_v E f0_wayEnd) h h_post
  · exact mt_wX_refill_27 E (ct_v E x2_2) (ct_v E x3_4) (ct_l1 E) (ct_v E f0_wayEnd) h h_post

noncomputable def mf_wX_takeOut_165 (k_post : Nat → Nat → Nat → Nat → Nat → Nat → Nat → Nat → Nat → Nat → Nat → Nat → Nat → Nat → Nat → Nat → Nat → Bool) (f0_wayEnd : Nat) (am1211 : Nat) (am1212 : Nat) (am1213 : Nat) (am1214 : Nat) (am1215 : Nat) (am1216 : Nat) (am1217 : Nat) (am1218 : Nat) (am1219 : Nat) (am12110 : Nat) (am12111 : Nat) (am12112 : Nat) (am12113 : Nat) (am12114 : Nat) (am12115 : Nat) (am12116 : Nat) : Bool :=
  ct_fc (ct_gt am12111 3) fun x4_58 => ct_in x4_58 100 fun t1 => ct_le (ct_gt am1211 t1) 0 (mf_wpX_isLeaf (fun r_61 => ct_eq r_61 0 (ct_in (ct_ml 6 x4_58) 600 fun t2 => ct_by (ct_gt am1214 t2) fun b3 => ct_fc (ct_st am12111 3 b3) fun am12111_65 => ct_in x4_58 100 fun t4 => ct_fc (ct_st am1215 t4 0) fun am1215_67 => k_post f0_wayEnd am1211 am1212 am1213 am1214 am1215_67 am1216 am1217 am1218 am1219 am12110 am12111_65 am12112 am12113 am12114 am12115 am12116) (ct_fc (ct_st am12111 3 4294967295) fun am12111_69 => ct_in x4_58 100 fun t5 => ct_fc (ct_st am1215 t5 0) fun am1215_71 => k_post f0_wayEnd am1211 am1212 am1213 am1214 am1215_71 am1216 am1217 am1218 am1219 am12110 am12111_69 am12112 am12113 am12114 am12115 am12116)) f0_wayEnd am1211 am1212 am1213 am1214 am1215 am1216 am1217 am1218 am1219 am12110 am12111 am12112 am12113 am12114 am12115 am12116 x4_58) (k_post f0_wayEnd am1211 am1212 am1213 am1214 am1215 am1216 am1217 am1218 am1219 am12110 am12111 am12112 am12113 am12114 am12115 am12116)
theorem mt_wX_takeOut_165 (E : Nat × Int32 × Int32) {post : St2 → Prop} {k_post : Nat → Nat → Nat → Nat → Nat → Nat → Nat → Nat → Nat → Nat → Nat → Nat → Nat → Nat → Nat → Nat → Nat → Bool} {e_f0_wayEnd : Int32} {f0_wayEnd : Nat} (p_f0_wayEnd : e_f0_wayEnd = ct_dec E f0_wayEnd) {am1211 : Nat} {am1212 : Nat} {am1213 : Nat} {am1214 : Nat} {am1215 : Nat} {am1216 : Nat} {am1217 : Nat} {am1218 : Nat} {am1219 : Nat} {am12110 : Nat} {am12111 : Nat} {am12112 : Nat} {am12113 : Nat} {am12114 : Nat} {am12115 : Nat} {am12116 : Nat} (h : mf_wX_takeOut_165 k_post f0_wayEnd am1211 am1212 am1213 am1214 am1215 am1216 am1217 am1218 am1219 am12110 am12111 am12112 am12113 am12114 am12115 am12116 = true) (h_post : ∀ r0 r1 r2 r3 r4 r5 r6 r7 r8 r9 r10 r11 r12 r13 r14 r15 r16 : Nat, k_post r0 r1 r2 r3 r4 r5 r6 r7 r8 r9 r10 r11 r12 r13 r14 r15 r16 = true → post (ct_dec E r0, ct_da E r1, ct_da E r2, ct_da E r3, ct_da E r4, ct_da E r5, ct_da E r6, ct_da E r7, ct_da E r8, ct_da E r9, ct_da E r10, ct_da E r11, ct_da E r12, ct_da E r13, ct_da E r14, ct_da E r15, ct_da E r16)) :
    wX_takeOut_165 post e_f0_wayEnd (ct_da E am1211) (ct_da E am1212) (ct_da E am1213) (ct_da E am1214) (ct_da E am1215) (ct_da E am1216) (ct_da E am1217) (ct_da E am1218) (ct_da E am1219) (ct_da E am12110) (ct_da E am12111) (ct_da E am12112) (ct_da E am12113) (ct_da E am12114) (ct_da E am12115) (ct_da E am12116) := by
  subst p_f0_wayEnd
  unfold mf_wX_takeOut_165 at h
  unfold wX_takeOut_165
  refine ct_let (ct_rk E am12111 3) h (fun x4_58 h => ?_)
  refine ct_inS (by decide) (ct_v E x4_58) h (fun t1 q1 l1 h => ?_)
  refine ct_leS (ct_rd am1211 q1 l1) (ct_l0 E) h (fun h => ?_) (fun h => ?_)
  · refine mt_wpX_isLeaf E (ct_v E x4_58) h (fun r_61 h => ?_)
    refine ct_eqS (ct_v E r_61) (ct_l0 E) h (fun h => ?_) (fun h => ?_)
    · refine ct_inS (by decide) (ct_mul (x := 6) (k := 6) rfl (ct_v E x4_58)) h (fun t2 q2 l2 h => ?_)
      refine ct_byS (ct_rd am1214 q2 l2) h (fun b3 hb3 h => ?_)
      refine ct_leta (ct_uk am12111 3 hb3) h (fun am12111_65 h => ?_)
      refine ct_inS (by decide) (ct_v E x4_58) h (fun t4 q4 l4 h => ?_)
      refine ct_leta (ct_up am1215 q4 l4 (ct_l0 E)) h (fun am1215_67 h => ?_)
      exact h_post _ _ _ _ _ _ _ _ _ _ _ _ _ _ _ _ _ h
    · refine ct_leta (ct_uk am12111 3 (ct_m1 E)) h (fun am12111_69 h => ?_)
      refine ct_inS (by decide) (ct_v E x4_58) h (fun t5 q5 l5 h => ?_)
      refine ct_leta (ct_up am1215 q5 l5 (ct_l0 E)) h (fun am1215_71 h => ?_)
      exact h_post _ _ _ _ _ _ _ _ _ _ _ _ _ _ _ _ _ h
  · exact h_post _ _ _ _ _ _ _ _ _ _ _ _ _ _ _ _ _ h

noncomputable def mb_wX_takeOut_132 (k_post : Nat → Nat → Nat → Nat → Nat → Nat → Nat → Nat → Nat → Nat → Nat → Nat → Nat → Nat → Nat → Nat → Nat → Bool) (ih : Nat → Nat → Nat → Nat → Nat → Nat → Nat → Nat → Nat → Nat → Nat → Nat → Nat → Nat → Nat → Nat → Nat → Nat → Bool) (x4 : Nat) (f0_wayEnd : Nat) (am1211 : Nat) (am1212 : Nat) (am1213 : Nat) (am1214 : Nat) (am1215 : Nat) (am1216 : Nat) (am1217 : Nat) (am1218 : Nat) (am1219 : Nat) (am12110 : Nat) (am12111 : Nat) (am12112 : Nat) (am12113 : Nat) (am12114 : Nat) (am12115 : Nat) (am12116 : Nat) : Bool :=
  ct_le x4 0 (mf_wX_takeOut_165 k_post f0_wayEnd am1211 am1212 am1213 am1214 am1215 am1216 am1217 am1218 am1219 am12110 am12111 am12112 am12113 am12114 am12115 am12116) (ct_in x4 8 fun t1 => ct_in (ct_gt am12114 t1) 100 fun t2 => ct_le 2 (ct_gt am1211 t2) (mf_wX_takeOut_165 k_post f0_wayEnd am1211 am1212 am1213 am1214 am1215 am1216 am1217 am1218 am1219 am12110 am12111 am12112 am12113 am12114 am12115 am12116) (mf_wpX_refill (fun f0_wayEnd_76 am1561_79 am1562_82 am1563_85 am1564_88 am1565_91 am1566_94 am1567_97 am1568_100 am1569_103 am15610_106 am15611_109 am15612_112 am15613_115 am15614_118 am15615_121 am15616_124 => ct_fc (ct_ad x4 4294967295) fun x4_125 => ih x4_125 f0_wayEnd_76 am1561_79 am1562_82 am1563_85 am1564_88 am1565_91 am1566_94 am1567_97 am1568_100 am1569_103 am15610_106 am15611_109 am15612_112 am15613_115 am15614_118 am15615_121 am15616_124) f0_wayEnd am1211 am1212 am1213 am1214 am1215 am1216 am1217 am1218 am1219 am12110 am12111 am12112 am12113 am12114 am12115 am12116 x4))
noncomputable def mf_wX_takeOut_132 (k_post : Nat → Nat → Nat → Nat → Nat → Nat → Nat → Nat → Nat → Nat → Nat → Nat → Nat → Nat → Nat → Nat → Nat → Bool) (n : Nat) : Nat → Nat → Nat → Nat → Nat → Nat → Nat → Nat → Nat → Nat → Nat → Nat → Nat → Nat → Nat → Nat → Nat → Nat → Bool :=
  Nat.rec (motive := fun _ => Nat → Nat → Nat → Nat → Nat → Nat → Nat → Nat → Nat → Nat → Nat → Nat → Nat → Nat → Nat → Nat → Nat → Nat → Bool) (fun _ _ _ _ _ _ _ _ _ _ _ _ _ _ _ _ _ _ => false) (fun _ ih => mb_wX_takeOut_132 k_post ih) n
theorem mt_wX_takeOut_132 (E : Nat × Int32 × Int32) {post : St2 → Prop} {k_post : Nat → Nat → Nat → Nat → Nat → Nat → Nat → Nat → Nat → Nat → Nat → Nat → Nat → Nat → Nat → Nat → Nat → Bool} {n : Nat} {e_x4 : Int32} {x4 : Nat} (p_x4 : e_x4 = ct_dec E x4) {e_f0_wayEnd : Int32} {f0_wayEnd : Nat} (p_f0_wayEnd : e_f0_wayEnd = ct_dec E f0_wayEnd) {am1211 : Nat} {am1212 : Nat} {am1213 : Nat} {am1214 : Nat} {am1215 : Nat} {am1216 : Nat} {am1217 : Nat} {am1218 : Nat} {am1219 : Nat} {am12110 : Nat} {am12111 : Nat} {am12112 : Nat} {am12113 : Nat} {am12114 : Nat} {am12115 : Nat} {am12116 : Nat} (h : mf_wX_takeOut_132 k_post n x4 f0_wayEnd am1211 am1212 am1213 am1214 am1215 am1216 am1217 am1218 am1219 am12110 am12111 am12112 am12113 am12114 am12115 am12116 = true) (h_post : ∀ r0 r1 r2 r3 r4 r5 r6 r7 r8 r9 r10 r11 r12 r13 r14 r15 r16 : Nat, k_post r0 r1 r2 r3 r4 r5 r6 r7 r8 r9 r10 r11 r12 r13 r14 r15 r16 = true → post (ct_dec E r0, ct_da E r1, ct_da E r2, ct_da E r3, ct_da E r4, ct_da E r5, ct_da E r6, ct_da E r7, ct_da E r8, ct_da E r9, ct_da E r10, ct_da E r11, ct_da E r12, ct_da E r13, ct_da E r14, ct_da E r15, ct_da E r16)) :
    wX_takeOut_132 post n e_x4 e_f0_wayEnd (ct_da E am1211) (ct_da E am1212) (ct_da E am1213) (ct_da E am1214) (ct_da E am1215) (ct_da E am1216) (ct_da E am1217) (ct_da E am1218) (ct_da E am1219) (ct_da E am12110) (ct_da E am12111) (ct_da E am12112) (ct_da E am12113) (ct_da E am12114) (ct_da E am12115) (ct_da E am12116) := by
  have key : ∀ (n : Nat) {e_x4 : Int32} {x4 : Nat} (p_x4 : e_x4 = ct_dec E x4) {e_f0_wayEnd : Int32} {f0_wayEnd : Nat} (p_f0_wayEnd : e_f0_wayEnd = ct_dec E f0_wayEnd) {am1211 : Nat} {am1212 : Nat} {am1213 : Nat} {am1214 : Nat} {am1215 : Nat} {am1216 : Nat} {am1217 : Nat} {am1218 : Nat} {am1219 : Nat} {am12110 : Nat} {am12111 : Nat} {am12112 : Nat} {am12113 : Nat} {am12114 : Nat} {am12115 : Nat} {am12116 : Nat}, mf_wX_takeOut_132 k_post n x4 f0_wayEnd am1211 am1212 am1213 am1214 am1215 am1216 am1217 am1218 am1219 am12110 am12111 am12112 am12113 am12114 am12115 am12116 = true → wX_takeOut_132 post n e_x4 e_f0_wayEnd (ct_da E am1211) (ct_da E am1212) (ct_da E am1213) (ct_da E am1214) (ct_da E am1215) (ct_da E am1216) (ct_da E am1217) (ct_da E am1218) (ct_da E am1219) (ct_da E am12110) (ct_da E am12111) (ct_da E am12112) (ct_da E am12113) (ct_da E am12114) (ct_da E am12115) (ct_da E am12116) := by
    intro n
    induction n with
    | zero =>
      intro e_x4 x4 p_x4 e_f0_wayEnd f0_wayEnd p_f0_wayEnd am1211 am1212 am1213 am1214 am1215 am1216 am1217 am1218 am1219 am12110 am12111 am12112 am12113 am12114 am12115 am12116 h
      exact Bool.noConfusion (show false = true from h)
    | succ n ih =>
      intro e_x4 x4 p_x4 e_f0_wayEnd f0_wayEnd p_f0_wayEnd am1211 am1212 am1213 am1214 am1215 am1216 am1217 am1218 am1219 am12110 am12111 am12112 am12113 am12114 am12115 am12116 h
      subst p_x4 p_f0_wayEnd
      replace h : mb_wX_takeOut_132 k_post (mf_wX_takeOut_132 k_post n) x4 f0_wayEnd am1211 am1212 am1213 am1214 am1215 am1216 am1217 am1218 am1219 am12110 am12111 am12112 am12113 am12114 am12115 am12116 = true := h
      unfold mb_wX_takeOut_132 at h
      unfold wX_takeOut_132
      refine ct_leS (ct_v E x4) (ct_l0 E) h (fun h => ?_) (fun h => ?_)
      · exact mt_wX_takeOut_165 E (ct_v E f0_wayEnd) h h_post
      · refine ct_inS (by decide) (ct_v E x4) h (fun t1 q1 l1 h => ?_)
        refine ct_inS (by decide) (ct_rd am12114 q1 l1) h (fun t2 q2 l2 h => ?_)
        refine ct_leS (ct_l2 E) (ct_rd am1211 q2 l2) h (fun h => ?_) (fun h => ?_)
        · exact mt_wX_takeOut_165 E (ct_v E f0_wayEnd) h h_post
        · refine mt_wpX_refill E (ct_v E x4) h (fun f0_wayEnd_76 am1561_79 am1562_82 am1563_85 am1564_88 am1565_91 am1566_94 am1567_97 am1568_100 am1569_103 am15610_106 am15611_109 am15612_112 am15613_115 am15614_118 am15615_121 am15616_124 h => ?_)
          refine ct_let (ct_add (ct_v E x4) (ct_m1 E)) h (fun x4_125 h => ?_)
          exact ih (ct_v E x4_125) (ct_v E f0_wayEnd_76) h
  exact key n p_x4 p_f0_wayEnd h

noncomputable def mb_wX_takeOut_27 (k_post : Nat → Nat → Nat → Nat → Nat → Nat → Nat → Nat → Nat → Nat → Nat → Nat → Nat → Nat → Nat → Nat → Nat → Bool) (x1 : Nat) (x2 : Nat) (x3 : Nat) (ih : Nat → Nat → Nat → Nat → Nat → Nat → Nat → Nat → Nat → Nat → Nat → Nat → Nat → Nat → Nat → Nat → Nat → Nat → Bool) (x4 : Nat) (f0_wayEnd : Nat) (a1 : Nat) (a2 : Nat) (a3 : Nat) (a4 : Nat) (a5 : Nat) (a6 : Nat) (a7 : Nat) (a8 : Nat) (a9 : Nat) (a10 : Nat) (a11 : Nat) (a12 : Nat) (a13 : Nat) (a14 : Nat) (a15 : Nat) (a16 : Nat) : Bool :=
  ct_le (ct_sb f0_wayEnd 1) x4 (mf_wpX_closePlace (fun f0_wayEnd_7 am1211_10 am1212_13 am1213_16 am1214_19 am1215_22 am1216_25 am1217_28 am1218_31 am1219_34 am12110_37 am12111_40 am12112_43 am12113_46 am12114_49 am12115_52 am12116_55 => ct_fc (ct_sb f0_wayEnd_7 1) fun x4_56 => mf_wX_takeOut_132 k_post 128 x4_56 f0_wayEnd_7 am1211_10 am1212_13 am1213_16 am1214_19 am1215_22 am1216_25 am1217_28 am1218_31 am1219_34 am12110_37 am12111_40 am12112_43 am12113_46 am12114_49 am12115_52 am12116_55) f0_wayEnd a1 a2 a3 a4 a5 a6 a7 a8 a9 a10 a11 a12 a13 a14 a15 a16 x2 x3) (ct_in x4 8 fun t1 => ct_fc (ct_gt a14 t1) fun x5_127 => ct_in x4 8 fun t2 => ct_fc (ct_gt a15 t2) fun x6_129 => ct_in x5_127 100 fun t3 => ct_le (ct_gt a1 t3) x6_129 (ct_fc (ct_ad x4 1) fun x4_132 => ih x4_132 f0_wayEnd a1 a2 a3 a4 a5 a6 a7 a8 a9 a10 a11 a12 a13 a14 a15 a16) (ct_in (ct_ad (ct_ml 5 x5_127) x6_129) 500 fun t4 => ct_eq (ct_gt a2 t4) x1 (ct_in (ct_ad (ct_ml 5 x2) x3) 500 fun t5 => ct_in (ct_ad (ct_ml 5 x2) x3) 500 fun t6 => ct_fc (ct_gt a2 t6) fun y7 => ct_fc (ct_gt a3 t6) fun y8 => mf_wpX_putAt (fun f0_wayEnd_139 am1091_142 am1092_145 am1093_148 am1094_151 am1095_154 am1096_157 am1097_160 am1098_163 am1099_166 am10910_169 am10911_172 am10912_175 am10913_178 am10914_181 am10915_184 am10916_187 => ct_fc (ct_ad x4 1) fun x4_188 => ih x4_188 f0_wayEnd_139 am1091_142 am1092_145 am1093_148 am1094_151 am1095_154 am1096_157 am1097_160 am1098_163 am1099_166 am10910_169 am10911_172 am10912_175 am10913_178 am10914_181 am10915_184 am10916_187) f0_wayEnd a1 a2 a3 a4 a5 a6 a7 a8 a9 a10 a11 a12 a13 a14 a15 a16 x5_127 x6_129 y7 y8) (ct_fc (ct_ad x4 1) fun x4_135 => ih x4_135 f0_wayEnd a1 a2 a3 a4 a5 a6 a7 a8 a9 a10 a11 a12 a13 a14 a15 a16)))
noncomputable def mf_wX_takeOut_27 (k_post : Nat → Nat → Nat → Nat → Nat → Nat → Nat → Nat → Nat → Nat → Nat → Nat → Nat → Nat → Nat → Nat → Nat → Bool) (x1 : Nat) (x2 : Nat) (x3 : Nat) (n : Nat) : Nat → Nat → Nat → Nat → Nat → Nat → Nat → Nat → Nat → Nat → Nat → Nat → Nat → Nat → Nat → Nat → Nat → Nat → Bool :=
  Nat.rec (motive := fun _ => Nat → Nat → Nat → Nat → Nat → Nat → Nat → Nat → Nat → Nat → Nat → Nat → Nat → Nat → Nat → Nat → Nat → Nat → Bool) (fun _ _ _ _ _ _ _ _ _ _ _ _ _ _ _ _ _ _ => false) (fun _ ih => mb_wX_takeOut_27 k_post x1 x2 x3 ih) n
theorem mt_wX_takeOut_27 (E : Nat × Int32 × Int32) {post : St2 → Prop} {k_post : Nat → Nat → Nat → Nat → Nat → Nat → Nat → Nat → Nat → Nat → Nat → Nat → Nat → Nat → Nat → Nat → Nat → Bool} {e_x1 : Int32} {x1 : Nat} (p_x1 : e_x1 = ct_dec E x1) {e_x2 : Int32} {x2 : Nat} (p_x2 : e_x2 = ct_dec E x2) {e_x3 : Int32} {x3 : Nat} (p_x3 : e_x3 = ct_dec E x3) {n : Nat} {e_x4 : Int32} {x4 : Nat} (p_x4 : e_x4 = ct_dec E x4) {e_f0_wayEnd : Int32} {f0_wayEnd : Nat} (p_f0_wayEnd : e_f0_wayEnd = ct_dec E f0_wayEnd) {a1 : Nat} {a2 : Nat} {a3 : Nat} {a4 : Nat} {a5 : Nat} {a6 : Nat} {a7 : Nat} {a8 : Nat} {a9 : Nat} {a10 : Nat} {a11 : Nat} {a12 : Nat} {a13 : Nat} {a14 : Nat} {a15 : Nat} {a16 : Nat} (h : mf_wX_takeOut_27 k_post x1 x2 x3 n x4 f0_wayEnd a1 a2 a3 a4 a5 a6 a7 a8 a9 a10 a11 a12 a13 a14 a15 a16 = true) (h_post : ∀ r0 r1 r2 r3 r4 r5 r6 r7 r8 r9 r10 r11 r12 r13 r14 r15 r16 : Nat, k_post r0 r1 r2 r3 r4 r5 r6 r7 r8 r9 r10 r11 r12 r13 r14 r15 r16 = true → post (ct_dec E r0, ct_da E r1, ct_da E r2, ct_da E r3, ct_da E r4, ct_da E r5, ct_da E r6, ct_da E r7, ct_da E r8, ct_da E r9, ct_da E r10, ct_da E r11, ct_da E r12, ct_da E r13, ct_da E r14, ct_da E r15, ct_da E r16)) :
    wX_takeOut_27 post e_x1 e_x2 e_x3 n e_x4 e_f0_wayEnd (ct_da E a1) (ct_da E a2) (ct_da E a3) (ct_da E a4) (ct_da E a5) (ct_da E a6) (ct_da E a7) (ct_da E a8) (ct_da E a9) (ct_da E a10) (ct_da E a11) (ct_da E a12) (ct_da E a13) (ct_da E a14) (ct_da E a15) (ct_da E a16) := by
  subst p_x1 p_x2 p_x3
  have key : ∀ (n : Nat) {e_x4 : Int32} {x4 : Nat} (p_x4 : e_x4 = ct_dec E x4) {e_f0_wayEnd : Int32} {f0_wayEnd : Nat} (p_f0_wayEnd : e_f0_wayEnd = ct_dec E f0_wayEnd) {a1 : Nat} {a2 : Nat} {a3 : Nat} {a4 : Nat} {a5 : Nat} {a6 : Nat} {a7 : Nat} {a8 : Nat} {a9 : Nat} {a10 : Nat} {a11 : Nat} {a12 : Nat} {a13 : Nat} {a14 : Nat} {a15 : Nat} {a16 : Nat}, mf_wX_takeOut_27 k_post x1 x2 x3 n x4 f0_wayEnd a1 a2 a3 a4 a5 a6 a7 a8 a9 a10 a11 a12 a13 a14 a15 a16 = true → wX_takeOut_27 post (ct_dec E x1) (ct_dec E x2) (ct_dec E x3) n e_x4 e_f0_wayEnd (ct_da E a1) (ct_da E a2) (ct_da E a3) (ct_da E a4) (ct_da E a5) (ct_da E a6) (ct_da E a7) (ct_da E a8) (ct_da E a9) (ct_da E a10) (ct_da E a11) (ct_da E a12) (ct_da E a13) (ct_da E a14) (ct_da E a15) (ct_da E a16) := by
    intro n
    induction n with
    | zero =>
      intro e_x4 x4 p_x4 e_f0_wayEnd f0_wayEnd p_f0_wayEnd a1 a2 a3 a4 a5 a6 a7 a8 a9 a10 a11 a12 a13 a14 a15 a16 h
      exact Bool.noConfusion (show false = true from h)
    | succ n ih =>
      intro e_x4 x4 p_x4 e_f0_wayEnd f0_wayEnd p_f0_wayEnd a1 a2 a3 a4 a5 a6 a7 a8 a9 a10 a11 a12 a13 a14 a15 a16 h
      subst p_x4 p_f0_wayEnd
      replace h : mb_wX_takeOut_27 k_post x1 x2 x3 (mf_wX_takeOut_27 k_post x1 x2 x3 n) x4 f0_wayEnd a1 a2 a3 a4 a5 a6 a7 a8 a9 a10 a11 a12 a13 a14 a15 a16 = true := h
      unfold mb_wX_takeOut_27 at h
      unfold wX_takeOut_27
      refine ct_leS (ct_sbb (ct_v E f0_wayEnd) (ct_l1 E)) (ct_v E x4) h (fun h => ?_) (fun h => ?_)
      · refine mt_wpX_closePlace E (ct_v E x2) (ct_v E x3) h (fun f0_wayEnd_7 am1211_10 am1212_13 am1213_16 am1214_19 am1215_22 am1216_25 am1217_28 am1218_31 am1219_34 am12110_37 am12111_40 am12112_43 am12113_46 am12114_49 am12115_52 am12116_55 h => ?_)
        refine ct_let (ct_sbb (ct_v E f0_wayEnd_7) (ct_l1 E)) h (fun x4_56 h => ?_)
        refine ⟨128, ?_⟩
        exact mt_wX_takeOut_132 E (ct_v E x4_56) (ct_v E f0_wayEnd_7) h h_post
      · refine ct_inS (by decide) (ct_v E x4) h (fun t1 q1 l1 h => ?_)
        refine ct_let (ct_rd a14 q1 l1) h (fun x5_127 h => ?_)
        refine ct_inS (by decide) (ct_v E x4) h (fun t2 q2 l2 h => ?_)
        refine ct_let (ct_rd a15 q2 l2) h (fun x6_129 h => ?_)
        refine ct_inS (by decide) (ct_v E x5_127) h (fun t3 q3 l3 h => ?_)
        refine ct_leS (ct_rd a1 q3 l3) (ct_v E x6_129) h (fun h => ?_) (fun h => ?_)
        · refine ct_let (ct_add (ct_v E x4) (ct_l1 E)) h (fun x4_132 h => ?_)
          exact ih (ct_v E x4_132) (ct_v E f0_wayEnd) h
        · refine ct_inS (by decide) (ct_add (ct_mul (x := 5) (k := 5) rfl (ct_v E x5_127)) (ct_v E x6_129)) h (fun t4 q4 l4 h => ?_)
          refine ct_eqS (ct_rd a2 q4 l4) (ct_v E x1) h (fun h => ?_) (fun h => ?_)
          · refine ct_inS (by decide) (ct_add (ct_mul (x := 5) (k := 5) rfl (ct_v E x2)) (ct_v E x3)) h (fun t5 q5 l5 h => ?_)
            refine ct_inS (by decide) (ct_add (ct_mul (x := 5) (k := 5) rfl (ct_v E x2)) (ct_v E x3)) h (fun t6 q6 l6 h => ?_)
            replace h := ct_fcE h
            replace h := ct_fcE h
            refine mt_wpX_putAt E (ct_v E x5_127) (ct_v E x6_129) (ct_rd a2 q6 l6) (ct_rd a3 q6 l6) h (fun f0_wayEnd_139 am1091_142 am1092_145 am1093_148 am1094_151 am1095_154 am1096_157 am1097_160 am1098_163 am1099_166 am10910_169 am10911_172 am10912_175 am10913_178 am10914_181 am10915_184 am10916_187 h => ?_)
            refine ct_let (ct_add (ct_v E x4) (ct_l1 E)) h (fun x4_188 h => ?_)
            exact ih (ct_v E x4_188) (ct_v E f0_wayEnd_139) h
          · refine ct_let (ct_add (ct_v E x4) (ct_l1 E)) h (fun x4_135 h => ?_)
            exact ih (ct_v E x4_135) (ct_v E f0_wayEnd) h
  exact key n p_x4 p_f0_wayEnd h

noncomputable def mf_wpX_takeOut (k_post : Nat → Nat → Nat → Nat → Nat → Nat → Nat → Nat → Nat → Nat → Nat → Nat → Nat → Nat → Nat → Nat → Nat → Bool) (f0_wayEnd : Nat) (a1 : Nat) (a2 : Nat) (a3 : Nat) (a4 : Nat) (a5 : Nat) (a6 : Nat) (a7 : Nat) (a8 : Nat) (a9 : Nat) (a10 : Nat) (a11 : Nat) (a12 : Nat) (a13 : Nat) (a14 : Nat) (a15 : Nat) (a16 : Nat) (p0 : Nat) : Bool :=
  ct_in (ct_sb f0_wayEnd 1) 8 fun t1 => ct_fc (ct_gt a14 t1) fun x2_2 => ct_in (ct_sb f0_wayEnd 1) 8 fun t2 => ct_fc (ct_gt a15 t2) fun x3_4 => mf_wX_takeOut_27 k_post p0 x2_2 x3_4 128 0 f0_wayEnd a1 a2 a3 a4 a5 a6 a7 a8 a9 a10 a11 a12 a13 a14 a15 a16
theorem mt_wpX_takeOut (E : Nat × Int32 × Int32) {post : St2 → Prop} {k_post : Nat → Nat → Nat → Nat → Nat → Nat → Nat → Nat → Nat → Nat → Nat → Nat → Nat → Nat → Nat → Nat → Nat → Bool} {f0_wayEnd a1 a2 a3 a4 a5 a6 a7 a8 a9 a10 a11 a12 a13 a14 a15 a16 : Nat} {e_p0 : Int32} {p0 : Nat} (p_p0 : e_p0 = ct_dec E p0) (h : mf_wpX_takeOut k_post f0_wayEnd a1 a2 a3 a4 a5 a6 a7 a8 a9 a10 a11 a12 a13 a14 a15 a16 p0 = true) (h_post : ∀ r0 r1 r2 r3 r4 r5 r6 r7 r8 r9 r10 r11 r12 r13 r14 r15 r16 : Nat, k_post r0 r1 r2 r3 r4 r5 r6 r7 r8 r9 r10 r11 r12 r13 r14 r15 r16 = true → post (ct_dec E r0, ct_da E r1, ct_da E r2, ct_da E r3, ct_da E r4, ct_da E r5, ct_da E r6, ct_da E r7, ct_da E r8, ct_da E r9, ct_da E r10, ct_da E r11, ct_da E r12, ct_da E r13, ct_da E r14, ct_da E r15, ct_da E r16)) :
    wpX_takeOut post (ct_dec E f0_wayEnd, ct_da E a1, ct_da E a2, ct_da E a3, ct_da E a4, ct_da E a5, ct_da E a6, ct_da E a7, ct_da E a8, ct_da E a9, ct_da E a10, ct_da E a11, ct_da E a12, ct_da E a13, ct_da E a14, ct_da E a15, ct_da E a16) e_p0 := by
  subst p_p0
  unfold mf_wpX_takeOut at h
  unfold wpX_takeOut
  refine ct_inS (by decide) (ct_sbb (ct_v E f0_wayEnd) (ct_l1 E)) h (fun t1 q1 l1 h => ?_)
  refine ct_let (ct_rd a14 q1 l1) h (fun x2_2 h => ?_)
  refine ct_inS (by decide) (ct_sbb (ct_v E f0_wayEnd) (ct_l1 E)) h (fun t2 q2 l2 h => ?_)
  refine ct_let (ct_rd a15 q2 l2) h (fun x3_4 h => ?_)
  refine ⟨128, ?_⟩
  exact mt_wX_takeOut_27 E (ct_v E p0) (ct_v E x2_2) (ct_v E x3_4) (ct_l0 E) (ct_v E f0_wayEnd) h h_post

noncomputable def mf_wpX_erase (k_post : Nat → Nat → Nat → Nat → Nat → Nat → Nat → Nat → Nat → Nat → Nat → Nat → Nat → Nat → Nat → Nat → Nat → Nat → Bool) (f0_wayEnd : Nat) (a1 : Nat) (a2 : Nat) (a3 : Nat) (a4 : Nat) (a5 : Nat) (a6 : Nat) (a7 : Nat) (a8 : Nat) (a9 : Nat) (a10 : Nat) (a11 : Nat) (a12 : Nat) (a13 : Nat) (a14 : Nat) (a15 : Nat) (a16 : Nat) (p0 : Nat) : Bool :=
  mf_wpX_isKey (fun r_1 => ct_eq r_1 0 (k_post 4294967295 f0_wayEnd a1 a2 a3 a4 a5 a6 a7 a8 a9 a10 a11 a12 a13 a14 a15 a16) (ct_fc (ct_gt a11 3) fun y2 => mf_wpX_find (fun r_3 f0_wayEnd_4 am181_7 am182_10 am183_13 am184_16 am185_19 am186_22 am187_25 am188_28 am189_31 am1810_34 am1811_37 am1812_40 am1813_43 am1814_46 am1815_49 am1816_52 => ct_eq r_3 0 (k_post 0 f0_wayEnd_4 am181_7 am182_10 am183_13 am184_16 am185_19 am186_22 am187_25 am188_28 am189_31 am1810_34 am1811_37 am1812_40 am1813_43 am1814_46 am1815_49 am1816_52) (mf_wpX_lengthenWay (fun f0_wayEnd_55 am271_58 am272_61 am273_64 am274_67 am275_70 am276_73 am277_76 am278_79 am279_82 am2710_85 am2711_88 am2712_91 am2713_94 am2714_97 am2715_100 am2716_103 => mf_wpX_copyWay (fun f0_wayEnd_105 am311_108 am312_111 am313_114 am314_117 am315_120 am316_123 am317_126 am318_129 am319_132 am3110_135 am3111_138 am3112_141 am3113_144 am3114_147 am3115_150 am3116_153 => mf_wpX_takeOut (fun f0_wayEnd_155 am361_158 am362_161 am363_164 am364_167 am365_170 am366_173 am367_176 am368_179 am369_182 am3610_185 am3611_188 am3612_191 am3613_194 am3614_197 am3615_200 am3616_203 => ct_by (ct_sb (ct_gt am3612_191 3) 1) fun b1 => ct_fc (ct_st am3612_191 3 b1) fun am3612_205 => k_post 1 f0_wayEnd_155 am361_158 am362_161 am363_164 am364_167 am365_170 am366_173 am367_176 am368_179 am369_182 am3610_185 am3611_188 am3612_205 am3613_194 am3614_197 am3615_200 am3616_203) f0_wayEnd_105 am311_108 am312_111 am313_114 am314_117 am315_120 am316_123 am317_126 am318_129 am319_132 am3110_135 am3111_138 am3112_141 am3113_144 am3114_147 am3115_150 am3116_153 p0) f0_wayEnd_55 am271_58 am272_61 am273_64 am274_67 am275_70 am276_73 am277_76 am278_79 am279_82 am2710_85 am2711_88 am2712_91 am2713_94 am2714_97 am2715_100 am2716_103) f0_wayEnd_4 am181_7 am182_10 am183_13 am184_16 am185_19 am186_22 am187_25 am188_28 am189_31 am1810_34 am1811_37 am1812_40 am1813_43 am1814_46 am1815_49 am1816_52)) f0_wayEnd a1 a2 a3 a4 a5 a6 a7 a8 a9 a10 a11 a12 a13 a14 a15 a16 y2 p0)) f0_wayEnd a1 a2 a3 a4 a5 a6 a7 a8 a9 a10 a11 a12 a13 a14 a15 a16 p0
theorem mt_wpX_erase (E : Nat × Int32 × Int32) {post : Int32 → St2 → Prop} {k_post : Nat → Nat → Nat → Nat → Nat → Nat → Nat → Nat → Nat → Nat → Nat → Nat → Nat → Nat → Nat → Nat → Nat → Nat → Bool} {f0_wayEnd a1 a2 a3 a4 a5 a6 a7 a8 a9 a10 a11 a12 a13 a14 a15 a16 : Nat} {e_p0 : Int32} {p0 : Nat} (p_p0 : e_p0 = ct_dec E p0) (h : mf_wpX_erase k_post f0_wayEnd a1 a2 a3 a4 a5 a6 a7 a8 a9 a10 a11 a12 a13 a14 a15 a16 p0 = true) (h_post : ∀ r0 r1 r2 r3 r4 r5 r6 r7 r8 r9 r10 r11 r12 r13 r14 r15 r16 r17 : Nat, k_post r0 r1 r2 r3 r4 r5 r6 r7 r8 r9 r10 r11 r12 r13 r14 r15 r16 r17 = true → post (ct_dec E r0) (ct_dec E r1, ct_da E r2, ct_da E r3, ct_da E r4, ct_da E r5, ct_da E r6, ct_da E r7, ct_da E r8, ct_da E r9, ct_da E r10, ct_da E r11, ct_da E r12, ct_da E r13, ct_da E r14, ct_da E r15, ct_da E r16, ct_da E r17)) :
    wpX_erase post (ct_dec E f0_wayEnd, ct_da E a1, ct_da E a2, ct_da E a3, ct_da E a4, ct_da E a5, ct_da E a6, ct_da E a7, ct_da E a8, ct_da E a9, ct_da E a10, ct_da E a11, ct_da E a12, ct_da E a13, ct_da E a14, ct_da E a15, ct_da E a16) e_p0 := by
  subst p_p0
  unfold mf_wpX_erase at h
  unfold wpX_erase
  refine mt_wpX_isKey E (ct_v E p0) h (fun r_1 h => ?_)
  refine ct_eqS (ct_v E r_1) (ct_l0 E) h (fun h => ?_) (fun h => ?_)
  · refine ct_sub (P := fun z => post z ((ct_dec E f0_wayEnd, ct_da E a1, ct_da E a2, ct_da E a3, ct_da E a4, ct_da E a5, ct_da E a6, ct_da E a7, ct_da E a8, ct_da E a9, ct_da E a10, ct_da E a11, ct_da E a12, ct_da E a13, ct_da E a14, ct_da E a15, ct_da E a16))) (ct_m1 E) ?_
    exact h_post _ _ _ _ _ _ _ _ _ _ _ _ _ _ _ _ _ _ h
  · replace h := ct_fcE h
    refine mt_wpX_find E (ct_rk E a11 3) (ct_v E p0) h (fun r_3 f0_wayEnd_4 am181_7 am182_10 am183_13 am184_16 am185_19 am186_22 am187_25 am188_28 am189_31 am1810_34 am1811_37 am1812_40 am1813_43 am1814_46 am1815_49 am1816_52 h => ?_)
    refine ct_eqS (ct_v E r_3) (ct_l0 E) h (fun h => ?_) (fun h => ?_)
    · refine ct_sub (P := fun z => post z ((ct_dec E f0_wayEnd_4, ct_da E am181_7, ct_da E am182_10, ct_da E am183_13, ct_da E am184_16, ct_da E am185_19, ct_da E am186_22, ct_da E am187_25, ct_da E am188_28, ct_da E am189_31, ct_da E am1810_34, ct_da E am1811_37, ct_da E am1812_40, ct_da E am1813_43, ct_da E am1814_46, ct_da E am1815_49, ct_da E am1816_52))) (ct_l0 E) ?_
      exact h_post _ _ _ _ _ _ _ _ _ _ _ _ _ _ _ _ _ _ h
    · refine mt_wpX_lengthenWay E  h (fun f0_wayEnd_55 am271_58 am272_61 am273_64 am274_67 am275_70 am276_73 am277_76 am278_79 am279_82 am2710_85 am2711_88 am2712_91 am2713_94 am2714_97 am2715_100 am2716_103 h => ?_)
      refine mt_wpX_copyWay E  h (fun f0_wayEnd_105 am311_108 am312_111 am313_114 am314_117 am315_120 am316_123 am317_126 am318_129 am319_132 am3110_135 am3111_138 am3112_141 am3113_144 am3114_147 am3115_150 am3116_153 h => ?_)
      refine mt_wpX_takeOut E (ct_v E p0) h (fun f0_wayEnd_155 am361_158 am362_161 am363_164 am364_167 am365_170 am366_173 am367_176 am368_179 am369_182 am3610_185 am3611_188 am3612_191 am3613_194 am3614_197 am3615_200 am3616_203 h => ?_)
      refine ct_byS (ct_sbb (ct_rk E am3612_191 3) (ct_l1 E)) h (fun b1 hb1 h => ?_)
      refine ct_leta (ct_uk am3612_191 3 hb1) h (fun am3612_205 h => ?_)
      refine ct_sub (P := fun z => post z ((ct_dec E f0_wayEnd_155, ct_da E am361_158, ct_da E am362_161, ct_da E am363_164, ct_da E am364_167, ct_da E am365_170, ct_da E am366_173, ct_da E am367_176, ct_da E am368_179, ct_da E am369_182, ct_da E am3610_185, ct_da E am3611_188, ct_da E am3612_205, ct_da E am3613_194, ct_da E am3614_197, ct_da E am3615_200, ct_da E am3616_203))) (ct_l1 E) ?_
      exact h_post _ _ _ _ _ _ _ _ _ _ _ _ _ _ _ _ _ _ h

noncomputable def mf_wpX_has (k_post : Nat → Nat → Nat → Nat → Nat → Nat → Nat → Nat → Nat → Nat → Nat → Nat → Nat → Nat → Nat → Nat → Nat → Nat → Bool) (f0_wayEnd : Nat) (a1 : Nat) (a2 : Nat) (a3 : Nat) (a4 : Nat) (a5 : Nat) (a6 : Nat) (a7 : Nat) (a8 : Nat) (a9 : Nat) (a10 : Nat) (a11 : Nat) (a12 : Nat) (a13 : Nat) (a14 : Nat) (a15 : Nat) (a16 : Nat) (p0 : Nat) (p1 : Nat) : Bool :=
  mf_wpX_sees (fun r_1 => ct_eq r_1 0 (k_post 0 f0_wayEnd a1 a2 a3 a4 a5 a6 a7 a8 a9 a10 a11 a12 a13 a14 a15 a16) (mf_wpX_isKey (fun r_3 => ct_eq r_3 0 (k_post 0 f0_wayEnd a1 a2 a3 a4 a5 a6 a7 a8 a9 a10 a11 a12 a13 a14 a15 a16) (ct_in p0 4 fun t1 => ct_fc (ct_gt a11 t1) fun y2 => mf_wpX_find (fun r_6 f0_wayEnd_7 am241_10 am242_13 am243_16 am244_19 am245_22 am246_25 am247_28 am248_31 am249_34 am2410_37 am2411_40 am2412_43 am2413_46 am2414_49 am2415_52 am2416_55 => ct_eq r_6 0 (k_post 0 f0_wayEnd_7 am241_10 am242_13 am243_16 am244_19 am245_22 am246_25 am247_28 am248_31 am249_34 am2410_37 am2411_40 am2412_43 am2413_46 am2414_49 am2415_52 am2416_55) (k_post 1 f0_wayEnd_7 am241_10 am242_13 am243_16 am244_19 am245_22 am246_25 am247_28 am248_31 am249_34 am2410_37 am2411_40 am2412_43 am2413_46 am2414_49 am2415_52 am2416_55)) f0_wayEnd a1 a2 a3 a4 a5 a6 a7 a8 a9 a10 a11 a12 a13 a14 a15 a16 y2 p1)) f0_wayEnd a1 a2 a3 a4 a5 a6 a7 a8 a9 a10 a11 a12 a13 a14 a15 a16 p1)) f0_wayEnd a1 a2 a3 a4 a5 a6 a7 a8 a9 a10 a11 a12 a13 a14 a15 a16 p0
theorem mt_wpX_has (E : Nat × Int32 × Int32) {post : Int32 → St2 → Prop} {k_post : Nat → Nat → Nat → Nat → Nat → Nat → Nat → Nat → Nat → Nat → Nat → Nat → Nat → Nat → Nat → Nat → Nat → Nat → Bool} {f0_wayEnd a1 a2 a3 a4 a5 a6 a7 a8 a9 a10 a11 a12 a13 a14 a15 a16 : Nat} {e_p0 : Int32} {p0 : Nat} (p_p0 : e_p0 = ct_dec E p0) {e_p1 : Int32} {p1 : Nat} (p_p1 : e_p1 = ct_dec E p1) (h : mf_wpX_has k_post f0_wayEnd a1 a2 a3 a4 a5 a6 a7 a8 a9 a10 a11 a12 a13 a14 a15 a16 p0 p1 = true) (h_post : ∀ r0 r1 r2 r3 r4 r5 r6 r7 r8 r9 r10 r11 r12 r13 r14 r15 r16 r17 : Nat, k_post r0 r1 r2 r3 r4 r5 r6 r7 r8 r9 r10 r11 r12 r13 r14 r15 r16 r17 = true → post (ct_dec E r0) (ct_dec E r1, ct_da E r2, ct_da E r3, ct_da E r4, ct_da E r5, ct_da E r6, ct_da E r7, ct_da E r8, ct_da E r9, ct_da E r10, ct_da E r11, ct_da E r12, ct_da E r13, ct_da E r14, ct_da E r15, ct_da E r16, ct_da E r17)) :
    wpX_has post (ct_dec E f0_wayEnd, ct_da E a1, ct_da E a2, ct_da E a3, ct_da E a4, ct_da E a5, ct_da E a6, ct_da E a7, ct_da E a8, ct_da E a9, ct_da E a10, ct_da E a11, ct_da E a12, ct_da E a13, ct_da E a14, ct_da E a15, ct_da E a16) e_p0 e_p1 := by
  subst p_p0 p_p1
  unfold mf_wpX_has at h
  unfold wpX_has
  refine mt_wpX_sees E (ct_v E p0) h (fun r_1 h => ?_)
  refine ct_eqS (ct_v E r_1) (ct_l0 E) h (fun h => ?_) (fun h => ?_)
  · refine ct_sub (P := fun z => post z ((ct_dec E f0_wayEnd, ct_da E a1, ct_da E a2, ct_da E a3, ct_da E a4, ct_da E a5, ct_da E a6, ct_da E a7, ct_da E a8, ct_da E a9, ct_da E a10, ct_da E a11, ct_da E a12, ct_da E a13, ct_da E a14, ct_da E a15, ct_da E a16))) (ct_l0 E) ?_
    exact h_post _ _ _ _ _ _ _ _ _ _ _ _ _ _ _ _ _ _ h
  · refine mt_wpX_isKey E (ct_v E p1) h (fun r_3 h => ?_)
    refine ct_eqS (ct_v E r_3) (ct_l0 E) h (fun h => ?_) (fun h => ?_)
    · refine ct_sub (P := fun z => post z ((ct_dec E f0_wayEnd, ct_da E a1, ct_da E a2, ct_da E a3, ct_da E a4, ct_da E a5, ct_da E a6, ct_da E a7, ct_da E a8, ct_da E a9, ct_da E a10, ct_da E a11, ct_da E a12, ct_da E a13, ct_da E a14, ct_da E a15, ct_da E a16))) (ct_l0 E) ?_
      exact h_post _ _ _ _ _ _ _ _ _ _ _ _ _ _ _ _ _ _ h
    · refine ct_inS (by decide) (ct_v E p0) h (fun t1 q1 l1 h => ?_)
      replace h := ct_fcE h
      refine mt_wpX_find E (ct_rd a11 q1 l1) (ct_v E p1) h (fun r_6 f0_wayEnd_7 am241_10 am242_13 am243_16 am244_19 am245_22 am246_25 am247_28 am248_31 am249_34 am2410_37 am2411_40 am2412_43 am2413_46 am2414_49 am2415_52 am2416_55 h => ?_)
      refine ct_eqS (ct_v E r_6) (ct_l0 E) h (fun h => ?_) (fun h => ?_)
      · refine ct_sub (P := fun z => post z ((ct_dec E f0_wayEnd_7, ct_da E am241_10, ct_da E am242_13, ct_da E am243_16, ct_da E am244_19, ct_da E am245_22, ct_da E am246_25, ct_da E am247_28, ct_da E am248_31, ct_da E am249_34, ct_da E am2410_37, ct_da E am2411_40, ct_da E am2412_43, ct_da E am2413_46, ct_da E am2414_49, ct_da E am2415_52, ct_da E am2416_55))) (ct_l0 E) ?_
        exact h_post _ _ _ _ _ _ _ _ _ _ _ _ _ _ _ _ _ _ h
      · refine ct_sub (P := fun z => post z ((ct_dec E f0_wayEnd_7, ct_da E am241_10, ct_da E am242_13, ct_da E am243_16, ct_da E am244_19, ct_da E am245_22, ct_da E am246_25, ct_da E am247_28, ct_da E am248_31, ct_da E am249_34, ct_da E am2410_37, ct_da E am2411_40, ct_da E am2412_43, ct_da E am2413_46, ct_da E am2414_49, ct_da E am2415_52, ct_da E am2416_55))) (ct_l1 E) ?_
        exact h_post _ _ _ _ _ _ _ _ _ _ _ _ _ _ _ _ _ _ h

noncomputable def mf_wpX_get (k_post : Nat → Nat → Nat → Nat → Nat → Nat → Nat → Nat → Nat → Nat → Nat → Nat → Nat → Nat → Nat → Nat → Nat → Nat → Bool) (f0_wayEnd : Nat) (a1 : Nat) (a2 : Nat) (a3 : Nat) (a4 : Nat) (a5 : Nat) (a6 : Nat) (a7 : Nat) (a8 : Nat) (a9 : Nat) (a10 : Nat) (a11 : Nat) (a12 : Nat) (a13 : Nat) (a14 : Nat) (a15 : Nat) (a16 : Nat) (p0 : Nat) (p1 : Nat) : Bool :=
  mf_wpX_has (fun r_1 f0_wayEnd_2 am31_5 am32_8 am33_11 am34_14 am35_17 am36_20 am37_23 am38_26 am39_29 am310_32 am311_35 am312_38 am313_41 am314_44 am315_47 am316_50 => ct_eq r_1 0 (k_post 0 f0_wayEnd_2 am31_5 am32_8 am33_11 am34_14 am35_17 am36_20 am37_23 am38_26 am39_29 am310_32 am311_35 am312_38 am313_41 am314_44 am315_47 am316_50) (ct_in (ct_sb f0_wayEnd_2 1) 8 fun t1 => ct_in (ct_sb f0_wayEnd_2 1) 8 fun t2 => ct_in (ct_ad (ct_ml 5 (ct_gt am314_44 t2)) (ct_gt am315_47 t2)) 500 fun t3 => ct_fc (ct_gt am33_11 t3) fun y4 => k_post y4 f0_wayEnd_2 am31_5 am32_8 am33_11 am34_14 am35_17 am36_20 am37_23 am38_26 am39_29 am310_32 am311_35 am312_38 am313_41 am314_44 am315_47 am316_50)) f0_wayEnd a1 a2 a3 a4 a5 a6 a7 a8 a9 a10 a11 a12 a13 a14 a15 a16 p0 p1
theorem mt_wpX_get (E : Nat × Int32 × Int32) {post : Int32 → St2 → Prop} {k_post : Nat → Nat → Nat → Nat → Nat → Nat → Nat → Nat → Nat → Nat → Nat → Nat → Nat → Nat → Nat → Nat → Nat → Nat → Bool} {f0_wayEnd a1 a2 a3 a4 a5 a6 a7 a8 a9 a10 a11 a12 a13 a14 a15 a16 : Nat} {e_p0 : Int32} {p0 : Nat} (p_p0 : e_p0 = ct_dec E p0) {e_p1 : Int32} {p1 : Nat} (p_p1 : e_p1 = ct_dec E p1) (h : mf_wpX_get k_post f0_wayEnd a1 a2 a3 a4 a5 a6 a7 a8 a9 a10 a11 a12 a13 a14 a15 a16 p0 p1 = true) (h_post : ∀ r0 r1 r2 r3 r4 r5 r6 r7 r8 r9 r10 r11 r12 r13 r14 r15 r16 r17 : Nat, k_post r0 r1 r2 r3 r4 r5 r6 r7 r8 r9 r10 r11 r12 r13 r14 r15 r16 r17 = true → post (ct_dec E r0) (ct_dec E r1, ct_da E r2, ct_da E r3, ct_da E r4, ct_da E r5, ct_da E r6, ct_da E r7, ct_da E r8, ct_da E r9, ct_da E r10, ct_da E r11, ct_da E r12, ct_da E r13, ct_da E r14, ct_da E r15, ct_da E r16, ct_da E r17)) :
    wpX_get post (ct_dec E f0_wayEnd, ct_da E a1, ct_da E a2, ct_da E a3, ct_da E a4, ct_da E a5, ct_da E a6, ct_da E a7, ct_da E a8, ct_da E a9, ct_da E a10, ct_da E a11, ct_da E a12, ct_da E a13, ct_da E a14, ct_da E a15, ct_da E a16) e_p0 e_p1 := by
  subst p_p0 p_p1
  unfold mf_wpX_get at h
  unfold wpX_get
  refine mt_wpX_has E (ct_v E p0) (ct_v E p1) h (fun r_1 f0_wayEnd_2 am31_5 am32_8 am33_11 am34_14 am35_17 am36_20 am37_23 am38_26 am39_29 am310_32 am311_35 am312_38 am313_41 am314_44 am315_47 am316_50 h => ?_)
  refine ct_eqS (ct_v E r_1) (ct_l0 E) h (fun h => ?_) (fun h => ?_)
  · refine ct_sub (P := fun z => post z ((ct_dec E f0_wayEnd_2, ct_da E am31_5, ct_da E am32_8, ct_da E am33_11, ct_da E am34_14, ct_da E am35_17, ct_da E am36_20, ct_da E am37_23, ct_da E am38_26, ct_da E am39_29, ct_da E am310_32, ct_da E am311_35, ct_da E am312_38, ct_da E am313_41, ct_da E am314_44, ct_da E am315_47, ct_da E am316_50))) (ct_l0 E) ?_
    exact h_post _ _ _ _ _ _ _ _ _ _ _ _ _ _ _ _ _ _ h
  · refine ct_inS (by decide) (ct_sbb (ct_v E f0_wayEnd_2) (ct_l1 E)) h (fun t1 q1 l1 h => ?_)
    refine ct_inS (by decide) (ct_sbb (ct_v E f0_wayEnd_2) (ct_l1 E)) h (fun t2 q2 l2 h => ?_)
    refine ct_inS (by decide) (ct_add (ct_mul (x := 5) (k := 5) rfl (ct_rd am314_44 q2 l2)) (ct_rd am315_47 q2 l2)) h (fun t3 q3 l3 h => ?_)
    replace h := ct_fcE h
    refine ct_sub (P := fun z => post z ((ct_dec E f0_wayEnd_2, ct_da E am31_5, ct_da E am32_8, ct_da E am33_11, ct_da E am34_14, ct_da E am35_17, ct_da E am36_20, ct_da E am37_23, ct_da E am38_26, ct_da E am39_29, ct_da E am310_32, ct_da E am311_35, ct_da E am312_38, ct_da E am313_41, ct_da E am314_44, ct_da E am315_47, ct_da E am316_50))) (ct_rd am33_11 q3 l3) ?_
    exact h_post _ _ _ _ _ _ _ _ _ _ _ _ _ _ _ _ _ _ h

noncomputable def mf_wpX_seen (k_post : Nat → Bool) (f0_wayEnd : Nat) (a1 : Nat) (a2 : Nat) (a3 : Nat) (a4 : Nat) (a5 : Nat) (a6 : Nat) (a7 : Nat) (a8 : Nat) (a9 : Nat) (a10 : Nat) (a11 : Nat) (a12 : Nat) (a13 : Nat) (a14 : Nat) (a15 : Nat) (a16 : Nat) (p0 : Nat) : Bool :=
  ct_lt p0 0 (k_post 4294967295) (ct_lt 2 p0 (k_post 4294967295) (ct_in p0 4 fun t1 => ct_eq (ct_gt a11 t1) 4294967294 (k_post 4294967295) (ct_in p0 4 fun t2 => ct_fc (ct_gt a13 t2) fun y3 => k_post y3)))
theorem mt_wpX_seen (E : Nat × Int32 × Int32) {post : Int32 → Prop} {k_post : Nat → Bool} {f0_wayEnd a1 a2 a3 a4 a5 a6 a7 a8 a9 a10 a11 a12 a13 a14 a15 a16 : Nat} {e_p0 : Int32} {p0 : Nat} (p_p0 : e_p0 = ct_dec E p0) (h : mf_wpX_seen k_post f0_wayEnd a1 a2 a3 a4 a5 a6 a7 a8 a9 a10 a11 a12 a13 a14 a15 a16 p0 = true) (h_post : ∀ r0 : Nat, k_post r0 = true → post (ct_dec E r0)) :
    wpX_seen post (ct_dec E f0_wayEnd, ct_da E a1, ct_da E a2, ct_da E a3, ct_da E a4, ct_da E a5, ct_da E a6, ct_da E a7, ct_da E a8, ct_da E a9, ct_da E a10, ct_da E a11, ct_da E a12, ct_da E a13, ct_da E a14, ct_da E a15, ct_da E a16) e_p0 := by
  subst p_p0
  unfold mf_wpX_seen at h
  unfold wpX_seen
  refine ct_ltS (ct_v E p0) (ct_l0 E) h (fun h => ?_) (fun h => ?_)
  · refine ct_sub (P := fun z => post z) (ct_m1 E) ?_
    exact h_post _ h
  · refine ct_ltS (ct_l2 E) (ct_v E p0) h (fun h => ?_) (fun h => ?_)
    · refine ct_sub (P := fun z => post z) (ct_m1 E) ?_
      exact h_post _ h
    · refine ct_inS (by decide) (ct_v E p0) h (fun t1 q1 l1 h => ?_)
      refine ct_eqS (ct_rd a11 q1 l1) (ct_m2 E) h (fun h => ?_) (fun h => ?_)
      · refine ct_sub (P := fun z => post z) (ct_m1 E) ?_
        exact h_post _ h
      · refine ct_inS (by decide) (ct_v E p0) h (fun t2 q2 l2 h => ?_)
        replace h := ct_fcE h
        refine ct_sub (P := fun z => post z) (ct_rd a13 q2 l2) ?_
        exact h_post _ h

noncomputable def mf_wX_close_27 (k_post : Nat → Nat → Nat → Nat → Nat → Nat → Nat → Nat → Nat → Nat → Nat → Nat → Nat → Nat → Nat → Nat → Nat → Nat → Bool) (x1 : Nat) (z0 : Nat) (f0_wayEnd : Nat) (a1 : Nat) (a2 : Nat) (a3 : Nat) (a4 : Nat) (a5 : Nat) (a6 : Nat) (a7 : Nat) (a8 : Nat) (a9 : Nat) (a10 : Nat) (a11 : Nat) (a12 : Nat) (a13 : Nat) (a14 : Nat) (a15 : Nat) (a16 : Nat) : Bool :=
  ct_in x1 4 fun t1 => ct_fc (ct_st a11 t1 4294967294) fun a11_6 => k_post z0 f0_wayEnd a1 a2 a3 a4 a5 a6 a7 a8 a9 a10 a11_6 a12 a13 a14 a15 a16
theorem mt_wX_close_27 (E : Nat × Int32 × Int32) {post : Int32 → St2 → Prop} {k_post : Nat → Nat → Nat → Nat → Nat → Nat → Nat → Nat → Nat → Nat → Nat → Nat → Nat → Nat → Nat → Nat → Nat → Nat → Bool} {e_x1 : Int32} {x1 : Nat} (p_x1 : e_x1 = ct_dec E x1) {e_z0 : Int32} {z0 : Nat} (p_z0 : e_z0 = ct_dec E z0) {e_f0_wayEnd : Int32} {f0_wayEnd : Nat} (p_f0_wayEnd : e_f0_wayEnd = ct_dec E f0_wayEnd) {a1 : Nat} {a2 : Nat} {a3 : Nat} {a4 : Nat} {a5 : Nat} {a6 : Nat} {a7 : Nat} {a8 : Nat} {a9 : Nat} {a10 : Nat} {a11 : Nat} {a12 : Nat} {a13 : Nat} {a14 : Nat} {a15 : Nat} {a16 : Nat} (h : mf_wX_close_27 k_post x1 z0 f0_wayEnd a1 a2 a3 a4 a5 a6 a7 a8 a9 a10 a11 a12 a13 a14 a15 a16 = true) (h_post : ∀ r0 r1 r2 r3 r4 r5 r6 r7 r8 r9 r10 r11 r12 r13 r14 r15 r16 r17 : Nat, k_post r0 r1 r2 r3 r4 r5 r6 r7 r8 r9 r10 r11 r12 r13 r14 r15 r16 r17 = true → post (ct_dec E r0) (ct_dec E r1, ct_da E r2, ct_da E r3, ct_da E r4, ct_da E r5, ct_da E r6, ct_da E r7, ct_da E r8, ct_da E r9, ct_da E r10, ct_da E r11, ct_da E r12, ct_da E r13, ct_da E r14, ct_da E r15, ct_da E r16, ct_da E r17)) :
    wX_close_27 post e_x1 e_z0 e_f0_wayEnd (ct_da E a1) (ct_da E a2) (ct_da E a3) (ct_da E a4) (ct_da E a5) (ct_da E a6) (ct_da E a7) (ct_da E a8) (ct_da E a9) (ct_da E a10) (ct_da E a11) (ct_da E a12) (ct_da E a13) (ct_da E a14) (ct_da E a15) (ct_da E a16) := by
  subst p_x1 p_z0 p_f0_wayEnd
  unfold mf_wX_close_27 at h
  unfold wX_close_27
  refine ct_inS (by decide) (ct_v E x1) h (fun t1 q1 l1 h => ?_)
  refine ct_leta (ct_up a11 q1 l1 (ct_m2 E)) h (fun a11_6 h => ?_)
  exact h_post _ _ _ _ _ _ _ _ _ _ _ _ _ _ _ _ _ _ h

noncomputable def mf_wpX_close (k_post : Nat → Nat → Nat → Nat → Nat → Nat → Nat → Nat → Nat → Nat → Nat → Nat → Nat → Nat → Nat → Nat → Nat → Nat → Bool) (f0_wayEnd : Nat) (a1 : Nat) (a2 : Nat) (a3 : Nat) (a4 : Nat) (a5 : Nat) (a6 : Nat) (a7 : Nat) (a8 : Nat) (a9 : Nat) (a10 : Nat) (a11 : Nat) (a12 : Nat) (a13 : Nat) (a14 : Nat) (a15 : Nat) (a16 : Nat) (p0 : Nat) : Bool :=
  ct_lt p0 0 (k_post 4294967295 f0_wayEnd a1 a2 a3 a4 a5 a6 a7 a8 a9 a10 a11 a12 a13 a14 a15 a16) (ct_le p0 2 (ct_in p0 4 fun t1 => ct_eq (ct_gt a11 t1) 4294967294 (mf_wX_close_27 k_post p0 0 f0_wayEnd a1 a2 a3 a4 a5 a6 a7 a8 a9 a10 a11 a12 a13 a14 a15 a16) (mf_wX_close_27 k_post p0 1 f0_wayEnd a1 a2 a3 a4 a5 a6 a7 a8 a9 a10 a11 a12 a13 a14 a15 a16)) (k_post 4294967295 f0_wayEnd a1 a2 a3 a4 a5 a6 a7 a8 a9 a10 a11 a12 a13 a14 a15 a16))
theorem mt_wpX_close (E : Nat × Int32 × Int32) {post : Int32 → St2 → Prop} {k_post : Nat → Nat → Nat → Nat → Nat → Nat → Nat → Nat → Nat → Nat → Nat → Nat → Nat → Nat → Nat → Nat → Nat → Nat → Bool} {f0_wayEnd a1 a2 a3 a4 a5 a6 a7 a8 a9 a10 a11 a12 a13 a14 a15 a16 : Nat} {e_p0 : Int32} {p0 : Nat} (p_p0 : e_p0 = ct_dec E p0) (h : mf_wpX_close k_post f0_wayEnd a1 a2 a3 a4 a5 a6 a7 a8 a9 a10 a11 a12 a13 a14 a15 a16 p0 = true) (h_post : ∀ r0 r1 r2 r3 r4 r5 r6 r7 r8 r9 r10 r11 r12 r13 r14 r15 r16 r17 : Nat, k_post r0 r1 r2 r3 r4 r5 r6 r7 r8 r9 r10 r11 r12 r13 r14 r15 r16 r17 = true → post (ct_dec E r0) (ct_dec E r1, ct_da E r2, ct_da E r3, ct_da E r4, ct_da E r5, ct_da E r6, ct_da E r7, ct_da E r8, ct_da E r9, ct_da E r10, ct_da E r11, ct_da E r12, ct_da E r13, ct_da E r14, ct_da E r15, ct_da E r16, ct_da E r17)) :
    wpX_close post (ct_dec E f0_wayEnd, ct_da E a1, ct_da E a2, ct_da E a3, ct_da E a4, ct_da E a5, ct_da E a6, ct_da E a7, ct_da E a8, ct_da E a9, ct_da E a10, ct_da E a11, ct_da E a12, ct_da E a13, ct_da E a14, ct_da E a15, ct_da E a16) e_p0 := by
  subst p_p0
  unfold mf_wpX_close at h
  unfold wpX_close
  refine ct_ltS (ct_v E p0) (ct_l0 E) h (fun h => ?_) (fun h => ?_)
  · refine ct_sub (P := fun z => post z ((ct_dec E f0_wayEnd, ct_da E a1, ct_da E a2, ct_da E a3, ct_da E a4, ct_da E a5, ct_da E a6, ct_da E a7, ct_da E a8, ct_da E a9, ct_da E a10, ct_da E a11, ct_da E a12, ct_da E a13, ct_da E a14, ct_da E a15, ct_da E a16))) (ct_m1 E) ?_
    exact h_post _ _ _ _ _ _ _ _ _ _ _ _ _ _ _ _ _ _ h
  · refine ct_leS (ct_v E p0) (ct_l2 E) h (fun h => ?_) (fun h => ?_)
    · refine ct_inS (by decide) (ct_v E p0) h (fun t1 q1 l1 h => ?_)
      refine ct_eqS (ct_rd a11 q1 l1) (ct_m2 E) h (fun h => ?_) (fun h => ?_)
      · exact mt_wX_close_27 E (ct_v E p0) (ct_l0 E) (ct_v E f0_wayEnd) h h_post
      · exact mt_wX_close_27 E (ct_v E p0) (ct_l1 E) (ct_v E f0_wayEnd) h h_post
    · refine ct_sub (P := fun z => post z ((ct_dec E f0_wayEnd, ct_da E a1, ct_da E a2, ct_da E a3, ct_da E a4, ct_da E a5, ct_da E a6, ct_da E a7, ct_da E a8, ct_da E a9, ct_da E a10, ct_da E a11, ct_da E a12, ct_da E a13, ct_da E a14, ct_da E a15, ct_da E a16))) (ct_m1 E) ?_
      exact h_post _ _ _ _ _ _ _ _ _ _ _ _ _ _ _ _ _ _ h

noncomputable def mb_wX_crash_31 (k_post : Nat → Nat → Nat → Nat → Nat → Nat → Nat → Nat → Nat → Nat → Nat → Nat → Nat → Nat → Nat → Nat → Nat → Nat → Bool) (f0_wayEnd : Nat) (ih : Nat → Nat → Nat → Nat → Nat → Nat → Nat → Nat → Nat → Nat → Nat → Nat → Nat → Nat → Nat → Nat → Nat → Bool) (x2 : Nat) (a1 : Nat) (a2 : Nat) (a3 : Nat) (a4 : Nat) (a5 : Nat) (a6 : Nat) (a7 : Nat) (a8 : Nat) (a9 : Nat) (a10 : Nat) (a11 : Nat) (a12 : Nat) (a13 : Nat) (a14 : Nat) (a15 : Nat) (a16 : Nat) : Bool :=
  ct_le 3 x2 (mf_wpX_loadWriter (fun f0_wayEnd_6 am511_9 am512_12 am513_15 am514_18 am515_21 am516_24 am517_27 am518_30 am519_33 am5110_36 am5111_39 am5112_42 am5113_45 am5114_48 am5115_51 am5116_54 => mf_wpX_number (fun r_55 => k_post r_55 f0_wayEnd_6 am511_9 am512_12 am513_15 am514_18 am515_21 am516_24 am517_27 am518_30 am519_33 am5110_36 am5111_39 am5112_42 am5113_45 am5114_48 am5115_51 am5116_54) f0_wayEnd_6 am511_9 am512_12 am513_15 am514_18 am515_21 am516_24 am517_27 am518_30 am519_33 am5110_36 am5111_39 am5112_42 am5113_45 am5114_48 am5115_51 am5116_54) f0_wayEnd a1 a2 a3 a4 a5 a6 a7 a8 a9 a10 a11 a12 a13 a14 a15 a16) (ct_in x2 4 fun t1 => ct_fc (ct_st a11 t1 4294967294) fun a11_57 => ct_fc (ct_ad x2 1) fun x2_58 => ih x2_58 a1 a2 a3 a4 a5 a6 a7 a8 a9 a10 a11_57 a12 a13 a14 a15 a16)
noncomputable def mf_wX_crash_31 (k_post : Nat → Nat → Nat → Nat → Nat → Nat → Nat → Nat → Nat → Nat → Nat → Nat → Nat → Nat → Nat → Nat → Nat → Nat → Bool) (f0_wayEnd : Nat) (n : Nat) : Nat → Nat → Nat → Nat → Nat → Nat → Nat → Nat → Nat → Nat → Nat → Nat → Nat → Nat → Nat → Nat → Nat → Bool :=
  Nat.rec (motive := fun _ => Nat → Nat → Nat → Nat → Nat → Nat → Nat → Nat → Nat → Nat → Nat → Nat → Nat → Nat → Nat → Nat → Nat → Bool) (fun _ _ _ _ _ _ _ _ _ _ _ _ _ _ _ _ _ => false) (fun _ ih => mb_wX_crash_31 k_post f0_wayEnd ih) n
theorem mt_wX_crash_31 (E : Nat × Int32 × Int32) {post : Int32 → St2 → Prop} {k_post : Nat → Nat → Nat → Nat → Nat → Nat → Nat → Nat → Nat → Nat → Nat → Nat → Nat → Nat → Nat → Nat → Nat → Nat → Bool} {e_f0_wayEnd : Int32} {f0_wayEnd : Nat} (p_f0_wayEnd : e_f0_wayEnd = ct_dec E f0_wayEnd) {n : Nat} {e_x2 : Int32} {x2 : Nat} (p_x2 : e_x2 = ct_dec E x2) {a1 : Nat} {a2 : Nat} {a3 : Nat} {a4 : Nat} {a5 : Nat} {a6 : Nat} {a7 : Nat} {a8 : Nat} {a9 : Nat} {a10 : Nat} {a11 : Nat} {a12 : Nat} {a13 : Nat} {a14 : Nat} {a15 : Nat} {a16 : Nat} (h : mf_wX_crash_31 k_post f0_wayEnd n x2 a1 a2 a3 a4 a5 a6 a7 a8 a9 a10 a11 a12 a13 a14 a15 a16 = true) (h_post : ∀ r0 r1 r2 r3 r4 r5 r6 r7 r8 r9 r10 r11 r12 r13 r14 r15 r16 r17 : Nat, k_post r0 r1 r2 r3 r4 r5 r6 r7 r8 r9 r10 r11 r12 r13 r14 r15 r16 r17 = true → post (ct_dec E r0) (ct_dec E r1, ct_da E r2, ct_da E r3, ct_da E r4, ct_da E r5, ct_da E r6, ct_da E r7, ct_da E r8, ct_da E r9, ct_da E r10, ct_da E r11, ct_da E r12, ct_da E r13, ct_da E r14, ct_da E r15, ct_da E r16, ct_da E r17)) :
    wX_crash_31 post e_f0_wayEnd n e_x2 (ct_da E a1) (ct_da E a2) (ct_da E a3) (ct_da E a4) (ct_da E a5) (ct_da E a6) (ct_da E a7) (ct_da E a8) (ct_da E a9) (ct_da E a10) (ct_da E a11) (ct_da E a12) (ct_da E a13) (ct_da E a14) (ct_da E a15) (ct_da E a16) := by
  subst p_f0_wayEnd
  have key : ∀ (n : Nat) {e_x2 : Int32} {x2 : Nat} (p_x2 : e_x2 = ct_dec E x2) {a1 : Nat} {a2 : Nat} {a3 : Nat} {a4 : Nat} {a5 : Nat} {a6 : Nat} {a7 : Nat} {a8 : Nat} {a9 : Nat} {a10 : Nat} {a11 : Nat} {a12 : Nat} {a13 : Nat} {a14 : Nat} {a15 : Nat} {a16 : Nat}, mf_wX_crash_31 k_post f0_wayEnd n x2 a1 a2 a3 a4 a5 a6 a7 a8 a9 a10 a11 a12 a13 a14 a15 a16 = true → wX_crash_31 post (ct_dec E f0_wayEnd) n e_x2 (ct_da E a1) (ct_da E a2) (ct_da E a3) (ct_da E a4) (ct_da E a5) (ct_da E a6) (ct_da E a7) (ct_da E a8) (ct_da E a9) (ct_da E a10) (ct_da E a11) (ct_da E a12) (ct_da E a13) (ct_da E a14) (ct_da E a15) (ct_da E a16) := by
    intro n
    induction n with
    | zero =>
      intro e_x2 x2 p_x2 a1 a2 a3 a4 a5 a6 a7 a8 a9 a10 a11 a12 a13 a14 a15 a16 h
      exact Bool.noConfusion (show false = true from h)
    | succ n ih =>
      intro e_x2 x2 p_x2 a1 a2 a3 a4 a5 a6 a7 a8 a9 a10 a11 a12 a13 a14 a15 a16 h
      subst p_x2
      replace h : mb_wX_crash_31 k_post f0_wayEnd (mf_wX_crash_31 k_post f0_wayEnd n) x2 a1 a2 a3 a4 a5 a6 a7 a8 a9 a10 a11 a12 a13 a14 a15 a16 = true := h
      unfold mb_wX_crash_31 at h
      unfold wX_crash_31
      refine ct_leS (ct_l3 E) (ct_v E x2) h (fun h => ?_) (fun h => ?_)
      · refine mt_wpX_loadWriter E  h (fun f0_wayEnd_6 am511_9 am512_12 am513_15 am514_18 am515_21 am516_24 am517_27 am518_30 am519_33 am5110_36 am5111_39 am5112_42 am5113_45 am5114_48 am5115_51 am5116_54 h => ?_)
        refine mt_wpX_number E  h (fun r_55 h => ?_)
        exact h_post _ _ _ _ _ _ _ _ _ _ _ _ _ _ _ _ _ _ h
      · refine ct_inS (by decide) (ct_v E x2) h (fun t1 q1 l1 h => ?_)
        refine ct_leta (ct_up a11 q1 l1 (ct_m2 E)) h (fun a11_57 h => ?_)
        refine ct_let (ct_add (ct_v E x2) (ct_l1 E)) h (fun x2_58 h => ?_)
        exact ih (ct_v E x2_58) h
  exact key n p_x2 h

noncomputable def mf_wX_crash_26 (k_post : Nat → Nat → Nat → Nat → Nat → Nat → Nat → Nat → Nat → Nat → Nat → Nat → Nat → Nat → Nat → Nat → Nat → Nat → Bool) (z0 : Nat) (f0_wayEnd : Nat) (a1 : Nat) (a2 : Nat) (a3 : Nat) (a4 : Nat) (a5 : Nat) (a6 : Nat) (a7 : Nat) (a8 : Nat) (a9 : Nat) (a10 : Nat) (a11 : Nat) (a12 : Nat) (a13 : Nat) (a14 : Nat) (a15 : Nat) (a16 : Nat) : Bool :=
  mf_wpX_writeMeta (fun f0_wayEnd_61 am261_64 am262_67 am263_70 am264_73 am265_76 am266_79 am267_82 am268_85 am269_88 am2610_91 am2611_94 am2612_97 am2613_100 am2614_103 am2615_106 am2616_109 => mf_wX_crash_31 k_post f0_wayEnd_61 128 0 am261_64 am262_67 am263_70 am264_73 am265_76 am266_79 am267_82 am268_85 am269_88 am2610_91 am2611_94 am2612_97 am2613_100 am2614_103 am2615_106 am2616_109) f0_wayEnd a1 a2 a3 a4 a5 a6 a7 a8 a9 a10 a11 a12 a13 a14 a15 a16 z0
theorem mt_wX_crash_26 (E : Nat × Int32 × Int32) {post : Int32 → St2 → Prop} {k_post : Nat → Nat → Nat → Nat → Nat → Nat → Nat → Nat → Nat → Nat → Nat → Nat → Nat → Nat → Nat → Nat → Nat → Nat → Bool} {e_z0 : Int32} {z0 : Nat} (p_z0 : e_z0 = ct_dec E z0) {e_f0_wayEnd : Int32} {f0_wayEnd : Nat} (p_f0_wayEnd : e_f0_wayEnd = ct_dec E f0_wayEnd) {a1 : Nat} {a2 : Nat} {a3 : Nat} {a4 : Nat} {a5 : Nat} {a6 : Nat} {a7 : Nat} {a8 : Nat} {a9 : Nat} {a10 : Nat} {a11 : Nat} {a12 : Nat} {a13 : Nat} {a14 : Nat} {a15 : Nat} {a16 : Nat} (h : mf_wX_crash_26 k_post z0 f0_wayEnd a1 a2 a3 a4 a5 a6 a7 a8 a9 a10 a11 a12 a13 a14 a15 a16 = true) (h_post : ∀ r0 r1 r2 r3 r4 r5 r6 r7 r8 r9 r10 r11 r12 r13 r14 r15 r16 r17 : Nat, k_post r0 r1 r2 r3 r4 r5 r6 r7 r8 r9 r10 r11 r12 r13 r14 r15 r16 r17 = true → post (ct_dec E r0) (ct_dec E r1, ct_da E r2, ct_da E r3, ct_da E r4, ct_da E r5, ct_da E r6, ct_da E r7, ct_da E r8, ct_da E r9, ct_da E r10, ct_da E r11, ct_da E r12, ct_da E r13, ct_da E r14, ct_da E r15, ct_da E r16, ct_da E r17)) :
    wX_crash_26 post e_z0 e_f0_wayEnd (ct_da E a1) (ct_da E a2) (ct_da E a3) (ct_da E a4) (ct_da E a5) (ct_da E a6) (ct_da E a7) (ct_da E a8) (ct_da E a9) (ct_da E a10) (ct_da E a11) (ct_da E a12) (ct_da E a13) (ct_da E a14) (ct_da E a15) (ct_da E a16) := by
  subst p_z0 p_f0_wayEnd
  unfold mf_wX_crash_26 at h
  unfold wX_crash_26
  refine mt_wpX_writeMeta E (ct_v E z0) h (fun f0_wayEnd_61 am261_64 am262_67 am263_70 am264_73 am265_76 am266_79 am267_82 am268_85 am269_88 am2610_91 am2611_94 am2612_97 am2613_100 am2614_103 am2615_106 am2616_109 h => ?_)
  refine ⟨128, ?_⟩
  exact mt_wX_crash_31 E (ct_v E f0_wayEnd_61) (ct_l0 E) h h_post

noncomputable def mf_wpX_crash (k_post : Nat → Nat → Nat → Nat → Nat → Nat → Nat → Nat → Nat → Nat → Nat → Nat → Nat → Nat → Nat → Nat → Nat → Nat → Bool) (f0_wayEnd : Nat) (a1 : Nat) (a2 : Nat) (a3 : Nat) (a4 : Nat) (a5 : Nat) (a6 : Nat) (a7 : Nat) (a8 : Nat) (a9 : Nat) (a10 : Nat) (a11 : Nat) (a12 : Nat) (a13 : Nat) (a14 : Nat) (a15 : Nat) (a16 : Nat) (p0 : Nat) : Bool :=
  ct_lt p0 0 (k_post 4294967295 f0_wayEnd a1 a2 a3 a4 a5 a6 a7 a8 a9 a10 a11 a12 a13 a14 a15 a16) (ct_le p0 2 (ct_le p0 0 (mf_wX_crash_31 k_post f0_wayEnd 128 0 a1 a2 a3 a4 a5 a6 a7 a8 a9 a10 a11 a12 a13 a14 a15 a16) (ct_eq p0 1 (mf_wX_crash_26 k_post 1 f0_wayEnd a1 a2 a3 a4 a5 a6 a7 a8 a9 a10 a11 a12 a13 a14 a15 a16) (mf_wX_crash_26 k_post 0 f0_wayEnd a1 a2 a3 a4 a5 a6 a7 a8 a9 a10 a11 a12 a13 a14 a15 a16))) (k_post 4294967295 f0_wayEnd a1 a2 a3 a4 a5 a6 a7 a8 a9 a10 a11 a12 a13 a14 a15 a16))
theorem mt_wpX_crash (E : Nat × Int32 × Int32) {post : Int32 → St2 → Prop} {k_post : Nat → Nat → Nat → Nat → Nat → Nat → Nat → Nat → Nat → Nat → Nat → Nat → Nat → Nat → Nat → Nat → Nat → Nat → Bool} {f0_wayEnd a1 a2 a3 a4 a5 a6 a7 a8 a9 a10 a11 a12 a13 a14 a15 a16 : Nat} {e_p0 : Int32} {p0 : Nat} (p_p0 : e_p0 = ct_dec E p0) (h : mf_wpX_crash k_post f0_wayEnd a1 a2 a3 a4 a5 a6 a7 a8 a9 a10 a11 a12 a13 a14 a15 a16 p0 = true) (h_post : ∀ r0 r1 r2 r3 r4 r5 r6 r7 r8 r9 r10 r11 r12 r13 r14 r15 r16 r17 : Nat, k_post r0 r1 r2 r3 r4 r5 r6 r7 r8 r9 r10 r11 r12 r13 r14 r15 r16 r17 = true → post (ct_dec E r0) (ct_dec E r1, ct_da E r2, ct_da E r3, ct_da E r4, ct_da E r5, ct_da E r6, ct_da E r7, ct_da E r8, ct_da E r9, ct_da E r10, ct_da E r11, ct_da E r12, ct_da E r13, ct_da E r14, ct_da E r15, ct_da E r16, ct_da E r17)) :
    wpX_crash post (ct_dec E f0_wayEnd, ct_da E a1, ct_da E a2, ct_da E a3, ct_da E a4, ct_da E a5, ct_da E a6, ct_da E a7, ct_da E a8, ct_da E a9, ct_da E a10, ct_da E a11, ct_da E a12, ct_da E a13, ct_da E a14, ct_da E a15, ct_da E a16) e_p0 := by
  subst p_p0
  unfold mf_wpX_crash at h
  unfold wpX_crash
  refine ct_ltS (ct_v E p0) (ct_l0 E) h (fun h => ?_) (fun h => ?_)
  · refine ct_sub (P := fun z => post z ((ct_dec E f0_wayEnd, ct_da E a1, ct_da E a2, ct_da E a3, ct_da E a4, ct_da E a5, ct_da E a6, ct_da E a7, ct_da E a8, ct_da E a9, ct_da E a10, ct_da E a11, ct_da E a12, ct_da E a13, ct_da E a14, ct_da E a15, ct_da E a16))) (ct_m1 E) ?_
    exact h_post _ _ _ _ _ _ _ _ _ _ _ _ _ _ _ _ _ _ h
  · refine ct_leS (ct_v E p0) (ct_l2 E) h (fun h => ?_) (fun h => ?_)
    · refine ct_leS (ct_v E p0) (ct_l0 E) h (fun h => ?_) (fun h => ?_)
      · refine ⟨128, ?_⟩
        exact mt_wX_crash_31 E (ct_v E f0_wayEnd) (ct_l0 E) h h_post
      · refine ct_eqS (ct_v E p0) (ct_l1 E) h (fun h => ?_) (fun h => ?_)
        · exact mt_wX_crash_26 E (ct_l1 E) (ct_v E f0_wayEnd) h h_post
        · exact mt_wX_crash_26 E (ct_l0 E) (ct_v E f0_wayEnd) h h_post
    · refine ct_sub (P := fun z => post z ((ct_dec E f0_wayEnd, ct_da E a1, ct_da E a2, ct_da E a3, ct_da E a4, ct_da E a5, ct_da E a6, ct_da E a7, ct_da E a8, ct_da E a9, ct_da E a10, ct_da E a11, ct_da E a12, ct_da E a13, ct_da E a14, ct_da E a15, ct_da E a16))) (ct_m1 E) ?_
      exact h_post _ _ _ _ _ _ _ _ _ _ _ _ _ _ _ _ _ _ h

noncomputable def mf_wpX_abort (k_post : Nat → Nat → Nat → Nat → Nat → Nat → Nat → Nat → Nat → Nat → Nat → Nat → Nat → Nat → Nat → Nat → Nat → Nat → Bool) (f0_wayEnd : Nat) (a1 : Nat) (a2 : Nat) (a3 : Nat) (a4 : Nat) (a5 : Nat) (a6 : Nat) (a7 : Nat) (a8 : Nat) (a9 : Nat) (a10 : Nat) (a11 : Nat) (a12 : Nat) (a13 : Nat) (a14 : Nat) (a15 : Nat) (a16 : Nat) : Bool :=
  mf_wpX_loadWriter (fun f0_wayEnd_2 am11_5 am12_8 am13_11 am14_14 am15_17 am16_20 am17_23 am18_26 am19_29 am110_32 am111_35 am112_38 am113_41 am114_44 am115_47 am116_50 => mf_wpX_number (fun r_51 => k_post r_51 f0_wayEnd_2 am11_5 am12_8 am13_11 am14_14 am15_17 am16_20 am17_23 am18_26 am19_29 am110_32 am111_35 am112_38 am113_41 am114_44 am115_47 am116_50) f0_wayEnd_2 am11_5 am12_8 am13_11 am14_14 am15_17 am16_20 am17_23 am18_26 am19_29 am110_32 am111_35 am112_38 am113_41 am114_44 am115_47 am116_50) f0_wayEnd a1 a2 a3 a4 a5 a6 a7 a8 a9 a10 a11 a12 a13 a14 a15 a16
theorem mt_wpX_abort (E : Nat × Int32 × Int32) {post : Int32 → St2 → Prop} {k_post : Nat → Nat → Nat → Nat → Nat → Nat → Nat → Nat → Nat → Nat → Nat → Nat → Nat → Nat → Nat → Nat → Nat → Nat → Bool} {f0_wayEnd a1 a2 a3 a4 a5 a6 a7 a8 a9 a10 a11 a12 a13 a14 a15 a16 : Nat} (h : mf_wpX_abort k_post f0_wayEnd a1 a2 a3 a4 a5 a6 a7 a8 a9 a10 a11 a12 a13 a14 a15 a16 = true) (h_post : ∀ r0 r1 r2 r3 r4 r5 r6 r7 r8 r9 r10 r11 r12 r13 r14 r15 r16 r17 : Nat, k_post r0 r1 r2 r3 r4 r5 r6 r7 r8 r9 r10 r11 r12 r13 r14 r15 r16 r17 = true → post (ct_dec E r0) (ct_dec E r1, ct_da E r2, ct_da E r3, ct_da E r4, ct_da E r5, ct_da E r6, ct_da E r7, ct_da E r8, ct_da E r9, ct_da E r10, ct_da E r11, ct_da E r12, ct_da E r13, ct_da E r14, ct_da E r15, ct_da E r16, ct_da E r17)) :
    wpX_abort post (ct_dec E f0_wayEnd, ct_da E a1, ct_da E a2, ct_da E a3, ct_da E a4, ct_da E a5, ct_da E a6, ct_da E a7, ct_da E a8, ct_da E a9, ct_da E a10, ct_da E a11, ct_da E a12, ct_da E a13, ct_da E a14, ct_da E a15, ct_da E a16) := by
  unfold mf_wpX_abort at h
  unfold wpX_abort
  refine mt_wpX_loadWriter E  h (fun f0_wayEnd_2 am11_5 am12_8 am13_11 am14_14 am15_17 am16_20 am17_23 am18_26 am19_29 am110_32 am111_35 am112_38 am113_41 am114_44 am115_47 am116_50 h => ?_)
  refine mt_wpX_number E  h (fun r_51 h => ?_)
  exact h_post _ _ _ _ _ _ _ _ _ _ _ _ _ _ _ _ _ _ h

noncomputable def mf_wL_lawOf_735 (k_post : Nat → Bool) (z0 : Nat) (z1 : Nat) (fm0_wayEnd : Nat) (am7211 : Nat) (am7212 : Nat) (am7213 : Nat) (am7214 : Nat) (am7215 : Nat) (am7216 : Nat) (am7217 : Nat) (am7218 : Nat) (am7219 : Nat) (am72110 : Nat) (am72111 : Nat) (am72112 : Nat) (am72113 : Nat) (am72114 : Nat) (am72115 : Nat) (am72116 : Nat) : Bool :=
  ct_eq z1 z0 (mf_wpX_size (fun r_1432 => mf_wpX_size (fun r_1433 => ct_eq r_1432 r_1433 (mf_wpX_abort (fun r_1435 fm0_wayEnd_1436 am7551_1439 am7552_1442 am7553_1445 am7554_1448 am7555_1451 am7556_1454 am7557_1457 am7558_1460 am7559_1463 am75510_1466 am75511_1469 am75512_1472 am75513_1475 am75514_1478 am75515_1481 am75516_1484 => mf_wpX_number (fun r_1485 => ct_eq r_1435 r_1485 (mf_wpX_crash (fun r_1487 fm0_wayEnd_1488 am7691_1491 am7692_1494 am7693_1497 am7694_1500 am7695_1503 am7696_1506 am7697_1509 am7698_1512 am7699_1515 am76910_1518 am76911_1521 am76912_1524 am76913_1527 am76914_1530 am76915_1533 am76916_1536 => ct_eq r_1487 4294967295 (mf_wpX_size (fun r_1538 => ct_lt r_1538 17 (k_post 0) (k_post 1)) fm0_wayEnd_1488 am7691_1491 am7692_1494 am7693_1497 am7694_1500 am7695_1503 am7696_1506 am7697_1509 am7698_1512 am7699_1515 am76910_1518 am76911_1521 am76912_1524 am76913_1527 am76914_1530 am76915_1533 am76916_1536 0) (k_post 0)) fm0_wayEnd_1436 am7551_1439 am7552_1442 am7553_1445 am7554_1448 am7555_1451 am7556_1454 am7557_1457 am7558_1460 am7559_1463 am75510_1466 am75511_1469 am75512_1472 am75513_1475 am75514_1478 am75515_1481 am75516_1484 3) (k_post 0)) fm0_wayEnd_1436 am7551_1439 am7552_1442 am7553_1445 am7554_1448 am7555_1451 am7556_1454 am7557_1457 am7558_1460 am7559_1463 am75510_1466 am75511_1469 am75512_1472 am75513_1475 am75514_1478 am75515_1481 am75516_1484) fm0_wayEnd am7211 am7212 am7213 am7214 am7215 am7216 am7217 am7218 am7219 am72110 am72111 am72112 am72113 am72114 am72115 am72116) (k_post 0)) fm0_wayEnd am7211 am7212 am7213 am7214 am7215 am7216 am7217 am7218 am7219 am72110 am72111 am72112 am72113 am72114 am72115 am72116 3) fm0_wayEnd am7211 am7212 am7213 am7214 am7215 am7216 am7217 am7218 am7219 am72110 am72111 am72112 am72113 am72114 am72115 am72116 0) (k_post 0)
theorem mt_wL_lawOf_735 (E : Nat × Int32 × Int32) {post : Int32 → St0 → Prop} {k_post : Nat → Bool} {mc ms kc ks : Nat} {e_z0 : Int32} {z0 : Nat} (p_z0 : e_z0 = ct_dec E z0) {e_z1 : Int32} {z1 : Nat} (p_z1 : e_z1 = ct_dec E z1) {e_fm0_wayEnd : Int32} {fm0_wayEnd : Nat} (p_fm0_wayEnd : e_fm0_wayEnd = ct_dec E fm0_wayEnd) {am7211 : Nat} {am7212 : Nat} {am7213 : Nat} {am7214 : Nat} {am7215 : Nat} {am7216 : Nat} {am7217 : Nat} {am7218 : Nat} {am7219 : Nat} {am72110 : Nat} {am72111 : Nat} {am72112 : Nat} {am72113 : Nat} {am72114 : Nat} {am72115 : Nat} {am72116 : Nat} (h : mf_wL_lawOf_735 k_post z0 z1 fm0_wayEnd am7211 am7212 am7213 am7214 am7215 am7216 am7217 am7218 am7219 am72110 am72111 am72112 am72113 am72114 am72115 am72116 = true) (h_post : ∀ r0 : Nat, k_post r0 = true → post (ct_dec E r0) ()) :
    wL_lawOf_735 post mc ms e_z0 e_z1 kc ks e_fm0_wayEnd (ct_da E am7211) (ct_da E am7212) (ct_da E am7213) (ct_da E am7214) (ct_da E am7215) (ct_da E am7216) (ct_da E am7217) (ct_da E am7218) (ct_da E am7219) (ct_da E am72110) (ct_da E am72111) (ct_da E am72112) (ct_da E am72113) (ct_da E am72114) (ct_da E am72115) (ct_da E am72116) := by
  subst p_z0 p_z1 p_fm0_wayEnd
  unfold mf_wL_lawOf_735 at h
  unfold wL_lawOf_735
  refine ct_eqS (ct_v E z1) (ct_v E z0) h (fun h => ?_) (fun h => ?_)
  · refine mt_wpX_size E (ct_l0 E) h (fun r_1432 h => ?_)
    refine mt_wpX_size E (ct_l3 E) h (fun r_1433 h => ?_)
    refine ct_eqS (ct_v E r_1432) (ct_v E r_1433) h (fun h => ?_) (fun h => ?_)
    · refine mt_wpX_abort E  h (fun r_1435 fm0_wayEnd_1436 am7551_1439 am7552_1442 am7553_1445 am7554_1448 am7555_1451 am7556_1454 am7557_1457 am7558_1460 am7559_1463 am75510_1466 am75511_1469 am75512_1472 am75513_1475 am75514_1478 am75515_1481 am75516_1484 h => ?_)
      refine mt_wpX_number E  h (fun r_1485 h => ?_)
      refine ct_eqS (ct_v E r_1435) (ct_v E r_1485) h (fun h => ?_) (fun h => ?_)
      · refine mt_wpX_crash E (ct_l3 E) h (fun r_1487 fm0_wayEnd_1488 am7691_1491 am7692_1494 am7693_1497 am7694_1500 am7695_1503 am7696_1506 am7697_1509 am7698_1512 am7699_1515 am76910_1518 am76911_1521 am76912_1524 am76913_1527 am76914_1530 am76915_1533 am76916_1536 h => ?_)
        refine ct_eqS (ct_v E r_1487) (ct_m1 E) h (fun h => ?_) (fun h => ?_)
        · refine mt_wpX_size E (ct_l0 E) h (fun r_1538 h => ?_)
          refine ct_ltS (ct_v E r_1538) (ct_l17 E) h (fun h => ?_) (fun h => ?_)
          · refine ct_sub (P := fun z => post z (())) (ct_l0 E) ?_
            exact h_post _ h
          · refine ct_sub (P := fun z => post z (())) (ct_l1 E) ?_
            exact h_post _ h
        · refine ct_sub (P := fun z => post z (())) (ct_l0 E) ?_
          exact h_post _ h
      · refine ct_sub (P := fun z => post z (())) (ct_l0 E) ?_
        exact h_post _ h
    · refine ct_sub (P := fun z => post z (())) (ct_l0 E) ?_
      exact h_post _ h
  · refine ct_sub (P := fun z => post z (())) (ct_l0 E) ?_
    exact h_post _ h
end
section
noncomputable def mf_wL_lawOf_679 (k_post : Nat → Bool) (x1 : Nat) (x2 : Nat) (x5 : Nat) (x6 : Nat) (z0 : Nat) (z1 : Nat) (fm0_wayEnd : Nat) (am6651 : Nat) (am6652 : Nat) (am6653 : Nat) (am6654 : Nat) (am6655 : Nat) (am6656 : Nat) (am6657 : Nat) (am6658 : Nat) (am6659 : Nat) (am66510 : Nat) (am66511 : Nat) (am66512 : Nat) (am66513 : Nat) (am66514 : Nat) (am66515 : Nat) (am66516 : Nat) : Bool :=
  ct_eq z1 z0 (ct_fc (ct_ad x5 1) fun y2 => mf_wpX_get (fun r_1278 fm0_wayEnd_1279 am6891_1282 am6892_1285 am6893_1288 am6894_1291 am6895_1294 am6896_1297 am6897_1300 am6898_1303 am6899_1306 am68910_1309 am68911_1312 am68912_1315 am68913_1318 am68914_1321 am68915_1324 am68916_1327 => ct_eq r_1278 (ct_ad (ct_ad x1 x5) 1) (ct_fc (ct_ad x5 24) fun y1 => mf_wpX_get (fun r_1329 fm0_wayEnd_1330 am7091_1333 am7092_1336 am7093_1339 am7094_1342 am7095_1345 am7096_1348 am7097_1351 am7098_1354 am7099_1357 am70910_1360 am70911_1363 am70912_1366 am70913_1369 am70914_1372 am70915_1375 am70916_1378 => ct_eq r_1329 x2 (mf_wpX_open (fun r_1380 fm0_wayEnd_1381 am7211_1384 am7212_1387 am7213_1390 am7214_1393 am7215_1396 am7216_1399 am7217_1402 am7218_1405 am7219_1408 am72110_1411 am72111_1414 am72112_1417 am72113_1420 am72114_1423 am72115_1426 am72116_1429 => ct_eq x6 1 (mf_wL_lawOf_735 k_post 3 r_1380 fm0_wayEnd_1381 am7211_1384 am7212_1387 am7213_1390 am7214_1393 am7215_1396 am7216_1399 am7217_1402 am7218_1405 am7219_1408 am72110_1411 am72111_1414 am72112_1417 am72113_1420 am72114_1423 am72115_1426 am72116_1429) (mf_wL_lawOf_735 k_post 2 r_1380 fm0_wayEnd_1381 am7211_1384 am7212_1387 am7213_1390 am7214_1393 am7215_1396 am7216_1399 am7217_1402 am7218_1405 am7219_1408 am72110_1411 am72111_1414 am72112_1417 am72113_1420 am72114_1423 am72115_1426 am72116_1429)) fm0_wayEnd_1330 am7091_1333 am7092_1336 am7093_1339 am7094_1342 am7095_1345 am7096_1348 am7097_1351 am7098_1354 am7099_1357 am70910_1360 am70911_1363 am70912_1366 am70913_1369 am70914_1372 am70915_1375 am70916_1378 0) (k_post 0)) fm0_wayEnd_1279 am6891_1282 am6892_1285 am6893_1288 am6894_1291 am6895_1294 am6896_1297 am6897_1300 am6898_1303 am6899_1306 am68910_1309 am68911_1312 am68912_1315 am68913_1318 am68914_1321 am68915_1324 am68916_1327 3 y1) (k_post 0)) fm0_wayEnd am6651 am6652 am6653 am6654 am6655 am6656 am6657 am6658 am6659 am66510 am66511 am66512 am66513 am66514 am66515 am66516 3 y2) (k_post 0)
theorem mt_wL_lawOf_679 (E : Nat × Int32 × Int32) {post : Int32 → St0 → Prop} {k_post : Nat → Bool} {mc ms kc ks : Nat} {e_x1 : Int32} {x1 : Nat} (p_x1 : e_x1 = ct_dec E x1) {e_x2 : Int32} {x2 : Nat} (p_x2 : e_x2 = ct_dec E x2) {e_x5 : Int32} {x5 : Nat} (p_x5 : e_x5 = ct_dec E x5) {e_x6 : Int32} {x6 : Nat} (p_x6 : e_x6 = ct_dec E x6) {e_z0 : Int32} {z0 : Nat} (p_z0 : e_z0 = ct_dec E z0) {e_z1 : Int32} {z1 : Nat} (p_z1 : e_z1 = ct_dec E z1) {e_fm0_wayEnd : Int32} {fm0_wayEnd : Nat} (p_fm0_wayEnd : e_fm0_wayEnd = ct_dec E fm0_wayEnd) {am6651 : Nat} {am6652 : Nat} {am6653 : Nat} {am6654 : Nat} {am6655 : Nat} {am6656 : Nat} {am6657 : Nat} {am6658 : Nat} {am6659 : Nat} {am66510 : Nat} {am66511 : Nat} {am66512 : Nat} {am66513 : Nat} {am66514 : Nat} {am66515 : Nat} {am66516 : Nat} (h : mf_wL_lawOf_679 k_post x1 x2 x5 x6 z0 z1 fm0_wayEnd am6651 am6652 am6653 am6654 am6655 am6656 am6657 am6658 am6659 am66510 am66511 am66512 am66513 am66514 am66515 am66516 = true) (h_post : ∀ r0 : Nat, k_post r0 = true → post (ct_dec E r0) ()) :
    wL_lawOf_679 post mc ms e_x1 e_x2 e_x5 e_x6 e_z0 e_z1 kc ks e_fm0_wayEnd (ct_da E am6651) (ct_da E am6652) (ct_da E am6653) (ct_da E am6654) (ct_da E am6655) (ct_da E am6656) (ct_da E am6657) (ct_da E am6658) (ct_da E am6659) (ct_da E am66510) (ct_da E am66511) (ct_da E am66512) (ct_da E am66513) (ct_da E am66514) (ct_da E am66515) (ct_da E am66516) := by
  subst p_x1 p_x2 p_x5 p_x6 p_z0 p_z1 p_fm0_wayEnd
  unfold mf_wL_lawOf_679 at h
  unfold wL_lawOf_679
  refine ct_eqS (ct_v E z1) (ct_v E z0) h (fun h => ?_) (fun h => ?_)
  · replace h := ct_fcE h
    refine mt_wpX_get E (ct_l3 E) (ct_add (ct_v E x5) (ct_l1 E)) h (fun r_1278 fm0_wayEnd_1279 am6891_1282 am6892_1285 am6893_1288 am6894_1291 am6895_1294 am6896_1297 am6897_1300 am6898_1303 am6899_1306 am68910_1309 am68911_1312 am68912_1315 am68913_1318 am68914_1321 am68915_1324 am68916_1327 h => ?_)
    refine ct_eqS (ct_v E r_1278) (ct_add (ct_add (ct_v E x1) (ct_v E x5)) (ct_l1 E)) h (fun h => ?_) (fun h => ?_)
    · replace h := ct_fcE h
      refine mt_wpX_get E (ct_l3 E) (ct_add (ct_v E x5) (ct_l24 E)) h (fun r_1329 fm0_wayEnd_1330 am7091_1333 am7092_1336 am7093_1339 am7094_1342 am7095_1345 am7096_1348 am7097_1351 am7098_1354 am7099_1357 am70910_1360 am70911_1363 am70912_1366 am70913_1369 am70914_1372 am70915_1375 am70916_1378 h => ?_)
      refine ct_eqS (ct_v E r_1329) (ct_v E x2) h (fun h => ?_) (fun h => ?_)
      · refine mt_wpX_open E (ct_l0 E) h (fun r_1380 fm0_wayEnd_1381 am7211_1384 am7212_1387 am7213_1390 am7214_1393 am7215_1396 am7216_1399 am7217_1402 am7218_1405 am7219_1408 am72110_1411 am72111_1414 am72112_1417 am72113_1420 am72114_1423 am72115_1426 am72116_1429 h => ?_)
        refine ct_eqS (ct_v E x6) (ct_l1 E) h (fun h => ?_) (fun h => ?_)
        · exact mt_wL_lawOf_735 E (ct_l3 E) (ct_v E r_1380) (ct_v E fm0_wayEnd_1381) h h_post
        · exact mt_wL_lawOf_735 E (ct_l2 E) (ct_v E r_1380) (ct_v E fm0_wayEnd_1381) h h_post
      · refine ct_sub (P := fun z => post z (())) (ct_l0 E) ?_
        exact h_post _ h
    · refine ct_sub (P := fun z => post z (())) (ct_l0 E) ?_
      exact h_post _ h
  · refine ct_sub (P := fun z => post z (())) (ct_l0 E) ?_
    exact h_post _ h

noncomputable def mf_wL_lawOf_615 (k_post : Nat → Bool) (x1 : Nat) (x2 : Nat) (x5 : Nat) (x6 : Nat) (z0 : Nat) (z1 : Nat) (fm0_wayEnd : Nat) (am5581 : Nat) (am5582 : Nat) (am5583 : Nat) (am5584 : Nat) (am5585 : Nat) (am5586 : Nat) (am5587 : Nat) (am5588 : Nat) (am5589 : Nat) (am55810 : Nat) (am55811 : Nat) (am55812 : Nat) (am55813 : Nat) (am55814 : Nat) (am55815 : Nat) (am55816 : Nat) : Bool :=
  ct_eq z1 z0 (mf_wpX_size (fun r_1120 => ct_eq r_1120 4294967295 (mf_wpX_seen (fun r_1122 => ct_eq r_1122 4294967295 (mf_wpX_has (fun r_1124 fm0_wayEnd_1125 am6431_1128 am6432_1131 am6433_1134 am6434_1137 am6435_1140 am6436_1143 am6437_1146 am6438_1149 am6439_1152 am64310_1155 am64311_1158 am64312_1161 am64313_1164 am64314_1167 am64315_1170 am64316_1173 => ct_eq r_1124 0 (mf_wpX_close (fun r_1175 fm0_wayEnd_1176 am6521_1179 am6522_1182 am6523_1185 am6524_1188 am6525_1191 am6526_1194 am6527_1197 am6528_1200 am6529_1203 am65210_1206 am65211_1209 am65212_1212 am65213_1215 am65214_1218 am65215_1221 am65216_1224 => ct_eq r_1175 0 (mf_wpX_has (fun r_1226 fm0_wayEnd_1227 am6651_1230 am6652_1233 am6653_1236 am6654_1239 am6655_1242 am6656_1245 am6657_1248 am6658_1251 am6659_1254 am66510_1257 am66511_1260 am66512_1263 am66513_1266 am66514_1269 am66515_1272 am66516_1275 => ct_eq x6 1 (mf_wL_lawOf_679 k_post x1 x2 x5 x6 0 r_1226 fm0_wayEnd_1227 am6651_1230 am6652_1233 am6653_1236 am6654_1239 am6655_1242 am6656_1245 am6657_1248 am6658_1251 am6659_1254 am66510_1257 am66511_1260 am66512_1263 am66513_1266 am66514_1269 am66515_1272 am66516_1275) (mf_wL_lawOf_679 k_post x1 x2 x5 x6 1 r_1226 fm0_wayEnd_1227 am6651_1230 am6652_1233 am6653_1236 am6654_1239 am6655_1242 am6656_1245 am6657_1248 am6658_1251 am6659_1254 am66510_1257 am66511_1260 am66512_1263 am66513_1266 am66514_1269 am66515_1272 am66516_1275)) fm0_wayEnd_1176 am6521_1179 am6522_1182 am6523_1185 am6524_1188 am6525_1191 am6526_1194 am6527_1197 am6528_1200 am6529_1203 am65210_1206 am65211_1209 am65212_1212 am65213_1215 am65214_1218 am65215_1221 am65216_1224 3 x5) (k_post 0)) fm0_wayEnd_1125 am6431_1128 am6432_1131 am6433_1134 am6434_1137 am6435_1140 am6436_1143 am6437_1146 am6438_1149 am6439_1152 am64310_1155 am64311_1158 am64312_1161 am64313_1164 am64314_1167 am64315_1170 am64316_1173 2) (k_post 0)) fm0_wayEnd am5581 am5582 am5583 am5584 am5585 am5586 am5587 am5588 am5589 am55810 am55811 am55812 am55813 am55814 am55815 am55816 0 x5) (k_post 0)) fm0_wayEnd am5581 am5582 am5583 am5584 am5585 am5586 am5587 am5588 am5589 am55810 am55811 am55812 am55813 am55814 am55815 am55816 2) (k_post 0)) fm0_wayEnd am5581 am5582 am5583 am5584 am5585 am5586 am5587 am5588 am5589 am55810 am55811 am55812 am55813 am55814 am55815 am55816 0) (k_post 0)
theorem mt_wL_lawOf_615 (E : Nat × Int32 × Int32) {post : Int32 → St0 → Prop} {k_post : Nat → Bool} {mc ms kc ks : Nat} {e_x1 : Int32} {x1 : Nat} (p_x1 : e_x1 = ct_dec E x1) {e_x2 : Int32} {x2 : Nat} (p_x2 : e_x2 = ct_dec E x2) {e_x5 : Int32} {x5 : Nat} (p_x5 : e_x5 = ct_dec E x5) {e_x6 : Int32} {x6 : Nat} (p_x6 : e_x6 = ct_dec E x6) {e_z0 : Int32} {z0 : Nat} (p_z0 : e_z0 = ct_dec E z0) {e_z1 : Int32} {z1 : Nat} (p_z1 : e_z1 = ct_dec E z1) {e_fm0_wayEnd : Int32} {fm0_wayEnd : Nat} (p_fm0_wayEnd : e_fm0_wayEnd = ct_dec E fm0_wayEnd) {am5581 : Nat} {am5582 : Nat} {am5583 : Nat} {am5584 : Nat} {am5585 : Nat} {am5586 : Nat} {am5587 : Nat} {am5588 : Nat} {am5589 : Nat} {am55810 : Nat} {am55811 : Nat} {am55812 : Nat} {am55813 : Nat} {am55814 : Nat} {am55815 : Nat} {am55816 : Nat} (h : mf_wL_lawOf_615 k_post x1 x2 x5 x6 z0 z1 fm0_wayEnd am5581 am5582 am5583 am5584 am5585 am5586 am5587 am5588 am5589 am55810 am55811 am55812 am55813 am55814 am55815 am55816 = true) (h_post : ∀ r0 : Nat, k_post r0 = true → post (ct_dec E r0) ()) :
    wL_lawOf_615 post mc ms e_x1 e_x2 e_x5 e_x6 e_z0 e_z1 kc ks e_fm0_wayEnd (ct_da E am5581) (ct_da E am5582) (ct_da E am5583) (ct_da E am5584) (ct_da E am5585) (ct_da E am5586) (ct_da E am5587) (ct_da E am5588) (ct_da E am5589) (ct_da E am55810) (ct_da E am55811) (ct_da E am55812) (ct_da E am55813) (ct_da E am55814) (ct_da E am55815) (ct_da E am55816) := by
  subst p_x1 p_x2 p_x5 p_x6 p_z0 p_z1 p_fm0_wayEnd
  unfold mf_wL_lawOf_615 at h
  unfold wL_lawOf_615
  refine ct_eqS (ct_v E z1) (ct_v E z0) h (fun h => ?_) (fun h => ?_)
  · refine mt_wpX_size E (ct_l0 E) h (fun r_1120 h => ?_)
    refine ct_eqS (ct_v E r_1120) (ct_m1 E) h (fun h => ?_) (fun h => ?_)
    · refine mt_wpX_seen E (ct_l2 E) h (fun r_1122 h => ?_)
      refine ct_eqS (ct_v E r_1122) (ct_m1 E) h (fun h => ?_) (fun h => ?_)
      · refine mt_wpX_has E (ct_l0 E) (ct_v E x5) h (fun r_1124 fm0_wayEnd_1125 am6431_1128 am6432_1131 am6433_1134 am6434_1137 am6435_1140 am6436_1143 am6437_1146 am6438_1149 am6439_1152 am64310_1155 am64311_1158 am64312_1161 am64313_1164 am64314_1167 am64315_1170 am64316_1173 h => ?_)
        refine ct_eqS (ct_v E r_1124) (ct_l0 E) h (fun h => ?_) (fun h => ?_)
        · refine mt_wpX_close E (ct_l2 E) h (fun r_1175 fm0_wayEnd_1176 am6521_1179 am6522_1182 am6523_1185 am6524_1188 am6525_1191 am6526_1194 am6527_1197 am6528_1200 am6529_1203 am65210_1206 am65211_1209 am65212_1212 am65213_1215 am65214_1218 am65215_1221 am65216_1224 h => ?_)
          refine ct_eqS (ct_v E r_1175) (ct_l0 E) h (fun h => ?_) (fun h => ?_)
          · refine mt_wpX_has E (ct_l3 E) (ct_v E x5) h (fun r_1226 fm0_wayEnd_1227 am6651_1230 am6652_1233 am6653_1236 am6654_1239 am6655_1242 am6656_1245 am6657_1248 am6658_1251 am6659_1254 am66510_1257 am66511_1260 am66512_1263 am66513_1266 am66514_1269 am66515_1272 am66516_1275 h => ?_)
            refine ct_eqS (ct_v E x6) (ct_l1 E) h (fun h => ?_) (fun h => ?_)
            · exact mt_wL_lawOf_679 E (ct_v E x1) (ct_v E x2) (ct_v E x5) (ct_v E x6) (ct_l0 E) (ct_v E r_1226) (ct_v E fm0_wayEnd_1227) h h_post
            · exact mt_wL_lawOf_679 E (ct_v E x1) (ct_v E x2) (ct_v E x5) (ct_v E x6) (ct_l1 E) (ct_v E r_1226) (ct_v E fm0_wayEnd_1227) h h_post
          · refine ct_sub (P := fun z => post z (())) (ct_l0 E) ?_
            exact h_post _ h
        · refine ct_sub (P := fun z => post z (())) (ct_l0 E) ?_
          exact h_post _ h
      · refine ct_sub (P := fun z => post z (())) (ct_l0 E) ?_
        exact h_post _ h
    · refine ct_sub (P := fun z => post z (())) (ct_l0 E) ?_
      exact h_post _ h
  · refine ct_sub (P := fun z => post z (())) (ct_l0 E) ?_
    exact h_post _ h

noncomputable def mf_wL_lawOf_591 (k_post : Nat → Bool) (x1 : Nat) (x2 : Nat) (x5 : Nat) (x6 : Nat) (z0 : Nat) (z1 : Nat) (fm0_wayEnd : Nat) (am5581 : Nat) (am5582 : Nat) (am5583 : Nat) (am5584 : Nat) (am5585 : Nat) (am5586 : Nat) (am5587 : Nat) (am5588 : Nat) (am5589 : Nat) (am55810 : Nat) (am55811 : Nat) (am55812 : Nat) (am55813 : Nat) (am55814 : Nat) (am55815 : Nat) (am55816 : Nat) : Bool :=
  ct_eq z1 z0 (mf_wpX_size (fun r_1117 => ct_eq x6 1 (mf_wL_lawOf_615 k_post x1 x2 x5 x6 17 r_1117 fm0_wayEnd am5581 am5582 am5583 am5584 am5585 am5586 am5587 am5588 am5589 am55810 am55811 am55812 am55813 am55814 am55815 am55816) (mf_wL_lawOf_615 k_post x1 x2 x5 x6 24 r_1117 fm0_wayEnd am5581 am5582 am5583 am5584 am5585 am5586 am5587 am5588 am5589 am55810 am55811 am55812 am55813 am55814 am55815 am55816)) fm0_wayEnd am5581 am5582 am5583 am5584 am5585 am5586 am5587 am5588 am5589 am55810 am55811 am55812 am55813 am55814 am55815 am55816 3) (k_post 0)
theorem mt_wL_lawOf_591 (E : Nat × Int32 × Int32) {post : Int32 → St0 → Prop} {k_post : Nat → Bool} {mc ms kc ks : Nat} {e_x1 : Int32} {x1 : Nat} (p_x1 : e_x1 = ct_dec E x1) {e_x2 : Int32} {x2 : Nat} (p_x2 : e_x2 = ct_dec E x2) {e_x5 : Int32} {x5 : Nat} (p_x5 : e_x5 = ct_dec E x5) {e_x6 : Int32} {x6 : Nat} (p_x6 : e_x6 = ct_dec E x6) {e_z0 : Int32} {z0 : Nat} (p_z0 : e_z0 = ct_dec E z0) {e_z1 : Int32} {z1 : Nat} (p_z1 : e_z1 = ct_dec E z1) {e_fm0_wayEnd : Int32} {fm0_wayEnd : Nat} (p_fm0_wayEnd : e_fm0_wayEnd = ct_dec E fm0_wayEnd) {am5581 : Nat} {am5582 : Nat} {am5583 : Nat} {am5584 : Nat} {am5585 : Nat} {am5586 : Nat} {am5587 : Nat} {am5588 : Nat} {am5589 : Nat} {am55810 : Nat} {am55811 : Nat} {am55812 : Nat} {am55813 : Nat} {am55814 : Nat} {am55815 : Nat} {am55816 : Nat} (h : mf_wL_lawOf_591 k_post x1 x2 x5 x6 z0 z1 fm0_wayEnd am5581 am5582 am5583 am5584 am5585 am5586 am5587 am5588 am5589 am55810 am55811 am55812 am55813 am55814 am55815 am55816 = true) (h_post : ∀ r0 : Nat, k_post r0 = true → post (ct_dec E r0) ()) :
    wL_lawOf_591 post mc ms e_x1 e_x2 e_x5 e_x6 e_z0 e_z1 kc ks e_fm0_wayEnd (ct_da E am5581) (ct_da E am5582) (ct_da E am5583) (ct_da E am5584) (ct_da E am5585) (ct_da E am5586) (ct_da E am5587) (ct_da E am5588) (ct_da E am5589) (ct_da E am55810) (ct_da E am55811) (ct_da E am55812) (ct_da E am55813) (ct_da E am55814) (ct_da E am55815) (ct_da E am55816) := by
  subst p_x1 p_x2 p_x5 p_x6 p_z0 p_z1 p_fm0_wayEnd
  unfold mf_wL_lawOf_591 at h
  unfold wL_lawOf_591
  refine ct_eqS (ct_v E z1) (ct_v E z0) h (fun h => ?_) (fun h => ?_)
  · refine mt_wpX_size E (ct_l3 E) h (fun r_1117 h => ?_)
    refine ct_eqS (ct_v E x6) (ct_l1 E) h (fun h => ?_) (fun h => ?_)
    · exact mt_wL_lawOf_615 E (ct_v E x1) (ct_v E x2) (ct_v E x5) (ct_v E x6) (ct_l17 E) (ct_v E r_1117) (ct_v E fm0_wayEnd) h h_post
    · exact mt_wL_lawOf_615 E (ct_v E x1) (ct_v E x2) (ct_v E x5) (ct_v E x6) (ct_l24 E) (ct_v E r_1117) (ct_v E fm0_wayEnd) h h_post
  · refine ct_sub (P := fun z => post z (())) (ct_l0 E) ?_
    exact h_post _ h

noncomputable def mf_wL_lawOf_572 (k_post : Nat → Bool) (x1 : Nat) (x2 : Nat) (x5 : Nat) (x6 : Nat) (z0 : Nat) (z1 : Nat) (fm0_wayEnd : Nat) (am5581 : Nat) (am5582 : Nat) (am5583 : Nat) (am5584 : Nat) (am5585 : Nat) (am5586 : Nat) (am5587 : Nat) (am5588 : Nat) (am5589 : Nat) (am55810 : Nat) (am55811 : Nat) (am55812 : Nat) (am55813 : Nat) (am55814 : Nat) (am55815 : Nat) (am55816 : Nat) : Bool :=
  ct_eq z1 z0 (mf_wpX_number (fun r_1114 => ct_eq x6 1 (mf_wL_lawOf_591 k_post x1 x2 x5 x6 3 r_1114 fm0_wayEnd am5581 am5582 am5583 am5584 am5585 am5586 am5587 am5588 am5589 am55810 am55811 am55812 am55813 am55814 am55815 am55816) (mf_wL_lawOf_591 k_post x1 x2 x5 x6 2 r_1114 fm0_wayEnd am5581 am5582 am5583 am5584 am5585 am5586 am5587 am5588 am5589 am55810 am55811 am55812 am55813 am55814 am55815 am55816)) fm0_wayEnd am5581 am5582 am5583 am5584 am5585 am5586 am5587 am5588 am5589 am55810 am55811 am55812 am55813 am55814 am55815 am55816) (k_post 0)
theorem mt_wL_lawOf_572 (E : Nat × Int32 × Int32) {post : Int32 → St0 → Prop} {k_post : Nat → Bool} {mc ms kc ks : Nat} {e_x1 : Int32} {x1 : Nat} (p_x1 : e_x1 = ct_dec E x1) {e_x2 : Int32} {x2 : Nat} (p_x2 : e_x2 = ct_dec E x2) {e_x5 : Int32} {x5 : Nat} (p_x5 : e_x5 = ct_dec E x5) {e_x6 : Int32} {x6 : Nat} (p_x6 : e_x6 = ct_dec E x6) {e_z0 : Int32} {z0 : Nat} (p_z0 : e_z0 = ct_dec E z0) {e_z1 : Int32} {z1 : Nat} (p_z1 : e_z1 = ct_dec E z1) {e_fm0_wayEnd : Int32} {fm0_wayEnd : Nat} (p_fm0_wayEnd : e_fm0_wayEnd = ct_dec E fm0_wayEnd) {am5581 : Nat} {am5582 : Nat} {am5583 : Nat} {am5584 : Nat} {am5585 : Nat} {am5586 : Nat} {am5587 : Nat} {am5588 : Nat} {am5589 : Nat} {am55810 : Nat} {am55811 : Nat} {am55812 : Nat} {am55813 : Nat} {am55814 : Nat} {am55815 : Nat} {am55816 : Nat} (h : mf_wL_lawOf_572 k_post x1 x2 x5 x6 z0 z1 fm0_wayEnd am5581 am5582 am5583 am5584 am5585 am5586 am5587 am5588 am5589 am55810 am55811 am55812 am55813 am55814 am55815 am55816 = true) (h_post : ∀ r0 : Nat, k_post r0 = true → post (ct_dec E r0) ()) :
    wL_lawOf_572 post mc ms e_x1 e_x2 e_x5 e_x6 e_z0 e_z1 kc ks e_fm0_wayEnd (ct_da E am5581) (ct_da E am5582) (ct_da E am5583) (ct_da E am5584) (ct_da E am5585) (ct_da E am5586) (ct_da E am5587) (ct_da E am5588) (ct_da E am5589) (ct_da E am55810) (ct_da E am55811) (ct_da E am55812) (ct_da E am55813) (ct_da E am55814) (ct_da E am55815) (ct_da E am55816) := by
  subst p_x1 p_x2 p_x5 p_x6 p_z0 p_z1 p_fm0_wayEnd
  unfold mf_wL_lawOf_572 at h
  unfold wL_lawOf_572
  refine ct_eqS (ct_v E z1) (ct_v E z0) h (fun h => ?_) (fun h => ?_)
  · refine mt_wpX_number E  h (fun r_1114 h => ?_)
    refine ct_eqS (ct_v E x6) (ct_l1 E) h (fun h => ?_) (fun h => ?_)
    · exact mt_wL_lawOf_591 E (ct_v E x1) (ct_v E x2) (ct_v E x5) (ct_v E x6) (ct_l3 E) (ct_v E r_1114) (ct_v E fm0_wayEnd) h h_post
    · exact mt_wL_lawOf_591 E (ct_v E x1) (ct_v E x2) (ct_v E x5) (ct_v E x6) (ct_l2 E) (ct_v E r_1114) (ct_v E fm0_wayEnd) h h_post
  · refine ct_sub (P := fun z => post z (())) (ct_l0 E) ?_
    exact h_post _ h

noncomputable def mb_wL_lawOf_464 (k_post : Nat → Bool) (x1 : Nat) (x2 : Nat) (x5 : Nat) (x6 : Nat) (ih : Nat → Nat → Nat → Nat → Nat → Nat → Nat → Nat → Nat → Nat → Nat → Nat → Nat → Nat → Nat → Nat → Nat → Nat → Nat → Bool) (x7 : Nat) (x8 : Nat) (fm0_wayEnd : Nat) (am4401 : Nat) (am4402 : Nat) (am4403 : Nat) (am4404 : Nat) (am4405 : Nat) (am4406 : Nat) (am4407 : Nat) (am4408 : Nat) (am4409 : Nat) (am44010 : Nat) (am44011 : Nat) (am44012 : Nat) (am44013 : Nat) (am44014 : Nat) (am44015 : Nat) (am44016 : Nat) : Bool :=
  ct_le 8 x8 (ct_eq x7 7 (mf_wpX_size (fun r_1054 => ct_eq r_1054 17 (mf_wpX_size (fun r_1056 => ct_eq r_1056 24 (mf_wpX_size (fun r_1058 => ct_eq r_1058 24 (ct_fc (ct_ad x5 5) fun y1 => mf_wpX_next (fun r_1060 => ct_eq r_1060 (ct_ad x5 6) (mf_wpX_crash (fun r_1062 fm0_wayEnd_1063 am5581_1066 am5582_1069 am5583_1072 am5584_1075 am5585_1078 am5586_1081 am5587_1084 am5588_1087 am5589_1090 am55810_1093 am55811_1096 am55812_1099 am55813_1102 am55814_1105 am55815_1108 am55816_1111 => ct_eq x6 1 (mf_wL_lawOf_572 k_post x1 x2 x5 x6 3 r_1062 fm0_wayEnd_1063 am5581_1066 am5582_1069 am5583_1072 am5584_1075 am5585_1078 am5586_1081 am5587_1084 am5588_1087 am5589_1090 am55810_1093 am55811_1096 am55812_1099 am55813_1102 am55814_1105 am55815_1108 am55816_1111) (mf_wL_lawOf_572 k_post x1 x2 x5 x6 2 r_1062 fm0_wayEnd_1063 am5581_1066 am5582_1069 am5583_1072 am5584_1075 am5585_1078 am5586_1081 am5587_1084 am5588_1087 am5589_1090 am55810_1093 am55811_1096 am55812_1099 am55813_1102 am55814_1105 am55815_1108 am55816_1111)) fm0_wayEnd am4401 am4402 am4403 am4404 am4405 am4406 am4407 am4408 am4409 am44010 am44011 am44012 am44013 am44014 am44015 am44016 x6) (k_post 0)) fm0_wayEnd am4401 am4402 am4403 am4404 am4405 am4406 am4407 am4408 am4409 am44010 am44011 am44012 am44013 am44014 am44015 am44016 2 y1) (k_post 0)) fm0_wayEnd am4401 am4402 am4403 am4404 am4405 am4406 am4407 am4408 am4409 am44010 am44011 am44012 am44013 am44014 am44015 am44016 2) (k_post 0)) fm0_wayEnd am4401 am4402 am4403 am4404 am4405 am4406 am4407 am4408 am4409 am44010 am44011 am44012 am44013 am44014 am44015 am44016 0) (k_post 0)) fm0_wayEnd am4401 am4402 am4403 am4404 am4405 am4406 am4407 am4408 am4409 am44010 am44011 am44012 am44013 am44014 am44015 am44016 3) (k_post 0)) (ct_fc (ct_ad x5 (ct_ml 3 x8)) fun y2 => mf_wpX_erase (fun r_1540 fm0_wayEnd_1541 am4821_1544 am4822_1547 am4823_1550 am4824_1553 am4825_1556 am4826_1559 am4827_1562 am4828_1565 am4829_1568 am48210_1571 am48211_1574 am48212_1577 am48213_1580 am48214_1583 am48215_1586 am48216_1589 => ct_fc (ct_ad x7 r_1540) fun x7_1590 => ct_fc (ct_ad x8 1) fun x8_1591 => ih x7_1590 x8_1591 fm0_wayEnd_1541 am4821_1544 am4822_1547 am4823_1550 am4824_1553 am4825_1556 am4826_1559 am4827_1562 am4828_1565 am4829_1568 am48210_1571 am48211_1574 am48212_1577 am48213_1580 am48214_1583 am48215_1586 am48216_1589) fm0_wayEnd am4401 am4402 am4403 am4404 am4405 am4406 am4407 am4408 am4409 am44010 am44011 am44012 am44013 am44014 am44015 am44016 y2)
noncomputable def mf_wL_lawOf_464 (k_post : Nat → Bool) (x1 : Nat) (x2 : Nat) (x5 : Nat) (x6 : Nat) (n : Nat) : Nat → Nat → Nat → Nat → Nat → Nat → Nat → Nat → Nat → Nat → Nat → Nat → Nat → Nat → Nat → Nat → Nat → Nat → Nat → Bool :=
  Nat.rec (motive := fun _ => Nat → Nat → Nat → Nat → Nat → Nat → Nat → Nat → Nat → Nat → Nat → Nat → Nat → Nat → Nat → Nat → Nat → Nat → Nat → Bool) (fun _ _ _ _ _ _ _ _ _ _ _ _ _ _ _ _ _ _ _ => false) (fun _ ih => mb_wL_lawOf_464 k_post x1 x2 x5 x6 ih) n
theorem mt_wL_lawOf_464 (E : Nat × Int32 × Int32) {post : Int32 → St0 → Prop} {k_post : Nat → Bool} {mc ms kc ks : Nat} {e_x1 : Int32} {x1 : Nat} (p_x1 : e_x1 = ct_dec E x1) {e_x2 : Int32} {x2 : Nat} (p_x2 : e_x2 = ct_dec E x2) {e_x5 : Int32} {x5 : Nat} (p_x5 : e_x5 = ct_dec E x5) {e_x6 : Int32} {x6 : Nat} (p_x6 : e_x6 = ct_dec E x6) {n : Nat} {e_x7 : Int32} {x7 : Nat} (p_x7 : e_x7 = ct_dec E x7) {e_x8 : Int32} {x8 : Nat} (p_x8 : e_x8 = ct_dec E x8) {e_fm0_wayEnd : Int32} {fm0_wayEnd : Nat} (p_fm0_wayEnd : e_fm0_wayEnd = ct_dec E fm0_wayEnd) {am4401 : Nat} {am4402 : Nat} {am4403 : Nat} {am4404 : Nat} {am4405 : Nat} {am4406 : Nat} {am4407 : Nat} {am4408 : Nat} {am4409 : Nat} {am44010 : Nat} {am44011 : Nat} {am44012 : Nat} {am44013 : Nat} {am44014 : Nat} {am44015 : Nat} {am44016 : Nat} (h : mf_wL_lawOf_464 k_post x1 x2 x5 x6 n x7 x8 fm0_wayEnd am4401 am4402 am4403 am4404 am4405 am4406 am4407 am4408 am4409 am44010 am44011 am44012 am44013 am44014 am44015 am44016 = true) (h_post : ∀ r0 : Nat, k_post r0 = true → post (ct_dec E r0) ()) :
    wL_lawOf_464 post mc ms e_x1 e_x2 e_x5 e_x6 kc ks n e_x7 e_x8 e_fm0_wayEnd (ct_da E am4401) (ct_da E am4402) (ct_da E am4403) (ct_da E am4404) (ct_da E am4405) (ct_da E am4406) (ct_da E am4407) (ct_da E am4408) (ct_da E am4409) (ct_da E am44010) (ct_da E am44011) (ct_da E am44012) (ct_da E am44013) (ct_da E am44014) (ct_da E am44015) (ct_da E am44016) := by
  subst p_x1 p_x2 p_x5 p_x6
  have key : ∀ (n : Nat) {e_x7 : Int32} {x7 : Nat} (p_x7 : e_x7 = ct_dec E x7) {e_x8 : Int32} {x8 : Nat} (p_x8 : e_x8 = ct_dec E x8) {e_fm0_wayEnd : Int32} {fm0_wayEnd : Nat} (p_fm0_wayEnd : e_fm0_wayEnd = ct_dec E fm0_wayEnd) {am4401 : Nat} {am4402 : Nat} {am4403 : Nat} {am4404 : Nat} {am4405 : Nat} {am4406 : Nat} {am4407 : Nat} {am4408 : Nat} {am4409 : Nat} {am44010 : Nat} {am44011 : Nat} {am44012 : Nat} {am44013 : Nat} {am44014 : Nat} {am44015 : Nat} {am44016 : Nat}, mf_wL_lawOf_464 k_post x1 x2 x5 x6 n x7 x8 fm0_wayEnd am4401 am4402 am4403 am4404 am4405 am4406 am4407 am4408 am4409 am44010 am44011 am44012 am44013 am44014 am44015 am44016 = true → wL_lawOf_464 post mc ms (ct_dec E x1) (ct_dec E x2) (ct_dec E x5) (ct_dec E x6) kc ks n e_x7 e_x8 e_fm0_wayEnd (ct_da E am4401) (ct_da E am4402) (ct_da E am4403) (ct_da E am4404) (ct_da E am4405) (ct_da E am4406) (ct_da E am4407) (ct_da E am4408) (ct_da E am4409) (ct_da E am44010) (ct_da E am44011) (ct_da E am44012) (ct_da E am44013) (ct_da E am44014) (ct_da E am44015) (ct_da E am44016) := by
    intro n
    induction n with
    | zero =>
      intro e_x7 x7 p_x7 e_x8 x8 p_x8 e_fm0_wayEnd fm0_wayEnd p_fm0_wayEnd am4401 am4402 am4403 am4404 am4405 am4406 am4407 am4408 am4409 am44010 am44011 am44012 am44013 am44014 am44015 am44016 h
      exact Bool.noConfusion (show false = true from h)
    | succ n ih =>
      intro e_x7 x7 p_x7 e_x8 x8 p_x8 e_fm0_wayEnd fm0_wayEnd p_fm0_wayEnd am4401 am4402 am4403 am4404 am4405 am4406 am4407 am4408 am4409 am44010 am44011 am44012 am44013 am44014 am44015 am44016 h
      subst p_x7 p_x8 p_fm0_wayEnd
      replace h : mb_wL_lawOf_464 k_post x1 x2 x5 x6 (mf_wL_lawOf_464 k_post x1 x2 x5 x6 n) x7 x8 fm0_wayEnd am4401 am4402 am4403 am4404 am4405 am4406 am4407 am4408 am4409 am44010 am44011 am44012 am44013 am44014 am44015 am44016 = true := h
      unfold mb_wL_lawOf_464 at h
      unfold wL_lawOf_464
      refine ct_leS (ct_l8 E) (ct_v E x8) h (fun h => ?_) (fun h => ?_)
      · refine ct_eqS (ct_v E x7) (ct_l7 E) h (fun h => ?_) (fun h => ?_)
        · refine mt_wpX_size E (ct_l3 E) h (fun r_1054 h => ?_)
          refine ct_eqS (ct_v E r_1054) (ct_l17 E) h (fun h => ?_) (fun h => ?_)
          · refine mt_wpX_size E (ct_l0 E) h (fun r_1056 h => ?_)
            refine ct_eqS (ct_v E r_1056) (ct_l24 E) h (fun h => ?_) (fun h => ?_)
            · refine mt_wpX_size E (ct_l2 E) h (fun r_1058 h => ?_)
              refine ct_eqS (ct_v E r_1058) (ct_l24 E) h (fun h => ?_) (fun h => ?_)
              · replace h := ct_fcE h
                refine mt_wpX_next E (ct_l2 E) (ct_add (ct_v E x5) (ct_l5 E)) h (fun r_1060 h => ?_)
                refine ct_eqS (ct_v E r_1060) (ct_add (ct_v E x5) (ct_l6 E)) h (fun h => ?_) (fun h => ?_)
                · refine mt_wpX_crash E (ct_v E x6) h (fun r_1062 fm0_wayEnd_1063 am5581_1066 am5582_1069 am5583_1072 am5584_1075 am5585_1078 am5586_1081 am5587_1084 am5588_1087 am5589_1090 am55810_1093 am55811_1096 am55812_1099 am55813_1102 am55814_1105 am55815_1108 am55816_1111 h => ?_)
                  refine ct_eqS (ct_v E x6) (ct_l1 E) h (fun h => ?_) (fun h => ?_)
                  · exact mt_wL_lawOf_572 E (ct_v E x1) (ct_v E x2) (ct_v E x5) (ct_v E x6) (ct_l3 E) (ct_v E r_1062) (ct_v E fm0_wayEnd_1063) h h_post
                  · exact mt_wL_lawOf_572 E (ct_v E x1) (ct_v E x2) (ct_v E x5) (ct_v E x6) (ct_l2 E) (ct_v E r_1062) (ct_v E fm0_wayEnd_1063) h h_post
                · refine ct_sub (P := fun z => post z (())) (ct_l0 E) ?_
                  exact h_post _ h
              · refine ct_sub (P := fun z => post z (())) (ct_l0 E) ?_
                exact h_post _ h
            · refine ct_sub (P := fun z => post z (())) (ct_l0 E) ?_
              exact h_post _ h
          · refine ct_sub (P := fun z => post z (())) (ct_l0 E) ?_
            exact h_post _ h
        · refine ct_sub (P := fun z => post z (())) (ct_l0 E) ?_
          exact h_post _ h
      · replace h := ct_fcE h
        refine mt_wpX_erase E (ct_add (ct_v E x5) (ct_mul (x := 3) (k := 3) rfl (ct_v E x8))) h (fun r_1540 fm0_wayEnd_1541 am4821_1544 am4822_1547 am4823_1550 am4824_1553 am4825_1556 am4826_1559 am4827_1562 am4828_1565 am4829_1568 am48210_1571 am48211_1574 am48212_1577 am48213_1580 am48214_1583 am48215_1586 am48216_1589 h => ?_)
        refine ct_let (ct_add (ct_v E x7) (ct_v E r_1540)) h (fun x7_1590 h => ?_)
        refine ct_let (ct_add (ct_v E x8) (ct_l1 E)) h (fun x8_1591 h => ?_)
        exact ih (ct_v E x7_1590) (ct_v E x8_1591) (ct_v E fm0_wayEnd_1541) h
  exact key n p_x7 p_x8 p_fm0_wayEnd h

noncomputable def mb_wL_lawOf_32 (k_post : Nat → Bool) (k_J22 : Nat → Nat → Nat → Nat → Nat → Nat → Nat → Nat → Nat → Nat → Nat → Nat → Nat → Nat → Nat → Nat → Nat → Nat → Bool) (x1 : Nat) (x2 : Nat) (x3 : Nat) (x5 : Nat) (x6 : Nat) (ih : Nat → Nat → Nat → Nat → Nat → Nat → Nat → Nat → Nat → Nat → Nat → Nat → Nat → Nat → Nat → Nat → Nat → Nat → Bool) (x7 : Nat) (fm0_wayEnd : Nat) (am41 : Nat) (am42 : Nat) (am43 : Nat) (am44 : Nat) (am45 : Nat) (am46 : Nat) (am47 : Nat) (am48 : Nat) (am49 : Nat) (am410 : Nat) (am411 : Nat) (am412 : Nat) (am413 : Nat) (am414 : Nat) (am415 : Nat) (am416 : Nat) : Bool :=
  ct_le 3 x7 (ct_fc (ct_ad x6 1) fun x6_1593 => k_J22 x6_1593 fm0_wayEnd am41 am42 am43 am44 am45 am46 am47 am48 am49 am410 am411 am412 am413 am414 am415 am416) (ct_rm (ct_ad (ct_ml 5 x6) (ct_ml 8 x7)) 24 fun b1 => ct_fc (ct_ad x5 b1) fun x8_1595 => ct_fc (ct_ad x1 x8_1595) fun y2 => mf_wpX_put (fun r_1596 fm0_wayEnd_1597 am641_1600 am642_1603 am643_1606 am644_1609 am645_1612 am646_1615 am647_1618 am648_1621 am649_1624 am6410_1627 am6411_1630 am6412_1633 am6413_1636 am6414_1639 am6415_1642 am6416_1645 => ct_eq r_1596 1 (ct_fc (ct_ad x7 1) fun x7_1647 => ih x7_1647 fm0_wayEnd_1597 am641_1600 am642_1603 am643_1606 am644_1609 am645_1612 am646_1615 am647_1618 am648_1621 am649_1624 am6410_1627 am6411_1630 am6412_1633 am6413_1636 am6414_1639 am6415_1642 am6416_1645) (k_post 0)) fm0_wayEnd am41 am42 am43 am44 am45 am46 am47 am48 am49 am410 am411 am412 am413 am414 am415 am416 x8_1595 y2)
noncomputable def mf_wL_lawOf_32 (k_post : Nat → Bool) (k_J22 : Nat → Nat → Nat → Nat → Nat → Nat → Nat → Nat → Nat → Nat → Nat → Nat → Nat → Nat → Nat → Nat → Nat → Nat → Bool) (x1 : Nat) (x2 : Nat) (x3 : Nat) (x5 : Nat) (x6 : Nat) (n : Nat) : Nat → Nat → Nat → Nat → Nat → Nat → Nat → Nat → Nat → Nat → Nat → Nat → Nat → Nat → Nat → Nat → Nat → Nat → Bool :=
  Nat.rec (motive := fun _ => Nat → Nat → Nat → Nat → Nat → Nat → Nat → Nat → Nat → Nat → Nat → Nat → Nat → Nat → Nat → Nat → Nat → Nat → Bool) (fun _ _ _ _ _ _ _ _ _ _ _ _ _ _ _ _ _ _ => false) (fun _ ih => mb_wL_lawOf_32 k_post k_J22 x1 x2 x3 x5 x6 ih) n
theorem mt_wL_lawOf_32 (E : Nat × Int32 × Int32) {post : Int32 → St0 → Prop} {k_post : Nat → Bool} {J22 : Int32 → Int32 → (Nat → Int32) → (Nat → Int32) → (Nat → Int32) → (Nat → Int32) → (Nat → Int32) → (Nat → Int32) → (Nat → Int32) → (Nat → Int32) → (Nat → Int32) → (Nat → Int32) → (Nat → Int32) → (Nat → Int32) → (Nat → Int32) → (Nat → Int32) → (Nat → Int32) → (Nat → Int32) → Prop} {k_J22 : Nat → Nat → Nat → Nat → Nat → Nat → Nat → Nat → Nat → Nat → Nat → Nat → Nat → Nat → Nat → Nat → Nat → Nat → Bool} {mc ms kc ks : Nat} {e_x1 : Int32} {x1 : Nat} (p_x1 : e_x1 = ct_dec E x1) {e_x2 : Int32} {x2 : Nat} (p_x2 : e_x2 = ct_dec E x2) {e_x3 : Int32} {x3 : Nat} (p_x3 : (e_x3 &&& 1023) - (e_x3 &&& 1023) / 3 * 3 = ct_dec E x3) {e_x5 : Int32} {x5 : Nat} (p_x5 : e_x5 = ct_dec E x5) {e_x6 : Int32} {x6 : Nat} (p_x6 : e_x6 = ct_dec E x6) {n : Nat} {e_x7 : Int32} {x7 : Nat} (p_x7 : e_x7 = ct_dec E x7) {e_fm0_wayEnd : Int32} {fm0_wayEnd : Nat} (p_fm0_wayEnd : e_fm0_wayEnd = ct_dec E fm0_wayEnd) {am41 : Nat} {am42 : Nat} {am43 : Nat} {am44 : Nat} {am45 : Nat} {am46 : Nat} {am47 : Nat} {am48 : Nat} {am49 : Nat} {am410 : Nat} {am411 : Nat} {am412 : Nat} {am413 : Nat} {am414 : Nat} {am415 : Nat} {am416 : Nat} (h : mf_wL_lawOf_32 k_post k_J22 x1 x2 x3 x5 x6 n x7 fm0_wayEnd am41 am42 am43 am44 am45 am46 am47 am48 am49 am410 am411 am412 am413 am414 am415 am416 = true) (h_post : ∀ r0 : Nat, k_post r0 = true → post (ct_dec E r0) ()) (h_J22 : ∀ r0 r1 r2 r3 r4 r5 r6 r7 r8 r9 r10 r11 r12 r13 r14 r15 r16 r17 : Nat, k_J22 r0 r1 r2 r3 r4 r5 r6 r7 r8 r9 r10 r11 r12 r13 r14 r15 r16 r17 = true → J22 (ct_dec E r0) (ct_dec E r1) (ct_da E r2) (ct_da E r3) (ct_da E r4) (ct_da E r5) (ct_da E r6) (ct_da E r7) (ct_da E r8) (ct_da E r9) (ct_da E r10) (ct_da E r11) (ct_da E r12) (ct_da E r13) (ct_da E r14) (ct_da E r15) (ct_da E r16) (ct_da E r17)) :
    wL_lawOf_32 post mc ms J22 e_x1 e_x2 e_x3 e_x5 e_x6 kc ks n e_x7 e_fm0_wayEnd (ct_da E am41) (ct_da E am42) (ct_da E am43) (ct_da E am44) (ct_da E am45) (ct_da E am46) (ct_da E am47) (ct_da E am48) (ct_da E am49) (ct_da E am410) (ct_da E am411) (ct_da E am412) (ct_da E am413) (ct_da E am414) (ct_da E am415) (ct_da E am416) := by
  subst p_x1 p_x2 p_x5 p_x6
  have key : ∀ (n : Nat) {e_x7 : Int32} {x7 : Nat} (p_x7 : e_x7 = ct_dec E x7) {e_fm0_wayEnd : Int32} {fm0_wayEnd : Nat} (p_fm0_wayEnd : e_fm0_wayEnd = ct_dec E fm0_wayEnd) {am41 : Nat} {am42 : Nat} {am43 : Nat} {am44 : Nat} {am45 : Nat} {am46 : Nat} {am47 : Nat} {am48 : Nat} {am49 : Nat} {am410 : Nat} {am411 : Nat} {am412 : Nat} {am413 : Nat} {am414 : Nat} {am415 : Nat} {am416 : Nat}, mf_wL_lawOf_32 k_post k_J22 x1 x2 x3 x5 x6 n x7 fm0_wayEnd am41 am42 am43 am44 am45 am46 am47 am48 am49 am410 am411 am412 am413 am414 am415 am416 = true → wL_lawOf_32 post mc ms J22 (ct_dec E x1) (ct_dec E x2) e_x3 (ct_dec E x5) (ct_dec E x6) kc ks n e_x7 e_fm0_wayEnd (ct_da E am41) (ct_da E am42) (ct_da E am43) (ct_da E am44) (ct_da E am45) (ct_da E am46) (ct_da E am47) (ct_da E am48) (ct_da E am49) (ct_da E am410) (ct_da E am411) (ct_da E am412) (ct_da E am413) (ct_da E am414) (ct_da E am415) (ct_da E am416) := by
    intro n
    induction n with
    | zero =>
      intro e_x7 x7 p_x7 e_fm0_wayEnd fm0_wayEnd p_fm0_wayEnd am41 am42 am43 am44 am45 am46 am47 am48 am49 am410 am411 am412 am413 am414 am415 am416 h
      exact Bool.noConfusion (show false = true from h)
    | succ n ih =>
      intro e_x7 x7 p_x7 e_fm0_wayEnd fm0_wayEnd p_fm0_wayEnd am41 am42 am43 am44 am45 am46 am47 am48 am49 am410 am411 am412 am413 am414 am415 am416 h
      subst p_x7 p_fm0_wayEnd
      replace h : mb_wL_lawOf_32 k_post k_J22 x1 x2 x3 x5 x6 (mf_wL_lawOf_32 k_post k_J22 x1 x2 x3 x5 x6 n) x7 fm0_wayEnd am41 am42 am43 am44 am45 am46 am47 am48 am49 am410 am411 am412 am413 am414 am415 am416 = true := h
      unfold mb_wL_lawOf_32 at h
      unfold wL_lawOf_32
      refine ct_leS (ct_l3 E) (ct_v E x7) h (fun h => ?_) (fun h => ?_)
      · refine ct_let (ct_add (ct_v E x6) (ct_l1 E)) h (fun x6_1593 h => ?_)
        exact h_J22 _ _ _ _ _ _ _ _ _ _ _ _ _ _ _ _ _ _ h
      · refine ⟨by decide, ?_⟩
        refine ct_rmS (z := 24) (d := 24) rfl (by decide) (by decide) (ct_add (ct_mul (x := 5) (k := 5) rfl (ct_v E x6)) (ct_mul (x := 8) (k := 8) rfl (ct_v E x7))) h (fun b1 hb1 h => ?_)
        refine ct_let (ct_add (ct_v E x5) hb1) h (fun x8_1595 h => ?_)
        replace h := ct_fcE h
        refine mt_wpX_put E (ct_v E x8_1595) (ct_add (ct_v E x1) (ct_v E x8_1595)) h (fun r_1596 fm0_wayEnd_1597 am641_1600 am642_1603 am643_1606 am644_1609 am645_1612 am646_1615 am647_1618 am648_1621 am649_1624 am6410_1627 am6411_1630 am6412_1633 am6413_1636 am6414_1639 am6415_1642 am6416_1645 h => ?_)
        refine ct_eqS (ct_v E r_1596) (ct_l1 E) h (fun h => ?_) (fun h => ?_)
        · refine ct_let (ct_add (ct_v E x7) (ct_l1 E)) h (fun x7_1647 h => ?_)
          exact ih (ct_v E x7_1647) (ct_v E fm0_wayEnd_1597) h
        · refine ct_sub (P := fun z => post z (())) (ct_l0 E) ?_
          exact h_post _ h
  exact key n p_x7 p_fm0_wayEnd h

noncomputable def mb_wL_lawOf_22 (k_post : Nat → Bool) (x1 : Nat) (x2 : Nat) (x3 : Nat) (x5 : Nat) (ih : Nat → Nat → Nat → Nat → Nat → Nat → Nat → Nat → Nat → Nat → Nat → Nat → Nat → Nat → Nat → Nat → Nat → Nat → Bool) (x6 : Nat) (fm0_wayEnd : Nat) (am41 : Nat) (am42 : Nat) (am43 : Nat) (am44 : Nat) (am45 : Nat) (am46 : Nat) (am47 : Nat) (am48 : Nat) (am49 : Nat) (am410 : Nat) (am411 : Nat) (am412 : Nat) (am413 : Nat) (am414 : Nat) (am415 : Nat) (am416 : Nat) : Bool :=
  ct_le 8 x6 (mf_wpX_size (fun r_61 => ct_eq r_61 24 (ct_fc (ct_ad x5 24) fun y13 => mf_wpX_put (fun r_63 fm0_wayEnd_64 am1041_67 am1042_70 am1043_73 am1044_76 am1045_79 am1046_82 am1047_85 am1048_88 am1049_91 am10410_94 am10411_97 am10412_100 am10413_103 am10414_106 am10415_109 am10416_112 => ct_eq r_63 4294967294 (ct_fc (ct_ad x5 3) fun y12 => mf_wpX_put (fun r_114 fm0_wayEnd_115 am1191_118 am1192_121 am1193_124 am1194_127 am1195_130 am1196_133 am1197_136 am1198_139 am1199_142 am11910_145 am11911_148 am11912_151 am11913_154 am11914_157 am11915_160 am11916_163 => ct_eq r_114 0 (mf_wpX_put (fun r_165 fm0_wayEnd_166 am1291_169 am1292_172 am1293_175 am1294_178 am1295_181 am1296_184 am1297_187 am1298_190 am1299_193 am12910_196 am12911_199 am12912_202 am12913_205 am12914_208 am12915_211 am12916_214 => ct_eq r_165 4294967295 (mf_wpX_put (fun r_216 fm0_wayEnd_217 am1411_220 am1412_223 am1413_226 am1414_229 am1415_232 am1416_235 am1417_238 am1418_241 am1419_244 am14110_247 am14111_250 am14112_253 am14113_256 am14114_259 am14115_262 am14116_265 => ct_eq r_216 4294967295 (ct_fc (ct_sb x5 1) fun y11 => mf_wpX_next (fun r_267 => ct_eq r_267 x5 (ct_fc (ct_ad x5 23) fun y10 => mf_wpX_next (fun r_269 => ct_eq r_269 4294967293 (mf_wpX_next (fun r_271 => ct_eq r_271 x5 (mf_wpX_commit (fun r_273 fm0_wayEnd_274 am1981_277 am1982_280 am1983_283 am1984_286 am1985_289 am1986_292 am1987_295 am1988_298 am1989_301 am19810_304 am19811_307 am19812_310 am19813_313 am19814_316 am19815_319 am19816_322 => ct_eq r_273 1 (mf_wpX_open (fun r_324 fm0_wayEnd_325 am2081_328 am2082_331 am2083_334 am2084_337 am2085_340 am2086_343 am2087_346 am2088_349 am2089_352 am20810_355 am20811_358 am20812_361 am20813_364 am20814_367 am20815_370 am20816_373 => ct_eq r_324 1 (ct_fc (ct_ad x5 3) fun y9 => mf_wpX_erase (fun r_375 fm0_wayEnd_376 am2211_379 am2212_382 am2213_385 am2214_388 am2215_391 am2216_394 am2217_397 am2218_400 am2219_403 am22110_406 am22111_409 am22112_412 am22113_415 am22114_418 am22115_421 am22116_424 => ct_eq r_375 1 (ct_fc (ct_ad x5 3) fun y8 => mf_wpX_erase (fun r_426 fm0_wayEnd_427 am2341_430 am2342_433 am2343_436 am2344_439 am2345_442 am2346_445 am2347_448 am2348_451 am2349_454 am23410_457 am23411_460 am23412_463 am23413_466 am23414_469 am23415_472 am23416_475 => ct_eq r_426 0 (ct_fc (ct_ad x5 24) fun y7 => mf_wpX_put (fun r_477 fm0_wayEnd_478 am2481_481 am2482_484 am2483_487 am2484_490 am2485_493 am2486_496 am2487_499 am2488_502 am2489_505 am24810_508 am24811_511 am24812_514 am24813_517 am24814_520 am24815_523 am24816_526 => ct_eq r_477 1 (ct_fc (ct_ad x5 3) fun y6 => mf_wpX_get (fun r_528 fm0_wayEnd_529 am2641_532 am2642_535 am2643_538 am2644_541 am2645_544 am2646_547 am2647_550 am2648_553 am2649_556 am26410_559 am26411_562 am26412_565 am26413_568 am26414_571 am26415_574 am26416_577 => ct_eq r_528 x2 (ct_fc (ct_ad x5 3) fun y5 => mf_wpX_has (fun r_579 fm0_wayEnd_580 am2781_583 am2782_586 am2783_589 am2784_592 am2785_595 am2786_598 am2787_601 am2788_604 am2789_607 am27810_610 am27811_613 am27812_616 am27813_619 am27814_622 am27815_625 am27816_628 => ct_eq r_579 0 (ct_fc (ct_ad x5 24) fun y4 => mf_wpX_has (fun r_630 fm0_wayEnd_631 am2921_634 am2922_637 am2923_640 am2924_643 am2925_646 am2926_649 am2927_652 am2928_655 am2929_658 am29210_661 am29211_664 am29212_667 am29213_670 am29214_673 am29215_676 am29216_679 => ct_eq r_630 0 (mf_wpX_size (fun r_681 => ct_eq r_681 24 (ct_fc (ct_ad x5 2) fun y3 => mf_wpX_next (fun r_683 => ct_eq r_683 (ct_ad x5 4) (ct_fc x3 fun x6_686 => mf_wpX_open (fun r_687 fm0_wayEnd_688 am3401_691 am3402_694 am3403_697 am3404_700 am3405_703 am3406_706 am3407_709 am3408_712 am3409_715 am34010_718 am34011_721 am34012_724 am34013_727 am34014_730 am34015_733 am34016_736 => ct_eq r_687 1 (mf_wpX_commit (fun r_738 fm0_wayEnd_739 am3491_742 am3492_745 am3493_748 am3494_751 am3495_754 am3496_757 am3497_760 am3498_763 am3499_766 am34910_769 am34911_772 am34912_775 am34913_778 am34914_781 am34915_784 am34916_787 => ct_eq r_738 2 (mf_wpX_open (fun r_789 fm0_wayEnd_790 am3591_793 am3592_796 am3593_799 am3594_802 am3595_805 am3596_808 am3597_811 am3598_814 am3599_817 am35910_820 am35911_823 am35912_826 am35913_829 am35914_832 am35915_835 am35916_838 => ct_eq r_789 2 (mf_wpX_seen (fun r_840 => ct_eq r_840 1 (mf_wpX_seen (fun r_842 => ct_eq r_842 1 (mf_wpX_seen (fun r_844 => ct_eq r_844 2 (ct_fc (ct_ad x5 3) fun y2 => mf_wpX_get (fun r_846 fm0_wayEnd_847 am4051_850 am4052_853 am4053_856 am4054_859 am4055_862 am4056_865 am4057_868 am4058_871 am4059_874 am40510_877 am40511_880 am40512_883 am40513_886 am40514_889 am40515_892 am40516_895 => ct_eq r_846 x2 (ct_fc (ct_ad x5 24) fun y1 => mf_wpX_get (fun r_897 fm0_wayEnd_898 am4201_901 am4202_904 am4203_907 am4204_910 am4205_913 am4206_916 am4207_919 am4208_922 am4209_925 am42010_928 am42011_931 am42012_934 am42013_937 am42014_940 am42015_943 am42016_946 => ct_eq r_897 x2 (mf_wpX_close (fun r_948 fm0_wayEnd_949 am4301_952 am4302_955 am4303_958 am4304_961 am4305_964 am4306_967 am4307_970 am4308_973 am4309_976 am43010_979 am43011_982 am43012_985 am43013_988 am43014_991 am43015_994 am43016_997 => ct_eq r_948 1 (mf_wpX_close (fun r_999 fm0_wayEnd_1000 am4401_1003 am4402_1006 am4403_1009 am4404_1012 am4405_1015 am4406_1018 am4407_1021 am4408_1024 am4409_1027 am44010_1030 am44011_1033 am44012_1036 am44013_1039 am44014_1042 am44015_1045 am44016_1048 => ct_eq r_999 0 (mf_wpX_seen (fun r_1050 => ct_eq r_1050 4294967295 (mf_wL_lawOf_464 k_post x1 x2 x5 x6_686 128 0 0 fm0_wayEnd_1000 am4401_1003 am4402_1006 am4403_1009 am4404_1012 am4405_1015 am4406_1018 am4407_1021 am4408_1024 am4409_1027 am44010_1030 am44011_1033 am44012_1036 am44013_1039 am44014_1042 am44015_1045 am44016_1048) (k_post 0)) fm0_wayEnd_1000 am4401_1003 am4402_1006 am4403_1009 am4404_1012 am4405_1015 am4406_1018 am4407_1021 am4408_1024 am4409_1027 am44010_1030 am44011_1033 am44012_1036 am44013_1039 am44014_1042 am44015_1045 am44016_1048 1) (k_post 0)) fm0_wayEnd_949 am4301_952 am4302_955 am4303_958 am4304_961 am4305_964 am4306_967 am4307_970 am4308_973 am4309_976 am43010_979 am43011_982 am43012_985 am43013_988 am43014_991 am43015_994 am43016_997 1) (k_post 0)) fm0_wayEnd_898 am4201_901 am4202_904 am4203_907 am4204_910 am4205_913 am4206_916 am4207_919 am4208_922 am4209_925 am42010_928 am42011_931 am42012_934 am42013_937 am42014_940 am42015_943 am42016_946 1) (k_post 0)) fm0_wayEnd_847 am4051_850 am4052_853 am4053_856 am4054_859 am4055_862 am4056_865 am4057_868 am4058_871 am4059_874 am40510_877 am40511_880 am40512_883 am40513_886 am40514_889 am40515_892 am40516_895 2 y1) (k_post 0)) fm0_wayEnd_790 am3591_793 am3592_796 am3593_799 am3594_802 am3595_805 am3596_808 am3597_811 am3598_814 am3599_817 am35910_820 am35911_823 am35912_826 am35913_829 am35914_832 am35915_835 am35916_838 1 y2) (k_post 0)) fm0_wayEnd_790 am3591_793 am3592_796 am3593_799 am3594_802 am3595_805 am3596_808 am3597_811 am3598_814 am3599_817 am35910_820 am35911_823 am35912_826 am35913_829 am35914_832 am35915_835 am35916_838 2) (k_post 0)) fm0_wayEnd_790 am3591_793 am3592_796 am3593_799 am3594_802 am3595_805 am3596_808 am3597_811 am3598_814 am3599_817 am35910_820 am35911_823 am35912_826 am35913_829 am35914_832 am35915_835 am35916_838 1) (k_post 0)) fm0_wayEnd_790 am3591_793 am3592_796 am3593_799 am3594_802 am3595_805 am3596_808 am3597_811 am3598_814 am3599_817 am35910_820 am35911_823 am35912_826 am35913_829 am35914_832 am35915_835 am35916_838 0) (k_post 0)) fm0_wayEnd_739 am3491_742 am3492_745 am3493_748 am3494_751 am3495_754 am3496_757 am3497_760 am3498_763 am3499_766 am34910_769 am34911_772 am34912_775 am34913_778 am34914_781 am34915_784 am34916_787 2) (k_post 0)) fm0_wayEnd_688 am3401_691 am3402_694 am3403_697 am3404_700 am3405_703 am3406_706 am3407_709 am3408_712 am3409_715 am34010_718 am34011_721 am34012_724 am34013_727 am34014_730 am34015_733 am34016_736) (k_post 0)) fm0_wayEnd_631 am2921_634 am2922_637 am2923_640 am2924_643 am2925_646 am2926_649 am2927_652 am2928_655 am2929_658 am29210_661 am29211_664 am29212_667 am29213_670 am29214_673 am29215_676 am29216_679 1) (k_post 0)) fm0_wayEnd_631 am2921_634 am2922_637 am2923_640 am2924_643 am2925_646 am2926_649 am2927_652 am2928_655 am2929_658 am29210_661 am29211_664 am29212_667 am29213_670 am29214_673 am29215_676 am29216_679 3 y3) (k_post 0)) fm0_wayEnd_631 am2921_634 am2922_637 am2923_640 am2924_643 am2925_646 am2926_649 am2927_652 am2928_655 am2929_658 am29210_661 am29211_664 am29212_667 am29213_670 am29214_673 am29215_676 am29216_679 0) (k_post 0)) fm0_wayEnd_580 am2781_583 am2782_586 am2783_589 am2784_592 am2785_595 am2786_598 am2787_601 am2788_604 am2789_607 am27810_610 am27811_613 am27812_616 am27813_619 am27814_622 am27815_625 am27816_628 0 y4) (k_post 0)) fm0_wayEnd_529 am2641_532 am2642_535 am2643_538 am2644_541 am2645_544 am2646_547 am2647_550 am2648_553 am2649_556 am26410_559 am26411_562 am26412_565 am26413_568 am26414_571 am26415_574 am26416_577 3 y5) (k_post 0)) fm0_wayEnd_478 am2481_481 am2482_484 am2483_487 am2484_490 am2485_493 am2486_496 am2487_499 am2488_502 am2489_505 am24810_508 am24811_511 am24812_514 am24813_517 am24814_520 am24815_523 am24816_526 0 y6) (k_post 0)) fm0_wayEnd_427 am2341_430 am2342_433 am2343_436 am2344_439 am2345_442 am2346_445 am2347_448 am2348_451 am2349_454 am23410_457 am23411_460 am23412_463 am23413_466 am23414_469 am23415_472 am23416_475 y7 x2) (k_post 0)) fm0_wayEnd_376 am2211_379 am2212_382 am2213_385 am2214_388 am2215_391 am2216_394 am2217_397 am2218_400 am2219_403 am22110_406 am22111_409 am22112_412 am22113_415 am22114_418 am22115_421 am22116_424 y8) (k_post 0)) fm0_wayEnd_325 am2081_328 am2082_331 am2083_334 am2084_337 am2085_340 am2086_343 am2087_346 am2088_349 am2089_352 am20810_355 am20811_358 am20812_361 am20813_364 am20814_367 am20815_370 am20816_373 y9) (k_post 0)) fm0_wayEnd_274 am1981_277 am1982_280 am1983_283 am1984_286 am1985_289 am1986_292 am1987_295 am1988_298 am1989_301 am19810_304 am19811_307 am19812_310 am19813_313 am19814_316 am19815_319 am19816_322 0) (k_post 0)) fm0_wayEnd_217 am1411_220 am1412_223 am1413_226 am1414_229 am1415_232 am1416_235 am1417_238 am1418_241 am1419_244 am14110_247 am14111_250 am14112_253 am14113_256 am14114_259 am14115_262 am14116_265) (k_post 0)) fm0_wayEnd_217 am1411_220 am1412_223 am1413_226 am1414_229 am1415_232 am1416_235 am1417_238 am1418_241 am1419_244 am14110_247 am14111_250 am14112_253 am14113_256 am14114_259 am14115_262 am14116_265 3 2147483648) (k_post 0)) fm0_wayEnd_217 am1411_220 am1412_223 am1413_226 am1414_229 am1415_232 am1416_235 am1417_238 am1418_241 am1419_244 am14110_247 am14111_250 am14112_253 am14113_256 am14114_259 am14115_262 am14116_265 3 y10) (k_post 0)) fm0_wayEnd_217 am1411_220 am1412_223 am1413_226 am1414_229 am1415_232 am1416_235 am1417_238 am1418_241 am1419_244 am14110_247 am14111_250 am14112_253 am14113_256 am14114_259 am14115_262 am14116_265 3 y11) (k_post 0)) fm0_wayEnd_166 am1291_169 am1292_172 am1293_175 am1294_178 am1295_181 am1296_184 am1297_187 am1298_190 am1299_193 am12910_196 am12911_199 am12912_202 am12913_205 am12914_208 am12915_211 am12916_214 100 x2) (k_post 0)) fm0_wayEnd_115 am1191_118 am1192_121 am1193_124 am1194_127 am1195_130 am1196_133 am1197_136 am1198_139 am1199_142 am11910_145 am11911_148 am11912_151 am11913_154 am11914_157 am11915_160 am11916_163 4294967295 x2) (k_post 0)) fm0_wayEnd_64 am1041_67 am1042_70 am1043_73 am1044_76 am1045_79 am1046_82 am1047_85 am1048_88 am1049_91 am10410_94 am10411_97 am10412_100 am10413_103 am10414_106 am10415_109 am10416_112 y12 x2) (k_post 0)) fm0_wayEnd am41 am42 am43 am44 am45 am46 am47 am48 am49 am410 am411 am412 am413 am414 am415 am416 y13 x2) (k_post 0)) fm0_wayEnd am41 am42 am43 am44 am45 am46 am47 am48 am49 am410 am411 am412 am413 am414 am415 am416 3) (mf_wL_lawOf_32 k_post ih x1 x2 x3 x5 x6 128 0 fm0_wayEnd am41 am42 am43 am44 am45 am46 am47 am48 am49 am410 am411 am412 am413 am414 am415 am416)
noncomputable def mf_wL_lawOf_22 (k_post : Nat → Bool) (x1 : Nat) (x2 : Nat) (x3 : Nat) (x5 : Nat) (n : Nat) : Nat → Nat → Nat → Nat → Nat → Nat → Nat → Nat → Nat → Nat → Nat → Nat → Nat → Nat → Nat → Nat → Nat → Nat → Bool :=
  Nat.rec (motive := fun _ => Nat → Nat → Nat → Nat → Nat → Nat → Nat → Nat → Nat → Nat → Nat → Nat → Nat → Nat → Nat → Nat → Nat → Nat → Bool) (fun _ _ _ _ _ _ _ _ _ _ _ _ _ _ _ _ _ _ => false) (fun _ ih => mb_wL_lawOf_22 k_post x1 x2 x3 x5 ih) n
theorem mt_wL_lawOf_22 (E : Nat × Int32 × Int32) {post : Int32 → St0 → Prop} {k_post : Nat → Bool} {mc ms kc ks : Nat} {e_x1 : Int32} {x1 : Nat} (p_x1 : e_x1 = ct_dec E x1) {e_x2 : Int32} {x2 : Nat} (p_x2 : e_x2 = ct_dec E x2) {e_x3 : Int32} {x3 : Nat} (p_x3 : (e_x3 &&& 1023) - (e_x3 &&& 1023) / 3 * 3 = ct_dec E x3) {e_x5 : Int32} {x5 : Nat} (p_x5 : e_x5 = ct_dec E x5) {n : Nat} {e_x6 : Int32} {x6 : Nat} (p_x6 : e_x6 = ct_dec E x6) {e_fm0_wayEnd : Int32} {fm0_wayEnd : Nat} (p_fm0_wayEnd : e_fm0_wayEnd = ct_dec E fm0_wayEnd) {am41 : Nat} {am42 : Nat} {am43 : Nat} {am44 : Nat} {am45 : Nat} {am46 : Nat} {am47 : Nat} {am48 : Nat} {am49 : Nat} {am410 : Nat} {am411 : Nat} {am412 : Nat} {am413 : Nat} {am414 : Nat} {am415 : Nat} {am416 : Nat} (h : mf_wL_lawOf_22 k_post x1 x2 x3 x5 n x6 fm0_wayEnd am41 am42 am43 am44 am45 am46 am47 am48 am49 am410 am411 am412 am413 am414 am415 am416 = true) (h_post : ∀ r0 : Nat, k_post r0 = true → post (ct_dec E r0) ()) :
    wL_lawOf_22 post mc ms e_x1 e_x2 e_x3 e_x5 kc ks n e_x6 e_fm0_wayEnd (ct_da E am41) (ct_da E am42) (ct_da E am43) (ct_da E am44) (ct_da E am45) (ct_da E am46) (ct_da E am47) (ct_da E am48) (ct_da E am49) (ct_da E am410) (ct_da E am411) (ct_da E am412) (ct_da E am413) (ct_da E am414) (ct_da E am415) (ct_da E am416) := by
  subst p_x1 p_x2 p_x5
  have key : ∀ (n : Nat) {e_x6 : Int32} {x6 : Nat} (p_x6 : e_x6 = ct_dec E x6) {e_fm0_wayEnd : Int32} {fm0_wayEnd : Nat} (p_fm0_wayEnd : e_fm0_wayEnd = ct_dec E fm0_wayEnd) {am41 : Nat} {am42 : Nat} {am43 : Nat} {am44 : Nat} {am45 : Nat} {am46 : Nat} {am47 : Nat} {am48 : Nat} {am49 : Nat} {am410 : Nat} {am411 : Nat} {am412 : Nat} {am413 : Nat} {am414 : Nat} {am415 : Nat} {am416 : Nat}, mf_wL_lawOf_22 k_post x1 x2 x3 x5 n x6 fm0_wayEnd am41 am42 am43 am44 am45 am46 am47 am48 am49 am410 am411 am412 am413 am414 am415 am416 = true → wL_lawOf_22 post mc ms (ct_dec E x1) (ct_dec E x2) e_x3 (ct_dec E x5) kc ks n e_x6 e_fm0_wayEnd (ct_da E am41) (ct_da E am42) (ct_da E am43) (ct_da E am44) (ct_da E am45) (ct_da E am46) (ct_da E am47) (ct_da E am48) (ct_da E am49) (ct_da E am410) (ct_da E am411) (ct_da E am412) (ct_da E am413) (ct_da E am414) (ct_da E am415) (ct_da E am416) := by
    intro n
    induction n with
    | zero =>
      intro e_x6 x6 p_x6 e_fm0_wayEnd fm0_wayEnd p_fm0_wayEnd am41 am42 am43 am44 am45 am46 am47 am48 am49 am410 am411 am412 am413 am414 am415 am416 h
      exact Bool.noConfusion (show false = true from h)
    | succ n ih =>
      intro e_x6 x6 p_x6 e_fm0_wayEnd fm0_wayEnd p_fm0_wayEnd am41 am42 am43 am44 am45 am46 am47 am48 am49 am410 am411 am412 am413 am414 am415 am416 h
      subst p_x6 p_fm0_wayEnd
      replace h : mb_wL_lawOf_22 k_post x1 x2 x3 x5 (mf_wL_lawOf_22 k_post x1 x2 x3 x5 n) x6 fm0_wayEnd am41 am42 am43 am44 am45 am46 am47 am48 am49 am410 am411 am412 am413 am414 am415 am416 = true := h
      unfold mb_wL_lawOf_22 at h
      unfold wL_lawOf_22
      refine ct_leS (ct_l8 E) (ct_v E x6) h (fun h => ?_) (fun h => ?_)
      · refine mt_wpX_size E (ct_l3 E) h (fun r_61 h => ?_)
        refine ct_eqS (ct_v E r_61) (ct_l24 E) h (fun h => ?_) (fun h => ?_)
        · replace h := ct_fcE h
          refine mt_wpX_put E (ct_add (ct_v E x5) (ct_l24 E)) (ct_v E x2) h (fun r_63 fm0_wayEnd_64 am1041_67 am1042_70 am1043_73 am1044_76 am1045_79 am1046_82 am1047_85 am1048_88 am1049_91 am10410_94 am10411_97 am10412_100 am10413_103 am10414_106 am10415_109 am10416_112 h => ?_)
          refine ct_eqS (ct_v E r_63) (ct_m2 E) h (fun h => ?_) (fun h => ?_)
          · replace h := ct_fcE h
            refine mt_wpX_put E (ct_add (ct_v E x5) (ct_l3 E)) (ct_v E x2) h (fun r_114 fm0_wayEnd_115 am1191_118 am1192_121 am1193_124 am1194_127 am1195_130 am1196_133 am1197_136 am1198_139 am1199_142 am11910_145 am11911_148 am11912_151 am11913_154 am11914_157 am11915_160 am11916_163 h => ?_)
            refine ct_eqS (ct_v E r_114) (ct_l0 E) h (fun h => ?_) (fun h => ?_)
            · refine mt_wpX_put E (ct_m1 E) (ct_v E x2) h (fun r_165 fm0_wayEnd_166 am1291_169 am1292_172 am1293_175 am1294_178 am1295_181 am1296_184 am1297_187 am1298_190 am1299_193 am12910_196 am12911_199 am12912_202 am12913_205 am12914_208 am12915_211 am12916_214 h => ?_)
              refine ct_eqS (ct_v E r_165) (ct_m1 E) h (fun h => ?_) (fun h => ?_)
              · refine mt_wpX_put E (ct_l100 E) (ct_v E x2) h (fun r_216 fm0_wayEnd_217 am1411_220 am1412_223 am1413_226 am1414_229 am1415_232 am1416_235 am1417_238 am1418_241 am1419_244 am14110_247 am14111_250 am14112_253 am14113_256 am14114_259 am14115_262 am14116_265 h => ?_)
                refine ct_eqS (ct_v E r_216) (ct_m1 E) h (fun h => ?_) (fun h => ?_)
                · replace h := ct_fcE h
                  refine mt_wpX_next E (ct_l3 E) (ct_sbb (ct_v E x5) (ct_l1 E)) h (fun r_267 h => ?_)
                  refine ct_eqS (ct_v E r_267) (ct_v E x5) h (fun h => ?_) (fun h => ?_)
                  · replace h := ct_fcE h
                    refine mt_wpX_next E (ct_l3 E) (ct_add (ct_v E x5) (ct_l23 E)) h (fun r_269 h => ?_)
                    refine ct_eqS (ct_v E r_269) (ct_m3 E) h (fun h => ?_) (fun h => ?_)
                    · refine mt_wpX_next E (ct_l3 E) (ct_m2147483648 E) h (fun r_271 h => ?_)
                      refine ct_eqS (ct_v E r_271) (ct_v E x5) h (fun h => ?_) (fun h => ?_)
                      · refine mt_wpX_commit E  h (fun r_273 fm0_wayEnd_274 am1981_277 am1982_280 am1983_283 am1984_286 am1985_289 am1986_292 am1987_295 am1988_298 am1989_301 am19810_304 am19811_307 am19812_310 am19813_313 am19814_316 am19815_319 am19816_322 h => ?_)
                        refine ct_eqS (ct_v E r_273) (ct_l1 E) h (fun h => ?_) (fun h => ?_)
                        · refine mt_wpX_open E (ct_l0 E) h (fun r_324 fm0_wayEnd_325 am2081_328 am2082_331 am2083_334 am2084_337 am2085_340 am2086_343 am2087_346 am2088_349 am2089_352 am20810_355 am20811_358 am20812_361 am20813_364 am20814_367 am20815_370 am20816_373 h => ?_)
                          refine ct_eqS (ct_v E r_324) (ct_l1 E) h (fun h => ?_) (fun h => ?_)
                          · replace h := ct_fcE h
                            refine mt_wpX_erase E (ct_add (ct_v E x5) (ct_l3 E)) h (fun r_375 fm0_wayEnd_376 am2211_379 am2212_382 am2213_385 am2214_388 am2215_391 am2216_394 am2217_397 am2218_400 am2219_403 am22110_406 am22111_409 am22112_412 am22113_415 am22114_418 am22115_421 am22116_424 h => ?_)
                            refine ct_eqS (ct_v E r_375) (ct_l1 E) h (fun h => ?_) (fun h => ?_)
                            · replace h := ct_fcE h
                              refine mt_wpX_erase E (ct_add (ct_v E x5) (ct_l3 E)) h (fun r_426 fm0_wayEnd_427 am2341_430 am2342_433 am2343_436 am2344_439 am2345_442 am2346_445 am2347_448 am2348_451 am2349_454 am23410_457 am23411_460 am23412_463 am23413_466 am23414_469 am23415_472 am23416_475 h => ?_)
                              refine ct_eqS (ct_v E r_426) (ct_l0 E) h (fun h => ?_) (fun h => ?_)
                              · replace h := ct_fcE h
                                refine mt_wpX_put E (ct_add (ct_v E x5) (ct_l24 E)) (ct_v E x2) h (fun r_477 fm0_wayEnd_478 am2481_481 am2482_484 am2483_487 am2484_490 am2485_493 am2486_496 am2487_499 am2488_502 am2489_505 am24810_508 am24811_511 am24812_514 am24813_517 am24814_520 am24815_523 am24816_526 h => ?_)
                                refine ct_eqS (ct_v E r_477) (ct_l1 E) h (fun h => ?_) (fun h => ?_)
                                · replace h := ct_fcE h
                                  refine mt_wpX_get E (ct_l0 E) (ct_add (ct_v E x5) (ct_l3 E)) h (fun r_528 fm0_wayEnd_529 am2641_532 am2642_535 am2643_538 am2644_541 am2645_544 am2646_547 am2647_550 am2648_553 am2649_556 am26410_559 am26411_562 am26412_565 am26413_568 am26414_571 am26415_574 am26416_577 h => ?_)
                                  refine ct_eqS (ct_v E r_528) (ct_v E x2) h (fun h => ?_) (fun h => ?_)
                                  · replace h := ct_fcE h
                                    refine mt_wpX_has E (ct_l3 E) (ct_add (ct_v E x5) (ct_l3 E)) h (fun r_579 fm0_wayEnd_580 am2781_583 am2782_586 am2783_589 am2784_592 am2785_595 am2786_598 am2787_601 am2788_604 am2789_607 am27810_610 am27811_613 am27812_616 am27813_619 am27814_622 am27815_625 am27816_628 h => ?_)
                                    refine ct_eqS (ct_v E r_579) (ct_l0 E) h (fun h => ?_) (fun h => ?_)
                                    · replace h := ct_fcE h
                                      refine mt_wpX_has E (ct_l0 E) (ct_add (ct_v E x5) (ct_l24 E)) h (fun r_630 fm0_wayEnd_631 am2921_634 am2922_637 am2923_640 am2924_643 am2925_646 am2926_649 am2927_652 am2928_655 am2929_658 am29210_661 am29211_664 am29212_667 am29213_670 am29214_673 am29215_676 am29216_679 h => ?_)
                                      refine ct_eqS (ct_v E r_630) (ct_l0 E) h (fun h => ?_) (fun h => ?_)
                                      · refine mt_wpX_size E (ct_l0 E) h (fun r_681 h => ?_)
                                        refine ct_eqS (ct_v E r_681) (ct_l24 E) h (fun h => ?_) (fun h => ?_)
                                        · replace h := ct_fcE h
                                          refine mt_wpX_next E (ct_l3 E) (ct_add (ct_v E x5) (ct_l2 E)) h (fun r_683 h => ?_)
                                          refine ct_eqS (ct_v E r_683) (ct_add (ct_v E x5) (ct_l4 E)) h (fun h => ?_) (fun h => ?_)
                                          · refine ⟨by decide, ?_⟩
                                            refine ct_let p_x3 h (fun x6_686 h => ?_)
                                            refine mt_wpX_open E (ct_l1 E) h (fun r_687 fm0_wayEnd_688 am3401_691 am3402_694 am3403_697 am3404_700 am3405_703 am3406_706 am3407_709 am3408_712 am3409_715 am34010_718 am34011_721 am34012_724 am34013_727 am34014_730 am34015_733 am34016_736 h => ?_)
                                            refine ct_eqS (ct_v E r_687) (ct_l1 E) h (fun h => ?_) (fun h => ?_)
                                            · refine mt_wpX_commit E  h (fun r_738 fm0_wayEnd_739 am3491_742 am3492_745 am3493_748 am3494_751 am3495_754 am3496_757 am3497_760 am3498_763 am3499_766 am34910_769 am34911_772 am34912_775 am34913_778 am34914_781 am34915_784 am34916_787 h => ?_)
                                              refine ct_eqS (ct_v E r_738) (ct_l2 E) h (fun h => ?_) (fun h => ?_)
                                              · refine mt_wpX_open E (ct_l2 E) h (fun r_789 fm0_wayEnd_790 am3591_793 am3592_796 am3593_799 am3594_802 am3595_805 am3596_808 am3597_811 am3598_814 am3599_817 am35910_820 am35911_823 am35912_826 am35913_829 am35914_832 am35915_835 am35916_838 h => ?_)
                                                refine ct_eqS (ct_v E r_789) (ct_l2 E) h (fun h => ?_) (fun h => ?_)
                                                · refine mt_wpX_seen E (ct_l0 E) h (fun r_840 h => ?_)
                                                  refine ct_eqS (ct_v E r_840) (ct_l1 E) h (fun h => ?_) (fun h => ?_)
                                                  · refine mt_wpX_seen E (ct_l1 E) h (fun r_842 h => ?_)
                                                    refine ct_eqS (ct_v E r_842) (ct_l1 E) h (fun h => ?_) (fun h => ?_)
                                                    · refine mt_wpX_seen E (ct_l2 E) h (fun r_844 h => ?_)
                                                      refine ct_eqS (ct_v E r_844) (ct_l2 E) h (fun h => ?_) (fun h => ?_)
                                                      · replace h := ct_fcE h
                                                        refine mt_wpX_get E (ct_l1 E) (ct_add (ct_v E x5) (ct_l3 E)) h (fun r_846 fm0_wayEnd_847 am4051_850 am4052_853 am4053_856 am4054_859 am4055_862 am4056_865 am4057_868 am4058_871 am4059_874 am40510_877 am40511_880 am40512_883 am40513_886 am40514_889 am40515_892 am40516_895 h => ?_)
                                                        refine ct_eqS (ct_v E r_846) (ct_v E x2) h (fun h => ?_) (fun h => ?_)
                                                        · replace h := ct_fcE h
                                                          refine mt_wpX_get E (ct_l2 E) (ct_add (ct_v E x5) (ct_l24 E)) h (fun r_897 fm0_wayEnd_898 am4201_901 am4202_904 am4203_907 am4204_910 am4205_913 am4206_916 am4207_919 am4208_922 am4209_925 am42010_928 am42011_931 am42012_934 am42013_937 am42014_940 am42015_943 am42016_946 h => ?_)
                                                          refine ct_eqS (ct_v E r_897) (ct_v E x2) h (fun h => ?_) (fun h => ?_)
                                                          · refine mt_wpX_close E (ct_l1 E) h (fun r_948 fm0_wayEnd_949 am4301_952 am4302_955 am4303_958 am4304_961 am4305_964 am4306_967 am4307_970 am4308_973 am4309_976 am43010_979 am43011_982 am43012_985 am43013_988 am43014_991 am43015_994 am43016_997 h => ?_)
                                                            refine ct_eqS (ct_v E r_948) (ct_l1 E) h (fun h => ?_) (fun h => ?_)
                                                            · refine mt_wpX_close E (ct_l1 E) h (fun r_999 fm0_wayEnd_1000 am4401_1003 am4402_1006 am4403_1009 am4404_1012 am4405_1015 am4406_1018 am4407_1021 am4408_1024 am4409_1027 am44010_1030 am44011_1033 am44012_1036 am44013_1039 am44014_1042 am44015_1045 am44016_1048 h => ?_)
                                                              refine ct_eqS (ct_v E r_999) (ct_l0 E) h (fun h => ?_) (fun h => ?_)
                                                              · refine mt_wpX_seen E (ct_l1 E) h (fun r_1050 h => ?_)
                                                                refine ct_eqS (ct_v E r_1050) (ct_m1 E) h (fun h => ?_) (fun h => ?_)
                                                                · refine ⟨128, ?_⟩
                                                                  exact mt_wL_lawOf_464 E (ct_v E x1) (ct_v E x2) (ct_v E x5) (ct_v E x6_686) (ct_l0 E) (ct_l0 E) (ct_v E fm0_wayEnd_1000) h h_post
                                                                · refine ct_sub (P := fun z => post z (())) (ct_l0 E) ?_
                                                                  exact h_post _ h
                                                              · refine ct_sub (P := fun z => post z (())) (ct_l0 E) ?_
                                                                exact h_post _ h
                                                            · refine ct_sub (P := fun z => post z (())) (ct_l0 E) ?_
                                                              exact h_post _ h
                                                          · refine ct_sub (P := fun z => post z (())) (ct_l0 E) ?_
                                                            exact h_post _ h
                                                        · refine ct_sub (P := fun z => post z (())) (ct_l0 E) ?_
                                                          exact h_post _ h
                                                      · refine ct_sub (P := fun z => post z (())) (ct_l0 E) ?_
                                                        exact h_post _ h
                                                    · refine ct_sub (P := fun z => post z (())) (ct_l0 E) ?_
                                                      exact h_post _ h
                                                  · refine ct_sub (P := fun z => post z (())) (ct_l0 E) ?_
                                                    exact h_post _ h
                                                · refine ct_sub (P := fun z => post z (())) (ct_l0 E) ?_
                                                  exact h_post _ h
                                              · refine ct_sub (P := fun z => post z (())) (ct_l0 E) ?_
                                                exact h_post _ h
                                            · refine ct_sub (P := fun z => post z (())) (ct_l0 E) ?_
                                              exact h_post _ h
                                          · refine ct_sub (P := fun z => post z (())) (ct_l0 E) ?_
                                            exact h_post _ h
                                        · refine ct_sub (P := fun z => post z (())) (ct_l0 E) ?_
                                          exact h_post _ h
                                      · refine ct_sub (P := fun z => post z (())) (ct_l0 E) ?_
                                        exact h_post _ h
                                    · refine ct_sub (P := fun z => post z (())) (ct_l0 E) ?_
                                      exact h_post _ h
                                  · refine ct_sub (P := fun z => post z (())) (ct_l0 E) ?_
                                    exact h_post _ h
                                · refine ct_sub (P := fun z => post z (())) (ct_l0 E) ?_
                                  exact h_post _ h
                              · refine ct_sub (P := fun z => post z (())) (ct_l0 E) ?_
                                exact h_post _ h
                            · refine ct_sub (P := fun z => post z (())) (ct_l0 E) ?_
                              exact h_post _ h
                          · refine ct_sub (P := fun z => post z (())) (ct_l0 E) ?_
                            exact h_post _ h
                        · refine ct_sub (P := fun z => post z (())) (ct_l0 E) ?_
                          exact h_post _ h
                      · refine ct_sub (P := fun z => post z (())) (ct_l0 E) ?_
                        exact h_post _ h
                    · refine ct_sub (P := fun z => post z (())) (ct_l0 E) ?_
                      exact h_post _ h
                  · refine ct_sub (P := fun z => post z (())) (ct_l0 E) ?_
                    exact h_post _ h
                · refine ct_sub (P := fun z => post z (())) (ct_l0 E) ?_
                  exact h_post _ h
              · refine ct_sub (P := fun z => post z (())) (ct_l0 E) ?_
                exact h_post _ h
            · refine ct_sub (P := fun z => post z (())) (ct_l0 E) ?_
              exact h_post _ h
          · refine ct_sub (P := fun z => post z (())) (ct_l0 E) ?_
            exact h_post _ h
        · refine ct_sub (P := fun z => post z (())) (ct_l0 E) ?_
          exact h_post _ h
      · refine ⟨128, ?_⟩
        exact mt_wL_lawOf_32 E (ct_v E x1) (ct_v E x2) p_x3 (ct_v E x5) (ct_v E x6) (ct_l0 E) (ct_v E fm0_wayEnd) h h_post (fun j0 j1 j2 j3 j4 j5 j6 j7 j8 j9 j10 j11 j12 j13 j14 j15 j16 j17 h => ih (ct_v E j0) (ct_v E j1) h)
  exact key n p_x6 p_fm0_wayEnd h
end
section
/-- the mirror of the constructor, and of the law behind it -/
noncomputable def mf_init (k_post : Nat → Nat → Nat → Nat → Nat → Nat → Nat → Nat → Nat → Nat → Nat → Nat → Nat → Nat → Nat → Nat → Nat → Bool) : Bool :=
  ct_fc (ct_st 0 0 1) fun v => ct_fc (ct_st 0 0 4294967295) fun r => mf_wX_init_144 k_post 0 128 0 0 0 0 0 0 0 r 0 0 v 0 0 0 0 0 0
theorem mt_init (E : Nat × Int32 × Int32) {post : St2 → Prop} {k_post : Nat → Nat → Nat → Nat → Nat → Nat → Nat → Nat → Nat → Nat → Nat → Nat → Nat → Nat → Nat → Nat → Nat → Bool} (h : mf_init k_post = true) (h_post : ∀ z0 z1 z2 z3 z4 z5 z6 z7 z8 z9 z10 z11 z12 z13 z14 z15 z16 : Nat, k_post z0 z1 z2 z3 z4 z5 z6 z7 z8 z9 z10 z11 z12 z13 z14 z15 z16 = true → post (ct_dec E z0, ct_da E z1, ct_da E z2, ct_da E z3, ct_da E z4, ct_da E z5, ct_da E z6, ct_da E z7, ct_da E z8, ct_da E z9, ct_da E z10, ct_da E z11, ct_da E z12, ct_da E z13, ct_da E z14, ct_da E z15, ct_da E z16)) : wpX_init post 16 2036 0 := by
  unfold mf_init at h
  unfold wpX_init
  refine ⟨by decide, by decide, by decide, by decide, by decide, by decide, by decide, by decide, by decide, by decide, by decide, by decide, by decide, by decide, by decide, by decide, by decide, by decide, by decide, by decide, by decide, by decide, by decide, by decide, by decide, by decide, by decide, by decide, by decide, by decide, by decide, by decide, ?_⟩
  rw [ct_z E]
  refine ct_leta (ct_uk 0 0 (ct_l1 E)) h (fun v h => ?_)
  refine ct_leta (ct_uk 0 0 (ct_m1 E)) h (fun r h => ?_)
  refine ⟨128, ?_⟩
  exact mt_wX_init_144 E (ct_l0 E) (ct_l0 E) h h_post
noncomputable def mf_law (w : Nat) : Bool :=
  mf_init fun z0 z1 z2 z3 z4 z5 z6 z7 z8 z9 z10 z11 z12 z13 z14 z15 z16 => mf_wL_lawOf_22 (fun r => Nat.beq r 1) 18446744073709551616 79228162514264337593543950336 w 4294967296 128 0 z0 z1 z2 z3 z4 z5 z6 z7 z8 z9 z10 z11 z12 z13 z14 z15 z16
end
section
theorem ct_run0 : mf_law 0 = true := by decide +kernel
theorem ct_run1 : mf_law 1 = true := by decide +kernel
theorem ct_run2 : mf_law 2 = true := by decide +kernel
end
section
theorem ct_runw {w : Nat} (h : w < 3) : mf_law w = true := by
  have h3 : w = 0 ∨ w = 1 ∨ w = 2 := by omega
  rcases h3 with h3 | h3 | h3
  · rw [h3]; exact ct_run0
  · rw [h3]; exact ct_run1
  · rw [h3]; exact ct_run2
theorem ct_law (p0 p1 p2 p3 : Int32) : wpL_lawOf (fun r _ => r = 1) 17 2053 () p0 p1 p2 p3 := by
  obtain ⟨j, hj, ej⟩ := pk_andE p0 (m := 1023) 10 (by decide)
  obtain ⟨w, hw, ew⟩ := pk_andE p3 (m := 1023) 10 (by decide)
  have hF : (p0 &&& 1023) - (p0 &&& 1023) / 70 * 70 = ct_dec (j, p1, p2) 4294967296 := by
    rw [ej]
    refine (pk_rem (d := 70) (by omega) (by decide) (by decide)).trans ?_
    show nI (j % 70) = nI 4294967296 + nI 1 * nI (j % 70) + nI 0 * p1 + nI 0 * p2
    rw [nI_0, show nI 4294967296 = (0 : Int32) from by decide, show nI 1 = (1 : Int32) from rfl]
    simp only [Int32.zero_mul, Int32.add_zero, Int32.zero_add, Int32.one_mul]
  have hU : p1 = ct_dec (j, p1, p2) 18446744073709551616 := by
    show p1 = nI 18446744073709551616 + nI 4294967296 * nI (j % 70) + nI 1 * p1 + nI 0 * p2
    rw [nI_0, show nI 4294967296 = (0 : Int32) from by decide, show nI 18446744073709551616 = (0 : Int32) from by decide, show nI 1 = (1 : Int32) from rfl]
    simp only [Int32.zero_mul, Int32.add_zero, Int32.zero_add, Int32.one_mul]
  have hV : p2 = ct_dec (j, p1, p2) 79228162514264337593543950336 := by
    show p2 = nI 79228162514264337593543950336 + nI 18446744073709551616 * nI (j % 70) + nI 4294967296 * p1 + nI 1 * p2
    rw [show nI 4294967296 = (0 : Int32) from by decide, show nI 18446744073709551616 = (0 : Int32) from by decide, show nI 79228162514264337593543950336 = (0 : Int32) from by decide, show nI 1 = (1 : Int32) from rfl]
    simp only [Int32.zero_mul, Int32.add_zero, Int32.zero_add, Int32.one_mul]
  have hm : w % 3 < 3 := Nat.mod_lt _ (by decide)
  have hW : (p3 &&& 1023) - (p3 &&& 1023) / 3 * 3 = ct_dec (j, p1, p2) (w % 3) := by
    rw [ew, ct_dsm _ (show w % 3 < 4294967296 by omega)]
    exact pk_rem (d := 3) (by omega) (by decide) (by decide)
  unfold wpL_lawOf
  refine ⟨by decide, by decide, 16, 2036, by decide, by decide, ?_⟩
  refine mt_init (j, p1, p2) (ct_runw hm) (fun z0 z1 z2 z3 z4 z5 z6 z7 z8 z9 z10 z11 z12 z13 z14 z15 z16 h => ?_)
  refine ⟨by decide, ?_⟩
  intro x5 e5
  refine ⟨128, ?_⟩
  refine mt_wL_lawOf_22 (j, p1, p2) hU hV hW (e5.trans hF) (ct_l0 _) (ct_v _ _) h (fun r h => ?_)
  have h : r = 1 := Nat.eq_of_beq_eq_true h
  show ct_dec (j, p1, p2) r = 1
  rw [h, ← ct_l1]
theorem ct_cell {post : Int32 → Prop} {L : Nat} {xs : Nat → Int32} (hL : L ≤ 4) {z : Int32} (p : Nat) (hz : z = nI p) (hp : p < 4) (H : ∀ r, post r) : wpL_cellAt post L xs () z := by
  unfold wpL_cellAt
  refine ⟨fun _ => H _, fun h => ⟨?_, H _⟩⟩
  rw [hz] at h ⊢
  by_cases hl : p < L
  · exact vp_in_nI hl (by omega)
  · exact absurd (nI_le (show L ≤ p by omega) (by omega)) h
theorem i_vc (xs : Nat → Int32) (L : Nat) (hL : L ≤ 4) : wpL_law (fun r => r = 1) L xs := by
  unfold wpL_law
  exact ct_cell hL 0 rfl (by decide) (fun r1 => ct_cell hL 1 rfl (by decide) (fun r2 => ct_cell hL 2 rfl (by decide) (fun r3 => ct_cell hL 3 rfl (by decide) (fun r4 => ⟨17, 2053, by decide, by decide, ct_law r1 r2 r3 r4⟩))))
end
