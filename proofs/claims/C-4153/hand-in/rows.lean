section
/-! rows taken from the kit's rows to paste -/
theorem pk_us {f : Nat → Int32} {k : Nat} {x : Int32} : upd f k x k = x := if_pos rfl
theorem pk_un {f : Nat → Int32} {k j : Nat} {x : Int32} (h : j ≠ k) : upd f k x j = f j := if_neg h
theorem pk_sub {a b : Nat} (h : b ≤ a) : nI a - nI b = nI (a - b) := by
  obtain ⟨c, rfl⟩ : ∃ c, a = c + b := ⟨a - b, by omega⟩
  rw [← nI_add, Int32.add_sub_cancel, Nat.add_sub_cancel]
theorem pk_m1 (n : Nat) : nI (n + 1) + (-1) = nI n := by
  rw [← nI_1, Int32.add_assoc, show (1 : Int32) + (-1) = 0 from rfl, Int32.add_zero]
theorem pk_mul (a b : Nat) : nI a * nI b = nI (a * b) := (Int32.ofNat_mul a b).symm
theorem pk_div {a d : Nat} (ha : a < 2 ^ 31) (h0 : 0 < d) (hd : d < 2 ^ 31) : nI a / nI d = nI (a / d) := by
  apply Int32.toInt_inj.mp
  rw [lg_idiv_nonneg (by rw [nI_toInt ha]; omega) (by rw [nI_toInt hd]; omega), nI_toInt ha, nI_toInt hd, nI_toInt (Nat.lt_of_le_of_lt (Nat.div_le_self a d) ha)]
  first | rfl | exact (Int.natCast_ediv _ _).symm
theorem pk_rem {a d : Nat} (ha : a < 2 ^ 31) (h0 : 0 < d) (hd : d < 2 ^ 31) : nI a - nI a / nI d * nI d = nI (a % d) := by
  rw [pk_div ha h0 hd, pk_mul, pk_sub (Nat.div_mul_le_self a d)]
  exact congrArg nI (by have := Nat.div_add_mod' a d; omega)
theorem pk_ix (x : Int32) {n : Nat} (hn : n < 2 ^ 31) : x < 0 ∨ nI n ≤ x ∨ ∃ j : Nat, j < n ∧ x = nI j := by
  by_cases h : x < 0
  · exact Or.inl h
  · obtain ⟨j, hj, rfl⟩ := nI_of h
    by_cases h2 : j < n
    · exact Or.inr (Or.inr ⟨j, h2, rfl⟩)
    · exact Or.inr (Or.inl (nI_le (by omega) hj))
theorem pk_le {x y : Int32} {A B : Prop} (a b : Nat) (f : a ≤ b → A) (g : b < a → B) (hx : x = nI a := by rfl) (hy : y = nI b := by rfl) (ha : a < 2 ^ 31 := by omega) (hb : b < 2 ^ 31 := by omega) : (x ≤ y → A) ∧ (¬ x ≤ y → B) := by
  subst hx hy
  rw [nI_leI ha hb]
  exact ⟨f, fun z => g (by omega)⟩
theorem pk_lt {x y : Int32} {A B : Prop} (a b : Nat) (f : a < b → A) (g : b ≤ a → B) (hx : x = nI a := by rfl) (hy : y = nI b := by rfl) (ha : a < 2 ^ 31 := by omega) (hb : b < 2 ^ 31 := by omega) : (x < y → A) ∧ (¬ x < y → B) := by
  subst hx hy
  rw [nI_ltI ha hb]
  exact ⟨f, fun z => g (by omega)⟩
theorem pk_eq {x y : Int32} {A B : Prop} (a b : Nat) (f : a = b → A) (g : a ≠ b → B) (hx : x = nI a := by rfl) (hy : y = nI b := by rfl) (ha : a < 2 ^ 31 := by omega) (hb : b < 2 ^ 31 := by omega) : (x = y → A) ∧ (¬ x = y → B) := by
  subst hx hy
  rw [nI_eq ha hb]
  exact ⟨f, g⟩
theorem pk_in {x : Int32} (n N : Nat) (h : n < N) (hx : x = nI n := by rfl) (hN : N < 2 ^ 31 := by omega) : vp_in x N := by
  subst hx
  exact vp_in_nI h hN
theorem pk_cl {x : Int32} (n : Nat) (hx : x = nI n := by rfl) (h : n < 2 ^ 31 := by omega) : x.toNatClampNeg = n := by
  subst hx
  exact nI_clamp h
theorem pk_tn {n : Nat} (h : n < 2 ^ 32) : (nI n).toBitVec.toNat = n := Nat.mod_eq_of_lt h
theorem pk_shl (a s : Int32) (k : Nat) (hs : (s.toBitVec.smod 32).toNat = k) : (a <<< s).toBitVec.toNat = a.toBitVec.toNat * 2 ^ k % 2 ^ 32 := by
  show (a.toBitVec <<< (s.toBitVec.smod 32).toNat).toNat = _
  rw [hs, BitVec.toNat_shiftLeft, Nat.shiftLeft_eq]
theorem pk_shlN {n : Nat} (s : Int32) (k : Nat) (hs : (s.toBitVec.smod 32).toNat = k) (h : n * 2 ^ k < 2 ^ 32) : nI n <<< s = nI (n * 2 ^ k) := by
  apply Int32.toBitVec_inj.mp
  apply BitVec.eq_of_toNat_eq
  have hn : n < 2 ^ 32 := Nat.lt_of_le_of_lt (Nat.le_mul_of_pos_right n (Nat.two_pow_pos k)) h
  rw [pk_shl _ _ k hs, pk_tn hn, pk_tn h, Nat.mod_eq_of_lt h]
theorem pk_shr (a s : Int32) (k : Nat) (hs : (s.toBitVec.smod 32).toNat = k) : (a >>> s).toInt = a.toInt >>> k := by
  show (a.toBitVec.sshiftRight (s.toBitVec.smod 32).toNat).toInt = _
  rw [hs, BitVec.toInt_sshiftRight]
  rfl
theorem pk_shrN {n : Nat} (h : n < 2 ^ 31) (s : Int32) (k : Nat) (hs : (s.toBitVec.smod 32).toNat = k) : nI n >>> s = nI (n / 2 ^ k) := by
  apply Int32.toInt_inj.mp
  have h2 : n / 2 ^ k ≤ n := Nat.div_le_self _ _
  rw [pk_shr _ _ k hs, nI_toInt h, nI_toInt (by omega), Int.shiftRight_eq_div_pow]
  rfl
theorem s_l : ∀ n, n < 32 → ((nI n &&& 31).toBitVec.smod 32).toNat = n := by decide +kernel
theorem nx_and (a b : Nat) : nI a &&& nI b = nI (a &&& b) := by
  apply Int32.toBitVec_inj.1
  show BitVec.ofNat 32 a &&& BitVec.ofNat 32 b = BitVec.ofNat 32 (a &&& b)
  apply BitVec.eq_of_getLsbD_eq
  intro i hi
  simp [hi]
theorem nx_xor (a b : Nat) : nI a ^^^ nI b = nI (a ^^^ b) := by
  apply Int32.toBitVec_inj.1
  show BitVec.ofNat 32 a ^^^ BitVec.ofNat 32 b = BitVec.ofNat 32 (a ^^^ b)
  apply BitVec.eq_of_getLsbD_eq
  intro i hi
  simp [hi]
end
section
/-! ints as sets of bits, ints of any sign -/
theorem tj_or (a b : Nat) : nI a ||| nI b = nI (a ||| b) := by
  apply Int32.toBitVec_inj.1
  show BitVec.ofNat 32 a ||| BitVec.ofNat 32 b = BitVec.ofNat 32 (a ||| b)
  apply BitVec.eq_of_getLsbD_eq
  intro i hi
  simp [hi]
theorem tj_p31 {k : Nat} (h : k < 31) : 2 ^ k < 2 ^ 31 := Nat.pow_lt_pow_right (by decide) h
theorem tj_ple {a b : Nat} (h : a ≤ b) : 2 ^ a ≤ 2 ^ b := Nat.pow_le_pow_right (by decide) h
theorem tj_sh1 {k : Nat} (h : k < 31) : (1 : Int32) <<< (nI k &&& 31) = nI (2 ^ k) := by
  have h1 := tj_p31 h
  have h2 := pk_shlN (n := 1) (nI k &&& 31) k (s_l k (by omega)) (by omega)
  rw [Nat.one_mul] at h2
  exact h2
theorem tj_bit {s k : Nat} (hs : s < 2 ^ 31) (hk : k < 31) : (nI s >>> (nI k &&& 31)) &&& 1 = nI (s / 2 ^ k % 2) := by
  rw [pk_shrN hs _ k (s_l k (by omega))]
  show nI (s / 2 ^ k) &&& nI 1 = _
  rw [nx_and, Nat.and_one_is_mod]
theorem tj_bit1 {s k : Nat} (hs : s < 2 ^ 31) (hk : k < 31) : (nI s >>> (nI k &&& 31)) &&& 1 = 1 ↔ s.testBit k = true := by
  rw [tj_bit hs hk, Nat.testBit_eq_decide_div_mod_eq, decide_eq_true_eq]
  show nI _ = nI 1 ↔ _
  generalize s / 2 ^ k = m
  rw [nI_eq (by omega) (by omega)]
theorem tj_bit0 {s k : Nat} (hs : s < 2 ^ 31) (hk : k < 31) : (nI s >>> (nI k &&& 31)) &&& 1 = 0 ↔ s.testBit k = false := by
  rw [tj_bit hs hk, Nat.testBit_eq_decide_div_mod_eq, decide_eq_false_iff_not]
  show nI _ = nI 0 ↔ _
  generalize s / 2 ^ k = m
  rw [nI_eq (by omega) (by omega)]
  omega
/-- the bit as an int -/
theorem tj_bitv {s k : Nat} (hs : s < 2 ^ 31) (hk : k < 31) : (nI s >>> (nI k &&& 31)) &&& 1 = nI (if s.testBit k then 1 else 0) := by
  rw [tj_bit hs hk, Nat.testBit_eq_decide_div_mod_eq]
  generalize s / 2 ^ k = m
  by_cases h : m % 2 = 1
  · rw [h]; rfl
  · rw [show m % 2 = 0 by omega]; rfl
theorem tj_m1 : (-1 : Int32) = nI (2 ^ 32 - 1) := by decide +kernel
/-- and with the complement -/
theorem tj_andn {a b : Nat} (ha : a < 2 ^ 31) (c : Nat) (h : ∀ i, c.testBit i = (a.testBit i && !b.testBit i)) : nI a &&& (nI b ^^^ (-1)) = nI c := by
  rw [tj_m1, nx_xor, nx_and]
  apply congrArg nI
  apply Nat.eq_of_testBit_eq
  intro i
  rw [h i, Nat.testBit_and, Nat.testBit_xor, Nat.testBit_two_pow_sub_one]
  by_cases hi : i < 32
  · simp [hi]
  · have h1 : a < 2 ^ i := Nat.lt_of_lt_of_le ha (tj_ple (by omega))
    rw [Nat.testBit_lt_two_pow h1]
    simp
theorem tj_nI_of {x : Int32} (h : 0 ≤ x.toInt) : x = nI x.toInt.toNat := by
  have h2 := x.toInt_lt
  apply Int32.toInt_inj.mp
  rw [nI_toInt (by omega)]
  omega
theorem tj_le0 {x : Int32} : 0 ≤ x ↔ 0 ≤ x.toInt := by
  rw [Int32.le_iff_toInt_le, show (0 : Int32).toInt = 0 from by decide]
theorem tj_lt0 {x : Int32} : x < 0 ↔ x.toInt < 0 := by
  rw [Int32.lt_iff_toInt_lt, show (0 : Int32).toInt = 0 from by decide]
/-- the amount of an int, as the component takes it -/
theorem tj_abs1 {x : Int32} (h : 0 ≤ x) : x = nI x.toInt.natAbs := by
  have h := tj_le0.mp h
  have e := tj_nI_of h
  rw [show x.toInt.natAbs = x.toInt.toNat by omega]
  exact e
theorem tj_abs2 {x : Int32} (h : ¬ 0 ≤ x) (hb : -2 ^ 30 ≤ x.toInt) : -x = nI x.toInt.natAbs := by
  have h : ¬ 0 ≤ x.toInt := fun z => h (tj_le0.mpr z)
  have e := Jvm.Kit.i32_neg (x := x) (by omega)
  have e2 := tj_nI_of (x := -x) (by omega)
  rw [e] at e2
  rw [show x.toInt.natAbs = (-x.toInt).toNat by omega]
  exact e2
end
section
/-! sets of roads: the odd places, the weight (plain) -/
def tj_od (d : Nat → Nat) : Nat → Nat → Nat
  | 0, _ => 0
  | e + 1, s => tj_od d e s ^^^ (if s.testBit e then d e else 0)
def tj_wt (c : Nat → Int) : Nat → Nat → Int
  | 0, _ => 0
  | e + 1, s => tj_wt c e s + (if s.testBit e then c e else 0)
def tj_wn (c : Nat → Nat) : Nat → Nat → Nat
  | 0, _ => 0
  | e + 1, s => tj_wn c e s + (if s.testBit e then c e else 0)
theorem tj_ifb (b : Bool) (D i : Nat) : (if b = true then D else 0).testBit i = (b && D.testBit i) := by
  cases b <;> simp
theorem tj_xif (A B D : Nat) (p q : Bool) : (A ^^^ B) ^^^ (if (p ^^ q) = true then D else 0) = (A ^^^ (if p = true then D else 0)) ^^^ (B ^^^ (if q = true then D else 0)) := by
  apply Nat.eq_of_testBit_eq
  intro i
  simp only [Nat.testBit_xor, tj_ifb]
  cases A.testBit i <;> cases B.testBit i <;> cases D.testBit i <;> cases p <;> cases q <;> rfl
theorem tj_xc (a b : Nat) : (a ^^^ b) ^^^ b = a := by
  rw [Nat.xor_assoc, Nat.xor_self, Nat.xor_zero]
theorem tj_xe {a b c : Nat} (h : a ^^^ b = c) : a = c ^^^ b := by
  rw [← h, tj_xc]
theorem tj_od_xor (d : Nat → Nat) : ∀ e s t, tj_od d e (s ^^^ t) = tj_od d e s ^^^ tj_od d e t := by
  intro e
  induction e with
  | zero => intro s t; simp [tj_od]
  | succ e ih =>
    intro s t
    simp only [tj_od, ih, Nat.testBit_xor]
    exact tj_xif _ _ _ _ _
theorem tj_od_congr {d d' : Nat → Nat} : ∀ {e s t : Nat}, (∀ i, i < e → d i = d' i) → (∀ i, i < e → s.testBit i = t.testBit i) → tj_od d e s = tj_od d' e t := by
  intro e
  induction e with
  | zero => intro s t _ _; rfl
  | succ e ih =>
    intro s t hd h
    have h1 := ih (fun i hi => hd i (by omega)) (fun i hi => h i (by omega))
    simp only [tj_od, h1, h e (by omega), hd e (by omega)]
theorem tj_od_none {d : Nat → Nat} : ∀ {e s : Nat}, (∀ i, i < e → s.testBit i = false) → tj_od d e s = 0 := by
  intro e
  induction e with
  | zero => intro s _; rfl
  | succ e ih =>
    intro s h
    simp only [tj_od, ih (fun i hi => h i (by omega)), h e (by omega)]
    simp
theorem tj_od_one {d : Nat → Nat} {k : Nat} : ∀ {e : Nat}, k < e → tj_od d e (2 ^ k) = d k := by
  intro e
  induction e with
  | zero => intro h; omega
  | succ e ih =>
    intro h
    by_cases hk : k = e
    · subst hk
      have h0 : tj_od d k (2 ^ k) = 0 := tj_od_none (fun i hi => Nat.testBit_two_pow_of_ne (by omega))
      simp only [tj_od, h0, Nat.testBit_two_pow_self, if_true, Nat.zero_xor]
    · have h0 := ih (by omega)
      simp only [tj_od, h0, Nat.testBit_two_pow_of_ne hk]
      simp
theorem tj_od_lt {d : Nat → Nat} {N : Nat} : ∀ {e s : Nat}, (∀ i, i < e → d i < 2 ^ N) → tj_od d e s < 2 ^ N := by
  intro e
  induction e with
  | zero => intro s _; exact Nat.two_pow_pos N
  | succ e ih =>
    intro s h
    have h1 := ih (s := s) (fun i hi => h i (by omega))
    simp only [tj_od]
    apply Nat.xor_lt_two_pow h1
    by_cases hb : s.testBit e = true
    · rw [if_pos hb]; exact h e (by omega)
    · rw [if_neg hb]; exact Nat.two_pow_pos N
theorem tj_od_bit {d : Nat → Nat} {v : Nat} : ∀ {e s : Nat}, (tj_od d e s).testBit v = true → ∃ i, i < e ∧ s.testBit i = true ∧ (d i).testBit v = true := by
  intro e
  induction e with
  | zero => intro s h; simp [tj_od] at h
  | succ e ih =>
    intro s h
    by_cases h1 : (tj_od d e s).testBit v = true
    · obtain ⟨i, hi, h2⟩ := ih h1
      exact ⟨i, by omega, h2⟩
    · simp only [tj_od, Nat.testBit_xor, tj_ifb] at h
      have h2 : (tj_od d e s).testBit v = false := by
        cases hh : (tj_od d e s).testBit v
        · rfl
        · exact absurd hh h1
      rw [h2] at h
      simp only [Bool.false_xor, Bool.and_eq_true] at h
      exact ⟨e, by omega, h.1, h.2⟩
theorem tj_wt_congr {c c' : Nat → Int} : ∀ {e s t : Nat}, (∀ i, i < e → c i = c' i) → (∀ i, i < e → s.testBit i = t.testBit i) → tj_wt c e s = tj_wt c' e t := by
  intro e
  induction e with
  | zero => intro s t _ _; rfl
  | succ e ih =>
    intro s t hd h
    have h1 := ih (fun i hi => hd i (by omega)) (fun i hi => h i (by omega))
    simp only [tj_wt, h1, h e (by omega), hd e (by omega)]
theorem tj_wn_congr {c c' : Nat → Nat} : ∀ {e s t : Nat}, (∀ i, i < e → c i = c' i) → (∀ i, i < e → s.testBit i = t.testBit i) → tj_wn c e s = tj_wn c' e t := by
  intro e
  induction e with
  | zero => intro s t _ _; rfl
  | succ e ih =>
    intro s t hd h
    have h1 := ih (fun i hi => hd i (by omega)) (fun i hi => h i (by omega))
    simp only [tj_wn, h1, h e (by omega), hd e (by omega)]
theorem tj_wn_xor {c : Nat → Nat} : ∀ (e s t : Nat), tj_wn c e (s ^^^ t) ≤ tj_wn c e s + tj_wn c e t := by
  intro e
  induction e with
  | zero => intro s t; exact Nat.zero_le _
  | succ e ih =>
    intro s t
    have h := ih s t
    simp only [tj_wn, Nat.testBit_xor]
    cases s.testBit e <;> cases t.testBit e <;> simp <;> omega
theorem tj_wn_le {c : Nat → Nat} : ∀ {e s : Nat}, (∀ i, i < e → c i ≤ 8388608) → tj_wn c e s ≤ e * 8388608 := by
  intro e
  induction e with
  | zero => intro s _; exact Nat.zero_le _
  | succ e ih =>
    intro s h
    have h1 := ih (s := s) (fun i hi => h i (by omega))
    have h2 := h e (by omega)
    have h3 : (e + 1) * 8388608 = e * 8388608 + 8388608 := Nat.succ_mul _ _
    rw [h3]
    generalize e * 8388608 = m at h1
    simp only [tj_wn]
    by_cases hb : s.testBit e = true
    · rw [if_pos hb]; exact Nat.add_le_add h1 h2
    · rw [if_neg hb]; exact Nat.le_trans h1 (Nat.le_add_right _ _)
/-- a road taken out -/
theorem tj_wn_rm {c : Nat → Nat} {k : Nat} : ∀ {e s : Nat}, k < e → s.testBit k = true → tj_wn c e (s ^^^ 2 ^ k) + c k = tj_wn c e s := by
  intro e
  induction e with
  | zero => intro s h; omega
  | succ e ih =>
    intro s h hb
    by_cases hk : k = e
    · subst hk
      have h1 : tj_wn c k (s ^^^ 2 ^ k) = tj_wn c k s := tj_wn_congr (fun _ _ => rfl) (fun i hi => by
        rw [Nat.testBit_xor, Nat.testBit_two_pow_of_ne (by omega), Bool.xor_false])
      simp only [tj_wn, h1, Nat.testBit_xor, hb, Nat.testBit_two_pow_self]
      simp
    · have h1 := ih (by omega) hb
      simp only [tj_wn, Nat.testBit_xor, Nat.testBit_two_pow_of_ne hk, Bool.xor_false]
      omega
theorem tj_od_rm {d : Nat → Nat} {k e s : Nat} (h : k < e) : tj_od d e (s ^^^ 2 ^ k) = tj_od d e s ^^^ d k := by
  rw [tj_od_xor, tj_od_one h]
/-- negative roads put in: weights against amounts -/
theorem tj_wt_neg {c : Nat → Int} {g : Nat} : ∀ {e : Nat}, (∀ i, i < e → g.testBit i = decide (c i < 0)) → ∀ s, tj_wt c e (s ^^^ g) = (tj_wn (fun i => (c i).natAbs) e s : Int) + tj_wt c e g := by
  intro e
  induction e with
  | zero => intro _ s; rfl
  | succ e ih =>
    intro h s
    have h1 := ih (fun i hi => h i (by omega)) s
    have h2 := h e (by omega)
    simp only [tj_wt, tj_wn, Nat.testBit_xor, h1, h2]
    by_cases hc : c e < 0
    · simp only [hc, decide_true]
      cases s.testBit e <;> simp <;> omega
    · simp only [hc, decide_false]
      cases s.testBit e <;> simp <;> omega
/-- the costs: weights 4096 times, and the set's own number -/
theorem tj_wt_cost {w : Nat → Int} : ∀ (e : Nat) {s : Nat}, s < 2 ^ e → tj_wt (fun i => 4096 * w i + ((2 ^ i : Nat) : Int)) e s = 4096 * tj_wt w e s + (s : Int) := by
  intro e
  induction e with
  | zero =>
    intro s h
    have h0 : s = 0 := by simp at h; exact h
    subst h0; rfl
  | succ e ih =>
    intro s h
    have hp : 2 ^ (e + 1) = 2 ^ e + 2 ^ e := by rw [Nat.pow_succ]; omega
    by_cases hb : s.testBit e = true
    · have hge : 2 ^ e ≤ s := Nat.ge_two_pow_of_testBit hb
      have h1 := ih (s := s - 2 ^ e) (by omega)
      have hs : s = 2 ^ e + (s - 2 ^ e) := by omega
      have hc : ∀ i, i < e → s.testBit i = (s - 2 ^ e).testBit i := by
        intro i hi
        have := Nat.testBit_two_pow_add_gt hi (s - 2 ^ e)
        rw [← hs] at this
        exact this
      rw [← tj_wt_congr (fun _ _ => rfl) hc, ← tj_wt_congr (fun _ _ => rfl) hc] at h1
      simp only [tj_wt, if_pos hb, h1]
      have hz : ((s - 2 ^ e : Nat) : Int) = (s : Int) - ((2 ^ e : Nat) : Int) := by omega
      rw [hz]
      omega
    · have hlt : s < 2 ^ e := by
        apply Nat.lt_of_not_le
        intro hge
        apply hb
        exact Nat.testBit_of_two_pow_le_and_two_pow_add_one_gt hge h
      have h1 := ih hlt
      simp only [tj_wt, if_neg hb, h1]
      omega
theorem tj_wt_add {c c' : Nat → Int} : ∀ (e s : Nat), tj_wt (fun i => c i + c' i) e s = tj_wt c e s + tj_wt c' e s := by
  intro e
  induction e with
  | zero => intro s; rfl
  | succ e ih =>
    intro s
    simp only [tj_wt, ih]
    cases s.testBit e <;> simp <;> omega
theorem tj_wt_delta {x : Int} {k : Nat} : ∀ {e : Nat} (s : Nat), tj_wt (fun i => if i = k then x else 0) e s = if k < e ∧ s.testBit k = true then x else 0 := by
  intro e
  induction e with
  | zero => intro s; simp [tj_wt]
  | succ e ih =>
    intro s
    simp only [tj_wt, ih]
    by_cases hk : e = k
    · subst hk
      simp only [Nat.lt_irrefl, false_and, if_false, Nat.lt_succ_self, true_and, if_true]
      simp
    · simp only [if_neg hk]
      have : (k < e + 1 ∧ s.testBit k = true) ↔ (k < e ∧ s.testBit k = true) := ⟨fun z => ⟨by omega, z.2⟩, fun z => ⟨by omega, z.2⟩⟩
      simp only [this]
      simp
theorem tj_wt_bd {c : Nat → Int} : ∀ {e s : Nat}, (∀ i, i < e → -9 ≤ c i ∧ c i ≤ 20) → -9 * (e : Int) ≤ tj_wt c e s ∧ tj_wt c e s ≤ 20 * (e : Int) := by
  intro e
  induction e with
  | zero => intro s _; exact ⟨Int.le_refl _, Int.le_refl _⟩
  | succ e ih =>
    intro s h
    have h1 := ih (s := s) (fun i hi => h i (by omega))
    have h2 := h e (by omega)
    simp only [tj_wt]
    by_cases hb : s.testBit e = true
    · rw [if_pos hb]; omega
    · rw [if_neg hb]; omega
end
section
/-! shortest ways and trails (plain) -/
def tj_d (A B : Nat → Nat) (e : Nat) : Nat := 2 ^ A e ^^^ 2 ^ B e
theorem tj_d_lt {A B : Nat → Nat} {N e : Nat} (ha : A e < N) (hb : B e < N) : tj_d A B e < 2 ^ N :=
  Nat.xor_lt_two_pow (Nat.pow_lt_pow_right (by decide) ha) (Nat.pow_lt_pow_right (by decide) hb)
theorem tj_xb (u v i : Nat) : (2 ^ u ^^^ 2 ^ v).testBit i = (decide (u = i) ^^ decide (v = i)) := by
  rw [Nat.testBit_xor, Nat.testBit_two_pow, Nat.testBit_two_pow]
/-- ways over places below m are no shorter -/
def tj_tri (m : Nat) (F : Nat → Nat) : Prop := ∀ x, x < m → ∀ i j, i < 7 → j < 7 → F (7 * i + j) ≤ F (7 * i + x) + F (7 * x + j)
def tj_G (F : Nat → Nat) (m k : Nat) : Nat := if F (7 * (k / 7) + m) + F (7 * m + k % 7) < F k then F (7 * (k / 7) + m) + F (7 * m + k % 7) else F k
theorem tj_G_at (F : Nat → Nat) (m : Nat) {i j : Nat} (hj : j < 7) : tj_G F m (7 * i + j) = if F (7 * i + m) + F (7 * m + j) < F (7 * i + j) then F (7 * i + m) + F (7 * m + j) else F (7 * i + j) := by
  unfold tj_G
  rw [show (7 * i + j) / 7 = i by omega, show (7 * i + j) % 7 = j by omega]
theorem tj_fw {m : Nat} {F F' : Nat → Nat} (hm : m < 7) (hF : tj_tri m F) (hd : ∀ i, i < 7 → F (7 * i + i) = 0) (hG : ∀ k, k < 49 → F' k = tj_G F m k) : tj_tri (m + 1) F' := by
  intro x hx i j hi hj
  have hx7 : x < 7 := by omega
  have e1 := hG (7 * i + j) (by omega)
  have e2 := hG (7 * i + x) (by omega)
  have e3 := hG (7 * x + j) (by omega)
  rw [tj_G_at F m hj] at e1
  rw [tj_G_at F m hx7] at e2
  rw [tj_G_at F m hj] at e3
  have z := hd m hm
  by_cases hxm : x = m
  · subst hxm
    rw [e1, e2, e3, z]
    split <;> split <;> split <;> omega
  · have t1 := hF x (by omega) i j hi hj
    have t2 := hF x (by omega) m j hm hj
    have t3 := hF x (by omega) i m hi hm
    rw [e1, e2, e3]
    split <;> split <;> split <;> omega
/-- from an odd place of a set of roads a trail leads to another one -/
theorem tj_trail {A B : Nat → Nat} {C N : Nat} {c F : Nat → Nat} (hN : N ≤ 7) (hA : ∀ e, e < C → A e < N ∧ B e < N) (hF : tj_tri N F) (hc : ∀ e, e < C → F (7 * A e + B e) ≤ c e ∧ F (7 * B e + A e) ≤ c e) :
    ∀ n J v, tj_wn (fun _ => 1) C J ≤ n → (tj_od (tj_d A B) C J).testBit v = true → ∃ p J', p ≠ v ∧ (tj_od (tj_d A B) C J).testBit p = true ∧ tj_od (tj_d A B) C J' = tj_od (tj_d A B) C J ^^^ (2 ^ v ^^^ 2 ^ p) ∧ F (7 * v + p) + tj_wn c C J' ≤ tj_wn c C J := by
  intro n
  induction n with
  | zero =>
    intro J v hn hv
    obtain ⟨e, he, hb, _⟩ := tj_od_bit hv
    have := tj_wn_rm (c := fun _ => 1) he hb
    omega
  | succ n ih =>
    intro J v hn hv
    obtain ⟨e, he, hb, hd⟩ := tj_od_bit hv
    have hm := tj_wn_rm (c := fun _ => 1) he hb
    have hw := tj_wn_rm (c := c) he hb
    have ho : tj_od (tj_d A B) C (J ^^^ 2 ^ e) = tj_od (tj_d A B) C J ^^^ tj_d A B e := tj_od_rm he
    have hab := hA e he
    have hce := hc e he
    -- the other end
    have hoth : ∃ y, y ≠ v ∧ y < N ∧ v < N ∧ tj_d A B e = 2 ^ v ^^^ 2 ^ y ∧ F (7 * v + y) ≤ c e := by
      unfold tj_d at hd
      rw [tj_xb] at hd
      by_cases h1 : A e = v
      · have h2 : B e ≠ v := by
          intro h2
          rw [decide_eq_true h1, decide_eq_true h2] at hd
          exact absurd hd (by decide)
        exact ⟨B e, h2, hab.2, h1 ▸ hab.1, by rw [← h1]; rfl, by rw [← h1]; exact hce.1⟩
      · have h2 : B e = v := by
          by_cases h2 : B e = v
          · exact h2
          · rw [decide_eq_false h1, decide_eq_false h2] at hd
            exact absurd hd (by decide)
        exact ⟨A e, h1, hab.1, h2 ▸ hab.2, by rw [← h2]; exact Nat.xor_comm _ _, by rw [← h2]; exact hce.2⟩
    obtain ⟨y, hyv, hy, hvN, hde, hFy⟩ := hoth
    rw [hde] at ho
    by_cases hin : (tj_od (tj_d A B) C J).testBit y = true
    · exact ⟨y, J ^^^ 2 ^ e, hyv, hin, ho, by omega⟩
    · have hin' : (tj_od (tj_d A B) C J).testBit y = false := by
        cases hh : (tj_od (tj_d A B) C J).testBit y
        · rfl
        · exact absurd hh hin
      have hy1 : (tj_od (tj_d A B) C (J ^^^ 2 ^ e)).testBit y = true := by
        rw [ho, Nat.testBit_xor, tj_xb, hin', decide_eq_false (fun z => hyv z.symm), decide_eq_true rfl]
        rfl
      obtain ⟨p, J', hpy, hp, hoJ, hle⟩ := ih (J ^^^ 2 ^ e) y (by omega) hy1
      have hpv : p ≠ v := by
        intro hpv
        subst hpv
        rw [ho, Nat.testBit_xor, tj_xb, hv, decide_eq_true rfl, decide_eq_false hyv] at hp
        exact absurd hp (by decide)
      have hpJ : (tj_od (tj_d A B) C J).testBit p = true := by
        rw [ho, Nat.testBit_xor, tj_xb, decide_eq_false (fun z => hpv z.symm), decide_eq_false (fun z => hpy z.symm)] at hp
        simpa using hp
      have hp7 : p < 7 := by
        have hlt : tj_od (tj_d A B) C J < 2 ^ N := tj_od_lt (fun i hi => tj_d_lt (hA i hi).1 (hA i hi).2)
        apply Nat.lt_of_not_le
        intro h7
        have h8 : tj_od (tj_d A B) C J < 2 ^ p := Nat.lt_of_lt_of_le hlt (tj_ple (by omega))
        rw [Nat.testBit_lt_two_pow h8] at hpJ
        exact absurd hpJ (by decide)
      have ht := hF y hy v p (by omega) hp7
      refine ⟨p, J', hpv, hpJ, ?_, by omega⟩
      rw [hoJ, ho]
      apply Nat.eq_of_testBit_eq
      intro i
      simp only [Nat.testBit_xor, Nat.testBit_two_pow]
      cases (tj_od (tj_d A B) C J).testBit i <;> cases decide (v = i) <;> cases decide (y = i) <;> cases decide (p = i) <;> rfl
theorem tj_top {t : Nat} (h : t ≠ 0) : ∃ x, t.testBit x = true ∧ ∀ q, x < q → t.testBit q = false :=
  ⟨t.log2, Nat.testBit_log2 h, fun q hq => Nat.testBit_lt_two_pow (Nat.lt_of_lt_of_le Nat.lt_log2_self (tj_ple hq))⟩
/-- pairs by least sums are no dearer than any set of roads -/
theorem tj_lower {A B : Nat → Nat} {C N : Nat} {c F S : Nat → Nat} {goal : Nat} (hN : N ≤ 7) (hA : ∀ e, e < C → A e < N ∧ B e < N) (hF : tj_tri N F) (hc : ∀ e, e < C → F (7 * A e + B e) ≤ c e ∧ F (7 * B e + A e) ≤ c e)
    (h0 : S 0 = 0) (hS : ∀ t x p, (∀ i, t.testBit i = true → goal.testBit i = true) → t.testBit x = true → (∀ q, x < q → t.testBit q = false) → p < x → t.testBit p = true → S t ≤ S (t ^^^ (2 ^ x ^^^ 2 ^ p)) + F (7 * x + p)) :
    ∀ n t J, tj_wn (fun _ => 1) 7 t ≤ n → (∀ i, t.testBit i = true → goal.testBit i = true) → tj_od (tj_d A B) C J = t → S t ≤ tj_wn c C J := by
  intro n
  induction n with
  | zero =>
    intro t J hn hg hJ
    by_cases ht : t = 0
    · rw [ht, h0]; exact Nat.zero_le _
    · obtain ⟨x, hx, hmax⟩ := tj_top ht
      have hlt : t < 2 ^ 7 := by
        rw [← hJ]
        exact Nat.lt_of_lt_of_le (tj_od_lt (fun i hi => tj_d_lt (hA i hi).1 (hA i hi).2)) (tj_ple hN)
      have hx7 : x < 7 := by
        apply Nat.lt_of_not_le
        intro h7
        rw [Nat.testBit_lt_two_pow (Nat.lt_of_lt_of_le hlt (tj_ple h7))] at hx
        exact absurd hx (by decide)
      have := tj_wn_rm (c := fun _ => 1) hx7 hx
      omega
  | succ n ih =>
    intro t J hn hg hJ
    by_cases ht : t = 0
    · rw [ht, h0]; exact Nat.zero_le _
    · obtain ⟨x, hx, hmax⟩ := tj_top ht
      have hlt : t < 2 ^ 7 := by
        rw [← hJ]
        exact Nat.lt_of_lt_of_le (tj_od_lt (fun i hi => tj_d_lt (hA i hi).1 (hA i hi).2)) (tj_ple hN)
      have hx7 : x < 7 := by
        apply Nat.lt_of_not_le
        intro h7
        rw [Nat.testBit_lt_two_pow (Nat.lt_of_lt_of_le hlt (tj_ple h7))] at hx
        exact absurd hx (by decide)
      obtain ⟨p, J', hpx, hp, hJ', hle⟩ := tj_trail hN hA hF hc _ J x (Nat.le_refl _) (by rw [hJ]; exact hx)
      rw [hJ] at hp hJ'
      have hpl : p < x := by
        apply Nat.lt_of_le_of_ne _ hpx
        apply Nat.le_of_not_lt
        intro h
        rw [hmax p h] at hp
        exact absurd hp (by decide)
      have s1 := hS t x p hg hx hmax hpl hp
      have m1 := tj_wn_rm (c := fun _ => 1) hx7 hx
      have m2 := tj_wn_rm (c := fun _ => 1) (e := 7) (s := t ^^^ 2 ^ x) (k := p) (by omega) (by
        rw [Nat.testBit_xor, hp, Nat.testBit_two_pow_of_ne (by omega)]; rfl)
      rw [Nat.xor_assoc] at m2
      have hg2 : ∀ i, (t ^^^ (2 ^ x ^^^ 2 ^ p)).testBit i = true → goal.testBit i = true := by
        intro i hi
        by_cases h1 : t.testBit i = true
        · exact hg i h1
        · rw [Nat.testBit_xor, tj_xb] at hi
          by_cases h2 : x = i
          · exact hg i (h2 ▸ hx)
          · by_cases h3 : p = i
            · exact hg i (h3 ▸ hp)
            · rw [decide_eq_false h2, decide_eq_false h3] at hi
              simp at hi
              exact absurd hi h1
      have s2 := ih (t ^^^ (2 ^ x ^^^ 2 ^ p)) J' (by omega) hg2 hJ'
      omega
end
section
/-! counts, labels of joined places, parities (plain) -/
def tj_cnt (f : Nat → Bool) : Nat → Nat
  | 0 => 0
  | n + 1 => tj_cnt f n + (if f n then 1 else 0)
theorem tj_cnt_congr {f g : Nat → Bool} : ∀ {n : Nat}, (∀ i, i < n → f i = g i) → tj_cnt f n = tj_cnt g n := by
  intro n
  induction n with
  | zero => intro _; rfl
  | succ n ih =>
    intro h
    simp only [tj_cnt, ih (fun i hi => h i (by omega)), h n (by omega)]
theorem tj_cnt_add (f : Nat → Bool) (a : Nat) : ∀ b, tj_cnt f (a + b) = tj_cnt f a + tj_cnt (fun i => f (a + i)) b := by
  intro b
  induction b with
  | zero => rfl
  | succ b ih =>
    rw [← Nat.add_assoc]
    simp only [tj_cnt, ih]
    omega
theorem tj_cnt_all {f : Nat → Bool} : ∀ {n : Nat}, (∀ i, i < n → f i = true) → tj_cnt f n = n := by
  intro n
  induction n with
  | zero => intro _; rfl
  | succ n ih =>
    intro h
    simp only [tj_cnt, ih (fun i hi => h i (by omega)), h n (by omega)]
    simp
theorem tj_cnt_le (f : Nat → Bool) : ∀ n : Nat, tj_cnt f n ≤ n := by
  intro n
  induction n with
  | zero => exact Nat.le_refl _
  | succ n ih =>
    simp only [tj_cnt]
    split <;> omega
theorem tj_cnt_pos {f : Nat → Bool} : ∀ {n i : Nat}, i < n → f i = true → 0 < tj_cnt f n := by
  intro n
  induction n with
  | zero => intro i h; omega
  | succ n ih =>
    intro i hi h
    simp only [tj_cnt]
    by_cases he : i = n
    · subst he
      rw [if_pos h]; omega
    · have := ih (i := i) (by omega) h
      omega
theorem tj_cnt_ex {f : Nat → Bool} : ∀ {n : Nat}, 0 < tj_cnt f n → ∃ i, i < n ∧ f i = true := by
  intro n
  induction n with
  | zero => intro h; simp [tj_cnt] at h
  | succ n ih =>
    intro h
    by_cases hf : f n = true
    · exact ⟨n, by omega, hf⟩
    · simp only [tj_cnt, if_neg hf] at h
      obtain ⟨i, hi, h1⟩ := ih (by omega)
      exact ⟨i, by omega, h1⟩
/-- one more at one place -/
theorem tj_cnt_upd {f g : Nat → Bool} {x : Nat} (hf : f x = false) (hg : g x = true) (h : ∀ i, i ≠ x → g i = f i) : ∀ {n : Nat}, x < n → tj_cnt g n = tj_cnt f n + 1 := by
  intro n
  induction n with
  | zero => intro h; omega
  | succ n ih =>
    intro hx
    by_cases he : x = n
    · subst he
      have h1 : tj_cnt g x = tj_cnt f x := tj_cnt_congr (fun i hi => h i (by omega))
      simp only [tj_cnt, h1, hf, hg]
      simp
    · have h1 := ih (by omega)
      simp only [tj_cnt, h1, h n (fun z => he z.symm)]
      omega
theorem tj_cnt_mono {f g : Nat → Bool} (h : ∀ i, f i = true → g i = true) : ∀ n : Nat, tj_cnt f n ≤ tj_cnt g n := by
  intro n
  induction n with
  | zero => exact Nat.le_refl _
  | succ n ih =>
    simp only [tj_cnt]
    by_cases hf : f n = true
    · rw [if_pos hf, if_pos (h n hf)]; omega
    · rw [if_neg hf]; omega
theorem tj_cnt_lt {f g : Nat → Bool} (h : ∀ i, f i = true → g i = true) {x : Nat} (hf : f x = false) (hg : g x = true) : ∀ {n : Nat}, x < n → tj_cnt f n < tj_cnt g n := by
  intro n
  induction n with
  | zero => intro h; omega
  | succ n ih =>
    intro hx
    by_cases he : x = n
    · subst he
      have h1 := tj_cnt_mono h x
      simp only [tj_cnt, hf, hg]
      simp
      omega
    · have h1 := ih (by omega)
      simp only [tj_cnt]
      by_cases hfn : f n = true
      · rw [if_pos hfn, if_pos (h n hfn)]; omega
      · rw [if_neg hfn]; omega
/-- the labels -/
def tj_lab (A B : Nat → Nat) : Nat → Nat → Nat
  | 0, p => p
  | e + 1, p => if tj_lab A B e p = tj_lab A B e (B e) then tj_lab A B e (A e) else tj_lab A B e p
def tj_par (L : Nat → Nat) (a S : Nat) : Nat → Bool
  | 0 => false
  | p + 1 => tj_par L a S p ^^ (decide (L p = a) && S.testBit p)
theorem tj_par_xor (L : Nat → Nat) (a S T : Nat) : ∀ n, tj_par L a (S ^^^ T) n = (tj_par L a S n ^^ tj_par L a T n) := by
  intro n
  induction n with
  | zero => rfl
  | succ n ih =>
    simp only [tj_par, ih, Nat.testBit_xor]
    cases tj_par L a S n <;> cases tj_par L a T n <;> cases decide (L n = a) <;> cases S.testBit n <;> cases T.testBit n <;> rfl
theorem tj_par_none {L : Nat → Nat} {a S : Nat} : ∀ {n : Nat}, (∀ p, p < n → L p ≠ a ∨ S.testBit p = false) → tj_par L a S n = false := by
  intro n
  induction n with
  | zero => intro _; rfl
  | succ n ih =>
    intro h
    simp only [tj_par, ih (fun p hp => h p (by omega))]
    rcases h n (by omega) with h1 | h1
    · rw [decide_eq_false h1]; rfl
    · rw [h1]; simp
theorem tj_par_one {L : Nat → Nat} {a u : Nat} : ∀ {n : Nat}, u < n → tj_par L a (2 ^ u) n = decide (L u = a) := by
  intro n
  induction n with
  | zero => intro h; omega
  | succ n ih =>
    intro h
    by_cases hu : u = n
    · subst hu
      have h0 : tj_par L a (2 ^ u) u = false := tj_par_none (fun p hp => Or.inr (Nat.testBit_two_pow_of_ne (by omega)))
      simp only [tj_par, h0, Nat.testBit_two_pow_self, Bool.and_true, Bool.false_xor]
    · have h0 := ih (by omega)
      simp only [tj_par, h0, Nat.testBit_two_pow_of_ne hu, Bool.and_false, Bool.xor_false]
theorem tj_par_congr {L L' : Nat → Nat} {a a' S : Nat} : ∀ {n : Nat}, (∀ p, p < n → (L p = a ↔ L' p = a')) → tj_par L a S n = tj_par L' a' S n := by
  intro n
  induction n with
  | zero => intro _; rfl
  | succ n ih =>
    intro h
    have h1 := h n (by omega)
    simp only [tj_par, ih (fun p hp => h p (by omega)), h1]
/-- two labels made one -/
theorem tj_par_two {L L' : Nat → Nat} {x y S : Nat} (hxy : x ≠ y) : ∀ {n : Nat}, (∀ p, p < n → (L' p = x ↔ (L p = x ∨ L p = y))) → tj_par L' x S n = (tj_par L x S n ^^ tj_par L y S n) := by
  intro n
  induction n with
  | zero => intro _; rfl
  | succ n ih =>
    intro h
    have h1 := h n (by omega)
    simp only [tj_par, ih (fun p hp => h p (by omega)), h1]
    by_cases hx : L n = x
    · have hy : ¬ L n = y := fun z => hxy (hx.symm.trans z)
      simp only [hx, hy, decide_true, decide_false, true_or, if_true]
      have hy' : ¬ x = y := hxy
      simp only [hy', decide_false]
      cases tj_par L x S n <;> cases tj_par L y S n <;> cases S.testBit n <;> rfl
    · by_cases hy : L n = y
      · have hx' : ¬ y = x := fun z => hxy z.symm
        simp only [hy, hx', decide_true, decide_false, or_true, or_false, false_or]
        cases tj_par L x S n <;> cases tj_par L y S n <;> cases S.testBit n <;> rfl
      · simp only [hx, hy, decide_false, or_false]
        cases tj_par L x S n <;> cases tj_par L y S n <;> cases S.testBit n <;> rfl
theorem tj_par_id {a S : Nat} : ∀ {n : Nat}, a < n → tj_par (fun p => p) a S n = S.testBit a := by
  intro n
  induction n with
  | zero => intro h; omega
  | succ n ih =>
    intro h
    by_cases ha : a = n
    · subst ha
      have h0 : tj_par (fun p => p) a S a = false := tj_par_none (fun p hp => Or.inl (by omega))
      simp only [tj_par, h0, decide_true, Bool.true_and, Bool.false_xor]
    · have h0 := ih (by omega)
      have hn : ¬ n = a := fun z => ha z.symm
      simp only [tj_par, h0, hn, decide_false, Bool.false_and, Bool.xor_false]
theorem tj_lab_lt {A B : Nat → Nat} {N : Nat} : ∀ {e p : Nat}, (∀ i, i < e → A i < N ∧ B i < N) → p < N → tj_lab A B e p < N := by
  intro e
  induction e with
  | zero => intro p _ h; exact h
  | succ e ih =>
    intro p h hp
    simp only [tj_lab]
    split
    · exact ih (fun i hi => h i (by omega)) (h e (by omega)).1
    · exact ih (fun i hi => h i (by omega)) hp
theorem tj_lab_up {A B : Nat → Nat} {p q : Nat} : ∀ {e e' : Nat}, e ≤ e' → tj_lab A B e p = tj_lab A B e q → tj_lab A B e' p = tj_lab A B e' q := by
  intro e e' h hl
  obtain ⟨k, rfl⟩ : ∃ k, e' = e + k := ⟨e' - e, by omega⟩
  clear h
  induction k with
  | zero => exact hl
  | succ k ih =>
    rw [← Nat.add_assoc]
    simp only [tj_lab, ih]
theorem tj_lab_end {A B : Nat → Nat} {e C : Nat} (h : e < C) : tj_lab A B C (A e) = tj_lab A B C (B e) := by
  apply tj_lab_up (e := e + 1) h
  simp only [tj_lab]
  simp
/-- a set of places that no road leaves is one of whole labels -/
theorem tj_lab_cl {A B : Nat → Nat} {R : Nat} : ∀ {e : Nat}, (∀ i, i < e → R.testBit (A i) = R.testBit (B i)) → ∀ p q, tj_lab A B e p = tj_lab A B e q → R.testBit p = R.testBit q := by
  intro e
  induction e with
  | zero =>
    intro _ p q h
    have h : p = q := h
    rw [h]
  | succ e ih =>
    intro hR p q h
    have hi := ih (fun i hi => hR i (by omega))
    have hr := hR e (by omega)
    simp only [tj_lab] at h
    by_cases h1 : tj_lab A B e p = tj_lab A B e (B e)
    · by_cases h2 : tj_lab A B e q = tj_lab A B e (B e)
      · rw [hi _ _ h1, hi _ _ h2]
      · rw [if_pos h1, if_neg h2] at h
        rw [hi _ _ h1, ← hr, hi _ _ h]
    · by_cases h2 : tj_lab A B e q = tj_lab A B e (B e)
      · rw [if_neg h1, if_pos h2] at h
        rw [hi _ _ h2, ← hr, hi _ _ h]
      · rw [if_neg h1, if_neg h2] at h
        exact hi _ _ h
/-- first of its label; the labels that occur -/
def tj_fs (L : Nat → Nat) (p : Nat) : Nat → Bool
  | 0 => true
  | q + 1 => tj_fs L p q && decide (L q ≠ L p)
theorem tj_fs_iff (L : Nat → Nat) (p : Nat) : ∀ n, tj_fs L p n = true ↔ ∀ q, q < n → L q ≠ L p := by
  intro n
  induction n with
  | zero => exact ⟨fun _ q hq => absurd hq (by omega), fun _ => rfl⟩
  | succ n ih =>
    simp only [tj_fs, Bool.and_eq_true, decide_eq_true_eq, ih]
    constructor
    · intro h q hq
      by_cases he : q = n
      · rw [he]; exact h.2
      · exact h.1 q (by omega)
    · intro h
      exact ⟨fun q hq => h q (by omega), h n (by omega)⟩
def tj_oc (L : Nat → Nat) (a : Nat) : Nat → Bool
  | 0 => false
  | p + 1 => tj_oc L a p || decide (L p = a)
theorem tj_oc_iff (L : Nat → Nat) (a : Nat) : ∀ n, tj_oc L a n = true ↔ ∃ p, p < n ∧ L p = a := by
  intro n
  induction n with
  | zero => exact ⟨fun h => Bool.noConfusion h, fun ⟨p, hp, _⟩ => absurd hp (by omega)⟩
  | succ n ih =>
    simp only [tj_oc, Bool.or_eq_true, decide_eq_true_eq, ih]
    constructor
    · rintro (⟨p, hp, h⟩ | h)
      · exact ⟨p, by omega, h⟩
      · exact ⟨n, by omega, h⟩
    · rintro ⟨p, hp, h⟩
      by_cases he : p = n
      · exact Or.inr (he ▸ h)
      · exact Or.inl ⟨p, by omega, h⟩
theorem tj_bf {x : Bool} (h : ¬ x = true) : x = false := by
  cases x
  · rfl
  · exact absurd rfl h
theorem tj_fs_oc {L : Nat → Nat} {M : Nat} : ∀ {n : Nat}, (∀ p, p < n → L p < M) → tj_cnt (fun p => tj_fs L p p) n = tj_cnt (fun a => tj_oc L a n) M := by
  intro n
  induction n with
  | zero =>
    intro _
    have h : ∀ M, tj_cnt (fun a => tj_oc L a 0) M = 0 := by
      intro M
      induction M with
      | zero => rfl
      | succ M ih =>
        simp only [tj_cnt, ih]
        rfl
    rw [h]; rfl
  | succ n ih =>
    intro h
    have h1 := ih (fun p hp => h p (by omega))
    have hL := h n (by omega)
    by_cases hf : tj_fs L n n = true
    · have h2 : tj_oc L (L n) n = false := by
        apply tj_bf
        intro hz
        obtain ⟨p, hp, hz⟩ := (tj_oc_iff L (L n) n).mp hz
        exact (tj_fs_iff L n n).mp hf p hp hz
      have h3 : tj_cnt (fun a => tj_oc L a (n + 1)) M = tj_cnt (fun a => tj_oc L a n) M + 1 := by
        refine tj_cnt_upd (x := L n) h2 ?_ ?_ hL
        · simp only [tj_oc, decide_true, Bool.or_true]
        · intro i hi
          have hi : ¬ L n = i := fun z => hi z.symm
          simp only [tj_oc, hi, decide_false, Bool.or_false]
      rw [h3]
      simp only [tj_cnt, h1, if_pos hf]
    · have h2 : tj_oc L (L n) n = true := by
        cases hz : tj_oc L (L n) n
        · exfalso
          apply hf
          refine (tj_fs_iff L n n).mpr (fun q hq he => ?_)
          have := (tj_oc_iff L (L n) n).mpr ⟨q, hq, he⟩
          rw [hz] at this
          exact absurd this (by decide)
        · rfl
      have h3 : tj_cnt (fun a => tj_oc L a (n + 1)) M = tj_cnt (fun a => tj_oc L a n) M := by
        apply tj_cnt_congr
        intro i hi
        simp only [tj_oc]
        by_cases he : L n = i
        · subst he
          simp only [h2, Bool.true_or]
        · simp only [he, decide_false, Bool.or_false]
      rw [h3]
      simp only [tj_cnt, h1, if_neg hf]
      rfl
end
section
/-! how many sets of roads have given odd places (plain) -/
/-- every label has an even number of the set's places -/
def tj_ev (A B : Nat → Nat) (N e S : Nat) : Prop := ∀ a, tj_par (tj_lab A B e) a S N = false
def tj_num (A B : Nat → Nat) (e S : Nat) : Nat := tj_cnt (fun J => decide (tj_od (tj_d A B) e J = S)) (2 ^ e)
def tj_pc (A B : Nat → Nat) (N e : Nat) : Nat := tj_cnt (fun p => tj_fs (tj_lab A B e) p p) N
theorem tj_num_s (A B : Nat → Nat) (e S : Nat) : tj_num A B (e + 1) S = tj_num A B e S + tj_num A B e (S ^^^ tj_d A B e) := by
  unfold tj_num
  rw [show 2 ^ (e + 1) = 2 ^ e + 2 ^ e by rw [Nat.pow_succ]; omega, tj_cnt_add]
  congr 1
  · apply tj_cnt_congr
    intro J hJ
    have hb : J.testBit e = false := Nat.testBit_lt_two_pow hJ
    simp only [tj_od, hb]
    simp
  · apply tj_cnt_congr
    intro J hJ
    have hb : (2 ^ e + J).testBit e = true := by
      rw [Nat.testBit_two_pow_add_eq, Nat.testBit_lt_two_pow hJ]; rfl
    have hc : tj_od (tj_d A B) e (2 ^ e + J) = tj_od (tj_d A B) e J :=
      tj_od_congr (fun _ _ => rfl) (fun i hi => Nat.testBit_two_pow_add_gt hi J)
    simp only [tj_od, hb, hc, if_true]
    have : (tj_od (tj_d A B) e J ^^^ tj_d A B e = S) ↔ (tj_od (tj_d A B) e J = S ^^^ tj_d A B e) := by
      constructor
      · exact tj_xe
      · intro h
        rw [h, tj_xc]
    simp only [this]
section
variable {A B : Nat → Nat} {N e : Nat}
theorem tj_lab_same (hl : tj_lab A B e (A e) = tj_lab A B e (B e)) : tj_lab A B (e + 1) = tj_lab A B e := by
  funext p
  simp only [tj_lab]
  split
  · rename_i h
    rw [hl, h]
  · rfl
theorem tj_par_d (hA : A e < N) (hB : B e < N) (L : Nat → Nat) (a S : Nat) : tj_par L a (S ^^^ tj_d A B e) N = (tj_par L a S N ^^ (decide (L (A e) = a) ^^ decide (L (B e) = a))) := by
  rw [tj_par_xor]
  unfold tj_d
  rw [tj_par_xor, tj_par_one hA, tj_par_one hB]
/-- a road within one label -/
theorem tj_ev_same (hA : A e < N) (hB : B e < N) (hl : tj_lab A B e (A e) = tj_lab A B e (B e)) (S : Nat) : (tj_ev A B N (e + 1) S ↔ tj_ev A B N e S) ∧ (tj_ev A B N e (S ^^^ tj_d A B e) ↔ tj_ev A B N e S) := by
  constructor
  · unfold tj_ev
    rw [tj_lab_same hl]
  · unfold tj_ev
    have h : ∀ a, tj_par (tj_lab A B e) a (S ^^^ tj_d A B e) N = tj_par (tj_lab A B e) a S N := by
      intro a
      rw [tj_par_d hA hB, hl]
      simp
    simp only [h]
/-- a road between two labels: their parities go together -/
theorem tj_ev_two (hl : ¬ tj_lab A B e (A e) = tj_lab A B e (B e)) (S : Nat) : tj_ev A B N (e + 1) S ↔ ((tj_par (tj_lab A B e) (tj_lab A B e (A e)) S N ^^ tj_par (tj_lab A B e) (tj_lab A B e (B e)) S N) = false ∧ ∀ a, a ≠ tj_lab A B e (A e) → a ≠ tj_lab A B e (B e) → tj_par (tj_lab A B e) a S N = false) := by
  have hx : tj_par (tj_lab A B (e + 1)) (tj_lab A B e (A e)) S N = (tj_par (tj_lab A B e) (tj_lab A B e (A e)) S N ^^ tj_par (tj_lab A B e) (tj_lab A B e (B e)) S N) := by
    apply tj_par_two hl
    intro p _
    simp only [tj_lab]
    by_cases h : tj_lab A B e p = tj_lab A B e (B e)
    · rw [if_pos h]
      exact ⟨fun _ => Or.inr h, fun _ => rfl⟩
    · rw [if_neg h]
      exact ⟨fun z => Or.inl z, fun z => z.elim id (fun z => absurd z h)⟩
  have hy : tj_par (tj_lab A B (e + 1)) (tj_lab A B e (B e)) S N = false := by
    apply tj_par_none
    intro p _
    refine Or.inl ?_
    simp only [tj_lab]
    by_cases h : tj_lab A B e p = tj_lab A B e (B e)
    · rw [if_pos h]; exact hl
    · rw [if_neg h]; exact h
  have hz : ∀ a, a ≠ tj_lab A B e (A e) → a ≠ tj_lab A B e (B e) → tj_par (tj_lab A B (e + 1)) a S N = tj_par (tj_lab A B e) a S N := by
    intro a h1 h2
    apply tj_par_congr
    intro p _
    simp only [tj_lab]
    by_cases h : tj_lab A B e p = tj_lab A B e (B e)
    · rw [if_pos h]
      exact ⟨fun z => absurd z.symm h1, fun z => absurd (z.symm.trans h) h2⟩
    · rw [if_neg h]
  constructor
  · intro h
    exact ⟨by rw [← hx]; exact h _, fun a h1 h2 => by rw [← hz a h1 h2]; exact h a⟩
  · intro h a
    by_cases h1 : a = tj_lab A B e (A e)
    · rw [h1, hx]; exact h.1
    · by_cases h2 : a = tj_lab A B e (B e)
      · rw [h2, hy]
      · rw [hz a h1 h2]; exact h.2 a h1 h2
theorem tj_ev_one (hA : A e < N) (hB : B e < N) (hl : ¬ tj_lab A B e (A e) = tj_lab A B e (B e)) (S : Nat) :
    (tj_ev A B N (e + 1) S → (tj_ev A B N e S ∧ ¬ tj_ev A B N e (S ^^^ tj_d A B e)) ∨ (¬ tj_ev A B N e S ∧ tj_ev A B N e (S ^^^ tj_d A B e))) ∧ (¬ tj_ev A B N (e + 1) S → ¬ tj_ev A B N e S ∧ ¬ tj_ev A B N e (S ^^^ tj_d A B e)) := by
  have hl2 : ¬ tj_lab A B e (B e) = tj_lab A B e (A e) := fun z => hl z.symm
  have hd := tj_par_d (S := S) hA hB (tj_lab A B e)
  have ha := hd (tj_lab A B e (A e))
  have hb := hd (tj_lab A B e (B e))
  rw [decide_eq_true rfl, decide_eq_false hl2] at ha
  rw [decide_eq_true rfl, decide_eq_false hl] at hb
  have hz : ∀ a, a ≠ tj_lab A B e (A e) → a ≠ tj_lab A B e (B e) → tj_par (tj_lab A B e) a (S ^^^ tj_d A B e) N = tj_par (tj_lab A B e) a S N := by
    intro a h1 h2
    rw [hd a, decide_eq_false (fun z => h1 z.symm), decide_eq_false (fun z => h2 z.symm)]
    simp
  have f1 : tj_ev A B N e S → tj_ev A B N (e + 1) S := by
    intro h
    rw [tj_ev_two hl]
    exact ⟨by rw [h, h]; rfl, fun a _ _ => h a⟩
  have f2 : tj_ev A B N e (S ^^^ tj_d A B e) → tj_ev A B N (e + 1) S := by
    intro h
    rw [tj_ev_two hl]
    have k1 := h (tj_lab A B e (A e))
    have k2 := h (tj_lab A B e (B e))
    rw [ha] at k1
    rw [hb] at k2
    refine ⟨?_, fun a h1 h2 => by rw [← hz a h1 h2]; exact h a⟩
    revert k1 k2
    cases tj_par (tj_lab A B e) (tj_lab A B e (A e)) S N <;> cases tj_par (tj_lab A B e) (tj_lab A B e (B e)) S N <;> decide
  constructor
  · intro h
    rw [tj_ev_two hl] at h
    obtain ⟨h1, h2⟩ := h
    cases hp : tj_par (tj_lab A B e) (tj_lab A B e (A e)) S N
    · left
      have hq : tj_par (tj_lab A B e) (tj_lab A B e (B e)) S N = false := by rw [hp] at h1; simpa using h1
      constructor
      · intro a
        by_cases e1 : a = tj_lab A B e (A e)
        · rw [e1]; exact hp
        · by_cases e2 : a = tj_lab A B e (B e)
          · rw [e2]; exact hq
          · exact h2 a e1 e2
      · intro hz2
        have k1 := hz2 (tj_lab A B e (A e))
        rw [ha, hp] at k1
        exact absurd k1 (by decide)
    · right
      have hq : tj_par (tj_lab A B e) (tj_lab A B e (B e)) S N = true := by rw [hp] at h1; simpa using h1
      constructor
      · intro hz2
        have k1 := hz2 (tj_lab A B e (A e))
        rw [hp] at k1
        exact absurd k1 (by decide)
      · intro a
        by_cases e1 : a = tj_lab A B e (A e)
        · rw [e1, ha, hp]; rfl
        · by_cases e2 : a = tj_lab A B e (B e)
          · rw [e2, hb, hq]; rfl
          · rw [hz a e1 e2]; exact h2 a e1 e2
  · intro h
    exact ⟨fun z => h (f1 z), fun z => h (f2 z)⟩
/-- one label less -/
theorem tj_pc_two (h : ∀ i, i < e + 1 → A i < N ∧ B i < N) (hl : ¬ tj_lab A B e (A e) = tj_lab A B e (B e)) : tj_pc A B N e = tj_pc A B N (e + 1) + 1 := by
  have hA := (h e (by omega)).1
  have hB := (h e (by omega)).2
  have hlt : ∀ p, p < N → tj_lab A B e p < N := fun p hp => tj_lab_lt (fun i hi => h i (by omega)) hp
  unfold tj_pc
  rw [tj_fs_oc (L := tj_lab A B e) (M := N) hlt, tj_fs_oc (L := tj_lab A B (e + 1)) (M := N) (fun p hp => tj_lab_lt h hp)]
  refine tj_cnt_upd (x := tj_lab A B e (B e)) ?_ ?_ ?_ (hlt _ hB)
  · apply tj_bf
    intro hz
    obtain ⟨p, hp, hz⟩ := (tj_oc_iff _ _ _).mp hz
    simp only [tj_lab] at hz
    by_cases h1 : tj_lab A B e p = tj_lab A B e (B e)
    · rw [if_pos h1] at hz; exact hl hz
    · rw [if_neg h1] at hz; exact h1 hz
  · exact (tj_oc_iff _ _ _).mpr ⟨B e, hB, rfl⟩
  · intro a ha
    have hiff : tj_oc (tj_lab A B e) a N = true ↔ tj_oc (tj_lab A B (e + 1)) a N = true := by
      rw [tj_oc_iff, tj_oc_iff]
      constructor
      · rintro ⟨p, hp, hz⟩
        refine ⟨p, hp, ?_⟩
        simp only [tj_lab]
        rw [if_neg (fun z => ha (hz.symm.trans z)), hz]
      · rintro ⟨p, hp, hz⟩
        simp only [tj_lab] at hz
        by_cases h1 : tj_lab A B e p = tj_lab A B e (B e)
        · rw [if_pos h1] at hz
          exact ⟨A e, hA, hz⟩
        · rw [if_neg h1] at hz
          exact ⟨p, hp, hz⟩
    cases h1 : tj_oc (tj_lab A B e) a N <;> cases h2 : tj_oc (tj_lab A B (e + 1)) a N <;> simp [h1, h2] at hiff ⊢
end
theorem tj_number {A B : Nat → Nat} {N : Nat} : ∀ {e : Nat}, (∀ i, i < e → A i < N ∧ B i < N) → ∃ k, e + tj_pc A B N e = N + k ∧ ∀ S, S < 2 ^ N → (tj_ev A B N e S → tj_num A B e S = 2 ^ k) ∧ (¬ tj_ev A B N e S → tj_num A B e S = 0) := by
  intro e
  induction e with
  | zero =>
    intro _
    refine ⟨0, ?_, ?_⟩
    · have : tj_pc A B N 0 = N := by
        unfold tj_pc
        apply tj_cnt_all
        intro p _
        refine (tj_fs_iff _ _ _).mpr (fun q hq => ?_)
        show q ≠ p
        omega
      omega
    · intro S hS
      have hev : tj_ev A B N 0 S ↔ S = 0 := by
        constructor
        · intro h
          apply Nat.eq_of_testBit_eq
          intro i
          rw [Nat.zero_testBit]
          by_cases hi : i < N
          · have := h i
            rw [show tj_lab A B 0 = fun p => p from rfl, tj_par_id hi] at this
            exact this
          · exact Nat.testBit_lt_two_pow (Nat.lt_of_lt_of_le hS (tj_ple (by omega)))
        · intro h a
          exact tj_par_none (fun p _ => Or.inr (by rw [h, Nat.zero_testBit]))
      have hn : tj_num A B 0 S = if 0 = S then 1 else 0 := by
        show 0 + (if decide (0 = S) = true then 1 else 0) = if 0 = S then 1 else 0
        by_cases h0 : 0 = S
        · rw [if_pos h0, if_pos (decide_eq_true h0)]
        · rw [if_neg h0, if_neg (fun y => h0 (of_decide_eq_true y))]
      rw [hn, hev]
      exact ⟨fun z => by rw [if_pos z.symm], fun z => by rw [if_neg (fun y => z y.symm)]⟩
  | succ e ih =>
    intro h
    obtain ⟨k, hk, hS⟩ := ih (fun i hi => h i (by omega))
    have hA := (h e (by omega)).1
    have hB := (h e (by omega)).2
    have hdl : tj_d A B e < 2 ^ N := tj_d_lt hA hB
    by_cases hl : tj_lab A B e (A e) = tj_lab A B e (B e)
    · refine ⟨k + 1, ?_, ?_⟩
      · have : tj_pc A B N (e + 1) = tj_pc A B N e := by
          unfold tj_pc
          rw [tj_lab_same hl]
        omega
      · intro S hlt
        have h1 := hS S hlt
        have h2 := hS (S ^^^ tj_d A B e) (Nat.xor_lt_two_pow hlt hdl)
        obtain ⟨e1, e2⟩ := tj_ev_same hA hB hl S
        rw [e2] at h2
        rw [e1, tj_num_s]
        refine ⟨fun z => ?_, fun z => ?_⟩
        · rw [h1.1 z, h2.1 z, Nat.pow_succ]; omega
        · rw [h1.2 z, h2.2 z]
    · refine ⟨k, ?_, ?_⟩
      · have := tj_pc_two h hl
        omega
      · intro S hlt
        have h1 := hS S hlt
        have h2 := hS (S ^^^ tj_d A B e) (Nat.xor_lt_two_pow hlt hdl)
        obtain ⟨e1, e2⟩ := tj_ev_one hA hB hl S
        rw [tj_num_s]
        refine ⟨fun z => ?_, fun z => ?_⟩
        · rcases e1 z with ⟨z1, z2⟩ | ⟨z1, z2⟩
          · rw [h1.1 z1, h2.2 z2, Nat.add_zero]
          · rw [h1.2 z1, h2.1 z2, Nat.zero_add]
        · rw [h1.2 (e2 z).1, h2.2 (e2 z).2]
/-- there is a set of roads with these odd places just if every label has an even number of them -/
theorem tj_span {A B : Nat → Nat} {N C : Nat} (h : ∀ i, i < C → A i < N ∧ B i < N) {S : Nat} (hS : S < 2 ^ N) : tj_ev A B N C S ↔ ∃ J, J < 2 ^ C ∧ tj_od (tj_d A B) C J = S := by
  obtain ⟨k, _, hn⟩ := tj_number h
  have h1 := hn S hS
  constructor
  · intro z
    have h2 := h1.1 z
    have h3 : 0 < tj_num A B C S := by rw [h2]; exact Nat.two_pow_pos k
    obtain ⟨J, hJ, hd⟩ := tj_cnt_ex h3
    exact ⟨J, hJ, of_decide_eq_true hd⟩
  · rintro ⟨J, hJ, hd⟩
    apply Classical.byContradiction
    intro z
    have h2 := h1.2 z
    have h3 : 0 < tj_num A B C S := tj_cnt_pos hJ (decide_eq_true hd)
    omega
end
section
/-! the places that are reached from the first road (plain) -/
def tj_m (A B : Nat → Nat) (e : Nat) : Nat := 2 ^ A e ||| 2 ^ B e
def tj_st (A B : Nat → Nat) (R e : Nat) : Nat := if R &&& tj_m A B e = 0 then R else R ||| tj_m A B e
def tj_ps (A B : Nat → Nat) : Nat → Nat → Nat
  | 0, R => R
  | e + 1, R => tj_st A B (tj_ps A B e R) e
def tj_rd (A B : Nat → Nat) (C : Nat) : Nat → Nat → Nat
  | 0, R => R
  | r + 1, R => tj_ps A B C (tj_rd A B C r R)
theorem tj_m_bit (A B : Nat → Nat) (e i : Nat) : (tj_m A B e).testBit i = (decide (A e = i) || decide (B e = i)) := by
  unfold tj_m
  rw [Nat.testBit_or, Nat.testBit_two_pow, Nat.testBit_two_pow]
theorem tj_m_0 (A B : Nat → Nat) (R e : Nat) : R &&& tj_m A B e = 0 ↔ (R.testBit (A e) = false ∧ R.testBit (B e) = false) := by
  constructor
  · intro h
    have h1 : ∀ i, (R &&& tj_m A B e).testBit i = false := by intro i; rw [h, Nat.zero_testBit]
    have ha := h1 (A e)
    have hb := h1 (B e)
    rw [Nat.testBit_and, tj_m_bit, decide_eq_true rfl, Bool.true_or, Bool.and_true] at ha
    rw [Nat.testBit_and, tj_m_bit, decide_eq_true (p := B e = B e) rfl, Bool.or_true, Bool.and_true] at hb
    exact ⟨ha, hb⟩
  · intro h
    apply Nat.eq_of_testBit_eq
    intro i
    rw [Nat.zero_testBit, Nat.testBit_and, tj_m_bit]
    by_cases h1 : A e = i
    · rw [← h1, h.1]; rfl
    · by_cases h2 : B e = i
      · rw [← h2, h.2]; rfl
      · rw [decide_eq_false h1, decide_eq_false h2]; simp
theorem tj_st_bit (A B : Nat → Nat) (R e i : Nat) : (tj_st A B R e).testBit i = (R.testBit i || ((R.testBit (A e) || R.testBit (B e)) && (decide (A e = i) || decide (B e = i)))) := by
  unfold tj_st
  by_cases h : R &&& tj_m A B e = 0
  · rw [if_pos h]
    have h2 := (tj_m_0 A B R e).mp h
    rw [h2.1, h2.2]; simp
  · rw [if_neg h, Nat.testBit_or, tj_m_bit]
    have h2 : (R.testBit (A e) || R.testBit (B e)) = true := by
      cases h3 : R.testBit (A e) <;> cases h4 : R.testBit (B e)
      · exact absurd ((tj_m_0 A B R e).mpr ⟨h3, h4⟩) h
      · rfl
      · rfl
      · rfl
    rw [h2, Bool.true_and]
theorem tj_ps_mono (A B : Nat → Nat) (R i : Nat) (h : R.testBit i = true) : ∀ e, (tj_ps A B e R).testBit i = true := by
  intro e
  induction e with
  | zero => exact h
  | succ e ih =>
    simp only [tj_ps]
    rw [tj_st_bit, ih]; rfl
theorem tj_ps_mono2 (A B : Nat → Nat) (R i : Nat) {e : Nat} (h : (tj_ps A B e R).testBit i = true) : ∀ k, (tj_ps A B (e + k) R).testBit i = true := by
  intro k
  induction k with
  | zero => exact h
  | succ k ih =>
    rw [← Nat.add_assoc]
    simp only [tj_ps]
    rw [tj_st_bit, ih]; rfl
def tj_cl (A B : Nat → Nat) (C R : Nat) : Prop := ∀ e, e < C → R.testBit (A e) = R.testBit (B e)
theorem tj_ps_fix {A B : Nat → Nat} {C R : Nat} (h : tj_ps A B C R = R) : tj_cl A B C R := by
  have h1 : ∀ e, e ≤ C → tj_ps A B e R = R := by
    intro e he
    apply Nat.eq_of_testBit_eq
    intro i
    obtain ⟨k, rfl⟩ : ∃ k, C = e + k := ⟨C - e, by omega⟩
    cases h2 : R.testBit i
    · apply tj_bf
      intro h3
      have h4 := tj_ps_mono2 A B R i h3 k
      rw [h, h2] at h4
      exact absurd h4 (by decide)
    · exact tj_ps_mono A B R i h2 e
  intro e he
  have h2 := h1 (e + 1) he
  simp only [tj_ps] at h2
  rw [h1 e (by omega)] at h2
  have ha := tj_st_bit A B R e (A e)
  have hb := tj_st_bit A B R e (B e)
  rw [h2] at ha hb
  rw [decide_eq_true (p := A e = A e) rfl] at ha
  rw [decide_eq_true (p := B e = B e) rfl] at hb
  revert ha hb
  cases R.testBit (A e) <;> cases R.testBit (B e) <;> simp
theorem tj_ps_cl {A B : Nat → Nat} {C R : Nat} (h : tj_cl A B C R) : ∀ e, e ≤ C → tj_ps A B e R = R := by
  intro e
  induction e with
  | zero => intro _; rfl
  | succ e ih =>
    intro he
    simp only [tj_ps]
    rw [ih (by omega)]
    apply Nat.eq_of_testBit_eq
    intro i
    rw [tj_st_bit]
    have h1 := h e (by omega)
    by_cases ha : A e = i
    · rw [← ha, ← h1]
      cases R.testBit (A e) <;> simp
    · by_cases hb : B e = i
      · rw [← hb, h1]
        cases R.testBit (B e) <;> simp
      · rw [decide_eq_false ha, decide_eq_false hb]; simp
theorem tj_ps_lt {A B : Nat → Nat} {C : Nat} (h : ∀ i, i < C → A i < 7 ∧ B i < 7) {R : Nat} (hR : R < 2 ^ 7) : ∀ e, e ≤ C → tj_ps A B e R < 2 ^ 7 := by
  intro e
  induction e with
  | zero => intro _; exact hR
  | succ e ih =>
    intro he
    have h1 := ih (by omega)
    have h2 := h e (by omega)
    simp only [tj_ps, tj_st]
    split
    · exact h1
    · exact Nat.or_lt_two_pow h1 (Nat.or_lt_two_pow (Nat.pow_lt_pow_right (by decide) h2.1) (Nat.pow_lt_pow_right (by decide) h2.2))
theorem tj_rd_lt {A B : Nat → Nat} {C : Nat} (h : ∀ i, i < C → A i < 7 ∧ B i < 7) {R : Nat} (hR : R < 2 ^ 7) : ∀ r, tj_rd A B C r R < 2 ^ 7 := by
  intro r
  induction r with
  | zero => exact hR
  | succ r ih => exact tj_ps_lt h ih C (Nat.le_refl _)
theorem tj_rd_grow {A B : Nat → Nat} {C : Nat} (h : ∀ i, i < C → A i < 7 ∧ B i < 7) {R x : Nat} (hR : R < 2 ^ 7) (hx : x < 7) (hb : R.testBit x = true) : ∀ r, tj_cl A B C (tj_rd A B C r R) ∨ r + 1 ≤ tj_cnt (fun i => (tj_rd A B C r R).testBit i) 7 := by
  intro r
  induction r with
  | zero => exact Or.inr (tj_cnt_pos hx hb)
  | succ r ih =>
    by_cases hc : tj_cl A B C (tj_rd A B C r R)
    · left
      have := tj_ps_cl hc C (Nat.le_refl _)
      simp only [tj_rd]
      rw [this]; exact hc
    · have h1 := ih.resolve_left hc
      right
      have hne : tj_rd A B C (r + 1) R ≠ tj_rd A B C r R := fun z => hc (tj_ps_fix z)
      obtain ⟨i, hi⟩ := Nat.exists_testBit_ne_of_ne hne
      have hlt := tj_rd_lt h hR (r + 1)
      have hm : ∀ i, (tj_rd A B C r R).testBit i = true → (tj_rd A B C (r + 1) R).testBit i = true := fun i hi => tj_ps_mono A B _ i hi C
      have hf : (tj_rd A B C r R).testBit i = false := by
        apply tj_bf
        intro z
        exact hi ((hm i z).trans z.symm)
      have hg : (tj_rd A B C (r + 1) R).testBit i = true := by
        cases hz : (tj_rd A B C (r + 1) R).testBit i
        · exact absurd (hz.trans hf.symm) hi
        · rfl
      have hi7 : i < 7 := by
        apply Nat.lt_of_not_le
        intro h7
        rw [Nat.testBit_lt_two_pow (Nat.lt_of_lt_of_le hlt (tj_ple h7))] at hg
        exact absurd hg (by decide)
      have := tj_cnt_lt (f := fun i => (tj_rd A B C r R).testBit i) (g := fun i => (tj_rd A B C (r + 1) R).testBit i) hm hf hg hi7
      omega
theorem tj_ps_lab {A B : Nat → Nat} {C R l : Nat} (h : ∀ i, R.testBit i = true → tj_lab A B C i = l) : ∀ e, e ≤ C → ∀ i, (tj_ps A B e R).testBit i = true → tj_lab A B C i = l := by
  intro e
  induction e with
  | zero => intro _; exact h
  | succ e ih =>
    intro he i hi
    have h1 := ih (by omega)
    have hend := tj_lab_end (A := A) (B := B) (show e < C by omega)
    simp only [tj_ps] at hi
    rw [tj_st_bit] at hi
    by_cases h2 : (tj_ps A B e R).testBit i = true
    · exact h1 i h2
    · rw [tj_bf h2, Bool.false_or, Bool.and_eq_true, Bool.or_eq_true, Bool.or_eq_true, decide_eq_true_eq, decide_eq_true_eq] at hi
      have hl : tj_lab A B C (A e) = l := by
        rcases hi.1 with h3 | h3
        · exact h1 _ h3
        · rw [hend]; exact h1 _ h3
      rcases hi.2 with h3 | h3
      · rw [← h3]; exact hl
      · rw [← h3, ← hend]; exact hl
theorem tj_reach {A B : Nat → Nat} {C x : Nat} (h : ∀ i, i < C → A i < 7 ∧ B i < 7) (hx : x < 7) (p : Nat) : (tj_rd A B C 7 (2 ^ x)).testBit p = true ↔ tj_lab A B C p = tj_lab A B C x := by
  have hR : 2 ^ x < 2 ^ 7 := Nat.pow_lt_pow_right (by decide) hx
  have hcl : tj_cl A B C (tj_rd A B C 7 (2 ^ x)) := by
    rcases tj_rd_grow h hR hx Nat.testBit_two_pow_self 7 with h1 | h1
    · exact h1
    · have := tj_cnt_le (fun i => (tj_rd A B C 7 (2 ^ x)).testBit i) 7
      omega
  have hlab : ∀ r i, (tj_rd A B C r (2 ^ x)).testBit i = true → tj_lab A B C i = tj_lab A B C x := by
    intro r
    induction r with
    | zero =>
      intro i hi
      have hi : (2 ^ x).testBit i = true := hi
      rw [Nat.testBit_two_pow, decide_eq_true_eq] at hi
      rw [hi]
    | succ r ih => exact tj_ps_lab ih C (Nat.le_refl _)
  have hmx : ∀ r, (tj_rd A B C r (2 ^ x)).testBit x = true := by
    intro r
    induction r with
    | zero => exact Nat.testBit_two_pow_self
    | succ r ih => exact tj_ps_mono A B _ x ih C
  constructor
  · exact hlab 7 p
  · intro hl
    rw [tj_lab_cl hcl p x hl]
    exact hmx 7
end
section
/-! walks: the odd places, the weights, the costs; the reference's search -/
def tj_ok (N C : Nat) (A B : Nat → Nat) (a b : Nat → Int32) : Prop := 2 ≤ N ∧ N ≤ 7 ∧ C ≤ 12 ∧ ∀ e, e < C → A e < N ∧ B e < N ∧ a e = nI (A e) ∧ b e = nI (B e)
def tj_wb (w : Nat → Int32) (C : Nat) : Prop := ∀ e, e < C → -9 ≤ (w e).toInt ∧ (w e).toInt ≤ 20
def tj_ws (w : Nat → Int32) : Nat → Nat → Int32
  | 0, _ => 0
  | e + 1, s => tj_ws w e s + (if s.testBit e then w e else 0)
theorem tj_od_t {d : Nat → Nat} {e s : Nat} (h : s.testBit e = true) : tj_od d (e + 1) s = tj_od d e s ^^^ d e := by
  simp only [tj_od, if_pos h]
theorem tj_od_f {d : Nat → Nat} {e s : Nat} (h : s.testBit e = false) : tj_od d (e + 1) s = tj_od d e s := by
  simp only [tj_od, h]
  simp
theorem tj_ws_t {w : Nat → Int32} {e s : Nat} (h : s.testBit e = true) : tj_ws w (e + 1) s = tj_ws w e s + w e := by
  simp only [tj_ws, if_pos h]
theorem tj_ws_f {w : Nat → Int32} {e s : Nat} (h : s.testBit e = false) : tj_ws w (e + 1) s = tj_ws w e s := by
  simp only [tj_ws, h]
  simp
theorem tj_ws_int {w : Nat → Int32} : ∀ {e s : Nat}, e ≤ 12 → tj_wb w e → (tj_ws w e s).toInt = tj_wt (fun i => (w i).toInt) e s := by
  intro e
  induction e with
  | zero => intro s _ _; show (0 : Int32).toInt = 0; decide
  | succ e ih =>
    intro s he hw
    have h1 := ih (s := s) (by omega) (fun i hi => hw i (by omega))
    have h2 := hw e (by omega)
    have h3 := tj_wt_bd (c := fun i => (w i).toInt) (e := e) (s := s) (fun i hi => hw i (by omega))
    cases hb : s.testBit e
    · rw [tj_ws_f hb, h1]
      simp [tj_wt, hb]
    · rw [tj_ws_t hb, Jvm.Kit.i32_add (by rw [h1]; omega) (by rw [h1]; omega), h1]
      simp [tj_wt, hb]
theorem tj_odv {N C : Nat} {A B : Nat → Nat} {a b : Nat → Int32} (H : tj_ok N C A B a b) {i : Nat} (hi : i < C) (X : Nat) : (nI X ^^^ ((1 : Int32) <<< ((a (nI i).toNatClampNeg) &&& 31))) ^^^ ((1 : Int32) <<< ((b (nI i).toNatClampNeg) &&& 31)) = nI (X ^^^ tj_d A B i) := by
  obtain ⟨h2, h7, h12, h⟩ := H
  obtain ⟨ha, hb, ea, eb⟩ := h i hi
  rw [nI_clamp (by omega), ea, eb, tj_sh1 (by omega), tj_sh1 (by omega), nx_xor, nx_xor, Nat.xor_assoc]
  rfl
section
variable {N C : Nat} {A B : Nat → Nat} {a b w c f g u z p : Nat → Int32}
theorem tj_xodd4 (H : tj_ok N C A B a b) {fn ft : Int32} {s : Nat} (hs : s < 2 ^ 31) {post : Int32 → Prop} (hp : post (nI (tj_od (tj_d A B) C s))) : ∀ k i, i + k = C → wX_oddOf_4 post (nI s) fn (nI C) ft a b w c f g u z p (k + 1) (nI (tj_od (tj_d A B) i s)) (nI i) := by
  have h12 : C ≤ 12 := H.2.2.1
  intro k
  induction k with
  | zero =>
    intro i hi
    have e : C = i := by omega
    subst e
    exact br_t (Int32.le_refl _) hp
  | succ k ih =>
    intro i hi
    have h1 := ih (i + 1) (by omega)
    have hin : vp_in (nI i) 12 := vp_in_nI (by omega) (by omega)
    cases hb : s.testBit i
    · rw [tj_od_f hb] at h1
      refine br_f (nI_ge (by omega) (by omega)) (br_f (fun q => ?_) (nm_r (nI_1 i) h1))
      rw [tj_bit1 hs (by omega), hb] at q
      exact absurd q (by decide)
    · rw [tj_od_t hb] at h1
      exact br_f (nI_ge (by omega) (by omega)) (br_t ((tj_bit1 hs (by omega)).mpr hb) ⟨hin, hin, nm_r (tj_odv H (by omega) _) (nm_r (nI_1 i) h1)⟩)
theorem tj_xodd (H : tj_ok N C A B a b) {fn ft : Int32} {s : Nat} (hs : s < 2 ^ 31) {post : Int32 → Prop} (hp : post (nI (tj_od (tj_d A B) C s))) : wpX_oddOf post (fn, nI C, ft, a, b, w, c, f, g, u, z, p) (nI s) :=
  ⟨C + 1, tj_xodd4 H hs hp C 0 (by omega)⟩
theorem tj_yodd4 (H : tj_ok N C A B a b) {fn ft : Int32} {s : Nat} (hs : s < 2 ^ 31) {post : Int32 → Prop} (hp : post (nI (tj_od (tj_d A B) C s))) : ∀ k i, i + k = C → wY_odd_4 post (nI s) fn (nI C) ft a b w (k + 1) (nI (tj_od (tj_d A B) i s)) (nI i) := by
  have h12 : C ≤ 12 := H.2.2.1
  intro k
  induction k with
  | zero =>
    intro i hi
    have e : C = i := by omega
    subst e
    exact br_t (Int32.le_refl _) hp
  | succ k ih =>
    intro i hi
    have h1 := ih (i + 1) (by omega)
    have hin : vp_in (nI i) 12 := vp_in_nI (by omega) (by omega)
    have hlt : ¬ (12 : Int32) ≤ nI i := nI_ge (b := 12) (by omega) (by decide)
    cases hb : s.testBit i
    · rw [tj_od_f hb] at h1
      refine br_f (nI_ge (by omega) (by omega)) (br_f hlt (br_f (fun q => ?_) (nm_r (nI_1 i) h1)))
      rw [tj_bit1 hs (by omega), hb] at q
      exact absurd q (by decide)
    · rw [tj_od_t hb] at h1
      exact br_f (nI_ge (by omega) (by omega)) (br_f hlt (br_t ((tj_bit1 hs (by omega)).mpr hb) ⟨hin, hin, nm_r (tj_odv H (by omega) _) (nm_r (nI_1 i) h1)⟩))
theorem tj_yodd (H : tj_ok N C A B a b) {fn ft : Int32} {s : Nat} (hs : s < 2 ^ 31) {post : Int32 → Prop} (hp : post (nI (tj_od (tj_d A B) C s))) : wpY_odd post (fn, nI C, ft, a, b, w) (nI s) :=
  ⟨C + 1, tj_yodd4 H hs hp C 0 (by omega)⟩
theorem tj_xws4 (h12 : C ≤ 12) {fn ft : Int32} {s : Nat} (hs : s < 2 ^ 31) {post : Int32 → Prop} (hp : post (tj_ws w C s)) : ∀ k i, i + k = C → wX_weightOf_4 post (nI s) fn (nI C) ft a b w c f g u z p (k + 1) (tj_ws w i s) (nI i) := by
  intro k
  induction k with
  | zero =>
    intro i hi
    have e : C = i := by omega
    subst e
    exact br_t (Int32.le_refl _) hp
  | succ k ih =>
    intro i hi
    have h1 := ih (i + 1) (by omega)
    have hin : vp_in (nI i) 12 := vp_in_nI (by omega) (by omega)
    cases hb : s.testBit i
    · rw [tj_ws_f hb] at h1
      refine br_f (nI_ge (by omega) (by omega)) (br_f (fun q => ?_) (nm_r (Int32.add_zero _) (nm_r (nI_1 i) h1)))
      rw [tj_bit1 hs (by omega), hb] at q
      exact absurd q (by decide)
    · rw [tj_ws_t hb] at h1
      exact br_f (nI_ge (by omega) (by omega)) (br_t ((tj_bit1 hs (by omega)).mpr hb) ⟨hin, nm_r (by rw [nI_clamp (by omega)]) (nm_r (nI_1 i) h1)⟩)
theorem tj_xws (h12 : C ≤ 12) {fn ft : Int32} {s : Nat} (hs : s < 2 ^ 31) {post : Int32 → Prop} (hp : post (tj_ws w C s)) : wpX_weightOf post (fn, nI C, ft, a, b, w, c, f, g, u, z, p) (nI s) :=
  ⟨C + 1, tj_xws4 h12 hs hp C 0 (by omega)⟩
theorem tj_yws4 (h12 : C ≤ 12) {fn ft : Int32} {s : Nat} (hs : s < 2 ^ 31) {post : Int32 → Prop} (hp : post (tj_ws w C s)) : ∀ k i, i + k = C → wY_sum_4 post (nI s) fn (nI C) ft a b w (k + 1) (tj_ws w i s) (nI i) := by
  intro k
  induction k with
  | zero =>
    intro i hi
    have e : C = i := by omega
    subst e
    exact br_t (Int32.le_refl _) hp
  | succ k ih =>
    intro i hi
    have h1 := ih (i + 1) (by omega)
    have hin : vp_in (nI i) 12 := vp_in_nI (by omega) (by omega)
    have hlt : ¬ (12 : Int32) ≤ nI i := nI_ge (b := 12) (by omega) (by decide)
    cases hb : s.testBit i
    · rw [tj_ws_f hb] at h1
      refine br_f (nI_ge (by omega) (by omega)) (br_f hlt (br_f (fun q => ?_) (nm_r (nI_1 i) h1)))
      rw [tj_bit1 hs (by omega), hb] at q
      exact absurd q (by decide)
    · rw [tj_ws_t hb] at h1
      exact br_f (nI_ge (by omega) (by omega)) (br_f hlt (br_t ((tj_bit1 hs (by omega)).mpr hb) ⟨hin, nm_r (by rw [nI_clamp (by omega)]) (nm_r (nI_1 i) h1)⟩))
theorem tj_yws (h12 : C ≤ 12) {fn ft : Int32} {s : Nat} (hs : s < 2 ^ 31) {post : Int32 → Prop} (hp : post (tj_ws w C s)) : wpY_sum post (fn, nI C, ft, a, b, w) (nI s) :=
  ⟨C + 1, tj_yws4 h12 hs hp C 0 (by omega)⟩
/-- the costs that the component takes -/
def tj_cs (w c : Nat → Int32) (i : Nat) : Prop := ∀ j, j < i → (c j).toInt = 4096 * (w j).toInt + ((2 ^ j : Nat) : Int)
theorem tj_costv {x : Int32} {i : Nat} (hi : i < 12) (h : -9 ≤ x.toInt ∧ x.toInt ≤ 20) : ((4096 * x) + ((1 : Int32) <<< (nI i &&& 31))).toInt = 4096 * x.toInt + ((2 ^ i : Nat) : Int) := by
  have h1 : (4096 : Int32).toInt = 4096 := by decide
  have h2 : (4096 * x).toInt = 4096 * x.toInt := by
    rw [Jvm.Kit.i32_mul (by rw [h1]; omega) (by rw [h1]; omega), h1]
  have h3 : 2 ^ i ≤ 2 ^ 11 := tj_ple (by omega)
  have h4 : 0 < 2 ^ i := Nat.two_pow_pos i
  rw [tj_sh1 (by omega), Jvm.Kit.i32_add, h2, nI_toInt (by omega)]
  · rw [h2, nI_toInt (by omega)]; omega
  · rw [h2, nI_toInt (by omega)]; omega
theorem tj_xtc2 (h12 : C ≤ 12) (hw : tj_wb w C) {fn ft : Int32} {post : SX → Prop} (hp : ∀ c', tj_cs w c' C → post (fn, nI C, ft, a, b, w, c', f, g, u, z, p)) : ∀ k i c, i + k = C → tj_cs w c i → wX_takeCosts_2 post fn (nI C) ft (k + 1) (nI i) a b w c f g u z p := by
  intro k
  induction k with
  | zero =>
    intro i c hi hc
    have e : C = i := by omega
    subst e
    exact br_t (Int32.le_refl _) (hp c hc)
  | succ k ih =>
    intro i c hi hc
    have hin : vp_in (nI i) 12 := vp_in_nI (by omega) (by omega)
    refine br_f (nI_ge (by omega) (by omega)) ⟨hin, hin, fun c' hc' => nm_r (nI_1 i) (ih (i + 1) c' (by omega) ?_)⟩
    rw [nI_clamp (by omega)] at hc'
    intro j hj
    rw [hc']
    by_cases he : j = i
    · subst he
      rw [pk_us]
      exact tj_costv (by omega) (hw j (by omega))
    · rw [pk_un he]
      exact hc j (by omega)
theorem tj_xtc (h12 : C ≤ 12) (hw : tj_wb w C) {fn ft : Int32} {post : SX → Prop} (hp : ∀ c', tj_cs w c' C → post (fn, nI C, ft, a, b, w, c', f, g, u, z, p)) : wpX_takeCosts post (fn, nI C, ft, a, b, w, c, f, g, u, z, p) :=
  ⟨C + 1, tj_xtc2 h12 hw hp C 0 c (by omega) (fun j hj => absurd hj (by omega))⟩
end
end
section
/-! walks of the reference: search, joins, whole -/
theorem tj_brI {c d A B : Prop} (e : c ↔ d) (f : d → A) (g : ¬ d → B) : (c → A) ∧ (¬ c → B) := ⟨fun h => f (e.mp h), fun h => g (fun z => h (e.mpr z))⟩
theorem tj_andeq {i m : Nat} (hm : m < 2 ^ 31) : nI i &&& nI m = nI m ↔ i &&& m = m := by
  rw [nx_and, nI_eq (Nat.lt_of_le_of_lt Nat.and_le_right hm) hm]
theorem tj_and0 {i m : Nat} (hm : m < 2 ^ 31) : nI i &&& nI m = 0 ↔ i &&& m = 0 := by
  rw [nx_and, ← nI_0, nI_eq (Nat.lt_of_le_of_lt Nat.and_le_right hm) (by decide)]
def tj_oj (A B : Nat → Nat) (C T mu no J : Nat) : Prop := J &&& mu = mu ∧ J &&& no = 0 ∧ tj_od (tj_d A B) C J = T
/-- M is the best set below i -/
def tj_bst (A B : Nat → Nat) (C T mu no : Nat) (W : Nat → Int) (i M : Nat) : Prop := M < i ∧ tj_oj A B C T mu no M ∧ ∀ J, J < i → tj_oj A B C T mu no J → (tj_wt W C M < tj_wt W C J ∨ (tj_wt W C M = tj_wt W C J ∧ M ≤ J))
def tj_sr (A B : Nat → Nat) (C T mu no : Nat) (w : Nat → Int32) (i : Nat) (x y : Int32) : Prop := (x = -1 ∧ ∀ J, J < i → ¬ tj_oj A B C T mu no J) ∨ ∃ M, x = nI M ∧ y = tj_ws w C M ∧ tj_bst A B C T mu no (fun i => (w i).toInt) i M
section
variable {N C : Nat} {A B : Nat → Nat} {a b w : Nat → Int32} {T mu no i : Nat} {x y : Int32}
theorem tj_sr_no (h : tj_sr A B C T mu no w i x y) (hn : ¬ tj_oj A B C T mu no i) : tj_sr A B C T mu no w (i + 1) x y := by
  rcases h with ⟨h1, h2⟩ | ⟨M, h1, h2, h3, h4, h5⟩
  · refine Or.inl ⟨h1, fun J hJ hz => ?_⟩
    by_cases he : J = i
    · exact hn (he ▸ hz)
    · exact h2 J (by omega) hz
  · refine Or.inr ⟨M, h1, h2, by omega, h4, fun J hJ hz => ?_⟩
    by_cases he : J = i
    · exact absurd (he ▸ hz) hn
    · exact h5 J (by omega) hz
theorem tj_sr_first (h : tj_sr A B C T mu no w i x y) (hi : i < 2 ^ 31) (hx : x < 0) (hn : tj_oj A B C T mu no i) : tj_sr A B C T mu no w (i + 1) (nI i) (tj_ws w C i) := by
  rcases h with ⟨h1, h2⟩ | ⟨M, h1, h2, h3, h4, h5⟩
  · refine Or.inr ⟨i, rfl, rfl, by omega, hn, fun J hJ hz => ?_⟩
    by_cases he : J = i
    · rw [he]; exact Or.inr ⟨rfl, Nat.le_refl _⟩
    · exact absurd hz (h2 J (by omega))
  · rw [h1] at hx
    exact absurd hx (nI_pos (by omega))
theorem tj_sr_keep (hC : C ≤ 12) (hw : tj_wb w C) (h : tj_sr A B C T mu no w i x y) (hx : ¬ x < 0) (hy : y ≤ tj_ws w C i) : tj_sr A B C T mu no w (i + 1) x y := by
  rcases h with ⟨h1, h2⟩ | ⟨M, h1, h2, h3, h4, h5⟩
  · rw [h1] at hx
    exact absurd (by decide) hx
  · refine Or.inr ⟨M, h1, h2, by omega, h4, fun J hJ hz => ?_⟩
    by_cases he : J = i
    · rw [h2, Int32.le_iff_toInt_le, tj_ws_int hC hw, tj_ws_int hC hw] at hy
      rw [he]
      omega
    · exact h5 J (by omega) hz
theorem tj_sr_new (hC : C ≤ 12) (hw : tj_wb w C) (h : tj_sr A B C T mu no w i x y) (hx : ¬ x < 0) (hy : ¬ y ≤ tj_ws w C i) (hn : tj_oj A B C T mu no i) : tj_sr A B C T mu no w (i + 1) (nI i) (tj_ws w C i) := by
  rcases h with ⟨h1, h2⟩ | ⟨M, h1, h2, h3, h4, h5⟩
  · rw [h1] at hx
    exact absurd (by decide) hx
  · rw [h2, Int32.le_iff_toInt_le, tj_ws_int hC hw, tj_ws_int hC hw] at hy
    refine Or.inr ⟨i, rfl, rfl, by omega, hn, fun J hJ hz => ?_⟩
    by_cases he : J = i
    · rw [he]; exact Or.inr ⟨rfl, Nat.le_refl _⟩
    · have := h5 J (by omega) hz
      omega
theorem tj_ysr9 (H : tj_ok N C A B a b) (hw : tj_wb w C) (hT : T < 2 ^ 31) (hmu : mu < 2 ^ 31) (hno : no < 2 ^ 31) {fn ft : Int32} {post : Int32 → Prop} (hp : ∀ x y, tj_sr A B C T mu no w (2 ^ C) x y → post x) : ∀ k i x y, i + k = 2 ^ C → tj_sr A B C T mu no w i x y → wY_search_9 post (nI T) (nI mu) (nI no) fn (nI C) ft a b w (k + 1) x y (nI i) := by
  have h12 : C ≤ 12 := H.2.2.1
  have h7 : N ≤ 7 := H.2.1
  have hC : 2 ^ C ≤ 2 ^ 12 := tj_ple h12
  intro k
  induction k with
  | zero =>
    intro i x y hi hs
    refine br_t ?_ (hp x y (by rw [← hi]; exact hs))
    rw [tj_sh1 (by omega)]
    exact nI_le (by omega) (by omega)
  | succ k ih =>
    intro i x y hi hs
    have hlt : ¬ ((1 : Int32) <<< (nI C &&& 31)) ≤ nI i := by
      rw [tj_sh1 (by omega)]
      exact nI_ge (by omega) (by omega)
    have hol : tj_od (tj_d A B) C i < 2 ^ 31 := Nat.lt_of_lt_of_le (tj_od_lt (fun j hj => tj_d_lt (H.2.2.2 j hj).1 (H.2.2.2 j hj).2.1)) (tj_ple (by omega))
    refine br_f hlt (tj_brI (tj_andeq hmu) (fun h1 => tj_brI (tj_and0 hno) (fun h2 => tj_yodd H (by omega) ?_) (fun h2 => nm_r (nI_1 i) (ih (i + 1) x y (by omega) (tj_sr_no hs (fun z => h2 z.2.1))))) (fun h1 => nm_r (nI_1 i) (ih (i + 1) x y (by omega) (tj_sr_no hs (fun z => h1 z.1)))))
    refine tj_brI (nI_eq hol hT) (fun h3 => tj_yws h12 (by omega) ?_) (fun h3 => nm_r (nI_1 i) (ih (i + 1) x y (by omega) (tj_sr_no hs (fun z => h3 z.2.2))))
    refine br_c (fun h4 => nm_r (nI_1 i) (ih (i + 1) _ _ (by omega) (tj_sr_first hs (by omega) h4 ⟨h1, h2, h3⟩))) (fun h4 => br_c (fun h5 => nm_r (nI_1 i) (ih (i + 1) _ _ (by omega) (tj_sr_keep h12 hw hs h4 h5))) (fun h5 => nm_r (nI_1 i) (ih (i + 1) _ _ (by omega) (tj_sr_new h12 hw hs h4 h5 ⟨h1, h2, h3⟩))))
theorem tj_ysr (H : tj_ok N C A B a b) (hw : tj_wb w C) (hT : T < 2 ^ 31) (hmu : mu < 2 ^ 31) (hno : no < 2 ^ 31) {fn ft : Int32} {post : Int32 → Prop} (hp : ∀ x y, tj_sr A B C T mu no w (2 ^ C) x y → post x) : wpY_search post (fn, nI C, ft, a, b, w) (nI T) (nI mu) (nI no) :=
  ⟨2 ^ C + 1, tj_ysr9 H hw hT hmu hno hp (2 ^ C) 0 (-1) 0 (by omega) (Or.inl ⟨rfl, fun J hJ => absurd hJ (by omega)⟩)⟩
theorem tj_yjo4 (H : tj_ok N C A B a b) (hT : T < 2 ^ 31) {fn : Int32} {post : Int32 → Prop} (hp : post (nI (tj_num A B C T))) : ∀ k i, i + k = 2 ^ C → wY_joins_4 post fn (nI C) (nI T) a b w (k + 1) (nI (tj_cnt (fun J => decide (tj_od (tj_d A B) C J = T)) i)) (nI i) := by
  have h12 : C ≤ 12 := H.2.2.1
  have h7 : N ≤ 7 := H.2.1
  have hC : 2 ^ C ≤ 2 ^ 12 := tj_ple h12
  intro k
  induction k with
  | zero =>
    intro i hi
    have he : i = 2 ^ C := by omega
    rw [he]
    refine br_t ?_ hp
    rw [tj_sh1 (by omega)]
    exact Int32.le_refl _
  | succ k ih =>
    intro i hi
    have hlt : ¬ ((1 : Int32) <<< (nI C &&& 31)) ≤ nI i := by
      rw [tj_sh1 (by omega)]
      exact nI_ge (by omega) (by omega)
    have hol : tj_od (tj_d A B) C i < 2 ^ 31 := Nat.lt_of_lt_of_le (tj_od_lt (fun j hj => tj_d_lt (H.2.2.2 j hj).1 (H.2.2.2 j hj).2.1)) (tj_ple (by omega))
    have h1 := ih (i + 1) (by omega)
    refine br_f hlt (tj_yodd H (by omega) ?_)
    refine tj_brI (nI_eq hol hT) (fun h3 => nm_r (nI_1 _) (nm_r (nI_1 i) ?_)) (fun h3 => nm_r (nI_1 i) ?_)
    · have e : tj_cnt (fun J => decide (tj_od (tj_d A B) C J = T)) (i + 1) = tj_cnt (fun J => decide (tj_od (tj_d A B) C J = T)) i + 1 := by
        simp only [tj_cnt, h3, decide_true, if_true]
      rw [e] at h1
      exact h1
    · have e : tj_cnt (fun J => decide (tj_od (tj_d A B) C J = T)) (i + 1) = tj_cnt (fun J => decide (tj_od (tj_d A B) C J = T)) i := by
        simp only [tj_cnt, h3, decide_false]
        simp
      rw [e] at h1
      exact h1
theorem tj_yjo (H : tj_ok N C A B a b) (hT : T < 2 ^ 31) {fn : Int32} {post : Int32 → Prop} (hp : post (nI (tj_num A B C T))) : wpY_joins post (fn, nI C, nI T, a, b, w) :=
  ⟨2 ^ C + 1, tj_yjo4 H hT hp (2 ^ C) 0 (by omega)⟩
theorem tj_mv (H : tj_ok N C A B a b) {i : Nat} (hi : i < C) : ((1 : Int32) <<< ((a (nI i).toNatClampNeg) &&& 31)) ||| ((1 : Int32) <<< ((b (nI i).toNatClampNeg) &&& 31)) = nI (tj_m A B i) := by
  obtain ⟨h2, h7, h12, h⟩ := H
  obtain ⟨ha, hb, ea, eb⟩ := h i hi
  rw [nI_clamp (by omega), ea, eb, tj_sh1 (by omega), tj_sh1 (by omega), tj_or]
  rfl
theorem tj_h7 (H : tj_ok N C A B a b) : ∀ i, i < C → A i < 7 ∧ B i < 7 := by
  obtain ⟨h2, h7, h12, h⟩ := H
  intro i hi
  have := h i hi
  omega
theorem tj_ywh19 (H : tj_ok N C A B a b) {fn ft : Int32} {post : Int32 → Prop} {J11 : Int32 → Int32 → Prop} {r R : Nat} (hR : R < 2 ^ 7) (hJ : J11 (nI (tj_ps A B C R)) (nI (r + 1))) : ∀ k i, i + k = C → wY_whole_19 post J11 (nI r) fn (nI C) ft a b w (k + 1) (nI (tj_ps A B i R)) (nI i) := by
  have h12 : C ≤ 12 := H.2.2.1
  intro k
  induction k with
  | zero =>
    intro i hi
    have e : C = i := by omega
    subst e
    exact br_t (Int32.le_refl _) (nm_r (nI_1 r) hJ)
  | succ k ih =>
    intro i hi
    have h1 := ih (i + 1) (by omega)
    have hin : vp_in (nI i) 12 := vp_in_nI (by omega) (by omega)
    have hlt : ¬ (12 : Int32) ≤ nI i := nI_ge (b := 12) (by omega) (by decide)
    have hm : tj_m A B i < 2 ^ 31 := Nat.or_lt_two_pow (Nat.lt_of_lt_of_le (Nat.pow_lt_pow_right (by decide) (tj_h7 H i (by omega)).1) (by decide)) (Nat.lt_of_lt_of_le (Nat.pow_lt_pow_right (by decide) (tj_h7 H i (by omega)).2) (by decide))
    refine br_f (nI_ge (by omega) (by omega)) (br_f hlt ⟨hin, hin, nm_r (tj_mv H (by omega)) ?_⟩)
    refine tj_brI (tj_and0 hm) (fun h3 => nm_r (nI_1 i) ?_) (fun h3 => nm_r (tj_or _ _) (nm_r (nI_1 i) ?_))
    · have e : tj_ps A B (i + 1) R = tj_ps A B i R := by
        simp only [tj_ps, tj_st, if_pos h3]
      rw [e] at h1
      exact h1
    · have e : tj_ps A B (i + 1) R = tj_ps A B i R ||| tj_m A B i := by
        simp only [tj_ps, tj_st, if_neg h3]
      rw [e] at h1
      exact h1
theorem tj_ywh78 (H : tj_ok N C A B a b) {fn ft : Int32} {post : Int32 → Prop} {R : Nat} (hR : R < 2 ^ 31) (h1 : (∀ e, e < C → R.testBit (A e) = true) → post 1) (h0 : ¬ (∀ e, e < C → R.testBit (A e) = true) → post 0) : ∀ k i, i + k = C → (∀ e, e < i → R.testBit (A e) = true) → wY_whole_78 post (nI R) fn (nI C) ft a b w (k + 1) (nI i) := by
  have h12 : C ≤ 12 := H.2.2.1
  intro k
  induction k with
  | zero =>
    intro i hi hs
    have e : C = i := by omega
    subst e
    exact br_t (Int32.le_refl _) (h1 hs)
  | succ k ih =>
    intro i hi hs
    have hin : vp_in (nI i) 12 := vp_in_nI (by omega) (by omega)
    have hlt : ¬ (12 : Int32) ≤ nI i := nI_ge (b := 12) (by omega) (by decide)
    have ha := (H.2.2.2 i (by omega)).2.2.1
    have ha7 := (tj_h7 H i (by omega)).1
    have hb : (nI R >>> (a (nI i).toNatClampNeg &&& 31)) &&& 1 = 0 ↔ R.testBit (A i) = false := by
      rw [nI_clamp (by omega), ha]
      exact tj_bit0 hR (by omega)
    refine br_f (nI_ge (by omega) (by omega)) (br_f hlt ⟨hin, tj_brI hb (fun h3 => h0 (fun z => ?_)) (fun h3 => nm_r (nI_1 i) (ih (i + 1) (by omega) (fun e he => ?_)))⟩)
    · rw [z i (by omega)] at h3
      exact absurd h3 (by decide)
    · by_cases hh : e = i
      · rw [hh]
        cases hz : R.testBit (A i)
        · exact absurd hz h3
        · rfl
      · exact hs e (by omega)
theorem tj_ywh11 (H : tj_ok N C A B a b) {fn ft : Int32} {post : Int32 → Prop} {R : Nat} (hR : R < 2 ^ 7) (h1 : (∀ e, e < C → (tj_rd A B C 7 R).testBit (A e) = true) → post 1) (h0 : ¬ (∀ e, e < C → (tj_rd A B C 7 R).testBit (A e) = true) → post 0) : ∀ k r, r + k = 7 → wY_whole_11 post fn (nI C) ft a b w (k + 1) (nI (tj_rd A B C r R)) (nI r) := by
  intro k
  induction k with
  | zero =>
    intro r hr
    have e : r = 7 := by omega
    subst e
    have hlt := tj_rd_lt (tj_h7 H) hR 7
    exact br_t (Int32.le_refl _) ⟨C + 1, tj_ywh78 H (by omega) h1 h0 C 0 (by omega) (fun e he => absurd he (by omega))⟩
  | succ k ih =>
    intro r hr
    have hlt := tj_rd_lt (tj_h7 H) hR r
    exact br_f (nI_ge (b := 7) (by omega) (by decide)) ⟨C + 1, tj_ywh19 H hlt (ih (r + 1) (by omega)) C 0 (by omega)⟩
theorem tj_ywh (H : tj_ok N C A B a b) (hC : 0 < C) {fn ft : Int32} {post : Int32 → Prop} (h1 : (∀ e, e < C → tj_lab A B C (A e) = tj_lab A B C (A 0)) → post 1) (h0 : ¬ (∀ e, e < C → tj_lab A B C (A e) = tj_lab A B C (A 0)) → post 0) : wpY_whole post (fn, nI C, ft, a, b, w) := by
  have h7 := (tj_h7 H 0 hC).1
  have hR : 2 ^ A 0 < 2 ^ 7 := Nat.pow_lt_pow_right (by decide) h7
  have e : (1 : Int32) <<< (a 0 &&& 31) = nI (2 ^ A 0) := by
    rw [(H.2.2.2 0 hC).2.2.1, tj_sh1 (by omega)]
  have hr : (∀ e, e < C → (tj_rd A B C 7 (2 ^ A 0)).testBit (A e) = true) ↔ (∀ e, e < C → tj_lab A B C (A e) = tj_lab A B C (A 0)) := by
    constructor
    · intro h e he
      exact (tj_reach (tj_h7 H) h7 (A e)).mp (h e he)
    · intro h e he
      exact (tj_reach (tj_h7 H) h7 (A e)).mpr (h e he)
  exact nm_r e ⟨8, tj_ywh11 H hR (fun z => h1 (hr.mp z)) (fun z => h0 (fun y => z (hr.mpr y))) 7 0 (by omega)⟩
end
end
section
/-! walks of the component: the parts -/
def tj_n (x : Bool) : Nat := if x then 1 else 0
theorem tj_n_1 {x : Bool} : nI (tj_n x) = 1 ↔ x = true := by
  cases x <;> decide
theorem tj_n_0 {x : Bool} : nI (tj_n x) = 0 ↔ x = false := by
  cases x <;> decide
theorem tj_n_xor (x y : Bool) : nI (tj_n x) ^^^ nI (tj_n y) = nI (tj_n (x ^^ y)) := by
  cases x <;> cases y <;> decide
/-- the array of labels -/
def tj_lp (N : Nat) (L : Nat → Nat) (p : Nat → Int32) : Prop := ∀ q, q < N → p q = nI (L q)
section
variable {N C : Nat} {A B : Nat → Nat} {a b w c f g u z p : Nat → Int32}
theorem tj_hN (H : tj_ok N C A B a b) : ∀ i, i < C → A i < N ∧ B i < N := fun i hi => ⟨(H.2.2.2 i hi).1, (H.2.2.2 i hi).2.1⟩
theorem tj_xfp60 (h7 : N ≤ 7) {ft fc : Int32} {e : Nat} (hl : ∀ q, q < N → tj_lab A B e q < N) (hB : B e < N) {post : SX → Prop} {J25 : Int32 → (Nat → Int32) → (Nat → Int32) → (Nat → Int32) → (Nat → Int32) → (Nat → Int32) → (Nat → Int32) → (Nat → Int32) → (Nat → Int32) → (Nat → Int32) → Prop}
    (hJ : ∀ p, tj_lp N (tj_lab A B (e + 1)) p → J25 (nI (e + 1)) a b w c f g u z p) : ∀ k i p, i + k = N → tj_lp N (fun q => if q < i then tj_lab A B (e + 1) q else tj_lab A B e q) p → wX_findParts_60 post J25 (nI e) (nI (tj_lab A B e (A e))) (nI (tj_lab A B e (B e))) (nI N) fc ft (k + 1) (nI i) a b w c f g u z p := by
  intro k
  induction k with
  | zero =>
    intro i p hi hs
    have e : N = i := by omega
    subst e
    refine br_t (Int32.le_refl _) (nm_r (nI_1 _) (hJ p (fun q hq => ?_)))
    have h := hs q hq
    dsimp only at h
    rw [if_pos hq] at h
    exact h
  | succ k ih =>
    intro i p hi hs
    have hin : vp_in (nI i) 7 := vp_in_nI (by omega) (by omega)
    have hpi : p i = nI (tj_lab A B e i) := by
      have h := hs i (by omega)
      dsimp only at h
      rw [if_neg (by omega)] at h
      exact h
    have hli := hl i (by omega)
    have hlB := hl _ hB
    have hiff : p (nI i).toNatClampNeg = nI (tj_lab A B e (B e)) ↔ tj_lab A B e i = tj_lab A B e (B e) := by
      rw [nI_clamp (by omega), hpi, nI_eq (by omega) (by omega)]
    have hput : ∀ p', p' = upd p i (nI (tj_lab A B (e + 1) i)) → tj_lp N (fun q => if q < i + 1 then tj_lab A B (e + 1) q else tj_lab A B e q) p' := by
      intro p' hp' q hq
      rw [hp']
      dsimp only
      by_cases he : q = i
      · rw [he, pk_us, if_pos (by omega)]
      · rw [pk_un he, hs q hq]
        dsimp only
        by_cases hlt : q < i
        · rw [if_pos hlt, if_pos (by omega)]
        · rw [if_neg hlt, if_neg (by omega)]
    refine br_f (nI_ge (by omega) (by omega)) ⟨hin, tj_brI hiff (fun h1 => ⟨hin, fun p' hp' => nm_r (nI_1 i) (ih (i + 1) p' (by omega) (hput p' ?_))⟩) (fun h1 => ⟨hin, hin, fun p' hp' => nm_r (nI_1 i) (ih (i + 1) p' (by omega) (hput p' ?_))⟩)⟩
    · rw [hp', nI_clamp (by omega)]
      simp only [tj_lab, if_pos h1]
    · rw [hp', nI_clamp (by omega), hpi]
      simp only [tj_lab, if_neg h1]
theorem tj_xfp25 (H : tj_ok N C A B a b) {ft : Int32} {post : SX → Prop} (hp : ∀ p, tj_lp N (tj_lab A B C) p → post (nI N, nI C, ft, a, b, w, c, f, g, u, z, p)) : ∀ k e p, e + k = C → tj_lp N (tj_lab A B e) p → wX_findParts_25 post (nI N) (nI C) ft (k + 1) (nI e) a b w c f g u z p := by
  have h12 : C ≤ 12 := H.2.2.1
  have h7 : N ≤ 7 := H.2.1
  intro k
  induction k with
  | zero =>
    intro i p hi hs
    have e : C = i := by omega
    subst e
    exact br_t (Int32.le_refl _) (hp p hs)
  | succ k ih =>
    intro e p he hs
    have hin : vp_in (nI e) 12 := vp_in_nI (by omega) (by omega)
    obtain ⟨hA, hB, ea, eb⟩ := H.2.2.2 e (by omega)
    have ea' : a (nI e).toNatClampNeg = nI (A e) := by rw [nI_clamp (by omega), ea]
    have eb' : b (nI e).toNatClampNeg = nI (B e) := by rw [nI_clamp (by omega), eb]
    refine br_f (nI_ge (by omega) (by omega)) ⟨hin, by rw [ea']; exact vp_in_nI (by omega) (by omega), nm_r (e' := nI (tj_lab A B e (A e))) ?_ ⟨hin, by rw [eb']; exact vp_in_nI (by omega) (by omega), nm_r (e' := nI (tj_lab A B e (B e))) ?_ ⟨N + 1, tj_xfp60 h7 (fun q hq => tj_lab_lt (fun i hi => tj_hN H i (by omega)) hq) hB (fun p' hp' => ih (e + 1) p' (by omega) hp') N 0 p (by omega) ?_⟩⟩⟩
    · rw [ea', nI_clamp (by omega), hs _ hA]
    · rw [eb', nI_clamp (by omega), hs _ hB]
    · intro q hq
      dsimp only
      rw [if_neg (by omega)]
      exact hs q hq
theorem tj_xfp2 (H : tj_ok N C A B a b) {ft : Int32} {post : SX → Prop} (hp : ∀ p, tj_lp N (tj_lab A B C) p → post (nI N, nI C, ft, a, b, w, c, f, g, u, z, p)) : ∀ k i p, i + k = N → (∀ q, q < i → p q = nI q) → wX_findParts_2 post (nI N) (nI C) ft (k + 1) (nI i) a b w c f g u z p := by
  have h7 : N ≤ 7 := H.2.1
  intro k
  induction k with
  | zero =>
    intro i p hi hs
    have e : N = i := by omega
    subst e
    exact br_t (Int32.le_refl _) ⟨C + 1, tj_xfp25 H hp C 0 p (by omega) hs⟩
  | succ k ih =>
    intro i p hi hs
    have hin : vp_in (nI i) 7 := vp_in_nI (by omega) (by omega)
    refine br_f (nI_ge (by omega) (by omega)) ⟨hin, fun p' hp' => nm_r (nI_1 i) (ih (i + 1) p' (by omega) (fun q hq => ?_))⟩
    rw [hp', nI_clamp (by omega)]
    by_cases he : q = i
    · rw [he, pk_us]
    · rw [pk_un he]; exact hs q (by omega)
theorem tj_xfp (H : tj_ok N C A B a b) {ft : Int32} {post : SX → Prop} (hp : ∀ p, tj_lp N (tj_lab A B C) p → post (nI N, nI C, ft, a, b, w, c, f, g, u, z, p)) : wpX_findParts post (nI N, nI C, ft, a, b, w, c, f, g, u, z, p) :=
  ⟨N + 1, tj_xfp2 H hp N 0 p (by omega) (fun q hq => absurd hq (by omega))⟩
theorem tj_xip19 (h7 : N ≤ 7) {ft fc : Int32} {L : Nat → Nat} (hL : ∀ q, q < N → L q < N) (hp : tj_lp N L p) {S x : Nat} (hS : S < 2 ^ 31) (hx : x < N) {post : Int32 → SX → Prop} {J6 : Int32 → Prop} (h1 : tj_par L x S N = true → post 0 (nI N, fc, ft, a, b, w, c, f, g, u, z, p)) (h0 : tj_par L x S N = false → J6 (nI (x + 1))) : ∀ k i, i + k = N → wX_isPossible_19 post J6 (nI S) (nI x) (nI N) fc ft a b w c f g u z p (k + 1) (nI (tj_n (tj_par L x S i))) (nI i) := by
  intro k
  induction k with
  | zero =>
    intro i hi
    have e : N = i := by omega
    subst e
    exact br_t (Int32.le_refl _) (tj_brI tj_n_1 h1 (fun h => nm_r (nI_1 x) (h0 (tj_bf h))))
  | succ k ih =>
    intro i hi
    have h2 := ih (i + 1) (by omega)
    have hin : vp_in (nI i) 7 := vp_in_nI (by omega) (by omega)
    have hLi := hL i (by omega)
    have hiff : p (nI i).toNatClampNeg = nI x ↔ L i = x := by
      rw [nI_clamp (by omega), hp i (by omega), nI_eq (by omega) (by omega)]
    refine br_f (nI_ge (by omega) (by omega)) ⟨hin, tj_brI hiff (fun h3 => nm_r (e' := nI (tj_n (tj_par L x S (i + 1)))) ?_ (nm_r (nI_1 i) h2)) (fun h3 => nm_r (e' := nI (tj_n (tj_par L x S (i + 1)))) ?_ (nm_r (nI_1 i) h2))⟩
    · rw [tj_bitv hS (by omega)]
      have := tj_n_xor (tj_par L x S i) (S.testBit i)
      simp only [tj_par, h3, decide_true, Bool.true_and]
      exact this
    · simp only [tj_par, h3, decide_false, Bool.false_and, Bool.xor_false]
      have := tj_n_xor (tj_par L x S i) false
      rw [Bool.xor_false] at this
      exact this
theorem tj_xip6 (h7 : N ≤ 7) {ft fc : Int32} {L : Nat → Nat} (hL : ∀ q, q < N → L q < N) (hp : tj_lp N L p) {S : Nat} (hS : S < 2 ^ 31) {post : Int32 → SX → Prop} (h1 : (∀ x, tj_par L x S N = false) → post 1 (nI N, fc, ft, a, b, w, c, f, g, u, z, p)) (h0 : ¬ (∀ x, tj_par L x S N = false) → post 0 (nI N, fc, ft, a, b, w, c, f, g, u, z, p)) : ∀ k x, x + k = N → (∀ y, y < x → tj_par L y S N = false) → wX_isPossible_6 post (nI S) (nI N) fc ft a b w c f g u z p (k + 1) (nI x) := by
  intro k
  induction k with
  | zero =>
    intro x hx hs
    have e : N = x := by omega
    subst e
    refine br_t (Int32.le_refl _) (h1 (fun y => ?_))
    by_cases hy : y < N
    · exact hs y hy
    · exact tj_par_none (fun q hq => Or.inl (by have := hL q hq; omega))
  | succ k ih =>
    intro x hx hs
    refine br_f (nI_ge (by omega) (by omega)) ⟨N + 1, tj_xip19 h7 hL hp hS (by omega) (fun h => h0 (fun y => ?_)) (fun h => ih (x + 1) (by omega) (fun y hy => ?_)) N 0 (by omega)⟩
    · rw [y x] at h
      exact absurd h (by decide)
    · by_cases he : y = x
      · rw [he]; exact h
      · exact hs y (by omega)
theorem tj_xip (H : tj_ok N C A B a b) {ft : Int32} {S : Nat} (hS : S < 2 ^ 31) {post : Int32 → SX → Prop} (h1 : ∀ p, tj_lp N (tj_lab A B C) p → tj_ev A B N C S → post 1 (nI N, nI C, ft, a, b, w, c, f, g, u, z, p)) (h0 : ∀ p, tj_lp N (tj_lab A B C) p → ¬ tj_ev A B N C S → post 0 (nI N, nI C, ft, a, b, w, c, f, g, u, z, p)) : wpX_isPossible post (nI N, nI C, ft, a, b, w, c, f, g, u, z, p) (nI S) := by
  unfold wpX_isPossible
  refine tj_xfp H (fun p' hp' => ?_)
  exact ⟨N + 1, tj_xip6 H.2.1 (fun q hq => tj_lab_lt (tj_hN H) hq) hp' hS (h1 p' hp') (h0 p' hp') N 0 (by omega) (fun y hy => absurd hy (by omega))⟩
theorem tj_xcp21 (h7 : N ≤ 7) {fn ft fc : Int32} {L : Nat → Nat} (hL : ∀ q, q < N → L q < N) (hp : tj_lp N L p) {S x : Nat} (hx : x < N) {post : Int32 → SX → Prop} {J8 : Int32 → Int32 → Prop} (hJ : J8 (nI (S + tj_n (tj_fs L x x))) (nI (x + 1))) : ∀ k i, i + k = x → wX_countParts_21 post J8 (nI S) (nI x) fn fc ft a b w c f g u z p (k + 1) (nI (tj_n (tj_fs L x i))) (nI i) := by
  intro k
  induction k with
  | zero =>
    intro i hi
    have e : x = i := by omega
    subst e
    refine br_t (Int32.le_refl _) (tj_brI tj_n_0 (fun h => ?_) (fun h => ?_))
    · rw [h] at hJ
      exact nm_r (nI_add S 0) (nm_r (nI_1 x) hJ)
    · have h : tj_fs L x x = true := by
        cases hz : tj_fs L x x
        · exact absurd hz h
        · rfl
      rw [h] at hJ
      exact nm_r (nI_add S 1) (nm_r (nI_1 x) hJ)
  | succ k ih =>
    intro i hi
    have h2 := ih (i + 1) (by omega)
    have hin : vp_in (nI i) 7 := vp_in_nI (by omega) (by omega)
    have hinx : vp_in (nI x) 7 := vp_in_nI (by omega) (by omega)
    have hLi := hL i (by omega)
    have hLx := hL x hx
    have hiff : p (nI i).toNatClampNeg = p (nI x).toNatClampNeg ↔ L i = L x := by
      rw [nI_clamp (by omega), nI_clamp (by omega), hp i (by omega), hp x hx, nI_eq (by omega) (by omega)]
    refine br_f (nI_ge (by omega) (by omega)) (tj_brI tj_n_0 (fun h => nm_r (nI_1 i) ?_) (fun h => ⟨hin, hinx, tj_brI hiff (fun h3 => nm_r (nI_1 i) ?_) (fun h3 => nm_r (nI_1 i) ?_)⟩))
    · have e : tj_fs L x (i + 1) = false := by simp only [tj_fs, h, Bool.false_and]
      rw [e] at h2
      exact h2
    · have e : tj_fs L x (i + 1) = false := by simp [tj_fs, h3]
      rw [e] at h2
      exact h2
    · have h : tj_fs L x i = true := by
        cases hz : tj_fs L x i
        · exact absurd hz h
        · rfl
      have e : tj_fs L x (i + 1) = true := by simp [tj_fs, h3, h]
      rw [e] at h2
      exact h2
theorem tj_xcp8 (h7 : N ≤ 7) {ft fc : Int32} {L : Nat → Nat} (hL : ∀ q, q < N → L q < N) (hp : tj_lp N L p) {post : Int32 → SX → Prop} (h1 : post (nI (tj_cnt (fun x => tj_fs L x x) N)) (nI N, fc, ft, a, b, w, c, f, g, u, z, p)) : ∀ k x, x + k = N → wX_countParts_8 post (nI N) fc ft a b w c f g u z p (k + 1) (nI (tj_cnt (fun x => tj_fs L x x) x)) (nI x) := by
  intro k
  induction k with
  | zero =>
    intro x hx
    have e : N = x := by omega
    subst e
    exact br_t (Int32.le_refl _) h1
  | succ k ih =>
    intro x hx
    exact br_f (nI_ge (by omega) (by omega)) ⟨x + 1, tj_xcp21 h7 hL hp (by omega) (ih (x + 1) (by omega)) x 0 (by omega)⟩
theorem tj_xcp (H : tj_ok N C A B a b) {ft : Int32} {post : Int32 → SX → Prop} (h1 : ∀ p, tj_lp N (tj_lab A B C) p → post (nI (tj_pc A B N C)) (nI N, nI C, ft, a, b, w, c, f, g, u, z, p)) : wpX_countParts post (nI N, nI C, ft, a, b, w, c, f, g, u, z, p) := by
  unfold wpX_countParts
  refine tj_xfp H (fun p' hp' => ?_)
  exact ⟨N + 1, tj_xcp8 H.2.1 (fun q hq => tj_lab_lt (tj_hN H) hq) hp' (h1 p' hp') N 0 (by omega)⟩
end
end
section
/-! walks of the component: shortest ways -/
theorem tj_wn_zero {c : Nat → Nat} : ∀ e, tj_wn c e 0 = 0 := by
  intro e
  induction e with
  | zero => rfl
  | succ e ih => simp [tj_wn, ih]
theorem tj_wn_one {c : Nat → Nat} {k e : Nat} (h : k < e) : tj_wn c e (2 ^ k) = c k := by
  have h1 := tj_wn_rm (c := c) (s := 2 ^ k) h Nat.testBit_two_pow_self
  rw [Nat.xor_self, tj_wn_zero] at h1
  omega
def tj_fv (F V : Nat → Nat) (f g : Nat → Int32) : Prop := ∀ k, k < 49 → f k = nI (F k) ∧ g k = nI (V k)
/-- what is held of a way: its ends are its odd places, it is no dearer than its length -/
def tj_P (A B : Nat → Nat) (C : Nat) (c F V : Nat → Nat) : Prop := ∀ k, k < 49 → F k ≤ 268435456 ∧ (k / 7 = k % 7 → F k = 0) ∧ (F k < 268435456 → V k < 2 ^ C ∧ tj_od (tj_d A B) C (V k) = 2 ^ (k / 7) ^^^ 2 ^ (k % 7) ∧ tj_wn c C (V k) ≤ F k)
def tj_hd (A B : Nat → Nat) (c F : Nat → Nat) (e : Nat) : Prop := ∀ i, i < e → F (7 * A i + B i) ≤ c i ∧ F (7 * B i + A i) ≤ c i
def tj_tF (F : Nat → Nat) (k L : Nat) : Nat → Nat := fun j => if j = k ∧ L < F k then L else F j
def tj_tV (F V : Nat → Nat) (k L R : Nat) : Nat → Nat := fun j => if j = k ∧ L < F k then R else V j
theorem tj_tF_le (F : Nat → Nat) (k L j : Nat) : tj_tF F k L j ≤ F j := by
  unfold tj_tF
  by_cases h : j = k ∧ L < F k
  · rw [if_pos h, h.1]; omega
  · rw [if_neg h]; exact Nat.le_refl _
theorem tj_tF_at (F : Nat → Nat) (k L : Nat) : tj_tF F k L k = if L < F k then L else F k := by
  unfold tj_tF
  by_cases h : L < F k
  · rw [if_pos ⟨rfl, h⟩, if_pos h]
  · rw [if_neg (fun z => h z.2), if_neg h]
theorem tj_tF_at_le (F : Nat → Nat) (k L : Nat) : tj_tF F k L k ≤ L := by
  rw [tj_tF_at]
  split <;> omega
theorem tj_tF_ne (F : Nat → Nat) {k L j : Nat} (h : j ≠ k) : tj_tF F k L j = F j := if_neg (fun z => h z.1)
theorem tj_P_t {A B : Nat → Nat} {C : Nat} {c F V : Nat → Nat} {k L R : Nat} (h : tj_P A B C c F V) (hR : L < 268435456 → R < 2 ^ C ∧ tj_od (tj_d A B) C R = 2 ^ (k / 7) ^^^ 2 ^ (k % 7) ∧ tj_wn c C R ≤ L) : tj_P A B C c (tj_tF F k L) (tj_tV F V k L R) := by
  intro j hj
  obtain ⟨h1, h2, h3⟩ := h j hj
  unfold tj_tF tj_tV
  by_cases hc : j = k ∧ L < F k
  · rw [if_pos hc, if_pos hc]
    obtain ⟨rfl, hl⟩ := hc
    refine ⟨by omega, fun hz => ?_, hR⟩
    have := h2 hz
    omega
  · rw [if_neg hc, if_neg hc]
    exact ⟨h1, h2, h3⟩
theorem tj_fv_t {F V : Nat → Nat} {f g : Nat → Int32} {k L R : Nat} (h : tj_fv F V f g) (hl : L < F k) : tj_fv (tj_tF F k L) (tj_tV F V k L R) (upd f k (nI L)) (upd g k (nI R)) := by
  intro j hj
  unfold tj_tF tj_tV
  by_cases he : j = k
  · rw [he, pk_us, pk_us, if_pos ⟨rfl, hl⟩, if_pos ⟨rfl, hl⟩]
    exact ⟨rfl, rfl⟩
  · rw [pk_un he, pk_un he, if_neg (fun z => he z.1), if_neg (fun z => he z.1)]
    exact h j hj
theorem tj_fv_n {F V : Nat → Nat} {f g : Nat → Int32} {k L R : Nat} (h : tj_fv F V f g) (hl : ¬ L < F k) : tj_fv (tj_tF F k L) (tj_tV F V k L R) f g := by
  intro j hj
  unfold tj_tF tj_tV
  rw [if_neg (fun z => hl z.2), if_neg (fun z => hl z.2)]
  exact h j hj
theorem tj_G_row {F : Nat → Nat} {m i : Nat} (hm : m < 7) (hd : F (7 * m + m) = 0) : tj_G F m (7 * i + m) = F (7 * i + m) := by
  rw [tj_G_at F m hm, hd]
  split <;> omega
theorem tj_G_col {F : Nat → Nat} {m j : Nat} (hj : j < 7) (hd : F (7 * m + m) = 0) : tj_G F m (7 * m + j) = F (7 * m + j) := by
  rw [tj_G_at F m hj, hd]
  split <;> omega
theorem tj_G_le (F : Nat → Nat) (m k : Nat) : tj_G F m k ≤ F k := by
  unfold tj_G
  split <;> omega
theorem tj_P_d {A B : Nat → Nat} {C : Nat} {c F V : Nat → Nat} (h : tj_P A B C c F V) : ∀ i, i < 7 → F (7 * i + i) = 0 :=
  fun i hi => (h (7 * i + i) (by omega)).2.1 (by omega)
section
variable {N C : Nat} {A B : Nat → Nat} {a b w c f g u z p : Nat → Int32} {F V : Nat → Nat}
theorem tj_xtake {fn fc ft : Int32} {post : SX → Prop} {k L R : Nat} (hfv : tj_fv F V f g) (hk : k < 49) (hF : F k < 2 ^ 31) (hL : L < 2 ^ 31) (h : ∀ f' g', tj_fv (tj_tF F k L) (tj_tV F V k L R) f' g' → post (fn, fc, ft, a, b, w, c, f', g', u, z, p)) : wpX_take post (fn, fc, ft, a, b, w, c, f, g, u, z, p) (nI k) (nI L) (nI R) := by
  have hin : vp_in (nI k) 49 := vp_in_nI hk (by omega)
  have hiff : f (nI k).toNatClampNeg ≤ nI L ↔ ¬ L < F k := by
    rw [nI_clamp (by omega), (hfv k hk).1, nI_leI hF hL]
    omega
  refine ⟨hin, tj_brI hiff (fun h1 => h f g (tj_fv_n hfv h1)) (fun h1 => ⟨hin, fun f' hf' => ⟨hin, fun g' hg' => h f' g' ?_⟩⟩)⟩
  rw [hf', hg', nI_clamp (by omega)]
  exact tj_fv_t hfv (Classical.byContradiction h1)
/-- the phase's state -/
theorem tj_xfw146 {fc ft : Int32} {post : SX → Prop} {J136 : Int32 → Int32 → Int32 → Int32 → (Nat → Int32) → (Nat → Int32) → (Nat → Int32) → (Nat → Int32) → (Nat → Int32) → (Nat → Int32) → (Nat → Int32) → (Nat → Int32) → (Nat → Int32) → Prop} {ca F0 : Nat → Nat} {m : Nat} {fn : Int32} (hm : m < 7) (hd0 : F0 (7 * m + m) = 0)
    (hJ : ∀ F V f g, tj_fv F V f g → tj_P A B C ca F V → (∀ k, k < 49 → F k = tj_G F0 m k) → J136 (nI (m + 1)) fn fc ft a b w c f g u z p) :
    ∀ n k F V f g, k + n = 49 → tj_fv F V f g → tj_P A B C ca F V → (∀ j, j < 49 → F j = if j < k then tj_G F0 m j else F0 j) → wX_findWays_146 post J136 (nI m) (n + 1) (nI k) fn fc ft a b w c f g u z p := by
  intro n
  induction n with
  | zero =>
    intro k F V f g hk hfv hP hF
    have e : k = 49 := by omega
    subst e
    refine br_t (Int32.le_refl _) (nm_r (nI_1 m) (hJ F V f g hfv hP (fun j hj => ?_)))
    rw [hF j hj, if_pos hj]
  | succ n ih =>
    intro k F V f g hk hfv hP hF
    have hk7 : k / 7 < 7 := by omega
    have hkm : k % 7 < 7 := by omega
    have e1 : (7 : Int32) * (nI k / 7) + nI m = nI (7 * (k / 7) + m) := by
      show nI 7 * (nI k / nI 7) + nI m = _
      rw [pk_div (by omega) (by omega) (by omega), pk_mul, nI_add]
    have e2 : (7 : Int32) * nI m + (nI k - nI k / 7 * 7) = nI (7 * m + k % 7) := by
      show nI 7 * nI m + (nI k - nI k / nI 7 * nI 7) = _
      rw [pk_rem (by omega) (by omega) (by omega), pk_mul, nI_add]
    have i1 : vp_in (nI (7 * (k / 7) + m)) 49 := vp_in_nI (by omega) (by omega)
    have i2 : vp_in (nI (7 * m + k % 7)) 49 := vp_in_nI (by omega) (by omega)
    have hf1 : F (7 * (k / 7) + m) = F0 (7 * (k / 7) + m) := by
      rw [hF _ (by omega), tj_G_row hm hd0]
      split <;> rfl
    have hf2 : F (7 * m + k % 7) = F0 (7 * m + k % 7) := by
      rw [hF _ (by omega), tj_G_col hkm hd0]
      split <;> rfl
    have hfk : F k = F0 k := by rw [hF k (by omega), if_neg (by omega)]
    have p1 := hP (7 * (k / 7) + m) (by omega)
    have p2 := hP (7 * m + k % 7) (by omega)
    have pk := hP k (by omega)
    have v1 := hfv (7 * (k / 7) + m) (by omega)
    have v2 := hfv (7 * m + k % 7) (by omega)
    have eL : f (nI (7 * (k / 7) + m)).toNatClampNeg + f (nI (7 * m + k % 7)).toNatClampNeg = nI (F (7 * (k / 7) + m) + F (7 * m + k % 7)) := by
      rw [nI_clamp (by omega), nI_clamp (by omega), v1.1, v2.1, nI_add]
    have eR : g (nI (7 * (k / 7) + m)).toNatClampNeg ^^^ g (nI (7 * m + k % 7)).toNatClampNeg = nI (V (7 * (k / 7) + m) ^^^ V (7 * m + k % 7)) := by
      rw [nI_clamp (by omega), nI_clamp (by omega), v1.2, v2.2, nx_xor]
    have hlt : ¬ (49 : Int32) ≤ nI k := nI_ge (b := 49) (by omega) (by decide)
    refine br_f hlt ⟨by decide, nm_r e1 ⟨by decide, nm_r e2 ⟨i1, i2, i1, i2, ?_⟩⟩⟩
    rw [eL, eR]
    refine tj_xtake hfv (by omega) (by omega) (by omega) (fun f' g' hfv' => ?_)
    refine nm_r (nI_1 k) (ih (k + 1) _ _ f' g' (by omega) hfv' (tj_P_t hP (fun hl => ?_)) (fun j hj => ?_))
    · have q1 := p1.2.2 (by omega)
      have q2 := p2.2.2 (by omega)
      rw [show (7 * (k / 7) + m) / 7 = k / 7 by omega, show (7 * (k / 7) + m) % 7 = m by omega] at q1
      rw [show (7 * m + k % 7) / 7 = m by omega, show (7 * m + k % 7) % 7 = k % 7 by omega] at q2
      refine ⟨Nat.xor_lt_two_pow q1.1 q2.1, ?_, Nat.le_trans (tj_wn_xor _ _ _) (Nat.add_le_add q1.2.2 q2.2.2)⟩
      rw [tj_od_xor, q1.2.1, q2.2.1]
      apply Nat.eq_of_testBit_eq
      intro i
      simp only [Nat.testBit_xor, Nat.testBit_two_pow]
      cases decide (k / 7 = i) <;> cases decide (m = i) <;> cases decide (k % 7 = i) <;> rfl
    · by_cases he : j = k
      · subst he
        rw [tj_tF_at, hf1, hf2, hfk, if_pos (show j < j + 1 by omega)]
        rfl
      · rw [tj_tF_ne _ he, hF j hj]
        by_cases h1 : j < k
        · rw [if_pos h1, if_pos (by omega)]
        · rw [if_neg h1, if_neg (by omega)]
theorem tj_xfw136 (h7 : N ≤ 7) {fc ft : Int32} {post : SX → Prop} {ca : Nat → Nat} (hA : ∀ e, e < C → A e < N ∧ B e < N)
    (hp : ∀ F V f g, tj_fv F V f g → tj_P A B C ca F V → tj_tri N F → tj_hd A B ca F C → post (nI N, fc, ft, a, b, w, c, f, g, u, z, p)) :
    ∀ n m F V f g, m + n = N → tj_fv F V f g → tj_P A B C ca F V → tj_tri m F → tj_hd A B ca F C → wX_findWays_136 post (n + 1) (nI m) (nI N) fc ft a b w c f g u z p := by
  intro n
  induction n with
  | zero =>
    intro m F V f g hm hfv hP hT hD
    have e : N = m := by omega
    subst e
    exact br_t (Int32.le_refl _) (hp F V f g hfv hP hT hD)
  | succ n ih =>
    intro m F V f g hm hfv hP hT hD
    refine br_f (nI_ge (by omega) (by omega)) ⟨50, tj_xfw146 (ca := ca) (F0 := F) (by omega) (tj_P_d hP m (by omega)) (fun F' V' f' g' hfv' hP' hG => ?_) 49 0 F V f g (by omega) hfv hP (fun j hj => by rw [if_neg (by omega)])⟩
    refine ih (m + 1) F' V' f' g' (by omega) hfv' hP' (tj_fw (by omega) hT (tj_P_d hP) hG) (fun i hi => ?_)
    have hAi := hA i hi
    have hDi := hD i hi
    rw [hG _ (by omega), hG _ (by omega)]
    exact ⟨Nat.le_trans (tj_G_le _ _ _) hDi.1, Nat.le_trans (tj_G_le _ _ _) hDi.2⟩
theorem tj_ix7 (H : tj_ok N C A B a b) {e : Nat} (he : e < C) : (7 : Int32) * (a (nI e).toNatClampNeg) + b (nI e).toNatClampNeg = nI (7 * A e + B e) ∧ (7 : Int32) * (b (nI e).toNatClampNeg) + a (nI e).toNatClampNeg = nI (7 * B e + A e) := by
  have h12 : C ≤ 12 := H.2.2.1
  obtain ⟨hA, hB, ea, eb⟩ := H.2.2.2 e he
  rw [nI_clamp (by omega), ea, eb]
  constructor
  · show nI 7 * nI (A e) + nI (B e) = _
    rw [pk_mul, nI_add]
  · show nI 7 * nI (B e) + nI (A e) = _
    rw [pk_mul, nI_add]
theorem tj_xfw79 (H : tj_ok N C A B a b) {fn fc ft : Int32} {post : SX → Prop} {J46 : Int32 → Int32 → Int32 → Int32 → (Nat → Int32) → (Nat → Int32) → (Nat → Int32) → (Nat → Int32) → (Nat → Int32) → (Nat → Int32) → (Nat → Int32) → (Nat → Int32) → (Nat → Int32) → Prop} {ca : Nat → Nat} {e : Nat} (he : e < C) (hca : ca e < 2 ^ 31) (hfv : tj_fv F V f g) (hP : tj_P A B C ca F V) (hD : tj_hd A B ca F e)
    (hJ : ∀ F V f g, tj_fv F V f g → tj_P A B C ca F V → tj_hd A B ca F (e + 1) → J46 (nI (e + 1)) fn fc ft a b w c f g u z p) :
    wX_findWays_79 post J46 (nI e) (nI (ca e)) fn fc ft a b w c f g u z p := by
  have h12 : C ≤ 12 := H.2.2.1
  have h7 : N ≤ 7 := H.2.1
  obtain ⟨hA, hB, ea, eb⟩ := H.2.2.2 e he
  have hin : vp_in (nI e) 12 := vp_in_nI (by omega) (by omega)
  obtain ⟨x1, x2⟩ := tj_ix7 H he
  have e2 : 2 ^ e < 2 ^ C := Nat.pow_lt_pow_right (by decide) he
  have ho : tj_od (tj_d A B) C (2 ^ e) = 2 ^ A e ^^^ 2 ^ B e := tj_od_one he
  have hw : tj_wn ca C (2 ^ e) = ca e := tj_wn_one he
  have p1 := hP (7 * A e + B e) (by omega)
  have p2 := hP (7 * B e + A e) (by omega)
  unfold wX_findWays_79
  refine ⟨hin, hin, ?_⟩
  rw [x1, tj_sh1 (by omega)]
  refine tj_xtake hfv (by omega) (by omega) hca (fun f1 g1 hfv1 => ?_)
  refine ⟨hin, hin, ?_⟩
  dsimp only
  rw [x2]
  have hP1 : tj_P A B C ca (tj_tF F (7 * A e + B e) (ca e)) (tj_tV F V (7 * A e + B e) (ca e) (2 ^ e)) := by
    refine tj_P_t hP (fun _ => ⟨e2, ?_, by omega⟩)
    rw [ho, show (7 * A e + B e) / 7 = A e by omega, show (7 * A e + B e) % 7 = B e by omega]
  have l2 := tj_tF_le F (7 * A e + B e) (ca e) (7 * B e + A e)
  refine tj_xtake hfv1 (by omega) (by omega) hca (fun f2 g2 hfv2 => ?_)
  refine nm_r (nI_1 e) (hJ _ _ f2 g2 hfv2 (tj_P_t hP1 (fun _ => ⟨e2, ?_, by omega⟩)) (fun i hi => ?_))
  · rw [ho, show (7 * B e + A e) / 7 = B e by omega, show (7 * B e + A e) % 7 = A e by omega]
    exact Nat.xor_comm _ _
  · by_cases hie : i = e
    · subst hie
      exact ⟨Nat.le_trans (tj_tF_le _ _ _ _) (tj_tF_at_le _ _ _), tj_tF_at_le _ _ _⟩
    · have hDi := hD i (by omega)
      exact ⟨Nat.le_trans (tj_tF_le _ _ _ _) (Nat.le_trans (tj_tF_le _ _ _ _) hDi.1), Nat.le_trans (tj_tF_le _ _ _ _) (Nat.le_trans (tj_tF_le _ _ _ _) hDi.2)⟩
/-- the amounts of the costs -/
def tj_ca (c : Nat → Int32) (e : Nat) : Nat := (c e).toInt.natAbs
theorem tj_xfw46 (H : tj_ok N C A B a b) {ft : Int32} {post : SX → Prop} (hc : ∀ e, e < C → tj_ca c e ≤ 8388608)
    (hp : ∀ F V f g, tj_fv F V f g → tj_P A B C (tj_ca c) F V → tj_tri N F → tj_hd A B (tj_ca c) F C → post (nI N, nI C, ft, a, b, w, c, f, g, u, z, p)) :
    ∀ n e F V f g, e + n = C → tj_fv F V f g → tj_P A B C (tj_ca c) F V → tj_hd A B (tj_ca c) F e → wX_findWays_46 post (n + 1) (nI e) (nI N) (nI C) ft a b w c f g u z p := by
  have h12 : C ≤ 12 := H.2.2.1
  have h7 : N ≤ 7 := H.2.1
  intro n
  induction n with
  | zero =>
    intro e F V f g he hfv hP hD
    have e : C = e := by omega
    subst e
    exact br_t (Int32.le_refl _) ⟨N + 1, tj_xfw136 h7 (tj_hN H) hp N 0 F V f g (by omega) hfv hP (fun x hx => absurd hx (by omega)) hD⟩
  | succ n ih =>
    intro e F V f g he hfv hP hD
    have hin : vp_in (nI e) 12 := vp_in_nI (by omega) (by omega)
    have hce := hc e (by omega)
    have hbig : -2 ^ 30 ≤ (c e).toInt := by unfold tj_ca at hce; omega
    have hgo := tj_xfw79 (w := w) (c := c) (u := u) (z := z) (p := p) (fn := nI N) (fc := nI C) (ft := ft) (post := post) (J46 := wX_findWays_46 post (n + 1)) H (show e < C by omega) (by omega) hfv hP hD (fun F' V' f' g' h1 h2 h3 => ih (e + 1) F' V' f' g' (by omega) h1 h2 h3)
    refine br_f (nI_ge (by omega) (by omega)) ⟨hin, br_c (fun h => ⟨hin, ?_⟩) (fun h => ⟨hin, ?_⟩)⟩
    · rw [nI_clamp (by omega)] at h
      rw [nI_clamp (by omega), tj_abs1 h]
      exact hgo
    · rw [nI_clamp (by omega)] at h
      rw [nI_clamp (by omega), tj_abs2 h hbig]
      exact hgo
theorem tj_xfw30 {fn fc ft : Int32} {post : SX → Prop} {J2 : Int32 → (Nat → Int32) → (Nat → Int32) → (Nat → Int32) → (Nat → Int32) → (Nat → Int32) → (Nat → Int32) → (Nat → Int32) → (Nat → Int32) → (Nat → Int32) → Prop} {k : Nat} {z0 : Int32} (hk : k < 49) (h : ∀ f' g', f' = upd f k z0 → g' = upd g k 0 → J2 (nI (k + 1)) a b w c f' g' u z p) : wX_findWays_30 post J2 (nI k) z0 (nI k) fn fc ft a b w c f g u z p := by
  have hin : vp_in (nI k) 49 := vp_in_nI hk (by omega)
  unfold wX_findWays_30
  refine ⟨hin, fun f' hf' => ⟨hin, fun g' hg' => nm_r (nI_1 k) (h f' g' ?_ ?_)⟩⟩
  · rw [hf', nI_clamp (by omega)]
  · rw [hg', nI_clamp (by omega)]
def tj_F0 (k : Nat) : Nat := if k / 7 = k % 7 then 0 else 268435456
theorem tj_P_0 {ca : Nat → Nat} : tj_P A B C ca tj_F0 (fun _ => 0) := by
  intro k hk
  unfold tj_F0
  by_cases h : k / 7 = k % 7
  · rw [if_pos h, h, Nat.xor_self]
    exact ⟨by omega, fun _ => rfl, fun _ => ⟨Nat.two_pow_pos C, tj_od_none (fun i _ => Nat.zero_testBit i), by rw [tj_wn_zero]; exact Nat.le_refl _⟩⟩
  · rw [if_neg h]
    exact ⟨by omega, fun z => absurd z h, fun z => absurd z (by omega)⟩
theorem tj_xfw2 (H : tj_ok N C A B a b) {ft : Int32} {post : SX → Prop} (hc : ∀ e, e < C → tj_ca c e ≤ 8388608)
    (hp : ∀ F V f g, tj_fv F V f g → tj_P A B C (tj_ca c) F V → tj_tri N F → tj_hd A B (tj_ca c) F C → post (nI N, nI C, ft, a, b, w, c, f, g, u, z, p)) :
    ∀ n k f g, k + n = 49 → (∀ j, j < k → f j = nI (tj_F0 j) ∧ g j = 0) → wX_findWays_2 post (nI N) (nI C) ft (n + 1) (nI k) a b w c f g u z p := by
  intro n
  induction n with
  | zero =>
    intro k f g hk hs
    have e : k = 49 := by omega
    subst e
    exact br_t (Int32.le_refl _) ⟨C + 1, tj_xfw46 H hc hp C 0 tj_F0 (fun _ => 0) f g (by omega) hs tj_P_0 (fun i hi => absurd hi (by omega))⟩
  | succ n ih =>
    intro k f g hk hs
    have hlt : ¬ (49 : Int32) ≤ nI k := nI_ge (b := 49) (by omega) (by decide)
    have hiff : (nI k / 7 = nI k - nI k / 7 * 7) ↔ k / 7 = k % 7 := by
      show (nI k / nI 7 = nI k - nI k / nI 7 * nI 7) ↔ _
      rw [pk_rem (by omega) (by omega) (by omega), pk_div (by omega) (by omega) (by omega), nI_eq (by omega) (by omega)]
    have hput : ∀ z0 f' g', z0 = nI (tj_F0 k) → f' = upd f k z0 → g' = upd g k 0 → ∀ j, j < k + 1 → f' j = nI (tj_F0 j) ∧ g' j = 0 := by
      intro z0 f' g' hz hf hg j hj
      rw [hf, hg, hz]
      by_cases he : j = k
      · rw [he, pk_us, pk_us]; exact ⟨rfl, rfl⟩
      · rw [pk_un he, pk_un he]; exact hs j (by omega)
    refine br_f hlt ⟨by decide, by decide, tj_brI hiff (fun h => tj_xfw30 (by omega) (fun f' g' hf hg => ih (k + 1) f' g' (by omega) (hput 0 f' g' ?_ hf hg))) (fun h => tj_xfw30 (by omega) (fun f' g' hf hg => ih (k + 1) f' g' (by omega) (hput 268435456 f' g' ?_ hf hg)))⟩
    · unfold tj_F0; rw [if_pos h]; rfl
    · unfold tj_F0; rw [if_neg h]; rfl
theorem tj_xfw (H : tj_ok N C A B a b) {ft : Int32} {post : SX → Prop} (hc : ∀ e, e < C → tj_ca c e ≤ 8388608)
    (hp : ∀ F V f g, tj_fv F V f g → tj_P A B C (tj_ca c) F V → tj_tri N F → tj_hd A B (tj_ca c) F C → post (nI N, nI C, ft, a, b, w, c, f, g, u, z, p)) : wpX_findWays post (nI N, nI C, ft, a, b, w, c, f, g, u, z, p) :=
  ⟨50, tj_xfw2 H hc hp 49 0 f g (by omega) (fun j hj => absurd hj (by omega))⟩
end
end
section
/-! walks of the component: pairs -/
/-- an entry of the table: a sum and a set for the places t -/
def tj_E (A B : Nat → Nat) (C : Nat) (c : Nat → Nat) (t : Nat) (x y : Int32) (S Z : Nat) : Prop := x = nI S ∧ y = nI Z ∧ S ≤ 268435456 ∧ (S < 268435456 → Z < 2 ^ C ∧ tj_od (tj_d A B) C Z = t ∧ tj_wn c C Z ≤ S)
def tj_Q (A B : Nat → Nat) (C : Nat) (c : Nat → Nat) (S Z : Nat → Nat) (i : Nat) (u z : Nat → Int32) : Prop := ∀ t, t < i → tj_E A B C c t (u t) (z t) (S t) (Z t)
def tj_sub (t goal : Nat) : Prop := ∀ i, t.testBit i = true → goal.testBit i = true
def tj_Lw (F S : Nat → Nat) (goal i : Nat) : Prop := S 0 = 0 ∧ ∀ t, t < i → tj_sub t goal → ∀ x p, t.testBit x = true → (∀ q, x < q → t.testBit q = false) → p < x → t.testBit p = true → S t ≤ S (t ^^^ (2 ^ x ^^^ 2 ^ p)) + F (7 * x + p)
theorem tj_rest {s x p : Nat} (hs : s < 128) (hx : s.testBit x = true) (hp : s.testBit p = true) (hpx : p < x) (hx7 : x < 7) : (nI s &&& (((1 : Int32) <<< (nI x &&& 31)) ^^^ (-1))) &&& (((1 : Int32) <<< (nI p &&& 31)) ^^^ (-1)) = nI (s ^^^ (2 ^ x ^^^ 2 ^ p)) ∧ s ^^^ (2 ^ x ^^^ 2 ^ p) < s := by
  have hle : s ^^^ (2 ^ x ^^^ 2 ^ p) < s := by
    apply Nat.lt_of_le_of_ne
    · apply Nat.le_of_testBit
      intro i hi
      rw [Nat.testBit_xor, tj_xb] at hi
      by_cases h1 : x = i
      · rw [← h1]; exact hx
      · by_cases h2 : p = i
        · rw [← h2]; exact hp
        · rw [decide_eq_false h1, decide_eq_false h2] at hi
          simpa using hi
    · intro h
      have h1 : (s ^^^ (2 ^ x ^^^ 2 ^ p)).testBit x = s.testBit x := by rw [h]
      rw [Nat.testBit_xor, tj_xb, hx, decide_eq_true (p := x = x) rfl, decide_eq_false (show ¬ p = x by omega)] at h1
      exact absurd h1 (by decide)
  refine ⟨?_, hle⟩
  have h1 : s ^^^ 2 ^ x < 2 ^ 31 := Nat.xor_lt_two_pow (by omega) (tj_p31 (by omega))
  rw [tj_sh1 (by omega), tj_sh1 (by omega), tj_andn (by omega) (s ^^^ 2 ^ x) ?_, tj_andn h1 (s ^^^ (2 ^ x ^^^ 2 ^ p)) ?_]
  · intro i
    rw [← Nat.xor_assoc, Nat.testBit_xor, Nat.testBit_two_pow]
    by_cases h2 : p = i
    · rw [← h2, Nat.testBit_xor, hp, Nat.testBit_two_pow_of_ne (by omega), decide_eq_true (p := p = p) rfl]; rfl
    · rw [decide_eq_false h2]; simp
  · intro i
    rw [Nat.testBit_xor, Nat.testBit_two_pow]
    by_cases h2 : x = i
    · rw [← h2, hx, decide_eq_true (p := x = x) rfl]; rfl
    · rw [decide_eq_false h2]; simp
theorem tj_subv {s goal : Nat} (hs : s < 2 ^ 31) : (nI s &&& (nI goal ^^^ (-1))) = 0 ↔ tj_sub s goal := by
  rw [tj_m1, nx_xor, nx_and, ← nI_0, nI_eq (Nat.lt_of_le_of_lt Nat.and_le_left hs) (by decide)]
  constructor
  · intro h i hi
    have h1 : (s &&& (goal ^^^ (2 ^ 32 - 1))).testBit i = false := by rw [h, Nat.zero_testBit]
    have hi32 : i < 32 := by
      apply Nat.lt_of_not_le
      intro h32
      rw [Nat.testBit_lt_two_pow (Nat.lt_of_lt_of_le hs (tj_ple (by omega)))] at hi
      exact absurd hi (by decide)
    rw [Nat.testBit_and, hi, Nat.testBit_xor, Nat.testBit_two_pow_sub_one, decide_eq_true hi32] at h1
    revert h1
    cases goal.testBit i <;> decide
  · intro h
    apply Nat.eq_of_testBit_eq
    intro i
    rw [Nat.zero_testBit, Nat.testBit_and, Nat.testBit_xor, Nat.testBit_two_pow_sub_one]
    cases hi : s.testBit i
    · rfl
    · have hi32 : i < 32 := by
        apply Nat.lt_of_not_le
        intro h32
        rw [Nat.testBit_lt_two_pow (Nat.lt_of_lt_of_le hs (tj_ple (by omega)))] at hi
        exact absurd hi (by decide)
      rw [h i hi, decide_eq_true hi32]; rfl
section
variable {C : Nat} {A B : Nat → Nat} {a b w c f g u z p : Nat → Int32} {F V S Z ca : Nat → Nat} {fn fc ft : Int32} {s x q goal : Nat}
theorem tj_xpair {post : SX → Prop} {Ss Zs : Nat} (hfv : tj_fv F V f g) (hP : tj_P A B C ca F V) (hQ : tj_Q A B C ca S Z s u z) (hE : tj_E A B C ca s (u s) (z s) Ss Zs) (hs : s < 128) (hx : s.testBit x = true) (hq : s.testBit q = true) (hqx : q < x) (hx7 : x < 7)
    (h : ∀ u' z' Ss' Zs', tj_Q A B C ca S Z s u' z' → tj_E A B C ca s (u' s) (z' s) Ss' Zs' → Ss' ≤ Ss → Ss' ≤ S (s ^^^ (2 ^ x ^^^ 2 ^ q)) + F (7 * x + q) → post (fn, fc, ft, a, b, w, c, f, g, u', z', p)) :
    wpX_pair post (fn, fc, ft, a, b, w, c, f, g, u, z, p) (nI s) (nI x) (nI q) := by
  obtain ⟨er, hr⟩ := tj_rest hs hx hq hqx hx7
  have ek : (7 : Int32) * nI x + nI q = nI (7 * x + q) := by
    show nI 7 * nI x + nI q = _
    rw [pk_mul, nI_add]
  have hE2 := hQ _ hr
  have hod : tj_od (tj_d A B) C (Z (s ^^^ (2 ^ x ^^^ 2 ^ q))) = s ^^^ (2 ^ x ^^^ 2 ^ q) → tj_od (tj_d A B) C (V (7 * x + q)) = 2 ^ x ^^^ 2 ^ q → tj_od (tj_d A B) C (Z (s ^^^ (2 ^ x ^^^ 2 ^ q)) ^^^ V (7 * x + q)) = s := by
    intro h1 h2
    rw [tj_od_xor, h1, h2, tj_xc]
  generalize s ^^^ (2 ^ x ^^^ 2 ^ q) = r at *
  have hk : 7 * x + q < 49 := by omega
  have pk := hP (7 * x + q) hk
  rw [show (7 * x + q) / 7 = x by omega, show (7 * x + q) % 7 = q by omega] at pk
  obtain ⟨v1, v2⟩ := hfv (7 * x + q) hk
  obtain ⟨r1, r2, r3, r4⟩ := hE2
  obtain ⟨s1, s2, s3, s4⟩ := hE
  have ik : vp_in (nI (7 * x + q)) 49 := vp_in_nI hk (by omega)
  have ir : vp_in (nI r) 128 := vp_in_nI (by omega) (by omega)
  have is : vp_in (nI s) 128 := vp_in_nI (by omega) (by omega)
  have c1 : (268435456 : Int32) ≤ f (nI (7 * x + q)).toNatClampNeg ↔ 268435456 ≤ F (7 * x + q) := by
    rw [nI_clamp (by omega), v1]
    exact nI_leI (a := 268435456) (by omega) (by omega)
  have c2 : (268435456 : Int32) ≤ u (nI r).toNatClampNeg ↔ 268435456 ≤ S r := by
    rw [nI_clamp (by omega), r1]
    exact nI_leI (a := 268435456) (by omega) (by omega)
  have c3 : u (nI s).toNatClampNeg ≤ u (nI r).toNatClampNeg + f (nI (7 * x + q)).toNatClampNeg ↔ Ss ≤ S r + F (7 * x + q) := by
    rw [nI_clamp (by omega), nI_clamp (by omega), nI_clamp (by omega), s1, r1, v1, nI_add, nI_leI (by omega) (by omega)]
  refine nm_r er (nm_r ek ⟨ik, tj_brI c1 (fun h1 => h u z Ss Zs hQ ⟨s1, s2, s3, s4⟩ (Nat.le_refl _) (by omega)) (fun h1 => ⟨ir, tj_brI c2 (fun h2 => h u z Ss Zs hQ ⟨s1, s2, s3, s4⟩ (Nat.le_refl _) (by omega)) (fun h2 => ⟨ir, ik, is, tj_brI c3 (fun h3 => h u z Ss Zs hQ ⟨s1, s2, s3, s4⟩ (Nat.le_refl _) h3) (fun h3 => ⟨ir, ik, is, fun u' hu' => ⟨ir, ik, is, fun z' hz' => ?_⟩⟩)⟩)⟩)⟩)
  rw [nI_clamp (by omega), nI_clamp (by omega), nI_clamp (by omega), r1, v1, nI_add] at hu'
  rw [nI_clamp (by omega), nI_clamp (by omega), nI_clamp (by omega), r2, v2, nx_xor] at hz'
  have p4 := pk.2.2 (by omega)
  have q4 := r4 (by omega)
  refine h u' z' (S r + F (7 * x + q)) (Z r ^^^ V (7 * x + q)) (fun t ht => ?_) ⟨by rw [hu', pk_us], by rw [hz', pk_us], by omega, fun _ => ⟨Nat.xor_lt_two_pow q4.1 p4.1, hod q4.2.1 p4.2.1, Nat.le_trans (tj_wn_xor _ _ _) (Nat.add_le_add q4.2.2 p4.2.2)⟩⟩ (by omega) (Nat.le_refl _)
  have htn : t ≠ s := by omega
  rw [hu', hz', pk_un htn, pk_un htn]
  exact hQ t ht
theorem tj_xpu64 {post : SX → Prop} {J16 : Int32 → Int32 → Int32 → Int32 → (Nat → Int32) → (Nat → Int32) → (Nat → Int32) → (Nat → Int32) → (Nat → Int32) → (Nat → Int32) → (Nat → Int32) → (Nat → Int32) → (Nat → Int32) → Prop} {x1 : Int32} (hfv : tj_fv F V f g) (hP : tj_P A B C ca F V) (hs : s < 128) (hx : s.testBit x = true) (hx7 : x < 7)
    (hJ : ∀ u z Ss Zs, tj_Q A B C ca S Z s u z → tj_E A B C ca s (u s) (z s) Ss Zs → (∀ q, q < x → s.testBit q = true → Ss ≤ S (s ^^^ (2 ^ x ^^^ 2 ^ q)) + F (7 * x + q)) → J16 (nI (s + 1)) fn fc ft a b w c f g u z p) :
    ∀ n i u z Ss Zs, i + n = x → tj_Q A B C ca S Z s u z → tj_E A B C ca s (u s) (z s) Ss Zs → (∀ q, q < i → s.testBit q = true → Ss ≤ S (s ^^^ (2 ^ x ^^^ 2 ^ q)) + F (7 * x + q)) → wX_pairUp_64 post J16 x1 (nI s) (nI x) (n + 1) (nI i) fn fc ft a b w c f g u z p := by
  intro n
  induction n with
  | zero =>
    intro i u z Ss Zs hi hQ hE hL
    have e : x = i := by omega
    subst e
    exact br_t (Int32.le_refl _) (nm_r (nI_1 s) (hJ u z Ss Zs hQ hE hL))
  | succ n ih =>
    intro i u z Ss Zs hi hQ hE hL
    refine br_f (nI_ge (by omega) (by omega)) (tj_brI (tj_bit1 (by omega) (by omega)) (fun h1 => tj_xpair hfv hP hQ hE hs hx h1 (by omega) hx7 (fun u' z' Ss' Zs' hQ' hE' l1 l2 => ?_)) (fun h1 => nm_r (nI_1 i) (ih (i + 1) u z Ss Zs (by omega) hQ hE (fun q hq hb => ?_))))
    · refine nm_r (nI_1 i) (ih (i + 1) u' z' Ss' Zs' (by omega) hQ' hE' (fun q hq hb => ?_))
      by_cases he : q = i
      · rw [he]; exact l2
      · exact Nat.le_trans l1 (hL q (by omega) hb)
    · by_cases he : q = i
      · exact absurd (he ▸ hb) h1
      · exact hL q (by omega) hb
theorem tj_xpu47 {post : SX → Prop} {J16 : Int32 → Int32 → Int32 → Int32 → (Nat → Int32) → (Nat → Int32) → (Nat → Int32) → (Nat → Int32) → (Nat → Int32) → (Nat → Int32) → (Nat → Int32) → (Nat → Int32) → (Nat → Int32) → Prop} {x1 : Int32} (hs : s < 128) (h0 : s ≠ 0)
    (hK : ∀ x, x < 7 → s.testBit x = true → (∀ q, x < q → s.testBit q = false) → ∃ n, wX_pairUp_64 post J16 x1 (nI s) (nI x) n 0 fn fc ft a b w c f g u z p) :
    ∀ n j, j < n → j < 7 → (∀ q, j < q → s.testBit q = false) → wX_pairUp_47 post J16 x1 (nI s) fn fc ft a b w c f g u z p n (nI j) := by
  intro n
  induction n with
  | zero => intro j hj; omega
  | succ n ih =>
    intro j hj h7 hq
    refine tj_brI (tj_bit0 (by omega) (by omega)) (fun h1 => ?_) (fun h1 => hK j h7 (by cases hz : s.testBit j; exact absurd hz h1; rfl) hq)
    cases j with
    | zero =>
      exfalso
      apply h0
      apply Nat.eq_of_testBit_eq
      intro i
      rw [Nat.zero_testBit]
      by_cases hi : i = 0
      · rw [hi]; exact h1
      · exact hq i (by omega)
    | succ j =>
      refine nm_r (pk_m1 j) (ih j (by omega) (by omega) (fun q hjq => ?_))
      by_cases he : q = j + 1
      · rw [he]; exact h1
      · exact hq q (by omega)
/-- one more entry -/
theorem tj_Q_s {Ss Zs : Nat} (hQ : tj_Q A B C ca S Z s u z) (hE : tj_E A B C ca s (u s) (z s) Ss Zs) : tj_Q A B C ca (fun t => if t = s then Ss else S t) (fun t => if t = s then Zs else Z t) (s + 1) u z := by
  intro t ht
  dsimp only
  by_cases he : t = s
  · rw [if_pos he, if_pos he, he]; exact hE
  · rw [if_neg he, if_neg he]; exact hQ t (by omega)
theorem tj_Lw_s {Ss : Nat} (hs0 : 0 < s) (hs : s < 128) (hL : tj_Lw F S goal s) (h : tj_sub s goal → ∀ x p, s.testBit x = true → (∀ q, x < q → s.testBit q = false) → p < x → s.testBit p = true → Ss ≤ S (s ^^^ (2 ^ x ^^^ 2 ^ p)) + F (7 * x + p)) : tj_Lw F (fun t => if t = s then Ss else S t) goal (s + 1) := by
  refine ⟨by dsimp only; rw [if_neg (by omega)]; exact hL.1, fun t ht hg x p h1 h2 h3 h4 => ?_⟩
  have hx7 : x < 7 := by
    apply Nat.lt_of_not_le
    intro h7
    rw [Nat.testBit_lt_two_pow (Nat.lt_of_lt_of_le (show t < 2 ^ 7 by omega) (tj_ple h7))] at h1
    exact absurd h1 (by decide)
  have hr := (tj_rest (s := t) (by omega) h1 h4 h3 hx7).2
  dsimp only
  rw [if_neg (show ¬ t ^^^ (2 ^ x ^^^ 2 ^ p) = s by omega)]
  by_cases he : t = s
  · subst he
    rw [if_pos rfl]
    exact h hg x p h1 h2 h3 h4
  · rw [if_neg he]
    exact hL.2 t (by omega) hg x p h1 h2 h3 h4
theorem tj_xpu16 {post : SX → Prop} (hfv : tj_fv F V f g) (hP : tj_P A B C ca F V) (hg : goal < 128)
    (hp : ∀ S Z u z, tj_Q A B C ca S Z (goal + 1) u z → tj_Lw F S goal (goal + 1) → post (fn, fc, ft, a, b, w, c, f, g, u, z, p)) :
    ∀ n s S Z u z, s + n = goal + 1 → 0 < s → tj_Q A B C ca S Z s u z → tj_Lw F S goal s → wX_pairUp_16 post (nI goal) (n + 1) (nI s) fn fc ft a b w c f g u z p := by
  intro n
  induction n with
  | zero =>
    intro s S Z u z hs h0 hQ hL
    have e : s = goal + 1 := by omega
    subst e
    exact br_t (nI_lt (by omega) (by omega)) (hp S Z u z hQ hL)
  | succ n ih =>
    intro s S Z u z hs h0 hQ hL
    have is : vp_in (nI s) 128 := vp_in_nI (by omega) (by omega)
    refine br_f (nI_nlt (by omega) (by omega)) ⟨is, fun u' hu' => ⟨is, fun z' hz' => ?_⟩⟩
    rw [nI_clamp (by omega)] at hu' hz'
    have hQ' : tj_Q A B C ca S Z s u' z' := by
      intro t ht
      have hne : t ≠ s := by omega
      rw [hu', hz', pk_un hne, pk_un hne]
      exact hQ t ht
    have hE' : tj_E A B C ca s (u' s) (z' s) 268435456 0 := by
      refine ⟨by rw [hu', pk_us]; rfl, by rw [hz', pk_us]; rfl, Nat.le_refl _, fun h => absurd h (by omega)⟩
    refine tj_brI (tj_subv (by omega)) (fun h1 => ⟨8, tj_xpu47 (by omega) (by omega) (fun x hx7 hx hmax => ⟨x + 1, ?_⟩) 8 6 (by omega) (by omega) (fun q hq => ?_)⟩) (fun h1 => nm_r (nI_1 s) (ih (s + 1) _ _ u' z' (by omega) (by omega) (tj_Q_s hQ' hE') (tj_Lw_s h0 (by omega) hL (fun z => absurd z h1))))
    · refine tj_xpu64 (S := S) (Z := Z) hfv hP (by omega) hx hx7 (fun u2 z2 Ss Zs hQ2 hE2 hL2 => ?_) x 0 u' z' 268435456 0 (by omega) hQ' hE' (fun q hq => absurd hq (by omega))
      refine ih (s + 1) _ _ u2 z2 (by omega) (by omega) (tj_Q_s hQ2 hE2) (tj_Lw_s h0 (by omega) hL (fun _ x' q' k1 k2 k3 k4 => ?_))
      have hxx : x' = x := by
        rcases Nat.lt_trichotomy x' x with hlt | heq | hgt
        · rw [k2 x hlt] at hx; exact absurd hx (by decide)
        · exact heq
        · rw [hmax x' hgt] at k1; exact absurd k1 (by decide)
      rw [hxx]
      exact hL2 q' (by omega) k4
    · exact Nat.testBit_lt_two_pow (Nat.lt_of_lt_of_le (show s < 2 ^ 7 by omega) (tj_ple (by omega)))
theorem tj_xpu {post : SX → Prop} (hfv : tj_fv F V f g) (hP : tj_P A B C ca F V) (hg : goal < 128)
    (hp : ∀ S Z u z, tj_Q A B C ca S Z (goal + 1) u z → tj_Lw F S goal (goal + 1) → post (fn, fc, ft, a, b, w, c, f, g, u, z, p)) :
    wpX_pairUp post (fn, fc, ft, a, b, w, c, f, g, u, z, p) (nI goal) := by
  refine fun u' hu' z' hz' => ⟨goal + 1, tj_xpu16 hfv hP hg hp goal 1 (fun _ => 0) (fun _ => 0) u' z' (by omega) (by omega) (fun t ht => ?_) ⟨rfl, fun t ht hsub x q h1 => ?_⟩⟩
  · have e : t = 0 := by omega
    subst e
    rw [hu', hz', pk_us, pk_us]
    exact ⟨rfl, rfl, Nat.zero_le _, fun _ => ⟨Nat.two_pow_pos C, tj_od_none (fun i _ => Nat.zero_testBit i), by rw [tj_wn_zero]; exact Nat.le_refl _⟩⟩
  · have e : t = 0 := by omega
    subst e
    rw [Nat.zero_testBit] at h1
    exact absurd h1 (by decide)
end
end
section
/-! walks of the component: solve -/
def tj_opt (A B : Nat → Nat) (C : Nat) (ci : Nat → Int) (T : Nat) (r : Int32) : Prop := (r = -1 ∧ ∀ J, J < 2 ^ C → ¬ tj_od (tj_d A B) C J = T) ∨ ∃ M, M < 2 ^ C ∧ r = nI M ∧ tj_od (tj_d A B) C M = T ∧ ∀ J, J < 2 ^ C → tj_od (tj_d A B) C J = T → tj_wt ci C M ≤ tj_wt ci C J
theorem tj_least {A B : Nat → Nat} {C N : Nat} {ci : Nat → Int} {F S : Nat → Nat} {T G : Nat} {Zg : Nat} (hN : N ≤ 7) (hC : C ≤ 12) (hA : ∀ e, e < C → A e < N ∧ B e < N) (hc : ∀ e, e < C → (ci e).natAbs ≤ 8388608)
    (hF : tj_tri N F) (hD : tj_hd A B (fun e => (ci e).natAbs) F C) (hg : G < 2 ^ C) (hG : ∀ i, i < C → G.testBit i = decide (ci i < 0))
    (hL : tj_Lw F S (T ^^^ tj_od (tj_d A B) C G) ((T ^^^ tj_od (tj_d A B) C G) + 1))
    (hE : S (T ^^^ tj_od (tj_d A B) C G) < 268435456 → Zg < 2 ^ C ∧ tj_od (tj_d A B) C Zg = T ^^^ tj_od (tj_d A B) C G ∧ tj_wn (fun e => (ci e).natAbs) C Zg ≤ S (T ^^^ tj_od (tj_d A B) C G))
    (hex : ∃ J, J < 2 ^ C ∧ tj_od (tj_d A B) C J = T) : tj_opt A B C ci T (nI (Zg ^^^ G)) := by
  have low : ∀ J, tj_od (tj_d A B) C J = T → S (T ^^^ tj_od (tj_d A B) C G) ≤ tj_wn (fun e => (ci e).natAbs) C (J ^^^ G) := by
    intro J hJ
    refine tj_lower (goal := T ^^^ tj_od (tj_d A B) C G) (S := S) hN hA hF hD hL.1 (fun t x p h1 h2 h3 h4 h5 => ?_) _ _ (J ^^^ G) (Nat.le_refl _) (fun i hi => hi) (by rw [tj_od_xor, hJ])
    exact hL.2 t (Nat.lt_succ_of_le (Nat.le_of_testBit h1)) h1 x p h2 h3 h4 h5
  obtain ⟨J0, hJ0, hJ0T⟩ := hex
  have hle := low J0 hJ0T
  have hbig := tj_wn_le (c := fun e => (ci e).natAbs) (s := J0 ^^^ G) hc
  have h3 : C * 8388608 ≤ 12 * 8388608 := Nat.mul_le_mul_right _ hC
  obtain ⟨z1, z2, z3⟩ := hE (by omega)
  refine Or.inr ⟨Zg ^^^ G, Nat.xor_lt_two_pow z1 hg, rfl, ?_, fun J _ hJ => ?_⟩
  · rw [tj_od_xor, z2, tj_xc]
  · have e1 := tj_wt_neg hG Zg
    have e2 := tj_wt_neg hG (J ^^^ G)
    rw [tj_xc] at e2
    have l := low J hJ
    rw [e1, e2]
    omega
section
variable {N C : Nat} {A B : Nat → Nat} {a b w c f g u z p : Nat → Int32} {ft : Int32} {T : Nat}
theorem tj_xso14 (H : tj_ok N C A B a b) (hc : ∀ e, e < C → tj_ca c e ≤ 8388608) (hT : T < 2 ^ N) (hev : tj_ev A B N C T) {post : Int32 → SX → Prop} (hp : ∀ r f g u z, tj_opt A B C (fun e => (c e).toInt) T r → post r (nI N, nI C, ft, a, b, w, c, f, g, u, z, p)) :
    ∀ n i G, i + n = C → G < 2 ^ i → (∀ j, j < i → G.testBit j = decide ((c j).toInt < 0)) → wX_solve_14 post (nI T) (nI N) (nI C) ft a b w c f g u z p (n + 1) (nI G) (nI i) := by
  have h12 : C ≤ 12 := H.2.2.1
  have h7 : N ≤ 7 := H.2.1
  intro n
  induction n with
  | zero =>
    intro i G hi hG hb
    have e : C = i := by omega
    subst e
    have hG31 : G < 2 ^ 31 := Nat.lt_of_lt_of_le hG (tj_ple (by omega))
    have hol : tj_od (tj_d A B) C G < 2 ^ N := tj_od_lt (fun i hi => tj_d_lt (tj_hN H i hi).1 (tj_hN H i hi).2)
    have hgl : T ^^^ tj_od (tj_d A B) C G < 2 ^ N := Nat.xor_lt_two_pow hT hol
    have hg7 : T ^^^ tj_od (tj_d A B) C G < 2 ^ 7 := Nat.lt_of_lt_of_le hgl (tj_ple h7)
    refine br_t (Int32.le_refl _) (tj_xfw H hc (fun F V f' g' hfv hP hF hD => tj_xodd H hG31 (nm_r (nx_xor _ _) (tj_xpu hfv hP (by omega) (fun S Z u' z' hQ hL => ?_)))))
    have hE := hQ (T ^^^ tj_od (tj_d A B) C G) (Nat.lt_succ_self _)
    refine ⟨vp_in_nI (by omega) (by omega), ?_⟩
    have ev : z' (nI (T ^^^ tj_od (tj_d A B) C G)).toNatClampNeg ^^^ nI G = nI (Z (T ^^^ tj_od (tj_d A B) C G) ^^^ G) := by
      rw [nI_clamp (by omega), hE.2.1, nx_xor]
    rw [ev]
    exact hp _ _ _ _ _ (tj_least h7 h12 (tj_hN H) hc hF hD hG hb hL hE.2.2.2 ((tj_span (tj_hN H) hT).mp hev))
  | succ n ih =>
    intro i G hi hG hb
    have hin : vp_in (nI i) 12 := vp_in_nI (by omega) (by omega)
    have hp2 : 2 ^ i < 2 ^ (i + 1) := Nat.pow_lt_pow_right (by decide) (by omega)
    have hiff : 0 ≤ c (nI i).toNatClampNeg ↔ 0 ≤ (c i).toInt := by
      rw [nI_clamp (by omega)]
      exact tj_le0
    refine br_f (nI_ge (by omega) (by omega)) ⟨hin, tj_brI hiff (fun h1 => nm_r (e' := nI G) ?_ (nm_r (nI_1 i) (ih (i + 1) G (by omega) (by omega) (fun j hj => ?_)))) (fun h1 => nm_r (e' := nI (G ||| 2 ^ i)) ?_ (nm_r (nI_1 i) (ih (i + 1) (G ||| 2 ^ i) (by omega) (Nat.or_lt_two_pow (by omega) hp2) (fun j hj => ?_))))⟩
    · show nI G ||| nI 0 = _
      rw [tj_or, Nat.or_zero]
    · by_cases he : j = i
      · subst he
        rw [Nat.testBit_lt_two_pow hG, decide_eq_false (by omega)]
      · exact hb j (by omega)
    · rw [tj_sh1 (by omega), tj_or]
    · rw [Nat.testBit_or, Nat.testBit_two_pow]
      by_cases he : j = i
      · subst he
        rw [decide_eq_true (p := j = j) rfl, Bool.or_true, decide_eq_true (by omega)]
      · rw [decide_eq_false (fun z => he z.symm), Bool.or_false]
        exact hb j (by omega)
theorem tj_xso (H : tj_ok N C A B a b) (hc : ∀ e, e < C → tj_ca c e ≤ 8388608) (hT : T < 2 ^ N) {post : Int32 → SX → Prop} (hp : ∀ r f g u z p, tj_opt A B C (fun e => (c e).toInt) T r → post r (nI N, nI C, ft, a, b, w, c, f, g, u, z, p)) : wpX_solve post (nI N, nI C, ft, a, b, w, c, f, g, u, z, p) (nI T) := by
  have h7 : N ≤ 7 := H.2.1
  have hT31 : T < 2 ^ 31 := Nat.lt_of_lt_of_le hT (tj_ple (by omega))
  unfold wpX_solve
  refine tj_xip H hT31 (fun p' hl hev => ?_) (fun p' hl hev => ?_)
  · exact br_f (by decide) ⟨C + 1, tj_xso14 H hc hT hev (fun r f g u z h => hp r f g u z p' h) C 0 0 (by omega) (Nat.two_pow_pos 0) (fun j hj => absurd hj (by omega))⟩
  · refine br_t rfl (hp _ _ _ _ _ _ (Or.inl ⟨rfl, fun J hJ hz => hev ((tj_span (tj_hN H) hT).mpr ⟨J, hJ, hz⟩)⟩))
theorem tj_xop (H : tj_ok N C A B a b) {fn : Int32} {post : Int32 → Prop} (hp : post (nI (tj_od (tj_d A B) C (2 ^ C - 1)))) : wpX_oddPlaces post (fn, nI C, ft, a, b, w, c, f, g, u, z, p) := by
  have h12 : C ≤ 12 := H.2.2.1
  have h1 : 2 ^ C < 2 ^ 31 := tj_p31 (by omega)
  have h0 : 0 < 2 ^ C := Nat.two_pow_pos C
  have e : ((1 : Int32) <<< (nI C &&& 31)) - 1 = nI (2 ^ C - 1) := by
    rw [tj_sh1 (by omega)]
    show nI (2 ^ C) - nI 1 = _
    rw [pk_sub (by omega)]
  unfold wpX_oddPlaces
  dsimp only
  rw [e]
  exact tj_xodd H (by omega) hp
theorem tj_yop (H : tj_ok N C A B a b) {fn : Int32} {post : Int32 → Prop} (hp : post (nI (tj_od (tj_d A B) C (2 ^ C - 1)))) : wpY_oddPlaces post (fn, nI C, ft, a, b, w) := by
  have h12 : C ≤ 12 := H.2.2.1
  have h1 : 2 ^ C < 2 ^ 31 := tj_p31 (by omega)
  have h0 : 0 < 2 ^ C := Nat.two_pow_pos C
  have e : ((1 : Int32) <<< (nI C &&& 31)) - 1 = nI (2 ^ C - 1) := by
    rw [tj_sh1 (by omega)]
    show nI (2 ^ C) - nI 1 = _
    rw [pk_sub (by omega)]
  unfold wpY_oddPlaces
  dsimp only
  rw [e]
  exact tj_yodd H (by omega) hp
/-- the component's postman, behind the check of the weights -/
theorem tj_xpm42 (H : tj_ok N C A B a b) (hw : tj_wb w C) (hC : 0 < C) (hl : tj_lp N (tj_lab A B C) p) {post : Int32 → SX → Prop} (h2 : ¬ (∀ e, e < C → tj_lab A B C (A e) = tj_lab A B C (A 0)) → post (-2) (nI N, nI C, ft, a, b, w, c, f, g, u, z, p))
    (h1 : (∀ e, e < C → tj_lab A B C (A e) = tj_lab A B C (A 0)) → ∀ c' f g u z p M, tj_cs w c' C → M < 2 ^ C → tj_opt A B C (fun e => (c' e).toInt) (tj_od (tj_d A B) C (2 ^ C - 1)) (nI M) → post (tj_ws w C M) (nI N, nI C, ft, a, b, w, c', f, g, u, z, p)) (hca : ∀ c', tj_cs w c' C → ∀ e, e < C → tj_ca c' e ≤ 8388608) :
    ∀ n e, e + n = C → (∀ i, i < e → tj_lab A B C (A i) = tj_lab A B C (A 0)) → wX_postman_42 post (nI N) (nI C) ft a b w c f g u z p (n + 1) (nI e) := by
  have h12 : C ≤ 12 := H.2.2.1
  have h7 : N ≤ 7 := H.2.1
  have hp31 : 2 ^ C < 2 ^ 31 := tj_p31 (by omega)
  have hol : tj_od (tj_d A B) C (2 ^ C - 1) < 2 ^ N := tj_od_lt (fun i hi => tj_d_lt (tj_hN H i hi).1 (tj_hN H i hi).2)
  intro n
  induction n with
  | zero =>
    intro e he hs
    have e : C = e := by omega
    subst e
    refine br_t (Int32.le_refl _) (tj_xtc h12 hw (fun c' hc' => tj_xop H (tj_xso H (hca c' hc') hol (fun r f' g' u' z' p' ho => ?_))))
    rcases ho with ⟨_, ho⟩ | ⟨M, hM, hr, ho⟩
    · exact absurd rfl (ho (2 ^ C - 1) (by have := Nat.two_pow_pos C; omega))
    · subst hr
      exact tj_xws h12 (by omega) (h1 hs c' f' g' u' z' p' M hc' hM (Or.inr ⟨M, hM, rfl, ho⟩))
  | succ n ih =>
    intro e he hs
    have hin : vp_in (nI e) 12 := vp_in_nI (by omega) (by omega)
    obtain ⟨hA, hB, ea, eb⟩ := H.2.2.2 e (by omega)
    obtain ⟨hA0, hB0, ea0, eb0⟩ := H.2.2.2 0 hC
    have ea' : a (nI e).toNatClampNeg = nI (A e) := by rw [nI_clamp (by omega), ea]
    have hlt := tj_lab_lt (tj_hN H) hA
    have hlt0 := tj_lab_lt (tj_hN H) hA0
    have hiff : p (a (nI e).toNatClampNeg).toNatClampNeg = p (a 0).toNatClampNeg ↔ tj_lab A B C (A e) = tj_lab A B C (A 0) := by
      rw [ea', ea0, nI_clamp (by omega), nI_clamp (by omega), hl _ hA, hl _ hA0, nI_eq (by omega) (by omega)]
    refine br_f (nI_ge (by omega) (by omega)) ⟨hin, by rw [ea']; exact vp_in_nI (by omega) (by omega), by rw [ea0]; exact vp_in_nI (by omega) (by omega), tj_brI hiff (fun h3 => nm_r (nI_1 e) (ih (e + 1) (by omega) (fun i hi => ?_))) (fun h3 => h2 (fun y => h3 (y e (by omega))))⟩
    by_cases hh : i = e
    · rw [hh]; exact h3
    · exact hs i (by omega)
/-- weights checked: some negative, none -/
theorem tj_xpm2 (h12 : C ≤ 12) {fn : Int32} {post : Int32 → SX → Prop} (h1 : ¬ (∀ e, e < C → 0 ≤ (w e).toInt) → post (-1) (fn, nI C, ft, a, b, w, c, f, g, u, z, p)) (h0 : (∀ e, e < C → 0 ≤ (w e).toInt) → C = 0 → post 0 (fn, nI C, ft, a, b, w, c, f, g, u, z, p))
    (h2 : (∀ e, e < C → 0 ≤ (w e).toInt) → C ≠ 0 → wpX_findParts (fun v => match v with | (f_n_4, f_count_5, f_wanted_6, a_ends_7, a_others_8, a_weights_9, a_costs_10, a_far_11, a_via_12, a_sums_13, a_sets_14, a_part_15) => (∃ n42 : Nat, wX_postman_42 post f_n_4 f_count_5 f_wanted_6 a_ends_7 a_others_8 a_weights_9 a_costs_10 a_far_11 a_via_12 a_sums_13 a_sets_14 a_part_15 n42 1)) (fn, nI C, ft, a, b, w, c, f, g, u, z, p)) :
    ∀ n e, e + n = C → (∀ i, i < e → 0 ≤ (w i).toInt) → wX_postman_2 post fn (nI C) ft a b w c f g u z p (n + 1) (nI e) := by
  intro n
  induction n with
  | zero =>
    intro e he hs
    have e : C = e := by omega
    subst e
    have hz : nI C = 0 ↔ C = 0 := by
      rw [← nI_0, nI_eq (by omega) (by decide)]
    exact br_t (Int32.le_refl _) (tj_brI hz (h0 hs) (h2 hs))
  | succ n ih =>
    intro e he hs
    have hin : vp_in (nI e) 12 := vp_in_nI (by omega) (by omega)
    have hiff : 0 ≤ w (nI e).toNatClampNeg ↔ 0 ≤ (w e).toInt := by
      rw [nI_clamp (by omega)]
      exact tj_le0
    refine br_f (nI_ge (by omega) (by omega)) ⟨hin, tj_brI hiff (fun h3 => nm_r (nI_1 e) (ih (e + 1) (by omega) (fun i hi => ?_))) (fun h3 => h1 (fun y => h3 (y e (by omega))))⟩
    by_cases hh : i = e
    · rw [hh]; exact h3
    · exact hs i (by omega)
theorem tj_ypm2 (h12 : C ≤ 12) {fn : Int32} {post : Int32 → Prop} (h1 : ¬ (∀ e, e < C → 0 ≤ (w e).toInt) → post (-1)) (h2 : (∀ e, e < C → 0 ≤ (w e).toInt) → wY_postman_33 post fn (nI C) ft a b w) :
    ∀ n e, e + n = C → (∀ i, i < e → 0 ≤ (w i).toInt) → wY_postman_2 post fn (nI C) ft a b w (n + 1) (nI e) := by
  intro n
  induction n with
  | zero =>
    intro e he hs
    have e : C = e := by omega
    subst e
    exact br_t (Int32.le_refl _) (h2 hs)
  | succ n ih =>
    intro e he hs
    have hin : vp_in (nI e) 12 := vp_in_nI (by omega) (by omega)
    have hlt : ¬ (12 : Int32) ≤ nI e := nI_ge (b := 12) (by omega) (by decide)
    have hiff : 0 ≤ w (nI e).toNatClampNeg ↔ 0 ≤ (w e).toInt := by
      rw [nI_clamp (by omega)]
      exact tj_le0
    refine br_f (nI_ge (by omega) (by omega)) (br_f hlt ⟨hin, tj_brI hiff (fun h3 => nm_r (nI_1 e) (ih (e + 1) (by omega) (fun i hi => ?_))) (fun h3 => h1 (fun y => h3 (y e (by omega))))⟩)
    by_cases hh : i = e
    · rw [hh]; exact h3
    · exact hs i (by omega)
end
end
section
/-! the component's best set and the reference's are one (plain) -/
theorem tj_cs_ca {w c : Nat → Int32} {C : Nat} (hC : C ≤ 12) (hw : tj_wb w C) (h : tj_cs w c C) : ∀ e, e < C → tj_ca c e ≤ 8388608 := by
  intro e he
  unfold tj_ca
  rw [h e he]
  have h1 := hw e he
  have h2 : 2 ^ e ≤ 2 ^ 11 := tj_ple (by omega)
  have h3 : 0 < 2 ^ e := Nat.two_pow_pos e
  generalize 2 ^ e = m at h2 h3
  omega
/-- costs with one road made cheaper or dearer by x -/
theorem tj_wt_cs {w c : Nat → Int32} {C k : Nat} {x : Int} (h : ∀ e, e < C → (c e).toInt = 4096 * (w e).toInt + ((2 ^ e : Nat) : Int) + (if e = k then x else 0)) {M : Nat} (hM : M < 2 ^ C) : tj_wt (fun e => (c e).toInt) C M = 4096 * tj_wt (fun e => (w e).toInt) C M + (M : Int) + (if k < C ∧ M.testBit k = true then x else 0) := by
  rw [← tj_wt_delta (x := x) (k := k) (e := C) M, ← tj_wt_cost C hM, ← tj_wt_add]
  exact tj_wt_congr h (fun _ _ => rfl)
theorem tj_oj0 {A B : Nat → Nat} {C T J : Nat} : tj_oj A B C T 0 0 J ↔ tj_od (tj_d A B) C J = T := by
  unfold tj_oj
  rw [Nat.and_zero]
  exact ⟨fun h => h.2.2, fun h => ⟨rfl, rfl, h⟩⟩
theorem tj_m2 {J k : Nat} : J &&& 2 ^ k = 2 ^ k ↔ J.testBit k = true := by
  constructor
  · intro h
    have h1 : (J &&& 2 ^ k).testBit k = true := by rw [h]; exact Nat.testBit_two_pow_self
    rw [Nat.testBit_and, Nat.testBit_two_pow_self, Bool.and_true] at h1
    exact h1
  · intro h
    apply Nat.eq_of_testBit_eq
    intro i
    rw [Nat.testBit_and, Nat.testBit_two_pow]
    by_cases hi : k = i
    · rw [← hi, h, decide_eq_true (p := k = k) rfl]; rfl
    · rw [decide_eq_false hi, Bool.and_false]
theorem tj_m2n {J k : Nat} : J &&& 2 ^ k = 0 ↔ J.testBit k = false := by
  constructor
  · intro h
    have h1 : (J &&& 2 ^ k).testBit k = false := by rw [h, Nat.zero_testBit]
    rw [Nat.testBit_and, Nat.testBit_two_pow_self, Bool.and_true] at h1
    exact h1
  · intro h
    apply Nat.eq_of_testBit_eq
    intro i
    rw [Nat.testBit_and, Nat.testBit_two_pow, Nat.zero_testBit]
    by_cases hi : k = i
    · rw [← hi, h]; rfl
    · rw [decide_eq_false hi, Bool.and_false]
theorem tj_ojw {A B : Nat → Nat} {C T J k : Nat} : tj_oj A B C T (2 ^ k) 0 J ↔ (J.testBit k = true ∧ tj_od (tj_d A B) C J = T) := by
  unfold tj_oj
  rw [Nat.and_zero, tj_m2]
  exact ⟨fun h => ⟨h.1, h.2.2⟩, fun h => ⟨h.1, rfl, h.2⟩⟩
theorem tj_ojn {A B : Nat → Nat} {C T J k : Nat} : tj_oj A B C T 0 (2 ^ k) J ↔ (J.testBit k = false ∧ tj_od (tj_d A B) C J = T) := by
  unfold tj_oj
  rw [Nat.and_zero, tj_m2n]
  exact ⟨fun h => ⟨h.2.1, h.2.2⟩, fun h => ⟨rfl, h.1, h.2⟩⟩
section
variable {N C : Nat} {A B : Nat → Nat} {w c : Nat → Int32} {T : Nat} {r x y : Int32}
theorem tj_agree (hC : C ≤ 12) (hc : tj_cs w c C) (ho : tj_opt A B C (fun e => (c e).toInt) T r) (hs : tj_sr A B C T 0 0 w (2 ^ C) x y) : x = r := by
  have hp : 2 ^ C ≤ 2 ^ 12 := tj_ple hC
  have hcost : ∀ M, M < 2 ^ C → tj_wt (fun e => (c e).toInt) C M = 4096 * tj_wt (fun e => (w e).toInt) C M + (M : Int) := by
    intro M hM
    rw [← tj_wt_cost C hM]
    exact tj_wt_congr hc (fun _ _ => rfl)
  rcases ho with ⟨h1, h2⟩ | ⟨M, hM, h1, h2, h3⟩
  · rcases hs with ⟨k1, _⟩ | ⟨M', k1, _, k2, k3, _⟩
    · rw [k1, h1]
    · exact absurd (tj_oj0.mp k3) (h2 M' k2)
  · rcases hs with ⟨k1, k2⟩ | ⟨M', k1, _, k2, k3, k4⟩
    · exact absurd (tj_oj0.mpr h2) (k2 M hM)
    · have l1 := h3 M' k2 (tj_oj0.mp k3)
      have l2 := k4 M hM (tj_oj0.mpr h2)
      rw [hcost M hM, hcost M' k2] at l1
      have e : M' = M := by omega
      rw [k1, h1, e]
theorem tj_agree_with (hC : C ≤ 12) (hw : tj_wb w C) {k : Nat} (hk : k < C) (hc : ∀ e, e < C → (c e).toInt = 4096 * (w e).toInt + ((2 ^ e : Nat) : Int) + (if e = k then -4194304 else 0)) (ho : tj_opt A B C (fun e => (c e).toInt) T r) (hs : tj_sr A B C T (2 ^ k) 0 w (2 ^ C) x y) : (∃ M, M < 2 ^ C ∧ M.testBit k = true ∧ r = nI M ∧ x = nI M) ∨ (x = -1 ∧ (r = -1 ∨ ∃ M, M < 2 ^ C ∧ M.testBit k = false ∧ r = nI M)) := by
  have hp : 2 ^ C ≤ 2 ^ 12 := tj_ple hC
  rcases ho with ⟨h1, h2⟩ | ⟨M, hM, h1, h2, h3⟩
  · rcases hs with ⟨k1, _⟩ | ⟨M', k1, _, k2, k3, _⟩
    · exact Or.inr ⟨k1, Or.inl h1⟩
    · exact absurd (tj_ojw.mp k3).2 (h2 M' k2)
  · cases hb : M.testBit k
    · rcases hs with ⟨k1, _⟩ | ⟨M', k1, _, k2, k3, _⟩
      · exact Or.inr ⟨k1, Or.inr ⟨M, hM, hb, h1⟩⟩
      · exfalso
        obtain ⟨j1, j2⟩ := tj_ojw.mp k3
        have l1 := h3 M' k2 j2
        rw [tj_wt_cs hc hM, tj_wt_cs hc k2, if_neg (fun z => by rw [hb] at z; exact absurd z.2 (by decide)), if_pos ⟨hk, j1⟩] at l1
        have b1 := tj_wt_bd (c := fun i => (w i).toInt) (s := M) hw
        have b2 := tj_wt_bd (c := fun i => (w i).toInt) (s := M') hw
        omega
    · refine Or.inl ⟨M, hM, hb, h1, ?_⟩
      rcases hs with ⟨k1, k2⟩ | ⟨M', k1, _, k2, k3, k4⟩
      · exact absurd (tj_ojw.mpr ⟨hb, h2⟩) (k2 M hM)
      · obtain ⟨j1, j2⟩ := tj_ojw.mp k3
        have l1 := h3 M' k2 j2
        have l2 := k4 M hM (tj_ojw.mpr ⟨hb, h2⟩)
        rw [tj_wt_cs hc hM, tj_wt_cs hc k2, if_pos ⟨hk, hb⟩, if_pos ⟨hk, j1⟩] at l1
        have e : M' = M := by omega
        rw [k1, e]
theorem tj_agree_without (hC : C ≤ 12) (hw : tj_wb w C) {k : Nat} (hk : k < C) (hc : ∀ e, e < C → (c e).toInt = 4096 * (w e).toInt + ((2 ^ e : Nat) : Int) + (if e = k then 4194304 else 0)) (ho : tj_opt A B C (fun e => (c e).toInt) T r) (hs : tj_sr A B C T 0 (2 ^ k) w (2 ^ C) x y) : (∃ M, M < 2 ^ C ∧ M.testBit k = false ∧ r = nI M ∧ x = nI M) ∨ (x = -1 ∧ (r = -1 ∨ ∃ M, M < 2 ^ C ∧ M.testBit k = true ∧ r = nI M)) := by
  have hp : 2 ^ C ≤ 2 ^ 12 := tj_ple hC
  have hbf : ∀ {J : Nat}, J.testBit k = false → ¬ (k < C ∧ J.testBit k = true) := fun h z => by
    rw [h] at z; exact absurd z.2 (by decide)
  rcases ho with ⟨h1, h2⟩ | ⟨M, hM, h1, h2, h3⟩
  · rcases hs with ⟨k1, _⟩ | ⟨M', k1, _, k2, k3, _⟩
    · exact Or.inr ⟨k1, Or.inl h1⟩
    · exact absurd (tj_ojn.mp k3).2 (h2 M' k2)
  · cases hb : M.testBit k
    · refine Or.inl ⟨M, hM, hb, h1, ?_⟩
      rcases hs with ⟨k1, k2⟩ | ⟨M', k1, _, k2, k3, k4⟩
      · exact absurd (tj_ojn.mpr ⟨hb, h2⟩) (k2 M hM)
      · obtain ⟨j1, j2⟩ := tj_ojn.mp k3
        have l1 := h3 M' k2 j2
        have l2 := k4 M hM (tj_ojn.mpr ⟨hb, h2⟩)
        rw [tj_wt_cs hc hM, tj_wt_cs hc k2, if_neg (hbf hb), if_neg (hbf j1)] at l1
        have e : M' = M := by omega
        rw [k1, e]
    · rcases hs with ⟨k1, _⟩ | ⟨M', k1, _, k2, k3, _⟩
      · exact Or.inr ⟨k1, Or.inr ⟨M, hM, hb, h1⟩⟩
      · exfalso
        obtain ⟨j1, j2⟩ := tj_ojn.mp k3
        have l1 := h3 M' k2 j2
        rw [tj_wt_cs hc hM, tj_wt_cs hc k2, if_pos ⟨hk, hb⟩, if_neg (hbf j1)] at l1
        have b1 := tj_wt_bd (c := fun i => (w i).toInt) (s := M) hw
        have b2 := tj_wt_bd (c := fun i => (w i).toInt) (s := M') hw
        omega
/-- the search finds a set just if there is one -/
theorem tj_sr_ev {A B : Nat → Nat} (h : ∀ i, i < C → A i < N ∧ B i < N) (hC : C ≤ 12) (hT : T < 2 ^ N) (hs : tj_sr A B C T 0 0 w (2 ^ C) x y) : (tj_ev A B N C T → 0 ≤ x) ∧ (¬ tj_ev A B N C T → ¬ 0 ≤ x) := by
  have hp : 2 ^ C ≤ 2 ^ 12 := tj_ple hC
  rw [tj_span h hT]
  rcases hs with ⟨k1, k2⟩ | ⟨M', k1, _, k2, k3, k4⟩
  · exact ⟨fun ⟨J, hJ, hz⟩ => absurd (tj_oj0.mpr hz) (k2 J hJ), fun _ => by rw [k1]; decide⟩
  · exact ⟨fun _ => by rw [k1]; exact nI_pos' (by omega), fun z => absurd ⟨M', k2, tj_oj0.mp k3⟩ z⟩
end
end
section
/-! the relation; places, roads; what stores into the roads -/
/-- the two objects hold the same places, roads, weights and wanted places; the component's other arrays are anything -/
def i_Rel (_ : Nat) (u : SX) (v : SY) : Prop := ∃ (N C T : Nat) (A B : Nat → Nat) (a b w c f g s z p : Nat → Int32), u = (nI N, nI C, nI T, a, b, w, c, f, g, s, z, p) ∧ v = (nI N, nI C, nI T, a, b, w) ∧ tj_ok N C A B a b ∧ tj_wb w C ∧ T < 2 ^ N
theorem tj_mk {k N C T : Nat} {A B : Nat → Nat} {a b w c f g s z p : Nat → Int32} (H : tj_ok N C A B a b) (hw : tj_wb w C) (hT : T < 2 ^ N) : i_Rel k (nI N, nI C, nI T, a, b, w, c, f, g, s, z, p) (nI N, nI C, nI T, a, b, w) := ⟨N, C, T, A, B, a, b, w, c, f, g, s, z, p, rfl, rfl, H, hw, hT⟩
theorem i_up {k : Nat} {u : SX} {v : SY} (h : i_Rel k u v) : i_Rel (k + 4) u v := h
theorem tj_r0 {N : Nat} (h2 : 2 ≤ N) (h7 : N ≤ 7) : i_Rel 1 (nI N, 0, 0, (fun _ => 0), (fun _ => 0), (fun _ => 0), (fun _ => 0), (fun _ => 0), (fun _ => 0), (fun _ => 0), (fun _ => 0), (fun _ => 0)) (nI N, 0, 0, (fun _ => 0), (fun _ => 0), (fun _ => 0)) :=
  tj_mk (N := N) (C := 0) (T := 0) (A := fun _ => 0) (B := fun _ => 0) ⟨h2, h7, by omega, fun e he => absurd he (by omega)⟩ (fun e he => absurd he (by omega)) (Nat.two_pow_pos N)
theorem i_vc0 (k0 : Int32) : wpX_init (fun u => wpY_init (fun v => i_Rel 1 u v) k0) k0 := by
  by_cases h2 : 2 ≤ k0
  · by_cases h7 : k0 ≤ 7
    · have hn : ¬ k0 < 0 := by
        intro h
        rw [Int32.le_iff_toInt_le, show (2 : Int32).toInt = 2 from by decide] at h2
        rw [tj_lt0] at h
        omega
      obtain ⟨j, hj, rfl⟩ := nI_of2 (M := 7) (n := 7) (by decide) hn h7
      have h2' : 2 ≤ j := (nI_leI (a := 2) (by decide) (by omega)).mp h2
      exact br_t h2 (br_t h7 (br_t h2 (br_t h7 (tj_r0 h2' hj))))
    · exact br_t h2 (br_f h7 (br_t h2 (br_f h7 (tj_r0 (N := 7) (by omega) (by omega)))))
  · exact br_f h2 (br_t (by decide) (br_f h2 (tj_r0 (N := 2) (by omega) (by omega))))
section
variable {N C j : Nat} {fn fc ft x : Int32} {a b w c f g s z p : Nat → Int32} {post : Int32 → Prop}
theorem tj_xpl1 (hN : N ≤ 7) (hj : j < N) (h : post 1) : wpX_isPlace post (nI N, fc, ft, a, b, w, c, f, g, s, z, p) (nI j) := br_f (nI_pos (by omega)) (br_f (nI_ge (by omega) (by omega)) h)
theorem tj_xpl0 (hx : x < 0 ∨ nI N ≤ x) (h : post 0) : wpX_isPlace post (nI N, fc, ft, a, b, w, c, f, g, s, z, p) x := by
  by_cases h0 : x < 0
  · exact br_t h0 h
  · exact br_f h0 (br_t (hx.resolve_left h0) h)
theorem tj_ypl1 (hN : N ≤ 7) (hj : j < N) (h : post 0) : wpY_bad post (nI N, fc, ft, a, b, w) (nI j) := br_f (nI_pos (by omega)) (br_t (nI_lt (by omega) (by omega)) h)
theorem tj_ypl0 (hx : x < 0 ∨ nI N ≤ x) (h : post 1) : wpY_bad post (nI N, fc, ft, a, b, w) x := by
  by_cases h0 : x < 0
  · exact br_t h0 h
  · exact br_f h0 (br_f (Int32.not_lt.mpr (hx.resolve_left h0)) h)
theorem tj_xrd1 (hC : C ≤ 12) (hj : j < C) (h : post 1) : wpX_isRoad post (fn, nI C, ft, a, b, w, c, f, g, s, z, p) (nI j) := br_f (nI_pos (by omega)) (br_f (nI_ge (by omega) (by omega)) h)
theorem tj_xrd0 (hx : x < 0 ∨ nI C ≤ x) (h : post 0) : wpX_isRoad post (fn, nI C, ft, a, b, w, c, f, g, s, z, p) x := by
  by_cases h0 : x < 0
  · exact br_t h0 h
  · exact br_f h0 (br_t (hx.resolve_left h0) h)
theorem tj_yrd1 (hC : C ≤ 12) (hj : j < C) (h : post 0) : wpY_badRoad post (fn, nI C, ft, a, b, w) (nI j) := br_f (nI_pos (by omega)) (br_f (nI_ge (by omega) (by omega)) (br_t (nI_le (b := 11) (by omega) (by decide)) h))
theorem tj_yrd0 (hx : x < 0 ∨ nI C ≤ x) (h : post 1) : wpY_badRoad post (fn, nI C, ft, a, b, w) x := by
  by_cases h0 : x < 0
  · exact br_t h0 h
  · exact br_f h0 (br_t (hx.resolve_left h0) h)
theorem tj_yfar0 (h1 : ¬ x < (-9)) (h2 : x ≤ 20) (h : post 0) : wpY_far post (fn, fc, ft, a, b, w) x := br_f h1 (br_t h2 h)
theorem tj_yfar1 (h1 : x < (-9) ∨ ¬ x ≤ 20) (h : post 1) : wpY_far post (fn, fc, ft, a, b, w) x := by
  by_cases h0 : x < (-9)
  · exact br_t h0 h
  · exact br_f h0 (br_f (h1.resolve_left h0) h)
end
theorem tj_rng {x : Int32} (h1 : ¬ x < (-9)) (h2 : x ≤ 20) : -9 ≤ x.toInt ∧ x.toInt ≤ 20 := by
  rw [Int32.lt_iff_toInt_lt, show (-9 : Int32).toInt = -9 from by decide] at h1
  rw [Int32.le_iff_toInt_le, show (20 : Int32).toInt = 20 from by decide] at h2
  omega
theorem tj_ok_put {N C i j : Nat} {A B : Nat → Nat} {a b : Nat → Int32} (H : tj_ok N C A B a b) (hC : C < 12) (hi : i < N) (hj : j < N) : tj_ok N (C + 1) (fun e => if e = C then i else A e) (fun e => if e = C then j else B e) (upd a C (nI i)) (upd b C (nI j)) := by
  refine ⟨H.1, H.2.1, by omega, fun e he => ?_⟩
  dsimp only
  by_cases hh : e = C
  · rw [if_pos hh, if_pos hh, hh, pk_us, pk_us]
    exact ⟨hi, hj, rfl, rfl⟩
  · rw [if_neg hh, if_neg hh, pk_un hh, pk_un hh]
    exact H.2.2.2 e (by omega)
theorem tj_wb_put {C : Nat} {w : Nat → Int32} {x : Int32} (h : tj_wb w C) (hx : -9 ≤ x.toInt ∧ x.toInt ≤ 20) : tj_wb (upd w C x) (C + 1) := by
  intro e he
  by_cases hh : e = C
  · rw [hh, pk_us]; exact hx
  · rw [pk_un hh]; exact h e (by omega)
theorem i_vc_road {k : Nat} {u : SX} {v : SY} (I : i_Rel k u v) (hk : k + 4 ≤ 2049) (v1 : Int32) (v2 : Int32) (v3 : Int32) : wpX_road (fun r u' => wpY_road (fun r' v' => r' = r ∧ i_Rel (k + 4) u' v') v v1 v2 v3) u v1 v2 v3 := by
  obtain ⟨N, C, T, A, B, a, b, w, c, f, g, s, z, p, rfl, rfl, H, hw, hT⟩ := I
  have h7 : N ≤ 7 := H.2.1
  have h12 : C ≤ 12 := H.2.2.1
  unfold wpX_road wpY_road
  dsimp only
  have bad : ∀ {x : Int32}, (x < 0 ∨ nI N ≤ x) ∨ ∃ j : Nat, j < N ∧ x = nI j := fun {x} => by
    rcases pk_ix x (n := N) (by omega) with h | h | h
    · exact Or.inl (Or.inl h)
    · exact Or.inl (Or.inr h)
    · exact Or.inr h
  rcases bad (x := v1) with h | ⟨i, hi, rfl⟩
  · exact tj_xpl0 h (br_t rfl (tj_ypl0 h (br_f (by decide) ⟨rfl, tj_mk H hw hT⟩)))
  rcases bad (x := v2) with h | ⟨j, hj, rfl⟩
  · exact tj_xpl1 h7 hi (br_f (by decide) (tj_xpl0 h (br_t rfl (tj_ypl1 h7 hi (br_t rfl (tj_ypl0 h (br_f (by decide) ⟨rfl, tj_mk H hw hT⟩)))))))
  by_cases h9 : v3 < (-9)
  · exact tj_xpl1 h7 hi (br_f (by decide) (tj_xpl1 h7 hj (br_f (by decide) (br_t h9 (tj_ypl1 h7 hi (br_t rfl (tj_ypl1 h7 hj (br_t rfl (tj_yfar1 (Or.inl h9) (br_f (by decide) ⟨rfl, tj_mk H hw hT⟩))))))))))
  by_cases h20 : v3 ≤ 20
  · by_cases hC : C = 12
    · have e1 : nI C = 12 := by rw [hC]; rfl
      have e2 : ¬ nI C ≤ 11 := by rw [hC]; decide
      exact tj_xpl1 h7 hi (br_f (by decide) (tj_xpl1 h7 hj (br_f (by decide) (br_f h9 (br_t h20 (br_t e1 (tj_ypl1 h7 hi (br_t rfl (tj_ypl1 h7 hj (br_t rfl (tj_yfar0 h9 h20 (br_t rfl (br_f e2 ⟨rfl, tj_mk H hw hT⟩)))))))))))))
    · have e1 : ¬ nI C = 12 := fun h => hC ((nI_eq (b := 12) (by omega) (by decide)).mp h)
      have e2 : nI C ≤ 11 := nI_le (b := 11) (by omega) (by decide)
      have hin : vp_in (nI C) 12 := vp_in_nI (by omega) (by omega)
      refine tj_xpl1 h7 hi (br_f (by decide) (tj_xpl1 h7 hj (br_f (by decide) (br_f h9 (br_t h20 (br_f e1 ⟨hin, fun a' ha' => ⟨hin, fun b' hb' => ⟨hin, fun w' hw' => nm_r (nI_1 C) ?_⟩⟩⟩))))))
      refine tj_ypl1 h7 hi (br_t rfl (tj_ypl1 h7 hj (br_t rfl (tj_yfar0 h9 h20 (br_t rfl (br_t e2 ⟨hin, fun a2 ha2 => ⟨hin, fun b2 hb2 => ⟨hin, fun w2 hw2 => nm_r (nI_1 C) ⟨(nI_pred C).symm, ?_⟩⟩⟩⟩))))))
      rw [nI_clamp (by omega)] at ha' hb' hw' ha2 hb2 hw2
      subst ha' hb' hw' ha2 hb2 hw2
      exact tj_mk (tj_ok_put H (by omega) hi hj) (tj_wb_put hw (tj_rng h9 h20)) hT
  · exact tj_xpl1 h7 hi (br_f (by decide) (tj_xpl1 h7 hj (br_f (by decide) (br_f h9 (br_f h20 (tj_ypl1 h7 hi (br_t rfl (tj_ypl1 h7 hj (br_t rfl (tj_yfar1 (Or.inr h20) (br_f (by decide) ⟨rfl, tj_mk H hw hT⟩)))))))))))
/-- the roads behind i moved down by one, k of them -/
def tj_sf (a : Nat → Int32) (i : Nat) : Nat → (Nat → Int32)
  | 0 => a
  | k + 1 => tj_sf (upd a i (a (i + 1))) (i + 1) k
theorem tj_sf_at : ∀ (k : Nat) (a : Nat → Int32) (i e : Nat), tj_sf a i k e = if i ≤ e ∧ e < i + k then a (e + 1) else a e := by
  intro k
  induction k with
  | zero =>
    intro a i e
    rw [if_neg (by omega)]; rfl
  | succ k ih =>
    intro a i e
    show tj_sf (upd a i (a (i + 1))) (i + 1) k e = _
    rw [ih]
    by_cases h1 : i + 1 ≤ e ∧ e < i + 1 + k
    · rw [if_pos h1, if_pos (by omega), pk_un (by omega)]
    · rw [if_neg h1]
      by_cases h2 : e = i
      · rw [h2, pk_us, if_pos (by omega)]
      · rw [pk_un h2, if_neg (by omega)]
section
variable {fn ft : Int32} {c f g s z p : Nat → Int32}
theorem tj_xrm {C : Nat} (hC : C ≤ 12) {post : Int32 → SX → Prop} : ∀ (k i : Nat) (a b w : Nat → Int32), i + 1 + k = C → post (nI (C - 1)) (fn, nI (C - 1), ft, tj_sf a i k, tj_sf b i k, tj_sf w i k, c, f, g, s, z, p) → wX_remove_14 post fn (nI C) ft (k + 1) (nI (i + 1)) a b w c f g s z p := by
  intro k
  induction k with
  | zero =>
    intro i a b w hi h
    have e : C = i + 1 := by omega
    subst e
    exact br_t (Int32.le_refl _) (nm_r (nI_pred i) h)
  | succ k ih =>
    intro i a b w hi h
    have hin : vp_in (nI (i + 1)) 12 := vp_in_nI (by omega) (by omega)
    have hin2 : vp_in (nI (i + 1) - 1) 12 := by rw [nI_pred]; exact vp_in_nI (by omega) (by omega)
    refine br_f (nI_ge (by omega) (by omega)) ⟨hin, hin2, fun a' ha' => ⟨hin, hin2, fun b' hb' => ⟨hin, hin2, fun w' hw' => nm_r (nI_1 (i + 1)) ?_⟩⟩⟩
    rw [nI_pred, nI_clamp (by omega), nI_clamp (by omega)] at ha' hb' hw'
    subst ha' hb' hw'
    exact ih (i + 1) _ _ _ (by omega) h
theorem tj_yrm {C : Nat} (hC : C ≤ 12) {post : Int32 → SY → Prop} : ∀ (k i : Nat) (a b w : Nat → Int32), i + 1 + k = C → post (nI (C - 1)) (fn, nI (C - 1), ft, tj_sf a i k, tj_sf b i k, tj_sf w i k) → wY_remove_12 post fn (nI C) ft (k + 1) (nI i) a b w := by
  intro k
  induction k with
  | zero =>
    intro i a b w hi h
    have e : C = i + 1 := by omega
    subst e
    refine br_t (by rw [nI_pred]; exact Int32.le_refl _) ?_
    unfold wY_remove_76
    exact nm_r (nI_pred i) h
  | succ k ih =>
    intro i a b w hi h
    have hin : vp_in (nI i) 12 := vp_in_nI (by omega) (by omega)
    have hin2 : vp_in (nI i + 1) 12 := by rw [nI_1]; exact vp_in_nI (by omega) (by omega)
    have e1 : ¬ nI C - 1 ≤ nI i := by
      show ¬ nI C - nI 1 ≤ nI i
      rw [pk_sub (by omega)]
      exact nI_ge (by omega) (by omega)
    have e2 : ¬ (11 : Int32) ≤ nI i := nI_ge (b := 11) (by omega) (by decide)
    refine br_f e1 (br_f e2 ⟨hin2, hin, fun a' ha' => ⟨hin2, hin, fun b' hb' => ⟨hin2, hin, fun w' hw' => nm_r (nI_1 i) ?_⟩⟩⟩)
    rw [nI_1, nI_clamp (by omega), nI_clamp (by omega)] at ha' hb' hw'
    subst ha' hb' hw'
    exact ih (i + 1) _ _ _ (by omega) h
end
theorem tj_ok_sf {N C i k : Nat} {A B : Nat → Nat} {a b : Nat → Int32} (H : tj_ok N C A B a b) (hi : i + 1 + k = C) : tj_ok N (C - 1) (fun e => if i ≤ e ∧ e < i + k then A (e + 1) else A e) (fun e => if i ≤ e ∧ e < i + k then B (e + 1) else B e) (tj_sf a i k) (tj_sf b i k) := by
  refine ⟨H.1, H.2.1, by have := H.2.2.1; omega, fun e he => ?_⟩
  dsimp only
  rw [tj_sf_at, tj_sf_at]
  by_cases h : i ≤ e ∧ e < i + k
  · rw [if_pos h, if_pos h, if_pos h, if_pos h]
    exact H.2.2.2 (e + 1) (by omega)
  · rw [if_neg h, if_neg h, if_neg h, if_neg h]
    exact H.2.2.2 e (by omega)
theorem tj_wb_sf {C i k : Nat} {w : Nat → Int32} (h : tj_wb w C) (hi : i + 1 + k = C) : tj_wb (tj_sf w i k) (C - 1) := by
  intro e he
  rw [tj_sf_at]
  by_cases hh : i ≤ e ∧ e < i + k
  · rw [if_pos hh]; exact h (e + 1) (by omega)
  · rw [if_neg hh]; exact h e (by omega)
theorem i_vc_remove {k : Nat} {u : SX} {v : SY} (I : i_Rel k u v) (hk : k + 4 ≤ 2049) (v1 : Int32) : wpX_remove (fun r u' => wpY_remove (fun r' v' => r' = r ∧ i_Rel (k + 4) u' v') v v1) u v1 := by
  obtain ⟨N, C, T, A, B, a, b, w, c, f, g, s, z, p, rfl, rfl, H, hw, hT⟩ := I
  have h12 : C ≤ 12 := H.2.2.1
  unfold wpX_remove wpY_remove
  dsimp only
  have bad : ∀ {x : Int32}, (x < 0 ∨ nI C ≤ x) ∨ ∃ j : Nat, j < C ∧ x = nI j := fun {x} => by
    rcases pk_ix x (n := C) (by omega) with h | h | h
    · exact Or.inl (Or.inl h)
    · exact Or.inl (Or.inr h)
    · exact Or.inr h
  rcases bad (x := v1) with h | ⟨i, hi, rfl⟩
  · exact tj_xrd0 h (br_t rfl (tj_yrd0 h (br_f (by decide) ⟨rfl, tj_mk H hw hT⟩)))
  · obtain ⟨m, hm⟩ : ∃ m, i + 1 + m = C := ⟨C - (i + 1), by omega⟩
    exact tj_xrd1 h12 hi (br_f (by decide) (nm_r (nI_1 i) ⟨m + 1, tj_xrm h12 m i a b w hm (tj_yrd1 h12 hi (br_t rfl ⟨m + 1, tj_yrm h12 m i a b w hm ⟨rfl, tj_mk (tj_ok_sf H hm) (tj_wb_sf hw hm) hT⟩⟩))⟩))
theorem i_vc_weigh {k : Nat} {u : SX} {v : SY} (I : i_Rel k u v) (hk : k + 4 ≤ 2049) (v1 : Int32) (v2 : Int32) : wpX_weigh (fun r u' => wpY_weigh (fun r' v' => r' = r ∧ i_Rel (k + 4) u' v') v v1 v2) u v1 v2 := by
  obtain ⟨N, C, T, A, B, a, b, w, c, f, g, s, z, p, rfl, rfl, H, hw, hT⟩ := I
  have h12 : C ≤ 12 := H.2.2.1
  unfold wpX_weigh wpY_weigh
  dsimp only
  have bad : ∀ {x : Int32}, (x < 0 ∨ nI C ≤ x) ∨ ∃ j : Nat, j < C ∧ x = nI j := fun {x} => by
    rcases pk_ix x (n := C) (by omega) with h | h | h
    · exact Or.inl (Or.inl h)
    · exact Or.inl (Or.inr h)
    · exact Or.inr h
  rcases bad (x := v1) with h | ⟨i, hi, rfl⟩
  · exact tj_xrd0 h (br_t rfl (tj_yrd0 h (br_f (by decide) ⟨rfl, tj_mk H hw hT⟩)))
  by_cases h9 : v2 < (-9)
  · exact tj_xrd1 h12 hi (br_f (by decide) (br_t h9 (tj_yrd1 h12 hi (br_t rfl (tj_yfar1 (Or.inl h9) (br_f (by decide) ⟨rfl, tj_mk H hw hT⟩))))))
  by_cases h20 : v2 ≤ 20
  · have hin : vp_in (nI i) 12 := vp_in_nI (by omega) (by omega)
    refine tj_xrd1 h12 hi (br_f (by decide) (br_f h9 (br_t h20 ⟨hin, nm_e ⟨hin, fun w' hw' => ?_⟩⟩)))
    refine tj_yrd1 h12 hi (br_t rfl (tj_yfar0 h9 h20 (br_t rfl ⟨hin, nm_e ⟨hin, fun w2 hw2 => ⟨rfl, ?_⟩⟩⟩)))
    rw [nI_clamp (by omega)] at hw' hw2
    subst hw' hw2
    refine tj_mk H (fun e he => ?_) hT
    by_cases hh : e = i
    · rw [hh, pk_us]; exact tj_rng h9 h20
    · rw [pk_un hh]; exact hw e he
  · exact tj_xrd1 h12 hi (br_f (by decide) (br_f h9 (br_f h20 (tj_yrd1 h12 hi (br_t rfl (tj_yfar1 (Or.inr h20) (br_f (by decide) ⟨rfl, tj_mk H hw hT⟩)))))))
theorem i_vc_want {k : Nat} {u : SX} {v : SY} (I : i_Rel k u v) (hk : k + 4 ≤ 2049) (v1 : Int32) : wpX_want (fun r u' => wpY_want (fun r' v' => r' = r ∧ i_Rel (k + 4) u' v') v v1) u v1 := by
  obtain ⟨N, C, T, A, B, a, b, w, c, f, g, s, z, p, rfl, rfl, H, hw, hT⟩ := I
  have h7 : N ≤ 7 := H.2.1
  unfold wpX_want wpY_want
  dsimp only
  by_cases h0 : v1 < 0
  · exact br_t h0 (br_t h0 ⟨rfl, tj_mk H hw hT⟩)
  by_cases h1 : v1 < ((1 : Int32) <<< (nI N &&& 31))
  · refine br_f h0 (br_t h1 (br_f h0 (br_t h1 ⟨rfl, ?_⟩)))
    obtain ⟨j, hj, rfl⟩ := nI_of h0
    have hp : 2 ^ N < 2 ^ 31 := tj_p31 (by omega)
    rw [tj_sh1 (by omega), nI_ltI hj hp] at h1
    exact tj_mk H hw h1
  · exact br_f h0 (br_f h1 (br_f h0 (br_f h1 ⟨rfl, tj_mk H hw hT⟩)))
theorem i_vc_turn {k : Nat} {u : SX} {v : SY} (I : i_Rel k u v) (hk : k + 4 ≤ 2049) (v1 : Int32) : wpX_turn (fun r u' => wpY_turn (fun r' v' => r' = r ∧ i_Rel (k + 4) u' v') v v1) u v1 := by
  obtain ⟨N, C, T, A, B, a, b, w, c, f, g, s, z, p, rfl, rfl, H, hw, hT⟩ := I
  have h7 : N ≤ 7 := H.2.1
  unfold wpX_turn wpY_turn
  dsimp only
  have bad : ∀ {x : Int32}, (x < 0 ∨ nI N ≤ x) ∨ ∃ j : Nat, j < N ∧ x = nI j := fun {x} => by
    rcases pk_ix x (n := N) (by omega) with h | h | h
    · exact Or.inl (Or.inl h)
    · exact Or.inl (Or.inr h)
    · exact Or.inr h
  rcases bad (x := v1) with h | ⟨i, hi, rfl⟩
  · exact tj_xpl0 h (br_t rfl (tj_ypl0 h (br_f (by decide) ⟨rfl, tj_mk H hw hT⟩)))
  · have e : nI T ^^^ ((1 : Int32) <<< (nI i &&& 31)) = nI (T ^^^ 2 ^ i) := by rw [tj_sh1 (by omega), nx_xor]
    exact tj_xpl1 h7 hi (br_f (by decide) (nm_r e (tj_ypl1 h7 hi (br_t rfl (nm_r e ⟨rfl, tj_mk H hw (Nat.xor_lt_two_pow hT (Nat.pow_lt_pow_right (by decide) hi))⟩)))))
theorem i_vc_roads {k : Nat} {u : SX} {v : SY} (I : i_Rel k u v) (hk : k + 4 ≤ 2049) : wpX_roads (fun r => wpY_roads (fun r' => r' = r ∧ i_Rel (k + 4) u v) v) u := by
  obtain ⟨N, C, T, A, B, a, b, w, c, f, g, s, z, p, rfl, rfl, H, hw, hT⟩ := I
  exact ⟨rfl, tj_mk H hw hT⟩
theorem i_vc_isJoin {k : Nat} {u : SX} {v : SY} (I : i_Rel k u v) (hk : k + 4 ≤ 2049) (v1 : Int32) : wpX_isJoin (fun r => wpY_isJoin (fun r' => r' = r ∧ i_Rel (k + 4) u v) v v1) u v1 := by
  obtain ⟨N, C, T, A, B, a, b, w, c, f, g, s, z, p, rfl, rfl, H, hw, hT⟩ := I
  unfold wpX_isJoin wpY_isJoin
  dsimp only
  by_cases h0 : v1 < 0
  · exact br_t h0 (br_t h0 ⟨rfl, tj_mk H hw hT⟩)
  by_cases h1 : v1 < ((1 : Int32) <<< (nI C &&& 31))
  · obtain ⟨j, hj, rfl⟩ := nI_of h0
    refine br_f h0 (br_t h1 (tj_xodd H hj (br_c (fun h => ?_) (fun h => ?_))))
    · exact br_f h0 (br_t h1 (tj_yodd H hj (br_t h ⟨rfl, tj_mk H hw hT⟩)))
    · exact br_f h0 (br_t h1 (tj_yodd H hj (br_f h ⟨rfl, tj_mk H hw hT⟩)))
  · exact br_f h0 (br_f h1 (br_f h0 (br_f h1 ⟨rfl, tj_mk H hw hT⟩)))
theorem i_vc_oddPlaces {k : Nat} {u : SX} {v : SY} (I : i_Rel k u v) (hk : k + 4 ≤ 2049) : wpX_oddPlaces (fun r => wpY_oddPlaces (fun r' => r' = r ∧ i_Rel (k + 4) u v) v) u := by
  obtain ⟨N, C, T, A, B, a, b, w, c, f, g, s, z, p, rfl, rfl, H, hw, hT⟩ := I
  exact tj_xop H (tj_yop H ⟨rfl, tj_mk H hw hT⟩)
end
section
/-! what is owed: the questions -/
section
variable {N C : Nat} {A B : Nat → Nat} {a b w c : Nat → Int32} {fn ft r : Int32} {T : Nat}
/-- the reference's best weight, by the component's best set -/
theorem tj_ybest (H : tj_ok N C A B a b) (hw : tj_wb w C) (hT : T < 2 ^ 31) (hc : tj_cs w c C) (ho : tj_opt A B C (fun e => (c e).toInt) T r) {post : Int32 → Prop} (h1 : r = -1 → post (-1000)) (h2 : ∀ M, M < 2 ^ C → r = nI M → post (tj_ws w C M)) :
    wpY_search (fun x => wpY_weightOf (fun y => post y) (fn, nI C, ft, a, b, w) x) (fn, nI C, ft, a, b, w) (nI T) 0 0 := by
  have h12 : C ≤ 12 := H.2.2.1
  have hp31 : 2 ^ C < 2 ^ 31 := tj_p31 (by omega)
  refine tj_ysr (mu := 0) (no := 0) H hw hT (by decide) (by decide) (fun x y hs => ?_)
  have e := tj_agree h12 hc ho hs
  subst e
  unfold wpY_weightOf
  rcases ho with ⟨k1, _⟩ | ⟨M, hM, k1, _⟩
  · exact br_f (by rw [k1]; decide) (h1 k1)
  · subst k1
    exact br_t (nI_pos' (by omega)) (tj_yws h12 (by omega) (h2 M hM rfl))
end
theorem i_vc_possible {k : Nat} {u : SX} {v : SY} (I : i_Rel k u v) (hk : k + 4 ≤ 2049) : wpX_possible (fun r u' => wpY_possible (fun r' => r' = r ∧ i_Rel (k + 4) u' v) v) u := by
  obtain ⟨N, C, T, A, B, a, b, w, c, f, g, s, z, p, rfl, rfl, H, hw, hT⟩ := I
  have h7 : N ≤ 7 := H.2.1
  have h12 : C ≤ 12 := H.2.2.1
  have hT31 : T < 2 ^ 31 := Nat.lt_of_lt_of_le hT (tj_ple (by omega))
  unfold wpX_possible wpY_possible
  dsimp only
  refine tj_xip H hT31 (fun p' hl hev => ?_) (fun p' hl hev => ?_)
  · exact br_f (by decide) (tj_ysr (mu := 0) (no := 0) H hw hT31 (by decide) (by decide) (fun x y hs => br_t ((tj_sr_ev (tj_hN H) h12 hT hs).1 hev) ⟨rfl, tj_mk H hw hT⟩))
  · exact br_t rfl (tj_ysr (mu := 0) (no := 0) H hw hT31 (by decide) (by decide) (fun x y hs => br_f ((tj_sr_ev (tj_hN H) h12 hT hs).2 hev) ⟨rfl, tj_mk H hw hT⟩))
theorem tj_expo {C N P k : Nat} (h : C + P = N + k) : (nI C - nI N) + nI P = nI k := by
  have h1 : nI C + nI P = nI N + nI k := by rw [nI_add, nI_add, h]
  grind
theorem i_vc_joins {k : Nat} {u : SX} {v : SY} (I : i_Rel k u v) (hk : k + 4 ≤ 2049) : wpX_joins (fun r u' => wpY_joins (fun r' => r' = r ∧ i_Rel (k + 4) u' v) v) u := by
  obtain ⟨N, C, T, A, B, a, b, w, c, f, g, s, z, p, rfl, rfl, H, hw, hT⟩ := I
  have h7 : N ≤ 7 := H.2.1
  have h12 : C ≤ 12 := H.2.2.1
  have hT31 : T < 2 ^ 31 := Nat.lt_of_lt_of_le hT (tj_ple (by omega))
  obtain ⟨m, hm, hn⟩ := tj_number (tj_hN H)
  have hn := hn T hT
  have hpc : tj_pc A B N C ≤ N := tj_cnt_le _ _
  unfold wpX_joins
  dsimp only
  refine tj_xip H hT31 (fun p' hl hev => ?_) (fun p' hl hev => ?_)
  · refine br_f (by decide) (tj_xcp H (fun p2 hl2 => ?_))
    refine tj_yjo H hT31 ⟨?_, tj_mk H hw hT⟩
    rw [tj_expo hm, tj_sh1 (by omega), hn.1 hev]
  · refine br_t rfl (tj_yjo H hT31 ⟨?_, tj_mk H hw hT⟩)
    rw [hn.2 hev]; rfl
theorem i_vc_best {k : Nat} {u : SX} {v : SY} (I : i_Rel k u v) (hk : k + 4 ≤ 2049) : wpX_best (fun r u' => wpY_best (fun r' => r' = r ∧ i_Rel (k + 4) u' v) v) u := by
  obtain ⟨N, C, T, A, B, a, b, w, c, f, g, s, z, p, rfl, rfl, H, hw, hT⟩ := I
  have h7 : N ≤ 7 := H.2.1
  have h12 : C ≤ 12 := H.2.2.1
  have hT31 : T < 2 ^ 31 := Nat.lt_of_lt_of_le hT (tj_ple (by omega))
  have hp31 : 2 ^ C < 2 ^ 31 := tj_p31 (by omega)
  unfold wpX_best wpY_best
  dsimp only
  refine tj_xtc h12 hw (fun c' hc' => tj_xso H (tj_cs_ca h12 hw hc') hT (fun r f' g' s' z' p' ho => ?_))
  rcases ho with ⟨k1, k2⟩ | ⟨M, hM, k1, k2⟩
  · refine br_f (by rw [k1]; decide) (tj_ybest H hw hT31 hc' (Or.inl ⟨k1, k2⟩) (fun _ => ⟨rfl, tj_mk H hw hT⟩) (fun M hM hr => ?_))
    rw [k1] at hr
    exact absurd (show (-1 : Int32) < 0 by decide) (by rw [hr]; exact nI_pos (by omega))
  · subst k1
    refine br_t (nI_pos' (by omega)) (tj_xws h12 (by omega) (tj_ybest H hw hT31 hc' (Or.inr ⟨M, hM, rfl, k2⟩) (fun hr => ?_) (fun M' hM' hr => ?_)))
    · exact absurd (show (-1 : Int32) < 0 by decide) (by rw [← hr]; exact nI_pos (by omega))
    · rw [(nI_eq (by omega) (by omega)).mp hr]
      exact ⟨rfl, tj_mk H hw hT⟩
theorem i_vc_bestSet {k : Nat} {u : SX} {v : SY} (I : i_Rel k u v) (hk : k + 4 ≤ 2049) : wpX_bestSet (fun r u' => wpY_bestSet (fun r' => r' = r ∧ i_Rel (k + 4) u' v) v) u := by
  obtain ⟨N, C, T, A, B, a, b, w, c, f, g, s, z, p, rfl, rfl, H, hw, hT⟩ := I
  have h7 : N ≤ 7 := H.2.1
  have h12 : C ≤ 12 := H.2.2.1
  have hT31 : T < 2 ^ 31 := Nat.lt_of_lt_of_le hT (tj_ple (by omega))
  unfold wpX_bestSet wpY_bestSet
  dsimp only
  refine tj_xtc h12 hw (fun c' hc' => tj_xso H (tj_cs_ca h12 hw hc') hT (fun r f' g' s' z' p' ho => ?_))
  exact tj_ysr (mu := 0) (no := 0) H hw hT31 (by decide) (by decide) (fun x y hs => ⟨tj_agree h12 hc' ho hs, tj_mk H hw hT⟩)
theorem i_vc_between {k : Nat} {u : SX} {v : SY} (I : i_Rel k u v) (hk : k + 4 ≤ 2049) (v1 : Int32) (v2 : Int32) : wpX_between (fun r u' => wpY_between (fun r' => r' = r ∧ i_Rel (k + 4) u' v) v v1 v2) u v1 v2 := by
  obtain ⟨N, C, T, A, B, a, b, w, c, f, g, s, z, p, rfl, rfl, H, hw, hT⟩ := I
  have h7 : N ≤ 7 := H.2.1
  have h12 : C ≤ 12 := H.2.2.1
  have hp31 : 2 ^ C < 2 ^ 31 := tj_p31 (by omega)
  unfold wpX_between wpY_between
  dsimp only
  have bad : ∀ {x : Int32}, (x < 0 ∨ nI N ≤ x) ∨ ∃ j : Nat, j < N ∧ x = nI j := fun {x} => by
    rcases pk_ix x (n := N) (by omega) with h | h | h
    · exact Or.inl (Or.inl h)
    · exact Or.inl (Or.inr h)
    · exact Or.inr h
  rcases bad (x := v1) with h | ⟨i, hi, rfl⟩
  · exact tj_xpl0 h (br_t rfl (tj_ypl0 h (br_f (by decide) ⟨rfl, tj_mk H hw hT⟩)))
  rcases bad (x := v2) with h | ⟨j, hj, rfl⟩
  · exact tj_xpl1 h7 hi (br_f (by decide) (tj_xpl0 h (br_t rfl (tj_ypl1 h7 hi (br_t rfl (tj_ypl0 h (br_f (by decide) ⟨rfl, tj_mk H hw hT⟩)))))))
  have e : ((1 : Int32) <<< (nI i &&& 31)) ^^^ ((1 : Int32) <<< (nI j &&& 31)) = nI (2 ^ i ^^^ 2 ^ j) := by
    rw [tj_sh1 (by omega), tj_sh1 (by omega), nx_xor]
  have hS : 2 ^ i ^^^ 2 ^ j < 2 ^ N := Nat.xor_lt_two_pow (Nat.pow_lt_pow_right (by decide) hi) (Nat.pow_lt_pow_right (by decide) hj)
  have hS31 : 2 ^ i ^^^ 2 ^ j < 2 ^ 31 := Nat.lt_of_lt_of_le hS (tj_ple (by omega))
  rw [e]
  refine tj_xpl1 h7 hi (br_f (by decide) (tj_xpl1 h7 hj (br_f (by decide) ?_)))
  refine tj_xtc h12 hw (fun c' hc' => tj_xso H (tj_cs_ca h12 hw hc') hS (fun r f' g' s' z' p' ho => ?_))
  rcases ho with ⟨k1, k2⟩ | ⟨M, hM, k1, k2⟩
  · refine br_f (by rw [k1]; decide) (tj_ypl1 h7 hi (br_t rfl (tj_ypl1 h7 hj (br_t rfl (tj_ybest H hw hS31 hc' (Or.inl ⟨k1, k2⟩) (fun _ => ⟨rfl, tj_mk H hw hT⟩) (fun M hM hr => ?_))))))
    rw [k1] at hr
    exact absurd (show (-1 : Int32) < 0 by decide) (by rw [hr]; exact nI_pos (by omega))
  · subst k1
    refine br_t (nI_pos' (by omega)) (tj_xws h12 (by omega) (tj_ypl1 h7 hi (br_t rfl (tj_ypl1 h7 hj (br_t rfl (tj_ybest H hw hS31 hc' (Or.inr ⟨M, hM, rfl, k2⟩) (fun hr => ?_) (fun M' hM' hr => ?_)))))))
    · exact absurd (show (-1 : Int32) < 0 by decide) (by rw [← hr]; exact nI_pos (by omega))
    · rw [(nI_eq (by omega) (by omega)).mp hr]
      exact ⟨rfl, tj_mk H hw hT⟩
/-- one road's cost changed by x -/
theorem tj_force {w c c' : Nat → Int32} {C i : Nat} {x : Int} {y : Int32} (hC : C ≤ 12) (hw : tj_wb w C) (hc : tj_cs w c C) (hi : i < C) (hx : -4194304 ≤ x ∧ x ≤ 4194304) (hy : -2 ^ 31 ≤ (c i).toInt + x → (c i).toInt + x < 2 ^ 31 → y.toInt = (c i).toInt + x) (hc' : c' = upd c i y) :
    (∀ e, e < C → (c' e).toInt = 4096 * (w e).toInt + ((2 ^ e : Nat) : Int) + (if e = i then x else 0)) ∧ ∀ e, e < C → tj_ca c' e ≤ 8388608 := by
  have h1 : ∀ e, e < C → (c' e).toInt = 4096 * (w e).toInt + ((2 ^ e : Nat) : Int) + (if e = i then x else 0) := by
    intro e he
    have b1 := hw e he
    have b2 : 2 ^ e ≤ 2 ^ 11 := tj_ple (by omega)
    have b3 : 0 < 2 ^ e := Nat.two_pow_pos e
    have b4 := hc e he
    rw [hc']
    generalize 2 ^ e = m at *
    by_cases hh : e = i
    · subst hh
      rw [pk_us, if_pos rfl, hy (by omega) (by omega)]
      omega
    · rw [pk_un hh, if_neg hh]
      omega
  refine ⟨h1, fun e he => ?_⟩
  have b1 := hw e he
  have b2 : 2 ^ e ≤ 2 ^ 11 := tj_ple (by omega)
  have b3 : 0 < 2 ^ e := Nat.two_pow_pos e
  have b4 := h1 e he
  unfold tj_ca
  rw [b4]
  generalize 2 ^ e = m at *
  split <;> omega
theorem i_vc_bestWith {k : Nat} {u : SX} {v : SY} (I : i_Rel k u v) (hk : k + 4 ≤ 2049) (v1 : Int32) : wpX_bestWith (fun r u' => wpY_bestWith (fun r' => r' = r ∧ i_Rel (k + 4) u' v) v v1) u v1 := by
  obtain ⟨N, C, T, A, B, a, b, w, c, f, g, s, z, p, rfl, rfl, H, hw, hT⟩ := I
  have h7 : N ≤ 7 := H.2.1
  have h12 : C ≤ 12 := H.2.2.1
  have hT31 : T < 2 ^ 31 := Nat.lt_of_lt_of_le hT (tj_ple (by omega))
  have hp31 : 2 ^ C < 2 ^ 31 := tj_p31 (by omega)
  unfold wpX_bestWith wpY_bestWith
  dsimp only
  have bad : ∀ {x : Int32}, (x < 0 ∨ nI C ≤ x) ∨ ∃ j : Nat, j < C ∧ x = nI j := fun {x} => by
    rcases pk_ix x (n := C) (by omega) with h | h | h
    · exact Or.inl (Or.inl h)
    · exact Or.inl (Or.inr h)
    · exact Or.inr h
  rcases bad (x := v1) with h | ⟨i, hi, rfl⟩
  · exact tj_xrd0 h (br_t rfl (tj_yrd0 h (br_f (by decide) ⟨rfl, tj_mk H hw hT⟩)))
  have hin : vp_in (nI i) 12 := vp_in_nI (by omega) (by omega)
  have hpi : 2 ^ i < 2 ^ 31 := tj_p31 (by omega)
  rw [tj_sh1 (show i < 31 by omega)]
  refine tj_xrd1 h12 hi (br_f (by decide) (tj_xtc h12 hw (fun c' hc' => ⟨hin, hin, fun c2 hc2 => ?_⟩)))
  rw [nI_clamp (by omega)] at hc2
  have hc2 : c2 = upd c' i (c' i - 4194304) := hc2
  obtain ⟨hf1, hf2⟩ := tj_force (x := -4194304) h12 hw hc' hi (by omega) (fun l1 l2 => by
    rw [Jvm.Kit.i32_sub] <;> rw [show (4194304 : Int32).toInt = 4194304 from by decide] <;> omega) hc2
  refine tj_xso H hf2 hT (fun r f' g' s' z' p' ho => ?_)
  have hY : ∀ {post : Int32 → Prop}, (∀ x y, tj_sr A B C T (2 ^ i) 0 w (2 ^ C) x y → wpY_weightOf post (nI N, nI C, nI T, a, b, w) x) → wpY_badRoad (fun r => (r = 0 → wpY_search (fun x => wpY_weightOf (fun y => post y) (nI N, nI C, nI T, a, b, w) x) (nI N, nI C, nI T, a, b, w) (nI T) (nI (2 ^ i)) 0) ∧ (¬ r = 0 → post (-2000))) (nI N, nI C, nI T, a, b, w) (nI i) :=
    fun hp => tj_yrd1 h12 hi (br_t rfl (tj_ysr (mu := 2 ^ i) (no := 0) H hw hT31 hpi (by decide) hp))
  have ag := fun x y (hs : tj_sr A B C T (2 ^ i) 0 w (2 ^ C) x y) => tj_agree_with h12 hw hi hf1 ho hs
  rcases ho with ⟨k1, k2⟩ | ⟨M, hM, k1, k2⟩
  · refine br_t (by rw [k1]; decide) (hY (fun x y hs => ?_))
    unfold wpY_weightOf
    rcases ag x y hs with ⟨M, hM, _, hr, _⟩ | ⟨hx, _⟩
    · rw [k1] at hr
      exact absurd (show (-1 : Int32) < 0 by decide) (by rw [hr]; exact nI_pos (by omega))
    · exact br_f (by rw [hx]; decide) ⟨rfl, tj_mk H hw hT⟩
  · subst k1
    refine br_f (nI_pos (by omega)) (tj_brI (tj_bit0 (by omega) (by omega)) (fun hb => hY (fun x y hs => ?_)) (fun hb => tj_xws h12 (by omega) (hY (fun x y hs => ?_))))
    · unfold wpY_weightOf
      rcases ag x y hs with ⟨M', hM', hb', hr, _⟩ | ⟨hx, _⟩
      · rw [← (nI_eq (by omega) (by omega)).mp hr, hb] at hb'
        exact absurd hb' (by decide)
      · exact br_f (by rw [hx]; decide) ⟨rfl, tj_mk H hw hT⟩
    · unfold wpY_weightOf
      rcases ag x y hs with ⟨M', hM', hb', hr, hx⟩ | ⟨_, hx | ⟨M', hM', hb', hr⟩⟩
      · rw [hx, ← (nI_eq (by omega) (by omega)).mp hr]
        exact br_t (nI_pos' (by omega)) (tj_yws h12 (by omega) ⟨rfl, tj_mk H hw hT⟩)
      · exact absurd (show (-1 : Int32) < 0 by decide) (by rw [← hx]; exact nI_pos (by omega))
      · rw [← (nI_eq (by omega) (by omega)).mp hr] at hb'
        exact absurd hb' hb
theorem i_vc_bestWithout {k : Nat} {u : SX} {v : SY} (I : i_Rel k u v) (hk : k + 4 ≤ 2049) (v1 : Int32) : wpX_bestWithout (fun r u' => wpY_bestWithout (fun r' => r' = r ∧ i_Rel (k + 4) u' v) v v1) u v1 := by
  obtain ⟨N, C, T, A, B, a, b, w, c, f, g, s, z, p, rfl, rfl, H, hw, hT⟩ := I
  have h7 : N ≤ 7 := H.2.1
  have h12 : C ≤ 12 := H.2.2.1
  have hT31 : T < 2 ^ 31 := Nat.lt_of_lt_of_le hT (tj_ple (by omega))
  have hp31 : 2 ^ C < 2 ^ 31 := tj_p31 (by omega)
  unfold wpX_bestWithout wpY_bestWithout
  dsimp only
  have bad : ∀ {x : Int32}, (x < 0 ∨ nI C ≤ x) ∨ ∃ j : Nat, j < C ∧ x = nI j := fun {x} => by
    rcases pk_ix x (n := C) (by omega) with h | h | h
    · exact Or.inl (Or.inl h)
    · exact Or.inl (Or.inr h)
    · exact Or.inr h
  rcases bad (x := v1) with h | ⟨i, hi, rfl⟩
  · exact tj_xrd0 h (br_t rfl (tj_yrd0 h (br_f (by decide) ⟨rfl, tj_mk H hw hT⟩)))
  have hin : vp_in (nI i) 12 := vp_in_nI (by omega) (by omega)
  have hpi : 2 ^ i < 2 ^ 31 := tj_p31 (by omega)
  rw [tj_sh1 (show i < 31 by omega)]
  refine tj_xrd1 h12 hi (br_f (by decide) (tj_xtc h12 hw (fun c' hc' => ⟨hin, hin, fun c2 hc2 => ?_⟩)))
  rw [nI_clamp (by omega)] at hc2
  have hc2 : c2 = upd c' i (c' i + 4194304) := hc2
  obtain ⟨hf1, hf2⟩ := tj_force (x := 4194304) h12 hw hc' hi (by omega) (fun l1 l2 => by
    rw [Jvm.Kit.i32_add] <;> rw [show (4194304 : Int32).toInt = 4194304 from by decide] <;> omega) hc2
  refine tj_xso H hf2 hT (fun r f' g' s' z' p' ho => ?_)
  have hY : ∀ {post : Int32 → Prop}, (∀ x y, tj_sr A B C T 0 (2 ^ i) w (2 ^ C) x y → wpY_weightOf post (nI N, nI C, nI T, a, b, w) x) → wpY_badRoad (fun r => (r = 0 → wpY_search (fun x => wpY_weightOf (fun y => post y) (nI N, nI C, nI T, a, b, w) x) (nI N, nI C, nI T, a, b, w) (nI T) 0 (nI (2 ^ i))) ∧ (¬ r = 0 → post (-2000))) (nI N, nI C, nI T, a, b, w) (nI i) :=
    fun hp => tj_yrd1 h12 hi (br_t rfl (tj_ysr (mu := 0) (no := 2 ^ i) H hw hT31 (by decide) hpi hp))
  have ag := fun x y (hs : tj_sr A B C T 0 (2 ^ i) w (2 ^ C) x y) => tj_agree_without h12 hw hi hf1 ho hs
  rcases ho with ⟨k1, k2⟩ | ⟨M, hM, k1, k2⟩
  · refine br_t (by rw [k1]; decide) (hY (fun x y hs => ?_))
    unfold wpY_weightOf
    rcases ag x y hs with ⟨M, hM, _, hr, _⟩ | ⟨hx, _⟩
    · rw [k1] at hr
      exact absurd (show (-1 : Int32) < 0 by decide) (by rw [hr]; exact nI_pos (by omega))
    · exact br_f (by rw [hx]; decide) ⟨rfl, tj_mk H hw hT⟩
  · subst k1
    refine br_f (nI_pos (by omega)) (tj_brI (tj_bit1 (by omega) (by omega)) (fun hb => hY (fun x y hs => ?_)) (fun hb => tj_xws h12 (by omega) (hY (fun x y hs => ?_))))
    · unfold wpY_weightOf
      rcases ag x y hs with ⟨M', hM', hb', hr, _⟩ | ⟨hx, _⟩
      · rw [← (nI_eq (by omega) (by omega)).mp hr, hb] at hb'
        exact absurd hb' (by decide)
      · exact br_f (by rw [hx]; decide) ⟨rfl, tj_mk H hw hT⟩
    · unfold wpY_weightOf
      rcases ag x y hs with ⟨M', hM', hb', hr, hx⟩ | ⟨_, hx | ⟨M', hM', hb', hr⟩⟩
      · rw [hx, ← (nI_eq (by omega) (by omega)).mp hr]
        exact br_t (nI_pos' (by omega)) (tj_yws h12 (by omega) ⟨rfl, tj_mk H hw hT⟩)
      · exact absurd (show (-1 : Int32) < 0 by decide) (by rw [← hx]; exact nI_pos (by omega))
      · rw [← (nI_eq (by omega) (by omega)).mp hr] at hb'
        exact absurd hb' hb
theorem i_vc_postman {k : Nat} {u : SX} {v : SY} (I : i_Rel k u v) (hk : k + 4 ≤ 2049) : wpX_postman (fun r u' => wpY_postman (fun r' => r' = r ∧ i_Rel (k + 4) u' v) v) u := by
  obtain ⟨N, C, T, A, B, a, b, w, c, f, g, s, z, p, rfl, rfl, H, hw, hT⟩ := I
  have h7 : N ≤ 7 := H.2.1
  have h12 : C ≤ 12 := H.2.2.1
  have hp31 : 2 ^ C < 2 ^ 31 := tj_p31 (by omega)
  have h0p : 0 < 2 ^ C := Nat.two_pow_pos C
  have hol : tj_od (tj_d A B) C (2 ^ C - 1) < 2 ^ N := tj_od_lt (fun i hi => tj_d_lt (tj_hN H i hi).1 (tj_hN H i hi).2)
  have hol31 : tj_od (tj_d A B) C (2 ^ C - 1) < 2 ^ 31 := Nat.lt_of_lt_of_le hol (tj_ple (by omega))
  have e0 : ∀ i, i < 0 → 0 ≤ (w i).toInt := fun i hi => absurd hi (by omega)
  have hz : nI C = 0 ↔ C = 0 := by
    rw [← nI_0, nI_eq (by omega) (by decide)]
  have e1 : ((1 : Int32) <<< (nI C &&& 31)) - 1 = nI (2 ^ C - 1) := by
    rw [tj_sh1 (by omega)]
    show nI (2 ^ C) - nI 1 = _
    rw [pk_sub (by omega)]
  unfold wpX_postman
  dsimp only
  refine ⟨C + 1, tj_xpm2 h12 (fun hn => ?_) (fun hall hC => ?_) (fun hall hC => ?_) C 0 (by omega) e0⟩
  · exact ⟨C + 1, tj_ypm2 h12 (fun _ => ⟨rfl, tj_mk H hw hT⟩) (fun h => absurd h hn) C 0 (by omega) e0⟩
  · refine ⟨C + 1, tj_ypm2 h12 (fun h => absurd hall h) (fun _ => ?_) C 0 (by omega) e0⟩
    unfold wY_postman_33
    exact br_t (hz.mpr hC) ⟨rfl, tj_mk H hw hT⟩
  · refine tj_xfp H (fun p' hl => ⟨(C - 1) + 1, tj_xpm42 H hw (by omega) hl (fun hn => ?_) (fun hwh c' f' g' s' z' p2 M hc' hM ho => ?_) (fun c' hc' => tj_cs_ca h12 hw hc') (C - 1) 1 (by omega) (fun i hi => ?_)⟩)
    · refine ⟨C + 1, tj_ypm2 h12 (fun h => absurd hall h) (fun _ => ?_) C 0 (by omega) e0⟩
      unfold wY_postman_33
      exact br_f (fun y => hC (hz.mp y)) (tj_ywh H (by omega) (fun y => absurd y hn) (fun _ => br_t rfl ⟨rfl, tj_mk H hw hT⟩))
    · refine ⟨C + 1, tj_ypm2 h12 (fun h => absurd hall h) (fun _ => ?_) C 0 (by omega) e0⟩
      unfold wY_postman_33
      rw [e1]
      refine br_f (fun y => hC (hz.mp y)) (tj_ywh H (by omega) (fun _ => br_f (by decide) (tj_yodd H (by omega) (tj_ybest H hw hol31 hc' ho (fun hr => ?_) (fun M' hM' hr => ?_)))) (fun y => absurd hwh y))
      · exact absurd (show (-1 : Int32) < 0 by decide) (by rw [← hr]; exact nI_pos (by omega))
      · rw [(nI_eq (by omega) (by omega)).mp hr]
        exact ⟨rfl, tj_mk H hw hT⟩
    · rw [show i = 0 by omega]
end
