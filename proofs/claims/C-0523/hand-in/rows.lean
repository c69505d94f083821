section
theorem pk_us {f : Nat → Int32} {k : Nat} {x : Int32} : upd f k x k = x := if_pos rfl
theorem pk_un {f : Nat → Int32} {k j : Nat} {x : Int32} (h : j ≠ k) : upd f k x j = f j := if_neg h
theorem pk_sub {a b : Nat} (h : b ≤ a) : nI a - nI b = nI (a - b) := by
  obtain ⟨c, rfl⟩ : ∃ c, a = c + b := ⟨a - b, by omega⟩
  rw [← nI_add, Int32.add_sub_cancel, Nat.add_sub_cancel]
theorem pk_m1 (n : Nat) : nI (n + 1) + (-1) = nI n := by
  rw [← nI_1, Int32.add_assoc, show (1 : Int32) + (-1) = 0 from rfl, Int32.add_zero]
theorem pk_mul (a b : Nat) : nI a * nI b = nI (a * b) := (Int32.ofNat_mul a b).symm
theorem pk_le {x y : Int32} {A B : Prop} (a b : Nat) (f : a ≤ b → A) (g : b < a → B) (hx : x = nI a := by rfl) (hy : y = nI b := by rfl) (ha : a < 2 ^ 31 := by omega) (hb : b < 2 ^ 31 := by omega) : (x ≤ y → A) ∧ (¬ x ≤ y → B) := by
  subst hx hy
  rw [nI_leI ha hb]
  exact ⟨f, fun z => g (by omega)⟩
theorem pk_lt {x y : Int32} {A B : Prop} (a b : Nat) (f : a < b → A) (g : b ≤ a → B) (hx : x = nI a := by rfl) (hy : y = nI b := by rfl) (ha : a < 2 ^ 31 := by omega) (hb : b < 2 ^ 31 := by omega) : (x < y → A) ∧ (¬ x < y → B) := by
  subst hx hy
  rw [nI_ltI ha hb]
  exact ⟨f, fun z => g (by omega)⟩
theorem pk_eq {x y : Int32} {A B : Prop} (a b : Nat) (f : a = b → A) (g : a ≠ b → B) (hx : x = nI a := by rfl) (hy : y = nI b := by rfl) (ha : a < 2 ^ 31 := by omega) (hb : b < 2 ^ 31 := by omega) : (x = y → A) ∧ (¬ x = y → B) := by
  subst hx hy
  rw [nI_eq ha hb]
  exact ⟨f, g⟩
theorem pk_in {x : Int32} (n N : Nat) (h : n < N) (hx : x = nI n := by rfl) (hN : N < 2 ^ 31 := by omega) : vp_in x N := by
  subst hx
  exact vp_in_nI h hN
theorem pk_cl {x : Int32} (n : Nat) (hx : x = nI n := by rfl) (h : n < 2 ^ 31 := by omega) : x.toNatClampNeg = n := by
  subst hx
  exact nI_clamp h
theorem pk_tn {n : Nat} (h : n < 2 ^ 32) : (nI n).toBitVec.toNat = n := Nat.mod_eq_of_lt h
theorem pk_shr (a s : Int32) (k : Nat) (hs : (s.toBitVec.smod 32).toNat = k) : (a >>> s).toInt = a.toInt >>> k := by
  show (a.toBitVec.sshiftRight (s.toBitVec.smod 32).toNat).toInt = _
  rw [hs, BitVec.toInt_sshiftRight]
  rfl
theorem pk_shrN {n : Nat} (h : n < 2 ^ 31) (s : Int32) (k : Nat) (hs : (s.toBitVec.smod 32).toNat = k) : nI n >>> s = nI (n / 2 ^ k) := by
  apply Int32.toInt_inj.mp
  have h2 : n / 2 ^ k ≤ n := Nat.div_le_self _ _
  rw [pk_shr _ _ k hs, nI_toInt h, nI_toInt (by omega), Int.shiftRight_eq_div_pow]
  rfl
def bt (x : Int32) (i : Nat) : Bool := x.toBitVec.getLsbD i
theorem b_ext {x y : Int32} (h : ∀ i, i < 32 → bt x i = bt y i) : x = y := Int32.toBitVec_inj.mp (BitVec.eq_of_getLsbD_eq (fun i hi => h i hi))
theorem b_or (x y : Int32) (i : Nat) : bt (x ||| y) i = (bt x i || bt y i) := by unfold bt; rw [Int32.toBitVec_or, BitVec.getLsbD_or]
theorem b_and (x y : Int32) (i : Nat) : bt (x &&& y) i = (bt x i && bt y i) := by unfold bt; rw [Int32.toBitVec_and, BitVec.getLsbD_and]
theorem b_xor (x y : Int32) (i : Nat) : bt (x ^^^ y) i = (bt x i ^^ bt y i) := by unfold bt; rw [Int32.toBitVec_xor, BitVec.getLsbD_xor]
theorem b_m1 : ∀ i, i < 32 → bt (-1) i = true := by decide +kernel
theorem s_l : ∀ n, n < 32 → ((nI n &&& 31).toBitVec.smod 32).toNat = n := by decide +kernel
theorem nx_and (a b : Nat) : nI a &&& nI b = nI (a &&& b) := by
  apply Int32.toBitVec_inj.1
  show BitVec.ofNat 32 a &&& BitVec.ofNat 32 b = BitVec.ofNat 32 (a &&& b)
  apply BitVec.eq_of_getLsbD_eq
  intro i hi
  simp [hi]
theorem nx_xor (a b : Nat) : nI a ^^^ nI b = nI (a ^^^ b) := by
  apply Int32.toBitVec_inj.1
  show BitVec.ofNat 32 a ^^^ BitVec.ofNat 32 b = BitVec.ofNat 32 (a ^^^ b)
  apply BitVec.eq_of_getLsbD_eq
  intro i hi
  simp [hi]
theorem nx_cnt : ∀ j : Fin 32, (UInt32.ofNat j.val &&& Int32.toUInt32 31).toNat % 32 = j.val := by decide +kernel
theorem nx_ush {k j : Nat} (hk : k < 65536) (hj : j < 32) : ((nI k).toUInt32 >>> ((nI j).toUInt32 &&& Int32.toUInt32 31)).toInt32 = nI (k >>> j) := by
  have hs : k >>> j ≤ k := by
    rw [Nat.shiftRight_eq_div_pow]
    exact Nat.div_le_self _ _
  have e2 : UInt32.ofNat k >>> (UInt32.ofNat j &&& Int32.toUInt32 31) = UInt32.ofNat (k >>> j) := by
    apply UInt32.toNat_inj.1
    have h1 : (UInt32.ofNat k).toNat = k := Nat.mod_eq_of_lt (by omega)
    have h2 : (UInt32.ofNat (k >>> j)).toNat = k >>> j := Nat.mod_eq_of_lt (by omega)
    rw [UInt32.toNat_shiftRight, nx_cnt ⟨j, hj⟩, h1, h2]
  show (UInt32.ofNat k >>> (UInt32.ofNat j &&& Int32.toUInt32 31)).toInt32 = _
  rw [e2]
  rfl
theorem nx_bit {k j : Nat} (hk : k < 65536) (hj : j < 16) : (((nI k).toUInt32 >>> ((nI j).toUInt32 &&& Int32.toUInt32 31)).toInt32 &&& 1) = 0 ↔ k.testBit j = false := by
  rw [nx_ush hk (by omega)]
  show nI (k >>> j) &&& nI 1 = 0 ↔ _
  rw [nx_and, Nat.and_one_is_mod, ← nI_0, nI_eq (by omega) (by omega), Nat.testBit_eq_decide_div_mod_eq, Nat.shiftRight_eq_div_pow, decide_eq_false_iff_not]
  generalize k / 2 ^ j = z
  omega
end
section
/-! ===== numbers and bits of this claim ===== -/
theorem sn_bt (n : Nat) {i : Nat} (hi : i < 32) : bt (nI n) i = n.testBit i := by
  show (BitVec.ofNat 32 n).getLsbD i = _
  rw [BitVec.getLsbD_ofNat, decide_eq_true hi, Bool.true_and]
theorem sn_or (a b : Nat) : nI a ||| nI b = nI (a ||| b) := b_ext (fun i hi => by
  rw [b_or, sn_bt _ hi, sn_bt _ hi, sn_bt _ hi, Nat.testBit_or])
theorem sn_andn (a b : Nat) : nI a &&& (nI b ^^^ (-1)) = nI (a &&& (a ^^^ b)) := b_ext (fun i hi => by
  rw [b_and, b_xor, b_m1 i hi, sn_bt _ hi, sn_bt _ hi, sn_bt _ hi, Nat.testBit_and, Nat.testBit_xor]
  cases a.testBit i <;> cases b.testBit i <;> rfl)
theorem sn_shl31 : ∀ l, l < 31 → (1 : Int32) <<< (nI l &&& 31) = nI (2 ^ l) := by decide +kernel
theorem sn_shl {l : Nat} (hl : l < 31) : (1 : Int32) <<< (nI l &&& 31) = nI (2 ^ l) := sn_shl31 l hl
theorem sn_md (C k : Nat) : C / 2 ^ k % 2 = if C.testBit k = true then 1 else 0 := by
  rw [Nat.testBit_eq_decide_div_mod_eq]
  generalize C / 2 ^ k = z
  by_cases h : z % 2 = 1
  · rw [decide_eq_true h, if_pos rfl]; exact h
  · rw [decide_eq_false h, if_neg (by decide)]; omega
theorem sn_sbit {C k : Nat} (hC : C < 2 ^ 31) (hk : k < 31) : ((nI C >>> (nI k &&& 31)) &&& 1) = nI (if C.testBit k = true then 1 else 0) := by
  rw [pk_shrN hC _ k (s_l k (by omega))]
  show nI (C / 2 ^ k) &&& nI 1 = _
  rw [nx_and, Nat.and_one_is_mod, sn_md]
theorem sn_ubit {C k : Nat} (hC : C < 65536) (hk : k < 16) : (((nI C).toUInt32 >>> ((nI k).toUInt32 &&& Int32.toUInt32 31)).toInt32 &&& 1) = nI (if C.testBit k = true then 1 else 0) := by
  rw [nx_ush hC (by omega)]
  show nI (C >>> k) &&& nI 1 = _
  rw [nx_and, Nat.and_one_is_mod, Nat.shiftRight_eq_div_pow, sn_md]
theorem sn_sb1 {C k : Nat} (hC : C < 2 ^ 31) (hk : k < 31) : ((nI C >>> (nI k &&& 31)) &&& 1) = 1 ↔ C.testBit k = true := by
  rw [sn_sbit hC hk]
  cases C.testBit k <;> decide
theorem sn_ub0 {C k : Nat} (hC : C < 65536) (hk : k < 16) : (((nI C).toUInt32 >>> ((nI k).toUInt32 &&& Int32.toUInt32 31)).toInt32 &&& 1) = 0 ↔ C.testBit k = false := nx_bit hC hk
def sn_lo (S : Nat) : Nat := if S % 2 = 1 then 0 else if S / 2 % 2 = 1 then 1 else if S / 4 % 2 = 1 then 2 else if S / 8 % 2 = 1 then 3 else if S / 16 % 2 = 1 then 4 else if S / 32 % 2 = 1 then 5 else 6
theorem sn_low : ∀ S, S < 128 → S ≠ 0 → (sn_lo S < 7 ∧ S.testBit (sn_lo S) = true ∧ nI S &&& (-(nI S)) = nI (2 ^ sn_lo S)) := by decide +kernel
theorem sn_low0 : nI 0 &&& (-(nI 0)) = nI 0 := by decide
theorem sn_ix (a b : Nat) : (7 : Int32) * nI a + nI b = nI (7 * a + b) := by
  show nI 7 * nI a + nI b = _
  rw [pk_mul, nI_add]
theorem sn_bf {b : Bool} (h : ¬ b = true) : b = false := by cases b <;> first | rfl | exact absurd rfl h
theorem sn_bn {b : Bool} (h : b = false) : ¬ b = true := by rw [h]; decide
/-- a set of bits out of a test, below n -/
theorem sn_sub0 {A S : Nat} (h : A &&& S = A) {i : Nat} (hi : A.testBit i = true) : S.testBit i = true := by
  rw [← h, Nat.testBit_and, Bool.and_eq_true] at hi
  exact hi.2
theorem sn_subI {A S : Nat} (h : ∀ i, A.testBit i = true → S.testBit i = true) : A &&& S = A := by
  apply Nat.eq_of_testBit_eq
  intro i
  rw [Nat.testBit_and]
  cases e : A.testBit i
  · rfl
  · rw [h i e]; rfl
theorem sn_and0 {A S : Nat} (h : A &&& S = 0) {i : Nat} (hi : A.testBit i = true) : S.testBit i = false := by
  have g : (A &&& S).testBit i = false := by rw [h]; exact Nat.zero_testBit i
  rw [Nat.testBit_and, hi] at g
  exact g
theorem sn_and0I {A S : Nat} (h : ∀ i, A.testBit i = true → S.testBit i = false) : A &&& S = 0 := by
  apply Nat.eq_of_testBit_eq
  intro i
  rw [Nat.testBit_and, Nat.zero_testBit]
  cases e : A.testBit i
  · rfl
  · rw [h i e]; rfl
/-- half and the rest of a set -/
theorem sn_hf {A S : Nat} : A &&& (A ^^^ S) = 0 ↔ A &&& S = A := by
  constructor
  · intro h
    apply sn_subI
    intro i hi
    have g := sn_and0 h hi
    rw [Nat.testBit_xor, hi] at g
    revert g
    cases S.testBit i <;> decide
  · intro h
    apply sn_and0I
    intro i hi
    rw [Nat.testBit_xor, hi, sn_sub0 h hi]; rfl
theorem sn_hr {A S : Nat} (h : A &&& S = A) : S &&& (S ^^^ A) = S ^^^ A := by
  apply Nat.eq_of_testBit_eq
  intro i
  rw [Nat.testBit_and, Nat.testBit_xor]
  cases e : A.testBit i
  · cases S.testBit i <;> rfl
  · rw [sn_sub0 h e]; rfl
theorem sn_hx {A S : Nat} (h : A &&& S = A) : A &&& (S ^^^ A) = 0 ∧ A ||| (S ^^^ A) = S := by
  constructor
  · apply sn_and0I
    intro i hi
    rw [Nat.testBit_xor, hi, sn_sub0 h hi]; rfl
  · apply Nat.eq_of_testBit_eq
    intro i
    rw [Nat.testBit_or, Nat.testBit_xor]
    cases e : A.testBit i
    · cases S.testBit i <;> rfl
    · rw [sn_sub0 h e]; rfl
theorem sn_hl {A S : Nat} (h : A &&& S = A) (h0 : A ≠ 0) (h1 : A ≠ S) : A < S ∧ S ^^^ A < S ∧ S ^^^ A ≠ 0 := by
  have a : A ≤ S := by rw [← h]; exact Nat.and_le_right
  have b : S ^^^ A ≤ S := by rw [← sn_hr h]; exact Nat.and_le_left
  obtain ⟨x, y⟩ := sn_hx h
  have c : S ^^^ A ≠ S := by
    intro e
    rw [e, h] at x
    exact h0 x
  have d : S ^^^ A ≠ 0 := by
    intro e
    rw [e, Nat.or_zero] at y
    exact h1 y
  omega
theorem sn_tlt {C n i : Nat} (h : C < 2 ^ n) (hi : n ≤ i) : C.testBit i = false :=
  Nat.testBit_lt_two_pow (Nat.lt_of_lt_of_le h (Nat.pow_le_pow_right (by decide) hi))
theorem sn_t10 {C i : Nat} (h : C < 1024) (hi : C.testBit i = true) : i < 10 := by
  rcases Nat.lt_or_ge i 10 with z | z
  · exact z
  · rw [sn_tlt (n := 10) h z] at hi; exact absurd hi (by decide)
theorem sn_or10 {C D : Nat} (h : C < 1024) (g : D < 1024) : C ||| D < 1024 := Nat.or_lt_two_pow (n := 10) h g
theorem sn_pw10 {k : Nat} (h : k < 10) : 2 ^ k < 1024 := Nat.pow_lt_pow_right (by decide) h
end
section
/-! ===== the network in plain numbers: line k joins ea k and eb k; a choice of lines is a set of bits ===== -/
section
variable {ea eb c d e w : Nat → Nat} {C D E n k p q r : Nat}
def sn_Z (ea eb : Nat → Nat) (C : Nat) (Z : Nat → Prop) : Prop := ∀ k, k < 10 → C.testBit k = true → (Z (ea k) ↔ Z (eb k))
/-- q is reached from p over lines of the choice: it lies in every closed set that holds p -/
def sn_R (ea eb : Nat → Nat) (C p q : Nat) : Prop := ∀ Z : Nat → Prop, sn_Z ea eb C Z → Z p → Z q
/-- the choice joins all points of S -/
def sn_J (ea eb : Nat → Nat) (C S : Nat) : Prop := ∀ p q, S.testBit p = true → S.testBit q = true → sn_R ea eb C p q
def sn_sub (C D : Nat) : Prop := ∀ k, k < 10 → C.testBit k = true → D.testBit k = true
theorem sn_R_rf : sn_R ea eb C p p := fun _ _ h => h
theorem sn_R_tr (h : sn_R ea eb C p q) (g : sn_R ea eb C q r) : sn_R ea eb C p r := fun Z z h1 => g Z z (h Z z h1)
theorem sn_R_sy (h : sn_R ea eb C p q) : sn_R ea eb C q p := by
  intro Z z hq
  have g := h (fun x => ¬ Z x) (fun k hk hb => not_congr (z k hk hb))
  exact Classical.byContradiction (fun hp => g hp hq)
theorem sn_R_mo (h : sn_sub C D) (g : sn_R ea eb C p q) : sn_R ea eb D p q := fun Z z hp => g Z (fun k hk hb => z k hk (h k hk hb)) hp
theorem sn_R_ed (hk : k < 10) (hb : C.testBit k = true) : sn_R ea eb C (ea k) (eb k) := fun _ z h => (z k hk hb).mp h
theorem sn_J_mo {S : Nat} (h : sn_sub C D) (g : sn_J ea eb C S) : sn_J ea eb D S := fun p q hp hq => sn_R_mo h (g p q hp hq)
theorem sn_sub_l : sn_sub C (C ||| D) := fun k _ h => by rw [Nat.testBit_or, h]; rfl
theorem sn_sub_r : sn_sub D (C ||| D) := fun k _ h => by rw [Nat.testBit_or, h]; cases C.testBit k <;> rfl
/-! ===== what a choice costs ===== -/
def sn_t (c : Nat → Nat) (C k : Nat) : Nat := if C.testBit k = true then c k else 0
def sn_c (c : Nat → Nat) (C : Nat) : Nat → Nat
  | 0 => 0
  | n + 1 => sn_c c C n + sn_t c C n
theorem sn_t1 (h : C.testBit k = true) : sn_t c C k = c k := if_pos h
theorem sn_t0 (h : C.testBit k = false) : sn_t c C k = 0 := if_neg (sn_bn h)
theorem sn_c_le : ∀ n, (∀ k, k < n → sn_t c C k ≤ sn_t d D k + sn_t e E k) → sn_c c C n ≤ sn_c d D n + sn_c e E n
  | 0, _ => Nat.le_refl _
  | n + 1, h => by
    have a := sn_c_le n (fun k hk => h k (by omega))
    have b := h n (by omega)
    simp only [sn_c]
    omega
theorem sn_c_eq : ∀ n, (∀ k, k < n → sn_t c C k = sn_t d D k + sn_t e E k) → sn_c c C n = sn_c d D n + sn_c e E n
  | 0, _ => rfl
  | n + 1, h => by
    have a := sn_c_eq n (fun k hk => h k (by omega))
    have b := h n (by omega)
    simp only [sn_c]
    omega
theorem sn_c_z : ∀ n, (∀ k, k < n → sn_t c C k = 0) → sn_c c C n = 0
  | 0, _ => rfl
  | n + 1, h => by
    have a := sn_c_z n (fun k hk => h k (by omega))
    have b := h n (by omega)
    simp only [sn_c]
    omega
theorem sn_c_0 (n : Nat) : sn_c c 0 n = 0 := sn_c_z n (fun k _ => sn_t0 (Nat.zero_testBit k))
theorem sn_c_bit : ∀ n, k < n → C.testBit k = true → c k ≤ sn_c c C n
  | 0, h, _ => absurd h (Nat.not_lt_zero k)
  | n + 1, h, g => by
    simp only [sn_c]
    rcases Nat.lt_or_ge k n with z | z
    · have := sn_c_bit n z g
      omega
    · obtain rfl : k = n := by omega
      rw [sn_t1 g]
      omega
theorem sn_c_pow : ∀ n, k < n → sn_c c (2 ^ k) n = c k
  | 0, h => absurd h (Nat.not_lt_zero k)
  | n + 1, h => by
    simp only [sn_c]
    rcases Nat.lt_or_ge k n with z | z
    · rw [sn_c_pow n z, sn_t0 (Nat.testBit_two_pow_of_ne (by omega)), Nat.add_zero]
    · obtain rfl : k = n := by omega
      rw [sn_t1 Nat.testBit_two_pow_self, sn_c_z k (fun j hj => sn_t0 (Nat.testBit_two_pow_of_ne (by omega)))]
      omega
theorem sn_c_ub {b : Nat} : ∀ n, (∀ k, k < n → c k ≤ b) → sn_c c C n ≤ b * n
  | 0, _ => Nat.zero_le _
  | n + 1, h => by
    have a := sn_c_ub n (fun k hk => h k (by omega))
    have g := h n (by omega)
    have g2 : sn_t c C n ≤ b := by unfold sn_t; split <;> omega
    simp only [sn_c]
    rw [Nat.mul_succ]
    omega
theorem sn_c_or : sn_c c (C ||| D) n ≤ sn_c c C n + sn_c c D n := by
  refine sn_c_le n (fun k _ => ?_)
  unfold sn_t
  rw [Nat.testBit_or]
  cases C.testBit k <;> cases D.testBit k <;> simp
theorem sn_c_mo (h : sn_sub C D) : sn_c c C 10 ≤ sn_c c D 10 := by
  have g := sn_c_le (c := c) (C := C) (d := c) (D := D) (e := c) (E := 0) 10 (fun k hk => by
    cases z : C.testBit k
    · rw [sn_t0 z]; omega
    · rw [sn_t1 z, sn_t1 (h k hk z)]; omega)
  rw [sn_c_0] at g
  exact g
theorem sn_c_add (h : C.testBit k = false) (hk : k < n) : sn_c c (C ||| 2 ^ k) n = sn_c c C n + c k := by
  rw [← sn_c_pow (c := c) n hk]
  refine sn_c_eq n (fun j _ => ?_)
  unfold sn_t
  rw [Nat.testBit_or]
  by_cases z : k = j
  · subst z
    rw [h, Nat.testBit_two_pow_self]
    simp
  · rw [Nat.testBit_two_pow_of_ne z]
    simp
end
/-! ===== sums over the points ===== -/
section
variable {g f : Nat → Nat} {n u : Nat}
def sn_s (g : Nat → Nat) : Nat → Nat
  | 0 => 0
  | n + 1 => sn_s g n + g n
theorem sn_s_le : ∀ n, (∀ u, u < n → g u ≤ f u) → sn_s g n ≤ sn_s f n
  | 0, _ => Nat.le_refl _
  | n + 1, h => by
    have a := sn_s_le n (fun k hk => h k (by omega))
    have b := h n (by omega)
    simp only [sn_s]
    omega
theorem sn_s_0 : ∀ n, (∀ u, u < n → g u = 0) → sn_s g n = 0
  | 0, _ => rfl
  | n + 1, h => by
    have a := sn_s_0 n (fun k hk => h k (by omega))
    have b := h n (by omega)
    simp only [sn_s]
    omega
theorem sn_s_cg : ∀ n, (∀ u, u < n → g u = f u) → sn_s g n = sn_s f n
  | 0, _ => rfl
  | n + 1, h => by
    have a := sn_s_cg n (fun k hk => h k (by omega))
    have b := h n (by omega)
    simp only [sn_s]
    omega
theorem sn_s_at : ∀ n, u < n → sn_s g n = sn_s (fun x => if x = u then 0 else g x) n + g u
  | 0, h => absurd h (Nat.not_lt_zero u)
  | n + 1, h => by
    simp only [sn_s]
    rcases Nat.lt_or_ge u n with z | z
    · have := sn_s_at n z
      rw [if_neg (show ¬ n = u by omega)]
      omega
    · obtain rfl : u = n := by omega
      rw [if_pos rfl, sn_s_cg (f := g) u (fun x hx => if_neg (show ¬ x = u by omega))]
      omega
theorem sn_s_one (h : u < n) : g u ≤ sn_s g n := by rw [sn_s_at n h]; omega
end
/-! ===== terminal k hangs at the point h k: the set of those that hang at u ===== -/
def sn_m (h : Nat → Nat) (u : Nat) : Nat → Nat
  | 0 => 0
  | n + 1 => sn_m h u n ||| (if h n = u then 2 ^ n else 0)
theorem sn_m_tb (h : Nat → Nat) (u : Nat) : ∀ n k, (sn_m h u n).testBit k = (decide (k < n) && decide (h k = u)) := by
  intro n
  induction n with
  | zero => intro k; rw [sn_m, Nat.zero_testBit, decide_eq_false (Nat.not_lt_zero k)]; rfl
  | succ n ih =>
    intro k
    rw [sn_m, Nat.testBit_or, ih]
    by_cases z : n = k
    · subst z
      rw [decide_eq_false (Nat.lt_irrefl n), decide_eq_true (Nat.lt_succ_self n)]
      by_cases y : h n = u
      · rw [if_pos y, Nat.testBit_two_pow_self, decide_eq_true y]; rfl
      · rw [if_neg y, Nat.zero_testBit, decide_eq_false y]; rfl
    · have a : (if h n = u then 2 ^ n else 0).testBit k = false := by
        by_cases y : h n = u
        · rw [if_pos y]; exact Nat.testBit_two_pow_of_ne z
        · rw [if_neg y]; exact Nat.zero_testBit k
      have b : decide (k < n + 1) = decide (k < n) := by
        by_cases y : k < n
        · rw [decide_eq_true y, decide_eq_true (by omega)]
        · rw [decide_eq_false y, decide_eq_false (by omega)]
      rw [a, b, Bool.or_false]
theorem sn_m_lt (h : Nat → Nat) (u n : Nat) : sn_m h u n < 2 ^ n := by
  apply Nat.lt_pow_two_of_testBit
  intro i hi
  rw [sn_m_tb, decide_eq_false (by omega)]
  rfl
end
section
/-! ===== no choice that joins costs less than the table of parts says ===== -/
section
variable {ea eb c w : Nat → Nat} {f : Nat → Nat → Nat} {m p C : Nat}
/-- what the table f (of a set of terminals and a point) keeps; terminal k lies at w k -/
def sn_T (ea eb c w : Nat → Nat) (f : Nat → Nat → Nat) (m : Nat) : Prop :=
  (∀ u, f 0 u = 0) ∧
  (∀ A B u, A &&& B = 0 → A ||| B < 2 ^ m → u < 7 → f (A ||| B) u ≤ f A u + f B u) ∧
  (∀ A k, A < 2 ^ m → k < 10 → f A (ea k) ≤ f A (eb k) + c k ∧ f A (eb k) ≤ f A (ea k) + c k) ∧
  (∀ k, k < m → f (2 ^ k) (w k) = 0)
def sn_P (c : Nat → Nat) (f : Nat → Nat → Nat) (m p : Nat) (D : Nat → Bool) (T : Nat) : Prop :=
  ∀ h : Nat → Nat, (∀ k, k < m → D (h k) = true) → f (2 ^ m - 1) p ≤ sn_c c T 10 + sn_s (fun u => f (sn_m h u m) u) 7
theorem sn_P0 (hp : p < 7) : sn_P c f m p (fun u => decide (u = p)) 0 := by
  intro h hh
  have e : sn_m h p m = 2 ^ m - 1 := by
    apply Nat.eq_of_testBit_eq
    intro i
    rw [sn_m_tb, Nat.testBit_two_pow_sub_one]
    by_cases z : i < m
    · have := of_decide_eq_true (hh i z)
      rw [decide_eq_true z, decide_eq_true this]; rfl
    · rw [decide_eq_false z]; rfl
  have g := sn_s_one (g := fun u => f (sn_m h u m) u) hp
  have g2 : f (sn_m h p m) p ≤ sn_s (fun u => f (sn_m h u m) u) 7 := g
  rw [e] at g2
  omega
theorem sn_w0 (hT : sn_T ea eb c w f m) {u : Nat} (hu : u < 7) : ∀ n, n ≤ m → f (sn_m w u n) u = 0 := by
  obtain ⟨t0, t1, _, t3⟩ := hT
  intro n
  induction n with
  | zero => intro _; exact t0 u
  | succ n ih =>
    intro hn
    have a := ih (by omega)
    rw [sn_m]
    by_cases z : w n = u
    · rw [if_pos z]
      have hd : sn_m w u n &&& 2 ^ n = 0 := by
        apply sn_and0I
        intro i hi
        apply Nat.testBit_two_pow_of_ne
        intro e
        subst e
        rw [sn_m_tb, decide_eq_false (Nat.lt_irrefl n)] at hi
        exact absurd hi (by simp)
      have hl : sn_m w u n ||| 2 ^ n < 2 ^ m := by
        have := Nat.lt_of_lt_of_le (sn_m_lt w u (n + 1)) (Nat.pow_le_pow_right (by decide : 0 < 2) hn)
        rw [sn_m, if_pos z] at this
        exact this
      have b := t1 _ _ u hd hl hu
      have b2 := t3 n (by omega)
      rw [z] at b2
      omega
    · rw [if_neg z, Nat.or_zero]
      exact a
theorem sn_Pst (hT : sn_T ea eb c w f m) {a b k T : Nat} {D : Nat → Bool} (hk : k < 10) (hab : (a = ea k ∧ b = eb k) ∨ (a = eb k ∧ b = ea k))
    (ha : a < 7) (hb : b < 7) (da : D a = true) (db : D b = false) (ht : T.testBit k = false) (hP : sn_P c f m p D T) :
    sn_P c f m p (fun u => D u || decide (u = b)) (T ||| 2 ^ k) := by
  obtain ⟨t0, t1, t2, _⟩ := hT
  intro h hh
  have hne : a ≠ b := by
    intro e
    rw [e, db] at da
    exact absurd da (by decide)
  have P1 := hP (fun j => if h j = b then a else h j) (fun j hj => by
    by_cases z : h j = b
    · show D (if h j = b then a else h j) = true
      rw [if_pos z]; exact da
    · show D (if h j = b then a else h j) = true
      rw [if_neg z]
      have y := hh j hj
      try dsimp only at y
      rw [decide_eq_false z, Bool.or_false] at y
      exact y)
  have e1 : sn_m (fun j => if h j = b then a else h j) b m = 0 := by
    apply Nat.eq_of_testBit_eq
    intro i
    rw [sn_m_tb, Nat.zero_testBit]
    have : ¬ (if h i = b then a else h i) = b := by
      by_cases z : h i = b
      · rw [if_pos z]; exact hne
      · rw [if_neg z]; exact z
    rw [decide_eq_false this, Bool.and_false]
  have e2 : sn_m (fun j => if h j = b then a else h j) a m = sn_m h a m ||| sn_m h b m := by
    apply Nat.eq_of_testBit_eq
    intro i
    rw [Nat.testBit_or, sn_m_tb, sn_m_tb, sn_m_tb]
    try dsimp only
    by_cases z : h i = b
    · rw [if_pos z, decide_eq_true rfl, decide_eq_true z, decide_eq_false (show ¬ h i = a by omega)]
      cases decide (i < m) <;> rfl
    · rw [if_neg z, decide_eq_false z]
      cases decide (i < m) <;> cases decide (h i = a) <;> rfl
  have e3 : ∀ u, u ≠ a → u ≠ b → sn_m (fun j => if h j = b then a else h j) u m = sn_m h u m := by
    intro u h1 h2
    apply Nat.eq_of_testBit_eq
    intro i
    rw [sn_m_tb, sn_m_tb]
    try dsimp only
    by_cases z : h i = b
    · rw [if_pos z, decide_eq_false (show ¬ a = u by omega), decide_eq_false (show ¬ h i = u by omega)]
    · rw [if_neg z]
  have hd : sn_m h a m &&& sn_m h b m = 0 := by
    apply sn_and0I
    intro i hi
    rw [sn_m_tb, Bool.and_eq_true] at hi
    have := of_decide_eq_true hi.2
    rw [sn_m_tb, decide_eq_false (show ¬ h i = b by omega), Bool.and_false]
  have hl : sn_m h a m ||| sn_m h b m < 2 ^ m := Nat.or_lt_two_pow (sn_m_lt h a m) (sn_m_lt h b m)
  have j1 := t1 _ _ a hd hl ha
  have j2 : f (sn_m h b m) a ≤ f (sn_m h b m) b + c k := by
    have := t2 (sn_m h b m) k (sn_m_lt h b m) hk
    rcases hab with ⟨x, y⟩ | ⟨x, y⟩
    · rw [← x, ← y] at this; exact this.1
    · rw [← x, ← y] at this; exact this.2
  have S1 := sn_s_at (g := fun u => f (sn_m (fun j => if h j = b then a else h j) u m) u) 7 ha
  have S2 := sn_s_at (g := fun x => if x = a then 0 else f (sn_m (fun j => if h j = b then a else h j) x m) x) 7 hb
  have S3 := sn_s_at (g := fun u => f (sn_m h u m) u) 7 ha
  have S4 := sn_s_at (g := fun x => if x = a then 0 else f (sn_m h x m) x) 7 hb
  try dsimp only at S1 S2 S3 S4 P1
  rw [if_neg (fun z => hne z.symm), e1, t0] at S2
  rw [if_neg (fun z => hne z.symm)] at S4
  rw [e2] at S1
  have S5 : sn_s (fun x => if x = b then 0 else if x = a then 0 else f (sn_m (fun j => if h j = b then a else h j) x m) x) 7 = sn_s (fun x => if x = b then 0 else if x = a then 0 else f (sn_m h x m) x) 7 := by
    refine sn_s_cg 7 (fun u _ => ?_)
    by_cases z : u = b
    · rw [if_pos z, if_pos z]
    · rw [if_neg z, if_neg z]
      by_cases y : u = a
      · rw [if_pos y, if_pos y]
      · rw [if_neg y, if_neg y, e3 u y z]
  rw [sn_c_add ht hk]
  omega
theorem sn_gr (hT : sn_T ea eb c w f m) (he : ∀ k, k < 10 → ea k < 7 ∧ eb k < 7) (hw : ∀ k, k < m → sn_R ea eb C p (w k)) :
    ∀ (d : Nat) (D : Nat → Bool) (T : Nat), sn_s (fun u => if D u = true then 0 else 1) 7 ≤ d → sn_sub T C →
      (∀ k, k < 10 → T.testBit k = true → D (ea k) = true ∧ D (eb k) = true) → D p = true → sn_P c f m p D T → f (2 ^ m - 1) p ≤ sn_c c C 10 := by
  intro d
  induction d with
  | zero =>
    intro D T hs hsub hTD dp hP
    have hall : ∀ u, u < 7 → D u = true := by
      intro u hu
      have := sn_s_one (g := fun u => if D u = true then 0 else 1) hu
      try dsimp only at this
      cases z : D u
      · rw [z, if_neg (by decide)] at this; omega
      · rfl
    have a := hP w (fun k hk => hw k hk (fun x => D x = true) (fun j hj _ => ⟨fun _ => hall _ (he j hj).2, fun _ => hall _ (he j hj).1⟩) dp)
    rw [sn_s_0 7 (fun u hu => sn_w0 hT hu m (Nat.le_refl m))] at a
    have := sn_c_mo (c := c) hsub
    omega
  | succ d ih =>
    intro D T hs hsub hTD dp hP
    by_cases hcl : ∀ k, k < 10 → C.testBit k = true → (D (ea k) = true ↔ D (eb k) = true)
    · have a := hP w (fun k hk => hw k hk (fun x => D x = true) hcl dp)
      rw [sn_s_0 7 (fun u hu => sn_w0 hT hu m (Nat.le_refl m))] at a
      have := sn_c_mo (c := c) hsub
      omega
    · have key : ∃ k a b, k < 10 ∧ C.testBit k = true ∧ ((a = ea k ∧ b = eb k) ∨ (a = eb k ∧ b = ea k)) ∧ D a = true ∧ D b = false := by
        apply Classical.byContradiction
        intro hn
        apply hcl
        intro k hk hb
        constructor
        · intro x
          apply Classical.byContradiction
          intro y
          exact hn ⟨k, ea k, eb k, hk, hb, Or.inl ⟨rfl, rfl⟩, x, sn_bf y⟩
        · intro x
          apply Classical.byContradiction
          intro y
          exact hn ⟨k, eb k, ea k, hk, hb, Or.inr ⟨rfl, rfl⟩, x, sn_bf y⟩
      obtain ⟨k, a, b, hk, hb, hab, da, db⟩ := key
      have ha7 : a < 7 := by rcases hab with ⟨x, _⟩ | ⟨x, _⟩ <;> rw [x] <;> first | exact (he k hk).1 | exact (he k hk).2
      have hb7 : b < 7 := by rcases hab with ⟨_, x⟩ | ⟨_, x⟩ <;> rw [x] <;> first | exact (he k hk).2 | exact (he k hk).1
      have ht : T.testBit k = false := by
        cases z : T.testBit k
        · rfl
        · exfalso
          obtain ⟨x, y⟩ := hTD k hk z
          have : D b = true := by rcases hab with ⟨_, q⟩ | ⟨_, q⟩ <;> rw [q] <;> assumption
          rw [db] at this
          exact absurd this (by decide)
      refine ih (fun u => D u || decide (u = b)) (T ||| 2 ^ k) ?_ ?_ ?_ ?_ (sn_Pst hT hk hab ha7 hb7 da db ht hP)
      · have s1 := sn_s_at (g := fun u => if D u = true then 0 else 1) 7 hb7
        try dsimp only at s1
        rw [db, if_neg (by decide)] at s1
        have s2 : sn_s (fun u => if (D u || decide (u = b)) = true then 0 else 1) 7 = sn_s (fun x => if x = b then 0 else if D x = true then 0 else 1) 7 := by
          refine sn_s_cg 7 (fun u _ => ?_)
          by_cases z : u = b
          · rw [if_pos z, decide_eq_true z, Bool.or_true, if_pos rfl]
          · rw [if_neg z, decide_eq_false z, Bool.or_false]
        rw [s2]
        omega
      · intro j hj hb2
        rw [Nat.testBit_or, Bool.or_eq_true] at hb2
        rcases hb2 with z | z
        · exact hsub j hj z
        · rw [Nat.testBit_two_pow] at z
          rw [← of_decide_eq_true z]
          exact hb
      · intro j hj hb2
        rw [Nat.testBit_or, Bool.or_eq_true] at hb2
        try dsimp only
        rcases hb2 with z | z
        · obtain ⟨x, y⟩ := hTD j hj z
          rw [x, y]
          exact ⟨rfl, rfl⟩
        · rw [Nat.testBit_two_pow] at z
          obtain rfl := of_decide_eq_true z
          rcases hab with ⟨x, y⟩ | ⟨x, y⟩
          · rw [← x, ← y, da, decide_eq_true rfl, Bool.or_true]; exact ⟨rfl, rfl⟩
          · rw [← x, ← y, da, decide_eq_true rfl, Bool.or_true]; exact ⟨rfl, rfl⟩
      · try dsimp only
        rw [dp]
        rfl
/-- the lower bound -/
theorem sn_lower (hT : sn_T ea eb c w f m) (he : ∀ k, k < 10 → ea k < 7 ∧ eb k < 7) (hp : p < 7) (hw : ∀ k, k < m → sn_R ea eb C p (w k)) :
    f (2 ^ m - 1) p ≤ sn_c c C 10 :=
  sn_gr hT he hw _ (fun u => decide (u = p)) 0 (Nat.le_refl _) (fun k _ h => absurd h (by rw [Nat.zero_testBit]; decide))
    (fun k _ h => absurd h (by rw [Nat.zero_testBit]; decide)) (decide_eq_true rfl) (sn_P0 hp)
end
end
section
/-! ===== the table of ways: 7 times 7, at 7 a + b ===== -/
def sn_A (arr : Nat → Int32) (D : Nat → Nat → Nat) : Prop := ∀ a b, a < 7 → b < 7 → arr (7 * a + b) = nI (D a b)
/-- written with D' up to place i, D behind -/
def sn_S (D D' : Nat → Nat → Nat) (i : Nat) (arr : Nat → Int32) : Prop := ∀ a b, a < 7 → b < 7 → arr (7 * a + b) = nI (if 7 * a + b < i then D' a b else D a b)
/-- written with D' up to place i -/
def sn_N (D' : Nat → Nat → Nat) (i : Nat) (arr : Nat → Int32) : Prop := ∀ a b, a < 7 → b < 7 → 7 * a + b < i → arr (7 * a + b) = nI (D' a b)
section
variable {D D' : Nat → Nat → Nat} {arr arr' : Nat → Int32} {a b : Nat}
theorem sn_S_st (hb : b < 7) (h : sn_S D D' (7 * a + b) arr) (h1 : arr' (7 * a + b) = nI (D' a b)) (h2 : ∀ j, j ≠ 7 * a + b → arr' j = arr j) : sn_S D D' (7 * a + (b + 1)) arr' := by
  intro x y hx hy
  by_cases z : 7 * x + y = 7 * a + b
  · obtain rfl : x = a := by omega
    obtain rfl : y = b := by omega
    rw [h1, if_pos (by omega)]
  · rw [h2 _ z, h x y hx hy]
    by_cases q : 7 * x + y < 7 * a + b
    · rw [if_pos q, if_pos (by omega)]
    · rw [if_neg q, if_neg (by omega)]
theorem sn_S_0 (h : sn_A arr D) : sn_S D D' 0 arr := by
  intro x y hx hy
  rw [h x y hx hy, if_neg (by omega)]
theorem sn_S_e (h : sn_S D D' 49 arr) : sn_A arr D' := by
  intro x y hx hy
  rw [h x y hx hy, if_pos (by omega)]
theorem sn_N_st (hb : b < 7) (h : sn_N D' (7 * a + b) arr) : sn_N D' (7 * a + (b + 1)) (upd arr (7 * a + b) (nI (D' a b))) := by
  intro x y hx hy hl
  by_cases z : 7 * x + y = 7 * a + b
  · obtain rfl : x = a := by omega
    obtain rfl : y = b := by omega
    rw [pk_us]
  · rw [pk_un z, h x y hx hy (by omega)]
end
/-! ===== shortenOver: one middle point ===== -/
def sn_o (D : Nat → Nat → Nat) (m a b : Nat) : Nat := if D a b ≤ D a m + D m b then D a b else D a m + D m b
section
variable {D : Nat → Nat → Nat} {m a b : Nat}
theorem sn_o_r (h : D m m = 0) : sn_o D m a m = D a m := by unfold sn_o; rw [h, if_pos (by omega)]
theorem sn_o_l (h : D m m = 0) : sn_o D m m b = D m b := by unfold sn_o; rw [h, if_pos (by omega)]
theorem sn_o_le : sn_o D m a b ≤ D a b ∧ sn_o D m a b ≤ D a m + D m b := by unfold sn_o; split <;> omega
theorem sn_o_cs : sn_o D m a b = D a b ∨ sn_o D m a b = D a m + D m b := by unfold sn_o; split <;> simp
end
section
variable {post : SX → Prop} {J2 : Int32 → (Nat → Int32) → (Nat → Int32) → (Nat → Int32) → (Nat → Int32) → (Nat → Int32) → (Nat → Int32) → (Nat → Int32) → Prop}
variable {fm fw fk fp fs : Int32} {eA eB pO co pa wa : Nat → Int32} {D : Nat → Nat → Nat} {m a : Nat}
theorem sn_so10 (hm : m < 7) (ha : a < 7) (h0 : D m m = 0) (hD : ∀ a b, a < 7 → b < 7 → D a b ≤ 100000)
    (hJ : ∀ arr, sn_S D (sn_o D m) (7 * (a + 1)) arr → J2 (nI (a + 1)) eA eB pO co arr pa wa) :
    ∀ d b arr, b + d = 7 → sn_S D (sn_o D m) (7 * a + b) arr → wX_shortenOver_10 post J2 (nI m) (nI a) fm fw fk fp fs (d + 1) (nI b) eA eB pO co arr pa wa := by
  intro d
  induction d with
  | zero =>
    intro b arr hb hI
    obtain rfl : b = 7 := by omega
    exact pk_le 7 7 (fun _ => nm_r (nI_1 a) (hJ arr hI)) (fun h => absurd h (by omega))
  | succ d ih =>
    intro b arr hb hI
    have hb7 : b < 7 := by omega
    have r1 : arr (7 * a + m) = nI (D a m) := by rw [hI a m ha hm, sn_o_r h0, ite_self]
    have r2 : arr (7 * m + b) = nI (D m b) := by rw [hI m b hm hb7, sn_o_l h0, ite_self]
    have r3 : arr (7 * a + b) = nI (D a b) := by rw [hI a b ha hb7, if_neg (Nat.lt_irrefl _)]
    have b1 := hD a m ha hm
    have b2 := hD m b hm hb7
    have b3 := hD a b ha hb7
    rw [wX_shortenOver_10]
    dsimp only
    simp only [sn_ix]
    rw [nI_clamp (n := 7 * a + m) (by omega), nI_clamp (n := 7 * m + b) (by omega), nI_clamp (n := 7 * a + b) (by omega), r1, r2, r3]
    refine pk_le 7 b (fun h => absurd h (by omega)) (fun _ => ⟨vp_in_nI (by omega) (by decide), vp_in_nI (by omega) (by decide), nm_r (nI_add _ _) ⟨vp_in_nI (by omega) (by decide), ?_⟩⟩)
    refine pk_le (D a b) (D a m + D m b) (fun h => nm_r (nI_1 b) (ih (b + 1) arr (by omega) ?_)) (fun h => ⟨vp_in_nI (by omega) (by decide), nm_e (nm_r (nI_1 b) (ih (b + 1) _ (by omega) ?_))⟩)
    · exact sn_S_st hb7 hI (by rw [r3]; unfold sn_o; rw [if_pos h]) (fun _ _ => rfl)
    · exact sn_S_st hb7 hI (by rw [pk_us]; unfold sn_o; rw [if_neg (by omega)]) (fun _ hj => pk_un hj)
theorem sn_so2 (hm : m < 7) (h0 : D m m = 0) (hD : ∀ a b, a < 7 → b < 7 → D a b ≤ 100000)
    (hp : ∀ arr, sn_A arr (sn_o D m) → post (fm, fw, fk, fp, fs, eA, eB, pO, co, arr, pa, wa)) :
    ∀ d a arr, a + d = 7 → sn_S D (sn_o D m) (7 * a) arr → wX_shortenOver_2 post (nI m) fm fw fk fp fs (d + 1) (nI a) eA eB pO co arr pa wa := by
  intro d
  induction d with
  | zero =>
    intro a arr ha hI
    obtain rfl : a = 7 := by omega
    exact pk_le 7 7 (fun _ => hp arr (sn_S_e hI)) (fun h => absurd h (by omega))
  | succ d ih =>
    intro a arr ha hI
    exact pk_le 7 a (fun h => absurd h (by omega)) (fun _ => ⟨8, sn_so10 hm (by omega) h0 hD (fun arr' h' => ih (a + 1) arr' (by omega) h') 7 0 arr rfl hI⟩)
theorem sn_so {arr : Nat → Int32} (hm : m < 7) (h0 : D m m = 0) (hD : ∀ a b, a < 7 → b < 7 → D a b ≤ 100000) (hA : sn_A arr D)
    (hp : ∀ arr, sn_A arr (sn_o D m) → post (fm, fw, fk, fp, fs, eA, eB, pO, co, arr, pa, wa)) :
    wpX_shortenOver post (fm, fw, fk, fp, fs, eA, eB, pO, co, arr, pa, wa) (nI m) := ⟨8, sn_so2 hm h0 hD hp 7 0 arr rfl (sn_S_0 hA)⟩
end
/-! ===== what the table of ways keeps ===== -/
section
variable {ea eb c : Nat → Nat} {D : Nat → Nat → Nat} {m k a b d x y : Nat}
/-- a way's price below FAR stands for a choice of lines -/
def sn_W (ea eb c : Nat → Nat) (a b x : Nat) : Prop := x < 100000 → ∃ C, C < 1024 ∧ sn_R ea eb C a b ∧ sn_c c C 10 ≤ x
theorem sn_W_tr (h : sn_W ea eb c a b x) (g : sn_W ea eb c b d y) : sn_W ea eb c a d (x + y) := by
  intro hl
  obtain ⟨C, hC, rC, cC⟩ := h (by omega)
  obtain ⟨E, hE, rE, cE⟩ := g (by omega)
  have := sn_c_or (c := c) (C := C) (D := E) (n := 10)
  exact ⟨C ||| E, sn_or10 hC hE, sn_R_tr (sn_R_mo sn_sub_l rC) (sn_R_mo sn_sub_r rE), by omega⟩
theorem sn_W_rf : sn_W ea eb c a a x := fun _ => ⟨0, by decide, sn_R_rf, by rw [sn_c_0]; omega⟩
def sn_D (ea eb c : Nat → Nat) (m : Nat) (D : Nat → Nat → Nat) : Prop :=
  (∀ a b, a < 7 → b < 7 → D a b ≤ 100000 ∧ sn_W ea eb c a b (D a b)) ∧ (∀ a, a < 7 → D a a = 0) ∧
  (∀ b, b < m → ∀ a d, a < 7 → d < 7 → D a d ≤ D a b + D b d) ∧
  (∀ k, k < 10 → D (ea k) (eb k) ≤ c k ∧ D (eb k) (ea k) ≤ c k)
theorem sn_D_st (hm : m < 7) (h : sn_D ea eb c m D) : sn_D ea eb c (m + 1) (sn_o D m) := by
  obtain ⟨h1, h2, h3, h4⟩ := h
  refine ⟨fun a b ha hb => ?_, fun a ha => ?_, fun b hb a d ha hd => ?_, fun k hk => ?_⟩
  · have g := sn_o_le (D := D) (m := m) (a := a) (b := b)
    refine ⟨Nat.le_trans g.1 (h1 a b ha hb).1, ?_⟩
    rcases sn_o_cs (D := D) (m := m) (a := a) (b := b) with z | z
    · rw [z]; exact (h1 a b ha hb).2
    · rw [z]; exact sn_W_tr (h1 a m ha hm).2 (h1 m b hm hb).2
  · have g := sn_o_le (D := D) (m := m) (a := a) (b := a)
    have := h2 a ha
    omega
  · have g := sn_o_le (D := D) (m := m) (a := a) (b := d)
    rcases Nat.lt_or_ge b m with z | z
    · have t1 := h3 b z a d ha hd
      have t2 := h3 b z m d hm hd
      have t3 := h3 b z a m ha hm
      rcases sn_o_cs (D := D) (m := m) (a := a) (b := b) with y | y <;> rcases sn_o_cs (D := D) (m := m) (a := b) (b := d) with x | x <;> omega
    · obtain rfl : b = m := by omega
      rw [sn_o_r (h2 b hm), sn_o_l (h2 b hm)]
      exact g.2
  · have g1 := sn_o_le (D := D) (m := m) (a := ea k) (b := eb k)
    have g2 := sn_o_le (D := D) (m := m) (a := eb k) (b := ea k)
    have := h4 k hk
    omega
/-- while the lines are laid in -/
def sn_E (ea eb c : Nat → Nat) (k : Nat) (D : Nat → Nat → Nat) : Prop :=
  (∀ a b, a < 7 → b < 7 → D a b ≤ 100000 ∧ sn_W ea eb c a b (D a b)) ∧ (∀ a, a < 7 → D a a = 0) ∧
  (∀ a b, a < 7 → b < 7 → D a b = D b a) ∧ (∀ j, j < k → D (ea j) (eb j) ≤ c j)
theorem sn_E_D (he : ∀ k, k < 10 → ea k < 7 ∧ eb k < 7) (h : sn_E ea eb c 10 D) : sn_D ea eb c 0 D := by
  obtain ⟨h1, h2, h3, h4⟩ := h
  refine ⟨h1, h2, fun b hb => absurd hb (Nat.not_lt_zero b), fun k hk => ⟨h4 k hk, ?_⟩⟩
  rw [h3 _ _ (he k hk).2 (he k hk).1]
  exact h4 k hk
def sn_D0 (a b : Nat) : Nat := if a = b then 0 else 100000
theorem sn_E_0 : sn_E ea eb c 0 sn_D0 := by
  refine ⟨fun a b _ _ => ?_, fun a _ => if_pos rfl, fun a b _ _ => ?_, fun j hj => absurd hj (Nat.not_lt_zero j)⟩
  · unfold sn_D0
    by_cases z : a = b
    · subst z
      rw [if_pos rfl]
      exact ⟨by omega, sn_W_rf⟩
    · rw [if_neg z]
      exact ⟨by omega, fun h => absurd h (by omega)⟩
  · unfold sn_D0
    by_cases z : a = b
    · rw [if_pos z, if_pos z.symm]
    · rw [if_neg z, if_neg (fun y => z y.symm)]
def sn_u (ea eb c : Nat → Nat) (k : Nat) (D : Nat → Nat → Nat) (x y : Nat) : Nat := if (x = ea k ∧ y = eb k) ∨ (x = eb k ∧ y = ea k) then c k else D x y
theorem sn_E_st (hk : k < 10) (he : ea k < 7 ∧ eb k < 7) (hc : c k ≤ 100000) (hl : c k < D (ea k) (eb k)) (h : sn_E ea eb c k D) : sn_E ea eb c (k + 1) (sn_u ea eb c k D) := by
  obtain ⟨h1, h2, h3, h4⟩ := h
  have hW : sn_W ea eb c (ea k) (eb k) (c k) := fun _ => ⟨2 ^ k, sn_pw10 hk, sn_R_ed hk Nat.testBit_two_pow_self, by rw [sn_c_pow 10 hk]; exact Nat.le_refl _⟩
  have hW2 : sn_W ea eb c (eb k) (ea k) (c k) := fun _ => ⟨2 ^ k, sn_pw10 hk, sn_R_sy (sn_R_ed hk Nat.testBit_two_pow_self), by rw [sn_c_pow 10 hk]; exact Nat.le_refl _⟩
  refine ⟨fun a b ha hb => ?_, fun a ha => ?_, fun a b ha hb => ?_, fun j hj => ?_⟩
  · unfold sn_u
    by_cases z : (a = ea k ∧ b = eb k) ∨ (a = eb k ∧ b = ea k)
    · rw [if_pos z]
      rcases z with ⟨rfl, rfl⟩ | ⟨rfl, rfl⟩
      · exact ⟨hc, hW⟩
      · exact ⟨hc, hW2⟩
    · rw [if_neg z]; exact h1 a b ha hb
  · unfold sn_u
    by_cases z : (a = ea k ∧ a = eb k) ∨ (a = eb k ∧ a = ea k)
    · exfalso
      have e : ea k = eb k := by omega
      have := h2 (eb k) he.2
      rw [e] at hl
      omega
    · rw [if_neg z]; exact h2 a ha
  · unfold sn_u
    by_cases z : (a = ea k ∧ b = eb k) ∨ (a = eb k ∧ b = ea k)
    · rw [if_pos z, if_pos (by omega)]
    · rw [if_neg z, if_neg (by omega)]; exact h3 a b ha hb
  · unfold sn_u
    by_cases z : (ea j = ea k ∧ eb j = eb k) ∨ (ea j = eb k ∧ eb j = ea k)
    · rw [if_pos z]
      rcases Nat.lt_or_ge j k with y | y
      · have g := h4 j y
        have g3 := h3 _ _ he.1 he.2
        rcases z with ⟨z1, z2⟩ | ⟨z1, z2⟩
        · rw [z1, z2] at g; omega
        · rw [z1, z2] at g; omega
      · obtain rfl : j = k := by omega
        exact Nat.le_refl _
    · rw [if_neg z]
      rcases Nat.lt_or_ge j k with y | y
      · exact h4 j y
      · obtain rfl : j = k := by omega
        exact absurd (Or.inl ⟨rfl, rfl⟩) z
theorem sn_E_k (hl : D (ea k) (eb k) ≤ c k) (h : sn_E ea eb c k D) : sn_E ea eb c (k + 1) D := by
  obtain ⟨h1, h2, h3, h4⟩ := h
  refine ⟨h1, h2, h3, fun j hj => ?_⟩
  rcases Nat.lt_or_ge j k with y | y
  · exact h4 j y
  · obtain rfl : j = k := by omega
    exact hl
theorem sn_A_u {arr : Nat → Int32} (he : ea k < 7 ∧ eb k < 7) (h : sn_A arr D) :
    sn_A (upd (upd arr (7 * ea k + eb k) (nI (c k))) (7 * eb k + ea k) (nI (c k))) (sn_u ea eb c k D) := by
  intro x y hx hy
  unfold sn_u
  by_cases z : 7 * x + y = 7 * eb k + ea k
  · rw [z, pk_us, if_pos (by omega)]
  · rw [pk_un z]
    by_cases z2 : 7 * x + y = 7 * ea k + eb k
    · rw [z2, pk_us, if_pos (by omega)]
    · rw [pk_un z2, h x y hx hy, if_neg (by omega)]
end
/-! ===== findWays ===== -/
/-- the lines as the component holds them -/
def sn_X (ea eb c : Nat → Nat) (eA eB co : Nat → Int32) : Prop := ∀ k, k < 10 → (ea k < 7 ∧ eb k < 7) ∧ eA k = nI (ea k) ∧ eB k = nI (eb k) ∧ co k = nI (c k) ∧ c k ≤ 100000
section
variable {post : SX → Prop} {J2 : Int32 → (Nat → Int32) → (Nat → Int32) → (Nat → Int32) → (Nat → Int32) → (Nat → Int32) → (Nat → Int32) → (Nat → Int32) → Prop}
variable {fm fw fk fp fs : Int32} {eA eB pO co pa wa : Nat → Int32} {ea eb c : Nat → Nat}
theorem sn_fw134 (hp : ∀ arr D, sn_A arr D → sn_D ea eb c 7 D → post (fm, fw, fk, fp, fs, eA, eB, pO, co, arr, pa, wa)) :
    ∀ d m arr D, m + d = 7 → sn_A arr D → sn_D ea eb c m D → wX_findWays_134 post (d + 1) (nI m) fm fw fk fp fs eA eB pO co arr pa wa := by
  intro d
  induction d with
  | zero =>
    intro m arr D hm hA hD
    obtain rfl : m = 7 := by omega
    exact pk_le 7 7 (fun _ => hp arr D hA hD) (fun h => absurd h (by omega))
  | succ d ih =>
    intro m arr D hm hA hD
    refine pk_le 7 m (fun h => absurd h (by omega)) (fun _ => sn_so (by omega) (hD.2.1 m (by omega)) (fun a b ha hb => (hD.1 a b ha hb).1) hA (fun arr' h' => ?_))
    try dsimp only
    exact nm_r (nI_1 m) (ih (m + 1) arr' _ (by omega) h' (sn_D_st (by omega) hD))
theorem sn_fw52 (hX : sn_X ea eb c eA eB co) (hp : ∀ arr D, sn_A arr D → sn_D ea eb c 7 D → post (fm, fw, fk, fp, fs, eA, eB, pO, co, arr, pa, wa)) :
    ∀ d k arr D, k + d = 10 → sn_A arr D → sn_E ea eb c k D → wX_findWays_52 post fm fw fk fp fs (d + 1) (nI k) eA eB pO co arr pa wa := by
  intro d
  induction d with
  | zero =>
    intro k arr D hk hA hE
    obtain rfl : k = 10 := by omega
    exact pk_le 10 10 (fun _ => ⟨8, sn_fw134 hp 7 0 arr D rfl hA (sn_E_D (fun k hk => (hX k hk).1) hE)⟩) (fun h => absurd h (by omega))
  | succ d ih =>
    intro k arr D hk hA hE
    have hk10 : k < 10 := by omega
    obtain ⟨he, hxA, hxB, hxC, hc⟩ := hX k hk10
    have r3 := hA (ea k) (eb k) he.1 he.2
    have b3 := (hE.1 (ea k) (eb k) he.1 he.2).1
    have v0 : vp_in (nI k) 10 := vp_in_nI hk10 (by decide)
    have v1 : vp_in (nI (7 * ea k + eb k)) 49 := vp_in_nI (by omega) (by decide)
    have v2 : vp_in (nI (7 * eb k + ea k)) 49 := vp_in_nI (by omega) (by decide)
    rw [wX_findWays_52]
    dsimp only
    rw [nI_clamp (n := k) (by omega)]
    refine pk_le 10 k (fun h => absurd h (by omega)) (fun _ => ⟨v0, nm_r hxA ⟨v0, nm_r hxB ⟨v0, ?_⟩⟩⟩)
    simp only [sn_ix]
    rw [nI_clamp (n := 7 * ea k + eb k) (by omega), nI_clamp (n := 7 * eb k + ea k) (by omega), r3, hxC]
    refine ⟨v1, pk_le (D (ea k) (eb k)) (c k) (fun h => nm_r (nI_1 k) (ih (k + 1) arr D (by omega) hA (sn_E_k h hE))) (fun h => ⟨v0, v1, nm_e ⟨v0, v2, nm_e (nm_r (nI_1 k) ?_)⟩⟩)⟩
    exact ih (k + 1) _ _ (by omega) (sn_A_u he hA) (sn_E_st hk10 he hc h hE)
theorem sn_fw10 {a : Nat} (ha : a < 7) (hJ : ∀ arr, sn_N sn_D0 (7 * (a + 1)) arr → J2 (nI (a + 1)) eA eB pO co arr pa wa) :
    ∀ d b arr, b + d = 7 → sn_N sn_D0 (7 * a + b) arr → wX_findWays_10 post J2 (nI a) fm fw fk fp fs (d + 1) (nI b) eA eB pO co arr pa wa := by
  intro d
  induction d with
  | zero =>
    intro b arr hb hI
    obtain rfl : b = 7 := by omega
    exact pk_le 7 7 (fun _ => nm_r (nI_1 a) (hJ arr hI)) (fun h => absurd h (by omega))
  | succ d ih =>
    intro b arr hb hI
    have hb7 : b < 7 := by omega
    have v1 : vp_in (nI (7 * a + b)) 49 := vp_in_nI (by omega) (by decide)
    have g := sn_N_st hb7 hI
    rw [wX_findWays_10]
    dsimp only
    simp only [sn_ix]
    rw [nI_clamp (n := 7 * a + b) (by omega)]
    refine pk_le 7 b (fun h => absurd h (by omega)) (fun _ => pk_eq a b (fun h => ⟨v1, nm_e (nm_r (nI_1 b) (ih (b + 1) _ (by omega) ?_))⟩) (fun h => ⟨v1, nm_e (nm_r (nI_1 b) (ih (b + 1) _ (by omega) ?_))⟩))
    · rw [show sn_D0 a b = 0 from if_pos h] at g
      exact g
    · rw [show sn_D0 a b = 100000 from if_neg h] at g
      exact g
theorem sn_fw2 (hX : sn_X ea eb c eA eB co) (hp : ∀ arr D, sn_A arr D → sn_D ea eb c 7 D → post (fm, fw, fk, fp, fs, eA, eB, pO, co, arr, pa, wa)) :
    ∀ d a arr, a + d = 7 → sn_N sn_D0 (7 * a) arr → wX_findWays_2 post fm fw fk fp fs (d + 1) (nI a) eA eB pO co arr pa wa := by
  intro d
  induction d with
  | zero =>
    intro a arr ha hI
    obtain rfl : a = 7 := by omega
    exact pk_le 7 7 (fun _ => ⟨11, sn_fw52 hX hp 10 0 arr sn_D0 rfl (fun x y hx hy => hI x y hx hy (by omega)) sn_E_0⟩) (fun h => absurd h (by omega))
  | succ d ih =>
    intro a arr ha hI
    exact pk_le 7 a (fun h => absurd h (by omega)) (fun _ => ⟨8, sn_fw10 (by omega) (fun arr' h' => ih (a + 1) arr' (by omega) h') 7 0 arr rfl hI⟩)
/-- findWays: shortest ways, whatever the table held -/
theorem sn_fw {wy : Nat → Int32} (hX : sn_X ea eb c eA eB co) (hp : ∀ arr D, sn_A arr D → sn_D ea eb c 7 D → post (fm, fw, fk, fp, fs, eA, eB, pO, co, arr, pa, wa)) :
    wpX_findWays post (fm, fw, fk, fp, fs, eA, eB, pO, co, wy, pa, wa) := ⟨8, sn_fw2 hX hp 7 0 wy rfl (fun _ _ _ _ h => absurd h (by omega))⟩
end
end
section
/-! ===== the table of parts: row S holds the parts for the set S of terminals ===== -/
def sn_row (arr : Nat → Int32) (S : Nat) (G : Nat → Nat) : Prop := ∀ p, p < 7 → arr (7 * S + p) = nI (G p)
def sn_off (pa arr : Nat → Int32) (S : Nat) : Prop := ∀ j, (j < 7 * S ∨ 7 * S + 7 ≤ j) → arr j = pa j
section
variable {ea eb c w : Nat → Nat} {D F : Nat → Nat → Nat} {G : Nat → Nat} {m S A B p q x y h k : Nat}
/-- a part's price below FAR stands for a choice of lines -/
def sn_Q (ea eb c w : Nat → Nat) (m S p x : Nat) : Prop := x < 100000 → ∃ C, C < 1024 ∧ (∀ k, k < m → S.testBit k = true → sn_R ea eb C (w k) p) ∧ sn_c c C 10 ≤ x
theorem sn_Q_far : sn_Q ea eb c w m S p 100000 := fun h => absurd h (by omega)
theorem sn_Q_jn (hA : sn_Q ea eb c w m A p x) (hB : sn_Q ea eb c w m B p y) (hS : A ||| B = S) : sn_Q ea eb c w m S p (x + y) := by
  intro hl
  obtain ⟨C, hC, rC, cC⟩ := hA (by omega)
  obtain ⟨E, hE, rE, cE⟩ := hB (by omega)
  have := sn_c_or (c := c) (C := C) (D := E) (n := 10)
  refine ⟨C ||| E, sn_or10 hC hE, fun k hk hb => ?_, by omega⟩
  rw [← hS, Nat.testBit_or, Bool.or_eq_true] at hb
  rcases hb with z | z
  · exact sn_R_mo sn_sub_l (rC k hk z)
  · exact sn_R_mo sn_sub_r (rE k hk z)
theorem sn_Q_cy (hA : sn_Q ea eb c w m S q x) (hB : sn_W ea eb c q p y) : sn_Q ea eb c w m S p (x + y) := by
  intro hl
  obtain ⟨C, hC, rC, cC⟩ := hA (by omega)
  obtain ⟨E, hE, rE, cE⟩ := hB (by omega)
  have := sn_c_or (c := c) (C := C) (D := E) (n := 10)
  exact ⟨C ||| E, sn_or10 hC hE, fun k hk hb => sn_R_tr (sn_R_mo sn_sub_l (rC k hk hb)) (sn_R_mo sn_sub_r rE), by omega⟩
theorem sn_Q_one (hS : S = 2 ^ k) : sn_Q ea eb c w m S (w k) x := by
  intro _
  refine ⟨0, by decide, fun j hj hb => ?_, by rw [sn_c_0]; omega⟩
  rw [hS, Nat.testBit_two_pow] at hb
  rw [of_decide_eq_true hb]
  exact sn_R_rf
/-- a row while it is made: k singles are looked at -/
def sn_G0 (ea eb c w : Nat → Nat) (m S k : Nat) (G : Nat → Nat) : Prop :=
  (∀ p, p < 7 → G p ≤ 100000 ∧ sn_Q ea eb c w m S p (G p)) ∧ (∀ j, j < k → S = 2 ^ j → G (w j) = 0)
theorem sn_G0_k (hS : S ≠ 2 ^ k) (h : sn_G0 ea eb c w m S k G) : sn_G0 ea eb c w m S (k + 1) G := by
  refine ⟨h.1, fun j hj e => ?_⟩
  rcases Nat.lt_or_ge j k with z | z
  · exact h.2 j z e
  · obtain rfl : j = k := by omega
    exact absurd e hS
theorem sn_G0_s (hS : S = 2 ^ k) (h : sn_G0 ea eb c w m S k G) : sn_G0 ea eb c w m S (k + 1) (fun p => if p = w k then 0 else G p) := by
  refine ⟨fun p hp => ?_, fun j hj e => ?_⟩
  · try dsimp only
    by_cases z : p = w k
    · rw [if_pos z, z]
      exact ⟨by omega, sn_Q_one hS⟩
    · rw [if_neg z]
      exact h.1 p hp
  · try dsimp only
    by_cases z : w j = w k
    · rw [if_pos z]
    · rw [if_neg z]
      rcases Nat.lt_or_ge j k with y | y
      · exact h.2 j y e
      · obtain rfl : j = k := by omega
        exact absurd rfl z
/-- the rows ahead of S are made -/
def sn_F (ea eb c w : Nat → Nat) (D : Nat → Nat → Nat) (m S : Nat) (F : Nat → Nat → Nat) : Prop := ∀ A, 1 ≤ A → A < S →
  (∀ p, p < 7 → F A p ≤ 100000 ∧ sn_Q ea eb c w m A p (F A p)) ∧ (∀ k, k < m → A = 2 ^ k → F A (w k) = 0) ∧
  (∀ B, 1 ≤ B → B < A → B &&& A = B → ∀ p, p < 7 → F A p ≤ F B p + F (A ^^^ B) p) ∧
  (∀ p q, p < 7 → q < 7 → F A p ≤ F A q + D q p)
/-- the table holds F in the rows ahead of S -/
def sn_H (arr : Nat → Int32) (S : Nat) (F : Nat → Nat → Nat) : Prop := ∀ A p, 1 ≤ A → A < S → p < 7 → arr (7 * A + p) = nI (F A p)
/-- halves below h are joined -/
def sn_G1 (ea eb c w : Nat → Nat) (F : Nat → Nat → Nat) (m S h : Nat) (G : Nat → Nat) : Prop :=
  sn_G0 ea eb c w m S m G ∧ ∀ A, 1 ≤ A → A < h → A &&& S = A → ∀ p, p < 7 → G p ≤ F A p + F (S ^^^ A) p
def sn_h (G : Nat → Nat) (F : Nat → Nat → Nat) (h o p : Nat) : Nat := if G p ≤ F h p + F o p then G p else F h p + F o p
theorem sn_G1_k (hh : ¬ h &&& S = h) (g : sn_G1 ea eb c w F m S h G) : sn_G1 ea eb c w F m S (h + 1) G := by
  refine ⟨g.1, fun A h1 h2 h3 => ?_⟩
  rcases Nat.lt_or_ge A h with z | z
  · exact g.2 A h1 z h3
  · obtain rfl : A = h := by omega
    exact absurd h3 hh
theorem sn_G1_s (hF : sn_F ea eb c w D m S F) (h1 : 1 ≤ h) (h2 : h < S) (hh : h &&& S = h) (g : sn_G1 ea eb c w F m S h G) : sn_G1 ea eb c w F m S (h + 1) (sn_h G F h (S ^^^ h)) := by
  obtain ⟨a1, a2, a3⟩ := sn_hl hh (by omega) (by omega)
  have le : ∀ p, sn_h G F h (S ^^^ h) p ≤ G p ∧ sn_h G F h (S ^^^ h) p ≤ F h p + F (S ^^^ h) p := by
    intro p; unfold sn_h; split <;> omega
  refine ⟨⟨fun p hp => ?_, fun j hj e => ?_⟩, fun A b1 b2 b3 p hp => ?_⟩
  · refine ⟨Nat.le_trans (le p).1 (g.1.1 p hp).1, ?_⟩
    unfold sn_h
    by_cases z : G p ≤ F h p + F (S ^^^ h) p
    · rw [if_pos z]; exact (g.1.1 p hp).2
    · rw [if_neg z]
      exact sn_Q_jn ((hF h h1 h2).1 p hp).2 ((hF (S ^^^ h) (by omega) a2).1 p hp).2 (sn_hx hh).2
  · have := g.1.2 j hj e
    have := (le (w j)).1
    omega
  · rcases Nat.lt_or_ge A h with z | z
    · exact Nat.le_trans (le p).1 (g.2 A b1 z b3 p hp)
    · obtain rfl : A = h := by omega
      exact (le p).2
/-- carried as far as point p -/
def sn_cp (G : Nat → Nat) (D : Nat → Nat → Nat) (p : Nat) (cur : Nat → Nat) : Prop :=
  (∀ x q, x < p → q < 7 → cur x ≤ G q + D q x) ∧ (∀ x, p ≤ x → x < 7 → cur x = G x) ∧ (∀ x, x < 7 → ∃ q, q < 7 ∧ cur x = G q + D q x)
theorem sn_cp_0 (hd : ∀ a, a < 7 → D a a = 0) : sn_cp G D 0 G := by
  refine ⟨fun x q hx => absurd hx (Nat.not_lt_zero x), fun x _ _ => rfl, fun x hx => ⟨x, hx, ?_⟩⟩
  rw [hd x hx]; omega
theorem sn_cp_st {cur : Nat → Nat} {L : Nat} (hp : p < 7) (hd : ∀ a, a < 7 → D a a = 0) (ht : ∀ b, b < 7 → ∀ a d, a < 7 → d < 7 → D a d ≤ D a b + D b d)
    (h1 : ∀ q, q < 7 → L ≤ cur q + D q p) (h2 : ∃ q, q < 7 ∧ L = cur q + D q p) (h : sn_cp G D p cur) : sn_cp G D (p + 1) (fun x => if x = p then L else cur x) := by
  obtain ⟨g1, g2, g3⟩ := h
  have key : ∀ q, q < 7 → L ≤ G q + D q p := by
    intro q hq
    have a := h1 q hq
    rcases Nat.lt_or_ge q p with z | z
    · have b := g1 q q z hq
      rw [hd q hq] at b
      omega
    · rw [g2 q z hq] at a
      exact a
  refine ⟨fun x q hx hq => ?_, fun x hx hx7 => ?_, fun x hx => ?_⟩
  · try dsimp only
    by_cases z : x = p
    · rw [if_pos z, z]; exact key q hq
    · rw [if_neg z]; exact g1 x q (by omega) hq
  · try dsimp only
    rw [if_neg (by omega)]
    exact g2 x (by omega) hx7
  · try dsimp only
    by_cases z : x = p
    · rw [if_pos z, z]
      obtain ⟨q, hq, e⟩ := h2
      obtain ⟨q', hq', e'⟩ := g3 q hq
      refine ⟨q', hq', ?_⟩
      have a := key q' hq'
      have b := ht q hq q' p hq' hp
      omega
    · rw [if_neg z]; exact g3 x hx
/-- a row that is done joins the table -/
theorem sn_F_st {R : Nat → Nat} (h1 : 1 ≤ S) (hd : ∀ a, a < 7 → D a a = 0) (ht : ∀ b, b < 7 → ∀ a d, a < 7 → d < 7 → D a d ≤ D a b + D b d)
    (hW : ∀ a b, a < 7 → b < 7 → D a b ≤ 100000 ∧ sn_W ea eb c a b (D a b)) (hw : ∀ k, k < m → w k < 7)
    (hF : sn_F ea eb c w D m S F) (hG : sn_G1 ea eb c w F m S S G) (hR : sn_cp G D 7 R) : sn_F ea eb c w D m (S + 1) (fun A p => if A = S then R p else F A p) := by
  obtain ⟨r1, _, r3⟩ := hR
  have le : ∀ p, p < 7 → R p ≤ G p := by
    intro p hp
    have := r1 p p hp hp
    rw [hd p hp] at this
    omega
  intro A hA1 hA2
  try dsimp only
  by_cases z : A = S
  · subst z
    refine ⟨fun p hp => ?_, fun k hk e => ?_, fun B hB1 hB2 hB3 p hp => ?_, fun p q hp hq => ?_⟩
    · rw [if_pos rfl]
      refine ⟨Nat.le_trans (le p hp) (hG.1.1 p hp).1, ?_⟩
      obtain ⟨q, hq, e⟩ := r3 p hp
      rw [e]
      exact sn_Q_cy (hG.1.1 q hq).2 (hW q p hq hp).2
    · rw [if_pos rfl]
      have a := le (w k) (hw k hk)
      have b := hG.1.2 k hk e
      omega
    · obtain ⟨a1, a2, a3⟩ := sn_hl hB3 (by omega) (by omega)
      rw [if_pos rfl, if_neg (by omega), if_neg (by omega)]
      exact Nat.le_trans (le p hp) (hG.2 B hB1 hB2 hB3 p hp)
    · rw [if_pos rfl, if_pos rfl]
      obtain ⟨q', hq', e⟩ := r3 q hq
      have a := r1 p q' hp hq'
      have b := ht q hq q' p hq' hp
      omega
  · obtain ⟨f1, f2, f3, f4⟩ := hF A hA1 (by omega)
    refine ⟨fun p hp => ?_, fun k hk e => ?_, fun B hB1 hB2 hB3 p hp => ?_, fun p q hp hq => ?_⟩
    · rw [if_neg z]; exact f1 p hp
    · rw [if_neg z]; exact f2 k hk e
    · obtain ⟨a1, a2, a3⟩ := sn_hl hB3 (by omega) (by omega)
      rw [if_neg z, if_neg (by omega), if_neg (by omega)]
      exact f3 B hB1 hB2 hB3 p hp
    · rw [if_neg z, if_neg z]; exact f4 p q hp hq
theorem sn_row_u {arr : Nat → Int32} {x : Nat} (hx : x < 7) (v : Nat) (h : sn_row arr S G) : sn_row (upd arr (7 * S + x) (nI v)) S (fun p => if p = x then v else G p) := by
  intro p hp
  try dsimp only
  by_cases z : p = x
  · rw [if_pos z, z, pk_us]
  · rw [if_neg z, pk_un (by omega), h p hp]
theorem sn_off_u {pa arr : Nat → Int32} {x : Nat} {v : Int32} (hx : x < 7) (h : sn_off pa arr S) : sn_off pa (upd arr (7 * S + x) v) S := by
  intro j hj
  rw [pk_un (by omega), h j hj]
theorem sn_off_H {pa arr : Nat → Int32} (h : sn_off pa arr S) (g : sn_H pa S F) : sn_H arr S F := by
  intro A p h1 h2 h3
  rw [h _ (Or.inl (by omega)), g A p h1 h2 h3]
theorem sn_H_st {arr : Nat → Int32} {R : Nat → Nat} (h : sn_H arr S F) (g : sn_row arr S R) : sn_H arr (S + 1) (fun A p => if A = S then R p else F A p) := by
  intro A p h1 h2 h3
  try dsimp only
  by_cases z : A = S
  · rw [if_pos z, z, g p h3]
  · rw [if_neg z, h A p h1 (by omega) h3]
end
end
section
/-! ===== startPart ===== -/
section
variable {post : SX → Prop} {J2 : Int32 → (Nat → Int32) → (Nat → Int32) → (Nat → Int32) → (Nat → Int32) → (Nat → Int32) → (Nat → Int32) → (Nat → Int32) → Prop}
variable {fm fw fk fp fs : Int32} {eA eB pO co wy pa wa : Nat → Int32} {ea eb c w G : Nat → Nat} {D F : Nat → Nat → Nat} {m S : Nat}
theorem sn_sp29 (hS : S < 64) (hm : m ≤ 6) (hw : ∀ k, k < m → wa k = nI (w k) ∧ w k < 7)
    (hp : ∀ arr G, sn_row arr S G → sn_off pa arr S → sn_G0 ea eb c w m S m G → post (fm, nI (m + 1), fk, fp, fs, eA, eB, pO, co, wy, arr, wa)) :
    ∀ d k arr G, k + d = m → sn_row arr S G → sn_off pa arr S → sn_G0 ea eb c w m S k G → wX_startPart_29 post (nI S) fm (nI (m + 1)) fk fp fs (d + 1) (nI k) eA eB pO co wy arr wa := by
  intro d
  induction d with
  | zero =>
    intro k arr G hk hr ho hG
    obtain rfl : k = m := by omega
    rw [wX_startPart_29]
    dsimp only
    rw [nI_pred]
    exact pk_le k k (fun _ => hp arr G hr ho hG) (fun h => absurd h (by omega))
  | succ d ih =>
    intro k arr G hk hr ho hG
    obtain ⟨w1, w2⟩ := hw k (by omega)
    have pw : 2 ^ k < 2 ^ 31 := Nat.pow_lt_pow_right (by decide) (by omega)
    rw [wX_startPart_29]
    dsimp only
    rw [nI_pred, sn_shl (show k < 31 by omega), nI_clamp (n := k) (by omega), w1]
    simp only [sn_ix]
    rw [nI_clamp (n := 7 * S + w k) (by omega)]
    refine pk_le m k (fun h => absurd h (by omega)) (fun _ => pk_eq S (2 ^ k) (fun h => ⟨vp_in_nI (by omega) (by decide), vp_in_nI (by omega) (by decide), nm_e (nm_r (nI_1 k) ?_)⟩) (fun h => nm_r (nI_1 k) ?_) rfl rfl (by omega) pw)
    · exact ih (k + 1) _ _ (by omega) (sn_row_u w2 0 hr) (sn_off_u w2 ho) (sn_G0_s h hG)
    · exact ih (k + 1) arr G (by omega) hr ho (sn_G0_k h hG)
theorem sn_sp2 (hS : S < 64) (hm : m ≤ 6) (hw : ∀ k, k < m → wa k = nI (w k) ∧ w k < 7)
    (hp : ∀ arr G, sn_row arr S G → sn_off pa arr S → sn_G0 ea eb c w m S m G → post (fm, nI (m + 1), fk, fp, fs, eA, eB, pO, co, wy, arr, wa)) :
    ∀ d p arr, p + d = 7 → (∀ q, q < p → arr (7 * S + q) = nI 100000) → sn_off pa arr S → wX_startPart_2 post (nI S) fm (nI (m + 1)) fk fp fs (d + 1) (nI p) eA eB pO co wy arr wa := by
  intro d
  induction d with
  | zero =>
    intro p arr hd hr ho
    obtain rfl : p = 7 := by omega
    exact pk_le 7 7 (fun _ => ⟨m + 1, sn_sp29 hS hm hw hp m 0 arr (fun _ => 100000) (by omega) hr ho ⟨fun p _ => ⟨Nat.le_refl _, sn_Q_far⟩, fun j hj => absurd hj (Nat.not_lt_zero j)⟩⟩) (fun h => absurd h (by omega))
  | succ d ih =>
    intro p arr hd hr ho
    rw [wX_startPart_2]
    dsimp only
    simp only [sn_ix]
    rw [nI_clamp (n := 7 * S + p) (by omega)]
    refine pk_le 7 p (fun h => absurd h (by omega)) (fun _ => ⟨vp_in_nI (by omega) (by decide), nm_e (nm_r (nI_1 p) (ih (p + 1) _ (by omega) (fun q hq => ?_) (sn_off_u (by omega) ho)))⟩)
    by_cases z : q = p
    · rw [z, pk_us]; rfl
    · rw [pk_un (by omega), hr q (by omega)]
theorem sn_sp (hS : S < 64) (hm : m ≤ 6) (hw : ∀ k, k < m → wa k = nI (w k) ∧ w k < 7)
    (hp : ∀ arr G, sn_row arr S G → sn_off pa arr S → sn_G0 ea eb c w m S m G → post (fm, nI (m + 1), fk, fp, fs, eA, eB, pO, co, wy, arr, wa)) :
    wpX_startPart post (fm, nI (m + 1), fk, fp, fs, eA, eB, pO, co, wy, pa, wa) (nI S) :=
  ⟨8, sn_sp2 hS hm hw hp 7 0 pa rfl (fun q hq => absurd hq (Nat.not_lt_zero q)) (fun _ _ => rfl)⟩
/-! ===== joinParts ===== -/
theorem sn_jp24 {h o : Nat} (hS : S < 64) (h1 : 1 ≤ h) (h2 : h < S) (o1 : 1 ≤ o) (o2 : o < S) (hG : ∀ p, p < 7 → G p ≤ 100000) (hF : ∀ A p, 1 ≤ A → A < S → p < 7 → F A p ≤ 100000)
    (hH : sn_H pa S F) (hJ : ∀ arr, sn_row arr S (sn_h G F h o) → sn_off pa arr S → J2 (nI (h + 1)) eA eB pO co wy arr wa) :
    ∀ d p arr, p + d = 7 → sn_row arr S (fun q => if q < p then sn_h G F h o q else G q) → sn_off pa arr S → wX_joinParts_24 post J2 (nI S) (nI h) (nI o) fm fw fk fp fs (d + 1) (nI p) eA eB pO co wy arr wa := by
  intro d
  induction d with
  | zero =>
    intro p arr hd hr ho
    obtain rfl : p = 7 := by omega
    have hr' : ∀ q, q < 7 → arr (7 * S + q) = nI (if q < 7 then sn_h G F h o q else G q) := hr
    refine pk_le 7 7 (fun _ => nm_r (nI_1 h) (hJ arr (fun q hq => ?_) ho)) (fun h => absurd h (by omega))
    rw [hr' q hq, if_pos hq]
  | succ d ih =>
    intro p arr hd hr ho
    have hp7 : p < 7 := by omega
    have H2 := sn_off_H ho hH
    have hr' : ∀ q, q < 7 → arr (7 * S + q) = nI (if q < p then sn_h G F h o q else G q) := hr
    have r1 := H2 h p h1 h2 hp7
    have r2 := H2 o p o1 o2 hp7
    have r3 : arr (7 * S + p) = nI (G p) := by rw [hr' p hp7, if_neg (Nat.lt_irrefl p)]
    have b1 := hF h p h1 h2 hp7
    have b2 := hF o p o1 o2 hp7
    have b3 := hG p hp7
    rw [wX_joinParts_24]
    dsimp only
    simp only [sn_ix]
    rw [nI_clamp (n := 7 * h + p) (by omega), nI_clamp (n := 7 * o + p) (by omega), nI_clamp (n := 7 * S + p) (by omega), r1, r2, r3]
    refine pk_le 7 p (fun h => absurd h (by omega)) (fun _ => ⟨vp_in_nI (by omega) (by decide), vp_in_nI (by omega) (by decide), nm_r (nI_add _ _) ⟨vp_in_nI (by omega) (by decide), ?_⟩⟩)
    refine pk_le (G p) (F h p + F o p) (fun z => nm_r (nI_1 p) (ih (p + 1) arr (by omega) (fun q hq => ?_) ho)) (fun z => ⟨vp_in_nI (by omega) (by decide), nm_e (nm_r (nI_1 p) (ih (p + 1) _ (by omega) (fun q hq => ?_) (sn_off_u hp7 ho)))⟩)
    · show _ = nI (if q < p + 1 then sn_h G F h o q else G q)
      by_cases y : q = p
      · subst y
        rw [r3, if_pos (by omega)]
        unfold sn_h
        rw [if_pos z]
      · rw [hr' q hq]
        by_cases x : q < p
        · rw [if_pos x, if_pos (by omega)]
        · rw [if_neg x, if_neg (by omega)]
    · show _ = nI (if q < p + 1 then sn_h G F h o q else G q)
      by_cases y : q = p
      · subst y
        rw [pk_us, if_pos (by omega)]
        unfold sn_h
        rw [if_neg (by omega)]
      · rw [pk_un (by omega), hr' q hq]
        by_cases x : q < p
        · rw [if_pos x, if_pos (by omega)]
        · rw [if_neg x, if_neg (by omega)]
theorem sn_jp2 (hS : S < 64) (hF : sn_F ea eb c w D m S F) (hH : sn_H pa S F)
    (hp : ∀ arr G, sn_row arr S G → sn_off pa arr S → sn_G1 ea eb c w F m S S G → post (fm, fw, fk, fp, fs, eA, eB, pO, co, wy, arr, wa)) :
    ∀ d h arr G, h + d = S → 1 ≤ h → sn_row arr S G → sn_off pa arr S → sn_G1 ea eb c w F m S h G → wX_joinParts_2 post (nI S) fm fw fk fp fs (d + 1) (nI h) eA eB pO co wy arr wa := by
  intro d
  induction d with
  | zero =>
    intro h arr G hd h1 hr ho hG
    obtain rfl : h = S := by omega
    exact pk_le h h (fun _ => hp arr G hr ho hG) (fun h => absurd h (by omega))
  | succ d ih =>
    intro h arr G hd h1 hr ho hG
    have ba : h &&& (h ^^^ S) ≤ h := Nat.and_le_left
    rw [wX_joinParts_2]
    dsimp only
    rw [sn_andn, sn_andn]
    refine pk_le S h (fun h => absurd h (by omega)) (fun _ => pk_eq (h &&& (h ^^^ S)) 0 (fun z => ?_) (fun z => ?_))
    · have z2 := sn_hf.mp z
      obtain ⟨a1, a2, a3⟩ := sn_hl z2 (by omega) (by omega)
      refine nm_r (e' := nI (S ^^^ h)) (by rw [sn_hr z2]) ⟨8, ?_⟩
      refine sn_jp24 (G := G) (F := F) (pa := pa) hS h1 (by omega) (by omega) a2 (fun p hp => (hG.1.1 p hp).1) (fun A p x1 x2 x3 => ((hF A x1 x2).1 p x3).1) hH (fun arr' r' o' => ?_) 7 0 arr rfl (fun q hq => ?_) ho
      · exact ih (h + 1) arr' _ (by omega) (by omega) r' o' (sn_G1_s hF h1 (by omega) z2 hG)
      · show _ = nI (if q < 0 then _ else G q)
        rw [if_neg (by omega)]; exact hr q hq
    · exact nm_r (nI_1 h) (ih (h + 1) arr G (by omega) (by omega) hr ho (sn_G1_k (fun y => z (sn_hf.mpr y)) hG))
theorem sn_jp {arr : Nat → Int32} (hS : S < 64) (h1 : 1 ≤ S) (hF : sn_F ea eb c w D m S F) (hH : sn_H pa S F) (hr : sn_row arr S G) (ho : sn_off pa arr S) (hG : sn_G0 ea eb c w m S m G)
    (hp : ∀ arr G, sn_row arr S G → sn_off pa arr S → sn_G1 ea eb c w F m S S G → post (fm, fw, fk, fp, fs, eA, eB, pO, co, wy, arr, wa)) :
    wpX_joinParts post (fm, fw, fk, fp, fs, eA, eB, pO, co, wy, arr, wa) (nI S) :=
  ⟨(S - 1) + 1, sn_jp2 hS hF hH hp (S - 1) 1 arr G (by omega) (Nat.le_refl 1) hr ho ⟨hG, fun A a1 a2 => absurd a2 (by omega)⟩⟩
/-! ===== carryTo, carryPart ===== -/
theorem sn_ct15 {cur : Nat → Nat} {p : Nat} (hS : S < 64) (hp7 : p < 7) (hr : sn_row pa S cur) (hA : sn_A wy D) (hc : ∀ q, q < 7 → cur q ≤ 100000) (hD : ∀ a b, a < 7 → b < 7 → D a b ≤ 100000)
    (hp : ∀ L, L ≤ cur p → (∀ q, q < 7 → L ≤ cur q + D q p) → (∃ q, q < 7 ∧ L = cur q + D q p) → post (fm, fw, fk, fp, fs, eA, eB, pO, co, wy, upd pa (7 * S + p) (nI L), wa)) :
    ∀ d q L, q + d = 7 → L ≤ cur p → (∀ q', q' < q → L ≤ cur q' + D q' p) → (∃ q', q' < 7 ∧ L = cur q' + D q' p) → wX_carryTo_15 post (nI S) (nI p) fm fw fk fp fs eA eB pO co wy pa wa (d + 1) (nI L) (nI q) := by
  intro d
  induction d with
  | zero =>
    intro q L hd h1 h2 h3
    obtain rfl : q = 7 := by omega
    rw [wX_carryTo_15]
    dsimp only
    simp only [sn_ix]
    rw [nI_clamp (n := 7 * S + p) (by omega)]
    exact pk_le 7 7 (fun _ => ⟨vp_in_nI (by omega) (by decide), nm_e (hp L h1 h2 h3)⟩) (fun h => absurd h (by omega))
  | succ d ih =>
    intro q L hd h1 h2 h3
    have hq7 : q < 7 := by omega
    have r1 := hr q hq7
    have r2 := hA q p hq7 hp7
    have b1 := hc q hq7
    have b2 := hD q p hq7 hp7
    have b3 := hc p hp7
    rw [wX_carryTo_15]
    dsimp only
    simp only [sn_ix]
    rw [nI_clamp (n := 7 * S + q) (by omega), nI_clamp (n := 7 * q + p) (by omega), r1, r2]
    refine pk_le 7 q (fun h => absurd h (by omega)) (fun _ => ⟨vp_in_nI (by omega) (by decide), vp_in_nI (by omega) (by decide), nm_r (nI_add _ _) ?_⟩)
    refine pk_le L (cur q + D q p) (fun z => nm_r (nI_1 q) (ih (q + 1) L (by omega) h1 (fun x hx => ?_) h3)) (fun z => nm_r (nI_1 q) (ih (q + 1) (cur q + D q p) (by omega) (by omega) (fun x hx => ?_) ⟨q, hq7, rfl⟩))
    · rcases Nat.lt_or_ge x q with y | y
      · exact h2 x y
      · obtain rfl : x = q := by omega
        exact z
    · rcases Nat.lt_or_ge x q with y | y
      · have := h2 x y
        omega
      · obtain rfl : x = q := by omega
        exact Nat.le_refl _
theorem sn_ct {cur : Nat → Nat} {p : Nat} (hS : S < 64) (hp7 : p < 7) (hd : D p p = 0) (hr : sn_row pa S cur) (hA : sn_A wy D) (hc : ∀ q, q < 7 → cur q ≤ 100000) (hD : ∀ a b, a < 7 → b < 7 → D a b ≤ 100000)
    (hp : ∀ L, L ≤ cur p → (∀ q, q < 7 → L ≤ cur q + D q p) → (∃ q, q < 7 ∧ L = cur q + D q p) → post (fm, fw, fk, fp, fs, eA, eB, pO, co, wy, upd pa (7 * S + p) (nI L), wa)) :
    wpX_carryTo post (fm, fw, fk, fp, fs, eA, eB, pO, co, wy, pa, wa) (nI S) (nI p) := by
  unfold wpX_carryTo
  dsimp only
  rw [sn_ix, nI_clamp (n := 7 * S + p) (by omega)]
  exact ⟨vp_in_nI (by omega) (by decide), nm_r (hr p hp7) ⟨8, sn_ct15 hS hp7 hr hA hc hD hp 7 0 (cur p) rfl (Nat.le_refl _) (fun x hx => absurd hx (Nat.not_lt_zero x)) ⟨p, hp7, by rw [hd, Nat.add_zero]⟩⟩⟩
theorem sn_cp2 (hS : S < 64) (hA : sn_A wy D) (hD : sn_D ea eb c 7 D) (hG : ∀ q, q < 7 → G q ≤ 100000)
    (hp : ∀ arr R, sn_row arr S R → sn_off pa arr S → sn_cp G D 7 R → post (fm, fw, fk, fp, fs, eA, eB, pO, co, wy, arr, wa)) :
    ∀ d p arr cur, p + d = 7 → sn_row arr S cur → sn_off pa arr S → (∀ q, q < 7 → cur q ≤ 100000) → sn_cp G D p cur → wX_carryPart_2 post (nI S) (d + 1) (nI p) fm fw fk fp fs eA eB pO co wy arr wa := by
  intro d
  induction d with
  | zero =>
    intro p arr cur hd hr ho hc hC
    obtain rfl : p = 7 := by omega
    exact pk_le 7 7 (fun _ => hp arr cur hr ho hC) (fun h => absurd h (by omega))
  | succ d ih =>
    intro p arr cur hd hr ho hc hC
    have hp7 : p < 7 := by omega
    refine pk_le 7 p (fun h => absurd h (by omega)) (fun _ => sn_ct hS hp7 (hD.2.1 p hp7) hr hA hc (fun a b ha hb => (hD.1 a b ha hb).1) (fun L l1 l2 l3 => ?_))
    dsimp only
    refine nm_r (nI_1 p) (ih (p + 1) _ _ (by omega) (sn_row_u hp7 L hr) (sn_off_u hp7 ho) (fun q hq => ?_) (sn_cp_st hp7 hD.2.1 hD.2.2.1 l2 l3 hC))
    by_cases z : q = p
    · rw [if_pos z]; exact Nat.le_trans l1 (hc p hp7)
    · rw [if_neg z]; exact hc q hq
theorem sn_cpP {arr : Nat → Int32} (hS : S < 64) (hA : sn_A wy D) (hD : sn_D ea eb c 7 D) (hG : ∀ q, q < 7 → G q ≤ 100000) (hr : sn_row arr S G) (ho : sn_off pa arr S)
    (hp : ∀ arr R, sn_row arr S R → sn_off pa arr S → sn_cp G D 7 R → post (fm, fw, fk, fp, fs, eA, eB, pO, co, wy, arr, wa)) :
    wpX_carryPart post (fm, fw, fk, fp, fs, eA, eB, pO, co, wy, arr, wa) (nI S) := ⟨8, sn_cp2 hS hA hD hG hp 7 0 arr G rfl hr ho hG (sn_cp_0 hD.2.1)⟩
end
end
section
/-! ===== leastFor: the least price of a choice that joins the points of S ===== -/
def sn_L (ea eb c : Nat → Nat) (S r : Nat) : Prop := r ≤ 100000 ∧ (∀ C, sn_J ea eb C S → r ≤ sn_c c C 10) ∧ (r < 100000 → ∃ C, C < 1024 ∧ sn_J ea eb C S ∧ sn_c c C 10 ≤ r)
section
variable {ea eb c w : Nat → Nat} {D F : Nat → Nat → Nat} {m S : Nat}
theorem sn_F_T (hD : sn_D ea eb c 7 D) (he : ∀ k, k < 10 → ea k < 7 ∧ eb k < 7) (hF : sn_F ea eb c w D m (2 ^ m) F) : sn_T ea eb c w (fun A u => if A = 0 then 0 else F A u) m := by
  refine ⟨fun u => if_pos rfl, fun A B u h0 hl hu => ?_, fun A k hA hk => ?_, fun k hk => ?_⟩
  · try dsimp only
    by_cases zA : A = 0
    · subst zA
      rw [Nat.zero_or, if_pos rfl, Nat.zero_add]
      exact Nat.le_refl _
    · by_cases zB : B = 0
      · subst zB
        rw [Nat.or_zero, if_pos (c := (0 : Nat) = 0) rfl, Nat.add_zero]
        exact Nat.le_refl _
      · have s1 : A &&& (A ||| B) = A := sn_subI (fun i hi => by rw [Nat.testBit_or, hi]; rfl)
        have s2 : A ≠ A ||| B := by
          intro e
          have s3 : B &&& A = B := sn_subI (fun i hi => by
            rw [e, Nat.testBit_or, hi]
            cases A.testBit i <;> rfl)
          rw [Nat.and_comm, h0] at s3
          exact zB s3.symm
        have s4 : (A ||| B) ^^^ A = B := by
          apply Nat.eq_of_testBit_eq
          intro i
          rw [Nat.testBit_xor, Nat.testBit_or]
          cases z : A.testBit i
          · cases B.testBit i <;> rfl
          · rw [sn_and0 h0 z]; rfl
        obtain ⟨a1, a2, a3⟩ := sn_hl s1 zA s2
        have := (hF (A ||| B) (by omega) hl).2.2.1 A (by omega) a1 s1 u hu
        rw [s4] at this
        rw [if_neg (show ¬ A ||| B = 0 by omega), if_neg zA, if_neg zB]
        exact this
  · try dsimp only
    by_cases z : A = 0
    · rw [if_pos z, if_pos z]
      exact ⟨Nat.zero_le _, Nat.zero_le _⟩
    · rw [if_neg z, if_neg z]
      have g := (hF A (by omega) hA).2.2.2
      have e := he k hk
      have g1 := g (ea k) (eb k) e.1 e.2
      have g2 := g (eb k) (ea k) e.2 e.1
      have g3 := hD.2.2.2 k hk
      omega
  · try dsimp only
    have p1 : 0 < 2 ^ k := Nat.two_pow_pos k
    have p2 : 2 ^ k < 2 ^ m := Nat.pow_lt_pow_right (by decide) hk
    rw [if_neg (by omega)]
    exact (hF (2 ^ k) (by omega) p2).2.1 k hk rfl
theorem sn_L_of (hD : sn_D ea eb c 7 D) (he : ∀ k, k < 10 → ea k < 7 ∧ eb k < 7) (hF : sn_F ea eb c w D m (2 ^ m) F) (hm : 1 ≤ m)
    (hw : ∀ k, k < m + 1 → w k < 7 ∧ S.testBit (w k) = true) (hc : ∀ q, S.testBit q = true → ∃ k, k < m + 1 ∧ w k = q) : sn_L ea eb c S (F (2 ^ m - 1) (w m)) := by
  have p1 : 2 ^ 1 ≤ 2 ^ m := Nat.pow_le_pow_right (by decide) hm
  have wm := hw m (by omega)
  have f1 := (hF (2 ^ m - 1) (by omega) (by omega)).1 (w m) wm.1
  refine ⟨f1.1, fun C hJ => ?_, fun hl => ?_⟩
  · have g := sn_lower (C := C) (p := w m) (sn_F_T hD he hF) he wm.1 (fun k hk => hJ _ _ wm.2 (hw k (by omega)).2)
    try dsimp only at g
    rw [if_neg (by omega)] at g
    exact g
  · obtain ⟨C, hC, rC, cC⟩ := f1.2 hl
    have key : ∀ q, S.testBit q = true → sn_R ea eb C q (w m) := by
      intro q hq
      obtain ⟨k, hk, e⟩ := hc q hq
      subst e
      rcases Nat.lt_or_ge k m with z | z
      · exact rC k z (by rw [Nat.testBit_two_pow_sub_one]; exact decide_eq_true z)
      · obtain rfl : k = m := by omega
        exact sn_R_rf
    exact ⟨C, hC, fun p q hp hq => sn_R_tr (key p hp) (sn_R_sy (key q hq)), cC⟩
end
section
variable {post : Int32 → SX → Prop} {fm fk fp fs : Int32} {eA eB pO co wy pa wa : Nat → Int32} {ea eb c w : Nat → Nat} {D : Nat → Nat → Nat} {m S : Nat}
theorem sn_lf72 (hm1 : 1 ≤ m) (hm : m ≤ 6) (hw : ∀ k, k < m + 1 → wa k = nI (w k) ∧ w k < 7) (hA : sn_A wy D) (hD : sn_D ea eb c 7 D)
    (hp : ∀ F arr, sn_F ea eb c w D m (2 ^ m) F → post (nI (F (2 ^ m - 1) (w m))) (fm, nI (m + 1), fk, fp, fs, eA, eB, pO, co, wy, arr, wa)) :
    ∀ d S arr F, S + d = 2 ^ m → 1 ≤ S → sn_H arr S F → sn_F ea eb c w D m S F → wX_leastFor_72 post (nI (2 ^ m)) (d + 1) (nI S) fm (nI (m + 1)) fk fp fs eA eB pO co wy arr wa := by
  have h64 : 2 ^ m ≤ 2 ^ 6 := Nat.pow_le_pow_right (by decide) hm
  have h2 : 2 ^ 1 ≤ 2 ^ m := Nat.pow_le_pow_right (by decide) hm1
  intro d
  induction d with
  | zero =>
    intro S arr F hd h1 hH hF
    obtain rfl : S = 2 ^ m := by omega
    obtain ⟨w1, w2⟩ := hw m (by omega)
    have e1 : nI (2 ^ m) - 1 = nI (2 ^ m - 1) := pk_sub (a := 2 ^ m) (b := 1) (by omega)
    have r := hH (2 ^ m - 1) (w m) (by omega) (by omega) w2
    rw [wX_leastFor_72]
    dsimp only
    rw [nI_pred, nI_clamp (n := m) (by omega), w1, e1, sn_ix, nI_clamp (n := 7 * (2 ^ m - 1) + w m) (by omega), r]
    exact pk_le (2 ^ m) (2 ^ m) (fun _ => ⟨vp_in_nI (by omega) (by decide), vp_in_nI (by omega) (by decide), hp F arr hF⟩) (fun h => absurd h (by omega))
  | succ d ih =>
    intro S arr F hd h1 hH hF
    have hS : S < 64 := by omega
    refine pk_le (2 ^ m) S (fun h => absurd h (by omega)) (fun _ => ?_)
    refine sn_sp (ea := ea) (eb := eb) (c := c) (w := w) hS hm (fun k hk => hw k (by omega)) (fun a1 G1 r1 o1 g1 => ?_)
    dsimp only
    refine sn_jp (pa := arr) hS h1 hF hH r1 o1 g1 (fun a2 G2 r2 o2 g2 => ?_)
    dsimp only
    refine sn_cpP (pa := arr) hS hA hD (fun q hq => (g2.1.1 q hq).1) r2 o2 (fun a3 R r3 o3 c3 => ?_)
    dsimp only
    exact nm_r (nI_1 S) (ih (S + 1) a3 _ (by omega) (by omega) (sn_H_st (sn_off_H o3 hH) r3) (sn_F_st h1 hD.2.1 hD.2.2.1 hD.1 (fun k hk => (hw k (by omega)).2) hF g2 c3))
theorem sn_lf7 (hX : sn_X ea eb c eA eB co) (hS : S < 128)
    (hp : ∀ r wc wy pa wa, sn_L ea eb c S r → post (nI r) (fm, wc, fk, fp, fs, eA, eB, pO, co, wy, pa, wa)) :
    ∀ (d p n : Nat) (w : Nat → Nat) (wa : Nat → Int32), p + d = 7 → n ≤ p → (∀ k, k < n → wa k = nI (w k) ∧ w k < 7 ∧ S.testBit (w k) = true) → (∀ q, q < p → S.testBit q = true → ∃ k, k < n ∧ w k = q) →
      wX_leastFor_7 post (nI S) fm fk fp fs (d + 1) (nI p) (nI n) eA eB pO co wy pa wa := by
  have he : ∀ k, k < 10 → ea k < 7 ∧ eb k < 7 := fun k hk => (hX k hk).1
  intro d
  induction d with
  | zero =>
    intro p n w wa hd hn hw hc
    obtain rfl : p = 7 := by omega
    have hc' : ∀ q, S.testBit q = true → ∃ k, k < n ∧ w k = q := by
      intro q hq
      rcases Nat.lt_or_ge q 7 with z | z
      · exact hc q z hq
      · rw [sn_tlt (n := 7) hS z] at hq
        exact absurd hq (by decide)
    refine pk_le 7 7 (fun _ => pk_le 2 n (fun h2 => sn_fw hX (fun arr D hA hD => ?_)) (fun h2 => hp 0 _ _ _ _ ?_)) (fun h => absurd h (by omega))
    · obtain ⟨m, rfl⟩ : ∃ m, n = m + 1 := ⟨n - 1, by omega⟩
      have p1 : 0 < 2 ^ m := Nat.two_pow_pos m
      dsimp only
      rw [nI_pred]
      refine nm_r (sn_shl (by omega)) ⟨2 ^ m - 1 + 1, ?_⟩
      refine sn_lf72 (w := w) (by omega) (by omega) (fun k hk => ⟨(hw k hk).1, (hw k hk).2.1⟩) hA hD (fun F arr' hF => ?_) (2 ^ m - 1) 1 pa (fun _ _ => 0) (by omega) (Nat.le_refl 1) (fun A p a1 a2 => absurd a2 (by omega)) (fun A a1 a2 => absurd a2 (by omega))
      exact hp _ _ _ _ _ (sn_L_of hD he hF (by omega) (fun k hk => (hw k hk).2) hc')
    · refine ⟨by omega, fun C _ => Nat.zero_le _, fun _ => ⟨0, by decide, fun p q h1 h3 => ?_, by rw [sn_c_0]; omega⟩⟩
      obtain ⟨k1, k2, k3⟩ := hc' p h1
      obtain ⟨j1, j2, j3⟩ := hc' q h3
      obtain rfl : k1 = 0 := by omega
      obtain rfl : j1 = 0 := by omega
      rw [← k3, ← j3]
      exact sn_R_rf
  | succ d ih =>
    intro p n w wa hd hn hw hc
    rw [wX_leastFor_7]
    dsimp only
    rw [sn_ub0 (by omega) (by omega), nI_clamp (n := n) (by omega)]
    refine pk_le 7 p (fun h => absurd h (by omega)) (fun _ => br_c (fun z => nm_r (nI_1 p) (ih (p + 1) n w wa (by omega) (by omega) hw (fun q hq hb => ?_))) (fun z => ⟨vp_in_nI (by omega) (by decide), nm_e (nm_r (nI_1 n) (nm_r (nI_1 p) (ih (p + 1) (n + 1) (fun k => if k = n then p else w k) _ (by omega) (by omega) (fun k hk => ?_) (fun q hq hb => ?_))))⟩))
    · rcases Nat.lt_or_ge q p with y | y
      · exact hc q y hb
      · obtain rfl : q = p := by omega
        rw [z] at hb
        exact absurd hb (by decide)
    · try dsimp only
      by_cases y : k = n
      · rw [if_pos y, y, pk_us]
        exact ⟨rfl, by omega, by cases e : S.testBit p <;> first | exact absurd e z | rfl⟩
      · rw [if_neg y, pk_un y]
        exact hw k (by omega)
    · try dsimp only
      rcases Nat.lt_or_ge q p with y | y
      · obtain ⟨k, k1, k2⟩ := hc q y hb
        exact ⟨k, by omega, by rw [if_neg (by omega)]; exact k2⟩
      · exact ⟨n, by omega, by rw [if_pos rfl]; omega⟩
/-- leastFor: its answer r is the least price -/
theorem sn_lf {wc : Int32} (hX : sn_X ea eb c eA eB co) (hS : S < 128)
    (hp : ∀ r wc wy pa wa, sn_L ea eb c S r → post (nI r) (fm, wc, fk, fp, fs, eA, eB, pO, co, wy, pa, wa)) :
    wpX_leastFor post (fm, wc, fk, fp, fs, eA, eB, pO, co, wy, pa, wa) (nI S) :=
  ⟨8, sn_lf7 hX hS hp 7 0 0 (fun _ => 0) wa rfl (Nat.le_refl 0) (fun k hk => absurd hk (Nat.not_lt_zero k)) (fun q hq => absurd hq (Nat.not_lt_zero q))⟩
end
end
section
/-! ===== the reference: every choice is tried ===== -/
/-- the lines as the reference holds them; price 0: the line isn't there -/
def sn_Y (ea eb pr : Nat → Nat) (th fr to pc : Nat → Int32) : Prop := ∀ k, k < 10 → (ea k < 7 ∧ eb k < 7) ∧ fr k = nI (ea k) ∧ to k = nI (eb k) ∧ (th k = 0 ↔ pr k = 0) ∧ (pr k ≠ 0 → pc k = nI (pr k)) ∧ pr k ≤ 100
def sn_M (M : Nat) (mk : Nat → Int32) : Prop := ∀ p, p < 7 → (mk p = 0 ↔ M.testBit p = false)
def sn_ok (pr : Nat → Nat) (C : Nat) : Prop := ∀ k, k < 10 → C.testBit k = true → pr k ≠ 0
section
variable {post : Int32 → Prop} {th fr to pc mk : Nat → Int32} {ea eb pr : Nat → Nat} {C S M : Nat}
theorem sn_po4 (hY : sn_Y ea eb pr th fr to pc) (hC : C < 1024) (h1 : sn_ok pr C → post (nI (sn_c pr C 10))) (h2 : ¬ sn_ok pr C → post (-1)) :
    ∀ d k, k + d = 10 → (∀ j, j < k → C.testBit j = true → pr j ≠ 0) → wY_priceOf_4 post (nI C) th fr to pc mk (d + 1) (nI (sn_c pr C k)) (nI k) := by
  intro d
  induction d with
  | zero =>
    intro k hk hok
    obtain rfl : k = 10 := by omega
    exact pk_le 10 10 (fun _ => h1 hok) (fun h => absurd h (by omega))
  | succ d ih =>
    intro k hk hok
    have hk10 : k < 10 := by omega
    obtain ⟨_, _, _, y1, y2, _⟩ := hY k hk10
    have v0 : vp_in (nI k) 10 := vp_in_nI hk10 (by decide)
    rw [wY_priceOf_4]
    dsimp only
    rw [sn_sb1 (by omega) (by omega), nI_clamp (n := k) (by omega)]
    refine pk_le 10 k (fun h => absurd h (by omega)) (fun _ => br_c (fun z => ⟨v0, br_c (fun y => h2 (fun o => o k hk10 z (y1.mp y))) (fun y => ?_)⟩) (fun z => nm_r (nI_1 k) ?_))
    · have hn : pr k ≠ 0 := fun e => y (y1.mpr e)
      refine ⟨v0, nm_r (e' := nI (sn_c pr C (k + 1))) (by rw [y2 hn, nI_add, sn_c, sn_t1 z]) (nm_r (nI_1 k) (ih (k + 1) (by omega) (fun j hj hb => ?_)))⟩
      rcases Nat.lt_or_ge j k with x | x
      · exact hok j x hb
      · obtain rfl : j = k := by omega
        exact hn
    · have g := ih (k + 1) (by omega) (fun j hj hb => by
        rcases Nat.lt_or_ge j k with x | x
        · exact hok j x hb
        · obtain rfl : j = k := by omega
          exact absurd hb z)
      rw [sn_c, sn_t0 (sn_bf z), Nat.add_zero] at g
      exact g
theorem sn_po (hY : sn_Y ea eb pr th fr to pc) (hC : C < 1024) (h1 : sn_ok pr C → post (nI (sn_c pr C 10))) (h2 : ¬ sn_ok pr C → post (-1)) :
    wpY_priceOf post (th, fr, to, pc, mk) (nI C) := ⟨11, sn_po4 hY hC h1 h2 10 0 rfl (fun j hj => absurd hj (Nat.not_lt_zero j))⟩
theorem sn_mk4 (hM : M < 128) (hK : sn_M M mk) (hp : post (nI M)) :
    ∀ d p, p + d = 7 → wY_marks_4 post th fr to pc mk (d + 1) (nI (M % 2 ^ p)) (nI p) := by
  intro d
  induction d with
  | zero =>
    intro p hd
    obtain rfl : p = 7 := by omega
    rw [Nat.mod_eq_of_lt (show M < 2 ^ 7 from hM)]
    exact pk_le 7 7 (fun _ => hp) (fun h => absurd h (by omega))
  | succ d ih =>
    intro p hd
    have hb := hK p (by omega)
    rw [wY_marks_4]
    dsimp only
    rw [nI_clamp (n := p) (by omega), sn_shl (show p < 31 by omega), sn_or]
    refine pk_le 7 p (fun h => absurd h (by omega)) (fun _ => ⟨vp_in_nI (by omega) (by decide), br_c (fun z => nm_r (nI_1 p) ?_) (fun z => nm_r (e' := nI (M % 2 ^ (p + 1))) (congrArg nI ?_) (nm_r (nI_1 p) (ih (p + 1) (by omega))))⟩)
    · have g := ih (p + 1) (by omega)
      have e : M % 2 ^ (p + 1) = M % 2 ^ p := by
        apply Nat.eq_of_testBit_eq
        intro i
        rw [Nat.testBit_mod_two_pow, Nat.testBit_mod_two_pow]
        by_cases y : i = p
        · rw [y, hb.mp z, Bool.and_false, Bool.and_false]
        · have : decide (i < p + 1) = decide (i < p) := by
            by_cases x : i < p
            · rw [decide_eq_true x, decide_eq_true (by omega)]
            · rw [decide_eq_false x, decide_eq_false (by omega)]
          rw [this]
      rw [e] at g
      exact g
    · have zb : M.testBit p = true := by
        cases e : M.testBit p
        · exact absurd (hb.mpr e) z
        · rfl
      apply Nat.eq_of_testBit_eq
      intro i
      rw [Nat.testBit_or, Nat.testBit_mod_two_pow, Nat.testBit_mod_two_pow]
      by_cases y : i = p
      · rw [y, zb, Nat.testBit_two_pow_self, decide_eq_true (Nat.lt_succ_self p), Bool.or_true]
        rfl
      · have : decide (i < p + 1) = decide (i < p) := by
          by_cases x : i < p
          · rw [decide_eq_true x, decide_eq_true (by omega)]
          · rw [decide_eq_false x, decide_eq_false (by omega)]
        rw [this, Nat.testBit_two_pow_of_ne (fun e => y e.symm), Bool.or_false]
theorem sn_mk (hM : M < 128) (hK : sn_M M mk) (hp : post (nI M)) : wpY_marks post (th, fr, to, pc, mk) := by
  have g := sn_mk4 (th := th) (fr := fr) (to := to) (pc := pc) hM hK hp 7 0 rfl
  rw [Nat.pow_zero, Nat.mod_one] at g
  exact ⟨8, g⟩
end
/-! ===== joins ===== -/
def sn_cl (ea eb : Nat → Nat) (C X : Nat) : Prop := ∀ k, k < 10 → C.testBit k = true → X.testBit (ea k) = X.testBit (eb k)
theorem sn_tc {X a b : Nat} : X &&& (2 ^ a ||| 2 ^ b) = 0 ↔ X.testBit a = false ∧ X.testBit b = false := by
  constructor
  · intro h
    have g : ∀ i, (2 ^ a ||| 2 ^ b).testBit i = true → X.testBit i = false := fun i hi => sn_and0 (by rw [Nat.and_comm]; exact h) hi
    exact ⟨g a (by rw [Nat.testBit_or, Nat.testBit_two_pow_self]; rfl), g b (by rw [Nat.testBit_or, Nat.testBit_two_pow_self, Bool.or_true])⟩
  · rintro ⟨h1, h2⟩
    apply sn_and0I
    intro i hi
    rw [Nat.testBit_or]
    have n1 : a ≠ i := by intro e; rw [← e, h1] at hi; exact absurd hi (by decide)
    have n2 : b ≠ i := by intro e; rw [← e, h2] at hi; exact absurd hi (by decide)
    rw [Nat.testBit_two_pow_of_ne n1, Nat.testBit_two_pow_of_ne n2]
    rfl
theorem sn_te {X a b : Nat} (i : Nat) : (X ||| (2 ^ a ||| 2 ^ b)).testBit i = true ↔ X.testBit i = true ∨ i = a ∨ i = b := by
  rw [Nat.testBit_or, Nat.testBit_or, Bool.or_eq_true, Bool.or_eq_true, Nat.testBit_two_pow, Nat.testBit_two_pow, decide_eq_true_eq, decide_eq_true_eq]
  constructor
  · rintro (h | h | h)
    · exact Or.inl h
    · exact Or.inr (Or.inl h.symm)
    · exact Or.inr (Or.inr h.symm)
  · rintro (h | h | h)
    · exact Or.inl h
    · exact Or.inr (Or.inl h.symm)
    · exact Or.inr (Or.inr h.symm)
def sn_n (X : Nat) : Nat := sn_s (fun u => if X.testBit u = true then 1 else 0) 7
theorem sn_n_lt {X Y : Nat} (hX : X < 128) (hY : Y < 128) (h : ∀ p, X.testBit p = true → Y.testBit p = true) (hn : Y ≠ X) : sn_n X < sn_n Y := by
  have key : ∃ u, u < 7 ∧ X.testBit u = false ∧ Y.testBit u = true := by
    apply Classical.byContradiction
    intro hc
    apply hn
    apply Nat.eq_of_testBit_eq
    intro i
    rcases Nat.lt_or_ge i 7 with z | z
    · cases e : X.testBit i
      · cases e2 : Y.testBit i
        · rfl
        · exact absurd ⟨i, z, e, e2⟩ hc
      · exact h i e
    · rw [sn_tlt (n := 7) hX z, sn_tlt (n := 7) hY z]
  obtain ⟨u, hu, x, y⟩ := key
  unfold sn_n
  have s1 := sn_s_at (g := fun u => if X.testBit u = true then 1 else 0) 7 hu
  have s2 := sn_s_at (g := fun u => if Y.testBit u = true then 1 else 0) 7 hu
  rw [x, if_neg (by decide)] at s1
  rw [y, if_pos rfl] at s2
  have s3 := sn_s_le (g := fun v => if v = u then 0 else if X.testBit v = true then 1 else 0) (f := fun v => if v = u then 0 else if Y.testBit v = true then 1 else 0) 7 (fun v hv => by
    try dsimp only
    by_cases z : v = u
    · rw [if_pos z, if_pos z]; exact Nat.le_refl _
    · rw [if_neg z, if_neg z]
      cases e : X.testBit v
      · rw [if_neg (by decide)]; exact Nat.zero_le _
      · rw [h v e]; exact Nat.le_refl _)
  omega
theorem sn_n_7 {X : Nat} (h : 7 ≤ sn_n X) {u : Nat} (hu : u < 7) : X.testBit u = true := by
  cases e : X.testBit u
  · exfalso
    have s1 := sn_s_at (g := fun u => if X.testBit u = true then 1 else 0) 7 hu
    rw [e, if_neg (by decide)] at s1
    have s3 := sn_s_le (g := fun v => if v = u then 0 else if X.testBit v = true then 1 else 0) (f := fun v => if v = u then 0 else 1) 7 (fun v _ => by
      try dsimp only
      by_cases z : v = u
      · rw [if_pos z, if_pos z]; exact Nat.le_refl _
      · rw [if_neg z, if_neg z]; split <;> omega)
    have s4 := sn_s_at (g := fun _ => 1) 7 hu
    have s5 : sn_s (fun _ => 1) 7 = 7 := rfl
    unfold sn_n at h
    omega
  · rfl
section
variable {post : Int32 → Prop} {J8 : Int32 → Int32 → Prop} {th fr to pc mk : Nat → Int32} {ea eb pr : Nat → Nat} {C S s r X0 : Nat}
theorem sn_jn18 (hY : sn_Y ea eb pr th fr to pc) (hC : C < 1024)
    (hJ : ∀ X, X < 128 → (∀ p, X0.testBit p = true → X.testBit p = true) → (∀ p, X.testBit p = true → sn_R ea eb C s p) → (X = X0 → sn_cl ea eb C X0) → (sn_cl ea eb C X0 → X = X0) → J8 (nI X) (nI (r + 1))) :
    ∀ d k X, k + d = 10 → X < 128 → (∀ p, X0.testBit p = true → X.testBit p = true) → (∀ p, X.testBit p = true → sn_R ea eb C s p) →
      (X = X0 → ∀ j, j < k → C.testBit j = true → X0.testBit (ea j) = X0.testBit (eb j)) → (sn_cl ea eb C X0 → X = X0) →
      wY_joins_18 post J8 (nI C) (nI S) (nI r) th fr to pc mk (d + 1) (nI X) (nI k) := by
  intro d
  induction d with
  | zero =>
    intro k X hk h1 h2 h3 h4 h5
    obtain rfl : k = 10 := by omega
    exact pk_le 10 10 (fun _ => nm_r (nI_1 r) (hJ X h1 h2 h3 h4 h5)) (fun h => absurd h (by omega))
  | succ d ih =>
    intro k X hk h1 h2 h3 h4 h5
    have hk10 : k < 10 := by omega
    obtain ⟨⟨ya, yb⟩, y1, y2, _⟩ := hY k hk10
    have v0 : vp_in (nI k) 10 := vp_in_nI hk10 (by decide)
    have hE : 2 ^ ea k ||| 2 ^ eb k < 2 ^ 7 := Nat.or_lt_two_pow (Nat.pow_lt_pow_right (by decide) ya) (Nat.pow_lt_pow_right (by decide) yb)
    have ba : X &&& (2 ^ ea k ||| 2 ^ eb k) ≤ X := Nat.and_le_left
    have st : ∀ j, j < k + 1 → j < k ∨ j = k := fun j hj => by omega
    rw [wY_joins_18]
    dsimp only
    rw [nI_clamp (n := k) (by omega), y1, y2, sn_shl (show ea k < 31 by omega), sn_shl (show eb k < 31 by omega), sn_or, sn_sb1 (by omega) (by omega)]
    refine pk_le 10 k (fun h => absurd h (by omega)) (fun _ => ⟨v0, v0, nm_e ?_⟩)
    rw [nx_and, sn_or]
    refine br_c (fun z => pk_eq (X &&& (2 ^ ea k ||| 2 ^ eb k)) 0 (fun y => nm_r (nI_1 k) (ih (k + 1) X (by omega) h1 h2 h3 (fun e j hj hb => ?_) h5)) (fun y => nm_e (nm_r (nI_1 k) (ih (k + 1) _ (by omega) ?_ ?_ ?_ ?_ ?_)))) (fun z => nm_r (nI_1 k) (ih (k + 1) X (by omega) h1 h2 h3 (fun e j hj hb => ?_) h5))
    · rcases st j hj with x | x
      · exact h4 e j x hb
      · obtain ⟨t1, t2⟩ := sn_tc.mp y
        rw [x, ← e, t1, t2]
    · exact Nat.or_lt_two_pow (n := 7) h1 hE
    · exact fun p hp => (sn_te p).mpr (Or.inl (h2 p hp))
    · have tch : X.testBit (ea k) = true ∨ X.testBit (eb k) = true := by
        apply Classical.byContradiction
        intro hn
        exact y (sn_tc.mpr ⟨sn_bf (fun q => hn (Or.inl q)), sn_bf (fun q => hn (Or.inr q))⟩)
      have red := sn_R_ed (ea := ea) (eb := eb) hk10 z
      have rab : sn_R ea eb C s (ea k) ∧ sn_R ea eb C s (eb k) := by
        rcases tch with q | q
        · exact ⟨h3 _ q, sn_R_tr (h3 _ q) red⟩
        · exact ⟨sn_R_tr (h3 _ q) (sn_R_sy red), h3 _ q⟩
      intro p hp
      rcases (sn_te p).mp hp with q | q | q
      · exact h3 p q
      · rw [q]; exact rab.1
      · rw [q]; exact rab.2
    · intro e j hj hb
      have eX : X = X0 := by
        apply Nat.eq_of_testBit_eq
        intro i
        cases q : X0.testBit i
        · cases q2 : X.testBit i
          · rfl
          · have := (sn_te (a := ea k) (b := eb k) i).mpr (Or.inl q2)
            rw [e, q] at this
            exact absurd this (by decide)
        · exact h2 i q
      rcases st j hj with x | x
      · exact h4 eX j x hb
      · rw [x, ← e, (sn_te (ea k)).mpr (Or.inr (Or.inl rfl)), (sn_te (eb k)).mpr (Or.inr (Or.inr rfl))]
    · intro hcl
      have eX := h5 hcl
      have cl := hcl k hk10 z
      rw [← eX] at cl
      rw [← eX]
      have both : X.testBit (ea k) = true ∧ X.testBit (eb k) = true := by
        cases q : X.testBit (ea k)
        · exfalso
          rw [q] at cl
          exact y (sn_tc.mpr ⟨q, cl.symm⟩)
        · rw [q] at cl
          exact ⟨rfl, cl.symm⟩
      apply Nat.eq_of_testBit_eq
      intro i
      cases q2 : X.testBit i
      · apply sn_bf
        intro w
        rcases (sn_te i).mp w with q | q | q
        · rw [q2] at q; exact absurd q (by decide)
        · rw [q, both.1] at q2; exact absurd q2 (by decide)
        · rw [q, both.2] at q2; exact absurd q2 (by decide)
      · exact (sn_te i).mpr (Or.inl q2)
    · rcases st j hj with x | x
      · exact h4 e j x hb
      · rw [x] at hb; exact absurd hb z
theorem sn_jn8 (hY : sn_Y ea eb pr th fr to pc) (hC : C < 1024) (hS : S < 128) (hs : S ≠ 0 → s < 7 ∧ S.testBit s = true) (h1 : sn_J ea eb C S → post 1) (h0 : ¬ sn_J ea eb C S → post 0) :
    ∀ d r X, r + d = 6 → X < 128 → (S ≠ 0 → X.testBit s = true) → (∀ p, X.testBit p = true → sn_R ea eb C s p) → (sn_cl ea eb C X ∨ r + 1 ≤ sn_n X) →
      wY_joins_8 post (nI C) (nI S) th fr to pc mk (d + 1) (nI X) (nI r) := by
  intro d
  induction d with
  | zero =>
    intro r X hr hX hin hso hcl
    obtain rfl : r = 6 := by omega
    have cl : sn_cl ea eb C X := by
      rcases hcl with z | z
      · exact z
      · intro k hk _
        obtain ⟨⟨ya, yb⟩, _⟩ := hY k hk
        rw [sn_n_7 z ya, sn_n_7 z yb]
    have ba : X &&& S ≤ X := Nat.and_le_left
    have key : X &&& S = S ↔ sn_J ea eb C S := by
      constructor
      · intro h p q hp hq
        have hp' : X.testBit p = true := by rw [← h, Nat.testBit_and, Bool.and_eq_true] at hp; exact hp.1
        have hq' : X.testBit q = true := by rw [← h, Nat.testBit_and, Bool.and_eq_true] at hq; exact hq.1
        exact sn_R_tr (sn_R_sy (hso p hp')) (hso q hq')
      · intro hj
        rw [Nat.and_comm]
        apply sn_subI
        intro i hi
        have hne : S ≠ 0 := by intro e; rw [e, Nat.zero_testBit] at hi; exact absurd hi (by decide)
        exact hj s i (hs hne).2 hi (fun x => X.testBit x = true) (fun k hk hb => by show X.testBit (ea k) = true ↔ X.testBit (eb k) = true; rw [cl k hk hb]) (hin hne)
    rw [wY_joins_8]
    dsimp only
    rw [nx_and]
    refine pk_le 6 6 (fun _ => pk_eq (X &&& S) S (fun z => h1 (key.mp z)) (fun z => h0 (fun j => z (key.mpr j)))) (fun h => absurd h (by omega))
  | succ d ih =>
    intro r X hr hX hin hso hcl
    refine pk_le 6 r (fun h => absurd h (by omega)) (fun _ => ⟨11, ?_⟩)
    refine sn_jn18 (ea := ea) (eb := eb) (s := s) (X0 := X) hY hC (fun X' a1 a2 a3 a4 a5 => ih (r + 1) X' (by omega) a1 (fun hne => a2 s (hin hne)) a3 ?_) 10 0 X rfl hX (fun p hp => hp) hso (fun _ j hj => absurd hj (Nat.not_lt_zero j)) (fun _ => rfl)
    by_cases z : X' = X
    · rw [z]; exact Or.inl (a4 z)
    · rcases hcl with y | y
      · exact absurd (a5 y) z
      · have := sn_n_lt hX a1 a2 z
        exact Or.inr (by omega)
theorem sn_jn (hY : sn_Y ea eb pr th fr to pc) (hC : C < 1024) (hS : S < 128) (h1 : sn_J ea eb C S → post 1) (h0 : ¬ sn_J ea eb C S → post 0) :
    wpY_joins post (th, fr, to, pc, mk) (nI C) (nI S) := by
  unfold wpY_joins
  dsimp only
  by_cases z : S = 0
  · subst z
    rw [sn_low0]
    exact nm_e ⟨7, sn_jn8 (s := 0) hY hC hS (fun e => absurd rfl e) h1 h0 6 0 0 rfl (by decide) (fun e => absurd rfl e) (fun p hp => absurd hp (by rw [Nat.zero_testBit]; decide)) (Or.inl (fun k _ _ => by rw [Nat.zero_testBit, Nat.zero_testBit]))⟩
  · obtain ⟨s1, s2, s3⟩ := sn_low S hS z
    rw [s3]
    have pw : 2 ^ sn_lo S < 2 ^ 7 := Nat.pow_lt_pow_right (by decide) s1
    have hn : 0 + 1 ≤ sn_n (2 ^ sn_lo S) := by
      have := sn_s_one (g := fun u => if (2 ^ sn_lo S).testBit u = true then 1 else 0) s1
      rw [Nat.testBit_two_pow_self, if_pos rfl] at this
      exact this
    exact nm_e ⟨7, sn_jn8 (s := sn_lo S) hY hC hS (fun _ => ⟨s1, s2⟩) h1 h0 6 0 (2 ^ sn_lo S) rfl pw (fun _ => Nat.testBit_two_pow_self)
      (fun p hp => by rw [Nat.testBit_two_pow] at hp; rw [of_decide_eq_true hp]; exact sn_R_rf) (Or.inr hn)⟩
end
end
section
/-! ===== the reference's best choice ===== -/
/-- a choice that is allowed: all of I, none of O, lines that are there, joins S -/
def sn_Ok (ea eb pr : Nat → Nat) (S I O C : Nat) : Prop := C < 1024 ∧ C &&& I = I ∧ C &&& O = 0 ∧ sn_ok pr C ∧ sn_J ea eb C S
/-- B is the cheapest, and of the cheapest the least number, among the allowed choices below n -/
def sn_Bn (ea eb pr : Nat → Nat) (S I O n B : Nat) : Prop := B < n ∧ sn_Ok ea eb pr S I O B ∧ ∀ C, C < n → sn_Ok ea eb pr S I O C → sn_c pr B 10 < sn_c pr C 10 ∨ (sn_c pr B 10 = sn_c pr C 10 ∧ B ≤ C)
def sn_In (ea eb pr : Nat → Nat) (S I O n : Nat) (x4 x5 : Int32) : Prop :=
  (x4 = -1 ∧ ∀ C, C < n → ¬ sn_Ok ea eb pr S I O C) ∨ (∃ B, sn_Bn ea eb pr S I O n B ∧ x4 = nI B ∧ x5 = nI (sn_c pr B 10))
section
variable {post : Int32 → Prop} {J9 : Int32 → Int32 → Int32 → Prop} {th fr to pc mk : Nat → Int32} {ea eb pr : Nat → Nat} {C S I O n : Nat}
theorem sn_lt_s {n C : Nat} (h : C < n + 1) : C < n ∨ C = n := by omega
theorem sn_In_k {x4 x5 : Int32} (hn : ¬ sn_Ok ea eb pr S I O n) (h : sn_In ea eb pr S I O n x4 x5) : sn_In ea eb pr S I O (n + 1) x4 x5 := by
  rcases h with ⟨e, h⟩ | ⟨B, ⟨b1, b2, b3⟩, e1, e2⟩
  · refine Or.inl ⟨e, fun C hC hO => ?_⟩
    rcases sn_lt_s hC with z | z
    · exact h C z hO
    · rw [z] at hO; exact hn hO
  · refine Or.inr ⟨B, ⟨by omega, b2, fun C hC hO => ?_⟩, e1, e2⟩
    rcases sn_lt_s hC with z | z
    · exact b3 C z hO
    · rw [z] at hO; exact absurd hO hn
theorem sn_b57 {x4 x5 x7 : Int32} (hY : sn_Y ea eb pr th fr to pc) (hC : C < 1024) (hS : S < 128)
    (h0 : ¬ sn_J ea eb C S → J9 x4 x5 (nI (C + 1))) (h1 : sn_J ea eb C S → J9 (nI C) x7 (nI (C + 1))) (x2 x3 : Int32) :
    wY_best_57 post J9 (nI S) x2 x3 x4 x5 (nI C) x7 th fr to pc mk := by
  unfold wY_best_57
  refine sn_jn hY hC hS (fun j => br_f (by decide) (nm_r (nI_1 C) (h1 j))) (fun j => br_t rfl (nm_r (nI_1 C) (h0 j)))
theorem sn_bs9 (hY : sn_Y ea eb pr th fr to pc) (hS : S < 128) (hI : I < 1024) (hO : O < 1024)
    (hp : ∀ x4 x5, sn_In ea eb pr S I O 1024 x4 x5 → post x4) :
    ∀ d n x4 x5, n + d = 1024 → sn_In ea eb pr S I O n x4 x5 → wY_best_9 post (nI S) (nI I) (nI O) th fr to pc mk (d + 1) x4 x5 (nI n) := by
  intro d
  induction d with
  | zero =>
    intro n x4 x5 hd h
    obtain rfl : n = 1024 := by omega
    exact pk_le 1024 1024 (fun _ => hp x4 x5 h) (fun h => absurd h (by omega))
  | succ d ih =>
    intro n x4 x5 hd h
    have hn : n < 1024 := by omega
    have ba : n &&& I ≤ n := Nat.and_le_left
    have bb : n &&& O ≤ n := Nat.and_le_left
    rw [wY_best_9]
    dsimp only
    rw [nx_and, nx_and]
    refine pk_le 1024 n (fun h => absurd h (by omega)) (fun _ => pk_eq (n &&& I) I (fun z1 => pk_eq (n &&& O) 0 (fun z2 => ?_) (fun z2 => nm_r (nI_1 n) (ih (n + 1) x4 x5 (by omega) (sn_In_k (fun o => z2 o.2.2.1) h)))) (fun z1 => nm_r (nI_1 n) (ih (n + 1) x4 x5 (by omega) (sn_In_k (fun o => z1 o.2.1) h))))
    refine sn_po hY hn (fun o => ?_) (fun o => br_t (by decide) (nm_r (nI_1 n) (ih (n + 1) x4 x5 (by omega) (sn_In_k (fun q => o q.2.2.2.1) h))))
    have ub : sn_c pr n 10 ≤ 100 * 10 := sn_c_ub 10 (fun k hk => (hY k hk).2.2.2.2.2)
    refine br_f (nI_pos (by omega)) ?_
    rcases h with ⟨e, h⟩ | ⟨B, ⟨b1, b2, b3⟩, e1, e2⟩
    · subst e
      refine br_t (by decide) (sn_b57 hY hn hS (fun j => ih (n + 1) _ _ (by omega) (sn_In_k (fun q => j q.2.2.2.2) (Or.inl ⟨rfl, h⟩))) (fun j => ih (n + 1) _ _ (by omega) (Or.inr ⟨n, ⟨by omega, ⟨hn, z1, z2, o, j⟩, fun C hC hO => ?_⟩, rfl, rfl⟩)) _ _)
      rcases sn_lt_s hC with z | z
      · exact absurd hO (h C z)
      · subst z; exact Or.inr ⟨rfl, Nat.le_refl _⟩
    · subst e1 e2
      have ub2 : sn_c pr B 10 ≤ 100 * 10 := sn_c_ub 10 (fun k hk => (hY k hk).2.2.2.2.2)
      refine br_f (nI_pos (by omega)) (pk_le (sn_c pr B 10) (sn_c pr n 10) (fun l => nm_r (nI_1 n) (ih (n + 1) _ _ (by omega) (Or.inr ⟨B, ⟨by omega, b2, fun C hC hO => ?_⟩, rfl, rfl⟩))) (fun l => sn_b57 hY hn hS (fun j => ih (n + 1) _ _ (by omega) (sn_In_k (fun q => j q.2.2.2.2) (Or.inr ⟨B, ⟨b1, b2, b3⟩, rfl, rfl⟩))) (fun j => ih (n + 1) _ _ (by omega) (Or.inr ⟨n, ⟨by omega, ⟨hn, z1, z2, o, j⟩, fun C hC hO => ?_⟩, rfl, rfl⟩)) _ _))
      · rcases sn_lt_s hC with z | z
        · exact b3 C z hO
        · subst z; omega
      · rcases sn_lt_s hC with z | z
        · have := b3 C z hO
          omega
        · subst z; exact Or.inr ⟨rfl, Nat.le_refl _⟩
/-- best: the least of the cheapest allowed choices, or -1 -/
theorem sn_bs (hY : sn_Y ea eb pr th fr to pc) (hS : S < 128) (hI : I < 1024) (hO : O < 1024)
    (h1 : ∀ B, sn_Bn ea eb pr S I O 1024 B → post (nI B)) (h0 : (∀ C, ¬ sn_Ok ea eb pr S I O C) → post (-1)) :
    wpY_best post (th, fr, to, pc, mk) (nI S) (nI I) (nI O) := by
  refine ⟨1025, sn_bs9 hY hS hI hO (fun x4 x5 h => ?_) 1024 0 (-1) 0 rfl (Or.inl ⟨rfl, fun C hC => absurd hC (Nat.not_lt_zero C)⟩)⟩
  rcases h with ⟨e, h⟩ | ⟨B, b, e1, _⟩
  · rw [e]; exact h0 (fun C o => h C o.1 o)
  · rw [e1]; exact h1 B b
theorem sn_lw (hY : sn_Y ea eb pr th fr to pc) (hS : S < 128) (hI : I < 1024) (hO : O < 1024)
    (h1 : ∀ B, sn_Bn ea eb pr S I O 1024 B → post (nI (sn_c pr B 10))) (h0 : (∀ C, ¬ sn_Ok ea eb pr S I O C) → post (-1)) :
    wpY_lowest post (th, fr, to, pc, mk) (nI S) (nI I) (nI O) := by
  unfold wpY_lowest
  dsimp only
  refine sn_bs hY hS hI hO (fun B b => br_t (nI_pos' (by have := b.1; omega)) (sn_po hY b.1 (fun _ => h1 B b) (fun o => absurd b.2.1.2.2.2.1 o))) (fun h => br_f (by decide) (h0 h))
end
/-! ===== lines that must be in (I) or out (O): what the component's counts then say ===== -/
def sn_k (pr : Nat → Nat) (I O k : Nat) : Nat := if I.testBit k = true then 0 else if O.testBit k = true then 100000 else if pr k = 0 then 100000 else pr k
section
variable {ea eb pr : Nat → Nat} {S I O r : Nat}
theorem sn_k_le (hpr : ∀ k, k < 10 → pr k ≤ 100) : ∀ k, k < 10 → sn_k pr I O k ≤ 100000 := by
  intro k hk
  have := hpr k hk
  unfold sn_k
  repeat (first | omega | split)
/-- an allowed choice isn't cheaper -/
theorem sn_L_lo {C : Nat} (hL : sn_L ea eb (sn_k pr I O) S r) (hC : sn_Ok ea eb pr S I O C) : r + sn_c pr I 10 ≤ sn_c pr C 10 := by
  obtain ⟨_, c2, c3, c4, c5⟩ := hC
  have a := hL.2.1 C c5
  have b : sn_c pr C 10 = sn_c (sn_k pr I O) C 10 + sn_c pr I 10 := by
    refine sn_c_eq 10 (fun k hk => ?_)
    cases z : C.testBit k
    · have zI : I.testBit k = false := by
        cases e : I.testBit k
        · rfl
        · rw [← c2, Nat.testBit_and, z] at e
          exact absurd e (by simp)
      rw [sn_t0 z, sn_t0 z, sn_t0 zI]
    · rw [sn_t1 z, sn_t1 z]
      cases e : I.testBit k
      · rw [sn_t0 e]
        unfold sn_k
        rw [if_neg (sn_bn e), if_neg (sn_bn (sn_and0 c3 z)), if_neg (c4 k hk z)]
        rfl
      · rw [sn_t1 e]
        unfold sn_k
        rw [if_pos e]
        omega
  omega
/-- a price within reach stands for an allowed choice -/
theorem sn_L_hi (hI : I < 1024) (hIO : I &&& O = 0) (hok : sn_ok pr I) (hL : sn_L ea eb (sn_k pr I O) S r) (hr : r < 100000) :
    ∃ C, sn_Ok ea eb pr S I O C ∧ sn_c pr C 10 ≤ r + sn_c pr I 10 := by
  obtain ⟨C, hC, jC, cC⟩ := hL.2.2 hr
  have bit : ∀ k, k < 10 → C.testBit k = true → I.testBit k = false → O.testBit k = false ∧ pr k ≠ 0 := by
    intro k hk hb hi
    have a := sn_c_bit (c := sn_k pr I O) 10 hk hb
    have b : sn_k pr I O k < 100000 := by omega
    unfold sn_k at b
    rw [if_neg (sn_bn hi)] at b
    cases e : O.testBit k
    · rw [if_neg (sn_bn e)] at b
      refine ⟨rfl, fun z => ?_⟩
      rw [if_pos z] at b
      omega
    · rw [if_pos e] at b
      omega
  refine ⟨C ||| I, ⟨sn_or10 hC hI, ?_, ?_, ?_, sn_J_mo sn_sub_l jC⟩, ?_⟩
  · rw [Nat.and_comm]
    exact sn_subI (fun i hi => by rw [Nat.testBit_or, hi, Bool.or_true])
  · apply sn_and0I
    intro i hi
    rw [Nat.testBit_or] at hi
    cases e : I.testBit i
    · rw [e, Bool.or_false] at hi
      exact (bit i (sn_t10 hC hi) hi e).1
    · exact sn_and0 hIO e
  · intro k hk hb
    rw [Nat.testBit_or] at hb
    cases e : I.testBit k
    · rw [e, Bool.or_false] at hb
      exact (bit k hk hb e).2
    · exact hok k hk e
  · have g : sn_c pr (C ||| I) 10 ≤ sn_c (sn_k pr I O) C 10 + sn_c pr I 10 := by
      refine sn_c_le 10 (fun k hk => ?_)
      cases e : I.testBit k
      · cases z : C.testBit k
        · rw [sn_t0 (by rw [Nat.testBit_or, e, z]; rfl)]; exact Nat.zero_le _
        · rw [sn_t1 (by rw [Nat.testBit_or, e, z]; rfl), sn_t1 z]
          obtain ⟨x, y⟩ := bit k hk z e
          unfold sn_k
          rw [if_neg (sn_bn e), if_neg (sn_bn x), if_neg y]
          omega
      · rw [sn_t1 (by rw [Nat.testBit_or, e, Bool.or_true]), sn_t1 e]
        omega
    omega
/-- the two answers meet -/
theorem sn_L_eq {B : Nat} (hI : I < 1024) (hIO : I &&& O = 0) (hok : sn_ok pr I) (hpr : ∀ k, k < 10 → pr k ≤ 100) (hL : sn_L ea eb (sn_k pr I O) S r) (hB : sn_Bn ea eb pr S I O 1024 B) :
    r < 100000 ∧ r + sn_c pr I 10 = sn_c pr B 10 ∧ sn_c pr B 10 ≤ 1000 := by
  have a := sn_L_lo hL hB.2.1
  have ub : sn_c pr B 10 ≤ 100 * 10 := sn_c_ub 10 hpr
  have hr : r < 100000 := by omega
  obtain ⟨C, hC, cC⟩ := sn_L_hi hI hIO hok hL hr
  have b := hB.2.2 C hC.1 hC
  exact ⟨hr, by omega, by omega⟩
theorem sn_L_no (hI : I < 1024) (hIO : I &&& O = 0) (hok : sn_ok pr I) (hL : sn_L ea eb (sn_k pr I O) S r) (h : ∀ C, ¬ sn_Ok ea eb pr S I O C) : ¬ r < 100000 := by
  intro hr
  obtain ⟨C, hC, _⟩ := sn_L_hi hI hIO hok hL hr
  exact h C hC
/-- a best choice, or none -/
theorem sn_B_or (ea eb pr : Nat → Nat) (S I O : Nat) : ∀ n, (∀ C, C < n → ¬ sn_Ok ea eb pr S I O C) ∨ ∃ B, sn_Bn ea eb pr S I O n B := by
  intro n
  induction n with
  | zero => exact Or.inl (fun C hC => absurd hC (Nat.not_lt_zero C))
  | succ n ih =>
    by_cases o : sn_Ok ea eb pr S I O n
    · rcases ih with h | ⟨B, b1, b2, b3⟩
      · refine Or.inr ⟨n, by omega, o, fun C hC hO => ?_⟩
        rcases sn_lt_s hC with z | z
        · exact absurd hO (h C z)
        · subst z; exact Or.inr ⟨rfl, Nat.le_refl _⟩
      · by_cases l : sn_c pr B 10 ≤ sn_c pr n 10
        · refine Or.inr ⟨B, by omega, b2, fun C hC hO => ?_⟩
          rcases sn_lt_s hC with z | z
          · exact b3 C z hO
          · subst z; omega
        · refine Or.inr ⟨n, by omega, o, fun C hC hO => ?_⟩
          rcases sn_lt_s hC with z | z
          · have := b3 C z hO
            omega
          · subst z; exact Or.inr ⟨rfl, Nat.le_refl _⟩
    · rcases ih with h | ⟨B, b1, b2, b3⟩
      · refine Or.inl (fun C hC hO => ?_)
        rcases sn_lt_s hC with z | z
        · exact h C z hO
        · rw [z] at hO; exact o hO
      · refine Or.inr ⟨B, by omega, b2, fun C hC hO => ?_⟩
        rcases sn_lt_s hC with z | z
        · exact b3 C z hO
        · rw [z] at hO; exact absurd hO o
theorem sn_B_un {B B' : Nat} (h : sn_Bn ea eb pr S I O 1024 B) (g : sn_Bn ea eb pr S I O 1024 B') : B = B' := by
  have a := h.2.2 B' g.1 g.2.1
  have b := g.2.2 B h.1 h.2.1
  omega
end
end
section
/-! ===== from the line with the greatest number down ===== -/
theorem sn_ltb {C B i : Nat} (hC : C.testBit i = false) (hB : B.testBit i = true) (h : ∀ j, i < j → C.testBit j = B.testBit j) : C < B := by
  have e1 : C / 2 ^ (i + 1) = B / 2 ^ (i + 1) := by
    apply Nat.eq_of_testBit_eq
    intro j
    rw [Nat.testBit_div_two_pow, Nat.testBit_div_two_pow]
    exact h _ (by omega)
  have e2 := sn_md C i
  have e3 := sn_md B i
  rw [if_neg (sn_bn hC)] at e2
  rw [if_pos hB] at e3
  rw [Nat.pow_succ, ← Nat.div_div_eq_div_mul, ← Nat.div_div_eq_div_mul] at e1
  apply Classical.byContradiction
  intro hn
  have e4 : B / 2 ^ i ≤ C / 2 ^ i := Nat.div_le_div_right (by omega)
  omega
def sn_hi (B i : Nat) : Nat := B >>> i <<< i
def sn_ho (B i : Nat) : Nat := (B ^^^ 1023) >>> i <<< i
theorem sn_hi_t (B i j : Nat) : (sn_hi B i).testBit j = (decide (i ≤ j) && B.testBit j) := by
  unfold sn_hi
  rw [Nat.testBit_shiftLeft, Nat.testBit_shiftRight]
  by_cases z : i ≤ j
  · rw [show i + (j - i) = j by omega]
  · rw [decide_eq_false z]
    rfl
theorem sn_ho_t (B i : Nat) {j : Nat} (hj : j < 10) : (sn_ho B i).testBit j = (decide (i ≤ j) && !B.testBit j) := by
  unfold sn_ho
  rw [Nat.testBit_shiftLeft, Nat.testBit_shiftRight]
  by_cases z : i ≤ j
  · rw [show i + (j - i) = j by omega, Nat.testBit_xor, show (1023 : Nat) = 2 ^ 10 - 1 from rfl, Nat.testBit_two_pow_sub_one, decide_eq_true hj, Bool.xor_true]
  · rw [decide_eq_false z]
    rfl
section
variable {ea eb pr : Nat → Nat} {S I O B i j k r : Nat}
theorem sn_k_cg {I' O' : Nat} (h1 : I.testBit k = I'.testBit k) (h2 : O.testBit k = O'.testBit k) : sn_k pr I O k = sn_k pr I' O' k := by
  unfold sn_k
  rw [h1, h2]
theorem sn_hi_lt (hB : B < 1024) : sn_hi B i < 1024 := by
  apply Nat.lt_pow_two_of_testBit (n := 10)
  intro j hj
  rw [sn_hi_t, sn_tlt (n := 10) hB hj, Bool.and_false]
theorem sn_hi_0 : sn_hi B 0 = B := rfl
theorem sn_hi_10 (hB : B < 1024) : sn_hi B 10 = 0 := by
  apply Nat.eq_of_testBit_eq
  intro j
  rw [sn_hi_t, Nat.zero_testBit]
  by_cases z : 10 ≤ j
  · rw [sn_tlt (n := 10) hB z, Bool.and_false]
  · rw [decide_eq_false z]; rfl
theorem sn_hi_f (h : B.testBit i = false) : sn_hi B i = sn_hi B (i + 1) := by
  apply Nat.eq_of_testBit_eq
  intro j
  rw [sn_hi_t, sn_hi_t]
  by_cases z : i = j
  · rw [← z, h, Bool.and_false, Bool.and_false]
  · by_cases y : i ≤ j
    · rw [decide_eq_true y, decide_eq_true (by omega)]
    · rw [decide_eq_false y, decide_eq_false (by omega)]
theorem sn_hi_s (h : B.testBit i = true) : sn_hi B i = sn_hi B (i + 1) ||| 2 ^ i := by
  apply Nat.eq_of_testBit_eq
  intro j
  rw [Nat.testBit_or, sn_hi_t, sn_hi_t]
  by_cases z : i = j
  · rw [← z, h, Nat.testBit_two_pow_self, decide_eq_true (Nat.le_refl i), Bool.or_true]; rfl
  · rw [Nat.testBit_two_pow_of_ne z, Bool.or_false]
    by_cases y : i ≤ j
    · rw [decide_eq_true y, decide_eq_true (by omega)]
    · rw [decide_eq_false y, decide_eq_false (by omega)]
theorem sn_hi_n : (sn_hi B (i + 1)).testBit i = false := by
  rw [sn_hi_t, decide_eq_false (by omega)]; rfl
/-- the line i is left out just where the price stays in reach -/
theorem sn_gd (hB : sn_Bn ea eb pr S 0 0 1024 B) (hi : i < 10) (hpr : ∀ k, k < 10 → pr k ≤ 100)
    (hL : sn_L ea eb (sn_k pr (sn_hi B (i + 1)) (sn_ho B (i + 1) ||| 2 ^ i)) S r) : r + sn_c pr (sn_hi B (i + 1)) 10 = sn_c pr B 10 ↔ B.testBit i = false := by
  have hB1 := hB.1
  have okB := hB.2.1.2.2.2.1
  have ub : sn_c pr B 10 ≤ 100 * 10 := sn_c_ub 10 hpr
  have hI : sn_hi B (i + 1) < 1024 := sn_hi_lt hB1
  have sub : ∀ j, (sn_hi B (i + 1)).testBit j = true → B.testBit j = true := by
    intro j hj
    rw [sn_hi_t, Bool.and_eq_true] at hj
    exact hj.2
  have hok : sn_ok pr (sn_hi B (i + 1)) := fun k hk hb => okB k hk (sub k hb)
  have hIO : sn_hi B (i + 1) &&& (sn_ho B (i + 1) ||| 2 ^ i) = 0 := by
    apply sn_and0I
    intro j hj
    have hj10 := sn_t10 hI hj
    rw [Nat.testBit_or, sn_ho_t B (i + 1) hj10, sub j hj]
    rw [sn_hi_t, Bool.and_eq_true, decide_eq_true_eq] at hj
    rw [Nat.testBit_two_pow_of_ne (by omega)]
    cases decide (i + 1 ≤ j) <;> rfl
  have okw : ∀ C, sn_Ok ea eb pr S (sn_hi B (i + 1)) (sn_ho B (i + 1) ||| 2 ^ i) C → sn_Ok ea eb pr S 0 0 C := fun C o => ⟨o.1, Nat.and_zero C, Nat.and_zero C, o.2.2.2⟩
  constructor
  · intro e
    cases z : B.testBit i
    · rfl
    · exfalso
      obtain ⟨C, hC, cC⟩ := sn_L_hi hI hIO hok hL (by omega)
      have b := hB.2.2 C hC.1 (okw C hC)
      have lt : C < B := by
        have hO : ∀ j, j < 10 → (sn_ho B (i + 1) ||| 2 ^ i).testBit j = true → C.testBit j = false := fun j _ hb => by
          cases q : C.testBit j
          · rfl
          · have := sn_and0 hC.2.2.1 q
            rw [hb] at this
            exact absurd this (by decide)
        refine sn_ltb (i := i) (hO i hi (by rw [Nat.testBit_or, Nat.testBit_two_pow_self, Bool.or_true])) z (fun j hj => ?_)
        rcases Nat.lt_or_ge j 10 with y | y
        · cases q : B.testBit j
          · exact hO j y (by rw [Nat.testBit_or, sn_ho_t B (i + 1) y, q, decide_eq_true (by omega)]; rfl)
          · have q2 : (sn_hi B (i + 1)).testBit j = true := by rw [sn_hi_t, q, decide_eq_true (by omega)]; rfl
            rw [← hC.2.1, Nat.testBit_and, Bool.and_eq_true] at q2
            exact q2.1
        · rw [sn_tlt (n := 10) hC.1 y, sn_tlt (n := 10) hB1 y]
      omega
  · intro z
    have okI : sn_Ok ea eb pr S (sn_hi B (i + 1)) (sn_ho B (i + 1) ||| 2 ^ i) B := by
      refine ⟨hB1, ?_, ?_, hB.2.1.2.2.2⟩
      · rw [Nat.and_comm]
        exact sn_subI sub
      · apply sn_and0I
        intro j hj
        have ne : i ≠ j := by intro e; rw [← e, z] at hj; exact absurd hj (by decide)
        rw [Nat.testBit_or, sn_ho_t B (i + 1) (sn_t10 hB1 hj), hj, Nat.testBit_two_pow_of_ne ne]
        cases decide (i + 1 ≤ j) <;> rfl
    exact (sn_L_eq hI hIO hok hpr hL ⟨hB1, okI, fun C hC o => hB.2.2 C hC (okw C o)⟩).2.1
end
/-! ===== countAll, findBest ===== -/
def sn_XB (ea eb pr : Nat → Nat) (eA eB pO : Nat → Int32) : Prop := ∀ k, k < 10 → (ea k < 7 ∧ eb k < 7) ∧ eA k = nI (ea k) ∧ eB k = nI (eb k) ∧ pO k = nI (pr k) ∧ pr k ≤ 100
def sn_co (pr : Nat → Nat) (I O : Nat) (co : Nat → Int32) : Prop := ∀ k, k < 10 → co k = nI (sn_k pr I O k)
/-- what is kept of the best choice -/
def sn_Kn (ea eb pr : Nat → Nat) (S : Nat) (fp fs : Int32) : Prop :=
  (∃ B, sn_Bn ea eb pr S 0 0 1024 B ∧ fp = nI (sn_c pr B 10) ∧ fs = nI B) ∨ ((∀ C, ¬ sn_Ok ea eb pr S 0 0 C) ∧ fp = -1)
theorem sn_XB_p {ea eb pr : Nat → Nat} {eA eB pO : Nat → Int32} (h : sn_XB ea eb pr eA eB pO) : ∀ k, k < 10 → pr k ≤ 100 := fun k hk => (h k hk).2.2.2.2
theorem sn_XB_X {ea eb pr : Nat → Nat} {eA eB pO co : Nat → Int32} {I O : Nat} (h : sn_XB ea eb pr eA eB pO) (g : sn_co pr I O co) : sn_X ea eb (sn_k pr I O) eA eB co :=
  fun k hk => ⟨(h k hk).1, (h k hk).2.1, (h k hk).2.2.1, g k hk, sn_k_le (sn_XB_p h) k hk⟩
theorem sn_co_far {pr : Nat → Nat} {co : Nat → Int32} {I O k : Nat} (hI : I.testBit k = false) (h : sn_co pr I O co) : sn_co pr I (O ||| 2 ^ k) (upd co k (nI 100000)) := by
  intro j hj
  by_cases z : j = k
  · rw [z, pk_us]
    unfold sn_k
    rw [if_neg (sn_bn hI), if_pos (by rw [Nat.testBit_or, Nat.testBit_two_pow_self, Bool.or_true])]
  · rw [pk_un z, h j hj]
    exact congrArg nI (sn_k_cg rfl (by rw [Nat.testBit_or, Nat.testBit_two_pow_of_ne (fun e => z e.symm), Bool.or_false]))
theorem sn_co_in {pr : Nat → Nat} {co : Nat → Int32} {I O k : Nat} (h : ∀ j, j < 10 → j ≠ k → co j = nI (sn_k pr I O j)) : sn_co pr (I ||| 2 ^ k) O (upd co k (nI 0)) := by
  intro j hj
  by_cases z : j = k
  · rw [z, pk_us]
    unfold sn_k
    rw [if_pos (by rw [Nat.testBit_or, Nat.testBit_two_pow_self, Bool.or_true])]
  · rw [pk_un z, h j hj z]
    exact congrArg nI (sn_k_cg (by rw [Nat.testBit_or, Nat.testBit_two_pow_of_ne (fun e => z e.symm), Bool.or_false]) rfl)
section
variable {post : SX → Prop} {fm fw fk fp fs : Int32} {eA eB pO co wy pa wa : Nat → Int32} {ea eb pr : Nat → Nat} {S B : Nat}
theorem sn_ca2 (hXB : sn_XB ea eb pr eA eB pO) (hp : ∀ co, sn_co pr 0 0 co → post (fm, fw, fk, fp, fs, eA, eB, pO, co, wy, pa, wa)) :
    ∀ d k co, k + d = 10 → (∀ j, j < k → co j = nI (sn_k pr 0 0 j)) → wX_countAll_2 post fm fw fk fp fs (d + 1) (nI k) eA eB pO co wy pa wa := by
  intro d
  induction d with
  | zero =>
    intro k co hk h
    obtain rfl : k = 10 := by omega
    exact pk_le 10 10 (fun _ => hp co h) (fun h => absurd h (by omega))
  | succ d ih =>
    intro k co hk h
    have hk10 : k < 10 := by omega
    obtain ⟨_, _, _, x1, x2⟩ := hXB k hk10
    have v0 : vp_in (nI k) 10 := vp_in_nI hk10 (by decide)
    have e0 : sn_k pr 0 0 k = if pr k = 0 then 100000 else pr k := by
      unfold sn_k
      rw [Nat.zero_testBit, if_neg (by decide), if_neg (by decide)]
    rw [wX_countAll_2]
    dsimp only
    rw [nI_clamp (n := k) (by omega), x1]
    refine pk_le 10 k (fun h => absurd h (by omega)) (fun _ => ⟨v0, pk_eq (pr k) 0 (fun z => ⟨v0, nm_e (nm_r (nI_1 k) (ih (k + 1) _ (by omega) (fun j hj => ?_)))⟩) (fun z => ⟨v0, v0, nm_e (nm_r (nI_1 k) (ih (k + 1) _ (by omega) (fun j hj => ?_)))⟩)⟩)
    · by_cases y : j = k
      · rw [y, pk_us, e0, if_pos z]; rfl
      · rw [pk_un y, h j (by omega)]
    · by_cases y : j = k
      · rw [y, pk_us, e0, if_neg z]
      · rw [pk_un y, h j (by omega)]
theorem sn_ca (hXB : sn_XB ea eb pr eA eB pO) (hp : ∀ co, sn_co pr 0 0 co → post (fm, fw, fk, fp, fs, eA, eB, pO, co, wy, pa, wa)) :
    wpX_countAll post (fm, fw, fk, fp, fs, eA, eB, pO, co, wy, pa, wa) := ⟨11, sn_ca2 hXB hp 10 0 co rfl (fun j hj => absurd hj (Nat.not_lt_zero j))⟩
theorem sn_fb58 (hXB : sn_XB ea eb pr eA eB pO) (hS : S < 128) (hB : sn_Bn ea eb pr S 0 0 1024 B)
    (hp : ∀ wc co wy pa wa, post (nI S, wc, fk, fp, nI B, eA, eB, pO, co, wy, pa, wa)) :
    ∀ (i : Nat), i ≤ 10 → ∀ (x3 wc : Int32) (co wy pa wa : Nat → Int32), x3 = nI i + (-1) → sn_co pr (sn_hi B i) (sn_ho B i) co →
      wX_findBest_58 post (nI (sn_c pr B 10)) (i + 1) (nI (sn_c pr (sn_hi B i) 10)) x3 (nI S) wc fk fp (nI (sn_hi B i)) eA eB pO co wy pa wa := by
  have hpr := sn_XB_p hXB
  intro i
  induction i with
  | zero =>
    intro _ x3 wc co wy pa wa e h
    subst e
    rw [sn_hi_0]
    exact br_t (by decide) (hp _ _ _ _ _)
  | succ i ih =>
    intro hi x3 wc co wy pa wa e h
    rw [pk_m1] at e
    subst e
    have hi10 : i < 10 := by omega
    obtain ⟨_, _, _, x1, x2⟩ := hXB i hi10
    have v0 : vp_in (nI i) 10 := vp_in_nI hi10 (by decide)
    have ub : sn_c pr B 10 ≤ 100 * 10 := sn_c_ub 10 hpr
    have ub2 : sn_c pr (sn_hi B (i + 1)) 10 ≤ 100 * 10 := sn_c_ub 10 hpr
    have st : ∀ j, j < 10 → j ≠ i → (sn_hi B (i + 1)).testBit j = (sn_hi B i).testBit j ∧ (sn_ho B (i + 1)).testBit j = (sn_ho B i).testBit j := by
      intro j hj hne
      have : decide (i + 1 ≤ j) = decide (i ≤ j) := by
        by_cases y : i ≤ j
        · rw [decide_eq_true y, decide_eq_true (by omega)]
        · rw [decide_eq_false y, decide_eq_false (by omega)]
      rw [sn_hi_t, sn_hi_t, sn_ho_t B _ hj, sn_ho_t B _ hj, this]
      exact ⟨rfl, rfl⟩
    rw [wX_findBest_58]
    dsimp only
    rw [nI_clamp (n := i) (by omega), x1]
    refine br_f (nI_pos (by omega)) ⟨v0, pk_le (pr i) 0 (fun z y hy => ?_) (fun z => ⟨v0, nm_e ?_⟩)⟩
    · have bf : B.testBit i = false := by
        cases q : B.testBit i
        · rfl
        · exact absurd (show pr i = 0 by omega) (hB.2.1.2.2.2.1 i hi10 q)
      rw [← sn_hi_f bf]
      refine ih (by omega) y wc co wy pa wa hy (fun j hj => ?_)
      rw [h j hj]
      by_cases w : j = i
      · subst w
        have e1 : sn_k pr (sn_hi B (j + 1)) (sn_ho B (j + 1)) j = 100000 := by
          unfold sn_k
          rw [if_neg (sn_bn sn_hi_n), sn_ho_t B _ hj, decide_eq_false (by omega), Bool.false_and, if_neg (by decide), if_pos (by omega)]
        have e2 : sn_k pr (sn_hi B j) (sn_ho B j) j = 100000 := by
          unfold sn_k
          rw [sn_hi_t, bf, Bool.and_false, if_neg (by decide), sn_ho_t B _ hj, bf, decide_eq_true (Nat.le_refl j), if_pos (by decide)]
        rw [e1, e2]
      · exact congrArg nI (sn_k_cg (st j hj w).1 (st j hj w).2)
    · have cf := sn_co_far (k := i) sn_hi_n h
      refine sn_lf (sn_XB_X hXB cf) hS (fun r wc' wy' pa' wa' hL => ?_)
      have gd := sn_gd hB hi10 hpr hL
      have rb := hL.1
      dsimp only
      rw [x1, nI_add, nI_add, sn_shl (show i < 31 by omega), sn_or]
      refine pk_eq (r + sn_c pr (sn_hi B (i + 1)) 10) (sn_c pr B 10) (fun z2 y hy => ?_) (fun z2 => ⟨v0, nm_e ⟨v0, nm_e (nm_e (fun y hy => ?_))⟩⟩)
      · have bf := gd.mp z2
        rw [← sn_hi_f bf]
        refine ih (by omega) y wc' _ wy' pa' wa' hy (fun j hj => ?_)
        refine (cf j hj).trans ?_
        by_cases w : j = i
        · subst w
          refine congrArg nI (sn_k_cg ?_ ?_)
          · rw [sn_hi_f bf]
          · rw [Nat.testBit_or, Nat.testBit_two_pow_self, Bool.or_true, sn_ho_t B _ hj, bf, decide_eq_true (Nat.le_refl j)]; rfl
        · refine congrArg nI (sn_k_cg (st j hj w).1 ?_)
          rw [Nat.testBit_or, Nat.testBit_two_pow_of_ne (fun e => w e.symm), Bool.or_false]
          exact (st j hj w).2
      · have bt1 : B.testBit i = true := by
          cases q : B.testBit i
          · exact absurd (gd.mpr q) z2
          · rfl
        rw [← sn_c_add sn_hi_n hi10, ← sn_hi_s bt1]
        refine ih (by omega) y wc' _ wy' pa' wa' hy (fun j hj => ?_)
        have ci := sn_co_in (k := i) (co := upd co i (nI 100000)) (I := sn_hi B (i + 1)) (O := sn_ho B (i + 1)) (fun j hj w => by rw [pk_un w]; exact h j hj)
        rw [← sn_hi_s bt1] at ci
        refine (ci j hj).trans (congrArg nI (sn_k_cg rfl ?_))
        by_cases w : j = i
        · subst w
          rw [sn_ho_t B _ hj, sn_ho_t B _ hj, bt1]
          cases decide (j + 1 ≤ j) <;> cases decide (j ≤ j) <;> rfl
        · exact (st j hj w).2
/-- findBest: what is kept is right -/
theorem sn_fb (hXB : sn_XB ea eb pr eA eB pO) (hS : S < 128) (hk : fk = 0 ∨ sn_Kn ea eb pr S fp fs)
    (hp : ∀ fk fp fs wc co wy pa wa, sn_Kn ea eb pr S fp fs → post (nI S, wc, fk, fp, fs, eA, eB, pO, co, wy, pa, wa)) :
    wpX_findBest post (nI S, fw, fk, fp, fs, eA, eB, pO, co, wy, pa, wa) := by
  have hpr := sn_XB_p hXB
  unfold wpX_findBest
  dsimp only
  refine br_c (fun _ => ?_) (fun z => hp _ _ _ _ _ _ _ _ (by
    rcases hk with y | y
    · exact absurd y z
    · exact y))
  refine sn_ca hXB (fun co' hco => ?_)
  dsimp only
  refine sn_lf (sn_XB_X hXB hco) hS (fun r wc' wy' pa' wa' hL => ?_)
  dsimp only
  have zo : sn_ok pr 0 := fun k _ hb => absurd hb (by rw [Nat.zero_testBit]; decide)
  have rb := hL.1
  rcases sn_B_or ea eb pr S 0 0 1024 with hn | ⟨B, hB⟩
  · have hn' : ∀ C, ¬ sn_Ok ea eb pr S 0 0 C := fun C o => hn C o.1 o
    have nr := sn_L_no (by decide) (by decide) zo hL hn'
    have nr2 : ¬ nI r < 100000 := nI_nlt (b := 100000) (by omega) (by omega)
    exact br_f nr2 (br_f nr2 (hp _ _ _ _ _ _ _ _ (Or.inr ⟨hn', rfl⟩)))
  · obtain ⟨l1, l2, l3⟩ := sn_L_eq (by decide) (by decide) zo hpr hL hB
    rw [sn_c_0, Nat.add_zero] at l2
    subst l2
    have nr2 : nI (sn_c pr B 10) < 100000 := nI_lt (b := 100000) (by omega) (by omega)
    refine br_t nr2 (br_t nr2 ⟨11, ?_⟩)
    have g := sn_fb58 (post := post) (fk := 1) (fp := nI (sn_c pr B 10)) hXB hS hB (fun wc co wy pa wa => hp _ _ _ _ _ _ _ _ (Or.inl ⟨B, hB, rfl, rfl⟩)) 10 (Nat.le_refl 10) 9 wc' co' wy' pa' wa' (by decide) (by
      rw [sn_hi_10 hB.1]
      intro j hj
      rw [hco j hj]
      refine congrArg nI (sn_k_cg rfl ?_)
      rw [sn_ho_t B _ hj, decide_eq_false (by omega), Nat.zero_testBit]; rfl)
    rw [sn_hi_10 hB.1, sn_c_0] at g
    exact g
end
end
section
/-! ===== points and lines as they are asked for ===== -/
section
variable {post : Int32 → Prop} {ea eb pr : Nat → Nat} {M : Nat}
theorem sn_ip {p : Int32} (h1 : ∀ a, a < 7 → p = nI a → post 1) (h0 : (∀ a, a < 7 → p ≠ nI a) → post 0) : wpX_isPoint post p := by
  refine br_c (fun z => h0 (fun a ha e => nI_pos (show a < 2 ^ 31 by omega) (e ▸ z))) (fun z => ?_)
  obtain ⟨j, hj, rfl⟩ := nI_of z
  exact pk_lt 6 j (fun l => h0 (fun a ha e => by rw [nI_eq hj (by omega)] at e; omega)) (fun l => h1 j (by omega) rfl)
theorem sn_bp {p : Int32} (h1 : ∀ a, a < 7 → p = nI a → post 0) (h0 : (∀ a, a < 7 → p ≠ nI a) → post 1) : wpY_badPoint post p := by
  refine br_c (fun z => h0 (fun a ha e => nI_pos (show a < 2 ^ 31 by omega) (e ▸ z))) (fun z => ?_)
  obtain ⟨j, hj, rfl⟩ := nI_of z
  exact pk_le j 6 (fun l => h1 j (by omega) rfl) (fun l => h0 (fun a ha e => by rw [nI_eq hj (by omega)] at e; omega))
theorem sn_il {p fm fw fk fp fs : Int32} {eA eB pO co wy pa wa : Nat → Int32} (hX : sn_XB ea eb pr eA eB pO)
    (h1 : ∀ k, k < 10 → p = nI k → pr k ≠ 0 → post 1) (h0 : (∀ k, k < 10 → p = nI k → pr k = 0) → post 0) : wpX_isLine post (fm, fw, fk, fp, fs, eA, eB, pO, co, wy, pa, wa) p := by
  unfold wpX_isLine
  dsimp only
  refine br_c (fun z => h0 (fun k hk e => absurd (e ▸ z) (nI_pos (show k < 2 ^ 31 by omega)))) (fun z => ?_)
  obtain ⟨j, hj, rfl⟩ := nI_of z
  refine pk_lt 9 j (fun l => h0 (fun k hk e => by rw [nI_eq hj (by omega)] at e; omega)) (fun l => ⟨vp_in_nI (by omega) (by decide), ?_⟩)
  obtain ⟨_, _, _, x1, x2⟩ := hX j (by omega)
  rw [nI_clamp hj, x1]
  exact pk_le (pr j) 0 (fun y => h0 (fun k hk e => by rw [nI_eq hj (by omega)] at e; subst e; omega)) (fun y => h1 j (by omega) rfl (by omega))
theorem sn_bl {p : Int32} {th fr to pc mk : Nat → Int32} (hY : sn_Y ea eb pr th fr to pc)
    (h1 : ∀ k, k < 10 → p = nI k → pr k ≠ 0 → post 0) (h0 : (∀ k, k < 10 → p = nI k → pr k = 0) → post 1) : wpY_badLine post (th, fr, to, pc, mk) p := by
  unfold wpY_badLine
  dsimp only
  refine br_c (fun z => h0 (fun k hk e => absurd (e ▸ z) (nI_pos (show k < 2 ^ 31 by omega)))) (fun z => ?_)
  obtain ⟨j, hj, rfl⟩ := nI_of z
  refine pk_lt 9 j (fun l => h0 (fun k hk e => by rw [nI_eq hj (by omega)] at e; omega)) (fun l => ⟨vp_in_nI (by omega) (by decide), ?_⟩)
  obtain ⟨_, _, _, y1, _⟩ := hY j (by omega)
  rw [nI_clamp hj]
  exact br_c (fun y => h0 (fun k hk e => by rw [nI_eq hj (by omega)] at e; subst e; exact y1.mp y)) (fun y => h1 j (by omega) rfl (fun q => y (y1.mpr q)))
end
/-! ===== the relation ===== -/
def sn_I (ea eb pr : Nat → Nat) (M : Nat) (u : SX) (v : SY) : Prop := match u, v with
  | (fm, _, fk, fp, fs, eA, eB, pO, _, _, _, _), (th, fr, to, pc, mr) => fm = nI M ∧ M < 128 ∧ sn_XB ea eb pr eA eB pO ∧ sn_Y ea eb pr th fr to pc ∧ sn_M M mr ∧ (fk = 0 ∨ sn_Kn ea eb pr M fp fs)
/-- the same lines and marks; what the component keeps of the best choice is right -/
def i_Rel (k : Nat) (u : SX) (v : SY) : Prop := ∃ (ea eb pr : Nat → Nat) (M : Nat), sn_I ea eb pr M u v
section
variable {k M : Nat} {ea eb pr : Nat → Nat} {fw fk fp fs : Int32} {eA eB pO co wy pa wa th fr to pc mk : Nat → Int32}
theorem sn_rel (hM : M < 128) (hX : sn_XB ea eb pr eA eB pO) (hY : sn_Y ea eb pr th fr to pc) (hK : sn_M M mk) (hk : fk = 0 ∨ sn_Kn ea eb pr M fp fs) :
    i_Rel k (nI M, fw, fk, fp, fs, eA, eB, pO, co, wy, pa, wa) (th, fr, to, pc, mk) := ⟨ea, eb, pr, M, rfl, hM, hX, hY, hK, hk⟩
theorem sn_el {P : SX → SY → Prop} {u : SX} {v : SY}
    (h : ∀ (ea eb pr : Nat → Nat) (M : Nat) (fw fk fp fs : Int32) (eA eB pO co wy pa wa th fr to pc mk : Nat → Int32), M < 128 → sn_XB ea eb pr eA eB pO → sn_Y ea eb pr th fr to pc → sn_M M mk → (fk = 0 ∨ sn_Kn ea eb pr M fp fs) →
      P (nI M, fw, fk, fp, fs, eA, eB, pO, co, wy, pa, wa) (th, fr, to, pc, mk)) (I : i_Rel k u v) : P u v := by
  obtain ⟨fm, fw, fk, fp, fs, eA, eB, pO, co, wy, pa, wa⟩ := u
  obtain ⟨th, fr, to, pc, mk⟩ := v
  obtain ⟨ea, eb, pr, M, hm, hM, hX, hY, hK, hk⟩ := I
  subst hm
  exact h ea eb pr M fw fk fp fs eA eB pO co wy pa wa th fr to pc mk hM hX hY hK hk
/-! ===== one line is laid, or cut ===== -/
def sn_up (f : Nat → Nat) (k x j : Nat) : Nat := if j = k then x else f j
theorem sn_XB_l {i a b x : Nat} (ha : a < 7) (hb : b < 7) (hx : x ≤ 100) (hX : sn_XB ea eb pr eA eB pO) :
    sn_XB (sn_up ea i a) (sn_up eb i b) (sn_up pr i x) (upd eA i (nI a)) (upd eB i (nI b)) (upd pO i (nI x)) := by
  intro j hj
  unfold sn_up
  by_cases z : j = i
  · rw [if_pos z, if_pos z, if_pos z, z, pk_us, pk_us, pk_us]
    exact ⟨⟨ha, hb⟩, rfl, rfl, rfl, hx⟩
  · rw [if_neg z, if_neg z, if_neg z, pk_un z, pk_un z, pk_un z]
    exact hX j hj
theorem sn_Y_l {i a b x : Nat} {t : Int32} (ht : t ≠ 0) (ha : a < 7) (hb : b < 7) (h1 : 1 ≤ x) (hx : x ≤ 100) (hY : sn_Y ea eb pr th fr to pc) :
    sn_Y (sn_up ea i a) (sn_up eb i b) (sn_up pr i x) (upd th i t) (upd fr i (nI a)) (upd to i (nI b)) (upd pc i (nI x)) := by
  intro j hj
  unfold sn_up
  by_cases z : j = i
  · rw [if_pos z, if_pos z, if_pos z, z, pk_us, pk_us, pk_us, pk_us]
    exact ⟨⟨ha, hb⟩, rfl, rfl, ⟨fun e => absurd e ht, fun e => absurd e (by omega)⟩, fun _ => rfl, hx⟩
  · rw [if_neg z, if_neg z, if_neg z, pk_un z, pk_un z, pk_un z, pk_un z]
    exact hY j hj
theorem sn_XB_c {i : Nat} (hX : sn_XB ea eb pr eA eB pO) : sn_XB ea eb (sn_up pr i 0) eA eB (upd pO i (nI 0)) := by
  intro j hj
  unfold sn_up
  by_cases z : j = i
  · rw [if_pos z, z, pk_us]
    have := hX j hj
    rw [z] at this
    exact ⟨this.1, this.2.1, this.2.2.1, rfl, by omega⟩
  · rw [if_neg z, pk_un z]
    exact hX j hj
theorem sn_Y_c {i : Nat} (hY : sn_Y ea eb pr th fr to pc) : sn_Y ea eb (sn_up pr i 0) (upd th i 0) fr to pc := by
  intro j hj
  unfold sn_up
  by_cases z : j = i
  · rw [if_pos z, z, pk_us]
    have := hY j hj
    rw [z] at this
    exact ⟨this.1, this.2.1, this.2.2.1, ⟨fun _ => rfl, fun _ => rfl⟩, fun e => absurd rfl e, by omega⟩
  · rw [if_neg z, pk_un z]
    exact hY j hj
end
end
section
/-! ===== what is owed ===== -/
theorem i_up {k : Nat} {u : SX} {v : SY} (h : i_Rel k u v) : i_Rel (k + 5) u v := h
theorem i_vc0 : wpX_init (fun u => wpY_init (fun v => i_Rel 0 u v)) :=
  sn_rel (k := 0) (M := 0) (ea := fun _ => 0) (eb := fun _ => 0) (pr := fun _ => 0) (by decide)
    (fun _ _ => ⟨⟨Nat.zero_lt_succ 6, Nat.zero_lt_succ 6⟩, rfl, rfl, rfl, Nat.zero_le 100⟩)
    (fun _ _ => ⟨⟨Nat.zero_lt_succ 6, Nat.zero_lt_succ 6⟩, rfl, rfl, ⟨fun _ => rfl, fun _ => rfl⟩, fun e => absurd rfl e, Nat.zero_le 100⟩)
    (fun p _ => ⟨fun _ => Nat.zero_testBit p, fun _ => rfl⟩) (Or.inl rfl)
theorem i_vc_line {k : Nat} {u : SX} {v : SY} (I : i_Rel k u v) (hk : k + 5 ≤ 2560) (v1 : Int32) (v2 : Int32) (v3 : Int32) (v4 : Int32) : wpX_line (fun r u' => wpY_line (fun r' v' => r' = r ∧ i_Rel (k + 5) u' v') v v1 v2 v3 v4) u v1 v2 v3 v4 := by
  refine sn_el (P := fun u v => wpX_line (fun r u' => wpY_line (fun r' v' => r' = r ∧ i_Rel (k + 5) u' v') v v1 v2 v3 v4) u v1 v2 v3 v4) ?_ I
  intro ea eb pr M fw fk fp fs eA eB pO co wy pa wa th fr to pc mk hM hX hY hK hk
  have rel : i_Rel (k + 5) (nI M, fw, fk, fp, fs, eA, eB, pO, co, wy, pa, wa) (th, fr, to, pc, mk) := sn_rel hM hX hY hK hk
  unfold wpX_line wpY_line
  dsimp only
  refine br_c (fun z0 => br_t z0 ⟨rfl, rel⟩) (fun z0 => br_c (fun z1 => br_f z0 (br_t z1 ⟨rfl, rel⟩)) (fun z1 => ?_))
  obtain ⟨i, hi, rfl⟩ : ∃ i, i < 10 ∧ v1 = nI i := by
    obtain ⟨j, hj, rfl⟩ := nI_of z0
    refine ⟨j, ?_, rfl⟩
    apply Classical.byContradiction
    intro h
    exact z1 (nI_lt (a := 9) (by omega) hj)
  refine sn_ip (fun a ha ea' => ?_) (fun hn => ?_)
  · subst ea'
    refine br_f (by decide) (sn_ip (fun b hb eb' => ?_) (fun hn => ?_))
    · subst eb'
      refine br_f (by decide) (br_c (fun z2 => ?_) (fun z2 => br_c (fun z3 => ?_) (fun z3 => br_c (fun z4 => ?_) (fun z4 => ?_))))
      · exact br_f z0 (br_f z1 (sn_bp (fun _ _ _ => br_t rfl (sn_bp (fun _ _ _ => br_t rfl (br_t z2 ⟨rfl, rel⟩)) (fun hn => absurd rfl (hn b hb)))) (fun hn => absurd rfl (hn a ha))))
      · exact br_f z0 (br_f z1 (sn_bp (fun _ _ _ => br_t rfl (sn_bp (fun _ _ _ => br_t rfl (br_f z2 (br_t z3 ⟨rfl, rel⟩))) (fun hn => absurd rfl (hn b hb)))) (fun hn => absurd rfl (hn a ha))))
      · obtain ⟨x, hx, rfl⟩ : ∃ x, x < 2 ^ 31 ∧ v4 = nI x := nI_of (fun h => z3 (Int32.lt_trans h (by decide)))
        have x1 : 1 ≤ x := by
          apply Classical.byContradiction
          intro h
          exact z3 (nI_lt (b := 1) (by omega) (by decide))
        have x2 : x ≤ 100 := (nI_leI hx (b := 100) (by decide)).mp z4
        have v0 : vp_in (nI i) 10 := vp_in_nI hi (by decide)
        rw [nI_clamp (n := i) (by omega)]
        refine ⟨v0, nm_e ⟨v0, nm_e ⟨v0, nm_e ?_⟩⟩⟩
        refine br_f z0 (br_f z1 (sn_bp (fun _ _ _ => br_t rfl (sn_bp (fun _ _ _ => br_t rfl (br_f z2 (br_f z3 (br_t z4 ⟨v0, nm_e ⟨v0, nm_e ⟨v0, nm_e ⟨v0, nm_e ⟨rfl, ?_⟩⟩⟩⟩⟩)))) (fun hn => absurd rfl (hn b hb)))) (fun hn => absurd rfl (hn a ha))))
        exact sn_rel hM (sn_XB_l ha hb x2 hX) (sn_Y_l (by decide) ha hb x1 x2 hY) hK (Or.inl rfl)
      · exact br_f z0 (br_f z1 (sn_bp (fun _ _ _ => br_t rfl (sn_bp (fun _ _ _ => br_t rfl (br_f z2 (br_f z3 (br_f z4 ⟨rfl, rel⟩)))) (fun hn => absurd rfl (hn b hb)))) (fun hn => absurd rfl (hn a ha))))
    · exact br_t rfl (br_f z0 (br_f z1 (sn_bp (fun _ _ _ => br_t rfl (sn_bp (fun b hb e => absurd e (hn b hb)) (fun _ => br_f (by decide) ⟨rfl, rel⟩))) (fun hn => absurd rfl (hn a ha)))))
  · exact br_t rfl (br_f z0 (br_f z1 (sn_bp (fun a ha e => absurd e (hn a ha)) (fun _ => br_f (by decide) ⟨rfl, rel⟩))))
theorem i_vc_cut {k : Nat} {u : SX} {v : SY} (I : i_Rel k u v) (hk : k + 5 ≤ 2560) (v1 : Int32) : wpX_cut (fun r u' => wpY_cut (fun r' v' => r' = r ∧ i_Rel (k + 5) u' v') v v1) u v1 := by
  refine sn_el (P := fun u v => wpX_cut (fun r u' => wpY_cut (fun r' v' => r' = r ∧ i_Rel (k + 5) u' v') v v1) u v1) ?_ I
  intro ea eb pr M fw fk fp fs eA eB pO co wy pa wa th fr to pc mk hM hX hY hK hk
  unfold wpX_cut wpY_cut
  dsimp only
  refine sn_il hX (fun i hi e hpr => ?_) (fun hn => br_t rfl (sn_bl hY (fun i hi e hpr => absurd (hn i hi e) hpr) (fun _ => br_f (by decide) ⟨rfl, sn_rel hM hX hY hK hk⟩)))
  subst e
  have v0 : vp_in (nI i) 10 := vp_in_nI hi (by decide)
  rw [nI_clamp (n := i) (by omega)]
  refine br_f (by decide) ⟨v0, nm_e (sn_bl hY (fun _ _ _ _ => br_t rfl ⟨v0, nm_e ⟨rfl, ?_⟩⟩) (fun hn => absurd (hn i hi rfl) hpr))⟩
  exact sn_rel hM (sn_XB_c hX) (sn_Y_c hY) hK (Or.inl rfl)
theorem sn_bt1 {b : Bool} (h : ¬ b = false) : b = true := by cases b <;> first | rfl | exact absurd rfl h
theorem sn_mk_on {M p : Nat} {mk : Nat → Int32} (hp : p < 7) (h : sn_M M mk) : sn_M (M ||| 2 ^ p) (upd mk p 1) := by
  intro q hq
  rw [Nat.testBit_or]
  by_cases z : q = p
  · rw [z, pk_us, Nat.testBit_two_pow_self, Bool.or_true]
    exact ⟨fun e => absurd e (by decide), fun e => absurd e (by decide)⟩
  · rw [pk_un z, Nat.testBit_two_pow_of_ne (fun e => z e.symm), Bool.or_false]
    exact h q hq
theorem sn_mk_off {M p : Nat} {mk : Nat → Int32} (hp : p < 7) (h : sn_M M mk) : sn_M (M &&& (M ^^^ 2 ^ p)) (upd mk p 0) := by
  intro q hq
  rw [Nat.testBit_and, Nat.testBit_xor]
  by_cases z : q = p
  · rw [z, pk_us, Nat.testBit_two_pow_self]
    refine ⟨fun _ => ?_, fun _ => rfl⟩
    cases M.testBit p <;> rfl
  · rw [pk_un z, Nat.testBit_two_pow_of_ne (fun e => z e.symm), Bool.xor_false, Bool.and_self]
    exact h q hq
theorem i_vc_mark {k : Nat} {u : SX} {v : SY} (I : i_Rel k u v) (hk : k + 5 ≤ 2560) (v1 : Int32) (v2 : Int32) : wpX_mark (fun r u' => wpY_mark (fun r' v' => r' = r ∧ i_Rel (k + 5) u' v') v v1 (lw_bz v2)) u v1 (lw_bz v2) := by
  refine sn_el (P := fun u v => wpX_mark (fun r u' => wpY_mark (fun r' v' => r' = r ∧ i_Rel (k + 5) u' v') v v1 (lw_bz v2)) u v1 (lw_bz v2)) ?_ I
  intro ea eb pr M fw fk fp fs eA eB pO co wy pa wa th fr to pc mk hM hX hY hK hk
  unfold wpX_mark wpY_mark
  dsimp only
  refine sn_ip (fun p hp e => ?_) (fun hn => br_t rfl (sn_bp (fun a ha e => absurd e (hn a ha)) (fun _ => br_f (by decide) ⟨rfl, sn_rel hM hX hY hK hk⟩)))
  subst e
  have v0 : vp_in (nI p) 7 := vp_in_nI hp (by decide)
  have hb := hK p hp
  have p7 : 2 ^ p < 2 ^ 7 := Nat.pow_lt_pow_right (by decide) hp
  have l1 : M &&& (M ^^^ 2 ^ p) < 128 := Nat.lt_of_le_of_lt Nat.and_le_left hM
  have l2 : M ||| 2 ^ p < 128 := Nat.or_lt_two_pow (n := 7) hM p7
  have n0 : vp_nar .boolean 0 = 0 := rfl
  have n1 : vp_nar .boolean 1 = 1 := rfl
  rw [sn_ubit (by omega) (by omega), nI_clamp (n := p) (by omega), sn_shl (show p < 31 by omega), sn_andn, sn_or]
  refine br_f (by decide) (nm_e ?_)
  rcases lw_bz_01 v2 with e | e
  · rw [e]
    refine br_t rfl (nm_e (sn_bp (fun _ _ _ => br_t rfl ⟨v0, ?_⟩) (fun hn => absurd rfl (hn p hp))))
    unfold wY_mark_24
    rw [nI_clamp (n := p) (by omega), n0]
    have rel := sn_rel (k := k + 5) (fw := fw) (fk := 0) (fp := fp) (fs := fs) (co := co) (wy := wy) (pa := pa) (wa := wa) l1 hX hY (sn_mk_off hp hK) (Or.inl rfl)
    refine br_c (fun z => ⟨v0, nm_e ⟨?_, rel⟩⟩) (fun z => ⟨v0, nm_e ⟨?_, rel⟩⟩)
    · rw [hb.mp z, if_neg (by decide)]; rfl
    · rw [sn_bt1 (fun q => z (hb.mpr q)), if_pos rfl]; rfl
  · rw [e]
    refine br_f (by decide) (nm_e (sn_bp (fun _ _ _ => br_t rfl ⟨v0, ?_⟩) (fun hn => absurd rfl (hn p hp))))
    unfold wY_mark_24
    rw [nI_clamp (n := p) (by omega), n1]
    have rel := sn_rel (k := k + 5) (fw := fw) (fk := 0) (fp := fp) (fs := fs) (co := co) (wy := wy) (pa := pa) (wa := wa) l2 hX hY (sn_mk_on hp hK) (Or.inl rfl)
    refine br_c (fun z => ⟨v0, nm_e ⟨?_, rel⟩⟩) (fun z => ⟨v0, nm_e ⟨?_, rel⟩⟩)
    · rw [hb.mp z, if_neg (by decide)]; rfl
    · rw [sn_bt1 (fun q => z (hb.mpr q)), if_pos rfl]; rfl
theorem i_vc_least {k : Nat} {u : SX} {v : SY} (I : i_Rel k u v) (hk : k + 5 ≤ 2560) : wpX_least (fun r u' => wpY_least (fun r' => r' = r ∧ i_Rel (k + 5) u' v) v) u := by
  refine sn_el (P := fun u v => wpX_least (fun r u' => wpY_least (fun r' => r' = r ∧ i_Rel (k + 5) u' v) v) u) ?_ I
  intro ea eb pr M fw fk fp fs eA eB pO co wy pa wa th fr to pc mk hM hX hY hK hk
  unfold wpX_least
  dsimp only
  refine sn_fb hX hM hk (fun fk fp fs wc co wy pa wa hn => ?_)
  unfold wpY_least
  dsimp only
  refine sn_mk hM hK (sn_lw (I := 0) (O := 0) hY hM (by decide) (by decide) (fun B hB => ⟨?_, sn_rel hM hX hY hK (Or.inr hn)⟩) (fun hno => ⟨?_, sn_rel hM hX hY hK (Or.inr hn)⟩))
  · rcases hn with ⟨B', b1, b2, b3⟩ | ⟨b1, b2⟩
    · rw [b2, sn_B_un hB b1]
    · exact absurd hB.2.1 (b1 B)
  · rcases hn with ⟨B', b1, b2, b3⟩ | ⟨b1, b2⟩
    · exact absurd b1.2.1 (hno B')
    · exact b2.symm
theorem i_vc_chosen {k : Nat} {u : SX} {v : SY} (I : i_Rel k u v) (hk : k + 5 ≤ 2560) (v1 : Int32) : wpX_chosen (fun r u' => wpY_chosen (fun r' => r' = r ∧ i_Rel (k + 5) u' v) v v1) u v1 := by
  refine sn_el (P := fun u v => wpX_chosen (fun r u' => wpY_chosen (fun r' => r' = r ∧ i_Rel (k + 5) u' v) v v1) u v1) ?_ I
  intro ea eb pr M fw fk fp fs eA eB pO co wy pa wa th fr to pc mk hM hX hY hK hk
  unfold wpX_chosen wpY_chosen
  dsimp only
  refine sn_il hX (fun i hi e hpr => ?_) (fun hn => br_t rfl (sn_bl hY (fun i hi e hpr => absurd (hn i hi e) hpr) (fun _ => br_f (by decide) ⟨rfl, sn_rel hM hX hY hK hk⟩)))
  subst e
  refine br_f (by decide) (sn_fb hX hM hk (fun fk fp fs wc co wy pa wa hn => ?_))
  dsimp only
  have hn' := hn
  rcases hn with ⟨B', b1, b2, b3⟩ | ⟨b1, b2⟩
  · have lb := b1.1
    have ub : sn_c pr B' 10 ≤ 100 * 10 := sn_c_ub 10 (sn_XB_p hX)
    rw [b2, b3, sn_ubit (by omega) (by omega)]
    rw [b2, b3] at hn'
    refine br_t (nI_pos' (by omega)) (sn_bl hY (fun _ _ _ _ => br_t rfl ?_) (fun hno => absurd (hno i hi rfl) hpr))
    refine sn_mk hM hK (sn_bs (I := 0) (O := 0) hY hM (by decide) (by decide) (fun B hB => ?_) (fun hno => absurd b1.2.1 (hno B')))
    obtain rfl := sn_B_un hB b1
    rw [sn_sbit (by omega) (by omega)]
    exact br_t (nI_pos' (by omega)) ⟨rfl, sn_rel hM hX hY hK (Or.inr hn')⟩
  · rw [b2]
    rw [b2] at hn'
    refine br_f (by decide) (sn_bl hY (fun _ _ _ _ => br_t rfl ?_) (fun hno => absurd (hno i hi rfl) hpr))
    exact sn_mk hM hK (sn_bs (I := 0) (O := 0) hY hM (by decide) (by decide) (fun B hB => absurd hB.2.1 (b1 B)) (fun hno => br_f (by decide) ⟨rfl, sn_rel hM hX hY hK (Or.inr hn')⟩))
theorem i_vc_with {k : Nat} {u : SX} {v : SY} (I : i_Rel k u v) (hk : k + 5 ≤ 2560) (v1 : Int32) : wpX_with (fun r u' => wpY_with (fun r' => r' = r ∧ i_Rel (k + 5) u' v) v v1) u v1 := by
  refine sn_el (P := fun u v => wpX_with (fun r u' => wpY_with (fun r' => r' = r ∧ i_Rel (k + 5) u' v) v v1) u v1) ?_ I
  intro ea eb pr M fw fk fp fs eA eB pO co wy pa wa th fr to pc mk hM hX hY hK hk
  have hpr' := sn_XB_p hX
  unfold wpX_with wpY_with
  dsimp only
  refine sn_il hX (fun i hi e hpr => ?_) (fun hn => br_t rfl (sn_bl hY (fun i hi e hpr => absurd (hn i hi e) hpr) (fun _ => br_f (by decide) ⟨rfl, sn_rel hM hX hY hK hk⟩)))
  subst e
  have v0 : vp_in (nI i) 10 := vp_in_nI hi (by decide)
  have hI := sn_pw10 hi
  have ok : sn_ok pr (2 ^ i) := by
    intro j hj hb
    rw [Nat.testBit_two_pow] at hb
    rw [← of_decide_eq_true hb]
    exact hpr
  obtain ⟨_, _, _, x1, x2⟩ := hX i hi
  rw [nI_clamp (n := i) (by omega), sn_shl (show i < 31 by omega)]
  refine br_f (by decide) (sn_ca hX (fun co' hco => ?_))
  dsimp only
  have ci := sn_co_in (k := i) (I := 0) (O := 0) (fun j hj _ => hco j hj)
  rw [Nat.zero_or] at ci
  refine ⟨v0, nm_e (sn_lf (sn_XB_X hX ci) hM (fun r wc wy pa wa hL => ?_))⟩
  have rb := hL.1
  dsimp only
  rw [x1, nI_add]
  have Yp : ∀ {post : Int32 → Prop}, post 0 → wpY_badLine post (th, fr, to, pc, mk) (nI i) := fun h => sn_bl hY (fun _ _ _ _ => h) (fun hno => absurd (hno i hi rfl) hpr)
  refine pk_lt r 100000 (fun z => ⟨v0, Yp (br_t rfl ?_)⟩) (fun z => Yp (br_t rfl ?_))
  · refine sn_mk hM hK (sn_lw (O := 0) hY hM hI (by decide) (fun B hB => ⟨?_, sn_rel hM hX hY hK hk⟩) (fun hno => absurd z (sn_L_no hI (Nat.and_zero _) ok hL hno)))
    have g := (sn_L_eq hI (Nat.and_zero _) ok hpr' hL hB).2.1
    rw [sn_c_pow 10 hi] at g
    rw [g]
  · refine sn_mk hM hK (sn_lw (O := 0) hY hM hI (by decide) (fun B hB => ?_) (fun hno => ⟨rfl, sn_rel hM hX hY hK hk⟩))
    have g := (sn_L_eq hI (Nat.and_zero _) ok hpr' hL hB).1
    omega
theorem i_vc_without {k : Nat} {u : SX} {v : SY} (I : i_Rel k u v) (hk : k + 5 ≤ 2560) (v1 : Int32) : wpX_without (fun r u' => wpY_without (fun r' => r' = r ∧ i_Rel (k + 5) u' v) v v1) u v1 := by
  refine sn_el (P := fun u v => wpX_without (fun r u' => wpY_without (fun r' => r' = r ∧ i_Rel (k + 5) u' v) v v1) u v1) ?_ I
  intro ea eb pr M fw fk fp fs eA eB pO co wy pa wa th fr to pc mk hM hX hY hK hk
  have hpr' := sn_XB_p hX
  unfold wpX_without wpY_without
  dsimp only
  refine sn_il hX (fun i hi e hpr => ?_) (fun hn => br_t rfl (sn_bl hY (fun i hi e hpr => absurd (hn i hi e) hpr) (fun _ => br_f (by decide) ⟨rfl, sn_rel hM hX hY hK hk⟩)))
  subst e
  have v0 : vp_in (nI i) 10 := vp_in_nI hi (by decide)
  have hO := sn_pw10 hi
  have ok : sn_ok pr 0 := fun k _ hb => absurd hb (by rw [Nat.zero_testBit]; decide)
  rw [nI_clamp (n := i) (by omega), sn_shl (show i < 31 by omega)]
  refine br_f (by decide) (sn_ca hX (fun co' hco => ?_))
  dsimp only
  have ci := sn_co_far (k := i) (I := 0) (O := 0) (Nat.zero_testBit i) hco
  rw [Nat.zero_or] at ci
  refine ⟨v0, nm_e (sn_lf (sn_XB_X hX ci) hM (fun r wc wy pa wa hL => ?_))⟩
  have rb := hL.1
  dsimp only
  have Yp : ∀ {post : Int32 → Prop}, post 0 → wpY_badLine post (th, fr, to, pc, mk) (nI i) := fun h => sn_bl hY (fun _ _ _ _ => h) (fun hno => absurd (hno i hi rfl) hpr)
  refine pk_lt r 100000 (fun z => Yp (br_t rfl ?_)) (fun z => Yp (br_t rfl ?_))
  · refine sn_mk hM hK (sn_lw (I := 0) hY hM (by decide) hO (fun B hB => ⟨?_, sn_rel hM hX hY hK hk⟩) (fun hno => absurd z (sn_L_no (by decide) (Nat.zero_and _) ok hL hno)))
    have g := (sn_L_eq (by decide) (Nat.zero_and _) ok hpr' hL hB).2.1
    rw [sn_c_0, Nat.add_zero] at g
    rw [g]
  · refine sn_mk hM hK (sn_lw (I := 0) hY hM (by decide) hO (fun B hB => ?_) (fun hno => ⟨rfl, sn_rel hM hX hY hK hk⟩))
    have g := (sn_L_eq (by decide) (Nat.zero_and _) ok hpr' hL hB).1
    omega
theorem i_vc_including {k : Nat} {u : SX} {v : SY} (I : i_Rel k u v) (hk : k + 5 ≤ 2560) (v1 : Int32) : wpX_including (fun r u' => wpY_including (fun r' => r' = r ∧ i_Rel (k + 5) u' v) v v1) u v1 := by
  refine sn_el (P := fun u v => wpX_including (fun r u' => wpY_including (fun r' => r' = r ∧ i_Rel (k + 5) u' v) v v1) u v1) ?_ I
  intro ea eb pr M fw fk fp fs eA eB pO co wy pa wa th fr to pc mk hM hX hY hK hk
  have hpr' := sn_XB_p hX
  unfold wpX_including wpY_including
  dsimp only
  refine sn_ip (fun p hp e => ?_) (fun hn => br_t rfl (sn_bp (fun a ha e => absurd e (hn a ha)) (fun _ => br_f (by decide) ⟨rfl, sn_rel hM hX hY hK hk⟩)))
  subst e
  have p7 : 2 ^ p < 2 ^ 7 := Nat.pow_lt_pow_right (by decide) hp
  have hS : M ||| 2 ^ p < 128 := Nat.or_lt_two_pow (n := 7) hM p7
  have ok : sn_ok pr 0 := fun k _ hb => absurd hb (by rw [Nat.zero_testBit]; decide)
  rw [sn_shl (show p < 31 by omega)]
  refine br_f (by decide) (sn_ca hX (fun co' hco => ?_))
  dsimp only
  rw [sn_or]
  refine sn_lf (sn_XB_X hX hco) hS (fun r wc wy pa wa hL => ?_)
  have rb := hL.1
  dsimp only
  have Yp : ∀ {post : Int32 → Prop}, post 0 → wpY_badPoint post (nI p) := fun h => sn_bp (fun _ _ _ => h) (fun hno => absurd rfl (hno p hp))
  refine pk_lt r 100000 (fun z => Yp (br_t rfl (sn_mk hM hK ?_))) (fun z => Yp (br_t rfl (sn_mk hM hK ?_)))
  · rw [sn_or]
    refine sn_lw (I := 0) (O := 0) hY hS (by decide) (by decide) (fun B hB => ⟨?_, sn_rel hM hX hY hK hk⟩) (fun hno => absurd z (sn_L_no (by decide) (Nat.zero_and _) ok hL hno))
    have g := (sn_L_eq (by decide) (Nat.zero_and _) ok hpr' hL hB).2.1
    rw [sn_c_0, Nat.add_zero] at g
    rw [g]
  · rw [sn_or]
    refine sn_lw (I := 0) (O := 0) hY hS (by decide) (by decide) (fun B hB => ?_) (fun hno => ⟨rfl, sn_rel hM hX hY hK hk⟩)
    have g := (sn_L_eq (by decide) (Nat.zero_and _) ok hpr' hL hB).1
    omega
theorem i_vc_between {k : Nat} {u : SX} {v : SY} (I : i_Rel k u v) (hk : k + 5 ≤ 2560) (v1 : Int32) (v2 : Int32) : wpX_between (fun r u' => wpY_between (fun r' => r' = r ∧ i_Rel (k + 5) u' v) v v1 v2) u v1 v2 := by
  refine sn_el (P := fun u v => wpX_between (fun r u' => wpY_between (fun r' => r' = r ∧ i_Rel (k + 5) u' v) v v1 v2) u v1 v2) ?_ I
  intro ea eb pr M fw fk fp fs eA eB pO co wy pa wa th fr to pc mk hM hX hY hK hk
  have hpr' := sn_XB_p hX
  have rel : i_Rel (k + 5) (nI M, fw, fk, fp, fs, eA, eB, pO, co, wy, pa, wa) (th, fr, to, pc, mk) := sn_rel hM hX hY hK hk
  unfold wpX_between wpY_between
  dsimp only
  refine sn_ip (fun a ha e => ?_) (fun hn => br_t rfl (sn_bp (fun a ha e => absurd e (hn a ha)) (fun _ => br_f (by decide) ⟨rfl, rel⟩)))
  subst e
  have Ya : ∀ {post : Int32 → Prop}, post 0 → wpY_badPoint post (nI a) := fun h => sn_bp (fun _ _ _ => h) (fun hno => absurd rfl (hno a ha))
  refine br_f (by decide) (sn_ip (fun b hb e => ?_) (fun hn => br_t rfl (Ya (br_t rfl (sn_bp (fun a ha e => absurd e (hn a ha)) (fun _ => br_f (by decide) ⟨rfl, rel⟩))))))
  subst e
  have Yb : ∀ {post : Int32 → Prop}, post 0 → wpY_badPoint post (nI b) := fun h => sn_bp (fun _ _ _ => h) (fun hno => absurd rfl (hno b hb))
  have hS : 2 ^ a ||| 2 ^ b < 128 := Nat.or_lt_two_pow (n := 7) (Nat.pow_lt_pow_right (by decide) ha) (Nat.pow_lt_pow_right (by decide) hb)
  have ok : sn_ok pr 0 := fun k _ hb => absurd hb (by rw [Nat.zero_testBit]; decide)
  rw [sn_shl (show a < 31 by omega), sn_shl (show b < 31 by omega), sn_or]
  refine br_f (by decide) (sn_ca hX (fun co' hco => ?_))
  dsimp only
  refine sn_lf (sn_XB_X hX hco) hS (fun r wc wy pa wa hL => ?_)
  have rb := hL.1
  dsimp only
  refine pk_lt r 100000 (fun z => Ya (br_t rfl (Yb (br_t rfl ?_)))) (fun z => Ya (br_t rfl (Yb (br_t rfl ?_))))
  · refine sn_lw (I := 0) (O := 0) hY hS (by decide) (by decide) (fun B hB => ⟨?_, sn_rel hM hX hY hK hk⟩) (fun hno => absurd z (sn_L_no (by decide) (Nat.zero_and _) ok hL hno))
    have g := (sn_L_eq (by decide) (Nat.zero_and _) ok hpr' hL hB).2.1
    rw [sn_c_0, Nat.add_zero] at g
    rw [g]
  · refine sn_lw (I := 0) (O := 0) hY hS (by decide) (by decide) (fun B hB => ?_) (fun hno => ⟨rfl, sn_rel hM hX hY hK hk⟩)
    have g := (sn_L_eq (by decide) (Nat.zero_and _) ok hpr' hL hB).1
    omega
end
