section
theorem pk_us {f : Nat → Int32} {k : Nat} {x : Int32} : upd f k x k = x := if_pos rfl
theorem pk_un {f : Nat → Int32} {k j : Nat} {x : Int32} (h : j ≠ k) : upd f k x j = f j := if_neg h
theorem pk_sub {a b : Nat} (h : b ≤ a) : nI a - nI b = nI (a - b) := by
  obtain ⟨c, rfl⟩ : ∃ c, a = c + b := ⟨a - b, by omega⟩
  rw [← nI_add, Int32.add_sub_cancel, Nat.add_sub_cancel]
theorem pk_m1 (n : Nat) : nI (n + 1) + (-1) = nI n := by
  rw [← nI_1, Int32.add_assoc, show (1 : Int32) + (-1) = 0 from rfl, Int32.add_zero]
theorem pk_mul (a b : Nat) : nI a * nI b = nI (a * b) := (Int32.ofNat_mul a b).symm
theorem pk_div {a d : Nat} (ha : a < 2 ^ 31) (h0 : 0 < d) (hd : d < 2 ^ 31) : nI a / nI d = nI (a / d) := by
  apply Int32.toInt_inj.mp
  rw [lg_idiv_nonneg (by rw [nI_toInt ha]; omega) (by rw [nI_toInt hd]; omega), nI_toInt ha, nI_toInt hd, nI_toInt (Nat.lt_of_le_of_lt (Nat.div_le_self a d) ha)]
  first | rfl | exact (Int.natCast_ediv _ _).symm
theorem pk_rem {a d : Nat} (ha : a < 2 ^ 31) (h0 : 0 < d) (hd : d < 2 ^ 31) : nI a - nI a / nI d * nI d = nI (a % d) := by
  rw [pk_div ha h0 hd, pk_mul, pk_sub (Nat.div_mul_le_self a d)]
  exact congrArg nI (by have := Nat.div_add_mod' a d; omega)
theorem pk_sub_toInt {a b : Nat} (ha : a < 2 ^ 30) (hb : b < 2 ^ 30) : (nI a - nI b).toInt = (a : Int) - b := by
  rw [Int32.toInt_sub, nI_toInt (by omega), nI_toInt (by omega)]
  exact Int.bmod_eq_of_le (by omega) (by omega)
theorem pk_ix (x : Int32) {n : Nat} (hn : n < 2 ^ 31) : x < 0 ∨ nI n ≤ x ∨ ∃ j : Nat, j < n ∧ x = nI j := by
  by_cases h : x < 0
  · exact Or.inl h
  · obtain ⟨j, hj, rfl⟩ := nI_of h
    by_cases h2 : j < n
    · exact Or.inr (Or.inr ⟨j, h2, rfl⟩)
    · exact Or.inr (Or.inl (nI_le (by omega) hj))
theorem pk_le {x y : Int32} {A B : Prop} (a b : Nat) (f : a ≤ b → A) (g : b < a → B) (hx : x = nI a := by rfl) (hy : y = nI b := by rfl) (ha : a < 2 ^ 31 := by omega) (hb : b < 2 ^ 31 := by omega) : (x ≤ y → A) ∧ (¬ x ≤ y → B) := by
  subst hx hy
  rw [nI_leI ha hb]
  exact ⟨f, fun z => g (by omega)⟩
theorem pk_lt {x y : Int32} {A B : Prop} (a b : Nat) (f : a < b → A) (g : b ≤ a → B) (hx : x = nI a := by rfl) (hy : y = nI b := by rfl) (ha : a < 2 ^ 31 := by omega) (hb : b < 2 ^ 31 := by omega) : (x < y → A) ∧ (¬ x < y → B) := by
  subst hx hy
  rw [nI_ltI ha hb]
  exact ⟨f, fun z => g (by omega)⟩
theorem pk_eq {x y : Int32} {A B : Prop} (a b : Nat) (f : a = b → A) (g : a ≠ b → B) (hx : x = nI a := by rfl) (hy : y = nI b := by rfl) (ha : a < 2 ^ 31 := by omega) (hb : b < 2 ^ 31 := by omega) : (x = y → A) ∧ (¬ x = y → B) := by
  subst hx hy
  rw [nI_eq ha hb]
  exact ⟨f, g⟩
theorem pk_in {x : Int32} (n N : Nat) (h : n < N) (hx : x = nI n := by rfl) (hN : N < 2 ^ 31 := by omega) : vp_in x N := by
  subst hx
  exact vp_in_nI h hN
theorem pk_cl {x : Int32} (n : Nat) (hx : x = nI n := by rfl) (h : n < 2 ^ 31 := by omega) : x.toNatClampNeg = n := by
  subst hx
  exact nI_clamp h
theorem pk_tn {n : Nat} (h : n < 2 ^ 32) : (nI n).toBitVec.toNat = n := Nat.mod_eq_of_lt h
theorem pk_and (x : Int32) {m : Int32} (k : Nat) (hm : m.toBitVec.toNat = 2 ^ k - 1) : x &&& m = nI (x.toBitVec.toNat % 2 ^ k) := by
  apply Int32.toBitVec_inj.mp
  apply BitVec.eq_of_toNat_eq
  rw [Int32.toBitVec_and, BitVec.toNat_and, hm, Nat.and_two_pow_sub_one_eq_mod]
  show _ = (BitVec.ofNat 32 _).toNat
  rw [BitVec.toNat_ofNat]
  exact (Nat.mod_eq_of_lt (Nat.lt_of_le_of_lt (Nat.mod_le _ _) x.toBitVec.isLt)).symm
theorem pk_andN {n : Nat} (h : n < 2 ^ 32) {m : Int32} (k : Nat) (hm : m.toBitVec.toNat = 2 ^ k - 1) : nI n &&& m = nI (n % 2 ^ k) := by
  rw [pk_and _ k hm, pk_tn h]
theorem pk_andE (x : Int32) {m : Int32} (k : Nat) (hm : m.toBitVec.toNat = 2 ^ k - 1) : ∃ j : Nat, j < 2 ^ k ∧ x &&& m = nI j := ⟨_, Nat.mod_lt _ (Nat.two_pow_pos k), pk_and x k hm⟩
theorem pk_andIn (x : Int32) {m : Int32} (k : Nat) (hm : m.toBitVec.toNat = 2 ^ k - 1) (hk : k ≤ 30) : vp_in (x &&& m) (2 ^ k) := by
  obtain ⟨j, hj, e⟩ := pk_andE x k hm
  rw [e]
  exact vp_in_nI hj (Nat.lt_of_le_of_lt (Nat.pow_le_pow_right (by decide) hk) (by decide))
theorem pk_shl (a s : Int32) (k : Nat) (hs : (s.toBitVec.smod 32).toNat = k) : (a <<< s).toBitVec.toNat = a.toBitVec.toNat * 2 ^ k % 2 ^ 32 := by
  show (a.toBitVec <<< (s.toBitVec.smod 32).toNat).toNat = _
  rw [hs, BitVec.toNat_shiftLeft, Nat.shiftLeft_eq]
theorem pk_shlN {n : Nat} (s : Int32) (k : Nat) (hs : (s.toBitVec.smod 32).toNat = k) (h : n * 2 ^ k < 2 ^ 32) : nI n <<< s = nI (n * 2 ^ k) := by
  apply Int32.toBitVec_inj.mp
  apply BitVec.eq_of_toNat_eq
  have hn : n < 2 ^ 32 := Nat.lt_of_le_of_lt (Nat.le_mul_of_pos_right n (Nat.two_pow_pos k)) h
  rw [pk_shl _ _ k hs, pk_tn hn, pk_tn h, Nat.mod_eq_of_lt h]
theorem pk_shr (a s : Int32) (k : Nat) (hs : (s.toBitVec.smod 32).toNat = k) : (a >>> s).toInt = a.toInt >>> k := by
  show (a.toBitVec.sshiftRight (s.toBitVec.smod 32).toNat).toInt = _
  rw [hs, BitVec.toInt_sshiftRight]
  rfl
theorem pk_shrN {n : Nat} (h : n < 2 ^ 31) (s : Int32) (k : Nat) (hs : (s.toBitVec.smod 32).toNat = k) : nI n >>> s = nI (n / 2 ^ k) := by
  apply Int32.toInt_inj.mp
  have h2 : n / 2 ^ k ≤ n := Nat.div_le_self _ _
  rw [pk_shr _ _ k hs, nI_toInt h, nI_toInt (by omega), Int.shiftRight_eq_div_pow]
  rfl
theorem pk_vs (z : Int32) : vp_nar .short z.toInt16.toInt32 = z.toInt16.toInt32 := by rw [vp_nar_short]; simp
theorem pk_least (P : Nat → Prop) (h : ∃ k, P k) : ∃ k, P k ∧ ∀ j, j < k → ¬ P j := by
  obtain ⟨k, hk⟩ := h
  induction k using Nat.strongRecOn with
  | ind k ih =>
    by_cases e : ∃ j, j < k ∧ P j
    · obtain ⟨j, hj, pj⟩ := e
      exact ih j hj pj
    · exact ⟨k, hk, fun j hj pj => e ⟨j, hj, pj⟩⟩
theorem sb_negT {w : Nat} (h : w < 2 ^ 31) : (-nI w).toInt = -(w : Int) := by
  rw [Int32.toInt_neg, nI_toInt h]
  exact Int.bmod_eq_of_le (by omega) (by omega)
theorem sb_nle {a b : Nat} (ha : a < 2 ^ 31) (hb : b < 2 ^ 31) : -nI a ≤ -nI b ↔ b ≤ a := by
  rw [Int32.le_iff_toInt_le, sb_negT ha, sb_negT hb]
  omega
theorem sb_nlt {a b : Nat} (ha : a < 2 ^ 31) (hb : b < 2 ^ 31) : -nI a < -nI b ↔ b < a := by
  rw [Int32.lt_iff_toInt_lt, sb_negT ha, sb_negT hb]
  omega
theorem s_l : ∀ n, n < 32 → ((nI n &&& 31).toBitVec.smod 32).toNat = n := by decide +kernel
theorem nx_and (a b : Nat) : nI a &&& nI b = nI (a &&& b) := by
  apply Int32.toBitVec_inj.1
  show BitVec.ofNat 32 a &&& BitVec.ofNat 32 b = BitVec.ofNat 32 (a &&& b)
  apply BitVec.eq_of_getLsbD_eq
  intro i hi
  simp [hi]
theorem nx_xor (a b : Nat) : nI a ^^^ nI b = nI (a ^^^ b) := by
  apply Int32.toBitVec_inj.1
  show BitVec.ofNat 32 a ^^^ BitVec.ofNat 32 b = BitVec.ofNat 32 (a ^^^ b)
  apply BitVec.eq_of_getLsbD_eq
  intro i hi
  simp [hi]
theorem nx_mod (k : Nat) : nI k &&& 65535 = nI (k % 65536) := by
  show nI k &&& nI 65535 = _
  rw [nx_and, show (65535 : Nat) = 2 ^ 16 - 1 from rfl, Nat.and_two_pow_sub_one_eq_mod]
theorem nx_m16 {k : Nat} (h : k < 65536) : nI k &&& 65535 = nI k := by rw [nx_mod, Nat.mod_eq_of_lt h]
end
section
/-! The generator's step over naturals below 2 ^ 16, its linearity, its table, its cycle. No program in sight. -/
def jg_s1 (c : Nat) : Nat := c ^^^ (c * 2 ^ 7 % 2 ^ 16)
def jg_s2 (c : Nat) : Nat := c ^^^ (c / 2 ^ 9)
def jg_s3 (c : Nat) : Nat := c ^^^ (c * 2 ^ 8 % 2 ^ 16)
def jg_T (c : Nat) : Nat := jg_s3 (jg_s2 (jg_s1 c))
def jg_r1 (c : Nat) : Nat := c ^^^ (c * 2 ^ 7 % 2 ^ 16) ^^^ (c * 2 ^ 14 % 2 ^ 16)
def jg_B (c : Nat) : Nat := jg_r1 (jg_s2 (jg_s3 c))
def jg_Lin (G : Nat → Nat) : Prop := ∀ a b, G (a ^^^ b) = G a ^^^ G b
theorem jg_x4 (a b p q : Nat) : (a ^^^ b) ^^^ (p ^^^ q) = (a ^^^ p) ^^^ (b ^^^ q) := by ac_rfl
theorem jg_xm (a b k : Nat) : (a ^^^ b) * 2 ^ k = a * 2 ^ k ^^^ b * 2 ^ k := by
  rw [← Nat.shiftLeft_eq, Nat.shiftLeft_xor_distrib, Nat.shiftLeft_eq, Nat.shiftLeft_eq]
theorem jg_lm (k : Nat) (a b : Nat) : (a ^^^ b) * 2 ^ k % 2 ^ 16 = a * 2 ^ k % 2 ^ 16 ^^^ b * 2 ^ k % 2 ^ 16 := by
  rw [jg_xm, Nat.xor_mod_two_pow]
theorem jg_s1_l : jg_Lin jg_s1 := fun a b => by unfold jg_s1; rw [jg_lm, jg_x4]
theorem jg_s3_l : jg_Lin jg_s3 := fun a b => by unfold jg_s3; rw [jg_lm, jg_x4]
theorem jg_s2_l : jg_Lin jg_s2 := fun a b => by unfold jg_s2; rw [Nat.xor_div_two_pow, jg_x4]
theorem jg_r1_l : jg_Lin jg_r1 := fun a b => by unfold jg_r1; rw [jg_lm, jg_lm]; ac_rfl
theorem jg_comp {F G : Nat → Nat} (hF : jg_Lin F) (hG : jg_Lin G) : jg_Lin (fun x => F (G x)) := fun a b => by
  show F (G (a ^^^ b)) = F (G a) ^^^ F (G b)
  rw [hG, hF]
theorem jg_T_l : jg_Lin jg_T := by
  have h := jg_comp jg_s3_l (jg_comp jg_s2_l jg_s1_l)
  exact h
theorem jg_B_l : jg_Lin jg_B := by
  have h := jg_comp jg_r1_l (jg_comp jg_s2_l jg_s3_l)
  exact h
theorem jg_lin0 {G : Nat → Nat} (h : jg_Lin G) : G 0 = 0 := by
  have e := h 0 0
  rw [Nat.xor_self, Nat.xor_self] at e
  exact e
/-- the exclusive sum of what the bits below n of x become -/
def jg_L (f : Nat → Nat) (x : Nat) : Nat → Nat
  | 0 => 0
  | n + 1 => jg_L f x n ^^^ cond (x.testBit n) (f n) 0
theorem jg_L_s (f : Nat → Nat) (x n : Nat) : jg_L f x (n + 1) = jg_L f x n ^^^ cond (x.testBit n) (f n) 0 := rfl
theorem jg_L_c {f g : Nat → Nat} {x : Nat} : ∀ n, (∀ i, i < n → f i = g i) → jg_L f x n = jg_L g x n
  | 0, _ => rfl
  | n + 1, h => by rw [jg_L_s, jg_L_s, jg_L_c n (fun i hi => h i (by omega)), h n (by omega)]
theorem jg_low (x n : Nat) : x % 2 ^ (n + 1) = (x % 2 ^ n) ^^^ cond (x.testBit n) (2 ^ n) 0 := by
  apply Nat.eq_of_testBit_eq
  intro j
  rw [Nat.testBit_xor, Nat.testBit_mod_two_pow, Nat.testBit_mod_two_pow]
  rcases Nat.lt_trichotomy j n with h | h | h
  · have e : (cond (x.testBit n) (2 ^ n) 0).testBit j = false := by
      cases x.testBit n
      · exact Nat.zero_testBit j
      · exact Nat.testBit_two_pow_of_ne (by omega)
    rw [e, decide_eq_true (by omega : j < n + 1), decide_eq_true h, Bool.xor_false]
  · subst h
    have e : (cond (x.testBit j) (2 ^ j) 0).testBit j = x.testBit j := by
      cases x.testBit j
      · exact Nat.zero_testBit j
      · exact Nat.testBit_two_pow_self
    rw [e, decide_eq_true (by omega : j < j + 1), decide_eq_false (by omega : ¬ j < j)]
    cases x.testBit j <;> rfl
  · have e : (cond (x.testBit n) (2 ^ n) 0).testBit j = false := by
      cases x.testBit n
      · exact Nat.zero_testBit j
      · exact Nat.testBit_two_pow_of_ne (by omega)
    rw [e, decide_eq_false (by omega : ¬ j < n + 1), decide_eq_false (by omega : ¬ j < n)]
    rfl
theorem jg_rep {G : Nat → Nat} (h : jg_Lin G) (x : Nat) : ∀ n, G (x % 2 ^ n) = jg_L (fun i => G (2 ^ i)) x n
  | 0 => by rw [Nat.pow_zero, Nat.mod_one]; exact jg_lin0 h
  | n + 1 => by
    rw [jg_low, h, jg_rep h x n, jg_L_s]
    cases x.testBit n
    · show _ ^^^ G 0 = _ ^^^ 0
      rw [jg_lin0 h]
    · rfl
theorem jg_rep16 {G : Nat → Nat} (h : jg_Lin G) {x : Nat} (hx : x < 65536) : G x = jg_L (fun i => G (2 ^ i)) x 16 := by
  rw [← jg_rep h x 16, Nat.mod_eq_of_lt (by omega)]
theorem jg_ext {G H : Nat → Nat} (hG : jg_Lin G) (hH : jg_Lin H) (h : ∀ i, i < 16 → G (2 ^ i) = H (2 ^ i)) {x : Nat} (hx : x < 65536) : G x = H x := by
  rw [jg_rep16 hG hx, jg_rep16 hH hx]
  exact jg_L_c 16 h
theorem jg_L_l (f : Nat → Nat) : ∀ n, jg_Lin (fun x => jg_L f x n)
  | 0 => fun a b => by show (0 : Nat) = 0 ^^^ 0; rw [Nat.xor_self]
  | n + 1 => fun a b => by
    have ih : jg_L f (a ^^^ b) n = jg_L f a n ^^^ jg_L f b n := jg_L_l f n a b
    show jg_L f (a ^^^ b) (n + 1) = jg_L f a (n + 1) ^^^ jg_L f b (n + 1)
    rw [jg_L_s, jg_L_s, jg_L_s, ih, Nat.testBit_xor, ← jg_x4]
    congr 1
    cases a.testBit n <;> cases b.testBit n <;> simp
theorem jg_id_l : jg_Lin (fun x => x) := fun _ _ => rfl
theorem jg_add_l {F G : Nat → Nat} (hF : jg_Lin F) (hG : jg_Lin G) : jg_Lin (fun x => F x ^^^ G x) := fun a b => by
  show F (a ^^^ b) ^^^ G (a ^^^ b) = (F a ^^^ G a) ^^^ (F b ^^^ G b)
  rw [hF, hG, jg_x4]
theorem jg_xlt {a b : Nat} (ha : a < 65536) (hb : b < 65536) : a ^^^ b < 65536 := Nat.xor_lt_two_pow (n := 16) ha hb
theorem jg_mlt (a : Nat) : a % 2 ^ 16 < 65536 := Nat.mod_lt _ (by decide)
theorem jg_s1_lt {x : Nat} (h : x < 65536) : jg_s1 x < 65536 := jg_xlt h (jg_mlt _)
theorem jg_s3_lt {x : Nat} (h : x < 65536) : jg_s3 x < 65536 := jg_xlt h (jg_mlt _)
theorem jg_s2_lt {x : Nat} (h : x < 65536) : jg_s2 x < 65536 := jg_xlt h (Nat.lt_of_le_of_lt (Nat.div_le_self _ _) h)
theorem jg_r1_lt {x : Nat} (h : x < 65536) : jg_r1 x < 65536 := jg_xlt (jg_xlt h (jg_mlt _)) (jg_mlt _)
theorem jg_T_lt {x : Nat} (h : x < 65536) : jg_T x < 65536 := jg_s3_lt (jg_s2_lt (jg_s1_lt h))
theorem jg_B_lt {x : Nat} (h : x < 65536) : jg_B x < 65536 := jg_r1_lt (jg_s2_lt (jg_s3_lt h))
theorem jg_BTd : ∀ i, i < 16 → jg_B (jg_T (2 ^ i)) = 2 ^ i := by decide +kernel
theorem jg_BT {x : Nat} (h : x < 65536) : jg_B (jg_T x) = x := by
  have hc := jg_comp jg_B_l jg_T_l
  exact jg_ext (G := fun x => jg_B (jg_T x)) (H := fun x => x) hc jg_id_l jg_BTd h
/-- n steps on -/
def jg_it : Nat → Nat → Nat
  | 0, x => x
  | n + 1, x => jg_T (jg_it n x)
theorem jg_it_0 (x : Nat) : jg_it 0 x = x := rfl
theorem jg_it_s (n x : Nat) : jg_it (n + 1) x = jg_T (jg_it n x) := rfl
theorem jg_it_1 (x : Nat) : jg_it 1 x = jg_T x := rfl
theorem jg_it_add (a b x : Nat) : jg_it (a + b) x = jg_it a (jg_it b x) := by
  induction a with
  | zero => rw [Nat.zero_add, jg_it_0]
  | succ a ih => rw [Nat.succ_add, jg_it_s, ih, jg_it_s]
theorem jg_it_l (n : Nat) : jg_Lin (jg_it n) := by
  induction n with
  | zero => exact jg_id_l
  | succ n ih =>
    have h := jg_comp jg_T_l ih
    exact h
theorem jg_it_lt (n : Nat) {x : Nat} (h : x < 65536) : jg_it n x < 65536 := by
  induction n with
  | zero => exact h
  | succ n ih => rw [jg_it_s]; exact jg_T_lt ih
theorem jg_inj {a : Nat} {x y : Nat} (hx : x < 65536) (hy : y < 65536) (h : jg_it a x = jg_it a y) : x = y := by
  induction a with
  | zero => exact h
  | succ a ih =>
    rw [jg_it_s, jg_it_s] at h
    apply ih
    rw [← jg_BT (jg_it_lt a hx), h, jg_BT (jg_it_lt a hy)]
theorem jg_nz {a x : Nat} (hx : x < 65536) (h0 : x ≠ 0) : jg_it a x ≠ 0 := fun h =>
  h0 (jg_inj (a := a) hx (by decide) (h.trans (jg_lin0 (jg_it_l a)).symm))
/-- n steps back -/
def jg_bk : Nat → Nat → Nat
  | 0, x => x
  | n + 1, x => jg_B (jg_bk n x)
theorem jg_bk_0 (x : Nat) : jg_bk 0 x = x := rfl
theorem jg_bk_s (n x : Nat) : jg_bk (n + 1) x = jg_B (jg_bk n x) := rfl
theorem jg_bk_s' (n : Nat) : ∀ x, jg_bk (n + 1) x = jg_bk n (jg_B x) := by
  induction n with
  | zero => exact fun x => rfl
  | succ n ih => exact fun x => by rw [jg_bk_s, ih, jg_bk_s]
theorem jg_bk_lt (n : Nat) {x : Nat} (h : x < 65536) : jg_bk n x < 65536 := by
  induction n with
  | zero => exact h
  | succ n ih => rw [jg_bk_s]; exact jg_B_lt ih
theorem jg_bk_it (n : Nat) {x : Nat} (h : x < 65536) : jg_bk n (jg_it n x) = x := by
  induction n with
  | zero => rfl
  | succ n ih => rw [jg_it_s, jg_bk_s', jg_BT (jg_it_lt n h), ih]
/-- what each bit becomes after 2 to the power k steps -/
def jg_tab : List (List Nat) := [[33153, 770, 1797, 3594, 7188, 14376, 28752, 57504, 49472, 769, 1538, 3076, 6152, 12304, 24608, 49216],
  [24609, 49475, 17095, 1039, 2335, 4670, 9340, 18680, 4464, 17344, 1537, 3331, 6662, 13324, 26648, 53296],
  [11787, 11334, 42233, 57771, 62150, 50540, 19352, 5809, 13355, 22060, 9696, 47888, 55105, 28355, 23559, 47375],
  [17913, 13076, 22287, 36827, 57136, 16229, 32972, 43933, 47848, 30900, 59213, 11100, 4157, 42364, 45826, 51369],
  [61313, 65314, 10263, 52147, 34190, 5715, 15148, 27989, 46575, 12760, 58919, 52052, 27973, 34877, 36000, 3629],
  [8480, 10176, 65107, 9157, 11318, 5307, 24556, 58677, 2992, 18643, 62376, 23387, 24763, 23169, 22616, 1757],
  [17802, 20627, 61861, 31816, 4972, 27534, 41095, 7138, 50560, 37644, 62871, 30244, 64068, 61310, 13223, 53538],
  [13449, 54388, 63100, 31201, 59948, 15085, 49410, 23188, 51568, 61447, 11162, 55853, 17333, 56799, 55142, 58972],
  [41484, 48810, 60051, 53155, 29631, 44591, 11326, 63549, 13220, 47569, 9128, 55644, 42673, 21650, 47493, 37835],
  [23480, 1494, 35189, 4219, 56808, 5061, 59500, 23453, 50391, 36512, 18262, 7350, 55937, 2484, 15282, 47113],
  [12857, 24891, 38116, 45781, 30274, 61898, 62494, 62257, 32239, 9489, 36788, 39026, 51977, 50340, 5522, 15433],
  [11736, 51846, 6901, 49477, 9663, 36696, 39050, 52025, 62400, 29316, 37676, 32159, 27067, 12400, 56602, 27801],
  [39498, 42450, 43225, 60900, 3500, 32542, 47175, 2850, 15039, 10137, 53390, 19402, 9456, 27558, 60215, 450],
  [47376, 39758, 59593, 17418, 37114, 53056, 10840, 35872, 8240, 55086, 9672, 18056, 31487, 44874, 12876, 11272],
  [4095, 64180, 44260, 51392, 28785, 41026, 49220, 32776, 61680, 20128, 18624, 2176, 256, 57856, 33792, 34816],
  [65280, 22015, 26282, 17612, 30856, 20720, 24736, 16576, 32639, 43690, 52428, 34952, 61680, 41120, 49344, 32896],
  [33153, 770, 1797, 3594, 7188, 14376, 28752, 57504, 49472, 769, 1538, 3076, 6152, 12304, 24608, 49216]]
def jg_tb (k i : Nat) : Nat := (jg_tab.getD k []).getD i 0
theorem jg_tb0 : ∀ i, i < 16 → jg_T (2 ^ i) = jg_tb 0 i := by decide +kernel
theorem jg_tbs : ∀ k, k < 16 → ∀ i, i < 16 → jg_L (jg_tb k) (jg_tb k i) 16 = jg_tb (k + 1) i := by decide +kernel
theorem jg_tbe : ∀ i, i < 16 → jg_tb 16 i = jg_tb 0 i := by decide +kernel
theorem jg_bit_lt : ∀ i, i < 16 → 2 ^ i < 65536 := by decide +kernel
theorem jg_dbl (k : Nat) : 2 ^ (k + 1) = 2 ^ k + 2 ^ k := by rw [Nat.pow_succ]; omega
theorem jg_pw : ∀ k, k ≤ 16 → ∀ i, i < 16 → jg_it (2 ^ k) (2 ^ i) = jg_tb k i := by
  intro k
  induction k with
  | zero => intro _ i hi; rw [Nat.pow_zero, jg_it_1]; exact jg_tb0 i hi
  | succ k ih =>
    intro hk i hi
    have ih' := ih (by omega)
    rw [jg_dbl, jg_it_add, jg_rep16 (jg_it_l (2 ^ k)) (jg_it_lt _ (jg_bit_lt i hi)), ← jg_tbs k (by omega) i hi, ih' i hi]
    exact jg_L_c 16 ih'
theorem jg_ap {k : Nat} (hk : k ≤ 16) {x : Nat} (hx : x < 65536) : jg_it (2 ^ k) x = jg_L (jg_tb k) x 16 := by
  rw [jg_rep16 (jg_it_l (2 ^ k)) hx]
  exact jg_L_c 16 (jg_pw k hk)
theorem jg_all {x : Nat} (hx : x < 65536) : jg_it (2 ^ 16) x = jg_T x :=
  jg_ext (G := jg_it (2 ^ 16)) (H := jg_T) (jg_it_l (2 ^ 16)) jg_T_l (fun i hi => by rw [jg_pw 16 (by omega) i hi, jg_tbe i hi, jg_tb0 i hi]) hx
theorem jg_cyc {x : Nat} (hx : x < 65536) : jg_it 65535 x = x := by
  have h := jg_it_s 65535 x
  rw [show (65535 + 1 : Nat) = 2 ^ 16 from by decide, jg_all hx] at h
  rw [← jg_BT (jg_it_lt 65535 hx), ← h, jg_BT hx]
theorem jg_fix {m x : Nat} (h : jg_it m x = x) (q : Nat) : jg_it (m * q) x = x := by
  induction q with
  | zero => rw [Nat.mul_zero, jg_it_0]
  | succ q ih => rw [Nat.mul_succ, jg_it_add, h, ih]
theorem jg_mod {x : Nat} (hx : x < 65536) (n : Nat) : jg_it (n % 65535) x = jg_it n x := by
  have e : n = n % 65535 + 65535 * (n / 65535) := (Nat.mod_add_div n 65535).symm
  have h : jg_it (n % 65535 + 65535 * (n / 65535)) x = jg_it (n % 65535) x := by
    rw [jg_it_add, jg_fix (jg_cyc hx)]
  rw [← e] at h
  exact h.symm
theorem jg_bk_eq {x : Nat} (hx : x < 65536) {a l t : Nat} (h : a + l = 65535 * t) : jg_bk a x = jg_it l x := by
  have e : jg_it a (jg_it l x) = x := by rw [← jg_it_add, h, jg_fix (jg_cyc hx)]
  have e2 := jg_bk_it a (jg_it_lt l hx)
  rw [e] at e2
  exact e2
/-! ===== no shorter cycle ===== -/
def jg_wd (m x : Nat) : Nat → Nat
  | 0 => x
  | k + 1 => cond (m.testBit k) (jg_L (jg_tb k) (jg_wd m x k) 16) (jg_wd m x k)
theorem jg_wd_s (m x k : Nat) : jg_wd m x (k + 1) = cond (m.testBit k) (jg_L (jg_tb k) (jg_wd m x k) 16) (jg_wd m x k) := rfl
theorem jg_lowA (m k : Nat) : m % 2 ^ (k + 1) = cond (m.testBit k) (2 ^ k) 0 + m % 2 ^ k := by
  rw [Nat.mod_pow_succ, ← Nat.toNat_testBit]
  cases m.testBit k
  · show _ + 2 ^ k * 0 = 0 + _
    omega
  · show _ + 2 ^ k * 1 = 2 ^ k + _
    omega
theorem jg_wd_eq {m x : Nat} (hx : x < 65536) : ∀ k, k ≤ 16 → jg_wd m x k = jg_it (m % 2 ^ k) x := by
  intro k
  induction k with
  | zero => intro _; rw [Nat.pow_zero, Nat.mod_one]; rfl
  | succ k ih =>
    intro hk
    rw [jg_wd_s, ih (by omega), jg_lowA]
    cases m.testBit k
    · exact congrArg (fun z => jg_it z x) (Nat.zero_add _).symm
    · show jg_L _ _ _ = jg_it (2 ^ k + _) x
      rw [jg_it_add, jg_ap (by omega) (jg_it_lt _ hx)]
def jg_a21845 : List Nat := [62958, 40769, 45172, 37965, 36770, 9578, 26337, 1050, 33427, 64524, 32820, 20896, 15823, 28522, 51084, 40584]
def jg_a13107 : List Nat := [41896, 30745, 56620, 29619, 26667, 55840, 47588, 31472, 65319, 20637, 37687, 1126, 51907, 59507, 31166, 49900]
def jg_a3855 : List Nat := [51792, 28566, 28155, 1682, 25757, 34795, 34121, 63879, 14515, 14305, 3018, 44954, 36670, 33167, 6076, 51269]
def jg_a255 : List Nat := [22608, 63601, 20509, 40814, 60090, 45872, 8728, 15456, 8304, 35216, 19743, 61930, 20659, 33570, 14908, 23592]
theorem jg_d21845 : ∀ i, i < 16 → jg_L (fun j => jg_a21845.getD j 0) (jg_wd 21845 (2 ^ i) 16 ^^^ 2 ^ i) 16 = 2 ^ i := by decide +kernel
theorem jg_d13107 : ∀ i, i < 16 → jg_L (fun j => jg_a13107.getD j 0) (jg_wd 13107 (2 ^ i) 16 ^^^ 2 ^ i) 16 = 2 ^ i := by decide +kernel
theorem jg_d3855 : ∀ i, i < 16 → jg_L (fun j => jg_a3855.getD j 0) (jg_wd 3855 (2 ^ i) 16 ^^^ 2 ^ i) 16 = 2 ^ i := by decide +kernel
theorem jg_d255 : ∀ i, i < 16 → jg_L (fun j => jg_a255.getD j 0) (jg_wd 255 (2 ^ i) 16 ^^^ 2 ^ i) 16 = 2 ^ i := by decide +kernel
theorem jg_ker {m : Nat} (hm : m < 65536) (A : Nat → Nat) (h : ∀ i, i < 16 → jg_L A (jg_wd m (2 ^ i) 16 ^^^ 2 ^ i) 16 = 2 ^ i) {x : Nat} (hx : x < 65536) (e : jg_it m x = x) : x = 0 := by
  have hG : jg_Lin (fun y => jg_it m y ^^^ y) := by
    have h := jg_add_l (jg_it_l m) jg_id_l
    exact h
  have hH : jg_Lin (fun y => jg_L A (jg_it m y ^^^ y) 16) := by
    have h := jg_comp (jg_L_l A 16) hG
    exact h
  have hI : jg_L A (jg_it m x ^^^ x) 16 = x := jg_ext (G := fun y => jg_L A (jg_it m y ^^^ y) 16) (H := fun y => y) hH jg_id_l (fun i hi => by
    have h2 := h i hi
    rw [jg_wd_eq (jg_bit_lt i hi) 16 (by omega), Nat.mod_eq_of_lt (by omega)] at h2
    exact h2) hx
  rw [e, Nat.xor_self] at hI
  have z : jg_L A 0 16 = 0 := jg_lin0 (G := fun x => jg_L A x 16) (jg_L_l A 16)
  exact hI.symm.trans z
theorem jg_gcd {x : Nat} (a b : Nat) : jg_it a x = x → jg_it b x = x → jg_it (Nat.gcd a b) x = x := by
  induction a, b using Nat.gcd.induction with
  | H0 n => intro _ h; rw [Nat.gcd_zero_left]; exact h
  | H1 m n hm ih =>
    intro h1 h2
    rw [Nat.gcd_rec]
    refine ih ?_ h1
    have e : n = n % m + m * (n / m) := (Nat.mod_add_div n m).symm
    have h : jg_it (n % m + m * (n / m)) x = jg_it (n % m) x := by rw [jg_it_add, jg_fix h1]
    rw [← e, h2] at h
    exact h.symm
theorem jg_pr {p : Nat} (hp : ∀ d, d < p + 1 → d ∣ p → d = 1 ∨ d = p) (h0 : 0 < p) {q r : Nat} (h : q ∣ p * r) : p ∣ q ∨ q ∣ r := by
  have hd : Nat.gcd q p ∣ p := Nat.gcd_dvd_right q p
  rcases hp _ (Nat.lt_succ_of_le (Nat.le_of_dvd h0 hd)) hd with e | e
  · exact Or.inr (Nat.Coprime.dvd_of_dvd_mul_left e h)
  · exact Or.inl (e ▸ Nat.gcd_dvd_left q p)
theorem jg_p3 : ∀ d, d < 3 + 1 → d ∣ 3 → d = 1 ∨ d = 3 := by decide +kernel
theorem jg_p5 : ∀ d, d < 5 + 1 → d ∣ 5 → d = 1 ∨ d = 5 := by decide +kernel
theorem jg_p17 : ∀ d, d < 17 + 1 → d ∣ 17 → d = 1 ∨ d = 17 := by decide +kernel
theorem jg_p257 : ∀ d, d < 257 + 1 → d ∣ 257 → d = 1 ∨ d = 257 := by decide +kernel
theorem jg_dv {g p M : Nat} (hp : 0 < p) {q : Nat} (e : p * M = g * q) (h : p ∣ q) : g ∣ M := by
  obtain ⟨t, rfl⟩ := h
  refine ⟨t, Nat.eq_of_mul_eq_mul_left hp ?_⟩
  rw [e, Nat.mul_left_comm]
theorem jg_div {g : Nat} (h : g ∣ 65535) (hg : g < 65535) : g ∣ 21845 ∨ g ∣ 13107 ∨ g ∣ 3855 ∨ g ∣ 255 := by
  obtain ⟨q, e⟩ := h
  have hq : q ∣ 3 * 21845 := ⟨g, (e.trans (Nat.mul_comm g q) : (65535 : Nat) = q * g)⟩
  rcases jg_pr jg_p3 (by decide) hq with h3 | h3
  · exact Or.inl (jg_dv (p := 3) (by decide) e h3)
  rcases jg_pr (r := 4369) jg_p5 (by decide) h3 with h5 | h5
  · exact Or.inr (Or.inl (jg_dv (p := 5) (by decide) e h5))
  rcases jg_pr (r := 257) jg_p17 (by decide) h5 with h17 | h17
  · exact Or.inr (Or.inr (Or.inl (jg_dv (p := 17) (by decide) e h17)))
  rcases jg_pr (r := 1) jg_p257 (by decide) h17 with h257 | h257
  · exact Or.inr (Or.inr (Or.inr (jg_dv (p := 257) (by decide) e h257)))
  · have := Nat.dvd_one.mp h257
    subst this
    omega
theorem jg_kd {g M x : Nat} (h : g ∣ M) (e : jg_it g x = x) : jg_it M x = x := by
  obtain ⟨q, rfl⟩ := h
  exact jg_fix e q
theorem jg_free {n x : Nat} (hn : 0 < n) (hn2 : n < 65535) (hx : x < 65536) (h0 : x ≠ 0) : jg_it n x ≠ x := by
  intro h
  have hg : jg_it (Nat.gcd n 65535) x = x := jg_gcd n 65535 h (jg_cyc hx)
  have hl : Nat.gcd n 65535 ≤ n := Nat.le_of_dvd hn (Nat.gcd_dvd_left n 65535)
  have hd : Nat.gcd n 65535 ∣ 65535 := Nat.gcd_dvd_right n 65535
  rcases jg_div hd (by omega) with h1 | h1 | h1 | h1
  · exact h0 (jg_ker (by decide) _ jg_d21845 hx (jg_kd h1 hg))
  · exact h0 (jg_ker (by decide) _ jg_d13107 hx (jg_kd h1 hg))
  · exact h0 (jg_ker (by decide) _ jg_d3855 hx (jg_kd h1 hg))
  · exact h0 (jg_ker (by decide) _ jg_d255 hx (jg_kd h1 hg))
theorem jg_uni {a b x : Nat} (hx : x < 65536) (h0 : x ≠ 0) (h1 : a < b + 65535) (h2 : b < a + 65535) (h : jg_it a x = jg_it b x) : a = b := by
  rcases Nat.lt_trichotomy a b with l | l | l
  · exfalso
    have e : jg_it b x = jg_it a (jg_it (b - a) x) := by rw [← jg_it_add]; congr 1; omega
    exact jg_free (n := b - a) (by omega) (by omega) hx h0 (jg_inj (a := a) (jg_it_lt _ hx) hx (e.symm.trans h.symm))
  · exact l
  · exfalso
    have e : jg_it a x = jg_it b (jg_it (a - b) x) := by rw [← jg_it_add]; congr 1; omega
    exact jg_free (n := a - b) (by omega) (by omega) hx h0 (jg_inj (a := b) (jg_it_lt _ hx) hx (e.symm.trans h))
/-! ===== every state is reached ===== -/
theorem jg_sur : ∀ (n : Nat) (f : Nat → Nat), (∀ i, i < n → f i < n) → (∀ i j, i < n → j < n → f i = f j → i = j) → ∀ y, y < n → ∃ i, i < n ∧ f i = y := by
  intro n
  induction n with
  | zero => intro f _ _ y hy; omega
  | succ n ih =>
    intro f hf hi y hy
    have hin : ∀ i, i < n → f i ≠ f n := fun i h e => by have := hi i n (by omega) (by omega) e; omega
    have hfn := hf n (by omega)
    have H := ih (fun i => if f i = n then f n else f i)
      (fun i h => by
        show (if f i = n then f n else f i) < n
        have h1 := hin i h
        have h2 := hf i (by omega)
        split <;> omega)
      (fun i j h h' e => by
        have e' : (if f i = n then f n else f i) = (if f j = n then f n else f j) := e
        have h1 := hin i h
        have h2 := hin j h'
        apply hi i j (by omega) (by omega)
        split at e' <;> split at e' <;> omega)
    by_cases ya : y = f n
    · exact ⟨n, by omega, ya.symm⟩
    by_cases yn : y = n
    · obtain ⟨i, h, e⟩ := H (f n) (by omega)
      have e' : (if f i = n then f n else f i) = f n := e
      have h1 := hin i h
      refine ⟨i, by omega, ?_⟩
      split at e' <;> omega
    · obtain ⟨i, h, e⟩ := H y (by omega)
      have e' : (if f i = n then f n else f i) = y := e
      refine ⟨i, by omega, ?_⟩
      split at e' <;> omega
theorem jg_tr {x y : Nat} (hx : x < 65536) (hx0 : x ≠ 0) (hy : y < 65536) (hy0 : y ≠ 0) : ∃ d, d < 65535 ∧ jg_it d x = y := by
  obtain ⟨d, hd, e⟩ := jg_sur 65535 (fun i => jg_it i x - 1)
    (fun i _ => by
      show jg_it i x - 1 < 65535
      have := jg_it_lt i hx
      have := jg_nz (a := i) hx hx0
      omega)
    (fun i j hi hj e => by
      have e' : jg_it i x - 1 = jg_it j x - 1 := e
      have := jg_nz (a := i) hx hx0
      have := jg_nz (a := j) hx hx0
      exact jg_uni hx hx0 (by omega) (by omega) (by omega))
    (y - 1) (by omega)
  have e' : jg_it d x - 1 = y - 1 := e
  have := jg_nz (a := d) hx hx0
  exact ⟨d, hd, by omega⟩
/-- the one distance, and that no smaller one will do -/
theorem jg_dist {x y : Nat} (hx : x < 65536) (hx0 : x ≠ 0) (hy : y < 65536) (hy0 : y ≠ 0) : ∃ d, d < 65535 ∧ jg_it d x = y ∧ ∀ j, j < d → jg_it j x ≠ y := by
  obtain ⟨d, hd, e⟩ := jg_tr hx hx0 hy hy0
  refine ⟨d, hd, e, fun j hj e2 => ?_⟩
  have := jg_uni hx hx0 (a := j) (b := d) (by omega) (by omega) (e2.trans e.symm)
  omega
theorem jg_ch {n m : Nat} (p : Nat → Nat) (h : ∀ k, k < n → ∃ i, i < m ∧ p i = k) : n ≤ m := by
  apply Nat.le_of_not_lt
  intro hl
  have h' : ∀ k, ∃ i, k < n → (i < m ∧ p i = k) := fun k => by
    by_cases hk : k < n
    · obtain ⟨i, hi⟩ := h k hk
      exact ⟨i, fun _ => hi⟩
    · exact ⟨0, fun z => absurd z hk⟩
  obtain ⟨f, hf⟩ := Classical.axiomOfChoice h'
  obtain ⟨i, hi, e⟩ := jg_sur n f (fun i hi => by have := (hf i hi).1; omega) (fun i j hi hj e => by
    have a := (hf i hi).2
    have b := (hf j hj).2
    rw [e, b] at a
    exact a.symm) (n - 1) (by omega)
  have := (hf i hi).1
  omega
end
section
/-! The walks of the small methods against the pure step: step, stepBack, apply, wind, go. -/
theorem jb_bit {m i : Nat} (hm : m < 2 ^ 31) (hi : i < 32) : ((nI m >>> (nI i &&& 31)) &&& 1) = 0 ↔ m.testBit i = false := by
  rw [pk_shrN hm (nI i &&& 31) i (s_l i hi)]
  show nI (m / 2 ^ i) &&& nI 1 = nI 0 ↔ _
  have hd : m / 2 ^ i ≤ m := Nat.div_le_self _ _
  rw [nx_and, Nat.and_one_is_mod, nI_eq (by omega) (by omega), Nat.testBit_eq_decide_div_mod_eq, decide_eq_false_iff_not]
  generalize m / 2 ^ i = z
  omega
theorem jb_bitT {m i : Nat} (hm : m < 2 ^ 31) (hi : i < 32) (h : m.testBit i = true) : ¬ ((nI m >>> (nI i &&& 31)) &&& 1) = 0 := by
  rw [jb_bit hm hi, h]
  decide
theorem jb_xmod {x : Nat} (z : Nat) (hx : x < 65536) : (x ^^^ z) % 65536 = x ^^^ (z % 2 ^ 16) := by
  have h := Nat.xor_mod_two_pow (a := x) (b := z) (n := 16)
  rw [Nat.mod_eq_of_lt (a := x) (b := 2 ^ 16) hx] at h
  exact h
theorem jb_le0 {r : Nat} (h0 : 0 < r) (h : r < 2 ^ 31) : ¬ (0 : Int32) ≤ -nI r := by
  rw [Int32.le_iff_toInt_le, sb_negT h, show (0 : Int32).toInt = 0 from by decide]
  omega
theorem jb_ge0 {r : Nat} (h : r < 2 ^ 31) : -nI r ≤ (0 : Int32) := by
  rw [Int32.le_iff_toInt_le, sb_negT h, show (0 : Int32).toInt = 0 from by decide]
  omega
theorem jb_n0 : -nI 0 = nI 0 := by decide
theorem jb_nm1 (k : Nat) : -nI k + (-1) = -nI (k + 1) := by
  rw [← nI_1]
  generalize nI k = z
  grind
theorem jb_sub {r : Nat} (h : r ≤ 65535) : -nI r + 65535 = nI (65535 - r) := by
  rw [← pk_sub h]
  show -nI r + nI 65535 = nI 65535 - nI r
  generalize nI 65535 = y
  generalize nI r = z
  grind
theorem jb_rem {a : Nat} (ha : a < 2 ^ 31) : -nI a - (-nI a) / 65535 * 65535 = -nI (a % 65535) := by
  have hd : (-nI a) / 65535 = -nI (a / 65535) := by
    apply Int32.toInt_inj.mp
    have h6 : (65535 : Int32).toInt = 65535 := by decide
    rw [Int32.toInt_div, sb_negT ha, h6, sb_negT (by omega), Int.neg_tdiv, Int.tdiv_eq_ediv_of_nonneg (by omega), Int.bmod_eq_of_le (by omega) (by omega)]
    omega
  have h := pk_rem (a := a) (d := 65535) ha (by decide) (by decide)
  rw [pk_div ha (by decide) (by decide)] at h
  rw [hd, ← h]
  show -nI a - -nI (a / 65535) * nI 65535 = -(nI a - nI (a / 65535) * nI 65535)
  generalize nI 65535 = y
  generalize nI a = z
  generalize nI (a / 65535) = w
  grind
section
variable {c : Int32} {ma im ke st : Nat → Int32} {f : Int32} {am : Nat → Int32}
theorem jx_step {post : Int32 → Prop} {x : Nat} (hx : x < 65536) (h : post (nI (jg_T x))) : wpX_step post (nI x) := by
  intro a ea b eb
  have e1 : a = nI (jg_s1 x) := by
    rw [ea, pk_shlN (n := x) ((7 : Int32) &&& 31) 7 (by decide) (by omega), nx_mod, nx_xor]
    rfl
  have h1 := jg_s1_lt hx
  have e2 : b = nI (jg_s2 (jg_s1 x)) := by
    rw [eb, e1, pk_shrN (by omega) ((9 : Int32) &&& 31) 9 (by decide), nx_xor]
    rfl
  have h2 := jg_s2_lt h1
  have e3 : b ^^^ ((b <<< ((8 : Int32) &&& 31)) &&& 65535) = nI (jg_T x) := by
    rw [e2, pk_shlN ((8 : Int32) &&& 31) 8 (by decide) (by omega), nx_mod, nx_xor]
    rfl
  rw [e3]
  exact h
theorem jy_step {post : Int32 → Prop} {x : Nat} (hx : x < 65536) (h : post (nI (jg_T x))) : wpY_step post (f, am) (nI x) := by
  intro a ea b eb
  have e1 : a = nI (jg_s1 x) := by
    rw [ea, pk_shlN (n := x) ((7 : Int32) &&& 31) 7 (by decide) (by omega), nx_xor, nx_mod, jb_xmod _ hx]
    rfl
  have h1 := jg_s1_lt hx
  have e2 : b = nI (jg_s2 (jg_s1 x)) := by
    rw [eb, e1, pk_shrN (by omega) ((9 : Int32) &&& 31) 9 (by decide), nx_xor]
    rfl
  have h2 := jg_s2_lt h1
  have e3 : (b ^^^ (b <<< ((8 : Int32) &&& 31))) &&& 65535 = nI (jg_T x) := by
    rw [e2, pk_shlN ((8 : Int32) &&& 31) 8 (by decide) (by omega), nx_xor, nx_mod, jb_xmod _ h2]
    rfl
  rw [e3]
  exact h
theorem jy_back {post : Int32 → Prop} {x : Nat} (hx : x < 65536) (h : post (nI (jg_B x))) : wpY_stepBack post (f, am) (nI x) := by
  intro a ea b eb
  have e1 : a = nI (jg_s3 x) := by
    rw [ea, pk_shlN (n := x) ((8 : Int32) &&& 31) 8 (by decide) (by omega), nx_xor, nx_mod, jb_xmod _ hx]
    rfl
  have h1 := jg_s3_lt hx
  have e2 : b = nI (jg_s2 (jg_s3 x)) := by
    rw [eb, e1, pk_shrN (by omega) ((9 : Int32) &&& 31) 9 (by decide), nx_xor]
    rfl
  have h2 := jg_s2_lt h1
  have e3 : ((b ^^^ (b <<< ((7 : Int32) &&& 31))) ^^^ (b <<< ((14 : Int32) &&& 31))) &&& 65535 = nI (jg_B x) := by
    rw [e2, pk_shlN ((7 : Int32) &&& 31) 7 (by decide) (by omega), pk_shlN ((14 : Int32) &&& 31) 14 (by decide) (by omega), nx_xor, nx_xor, nx_mod, Nat.xor_assoc, jb_xmod _ h2, Nat.xor_mod_two_pow, ← Nat.xor_assoc]
    rfl
  rw [e3]
  exact h
theorem ja_loop {post : Int32 → Prop} {k x : Nat} (hk : k ≤ 16) (hx : x < 65536) {g : Nat → Nat} (him : ∀ i, i < 16 → im (k * 16 + i) = nI (g i)) (h : post (nI (jg_L g x 16))) : ∀ d i n, i + d = 16 → d < n → wX_apply_5 post (nI k) (nI x) c ma im ke st n (nI (jg_L g x i)) (nI i) := by
  intro d
  induction d with
  | zero =>
    intro i n hi hn
    obtain ⟨n, rfl⟩ : ∃ m, n = m + 1 := ⟨n - 1, by omega⟩
    obtain rfl : i = 16 := by omega
    exact br_t (by decide) h
  | succ d ih =>
    intro i n hi hn
    obtain ⟨n, rfl⟩ : ∃ m, n = m + 1 := ⟨n - 1, by omega⟩
    have h16 : ¬ (16 : Int32) ≤ nI i := nI_ge (b := 16) (by omega) (by decide)
    have ih' := ih (i + 1) n (by omega) (by omega)
    refine br_f h16 ?_
    cases hb : x.testBit i
    · refine br_t ((jb_bit (by omega) (by omega)).mpr hb) (nm_r (nI_1 i) ?_)
      rw [jg_L_s, hb, show (cond false (g i) 0) = 0 from rfl, Nat.xor_zero] at ih'
      exact ih'
    · refine br_f (jb_bitT (by omega) (by omega) hb) ?_
      have ei : nI k * 16 + nI i = nI (k * 16 + i) := by
        rw [show (16 : Int32) = nI 16 from rfl, pk_mul, nI_add]
      have hin : k * 16 + i < 272 := by omega
      refine ⟨by rw [ei]; exact vp_in_nI hin (by omega), nm_r (e' := nI (jg_L g x (i + 1))) ?_ (nm_r (nI_1 i) ih')⟩
      rw [ei, nI_clamp (by omega), him i (by omega), nx_xor, jg_L_s, hb]
      rfl
theorem ja_app {post : Int32 → Prop} {k x : Nat} (hk : k ≤ 16) (hx : x < 65536) {g : Nat → Nat} (him : ∀ i, i < 16 → im (k * 16 + i) = nI (g i)) (h : post (nI (jg_L g x 16))) : wpX_apply post (c, ma, im, ke, st) (nI k) (nI x) :=
  Exists.intro 17 (ja_loop hk hx him h 16 0 17 (by omega) (by omega))
end
/-- the table of images -/
def jg_Im (im : Nat → Int32) : Prop := ∀ k i, k ≤ 16 → i < 16 → im (k * 16 + i) = nI (jg_it (2 ^ k) (2 ^ i))
section
variable {c : Int32} {ma im ke st : Nat → Int32} {f : Int32} {am : Nat → Int32}
theorem jx_apply {post : Int32 → Prop} (hI : jg_Im im) {k x : Nat} (hk : k ≤ 16) (hx : x < 65536) (h : post (nI (jg_it (2 ^ k) x))) : wpX_apply post (c, ma, im, ke, st) (nI k) (nI x) :=
  ja_app (g := fun i => jg_it (2 ^ k) (2 ^ i)) hk hx (fun i hi => hI k i hk hi) (by rw [← jg_rep16 (jg_it_l (2 ^ k)) hx]; exact h)
theorem jw_loop {post : Int32 → Prop} (hI : jg_Im im) {m x : Nat} (hm : m < 65536) (hx : x < 65536) (h : post (nI (jg_it m x))) : ∀ d k n, k + d = 16 → d < n → wX_wind_24 post (nI m) c ma im ke st n (nI (jg_it (m % 2 ^ k) x)) (nI k) := by
  intro d
  induction d with
  | zero =>
    intro k n hk hn
    obtain ⟨n, rfl⟩ : ∃ m, n = m + 1 := ⟨n - 1, by omega⟩
    obtain rfl : k = 16 := by omega
    rw [Nat.mod_eq_of_lt (by omega)]
    exact br_t (by decide) h
  | succ d ih =>
    intro k n hk hn
    obtain ⟨n, rfl⟩ : ∃ m, n = m + 1 := ⟨n - 1, by omega⟩
    have h16 : ¬ (16 : Int32) ≤ nI k := nI_ge (b := 16) (by omega) (by decide)
    have ih' := ih (k + 1) n (by omega) (by omega)
    rw [jg_lowA] at ih'
    refine br_f h16 ?_
    cases hb : m.testBit k
    · refine br_t ((jb_bit (by omega) (by omega)).mpr hb) (nm_r (nI_1 k) ?_)
      rw [hb, show (cond false (2 ^ k) 0) = 0 from rfl, Nat.zero_add] at ih'
      exact ih'
    · rw [hb, show (cond true (2 ^ k) 0) = 2 ^ k from rfl, jg_it_add] at ih'
      exact br_f (jb_bitT (by omega) (by omega) hb) (jx_apply hI (by omega) (jg_it_lt _ hx) (nm_r (nI_1 k) ih'))
theorem jw_st {post : Int32 → Prop} (hI : jg_Im im) {m x : Nat} (hm : m < 65536) (hx : x < 65536) (h : post (nI (jg_it m x))) : ∃ n, wX_wind_24 post (nI m) c ma im ke st n (nI x) 0 := by
  have h2 := jw_loop (c := c) (ma := ma) (ke := ke) (st := st) hI hm hx h 16 0 17 (by omega) (by omega)
  rw [Nat.pow_zero, Nat.mod_one, jg_it_0] at h2
  exact ⟨17, h2⟩
theorem jw_pos {post : Int32 → Prop} (hI : jg_Im im) {a x : Nat} (ha : a < 2 ^ 31) (hx : x < 65536) (h : post (nI (jg_it a x))) : wpX_wind post (c, ma, im, ke, st) (nI x) (nI a) :=
  And.intro (by decide) (nm_r (e' := nI (a % 65535)) (pk_rem ha (by decide) (by decide)) (br_t (nI_pos' (by omega)) (jw_st hI (by omega) hx (by rw [jg_mod hx]; exact h))))
theorem jw_neg {post : Int32 → Prop} (hI : jg_Im im) {a x : Nat} (ha : a < 2 ^ 31) (hx : x < 65536) (h : post (nI (jg_bk a x))) : wpX_wind post (c, ma, im, ke, st) (nI x) (-nI a) := by
  by_cases r0 : a % 65535 = 0
  · have e : -nI a - (-nI a) / 65535 * 65535 = nI 0 := by rw [jb_rem ha, r0, jb_n0]
    rw [jg_bk_eq hx (l := 0) (t := a / 65535) (by omega)] at h
    exact And.intro (by decide) (nm_r e (br_t (by decide) (jw_st hI (by omega) hx h)))
  · rw [jg_bk_eq hx (l := 65535 - a % 65535) (t := a / 65535 + 1) (by omega)] at h
    exact And.intro (by decide) (nm_r (jb_rem ha) (br_f (jb_le0 (by omega) (by omega)) (nm_r (jb_sub (by omega)) (jw_st hI (by omega) hx h))))
theorem jo_up {post : Int32 → Prop} {m x : Nat} (hm : m < 2 ^ 30) (hx : x < 65536) (h : post (nI (jg_it m x))) : ∀ d k n, k + d = m → d < n → wY_go_5 post (nI m) f am n (nI (jg_it k x)) (nI k) := by
  intro d
  induction d with
  | zero =>
    intro k n hk hn
    obtain ⟨n, rfl⟩ : ∃ m, n = m + 1 := ⟨n - 1, by omega⟩
    obtain rfl : k = m := by omega
    exact br_t (nI_le (by omega) (by omega)) (Exists.intro 1 (br_t (nI_pos' (by omega)) h))
  | succ d ih =>
    intro k n hk hn
    obtain ⟨n, rfl⟩ : ∃ m, n = m + 1 := ⟨n - 1, by omega⟩
    have ih' := ih (k + 1) n (by omega) (by omega)
    rw [jg_it_s] at ih'
    exact br_f (nI_ge (by omega) (by omega)) (jy_step (jg_it_lt _ hx) (nm_r (nI_1 k) ih'))
theorem jo_pos {post : Int32 → Prop} {m x : Nat} (hm : m < 2 ^ 30) (hx : x < 65536) (h : post (nI (jg_it m x))) : wpY_go post (f, am) (nI x) (nI m) :=
  Exists.intro (m + 1) (jo_up hm hx h m 0 (m + 1) (by omega) (by omega))
theorem jo_dn {post : Int32 → Prop} {m x : Nat} (hm : m < 2 ^ 30) (hx : x < 65536) (h : post (nI (jg_bk m x))) : ∀ d k n, k + d = m → d < n → wY_go_26 post (-nI m) f am n (nI (jg_bk k x)) (-nI k) := by
  intro d
  induction d with
  | zero =>
    intro k n hk hn
    obtain ⟨n, rfl⟩ : ∃ m, n = m + 1 := ⟨n - 1, by omega⟩
    obtain rfl : k = m := by omega
    exact br_t ((sb_nle (by omega) (by omega)).mpr (by omega)) h
  | succ d ih =>
    intro k n hk hn
    obtain ⟨n, rfl⟩ : ∃ m, n = m + 1 := ⟨n - 1, by omega⟩
    have ih' := ih (k + 1) n (by omega) (by omega)
    rw [jg_bk_s] at ih'
    exact br_f (fun z => by have := (sb_nle (by omega) (by omega)).mp z; omega) (jy_back (jg_bk_lt _ hx) (nm_r (jb_nm1 k) ih'))
theorem jo_neg {post : Int32 → Prop} {m x : Nat} (hm : m < 2 ^ 30) (hx : x < 65536) (h : post (nI (jg_bk m x))) : wpY_go post (f, am) (nI x) (-nI m) := by
  have h2 := jo_dn (f := f) (am := am) hm hx h m 0 (m + 1) (by omega) (by omega)
  rw [jb_n0] at h2
  exact Exists.intro 1 (br_t (jb_ge0 (by omega)) (Exists.intro (m + 1) h2))
/-- an int between -100000 and 100000 -/
theorem jn_near {v : Int32} (h1 : ¬ v < (-100000)) (h2 : v ≤ 100000) : ∃ a : Nat, a ≤ 100000 ∧ (v = nI a ∨ v = -nI a) := by
  rw [Int32.lt_iff_toInt_lt, show (-100000 : Int32).toInt = -100000 from by decide] at h1
  rw [Int32.le_iff_toInt_le, show (100000 : Int32).toInt = 100000 from by decide] at h2
  by_cases h : 0 ≤ v.toInt
  · refine ⟨v.toInt.toNat, by omega, Or.inl (Int32.toInt_inj.mp ?_)⟩
    rw [nI_toInt (by omega)]
    omega
  · refine ⟨(-v.toInt).toNat, by omega, Or.inr (Int32.toInt_inj.mp ?_)⟩
    rw [sb_negT (by omega)]
    omega
/-- the state that both sides give -/
theorem jl_wind (hI : jg_Im im) {v : Int32} (h1 : ¬ v < (-100000)) (h2 : v ≤ 100000) {x : Nat} (hx : x < 65536) : ∃ l, (∀ post : Int32 → Prop, post (nI (jg_it l x)) → wpX_wind post (c, ma, im, ke, st) (nI x) v) ∧ (∀ post : Int32 → Prop, post (nI (jg_it l x)) → wpY_go post (f, am) (nI x) v) := by
  obtain ⟨a, ha, e | e⟩ := jn_near h1 h2
  · subst e
    exact ⟨a, fun post h => jw_pos hI (by omega) hx h, fun post h => jo_pos (by omega) hx h⟩
  · subst e
    have e2 : jg_bk a x = jg_it ((65535 - a % 65535) % 65535) x := by
      rw [jg_mod hx]
      exact jg_bk_eq hx (t := a / 65535 + 1) (by omega)
    refine ⟨(65535 - a % 65535) % 65535, fun post h => jw_neg hI (by omega) hx ?_, fun post h => jo_neg (by omega) hx ?_⟩
    · rw [e2]; exact h
    · rw [e2]; exact h
end
end
section
/-! The table of noted states: linear probing over 1024 places, at most 256 of them used. -/
def jg_hs (x : Int32) : Nat := ((x * 40503) >>> ((6 : Int32) &&& 31)).toBitVec.toNat % 2 ^ 10
theorem jg_hs_lt (x : Int32) : jg_hs x < 1024 := Nat.mod_lt _ (by decide)
theorem jg_hs_eq (x : Int32) : ((x * 40503) >>> ((6 : Int32) &&& 31)) &&& 1023 = nI (jg_hs x) := pk_and _ 10 (by decide)
/-- the search for x from h ends at its t-th place -/
def jg_Sp (K : Nat → Int32) (x : Int32) (h t : Nat) : Prop := K ((h + t) % 1024) = 0 ∨ K ((h + t) % 1024) = x
def jg_Ls (K : Nat → Int32) (x : Int32) (h t : Nat) : Prop := t < 1024 ∧ jg_Sp K x h t ∧ ∀ s, s < t → ¬ jg_Sp K x h s
theorem jh_find {K : Nat → Int32} (x : Int32) {h : Nat} (hh : h < 1024) (he : ∃ e, e < 1024 ∧ K e = 0) : ∃ t, jg_Ls K x h t := by
  obtain ⟨e, hl, hz⟩ := he
  have hp : jg_Sp K x h ((e + 1024 - h) % 1024) := by
    have e1 : (h + (e + 1024 - h) % 1024) % 1024 = e := by omega
    exact Or.inl (by rw [e1]; exact hz)
  obtain ⟨t, ht, hm⟩ := pk_least (jg_Sp K x h) ⟨_, hp⟩
  refine ⟨t, Nat.lt_of_not_le (fun hge => ?_), ht, hm⟩
  exact hm _ (Nat.lt_of_lt_of_le (Nat.mod_lt _ (by decide)) hge) hp
section
variable {c : Int32} {ma im ke st : Nat → Int32}
theorem jh_loop {post : Int32 → Prop} {x : Int32} {h t : Nat} (hh : h < 1024) (hL : jg_Ls ke x h t) (hp : post (nI ((h + t) % 1024))) : ∀ d s n, s + d = t → d < n → wX_placeOf_14 post x c ma im ke st n (nI ((h + s) % 1024)) (nI s) := by
  intro d
  induction d with
  | zero =>
    intro s n hs hn
    obtain ⟨n, rfl⟩ : ∃ m, n = m + 1 := ⟨n - 1, by omega⟩
    obtain rfl : s = t := by omega
    have hl : (h + s) % 1024 < 1024 := Nat.mod_lt _ (by decide)
    have hi : vp_in (nI ((h + s) % 1024)) 1024 := vp_in_nI hl (by decide)
    have ec : (nI ((h + s) % 1024)).toNatClampNeg = (h + s) % 1024 := nI_clamp (by omega)
    refine br_f (nI_ge (b := 1024) hL.1 (by decide)) ⟨hi, ?_⟩
    rw [ec]
    rcases hL.2.1 with e | e
    · exact br_t e hp
    · exact br_c (fun _ => hp) (fun _ => ⟨hi, br_t e hp⟩)
  | succ d ih =>
    intro s n hs hn
    obtain ⟨n, rfl⟩ : ∃ m, n = m + 1 := ⟨n - 1, by omega⟩
    have ht := hL.1
    have hl : (h + s) % 1024 < 1024 := Nat.mod_lt _ (by decide)
    have hi : vp_in (nI ((h + s) % 1024)) 1024 := vp_in_nI hl (by decide)
    have ec : (nI ((h + s) % 1024)).toNatClampNeg = (h + s) % 1024 := nI_clamp (by omega)
    have hns : ¬ jg_Sp ke x h s := hL.2.2 s (by omega)
    have h0 : ¬ ke ((h + s) % 1024) = 0 := fun z => hns (Or.inl z)
    have hx : ¬ ke ((h + s) % 1024) = x := fun z => hns (Or.inr z)
    have en : (nI ((h + s) % 1024) + 1) &&& 1023 = nI ((h + (s + 1)) % 1024) := by
      rw [nI_1, pk_andN (by omega) 10 (by decide), show ((h + s) % 1024 + 1) % 2 ^ 10 = (h + (s + 1)) % 1024 from by omega]
    refine br_f (nI_ge (b := 1024) (by omega) (by decide)) ⟨hi, ?_⟩
    rw [ec]
    exact br_f h0 ⟨hi, br_f hx (nm_r en (nm_r (nI_1 s) (ih (s + 1) n (by omega) (by omega))))⟩
theorem jh_place {post : Int32 → Prop} {x : Int32} {t : Nat} (hL : jg_Ls ke x (jg_hs x) t) (hp : post (nI ((jg_hs x + t) % 1024))) : wpX_placeOf post (c, ma, im, ke, st) x := by
  have h2 := jh_loop (c := c) (ma := ma) (im := im) (st := st) (jg_hs_lt x) hL hp t 0 (t + 1) (by omega) (by omega)
  have e0 : (jg_hs x + 0) % 1024 = jg_hs x := Nat.mod_eq_of_lt (jg_hs_lt x)
  rw [e0] at h2
  exact nm_r (jg_hs_eq x) (Exists.intro (t + 1) h2)
end
/-- the first j states on from g are noted -/
def jg_Tb (g : Nat) (K S : Nat → Int32) (j : Nat) : Prop :=
  (∀ h, h < 1024 → K h = 0 ∨ ∃ i, i < j ∧ K h = nI (jg_it i g) ∧ S h = nI i) ∧
  (∀ i, i < j → ∃ t, t < 1024 ∧ K ((jg_hs (nI (jg_it i g)) + t) % 1024) = nI (jg_it i g) ∧ ∀ s, s < t → K ((jg_hs (nI (jg_it i g)) + s) % 1024) ≠ 0) ∧
  (∃ p : Nat → Nat, ∀ h, h < 1024 → K h ≠ 0 → ∃ i, i < j ∧ p i = h)
theorem jt_0 (g : Nat) {K S : Nat → Int32} (h : ∀ e, e < 1024 → K e = 0) : jg_Tb g K S 0 :=
  ⟨fun e he => Or.inl (h e he), fun i hi => absurd hi (Nat.not_lt_zero i), fun _ => 0, fun e he hn => absurd (h e he) hn⟩
theorem jt_emp {g j : Nat} {K S : Nat → Int32} (h : jg_Tb g K S j) (hj : j ≤ 256) : ∃ e, e < 1024 ∧ K e = 0 := by
  apply Classical.byContradiction
  intro hno
  obtain ⟨p, hp⟩ := h.2.2
  have := jg_ch (n := 1024) (m := j) p (fun k hk => hp k hk (fun z => hno ⟨k, hk, z⟩))
  omega
theorem jt_ne {y : Nat} (hy : y < 65536) (h0 : y ≠ 0) : nI y ≠ 0 := nI_ne0 (by omega) (by omega)
/-- a noted state is found -/
theorem jt_hit {g j : Nat} {K S : Nat → Int32} (h : jg_Tb g K S j) {i t : Nat} (hi : i < j) (hL : jg_Ls K (nI (jg_it i g)) (jg_hs (nI (jg_it i g))) t) : K ((jg_hs (nI (jg_it i g)) + t) % 1024) = nI (jg_it i g) := by
  obtain ⟨u, hu, e, hb⟩ := h.2.1 i hi
  rcases Nat.lt_trichotomy t u with l | l | l
  · rcases hL.2.1 with z | z
    · exact absurd z (hb t l)
    · exact z
  · rw [l]; exact e
  · exact absurd (Or.inr e) (hL.2.2 u l)
/-- what is found was noted -/
theorem jt_was {g j : Nat} {K S : Nat → Int32} (h : jg_Tb g K S j) (hg : g < 65536) {y p : Nat} (hy : y < 65536) (h0 : y ≠ 0) (hp : p < 1024) (e : K p = nI y) : ∃ i, i < j ∧ jg_it i g = y ∧ S p = nI i := by
  rcases h.1 p hp with z | ⟨i, hi, e1, e2⟩
  · exact absurd (e.symm.trans z) (jt_ne hy h0)
  · have hl := jg_it_lt i hg
    exact ⟨i, hi, ((nI_eq (by omega) (by omega)).mp (e.symm.trans e1)).symm, e2⟩
theorem jt_put {g j : Nat} {K S : Nat → Int32} (h : jg_Tb g K S j) (hg : g < 65536) (g0 : g ≠ 0) (hj : j < 256) {t : Nat} (hL : jg_Ls K (nI (jg_it j g)) (jg_hs (nI (jg_it j g))) t) : jg_Tb g (upd K ((jg_hs (nI (jg_it j g)) + t) % 1024) (nI (jg_it j g))) (upd S ((jg_hs (nI (jg_it j g)) + t) % 1024) (nI j)) (j + 1) := by
  have hl : (jg_hs (nI (jg_it j g)) + t) % 1024 < 1024 := Nat.mod_lt _ (by decide)
  have hz : K ((jg_hs (nI (jg_it j g)) + t) % 1024) = 0 := by
    rcases hL.2.1 with z | z
    · exact z
    · exfalso
      obtain ⟨i, hi, e, _⟩ := jt_was h hg (jg_it_lt j hg) (jg_nz hg g0) hl z
      have := jg_uni hg g0 (a := i) (b := j) (by omega) (by omega) e
      omega
  have hkeep : ∀ q, K q ≠ 0 → upd K ((jg_hs (nI (jg_it j g)) + t) % 1024) (nI (jg_it j g)) q = K q := fun q hq => pk_un (fun e => hq (by rw [e]; exact hz))
  have hnz : ∀ q, K q ≠ 0 → upd K ((jg_hs (nI (jg_it j g)) + t) % 1024) (nI (jg_it j g)) q ≠ 0 := fun q hq => by rw [hkeep q hq]; exact hq
  obtain ⟨h1, h2, p, h3⟩ := h
  refine ⟨fun q hq => ?_, fun i hi => ?_, fun i => if i = j then (jg_hs (nI (jg_it j g)) + t) % 1024 else p i, fun q hq hn => ?_⟩
  · by_cases e : q = (jg_hs (nI (jg_it j g)) + t) % 1024
    · subst e
      exact Or.inr ⟨j, by omega, pk_us, pk_us⟩
    · rw [pk_un e, pk_un e]
      rcases h1 q hq with z | ⟨i, hi, e1, e2⟩
      · exact Or.inl z
      · exact Or.inr ⟨i, by omega, e1, e2⟩
  · by_cases e : i = j
    · subst e
      refine ⟨t, hL.1, pk_us, fun s hs => hnz _ (fun z => hL.2.2 s hs (Or.inl z))⟩
    · obtain ⟨u, hu, e1, hb⟩ := h2 i (by omega)
      refine ⟨u, hu, ?_, fun s hs => hnz _ (hb s hs)⟩
      rw [hkeep _ (by rw [e1]; exact jt_ne (jg_it_lt i hg) (jg_nz hg g0))]
      exact e1
  · by_cases e : q = (jg_hs (nI (jg_it j g)) + t) % 1024
    · exact ⟨j, by omega, (if_pos rfl).trans e.symm⟩
    · rw [pk_un e] at hn
      obtain ⟨i, hi, e1⟩ := h3 q hq hn
      exact ⟨i, by omega, (if_neg (by omega : ¬ i = j)).trans e1⟩
theorem jt_sh : ∀ j, j < 256 → (nI j).toInt16.toInt32 = nI j := by decide +kernel
section
variable {c : Int32} {ma im : Nat → Int32}
theorem jn_26 {post : SX → Prop} {g : Nat} (hg : g < 65536) (g0 : g ≠ 0) (H : ∀ K S, jg_Tb g K S 256 → post (c, ma, im, K, S)) : ∀ d j n K S, j + d = 256 → d < n → jg_Tb g K S j → wX_noteFrom_26 post c n (nI (jg_it j g)) (nI j) ma im K S := by
  intro d
  induction d with
  | zero =>
    intro j n K S hj hn hT
    obtain ⟨n, rfl⟩ : ∃ m, n = m + 1 := ⟨n - 1, by omega⟩
    obtain rfl : j = 256 := by omega
    exact br_t (by decide) (H K S hT)
  | succ d ih =>
    intro j n K S hj hn hT
    obtain ⟨n, rfl⟩ : ∃ m, n = m + 1 := ⟨n - 1, by omega⟩
    obtain ⟨t, hL⟩ := jh_find (nI (jg_it j g)) (jg_hs_lt (nI (jg_it j g))) (jt_emp hT (by omega))
    have hl : (jg_hs (nI (jg_it j g)) + t) % 1024 < 1024 := Nat.mod_lt _ (by decide)
    have hi : vp_in (nI ((jg_hs (nI (jg_it j g)) + t) % 1024)) 1024 := vp_in_nI hl (by decide)
    have ec : (nI ((jg_hs (nI (jg_it j g)) + t) % 1024)).toNatClampNeg = (jg_hs (nI (jg_it j g)) + t) % 1024 := nI_clamp (by omega)
    have es : vp_nar .short (nI j).toInt16.toInt32 = nI j := by rw [pk_vs, jt_sh j (by omega)]
    have ih' := ih (j + 1) n _ _ (by omega) (by omega) (jt_put hT hg g0 (by omega) hL)
    rw [jg_it_s] at ih'
    refine br_f (nI_ge (b := 256) (by omega) (by decide)) (jh_place hL ⟨hi, ?_⟩)
    rw [ec, es]
    exact nm_e ⟨hi, nm_e (jx_step (jg_it_lt j hg) (nm_r (nI_1 j) ih'))⟩
theorem jn_2 {post : SX → Prop} {g : Nat} (hg : g < 65536) (g0 : g ≠ 0) {S : Nat → Int32} (H : ∀ K S, jg_Tb g K S 256 → post (c, ma, im, K, S)) : ∀ d h n K, h + d = 1024 → d < n → (∀ e, e < h → K e = 0) → wX_noteFrom_2 post (nI g) c n (nI h) ma im K S := by
  intro d
  induction d with
  | zero =>
    intro h n K hh hn hK
    obtain ⟨n, rfl⟩ : ∃ m, n = m + 1 := ⟨n - 1, by omega⟩
    obtain rfl : h = 1024 := by omega
    exact br_t (by decide) (Exists.intro 257 (jn_26 hg g0 H 256 0 257 K S (by omega) (by omega) (jt_0 g hK)))
  | succ d ih =>
    intro h n K hh hn hK
    obtain ⟨n, rfl⟩ : ∃ m, n = m + 1 := ⟨n - 1, by omega⟩
    have ec : (nI h).toNatClampNeg = h := nI_clamp (by omega)
    refine br_f (nI_ge (b := 1024) (by omega) (by decide)) ⟨vp_in_nI (by omega) (by decide), ?_⟩
    rw [ec]
    refine nm_e (nm_r (nI_1 h) (ih (h + 1) n _ (by omega) (by omega) (fun e he => ?_)))
    by_cases z : e = h
    · subst z; exact pk_us
    · rw [pk_un z]; exact hK e (by omega)
theorem jx_note {post : SX → Prop} {g : Nat} (hg : g < 65536) (g0 : g ≠ 0) {K S : Nat → Int32} (H : ∀ K S, jg_Tb g K S 256 → post (c, ma, im, K, S)) : wpX_noteFrom post (c, ma, im, K, S) (nI g) :=
  Exists.intro 1025 (jn_2 hg g0 H 1024 0 1025 K (by omega) (by omega) (fun e he => absurd he (Nat.not_lt_zero e)))
/-- the giant steps: from a to g there are d steps, 0 < d -/
theorem js_17 {post : Int32 → SX → Prop} (hI : jg_Im im) {a g d : Nat} (ha : a < 65536) (a0 : a ≠ 0) (hd : d < 65535) (hg : jg_it d a = g) {K S : Nat → Int32} (hT : jg_Tb g K S 256) (hp : post (nI d) (c, ma, im, K, S)) : ∀ r i n, i + r = 256 → r + 1 < n → 256 * i < d → wX_steps_17 post c ma im K S n (nI (jg_it (256 * i) a)) (nI (i + 1)) := by
  intro r
  have g1 : g < 65536 := hg ▸ jg_it_lt d ha
  have key : ∀ i, 256 * i < d → ∀ j, j < 256 → jg_it j g = jg_it (256 * i + 256) a → j + d = 256 * i + 256 := fun i h1 j hj e => by
    rw [← hg, ← jg_it_add] at e
    exact jg_uni ha a0 (by omega) (by omega) e
  induction r with
  | zero => intro i n hi hn h1; omega
  | succ r ih =>
    intro i n hi hn h1
    obtain ⟨n, rfl⟩ : ∃ m, n = m + 1 := ⟨n - 1, by omega⟩
    have e8 : jg_it (2 ^ 8) (jg_it (256 * i) a) = jg_it (256 * i + 256) a := by
      rw [← jg_it_add]
      exact congrArg (fun z => jg_it z a) (by omega)
    have hy := jg_it_lt (256 * i + 256) ha
    have y0 := jg_nz (a := 256 * i + 256) ha a0
    have k1 := key i h1
    have ih' := ih (i + 1) n
    rw [show 256 * (i + 1) = 256 * i + 256 from by omega] at ih'
    obtain ⟨t, hL⟩ := jh_find (nI (jg_it (256 * i + 256) a)) (jg_hs_lt (nI (jg_it (256 * i + 256) a))) (jt_emp hT (by omega))
    have hl : (jg_hs (nI (jg_it (256 * i + 256) a)) + t) % 1024 < 1024 := Nat.mod_lt _ (by decide)
    have hi2 : vp_in (nI ((jg_hs (nI (jg_it (256 * i + 256) a)) + t) % 1024)) 1024 := vp_in_nI hl (by decide)
    have ec : (nI ((jg_hs (nI (jg_it (256 * i + 256) a)) + t) % 1024)).toNatClampNeg = (jg_hs (nI (jg_it (256 * i + 256) a)) + t) % 1024 := nI_clamp (by omega)
    refine br_f (nI_nlt (a := 256) (by omega) (by decide)) (jx_apply (k := 8) hI (by decide) (jg_it_lt _ ha) ?_)
    rw [e8]
    refine jh_place hL ⟨hi2, ?_⟩
    rw [ec]
    by_cases hf : d ≤ 256 * i + 256
    · have ej : jg_it (256 * i + 256 - d) g = jg_it (256 * i + 256) a := by
        rw [← hg, ← jg_it_add]; congr 1; omega
      have hh : K ((jg_hs (nI (jg_it (256 * i + 256) a)) + t) % 1024) = nI (jg_it (256 * i + 256) a) := by
        have hL' := hL
        rw [← ej] at hL' ⊢
        exact jt_hit hT (by omega) hL'
      obtain ⟨j, hj, e1, e2⟩ := jt_was hT g1 hy y0 hl hh
      have k2 := k1 j hj e1
      refine br_t hh ⟨hi2, ?_⟩
      rw [e2, show (256 : Int32) * nI (i + 1) - nI j = nI d from by
        rw [show (256 : Int32) = nI 256 from rfl, pk_mul, pk_sub (by omega)]
        exact congrArg nI (by omega)]
      exact hp
    · have hh : ¬ K ((jg_hs (nI (jg_it (256 * i + 256) a)) + t) % 1024) = nI (jg_it (256 * i + 256) a) := fun hh => by
        obtain ⟨j, hj, e1, e2⟩ := jt_was hT g1 hy y0 hl hh
        have k2 := k1 j hj e1
        omega
      exact br_f hh (nm_r (nI_1 (i + 1)) (ih' (by omega) (by omega) (by omega)))
theorem jx_steps {post : Int32 → SX → Prop} (hI : jg_Im im) {a g d : Nat} (ha : a < 65536) (a0 : a ≠ 0) (g1 : g < 65536) (g0 : g ≠ 0) (hd : d < 65535) (hg : jg_it d a = g) (hm : ∀ j, j < d → jg_it j a ≠ g) {K S : Nat → Int32} (hp : ∀ K S, post (nI d) (c, ma, im, K, S)) : wpX_steps post (c, ma, im, K, S) (nI a) (nI g) := by
  by_cases e : a = g
  · have d0 : d = 0 := by
      apply Classical.byContradiction
      intro h
      exact hm 0 (by omega) e
    subst d0
    exact br_t (by rw [e]) (hp K S)
  · have d0 : 0 < d := by
      apply Nat.pos_of_ne_zero
      intro h
      rw [h] at hg
      exact e hg
    refine br_f (fun z => e ((nI_eq (by omega) (by omega)).mp z)) (jx_note g1 g0 (fun K' S' hT => ?_))
    exact Exists.intro 258 (js_17 hI ha a0 hd hg hT (hp K' S') 256 0 258 (by omega) (by omega) (by omega))
end
section
variable {f : Int32} {am : Nat → Int32}
theorem jy_steps5 {post : Int32 → Prop} {a g d : Nat} (ha : a < 65536) (g1 : g < 65536) (hd : d < 65535) (hg : jg_it d a = g) (hm : ∀ j, j < d → jg_it j a ≠ g) (hp : post (nI d)) : ∀ r i n, i + r = d → r < n → wY_steps_5 post (nI g) f am n (nI (jg_it i a)) (nI i) := by
  intro r
  induction r with
  | zero =>
    intro i n hi hn
    obtain ⟨n, rfl⟩ : ∃ m, n = m + 1 := ⟨n - 1, by omega⟩
    obtain rfl : i = d := by omega
    exact br_f (nI_ge (b := 65535) (by omega) (by decide)) (br_t (by rw [hg]) hp)
  | succ r ih =>
    intro i n hi hn
    obtain ⟨n, rfl⟩ : ∃ m, n = m + 1 := ⟨n - 1, by omega⟩
    have ih' := ih (i + 1) n (by omega) (by omega)
    rw [jg_it_s] at ih'
    have hl := jg_it_lt i ha
    exact br_f (nI_ge (b := 65535) (by omega) (by decide)) (br_f (fun z => hm i (by omega) ((nI_eq (by omega) (by omega)).mp z)) (jy_step hl (nm_r (nI_1 i) ih')))
theorem jy_steps {post : Int32 → Prop} {a g d : Nat} (ha : a < 65536) (g1 : g < 65536) (hd : d < 65535) (hg : jg_it d a = g) (hm : ∀ j, j < d → jg_it j a ≠ g) (hp : post (nI d)) : wpY_steps post (f, am) (nI a) (nI g) :=
  Exists.intro (d + 1) (jy_steps5 ha g1 hd hg hm hp d 0 (d + 1) (by omega) (by omega))
end
end
section
/-! The constructor: the table of images. -/
theorem ji_one : ∀ i, i < 16 → (1 : Int32) <<< (nI i &&& 31) = nI (2 ^ i) := by decide +kernel
def jg_Rw (im : Nat → Int32) (k : Nat) : Prop := ∀ q, q < k → ∀ i, i < 16 → im (q * 16 + i) = nI (jg_it (2 ^ q) (2 ^ i))
section
variable {c : Int32} {ma ke st : Nat → Int32}
theorem ji_80 {post : SX → Prop} {J : Int32 → (Nat → Int32) → (Nat → Int32) → (Nat → Int32) → (Nat → Int32) → Prop} {k : Nat} (hk : k < 16) (HJ : ∀ im, jg_Rw im (k + 2) → J (nI (k + 2)) ma im ke st) : ∀ d i n im, i + d = 16 → d < n → jg_Rw im (k + 1) → (∀ j, j < i → im ((k + 1) * 16 + j) = nI (jg_it (2 ^ (k + 1)) (2 ^ j))) → wX_init_80 post J (nI (k + 1)) c n (nI i) ma im ke st := by
  intro d
  induction d with
  | zero =>
    intro i n im hi hn hR hr
    obtain ⟨n, rfl⟩ : ∃ m, n = m + 1 := ⟨n - 1, by omega⟩
    obtain rfl : i = 16 := by omega
    refine br_t (by decide) (nm_r (nI_1 (k + 1)) (HJ im (fun q hq j hj => ?_)))
    by_cases e : q = k + 1
    · subst e; exact hr j hj
    · exact hR q (by omega) j hj
  | succ d ih =>
    intro i n im hi hn hR hr
    obtain ⟨n, rfl⟩ : ∃ m, n = m + 1 := ⟨n - 1, by omega⟩
    have hlt : jg_it (2 ^ k) (2 ^ i) < 65536 := jg_it_lt _ (jg_bit_lt i (by omega))
    have e1 : (nI (k + 1) - 1) * 16 + nI i = nI (k * 16 + i) := by
      rw [nI_pred, show (16 : Int32) = nI 16 from rfl, pk_mul, nI_add]
    have e2 : nI (k + 1) * 16 + nI i = nI ((k + 1) * 16 + i) := by
      rw [show (16 : Int32) = nI 16 from rfl, pk_mul, nI_add]
    have e3 : im ((nI (k + 1) - 1) * 16 + nI i).toNatClampNeg = nI (jg_it (2 ^ k) (2 ^ i)) := by
      rw [e1, nI_clamp (by omega), hR k (by omega) i (by omega)]
    have e4 : jg_L (fun j => jg_it (2 ^ k) (2 ^ j)) (jg_it (2 ^ k) (2 ^ i)) 16 = jg_it (2 ^ (k + 1)) (2 ^ i) := by
      rw [← jg_rep16 (jg_it_l (2 ^ k)) hlt, jg_dbl, jg_it_add]
    have hA : wpX_apply (fun r_7 => (vp_in ((nI (k + 1) * 16) + nI i) 272 ∧ ∀ im' : Nat → Int32, im' = upd im ((nI (k + 1) * 16) + nI i).toNatClampNeg r_7 → (∀ x2_15 : Int32, x2_15 = nI i + 1 → (wX_init_80 post J (nI (k + 1)) c n x2_15 ma im' ke st)))) (c, ma, im, ke, st) (nI k) (nI (jg_it (2 ^ k) (2 ^ i))) := by
      refine ja_app (g := fun j => jg_it (2 ^ k) (2 ^ j)) (by omega) hlt (fun j hj => hR k (by omega) j hj) ?_
      rw [e4, e2, nI_clamp (by omega)]
      refine ⟨vp_in_nI (by omega) (by omega), nm_e (nm_r (nI_1 i) (ih (i + 1) n _ (by omega) (by omega) (fun q hq j hj => ?_) (fun j hj => ?_)))⟩
      · rw [pk_un (by omega)]
        exact hR q hq j hj
      · by_cases e : j = i
        · subst e; exact pk_us
        · rw [pk_un (by omega)]
          exact hr j (by omega)
    refine br_f (nI_ge (b := 16) (by omega) (by decide)) ⟨by rw [e1]; exact vp_in_nI (by omega) (by omega), nm_r e3 ?_⟩
    rw [nI_pred]
    exact hA
theorem ji_72 {post : SX → Prop} (H : ∀ im, jg_Im im → post (c, ma, im, ke, st)) : ∀ d k n im, k + d = 16 → d + 1 < n → jg_Rw im (k + 1) → wX_init_72 post c n (nI (k + 1)) ma im ke st := by
  intro d
  induction d with
  | zero =>
    intro k n im hk hn hR
    obtain ⟨n, rfl⟩ : ∃ m, n = m + 1 := ⟨n - 1, by omega⟩
    obtain rfl : k = 16 := by omega
    exact br_t (by decide) (H im (fun q i hq hi => hR q (by omega) i hi))
  | succ d ih =>
    intro k n im hk hn hR
    obtain ⟨n, rfl⟩ : ∃ m, n = m + 1 := ⟨n - 1, by omega⟩
    exact br_f (nI_nlt (a := 16) (by omega) (by decide)) (Exists.intro 17 (ji_80 (by omega) (fun im' hR' => ih (k + 1) n im' (by omega) (by omega) hR') 16 0 17 im (by omega) (by omega) hR (fun j hj => absurd hj (Nat.not_lt_zero j))))
theorem ji_46 {post : SX → Prop} (H : ∀ im, jg_Im im → post (c, ma, im, ke, st)) : ∀ d i n im, i + d = 16 → d < n → (∀ j, j < i → im j = nI (jg_T (2 ^ j))) → wX_init_46 post c n (nI i) ma im ke st := by
  intro d
  induction d with
  | zero =>
    intro i n im hi hn hr
    obtain ⟨n, rfl⟩ : ∃ m, n = m + 1 := ⟨n - 1, by omega⟩
    obtain rfl : i = 16 := by omega
    refine br_t (by decide) (Exists.intro 18 (ji_72 H 16 0 18 im (by omega) (by omega) (fun q hq j hj => ?_)))
    obtain rfl : q = 0 := by omega
    rw [Nat.zero_mul, Nat.zero_add, Nat.pow_zero, jg_it_1]
    exact hr j hj
  | succ d ih =>
    intro i n im hi hn hr
    obtain ⟨n, rfl⟩ : ∃ m, n = m + 1 := ⟨n - 1, by omega⟩
    have hS : wpX_step (fun r_16 => (vp_in (nI i) 272 ∧ ∀ im' : Nat → Int32, im' = upd im (nI i).toNatClampNeg r_16 → (∀ x1_19 : Int32, x1_19 = nI i + 1 → (wX_init_46 post c n x1_19 ma im' ke st)))) (nI (2 ^ i)) := by
      refine jx_step (jg_bit_lt i (by omega)) ⟨vp_in_nI (by omega) (by omega), ?_⟩
      rw [nI_clamp (by omega)]
      refine nm_e (nm_r (nI_1 i) (ih (i + 1) n _ (by omega) (by omega) (fun j hj => ?_)))
      by_cases e : j = i
      · subst e; exact pk_us
      · rw [pk_un e]
        exact hr j (by omega)
    rw [← ji_one i (by omega)] at hS
    exact br_f (nI_ge (b := 16) (by omega) (by decide)) hS
end
theorem jx_init {post : SX → Prop} (H : ∀ im, jg_Im im → post (1, (fun _ => 0), im, (fun _ => 0), (fun _ => 0))) : wpX_init post :=
  Exists.intro 17 (ji_46 H 16 0 17 (fun _ => 0) (by omega) (by omega) (fun j hj => absurd hj (Nat.not_lt_zero j)))
end
section
/-! Rows of states: mixed; the period; the next round state. -/
/-- the exclusive sum of the first n states from x on -/
def jg_S (x : Nat) : Nat → Nat
  | 0 => 0
  | n + 1 => jg_S x n ^^^ jg_it n x
theorem jg_S_0 (x : Nat) : jg_S x 0 = 0 := rfl
theorem jg_S_s (x n : Nat) : jg_S x (n + 1) = jg_S x n ^^^ jg_it n x := rfl
theorem jg_S_lt {x : Nat} (hx : x < 65536) (n : Nat) : jg_S x n < 65536 := by
  induction n with
  | zero => rw [jg_S_0]; decide
  | succ n ih => rw [jg_S_s]; exact jg_xlt ih (jg_it_lt n hx)
theorem jg_S_add (x a b : Nat) : jg_S x (a + b) = jg_S x a ^^^ jg_it a (jg_S x b) := by
  induction b with
  | zero => rw [Nat.add_zero, jg_S_0, jg_lin0 (jg_it_l a), Nat.xor_zero]
  | succ b ih => rw [← Nat.add_assoc, jg_S_s, jg_S_s, jg_it_l a, ih, jg_it_add, Nat.xor_assoc]
theorem jg_half (m K : Nat) : m / 2 ^ K = m / 2 ^ (K + 1) * 2 + cond (m.testBit K) 1 0 := by
  have e : m / 2 ^ (K + 1) = m / 2 ^ K / 2 := by rw [Nat.pow_succ, Nat.div_div_eq_div_mul]
  have t : (cond (m.testBit K) 1 0) = m / 2 ^ K % 2 := by
    rw [← Nat.toNat_testBit]
    cases m.testBit K <;> rfl
  rw [e, t]
  generalize m / 2 ^ K = z
  omega
section
variable {ma im ke st : Nat → Int32}
theorem jm_st {post : Int32 → Prop} (hI : jg_Im im) {m x K n : Nat} (hm : m ≤ 100000) (hx : x < 65536) (hK : K < 32) (T : wX_mixed_20 post (nI m) (nI x) ma im ke st n (nI (jg_S x (m / 2 ^ K))) (nI (m / 2 ^ K)) (nI K + (-1))) : wX_mixed_20 post (nI m) (nI x) ma im ke st (n + 1) (nI (jg_S x (m / 2 ^ (K + 1)))) (nI (m / 2 ^ (K + 1))) (nI K) := by
  have hl : m / 2 ^ (K + 1) ≤ m := Nat.div_le_self _ _
  have e1 := jg_half m K
  generalize m / 2 ^ (K + 1) = A at hl e1 ⊢
  generalize m / 2 ^ K = B at e1 T
  have hs := jg_S_add x A A
  rw [← Nat.mul_two] at hs
  refine br_f (nI_pos (by omega)) (jw_pos hI (by omega) (jg_S_lt hx _) (nm_r (nx_xor _ _) (nm_r (pk_mul _ 2) ?_)))
  rw [← hs]
  cases hb : m.testBit K
  · rw [hb, show (cond false 1 0 : Nat) = 0 from rfl, Nat.add_zero] at e1
    rw [e1] at T
    exact br_t ((jb_bit (by omega) hK).mpr hb) (nm_e T)
  · rw [hb, show (cond true 1 0 : Nat) = 1 from rfl] at e1
    rw [e1, jg_S_s] at T
    exact br_f (jb_bitT (by omega) hK hb) (jw_pos hI (by omega) hx (nm_r (nx_xor _ _) (nm_r (nI_1 _) (nm_e T))))
theorem jm_20 {post : Int32 → Prop} (hI : jg_Im im) {m x : Nat} (hm : m ≤ 100000) (hx : x < 65536) (h : post (nI (jg_S x m))) : ∀ K n, K < 17 → K + 1 < n → wX_mixed_20 post (nI m) (nI x) ma im ke st n (nI (jg_S x (m / 2 ^ (K + 1)))) (nI (m / 2 ^ (K + 1))) (nI K) := by
  intro K
  induction K with
  | zero =>
    intro n hK hn
    obtain ⟨n, rfl⟩ : ∃ m, n = m + 1 + 1 := ⟨n - 2, by omega⟩
    refine jm_st hI hm hx (by omega) ?_
    rw [Nat.pow_zero, Nat.div_one]
    exact br_t (by decide) h
  | succ K ih =>
    intro n hK hn
    obtain ⟨n, rfl⟩ : ∃ m, n = m + 1 := ⟨n - 1, by omega⟩
    refine jm_st hI hm hx (by omega) ?_
    rw [pk_m1]
    exact ih n (by omega) (by omega)
theorem jm_x {post : Int32 → Prop} (hI : jg_Im im) {m x : Nat} (hm : m ≤ 100000) (hx : x < 65536) (h : post (nI (jg_S x m))) : wpX_mixed post (nI x, ma, im, ke, st) (nI m) := by
  have h2 := jm_20 (ma := ma) (ke := ke) (st := st) hI hm hx h 16 18 (by omega) (by omega)
  rw [show m / 2 ^ (16 + 1) = 0 from by omega, jg_S_0] at h2
  exact br_f (nI_pos (by omega)) (br_t (nI_le (b := 100000) hm (by decide)) (Exists.intro 18 h2))
theorem jp_2 {post : Int32 → Prop} (hI : jg_Im im) {x : Nat} (hx : x < 65536) (x0 : x ≠ 0) (h : post 65535) : ∀ d i n, i + 1 + d = 65535 → d < n → wX_period_2 post (nI x) ma im ke st n (nI (i + 1)) := by
  intro d
  induction d with
  | zero =>
    intro i n hi hn
    obtain ⟨n, rfl⟩ : ∃ m, n = m + 1 := ⟨n - 1, by omega⟩
    exact br_t (nI_le (a := 65535) (by omega) (by omega)) h
  | succ d ih =>
    intro i n hi hn
    obtain ⟨n, rfl⟩ : ∃ m, n = m + 1 := ⟨n - 1, by omega⟩
    have ih' := ih (i + 1) n (by omega) (by omega)
    have hl := jg_it_lt (i + 1) hx
    have hf := jg_free (n := i + 1) (by omega) (by omega) hx x0
    refine br_f (nI_ge (b := 65535) (by omega) (by decide)) ⟨nI_ne0 (by omega) (by omega), br_c (fun _ => ?_) (fun _ => ?_)⟩
    · exact br_f (by decide) (jw_pos hI (by omega) hx (br_f (fun z => hf ((nI_eq (by omega) (by omega)).mp z)) (nm_r (nI_1 (i + 1)) ih')))
    · exact br_t rfl (nm_r (nI_1 (i + 1)) ih')
theorem jp_x {post : Int32 → Prop} (hI : jg_Im im) {x : Nat} (hx : x < 65536) (x0 : x ≠ 0) (h : post 65535) : wpX_period post (nI x, ma, im, ke, st) :=
  Exists.intro 65536 (jp_2 hI hx x0 h 65534 0 65536 (by omega) (by omega))
/-- the mask of nextRound -/
def jg_Rd (k : Int32) (x : Nat) : Prop := (nI x &&& (((1 : Int32) <<< (k &&& 31)) - 1)) = 0
theorem jq_256 : ∀ k, k < 9 → (nI 256 &&& (((1 : Int32) <<< (nI k &&& 31)) - 1)) = 0 := by decide +kernel
theorem jq_find {k x : Nat} (hk : k ≤ 8) (hx : x < 65536) (x0 : x ≠ 0) : ∃ d, d < 65535 ∧ jg_Rd (nI k) (jg_it d x) ∧ ∀ j, j < d → ¬ jg_Rd (nI k) (jg_it j x) := by
  obtain ⟨e, he, h⟩ := jg_tr hx x0 (y := 256) (by decide) (by decide)
  have hp : jg_Rd (nI k) (jg_it e x) := by rw [h]; exact jq_256 k (by omega)
  obtain ⟨d, hd, hm⟩ := pk_least (fun i => jg_Rd (nI k) (jg_it i x)) ⟨e, hp⟩
  refine ⟨d, Nat.lt_of_not_le (fun hge => ?_), hd, hm⟩
  exact hm e (by omega) hp
theorem jq_19 {post : Int32 → Prop} {c : Int32} {k : Int32} {x d : Nat} (hx : x < 65536) (hd : d < 65535) (h1 : jg_Rd k (jg_it d x)) (h2 : ∀ j, j < d → ¬ jg_Rd k (jg_it j x)) (h : post (nI d)) : ∀ r i n, i + r = d → r < n → wX_nextRound_19 post k c ma im ke st n (nI (jg_it i x)) (nI i) := by
  intro r
  induction r with
  | zero =>
    intro i n hi hn
    obtain ⟨n, rfl⟩ : ∃ m, n = m + 1 := ⟨n - 1, by omega⟩
    obtain rfl : i = d := by omega
    exact br_f (nI_ge (b := 65535) (by omega) (by decide)) (br_t h1 h)
  | succ r ih =>
    intro i n hi hn
    obtain ⟨n, rfl⟩ : ∃ m, n = m + 1 := ⟨n - 1, by omega⟩
    have ih' := ih (i + 1) n (by omega) (by omega)
    rw [jg_it_s] at ih'
    exact br_f (nI_ge (b := 65535) (by omega) (by decide)) (br_f (h2 i (by omega)) (jx_step (jg_it_lt i hx) (nm_r (nI_1 i) ih')))
end
section
variable {f : Int32} {am : Nat → Int32}
theorem jm_10 {post : Int32 → Prop} {m x : Nat} (hm : m ≤ 100000) (hx : x < 65536) (h : post (nI (jg_S x m))) : ∀ d k n, k + d = m → d < n → wY_mixed_10 post (nI m) f am n (nI (jg_it k x)) (nI (jg_S x k)) (nI k) := by
  intro d
  induction d with
  | zero =>
    intro k n hk hn
    obtain ⟨n, rfl⟩ : ∃ m, n = m + 1 := ⟨n - 1, by omega⟩
    obtain rfl : k = m := by omega
    exact br_t (nI_le (by omega) (by omega)) (br_f (nI_pos (by omega)) (br_t (nI_le (b := 100000) hm (by decide)) h))
  | succ d ih =>
    intro k n hk hn
    obtain ⟨n, rfl⟩ : ∃ m, n = m + 1 := ⟨n - 1, by omega⟩
    have ih' := ih (k + 1) n (by omega) (by omega)
    rw [jg_it_s, jg_S_s] at ih'
    exact br_f (nI_ge (by omega) (by omega)) (br_f (nI_nlt (a := 100000) (by omega) (by decide)) (nm_r (nx_xor _ _) (jy_step (jg_it_lt k hx) (nm_r (nI_1 k) ih'))))
theorem jm_y {post : Int32 → Prop} {m x : Nat} (hm : m ≤ 100000) (hx : x < 65536) (h : post (nI (jg_S x m))) : wpY_mixed post (nI x, am) (nI m) :=
  Exists.intro (m + 1) (jm_10 hm hx h m 0 (m + 1) (by omega) (by omega))
theorem jp_y {post : Int32 → Prop} {x : Nat} (hx : x < 65536) (x0 : x ≠ 0) (h : post 65535) : wpY_period post (nI x, am) := by
  have e : jg_it 65534 (jg_T x) = x := by
    have h1 := jg_it_add 65534 1 x
    rw [jg_it_1] at h1
    rw [← h1]
    exact jg_cyc hx
  have hm : ∀ j, j < 65534 → jg_it j (jg_T x) ≠ x := fun j hj z => by
    have h1 := jg_it_add j 1 x
    rw [jg_it_1, z] at h1
    exact jg_free (n := j + 1) (by omega) (by omega) hx x0 h1
  unfold wpY_period
  refine jy_step hx (jy_steps (d := 65534) (jg_T_lt hx) hx (by decide) e hm ?_)
  show post (nI 65534 + 1)
  rw [nI_1]
  exact h
theorem jq_7 {post : Int32 → Prop} {k x d : Nat} (hk : k ≤ 8) (hx : x < 65536) (hd : d < 65535) (h1 : jg_Rd (nI k) (jg_it d x)) (h2 : ∀ j, j < d → ¬ jg_Rd (nI k) (jg_it j x)) (h : post (nI d)) : ∀ r i n, i + r = d → r < n → wY_nextRound_7 post (nI k) f am n (nI (jg_it i x)) (nI i) := by
  intro r
  induction r with
  | zero =>
    intro i n hi hn
    obtain ⟨n, rfl⟩ : ∃ m, n = m + 1 := ⟨n - 1, by omega⟩
    obtain rfl : i = d := by omega
    exact br_f (nI_nlt (a := 100000) (by omega) (by decide)) (br_f (nI_pos (by omega)) (br_f (nI_nlt (a := 8) (by omega) (by decide)) (br_t h1 h)))
  | succ r ih =>
    intro i n hi hn
    obtain ⟨n, rfl⟩ : ∃ m, n = m + 1 := ⟨n - 1, by omega⟩
    have ih' := ih (i + 1) n (by omega) (by omega)
    rw [jg_it_s] at ih'
    exact br_f (nI_nlt (a := 100000) (by omega) (by decide)) (br_f (nI_pos (by omega)) (br_f (nI_nlt (a := 8) (by omega) (by decide)) (br_f (h2 i (by omega)) (jy_step (jg_it_lt i hx) (nm_r (nI_1 i) ih')))))
end
end
section
/-! The relation, and what is owed. -/
def jg_R (c : Nat) (ma im : Nat → Int32) : Prop := c < 65536 ∧ c ≠ 0 ∧ (∀ i, i < 8 → ∃ m, m < 65536 ∧ ma i = nI m) ∧ jg_Im im
def i_Rel (k : Nat) (u : SX) (v : SY) : Prop := ∃ (c : Nat) (ma im ke st : Nat → Int32), u = (nI c, ma, im, ke, st) ∧ v = (nI c, ma) ∧ jg_R c ma im
theorem jr_mk {k c : Nat} {ma im ke st : Nat → Int32} (h : jg_R c ma im) : i_Rel k (nI c, ma, im, ke, st) (nI c, ma) := ⟨c, ma, im, ke, st, rfl, rfl, h⟩
theorem i_up {k : Nat} {u : SX} {v : SY} (h : i_Rel k u v) : i_Rel (k + 4) u v := h
theorem i_vc0 : wpX_init (fun u => wpY_init (fun v => i_Rel 0 u v)) :=
  jx_init (fun im hI => ⟨1, fun _ => 0, im, fun _ => 0, fun _ => 0, rfl, rfl, by decide, by decide, fun i _ => ⟨0, by decide, rfl⟩, hI⟩)
/-- a state's number -/
def jg_St (v : Int32) : Prop := ∃ s, s < 65536 ∧ s ≠ 0 ∧ v = nI s
theorem js_lo {s : Nat} (hs : s < 65536) (h0 : s ≠ 0) : ¬ nI s < (1 : Int32) := nI_nlt (b := 1) (by omega) (by omega)
theorem js_hi {s : Nat} (hs : s < 65536) : ¬ (65535 : Int32) < nI s := nI_nlt (a := 65535) (by omega) (by decide)
theorem js_no {v : Int32} (h : ¬ jg_St v) (h1 : ¬ v < 1) : (65535 : Int32) < v := by
  have h0 : ¬ v < 0 := fun z => h1 (Int32.lt_trans z (by decide))
  obtain ⟨j, hj, rfl⟩ := nI_of h0
  have hl : ¬ j < 1 := fun z => h1 (nI_lt (b := 1) z (by decide))
  exact nI_lt (a := 65535) (Nat.lt_of_not_le (fun z => h ⟨j, by omega, by omega, rfl⟩)) hj
theorem jx_is1 {post : Int32 → Prop} {v : Int32} (h : jg_St v) (p : post 1) : wpX_isState post v := by
  obtain ⟨s, hs, h0, rfl⟩ := h
  exact br_f (js_lo hs h0) (br_f (js_hi hs) p)
theorem jx_is0 {post : Int32 → Prop} {v : Int32} (h : ¬ jg_St v) (p : post 0) : wpX_isState post v :=
  br_c (fun _ => p) (fun h1 => br_t (js_no h h1) p)
theorem jy_is1 {post : Int32 → Prop} {f : Int32} {am : Nat → Int32} {v : Int32} (h : jg_St v) (p : post 1) : wpY_isState post (f, am) v := by
  obtain ⟨s, hs, h0, rfl⟩ := h
  exact br_f (js_lo hs h0) (br_f (js_hi hs) p)
theorem jy_is0 {post : Int32 → Prop} {f : Int32} {am : Nat → Int32} {v : Int32} (h : ¬ jg_St v) (p : post 0) : wpY_isState post (f, am) v :=
  br_c (fun _ => p) (fun h1 => br_t (js_no h h1) p)
theorem jx_mk1 {post : Int32 → Prop} {j : Nat} (h : j < 8) (p : post 1) : wpX_isMark post (nI j) :=
  br_f (nI_pos (by omega)) (br_f (nI_ge (b := 8) h (by decide)) p)
theorem jx_mkL {post : Int32 → Prop} {v : Int32} (h : v < 0) (p : post 0) : wpX_isMark post v := br_t h p
theorem jk_hi {v : Int32} (h : nI 8 ≤ v) : ¬ v < 0 := Int32.not_lt.mpr (Int32.le_trans (by decide) h)
theorem jk_hi7 {v : Int32} (h : nI 8 ≤ v) : (7 : Int32) < v := Int32.lt_of_lt_of_le (by decide) h
theorem jx_mkH {post : Int32 → Prop} {v : Int32} (h : nI 8 ≤ v) (p : post 0) : wpX_isMark post v := br_f (jk_hi h) (br_t h p)
theorem jx_mk0 {post : Int32 → Prop} {v : Int32} (h : v < 0 ∨ nI 8 ≤ v) (p : post 0) : wpX_isMark post v := h.elim (fun h => jx_mkL h p) (fun h => jx_mkH h p)
section
variable {f : Int32} {am : Nat → Int32}
theorem jy_ho0 {post : Int32 → Prop} {v : Int32} (h : v < 0 ∨ nI 8 ≤ v) (p : post 0) : wpY_holds post (f, am) v :=
  h.elim (fun h => br_t h p) (fun h => br_f (jk_hi h) (br_t (jk_hi7 h) p))
theorem jy_hoZ {post : Int32 → Prop} {j m : Nat} (h : j < 8) (e : am j = nI m) (hm : m = 0) (p : post 0) : wpY_holds post (f, am) (nI j) := by
  have ec : am (nI j).toNatClampNeg = nI m := by rw [nI_clamp (by omega), e]
  refine br_f (nI_pos (by omega)) (br_f (nI_nlt (a := 7) (by omega) (by decide)) ⟨vp_in_nI h (by decide), br_t ?_ p⟩)
  rw [ec, hm]
  decide
theorem jy_ho1 {post : Int32 → Prop} {j m : Nat} (h : j < 8) (e : am j = nI m) (hm : m < 65536) (m0 : m ≠ 0) (p : post 1) : wpY_holds post (f, am) (nI j) := by
  have ec : am (nI j).toNatClampNeg = nI m := by rw [nI_clamp (by omega), e]
  refine br_f (nI_pos (by omega)) (br_f (nI_nlt (a := 7) (by omega) (by decide)) ⟨vp_in_nI h (by decide), br_f ?_ p⟩)
  rw [ec]
  exact nI_nle (by omega) (by omega)
end
theorem i_vc_seed {k : Nat} {u : SX} {v : SY} (I : i_Rel k u v) (hk : k + 4 ≤ 2048) (v1 : Int32) : wpX_seed (fun r u' => wpY_seed (fun r' v' => r' = r ∧ i_Rel (k + 4) u' v') v v1) u v1 := by
  obtain ⟨c, ma, im, ke, st, rfl, rfl, h⟩ := I
  unfold wpX_seed wpY_seed
  dsimp only
  by_cases hs : jg_St v1
  · refine jx_is1 hs (br_f (by decide) (jy_is1 hs (br_f (by decide) ⟨rfl, ?_⟩)))
    obtain ⟨s, h1, h2, rfl⟩ := hs
    exact jr_mk ⟨h1, h2, h.2.2⟩
  · exact jx_is0 hs (br_t rfl (jy_is0 hs (br_t rfl ⟨rfl, jr_mk h⟩)))
theorem i_vc_state {k : Nat} {u : SX} {v : SY} (I : i_Rel k u v) (hk : k + 4 ≤ 2048) : wpX_state (fun r => wpY_state (fun r' => r' = r ∧ i_Rel (k + 4) u v) v) u := by
  have J := I
  obtain ⟨c, ma, im, ke, st, rfl, rfl, h⟩ := I
  exact ⟨rfl, J⟩
theorem i_vc_next {k : Nat} {u : SX} {v : SY} (I : i_Rel k u v) (hk : k + 4 ≤ 2048) : wpX_next (fun r u' => wpY_next (fun r' v' => r' = r ∧ i_Rel (k + 4) u' v') v) u := by
  obtain ⟨c, ma, im, ke, st, rfl, rfl, h⟩ := I
  unfold wpX_next wpY_next
  dsimp only
  refine jx_step h.1 (jy_step h.1 ⟨rfl, jr_mk ⟨jg_T_lt h.1, ?_, h.2.2⟩⟩)
  rw [← jg_it_1]
  exact jg_nz h.1 h.2.1
theorem jy_nr0 {post : Int32 → Prop} {f : Int32} {am : Nat → Int32} {v : Int32} (h : v < (-100000) ∨ ¬ v ≤ 100000) (p : post 0) : wpY_near post (f, am) v :=
  h.elim (fun h => br_t h p) (fun h => br_c (fun _ => p) (fun _ => br_t (Int32.not_le.mp h) p))
theorem jy_nr1 {post : Int32 → Prop} {f : Int32} {am : Nat → Int32} {v : Int32} (h1 : ¬ v < (-100000)) (h2 : v ≤ 100000) (p : post 1) : wpY_near post (f, am) v :=
  br_f h1 (br_f (Int32.not_lt.mpr h2) p)
theorem i_vc_jump {k : Nat} {u : SX} {v : SY} (I : i_Rel k u v) (hk : k + 4 ≤ 2048) (v1 : Int32) : wpX_jump (fun r u' => wpY_jump (fun r' v' => r' = r ∧ i_Rel (k + 4) u' v') v v1) u v1 := by
  obtain ⟨c, ma, im, ke, st, rfl, rfl, h⟩ := I
  unfold wpX_jump wpY_jump
  dsimp only
  by_cases h1 : v1 < (-100000)
  · exact br_t h1 (jy_nr0 (Or.inl h1) (br_t rfl ⟨rfl, jr_mk h⟩))
  by_cases h2 : v1 ≤ 100000
  · obtain ⟨l, hX, hY⟩ := jl_wind (c := nI c) (ma := ma) (ke := ke) (st := st) (f := nI c) (am := ma) h.2.2.2 h1 h2 h.1
    exact br_f h1 (br_t h2 (hX _ (jy_nr1 h1 h2 (br_f (by decide) (hY _ ⟨rfl, jr_mk ⟨jg_it_lt l h.1, jg_nz h.1 h.2.1, h.2.2⟩⟩)))))
  · exact br_f h1 (br_f h2 (jy_nr0 (Or.inr h2) (br_t rfl ⟨rfl, jr_mk h⟩)))
theorem i_vc_peek {k : Nat} {u : SX} {v : SY} (I : i_Rel k u v) (hk : k + 4 ≤ 2048) (v1 : Int32) : wpX_peek (fun r => wpY_peek (fun r' => r' = r ∧ i_Rel (k + 4) u v) v v1) u v1 := by
  have J : i_Rel (k + 4) u v := I
  obtain ⟨c, ma, im, ke, st, rfl, rfl, h⟩ := I
  unfold wpX_peek wpY_peek
  dsimp only
  by_cases h1 : v1 < (-100000)
  · exact br_t h1 (jy_nr0 (Or.inl h1) (br_t rfl ⟨rfl, J⟩))
  by_cases h2 : v1 ≤ 100000
  · obtain ⟨l, hX, hY⟩ := jl_wind (c := nI c) (ma := ma) (ke := ke) (st := st) (f := nI c) (am := ma) h.2.2.2 h1 h2 h.1
    exact br_f h1 (br_t h2 (hX _ (jy_nr1 h1 h2 (br_f (by decide) (hY _ ⟨rfl, J⟩)))))
  · exact br_f h1 (br_f h2 (jy_nr0 (Or.inr h2) (br_t rfl ⟨rfl, J⟩)))
theorem i_vc_mark {k : Nat} {u : SX} {v : SY} (I : i_Rel k u v) (hk : k + 4 ≤ 2048) (v1 : Int32) : wpX_mark (fun r u' => wpY_mark (fun r' v' => r' = r ∧ i_Rel (k + 4) u' v') v v1) u v1 := by
  obtain ⟨c, ma, im, ke, st, rfl, rfl, h⟩ := I
  unfold wpX_mark wpY_mark
  dsimp only
  rcases pk_ix v1 (n := 8) (by decide) with h1 | h1 | ⟨j, hj, rfl⟩
  · exact jx_mk0 (Or.inl h1) (br_t rfl (br_t h1 ⟨rfl, jr_mk h⟩))
  · exact jx_mk0 (Or.inr h1) (br_t rfl (br_f (jk_hi h1) (br_f (Int32.not_le.mpr (jk_hi7 h1)) ⟨rfl, jr_mk h⟩)))
  · have hi : vp_in (nI j) 8 := vp_in_nI hj (by decide)
    have hR : jg_R c (upd ma j (nI c)) im := ⟨h.1, h.2.1, fun i hi => by
      by_cases e : i = j
      · subst e; exact ⟨c, h.1, pk_us⟩
      · rw [pk_un e]; exact h.2.2.1 i hi, h.2.2.2⟩
    have ec : (nI j).toNatClampNeg = j := nI_clamp (by omega)
    rw [← ec] at hR
    exact jx_mk1 hj (br_f (by decide) ⟨hi, nm_e (br_f (nI_pos (by omega)) (br_t (nI_le (b := 7) (by omega) (by decide)) ⟨hi, nm_e ⟨rfl, jr_mk hR⟩⟩))⟩)
theorem i_vc_back {k : Nat} {u : SX} {v : SY} (I : i_Rel k u v) (hk : k + 4 ≤ 2048) (v1 : Int32) : wpX_back (fun r u' => wpY_back (fun r' v' => r' = r ∧ i_Rel (k + 4) u' v') v v1) u v1 := by
  obtain ⟨c, ma, im, ke, st, rfl, rfl, h⟩ := I
  unfold wpX_back wpY_back
  dsimp only
  rcases pk_ix v1 (n := 8) (by decide) with h1 | h1 | ⟨j, hj, rfl⟩
  · exact jx_mk0 (Or.inl h1) (br_t rfl (jy_ho0 (Or.inl h1) (br_t rfl ⟨rfl, jr_mk h⟩)))
  · exact jx_mk0 (Or.inr h1) (br_t rfl (jy_ho0 (Or.inr h1) (br_t rfl ⟨rfl, jr_mk h⟩)))
  · have hi : vp_in (nI j) 8 := vp_in_nI hj (by decide)
    obtain ⟨m, hm, e⟩ := h.2.2.1 j hj
    have ec : ma (nI j).toNatClampNeg = nI m := by rw [nI_clamp (by omega), e]
    by_cases m0 : m = 0
    · have ez : ma (nI j).toNatClampNeg = 0 := by rw [ec, m0, nI_0]
      exact jx_mk1 hj (br_f (by decide) ⟨hi, br_t ez (jy_hoZ hj e m0 (br_t rfl ⟨rfl, jr_mk h⟩))⟩)
    · have ez : ¬ ma (nI j).toNatClampNeg = 0 := by rw [ec]; exact nI_ne0 (by omega) (by omega)
      exact jx_mk1 hj (br_f (by decide) ⟨hi, br_f ez ⟨hi, nm_r ec (jy_ho1 hj e hm m0 (br_f (by decide) ⟨hi, nm_r ec ⟨rfl, jr_mk ⟨hm, m0, h.2.2⟩⟩⟩))⟩⟩)
theorem i_vc_distance {k : Nat} {u : SX} {v : SY} (I : i_Rel k u v) (hk : k + 4 ≤ 2048) (v1 : Int32) : wpX_distance (fun r u' => wpY_distance (fun r' => r' = r ∧ i_Rel (k + 4) u' v) v v1) u v1 := by
  obtain ⟨c, ma, im, ke, st, rfl, rfl, h⟩ := I
  unfold wpX_distance wpY_distance
  dsimp only
  by_cases hs : jg_St v1
  · have hs' := hs
    obtain ⟨s, h1, h2, rfl⟩ := hs
    obtain ⟨d, hd, e1, e2⟩ := jg_dist h.1 h.2.1 h1 h2
    refine jx_is1 hs' (br_f (by decide) (jx_steps h.2.2.2 h.1 h.2.1 h1 h2 hd e1 e2 (fun K S => ?_)))
    exact jy_is1 hs' (br_f (by decide) (jy_steps h.1 h1 hd e1 e2 ⟨rfl, jr_mk h⟩))
  · exact jx_is0 hs (br_t rfl (jy_is0 hs (br_t rfl ⟨rfl, jr_mk h⟩)))
theorem i_vc_between {k : Nat} {u : SX} {v : SY} (I : i_Rel k u v) (hk : k + 4 ≤ 2048) (v1 : Int32) (v2 : Int32) : wpX_between (fun r u' => wpY_between (fun r' => r' = r ∧ i_Rel (k + 4) u' v) v v1 v2) u v1 v2 := by
  obtain ⟨c, ma, im, ke, st, rfl, rfl, h⟩ := I
  unfold wpX_between wpY_between
  dsimp only
  rcases (or_assoc.mpr (pk_ix v1 (n := 8) (by decide))) with h1 | ⟨j, hj, rfl⟩
  · exact jx_mk0 h1 (br_t rfl (jy_ho0 h1 (br_t rfl ⟨rfl, jr_mk h⟩)))
  have hi : vp_in (nI j) 8 := vp_in_nI hj (by decide)
  obtain ⟨m, hm, e⟩ := h.2.2.1 j hj
  have ec : ma (nI j).toNatClampNeg = nI m := by rw [nI_clamp (by omega), e]
  rcases (or_assoc.mpr (pk_ix v2 (n := 8) (by decide))) with h2 | ⟨i, hi2, rfl⟩
  · refine jx_mk1 hj (br_f (by decide) (jx_mk0 h2 (br_t rfl ?_)))
    by_cases m0 : m = 0
    · exact jy_hoZ hj e m0 (br_t rfl ⟨rfl, jr_mk h⟩)
    · exact jy_ho1 hj e hm m0 (br_f (by decide) (jy_ho0 h2 (br_t rfl ⟨rfl, jr_mk h⟩)))
  have hii : vp_in (nI i) 8 := vp_in_nI hi2 (by decide)
  obtain ⟨w, hw, ew⟩ := h.2.2.1 i hi2
  have ecw : ma (nI i).toNatClampNeg = nI w := by rw [nI_clamp (by omega), ew]
  refine jx_mk1 hj (br_f (by decide) (jx_mk1 hi2 (br_f (by decide) ⟨hi, ?_⟩)))
  rw [ec, ecw]
  by_cases m0 : m = 0
  · exact br_t (by rw [m0, nI_0]) (jy_hoZ hj e m0 (br_t rfl ⟨rfl, jr_mk h⟩))
  refine br_f (nI_ne0 (by omega) (by omega)) ⟨hii, ?_⟩
  by_cases w0 : w = 0
  · exact br_t (by rw [w0, nI_0]) (jy_ho1 hj e hm m0 (br_f (by decide) (jy_hoZ hi2 ew w0 (br_t rfl ⟨rfl, jr_mk h⟩))))
  refine br_f (nI_ne0 (by omega) (by omega)) ⟨hi, hii, ?_⟩
  obtain ⟨d, hd, e1, e2⟩ := jg_dist hm m0 hw w0
  refine jx_steps h.2.2.2 hm m0 hw w0 hd e1 e2 (fun K S => ?_)
  exact jy_ho1 hj e hm m0 (br_f (by decide) (jy_ho1 hi2 ew hw w0 (br_f (by decide) ⟨hi, hii, jy_steps hm hw hd e1 e2 ⟨rfl, jr_mk h⟩⟩)))
theorem jm_neg {v : Int32} (h : v < 0) : v ≤ 0 := Int32.le_of_lt h
theorem i_vc_mixed {k : Nat} {u : SX} {v : SY} (I : i_Rel k u v) (hk : k + 4 ≤ 2048) (v1 : Int32) : wpX_mixed (fun r => wpY_mixed (fun r' => r' = r ∧ i_Rel (k + 4) u v) v v1) u v1 := by
  have J : i_Rel (k + 4) u v := I
  obtain ⟨c, ma, im, ke, st, rfl, rfl, h⟩ := I
  by_cases h1 : v1 < 0
  · exact br_t h1 (Exists.intro 1 (br_t (jm_neg h1) (br_t h1 ⟨rfl, J⟩)))
  obtain ⟨m, hm, rfl⟩ := nI_of h1
  by_cases h2 : m ≤ 100000
  · exact jm_x h.2.2.2 h2 h.1 (jm_y h2 h.1 ⟨rfl, J⟩)
  · have h3 : ¬ nI m ≤ (100000 : Int32) := nI_ge (a := 100000) (by omega) hm
    exact br_f h1 (br_f h3 (Exists.intro 1 (br_f (nI_nle (by omega) hm) (br_t (nI_lt (a := 100000) (by omega) hm) (br_f h1 (br_f h3 ⟨rfl, J⟩))))))
theorem i_vc_period {k : Nat} {u : SX} {v : SY} (I : i_Rel k u v) (hk : k + 4 ≤ 2048) : wpX_period (fun r => wpY_period (fun r' => r' = r ∧ i_Rel (k + 4) u v) v) u := by
  have J : i_Rel (k + 4) u v := I
  obtain ⟨c, ma, im, ke, st, rfl, rfl, h⟩ := I
  exact jp_x h.2.2.2 h.1 h.2.1 (jp_y h.1 h.2.1 ⟨rfl, J⟩)
theorem i_vc_before {k : Nat} {u : SX} {v : SY} (I : i_Rel k u v) (hk : k + 4 ≤ 2048) (v1 : Int32) (v2 : Int32) : wpX_before (fun r => wpY_before (fun r' => r' = r ∧ i_Rel (k + 4) u v) v v1 v2) u v1 v2 := by
  have J : i_Rel (k + 4) u v := I
  obtain ⟨c, ma, im, ke, st, rfl, rfl, h⟩ := I
  unfold wpX_before wpY_before
  dsimp only
  by_cases hs : jg_St v1
  · have hs' := hs
    obtain ⟨s, s1, s2, rfl⟩ := hs
    refine jx_is1 hs' (br_f (by decide) ?_)
    by_cases h1 : v2 < 0
    · exact br_t h1 (jy_is1 hs' (br_f (by decide) (br_t h1 ⟨rfl, J⟩)))
    obtain ⟨m, hm, rfl⟩ := nI_of h1
    by_cases h2 : 100000 < m
    · have h3 : (100000 : Int32) < nI m := nI_lt (a := 100000) h2 hm
      exact br_f h1 (br_t h3 (jy_is1 hs' (br_f (by decide) (br_f h1 (br_t h3 ⟨rfl, J⟩)))))
    · have h3 : ¬ (100000 : Int32) < nI m := nI_nlt (a := 100000) (by omega) (by decide)
      exact br_f h1 (br_f h3 (jw_neg h.2.2.2 hm s1 (jy_is1 hs' (br_f (by decide) (br_f h1 (br_f h3 (jo_neg (by omega) s1 ⟨rfl, J⟩)))))))
  · exact jx_is0 hs (br_t rfl (jy_is0 hs (br_t rfl ⟨rfl, J⟩)))
theorem i_vc_apart {k : Nat} {u : SX} {v : SY} (I : i_Rel k u v) (hk : k + 4 ≤ 2048) (v1 : Int32) (v2 : Int32) (v3 : Int32) : wpX_apart (fun r => wpY_apart (fun r' => r' = r ∧ i_Rel (k + 4) u v) v v1 v2 v3) u v1 v2 v3 := by
  have J : i_Rel (k + 4) u v := I
  obtain ⟨c, ma, im, ke, st, rfl, rfl, h⟩ := I
  unfold wpX_apart wpY_apart
  dsimp only
  by_cases hs : jg_St v1
  · by_cases ht : jg_St v2
    · have hs' := hs
      have ht' := ht
      obtain ⟨s, s1, s2, rfl⟩ := hs
      obtain ⟨t, t1, t2, rfl⟩ := ht
      refine jx_is1 hs' (br_f (by decide) (jx_is1 ht' (br_f (by decide) ?_)))
      by_cases h1 : v3 < 0
      · exact br_t h1 (jy_is1 hs' (br_f (by decide) (jy_is1 ht' (br_f (by decide) (br_t h1 ⟨rfl, J⟩)))))
      obtain ⟨m, hm, rfl⟩ := nI_of h1
      by_cases h2 : 100000 < m
      · have h3 : (100000 : Int32) < nI m := nI_lt (a := 100000) h2 hm
        exact br_f h1 (br_t h3 (jy_is1 hs' (br_f (by decide) (jy_is1 ht' (br_f (by decide) (br_f h1 (br_t h3 ⟨rfl, J⟩)))))))
      · have h3 : ¬ (100000 : Int32) < nI m := nI_nlt (a := 100000) (by omega) (by decide)
        refine br_f h1 (br_f h3 ?_)
        rw [nx_xor]
        refine jw_pos h.2.2.2 hm (jg_xlt s1 t1) (jy_is1 hs' (br_f (by decide) (jy_is1 ht' (br_f (by decide) (br_f h1 (br_f h3 (jo_pos (by omega) s1 (jo_pos (by omega) t1 ⟨?_, J⟩))))))))
        rw [nx_xor, jg_it_l m]
    · exact jx_is1 hs (br_f (by decide) (jx_is0 ht (br_t rfl (jy_is1 hs (br_f (by decide) (jy_is0 ht (br_t rfl ⟨rfl, J⟩)))))))
  · exact jx_is0 hs (br_t rfl (jy_is0 hs (br_t rfl ⟨rfl, J⟩)))
theorem i_vc_nextRound {k : Nat} {u : SX} {v : SY} (I : i_Rel k u v) (hk : k + 4 ≤ 2048) (v1 : Int32) : wpX_nextRound (fun r => wpY_nextRound (fun r' => r' = r ∧ i_Rel (k + 4) u v) v v1) u v1 := by
  have J : i_Rel (k + 4) u v := I
  obtain ⟨c, ma, im, ke, st, rfl, rfl, h⟩ := I
  by_cases h1 : v1 < 0
  · exact br_t h1 (Exists.intro 1 (br_f (by decide) (br_t h1 ⟨rfl, J⟩)))
  obtain ⟨m, hm, rfl⟩ := nI_of h1
  by_cases h2 : m ≤ 8
  · obtain ⟨d, hd, e1, e2⟩ := jq_find h2 h.1 h.2.1
    refine br_f h1 (br_t (nI_le (b := 8) h2 (by decide)) (Exists.intro (d + 1) (jq_19 h.1 hd e1 e2 ?_ d 0 (d + 1) (by omega) (by omega))))
    exact Exists.intro (d + 1) (jq_7 h2 h.1 hd e1 e2 ⟨rfl, J⟩ d 0 (d + 1) (by omega) (by omega))
  · have h3 : ¬ nI m ≤ (8 : Int32) := nI_ge (a := 8) (by omega) hm
    exact br_f h1 (br_f h3 (Exists.intro 1 (br_f (by decide) (br_f h1 (br_t (nI_lt (a := 8) (by omega) hm) ⟨rfl, J⟩)))))
end
