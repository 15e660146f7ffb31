section
/-! rows taken out of the kit's rows to paste (starting text) -/
def bt (x : Int32) (i : Nat) : Bool := x.toBitVec.getLsbD i
theorem b_ext {x y : Int32} (h : ∀ i, i < 32 → bt x i = bt y i) : x = y := Int32.toBitVec_inj.mp (BitVec.eq_of_getLsbD_eq (fun i hi => h i hi))
theorem b_or (x y : Int32) (i : Nat) : bt (x ||| y) i = (bt x i || bt y i) := by unfold bt; rw [Int32.toBitVec_or, BitVec.getLsbD_or]
theorem b_and (x y : Int32) (i : Nat) : bt (x &&& y) i = (bt x i && bt y i) := by unfold bt; rw [Int32.toBitVec_and, BitVec.getLsbD_and]
theorem b_xor (x y : Int32) (i : Nat) : bt (x ^^^ y) i = (bt x i ^^ bt y i) := by unfold bt; rw [Int32.toBitVec_xor, BitVec.getLsbD_xor]
theorem b_big {x : Int32} {i : Nat} (h : 32 ≤ i) : bt x i = false := BitVec.getLsbD_of_ge _ _ h
theorem b_m1 : ∀ i, i < 32 → bt (-1) i = true := by decide +kernel
theorem b_0 (i : Nat) : bt 0 i = false := BitVec.getLsbD_zero
theorem s_l : ∀ n, n < 32 → ((nI n &&& 31).toBitVec.smod 32).toNat = n := by decide +kernel
theorem b_shl (n : Nat) (hn : n < 32) (x : Int32) {i : Nat} (hi : i < 32) : bt (x <<< (nI n &&& 31)) i = (decide (n ≤ i) && bt x (i - n)) := by
  unfold bt
  rw [Int32.toBitVec_shiftLeft]
  show (x.toBitVec <<< ((nI n &&& 31).toBitVec.smod 32).toNat).getLsbD i = _
  rw [s_l n hn, BitVec.getLsbD_shiftLeft]
  rcases Nat.lt_or_ge i n with h | h
  · simp [h, Nat.not_le.mpr h]
  · simp [hi, h, Nat.not_lt.mpr h]
theorem b_sshr (n : Nat) (hn : n < 32) (x : Int32) {i : Nat} (hi : i < 32) : bt (x >>> (nI n &&& 31)) i = if n + i < 32 then bt x (n + i) else bt x 31 := by
  unfold bt
  rw [Int32.toBitVec_shiftRight]
  show (x.toBitVec.sshiftRight ((nI n &&& 31).toBitVec.smod 32).toNat).getLsbD i = _
  rw [s_l n hn, BitVec.getLsbD_sshiftRight, BitVec.msb_eq_getLsbD_last]
  simp [hi]
theorem pk_us {f : Nat → Int32} {k : Nat} {x : Int32} : upd f k x k = x := if_pos rfl
theorem pk_un {f : Nat → Int32} {k j : Nat} {x : Int32} (h : j ≠ k) : upd f k x j = f j := if_neg h
theorem pk_sub {a b : Nat} (h : b ≤ a) : nI a - nI b = nI (a - b) := by
  obtain ⟨c, rfl⟩ : ∃ c, a = c + b := ⟨a - b, by omega⟩
  rw [← nI_add, Int32.add_sub_cancel, Nat.add_sub_cancel]
theorem pk_m1 (n : Nat) : nI (n + 1) + (-1) = nI n := by
  rw [← nI_1, Int32.add_assoc, show (1 : Int32) + (-1) = 0 from rfl, Int32.add_zero]
theorem pk_mul (a b : Nat) : nI a * nI b = nI (a * b) := (Int32.ofNat_mul a b).symm
theorem pk_div {a d : Nat} (ha : a < 2 ^ 31) (h0 : 0 < d) (hd : d < 2 ^ 31) : nI a / nI d = nI (a / d) := by
  apply Int32.toInt_inj.mp
  rw [lg_idiv_nonneg (by rw [nI_toInt ha]; omega) (by rw [nI_toInt hd]; omega), nI_toInt ha, nI_toInt hd, nI_toInt (Nat.lt_of_le_of_lt (Nat.div_le_self a d) ha)]
  first | rfl | exact (Int.natCast_ediv _ _).symm
theorem pk_rem {a d : Nat} (ha : a < 2 ^ 31) (h0 : 0 < d) (hd : d < 2 ^ 31) : nI a - nI a / nI d * nI d = nI (a % d) := by
  rw [pk_div ha h0 hd, pk_mul, pk_sub (Nat.div_mul_le_self a d)]
  exact congrArg nI (by have := Nat.div_add_mod' a d; omega)
theorem pk_sub_toInt {a b : Nat} (ha : a < 2 ^ 30) (hb : b < 2 ^ 30) : (nI a - nI b).toInt = (a : Int) - b := by
  rw [Int32.toInt_sub, nI_toInt (by omega), nI_toInt (by omega)]
  exact Int.bmod_eq_of_le (by omega) (by omega)
theorem pk_ix (x : Int32) {n : Nat} (hn : n < 2 ^ 31) : x < 0 ∨ nI n ≤ x ∨ ∃ j : Nat, j < n ∧ x = nI j := by
  by_cases h : x < 0
  · exact Or.inl h
  · obtain ⟨j, hj, rfl⟩ := nI_of h
    by_cases h2 : j < n
    · exact Or.inr (Or.inr ⟨j, h2, rfl⟩)
    · exact Or.inr (Or.inl (nI_le (by omega) hj))
theorem pk_le {x y : Int32} {A B : Prop} (a b : Nat) (f : a ≤ b → A) (g : b < a → B) (hx : x = nI a := by rfl) (hy : y = nI b := by rfl) (ha : a < 2 ^ 31 := by omega) (hb : b < 2 ^ 31 := by omega) : (x ≤ y → A) ∧ (¬ x ≤ y → B) := by
  subst hx hy
  rw [nI_leI ha hb]
  exact ⟨f, fun z => g (by omega)⟩
theorem pk_lt {x y : Int32} {A B : Prop} (a b : Nat) (f : a < b → A) (g : b ≤ a → B) (hx : x = nI a := by rfl) (hy : y = nI b := by rfl) (ha : a < 2 ^ 31 := by omega) (hb : b < 2 ^ 31 := by omega) : (x < y → A) ∧ (¬ x < y → B) := by
  subst hx hy
  rw [nI_ltI ha hb]
  exact ⟨f, fun z => g (by omega)⟩
theorem pk_eq {x y : Int32} {A B : Prop} (a b : Nat) (f : a = b → A) (g : a ≠ b → B) (hx : x = nI a := by rfl) (hy : y = nI b := by rfl) (ha : a < 2 ^ 31 := by omega) (hb : b < 2 ^ 31 := by omega) : (x = y → A) ∧ (¬ x = y → B) := by
  subst hx hy
  rw [nI_eq ha hb]
  exact ⟨f, g⟩
theorem pk_in {x : Int32} (n N : Nat) (h : n < N) (hx : x = nI n := by rfl) (hN : N < 2 ^ 31 := by omega) : vp_in x N := by
  subst hx
  exact vp_in_nI h hN
theorem pk_cl {x : Int32} (n : Nat) (hx : x = nI n := by rfl) (h : n < 2 ^ 31 := by omega) : x.toNatClampNeg = n := by
  subst hx
  exact nI_clamp h
theorem pk_tn {n : Nat} (h : n < 2 ^ 32) : (nI n).toBitVec.toNat = n := Nat.mod_eq_of_lt h
theorem pk_and (x : Int32) {m : Int32} (k : Nat) (hm : m.toBitVec.toNat = 2 ^ k - 1) : x &&& m = nI (x.toBitVec.toNat % 2 ^ k) := by
  apply Int32.toBitVec_inj.mp
  apply BitVec.eq_of_toNat_eq
  rw [Int32.toBitVec_and, BitVec.toNat_and, hm, Nat.and_two_pow_sub_one_eq_mod]
  show _ = (BitVec.ofNat 32 _).toNat
  rw [BitVec.toNat_ofNat]
  exact (Nat.mod_eq_of_lt (Nat.lt_of_le_of_lt (Nat.mod_le _ _) x.toBitVec.isLt)).symm
theorem pk_andN {n : Nat} (h : n < 2 ^ 32) {m : Int32} (k : Nat) (hm : m.toBitVec.toNat = 2 ^ k - 1) : nI n &&& m = nI (n % 2 ^ k) := by
  rw [pk_and _ k hm, pk_tn h]
theorem pk_andE (x : Int32) {m : Int32} (k : Nat) (hm : m.toBitVec.toNat = 2 ^ k - 1) : ∃ j : Nat, j < 2 ^ k ∧ x &&& m = nI j := ⟨_, Nat.mod_lt _ (Nat.two_pow_pos k), pk_and x k hm⟩
theorem pk_vb (z : Int32) : vp_nar .byte z.toInt8.toInt32 = z.toInt8.toInt32 := by rw [vp_nar_byte]; simp
end
section
/-! bits of an int: test, set, clear; small ints; counting -/
def zb_bb (b : Bool) : Int32 := if b then 1 else 0
theorem zb_1 (i : Nat) : bt 1 i = decide (i = 0) := by
  rcases Nat.lt_or_ge i 32 with h | h
  · exact (by decide +kernel : ∀ i, i < 32 → bt 1 i = decide (i = 0)) i h
  · rw [b_big h, decide_eq_false (by omega)]
theorem zb_bbt (b : Bool) (i : Nat) : bt (zb_bb b) i = (b && decide (i = 0)) := by
  cases b
  · exact b_0 i
  · rw [show zb_bb true = 1 from rfl, zb_1, Bool.true_and]
theorem zb_tst {k : Nat} (hk : k < 32) (x : Int32) : ((x >>> (nI k &&& 31)) &&& 1) = zb_bb (bt x k) := by
  apply b_ext
  intro i hi
  rw [b_and, b_sshr k hk x hi, zb_1, zb_bbt]
  by_cases h : i = 0
  · subst h
    rw [if_pos (by omega)]
    rfl
  · rw [decide_eq_false h, Bool.and_false, Bool.and_false]
theorem zb_bb0 {b : Bool} : zb_bb b = 0 ↔ b = false := by cases b <;> decide
theorem zb_bb1 {b : Bool} : zb_bb b = 1 ↔ b = true := by cases b <;> decide
theorem zb_nf {b : Bool} (h : ¬ b = false) : b = true := by cases b <;> simp_all
theorem zb_nt {b : Bool} (h : ¬ b = true) : b = false := by cases b <;> simp_all
theorem zb_ee {a b : Bool} (h : a = true ↔ b = true) : a = b := by cases a <;> cases b <;> simp_all
theorem zb_br {A B : Prop} {x : Int32} {k : Nat} (hk : k < 32) (a : bt x k = false → A) (b : bt x k = true → B) : (((x >>> (nI k &&& 31)) &&& 1) = 0 → A) ∧ (¬ ((x >>> (nI k &&& 31)) &&& 1) = 0 → B) := by
  rw [zb_tst hk, zb_bb0]
  exact ⟨a, fun h => b (zb_nf h)⟩
theorem zb_br1 {A B : Prop} {x : Int32} {k : Nat} (hk : k < 32) (a : bt x k = true → A) (b : bt x k = false → B) : (((x >>> (nI k &&& 31)) &&& 1) = 1 → A) ∧ (¬ ((x >>> (nI k &&& 31)) &&& 1) = 1 → B) := by
  rw [zb_tst hk, zb_bb1]
  exact ⟨a, fun h => b (zb_nt h)⟩
theorem zb_bz {A B : Prop} {b : Bool} (f : b = false → A) (g : b = true → B) : (zb_bb b = 0 → A) ∧ (¬ zb_bb b = 0 → B) := by
  rw [zb_bb0]
  exact ⟨f, fun h => g (zb_nf h)⟩
theorem zb_one {k : Nat} (hk : k < 32) (i : Nat) : bt ((1 : Int32) <<< (nI k &&& 31)) i = decide (i = k) := by
  rcases Nat.lt_or_ge i 32 with h | h
  · rw [b_shl k hk 1 h, zb_1]
    by_cases e : i = k
    · subst e
      simp
    · rw [decide_eq_false e]
      by_cases z : k ≤ i
      · rw [decide_eq_false (show ¬ i - k = 0 by omega), Bool.and_false]
      · rw [decide_eq_false z, Bool.false_and]
  · rw [b_big h, decide_eq_false (by omega)]
theorem zb_set {k : Nat} (hk : k < 32) (x : Int32) (i : Nat) : bt (x ||| ((1 : Int32) <<< (nI k &&& 31))) i = (bt x i || decide (i = k)) := by rw [b_or, zb_one hk]
theorem zb_not (x : Int32) {i : Nat} (hi : i < 32) : bt (x ^^^ (-1)) i = !bt x i := by rw [b_xor, b_m1 i hi, Bool.xor_true]
theorem zb_clr {k : Nat} (hk : k < 32) (x : Int32) (i : Nat) : bt (x &&& (((1 : Int32) <<< (nI k &&& 31)) ^^^ (-1))) i = (bt x i && !decide (i = k)) := by
  rcases Nat.lt_or_ge i 32 with h | h
  · rw [b_and, zb_not _ h, zb_one hk]
  · rw [b_big h, b_big h, Bool.false_and]
theorem zb_bbshl {k : Nat} (hk : k < 32) (b : Bool) (i : Nat) : bt (zb_bb b <<< (nI k &&& 31)) i = (b && decide (i = k)) := by
  cases b
  · rcases Nat.lt_or_ge i 32 with h | h
    · rw [b_shl k hk _ h, show zb_bb false = 0 from rfl, b_0, Bool.and_false, Bool.false_and]
    · rw [b_big h, Bool.false_and]
  · rw [show zb_bb true = 1 from rfl, zb_one hk, Bool.true_and]
theorem zb_lt {x : Int32} {n : Nat} (h : ∀ i, n ≤ i → bt x i = false) : x.toBitVec.toNat < 2 ^ n := by
  apply Nat.lt_pow_two_of_testBit
  intro i hi
  exact h i hi
theorem zb_self (x : Int32) : x = nI x.toBitVec.toNat := by
  apply Int32.toBitVec_inj.1
  show x.toBitVec = BitVec.ofNat 32 x.toBitVec.toNat
  simp
theorem zb_byteN : ∀ n, n < 32 → vp_nar .byte (nI n).toInt8.toInt32 = nI n := by
  intro n hn
  rw [pk_vb]
  exact (by decide +kernel : ∀ n, n < 32 → (nI n).toInt8.toInt32 = nI n) n hn
theorem zb_byte {x : Int32} (h : ∀ i, 5 ≤ i → bt x i = false) : vp_nar .byte x.toInt8.toInt32 = x := by
  have h1 := zb_lt h
  rw [zb_self x]
  exact zb_byteN _ h1
theorem zb_nz {x : Int32} (h : ¬ x = 0) : ∃ i, bt x i = true := by
  by_cases e : ∃ i, bt x i = true
  · exact e
  · exact absurd (b_ext (fun i _ => by rw [b_0]; exact zb_nt (fun z => e ⟨i, z⟩))) h
theorem zb_z {x : Int32} (h : ∀ i, bt x i = false) : x = 0 := b_ext (fun i _ => by rw [b_0]; exact h i)
theorem zb_5 {x : Int32} {i : Nat} (h : ∀ i, 5 ≤ i → bt x i = false) (hi : bt x i = true) : i < 5 := by
  rcases Nat.lt_or_ge i 5 with z | z
  · exact z
  · rw [h i z] at hi
    cases hi
theorem zb_us {f : Nat → Int32} {k : Nat} : upd f k (f k) = f := by
  funext j
  by_cases e : j = k
  · subst e
    exact pk_us
  · exact pk_un e
/-! counting -/
def zc_n (f : Nat → Bool) : Nat → Nat
  | 0 => 0
  | n + 1 => zc_n f n + (if f n = true then 1 else 0)
theorem zc_le (f : Nat → Bool) : ∀ n, zc_n f n ≤ n
  | 0 => Nat.le_refl 0
  | n + 1 => by
    have h := zc_le f n
    show zc_n f n + (if f n = true then 1 else 0) ≤ n + 1
    by_cases e : f n = true
    · rw [if_pos e]; omega
    · rw [if_neg e]; omega
theorem zc_mono {f g : Nat → Bool} : ∀ n, (∀ i, i < n → f i = true → g i = true) → zc_n f n ≤ zc_n g n
  | 0, _ => Nat.le_refl 0
  | n + 1, h => by
    have h1 := zc_mono n (fun i hi => h i (by omega))
    show zc_n f n + (if f n = true then 1 else 0) ≤ zc_n g n + (if g n = true then 1 else 0)
    by_cases e : f n = true
    · rw [if_pos e, if_pos (h n (by omega) e)]; omega
    · rw [if_neg e]; omega
theorem zc_lt {f g : Nat → Bool} {i : Nat} : ∀ n, (∀ i, i < n → f i = true → g i = true) → i < n → f i = false → g i = true → zc_n f n < zc_n g n
  | 0, _, hi, _, _ => absurd hi (Nat.not_lt_zero i)
  | n + 1, h, hi, hf, hg => by
    show zc_n f n + (if f n = true then 1 else 0) < zc_n g n + (if g n = true then 1 else 0)
    by_cases e : i = n
    · have h1 := zc_mono n (fun i hi => h i (by omega))
      subst e
      rw [hf, hg, if_pos rfl, if_neg (by decide)]; omega
    · have h1 := zc_lt n (fun i hi => h i (by omega)) (by omega) hf hg
      by_cases e : f n = true
      · rw [if_pos e, if_pos (h n (by omega) e)]; omega
      · rw [if_neg e]; omega
theorem zc_congr {f g : Nat → Bool} {n : Nat} (h : ∀ i, i < n → f i = g i) : zc_n f n = zc_n g n :=
  Nat.le_antisymm (zc_mono n (fun i hi e => by rw [← h i hi]; exact e)) (zc_mono n (fun i hi e => by rw [h i hi]; exact e))
theorem zc_eq {f g : Nat → Bool} {n : Nat} (h : ∀ i, i < n → f i = true → g i = true) (e : zc_n f n = zc_n g n) : ∀ i, i < n → f i = g i := by
  intro i hi
  by_cases hf : f i = true
  · rw [hf, h i hi hf]
  · by_cases hg : g i = true
    · have := zc_lt n h hi (zb_nt hf) hg
      omega
    · rw [zb_nt hf, zb_nt hg]
theorem zc_add (f : Nat → Bool) (a : Nat) : ∀ b, zc_n f (a + b) = zc_n f a + zc_n (fun i => f (a + i)) b
  | 0 => rfl
  | b + 1 => by
    show zc_n f (a + b) + (if f (a + b) = true then 1 else 0) = zc_n f a + (zc_n (fun i => f (a + i)) b + (if f (a + b) = true then 1 else 0))
    rw [zc_add f a b, Nat.add_assoc]
end
section
/-! the least relations that the rules give; tables that are sound and closed answer by them -/
def zd_nv (f : Nat → Int32) (k : Nat) : Nat := (f k).toNatClampNeg
theorem zd_nve {f : Nat → Int32} {k n : Nat} (h : f k = nI n) (hn : n < 2 ^ 31) : zd_nv f k = n := by
  unfold zd_nv
  rw [h, nI_clamp hn]
def zd_sy (S : Nat → Nat → Nat → Prop) (f q r x y : Nat) : Prop :=
  (f = 0 ∧ S q x y) ∨ (f = 1 ∧ S q y x) ∨ (f = 2 ∧ ∃ z, z < 5 ∧ S q x z ∧ S r z y) ∨ (f = 3 ∧ S q x y ∧ S r x y) ∨ (f = 4 ∧ S q x y ∧ ∃ z, z < 5 ∧ S r x z)
theorem zd_sym {S T : Nat → Nat → Nat → Prop} {f q r x y : Nat} (h : ∀ p x y, S p x y → T p x y) (H : zd_sy S f q r x y) : zd_sy T f q r x y := by
  rcases H with ⟨e, a⟩ | ⟨e, a⟩ | ⟨e, z, hz, a, b⟩ | ⟨e, a, b⟩ | ⟨e, a, z, hz, b⟩
  · exact Or.inl ⟨e, h _ _ _ a⟩
  · exact Or.inr (Or.inl ⟨e, h _ _ _ a⟩)
  · exact Or.inr (Or.inr (Or.inl ⟨e, z, hz, h _ _ _ a, h _ _ _ b⟩))
  · exact Or.inr (Or.inr (Or.inr (Or.inl ⟨e, h _ _ _ a, h _ _ _ b⟩)))
  · exact Or.inr (Or.inr (Or.inr (Or.inr ⟨e, h _ _ _ a, z, hz, h _ _ _ b⟩)))
theorem zd_symB {S T : Nat → Nat → Nat → Prop} {f q r x y : Nat} (hq : q < 5) (hr : r < 5) (hx : x < 5) (hy : y < 5) (h : ∀ p x y, p < 5 → x < 5 → y < 5 → S p x y → T p x y) (H : zd_sy S f q r x y) : zd_sy T f q r x y := by
  rcases H with ⟨e, a⟩ | ⟨e, a⟩ | ⟨e, z, hz, a, b⟩ | ⟨e, a, b⟩ | ⟨e, a, z, hz, b⟩
  · exact Or.inl ⟨e, h _ _ _ hq hx hy a⟩
  · exact Or.inr (Or.inl ⟨e, h _ _ _ hq hy hx a⟩)
  · exact Or.inr (Or.inr (Or.inl ⟨e, z, hz, h _ _ _ hq hx hz a, h _ _ _ hr hz hy b⟩))
  · exact Or.inr (Or.inr (Or.inr (Or.inl ⟨e, h _ _ _ hq hx hy a, h _ _ _ hr hx hy b⟩)))
  · exact Or.inr (Or.inr (Or.inr (Or.inr ⟨e, h _ _ _ hq hx hy a, z, hz, h _ _ _ hr hx hz b⟩)))
def zd_cl (pr : Int32) (gv F H Q R : Nat → Int32) (S : Nat → Nat → Nat → Prop) : Prop :=
  (∀ p x y, p < 2 → x < 5 → y < 5 → bt (gv (p * 5 + x)) y = true → S p x y) ∧
  (∀ k x y, k < 8 → x < 5 → y < 5 → bt pr k = true → zd_sy S (zd_nv F k) (zd_nv Q k) (zd_nv R k) x y → S (zd_nv H k) x y)
def zd_D (pr : Int32) (gv F H Q R : Nat → Int32) (p x y : Nat) : Prop := ∀ S : Nat → Nat → Nat → Prop, zd_cl pr gv F H Q R S → S p x y
noncomputable def zd_B (pr : Int32) (gv F H Q R : Nat → Int32) (p x y : Nat) : Bool := @decide (zd_D pr gv F H Q R p x y) (Classical.propDecidable _)
def zd_cv (pr : Int32) (gv F H Q R : Nat → Int32) : Prop :=
  (∀ i, 8 ≤ i → bt pr i = false) ∧ (∀ j i, j < 10 → 5 ≤ i → bt (gv j) i = false) ∧
  (∀ k, k < 8 → bt pr k = true → ∃ f h q r : Nat, f < 5 ∧ 2 ≤ h ∧ h < 5 ∧ q < 5 ∧ r < 5 ∧ F k = nI f ∧ H k = nI h ∧ Q k = nI q ∧ R k = nI r)
section
variable {pr : Int32} {gv F H Q R : Nat → Int32}
theorem zd_Bt {p x y : Nat} : zd_B pr gv F H Q R p x y = true ↔ zd_D pr gv F H Q R p x y := @decide_eq_true_iff _ (Classical.propDecidable _)
theorem zd_Dcl : zd_cl pr gv F H Q R (zd_D pr gv F H Q R) :=
  ⟨fun p x y hp hx hy h S hS => hS.1 p x y hp hx hy h, fun k x y hk hx hy hb h S hS => hS.2 k x y hk hx hy hb (zd_sym (fun p x y d => d S hS) h)⟩
theorem zd_bd {p x y : Nat} (h : zd_D pr gv F H Q R p x y) : x < 5 ∧ y < 5 :=
  h (fun _ x y => x < 5 ∧ y < 5) ⟨fun _ _ _ _ hx hy _ => ⟨hx, hy⟩, fun _ _ _ _ hx hy _ _ => ⟨hx, hy⟩⟩
theorem zd_low (hc : zd_cv pr gv F H Q R) {p x y : Nat} (hp : p < 2) (h : zd_D pr gv F H Q R p x y) : bt (gv (p * 5 + x)) y = true := by
  refine h (fun p x y => p < 2 → bt (gv (p * 5 + x)) y = true) ⟨fun p x y _ _ _ h _ => h, fun k x y hk hx hy hb _ h2 => ?_⟩ hp
  obtain ⟨f, h, q, r, _, hh, hh5, _, _, _, eH, _, _⟩ := hc.2.2 k hk hb
  rw [zd_nve eH (by omega)] at h2
  omega
theorem zd_mono {pr' : Int32} (hp : ∀ k, k < 8 → bt pr k = true → bt pr' k = true) {p x y : Nat} (h : zd_D pr gv F H Q R p x y) : zd_D pr' gv F H Q R p x y :=
  fun S hS => h S ⟨hS.1, fun k x y hk hx hy hb => hS.2 k x y hk hx hy (hp k hk hb)⟩
theorem zd_rule (hc : zd_cv pr gv F H Q R) {k : Nat} (hk : k < 8) (hb : bt pr k = true) : zd_nv F k < 5 ∧ 2 ≤ zd_nv H k ∧ zd_nv H k < 5 ∧ zd_nv Q k < 5 ∧ zd_nv R k < 5 ∧ F k = nI (zd_nv F k) ∧ H k = nI (zd_nv H k) ∧ Q k = nI (zd_nv Q k) ∧ R k = nI (zd_nv R k) := by
  obtain ⟨f, h, q, r, hf, hh, hh5, hq, hr, eF, eH, eQ, eR⟩ := hc.2.2 k hk hb
  rw [zd_nve eF (by omega), zd_nve eH (by omega), zd_nve eQ (by omega), zd_nve eR (by omega)]
  exact ⟨hf, hh, hh5, hq, hr, eF, eH, eQ, eR⟩
end
/-! tables -/
def zd_tb (gv an : Nat → Int32) (p x : Nat) : Int32 := if p < 2 then gv (p * 5 + x) else an (p * 5 + x)
def zd_T (gv an : Nat → Int32) (p x y : Nat) : Prop := bt (zd_tb gv an p x) y = true
def zd_A (as : Int32) (p x : Nat) : Prop := 2 ≤ p → bt as (p * 5 + x) = true
def zd_so (pr : Int32) (gv F H Q R an : Nat → Int32) : Prop := ∀ p x y, 2 ≤ p → p < 5 → x < 5 → bt (an (p * 5 + x)) y = true → zd_D pr gv F H Q R p x y
def zd_sub (as : Int32) (gv an : Nat → Int32) (f q r x : Nat) : Prop :=
  (f = 1 → ∀ y, y < 5 → zd_A as q y) ∧ (f ≠ 1 → zd_A as q x) ∧ (f = 2 → ∀ z, z < 5 → zd_T gv an q x z → zd_A as r z) ∧ (f = 3 ∨ f = 4 → ∀ y, zd_T gv an q x y → zd_A as r x)
def zd_clat (pr : Int32) (gv F H Q R an : Nat → Int32) (as : Int32) (h x : Nat) : Prop :=
  ∀ k, k < 8 → bt pr k = true → zd_nv H k = h → zd_sub as gv an (zd_nv F k) (zd_nv Q k) (zd_nv R k) x ∧ ∀ y, y < 5 → zd_sy (zd_T gv an) (zd_nv F k) (zd_nv Q k) (zd_nv R k) x y → zd_T gv an h x y
section
variable {pr as : Int32} {gv F H Q R an : Nat → Int32}
theorem zd_tlo {p x : Nat} (h : p < 2) : zd_tb gv an p x = gv (p * 5 + x) := if_pos h
theorem zd_thi {p x : Nat} (h : 2 ≤ p) : zd_tb gv an p x = an (p * 5 + x) := if_neg (by omega)
theorem zd_TD (hc : zd_cv pr gv F H Q R) (hs : zd_so pr gv F H Q R an) {p x y : Nat} (hp : p < 5) (hx : x < 5) (h : zd_T gv an p x y) : zd_D pr gv F H Q R p x y := by
  unfold zd_T at h
  by_cases h2 : p < 2
  · rw [zd_tlo h2] at h
    exact zd_Dcl.1 p x y h2 hx (zb_5 (fun i hi => hc.2.1 (p * 5 + x) i (by omega) hi) h) h
  · rw [zd_thi (by omega)] at h
    exact hs p x y (by omega) hp hx h
theorem zd_T5 (hc : zd_cv pr gv F H Q R) (hs : zd_so pr gv F H Q R an) {p x y : Nat} (hp : p < 5) (hx : x < 5) (h : zd_T gv an p x y) : y < 5 := (zd_bd (zd_TD hc hs hp hx h)).2
theorem zd_complete (hc : zd_cv pr gv F H Q R) (hcl : ∀ p x, 2 ≤ p → p < 5 → x < 5 → bt as (p * 5 + x) = true → zd_clat pr gv F H Q R an as p x) {p x y : Nat} (hA : zd_A as p x) (h : zd_D pr gv F H Q R p x y) : zd_T gv an p x y := by
  refine h (fun p x y => zd_A as p x → zd_T gv an p x y) ⟨fun p x y hp _ _ h _ => ?_, fun k x y hk hx hy hb hs hA => ?_⟩ hA
  · unfold zd_T
    rw [zd_tlo hp]
    exact h
  · obtain ⟨_, hh, hh5, _⟩ := zd_rule hc hk hb
    obtain ⟨⟨s1, s2, s3, s4⟩, cl⟩ := hcl (zd_nv H k) x hh hh5 hx (hA hh) k hk hb rfl
    refine cl y hy ?_
    rcases hs with ⟨e, a⟩ | ⟨e, a⟩ | ⟨e, z, hz, a, b⟩ | ⟨e, a, b⟩ | ⟨e, a, z, hz, b⟩
    · exact Or.inl ⟨e, a (s2 (by omega))⟩
    · exact Or.inr (Or.inl ⟨e, a (s1 e y hy)⟩)
    · have a' := a (s2 (by omega))
      exact Or.inr (Or.inr (Or.inl ⟨e, z, hz, a', b (s3 e z hz a')⟩))
    · have a' := a (s2 (by omega))
      exact Or.inr (Or.inr (Or.inr (Or.inl ⟨e, a', b (s4 (Or.inl e) y a')⟩)))
    · have a' := a (s2 (by omega))
      exact Or.inr (Or.inr (Or.inr (Or.inr ⟨e, a', z, hz, b (s4 (Or.inr e) y a')⟩)))
theorem zd_step (hc : zd_cv pr gv F H Q R) (hs : zd_so pr gv F H Q R an) {k x y : Nat} (hk : k < 8) (hb : bt pr k = true) (hx : x < 5) (hy : y < 5) (h : zd_sy (zd_T gv an) (zd_nv F k) (zd_nv Q k) (zd_nv R k) x y) : zd_D pr gv F H Q R (zd_nv H k) x y := by
  obtain ⟨_, _, _, hq, hr, _⟩ := zd_rule hc hk hb
  exact zd_Dcl.2 k x y hk hx hy hb (zd_symB hq hr hx hy (fun p x y hp hx hy t => zd_TD hc hs hp hx t) h)
theorem zd_Amono {as' : Int32} (h : ∀ i, bt as i = true → bt as' i = true) {p x : Nat} (hA : zd_A as p x) : zd_A as' p x := fun z => h _ (hA z)
theorem zd_submono {as' : Int32} (h : ∀ i, bt as i = true → bt as' i = true) {f q r x : Nat} (hA : zd_sub as gv an f q r x) : zd_sub as' gv an f q r x :=
  ⟨fun e y hy => zd_Amono h (hA.1 e y hy), fun e => zd_Amono h (hA.2.1 e), fun e z hz t => zd_Amono h (hA.2.2.1 e z hz t), fun e y t => zd_Amono h (hA.2.2.2 e y t)⟩
end
/-! progress of the tables -/
def zm_f (as : Int32) (an : Nat → Int32) (i : Nat) : Bool := if i < 15 then bt as (10 + i) else bt (an (10 + (i - 15) / 5)) ((i - 15) % 5)
def zm_n (as : Int32) (an : Nat → Int32) : Nat := zc_n (zm_f as an) 90
def zg_r (as fr : Int32) (an : Nat → Int32) (as' fr' : Int32) (an' : Nat → Int32) : Prop :=
  (∀ i, bt as i = true → bt as' i = true) ∧ (∀ j i, bt (an j) i = true → bt (an' j) i = true) ∧ ((as' = as ∧ an' = an ∧ fr' = fr) ∨ (fr' = 1 ∧ zm_n as an < zm_n as' an'))
theorem zg_refl {as fr : Int32} {an : Nat → Int32} : zg_r as fr an as fr an := ⟨fun _ h => h, fun _ _ h => h, Or.inl ⟨rfl, rfl, rfl⟩⟩
theorem zg_trans {as fr as' fr' as2 fr2 : Int32} {an an' an2 : Nat → Int32} (h : zg_r as fr an as' fr' an') (g : zg_r as' fr' an' as2 fr2 an2) : zg_r as fr an as2 fr2 an2 := by
  obtain ⟨h1, h2, h3⟩ := h
  obtain ⟨g1, g2, g3⟩ := g
  refine ⟨fun i z => g1 i (h1 i z), fun j i z => g2 j i (h2 j i z), ?_⟩
  rcases h3 with ⟨rfl, rfl, rfl⟩ | ⟨e, l⟩
  · exact g3
  · rcases g3 with ⟨rfl, rfl, rfl⟩ | ⟨e', l'⟩
    · exact Or.inr ⟨e, l⟩
    · exact Or.inr ⟨e', Nat.lt_trans l l'⟩
theorem zg_0 {as fr as' fr' : Int32} {an an' : Nat → Int32} (h : zg_r as fr an as' fr' an') (z : fr' = 0) : as' = as ∧ an' = an ∧ fr = 0 := by
  rcases h.2.2 with ⟨a, b, c⟩ | ⟨a, _⟩
  · exact ⟨a, b, c ▸ z⟩
  · rw [z] at a
    exact absurd a (by decide)
theorem zm_fmono {as as' : Int32} {an an' : Nat → Int32} (h : ∀ i, bt as i = true → bt as' i = true) (g : ∀ j i, bt (an j) i = true → bt (an' j) i = true) (i : Nat) (e : zm_f as an i = true) : zm_f as' an' i = true := by
  unfold zm_f at e ⊢
  by_cases c : i < 15
  · rw [if_pos c] at e ⊢
    exact h _ e
  · rw [if_neg c] at e ⊢
    exact g _ _ e
theorem zm_as {as as' : Int32} {an : Nat → Int32} (h : ∀ i, bt as i = true → bt as' i = true) {j : Nat} (hj : 10 ≤ j) (hj2 : j < 25) (a : bt as j = false) (b : bt as' j = true) : zm_n as an < zm_n as' an := by
  refine zc_lt (i := j - 10) 90 (fun i _ e => zm_fmono h (fun _ _ z => z) i e) (by omega) ?_ ?_
  · unfold zm_f
    rw [if_pos (by omega), show 10 + (j - 10) = j by omega]
    exact a
  · unfold zm_f
    rw [if_pos (by omega), show 10 + (j - 10) = j by omega]
    exact b
theorem zm_an {as : Int32} {an an' : Nat → Int32} (h : ∀ j i, bt (an j) i = true → bt (an' j) i = true) {j i : Nat} (hj : 10 ≤ j) (hj2 : j < 25) (hi : i < 5) (a : bt (an j) i = false) (b : bt (an' j) i = true) : zm_n as an < zm_n as an' := by
  refine zc_lt (i := 15 + 5 * (j - 10) + i) 90 (fun i _ e => zm_fmono (fun _ z => z) h i e) (by omega) ?_ ?_
  · unfold zm_f
    rw [if_neg (by omega), show 10 + (15 + 5 * (j - 10) + i - 15) / 5 = j by omega, show (15 + 5 * (j - 10) + i - 15) % 5 = i by omega]
    exact a
  · unfold zm_f
    rw [if_neg (by omega), show 10 + (15 + 5 * (j - 10) + i - 15) / 5 = j by omega, show (15 + 5 * (j - 10) + i - 15) % 5 = i by omega]
    exact b
end
section
/-! the component's walks: ask, turned, joined, bring -/
theorem zx_5 {i : Nat} (h : i < 5) : ¬ (5 : Int32) ≤ nI i := lt5' i h
theorem zx_55 : (5 : Int32) ≤ nI 5 := nI_le (a := 5) (b := 5) (by decide) (by decide)
theorem zx_8 {i : Nat} (h : i < 8) : ¬ (8 : Int32) ≤ nI i := nI_ge (b := 8) h (by decide)
theorem zx_88 : (8 : Int32) ≤ nI 8 := nI_le (a := 8) (b := 8) (by decide) (by decide)
theorem zx_25 {i : Nat} (h : i < 25) : ¬ (25 : Int32) ≤ nI i := nI_ge (b := 25) h (by decide)
theorem zx_2525 : (25 : Int32) ≤ nI 25 := nI_le (a := 25) (b := 25) (by decide) (by decide)
theorem zx_cell (p x : Nat) : nI p * 5 + nI x = nI (p * 5 + x) := by
  rw [show (5 : Int32) = nI 5 from rfl, pk_mul, nI_add]
section
variable {pr as fr : Int32} {gv F H Q R an ct : Nat → Int32}
theorem zx_has {post : Int32 → Prop} {k : Nat} (hk : k < 8) (a : bt pr k = false → post 0) (b : bt pr k = true → post 1) : wpX_has post (pr, as, fr, gv, F, H, Q, R, an, ct) (nI k) :=
  br_f (nI_pos (by omega)) (br_f (zx_8 hk) (zb_br (by omega) a b))
theorem zx_hasno {post : Int32 → Prop} {v : Int32} (h : v < 0 ∨ nI 8 ≤ v) (a : post 0) : wpX_has post (pr, as, fr, gv, F, H, Q, R, an, ct) v := by
  by_cases h0 : v < 0
  · exact br_t h0 a
  · exact br_f h0 (br_t (h.resolve_left h0) a)
theorem zx_ask {post : Int32 → SX → Prop} {p x : Nat} (hp : p < 5) (hx : x < 5) (K : ∀ as' fr', zg_r as fr an as' fr' an → zd_A as' p x → post (zd_tb gv an p x) (pr, as', fr', gv, F, H, Q, R, an, ct)) : wpX_ask post (pr, as, fr, gv, F, H, Q, R, an, ct) (nI p) (nI x) := by
  by_cases h2 : 2 ≤ p
  · have et : zd_tb gv an p x = an (nI (p * 5 + x)).toNatClampNeg := by rw [zd_thi h2, nI_clamp (by omega)]
    rw [et] at K
    refine br_t (nI_le (a := 2) h2 (by omega)) (nm_r (zx_cell p x) (zb_br (by omega) (fun hb => ?_) (fun hb => ?_)))
    · refine nm_e ⟨vp_in_nI (by omega) (by omega), ?_⟩
      have hs : ∀ i, bt as i = true → bt (as ||| ((1 : Int32) <<< (nI (p * 5 + x) &&& 31))) i = true := fun i z => by rw [zb_set (by omega), z, Bool.true_or]
      have hn : bt (as ||| ((1 : Int32) <<< (nI (p * 5 + x) &&& 31))) (p * 5 + x) = true := by rw [zb_set (by omega), decide_eq_true rfl, Bool.or_true]
      exact K _ 1 ⟨hs, fun _ _ z => z, Or.inr ⟨rfl, zm_as hs (by omega) (by omega) hb hn⟩⟩ (fun _ => hn)
    · exact ⟨vp_in_nI (by omega) (by omega), K as fr zg_refl (fun _ => hb)⟩
  · have et : zd_tb gv an p x = gv (nI p * 5 + nI x).toNatClampNeg := by rw [zd_tlo (by omega), zx_cell, nI_clamp (by omega)]
    rw [et] at K
    refine br_f (nI_ge (b := 2) (by omega) (by omega)) ⟨?_, K as fr zg_refl (fun z => absurd z h2)⟩
    rw [zx_cell]
    exact vp_in_nI (by omega) (by omega)
theorem zx_turned_l {post : Int32 → SX → Prop} {q x : Nat} (hq : q < 5) (hx : x < 5)
    (K : ∀ v as' fr', zg_r as fr an as' fr' an → (∀ y, y < 5 → zd_A as' q y) → (∀ y, bt v y = (decide (y < 5) && bt (zd_tb gv an q y) x)) → post v (pr, as', fr', gv, F, H, Q, R, an, ct)) :
    ∀ d i v as' fr', i + d = 5 → zg_r as fr an as' fr' an → (∀ y, y < i → zd_A as' q y) → (∀ y, bt v y = (decide (y < i) && bt (zd_tb gv an q y) x)) → wX_turned_5 post (nI q) (nI x) (d + 1) v (nI i) pr as' fr' gv F H Q R an ct := by
  intro d
  induction d with
  | zero =>
    intro i v as' fr' hi hg hA hv
    have e : i = 5 := by omega
    subst e
    exact br_t zx_55 (K v as' fr' hg hA hv)
  | succ d ih =>
    intro i v as' fr' hi hg hA hv
    refine br_f (zx_5 (by omega)) (zx_ask hq (by omega) (fun as2 fr2 hg2 hA2 => ?_))
    refine nm_e (nm_r (nI_1 i) (ih (i + 1) _ as2 fr2 (by omega) (zg_trans hg hg2) (fun y hy => ?_) (fun y => ?_)))
    · by_cases e : y = i
      · subst e
        exact hA2
      · exact zd_Amono hg2.1 (hA y (by omega))
    · rw [b_or, zb_tst (by omega), zb_bbshl (by omega), hv y]
      by_cases e : y = i
      · subst e
        simp
      · rw [decide_eq_false e, Bool.and_false, Bool.or_false]
        have e2 : decide (y < i + 1) = decide (y < i) := decide_eq_decide.mpr (by omega)
        rw [e2]
theorem zx_turned {post : Int32 → SX → Prop} {q x : Nat} (hq : q < 5) (hx : x < 5)
    (K : ∀ v as' fr', zg_r as fr an as' fr' an → (∀ y, y < 5 → zd_A as' q y) → (∀ y, bt v y = (decide (y < 5) && bt (zd_tb gv an q y) x)) → post v (pr, as', fr', gv, F, H, Q, R, an, ct)) :
    wpX_turned post (pr, as, fr, gv, F, H, Q, R, an, ct) (nI q) (nI x) :=
  Exists.intro 6 (zx_turned_l hq hx K 5 0 0 as fr rfl zg_refl (fun y hy => absurd hy (Nat.not_lt_zero y)) (fun y => by rw [b_0, decide_eq_false (Nat.not_lt_zero y), Bool.false_and]))
theorem zx_joined_l {post : Int32 → SX → Prop} {m : Int32} {r : Nat} (hr : r < 5)
    (K : ∀ v as' fr', zg_r as fr an as' fr' an → (∀ z, z < 5 → bt m z = true → zd_A as' r z) → (∀ y, bt v y = true ↔ ∃ z, z < 5 ∧ bt m z = true ∧ bt (zd_tb gv an r z) y = true) → post v (pr, as', fr', gv, F, H, Q, R, an, ct)) :
    ∀ d i v as' fr', i + d = 5 → zg_r as fr an as' fr' an → (∀ z, z < i → bt m z = true → zd_A as' r z) → (∀ y, bt v y = true ↔ ∃ z, z < i ∧ bt m z = true ∧ bt (zd_tb gv an r z) y = true) → wX_joined_5 post m (nI r) (d + 1) v (nI i) pr as' fr' gv F H Q R an ct := by
  intro d
  induction d with
  | zero =>
    intro i v as' fr' hi hg hA hv
    have e : i = 5 := by omega
    subst e
    exact br_t zx_55 (K v as' fr' hg hA hv)
  | succ d ih =>
    intro i v as' fr' hi hg hA hv
    refine br_f (zx_5 (by omega)) (zb_br (by omega) (fun hb => ?_) (fun hb => ?_))
    · refine nm_r (nI_1 i) (ih (i + 1) v as' fr' (by omega) hg (fun z hz hm => ?_) (fun y => ?_))
      · by_cases e : z = i
        · subst e
          rw [hb] at hm
          cases hm
        · exact hA z (by omega) hm
      · rw [hv y]
        constructor
        · rintro ⟨z, hz, a, b⟩
          exact ⟨z, by omega, a, b⟩
        · rintro ⟨z, hz, a, b⟩
          by_cases e : z = i
          · subst e
            rw [hb] at a
            cases a
          · exact ⟨z, by omega, a, b⟩
    · refine zx_ask hr (by omega) (fun as2 fr2 hg2 hA2 => ?_)
      refine nm_e (nm_r (nI_1 i) (ih (i + 1) _ as2 fr2 (by omega) (zg_trans hg hg2) (fun z hz hm => ?_) (fun y => ?_)))
      · by_cases e : z = i
        · subst e
          exact hA2
        · exact zd_Amono hg2.1 (hA z (by omega) hm)
      · rw [b_or, Bool.or_eq_true, hv y]
        constructor
        · rintro (⟨z, hz, a, b⟩ | h)
          · exact ⟨z, by omega, a, b⟩
          · exact ⟨i, by omega, hb, h⟩
        · rintro ⟨z, hz, a, b⟩
          by_cases e : z = i
          · subst e
            exact Or.inr b
          · exact Or.inl ⟨z, by omega, a, b⟩
theorem zx_joined {post : Int32 → SX → Prop} {m : Int32} {r : Nat} (hr : r < 5)
    (K : ∀ v as' fr', zg_r as fr an as' fr' an → (∀ z, z < 5 → bt m z = true → zd_A as' r z) → (∀ y, bt v y = true ↔ ∃ z, z < 5 ∧ bt m z = true ∧ bt (zd_tb gv an r z) y = true) → post v (pr, as', fr', gv, F, H, Q, R, an, ct)) :
    wpX_joined post (pr, as, fr, gv, F, H, Q, R, an, ct) m (nI r) :=
  Exists.intro 6 (zx_joined_l hr K 5 0 0 as fr rfl zg_refl (fun z hz => absurd hz (Nat.not_lt_zero z)) (fun y => by
    rw [b_0]
    exact ⟨fun z => (by cases z), fun ⟨z, hz, _⟩ => absurd hz (Nat.not_lt_zero z)⟩))
theorem zx_bring {post : Int32 → SX → Prop} {k x f q r : Nat} (hk : k < 8) (hx : x < 5) (hf : f < 5) (hq : q < 5) (hr : r < 5) (eF : F k = nI f) (eQ : Q k = nI q) (eR : R k = nI r)
    (h5 : ∀ p x y, p < 5 → x < 5 → zd_T gv an p x y → y < 5)
    (K : ∀ v as' fr', zg_r as fr an as' fr' an → zd_sub as' gv an f q r x → (∀ y, bt v y = true → y < 5) → (∀ y, y < 5 → (bt v y = true ↔ zd_sy (zd_T gv an) f q r x y)) → post v (pr, as', fr', gv, F, H, Q, R, an, ct)) :
    wpX_bring post (pr, as, fr, gv, F, H, Q, R, an, ct) (nI k) (nI x) := by
  have hi : vp_in (nI k) 8 := vp_in_nI hk (by omega)
  have hcl : (nI k).toNatClampNeg = k := nI_clamp (by omega)
  refine And.intro hi (nm_r (show F (nI k).toNatClampNeg = nI f by rw [hcl, eF]) ⟨hi, nm_r (show Q (nI k).toNatClampNeg = nI q by rw [hcl, eQ]) ⟨hi, nm_r (show R (nI k).toNatClampNeg = nI r by rw [hcl, eR]) ?_⟩⟩)
  refine pk_eq f 1 (fun e1 => ?_) (fun n1 => ?_)
  · subst e1
    refine zx_turned hq hx (fun v as' fr' hg hA hv => ?_)
    refine K v as' fr' hg ⟨fun _ => hA, fun z => absurd rfl z, fun z => (by omega), fun z => (by omega)⟩ (fun y hy => ?_) (fun y hy => ?_)
    · rw [hv y, Bool.and_eq_true] at hy
      exact of_decide_eq_true hy.1
    · rw [hv y, decide_eq_true hy, Bool.true_and]
      exact ⟨fun z => Or.inr (Or.inl ⟨rfl, z⟩), fun z => by
        rcases z with ⟨e, a⟩ | ⟨e, a⟩ | ⟨e, _⟩ | ⟨e, _⟩ | ⟨e, _⟩
        · omega
        · exact a
        · omega
        · omega
        · omega⟩
  · refine zx_ask hq hx (fun as1 fr1 hg1 hA1 => ?_)
    refine pk_eq f 0 (fun e0 => ?_) (fun n0 => ?_)
    · subst e0
      refine K _ as1 fr1 hg1 ⟨fun z => absurd z n1, fun _ => hA1, fun z => (by omega), fun z => (by omega)⟩ (fun y hy => h5 q x y hq hx hy) (fun y hy => ?_)
      exact ⟨fun z => Or.inl ⟨rfl, z⟩, fun z => by
        rcases z with ⟨e, a⟩ | ⟨e, a⟩ | ⟨e, _⟩ | ⟨e, _⟩ | ⟨e, _⟩
        · exact a
        · omega
        · omega
        · omega
        · omega⟩
    · refine br_c (fun ez => ?_) (fun nz => ?_)
      · have hno : ∀ y, ¬ zd_T gv an q x y := fun y z => by
          unfold zd_T at z
          rw [ez, b_0] at z
          cases z
        refine K _ as1 fr1 hg1 ⟨fun z => absurd z n1, fun _ => hA1, fun _ z _ t => absurd t (hno z), fun _ y t => absurd t (hno y)⟩ (fun y hy => h5 q x y hq hx hy) (fun y hy => ?_)
        refine ⟨fun z => absurd z (hno y), fun z => ?_⟩
        rcases z with ⟨e, a⟩ | ⟨e, a⟩ | ⟨e, z, _, a, _⟩ | ⟨e, a, _⟩ | ⟨e, a, _⟩
        · omega
        · omega
        · exact absurd a (hno _)
        · exact absurd a (hno _)
        · exact absurd a (hno _)
      · refine pk_eq f 2 (fun e2 => ?_) (fun n2 => ?_)
        · subst e2
          refine zx_joined hr (fun v as2 fr2 hg2 hA2 hv => ?_)
          refine K v as2 fr2 (zg_trans hg1 hg2) ⟨fun z => absurd z n1, fun _ => zd_Amono hg2.1 hA1, fun _ z hz t => hA2 z hz t, fun z => (by omega)⟩ (fun y hy => ?_) (fun y hy => ?_)
          · obtain ⟨z, hz, _, t⟩ := (hv y).mp hy
            exact h5 r z y hr hz t
          · rw [hv y]
            refine ⟨fun z => Or.inr (Or.inr (Or.inl ⟨rfl, z⟩)), fun z => ?_⟩
            rcases z with ⟨e, a⟩ | ⟨e, a⟩ | ⟨e, a⟩ | ⟨e, a, _⟩ | ⟨e, a, _⟩
            · omega
            · omega
            · exact a
            · omega
            · omega
        · refine zx_ask hr hx (fun as2 fr2 hg2 hA2 => ?_)
          have hs : zd_sub as2 gv an f q r x := ⟨fun z => absurd z n1, fun _ => zd_Amono hg2.1 hA1, fun z => absurd z n2, fun _ _ _ => hA2⟩
          have hg := zg_trans hg1 hg2
          refine pk_eq f 3 (fun e3 => ?_) (fun n3 => ?_)
          · subst e3
            refine K _ as2 fr2 hg hs (fun y hy => ?_) (fun y hy => ?_)
            · rw [b_and, Bool.and_eq_true] at hy
              exact h5 q x y hq hx hy.1
            · rw [b_and, Bool.and_eq_true]
              refine ⟨fun z => Or.inr (Or.inr (Or.inr (Or.inl ⟨rfl, z⟩))), fun z => ?_⟩
              rcases z with ⟨e, a⟩ | ⟨e, a⟩ | ⟨e, a⟩ | ⟨e, a⟩ | ⟨e, a, _⟩
              · omega
              · omega
              · omega
              · exact a
              · omega
          · have e4 : f = 4 := by omega
            subst e4
            refine br_c (fun ez2 => ?_) (fun nz2 => ?_)
            · refine K _ as2 fr2 hg hs (fun y hy => ?_) (fun y hy => ?_)
              · rw [b_0] at hy
                cases hy
              · rw [b_0]
                refine ⟨fun z => (by cases z), fun z => ?_⟩
                rcases z with ⟨e, a⟩ | ⟨e, a⟩ | ⟨e, a⟩ | ⟨e, a⟩ | ⟨e, _, z, _, a⟩
                · omega
                · omega
                · omega
                · omega
                · unfold zd_T at a
                  rw [ez2, b_0] at a
                  exact a
            · refine K _ as2 fr2 hg hs (fun y hy => h5 q x y hq hx hy) (fun y hy => ?_)
              obtain ⟨z, hz⟩ := zb_nz nz2
              refine ⟨fun t => Or.inr (Or.inr (Or.inr (Or.inr ⟨rfl, t, z, h5 r x z hr hx hz, hz⟩))), fun z => ?_⟩
              rcases z with ⟨e, a⟩ | ⟨e, a⟩ | ⟨e, a⟩ | ⟨e, a⟩ | ⟨e, a, _⟩
              · omega
              · omega
              · omega
              · omega
              · exact a
end
end
section
/-! the component's walks: work, settle -/
section
variable {pr as fr : Int32} {gv F H Q R an ct : Nat → Int32}
theorem zx_work_l {post : SX → Prop} {h x : Nat} (hc : zd_cv pr gv F H Q R) (hs : zd_so pr gv F H Q R an) (hh : 2 ≤ h) (hh5 : h < 5) (hx : x < 5)
    (K : ∀ as' fr' an', zg_r as fr an as' fr' an' → zd_so pr gv F H Q R an' → (fr' = 0 → zd_clat pr gv F H Q R an' as' h x) → post (pr, as', fr', gv, F, H, Q, R, an', ct)) :
    ∀ d i v as' fr', i + d = 8 → zg_r as fr an as' fr' an →
      (∀ k, k < i → bt pr k = true → zd_nv H k = h → zd_sub as' gv an (zd_nv F k) (zd_nv Q k) (zd_nv R k) x ∧ ∀ y, y < 5 → zd_sy (zd_T gv an) (zd_nv F k) (zd_nv Q k) (zd_nv R k) x y → bt v y = true) →
      (∀ y, bt (an (h * 5 + x)) y = true → bt v y = true) → (∀ y, bt v y = true → zd_D pr gv F H Q R h x y) →
      wX_work_19 post (nI (h * 5 + x)) (nI h) (nI x) (d + 1) v (nI i) pr as' fr' gv F H Q R an ct := by
  intro d
  induction d with
  | zero =>
    intro i v as' fr' hi hg hcl hin hout
    have e : i = 8 := by omega
    subst e
    have hvi : vp_in (nI (h * 5 + x)) 25 := vp_in_nI (by omega) (by omega)
    have hn : (nI (h * 5 + x)).toNatClampNeg = h * 5 + x := nI_clamp (by omega)
    refine br_t zx_88 ⟨hvi, ?_⟩
    rw [hn]
    refine br_c (fun ev => ?_) (fun nv => ⟨hvi, ?_⟩)
    · refine K as' fr' an hg hs (fun _ k hk hb hH => ⟨(hcl k hk hb hH).1, fun y hy t => ?_⟩)
      have t' := (hcl k hk hb hH).2 y hy t
      unfold zd_T
      rw [zd_thi hh, ← ev]
      exact t'
    · have h5 : ∀ i, 5 ≤ i → bt v i = false := fun i hi => zb_nt (fun z => by have := (zd_bd (hout i z)).2; omega)
      have hm : ∀ j i, bt (an j) i = true → bt (upd an (h * 5 + x) v j) i = true := by
        intro j i z
        by_cases e : j = h * 5 + x
        · subst e
          rw [pk_us]
          exact hin i z
        · rw [pk_un e]
          exact z
      obtain ⟨y, hy, hf, ht⟩ : ∃ y, y < 5 ∧ bt (an (h * 5 + x)) y = false ∧ bt v y = true := by
        by_cases ex : ∃ y, y < 5 ∧ bt (an (h * 5 + x)) y = false ∧ bt v y = true
        · exact ex
        · refine absurd (b_ext (fun i _ => ?_)) nv
          refine zb_ee ⟨fun z => ?_, hin i⟩
          have hi5 := zb_5 h5 z
          exact zb_nf (fun hf => ex ⟨i, hi5, hf, z⟩)
      refine nm_r (e' := upd an (h * 5 + x) v) (by rw [zb_byte h5]) (K as' 1 (upd an (h * 5 + x) v) (zg_trans hg ⟨fun _ z => z, hm, Or.inr ⟨rfl, zm_an hm (j := h * 5 + x) (i := y) (by omega) (by omega) hy hf (by rw [pk_us]; exact ht)⟩⟩) (fun p' x' y' hp hp5 hx5 t => ?_) (fun z => absurd z (by decide)))
      by_cases e : p' * 5 + x' = h * 5 + x
      · have e1 : p' = h := by omega
        have e2 : x' = x := by omega
        subst e1 e2
        rw [pk_us] at t
        exact hout y' t
      · rw [pk_un e] at t
        exact hs p' x' y' hp hp5 hx5 t
  | succ d ih =>
    intro i v as' fr' hi hg hcl hin hout
    have hi8 : i < 8 := by omega
    have hcl0 : ∀ (b : bt pr i = false ∨ zd_nv H i ≠ h) k, k < i + 1 → bt pr k = true → zd_nv H k = h → zd_sub as' gv an (zd_nv F k) (zd_nv Q k) (zd_nv R k) x ∧ ∀ y, y < 5 → zd_sy (zd_T gv an) (zd_nv F k) (zd_nv Q k) (zd_nv R k) x y → bt v y = true := by
      intro b k hk hb hH
      by_cases e : k = i
      · subst e
        rcases b with b | b
        · rw [b] at hb
          cases hb
        · exact absurd hH b
      · exact hcl k (by omega) hb hH
    refine br_f (zx_8 hi8) (zx_has hi8 (fun hb => ?_) (fun hb => ?_))
    · exact br_t rfl (nm_r (nI_1 i) (ih (i + 1) v as' fr' (by omega) hg (hcl0 (Or.inl hb)) hin hout))
    · obtain ⟨hf, hH2, hH5, hq, hr, eF, eH, eQ, eR⟩ := zd_rule hc hi8 hb
      refine br_f (by decide) ⟨vp_in_nI hi8 (by omega), ?_⟩
      rw [nI_clamp (show i < 2 ^ 31 by omega)]
      refine pk_eq (zd_nv H i) h (fun eh => ?_) (fun nh => ?_) eH
      · refine zx_bring hi8 hx hf hq hr eF eQ eR (fun p x y hp hx t => zd_T5 hc hs hp hx t) (fun w as2 fr2 hg2 hsub hw5 hw => ?_)
        refine nm_e (nm_r (nI_1 i) (ih (i + 1) _ as2 fr2 (by omega) (zg_trans hg hg2) (fun k hk hb hH => ?_) (fun y hy => ?_) (fun y hy => ?_)))
        · by_cases e : k = i
          · subst e
            refine ⟨hsub, fun y hy t => ?_⟩
            rw [b_or, (hw y hy).mpr t, Bool.or_true]
          · obtain ⟨a, b⟩ := hcl k (by omega) hb hH
            refine ⟨zd_submono hg2.1 a, fun y hy t => ?_⟩
            rw [b_or, b y hy t, Bool.true_or]
        · rw [b_or, hin y hy, Bool.true_or]
        · rw [b_or, Bool.or_eq_true] at hy
          rcases hy with hy | hy
          · exact hout y hy
          · have hy5 := hw5 y hy
            have := zd_step hc hs hi8 hb hx hy5 ((hw y hy5).mp hy)
            rw [eh] at this
            exact this
      · exact nm_r (nI_1 i) (ih (i + 1) v as' fr' (by omega) hg (hcl0 (Or.inr nh)) hin hout)
theorem zx_work {post : SX → Prop} {h x : Nat} (hc : zd_cv pr gv F H Q R) (hs : zd_so pr gv F H Q R an) (hh : 2 ≤ h) (hh5 : h < 5) (hx : x < 5)
    (K : ∀ as' fr' an', zg_r as fr an as' fr' an' → zd_so pr gv F H Q R an' → (fr' = 0 → zd_clat pr gv F H Q R an' as' h x) → post (pr, as', fr', gv, F, H, Q, R, an', ct)) :
    wpX_work post (pr, as, fr, gv, F, H, Q, R, an, ct) (nI (h * 5 + x)) := by
  have e1 : nI (h * 5 + x) / 5 = nI h := by
    rw [show (5 : Int32) = nI 5 from rfl, pk_div (by omega) (by omega) (by omega), show (h * 5 + x) / 5 = h by omega]
  have e2 : nI (h * 5 + x) - nI (h * 5 + x) / 5 * 5 = nI x := by
    rw [show (5 : Int32) = nI 5 from rfl, pk_rem (by omega) (by omega) (by omega), show (h * 5 + x) % 5 = x by omega]
  refine And.intro (by decide) (nm_r e1 ⟨by decide, nm_r e2 ⟨vp_in_nI (by omega) (by omega), ?_⟩⟩)
  refine nm_r (e' := an (h * 5 + x)) (by rw [nI_clamp (show h * 5 + x < 2 ^ 31 by omega)]) ⟨9, ?_⟩
  exact zx_work_l hc hs hh hh5 hx K 8 0 (an (h * 5 + x)) as fr rfl zg_refl (fun k hk => absurd hk (Nat.not_lt_zero k)) (fun y z => z) (fun y z => hs h x y hh hh5 hx z)
theorem zx_round {post : Int32 → SX → Prop} {J : Int32 → Int32 → Int32 → Int32 → (Nat → Int32) → (Nat → Int32) → (Nat → Int32) → (Nat → Int32) → (Nat → Int32) → (Nat → Int32) → (Nat → Int32) → Prop} {x1 x2 : Int32} {t : Nat} (hc : zd_cv pr gv F H Q R)
    (K : ∀ as' fr' an', zg_r as fr an as' fr' an' → zd_so pr gv F H Q R an' → (fr' = 0 → ∀ p x, 2 ≤ p → p < 5 → x < 5 → bt as' (p * 5 + x) = true → zd_clat pr gv F H Q R an' as' p x) → J (nI (t + 1)) pr as' fr' gv F H Q R an' ct) :
    ∀ d i as' fr' an', i + d = 25 → 10 ≤ i → zg_r as fr an as' fr' an' → zd_so pr gv F H Q R an' → (fr' = 0 → ∀ p x, 2 ≤ p → p < 5 → x < 5 → p * 5 + x < i → bt as' (p * 5 + x) = true → zd_clat pr gv F H Q R an' as' p x) →
      wX_settle_36 post J x1 x2 (nI t) (d + 1) (nI i) pr as' fr' gv F H Q R an' ct := by
  intro d
  induction d with
  | zero =>
    intro i as' fr' an' hi h10 hg hs hcl
    have e : i = 25 := by omega
    subst e
    exact br_t zx_2525 (nm_r (nI_1 t) (K as' fr' an' hg hs (fun z p x hp hp5 hx hb => hcl z p x hp hp5 hx (by omega) hb)))
  | succ d ih =>
    intro i as' fr' an' hi h10 hg hs hcl
    refine br_f (zx_25 (by omega)) (zb_br (by omega) (fun hb => ?_) (fun hb => ?_))
    · refine nm_r (nI_1 i) (ih (i + 1) as' fr' an' (by omega) (by omega) hg hs (fun z p x hp hp5 hx hl hb2 => ?_))
      by_cases e : p * 5 + x = i
      · rw [e, hb] at hb2
        cases hb2
      · exact hcl z p x hp hp5 hx (by omega) hb2
    · obtain ⟨h, x, hh, hh5, hx, rfl⟩ : ∃ h x, 2 ≤ h ∧ h < 5 ∧ x < 5 ∧ i = h * 5 + x := ⟨i / 5, i % 5, by omega, by omega, by omega, by omega⟩
      refine zx_work hc hs hh hh5 hx (fun as2 fr2 an2 hg2 hs2 hcl2 => ?_)
      refine nm_r (nI_1 (h * 5 + x)) (ih (h * 5 + x + 1) as2 fr2 an2 (by omega) (by omega) (zg_trans hg hg2) hs2 (fun z p x' hp hp5 hx' hl hb2 => ?_))
      by_cases e : p * 5 + x' = h * 5 + x
      · have e1 : p = h := by omega
        have e2 : x' = x := by omega
        subst e1 e2
        exact hcl2 z
      · obtain ⟨ea, en, ef⟩ := zg_0 hg2 z
        rw [ea, en]
        rw [ea] at hb2
        exact hcl ef p x' hp hp5 hx' (by omega) hb2
theorem zx_fin {post : Int32 → SX → Prop} {p x : Nat} (hc : zd_cv pr gv F H Q R) (hs : zd_so pr gv F H Q R an) (hp : p < 5) (hx : x < 5) (hA : zd_A as p x)
    (hcl : ∀ p x, 2 ≤ p → p < 5 → x < 5 → bt as (p * 5 + x) = true → zd_clat pr gv F H Q R an as p x)
    (K : ∀ v as' fr' an', zd_so pr gv F H Q R an' → (∀ y, bt v y = (decide (y < 5) && zd_B pr gv F H Q R p x y)) → post v (pr, as', fr', gv, F, H, Q, R, an', ct)) :
    wX_settle_73 post (nI p) (nI x) pr as fr gv F H Q R an ct := by
  refine zx_ask hp hx (fun as1 fr1 hg hA1 => K _ as1 fr1 an hs (fun y => ?_))
  refine zb_ee ⟨fun z => ?_, fun z => ?_⟩
  · have d := zd_TD hc hs hp hx z
    rw [decide_eq_true (zd_bd d).2, zd_Bt.mpr d]
    rfl
  · rw [Bool.and_eq_true] at z
    exact zd_complete hc hcl hA (zd_Bt.mp z.2)
theorem zx_settle_l {post : Int32 → SX → Prop} {p x : Nat} (hc : zd_cv pr gv F H Q R) (hp : p < 5) (hx : x < 5)
    (K : ∀ v as' fr' an', zd_so pr gv F H Q R an' → (∀ y, bt v y = (decide (y < 5) && zd_B pr gv F H Q R p x y)) → post v (pr, as', fr', gv, F, H, Q, R, an', ct)) :
    ∀ d i as' fr' an', i + d = 100 → zd_A as' p x → zd_so pr gv F H Q R an' → (fr' ≠ 0 → i ≤ zm_n as' an') →
      (fr' = 0 → ∀ p x, 2 ≤ p → p < 5 → x < 5 → bt as' (p * 5 + x) = true → zd_clat pr gv F H Q R an' as' p x) →
      wX_settle_14 post (nI p) (nI x) (d + 1) (nI i) pr as' fr' gv F H Q R an' ct := by
  intro d
  induction d with
  | zero =>
    intro i as' fr' an' hi hA hs hm hcl
    have e : i = 100 := by omega
    subst e
    refine br_t (nI_le (a := 100) (b := 100) (by decide) (by decide)) ?_
    by_cases z : fr' = 0
    · exact zx_fin hc hs hp hx hA (hcl z) K
    · have h1 := hm z
      have h2 : zm_n as' an' ≤ 90 := zc_le _ 90
      omega
  | succ d ih =>
    intro i as' fr' an' hi hA hs hm hcl
    refine br_f (nI_ge (b := 100) (by omega) (by decide)) (br_c (fun z => zx_fin hc hs hp hx hA (hcl z) K) (fun nz => ⟨16, ?_⟩))
    refine zx_round (as := as') (fr := 0) (an := an') hc (fun as2 fr2 an2 hg2 hs2 hcl2 => ?_) 15 10 as' 0 an' rfl (Nat.le_refl 10) zg_refl hs (fun _ p x hp hp5 hx hl _ => by omega)
    refine ih (i + 1) as2 fr2 an2 (by omega) (zd_Amono hg2.1 hA) hs2 (fun nz2 => ?_) hcl2
    rcases hg2.2.2 with ⟨_, _, c⟩ | ⟨_, l⟩
    · exact absurd c nz2
    · have := hm nz
      omega
theorem zx_settle {post : Int32 → SX → Prop} {p x : Nat} (hc : zd_cv pr gv F H Q R) (hs : zd_so pr gv F H Q R an) (hp : p < 5) (hx : x < 5)
    (K : ∀ v as' fr' an', zd_so pr gv F H Q R an' → (∀ y, bt v y = (decide (y < 5) && zd_B pr gv F H Q R p x y)) → post v (pr, as', fr', gv, F, H, Q, R, an', ct)) :
    wpX_settle post (pr, as, fr, gv, F, H, Q, R, an, ct) (nI p) (nI x) := by
  unfold wpX_settle
  dsimp only
  refine zx_ask hp hx (fun as1 fr1 hg hA => ⟨101, ?_⟩)
  exact zx_settle_l hc hp hx K 100 0 as1 1 an rfl hA hs (fun _ => Nat.zero_le _) (fun z => absurd z (by decide))
end
end
section
/-! the component's walks: forget, turnPair, and the answers -/
def zo_bad (v : Int32) : Prop := v < 0 ∨ nI 5 ≤ v
theorem zo_5 (v : Int32) : zo_bad v ∨ ∃ j : Nat, j < 5 ∧ v = nI j := by
  rcases pk_ix v (n := 5) (by omega) with h | h | h
  · exact Or.inl (Or.inl h)
  · exact Or.inl (Or.inr h)
  · exact Or.inr h
theorem zo_10 : ¬ (1 : Int32) = 0 := by decide
theorem zx_thg {post : Int32 → Prop} {x : Nat} (hx : x < 5) (h : post 1) : wpX_isThing post (nI x) := br_f (nI_pos (by omega)) (br_f (zx_5 hx) h)
theorem zx_thb {post : Int32 → Prop} {v : Int32} (hv : zo_bad v) (h : post 0) : wpX_isThing post v := by
  by_cases h0 : v < 0
  · exact br_t h0 h
  · exact br_f h0 (br_t (hv.resolve_left h0) h)
theorem zx_reg {post : Int32 → Prop} {x : Nat} (hx : x < 5) (h : post 1) : wpX_isRelation post (nI x) := br_f (nI_pos (by omega)) (br_f (zx_5 hx) h)
theorem zx_reb {post : Int32 → Prop} {v : Int32} (hv : zo_bad v) (h : post 0) : wpX_isRelation post v := by
  by_cases h0 : v < 0
  · exact br_t h0 h
  · exact br_f h0 (br_t (hv.resolve_left h0) h)
theorem zx_n0 : vp_nar .byte 0 = 0 := by rw [vp_nar_byte]; decide
theorem zx_so0 {pr : Int32} {gv F H Q R an : Nat → Int32} (h : ∀ j, j < 25 → an j = 0) : zd_so pr gv F H Q R an := by
  intro p x y hp hp5 hx t
  rw [h (p * 5 + x) (by omega), b_0] at t
  cases t
def zx_tp (gv gv' : Nat → Int32) (c y : Nat) (b : Bool) : Prop := (∀ j, j ≠ c → gv' j = gv j) ∧ ∀ i, bt (gv' c) i = if i = y then b else bt (gv c) i
theorem zx_cvtp {pr : Int32} {gv gv' F H Q R : Nat → Int32} {c y : Nat} {b : Bool} (hc : zd_cv pr gv F H Q R) (h : zx_tp gv gv' c y b) (hy : y < 5) : zd_cv pr gv' F H Q R := by
  refine ⟨hc.1, fun j i hj hi => ?_, hc.2.2⟩
  by_cases e : j = c
  · subst e
    rw [h.2 i, if_neg (by omega)]
    exact hc.2.1 j i hj hi
  · rw [h.1 j e]
    exact hc.2.1 j i hj hi
theorem zx_tpback {gv gv' gv2 : Nat → Int32} {c y : Nat} {b : Bool} (h : zx_tp gv gv' c y (!b)) (g : zx_tp gv' gv2 c y b) (e : bt (gv c) y = b) : gv2 = gv := by
  funext j
  by_cases ej : j = c
  · subst ej
    refine b_ext (fun i _ => ?_)
    rw [g.2 i]
    by_cases ei : i = y
    · subst ei
      rw [if_pos rfl, e]
    · rw [if_neg ei, h.2 i, if_neg ei]
  · rw [g.1 j ej, h.1 j ej]
theorem zc_step {f : Nat → Bool} {i : Nat} : nI (zc_n f i) + zb_bb (f i) = nI (zc_n f (i + 1)) := by
  show _ = nI (zc_n f i + (if f i = true then 1 else 0))
  by_cases e : f i = true
  · rw [e, if_pos rfl]
    exact nI_1 _
  · rw [zb_nt e, if_neg (by decide)]
    exact Int32.add_zero _
theorem zb_subs {a b : Int32} : (a &&& (b ^^^ (-1))) = 0 ↔ ∀ i, bt a i = true → bt b i = true := by
  constructor
  · intro h i ha
    rcases Nat.lt_or_ge i 32 with hi | hi
    · have h1 : bt (a &&& (b ^^^ (-1))) i = false := by rw [h, b_0]
      rw [b_and, zb_not _ hi, ha, Bool.true_and] at h1
      exact zb_nf (fun z => by rw [z] at h1; cases h1)
    · rw [b_big hi] at ha
      cases ha
  · intro h
    refine b_ext (fun i hi => ?_)
    rw [b_0, b_and, zb_not _ hi]
    by_cases e : bt a i = true
    · rw [h i e]
      simp
    · rw [zb_nt e, Bool.false_and]
noncomputable def zd_N (pr : Int32) (gv F H Q R : Nat → Int32) (p : Nat) : Nat := zc_n (fun i => zd_B pr gv F H Q R p (i / 5) (i % 5)) 25
def zd_W (pr : Int32) (gv F H Q R : Nat → Int32) (p q : Nat) : Prop := ∀ x y, x < 5 → y < 5 → zd_D pr gv F H Q R p x y → zd_D pr gv F H Q R q x y
def zd_Tr (pr : Int32) (gv F H Q R : Nat → Int32) (p : Nat) : Prop := ∀ x y z, x < 5 → y < 5 → z < 5 → zd_D pr gv F H Q R p x y → zd_D pr gv F H Q R p y z → zd_D pr gv F H Q R p x z
section
variable {pr as fr : Int32} {gv F H Q R an ct : Nat → Int32}
theorem zd_cvsub {pr' : Int32} (hc : zd_cv pr gv F H Q R) (h : ∀ i, bt pr' i = true → bt pr i = true) : zd_cv pr' gv F H Q R :=
  ⟨fun i hi => zb_nt (fun z => by have := h i z; rw [hc.1 i hi] at this; cases this), hc.2.1, fun k hk hb => hc.2.2 k hk (h k hb)⟩
theorem zx_forget_l {post : SX → Prop} (K : ∀ an', (∀ j, j < 25 → an' j = 0) → post (pr, as, fr, gv, F, H, Q, R, an', ct)) :
    ∀ d i an', i + d = 25 → (∀ j, j < i → an' j = 0) → wX_forget_7 post pr as fr (d + 1) (nI i) gv F H Q R an' ct := by
  intro d
  induction d with
  | zero =>
    intro i an' hi h
    have e : i = 25 := by omega
    subst e
    exact br_t zx_2525 (K an' h)
  | succ d ih =>
    intro i an' hi h
    refine br_f (zx_25 (by omega)) ⟨vp_in_nI (by omega) (by omega), ?_⟩
    refine nm_r (e' := upd an' i 0) (by rw [zx_n0, nI_clamp (show i < 2 ^ 31 by omega)]) (nm_r (nI_1 i) (ih (i + 1) _ (by omega) (fun j hj => ?_)))
    by_cases e : j = i
    · subst e
      exact pk_us
    · rw [pk_un e]
      exact h j (by omega)
theorem zx_forget {post : SX → Prop} (K : ∀ an', (∀ j, j < 25 → an' j = 0) → post (pr, 0, fr, gv, F, H, Q, R, an', ct)) : wpX_forget post (pr, as, fr, gv, F, H, Q, R, an, ct) :=
  Exists.intro 26 (zx_forget_l K 25 0 an rfl (fun j hj => absurd hj (Nat.not_lt_zero j)))
theorem zx_turnPair {post : SX → Prop} {g x y : Nat} {b : Bool} (hc : zd_cv pr gv F H Q R) (hg : g < 2) (hx : x < 5) (hy : y < 5)
    (K : ∀ gv' an', zx_tp gv gv' (g * 5 + x) y b → (∀ j, j < 25 → an' j = 0) → post (pr, 0, fr, gv', F, H, Q, R, an', ct)) :
    wpX_turnPair post (pr, as, fr, gv, F, H, Q, R, an, ct) (nI g) (nI x) (nI y) (zb_bb b) := by
  have hin : vp_in (nI (g * 5 + x)) 10 := vp_in_nI (by omega) (by omega)
  have hcl : (nI (g * 5 + x)).toNatClampNeg = g * 5 + x := nI_clamp (by omega)
  have h5 : ∀ i, 5 ≤ i → bt (gv (g * 5 + x)) i = false := fun i hi => hc.2.1 _ i (by omega) hi
  refine nm_r (zx_cell g x) (zb_bz (fun eb => ⟨hin, And.intro hin ?_⟩) (fun eb => ⟨hin, And.intro hin ?_⟩))
  · rw [hcl]
    have h6 : ∀ i, 5 ≤ i → bt (gv (g * 5 + x) &&& (((1 : Int32) <<< (nI y &&& 31)) ^^^ (-1))) i = false := fun i hi => by rw [zb_clr (by omega), h5 i hi, Bool.false_and]
    rw [zb_byte h6]
    refine nm_e (zx_forget (fun an' h0 => K _ an' ⟨fun j hj => pk_un hj, fun i => ?_⟩ h0))
    rw [pk_us, zb_clr (by omega), eb]
    by_cases e : i = y
    · rw [if_pos e, decide_eq_true e]
      simp
    · rw [if_neg e, decide_eq_false e]
      simp
  · rw [hcl]
    have h6 : ∀ i, 5 ≤ i → bt (gv (g * 5 + x) ||| ((1 : Int32) <<< (nI y &&& 31))) i = false := fun i hi => by rw [zb_set (by omega), h5 i hi, decide_eq_false (by omega), Bool.false_or]
    rw [zb_byte h6]
    refine nm_e (zx_forget (fun an' h0 => K _ an' ⟨fun j hj => pk_un hj, fun i => ?_⟩ h0))
    rw [pk_us, zb_set (by omega), eb]
    by_cases e : i = y
    · rw [if_pos e, decide_eq_true e]
      simp
    · rw [if_neg e, decide_eq_false e]
      simp
theorem zx_holds {post : Int32 → SX → Prop} {p x y : Nat} (hc : zd_cv pr gv F H Q R) (hs : zd_so pr gv F H Q R an) (hp : p < 5) (hx : x < 5) (hy : y < 5)
    (K : ∀ as' fr' an', zd_so pr gv F H Q R an' → post (zb_bb (zd_B pr gv F H Q R p x y)) (pr, as', fr', gv, F, H, Q, R, an', ct)) :
    wpX_holds post (pr, as, fr, gv, F, H, Q, R, an, ct) (nI p) (nI x) (nI y) := by
  unfold wpX_holds
  dsimp only
  refine zx_reg hp (br_f zo_10 (zx_thg hx (br_f zo_10 (zx_thg hy (br_f zo_10 (zx_settle hc hs hp hx (fun v as' fr' an' hs' hv => ?_)))))))
  have k := K as' fr' an' hs'
  have e : bt v y = zd_B pr gv F H Q R p x y := by rw [hv y, decide_eq_true hy, Bool.true_and]
  rw [← e] at k
  refine zb_br (by omega) (fun hb => ?_) (fun hb => ?_)
  · rw [hb] at k
    exact k
  · rw [hb] at k
    exact k
theorem zx_holdsbad {post : Int32 → SX → Prop} {v1 v2 v3 : Int32} (h : zo_bad v1 ∨ zo_bad v2 ∨ zo_bad v3) (K : post 0 (pr, as, fr, gv, F, H, Q, R, an, ct)) :
    wpX_holds post (pr, as, fr, gv, F, H, Q, R, an, ct) v1 v2 v3 := by
  unfold wpX_holds
  dsimp only
  rcases zo_5 v1 with b1 | ⟨p, hp, rfl⟩
  · exact zx_reb b1 (br_t rfl K)
  · refine zx_reg hp (br_f zo_10 ?_)
    rcases zo_5 v2 with b2 | ⟨x, hx, rfl⟩
    · exact zx_thb b2 (br_t rfl K)
    · refine zx_thg hx (br_f zo_10 ?_)
      have hng : ∀ j, j < 5 → ¬ zo_bad (nI j) := fun j hj z => z.elim (nI_pos (by omega)) (zx_5 hj)
      exact zx_thb ((h.resolve_left (hng p hp)).resolve_left (hng x hx)) (br_t rfl K)
theorem zx_to_l {post : Int32 → SX → Prop} {p y : Nat} (hc : zd_cv pr gv F H Q R) (hp : p < 5) (hy : y < 5)
    (K : ∀ v as' fr' an', zd_so pr gv F H Q R an' → (∀ x, bt v x = (decide (x < 5) && zd_B pr gv F H Q R p x y)) → post v (pr, as', fr', gv, F, H, Q, R, an', ct)) :
    ∀ d i v as' fr' an', i + d = 5 → zd_so pr gv F H Q R an' → (∀ x, bt v x = (decide (x < i) && zd_B pr gv F H Q R p x y)) → wX_to_5 post (nI p) (nI y) (d + 1) v (nI i) pr as' fr' gv F H Q R an' ct := by
  intro d
  induction d with
  | zero =>
    intro i v as' fr' an' hi hs hv
    have e : i = 5 := by omega
    subst e
    exact br_t zx_55 (K v as' fr' an' hs hv)
  | succ d ih =>
    intro i v as' fr' an' hi hs hv
    refine br_f (zx_5 (by omega)) (zx_holds hc hs hp (by omega) hy (fun as2 fr2 an2 hs2 => zb_bz (fun hb => ?_) (fun hb => ?_)))
    · refine nm_e (nm_r (nI_1 i) (ih (i + 1) _ as2 fr2 an2 (by omega) hs2 (fun x => ?_)))
      rw [b_or, b_0, Bool.or_false, hv x]
      by_cases e : x = i
      · subst e
        rw [hb, Bool.and_false, Bool.and_false]
      · have e2 : decide (x < i + 1) = decide (x < i) := decide_eq_decide.mpr (by omega)
        rw [e2]
    · refine nm_e (nm_r (nI_1 i) (ih (i + 1) _ as2 fr2 an2 (by omega) hs2 (fun x => ?_)))
      rw [zb_set (by omega), hv x]
      by_cases e : x = i
      · subst e
        rw [hb]
        simp
      · have e2 : decide (x < i + 1) = decide (x < i) := decide_eq_decide.mpr (by omega)
        rw [e2, decide_eq_false e, Bool.or_false]
theorem zx_to {post : Int32 → SX → Prop} {p y : Nat} (hc : zd_cv pr gv F H Q R) (hs : zd_so pr gv F H Q R an) (hp : p < 5) (hy : y < 5)
    (K : ∀ v as' fr' an', zd_so pr gv F H Q R an' → (∀ x, bt v x = (decide (x < 5) && zd_B pr gv F H Q R p x y)) → post v (pr, as', fr', gv, F, H, Q, R, an', ct)) :
    wpX_to post (pr, as, fr, gv, F, H, Q, R, an, ct) (nI p) (nI y) :=
  Exists.intro 6 (zx_to_l hc hp hy K 5 0 0 as fr an rfl hs (fun x => by rw [b_0, decide_eq_false (Nat.not_lt_zero x), Bool.false_and]))
theorem zx_tobad_l {post : Int32 → SX → Prop} {v1 v2 : Int32} (h : zo_bad v1 ∨ zo_bad v2) (K : post 0 (pr, as, fr, gv, F, H, Q, R, an, ct)) :
    ∀ d i, i + d = 5 → wX_to_5 post v1 v2 (d + 1) 0 (nI i) pr as fr gv F H Q R an ct := by
  intro d
  induction d with
  | zero =>
    intro i hi
    have e : i = 5 := by omega
    subst e
    exact br_t zx_55 K
  | succ d ih =>
    intro i hi
    refine br_f (zx_5 (by omega)) (zx_holdsbad (h.elim Or.inl (fun z => Or.inr (Or.inr z))) (br_t rfl ?_))
    exact nm_r (e' := 0) (by decide) (nm_r (nI_1 i) (ih (i + 1) (by omega)))
theorem zx_tobad {post : Int32 → SX → Prop} {v1 v2 : Int32} (h : zo_bad v1 ∨ zo_bad v2) (K : post 0 (pr, as, fr, gv, F, H, Q, R, an, ct)) : wpX_to post (pr, as, fr, gv, F, H, Q, R, an, ct) v1 v2 :=
  Exists.intro 6 (zx_tobad_l h K 5 0 rfl)
theorem zx_ones_l {post : Int32 → Prop} {v : Int32} (K : post (nI (zc_n (bt v) 5))) : ∀ d i, i + d = 5 → wX_ones_4 post v (d + 1) (nI (zc_n (bt v) i)) (nI i) := by
  intro d
  induction d with
  | zero =>
    intro i hi
    have e : i = 5 := by omega
    subst e
    exact br_t zx_55 K
  | succ d ih =>
    intro i hi
    exact br_f (zx_5 (by omega)) (nm_r (by rw [zb_tst (by omega), zc_step]) (nm_r (nI_1 i) (ih (i + 1) (by omega))))
theorem zx_ones {post : Int32 → Prop} {v : Int32} (K : post (nI (zc_n (bt v) 5))) : wpX_ones post v := Exists.intro 6 (zx_ones_l K 5 0 rfl)
theorem zx_count_l {post : Int32 → SX → Prop} {p : Nat} (hc : zd_cv pr gv F H Q R) (hp : p < 5)
    (K : ∀ as' fr' an', zd_so pr gv F H Q R an' → post (nI (zd_N pr gv F H Q R p)) (pr, as', fr', gv, F, H, Q, R, an', ct)) :
    ∀ d i as' fr' an', i + d = 5 → zd_so pr gv F H Q R an' → wX_count_13 post (nI p) (d + 1) (nI (zc_n (fun i => zd_B pr gv F H Q R p (i / 5) (i % 5)) (5 * i))) (nI i) pr as' fr' gv F H Q R an' ct := by
  intro d
  induction d with
  | zero =>
    intro i as' fr' an' hi hs
    have e : i = 5 := by omega
    subst e
    exact br_t zx_55 (K as' fr' an' hs)
  | succ d ih =>
    intro i as' fr' an' hi hs
    refine br_f (zx_5 (by omega)) (zx_settle hc hs hp (by omega) (fun v as2 fr2 an2 hs2 hv => zx_ones ?_))
    refine nm_r ?_ (nm_r (nI_1 i) (ih (i + 1) as2 fr2 an2 (by omega) hs2))
    rw [nI_add, show 5 * (i + 1) = 5 * i + 5 by omega, zc_add _ (5 * i) 5]
    refine congrArg (fun z => nI (_ + z)) (zc_congr (fun j hj => ?_))
    show _ = zd_B pr gv F H Q R p ((5 * i + j) / 5) ((5 * i + j) % 5)
    rw [hv j, decide_eq_true hj, Bool.true_and, show (5 * i + j) / 5 = i by omega, show (5 * i + j) % 5 = j by omega]
theorem zx_count {post : Int32 → SX → Prop} {p : Nat} (hc : zd_cv pr gv F H Q R) (hs : zd_so pr gv F H Q R an) (hp : p < 5)
    (K : ∀ as' fr' an', zd_so pr gv F H Q R an' → post (nI (zd_N pr gv F H Q R p)) (pr, as', fr', gv, F, H, Q, R, an', ct)) :
    wpX_count post (pr, as, fr, gv, F, H, Q, R, an, ct) (nI p) := by
  unfold wpX_count
  dsimp only
  exact zx_reg hp (br_f zo_10 ⟨6, zx_count_l hc hp K 5 0 as fr an rfl hs⟩)
theorem zx_within_l {post : Int32 → SX → Prop} {p q : Nat} (hc : zd_cv pr gv F H Q R) (hp : p < 5) (hq : q < 5)
    (K1 : zd_W pr gv F H Q R p q → ∀ as' fr' an', zd_so pr gv F H Q R an' → post 1 (pr, as', fr', gv, F, H, Q, R, an', ct))
    (K0 : ¬ zd_W pr gv F H Q R p q → ∀ as' fr' an', zd_so pr gv F H Q R an' → post 0 (pr, as', fr', gv, F, H, Q, R, an', ct)) :
    ∀ d i as' fr' an', i + d = 5 → zd_so pr gv F H Q R an' → (∀ x y, x < i → zd_D pr gv F H Q R p x y → zd_D pr gv F H Q R q x y) → wX_within_18 post (nI p) (nI q) (d + 1) (nI i) pr as' fr' gv F H Q R an' ct := by
  intro d
  induction d with
  | zero =>
    intro i as' fr' an' hi hs hw
    have e : i = 5 := by omega
    subst e
    exact br_t zx_55 (K1 (fun x y hx _ => hw x y hx) as' fr' an' hs)
  | succ d ih =>
    intro i as' fr' an' hi hs hw
    refine br_f (zx_5 (by omega)) (zx_settle hc hs hp (by omega) (fun v as2 fr2 an2 hs2 hv => zx_settle hc hs2 hq (by omega) (fun w as3 fr3 an3 hs3 hv3 => ?_)))
    refine br_c (fun e => ?_) (fun ne => ?_)
    · refine nm_r (nI_1 i) (ih (i + 1) as3 fr3 an3 (by omega) hs3 (fun x y hx hd => ?_))
      by_cases ex : x = i
      · subst ex
        have h1 := zb_subs.mp e y (by rw [hv y, decide_eq_true (zd_bd hd).2, zd_Bt.mpr hd]; rfl)
        rw [hv3 y, Bool.and_eq_true] at h1
        exact zd_Bt.mp h1.2
      · exact hw x y (by omega) hd
    · refine K0 (fun hW => ne (zb_subs.mpr (fun y hy => ?_))) as3 fr3 an3 hs3
      rw [hv y, Bool.and_eq_true] at hy
      rw [hv3 y, hy.1, zd_Bt.mpr (hW i y (by omega) (of_decide_eq_true hy.1) (zd_Bt.mp hy.2))]
      rfl
theorem zx_within {post : Int32 → SX → Prop} {p q : Nat} (hc : zd_cv pr gv F H Q R) (hs : zd_so pr gv F H Q R an) (hp : p < 5) (hq : q < 5)
    (K1 : zd_W pr gv F H Q R p q → ∀ as' fr' an', zd_so pr gv F H Q R an' → post 1 (pr, as', fr', gv, F, H, Q, R, an', ct))
    (K0 : ¬ zd_W pr gv F H Q R p q → ∀ as' fr' an', zd_so pr gv F H Q R an' → post 0 (pr, as', fr', gv, F, H, Q, R, an', ct)) :
    wpX_within post (pr, as, fr, gv, F, H, Q, R, an, ct) (nI p) (nI q) := by
  unfold wpX_within
  dsimp only
  exact zx_reg hp (br_f zo_10 (zx_reg hq (br_f zo_10 ⟨6, zx_within_l hc hp hq K1 K0 5 0 as fr an rfl hs (fun x y hx => absurd hx (Nat.not_lt_zero x))⟩)))
theorem zx_trans_in {post : Int32 → SX → Prop} {J : Int32 → Int32 → Int32 → Int32 → (Nat → Int32) → (Nat → Int32) → (Nat → Int32) → (Nat → Int32) → (Nat → Int32) → (Nat → Int32) → (Nat → Int32) → Prop} {p x : Nat} {v : Int32} (hc : zd_cv pr gv F H Q R) (hp : p < 5) (hx : x < 5)
    (hv : ∀ y, bt v y = (decide (y < 5) && zd_B pr gv F H Q R p x y))
    (K1 : (∀ y z, y < 5 → zd_D pr gv F H Q R p x y → zd_D pr gv F H Q R p y z → zd_D pr gv F H Q R p x z) → ∀ as' fr' an', zd_so pr gv F H Q R an' → J (nI (x + 1)) pr as' fr' gv F H Q R an' ct)
    (K0 : ¬ zd_Tr pr gv F H Q R p → ∀ as' fr' an', zd_so pr gv F H Q R an' → post 0 (pr, as', fr', gv, F, H, Q, R, an', ct)) :
    ∀ d i as' fr' an', i + d = 5 → zd_so pr gv F H Q R an' → (∀ y z, y < i → zd_D pr gv F H Q R p x y → zd_D pr gv F H Q R p y z → zd_D pr gv F H Q R p x z) → wX_transitive_26 post J (nI p) (nI x) v (d + 1) (nI i) pr as' fr' gv F H Q R an' ct := by
  intro d
  induction d with
  | zero =>
    intro i as' fr' an' hi hs hw
    have e : i = 5 := by omega
    subst e
    exact br_t zx_55 (nm_r (nI_1 x) (K1 hw as' fr' an' hs))
  | succ d ih =>
    intro i as' fr' an' hi hs hw
    refine br_f (zx_5 (by omega)) (zx_settle hc hs hp (by omega) (fun w as2 fr2 an2 hs2 hw2 => zb_br (by omega) (fun hb => ?_) (fun hb => br_c (fun e => ?_) (fun ne => ?_))))
    · refine nm_r (nI_1 i) (ih (i + 1) as2 fr2 an2 (by omega) hs2 (fun y z hy hd hd2 => ?_))
      by_cases ey : y = i
      · subst ey
        rw [hv y, decide_eq_true (zd_bd hd).2, zd_Bt.mpr hd] at hb
        cases hb
      · exact hw y z (by omega) hd hd2
    · refine nm_r (nI_1 i) (ih (i + 1) as2 fr2 an2 (by omega) hs2 (fun y z hy hd hd2 => ?_))
      by_cases ey : y = i
      · subst ey
        have h1 := zb_subs.mp e z (by rw [hw2 z, decide_eq_true (zd_bd hd2).2, zd_Bt.mpr hd2]; rfl)
        rw [hv z, Bool.and_eq_true] at h1
        exact zd_Bt.mp h1.2
      · exact hw y z (by omega) hd hd2
    · refine K0 (fun hT => ne (zb_subs.mpr (fun z hz => ?_))) as2 fr2 an2 hs2
      rw [hw2 z, Bool.and_eq_true] at hz
      rw [hv i, Bool.and_eq_true] at hb
      have hz5 := of_decide_eq_true hz.1
      rw [hv z, hz.1, zd_Bt.mpr (hT x i z hx (by omega) hz5 (zd_Bt.mp hb.2) (zd_Bt.mp hz.2))]
      rfl
theorem zx_trans_l {post : Int32 → SX → Prop} {p : Nat} (hc : zd_cv pr gv F H Q R) (hp : p < 5)
    (K1 : zd_Tr pr gv F H Q R p → ∀ as' fr' an', zd_so pr gv F H Q R an' → post 1 (pr, as', fr', gv, F, H, Q, R, an', ct))
    (K0 : ¬ zd_Tr pr gv F H Q R p → ∀ as' fr' an', zd_so pr gv F H Q R an' → post 0 (pr, as', fr', gv, F, H, Q, R, an', ct)) :
    ∀ d i as' fr' an', i + d = 5 → zd_so pr gv F H Q R an' → (∀ x y z, x < i → y < 5 → zd_D pr gv F H Q R p x y → zd_D pr gv F H Q R p y z → zd_D pr gv F H Q R p x z) → wX_transitive_11 post (nI p) (d + 1) (nI i) pr as' fr' gv F H Q R an' ct := by
  intro d
  induction d with
  | zero =>
    intro i as' fr' an' hi hs hw
    have e : i = 5 := by omega
    subst e
    exact br_t zx_55 (K1 (fun x y z hx hy _ => hw x y z hx hy) as' fr' an' hs)
  | succ d ih =>
    intro i as' fr' an' hi hs hw
    refine br_f (zx_5 (by omega)) (zx_settle hc hs hp (by omega) (fun v as2 fr2 an2 hs2 hv => ⟨6, ?_⟩))
    refine zx_trans_in hc hp (show i < 5 by omega) hv (fun hi2 as3 fr3 an3 hs3 => ?_) K0 5 0 as2 fr2 an2 rfl hs2 (fun y z hy => absurd hy (Nat.not_lt_zero y))
    refine ih (i + 1) as3 fr3 an3 (by omega) hs3 (fun x y z hx hy => ?_)
    by_cases ex : x = i
    · subst ex
      exact hi2 y z hy
    · exact hw x y z (by omega) hy
theorem zx_transitive {post : Int32 → SX → Prop} {p : Nat} (hc : zd_cv pr gv F H Q R) (hs : zd_so pr gv F H Q R an) (hp : p < 5)
    (K1 : zd_Tr pr gv F H Q R p → ∀ as' fr' an', zd_so pr gv F H Q R an' → post 1 (pr, as', fr', gv, F, H, Q, R, an', ct))
    (K0 : ¬ zd_Tr pr gv F H Q R p → ∀ as' fr' an', zd_so pr gv F H Q R an' → post 0 (pr, as', fr', gv, F, H, Q, R, an', ct)) :
    wpX_transitive post (pr, as, fr, gv, F, H, Q, R, an, ct) (nI p) := by
  unfold wpX_transitive
  dsimp only
  exact zx_reg hp (br_f zo_10 ⟨6, zx_trans_l hc hp K1 K0 5 0 as fr an rfl hs (fun x y z hx => absurd hx (Nat.not_lt_zero x))⟩)
theorem zx_keep_l {post : SX → Prop} (hc : zd_cv pr gv F H Q R)
    (K : ∀ as' fr' an' ct', zd_so pr gv F H Q R an' → (∀ p, p < 5 → ct' p = nI (zd_N pr gv F H Q R p)) → post (pr, as', fr', gv, F, H, Q, R, an', ct')) :
    ∀ d i as' fr' an' ct', i + d = 5 → zd_so pr gv F H Q R an' → (∀ p, p < i → ct' p = nI (zd_N pr gv F H Q R p)) → wX_keepCounts_2 post (d + 1) (nI i) pr as' fr' gv F H Q R an' ct' := by
  intro d
  induction d with
  | zero =>
    intro i as' fr' an' ct' hi hs hn
    have e : i = 5 := by omega
    subst e
    exact br_t zx_55 (K as' fr' an' ct' hs hn)
  | succ d ih =>
    intro i as' fr' an' ct' hi hs hn
    refine br_f (zx_5 (by omega)) (zx_count hc hs (by omega) (fun as2 fr2 an2 hs2 => ⟨vp_in_nI (by omega) (by omega), ?_⟩))
    have hN : zd_N pr gv F H Q R i < 32 := Nat.lt_of_le_of_lt (zc_le _ 25) (by decide)
    refine nm_r (e' := upd ct' i (nI (zd_N pr gv F H Q R i))) (by rw [zb_byteN _ hN, nI_clamp (show i < 2 ^ 31 by omega)]) (nm_r (nI_1 i) (ih (i + 1) as2 fr2 an2 _ (by omega) hs2 (fun p hp => ?_)))
    by_cases e : p = i
    · subst e
      exact pk_us
    · rw [pk_un e]
      exact hn p (by omega)
theorem zx_keep {post : SX → Prop} (hc : zd_cv pr gv F H Q R) (hs : zd_so pr gv F H Q R an)
    (K : ∀ as' fr' an' ct', zd_so pr gv F H Q R an' → (∀ p, p < 5 → ct' p = nI (zd_N pr gv F H Q R p)) → post (pr, as', fr', gv, F, H, Q, R, an', ct')) :
    wpX_keepCounts post (pr, as, fr, gv, F, H, Q, R, an, ct) :=
  Exists.intro 6 (zx_keep_l hc K 5 0 as fr an ct rfl hs (fun p hp => absurd hp (Nat.not_lt_zero p)))
theorem zx_differ_l {post : Int32 → SX → Prop} {N : Nat → Nat} (hc : zd_cv pr gv F H Q R) (hN : ∀ p, p < 5 → N p < 32 ∧ ct p = nI (N p))
    (K0 : (∀ p, p < 5 → zd_N pr gv F H Q R p = N p) → ∀ as' fr' an', zd_so pr gv F H Q R an' → post 0 (pr, as', fr', gv, F, H, Q, R, an', ct))
    (K1 : ¬ (∀ p, p < 5 → zd_N pr gv F H Q R p = N p) → ∀ as' fr' an', zd_so pr gv F H Q R an' → post 1 (pr, as', fr', gv, F, H, Q, R, an', ct)) :
    ∀ d i as' fr' an', i + d = 5 → zd_so pr gv F H Q R an' → (∀ p, p < i → zd_N pr gv F H Q R p = N p) → wX_countsDiffer_2 post (d + 1) (nI i) pr as' fr' gv F H Q R an' ct := by
  intro d
  induction d with
  | zero =>
    intro i as' fr' an' hi hs hn
    have e : i = 5 := by omega
    subst e
    exact br_t zx_55 (K0 hn as' fr' an' hs)
  | succ d ih =>
    intro i as' fr' an' hi hs hn
    refine br_f (zx_5 (by omega)) (zx_count hc hs (by omega) (fun as2 fr2 an2 hs2 => ⟨vp_in_nI (by omega) (by omega), ?_⟩))
    have hN' : zd_N pr gv F H Q R i < 32 := Nat.lt_of_le_of_lt (zc_le _ 25) (by decide)
    obtain ⟨hNi, hct⟩ := hN i (by omega)
    rw [nI_clamp (show i < 2 ^ 31 by omega)]
    refine pk_eq (zd_N pr gv F H Q R i) (N i) (fun e => ?_) (fun ne => ?_) rfl hct
    · refine nm_r (nI_1 i) (ih (i + 1) as2 fr2 an2 (by omega) hs2 (fun p hp => ?_))
      by_cases ep : p = i
      · subst ep
        exact e
      · exact hn p (by omega)
    · exact K1 (fun h => ne (h i (by omega))) as2 fr2 an2 hs2
theorem zx_differ {post : Int32 → SX → Prop} {N : Nat → Nat} (hc : zd_cv pr gv F H Q R) (hs : zd_so pr gv F H Q R an) (hN : ∀ p, p < 5 → N p < 32 ∧ ct p = nI (N p))
    (K0 : (∀ p, p < 5 → zd_N pr gv F H Q R p = N p) → ∀ as' fr' an', zd_so pr gv F H Q R an' → post 0 (pr, as', fr', gv, F, H, Q, R, an', ct))
    (K1 : ¬ (∀ p, p < 5 → zd_N pr gv F H Q R p = N p) → ∀ as' fr' an', zd_so pr gv F H Q R an' → post 1 (pr, as', fr', gv, F, H, Q, R, an', ct)) :
    wpX_countsDiffer post (pr, as, fr, gv, F, H, Q, R, an, ct) :=
  Exists.intro 6 (zx_differ_l hc hN K0 K1 5 0 as fr an rfl hs (fun p hp => absurd hp (Nat.not_lt_zero p)))
end
end
section
/-! the reference's walks: in, says, use, work -/
theorem zb_nar (b : Bool) : narrow .boolean (.int (zb_bb b)) = .int (zb_bb b) := by cases b <;> rfl
def zy_T (P : Nat → Int32) (p x y : Nat) : Prop := bt (P p) (5 * x + y) = true
def zy_lo (gv P : Nat → Int32) : Prop := ∀ p c, p < 2 → bt (P p) c = (decide (c < 25) && bt (gv (p * 5 + c / 5)) (c % 5))
def zy_so (pr : Int32) (gv F H Q R P : Nat → Int32) : Prop := ∀ p c, p < 5 → bt (P p) c = true → c < 25 ∧ zd_D pr gv F H Q R p (c / 5) (c % 5)
def zy_cl (F H Q R P : Nat → Int32) (k : Nat) : Prop := ∀ c, c < 25 → zd_sy (zy_T P) (zd_nv F k) (zd_nv Q k) (zd_nv R k) (c / 5) (c % 5) → bt (P (zd_nv H k)) c = true
def zy_full (pr : Int32) (gv F H Q R P : Nat → Int32) : Prop := ∀ p c, p < 5 → bt (P p) c = (decide (c < 25) && zd_B pr gv F H Q R p (c / 5) (c % 5))
def zy_n (P : Nat → Int32) : Nat := zc_n (fun i => bt (P (2 + i / 25)) (i % 25)) 75
theorem zy_mono {P P' : Nat → Int32} (h : ∀ p c, bt (P p) c = true → bt (P' p) c = true) : zy_n P ≤ zy_n P' := zc_mono 75 (fun _ _ z => h _ _ z)
theorem zy_lt {P P' : Nat → Int32} (h : ∀ p c, bt (P p) c = true → bt (P' p) c = true) {p c : Nat} (hp : 2 ≤ p) (hp5 : p < 5) (hc : c < 25) (a : bt (P p) c = false) (b : bt (P' p) c = true) : zy_n P < zy_n P' := by
  have e1 : 2 + (25 * (p - 2) + c) / 25 = p := by omega
  have e2 : (25 * (p - 2) + c) % 25 = c := by omega
  refine zc_lt (i := 25 * (p - 2) + c) 75 (fun _ _ z => h _ _ z) (by omega) ?_ ?_
  · show bt (P (2 + (25 * (p - 2) + c) / 25)) ((25 * (p - 2) + c) % 25) = false
    rw [e1, e2]
    exact a
  · show bt (P' (2 + (25 * (p - 2) + c) / 25)) ((25 * (p - 2) + c) % 25) = true
    rw [e1, e2]
    exact b
theorem zy_ex {Z : Nat → Prop} {i : Nat} {b b' : Bool} (h : b = true ↔ ∃ z, z < i ∧ Z z) (h' : b' = true ↔ (b = true ∨ Z i)) : b' = true ↔ ∃ z, z < i + 1 ∧ Z z := by
  rw [h', h]
  constructor
  · rintro (⟨z, hz, a⟩ | a)
    · exact ⟨z, by omega, a⟩
    · exact ⟨i, by omega, a⟩
  · rintro ⟨z, hz, a⟩
    by_cases e : z = i
    · subst e
      exact Or.inr a
    · exact Or.inl ⟨z, by omega, a⟩
theorem zy_cell (x y : Nat) : 5 * nI x + nI y = nI (5 * x + y) := by
  rw [show (5 : Int32) = nI 5 from rfl, pk_mul, nI_add]
section
variable {th F H Q R P : Nat → Int32}
theorem zy_fg {post : Int32 → Prop} {x : Nat} (hx : x < 5) (h : post 1) : wpY_five post (th, F, H, Q, R, P) (nI x) := br_f (nI_pos (by omega)) (br_f (nI_nlt (a := 4) (b := x) (by omega) (by omega)) h)
theorem zy_fb {post : Int32 → Prop} {v : Int32} (hv : zo_bad v) (h : post 0) : wpY_five post (th, F, H, Q, R, P) v := by
  by_cases h0 : v < 0
  · exact br_t h0 h
  · obtain ⟨j, hj, rfl⟩ := nI_of h0
    have h5 := (nI_leI (by omega) hj).mp (hv.resolve_left h0)
    exact br_f h0 (br_t (nI_lt (a := 4) (b := j) (by omega) hj) h)
theorem zy_in {post : Int32 → Prop} {p x y : Nat} (hp : p < 5) (hx : x < 5) (hy : y < 5) (K : post (zb_bb (bt (P p) (5 * x + y)))) : wpY_in post (th, F, H, Q, R, P) (nI p) (nI x) (nI y) := by
  refine And.intro (vp_in_nI hp (by omega)) ?_
  rw [zy_cell, nI_clamp (show p < 2 ^ 31 by omega)]
  refine zb_br1 (by omega) (fun hb => ?_) (fun hb => ?_)
  · rw [hb] at K
    exact K
  · rw [hb] at K
    exact K
theorem zy_says_l {post : Int32 → Prop} {k x y f q r : Nat} (hk : k < 8) (hx : x < 5) (hy : y < 5) (hf : f < 5) (hq : q < 5) (hr : r < 5) (eF : F k = nI f)
    (K : ∀ b : Bool, (b = true ↔ ∃ z, z < 5 ∧ ((f = 2 ∧ zy_T P q x z ∧ zy_T P r z y) ∨ (f ≠ 2 ∧ zy_T P q x y ∧ zy_T P r x z))) → post (zb_bb b)) :
    ∀ d i (b : Bool), i + d = 5 → (b = true ↔ ∃ z, z < i ∧ ((f = 2 ∧ zy_T P q x z ∧ zy_T P r z y) ∨ (f ≠ 2 ∧ zy_T P q x y ∧ zy_T P r x z))) →
      wY_says_108 post (nI k) (nI x) (nI y) (nI q) (nI r) th F H Q R P (d + 1) (zb_bb b) (nI i) := by
  have eF' : F (nI k).toNatClampNeg = nI f := by rw [nI_clamp (by omega), eF]
  intro d
  induction d with
  | zero =>
    intro i b hi hb
    have e : i = 5 := by omega
    subst e
    exact br_t zx_55 ⟨zb_nar b, K b hb⟩
  | succ d ih =>
    intro i b hi hb
    have hi5 : i < 5 := by omega
    refine br_f (zx_5 hi5) (zb_bz (fun b0 => ⟨vp_in_nI hk (by omega), pk_eq f 2 (fun e2 => ?_) (fun n2 => ?_) eF'⟩) (fun b1 => nm_r (nI_1 i) (ih (i + 1) true (by omega) (zy_ex hb ?_))))
    · refine zy_in hq hx hi5 (zb_bz (fun h1 => nm_r (nI_1 i) (ih (i + 1) false (by omega) (zy_ex hb ?_))) (fun h1 => zy_in hr hi5 hy (zb_bz (fun h2 => nm_r (nI_1 i) (ih (i + 1) false (by omega) (zy_ex hb ?_))) (fun h2 => nm_r (nI_1 i) (ih (i + 1) true (by omega) (zy_ex hb ?_))))))
      · unfold zy_T
        rw [b0, h1]
        simp [e2]
      · unfold zy_T
        rw [b0, h2]
        simp [e2]
      · unfold zy_T
        rw [h1, h2]
        simp [e2]
    · refine zy_in hq hx hy (zb_bz (fun h1 => nm_r (nI_1 i) (ih (i + 1) false (by omega) (zy_ex hb ?_))) (fun h1 => zy_in hr hx hi5 (zb_bz (fun h2 => nm_r (nI_1 i) (ih (i + 1) false (by omega) (zy_ex hb ?_))) (fun h2 => nm_r (nI_1 i) (ih (i + 1) true (by omega) (zy_ex hb ?_))))))
      · unfold zy_T
        rw [b0, h1]
        simp [n2]
      · unfold zy_T
        rw [b0, h2]
        simp [n2]
      · unfold zy_T
        rw [h1, h2]
        simp [n2]
    · rw [b1]
      simp
theorem zy_says {post : Int32 → Prop} {k x y f q r : Nat} (hk : k < 8) (hx : x < 5) (hy : y < 5) (hf : f < 5) (hq : q < 5) (hr : r < 5) (eF : F k = nI f) (eQ : Q k = nI q) (eR : R k = nI r)
    (K : ∀ b : Bool, (b = true ↔ zd_sy (zy_T P) f q r x y) → post (zb_bb b)) : wpY_says post (th, F, H, Q, R, P) (nI k) (nI x) (nI y) := by
  have hi : vp_in (nI k) 8 := vp_in_nI hk (by omega)
  have hcl : (nI k).toNatClampNeg = k := nI_clamp (by omega)
  have eF' : F (nI k).toNatClampNeg = nI f := by rw [hcl, eF]
  refine And.intro hi (nm_r (show Q (nI k).toNatClampNeg = nI q by rw [hcl, eQ]) ⟨hi, nm_r (show R (nI k).toNatClampNeg = nI r by rw [hcl, eR]) ⟨hi, pk_eq f 0 (fun e0 => ?_) (fun n0 => ⟨hi, pk_eq f 1 (fun e1 => ?_) (fun n1 => ⟨hi, pk_eq f 3 (fun e3 => ?_) (fun n3 => ⟨6, ?_⟩) eF'⟩) eF'⟩) eF'⟩⟩)
  · subst e0
    refine And.intro hi (pk_eq 0 0 (fun _ => zy_in hq hx hy ⟨zb_nar _, K _ ?_⟩) (fun n => absurd rfl n) eF')
    unfold zd_sy zy_T
    simp
  · subst e1
    refine And.intro hi (pk_eq 1 0 (fun z => absurd z (by decide)) (fun n => zy_in hq hy hx ⟨zb_nar _, K _ ?_⟩) eF')
    unfold zd_sy zy_T
    simp
  · subst e3
    refine zy_in hq hx hy (zb_bz (fun h1 => K false ?_) (fun h1 => zy_in hr hx hy (zb_bz (fun h2 => K false ?_) (fun h2 => K true ?_))))
    · unfold zd_sy zy_T
      rw [h1]
      simp
    · unfold zd_sy zy_T
      rw [h2]
      simp
    · unfold zd_sy zy_T
      rw [h1, h2]
      simp
  · have hf4 : f ≠ 2 → f = 4 := fun _ => by omega
    have hf2 : f = 4 → f ≠ 2 := fun _ => by omega
    refine zy_says_l hk hx hy hf hq hr eF (fun b hb => K b ?_) 5 0 false rfl ⟨fun z => (by cases z), fun ⟨z, hz, _⟩ => absurd hz (Nat.not_lt_zero z)⟩
    rw [hb]
    constructor
    · rintro ⟨z, hz, ⟨e, a, b⟩ | ⟨e, a, b⟩⟩
      · exact Or.inr (Or.inr (Or.inl ⟨e, z, hz, a, b⟩))
      · exact Or.inr (Or.inr (Or.inr (Or.inr ⟨hf4 e, a, z, hz, b⟩)))
    · rintro (⟨e, a⟩ | ⟨e, a⟩ | ⟨e, z, hz, a, b⟩ | ⟨e, a⟩ | ⟨e, a, z, hz, b⟩)
      · omega
      · omega
      · exact ⟨z, hz, Or.inl ⟨e, a, b⟩⟩
      · omega
      · exact ⟨z, hz, Or.inr ⟨hf2 e, a, b⟩⟩
theorem zy_use_l {post : Int32 → SY → Prop} {k f h q r : Nat} (hk : k < 8) (hf : f < 5) (hh : h < 5) (hq : q < 5) (hr : r < 5) (eF : F k = nI f) (eH : H k = nI h) (eQ : Q k = nI q) (eR : R k = nI r)
    (K : ∀ m, (∀ c, bt m c = true ↔ (bt (P h) c = true ∨ (c < 25 ∧ zd_sy (zy_T P) f q r (c / 5) (c % 5)))) → (m = P h → post 0 (th, F, H, Q, R, upd P h m)) ∧ (¬ m = P h → post 1 (th, F, H, Q, R, upd P h m))) :
    ∀ d i m, i + d = 25 → (∀ c, bt m c = true ↔ (bt (P h) c = true ∨ (c < i ∧ zd_sy (zy_T P) f q r (c / 5) (c % 5)))) → wY_use_17 post (nI k) (P h) th F H Q R P (d + 1) m (nI i) := by
  have eH' : H (nI k).toNatClampNeg = nI h := by rw [nI_clamp (by omega), eH]
  intro d
  induction d with
  | zero =>
    intro i m hi hm
    have e : i = 25 := by omega
    subst e
    refine br_t zx_2525 ⟨vp_in_nI hk (by omega), ?_⟩
    rw [eH', nI_clamp (show h < 2 ^ 31 by omega)]
    exact ⟨vp_in_nI hh (by omega), nm_e (K m hm)⟩
  | succ d ih =>
    intro i m hi hm
    have hi25 : i < 25 := by omega
    refine br_f (zx_25 hi25) ⟨by decide, by decide, ?_⟩
    rw [show nI i / 5 = nI (i / 5) from pk_div (d := 5) (by omega) (by omega) (by omega), show (nI i - nI (i / 5) * 5) = nI (i % 5) by rw [← pk_div (a := i) (d := 5) (by omega) (by omega) (by omega)]; exact pk_rem (d := 5) (by omega) (by omega) (by omega)]
    refine zy_says hk (show i / 5 < 5 by omega) (show i % 5 < 5 by omega) hf hq hr eF eQ eR (fun b hb => zb_bz (fun b0 => ?_) (fun b1 => ?_))
    · refine nm_r (nI_1 i) (ih (i + 1) m (by omega) (fun c => ?_))
      rw [hm c]
      constructor
      · rintro (a | ⟨a, b⟩)
        · exact Or.inl a
        · exact Or.inr ⟨by omega, b⟩
      · rintro (a | ⟨a, s⟩)
        · exact Or.inl a
        · by_cases e : c = i
          · subst e
            rw [hb.mpr s] at b0
            cases b0
          · exact Or.inr ⟨by omega, s⟩
    · refine nm_e (nm_r (nI_1 i) (ih (i + 1) _ (by omega) (fun c => ?_)))
      rw [zb_set (by omega), Bool.or_eq_true, hm c]
      constructor
      · rintro ((a | ⟨a, b⟩) | e)
        · exact Or.inl a
        · exact Or.inr ⟨by omega, b⟩
        · have e' := of_decide_eq_true e
          subst e'
          exact Or.inr ⟨by omega, hb.mp b1⟩
      · rintro (a | ⟨a, s⟩)
        · exact Or.inl (Or.inl a)
        · by_cases e : c = i
          · exact Or.inr (decide_eq_true e)
          · exact Or.inl (Or.inr ⟨by omega, s⟩)
theorem zy_use {post : Int32 → SY → Prop} {k f h q r : Nat} (hk : k < 8) (hf : f < 5) (hh : h < 5) (hq : q < 5) (hr : r < 5) (eF : F k = nI f) (eH : H k = nI h) (eQ : Q k = nI q) (eR : R k = nI r)
    (K0 : (∀ c, c < 25 → zd_sy (zy_T P) f q r (c / 5) (c % 5) → bt (P h) c = true) → post 0 (th, F, H, Q, R, P))
    (K1 : ∀ m, (∀ c, bt (P h) c = true → bt m c = true) → (∀ c, bt m c = true → (bt (P h) c = true ∨ (c < 25 ∧ zd_sy (zy_T P) f q r (c / 5) (c % 5)))) → (∃ c, c < 25 ∧ bt (P h) c = false ∧ bt m c = true) → post 1 (th, F, H, Q, R, upd P h m)) :
    wpY_use post (th, F, H, Q, R, P) (nI k) := by
  have eH' : H (nI k).toNatClampNeg = nI h := by rw [nI_clamp (by omega), eH]
  refine And.intro (vp_in_nI hk (by omega)) ?_
  rw [eH', nI_clamp (show h < 2 ^ 31 by omega)]
  refine ⟨vp_in_nI hh (by omega), nm_e ⟨26, zy_use_l hk hf hh hq hr eF eH eQ eR (fun m hm => ⟨fun e => ?_, fun ne => ?_⟩) 25 0 (P h) rfl (fun c => ⟨Or.inl, fun z => z.elim id (fun ⟨z, _⟩ => absurd z (Nat.not_lt_zero c))⟩)⟩⟩
  · rw [e, zb_us]
    exact K0 (fun c hc s => by rw [← e]; exact (hm c).mpr (Or.inr ⟨hc, s⟩))
  · refine K1 m (fun c z => (hm c).mpr (Or.inl z)) (fun c z => (hm c).mp z) ?_
    by_cases ex : ∃ c, c < 25 ∧ bt (P h) c = false ∧ bt m c = true
    · exact ex
    · refine absurd (b_ext (fun i _ => zb_ee ⟨fun z => ?_, fun z => (hm i).mpr (Or.inl z)⟩)) ne
      rcases (hm i).mp z with a | ⟨a, _⟩
      · exact a
      · exact zb_nf (fun hf => ex ⟨i, a, hf, z⟩)
end
section
variable {pr : Int32} {gv th F H Q R : Nat → Int32}
theorem zy_pass {post : SY → Prop} {J : Int32 → Int32 → (Nat → Int32) → (Nat → Int32) → (Nat → Int32) → (Nat → Int32) → (Nat → Int32) → (Nat → Int32) → Prop} {t : Nat} {P : Nat → Int32} (hc : zd_cv pr gv F H Q R) (hth : ∀ k, k < 8 → th k = zb_bb (bt pr k))
    (K : ∀ (b : Bool) P', zy_lo gv P' → zy_so pr gv F H Q R P' → (b = false → ∀ k, k < 8 → bt pr k = true → zy_cl F H Q R P' k) → (b = true → zy_n P < zy_n P') → J (zb_bb b) (nI (t + 1)) th F H Q R P') :
    ∀ d i (b : Bool) P', i + d = 8 → zy_lo gv P' → zy_so pr gv F H Q R P' → (b = false → P' = P ∧ ∀ k, k < i → bt pr k = true → zy_cl F H Q R P' k) → (b = true → zy_n P < zy_n P') →
      wY_work_39 post J (nI t) (d + 1) (zb_bb b) (nI i) th F H Q R P' := by
  intro d
  induction d with
  | zero =>
    intro i b P' hi hlo hso h0 h1
    have e : i = 8 := by omega
    subst e
    exact br_t zx_88 (nm_r (nI_1 t) (K b P' hlo hso (fun z => (h0 z).2) h1))
  | succ d ih =>
    intro i b P' hi hlo hso h0 h1
    have hi8 : i < 8 := by omega
    refine br_f (zx_8 hi8) ⟨vp_in_nI hi8 (by omega), ?_⟩
    rw [nI_clamp (show i < 2 ^ 31 by omega), hth i hi8]
    have hskip : (bt pr i = true → zy_cl F H Q R P' i) → wY_work_62 post J (wY_work_39 post J (nI t) (d + 1)) (zb_bb b) (nI t) (nI i) th F H Q R P' := by
      intro hcli
      refine zb_bz (fun b0 => ?_) (fun b1 => ?_)
      · refine nm_r (nI_1 i) (ih (i + 1) false P' (by omega) hlo hso (fun _ => ⟨(h0 b0).1, fun k hk hb => ?_⟩) (fun z => by cases z))
        by_cases e : k = i
        · subst e
          exact hcli hb
        · exact (h0 b0).2 k (by omega) hb
      · exact nm_r (nI_1 i) (ih (i + 1) true P' (by omega) hlo hso (fun z => by cases z) (fun _ => h1 b1))
    refine zb_bz (fun hb => hskip (fun z => by rw [hb] at z; cases z)) (fun hb => ?_)
    obtain ⟨hf, hH2, hH5, hq, hr, eF, eH, eQ, eR⟩ := zd_rule hc hi8 hb
    refine zy_use hi8 hf hH5 hq hr eF eH eQ eR (fun hcl => br_t rfl (hskip (fun _ => hcl))) (fun m hm1 hm2 hm3 => br_f zo_10 ?_)
    have hmon : ∀ p c, bt (P' p) c = true → bt (upd P' (zd_nv H i) m p) c = true := by
      intro p c z
      by_cases e : p = zd_nv H i
      · subst e
        rw [pk_us]
        exact hm1 c z
      · rw [pk_un e]
        exact z
    obtain ⟨c0, hc0, hcf, hct⟩ := hm3
    have hlt : zy_n P' < zy_n (upd P' (zd_nv H i) m) := zy_lt hmon hH2 hH5 hc0 hcf (by rw [pk_us]; exact hct)
    have hle : zy_n P ≤ zy_n P' := by
      by_cases e : b = true
      · exact Nat.le_of_lt (h1 e)
      · rw [(h0 (zb_nt e)).1]
        exact Nat.le_refl _
    refine nm_r (nI_1 i) (ih (i + 1) true _ (by omega) (fun p c hp => ?_) (fun p c hp z => ?_) (fun z => by cases z) (fun _ => Nat.lt_of_le_of_lt hle hlt))
    · rw [pk_un (by omega)]
      exact hlo p c hp
    · by_cases e : p = zd_nv H i
      · subst e
        rw [pk_us] at z
        rcases hm2 c z with a | ⟨a, s⟩
        · exact hso _ c hp a
        · refine ⟨a, zd_Dcl.2 i (c / 5) (c % 5) hi8 (by omega) (by omega) hb (zd_symB hq hr (by omega) (by omega) (fun p x y hp hx hy t => ?_) s)⟩
          have := (hso p (5 * x + y) hp t).2
          rw [show (5 * x + y) / 5 = x by omega, show (5 * x + y) % 5 = y by omega] at this
          exact this
      · rw [pk_un e] at z
        exact hso p c hp z
theorem zy_fin {P : Nat → Int32} (hlo : zy_lo gv P) (hso : zy_so pr gv F H Q R P) (hcl : ∀ k, k < 8 → bt pr k = true → zy_cl F H Q R P k) : zy_full pr gv F H Q R P := by
  intro p c hp
  refine zb_ee ⟨fun z => ?_, fun z => ?_⟩
  · obtain ⟨a, d⟩ := hso p c hp z
    rw [decide_eq_true a, zd_Bt.mpr d]
    rfl
  · rw [Bool.and_eq_true] at z
    have h := zd_Bt.mp z.2 (zy_T P) ⟨fun p x y hp hx hy t => ?_, fun k x y hk hx hy hb s => ?_⟩
    · unfold zy_T at h
      rw [show 5 * (c / 5) + c % 5 = c by omega] at h
      exact h
    · unfold zy_T
      rw [hlo p (5 * x + y) hp, show (5 * x + y) / 5 = x by omega, show (5 * x + y) % 5 = y by omega, t, decide_eq_true (by omega)]
      rfl
    · refine hcl k hk hb (5 * x + y) (by omega) ?_
      rw [show (5 * x + y) / 5 = x by omega, show (5 * x + y) % 5 = y by omega]
      exact s
theorem zy_work_l {post : SY → Prop} (hc : zd_cv pr gv F H Q R) (hth : ∀ k, k < 8 → th k = zb_bb (bt pr k))
    (K : ∀ P', zy_lo gv P' → zy_full pr gv F H Q R P' → post (th, F, H, Q, R, P')) :
    ∀ d i (b : Bool) P', i + d = 76 → zy_lo gv P' → zy_so pr gv F H Q R P' → (b = true → i ≤ zy_n P') → (b = false → ∀ k, k < 8 → bt pr k = true → zy_cl F H Q R P' k) → wY_work_25 post (d + 1) (zb_bb b) (nI i) th F H Q R P' := by
  intro d
  induction d with
  | zero =>
    intro i b P' hi hlo hso hm hcl
    have e : i = 76 := by omega
    subst e
    refine br_t (nI_le (a := 76) (b := 76) (by decide) (by decide)) (K P' hlo (zy_fin hlo hso (hcl (zb_nt (fun z => ?_)))))
    have h1 := hm z
    have h2 : zy_n P' ≤ 75 := zc_le _ 75
    omega
  | succ d ih =>
    intro i b P' hi hlo hso hm hcl
    refine br_f (nI_ge (b := 76) (by omega) (by decide)) (zb_bz (fun b0 => K P' hlo (zy_fin hlo hso (hcl b0))) (fun b1 => ⟨9, ?_⟩))
    refine zy_pass (P := P') hc hth (fun b2 P2 hlo2 hso2 hcl2 hm2 => ih (i + 1) b2 P2 (by omega) hlo2 hso2 (fun z => ?_) hcl2) 8 0 false P' rfl hlo hso (fun _ => ⟨rfl, fun k hk => absurd hk (Nat.not_lt_zero k)⟩) (fun z => by cases z)
    have h1 := hm b1
    have h2 := hm2 z
    omega
theorem zy_work {post : SY → Prop} {P : Nat → Int32} (hc : zd_cv pr gv F H Q R) (hth : ∀ k, k < 8 → th k = zb_bb (bt pr k)) (hlo : zy_lo gv P)
    (K : ∀ P', zy_lo gv P' → zy_full pr gv F H Q R P' → post (th, F, H, Q, R, P')) : wpY_work post (th, F, H, Q, R, P) := by
  have hlo' : zy_lo gv (upd (upd (upd P 2 0) 3 0) 4 0) := by
    intro p c hp
    rw [pk_un (by omega), pk_un (by omega), pk_un (by omega)]
    exact hlo p c hp
  refine nm_e (nm_e (nm_e ⟨77, ?_⟩))
  refine zy_work_l hc hth K 76 0 true _ rfl hlo' (fun p c hp z => ?_) (fun _ => Nat.zero_le _) (fun z => by cases z)
  by_cases h2 : p < 2
  · rw [hlo' p c h2, Bool.and_eq_true] at z
    have hc25 := of_decide_eq_true z.1
    exact ⟨hc25, zd_Dcl.1 p (c / 5) (c % 5) h2 (by omega) (by omega) z.2⟩
  · have e : upd (upd (upd P 2 0) 3 0) 4 0 p = 0 := by
      by_cases e4 : p = 4
      · subst e4
        exact pk_us
      · rw [pk_un e4]
        by_cases e3 : p = 3
        · subst e3
          exact pk_us
        · rw [pk_un e3]
          have e2 : p = 2 := by omega
          subst e2
          exact pk_us
    rw [e, b_0] at z
    cases z
end
end
section
/-! the reference's walks: give, rules, and the answers -/
theorem zb_31 (i : Nat) : bt 31 i = decide (i < 5) := by
  rcases Nat.lt_or_ge i 32 with h | h
  · exact (by decide +kernel : ∀ i, i < 32 → bt 31 i = decide (i < 5)) i h
  · rw [b_big h, decide_eq_false (by omega)]
theorem zb_slice {a : Int32} {n : Nat} (hn : n ≤ 20) (y : Nat) : bt ((a >>> (nI n &&& 31)) &&& 31) y = (decide (y < 5) && bt a (n + y)) := by
  rw [b_and, zb_31]
  rcases Nat.lt_or_ge y 5 with h | h
  · rw [b_sshr n (by omega) a (by omega), if_pos (by omega), Bool.and_comm]
  · rw [decide_eq_false (by omega), Bool.and_false, Bool.false_and]
theorem zy_lotp {gv gv' P P' : Nat → Int32} {g x y : Nat} {b : Bool} (hg : g < 2) (hx : x < 5) (hy : y < 5) (h : zx_tp gv gv' (g * 5 + x) y b) (h' : zx_tp P P' g (5 * x + y) b) (hlo : zy_lo gv P) : zy_lo gv' P' := by
  intro p c hp
  have hl := hlo p c hp
  rcases Nat.lt_or_ge c 25 with hc | hc
  · rw [decide_eq_true hc, Bool.true_and] at hl ⊢
    by_cases ep : p = g
    · subst ep
      rw [h'.2 c]
      by_cases ec : c = 5 * x + y
      · rw [if_pos ec, show c / 5 = x by omega, show c % 5 = y by omega, h.2 y, if_pos rfl]
      · rw [if_neg ec, hl]
        by_cases ex : c / 5 = x
        · rw [ex, h.2 (c % 5), if_neg (by omega)]
        · rw [h.1 (p * 5 + c / 5) (by omega)]
    · rw [h'.1 p ep, hl, h.1 (p * 5 + c / 5) (by omega)]
  · rw [decide_eq_false (by omega), Bool.false_and] at hl ⊢
    by_cases ep : p = g
    · subst ep
      rw [h'.2 c, if_neg (by omega)]
      exact hl
    · rw [h'.1 p ep]
      exact hl
section
variable {th F H Q R P : Nat → Int32}
theorem zy_give9 {post : Int32 → SY → Prop} {g x y : Nat} {b : Bool} (hg : g < 2) (hx : x < 5) (hy : y < 5) (K : ∀ P', zx_tp P P' g (5 * x + y) b → post 1 (th, F, H, Q, R, P')) : wY_give_9 post (nI g) (nI x) (nI y) (zb_bb b) th F H Q R P := by
  have hin : vp_in (nI g) 5 := vp_in_nI (by omega) (by omega)
  have hcl : (nI g).toNatClampNeg = g := nI_clamp (by omega)
  refine zy_fg hx (br_f zo_10 (zy_fg hy (br_f zo_10 (nm_r (e' := (1 : Int32) <<< (nI (5 * x + y) &&& 31)) (by rw [zy_cell]) (zb_bz (fun b0 => ⟨hin, hin, ?_⟩) (fun b1 => ⟨hin, hin, ?_⟩))))))
  · rw [hcl]
    refine nm_e (K _ ⟨fun j hj => pk_un hj, fun i => ?_⟩)
    rw [pk_us, zb_clr (by omega), b0]
    by_cases e : i = 5 * x + y
    · rw [if_pos e, decide_eq_true e]
      simp
    · rw [if_neg e, decide_eq_false e]
      simp
  · rw [hcl]
    refine nm_e (K _ ⟨fun j hj => pk_un hj, fun i => ?_⟩)
    rw [pk_us, zb_set (by omega), b1]
    by_cases e : i = 5 * x + y
    · rw [if_pos e, decide_eq_true e]
      simp
    · rw [if_neg e, decide_eq_false e]
      simp
theorem zy_givego {post : Int32 → SY → Prop} {g : Nat} {v2 v3 v4 : Int32} (hg : g < 2) (K : wY_give_9 post (nI g) v2 v3 v4 th F H Q R P) : wpY_give post (th, F, H, Q, R, P) (nI g) v2 v3 v4 :=
  pk_eq g 0 (fun _ => K) (fun _ => pk_eq g 1 (fun _ => K) (fun _ => by omega))
theorem zy_give {post : Int32 → SY → Prop} {g x y : Nat} {b : Bool} (hg : g < 2) (hx : x < 5) (hy : y < 5) (K : ∀ P', zx_tp P P' g (5 * x + y) b → post 1 (th, F, H, Q, R, P')) : wpY_give post (th, F, H, Q, R, P) (nI g) (nI x) (nI y) (zb_bb b) :=
  zy_givego hg (zy_give9 hg hx hy K)
theorem zy_is {post : Int32 → Prop} {k : Nat} {b : Bool} (hk : k < 8) (ht : th k = zb_bb b) (a : b = false → post 0) (c : b = true → post 1) : wpY_is post (th, F, H, Q, R, P) (nI k) := by
  refine br_f (nI_pos (by omega)) (br_f (nI_nlt (a := 7) (b := k) (by omega) (by omega)) ⟨vp_in_nI hk (by omega), ?_⟩)
  rw [nI_clamp (show k < 2 ^ 31 by omega), ht]
  exact zb_bz a c
theorem zy_isno {post : Int32 → Prop} {v : Int32} (h : v < 0 ∨ nI 8 ≤ v) (a : post 0) : wpY_is post (th, F, H, Q, R, P) v := by
  by_cases h0 : v < 0
  · exact br_t h0 a
  · obtain ⟨j, hj, rfl⟩ := nI_of h0
    have h8 := (nI_leI (by omega) hj).mp (h.resolve_left h0)
    exact br_f h0 (br_t (nI_lt (a := 7) (b := j) (by omega) hj) a)
theorem zy_rules_l {post : Int32 → Prop} {pr : Int32} (hth : ∀ k, k < 8 → th k = zb_bb (bt pr k)) (K : ∀ v, (∀ j, bt v j = (decide (j < 8) && bt pr j)) → post v) :
    ∀ d i v, i + d = 8 → (∀ j, bt v j = (decide (j < i) && bt pr j)) → wY_rules_4 post th F H Q R P (d + 1) v (nI i) := by
  intro d
  induction d with
  | zero =>
    intro i v hi hv
    have e : i = 8 := by omega
    subst e
    exact br_t zx_88 (K v hv)
  | succ d ih =>
    intro i v hi hv
    refine br_f (zx_8 (by omega)) ⟨vp_in_nI (by omega) (by omega), ?_⟩
    rw [nI_clamp (show i < 2 ^ 31 by omega), hth i (by omega)]
    refine zb_bz (fun hb => ?_) (fun hb => ?_)
    · refine nm_r (nI_1 i) (ih (i + 1) v (by omega) (fun j => ?_))
      rw [hv j]
      by_cases e : j = i
      · subst e
        rw [hb, Bool.and_false, Bool.and_false]
      · have e2 : decide (j < i + 1) = decide (j < i) := decide_eq_decide.mpr (by omega)
        rw [e2]
    · refine nm_e (nm_r (nI_1 i) (ih (i + 1) _ (by omega) (fun j => ?_)))
      rw [zb_set (by omega), hv j]
      by_cases e : j = i
      · subst e
        rw [hb]
        simp
      · have e2 : decide (j < i + 1) = decide (j < i) := decide_eq_decide.mpr (by omega)
        rw [e2, decide_eq_false e, Bool.or_false]
theorem zy_rules {post : Int32 → Prop} {pr : Int32} (hth : ∀ k, k < 8 → th k = zb_bb (bt pr k)) (h8 : ∀ i, 8 ≤ i → bt pr i = false) (K : post pr) : wpY_rules post (th, F, H, Q, R, P) := by
  refine Exists.intro 9 (zy_rules_l hth (fun v hv => ?_) 8 0 0 rfl (fun j => by rw [b_0, decide_eq_false (Nat.not_lt_zero j), Bool.false_and]))
  have e : v = pr := b_ext (fun i _ => by
    rw [hv i]
    rcases Nat.lt_or_ge i 8 with h | h
    · rw [decide_eq_true h, Bool.true_and]
    · rw [h8 i h, Bool.and_false])
  rw [e]
  exact K
theorem zy_ones_l {post : Int32 → Prop} {v : Int32} (K : post (nI (zc_n (bt v) 25))) : ∀ d i, i + d = 25 → wY_ones_4 post v th F H Q R P (d + 1) (nI (zc_n (bt v) i)) (nI i) := by
  intro d
  induction d with
  | zero =>
    intro i hi
    have e : i = 25 := by omega
    subst e
    exact br_t zx_2525 K
  | succ d ih =>
    intro i hi
    exact br_f (zx_25 (by omega)) (nm_r (by rw [zb_tst (by omega), zc_step]) (nm_r (nI_1 i) (ih (i + 1) (by omega))))
theorem zy_ones {post : Int32 → Prop} {v : Int32} (K : post (nI (zc_n (bt v) 25))) : wpY_ones post (th, F, H, Q, R, P) v := Exists.intro 26 (zy_ones_l K 25 0 rfl)
end
section
variable {pr : Int32} {gv th F H Q R P : Nat → Int32}
theorem zy_at (h : zy_full pr gv F H Q R P) {p x y : Nat} (hp : p < 5) (hx : x < 5) (hy : y < 5) : bt (P p) (5 * x + y) = zd_B pr gv F H Q R p x y := by
  rw [h p _ hp, decide_eq_true (by omega), Bool.true_and, show (5 * x + y) / 5 = x by omega, show (5 * x + y) % 5 = y by omega]
theorem zy_holds {post : Int32 → SY → Prop} {p x y : Nat} (hc : zd_cv pr gv F H Q R) (hth : ∀ k, k < 8 → th k = zb_bb (bt pr k)) (hlo : zy_lo gv P) (hp : p < 5) (hx : x < 5) (hy : y < 5)
    (K : ∀ P', zy_lo gv P' → post (zb_bb (zd_B pr gv F H Q R p x y)) (th, F, H, Q, R, P')) : wpY_holds post (th, F, H, Q, R, P) (nI p) (nI x) (nI y) := by
  unfold wpY_holds
  dsimp only
  refine zy_work hc hth hlo (fun P' hlo' hf => zy_fg hp (br_f zo_10 (zy_fg hx (br_f zo_10 (zy_fg hy (br_f zo_10 (zy_in hp hx hy ?_)))))))
  have k := K P' hlo'
  rw [zy_at hf hp hx hy]
  refine zb_bz (fun hb => ?_) (fun hb => ?_)
  · rw [hb] at k
    exact k
  · rw [hb] at k
    exact k
theorem zy_holdsbad {post : Int32 → SY → Prop} {v1 v2 v3 : Int32} (hc : zd_cv pr gv F H Q R) (hth : ∀ k, k < 8 → th k = zb_bb (bt pr k)) (hlo : zy_lo gv P) (h : zo_bad v1 ∨ zo_bad v2 ∨ zo_bad v3)
    (K : ∀ P', zy_lo gv P' → post 0 (th, F, H, Q, R, P')) : wpY_holds post (th, F, H, Q, R, P) v1 v2 v3 := by
  unfold wpY_holds
  dsimp only
  refine zy_work hc hth hlo (fun P' hlo' hf => ?_)
  have k := K P' hlo'
  rcases zo_5 v1 with b1 | ⟨p, hp, rfl⟩
  · exact zy_fb b1 (br_t rfl k)
  · refine zy_fg hp (br_f zo_10 ?_)
    rcases zo_5 v2 with b2 | ⟨x, hx, rfl⟩
    · exact zy_fb b2 (br_t rfl k)
    · refine zy_fg hx (br_f zo_10 ?_)
      have hng : ∀ j, j < 5 → ¬ zo_bad (nI j) := fun j hj z => z.elim (nI_pos (by omega)) (zx_5 hj)
      exact zy_fb ((h.resolve_left (hng p hp)).resolve_left (hng x hx)) (br_t rfl k)
theorem zy_from {post : Int32 → SY → Prop} {p x : Nat} (hc : zd_cv pr gv F H Q R) (hth : ∀ k, k < 8 → th k = zb_bb (bt pr k)) (hlo : zy_lo gv P) (hp : p < 5) (hx : x < 5)
    (K : ∀ v P', zy_lo gv P' → (∀ y, bt v y = (decide (y < 5) && zd_B pr gv F H Q R p x y)) → post v (th, F, H, Q, R, P')) : wpY_from post (th, F, H, Q, R, P) (nI p) (nI x) := by
  unfold wpY_from
  dsimp only
  refine zy_work hc hth hlo (fun P' hlo' hf => zy_fg hp (br_f zo_10 (zy_fg hx (br_f zo_10 ⟨vp_in_nI hp (by omega), K _ P' hlo' (fun y => ?_)⟩))))
  rw [nI_clamp (show p < 2 ^ 31 by omega), show (5 : Int32) * nI x = nI (5 * x) from pk_mul 5 x, zb_slice (by omega)]
  rcases Nat.lt_or_ge y 5 with h | h
  · rw [zy_at hf hp hx h]
  · rw [decide_eq_false (by omega), Bool.false_and, Bool.false_and]
theorem zy_frombad {post : Int32 → SY → Prop} {v1 v2 : Int32} (hc : zd_cv pr gv F H Q R) (hth : ∀ k, k < 8 → th k = zb_bb (bt pr k)) (hlo : zy_lo gv P) (h : zo_bad v1 ∨ zo_bad v2)
    (K : ∀ P', zy_lo gv P' → post 0 (th, F, H, Q, R, P')) : wpY_from post (th, F, H, Q, R, P) v1 v2 := by
  unfold wpY_from
  dsimp only
  refine zy_work hc hth hlo (fun P' hlo' hf => ?_)
  have k := K P' hlo'
  rcases zo_5 v1 with b1 | ⟨p, hp, rfl⟩
  · exact zy_fb b1 (br_t rfl k)
  · have hng : ∀ j, j < 5 → ¬ zo_bad (nI j) := fun j hj z => z.elim (nI_pos (by omega)) (zx_5 hj)
    exact zy_fg hp (br_f zo_10 (zy_fb (h.resolve_left (hng p hp)) (br_t rfl k)))
theorem zy_to_l {post : Int32 → SY → Prop} {p y : Nat} (hf : zy_full pr gv F H Q R P) (hp : p < 5) (hy : y < 5) (K : ∀ v, (∀ x, bt v x = (decide (x < 5) && zd_B pr gv F H Q R p x y)) → post v (th, F, H, Q, R, P)) :
    ∀ d i v, i + d = 5 → (∀ x, bt v x = (decide (x < i) && zd_B pr gv F H Q R p x y)) → wY_to_9 post (nI p) (nI y) th F H Q R P (d + 1) v (nI i) := by
  intro d
  induction d with
  | zero =>
    intro i v hi hv
    have e : i = 5 := by omega
    subst e
    exact br_t zx_55 (K v hv)
  | succ d ih =>
    intro i v hi hv
    refine br_f (zx_5 (by omega)) (zy_fg hp (br_f zo_10 (zy_fg hy (br_f zo_10 (zy_in hp (show i < 5 by omega) hy ?_)))))
    rw [zy_at hf hp (by omega) hy]
    refine zb_bz (fun hb => ?_) (fun hb => ?_)
    · refine nm_r (nI_1 i) (ih (i + 1) v (by omega) (fun x => ?_))
      rw [hv x]
      by_cases e : x = i
      · subst e
        rw [hb, Bool.and_false, Bool.and_false]
      · have e2 : decide (x < i + 1) = decide (x < i) := decide_eq_decide.mpr (by omega)
        rw [e2]
    · refine nm_e (nm_r (nI_1 i) (ih (i + 1) _ (by omega) (fun x => ?_)))
      rw [zb_set (by omega), hv x]
      by_cases e : x = i
      · subst e
        rw [hb]
        simp
      · have e2 : decide (x < i + 1) = decide (x < i) := decide_eq_decide.mpr (by omega)
        rw [e2, decide_eq_false e, Bool.or_false]
theorem zy_to {post : Int32 → SY → Prop} {p y : Nat} (hc : zd_cv pr gv F H Q R) (hth : ∀ k, k < 8 → th k = zb_bb (bt pr k)) (hlo : zy_lo gv P) (hp : p < 5) (hy : y < 5)
    (K : ∀ v P', zy_lo gv P' → (∀ x, bt v x = (decide (x < 5) && zd_B pr gv F H Q R p x y)) → post v (th, F, H, Q, R, P')) : wpY_to post (th, F, H, Q, R, P) (nI p) (nI y) := by
  unfold wpY_to
  dsimp only
  exact zy_work hc hth hlo (fun P' hlo' hf => Exists.intro 6 (zy_to_l hf hp hy (fun v hv => K v P' hlo' hv) 5 0 0 rfl (fun x => by rw [b_0, decide_eq_false (Nat.not_lt_zero x), Bool.false_and])))
theorem zy_tobad {post : Int32 → SY → Prop} {v1 v2 : Int32} (hc : zd_cv pr gv F H Q R) (hth : ∀ k, k < 8 → th k = zb_bb (bt pr k)) (hlo : zy_lo gv P) (h : zo_bad v1 ∨ zo_bad v2)
    (K : ∀ P', zy_lo gv P' → post 0 (th, F, H, Q, R, P')) : wpY_to post (th, F, H, Q, R, P) v1 v2 := by
  unfold wpY_to
  dsimp only
  refine zy_work hc hth hlo (fun P' hlo' hf => Exists.intro 1 ?_)
  have k := K P' hlo'
  refine br_f (zx_5 (i := 0) (by decide)) ?_
  rcases zo_5 v1 with b1 | ⟨p, hp, rfl⟩
  · exact zy_fb b1 (br_t rfl k)
  · have hng : ∀ j, j < 5 → ¬ zo_bad (nI j) := fun j hj z => z.elim (nI_pos (by omega)) (zx_5 hj)
    exact zy_fg hp (br_f zo_10 (zy_fb (h.resolve_left (hng p hp)) (br_t rfl k)))
theorem zy_Nf (hf : zy_full pr gv F H Q R P) {p : Nat} (hp : p < 5) : zc_n (bt (P p)) 25 = zd_N pr gv F H Q R p :=
  zc_congr (fun i hi => by rw [hf p i hp, decide_eq_true hi, Bool.true_and])
theorem zy_count {post : Int32 → SY → Prop} {p : Nat} (hc : zd_cv pr gv F H Q R) (hth : ∀ k, k < 8 → th k = zb_bb (bt pr k)) (hlo : zy_lo gv P) (hp : p < 5)
    (K : ∀ P', zy_lo gv P' → post (nI (zd_N pr gv F H Q R p)) (th, F, H, Q, R, P')) : wpY_count post (th, F, H, Q, R, P) (nI p) := by
  unfold wpY_count
  dsimp only
  refine zy_work hc hth hlo (fun P' hlo' hf => zy_fg hp (br_f zo_10 ⟨vp_in_nI hp (by omega), zy_ones ?_⟩))
  rw [nI_clamp (show p < 2 ^ 31 by omega), zy_Nf hf hp]
  exact K P' hlo'
theorem zy_countbad {post : Int32 → SY → Prop} {v1 : Int32} (hc : zd_cv pr gv F H Q R) (hth : ∀ k, k < 8 → th k = zb_bb (bt pr k)) (hlo : zy_lo gv P) (h : zo_bad v1)
    (K : ∀ P', zy_lo gv P' → post (-1) (th, F, H, Q, R, P')) : wpY_count post (th, F, H, Q, R, P) v1 := by
  unfold wpY_count
  dsimp only
  exact zy_work hc hth hlo (fun P' hlo' hf => zy_fb h (br_t rfl (K P' hlo')))
theorem zy_W (hf : zy_full pr gv F H Q R P) {p q : Nat} (hp : p < 5) (hq : q < 5) : (P p &&& (P q ^^^ (-1))) = 0 ↔ zd_W pr gv F H Q R p q := by
  rw [zb_subs]
  constructor
  · intro h x y hx hy d
    have h1 := h (5 * x + y) (by rw [zy_at hf hp hx hy]; exact zd_Bt.mpr d)
    rw [zy_at hf hq hx hy] at h1
    exact zd_Bt.mp h1
  · intro h c z
    rw [hf p c hp, Bool.and_eq_true] at z
    have hc := of_decide_eq_true z.1
    rw [hf q c hq, z.1, zd_Bt.mpr (h (c / 5) (c % 5) (by omega) (by omega) (zd_Bt.mp z.2))]
    rfl
theorem zy_within {post : Int32 → SY → Prop} {p q : Nat} (hc : zd_cv pr gv F H Q R) (hth : ∀ k, k < 8 → th k = zb_bb (bt pr k)) (hlo : zy_lo gv P) (hp : p < 5) (hq : q < 5)
    (K1 : zd_W pr gv F H Q R p q → ∀ P', zy_lo gv P' → post 1 (th, F, H, Q, R, P')) (K0 : ¬ zd_W pr gv F H Q R p q → ∀ P', zy_lo gv P' → post 0 (th, F, H, Q, R, P')) : wpY_within post (th, F, H, Q, R, P) (nI p) (nI q) := by
  unfold wpY_within
  dsimp only
  refine zy_work hc hth hlo (fun P' hlo' hf => zy_fg hp (br_f zo_10 (zy_fg hq (br_f zo_10 ⟨vp_in_nI hp (by omega), vp_in_nI hq (by omega), ?_⟩))))
  rw [nI_clamp (show p < 2 ^ 31 by omega), nI_clamp (show q < 2 ^ 31 by omega), zy_W hf hp hq]
  exact ⟨fun h => K1 h P' hlo', fun h => K0 h P' hlo'⟩
theorem zy_withinbad {post : Int32 → SY → Prop} {v1 v2 : Int32} (hc : zd_cv pr gv F H Q R) (hth : ∀ k, k < 8 → th k = zb_bb (bt pr k)) (hlo : zy_lo gv P) (h : zo_bad v1 ∨ zo_bad v2)
    (K : ∀ P', zy_lo gv P' → post 0 (th, F, H, Q, R, P')) : wpY_within post (th, F, H, Q, R, P) v1 v2 := by
  unfold wpY_within
  dsimp only
  refine zy_work hc hth hlo (fun P' hlo' hf => ?_)
  have k := K P' hlo'
  rcases zo_5 v1 with b1 | ⟨p, hp, rfl⟩
  · exact zy_fb b1 (br_t rfl k)
  · have hng : ∀ j, j < 5 → ¬ zo_bad (nI j) := fun j hj z => z.elim (nI_pos (by omega)) (zx_5 hj)
    exact zy_fg hp (br_f zo_10 (zy_fb (h.resolve_left (hng p hp)) (br_t rfl k)))
def zy_Z (pr : Int32) (gv F H Q R : Nat → Int32) (p c : Nat) : Prop := zd_D pr gv F H Q R p (c / 25) (c / 5 % 5) → zd_D pr gv F H Q R p (c / 5 % 5) (c % 5) → zd_D pr gv F H Q R p (c / 25) (c % 5)
theorem zy_ZT {p : Nat} : (∀ c, c < 125 → zy_Z pr gv F H Q R p c) ↔ zd_Tr pr gv F H Q R p := by
  constructor
  · intro h x y z hx hy hz
    have h1 := h (25 * x + 5 * y + z) (by omega)
    unfold zy_Z at h1
    rw [show (25 * x + 5 * y + z) / 25 = x by omega, show (25 * x + 5 * y + z) / 5 % 5 = y by omega, show (25 * x + 5 * y + z) % 5 = z by omega] at h1
    exact h1
  · intro h c hc
    exact h _ _ _ (by omega) (by omega) (by omega)
theorem zy_trans_l {post : Int32 → SY → Prop} {p : Nat} (hf : zy_full pr gv F H Q R P) (hp : p < 5)
    (K1 : zd_Tr pr gv F H Q R p → post 1 (th, F, H, Q, R, P)) (K0 : ¬ zd_Tr pr gv F H Q R p → post 0 (th, F, H, Q, R, P)) :
    ∀ d i (b : Bool), i + d = 125 → (b = true → ∀ c, c < i → zy_Z pr gv F H Q R p c) → (b = false → ¬ zd_Tr pr gv F H Q R p) → wY_transitive_12 post (nI p) th F H Q R P (d + 1) (zb_bb b) (nI i) := by
  intro d
  induction d with
  | zero =>
    intro i b hi h1 h0
    have e : i = 125 := by omega
    subst e
    refine br_t (nI_le (a := 125) (b := 125) (by decide) (by decide)) ⟨zb_nar b, ?_⟩
    cases b
    · exact K0 (h0 rfl)
    · exact K1 (zy_ZT.mp (h1 rfl))
  | succ d ih =>
    intro i b hi h1 h0
    refine br_f (nI_ge (b := 125) (by omega) (by decide)) (zb_bz (fun b0 => ⟨zb_nar b, ?_⟩) (fun b1 => ?_))
    · rw [b0]
      exact K0 (h0 b0)
    · have e5 : nI i / 5 = nI (i / 5) := pk_div (d := 5) (by omega) (by omega) (by omega)
      have e1 : nI i / 25 = nI (i / 25) := pk_div (d := 25) (by omega) (by omega) (by omega)
      have e2 : nI i / 5 - nI i / 5 / 5 * 5 = nI (i / 5 % 5) := by
        rw [e5]
        exact pk_rem (a := i / 5) (d := 5) (by omega) (by omega) (by omega)
      have e3 : nI i - nI i / 5 * 5 = nI (i % 5) := pk_rem (d := 5) (by omega) (by omega) (by omega)
      have hx : i / 25 < 5 := by omega
      have hy : i / 5 % 5 < 5 := by omega
      have hz : i % 5 < 5 := by omega
      have hst : zy_Z pr gv F H Q R p i → ∀ c, c < i + 1 → zy_Z pr gv F H Q R p c := by
        intro h c hc
        by_cases e : c = i
        · subst e
          exact h
        · exact h1 b1 c (by omega)
      refine ⟨by decide, nm_r e1 ⟨by decide, by decide, nm_r e2 ⟨by decide, nm_r e3 (zy_in hp hx hy ?_)⟩⟩⟩
      rw [zy_at hf hp hx hy]
      refine zb_bz (fun c0 => nm_r (nI_1 i) (ih (i + 1) true (by omega) (fun _ => hst (fun d1 => ?_)) (fun z => by cases z))) (fun c1 => zy_in hp hy hz ?_)
      · rw [zd_Bt.mpr d1] at c0
        cases c0
      · rw [zy_at hf hp hy hz]
        refine zb_bz (fun c2 => nm_r (nI_1 i) (ih (i + 1) true (by omega) (fun _ => hst (fun _ d1 => ?_)) (fun z => by cases z))) (fun c3 => zy_in hp hx hz ?_)
        · rw [zd_Bt.mpr d1] at c2
          cases c2
        · rw [zy_at hf hp hx hz]
          refine zb_bz (fun c4 => nm_r (nI_1 i) (ih (i + 1) false (by omega) (fun z => by cases z) (fun _ hT => ?_))) (fun c5 => nm_r (nI_1 i) (ih (i + 1) true (by omega) (fun _ => hst (fun _ _ => zd_Bt.mp c5)) (fun z => by cases z)))
          rw [zd_Bt.mpr (hT _ _ _ hx hy hz (zd_Bt.mp c1) (zd_Bt.mp c3))] at c4
          cases c4
theorem zy_transitive {post : Int32 → SY → Prop} {p : Nat} (hc : zd_cv pr gv F H Q R) (hth : ∀ k, k < 8 → th k = zb_bb (bt pr k)) (hlo : zy_lo gv P) (hp : p < 5)
    (K1 : zd_Tr pr gv F H Q R p → ∀ P', zy_lo gv P' → post 1 (th, F, H, Q, R, P')) (K0 : ¬ zd_Tr pr gv F H Q R p → ∀ P', zy_lo gv P' → post 0 (th, F, H, Q, R, P')) : wpY_transitive post (th, F, H, Q, R, P) (nI p) := by
  unfold wpY_transitive
  dsimp only
  exact zy_work hc hth hlo (fun P' hlo' hf => zy_fg hp ⟨126, zy_trans_l hf hp (fun h => K1 h P' hlo') (fun h => K0 h P' hlo') 125 0 true rfl (fun _ c hc => absurd hc (Nat.not_lt_zero c)) (fun z => by cases z)⟩)
theorem zy_transbad {post : Int32 → SY → Prop} {v1 : Int32} (hc : zd_cv pr gv F H Q R) (hth : ∀ k, k < 8 → th k = zb_bb (bt pr k)) (hlo : zy_lo gv P) (h : zo_bad v1)
    (K : ∀ P', zy_lo gv P' → post 0 (th, F, H, Q, R, P')) : wpY_transitive post (th, F, H, Q, R, P) v1 := by
  unfold wpY_transitive
  dsimp only
  exact zy_work hc hth hlo (fun P' hlo' hf => zy_fb h ⟨1, br_f (nI_ge (a := 0) (b := 125) (by decide) (by decide)) (br_t rfl ⟨zb_nar false, K P' hlo'⟩)⟩)
theorem zy_E {pr' : Int32} {P' : Nat → Int32} (hf : zy_full pr gv F H Q R P) (hf' : zy_full pr' gv F H Q R P') (hlo : zy_lo gv P) (hlo' : zy_lo gv P') (hs : ∀ k, k < 8 → bt pr' k = true → bt pr k = true) :
    (∀ p, p < 5 → zd_N pr' gv F H Q R p = zd_N pr gv F H Q R p) ↔ (P 2 = P' 2 ∧ P 3 = P' 3 ∧ P 4 = P' 4) := by
  constructor
  · intro h
    have hp : ∀ p, p < 5 → P p = P' p := by
      intro p hp
      have hq := zc_eq (n := 25) (f := fun i => zd_B pr' gv F H Q R p (i / 5) (i % 5)) (g := fun i => zd_B pr gv F H Q R p (i / 5) (i % 5)) (fun i _ z => zd_Bt.mpr (zd_mono hs (zd_Bt.mp z))) (h p hp)
      refine b_ext (fun c _ => ?_)
      rw [hf p c hp, hf' p c hp]
      rcases Nat.lt_or_ge c 25 with hc | hc
      · have := hq c hc
        rw [this]
      · rw [decide_eq_false (by omega), Bool.false_and, Bool.false_and]
    exact ⟨hp 2 (by decide), hp 3 (by decide), hp 4 (by decide)⟩
  · rintro ⟨h2, h3, h4⟩ p hp
    have e : P p = P' p := by
      by_cases e2 : p < 2
      · exact b_ext (fun c _ => by rw [hlo p c e2, hlo' p c e2])
      · by_cases a : p = 2
        · subst a
          exact h2
        · by_cases b : p = 3
          · subst b
            exact h3
          · have c : p = 4 := by omega
            subst c
            exact h4
    rw [← zy_Nf hf hp, ← zy_Nf hf' hp, e]
end
end
section
/-! both sides' rule and redundant -/
theorem zo_2 {v : Int32} (h : nI 2 ≤ v) : ¬ v < 0 ∧ 1 < v := by
  rw [Int32.lt_iff_toInt_lt, Int32.lt_iff_toInt_lt]
  rw [Int32.le_iff_toInt_le, nI_toInt (by decide)] at h
  rw [show (0 : Int32).toInt = 0 by decide, show (1 : Int32).toInt = 1 by decide]
  omega
theorem zo_4 {v : Int32} (h0 : ¬ v < 0) (h4 : ¬ 4 < v) : ∃ j : Nat, j < 5 ∧ v = nI j := by
  obtain ⟨j, hj, rfl⟩ := nI_of h0
  refine ⟨j, ?_, rfl⟩
  rcases Nat.lt_or_ge j 5 with h | h
  · exact h
  · exact absurd (nI_lt (a := 4) (b := j) (by omega) hj) h4
theorem zo_24 {v : Int32} (h0 : ¬ v < 2) (h4 : ¬ 4 < v) : ∃ j : Nat, 2 ≤ j ∧ j < 5 ∧ v = nI j := by
  have hn : ¬ v < 0 := by
    rw [Int32.lt_iff_toInt_lt, show (2 : Int32).toInt = 2 by decide] at h0
    rw [Int32.lt_iff_toInt_lt, show (0 : Int32).toInt = 0 by decide]
    omega
  obtain ⟨j, hj, rfl⟩ := zo_4 hn h4
  refine ⟨j, ?_, hj, rfl⟩
  rcases Nat.lt_or_ge j 2 with h | h
  · exact absurd (nI_lt (a := j) (b := 2) h (by decide)) h0
  · exact h
theorem zo_cvrule {pr : Int32} {gv F H Q R : Nat → Int32} {k f h q r : Nat} (hc : zd_cv pr gv F H Q R) (hk : k < 8) (hf : f < 5) (hh : 2 ≤ h) (hh5 : h < 5) (hq : q < 5) (hr : r < 5) :
    zd_cv (pr ||| ((1 : Int32) <<< (nI k &&& 31))) gv (upd F k (nI f)) (upd H k (nI h)) (upd Q k (nI q)) (upd R k (nI r)) := by
  refine ⟨fun i hi => ?_, hc.2.1, fun j hj hb => ?_⟩
  · rw [zb_set (by omega), hc.1 i hi, decide_eq_false (by omega)]
    rfl
  · by_cases e : j = k
    · subst e
      exact ⟨f, h, q, r, hf, hh, hh5, hq, hr, pk_us, pk_us, pk_us, pk_us⟩
    · rw [zb_set (by omega), decide_eq_false e, Bool.or_false] at hb
      rw [pk_un e, pk_un e, pk_un e, pk_un e]
      exact hc.2.2 j hj hb
section
variable {pr as fr : Int32} {gv F H Q R an ct th P : Nat → Int32}
theorem zx_rule_l {post : Int32 → SX → Prop} {f h q r : Nat} (hf : f < 5) (hh : h < 5) (hq : q < 5) (hr : r < 5)
    (K2 : (∀ j, j < 8 → bt pr j = true) → post (-2) (pr, as, fr, gv, F, H, Q, R, an, ct))
    (K : ∀ k an', k < 8 → bt pr k = false → (∀ j, j < k → bt pr j = true) → (∀ j, j < 25 → an' j = 0) → post (nI k) (pr ||| ((1 : Int32) <<< (nI k &&& 31)), 0, fr, gv, upd F k (nI f), upd H k (nI h), upd Q k (nI q), upd R k (nI r), an', ct)) :
    ∀ d i, i + d = 8 → (∀ j, j < i → bt pr j = true) → wX_rule_51 post (nI f) (nI h) (nI q) (nI r) pr as fr gv F H Q R an ct (d + 1) (nI i) := by
  intro d
  induction d with
  | zero =>
    intro i hi hb
    have e : i = 8 := by omega
    subst e
    exact br_t zx_88 (K2 hb)
  | succ d ih =>
    intro i hi hb
    have hi8 : i < 8 := by omega
    have hin : vp_in (nI i) 8 := vp_in_nI hi8 (by omega)
    have hcl : (nI i).toNatClampNeg = i := nI_clamp (by omega)
    refine br_f (zx_8 hi8) (zx_has hi8 (fun h0 => br_t rfl ?_) (fun h1 => br_f zo_10 ?_))
    · rw [hcl, zb_byteN f (by omega), zb_byteN h (by omega), zb_byteN q (by omega), zb_byteN r (by omega)]
      exact nm_e ⟨hin, nm_e ⟨hin, nm_e ⟨hin, nm_e ⟨hin, nm_e (zx_forget (fun an' hz => K i an' hi8 h0 hb hz))⟩⟩⟩⟩
    · exact nm_r (nI_1 i) (ih (i + 1) (by omega) (lt_s hb h1))
theorem zy_rule_l {post : Int32 → SY → Prop} {v1 v2 v3 : Int32} (hth : ∀ k, k < 8 → th k = zb_bb (bt pr k))
    (K2 : (∀ j, j < 8 → bt pr j = true) → post (-2) (th, F, H, Q, R, P))
    (K : ∀ k, k < 8 → bt pr k = false → (∀ j, j < k → bt pr j = true) → post (nI k) (upd th k 1, upd F k v1, upd H k v2, upd Q k (v3 &&& 7), upd R k (v3 >>> ((3 : Int32) &&& 31)), P)) :
    ∀ d i, i + d = 8 → (∀ j, j < i → bt pr j = true) → wY_rule_45 post v1 v2 v3 th F H Q R P (d + 1) (nI i) := by
  intro d
  induction d with
  | zero =>
    intro i hi hb
    have e : i = 8 := by omega
    subst e
    exact br_t zx_88 (K2 hb)
  | succ d ih =>
    intro i hi hb
    have hi8 : i < 8 := by omega
    have hin : vp_in (nI i) 8 := vp_in_nI hi8 (by omega)
    have hcl : (nI i).toNatClampNeg = i := nI_clamp (by omega)
    refine br_f (zx_8 hi8) ⟨hin, ?_⟩
    rw [hcl, hth i hi8]
    refine zb_bz (fun h0 => ?_) (fun h1 => ?_)
    · exact ⟨hin, nm_r (e' := upd th i 1) rfl ⟨hin, nm_e ⟨hin, nm_e ⟨hin, nm_e ⟨hin, nm_e (K i hi8 h0 hb)⟩⟩⟩⟩⟩
    · exact nm_r (nI_1 i) (ih (i + 1) (by omega) (lt_s hb h1))
theorem zo_clr {k : Nat} (hk : k < 8) (i : Nat) (h : bt (pr &&& (((1 : Int32) <<< (nI k &&& 31)) ^^^ (-1))) i = true) : bt pr i = true := by
  rw [zb_clr (by omega), Bool.and_eq_true] at h
  exact h.1
theorem zo_back {k : Nat} (hk : k < 8) (hb : bt pr k = true) : (pr &&& (((1 : Int32) <<< (nI k &&& 31)) ^^^ (-1))) ||| ((1 : Int32) <<< (nI k &&& 31)) = pr := by
  refine b_ext (fun i _ => ?_)
  rw [zb_set (by omega), zb_clr (by omega)]
  by_cases e : i = k
  · subst e
    rw [hb]
    simp
  · rw [decide_eq_false e]
    simp
theorem zo_thclr {k : Nat} (hk : k < 8) (hth : ∀ k, k < 8 → th k = zb_bb (bt pr k)) : ∀ j, j < 8 → upd th k 0 j = zb_bb (bt (pr &&& (((1 : Int32) <<< (nI k &&& 31)) ^^^ (-1))) j) := by
  intro j hj
  rw [zb_clr (by omega)]
  by_cases e : j = k
  · subst e
    rw [pk_us, decide_eq_true rfl, Bool.not_true, Bool.and_false]
    rfl
  · rw [pk_un e, decide_eq_false e, Bool.not_false, Bool.and_true]
    exact hth j hj
theorem zx_redundant {post : Int32 → SX → Prop} {k : Nat} (hc : zd_cv pr gv F H Q R) (hs : zd_so pr gv F H Q R an) (hk : k < 8) (hb : bt pr k = true)
    (K1 : (∀ p, p < 5 → zd_N (pr &&& (((1 : Int32) <<< (nI k &&& 31)) ^^^ (-1))) gv F H Q R p = zd_N pr gv F H Q R p) → ∀ fr' an' ct', (∀ j, j < 25 → an' j = 0) → post 1 (pr, 0, fr', gv, F, H, Q, R, an', ct'))
    (K0 : ¬ (∀ p, p < 5 → zd_N (pr &&& (((1 : Int32) <<< (nI k &&& 31)) ^^^ (-1))) gv F H Q R p = zd_N pr gv F H Q R p) → ∀ fr' an' ct', (∀ j, j < 25 → an' j = 0) → post 0 (pr, 0, fr', gv, F, H, Q, R, an', ct')) :
    wpX_redundant post (pr, as, fr, gv, F, H, Q, R, an, ct) (nI k) := by
  unfold wpX_redundant
  dsimp only
  have hc' := zd_cvsub hc (zo_clr (pr := pr) hk)
  refine zx_has hk (fun z => by rw [hb] at z; cases z) (fun _ => br_f zo_10 (zx_keep hc hs (fun as1 fr1 an1 ct1 hs1 hct => nm_e (zx_forget (fun an2 h2 => ?_)))))
  refine zx_differ (N := zd_N pr gv F H Q R) hc' (zx_so0 h2) (fun p hp => ⟨Nat.lt_of_le_of_lt (zc_le _ 25) (by decide), hct p hp⟩) (fun hE as3 fr3 an3 hs3 => ?_) (fun hE as3 fr3 an3 hs3 => ?_)
  · exact nm_r (zo_back hk hb) (zx_forget (fun an4 h4 => br_t rfl (K1 hE fr3 an4 ct1 h4)))
  · exact nm_r (zo_back hk hb) (zx_forget (fun an4 h4 => br_f zo_10 (K0 hE fr3 an4 ct1 h4)))
theorem zy_redundant {post : Int32 → SY → Prop} {k : Nat} (hc : zd_cv pr gv F H Q R) (hth : ∀ k, k < 8 → th k = zb_bb (bt pr k)) (hlo : zy_lo gv P) (hk : k < 8) (hb : bt pr k = true)
    (K1 : (∀ p, p < 5 → zd_N (pr &&& (((1 : Int32) <<< (nI k &&& 31)) ^^^ (-1))) gv F H Q R p = zd_N pr gv F H Q R p) → ∀ P', zy_lo gv P' → post 1 (th, F, H, Q, R, P'))
    (K0 : ¬ (∀ p, p < 5 → zd_N (pr &&& (((1 : Int32) <<< (nI k &&& 31)) ^^^ (-1))) gv F H Q R p = zd_N pr gv F H Q R p) → ∀ P', zy_lo gv P' → post 0 (th, F, H, Q, R, P')) :
    wpY_redundant post (th, F, H, Q, R, P) (nI k) := by
  unfold wpY_redundant
  dsimp only
  have hc' := zd_cvsub hc (zo_clr (pr := pr) hk)
  have hin : vp_in (nI k) 8 := vp_in_nI hk (by omega)
  have hcl : (nI k).toNatClampNeg = k := nI_clamp (by omega)
  have hth1 : upd (upd th k 0) k 1 = th := by
    funext j
    by_cases e : j = k
    · subst e
      rw [pk_us, hth j hk, hb]
      rfl
    · rw [pk_un e, pk_un e]
  refine zy_is hk (hth k hk) (fun z => by rw [hb] at z; cases z) (fun _ => br_f zo_10 (zy_work hc hth hlo (fun P1 hlo1 hf1 => nm_e (nm_e (nm_e ⟨hin, ?_⟩)))))
  rw [hcl]
  refine nm_r (e' := upd th k 0) rfl (zy_work hc' (zo_thclr hk hth) hlo1 (fun P2 hlo2 hf2 => ⟨hin, nm_r hth1 ?_⟩))
  have hE := zy_E hf1 hf2 hlo1 hlo2 (fun k _ z => zo_clr hk k z)
  refine br_c (fun e2 => br_c (fun e3 => br_c (fun e4 => K1 (hE.mpr ⟨e2, e3, e4⟩) P2 hlo2) (fun n => K0 (fun z => n (hE.mp z).2.2) P2 hlo2)) (fun n => K0 (fun z => n (hE.mp z).2.1) P2 hlo2)) (fun n => K0 (fun z => n (hE.mp z).1) P2 hlo2)
end
end
section
/-! methods whose first act is a call: stated at the outer name -/
theorem zo_ng {j : Nat} (hj : j < 5) : ¬ zo_bad (nI j) := fun z => z.elim (nI_pos (by omega)) (zx_5 hj)
theorem zo_ng2 {g : Nat} (hg : g < 2) : ¬ (nI g < 0 ∨ nI 2 ≤ nI g) := fun z => z.elim (nI_pos (by omega)) (nI_ge (b := 2) hg (by decide))
section
variable {pr as fr : Int32} {gv F H Q R an ct : Nat → Int32}
theorem zx_dropno {post : Int32 → SX → Prop} {v : Int32} (h : v < 0 ∨ nI 8 ≤ v) (K : post 0 (pr, as, fr, gv, F, H, Q, R, an, ct)) : wpX_drop post (pr, as, fr, gv, F, H, Q, R, an, ct) v := by
  unfold wpX_drop
  dsimp only
  exact zx_hasno h (br_t rfl K)
theorem zx_drop {post : Int32 → SX → Prop} {j : Nat} (hj : j < 8) (K0 : bt pr j = false → post 0 (pr, as, fr, gv, F, H, Q, R, an, ct))
    (K1 : bt pr j = true → ∀ an', (∀ i, i < 25 → an' i = 0) → post 1 (pr &&& (((1 : Int32) <<< (nI j &&& 31)) ^^^ (-1)), 0, fr, gv, F, H, Q, R, an', ct)) : wpX_drop post (pr, as, fr, gv, F, H, Q, R, an, ct) (nI j) := by
  unfold wpX_drop
  dsimp only
  exact zx_has hj (fun hb => br_t rfl (K0 hb)) (fun hb => br_f zo_10 (nm_e (zx_forget (fun an' h0 => K1 hb an' h0))))
theorem zx_from {post : Int32 → SX → Prop} {p x : Nat} (hc : zd_cv pr gv F H Q R) (hs : zd_so pr gv F H Q R an) (hp : p < 5) (hx : x < 5)
    (K : ∀ v as' fr' an', zd_so pr gv F H Q R an' → (∀ y, bt v y = (decide (y < 5) && zd_B pr gv F H Q R p x y)) → post v (pr, as', fr', gv, F, H, Q, R, an', ct)) :
    wpX_from post (pr, as, fr, gv, F, H, Q, R, an, ct) (nI p) (nI x) := by
  unfold wpX_from
  dsimp only
  exact zx_reg hp (br_f zo_10 (zx_thg hx (br_f zo_10 (zx_settle hc hs hp hx K))))
theorem zx_frombad {post : Int32 → SX → Prop} {v1 v2 : Int32} (h : zo_bad v1 ∨ zo_bad v2) (K : post 0 (pr, as, fr, gv, F, H, Q, R, an, ct)) : wpX_from post (pr, as, fr, gv, F, H, Q, R, an, ct) v1 v2 := by
  unfold wpX_from
  dsimp only
  rcases zo_5 v1 with b1 | ⟨p, hp, rfl⟩
  · exact zx_reb b1 (br_t rfl K)
  · exact zx_reg hp (br_f zo_10 (zx_thb (h.resolve_left (zo_ng hp)) (br_t rfl K)))
theorem zx_countbad {post : Int32 → SX → Prop} {v1 : Int32} (h : zo_bad v1) (K : post (-1) (pr, as, fr, gv, F, H, Q, R, an, ct)) : wpX_count post (pr, as, fr, gv, F, H, Q, R, an, ct) v1 := by
  unfold wpX_count
  dsimp only
  exact zx_reb h (br_t rfl K)
theorem zx_withinbad {post : Int32 → SX → Prop} {v1 v2 : Int32} (h : zo_bad v1 ∨ zo_bad v2) (K : post 0 (pr, as, fr, gv, F, H, Q, R, an, ct)) : wpX_within post (pr, as, fr, gv, F, H, Q, R, an, ct) v1 v2 := by
  unfold wpX_within
  dsimp only
  rcases zo_5 v1 with b1 | ⟨p, hp, rfl⟩
  · exact zx_reb b1 (br_t rfl K)
  · exact zx_reg hp (br_f zo_10 (zx_reb (h.resolve_left (zo_ng hp)) (br_t rfl K)))
theorem zx_transbad {post : Int32 → SX → Prop} {v1 : Int32} (h : zo_bad v1) (K : post 0 (pr, as, fr, gv, F, H, Q, R, an, ct)) : wpX_transitive post (pr, as, fr, gv, F, H, Q, R, an, ct) v1 := by
  unfold wpX_transitive
  dsimp only
  exact zx_reb h (br_t rfl K)
theorem zx_redno {post : Int32 → SX → Prop} {v : Int32} (h : v < 0 ∨ nI 8 ≤ v) (K : post 0 (pr, as, fr, gv, F, H, Q, R, an, ct)) : wpX_redundant post (pr, as, fr, gv, F, H, Q, R, an, ct) v := by
  unfold wpX_redundant
  dsimp only
  exact zx_hasno h (br_t rfl K)
theorem zx_redabs {post : Int32 → SX → Prop} {j : Nat} (hj : j < 8) (hb : ¬ bt pr j = true) (K : post 0 (pr, as, fr, gv, F, H, Q, R, an, ct)) : wpX_redundant post (pr, as, fr, gv, F, H, Q, R, an, ct) (nI j) := by
  unfold wpX_redundant
  dsimp only
  exact zx_has hj (fun _ => br_t rfl K) (fun z => absurd z hb)
theorem zx_lossbad {post : Int32 → SX → Prop} {v1 v2 v3 v4 : Int32} (h : zo_bad v1 ∨ (v2 < 0 ∨ nI 2 ≤ v2) ∨ zo_bad v3 ∨ zo_bad v4) (K : post (-1) (pr, as, fr, gv, F, H, Q, R, an, ct)) : wpX_loss post (pr, as, fr, gv, F, H, Q, R, an, ct) v1 v2 v3 v4 := by
  unfold wpX_loss
  dsimp only
  rcases zo_5 v1 with b1 | ⟨p, hp, rfl⟩
  · exact zx_reb b1 (br_t rfl K)
  refine zx_reg hp (br_f zo_10 ?_)
  rcases pk_ix v2 (n := 2) (by omega) with h2 | h2 | ⟨g, hg, rfl⟩
  · exact br_t h2 K
  · exact br_f (zo_2 h2).1 (br_t (zo_2 h2).2 K)
  refine br_f (nI_pos (by omega)) (br_f (nI_nlt (a := 1) (b := g) (by omega) (by omega)) ?_)
  rcases zo_5 v3 with b3 | ⟨x, hx, rfl⟩
  · exact zx_thb b3 (br_t rfl K)
  exact zx_thg hx (br_f zo_10 (zx_thb (((h.resolve_left (zo_ng hp)).resolve_left (zo_ng2 hg)).resolve_left (zo_ng hx)) (br_t rfl K)))
theorem zx_loss {post : Int32 → SX → Prop} {p g x y : Nat} (hc : zd_cv pr gv F H Q R) (hs : zd_so pr gv F H Q R an) (hp : p < 5) (hg : g < 2) (hx : x < 5) (hy : y < 5)
    (K0 : bt (gv (g * 5 + x)) y = false → post 0 (pr, as, fr, gv, F, H, Q, R, an, ct))
    (K1 : bt (gv (g * 5 + x)) y = true → ∀ gv1 fr' an', zx_tp gv gv1 (g * 5 + x) y false → zx_tp gv1 gv (g * 5 + x) y true → (∀ i, i < 25 → an' i = 0) → post (nI (zd_N pr gv F H Q R p) - nI (zd_N pr gv1 F H Q R p)) (pr, 0, fr', gv, F, H, Q, R, an', ct)) :
    wpX_loss post (pr, as, fr, gv, F, H, Q, R, an, ct) (nI p) (nI g) (nI x) (nI y) := by
  unfold wpX_loss
  dsimp only
  refine zx_reg hp (br_f zo_10 (br_f (nI_pos (by omega)) (br_f (nI_nlt (a := 1) (b := g) (by omega) (by omega)) (zx_thg hx (br_f zo_10 (zx_thg hy (br_f zo_10 ?_)))))))
  rw [zx_cell, nI_clamp (show g * 5 + x < 2 ^ 31 by omega)]
  refine ⟨vp_in_nI (by omega) (by omega), zb_br (by omega) K0 (fun hb => ?_)⟩
  refine zx_count hc hs hp (fun as1 fr1 an1 hs1 => zx_turnPair (b := false) hc hg hx hy (fun gv1 an2 htp1 h2 => ?_))
  have hc1 := zx_cvtp hc htp1 hy
  refine zx_count hc1 (zx_so0 h2) hp (fun as3 fr3 an3 hs3 => zx_turnPair (b := true) hc1 hg hx hy (fun gv2 an4 htp2 h4 => ?_))
  have eg : gv2 = gv := zx_tpback htp1 htp2 hb
  subst eg
  exact K1 hb gv1 fr3 an4 htp1 htp2 h4
end
section
variable {pr : Int32} {gv th F H Q R P : Nat → Int32}
theorem zy_dropno {post : Int32 → SY → Prop} {v : Int32} (h : v < 0 ∨ nI 8 ≤ v) (K : post 0 (th, F, H, Q, R, P)) : wpY_drop post (th, F, H, Q, R, P) v := by
  unfold wpY_drop
  dsimp only
  exact zy_isno h (br_t rfl K)
theorem zy_drop {post : Int32 → SY → Prop} {j : Nat} {b : Bool} (hj : j < 8) (ht : th j = zb_bb b) (K0 : b = false → post 0 (th, F, H, Q, R, P)) (K1 : b = true → post 1 (upd th j 0, F, H, Q, R, P)) : wpY_drop post (th, F, H, Q, R, P) (nI j) := by
  unfold wpY_drop
  dsimp only
  refine zy_is hj ht (fun hb => br_t rfl (K0 hb)) (fun hb => br_f zo_10 ⟨vp_in_nI hj (by omega), ?_⟩)
  rw [nI_clamp (show j < 2 ^ 31 by omega)]
  exact nm_r (e' := upd th j 0) rfl (K1 hb)
theorem zy_redno {post : Int32 → SY → Prop} {v : Int32} (h : v < 0 ∨ nI 8 ≤ v) (K : post 0 (th, F, H, Q, R, P)) : wpY_redundant post (th, F, H, Q, R, P) v := by
  unfold wpY_redundant
  dsimp only
  exact zy_isno h (br_t rfl K)
theorem zy_redabs {post : Int32 → SY → Prop} {j : Nat} {b : Bool} (hj : j < 8) (ht : th j = zb_bb b) (hb : ¬ b = true) (K : post 0 (th, F, H, Q, R, P)) : wpY_redundant post (th, F, H, Q, R, P) (nI j) := by
  unfold wpY_redundant
  dsimp only
  exact zy_is hj ht (fun _ => br_t rfl K) (fun z => absurd z hb)
theorem zy_lossbad {post : Int32 → SY → Prop} {v1 v2 v3 v4 : Int32} (h : zo_bad v1 ∨ (v2 < 0 ∨ nI 2 ≤ v2) ∨ zo_bad v3 ∨ zo_bad v4) (K : post (-1) (th, F, H, Q, R, P)) : wpY_loss post (th, F, H, Q, R, P) v1 v2 v3 v4 := by
  have hno : (v2 < 0 ∨ nI 2 ≤ v2) → wpY_loss post (th, F, H, Q, R, P) v1 v2 v3 v4 := by
    intro h
    have n0 : ¬ v2 = 0 := fun e => by rw [e] at h; exact absurd h (by decide)
    have n1 : ¬ v2 = 1 := fun e => by rw [e] at h; exact absurd h (by decide)
    exact br_f n0 (br_f n1 K)
  rcases pk_ix v2 (n := 2) (by omega) with h2 | h2 | ⟨g, hg, rfl⟩
  · exact hno (Or.inl h2)
  · exact hno (Or.inr h2)
  have h9 : wY_loss_9 post v1 (nI g) v3 v4 th F H Q R P := by
    unfold wY_loss_9
    rcases zo_5 v1 with b1 | ⟨p, hp, rfl⟩
    · exact zy_fb b1 (br_t rfl K)
    refine zy_fg hp (br_f zo_10 ?_)
    rcases zo_5 v3 with b3 | ⟨x, hx, rfl⟩
    · exact zy_fb b3 (br_t rfl K)
    exact zy_fg hx (br_f zo_10 (zy_fb (((h.resolve_left (zo_ng hp)).resolve_left (zo_ng2 hg)).resolve_left (zo_ng hx)) (br_t rfl K)))
  exact pk_eq g 0 (fun _ => h9) (fun _ => pk_eq g 1 (fun _ => h9) (fun _ => by omega))
theorem zy_loss {post : Int32 → SY → Prop} {gv1 : Nat → Int32} {p g x y : Nat} (hc : zd_cv pr gv F H Q R) (hth : ∀ k, k < 8 → th k = zb_bb (bt pr k)) (hl : zy_lo gv P) (hp : p < 5) (hg : g < 2) (hx : x < 5) (hy : y < 5)
    (htp1 : zx_tp gv gv1 (g * 5 + x) y false) (htp2 : zx_tp gv1 gv (g * 5 + x) y true) (hb : bt (gv (g * 5 + x)) y = true)
    (K1 : ∀ P', zy_lo gv P' → post (nI (zd_N pr gv F H Q R p) - nI (zd_N pr gv1 F H Q R p)) (th, F, H, Q, R, P')) :
    wpY_loss post (th, F, H, Q, R, P) (nI p) (nI g) (nI x) (nI y) := by
  have hbit : bt (P g) (5 * x + y) = true := by
    rw [hl g _ hg, decide_eq_true (by omega), Bool.true_and, show (5 * x + y) / 5 = x by omega, show (5 * x + y) % 5 = y by omega, hb]
  have hc1 := zx_cvtp hc htp1 hy
  have h9 : wY_loss_9 post (nI p) (nI g) (nI x) (nI y) th F H Q R P := by
    unfold wY_loss_9
    refine zy_fg hp (br_f zo_10 (zy_fg hx (br_f zo_10 (zy_fg hy (br_f zo_10 (zy_in (show g < 5 by omega) hx hy ?_))))))
    rw [hbit]
    refine br_f (by decide) (zy_count hc hth hl hp (fun P1 hl1 => zy_give (b := false) hg hx hy (fun P2 hp2 => ?_)))
    refine zy_count hc1 hth (zy_lotp hg hx hy htp1 hp2 hl1) hp (fun P3 hl3 => zy_give (b := true) hg hx hy (fun P4 hp4 => K1 P4 ?_))
    exact zy_lotp hg hx hy htp2 hp4 hl3
  exact pk_eq g 0 (fun _ => h9) (fun _ => pk_eq g 1 (fun _ => h9) (fun _ => by omega))
theorem zy_loss0 {post : Int32 → SY → Prop} {p g x y : Nat} (hl : zy_lo gv P) (hp : p < 5) (hg : g < 2) (hx : x < 5) (hy : y < 5) (hb : bt (gv (g * 5 + x)) y = false)
    (K0 : post 0 (th, F, H, Q, R, P)) : wpY_loss post (th, F, H, Q, R, P) (nI p) (nI g) (nI x) (nI y) := by
  have hbit : bt (P g) (5 * x + y) = false := by
    rw [hl g _ hg, decide_eq_true (by omega), Bool.true_and, show (5 * x + y) / 5 = x by omega, show (5 * x + y) % 5 = y by omega, hb]
  have h9 : wY_loss_9 post (nI p) (nI g) (nI x) (nI y) th F H Q R P := by
    unfold wY_loss_9
    refine zy_fg hp (br_f zo_10 (zy_fg hx (br_f zo_10 (zy_fg hy (br_f zo_10 (zy_in (show g < 5 by omega) hx hy ?_))))))
    rw [hbit]
    exact br_t rfl K0
  exact pk_eq g 0 (fun _ => h9) (fun _ => pk_eq g 1 (fun _ => h9) (fun _ => by omega))
end
end
section
/-! what is owed -/
/-- the relation at the head of a turn whose first cell is k -/
def i_Rel (_ : Nat) (u : SX) (v : SY) : Prop :=
  ∃ (pr as fr : Int32) (gv F H Q R an ct th P : Nat → Int32), u = (pr, as, fr, gv, F, H, Q, R, an, ct) ∧ v = (th, F, H, Q, R, P) ∧ zd_cv pr gv F H Q R ∧ zd_so pr gv F H Q R an ∧ (∀ k, k < 8 → th k = zb_bb (bt pr k)) ∧ zy_lo gv P
theorem zo_mk {k : Nat} {pr as fr : Int32} {gv F H Q R an ct th P : Nat → Int32} (hc : zd_cv pr gv F H Q R) (hs : zd_so pr gv F H Q R an) (ht : ∀ k, k < 8 → th k = zb_bb (bt pr k)) (hl : zy_lo gv P) :
    i_Rel k (pr, as, fr, gv, F, H, Q, R, an, ct) (th, F, H, Q, R, P) := ⟨pr, as, fr, gv, F, H, Q, R, an, ct, th, P, rfl, rfl, hc, hs, ht, hl⟩
theorem zo_el {k : Nat} {u : SX} {v : SY} {C : SX → SY → Prop} (h : ∀ (pr as fr : Int32) (gv F H Q R an ct th P : Nat → Int32), zd_cv pr gv F H Q R → zd_so pr gv F H Q R an → (∀ k, k < 8 → th k = zb_bb (bt pr k)) → zy_lo gv P → C (pr, as, fr, gv, F, H, Q, R, an, ct) (th, F, H, Q, R, P)) (I : i_Rel k u v) : C u v :=
  I.elim fun pr I => I.elim fun as I => I.elim fun fr I => I.elim fun gv I => I.elim fun F I => I.elim fun H I => I.elim fun Q I => I.elim fun R I => I.elim fun an I => I.elim fun ct I => I.elim fun th I => I.elim fun P I => by
    rw [I.1, I.2.1]
    exact h pr as fr gv F H Q R an ct th P I.2.2.1 I.2.2.2.1 I.2.2.2.2.1 I.2.2.2.2.2
theorem zo_veq {v w : Int32} {n : Nat} {g : Nat → Bool} (h : ∀ y, bt v y = (decide (y < n) && g y)) (h' : ∀ y, bt w y = (decide (y < n) && g y)) : w = v := b_ext (fun i _ => by rw [h i, h' i])
theorem i_up {k : Nat} {u : SX} {v : SY} (h : i_Rel k u v) : i_Rel (k + 5) u v := h
theorem i_vc0 : wpX_init (fun u => wpY_init (fun v => i_Rel 0 u v)) := by
  show i_Rel 0 _ _
  refine zo_mk ⟨fun i _ => b_0 i, fun j i _ _ => b_0 i, fun k _ hb => ?_⟩ (zx_so0 (fun j _ => rfl)) (fun k _ => ?_) (fun p c _ => ?_)
  · rw [b_0] at hb
    cases hb
  · rw [b_0]
    rfl
  · rw [b_0, b_0, Bool.and_false]
theorem i_vc_give {k : Nat} {u : SX} {v : SY} (I : i_Rel k u v) (hk : k + 5 ≤ 2560) (v1 : Int32) (v2 : Int32) (v3 : Int32) (v4 : Int32) : wpX_give (fun r u' => wpY_give (fun r' v' => r' = r ∧ i_Rel (k + 5) u' v') v v1 v2 v3 (lw_bz v4)) u v1 v2 v3 (lw_bz v4) := by
  refine zo_el (C := fun u v => wpX_give (fun r u' => wpY_give (fun r' v' => r' = r ∧ i_Rel (k + 5) u' v') v v1 v2 v3 (lw_bz v4)) u v1 v2 v3 (lw_bz v4)) ?_ I
  intro pr as fr gv F H Q R an ct th P hc hs ht hl
  have hrel : i_Rel (k + 5) (pr, as, fr, gv, F, H, Q, R, an, ct) (th, F, H, Q, R, P) := zo_mk hc hs ht hl
  obtain ⟨b, hb⟩ : ∃ b, lw_bz v4 = zb_bb b := by
    rcases lw_bz_01 v4 with e | e
    · exact ⟨false, e⟩
    · exact ⟨true, e⟩
  rw [hb]
  rcases pk_ix v1 (n := 2) (by omega) with h | h | ⟨g, hg, rfl⟩
  · have n0 : ¬ v1 = 0 := fun e => by rw [e] at h; exact absurd h (by decide)
    have n1 : ¬ v1 = 1 := fun e => by rw [e] at h; exact absurd h (by decide)
    exact br_t h (br_f n0 (br_f n1 ⟨rfl, hrel⟩))
  · have n0 : ¬ v1 = 0 := fun e => by rw [e] at h; exact absurd h (by decide)
    have n1 : ¬ v1 = 1 := fun e => by rw [e] at h; exact absurd h (by decide)
    exact br_f (zo_2 h).1 (br_t (zo_2 h).2 (br_f n0 (br_f n1 ⟨rfl, hrel⟩)))
  · refine br_f (nI_pos (by omega)) (br_f (nI_nlt (a := 1) (b := g) (by omega) (by omega)) ?_)
    rcases zo_5 v2 with b2 | ⟨x, hx, rfl⟩
    · exact zx_thb b2 (br_t rfl (zy_givego hg (zy_fb b2 (br_t rfl ⟨rfl, hrel⟩))))
    · refine zx_thg hx (br_f zo_10 ?_)
      rcases zo_5 v3 with b3 | ⟨y, hy, rfl⟩
      · exact zx_thb b3 (br_t rfl (zy_givego hg (zy_fg hx (br_f zo_10 (zy_fb b3 (br_t rfl ⟨rfl, hrel⟩))))))
      · refine zx_thg hy (br_f zo_10 (zx_turnPair hc hg hx hy (fun gv' an' htp h0 => zy_give hg hx hy (fun P' htp' => ⟨rfl, ?_⟩))))
        exact zo_mk (zx_cvtp hc htp hy) (zx_so0 h0) ht (zy_lotp hg hx hy htp htp' hl)
theorem i_vc_rule {k : Nat} {u : SX} {v : SY} (I : i_Rel k u v) (hk : k + 5 ≤ 2560) (v1 : Int32) (v2 : Int32) (v3 : Int32) : wpX_rule (fun r u' => wpY_rule (fun r' v' => r' = r ∧ i_Rel (k + 5) u' v') v v1 v2 v3) u v1 v2 v3 := by
  refine zo_el (C := fun u v => wpX_rule (fun r u' => wpY_rule (fun r' v' => r' = r ∧ i_Rel (k + 5) u' v') v v1 v2 v3) u v1 v2 v3) ?_ I
  intro pr as fr gv F H Q R an ct th P hc hs ht hl
  have hrel : i_Rel (k + 5) (pr, as, fr, gv, F, H, Q, R, an, ct) (th, F, H, Q, R, P) := zo_mk hc hs ht hl
  refine nm_e (nm_e ?_)
  by_cases h1 : v1 < 0
  · exact br_t h1 (br_t h1 ⟨rfl, hrel⟩)
  by_cases h2 : 4 < v1
  · exact br_f h1 (br_t h2 (br_f h1 (br_t h2 ⟨rfl, hrel⟩)))
  by_cases h3 : v2 < 2
  · exact br_f h1 (br_f h2 (br_t h3 (br_f h1 (br_f h2 (br_t h3 ⟨rfl, hrel⟩)))))
  by_cases h4 : 4 < v2
  · exact br_f h1 (br_f h2 (br_f h3 (br_t h4 (br_f h1 (br_f h2 (br_f h3 (br_t h4 ⟨rfl, hrel⟩)))))))
  refine br_f h1 (br_f h2 (br_f h3 (br_f h4 ?_)))
  rcases zo_5 (v3 &&& 7) with b5 | ⟨q, hq, eq⟩
  · exact zx_reb b5 (br_t rfl (br_f h1 (br_f h2 (br_f h3 (br_f h4 (zy_fb b5 (br_t rfl ⟨rfl, hrel⟩)))))))
  rcases zo_5 (v3 >>> ((3 : Int32) &&& 31)) with b6 | ⟨r, hr, er⟩
  · rw [eq]
    refine zx_reg hq (br_f zo_10 (zx_reb b6 (br_t rfl (br_f h1 (br_f h2 (br_f h3 (br_f h4 ?_)))))))
    rw [eq]
    exact zy_fg hq (br_f zo_10 (zy_fb b6 (br_t rfl ⟨rfl, hrel⟩)))
  · obtain ⟨f, hf, ef⟩ := zo_4 h1 h2
    obtain ⟨h, hh, hh5, eh⟩ := zo_24 h3 h4
    have hY : ∀ post : Int32 → SY → Prop, (∃ n, wY_rule_45 post v1 v2 v3 th F H Q R P n 0) → wpY_rule post (th, F, H, Q, R, P) v1 v2 v3 := by
      intro post hn
      refine br_f h1 (br_f h2 (br_f h3 (br_f h4 ?_)))
      rw [eq, er]
      exact zy_fg hq (br_f zo_10 (zy_fg hr (br_f zo_10 hn)))
    rw [eq, er, ef, eh]
    refine zx_reg hq (br_f zo_10 (zx_reg hr (br_f zo_10 ⟨9, ?_⟩)))
    refine zx_rule_l hf hh5 hq hr (fun hall => ?_) (fun j an' hj hjf hlt h0 => ?_) 8 0 rfl (fun j hj => absurd hj (Nat.not_lt_zero j))
    · rw [← ef, ← eh]
      refine hY _ ⟨9, zy_rule_l ht (fun _ => ⟨rfl, hrel⟩) (fun i hi hif _ => ?_) 8 0 rfl (fun j hj => absurd hj (Nat.not_lt_zero j))⟩
      rw [hall i hi] at hif
      cases hif
    · rw [← ef, ← eh]
      refine hY _ ⟨9, zy_rule_l ht (fun hall => ?_) (fun i hi hif hilt => ?_) 8 0 rfl (fun j hj => absurd hj (Nat.not_lt_zero j))⟩
      · rw [hall j hj] at hjf
        cases hjf
      · have e : i = j := by
          rcases Nat.lt_trichotomy i j with z | z | z
          · rw [hlt i z] at hif
            cases hif
          · exact z
          · rw [hilt j z] at hjf
            cases hjf
        subst e
        rw [eq, er, ef, eh]
        refine ⟨rfl, zo_mk (zo_cvrule hc hi hf hh hh5 hq hr) (zx_so0 h0) (fun j hj => ?_) hl⟩
        rw [zb_set (by omega)]
        by_cases e : j = i
        · subst e
          rw [pk_us, decide_eq_true rfl, Bool.or_true]
          rfl
        · rw [pk_un e, decide_eq_false e, Bool.or_false]
          exact ht j hj
theorem i_vc_drop {k : Nat} {u : SX} {v : SY} (I : i_Rel k u v) (hk : k + 5 ≤ 2560) (v1 : Int32) : wpX_drop (fun r u' => wpY_drop (fun r' v' => r' = r ∧ i_Rel (k + 5) u' v') v v1) u v1 := by
  refine zo_el (C := fun u v => wpX_drop (fun r u' => wpY_drop (fun r' v' => r' = r ∧ i_Rel (k + 5) u' v') v v1) u v1) ?_ I
  intro pr as fr gv F H Q R an ct th P hc hs ht hl
  have hrel : i_Rel (k + 5) (pr, as, fr, gv, F, H, Q, R, an, ct) (th, F, H, Q, R, P) := zo_mk hc hs ht hl
  rcases pk_ix v1 (n := 8) (by omega) with h | h | ⟨j, hj, rfl⟩
  · exact zx_dropno (Or.inl h) (zy_dropno (Or.inl h) ⟨rfl, hrel⟩)
  · exact zx_dropno (Or.inr h) (zy_dropno (Or.inr h) ⟨rfl, hrel⟩)
  · refine zx_drop hj (fun hb => zy_drop hj (ht j hj) (fun _ => ⟨rfl, hrel⟩) (fun z => ?_)) (fun hb an' h0 => zy_drop hj (ht j hj) (fun z => ?_) (fun _ => ⟨rfl, zo_mk (zd_cvsub hc (zo_clr hj)) (zx_so0 h0) (zo_thclr hj ht) hl⟩))
    · rw [hb] at z
      cases z
    · rw [hb] at z
      cases z
theorem i_vc_rules {k : Nat} {u : SX} {v : SY} (I : i_Rel k u v) (hk : k + 5 ≤ 2560) : wpX_rules (fun r => wpY_rules (fun r' => r' = r ∧ i_Rel (k + 5) u v) v) u := by
  refine zo_el (C := fun u v => wpX_rules (fun r => wpY_rules (fun r' => r' = r ∧ i_Rel (k + 5) u v) v) u) ?_ I
  intro pr as fr gv F H Q R an ct th P hc hs ht hl
  have hrel : i_Rel (k + 5) (pr, as, fr, gv, F, H, Q, R, an, ct) (th, F, H, Q, R, P) := zo_mk hc hs ht hl
  unfold wpX_rules
  dsimp only
  exact zy_rules ht hc.1 ⟨rfl, hrel⟩
theorem i_vc_holds {k : Nat} {u : SX} {v : SY} (I : i_Rel k u v) (hk : k + 5 ≤ 2560) (v1 : Int32) (v2 : Int32) (v3 : Int32) : wpX_holds (fun r u' => wpY_holds (fun r' v' => r' = r ∧ i_Rel (k + 5) u' v') v v1 v2 v3) u v1 v2 v3 := by
  refine zo_el (C := fun u v => wpX_holds (fun r u' => wpY_holds (fun r' v' => r' = r ∧ i_Rel (k + 5) u' v') v v1 v2 v3) u v1 v2 v3) ?_ I
  intro pr as fr gv F H Q R an ct th P hc hs ht hl
  have hbad : zo_bad v1 ∨ zo_bad v2 ∨ zo_bad v3 → wpX_holds (fun r u' => wpY_holds (fun r' v' => r' = r ∧ i_Rel (k + 5) u' v') (th, F, H, Q, R, P) v1 v2 v3) (pr, as, fr, gv, F, H, Q, R, an, ct) v1 v2 v3 :=
    fun h => zx_holdsbad h (zy_holdsbad hc ht hl h (fun P' hl' => ⟨rfl, zo_mk hc hs ht hl'⟩))
  rcases zo_5 v1 with b | ⟨p, hp, rfl⟩
  · exact hbad (Or.inl b)
  rcases zo_5 v2 with b | ⟨x, hx, rfl⟩
  · exact hbad (Or.inr (Or.inl b))
  rcases zo_5 v3 with b | ⟨y, hy, rfl⟩
  · exact hbad (Or.inr (Or.inr b))
  exact zx_holds hc hs hp hx hy (fun as' fr' an' hs' => zy_holds hc ht hl hp hx hy (fun P' hl' => ⟨rfl, zo_mk hc hs' ht hl'⟩))
theorem i_vc_from {k : Nat} {u : SX} {v : SY} (I : i_Rel k u v) (hk : k + 5 ≤ 2560) (v1 : Int32) (v2 : Int32) : wpX_from (fun r u' => wpY_from (fun r' v' => r' = r ∧ i_Rel (k + 5) u' v') v v1 v2) u v1 v2 := by
  refine zo_el (C := fun u v => wpX_from (fun r u' => wpY_from (fun r' v' => r' = r ∧ i_Rel (k + 5) u' v') v v1 v2) u v1 v2) ?_ I
  intro pr as fr gv F H Q R an ct th P hc hs ht hl
  rcases zo_5 v1 with b | ⟨p, hp, rfl⟩
  · exact zx_frombad (Or.inl b) (zy_frombad hc ht hl (Or.inl b) (fun P' hl' => ⟨rfl, zo_mk hc hs ht hl'⟩))
  rcases zo_5 v2 with b | ⟨x, hx, rfl⟩
  · exact zx_frombad (Or.inr b) (zy_frombad hc ht hl (Or.inr b) (fun P' hl' => ⟨rfl, zo_mk hc hs ht hl'⟩))
  exact zx_from hc hs hp hx (fun w as' fr' an' hs' hw => zy_from hc ht hl hp hx (fun w' P' hl' hw' => ⟨zo_veq hw hw', zo_mk hc hs' ht hl'⟩))
theorem i_vc_to {k : Nat} {u : SX} {v : SY} (I : i_Rel k u v) (hk : k + 5 ≤ 2560) (v1 : Int32) (v2 : Int32) : wpX_to (fun r u' => wpY_to (fun r' v' => r' = r ∧ i_Rel (k + 5) u' v') v v1 v2) u v1 v2 := by
  refine zo_el (C := fun u v => wpX_to (fun r u' => wpY_to (fun r' v' => r' = r ∧ i_Rel (k + 5) u' v') v v1 v2) u v1 v2) ?_ I
  intro pr as fr gv F H Q R an ct th P hc hs ht hl
  rcases zo_5 v1 with b | ⟨p, hp, rfl⟩
  · exact zx_tobad (Or.inl b) (zy_tobad hc ht hl (Or.inl b) (fun P' hl' => ⟨rfl, zo_mk hc hs ht hl'⟩))
  rcases zo_5 v2 with b | ⟨y, hy, rfl⟩
  · exact zx_tobad (Or.inr b) (zy_tobad hc ht hl (Or.inr b) (fun P' hl' => ⟨rfl, zo_mk hc hs ht hl'⟩))
  exact zx_to hc hs hp hy (fun w as' fr' an' hs' hw => zy_to hc ht hl hp hy (fun w' P' hl' hw' => ⟨zo_veq hw hw', zo_mk hc hs' ht hl'⟩))
theorem i_vc_count {k : Nat} {u : SX} {v : SY} (I : i_Rel k u v) (hk : k + 5 ≤ 2560) (v1 : Int32) : wpX_count (fun r u' => wpY_count (fun r' v' => r' = r ∧ i_Rel (k + 5) u' v') v v1) u v1 := by
  refine zo_el (C := fun u v => wpX_count (fun r u' => wpY_count (fun r' v' => r' = r ∧ i_Rel (k + 5) u' v') v v1) u v1) ?_ I
  intro pr as fr gv F H Q R an ct th P hc hs ht hl
  rcases zo_5 v1 with b | ⟨p, hp, rfl⟩
  · exact zx_countbad b (zy_countbad hc ht hl b (fun P' hl' => ⟨rfl, zo_mk hc hs ht hl'⟩))
  exact zx_count hc hs hp (fun as' fr' an' hs' => zy_count hc ht hl hp (fun P' hl' => ⟨rfl, zo_mk hc hs' ht hl'⟩))
theorem i_vc_within {k : Nat} {u : SX} {v : SY} (I : i_Rel k u v) (hk : k + 5 ≤ 2560) (v1 : Int32) (v2 : Int32) : wpX_within (fun r u' => wpY_within (fun r' v' => r' = r ∧ i_Rel (k + 5) u' v') v v1 v2) u v1 v2 := by
  refine zo_el (C := fun u v => wpX_within (fun r u' => wpY_within (fun r' v' => r' = r ∧ i_Rel (k + 5) u' v') v v1 v2) u v1 v2) ?_ I
  intro pr as fr gv F H Q R an ct th P hc hs ht hl
  rcases zo_5 v1 with b | ⟨p, hp, rfl⟩
  · exact zx_withinbad (Or.inl b) (zy_withinbad hc ht hl (Or.inl b) (fun P' hl' => ⟨rfl, zo_mk hc hs ht hl'⟩))
  rcases zo_5 v2 with b | ⟨q, hq, rfl⟩
  · exact zx_withinbad (Or.inr b) (zy_withinbad hc ht hl (Or.inr b) (fun P' hl' => ⟨rfl, zo_mk hc hs ht hl'⟩))
  exact zx_within hc hs hp hq (fun hW as' fr' an' hs' => zy_within hc ht hl hp hq (fun _ P' hl' => ⟨rfl, zo_mk hc hs' ht hl'⟩) (fun z => absurd hW z))
    (fun hW as' fr' an' hs' => zy_within hc ht hl hp hq (fun z => absurd z hW) (fun _ P' hl' => ⟨rfl, zo_mk hc hs' ht hl'⟩))
theorem i_vc_redundant {k : Nat} {u : SX} {v : SY} (I : i_Rel k u v) (hk : k + 5 ≤ 2560) (v1 : Int32) : wpX_redundant (fun r u' => wpY_redundant (fun r' v' => r' = r ∧ i_Rel (k + 5) u' v') v v1) u v1 := by
  refine zo_el (C := fun u v => wpX_redundant (fun r u' => wpY_redundant (fun r' v' => r' = r ∧ i_Rel (k + 5) u' v') v v1) u v1) ?_ I
  intro pr as fr gv F H Q R an ct th P hc hs ht hl
  have hrel : i_Rel (k + 5) (pr, as, fr, gv, F, H, Q, R, an, ct) (th, F, H, Q, R, P) := zo_mk hc hs ht hl
  rcases pk_ix v1 (n := 8) (by omega) with h | h | ⟨j, hj, rfl⟩
  · exact zx_redno (Or.inl h) (zy_redno (Or.inl h) ⟨rfl, hrel⟩)
  · exact zx_redno (Or.inr h) (zy_redno (Or.inr h) ⟨rfl, hrel⟩)
  · by_cases hb : bt pr j = true
    · exact zx_redundant hc hs hj hb (fun hE fr' an' ct' h0 => zy_redundant hc ht hl hj hb (fun _ P' hl' => ⟨rfl, zo_mk hc (zx_so0 h0) ht hl'⟩) (fun z => absurd hE z))
        (fun hE fr' an' ct' h0 => zy_redundant hc ht hl hj hb (fun z => absurd z hE) (fun _ P' hl' => ⟨rfl, zo_mk hc (zx_so0 h0) ht hl'⟩))
    · exact zx_redabs hj hb (zy_redabs hj (ht j hj) hb ⟨rfl, hrel⟩)
theorem i_vc_loss {k : Nat} {u : SX} {v : SY} (I : i_Rel k u v) (hk : k + 5 ≤ 2560) (v1 : Int32) (v2 : Int32) (v3 : Int32) (v4 : Int32) : wpX_loss (fun r u' => wpY_loss (fun r' v' => r' = r ∧ i_Rel (k + 5) u' v') v v1 v2 v3 v4) u v1 v2 v3 v4 := by
  refine zo_el (C := fun u v => wpX_loss (fun r u' => wpY_loss (fun r' v' => r' = r ∧ i_Rel (k + 5) u' v') v v1 v2 v3 v4) u v1 v2 v3 v4) ?_ I
  intro pr as fr gv F H Q R an ct th P hc hs ht hl
  have hrel : i_Rel (k + 5) (pr, as, fr, gv, F, H, Q, R, an, ct) (th, F, H, Q, R, P) := zo_mk hc hs ht hl
  have hbad : zo_bad v1 ∨ (v2 < 0 ∨ nI 2 ≤ v2) ∨ zo_bad v3 ∨ zo_bad v4 → wpX_loss (fun r u' => wpY_loss (fun r' v' => r' = r ∧ i_Rel (k + 5) u' v') (th, F, H, Q, R, P) v1 v2 v3 v4) (pr, as, fr, gv, F, H, Q, R, an, ct) v1 v2 v3 v4 :=
    fun h => zx_lossbad h (zy_lossbad h ⟨rfl, hrel⟩)
  rcases zo_5 v1 with b | ⟨p, hp, rfl⟩
  · exact hbad (Or.inl b)
  rcases pk_ix v2 (n := 2) (by omega) with h | h | ⟨g, hg, rfl⟩
  · exact hbad (Or.inr (Or.inl (Or.inl h)))
  · exact hbad (Or.inr (Or.inl (Or.inr h)))
  rcases zo_5 v3 with b | ⟨x, hx, rfl⟩
  · exact hbad (Or.inr (Or.inr (Or.inl b)))
  rcases zo_5 v4 with b | ⟨y, hy, rfl⟩
  · exact hbad (Or.inr (Or.inr (Or.inr b)))
  exact zx_loss hc hs hp hg hx hy (fun hb => zy_loss0 hl hp hg hx hy hb ⟨rfl, hrel⟩)
    (fun hb gv1 fr' an' htp1 htp2 h0 => zy_loss hc ht hl hp hg hx hy htp1 htp2 hb (fun P' hl' => ⟨rfl, zo_mk hc (zx_so0 h0) ht hl'⟩))
theorem i_vc_transitive {k : Nat} {u : SX} {v : SY} (I : i_Rel k u v) (hk : k + 5 ≤ 2560) (v1 : Int32) : wpX_transitive (fun r u' => wpY_transitive (fun r' v' => r' = r ∧ i_Rel (k + 5) u' v') v v1) u v1 := by
  refine zo_el (C := fun u v => wpX_transitive (fun r u' => wpY_transitive (fun r' v' => r' = r ∧ i_Rel (k + 5) u' v') v v1) u v1) ?_ I
  intro pr as fr gv F H Q R an ct th P hc hs ht hl
  rcases zo_5 v1 with b | ⟨p, hp, rfl⟩
  · exact zx_transbad b (zy_transbad hc ht hl b (fun P' hl' => ⟨rfl, zo_mk hc hs ht hl'⟩))
  exact zx_transitive hc hs hp (fun hT as' fr' an' hs' => zy_transitive hc ht hl hp (fun _ P' hl' => ⟨rfl, zo_mk hc hs' ht hl'⟩) (fun z => absurd hT z))
    (fun hT as' fr' an' hs' => zy_transitive hc ht hl hp (fun z => absurd z hT) (fun _ P' hl' => ⟨rfl, zo_mk hc hs' ht hl'⟩))
end
