section
theorem pk_us {f : Nat → Int32} {k : Nat} {x : Int32} : upd f k x k = x := if_pos rfl
theorem pk_un {f : Nat → Int32} {k j : Nat} {x : Int32} (h : j ≠ k) : upd f k x j = f j := if_neg h
theorem pk_sub {a b : Nat} (h : b ≤ a) : nI a - nI b = nI (a - b) := by
  obtain ⟨c, rfl⟩ : ∃ c, a = c + b := ⟨a - b, by omega⟩
  rw [← nI_add, Int32.add_sub_cancel, Nat.add_sub_cancel]
theorem pk_m1 (n : Nat) : nI (n + 1) + (-1) = nI n := by
  rw [← nI_1, Int32.add_assoc, show (1 : Int32) + (-1) = 0 from rfl, Int32.add_zero]
theorem pk_mul (a b : Nat) : nI a * nI b = nI (a * b) := (Int32.ofNat_mul a b).symm
theorem pk_div {a d : Nat} (ha : a < 2 ^ 31) (h0 : 0 < d) (hd : d < 2 ^ 31) : nI a / nI d = nI (a / d) := by
  apply Int32.toInt_inj.mp
  rw [lg_idiv_nonneg (by rw [nI_toInt ha]; omega) (by rw [nI_toInt hd]; omega), nI_toInt ha, nI_toInt hd, nI_toInt (Nat.lt_of_le_of_lt (Nat.div_le_self a d) ha)]
  first | rfl | exact (Int.natCast_ediv _ _).symm
theorem pk_rem {a d : Nat} (ha : a < 2 ^ 31) (h0 : 0 < d) (hd : d < 2 ^ 31) : nI a - nI a / nI d * nI d = nI (a % d) := by
  rw [pk_div ha h0 hd, pk_mul, pk_sub (Nat.div_mul_le_self a d)]
  exact congrArg nI (by have := Nat.div_add_mod' a d; omega)
theorem pk_sub_toInt {a b : Nat} (ha : a < 2 ^ 30) (hb : b < 2 ^ 30) : (nI a - nI b).toInt = (a : Int) - b := by
  rw [Int32.toInt_sub, nI_toInt (by omega), nI_toInt (by omega)]
  exact Int.bmod_eq_of_le (by omega) (by omega)
theorem pk_sneg {a b : Nat} (hb : b < 2 ^ 30) (h : a < b) : nI a - nI b < 0 := by
  rw [Int32.lt_iff_toInt_lt, pk_sub_toInt (by omega) hb, show (0 : Int32).toInt = 0 from by decide]
  omega
theorem pk_ix (x : Int32) {n : Nat} (hn : n < 2 ^ 31) : x < 0 ∨ nI n ≤ x ∨ ∃ j : Nat, j < n ∧ x = nI j := by
  by_cases h : x < 0
  · exact Or.inl h
  · obtain ⟨j, hj, rfl⟩ := nI_of h
    by_cases h2 : j < n
    · exact Or.inr (Or.inr ⟨j, h2, rfl⟩)
    · exact Or.inr (Or.inl (nI_le (by omega) hj))
theorem pk_le {x y : Int32} {A B : Prop} (a b : Nat) (f : a ≤ b → A) (g : b < a → B) (hx : x = nI a := by rfl) (hy : y = nI b := by rfl) (ha : a < 2 ^ 31 := by omega) (hb : b < 2 ^ 31 := by omega) : (x ≤ y → A) ∧ (¬ x ≤ y → B) := by
  subst hx hy
  rw [nI_leI ha hb]
  exact ⟨f, fun z => g (by omega)⟩
theorem pk_lt {x y : Int32} {A B : Prop} (a b : Nat) (f : a < b → A) (g : b ≤ a → B) (hx : x = nI a := by rfl) (hy : y = nI b := by rfl) (ha : a < 2 ^ 31 := by omega) (hb : b < 2 ^ 31 := by omega) : (x < y → A) ∧ (¬ x < y → B) := by
  subst hx hy
  rw [nI_ltI ha hb]
  exact ⟨f, fun z => g (by omega)⟩
theorem pk_eq {x y : Int32} {A B : Prop} (a b : Nat) (f : a = b → A) (g : a ≠ b → B) (hx : x = nI a := by rfl) (hy : y = nI b := by rfl) (ha : a < 2 ^ 31 := by omega) (hb : b < 2 ^ 31 := by omega) : (x = y → A) ∧ (¬ x = y → B) := by
  subst hx hy
  rw [nI_eq ha hb]
  exact ⟨f, g⟩
theorem pk_in {x : Int32} (n N : Nat) (h : n < N) (hx : x = nI n := by rfl) (hN : N < 2 ^ 31 := by omega) : vp_in x N := by
  subst hx
  exact vp_in_nI h hN
theorem pk_cl {x : Int32} (n : Nat) (hx : x = nI n := by rfl) (h : n < 2 ^ 31 := by omega) : x.toNatClampNeg = n := by
  subst hx
  exact nI_clamp h
theorem pk_tn {n : Nat} (h : n < 2 ^ 32) : (nI n).toBitVec.toNat = n := Nat.mod_eq_of_lt h
theorem pk_and (x : Int32) {m : Int32} (k : Nat) (hm : m.toBitVec.toNat = 2 ^ k - 1) : x &&& m = nI (x.toBitVec.toNat % 2 ^ k) := by
  apply Int32.toBitVec_inj.mp
  apply BitVec.eq_of_toNat_eq
  rw [Int32.toBitVec_and, BitVec.toNat_and, hm, Nat.and_two_pow_sub_one_eq_mod]
  show _ = (BitVec.ofNat 32 _).toNat
  rw [BitVec.toNat_ofNat]
  exact (Nat.mod_eq_of_lt (Nat.lt_of_le_of_lt (Nat.mod_le _ _) x.toBitVec.isLt)).symm
theorem pk_andN {n : Nat} (h : n < 2 ^ 32) {m : Int32} (k : Nat) (hm : m.toBitVec.toNat = 2 ^ k - 1) : nI n &&& m = nI (n % 2 ^ k) := by
  rw [pk_and _ k hm, pk_tn h]
theorem pk_andE (x : Int32) {m : Int32} (k : Nat) (hm : m.toBitVec.toNat = 2 ^ k - 1) : ∃ j : Nat, j < 2 ^ k ∧ x &&& m = nI j := ⟨_, Nat.mod_lt _ (Nat.two_pow_pos k), pk_and x k hm⟩
theorem pk_andIn (x : Int32) {m : Int32} (k : Nat) (hm : m.toBitVec.toNat = 2 ^ k - 1) (hk : k ≤ 30) : vp_in (x &&& m) (2 ^ k) := by
  obtain ⟨j, hj, e⟩ := pk_andE x k hm
  rw [e]
  exact vp_in_nI hj (Nat.lt_of_le_of_lt (Nat.pow_le_pow_right (by decide) hk) (by decide))
theorem pk_shl (a s : Int32) (k : Nat) (hs : (s.toBitVec.smod 32).toNat = k) : (a <<< s).toBitVec.toNat = a.toBitVec.toNat * 2 ^ k % 2 ^ 32 := by
  show (a.toBitVec <<< (s.toBitVec.smod 32).toNat).toNat = _
  rw [hs, BitVec.toNat_shiftLeft, Nat.shiftLeft_eq]
theorem pk_shlN {n : Nat} (s : Int32) (k : Nat) (hs : (s.toBitVec.smod 32).toNat = k) (h : n * 2 ^ k < 2 ^ 32) : nI n <<< s = nI (n * 2 ^ k) := by
  apply Int32.toBitVec_inj.mp
  apply BitVec.eq_of_toNat_eq
  have hn : n < 2 ^ 32 := Nat.lt_of_le_of_lt (Nat.le_mul_of_pos_right n (Nat.two_pow_pos k)) h
  rw [pk_shl _ _ k hs, pk_tn hn, pk_tn h, Nat.mod_eq_of_lt h]
theorem pk_shr (a s : Int32) (k : Nat) (hs : (s.toBitVec.smod 32).toNat = k) : (a >>> s).toInt = a.toInt >>> k := by
  show (a.toBitVec.sshiftRight (s.toBitVec.smod 32).toNat).toInt = _
  rw [hs, BitVec.toInt_sshiftRight]
  rfl
theorem pk_shrN {n : Nat} (h : n < 2 ^ 31) (s : Int32) (k : Nat) (hs : (s.toBitVec.smod 32).toNat = k) : nI n >>> s = nI (n / 2 ^ k) := by
  apply Int32.toInt_inj.mp
  have h2 : n / 2 ^ k ≤ n := Nat.div_le_self _ _
  rw [pk_shr _ _ k hs, nI_toInt h, nI_toInt (by omega), Int.shiftRight_eq_div_pow]
  rfl
theorem pk_ushr (x s : Int32) (k : Nat) (hs : ((s.toUInt32 &&& Int32.toUInt32 31).toBitVec % 32).toNat = k) : (x.toUInt32 >>> (s.toUInt32 &&& Int32.toUInt32 31)).toInt32.toBitVec.toNat = x.toBitVec.toNat / 2 ^ k := by
  have e : (x.toUInt32 >>> (s.toUInt32 &&& Int32.toUInt32 31)).toInt32.toBitVec = x.toBitVec >>> k := by
    rw [← hs]
    exact UInt32.toBitVec_shiftRight _ _
  rw [e, BitVec.toNat_ushiftRight, Nat.shiftRight_eq_div_pow]
theorem pk_ushrN {n : Nat} (hn : n < 2 ^ 32) (s : Int32) (k : Nat) (hs : ((s.toUInt32 &&& Int32.toUInt32 31).toBitVec % 32).toNat = k) : ((nI n).toUInt32 >>> (s.toUInt32 &&& Int32.toUInt32 31)).toInt32 = nI (n / 2 ^ k) := by
  apply Int32.toBitVec_inj.mp
  apply BitVec.eq_of_toNat_eq
  rw [pk_ushr _ s k hs, pk_tn hn, pk_tn (Nat.lt_of_le_of_lt (Nat.div_le_self _ _) hn)]
theorem pk_vb (z : Int32) : vp_nar .byte z.toInt8.toInt32 = z.toInt8.toInt32 := by rw [vp_nar_byte]; simp
theorem pk_loop {σ : Type} (W : Nat → Nat → σ → Prop) (I : Nat → σ → Prop) (e i0 : Nat) (s : σ) (hi : i0 ≤ e) (h0 : I i0 s) (hx : ∀ n s, I e s → W (n + 1) e s)
    (hs : ∀ n i s, i < e → I i s → (∀ s', I (i + 1) s' → W n (i + 1) s') → W (n + 1) i s) : ∃ n, W n i0 s :=
  ⟨e + 1, loop_i W I e hx hs (e + 1) i0 s hi (by omega) h0⟩
theorem pk_loopD {σ : Type} (W : Nat → Nat → σ → Prop) (I : Nat → σ → Prop) (hx : ∀ n s, I 0 s → W (n + 1) 0 s)
    (hs : ∀ n i s, I (i + 1) s → (∀ s', I i s' → W n i s') → W (n + 1) (i + 1) s) : ∀ (e : Nat) (s : σ), I e s → W (e + 1) e s := by
  intro e
  induction e with
  | zero => exact fun s h => hx 0 s h
  | succ e ih => exact fun s h => hs (e + 1) e s h (fun s' h' => ih s' h')
theorem lp1 {A1 : Type} (W : Nat → A1 → Prop) (I : A1 → Prop) (μ : A1 → Nat) (hs : ∀ (n : Nat) (a1 : A1), I a1 → (∀ (b1 : A1), I b1 → μ b1 < μ a1 → W n b1) → W (n + 1) a1) (a1 : A1) (h : I a1) : ∃ n, W n a1 :=
  loop_m (σ := A1) (fun n s => W n s) (fun s => I s) (fun s => μ s) (fun n s hI hk => hs n s hI (fun b1 h9 hm => hk b1 h9 hm)) a1 h
theorem lp2 {A1 A2 : Type} (W : Nat → A1 → A2 → Prop) (I : A1 → A2 → Prop) (μ : A1 → A2 → Nat) (hs : ∀ (n : Nat) (a1 : A1) (a2 : A2), I a1 a2 → (∀ (b1 : A1) (b2 : A2), I b1 b2 → μ b1 b2 < μ a1 a2 → W n b1 b2) → W (n + 1) a1 a2) (a1 : A1) (a2 : A2) (h : I a1 a2) : ∃ n, W n a1 a2 :=
  loop_m (σ := A1 × A2) (fun n s => W n s.1 s.2) (fun s => I s.1 s.2) (fun s => μ s.1 s.2) (fun n s hI hk => hs n s.1 s.2 hI (fun b1 b2 h9 hm => hk (b1, b2) h9 hm)) (a1, a2) h
theorem lp3 {A1 A2 A3 : Type} (W : Nat → A1 → A2 → A3 → Prop) (I : A1 → A2 → A3 → Prop) (μ : A1 → A2 → A3 → Nat) (hs : ∀ (n : Nat) (a1 : A1) (a2 : A2) (a3 : A3), I a1 a2 a3 → (∀ (b1 : A1) (b2 : A2) (b3 : A3), I b1 b2 b3 → μ b1 b2 b3 < μ a1 a2 a3 → W n b1 b2 b3) → W (n + 1) a1 a2 a3) (a1 : A1) (a2 : A2) (a3 : A3) (h : I a1 a2 a3) : ∃ n, W n a1 a2 a3 :=
  loop_m (σ := A1 × A2 × A3) (fun n s => W n s.1 s.2.1 s.2.2) (fun s => I s.1 s.2.1 s.2.2) (fun s => μ s.1 s.2.1 s.2.2) (fun n s hI hk => hs n s.1 s.2.1 s.2.2 hI (fun b1 b2 b3 h9 hm => hk (b1, b2, b3) h9 hm)) (a1, a2, a3) h
theorem lp4 {A1 A2 A3 A4 : Type} (W : Nat → A1 → A2 → A3 → A4 → Prop) (I : A1 → A2 → A3 → A4 → Prop) (μ : A1 → A2 → A3 → A4 → Nat) (hs : ∀ (n : Nat) (a1 : A1) (a2 : A2) (a3 : A3) (a4 : A4), I a1 a2 a3 a4 → (∀ (b1 : A1) (b2 : A2) (b3 : A3) (b4 : A4), I b1 b2 b3 b4 → μ b1 b2 b3 b4 < μ a1 a2 a3 a4 → W n b1 b2 b3 b4) → W (n + 1) a1 a2 a3 a4) (a1 : A1) (a2 : A2) (a3 : A3) (a4 : A4) (h : I a1 a2 a3 a4) : ∃ n, W n a1 a2 a3 a4 :=
  loop_m (σ := A1 × A2 × A3 × A4) (fun n s => W n s.1 s.2.1 s.2.2.1 s.2.2.2) (fun s => I s.1 s.2.1 s.2.2.1 s.2.2.2) (fun s => μ s.1 s.2.1 s.2.2.1 s.2.2.2) (fun n s hI hk => hs n s.1 s.2.1 s.2.2.1 s.2.2.2 hI (fun b1 b2 b3 b4 h9 hm => hk (b1, b2, b3, b4) h9 hm)) (a1, a2, a3, a4) h
def bt (x : Int32) (i : Nat) : Bool := x.toBitVec.getLsbD i
theorem b_ext {x y : Int32} (h : ∀ i, i < 32 → bt x i = bt y i) : x = y := Int32.toBitVec_inj.mp (BitVec.eq_of_getLsbD_eq (fun i hi => h i hi))
theorem b_or (x y : Int32) (i : Nat) : bt (x ||| y) i = (bt x i || bt y i) := by unfold bt; rw [Int32.toBitVec_or, BitVec.getLsbD_or]
theorem b_and (x y : Int32) (i : Nat) : bt (x &&& y) i = (bt x i && bt y i) := by unfold bt; rw [Int32.toBitVec_and, BitVec.getLsbD_and]
theorem b_xor (x y : Int32) (i : Nat) : bt (x ^^^ y) i = (bt x i ^^ bt y i) := by unfold bt; rw [Int32.toBitVec_xor, BitVec.getLsbD_xor]
theorem b_big {x : Int32} {i : Nat} (h : 32 ≤ i) : bt x i = false := BitVec.getLsbD_of_ge _ _ h
theorem b_m1 : ∀ i, i < 32 → bt (-1) i = true := by decide +kernel
theorem b_0 (i : Nat) : bt 0 i = false := BitVec.getLsbD_zero
theorem s_l : ∀ n, n < 32 → ((nI n &&& 31).toBitVec.smod 32).toNat = n := by decide +kernel
theorem s_u : ∀ n, n < 32 → (((nI n).toUInt32 &&& Int32.toUInt32 31).toBitVec % 32).toNat = n := by decide +kernel
theorem b_shl (n : Nat) (hn : n < 32) (x : Int32) {i : Nat} (hi : i < 32) : bt (x <<< (nI n &&& 31)) i = (decide (n ≤ i) && bt x (i - n)) := by
  unfold bt
  rw [Int32.toBitVec_shiftLeft]
  show (x.toBitVec <<< ((nI n &&& 31).toBitVec.smod 32).toNat).getLsbD i = _
  rw [s_l n hn, BitVec.getLsbD_shiftLeft]
  rcases Nat.lt_or_ge i n with h | h
  · simp [h, Nat.not_le.mpr h]
  · simp [hi, h, Nat.not_lt.mpr h]
theorem b_ushr (n : Nat) (hn : n < 32) (x : Int32) (i : Nat) : bt ((x.toUInt32 >>> ((nI n).toUInt32 &&& Int32.toUInt32 31)).toInt32) i = bt x (n + i) := by
  show (x.toUInt32 >>> ((nI n).toUInt32 &&& Int32.toUInt32 31)).toBitVec.getLsbD i = x.toUInt32.toBitVec.getLsbD (n + i)
  rw [UInt32.toBitVec_shiftRight]
  show (x.toUInt32.toBitVec >>> (((nI n).toUInt32 &&& Int32.toUInt32 31).toBitVec % 32).toNat).getLsbD i = _
  rw [s_u n hn, BitVec.getLsbD_ushiftRight]
theorem nx_and (a b : Nat) : nI a &&& nI b = nI (a &&& b) := by
  apply Int32.toBitVec_inj.1
  show BitVec.ofNat 32 a &&& BitVec.ofNat 32 b = BitVec.ofNat 32 (a &&& b)
  apply BitVec.eq_of_getLsbD_eq
  intro i hi
  simp [hi]
theorem nx_xor (a b : Nat) : nI a ^^^ nI b = nI (a ^^^ b) := by
  apply Int32.toBitVec_inj.1
  show BitVec.ofNat 32 a ^^^ BitVec.ofNat 32 b = BitVec.ofNat 32 (a ^^^ b)
  apply BitVec.eq_of_getLsbD_eq
  intro i hi
  simp [hi]
end
section
/-! ===== words as sets of bits, small numbers ===== -/
theorem gb_one : ∀ n, n < 32 → ∀ i, i < 32 → bt ((1 : Int32) <<< (nI n &&& 31)) i = decide (i = n) := by decide +kernel
theorem gb_1 : ∀ i, i < 32 → bt 1 i = decide (i = 0) := by decide +kernel
theorem gb_bool (b : Bool) : ∀ i, i < 32 → bt (nI b.toNat) i = (b && decide (i = 0)) := by
  cases b
  · intro i hi; show bt (nI 0) i = false; rw [nI_0]; exact b_0 i
  · intro i hi; show bt 1 i = (true && decide (i = 0)); rw [gb_1 i hi, Bool.true_and]
theorem gb_set {x : Int32} {n i : Nat} (hn : n < 32) (hi : i < 32) : bt (x ||| ((1 : Int32) <<< (nI n &&& 31))) i = (bt x i || decide (i = n)) := by
  rw [b_or, gb_one n hn i hi]
theorem gb_clr {x : Int32} {n i : Nat} (hn : n < 32) (hi : i < 32) : bt (x &&& (((1 : Int32) <<< (nI n &&& 31)) ^^^ (-1))) i = (bt x i && !decide (i = n)) := by
  rw [b_and, b_xor, gb_one n hn i hi, b_m1 i hi, Bool.xor_true]
theorem gb_tst {x : Int32} {n : Nat} (hn : n < 32) : ((x.toUInt32 >>> ((nI n).toUInt32 &&& Int32.toUInt32 31)).toInt32 &&& 1) = nI (bt x n).toNat := by
  apply b_ext
  intro i hi
  rw [b_and, b_ushr n hn, gb_1 i hi, gb_bool _ i hi]
  by_cases h : i = 0
  · subst h; rfl
  · rw [decide_eq_false h, Bool.and_false, Bool.and_false]
theorem gb_b0 (b : Bool) : nI b.toNat = 0 ↔ b = false := by cases b <;> decide
theorem gb_z {x : Int32} {n : Nat} (hn : n < 32) : ((x.toUInt32 >>> ((nI n).toUInt32 &&& Int32.toUInt32 31)).toInt32 &&& 1) = 0 ↔ bt x n = false := by
  rw [gb_tst hn, gb_b0]
theorem gb_0 {x : Int32} : x = 0 ↔ ∀ i, i < 32 → bt x i = false :=
  ⟨fun h i _ => by rw [h]; exact b_0 i, fun h => b_ext fun i hi => by rw [h i hi, b_0]⟩
theorem gn_ix (g j : Nat) : 6 * nI g + nI j = nI (6 * g + j) := by
  show nI 6 * nI g + nI j = _
  rw [pk_mul, nI_add]
theorem gn_32 (g : Nat) : 32 * nI g = nI (32 * g) := by
  show nI 32 * nI g = _
  rw [pk_mul]
theorem gn_shr {n k : Nat} (h : n < 2 ^ 31) (hk : k < 32) : nI n >>> (nI k &&& 31) = nI (n / 2 ^ k) := pk_shrN h _ k (s_l k hk)
theorem gn_shl {n k : Nat} (h : n * 2 ^ k < 2 ^ 32) (hk : k < 32) : nI n <<< (nI k &&& 31) = nI (n * 2 ^ k) := pk_shlN _ k (s_l k hk) h
theorem gn_1l {k : Nat} (hk : k < 32) : (1 : Int32) <<< (nI k &&& 31) = nI (2 ^ k) := by
  have h : 2 ^ k < 2 ^ 32 := Nat.pow_lt_pow_right (by decide) hk
  show nI 1 <<< _ = _
  rw [gn_shl (by omega) hk, Nat.one_mul]
theorem gn_xor (a : Nat) : nI a ^^^ 1 = nI (a ^^^ 1) := nx_xor a 1
theorem gn_and31 {n : Nat} (h : n < 2 ^ 31) : nI n &&& 31 = nI (n % 32) := pk_andN (by omega) 5 (by decide)
theorem gn_shr5 {n : Nat} (h : n < 2 ^ 31) : nI n >>> ((5 : Int32) &&& 31) = nI (n / 32) := gn_shr (k := 5) h (by decide)
theorem gn_x1 : ∀ c, c < 32 → c ^^^ 1 = if c % 2 = 0 then c + 1 else c - 1 := by decide
theorem gn_byte : ∀ k, k < 7 → vp_nar .byte (nI k).toInt8.toInt32 = nI k := by
  intro k hk
  rw [vp_nar_byte]
  revert k
  decide
theorem gn_bm1 : vp_nar .byte (-1) = -1 := by rw [vp_nar_byte]; decide
theorem gn_m1ne {n : Nat} (h : n < 2 ^ 31) : nI n ≠ -1 := by
  intro e
  have h1 := nI_toInt h
  rw [e] at h1
  have h2 : (-1 : Int32).toInt = -1 := by decide
  omega
theorem gn_inj {a b : Nat} (ha : a < 2 ^ 31) (hb : b < 2 ^ 31) (h : nI a = nI b) : a = b := (nI_eq ha hb).mp h
theorem gn_m1lt : (-1 : Int32) < 0 := by decide
end
section
/-! ===== the tree of runs over a set P of free blocks ===== -/
/-- the run of order j and number i (the blocks b with b / 2^j = i) is free as a whole -/
def ga_T (P : Nat → Bool) : Nat → Nat → Bool
  | 0, i => P i
  | j + 1, i => ga_T P j (2 * i) && ga_T P j (2 * i + 1)
/-- it is free, and the run of the next order around it isn't -/
def ga_B (P : Nat → Bool) (j i : Nat) : Bool := ga_T P j i && !ga_T P (j + 1) (i / 2)
theorem ga_dd (b j : Nat) : b / 2 ^ (j + 1) = b / 2 ^ j / 2 := by rw [Nat.pow_succ, Nat.div_div_eq_div_mul]
theorem ga_da (b j d : Nat) : b / 2 ^ (j + d) = b / 2 ^ j / 2 ^ d := by rw [Nat.pow_add, Nat.div_div_eq_div_mul]
theorem ga_mul (i j : Nat) : i * 2 ^ j / 2 ^ j = i := Nat.mul_div_cancel _ (Nat.two_pow_pos j)
theorem ga_T_iff (P : Nat → Bool) : ∀ j i, ga_T P j i = true ↔ ∀ b, b / 2 ^ j = i → P b = true := by
  intro j
  induction j with
  | zero =>
    intro i
    show P i = true ↔ _
    constructor
    · intro h b hb
      rw [Nat.pow_zero, Nat.div_one] at hb
      rw [hb]; exact h
    · intro h
      exact h i (by rw [Nat.pow_zero, Nat.div_one])
  | succ j ih =>
    intro i
    show (ga_T P j (2 * i) && ga_T P j (2 * i + 1)) = true ↔ _
    rw [Bool.and_eq_true, ih, ih]
    constructor
    · intro h b hb
      rw [ga_dd] at hb
      obtain ⟨h1, h2⟩ := h
      have e1 := h1 b
      have e2 := h2 b
      generalize b / 2 ^ j = c at *
      rcases Nat.mod_two_eq_zero_or_one c with h | h
      · exact e1 (by omega)
      · exact e2 (by omega)
    · intro h
      refine ⟨fun b hb => h b ?_, fun b hb => h b ?_⟩
      · rw [ga_dd, hb]; omega
      · rw [ga_dd, hb]; omega
theorem ga_T_f {P : Nat → Bool} {j i b : Nat} (hb : b / 2 ^ j = i) (h : P b = false) : ga_T P j i = false := by
  rw [Bool.eq_false_iff]
  intro z
  rw [(ga_T_iff P j i).mp z b hb] at h
  exact Bool.noConfusion h
theorem ga_T_cong {P Q : Nat → Bool} {j i : Nat} (h : ∀ b, b / 2 ^ j = i → P b = Q b) : ga_T P j i = ga_T Q j i := by
  rw [Bool.eq_iff_iff, ga_T_iff, ga_T_iff]
  exact ⟨fun z b hb => by rw [← h b hb]; exact z b hb, fun z b hb => by rw [h b hb]; exact z b hb⟩
theorem ga_T_up {P : Nat → Bool} {s j d : Nat} (h : ga_T P (j + d) (s / 2 ^ (j + d)) = true) : ga_T P j (s / 2 ^ j) = true := by
  rw [ga_T_iff] at h ⊢
  intro b hb
  exact h b (by rw [ga_da, ga_da, hb])
theorem ga_T_le {P : Nat → Bool} {s j k : Nat} (hjk : j ≤ k) (h : ga_T P k (s / 2 ^ k) = true) : ga_T P j (s / 2 ^ j) = true := by
  obtain ⟨d, rfl⟩ := Nat.le.dest hjk
  exact ga_T_up h
theorem ga_T_half {P : Nat → Bool} {j i : Nat} (h : ga_T P (j + 1) (i / 2) = true) : ga_T P j i = true := by
  rw [ga_T_iff] at h ⊢
  intro b hb
  exact h b (by rw [ga_dd, hb])
/-- no block from 32 on is in P -/
def ga_32 (P : Nat → Bool) : Prop := ∀ b, 32 ≤ b → P b = false
theorem ga_T_out {P : Nat → Bool} (h : ga_32 P) {j i : Nat} (hi : 32 ≤ i * 2 ^ j) : ga_T P j i = false :=
  ga_T_f (b := i * 2 ^ j) (ga_mul i j) (h _ hi)
theorem ga_T_6 {P : Nat → Bool} (h : ga_32 P) (j i : Nat) (hj : 6 ≤ j) : ga_T P j i = false := by
  have e : ga_T P j i = false := by
    apply ga_T_f (b := i * 2 ^ j + 32) _ (h _ (by omega))
    have h2 : 2 ^ 6 ≤ 2 ^ j := Nat.pow_le_pow_right (by decide) hj
    rw [Nat.add_comm, Nat.add_mul_div_right _ _ (Nat.two_pow_pos j), Nat.div_eq_of_lt (by omega), Nat.zero_add]
  exact e
/-! ===== the maximal run around a block ===== -/
theorem ga_J {P : Nat → Bool} (h : ga_32 P) {s k : Nat} (hs : ga_T P k (s / 2 ^ k) = true) : ∃ J, k ≤ J ∧ J < 6 ∧ ga_T P J (s / 2 ^ J) = true ∧ ga_T P (J + 1) (s / 2 ^ (J + 1)) = false := by
  have key : ∀ d k, k + d = 6 → ga_T P k (s / 2 ^ k) = true → ∃ J, k ≤ J ∧ J < 6 ∧ ga_T P J (s / 2 ^ J) = true ∧ ga_T P (J + 1) (s / 2 ^ (J + 1)) = false := by
    intro d
    induction d with
    | zero => intro k hk hs; rw [ga_T_6 h k _ (by omega)] at hs; exact Bool.noConfusion hs
    | succ d ih =>
      intro k hk hs
      cases e : ga_T P (k + 1) (s / 2 ^ (k + 1)) with
      | false => exact ⟨k, Nat.le_refl k, by omega, hs, e⟩
      | true =>
        obtain ⟨J, h1, h2, h3, h4⟩ := ih (k + 1) (by omega) e
        exact ⟨J, by omega, h2, h3, h4⟩
  rcases Nat.lt_or_ge k 6 with hk | hk
  · exact key (6 - k) k (by omega) hs
  · rw [ga_T_6 h k _ hk] at hs; exact Bool.noConfusion hs
theorem ga_B_at {P : Nat → Bool} {s J : Nat} (h3 : ga_T P J (s / 2 ^ J) = true) (h4 : ga_T P (J + 1) (s / 2 ^ (J + 1)) = false) : ga_B P J (s / 2 ^ J) = true := by
  unfold ga_B
  rw [h3, ← ga_dd, h4]; rfl
theorem ga_B_below {P : Nat → Bool} {s J j : Nat} (hj : j < J) (h3 : ga_T P J (s / 2 ^ J) = true) : ga_B P j (s / 2 ^ j) = false := by
  unfold ga_B
  rw [← ga_dd, ga_T_le (j := j + 1) hj h3, Bool.not_true, Bool.and_false]
theorem ga_B_none {P : Nat → Bool} {s : Nat} (h : P s = false) (j : Nat) : ga_B P j (s / 2 ^ j) = false := by
  unfold ga_B
  rw [ga_T_f (b := s) rfl h, Bool.false_and]
/-! ===== siblings ===== -/
theorem ga_sib {c i : Nat} (hc : c < 32) (h : i / 2 = c / 2) (hn : i ≠ c) : i = c ^^^ 1 := by
  rw [gn_x1 c hc]; split <;> omega
theorem ga_sib2 {c : Nat} (hc : c < 32) : (c ^^^ 1) / 2 = c / 2 ∧ c ^^^ 1 ≠ c ∧ c ^^^ 1 < 32 := by
  rw [gn_x1 c hc]; split <;> omega
theorem ga_T_path {P : Nat → Bool} {j c : Nat} (hc : c < 32) : ga_T P (j + 1) (c / 2) = (ga_T P j c && ga_T P j (c ^^^ 1)) := by
  show (ga_T P j (2 * (c / 2)) && ga_T P j (2 * (c / 2) + 1)) = _
  rw [gn_x1 c hc]
  split
  · rename_i h
    have e : 2 * (c / 2) = c := by omega
    rw [e]
  · rename_i h
    have e : 2 * (c / 2) + 1 = c := by omega
    have e2 : 2 * (c / 2) = c - 1 := by omega
    rw [e, e2, Bool.and_comm]
/-! ===== taking a run out ===== -/
theorem ga_cut_hi {P Q : Nat → Bool} {s k d i : Nat} (hQ : ∀ b, Q b = (P b && !decide (b / 2 ^ k = s / 2 ^ k))) : ga_T Q (k + d) i = (ga_T P (k + d) i && !decide (i = s / 2 ^ (k + d))) := by
  by_cases h : i = s / 2 ^ (k + d)
  · rw [decide_eq_true h, Bool.not_true, Bool.and_false]
    refine ga_T_f (b := s) h.symm ?_
    rw [hQ, decide_eq_true rfl, Bool.not_true, Bool.and_false]
  · rw [decide_eq_false h, Bool.not_false, Bool.and_true]
    refine ga_T_cong fun b hb => ?_
    rw [hQ, decide_eq_false, Bool.not_false, Bool.and_true]
    intro z
    exact h (by rw [← hb, ga_da, ga_da, z])
theorem ga_cut_lo {P Q : Nat → Bool} {s j d i : Nat} (hQ : ∀ b, Q b = (P b && !decide (b / 2 ^ (j + d) = s / 2 ^ (j + d)))) : ga_T Q j i = (ga_T P j i && !decide (i / 2 ^ d = s / 2 ^ (j + d))) := by
  by_cases h : i / 2 ^ d = s / 2 ^ (j + d)
  · rw [decide_eq_true h, Bool.not_true, Bool.and_false]
    refine ga_T_f (b := i * 2 ^ j) (ga_mul i j) ?_
    rw [hQ, decide_eq_true, Bool.not_true, Bool.and_false]
    rw [ga_da, ga_mul, h]
  · rw [decide_eq_false h, Bool.not_false, Bool.and_true]
    refine ga_T_cong fun b hb => ?_
    rw [hQ, decide_eq_false, Bool.not_false, Bool.and_true]
    intro z
    exact h (by rw [← hb, ← ga_da]; exact z)
/-- what carve makes of a bit -/
def ga_cv (J k s : Nat) (o : Bool) (j i : Nat) : Bool := if j = J then o && !decide (i = s / 2 ^ J) else if k ≤ j ∧ j < J then o || decide (i = s / 2 ^ j ^^^ 1) else o
theorem ga_carve {P Q : Nat → Bool} {s k J : Nat} (hs : s < 32) (hkJ : k ≤ J) (h3 : ga_T P J (s / 2 ^ J) = true) (h4 : ga_T P (J + 1) (s / 2 ^ (J + 1)) = false) (hQ : ∀ b, Q b = (P b && !decide (b / 2 ^ k = s / 2 ^ k))) (j i : Nat) : ga_B Q j i = ga_cv J k s (ga_B P j i) j i := by
  have hc : s / 2 ^ j < 32 := Nat.lt_of_le_of_lt (Nat.div_le_self _ _) hs
  unfold ga_cv
  by_cases hjJ : j = J
  · subst hjJ
    rw [if_pos rfl]
    obtain ⟨d, rfl⟩ := Nat.le.dest hkJ
    unfold ga_B
    rw [ga_cut_hi hQ, Nat.add_assoc, ga_cut_hi hQ, ← Nat.add_assoc]
    by_cases h : i = s / 2 ^ (k + d)
    · rw [decide_eq_true h]; simp
    · rw [decide_eq_false h]
      by_cases h5 : i / 2 = s / 2 ^ (k + d + 1)
      · rw [h5, h4]; simp
      · rw [decide_eq_false h5]; simp
  · rw [if_neg hjJ]
    by_cases hm : k ≤ j ∧ j < J
    · rw [if_pos hm]
      obtain ⟨d, rfl⟩ := Nat.le.dest hm.1
      have ht : ga_T P (k + d + 1) (s / 2 ^ (k + d + 1)) = true := ga_T_le hm.2 h3
      unfold ga_B
      rw [ga_cut_hi hQ, Nat.add_assoc, ga_cut_hi hQ, ← Nat.add_assoc]
      by_cases h5 : i / 2 = s / 2 ^ (k + d + 1)
      · have ht2 : ga_T P (k + d) i = true := ga_T_half (by rw [h5]; exact ht)
        rw [h5, ht, ht2]
        rw [ga_dd] at h5
        by_cases h : i = s / 2 ^ (k + d)
        · have h6 : i ≠ s / 2 ^ (k + d) ^^^ 1 := by rw [h]; exact fun z => (ga_sib2 hc).2.1 z.symm
          rw [decide_eq_true h, decide_eq_false h6]; simp
        · have h6 := ga_sib hc h5 h
          rw [decide_eq_false h, decide_eq_true h6]; simp
      · have h : i ≠ s / 2 ^ (k + d) := fun z => h5 (by rw [z, ← ga_dd])
        have h6 : i ≠ s / 2 ^ (k + d) ^^^ 1 := fun z => h5 (by rw [z, (ga_sib2 hc).1, ← ga_dd])
        rw [decide_eq_false h, decide_eq_false h6, decide_eq_false h5]; simp
    · rw [if_neg hm]
      rcases Nat.lt_or_ge j k with hjk | hjk
      · obtain ⟨d, rfl⟩ : ∃ d, k = j + (d + 1) := ⟨k - j - 1, by omega⟩
        unfold ga_B
        have hQ2 : ∀ b, Q b = (P b && !decide (b / 2 ^ (j + 1 + d) = s / 2 ^ (j + 1 + d))) := by
          intro b; rw [hQ b, show j + 1 + d = j + (d + 1) by omega]
        rw [ga_cut_lo hQ, ga_cut_lo hQ2]
        have e1 : i / 2 ^ (d + 1) = i / 2 / 2 ^ d := by rw [Nat.add_comm d 1, ga_da, Nat.pow_one]
        have e2 : s / 2 ^ (j + (d + 1)) = s / 2 ^ (j + 1 + d) := by rw [show j + 1 + d = j + (d + 1) by omega]
        rw [e1, e2]
        by_cases h : i / 2 / 2 ^ d = s / 2 ^ (j + 1 + d)
        · have ht : ga_T P (j + 1) (i / 2) = true := by
            have ht2 : ga_T P (j + 1 + d) (s / 2 ^ (j + 1 + d)) = true := ga_T_le (by omega) h3
            rw [ga_T_iff] at ht2 ⊢
            intro b hb
            exact ht2 b (by rw [ga_da, hb, h])
          rw [decide_eq_true h, ht]; simp
        · rw [decide_eq_false h]; simp
      · have hJj : J < j := by omega
        obtain ⟨d, rfl⟩ := Nat.le.dest hjk
        have hf : ∀ e, J < e → ga_T P e (s / 2 ^ e) = false := by
          intro e he
          cases z : ga_T P e (s / 2 ^ e) with
          | false => rfl
          | true => rw [ga_T_le (j := J + 1) he z] at h4; exact Bool.noConfusion h4
        unfold ga_B
        rw [ga_cut_hi hQ, Nat.add_assoc, ga_cut_hi hQ, ← Nat.add_assoc]
        have f1 : ∀ e x, J < e → (ga_T P e x && !decide (x = s / 2 ^ e)) = ga_T P e x := by
          intro e x he
          by_cases h : x = s / 2 ^ e
          · rw [h, hf e he, Bool.false_and]
          · rw [decide_eq_false h, Bool.not_false, Bool.and_true]
        rw [f1 _ _ hJj, f1 _ _ (by omega)]
end
section
/-! ===== giving a run back ===== -/
def ga_gv (J k s : Nat) (o : Bool) (j i : Nat) : Bool := if j = J then o || decide (i = s / 2 ^ J) else if k ≤ j ∧ j < J then o && !decide (i = s / 2 ^ j ^^^ 1) else o
theorem ga_add_off {P Q : Nat → Bool} {s k j i : Nat} (hQ : ∀ b, Q b = (P b || decide (b / 2 ^ k = s / 2 ^ k))) (h : ∀ b, b / 2 ^ j = i → b / 2 ^ k ≠ s / 2 ^ k) : ga_T Q j i = ga_T P j i :=
  ga_T_cong fun b hb => by rw [hQ, decide_eq_false (h b hb), Bool.or_false]
theorem ga_add_hi {P Q : Nat → Bool} {s k d i : Nat} (hQ : ∀ b, Q b = (P b || decide (b / 2 ^ k = s / 2 ^ k))) (h : i ≠ s / 2 ^ (k + d)) : ga_T Q (k + d) i = ga_T P (k + d) i :=
  ga_add_off hQ fun b hb z => h (by rw [← hb, ga_da, ga_da, z])
theorem ga_add_path {P Q : Nat → Bool} {s k J : Nat} (hs : s < 32) (hsib : ∀ j, k ≤ j → j < J → ga_T P j (s / 2 ^ j ^^^ 1) = true) (hQ : ∀ b, Q b = (P b || decide (b / 2 ^ k = s / 2 ^ k))) : ∀ d, k + d ≤ J → ga_T Q (k + d) (s / 2 ^ (k + d)) = true := by
  intro d
  induction d with
  | zero =>
    intro _
    rw [Nat.add_zero, ga_T_iff]
    intro b hb
    rw [hQ, decide_eq_true hb, Bool.or_true]
  | succ d ih =>
    intro hd
    have hc : s / 2 ^ (k + d) < 32 := Nat.lt_of_le_of_lt (Nat.div_le_self _ _) hs
    rw [← Nat.add_assoc, ga_dd, ga_T_path hc, ih (by omega), ga_add_hi hQ (ga_sib2 hc).2.1, hsib _ (by omega) (by omega)]
    rfl
theorem ga_add_end {P Q : Nat → Bool} {s k J : Nat} (hs : s < 32) (hkJ : k ≤ J) (hJ : ga_T P J (s / 2 ^ J ^^^ 1) = false) (hQ : ∀ b, Q b = (P b || decide (b / 2 ^ k = s / 2 ^ k))) : ∀ e, J < e → ga_T Q e (s / 2 ^ e) = false := by
  have h1 : ga_T Q (J + 1) (s / 2 ^ (J + 1)) = false := by
    obtain ⟨d, rfl⟩ := Nat.le.dest hkJ
    have hc : s / 2 ^ (k + d) < 32 := Nat.lt_of_le_of_lt (Nat.div_le_self _ _) hs
    rw [ga_dd, ga_T_path hc, ga_add_hi hQ (ga_sib2 hc).2.1, hJ, Bool.and_false]
  intro e he
  cases z : ga_T Q e (s / 2 ^ e) with
  | false => rfl
  | true => rw [ga_T_le (j := J + 1) he z] at h1; exact Bool.noConfusion h1
theorem ga_give {P Q : Nat → Bool} {s k J : Nat} (hs : s < 32) (hkJ : k ≤ J) (hsib : ∀ j, k ≤ j → j < J → ga_T P j (s / 2 ^ j ^^^ 1) = true) (hJ : ga_T P J (s / 2 ^ J ^^^ 1) = false) (hP : ∀ b, b / 2 ^ k = s / 2 ^ k → P b = false) (hQ : ∀ b, Q b = (P b || decide (b / 2 ^ k = s / 2 ^ k))) (j i : Nat) : ga_B Q j i = ga_gv J k s (ga_B P j i) j i := by
  have hPj : ∀ e, ga_T P e (s / 2 ^ e) = false := fun e => ga_T_f (b := s) rfl (hP s rfl)
  have hpath := ga_add_path hs hsib hQ
  have hend := ga_add_end hs hkJ hJ hQ
  have hc : s / 2 ^ j < 32 := Nat.lt_of_le_of_lt (Nat.div_le_self _ _) hs
  unfold ga_gv
  rcases Nat.lt_or_ge j k with hjk | hjk
  · rw [if_neg (by omega), if_neg (by omega)]
    obtain ⟨d, rfl⟩ : ∃ d, k = j + 1 + d := ⟨k - j - 1, by omega⟩
    by_cases h : i / 2 / 2 ^ d = s / 2 ^ (j + 1 + d)
    · have a1 : ga_T Q (j + 1) (i / 2) = true := by
        rw [ga_T_iff]
        intro b hb
        rw [hQ, decide_eq_true, Bool.or_true]
        rw [ga_da, hb, h]
      have a2 : ga_T P j i = false := by
        refine ga_T_f (b := i * 2 ^ j) (ga_mul i j) (hP _ ?_)
        rw [ga_da, ga_dd, ga_mul, h]
      unfold ga_B
      rw [a1, a2]; simp
    · have a1 : ga_T Q (j + 1) (i / 2) = ga_T P (j + 1) (i / 2) := ga_add_off hQ fun b hb z => h (by rw [← hb, ← ga_da, z])
      have a2 : ga_T Q j i = ga_T P j i := ga_add_off hQ fun b hb z => h (by rw [← hb, ← ga_dd, ← ga_da, z])
      unfold ga_B
      rw [a1, a2]
  · obtain ⟨d, rfl⟩ := Nat.le.dest hjk
    have hn : ∀ i, i ≠ s / 2 ^ (k + d + 1) → ga_T Q (k + d + 1) i = ga_T P (k + d + 1) i := fun i h => ga_add_hi (d := d + 1) hQ h
    rcases Nat.lt_trichotomy (k + d) J with hlt | heq | hgt
    · rw [if_neg (by omega), if_pos ⟨hjk, hlt⟩]
      have hp1 : ga_T Q (k + d + 1) (s / 2 ^ (k + d + 1)) = true := hpath (d + 1) hlt
      by_cases h5 : i / 2 = s / 2 ^ (k + d + 1)
      · have e1 : ga_B Q (k + d) i = false := by unfold ga_B; rw [h5, hp1]; simp
        rw [e1]
        rw [ga_dd] at h5
        by_cases h : i = s / 2 ^ (k + d)
        · have e2 : ga_B P (k + d) i = false := by unfold ga_B; rw [h, hPj, Bool.false_and]
          rw [e2, Bool.false_and]
        · rw [decide_eq_true (ga_sib hc h5 h)]; simp
      · have h : i ≠ s / 2 ^ (k + d) := fun z => h5 (by rw [z, ← ga_dd])
        have h6 : i ≠ s / 2 ^ (k + d) ^^^ 1 := fun z => h5 (by rw [z, (ga_sib2 hc).1, ← ga_dd])
        unfold ga_B
        rw [ga_add_hi hQ h, hn _ h5, decide_eq_false h6]; simp
    · rw [if_pos heq, ← heq]
      have hp0 : ga_T Q (k + d) (s / 2 ^ (k + d)) = true := hpath d (by omega)
      have hp1 : ga_T Q (k + d + 1) (s / 2 ^ (k + d + 1)) = false := hend _ (by omega)
      by_cases h : i = s / 2 ^ (k + d)
      · unfold ga_B
        rw [h, ← ga_dd, hp0, hp1]; simp
      · rw [decide_eq_false h, Bool.or_false]
        unfold ga_B
        rw [ga_add_hi hQ h]
        by_cases h5 : i / 2 = s / 2 ^ (k + d + 1)
        · rw [h5, hp1, hPj]
        · rw [hn _ h5]
    · rw [if_neg (by omega), if_neg (by omega)]
      have a1 : ga_T Q (k + d) i = ga_T P (k + d) i := by
        by_cases h : i = s / 2 ^ (k + d)
        · rw [h, hend _ hgt, hPj]
        · exact ga_add_hi hQ h
      have a2 : ga_T Q (k + d + 1) (i / 2) = ga_T P (k + d + 1) (i / 2) := by
        by_cases h : i / 2 = s / 2 ^ (k + d + 1)
        · rw [h, hend _ (by omega), hPj]
        · exact hn _ h
      unfold ga_B
      rw [a1, a2]
/-- the level at which giveBack ends -/
theorem ga_giveJ {P : Nat → Bool} (h : ga_32 P) {s k : Nat} (hs : s < 32) (hk : k ≤ 5) : ∃ J, k ≤ J ∧ J ≤ 5 ∧ (∀ j, k ≤ j → j < J → ga_T P j (s / 2 ^ j ^^^ 1) = true) ∧ ga_T P J (s / 2 ^ J ^^^ 1) = false := by
  have key : ∀ d k, k + d = 5 → ∃ J, k ≤ J ∧ J ≤ 5 ∧ (∀ j, k ≤ j → j < J → ga_T P j (s / 2 ^ j ^^^ 1) = true) ∧ ga_T P J (s / 2 ^ J ^^^ 1) = false := by
    intro d
    induction d with
    | zero =>
      intro k hk
      refine ⟨5, by omega, by omega, fun j h1 h2 => absurd h1 (by omega), ?_⟩
      have e : s / 2 ^ 5 = 0 := by omega
      rw [e]
      exact ga_T_out h (by decide)
    | succ d ih =>
      intro k hk
      cases e : ga_T P k (s / 2 ^ k ^^^ 1) with
      | false => exact ⟨k, by omega, by omega, fun j h1 h2 => absurd h1 (by omega), e⟩
      | true =>
        obtain ⟨J, h1, h2, h3, h4⟩ := ih (k + 1) (by omega)
        refine ⟨J, by omega, h2, fun j a1 a2 => ?_, h4⟩
        by_cases hj : j = k
        · rw [hj]; exact e
        · exact h3 j (by omega) a2
  exact key (5 - k) k (by omega)
end
section
/-! ===== counting ===== -/
def ga_C (f : Nat → Bool) : Nat → Nat
  | 0 => 0
  | n + 1 => ga_C f n + (f n).toNat
theorem ga_C_cong {f g : Nat → Bool} : ∀ n, (∀ i, i < n → f i = g i) → ga_C f n = ga_C g n := by
  intro n
  induction n with
  | zero => intro _; rfl
  | succ n ih =>
    intro h
    show ga_C f n + _ = ga_C g n + _
    rw [ih (fun i hi => h i (by omega)), h n (by omega)]
theorem ga_C_add (f : Nat → Bool) (n : Nat) : ∀ m, ga_C f (n + m) = ga_C f n + ga_C (fun i => f (n + i)) m := by
  intro m
  induction m with
  | zero => rfl
  | succ m ih =>
    show ga_C f (n + m) + _ = ga_C f n + (ga_C (fun i => f (n + i)) m + _)
    rw [ih, Nat.add_assoc]
    rfl
theorem ga_C_zero {f : Nat → Bool} : ∀ n, (∀ i, i < n → f i = false) → ga_C f n = 0 := by
  intro n
  induction n with
  | zero => intro _; rfl
  | succ n ih =>
    intro h
    show ga_C f n + (f n).toNat = 0
    rw [ih (fun i hi => h i (by omega)), h n (by omega)]
    rfl
theorem ga_C_tail {f : Nat → Bool} {n : Nat} (m : Nat) (h : ∀ i, n ≤ i → f i = false) : ga_C f (n + m) = ga_C f n := by
  rw [ga_C_add, ga_C_zero m (fun i _ => h _ (by omega)), Nat.add_zero]
theorem ga_C_half (f : Nat → Bool) : ∀ n, ga_C (fun i => f (i / 2)) (2 * n) = 2 * ga_C f n := by
  intro n
  induction n with
  | zero => rfl
  | succ n ih =>
    show ga_C (fun i => f (i / 2)) (2 * n) + (f (2 * n / 2)).toNat + (f ((2 * n + 1) / 2)).toNat = 2 * (ga_C f n + (f n).toNat)
    rw [ih, show 2 * n / 2 = n by omega, show (2 * n + 1) / 2 = n by omega]
    omega
theorem ga_C_split {f g h : Nat → Bool} (H : ∀ i, (f i).toNat = (g i).toNat + (h i).toNat) : ∀ n, ga_C f n = ga_C g n + ga_C h n := by
  intro n
  induction n with
  | zero => rfl
  | succ n ih =>
    show ga_C f n + _ = ga_C g n + _ + (ga_C h n + _)
    rw [ih, H n]
    omega
theorem ga_C_lvl {P : Nat → Bool} (h : ga_32 P) (j : Nat) : ga_C (ga_T P j) 32 = ga_C (ga_B P j) 32 + 2 * ga_C (ga_T P (j + 1)) 32 := by
  have e1 : ga_C (ga_T P j) 32 = ga_C (ga_B P j) 32 + ga_C (fun i => ga_T P (j + 1) (i / 2)) 32 := by
    refine ga_C_split (fun i => ?_) 32
    unfold ga_B
    cases e : ga_T P (j + 1) (i / 2) with
    | false => simp
    | true => rw [ga_T_half e]; rfl
  have e2 : ga_C (ga_T P (j + 1)) (16 + 16) = ga_C (ga_T P (j + 1)) 16 := by
    refine ga_C_tail 16 (fun i hi => ga_T_out h ?_)
    have := Nat.two_pow_pos j
    rw [Nat.pow_succ]
    calc 32 = 16 * 2 := rfl
      _ ≤ i * 2 := Nat.mul_le_mul_right 2 hi
      _ ≤ i * (2 ^ j * 2) := Nat.mul_le_mul_left i (by omega)
  rw [e1, ga_C_half (ga_T P (j + 1)) 16, ← e2]
theorem ga_C_0 (c : Bool) : ∀ m, ga_C (fun i => decide (i = 0) && c) (m + 1) = c.toNat := by
  intro m
  induction m with
  | zero => show 0 + (decide (0 = 0) && c).toNat = _; simp
  | succ m ih =>
    show ga_C (fun i => decide (i = 0) && c) (m + 1) + (decide (m + 1 = 0) && c).toNat = _
    rw [ih, decide_eq_false (by omega), Bool.false_and]
    rfl
theorem ga_C_al (f : Nat → Bool) (m : Nat) (hm : 0 < m) : ∀ n, ga_C (fun b => decide (b % m = 0) && f (b / m)) (m * n) = ga_C f n := by
  intro n
  induction n with
  | zero => rfl
  | succ n ih =>
    rw [Nat.mul_succ, ga_C_add, ih]
    show _ = ga_C f n + (f n).toNat
    have e : ga_C (fun i => decide ((m * n + i) % m = 0) && f ((m * n + i) / m)) m = ga_C (fun i => decide (i = 0) && f n) m := by
      refine ga_C_cong m (fun i hi => ?_)
      rw [Nat.mul_add_mod, Nat.mod_eq_of_lt hi, Nat.mul_add_div hm, Nat.div_eq_of_lt hi, Nat.add_zero]
    rw [e]
    obtain ⟨m', rfl⟩ : ∃ m', m = m' + 1 := ⟨m - 1, by omega⟩
    rw [ga_C_0]
/-! ===== searching ===== -/
def ga_fs (q : Nat → Bool) : Nat → Nat → Nat
  | 0, b => b
  | d + 1, b => if q b = true then b else ga_fs q d (b + 1)
theorem ga_fs_t {q : Nat → Bool} {d b : Nat} (h : q b = true) : ga_fs q (d + 1) b = b := if_pos h
theorem ga_fs_f {q : Nat → Bool} {d b : Nat} (h : q b = false) : ga_fs q (d + 1) b = ga_fs q d (b + 1) := if_neg (by rw [h]; exact Bool.noConfusion)
theorem ga_fs_spec (q : Nat → Bool) : ∀ d b, b ≤ ga_fs q d b ∧ ga_fs q d b ≤ b + d ∧ (ga_fs q d b < b + d → q (ga_fs q d b) = true) ∧ ∀ x, b ≤ x → x < ga_fs q d b → q x = false := by
  intro d
  induction d with
  | zero => intro b; exact ⟨Nat.le_refl b, Nat.le_refl b, fun h => absurd h (Nat.lt_irrefl b), fun x h1 h2 => absurd h2 (Nat.not_lt.mpr h1)⟩
  | succ d ih =>
    intro b
    cases e : q b with
    | true =>
      rw [ga_fs_t e]
      exact ⟨Nat.le_refl b, by omega, fun _ => e, fun x h1 h2 => absurd h2 (Nat.not_lt.mpr h1)⟩
    | false =>
      rw [ga_fs_f e]
      obtain ⟨h1, h2, h3, h4⟩ := ih (b + 1)
      refine ⟨by omega, by omega, fun h => h3 (by omega), fun x a1 a2 => ?_⟩
      by_cases hx : x = b
      · rw [hx]; exact e
      · exact h4 x (by omega) a2
/-- an aligned start of a free run of order k -/
def ga_q (P : Nat → Bool) (k b : Nat) : Bool := decide (b % 2 ^ k = 0) && ga_T P k (b / 2 ^ k)
/-- the first of them from t on, or 32 -/
def ga_S (P : Nat → Bool) (k t : Nat) : Nat := ga_fs (ga_q P k) (32 - t) t
theorem ga_q_iff {P : Nat → Bool} {k b : Nat} : ga_q P k b = true ↔ b % 2 ^ k = 0 ∧ ga_T P k (b / 2 ^ k) = true := by
  unfold ga_q
  rw [Bool.and_eq_true, decide_eq_true_eq]
theorem ga_S_spec (P : Nat → Bool) (k : Nat) {t : Nat} (ht : t ≤ 32) : t ≤ ga_S P k t ∧ ga_S P k t ≤ 32 ∧ (ga_S P k t < 32 → ga_q P k (ga_S P k t) = true) ∧ ∀ x, t ≤ x → x < ga_S P k t → ga_q P k x = false := by
  have h := ga_fs_spec (ga_q P k) (32 - t) t
  rw [show t + (32 - t) = 32 by omega] at h
  exact h
theorem ga_k6 {k : Nat} (h : k ≤ 5) : k = 0 ∨ k = 1 ∨ k = 2 ∨ k = 3 ∨ k = 4 ∨ k = 5 := by omega
/-- the aligned number from which X's search goes -/
def ga_fr (k t : Nat) : Nat := (t + 2 ^ k - 1) / 2 ^ k * 2 ^ k
theorem ga_fr1 {k t : Nat} (hk : k ≤ 5) : t ≤ ga_fr k t ∧ ga_fr k t % 2 ^ k = 0 ∧ (t ≤ 32 → ga_fr k t ≤ 32) ∧ ∀ x, t ≤ x → x % 2 ^ k = 0 → ga_fr k t ≤ x := by
  unfold ga_fr
  rcases ga_k6 hk with rfl | rfl | rfl | rfl | rfl | rfl <;> simp only [Nat.reducePow] <;> refine ⟨by omega, by omega, by omega, fun x h1 h2 => by omega⟩
/-- the candidate of a run (j, i) -/
def ga_cd (k t j i : Nat) : Nat := if i * 2 ^ j ≤ ga_fr k t then ga_fr k t else i * 2 ^ j
theorem ga_cd1 {k t j i : Nat} (hkj : k ≤ j) (hj : j ≤ 5) (hf : ga_cd k t j i + 2 ^ k ≤ i * 2 ^ j + 2 ^ j) : t ≤ ga_cd k t j i ∧ ga_cd k t j i % 2 ^ k = 0 ∧ ga_cd k t j i / 2 ^ j = i := by
  obtain ⟨h1, h2, h3, h4⟩ := ga_fr1 (k := k) (t := t) (by omega)
  unfold ga_cd at *
  generalize ga_fr k t = F at *
  rcases ga_k6 hj with rfl | rfl | rfl | rfl | rfl | rfl <;> rcases ga_k6 (k := k) (by omega) with rfl | rfl | rfl | rfl | rfl | rfl <;> first | omega | (simp only [Nat.reducePow] at *; split at hf <;> rename_i hc <;> simp only [hc, if_true, if_false] <;> omega)
theorem ga_cd2 {P : Nat → Bool} {k t j i : Nat} (ht : t ≤ 32) (hkj : k ≤ j) (hj : j ≤ 5) (hT : ga_T P j i = true) (hf : ga_cd k t j i + 2 ^ k ≤ i * 2 ^ j + 2 ^ j) : ga_S P k t ≤ ga_cd k t j i := by
  obtain ⟨h1, h2, h3⟩ := ga_cd1 hkj hj hf
  obtain ⟨s1, s2, s3, s4⟩ := ga_S_spec P k ht
  have hq : ga_q P k (ga_cd k t j i) = true := by
    rw [ga_q_iff]
    refine ⟨h2, ga_T_le hkj ?_⟩
    rw [h3]; exact hT
  rcases Nat.lt_or_ge (ga_cd k t j i) (ga_S P k t) with z | z
  · rw [s4 _ h1 z] at hq; exact Bool.noConfusion hq
  · exact z
theorem ga_hit1 {f k J F : Nat} (hkJ : k ≤ J) (hJ : J ≤ 5) (hf : f % 2 ^ k = 0) (hF : F ≤ f) : (if f / 2 ^ J * 2 ^ J ≤ F then F else f / 2 ^ J * 2 ^ J) + 2 ^ k ≤ f / 2 ^ J * 2 ^ J + 2 ^ J ∧ (if f / 2 ^ J * 2 ^ J ≤ F then F else f / 2 ^ J * 2 ^ J) ≤ f ∧ f / 2 ^ J * 2 ^ J ≤ f := by
  rcases ga_k6 hJ with rfl | rfl | rfl | rfl | rfl | rfl <;> rcases ga_k6 (k := k) (by omega) with rfl | rfl | rfl | rfl | rfl | rfl <;> first | omega | (simp only [Nat.reducePow] at *; split <;> omega)
/-- where the first free run is found -/
theorem ga_hit {P : Nat → Bool} (h : ga_32 P) {k t : Nat} (hk : k ≤ 5) (ht : t ≤ 32) (hS : ga_S P k t < 32) : ∃ J i, k ≤ J ∧ J ≤ 5 ∧ i * 2 ^ J < 32 ∧ ga_B P J i = true ∧ ga_cd k t J i + 2 ^ k ≤ i * 2 ^ J + 2 ^ J ∧ ga_cd k t J i = ga_S P k t := by
  obtain ⟨s1, s2, s3, s4⟩ := ga_S_spec P k ht
  obtain ⟨q1, q2⟩ := ga_q_iff.mp (s3 hS)
  obtain ⟨J, j1, j2, j3, j4⟩ := ga_J h q2
  obtain ⟨h1, h2, h3, h4⟩ := ga_fr1 (k := k) (t := t) hk
  have hF := h4 _ s1 q1
  obtain ⟨e1, e2, e3⟩ := ga_hit1 j1 (by omega) q1 hF
  have hfit : ga_cd k t J (ga_S P k t / 2 ^ J) + 2 ^ k ≤ ga_S P k t / 2 ^ J * 2 ^ J + 2 ^ J := e1
  refine ⟨J, ga_S P k t / 2 ^ J, j1, by omega, by omega, ga_B_at j3 j4, hfit, ?_⟩
  have h5 := ga_cd2 ht j1 (by omega) j3 hfit
  have h6 : ga_cd k t J (ga_S P k t / 2 ^ J) ≤ ga_S P k t := e2
  omega
end
section
/-! ===== the state: owners, extents, maps ===== -/
/-- block b of group g is free -/
def ga_P (own : Nat → Int32) (g b : Nat) : Bool := decide (b < 32) && decide (own (32 * g + b) = -1)
theorem ga_P32 (own : Nat → Int32) (g : Nat) : ga_32 (ga_P own g) := by
  intro b hb
  unfold ga_P
  rw [decide_eq_false (by omega), Bool.false_and]
theorem ga_P_iff {own : Nat → Int32} {g b : Nat} : ga_P own g b = true ↔ b < 32 ∧ own (32 * g + b) = -1 := by
  unfold ga_P
  rw [Bool.and_eq_true, decide_eq_true_eq, decide_eq_true_eq]
/-- owners with v laid over c blocks from s on -/
def ga_fl (own : Nat → Int32) (s c : Nat) (v : Int32) : Nat → Int32 := fun b => if s ≤ b ∧ b < s + c then v else own b
theorem ga_fl_0 (own : Nat → Int32) (s : Nat) (v : Int32) : ga_fl own s 0 v = own := by
  funext b
  exact if_neg (by omega)
theorem ga_fl_s (own : Nat → Int32) (s c : Nat) (v : Int32) : upd (ga_fl own s c v) (s + c) v = ga_fl own s (c + 1) v := by
  funext b
  unfold upd ga_fl
  by_cases h : b = s + c
  · rw [if_pos h, if_pos (by omega)]
  · rw [if_neg h]
    by_cases h2 : s ≤ b ∧ b < s + c
    · rw [if_pos h2, if_pos (by omega)]
    · rw [if_neg h2, if_neg (by omega)]
theorem ga_upd2 (f : Nat → Int32) (s : Nat) (x y : Int32) : upd (upd f s x) s y = upd f s y := by
  funext b
  unfold upd
  by_cases h : b = s
  · rw [if_pos h, if_pos h]
  · rw [if_neg h, if_neg h, if_neg h]
theorem ga_al1 {k s b : Nat} (hk : k ≤ 5) (h : s % 2 ^ k = 0) : (s ≤ b ∧ b < s + 2 ^ k) ↔ b / 2 ^ k = s / 2 ^ k := by
  rcases ga_k6 hk with rfl | rfl | rfl | rfl | rfl | rfl <;> simp only [Nat.reducePow] at * <;> omega
theorem ga_al2 {k s b G : Nat} (hk : k ≤ 5) (hs : s < 32 * G) (h : b / 2 ^ k = s / 2 ^ k) : b < 32 * G := by
  rcases ga_k6 hk with rfl | rfl | rfl | rfl | rfl | rfl <;> simp only [Nat.reducePow] at * <;> omega
theorem ga_al4 {k s b : Nat} (hal : s % 2 ^ k = 0) (h : b / 2 ^ k = s / 2 ^ k) : b / 2 ^ k * 2 ^ k = s := by
  have e := Nat.div_add_mod' s (2 ^ k)
  rw [hal, Nat.add_zero] at e
  rw [h]; exact e
theorem ga_al5 {k b : Nat} : b / 2 ^ k * 2 ^ k / 2 ^ k = b / 2 ^ k := ga_mul _ _
theorem ga_al6 {k t g b : Nat} (hk : k ≤ 5) : (32 * g + b) / 2 ^ k = (32 * g + t) / 2 ^ k ↔ b / 2 ^ k = t / 2 ^ k := by
  rcases ga_k6 hk with rfl | rfl | rfl | rfl | rfl | rfl <;> simp only [Nat.reducePow] at * <;> omega
theorem ga_al7 {k t g : Nat} (hk : k ≤ 5) : (32 * g + t) % 2 ^ k = 0 ↔ t % 2 ^ k = 0 := by
  rcases ga_k6 hk with rfl | rfl | rfl | rfl | rfl | rfl <;> simp only [Nat.reducePow] at * <;> omega
theorem ga_al8 {k t b : Nat} (hk : k ≤ 5) (ht : t < 32) (h : b / 2 ^ k = t / 2 ^ k) : b < 32 := by
  have := ga_al2 (G := 1) hk (by omega) h
  omega
theorem ga_fl_al {own : Nat → Int32} {k s : Nat} {v : Int32} (hk : k ≤ 5) (h : s % 2 ^ k = 0) (b : Nat) : ga_fl own s (2 ^ k) v b = if b / 2 ^ k = s / 2 ^ k then v else own b := by
  unfold ga_fl
  by_cases z : b / 2 ^ k = s / 2 ^ k
  · rw [if_pos z, if_pos ((ga_al1 hk h).mpr z)]
  · rw [if_neg z, if_neg (fun y => z ((ga_al1 hk h).mp y))]
/-! ===== the extents ===== -/
def ga_W (G : Nat) (oa own od : Nat → Int32) : Prop :=
  (∀ b, b < 32 * G → own b = -1 ∨ ∃ k, k ≤ 5 ∧ oa (b / 2 ^ k * 2 ^ k) = nI k ∧ own b = nI (b / 2 ^ k * 2 ^ k)) ∧
  (∀ s, s < 32 * G → oa s = -1 ∨ ∃ k, k ≤ 5 ∧ oa s = nI k ∧ od s = nI k ∧ s % 2 ^ k = 0 ∧ ∀ b, b / 2 ^ k = s / 2 ^ k → own b = nI s)
theorem ga_W_at {G : Nat} {oa own od : Nat → Int32} {s k : Nat} (w : ga_W G oa own od) (hs : s < 32 * G) (hk : k ≤ 5) (h : oa s = nI k) : od s = nI k ∧ s % 2 ^ k = 0 ∧ ∀ b, b / 2 ^ k = s / 2 ^ k → own b = nI s := by
  rcases w.2 s hs with z | ⟨k', h1, h2, h3, h4, h5⟩
  · rw [h] at z; exact absurd z (gn_m1ne (by omega))
  · rw [h] at h2
    have e := gn_inj (by omega) (by omega) h2
    subst e
    exact ⟨h3, h4, h5⟩
theorem ga_W_own {G : Nat} {oa own od : Nat → Int32} {s : Nat} (w : ga_W G oa own od) (hG : G ≤ 4) (hs : s < 32 * G) (h : own s = nI s) : ∃ k, k ≤ 5 ∧ oa s = nI k := by
  rcases w.1 s hs with z | ⟨k, h1, h2, h3⟩
  · rw [h] at z; exact absurd z (gn_m1ne (by omega))
  · have hl := Nat.div_mul_le_self s (2 ^ k)
    rw [h] at h3
    have e := gn_inj (by omega) (by omega) h3
    rw [← e] at h2
    exact ⟨k, h1, h2⟩
theorem ga_W_free {G : Nat} {oa own od : Nat → Int32} {s : Nat} (w : ga_W G oa own od) (hG : G ≤ 4) (hs : s < 32 * G) (h : own s ≠ nI s) : oa s = -1 := by
  rcases w.2 s hs with z | ⟨k', h1, h2, h3, h4, h5⟩
  · exact z
  · exact absurd (h5 s rfl) h
theorem ga_W_rel {G : Nat} {oa own od : Nat → Int32} {s k : Nat} (w : ga_W G oa own od) (hG : G ≤ 4) (hs : s < 32 * G) (hk : k ≤ 5) (h : oa s = nI k) : ga_W G (upd oa s (-1)) (ga_fl own s (2 ^ k) (-1)) od := by
  obtain ⟨e1, e2, e3⟩ := ga_W_at w hs hk h
  refine ⟨fun b hb => ?_, fun s' hs' => ?_⟩
  · rw [ga_fl_al hk e2]
    by_cases z : b / 2 ^ k = s / 2 ^ k
    · rw [if_pos z]; exact Or.inl rfl
    · rw [if_neg z]
      rcases w.1 b hb with y | ⟨k', h1, h2, h3⟩
      · exact Or.inl y
      · refine Or.inr ⟨k', h1, ?_, h3⟩
        rw [pk_un]
        · exact h2
        · intro e
          rw [e, h] at h2
          have ek := gn_inj (by omega) (by omega) h2
          subst ek
          exact z (by rw [← e, ga_al5])
  · by_cases z : s' = s
    · rw [z, pk_us]; exact Or.inl rfl
    · rw [pk_un z]
      rcases w.2 s' hs' with y | ⟨k', h1, h2, h3, h4, h5⟩
      · exact Or.inl y
      · refine Or.inr ⟨k', h1, h2, h3, h4, fun b hb => ?_⟩
        rw [ga_fl_al hk e2, if_neg, h5 b hb]
        intro x
        have a1 := e3 b x
        rw [h5 b hb] at a1
        exact z (gn_inj (by omega) (by omega) a1)
theorem ga_W_mk {G : Nat} {oa own od : Nat → Int32} {s k : Nat} (w : ga_W G oa own od) (hG : G ≤ 4) (hs : s < 32 * G) (hk : k ≤ 5) (hal : s % 2 ^ k = 0) (hf : ∀ b, b / 2 ^ k = s / 2 ^ k → own b = -1) : ga_W G (upd oa s (nI k)) (ga_fl own s (2 ^ k) (nI s)) (upd od s (nI k)) := by
  refine ⟨fun b hb => ?_, fun s' hs' => ?_⟩
  · rw [ga_fl_al hk hal]
    by_cases z : b / 2 ^ k = s / 2 ^ k
    · rw [if_pos z]
      exact Or.inr ⟨k, hk, by rw [ga_al4 hal z, pk_us], by rw [ga_al4 hal z]⟩
    · rw [if_neg z]
      rcases w.1 b hb with y | ⟨k', h1, h2, h3⟩
      · exact Or.inl y
      · refine Or.inr ⟨k', h1, ?_, h3⟩
        rw [pk_un]
        · exact h2
        · intro e
          rw [e] at h2
          have a1 := (ga_W_at w hs h1 h2).2.2 s rfl
          rw [hf s rfl] at a1
          exact gn_m1ne (by omega) a1.symm
  · by_cases z : s' = s
    · refine Or.inr ⟨k, hk, by rw [z, pk_us], by rw [z, pk_us], by rw [z]; exact hal, fun b hb => ?_⟩
      rw [z] at hb ⊢
      rw [ga_fl_al hk hal, if_pos hb]
    · rw [pk_un z, pk_un z]
      rcases w.2 s' hs' with y | ⟨k', h1, h2, h3, h4, h5⟩
      · exact Or.inl y
      · refine Or.inr ⟨k', h1, h2, h3, h4, fun b hb => ?_⟩
        rw [ga_fl_al hk hal, if_neg, h5 b hb]
        intro x
        have a1 := hf b x
        rw [h5 b hb] at a1
        exact gn_m1ne (by omega) a1
/-! ===== the number of extents ===== -/
def ga_ct (own : Nat → Int32) (n : Nat) : Nat := ga_C (fun b => decide (own b = nI b)) n
theorem ga_C_pt {f g : Nat → Bool} {s : Nat} (h1 : f s = false) (h2 : g s = true) : ∀ n, s < n → (∀ i, i < n → i ≠ s → f i = g i) → ga_C g n = ga_C f n + 1 := by
  intro n
  induction n with
  | zero => intro h; exact absurd h (Nat.not_lt_zero s)
  | succ n ih =>
    intro hn h
    show ga_C g n + (g n).toNat = ga_C f n + (f n).toNat + 1
    by_cases e : n = s
    · subst e
      rw [h1, h2, ga_C_cong (f := g) (g := f) n (fun i hi => (h i (by omega) (by omega)).symm)]
      rfl
    · rw [ih (by omega) (fun i hi he => h i (by omega) he), h n (by omega) e]
      omega
theorem ga_ct_mk {G : Nat} {own : Nat → Int32} {s k : Nat} (hG : G ≤ 4) (hs : s < 32 * G) (hk : k ≤ 5) (hal : s % 2 ^ k = 0) (hf : ∀ b, b / 2 ^ k = s / 2 ^ k → own b = -1) : ga_ct (ga_fl own s (2 ^ k) (nI s)) (32 * G) = ga_ct own (32 * G) + 1 := by
  refine ga_C_pt (s := s) ?_ ?_ _ hs (fun b hb hne => ?_)
  · show decide (own s = nI s) = false
    rw [hf s rfl]
    exact decide_eq_false fun z => gn_m1ne (by omega) z.symm
  · show decide (ga_fl own s (2 ^ k) (nI s) s = nI s) = true
    rw [ga_fl_al hk hal, if_pos rfl]
    exact decide_eq_true rfl
  · show decide (own b = nI b) = decide (ga_fl own s (2 ^ k) (nI s) b = nI b)
    rw [ga_fl_al hk hal]
    by_cases z : b / 2 ^ k = s / 2 ^ k
    · rw [if_pos z, hf b z, decide_eq_false fun y => gn_m1ne (by omega) y.symm, decide_eq_false fun y => hne (gn_inj (by omega) (by omega) y.symm)]
    · rw [if_neg z]
theorem ga_ct_rel {G : Nat} {own : Nat → Int32} {s k : Nat} (hG : G ≤ 4) (hs : s < 32 * G) (hk : k ≤ 5) (hal : s % 2 ^ k = 0) (hf : ∀ b, b / 2 ^ k = s / 2 ^ k → own b = nI s) : ga_ct own (32 * G) = ga_ct (ga_fl own s (2 ^ k) (-1)) (32 * G) + 1 := by
  refine ga_C_pt (s := s) ?_ ?_ _ hs (fun b hb hne => ?_)
  · show decide (ga_fl own s (2 ^ k) (-1) s = nI s) = false
    rw [ga_fl_al hk hal, if_pos rfl]
    exact decide_eq_false fun z => gn_m1ne (by omega) z.symm
  · show decide (own s = nI s) = true
    rw [hf s rfl]
    exact decide_eq_true rfl
  · show decide (ga_fl own s (2 ^ k) (-1) b = nI b) = decide (own b = nI b)
    rw [ga_fl_al hk hal]
    by_cases z : b / 2 ^ k = s / 2 ^ k
    · rw [if_pos z, hf b z, decide_eq_false fun y => gn_m1ne (by omega) y.symm, decide_eq_false fun y => hne (gn_inj (by omega) (by omega) y.symm)]
    · rw [if_neg z]
/-! ===== the maps ===== -/
def ga_M (G : Nat) (fm own : Nat → Int32) : Prop := ∀ g j i, g < G → j < 6 → i < 32 → bt (fm (6 * g + j)) i = ga_B (ga_P own g) j i
def ga_CV (g J k s : Nat) (m m' : Nat → Int32) : Prop := ∀ g' l i, l < 6 → i < 32 → bt (m' (6 * g' + l)) i = if g' = g then ga_cv J k s (bt (m (6 * g' + l)) i) l i else bt (m (6 * g' + l)) i
def ga_GV (g J k s : Nat) (m m' : Nat → Int32) : Prop := ∀ g' l i, l < 6 → i < 32 → bt (m' (6 * g' + l)) i = if g' = g then ga_gv J k s (bt (m (6 * g' + l)) i) l i else bt (m (6 * g' + l)) i
theorem ga_M_cv {G g J k t : Nat} {fm fm' own own' : Nat → Int32} (hM : ga_M G fm own) (ht : t < 32) (hkJ : k ≤ J) (h3 : ga_T (ga_P own g) J (t / 2 ^ J) = true) (h4 : ga_T (ga_P own g) (J + 1) (t / 2 ^ (J + 1)) = false) (hC : ga_CV g J k t fm fm') (hQ : ∀ b, ga_P own' g b = (ga_P own g b && !decide (b / 2 ^ k = t / 2 ^ k))) (hO : ∀ g' b, g' ≠ g → ga_P own' g' b = ga_P own g' b) : ga_M G fm' own' := by
  intro g' j i hg hj hi
  rw [hC g' j i hj hi, hM g' j i hg hj hi]
  by_cases e : g' = g
  · subst e
    rw [if_pos rfl, ga_carve ht hkJ h3 h4 hQ]
  · rw [if_neg e, show ga_P own' g' = ga_P own g' from funext fun b => hO g' b e]
theorem ga_M_gv {G g J k t : Nat} {fm fm' own own' : Nat → Int32} (hM : ga_M G fm own) (ht : t < 32) (hkJ : k ≤ J) (hsib : ∀ j, k ≤ j → j < J → ga_T (ga_P own g) j (t / 2 ^ j ^^^ 1) = true) (hJ : ga_T (ga_P own g) J (t / 2 ^ J ^^^ 1) = false) (hP : ∀ b, b / 2 ^ k = t / 2 ^ k → ga_P own g b = false) (hC : ga_GV g J k t fm fm') (hQ : ∀ b, ga_P own' g b = (ga_P own g b || decide (b / 2 ^ k = t / 2 ^ k))) (hO : ∀ g' b, g' ≠ g → ga_P own' g' b = ga_P own g' b) : ga_M G fm' own' := by
  intro g' j i hg hj hi
  rw [hC g' j i hj hi, hM g' j i hg hj hi]
  by_cases e : g' = g
  · subst e
    rw [if_pos rfl, ga_give ht hkJ hsib hJ hP hQ]
  · rw [if_neg e, show ga_P own' g' = ga_P own g' from funext fun b => hO g' b e]
theorem ga_P_fl {own : Nat → Int32} {g t k : Nat} {v : Int32} (ht : t < 32) (hk : k ≤ 5) (hal : t % 2 ^ k = 0) (b : Nat) : ga_P (ga_fl own (32 * g + t) (2 ^ k) v) g b = if b / 2 ^ k = t / 2 ^ k then decide (v = -1) else ga_P own g b := by
  unfold ga_P
  rw [ga_fl_al hk ((ga_al7 hk).mpr hal)]
  by_cases z : b / 2 ^ k = t / 2 ^ k
  · rw [if_pos z, if_pos ((ga_al6 hk).mpr z), decide_eq_true (ga_al8 hk ht z), Bool.true_and]
  · rw [if_neg z, if_neg (fun y => z ((ga_al6 hk).mp y))]
theorem ga_P_fo {own : Nat → Int32} {g t k g' : Nat} {v : Int32} (ht : t < 32) (hk : k ≤ 5) (hal : t % 2 ^ k = 0) (hg : g' ≠ g) (b : Nat) : ga_P (ga_fl own (32 * g + t) (2 ^ k) v) g' b = ga_P own g' b := by
  unfold ga_P
  by_cases hb : b < 32
  · rw [ga_fl_al hk ((ga_al7 hk).mpr hal), if_neg]
    intro z
    have a1 : 32 * g' + b < 32 * (g + 1) := ga_al2 hk (by omega) z
    have a2 : 32 * g + t < 32 * (g' + 1) := ga_al2 hk (by omega) z.symm
    omega
  · rw [decide_eq_false hb, Bool.false_and, Bool.false_and]
/-- the free runs by owners -/
theorem ga_T_own {own : Nat → Int32} {g t k : Nat} (ht : t < 32) (hk : k ≤ 5) : ga_T (ga_P own g) k (t / 2 ^ k) = true ↔ ∀ b, b / 2 ^ k = (32 * g + t) / 2 ^ k → own b = -1 := by
  rw [ga_T_iff]
  constructor
  · intro h b hb
    have a1 : b < 32 * (g + 1) := ga_al2 hk (by omega) hb
    have a2 : 32 * g ≤ b := by
      rcases ga_k6 hk with rfl | rfl | rfl | rfl | rfl | rfl <;> simp only [Nat.reducePow] at * <;> omega
    obtain ⟨c, rfl⟩ := Nat.le.dest a2
    exact (ga_P_iff.mp (h c ((ga_al6 hk).mp hb))).2
  · intro h b hb
    exact ga_P_iff.mpr ⟨ga_al8 hk ht hb, h _ ((ga_al6 hk).mpr hb)⟩
end
section
/-! ===== X's own helpers ===== -/
theorem xw_in {g j : Nat} (hg : g < 4) (hj : j < 6) : vp_in ((6 * nI g) + nI j) 24 := by
  rw [gn_ix]; exact vp_in_nI (by omega) (by decide)
theorem xw_cl {g j : Nat} (hg : g < 4) (hj : j < 6) : ((6 * nI g) + nI j).toNatClampNeg = 6 * g + j := by
  rw [gn_ix]; exact nI_clamp (by omega)
theorem xw_d32 {t j : Nat} (ht : t < 32) : t / 2 ^ j < 32 := Nat.lt_of_le_of_lt (Nat.div_le_self _ _) ht
theorem xw_p5 {j : Nat} (hj : j ≤ 5) : 2 ^ j ≤ 32 := by
  have h : 2 ^ j ≤ 2 ^ 5 := Nat.pow_le_pow_right (by decide) hj
  omega
theorem xw_bit {fm : Nat → Int32} {g j t : Nat} (hg : g < 4) (hj : j < 6) (ht : t < 32) : ((((fm ((6 * nI g) + nI j).toNatClampNeg).toUInt32 >>> ((nI t >>> (nI j &&& 31)).toUInt32 &&& Int32.toUInt32 31)).toInt32) &&& 1) = 0 ↔ bt (fm (6 * g + j)) (t / 2 ^ j) = false := by
  rw [xw_cl hg hj, gn_shr (by omega) (by omega), gb_z (xw_d32 ht)]
theorem xw_ux {m : Nat → Int32} {x : Int32} {g j g' l : Nat} (hj : j < 6) (hl : l < 6) : upd m (6 * g + j) x (6 * g' + l) = if g' = g ∧ l = j then x else m (6 * g' + l) := by
  by_cases h : g' = g ∧ l = j
  · rw [if_pos h, h.1, h.2, pk_us]
  · rw [if_neg h, pk_un (by omega)]
section
variable {gc ec fs : Int32} {fm oa own : Nat → Int32} {G g t k : Nat}
theorem xw_fo0 {post : Int32 → Prop} (hg : g < 4) (ht : t < 32) (h : ∀ j, j < 6 → bt (fm (6 * g + j)) (t / 2 ^ j) = false) (hp : post (-1)) : ∀ d j, j + d = 6 → ∀ n, d < n → wX_freeOrderAround_2 post (nI g) (nI t) gc ec fs fm oa n (nI j) := by
  intro d
  induction d with
  | zero =>
    intro j hj n hn
    obtain ⟨m, rfl⟩ : ∃ m, n = m + 1 := ⟨n - 1, by omega⟩
    exact br_t (nI_le (a := 6) (by omega) (by omega)) hp
  | succ d ih =>
    intro j hj n hn
    obtain ⟨m, rfl⟩ : ∃ m, n = m + 1 := ⟨n - 1, by omega⟩
    exact br_f (nI_ge (b := 6) (by omega) (by decide)) ⟨xw_in hg (by omega), br_t ((xw_bit hg (by omega) ht).mpr (h j (by omega))) (nm_r (nI_1 j) (ih (j + 1) (by omega) m (by omega)))⟩
theorem xw_fo1 {post : Int32 → Prop} {J : Nat} (hg : g < 4) (ht : t < 32) (hJ : J < 6) (h : ∀ j, j < J → bt (fm (6 * g + j)) (t / 2 ^ j) = false) (h1 : bt (fm (6 * g + J)) (t / 2 ^ J) = true) (hp : post (nI J)) : ∀ d j, j + d = J → ∀ n, d < n → wX_freeOrderAround_2 post (nI g) (nI t) gc ec fs fm oa n (nI j) := by
  intro d
  induction d with
  | zero =>
    intro j hj n hn
    obtain ⟨m, rfl⟩ : ∃ m, n = m + 1 := ⟨n - 1, by omega⟩
    have e : j = J := by omega
    subst e
    refine br_f (nI_ge (b := 6) (by omega) (by decide)) ⟨xw_in hg (by omega), br_f (fun z => ?_) hp⟩
    rw [xw_bit hg hJ ht, h1] at z
    exact Bool.noConfusion z
  | succ d ih =>
    intro j hj n hn
    obtain ⟨m, rfl⟩ : ∃ m, n = m + 1 := ⟨n - 1, by omega⟩
    exact br_f (nI_ge (b := 6) (by omega) (by decide)) ⟨xw_in hg (by omega), br_t ((xw_bit hg (by omega) ht).mpr (h j (by omega))) (nm_r (nI_1 j) (ih (j + 1) (by omega) m (by omega)))⟩
theorem xw_fo {post : Int32 → Prop} (hM : ga_M G fm own) (hG : G ≤ 4) (hg : g < G) (ht : t < 32) (hn : ga_P own g t = false → post (-1)) (hs : ∀ J, J < 6 → ga_T (ga_P own g) J (t / 2 ^ J) = true → ga_T (ga_P own g) (J + 1) (t / 2 ^ (J + 1)) = false → post (nI J)) : wpX_freeOrderAround post (gc, ec, fs, fm, oa) (nI g) (nI t) := by
  unfold wpX_freeOrderAround
  cases e : ga_P own g t with
  | false =>
    refine ⟨7, xw_fo0 (by omega) ht (fun j hj => ?_) (hn e) 6 0 rfl 7 (by decide)⟩
    rw [hM g j _ hg hj (xw_d32 ht)]
    exact ga_B_none e j
  | true =>
    have e0 : ga_T (ga_P own g) 0 (t / 2 ^ 0) = true := by
      rw [Nat.pow_zero, Nat.div_one]; exact e
    obtain ⟨J, j1, j2, j3, j4⟩ := ga_J (ga_P32 own g) e0
    refine ⟨7, xw_fo1 (J := J) (by omega) ht j2 (fun j hj => ?_) ?_ (hs J j2 j3 j4) J 0 (by omega) 7 (by omega)⟩
    · rw [hM g j _ hg (by omega) (xw_d32 ht)]
      exact ga_B_below hj j3
    · rw [hM g J _ hg j2 (xw_d32 ht)]
      exact ga_B_at j3 j4
theorem xw_ifr {post : Int32 → Prop} (hM : ga_M G fm own) (hG : G ≤ 4) (hg : g < G) (ht : t < 32) (hk : k ≤ 5) (h1 : ga_T (ga_P own g) k (t / 2 ^ k) = true → post 1) (h0 : ga_T (ga_P own g) k (t / 2 ^ k) = false → post 0) : wpX_isFreeRun post (gc, ec, fs, fm, oa) (nI g) (nI k) (nI t) := by
  unfold wpX_isFreeRun
  refine xw_fo hM hG hg ht (fun hn => ?_) (fun J j2 j3 j4 => ?_)
  · refine br_t ?_ (h0 (ga_T_f (b := t) rfl hn))
    have a1 : (-1 : Int32) < 0 := by decide
    exact Int32.lt_of_lt_of_le a1 (nI_pos' (by omega))
  · by_cases h : J < k
    · refine br_t (nI_lt h (by omega)) (h0 ?_)
      cases z : ga_T (ga_P own g) k (t / 2 ^ k) with
      | false => rfl
      | true => rw [ga_T_le (j := J + 1) h z] at j4; exact Bool.noConfusion j4
    · exact br_f (nI_nlt (by omega) (by omega)) (h1 (ga_T_le (by omega) j3))
theorem xw_cv31 {post : SX → Prop} (hg : g < 4) (ht : t < 32) : ∀ d j (m : Nat → Int32), j = k + d → j ≤ 5 → ∀ n, d < n → (∀ m' : Nat → Int32, (∀ g' l i, l < 6 → i < 32 → bt (m' (6 * g' + l)) i = if g' = g ∧ k ≤ l ∧ l < j then (bt (m (6 * g' + l)) i || decide (i = t / 2 ^ l ^^^ 1)) else bt (m (6 * g' + l)) i) → post (gc, ec, fs, m', oa)) → wX_carve_31 post (nI g) (nI k) (nI t) gc ec fs n (nI j) m oa := by
  intro d
  induction d with
  | zero =>
    intro j m hj h5 n hn hp
    obtain ⟨n, rfl⟩ : ∃ m, n = m + 1 := ⟨n - 1, by omega⟩
    refine br_t (nI_le (by omega) (by omega)) (hp m fun g' l i _ _ => ?_)
    rw [if_neg (by omega)]
  | succ d ih =>
    intro j m hj h5 n hn hp
    obtain ⟨n, rfl⟩ : ∃ m, n = m + 1 := ⟨n - 1, by omega⟩
    have ej : j = k + d + 1 := by omega
    have hc : t / 2 ^ (k + d) < 32 := xw_d32 ht
    have hx := (ga_sib2 hc).2.2
    have e1 : nI j + (-1) = nI (k + d) := by rw [ej]; exact pk_m1 (k + d)
    have e2 : (nI t >>> (nI (k + d) &&& 31)) ^^^ 1 = nI (t / 2 ^ (k + d) ^^^ 1) := by rw [gn_shr (by omega) (by omega), gn_xor]
    have e3 : upd m ((6 * nI g) + nI (k + d)).toNatClampNeg ((m ((6 * nI g) + nI (k + d)).toNatClampNeg) ||| ((1 : Int32) <<< (nI (t / 2 ^ (k + d) ^^^ 1) &&& 31))) = upd m (6 * g + (k + d)) ((m (6 * g + (k + d))) ||| ((1 : Int32) <<< (nI (t / 2 ^ (k + d) ^^^ 1) &&& 31))) := by
      rw [xw_cl hg (by omega)]
    refine br_f (nI_ge (by omega) (by omega)) (nm_r e1 (nm_r e2 ⟨xw_in hg (by omega), xw_in hg (by omega), nm_r e3 (ih (k + d) _ rfl (by omega) n (by omega) (fun m' hm => hp m' fun g' l i hl hi => ?_))⟩))
    rw [hm g' l i hl hi, xw_ux (by omega) hl]
    by_cases e : g' = g ∧ l = k + d
    · rw [if_neg (by omega), if_pos e, if_pos (by omega), gb_set hx hi, e.1, e.2]
    · rw [if_neg e]
      by_cases c : g' = g ∧ k ≤ l ∧ l < k + d
      · rw [if_pos c, if_pos (by omega)]
      · rw [if_neg c, if_neg (by omega)]
theorem xw_carve {post : SX → Prop} (hM : ga_M G fm own) (hG : G ≤ 4) (hg : g < G) (ht : t < 32) (hk : k ≤ 5) (hT : ga_T (ga_P own g) k (t / 2 ^ k) = true) (hp : ∀ J (fm' : Nat → Int32), k ≤ J → ga_T (ga_P own g) J (t / 2 ^ J) = true → ga_T (ga_P own g) (J + 1) (t / 2 ^ (J + 1)) = false → ga_CV g J k t fm fm' → post (gc, ec, fs, fm', oa)) : wpX_carve post (gc, ec, fs, fm, oa) (nI g) (nI k) (nI t) := by
  unfold wpX_carve
  refine xw_fo hM hG hg ht (fun hn => ?_) (fun J j2 j3 j4 => ?_)
  · rw [ga_T_f (b := t) rfl hn] at hT
    exact Bool.noConfusion hT
  · have hkJ : k ≤ J := by
      rcases Nat.lt_or_ge J k with h | h
      · rw [ga_T_le (j := J + 1) h hT] at j4; exact Bool.noConfusion j4
      · exact h
    have e3 : upd fm ((6 * nI g) + nI J).toNatClampNeg ((fm ((6 * nI g) + nI J).toNatClampNeg) &&& (((1 : Int32) <<< ((nI t >>> (nI J &&& 31)) &&& 31)) ^^^ (-1))) = upd fm (6 * g + J) ((fm (6 * g + J)) &&& (((1 : Int32) <<< (nI (t / 2 ^ J) &&& 31)) ^^^ (-1))) := by
      rw [xw_cl (by omega) j2, gn_shr (by omega) (by omega)]
    refine ⟨xw_in (by omega) j2, xw_in (by omega) j2, nm_r e3 ⟨7, xw_cv31 (by omega) ht (J - k) J _ (by omega) (by omega) 7 (by omega) (fun m' hm => hp J m' hkJ j3 j4 fun g' l i hl hi => ?_)⟩⟩
    rw [hm g' l i hl hi, xw_ux j2 hl]
    unfold ga_cv
    by_cases e : g' = g
    · by_cases e2 : l = J
      · rw [if_neg (by omega), if_pos ⟨e, e2⟩, if_pos e, if_pos e2, gb_clr (xw_d32 ht) hi, e, e2]
      · rw [if_neg (c := g' = g ∧ l = J) (by omega), if_pos e, if_neg e2]
        by_cases c : k ≤ l ∧ l < J
        · rw [if_pos ⟨e, c⟩, if_pos c]
        · rw [if_neg (fun z => c z.2), if_neg c]
    · rw [if_neg (fun z => e z.1), if_neg (fun z => e z.1), if_neg e]
theorem xw_gv71 {post : SX → Prop} {m : Nat → Int32} {J : Nat} (hg : g < 4) (ht : t < 32) (hJ : J ≤ 5) (hp : post (gc, ec, fs, upd m (6 * g + J) ((m (6 * g + J)) ||| ((1 : Int32) <<< (nI (t / 2 ^ J) &&& 31))), oa)) : wX_giveBack_71 post (nI g) (nI J) (nI (t / 2 ^ J)) gc ec fs m oa := by
  unfold wX_giveBack_71
  refine ⟨xw_in hg (by omega), xw_in hg (by omega), nm_r ?_ hp⟩
  rw [xw_cl hg (by omega)]
theorem xw_gv8 {post : SX → Prop} {J : Nat} (hg : g < 4) (ht : t < 32) (hJ : J ≤ 5) : ∀ d j (m : Nat → Int32), j + d = J → (∀ l, j ≤ l → l < J → bt (m (6 * g + l)) (t / 2 ^ l ^^^ 1) = true) → (J < 5 → bt (m (6 * g + J)) (t / 2 ^ J ^^^ 1) = false) → ∀ n, d < n → (∀ m' : Nat → Int32, (∀ g' l i, l < 6 → i < 32 → bt (m' (6 * g' + l)) i = if g' = g ∧ l = J then (bt (m (6 * g' + l)) i || decide (i = t / 2 ^ J)) else if g' = g ∧ j ≤ l ∧ l < J then (bt (m (6 * g' + l)) i && !decide (i = t / 2 ^ l ^^^ 1)) else bt (m (6 * g' + l)) i) → post (gc, ec, fs, m', oa)) → wX_giveBack_8 post (nI g) gc ec fs n (nI j) (nI (t / 2 ^ j)) m oa := by
  intro d
  induction d with
  | zero =>
    intro j m hj h1 h0 n hn hp
    obtain ⟨n, rfl⟩ : ∃ m, n = m + 1 := ⟨n - 1, by omega⟩
    have e : j = J := by omega
    subst e
    have K : wX_giveBack_71 post (nI g) (nI j) (nI (t / 2 ^ j)) gc ec fs m oa := by
      refine xw_gv71 hg ht hJ (hp _ fun g' l i hl hi => ?_)
      rw [xw_ux (by omega) hl]
      by_cases e : g' = g ∧ l = j
      · rw [if_pos e, if_pos e, gb_set (xw_d32 ht) hi, e.1, e.2]
      · rw [if_neg e, if_neg e, if_neg (by omega)]
    by_cases h5 : j = 5
    · exact br_t (nI_le (a := 5) (by omega) (by omega)) K
    · refine br_f (nI_ge (b := 5) (by omega) (by decide)) ⟨xw_in hg (by omega), br_t ?_ K⟩
      rw [xw_cl hg (by omega), gn_xor, gb_z (ga_sib2 (xw_d32 ht)).2.2]
      exact h0 (by omega)
  | succ d ih =>
    intro j m hj h1 h0 n hn hp
    obtain ⟨n, rfl⟩ : ∃ m, n = m + 1 := ⟨n - 1, by omega⟩
    have hc : t / 2 ^ j < 32 := xw_d32 ht
    have hx := (ga_sib2 hc).2.2
    have e3 : upd m ((6 * nI g) + nI j).toNatClampNeg ((m ((6 * nI g) + nI j).toNatClampNeg) &&& (((1 : Int32) <<< ((nI (t / 2 ^ j) ^^^ 1) &&& 31)) ^^^ (-1))) = upd m (6 * g + j) ((m (6 * g + j)) &&& (((1 : Int32) <<< (nI (t / 2 ^ j ^^^ 1) &&& 31)) ^^^ (-1))) := by
      rw [xw_cl hg (by omega), gn_xor]
    have e4 : nI (t / 2 ^ j) >>> ((1 : Int32) &&& 31) = nI (t / 2 ^ (j + 1)) := by
      have := gn_shr (n := t / 2 ^ j) (k := 1) (by omega) (by decide)
      rw [ga_dd]
      exact this
    refine br_f (nI_ge (b := 5) (by omega) (by decide)) ⟨xw_in hg (by omega), br_f ?_ ⟨xw_in hg (by omega), xw_in hg (by omega), nm_r e3 (nm_r e4 (nm_r (nI_1 j) (ih (j + 1) _ (by omega) (fun l a1 a2 => ?_) (fun a => ?_) n (by omega) (fun m' hm => hp m' fun g' l i hl hi => ?_))))⟩⟩
    · rw [xw_cl hg (by omega), gn_xor, gb_z hx, h1 j (by omega) (by omega)]
      exact Bool.noConfusion
    · rw [xw_ux (by omega) (by omega), if_neg (by omega)]
      exact h1 l (by omega) a2
    · rw [xw_ux (by omega) (by omega), if_neg (by omega)]
      exact h0 a
    · rw [hm g' l i hl hi, xw_ux (by omega) hl]
      by_cases e : g' = g ∧ l = j
      · rw [if_neg (by omega), if_neg (by omega), if_pos e, if_neg (by omega), if_pos (by omega), gb_clr hx hi, e.1, e.2]
      · rw [if_neg e]
        by_cases c : g' = g ∧ l = J
        · rw [if_pos c, if_pos c]
        · rw [if_neg c, if_neg c]
          by_cases c2 : g' = g ∧ j + 1 ≤ l ∧ l < J
          · rw [if_pos c2, if_pos (by omega)]
          · rw [if_neg c2, if_neg (by omega)]
theorem xw_give {post : SX → Prop} (hM : ga_M G fm own) (hG : G ≤ 4) (hg : g < G) (ht : t < 32) (hk : k ≤ 5) (hP : ga_P own g t = false) (hp : ∀ J (fm' : Nat → Int32), k ≤ J → (∀ j, k ≤ j → j < J → ga_T (ga_P own g) j (t / 2 ^ j ^^^ 1) = true) → ga_T (ga_P own g) J (t / 2 ^ J ^^^ 1) = false → ga_GV g J k t fm fm' → post (gc, ec, fs, fm', oa)) : wpX_giveBack post (gc, ec, fs, fm, oa) (nI g) (nI k) (nI t) := by
  unfold wpX_giveBack
  obtain ⟨J, j1, j2, j3, j4⟩ := ga_giveJ (ga_P32 own g) ht hk
  have hB : ∀ l, l < 6 → bt (fm (6 * g + l)) (t / 2 ^ l ^^^ 1) = ga_T (ga_P own g) l (t / 2 ^ l ^^^ 1) := by
    intro l hl
    have hs := ga_sib2 (c := t / 2 ^ l) (xw_d32 ht)
    rw [hM g l _ hg hl hs.2.2]
    unfold ga_B
    rw [hs.1, ← ga_dd, ga_T_f (b := t) (j := l + 1) rfl hP, Bool.not_false, Bool.and_true]
  refine nm_r (gn_shr (by omega) (by omega)) ⟨7, xw_gv8 (J := J) (by omega) ht j2 (J - k) k fm (by omega) (fun l a1 a2 => ?_) (fun _ => ?_) 7 (by omega) (fun m' hm => hp J m' j1 j3 j4 fun g' l i hl hi => ?_)⟩
  · rw [hB l (by omega)]; exact j3 l a1 a2
  · rw [hB J (by omega)]; exact j4
  · rw [hm g' l i hl hi]
    unfold ga_gv
    by_cases e : g' = g
    · by_cases e2 : l = J
      · rw [if_pos ⟨e, e2⟩, if_pos e, if_pos e2]
      · rw [if_neg (fun z => e2 z.2), if_pos e, if_neg e2]
        by_cases c : k ≤ l ∧ l < J
        · rw [if_pos ⟨e, c⟩, if_pos c]
        · rw [if_neg (fun z => c z.2), if_neg c]
    · rw [if_neg (fun z => e z.1), if_neg (fun z => e z.1), if_neg e]
end
end
section
/-! ===== X's search, counts, occupy ===== -/
section
variable {gc ec fs : Int32} {fm oa own : Nat → Int32} {G g t k : Nat}
theorem xs_94 {post : Int32 → SX → Prop} {J26 J50 : Int32 → Int32 → Prop} {x1 x5 x7 : Int32} {i j c z : Nat} (hk : k ≤ 5) (hj : j ≤ 5) (hi : i * 2 ^ j ≤ 1024) (hz : z ≤ 1024) (hc : c ≤ 32)
    (nofit : i * 2 ^ j + 2 ^ j < z + 2 ^ k → J50 (nI (i + 1)) (nI c)) (keep : z + 2 ^ k ≤ i * 2 ^ j + 2 ^ j → c ≤ z → J50 (nI (i + 1)) (nI c)) (new : z + 2 ^ k ≤ i * 2 ^ j + 2 ^ j → z < c → J50 (nI (i + 1)) (nI z)) :
    wX_search_94 post J26 J50 x1 (nI (2 ^ k)) x5 (nI j) x7 (nI i) (nI (i * 2 ^ j)) (nI z) gc ec (nI c) fm oa := by
  have h1 := xw_p5 hk
  have h2 := xw_p5 hj
  have e1 : nI (i * 2 ^ j) + ((1 : Int32) <<< (nI j &&& 31)) = nI (i * 2 ^ j + 2 ^ j) := by rw [gn_1l (by omega), nI_add]
  have e2 : nI z + nI (2 ^ k) = nI (z + 2 ^ k) := nI_add _ _
  unfold wX_search_94
  rw [e1, e2]
  refine pk_lt (i * 2 ^ j + 2 ^ j) (z + 2 ^ k) (fun h => nm_r (nI_1 i) (nofit h)) (fun h => pk_le c z (fun h3 => nm_r (nI_1 i) (keep h h3)) (fun h3 => nm_r (nI_1 i) (new h h3)) rfl rfl (by omega) (by omega)) rfl rfl (by omega) (by omega)
theorem xs_50 {post : Int32 → SX → Prop} {J26 : Int32 → Int32 → Prop} {x1 w : Int32} {P : Nat → Bool} {j : Nat} {D : Prop} (hkj : k ≤ j) (hj : j ≤ 5) (ht : t ≤ 32) (hw : ∀ i, i < 32 → bt w i = ga_B P j i)
    (hJ : ∀ c', ga_S P k t ≤ c' → c' ≤ 32 → (D → c' = ga_S P k t) → J26 (nI (j + 1)) (nI c')) :
    ∀ d i c, i + d = 32 → ga_S P k t ≤ c → c ≤ 32 → (D → c = ga_S P k t ∨ ∃ h, i ≤ h ∧ h * 2 ^ j < 32 ∧ ga_B P j h = true ∧ ga_cd k t j h + 2 ^ k ≤ h * 2 ^ j + 2 ^ j ∧ ga_cd k t j h = ga_S P k t) → ∀ n, d < n →
    wX_search_50 post J26 x1 (nI (2 ^ k)) (nI (ga_fr k t)) (nI j) w gc ec fm oa n (nI i) (nI c) := by
  have h2 := xw_p5 hj
  have h2k := xw_p5 (j := k) (by omega)
  have hpos := Nat.two_pow_pos j
  have hfr := (ga_fr1 (k := k) (t := t) (by omega)).2.2.1 ht
  intro d
  induction d with
  | zero =>
    intro i c hi hc1 hc2 hD n hn
    obtain ⟨n, rfl⟩ : ∃ m, n = m + 1 := ⟨n - 1, by omega⟩
    have hB : i * 2 ^ j ≤ 32 * 32 := Nat.mul_le_mul (by omega) h2
    have hB2 : 32 * 1 ≤ i * 2 ^ j := Nat.mul_le_mul (by omega) hpos
    have e1 : nI i <<< (nI j &&& 31) = nI (i * 2 ^ j) := gn_shl (by omega) (by omega)
    refine br_t (by rw [e1]; exact nI_le (a := 32) (by omega) (by omega)) (nm_r (nI_1 j) (hJ c hc1 hc2 fun z => ?_))
    rcases hD z with y | ⟨h, a1, a2, a3, a4, a5⟩
    · exact y
    · have := Nat.mul_le_mul_right (2 ^ j) a1
      omega
  | succ d ih =>
    intro i c hi hc1 hc2 hD n hn
    obtain ⟨n, rfl⟩ : ∃ m, n = m + 1 := ⟨n - 1, by omega⟩
    have hB : i * 2 ^ j ≤ 32 * 32 := Nat.mul_le_mul (by omega) h2
    have e1 : nI i <<< (nI j &&& 31) = nI (i * 2 ^ j) := gn_shl (by omega) (by omega)
    rcases Nat.lt_or_ge (i * 2 ^ j) 32 with hlt | hge
    · refine br_f (by rw [e1]; exact nI_ge (b := 32) hlt (by decide)) ?_
      have hi32 : i < 32 := by omega
      cases eb : ga_B P j i with
      | false =>
        refine br_t ((gb_z hi32).mpr (by rw [hw i hi32]; exact eb)) (nm_r (nI_1 i) (ih (i + 1) c (by omega) hc1 hc2 (fun z => ?_) n (by omega)))
        rcases hD z with y | ⟨h, a1, a2, a3, a4, a5⟩
        · exact Or.inl y
        · refine Or.inr ⟨h, ?_, a2, a3, a4, a5⟩
          by_cases e : h = i
          · rw [e, eb] at a3; exact Bool.noConfusion a3
          · omega
      | true =>
        have hT : ga_T P j i = true := by
          unfold ga_B at eb
          rw [Bool.and_eq_true] at eb
          exact eb.1
        have nb : ¬ (((w.toUInt32 >>> ((nI i).toUInt32 &&& Int32.toUInt32 31)).toInt32) &&& 1) = 0 := by
          rw [gb_z hi32, hw i hi32, eb]; exact Bool.noConfusion
        have hz : ga_cd k t j i ≤ 1024 := by
          unfold ga_cd
          split <;> omega
        have K : wX_search_94 post J26 (wX_search_50 post J26 x1 (nI (2 ^ k)) (nI (ga_fr k t)) (nI j) w gc ec fm oa n) x1 (nI (2 ^ k)) (nI (ga_fr k t)) (nI j) w (nI i) (nI (i * 2 ^ j)) (nI (ga_cd k t j i)) gc ec (nI c) fm oa := by
          refine xs_94 (by omega) hj (by omega) hz hc2 (fun nf => ?_) (fun hf hle => ?_) (fun hf hlt2 => ?_)
          · refine ih (i + 1) c (by omega) hc1 hc2 (fun z => ?_) n (by omega)
            rcases hD z with y | ⟨h, a1, a2, a3, a4, a5⟩
            · exact Or.inl y
            · refine Or.inr ⟨h, ?_, a2, a3, a4, a5⟩
              by_cases e : h = i
              · rw [e] at a4; omega
              · omega
          · refine ih (i + 1) c (by omega) hc1 hc2 (fun z => ?_) n (by omega)
            rcases hD z with y | ⟨h, a1, a2, a3, a4, a5⟩
            · exact Or.inl y
            · by_cases e : h = i
              · rw [e] at a5; exact Or.inl (by omega)
              · exact Or.inr ⟨h, by omega, a2, a3, a4, a5⟩
          · have hS := ga_cd2 ht hkj hj hT hf
            refine ih (i + 1) (ga_cd k t j i) (by omega) hS (by omega) (fun z => ?_) n (by omega)
            rcases hD z with y | ⟨h, a1, a2, a3, a4, a5⟩
            · exact Or.inl (by omega)
            · by_cases e : h = i
              · rw [e] at a5; exact Or.inl a5
              · exact Or.inr ⟨h, by omega, a2, a3, a4, a5⟩
        refine br_f nb (nm_r e1 ?_)
        by_cases hle : i * 2 ^ j ≤ ga_fr k t
        · have ez : ga_cd k t j i = ga_fr k t := if_pos hle
          rw [ez] at K
          exact br_t (nI_le hle (by omega)) K
        · have ez : ga_cd k t j i = i * 2 ^ j := if_neg hle
          rw [ez] at K
          exact br_f (nI_ge (by omega) (by omega)) K
    · refine br_t (by rw [e1]; exact nI_le (a := 32) hge (by omega)) (nm_r (nI_1 j) (hJ c hc1 hc2 fun z => ?_))
      rcases hD z with y | ⟨h, a1, a2, a3, a4, a5⟩
      · exact y
      · have := Nat.mul_le_mul_right (2 ^ j) a1
        omega
theorem xs_26 {post : Int32 → SX → Prop} {J0 h0 : Nat} (hM : ga_M G fm own) (hG : G ≤ 4) (hg : g < G) (ht : t ≤ 32) (hJ0 : J0 ≤ 5)
    (hh : ga_S (ga_P own g) k t < 32 → k ≤ J0 ∧ h0 * 2 ^ J0 < 32 ∧ ga_B (ga_P own g) J0 h0 = true ∧ ga_cd k t J0 h0 + 2 ^ k ≤ h0 * 2 ^ J0 + 2 ^ J0 ∧ ga_cd k t J0 h0 = ga_S (ga_P own g) k t)
    (hp1 : ga_S (ga_P own g) k t < 32 → post 1 (gc, ec, nI (ga_S (ga_P own g) k t), fm, oa)) (hp0 : ga_S (ga_P own g) k t = 32 → post 0 (gc, ec, nI (ga_S (ga_P own g) k t), fm, oa)) :
    ∀ d j c, j + d = 6 → k ≤ j → ga_S (ga_P own g) k t ≤ c → c ≤ 32 → (J0 < j → c = ga_S (ga_P own g) k t) → ∀ n, d < n →
    wX_search_26 post (nI g) (nI (2 ^ k)) (nI (ga_fr k t)) gc ec fm oa n (nI j) (nI c) := by
  intro d
  induction d with
  | zero =>
    intro j c hj hkj hc1 hc2 hD n hn
    obtain ⟨n, rfl⟩ : ∃ m, n = m + 1 := ⟨n - 1, by omega⟩
    have e := hD (by omega)
    subst e
    refine br_t (nI_le (a := 6) (by omega) (by omega)) ?_
    rcases Nat.lt_or_ge (ga_S (ga_P own g) k t) 32 with h | h
    · exact br_f (nI_ge (b := 32) h (by decide)) (hp1 h)
    · exact br_t (nI_le (a := 32) h (by omega)) (hp0 (by omega))
  | succ d ih =>
    intro j c hj hkj hc1 hc2 hD n hn
    obtain ⟨n, rfl⟩ : ∃ m, n = m + 1 := ⟨n - 1, by omega⟩
    have e1 : fm ((6 * nI g) + nI j).toNatClampNeg = fm (6 * g + j) := by rw [xw_cl (by omega) (by omega)]
    refine br_f (nI_ge (b := 6) (by omega) (by decide)) ⟨xw_in (by omega) (by omega), nm_r e1 ⟨33, ?_⟩⟩
    refine xs_50 (P := ga_P own g) (D := J0 ≤ j) hkj (by omega) ht (fun i hi => hM g j i hg (by omega) hi) (fun c' b1 b2 b3 => ih (j + 1) c' (by omega) (by omega) b1 b2 (fun z => b3 (by omega)) n (by omega)) 32 0 c rfl hc1 hc2 (fun z => ?_) 33 (by decide)
    by_cases e : J0 = j
    · rcases Nat.lt_or_ge (ga_S (ga_P own g) k t) 32 with h | h
      · obtain ⟨b1, b2, b3, b4, b5⟩ := hh h
        rw [e] at b2 b3 b4 b5
        exact Or.inr ⟨h0, Nat.zero_le _, b2, b3, b4, b5⟩
      · exact Or.inl (by omega)
    · exact Or.inl (hD (by omega))
theorem xs_fr (hk : k ≤ 5) (ht : t < 32) : (((nI t + nI (2 ^ k)) - 1) >>> (nI k &&& 31)) <<< (nI k &&& 31) = nI (ga_fr k t) := by
  have h2 := xw_p5 hk
  have hpos := Nat.two_pow_pos k
  have hfr := (ga_fr1 (k := k) (t := t) hk).2.2.1 (by omega)
  have e1 : (nI t + nI (2 ^ k)) - 1 = nI (t + 2 ^ k - 1) := by
    rw [nI_add]
    exact pk_sub (b := 1) (by omega)
  unfold ga_fr at *
  rw [e1, gn_shr (by omega) (by omega), gn_shl (by omega) (by omega)]
theorem xs_search {post : Int32 → SX → Prop} (hM : ga_M G fm own) (hG : G ≤ 4) (hg : g < G) (ht : t < 32) (hk : k ≤ 5)
    (hp1 : ga_S (ga_P own g) k t < 32 → post 1 (gc, ec, nI (ga_S (ga_P own g) k t), fm, oa)) (hp0 : ga_S (ga_P own g) k t = 32 → post 0 (gc, ec, nI (ga_S (ga_P own g) k t), fm, oa)) :
    wpX_search post (gc, ec, fs, fm, oa) (nI g) (nI k) (nI t) := by
  unfold wpX_search
  have hs := ga_S_spec (ga_P own g) k (t := t) (by omega)
  refine nm_r (gn_1l (by omega)) (nm_r (xs_fr hk ht) ⟨7, ?_⟩)
  rcases Nat.lt_or_ge (ga_S (ga_P own g) k t) 32 with h | h
  · obtain ⟨J0, h0, b1, b2, b3, b4, b5, b6⟩ := ga_hit (ga_P32 own g) hk (by omega) h
    exact xs_26 (J0 := J0) (h0 := h0) hM hG hg (by omega) b2 (fun _ => ⟨b1, b3, b4, b5, b6⟩) hp1 hp0 (6 - k) k 32 (by omega) (by omega) (by omega) (by omega) (fun z => absurd z (by omega)) 7 (by omega)
  · exact xs_26 (J0 := 0) (h0 := 0) hM hG hg (by omega) (by omega) (fun z => absurd z (by omega)) hp1 hp0 (6 - k) k 32 (by omega) (by omega) (by omega) (by omega) (fun z => by omega) 7 (by omega)
theorem xs_29 {post : Int32 → Prop} {J5 : Int32 → Int32 → Prop} {x1 w : Int32} {P : Nat → Bool} {j x0 : Nat} (hkj : k ≤ j) (hj : j ≤ 5) (hw : ∀ i, i < 32 → bt w i = ga_B P j i)
    (hJ : J5 (nI (x0 + ga_C (ga_B P j) 32 * 2 ^ (j - k))) (nI (j + 1))) :
    ∀ d i, i + d = 32 → ∀ n, d < n → wX_freeIn_29 post J5 x1 (nI k) (nI j) w gc ec fs fm oa n (nI (x0 + ga_C (ga_B P j) i * 2 ^ (j - k))) (nI i) := by
  intro d
  induction d with
  | zero =>
    intro i hi n hn
    obtain ⟨n, rfl⟩ : ∃ m, n = m + 1 := ⟨n - 1, by omega⟩
    have e : i = 32 := by omega
    subst e
    exact br_t (nI_le (a := 32) (by omega) (by omega)) (nm_r (nI_1 j) hJ)
  | succ d ih =>
    intro i hi n hn
    obtain ⟨n, rfl⟩ : ∃ m, n = m + 1 := ⟨n - 1, by omega⟩
    have h2 := xw_p5 (j := j - k) (by omega)
    have hb : (ga_B P j i).toNat * 2 ^ (j - k) ≤ 1 * 32 := Nat.mul_le_mul (Bool.toNat_le _) h2
    have e1 : nI (x0 + ga_C (ga_B P j) i * 2 ^ (j - k)) + ((((w.toUInt32 >>> ((nI i).toUInt32 &&& Int32.toUInt32 31)).toInt32) &&& 1) <<< ((nI j - nI k) &&& 31)) = nI (x0 + ga_C (ga_B P j) (i + 1) * 2 ^ (j - k)) := by
      rw [gb_tst (by omega), hw i (by omega), pk_sub hkj, gn_shl (by omega) (by omega), nI_add]
      show _ = nI (x0 + (ga_C (ga_B P j) i + (ga_B P j i).toNat) * 2 ^ (j - k))
      rw [Nat.add_mul, Nat.add_assoc]
    exact br_f (nI_ge (b := 32) (by omega) (by decide)) (nm_r e1 (nm_r (nI_1 i) (ih (i + 1) (by omega) n (by omega))))
theorem xs_5 {post : Int32 → Prop} (hM : ga_M G fm own) (hG : G ≤ 4) (hg : g < G) (hp : post (nI (ga_C (ga_T (ga_P own g) k) 32))) :
    ∀ d j x, j + d = 6 → k ≤ j → x + ga_C (ga_T (ga_P own g) j) 32 * 2 ^ (j - k) = ga_C (ga_T (ga_P own g) k) 32 → ∀ n, d < n → wX_freeIn_5 post (nI g) (nI k) gc ec fs fm oa n (nI x) (nI j) := by
  intro d
  induction d with
  | zero =>
    intro j x hj hkj hx n hn
    obtain ⟨n, rfl⟩ : ∃ m, n = m + 1 := ⟨n - 1, by omega⟩
    rw [ga_C_zero 32 (fun i _ => ga_T_6 (ga_P32 own g) j i (by omega)), Nat.zero_mul, Nat.add_zero] at hx
    rw [hx]
    exact br_t (nI_le (a := 6) (by omega) (by omega)) hp
  | succ d ih =>
    intro j x hj hkj hx n hn
    obtain ⟨n, rfl⟩ : ∃ m, n = m + 1 := ⟨n - 1, by omega⟩
    have e1 : fm ((6 * nI g) + nI j).toNatClampNeg = fm (6 * g + j) := by rw [xw_cl (by omega) (by omega)]
    have e2 : x + ga_C (ga_B (ga_P own g) j) 32 * 2 ^ (j - k) + ga_C (ga_T (ga_P own g) (j + 1)) 32 * 2 ^ (j + 1 - k) = ga_C (ga_T (ga_P own g) k) 32 := by
      rw [← hx, ga_C_lvl (ga_P32 own g) j, show j + 1 - k = j - k + 1 by omega, Nat.pow_succ, Nat.add_mul, Nat.add_assoc, Nat.mul_comm (2 ^ (j - k)) 2, ← Nat.mul_assoc, Nat.mul_comm 2 (ga_C _ _)]
    refine br_f (nI_ge (b := 6) (by omega) (by decide)) ⟨xw_in (by omega) (by omega), nm_r e1 ⟨33, ?_⟩⟩
    have K := xs_29 (post := post) (J5 := wX_freeIn_5 post (nI g) (nI k) gc ec fs fm oa n) (x1 := nI g) (gc := gc) (ec := ec) (fs := fs) (fm := fm) (oa := oa) (x0 := x) hkj (by omega) (fun i hi => hM g j i hg (by omega) hi) (ih (j + 1) _ (by omega) (by omega) e2 n (by omega)) 32 0 rfl 33 (by decide)
    rw [show ga_C (ga_B (ga_P own g) j) 0 = 0 from rfl, Nat.zero_mul, Nat.add_zero] at K
    exact K
theorem xs_freeIn {post : Int32 → Prop} (hM : ga_M G fm own) (hG : G ≤ 4) (hg : g < G) (hk : k ≤ 5) (hp : post (nI (ga_C (ga_T (ga_P own g) k) 32))) : wpX_freeIn post (gc, ec, fs, fm, oa) (nI g) (nI k) := by
  unfold wpX_freeIn
  refine ⟨7, xs_5 hM hG hg hp (6 - k) k 0 (by omega) (Nat.le_refl k) ?_ 7 (by omega)⟩
  rw [Nat.sub_self, Nat.pow_zero, Nat.mul_one, Nat.zero_add]
theorem xs_occupy {post : Int32 → SX → Prop} {c : Nat} (hM : ga_M G fm own) (hG : G ≤ 4) (hg : g < G) (ht : t < 32) (hk : k ≤ 5) (hT : ga_T (ga_P own g) k (t / 2 ^ k) = true)
    (hp : ∀ J (fm' : Nat → Int32), k ≤ J → ga_T (ga_P own g) J (t / 2 ^ J) = true → ga_T (ga_P own g) (J + 1) (t / 2 ^ (J + 1)) = false → ga_CV g J k t fm fm' → post (nI (32 * g + t)) (gc, nI (c + 1), nI t, fm', upd oa (32 * g + t) (nI k))) :
    wpX_occupy post (gc, nI c, nI t, fm, oa) (nI g) (nI k) := by
  unfold wpX_occupy
  have e1 : (32 * nI g) + nI t = nI (32 * g + t) := by rw [gn_32, nI_add]
  refine nm_r e1 (xw_carve hM hG hg ht hk hT fun J fm' a1 a2 a3 a4 => ?_)
  refine ⟨vp_in_nI (by omega) (by decide), nm_r ?_ (nm_r (nI_1 c) (hp J fm' a1 a2 a3 a4))⟩
  rw [nI_clamp (by omega), gn_byte k (by omega)]
theorem xs_ext {post : Int32 → Prop} {b : Nat} (hb : b < 128) (hm : ∀ k, k ≤ 5 → oa (b / 2 ^ k * 2 ^ k) = nI k → post (nI (b / 2 ^ k * 2 ^ k))) (hn : (∀ k, k ≤ 5 → oa (b / 2 ^ k * 2 ^ k) ≠ nI k) → post (-2)) :
    ∀ d j, j + d = 6 → (∀ k, k < j → oa (b / 2 ^ k * 2 ^ k) ≠ nI k) → ∀ n, d < n → wX_extentOf_12 post (nI b) gc ec fs fm oa n (nI j) := by
  intro d
  induction d with
  | zero =>
    intro j hj hl n hm
    obtain ⟨n, rfl⟩ : ∃ m, n = m + 1 := ⟨n - 1, by omega⟩
    exact br_t (nI_le (a := 6) (by omega) (by omega)) (hn fun k hk => hl k (by omega))
  | succ d ih =>
    intro j hj hl n hnn
    obtain ⟨n, rfl⟩ : ∃ m, n = m + 1 := ⟨n - 1, by omega⟩
    have hle := Nat.div_mul_le_self b (2 ^ j)
    have e1 : (nI b >>> (nI j &&& 31)) <<< (nI j &&& 31) = nI (b / 2 ^ j * 2 ^ j) := by rw [gn_shr (by omega) (by omega), gn_shl (by omega) (by omega)]
    refine br_f (nI_ge (b := 6) (by omega) (by decide)) (nm_r e1 ⟨vp_in_nI (by omega) (by decide), ?_⟩)
    rw [nI_clamp (by omega)]
    refine br_c (fun h => hm j (by omega) h) (fun h => nm_r (nI_1 j) (ih (j + 1) (by omega) (fun k hk => ?_) n (by omega)))
    by_cases e : k = j
    · rw [e]; exact h
    · exact hl k (by omega)
end
end
section
/-! ===== Y's own helpers ===== -/
section
variable {gr : Int32} {own od : Nat → Int32} {G g t k s c b : Nat}
theorem yw_isRun {post : Int32 → Prop} (hk : k ≤ 5) (hb : b < 2 ^ 31) (h1 : b % 2 ^ k = 0 → post 1) (h0 : b % 2 ^ k ≠ 0 → post 0) : wpY_isRun post (gr, own, od) (nI k) (nI b) := by
  have h2 := xw_p5 hk
  have hpos := Nat.two_pow_pos k
  have hm := Nat.mod_lt b hpos
  unfold wpY_isRun
  rw [gn_1l (by omega)]
  refine ⟨nI_ne0 hpos (by omega), ?_⟩
  rw [pk_rem hb hpos (by omega)]
  exact pk_eq (b % 2 ^ k) 0 h1 h0 rfl rfl (by omega) (by omega)
theorem yw_free2 {post : Int32 → Prop} (hsc : s + c ≤ 128) (h1 : (∀ b, s ≤ b → b < s + c → own b = -1) → post 1) (h0 : ∀ b, s ≤ b → b < s + c → own b ≠ -1 → post 0) :
    ∀ d x, x + d = s + c → s ≤ x → (∀ b, s ≤ b → b < x → own b = -1) → ∀ n, d < n → wY_free_2 post (nI s) (nI c) gr own od n (nI x) := by
  intro d
  induction d with
  | zero =>
    intro x hx hsx hl n hn
    obtain ⟨n, rfl⟩ : ∃ m, n = m + 1 := ⟨n - 1, by omega⟩
    exact br_t (by rw [nI_add]; exact nI_le (by omega) (by omega)) (h1 fun b b1 b2 => hl b b1 (by omega))
  | succ d ih =>
    intro x hx hsx hl n hn
    obtain ⟨n, rfl⟩ : ∃ m, n = m + 1 := ⟨n - 1, by omega⟩
    refine br_f (by rw [nI_add]; exact nI_ge (by omega) (by omega)) ⟨vp_in_nI (by omega) (by decide), ?_⟩
    rw [nI_clamp (by omega)]
    refine br_c (fun h => nm_r (nI_1 x) (ih (x + 1) (by omega) (by omega) (fun b b1 b2 => ?_) n (by omega))) (fun h => h0 x hsx (by omega) h)
    by_cases e : b = x
    · rw [e]; exact h
    · exact hl b b1 (by omega)
theorem yw_free {post : Int32 → Prop} (hsc : s + c ≤ 128) (h1 : (∀ b, s ≤ b → b < s + c → own b = -1) → post 1) (h0 : ∀ b, s ≤ b → b < s + c → own b ≠ -1 → post 0) : wpY_free post (gr, own, od) (nI s) (nI c) := by
  unfold wpY_free
  exact ⟨c + 1, yw_free2 hsc h1 h0 c s rfl (Nat.le_refl s) (fun b b1 b2 => absurd b1 (by omega)) (c + 1) (by omega)⟩
theorem yw_fit (hk : k ≤ 5) (ht : t < 32) (hal : t % 2 ^ k = 0) : t + 2 ^ k ≤ 32 := by
  rcases ga_k6 hk with rfl | rfl | rfl | rfl | rfl | rfl <;> simp only [Nat.reducePow] at * <;> omega
theorem yw_freeT {post : Int32 → Prop} {p0 p1 : Int32} (hg : g < 4) (ht : t < 32) (hk : k ≤ 5) (hal : t % 2 ^ k = 0) (e0 : p0 = nI (32 * g + t)) (e1 : p1 = nI (2 ^ k)) (h1 : ga_T (ga_P own g) k (t / 2 ^ k) = true → post 1) (h0 : ga_T (ga_P own g) k (t / 2 ^ k) = false → post 0) : wpY_free post (gr, own, od) p0 p1 := by
  have hf := yw_fit hk ht hal
  have ha : (32 * g + t) % 2 ^ k = 0 := (ga_al7 hk).mpr hal
  subst e0 e1
  refine yw_free (by omega) (fun h => h1 ?_) (fun b b1 b2 b3 => h0 ?_)
  · rw [ga_T_own ht hk]
    intro b hb
    have z := (ga_al1 hk ha).mpr hb
    exact h b z.1 z.2
  · rw [Bool.eq_false_iff]
    intro z
    rw [ga_T_own ht hk] at z
    exact b3 (z b ((ga_al1 hk ha).mp ⟨b1, b2⟩))
theorem yw_fill3 {post : SY → Prop} {v : Int32} (hsc : s + c ≤ 128) (hp : post (gr, ga_fl own s c v, od)) :
    ∀ d x, x + d = c → ∀ n, d < n → wY_fill_3 post (nI s) (nI c) v gr n (nI (s + x)) (ga_fl own s x v) od := by
  intro d
  induction d with
  | zero =>
    intro x hx n hn
    obtain ⟨n, rfl⟩ : ∃ m, n = m + 1 := ⟨n - 1, by omega⟩
    have e : x = c := by omega
    subst e
    exact br_t (by rw [nI_add]; exact nI_le (by omega) (by omega)) hp
  | succ d ih =>
    intro x hx n hn
    obtain ⟨n, rfl⟩ : ∃ m, n = m + 1 := ⟨n - 1, by omega⟩
    have e1 : upd (ga_fl own s x v) (nI (s + x)).toNatClampNeg v = ga_fl own s (x + 1) v := by
      rw [nI_clamp (by omega), ga_fl_s]
    exact br_f (by rw [nI_add]; exact nI_ge (by omega) (by omega)) ⟨vp_in_nI (by omega) (by decide), nm_r e1 (nm_r (nI_1 (s + x)) (ih (x + 1) (by omega) n (by omega)))⟩
theorem yw_fill {post : SY → Prop} {v p0 p1 : Int32} (hsc : s + c ≤ 128) (e0 : p0 = nI s) (e1 : p1 = nI c) (hp : post (gr, ga_fl own s c v, od)) : wpY_fill post (gr, own, od) p0 p1 v := by
  subst e0 e1
  unfold wpY_fill
  have K := yw_fill3 hsc hp c 0 (Nat.zero_add c) (c + 1) (by omega)
  rw [ga_fl_0] at K
  exact ⟨c + 1, K⟩
theorem yw_make {post : Int32 → SY → Prop} {p0 p1 : Int32} (hk : k ≤ 5) (hs : s + 2 ^ k ≤ 128) (e0 : p0 = nI k) (e1 : p1 = nI s) (hp : post (nI s) (gr, ga_fl own s (2 ^ k) (nI s), upd od s (nI k))) : wpY_make post (gr, own, od) p0 p1 := by
  have hpos := Nat.two_pow_pos k
  subst e0 e1
  unfold wpY_make
  refine yw_fill hs rfl (gn_1l (by omega)) ⟨vp_in_nI (by omega) (by decide), nm_r ?_ hp⟩
  rw [nI_clamp (by omega)]
theorem yw_search3 {post : Int32 → Prop} (hg : g < 4) (hk : k ≤ 5) :
    ∀ d b, b + d = 32 → (ga_fs (ga_q (ga_P own g) k) d b < 32 → post (nI (32 * g + ga_fs (ga_q (ga_P own g) k) d b))) → (ga_fs (ga_q (ga_P own g) k) d b = 32 → post (-1)) → ∀ n, d < n → wY_search_3 post (nI k) (nI (32 * g + 32)) gr own od n (nI (32 * g + b)) := by
  intro d
  induction d with
  | zero =>
    intro b hb hp1 hp0 n hn
    obtain ⟨n, rfl⟩ : ∃ m, n = m + 1 := ⟨n - 1, by omega⟩
    exact br_t (nI_le (by omega) (by omega)) (hp0 (by show b = 32; omega))
  | succ d ih =>
    intro b hb hp1 hp0 n hn
    obtain ⟨n, rfl⟩ : ∃ m, n = m + 1 := ⟨n - 1, by omega⟩
    have K : ga_q (ga_P own g) k b = false → wY_search_3 post (nI k) (nI (32 * g + 32)) gr own od n (nI (32 * g + (b + 1))) := by
      intro z
      rw [ga_fs_f z] at hp1 hp0
      exact ih (b + 1) (by omega) hp1 hp0 n (by omega)
    refine br_f (nI_ge (by omega) (by omega)) (yw_isRun hk (by omega) (fun h1 => ?_) (fun h0 => ?_))
    · have hal := (ga_al7 hk).mp h1
      refine br_f (by decide) (yw_freeT hg (by omega) hk hal rfl (gn_1l (by omega)) (fun hT => ?_) (fun hT => ?_))
      · have hq : ga_q (ga_P own g) k b = true := ga_q_iff.mpr ⟨hal, hT⟩
        rw [ga_fs_t hq] at hp1
        exact br_f (by decide) (hp1 (by omega))
      · refine br_t rfl (nm_r (nI_1 (32 * g + b)) (K ?_))
        unfold ga_q
        rw [hT, Bool.and_false]
    · refine br_t rfl (nm_r (nI_1 (32 * g + b)) (K ?_))
      unfold ga_q
      rw [decide_eq_false (fun z => h0 ((ga_al7 hk).mpr z)), Bool.false_and]
theorem yw_search {post : Int32 → Prop} {p1 p2 : Int32} (hg : g < 4) (hk : k ≤ 5) (ht : t ≤ 32) (e1 : p1 = nI (32 * g + t)) (e2 : p2 = nI (32 * g + 32)) (hp1 : ga_S (ga_P own g) k t < 32 → post (nI (32 * g + ga_S (ga_P own g) k t))) (hp0 : ga_S (ga_P own g) k t = 32 → post (-1)) : wpY_search post (gr, own, od) (nI k) p1 p2 := by
  subst e1 e2
  unfold wpY_search
  exact ⟨33, yw_search3 hg hk (32 - t) t (by omega) hp1 hp0 33 (by omega)⟩
theorem yw_fb17 {post : Int32 → Prop} (hg : g < 4) (hp : post (nI (ga_C (ga_P own g) 32))) :
    ∀ d b, b + d = 32 → ∀ n, d < n → wY_freeBlocks_17 post (nI g) gr own od n (nI (ga_C (ga_P own g) b)) (nI (32 * g + b)) := by
  have e32 : (32 * nI g) + 32 = nI (32 * g + 32) := by rw [gn_32]; exact nI_add (32 * g) 32
  intro d
  induction d with
  | zero =>
    intro b hb n hn
    obtain ⟨n, rfl⟩ : ∃ m, n = m + 1 := ⟨n - 1, by omega⟩
    have e : b = 32 := by omega
    subst e
    exact br_t (by rw [e32]; exact nI_le (by omega) (by omega)) hp
  | succ d ih =>
    intro b hb n hn
    obtain ⟨n, rfl⟩ : ∃ m, n = m + 1 := ⟨n - 1, by omega⟩
    refine br_f (by rw [e32]; exact nI_ge (by omega) (by omega)) ⟨vp_in_nI (by omega) (by decide), ?_⟩
    rw [nI_clamp (by omega)]
    have K := ih (b + 1) (by omega) n (by omega)
    rw [show ga_C (ga_P own g) (b + 1) = ga_C (ga_P own g) b + (ga_P own g b).toNat from rfl] at K
    refine br_c (fun h => ?_) (fun h => ?_)
    · rw [ga_P_iff.mpr ⟨by omega, h⟩] at K
      exact nm_r (nI_1 _) (nm_r (nI_1 (32 * g + b)) K)
    · rw [show ga_P own g b = false from Bool.eq_false_iff.mpr fun z => h (ga_P_iff.mp z).2] at K
      exact nm_r (nI_1 (32 * g + b)) K
/-- a free run of order k begins at block b of all -/
def ga_gd (own : Nat → Int32) (k b : Nat) : Bool := ga_q (ga_P own (b / 32)) k (b % 32)
theorem yw_fr14 {post : Int32 → Prop} (hG : G ≤ 4) (hk : k ≤ 5) (hp : post (nI (ga_C (ga_gd own k) (32 * G)))) :
    ∀ d b, b + d = 32 * G → ∀ n, d < n → wY_freeRuns_14 post (nI k) (nI G) own od n (nI (ga_C (ga_gd own k) b)) (nI b) := by
  intro d
  induction d with
  | zero =>
    intro b hb n hn
    obtain ⟨n, rfl⟩ : ∃ m, n = m + 1 := ⟨n - 1, by omega⟩
    have e : b = 32 * G := by omega
    subst e
    exact br_t (by rw [gn_32]; exact nI_le (by omega) (by omega)) hp
  | succ d ih =>
    intro b hb n hn
    obtain ⟨n, rfl⟩ : ∃ m, n = m + 1 := ⟨n - 1, by omega⟩
    have K := ih (b + 1) (by omega) n (by omega)
    rw [show ga_C (ga_gd own k) (b + 1) = ga_C (ga_gd own k) b + (ga_gd own k b).toNat from rfl] at K
    have eb : b = 32 * (b / 32) + b % 32 := by omega
    have e7 : b % 2 ^ k = 0 ↔ b % 32 % 2 ^ k = 0 := by
      have := ga_al7 (k := k) (t := b % 32) (g := b / 32) hk
      rw [← eb] at this
      exact this
    refine br_f (by rw [gn_32]; exact nI_ge (by omega) (by omega)) (yw_isRun hk (by omega) (fun h1 => ?_) (fun h0 => ?_))
    · have hal := e7.mp h1
      refine br_f (by decide) (yw_freeT (g := b / 32) (t := b % 32) (by omega) (by omega) hk hal (by rw [← eb]) (gn_1l (by omega)) (fun hT => ?_) (fun hT => ?_))
      · rw [show ga_gd own k b = true from ga_q_iff.mpr ⟨hal, hT⟩] at K
        exact br_f (by decide) (nm_r (nI_1 _) (nm_r (nI_1 b) K))
      · rw [show ga_gd own k b = false by unfold ga_gd ga_q; rw [hT, Bool.and_false]] at K
        exact br_t rfl (nm_r (nI_1 b) K)
    · rw [show ga_gd own k b = false by unfold ga_gd ga_q; rw [decide_eq_false (fun z => h0 (e7.mpr z)), Bool.false_and]] at K
      exact br_t rfl (nm_r (nI_1 b) K)
theorem yw_ex4 {post : Int32 → Prop} (hG : G ≤ 4) (hp : post (nI (ga_ct own (32 * G)))) :
    ∀ d b, b + d = 32 * G → ∀ n, d < n → wY_extents_4 post (nI G) own od n (nI (ga_ct own b)) (nI b) := by
  intro d
  induction d with
  | zero =>
    intro b hb n hn
    obtain ⟨n, rfl⟩ : ∃ m, n = m + 1 := ⟨n - 1, by omega⟩
    have e : b = 32 * G := by omega
    subst e
    exact br_t (by rw [gn_32]; exact nI_le (by omega) (by omega)) hp
  | succ d ih =>
    intro b hb n hn
    obtain ⟨n, rfl⟩ : ∃ m, n = m + 1 := ⟨n - 1, by omega⟩
    have K := ih (b + 1) (by omega) n (by omega)
    rw [show ga_ct own (b + 1) = ga_ct own b + (decide (own b = nI b)).toNat from rfl] at K
    refine br_f (by rw [gn_32]; exact nI_ge (by omega) (by omega)) ⟨vp_in_nI (by omega) (by decide), ?_⟩
    rw [nI_clamp (by omega)]
    refine br_c (fun h => ?_) (fun h => ?_)
    · rw [decide_eq_true h] at K
      exact nm_r (nI_1 _) (nm_r (nI_1 b) K)
    · rw [decide_eq_false h] at K
      exact nm_r (nI_1 b) K
end
end
section
/-! ===== the relation's body, and what the calls make of it ===== -/
def ga_I (G c : Nat) (fm oa own od : Nat → Int32) : Prop := 1 ≤ G ∧ G ≤ 4 ∧ c = ga_ct own (32 * G) ∧ ga_M G fm own ∧ ga_W G oa own od
section
variable {G c g t k J : Nat} {fm fm' oa own od : Nat → Int32}
theorem gi_mk (h : ga_I G c fm oa own od) (hg : g < G) (ht : t < 32) (hk : k ≤ 5) (hal : t % 2 ^ k = 0) (hT : ga_T (ga_P own g) k (t / 2 ^ k) = true) (hkJ : k ≤ J) (h3 : ga_T (ga_P own g) J (t / 2 ^ J) = true) (h4 : ga_T (ga_P own g) (J + 1) (t / 2 ^ (J + 1)) = false) (hC : ga_CV g J k t fm fm') :
    ga_I G (c + 1) fm' (upd oa (32 * g + t) (nI k)) (ga_fl own (32 * g + t) (2 ^ k) (nI (32 * g + t))) (upd od (32 * g + t) (nI k)) := by
  obtain ⟨hG1, hG, hc, hM, w⟩ := h
  have hf := (ga_T_own (own := own) (g := g) ht hk).mp hT
  have ha : (32 * g + t) % 2 ^ k = 0 := (ga_al7 hk).mpr hal
  refine ⟨hG1, hG, ?_, ?_, ga_W_mk w hG (by omega) hk ha hf⟩
  · rw [ga_ct_mk hG (by omega) hk ha hf, hc]
  · refine ga_M_cv hM ht hkJ h3 h4 hC (fun b => ?_) (fun g' b e => ga_P_fo ht hk hal e b)
    rw [ga_P_fl ht hk hal]
    by_cases z : b / 2 ^ k = t / 2 ^ k
    · rw [if_pos z, decide_eq_true z, Bool.not_true, Bool.and_false]
      exact decide_eq_false (gn_m1ne (by omega))
    · rw [if_neg z, decide_eq_false z, Bool.not_false, Bool.and_true]
theorem gi_P (w : ga_W G oa own od) (hG : G ≤ 4) (hg : g < G) (ht : t < 32) (hk : k ≤ 5) (ho : oa (32 * g + t) = nI k) : t % 2 ^ k = 0 ∧ ∀ b, b / 2 ^ k = t / 2 ^ k → ga_P own g b = false := by
  obtain ⟨e1, e2, e3⟩ := ga_W_at w (by omega) hk ho
  refine ⟨(ga_al7 hk).mp e2, fun b hb => ?_⟩
  have e := e3 (32 * g + b) ((ga_al6 hk).mpr hb)
  unfold ga_P
  rw [e, decide_eq_false (gn_m1ne (n := 32 * g + t) (by omega)), Bool.and_false]
theorem gi_rel (h : ga_I G c fm oa own od) (hg : g < G) (ht : t < 32) (hk : k ≤ 5) (ho : oa (32 * g + t) = nI k) (hkJ : k ≤ J) (hsib : ∀ j, k ≤ j → j < J → ga_T (ga_P own g) j (t / 2 ^ j ^^^ 1) = true) (hJ : ga_T (ga_P own g) J (t / 2 ^ J ^^^ 1) = false) (hC : ga_GV g J k t fm fm') :
    ∃ c', c = c' + 1 ∧ ga_I G c' fm' (upd oa (32 * g + t) (-1)) (ga_fl own (32 * g + t) (2 ^ k) (-1)) od := by
  obtain ⟨hG1, hG, hc, hM, w⟩ := h
  obtain ⟨e1, e2, e3⟩ := ga_W_at w (by omega) hk ho
  obtain ⟨hal, hP⟩ := gi_P w hG hg ht hk ho
  refine ⟨ga_ct (ga_fl own (32 * g + t) (2 ^ k) (-1)) (32 * G), ?_, hG1, hG, rfl, ?_, ga_W_rel w hG (by omega) hk ho⟩
  · rw [hc]; exact ga_ct_rel hG (by omega) hk e2 e3
  · refine ga_M_gv hM ht hkJ hsib hJ hP hC (fun b => ?_) (fun g' b e => ga_P_fo ht hk hal e b)
    rw [ga_P_fl ht hk hal]
    by_cases z : b / 2 ^ k = t / 2 ^ k
    · rw [if_pos z, decide_eq_true z, Bool.or_true]
      exact decide_eq_true rfl
    · rw [if_neg z, decide_eq_false z, Bool.or_false]
theorem gi_hf {b : Nat} (hk : k ≤ 4) (h : t % 2 ^ (k + 1) = 0) : (b / 2 ^ (k + 1) = t / 2 ^ (k + 1) ↔ (b / 2 ^ k = t / 2 ^ k ∨ b / 2 ^ k = (t + 2 ^ k) / 2 ^ k)) ∧ (t + 2 ^ k) / 2 ^ k ≠ t / 2 ^ k ∧ (t < 32 → t + 2 ^ k < 32) ∧ (t + 2 ^ k) % 2 ^ k = 0 ∧ t % 2 ^ k = 0 := by
  rcases ga_k6 (k := k) (by omega) with rfl | rfl | rfl | rfl | rfl | rfl <;> simp only [Nat.reducePow, Nat.reduceAdd] at * <;> omega
theorem gi_fl2 {s c1 c2 : Nat} {v v' : Int32} (h : c1 ≤ c2) : ga_fl (ga_fl own s c1 v) s c2 v' = ga_fl own s c2 v' := by
  funext b
  unfold ga_fl
  by_cases z : s ≤ b ∧ b < s + c2
  · rw [if_pos z, if_pos z]
  · rw [if_neg z, if_neg z, if_neg (by omega)]
theorem gi_grow (h : ga_I G c fm oa own od) (hg : g < G) (ht : t < 32) (hk : k ≤ 4) (ho : oa (32 * g + t) = nI k) (hal : t % 2 ^ (k + 1) = 0) (hT : ga_T (ga_P own g) k ((t + 2 ^ k) / 2 ^ k) = true) (hkJ : k ≤ J) (h3 : ga_T (ga_P own g) J ((t + 2 ^ k) / 2 ^ J) = true) (h4 : ga_T (ga_P own g) (J + 1) ((t + 2 ^ k) / 2 ^ (J + 1)) = false) (hC : ga_CV g J k (t + 2 ^ k) fm fm') :
    ga_I G c fm' (upd oa (32 * g + t) (nI (k + 1))) (ga_fl own (32 * g + t) (2 ^ (k + 1)) (nI (32 * g + t))) (upd od (32 * g + t) (nI (k + 1))) := by
  obtain ⟨hG1, hG, hc, hM, w⟩ := h
  obtain ⟨e1, e2, e3⟩ := ga_W_at w (by omega) (by omega) ho
  obtain ⟨hal0, hP⟩ := gi_P w hG hg ht (by omega) ho
  have ha : (32 * g + t) % 2 ^ (k + 1) = 0 := (ga_al7 (by omega)).mpr hal
  have ht2 : t + 2 ^ k < 32 := (gi_hf (b := 0) hk hal).2.2.1 ht
  have hf2 := (ga_T_own (own := own) (g := g) ht2 (by omega)).mp hT
  have w1 := ga_W_rel w hG (by omega) (by omega) ho
  have c1 := ga_ct_rel hG (s := 32 * g + t) (by omega) (by omega) e2 e3
  have hf : ∀ b, b / 2 ^ (k + 1) = (32 * g + t) / 2 ^ (k + 1) → ga_fl own (32 * g + t) (2 ^ k) (-1) b = -1 := by
    intro b hb
    rw [ga_fl_al (by omega) e2]
    rcases (gi_hf hk ha).1.mp hb with z | z
    · rw [if_pos z]
    · by_cases y : b / 2 ^ k = (32 * g + t) / 2 ^ k
      · rw [if_pos y]
      · rw [if_neg y]
        exact hf2 b (by rw [z, Nat.add_assoc])
  have w2 := ga_W_mk w1 hG (s := 32 * g + t) (by omega) (by omega : k + 1 ≤ 5) ha hf
  have c2 := ga_ct_mk hG (s := 32 * g + t) (by omega) (by omega : k + 1 ≤ 5) ha hf
  have hle : 2 ^ k ≤ 2 ^ (k + 1) := Nat.pow_le_pow_right (by decide) (by omega)
  rw [ga_upd2, gi_fl2 hle] at w2
  rw [gi_fl2 hle] at c2
  refine ⟨hG1, hG, by omega, ?_, w2⟩
  refine ga_M_cv hM ht2 hkJ h3 h4 hC (fun b => ?_) (fun g' b e => ga_P_fo ht (by omega) hal e b)
  rw [ga_P_fl ht (by omega) hal]
  have hh := gi_hf (b := b) hk hal
  by_cases z : b / 2 ^ (k + 1) = t / 2 ^ (k + 1)
  · rw [if_pos z, decide_eq_false (gn_m1ne (n := 32 * g + t) (by omega))]
    rcases hh.1.mp z with y | y
    · rw [hP b y, Bool.false_and]
    · rw [decide_eq_true y, Bool.not_true, Bool.and_false]
  · rw [if_neg z, decide_eq_false (fun y => z (hh.1.mpr (Or.inr y))), Bool.not_false, Bool.and_true]
theorem gi_halve (h : ga_I G c fm oa own od) (hg : g < G) (ht : t < 32) (hk : k ≤ 4) (ho : oa (32 * g + t) = nI (k + 1)) (hkJ : k ≤ J) (hsib : ∀ j, k ≤ j → j < J → ga_T (ga_P own g) j ((t + 2 ^ k) / 2 ^ j ^^^ 1) = true) (hJ : ga_T (ga_P own g) J ((t + 2 ^ k) / 2 ^ J ^^^ 1) = false) (hC : ga_GV g J k (t + 2 ^ k) fm fm') :
    ga_I G c fm' (upd oa (32 * g + t) (nI k)) (ga_fl (ga_fl own (32 * g + t) (2 ^ (k + 1)) (-1)) (32 * g + t) (2 ^ k) (nI (32 * g + t))) (upd od (32 * g + t) (nI k)) := by
  obtain ⟨hG1, hG, hc, hM, w⟩ := h
  obtain ⟨e1, e2, e3⟩ := ga_W_at w (by omega) (by omega : k + 1 ≤ 5) ho
  obtain ⟨hal, hP⟩ := gi_P w hG hg ht (by omega) ho
  have hh0 := gi_hf (b := 0) hk hal
  have hal0 : t % 2 ^ k = 0 := hh0.2.2.2.2
  have ht2 : t + 2 ^ k < 32 := hh0.2.2.1 ht
  have ha : (32 * g + t) % 2 ^ k = 0 := (ga_al7 (by omega)).mpr hal0
  have w1 := ga_W_rel w hG (by omega) (by omega : k + 1 ≤ 5) ho
  have c1 := ga_ct_rel hG (s := 32 * g + t) (by omega) (by omega : k + 1 ≤ 5) e2 e3
  have hf : ∀ b, b / 2 ^ k = (32 * g + t) / 2 ^ k → ga_fl own (32 * g + t) (2 ^ (k + 1)) (-1) b = -1 := by
    intro b hb
    rw [ga_fl_al (by omega) e2, if_pos ((gi_hf hk e2).1.mpr (Or.inl hb))]
  have w2 := ga_W_mk w1 hG (s := 32 * g + t) (by omega) (by omega : k ≤ 5) ha hf
  have c2 := ga_ct_mk hG (s := 32 * g + t) (by omega) (by omega : k ≤ 5) ha hf
  rw [ga_upd2] at w2
  refine ⟨hG1, hG, by omega, ?_, w2⟩
  refine ga_M_gv hM ht2 hkJ hsib hJ (fun b hb => hP b ((gi_hf hk hal).1.mpr (Or.inr hb))) hC (fun b => ?_) (fun g' b e => ?_)
  · rw [ga_P_fl ht (by omega) hal0, ga_P_fl ht (by omega) hal]
    have hh := gi_hf (b := b) hk hal
    by_cases z : b / 2 ^ k = t / 2 ^ k
    · rw [if_pos z, hP b (hh.1.mpr (Or.inl z)), decide_eq_false (gn_m1ne (n := 32 * g + t) (by omega)), decide_eq_false (fun y => hh.2.1 (y.symm.trans z))]
      rfl
    · rw [if_neg z]
      by_cases y : b / 2 ^ k = (t + 2 ^ k) / 2 ^ k
      · rw [if_pos (hh.1.mpr (Or.inr y)), decide_eq_true y, Bool.or_true]
        exact decide_eq_true rfl
      · rw [if_neg (fun x => (hh.1.mp x).elim z y), decide_eq_false y, Bool.or_false]
  · rw [ga_P_fo ht (by omega) hal0 e, ga_P_fo ht (by omega) hal e]
end
/-! ===== the empty disk ===== -/
theorem gi_init {G : Nat} {fm oa own od : Nat → Int32} (hG1 : 1 ≤ G) (hG : G ≤ 4) (hf : ∀ g l, g < G → l < 6 → fm (6 * g + l) = if l = 5 then 1 else 0) (ho : ∀ b, b < 128 → oa b = -1) (hw : ∀ b, b < 128 → own b = -1) : ga_I G 0 fm oa own od := by
  refine ⟨hG1, hG, ?_, fun g j i hg hj hi => ?_, fun b hb => Or.inl (hw b (by omega)), fun s hs => Or.inl (ho s (by omega))⟩
  · refine (ga_C_zero (f := fun b => decide (own b = nI b)) (32 * G) (fun i hi => ?_)).symm
    show decide (own i = nI i) = false
    rw [hw i (by omega)]
    exact decide_eq_false fun z => gn_m1ne (by omega) z.symm
  · have hP : ∀ b, ga_P own g b = decide (b < 32) := by
      intro b
      unfold ga_P
      by_cases z : b < 32
      · rw [decide_eq_true z, hw _ (by omega), decide_eq_true rfl]; rfl
      · rw [decide_eq_false z, Bool.false_and]
    rw [hf g j hg hj]
    unfold ga_B
    by_cases e : j = 5
    · rw [if_pos e, e, gb_1 i hi, ga_T_6 (ga_P32 own g) 6 _ (Nat.le_refl 6), Bool.not_false, Bool.and_true]
      by_cases e2 : i = 0
      · rw [decide_eq_true e2]
        symm
        rw [ga_T_iff]
        intro b hb
        rw [hP]
        exact decide_eq_true (by omega)
      · rw [decide_eq_false e2]
        exact (ga_T_out (ga_P32 own g) (by omega)).symm
    · rw [if_neg e, b_0]
      symm
      cases z : ga_T (ga_P own g) j i with
      | false => rfl
      | true =>
        have hlt : i * 2 ^ j < 32 := by
          have := (ga_T_iff _ _ _).mp z (i * 2 ^ j) (ga_mul i j)
          rw [hP] at this
          exact of_decide_eq_true this
        have hT : ga_T (ga_P own g) (j + 1) (i / 2) = true := by
          rw [ga_T_iff]
          intro b hb
          rw [hP]
          refine decide_eq_true ?_
          have := ga_al2 (G := 1) (k := j + 1) (s := i * 2 ^ j) (b := b) (by omega) (by omega) (by rw [hb, ga_dd, ga_mul])
          omega
        rw [hT]; rfl
/-! ===== counts of free runs ===== -/
def ga_R (own : Nat → Int32) (k : Nat) : Nat → Nat
  | 0 => 0
  | g + 1 => ga_R own k g + ga_C (ga_T (ga_P own g) k) 32
theorem gi_q32 {P : Nat → Bool} {k : Nat} (h : ga_32 P) (hk : k ≤ 5) : ga_C (ga_q P k) 32 = ga_C (ga_T P k) 32 := by
  have e1 : 2 ^ k * 2 ^ (5 - k) = 32 := by rw [← Nat.pow_add, show k + (5 - k) = 5 by omega]
  have h5 := xw_p5 (j := 5 - k) (by omega)
  have e2 := ga_C_al (ga_T P k) (2 ^ k) (Nat.two_pow_pos k) (2 ^ (5 - k))
  have e3 : ga_C (ga_T P k) (2 ^ (5 - k) + (32 - 2 ^ (5 - k))) = ga_C (ga_T P k) (2 ^ (5 - k)) := by
    refine ga_C_tail _ (fun i hi => ga_T_out h ?_)
    have := Nat.mul_le_mul_right (2 ^ k) hi
    rw [Nat.mul_comm (2 ^ (5 - k)), e1] at this
    exact this
  rw [e1] at e2
  rw [show 2 ^ (5 - k) + (32 - 2 ^ (5 - k)) = 32 by omega] at e3
  exact e2.trans e3.symm
theorem gi_R (own : Nat → Int32) {k : Nat} (hk : k ≤ 5) : ∀ G, ga_R own k G = ga_C (ga_gd own k) (32 * G) := by
  intro G
  induction G with
  | zero => rfl
  | succ G ih =>
    rw [Nat.mul_succ, ga_C_add, ← ih, ga_C_cong (f := fun i => ga_gd own k (32 * G + i)) (g := ga_q (ga_P own G) k) 32 (fun i hi => ?_), gi_q32 (ga_P32 own G) hk]
    · rfl
    · show ga_q (ga_P own ((32 * G + i) / 32)) k ((32 * G + i) % 32) = _
      rw [show (32 * G + i) / 32 = G by omega, show (32 * G + i) % 32 = i by omega]
end
section
/-! ===== the relation; the beginning; the calls that only read ===== -/
def i_Rel (k : Nat) (u : SX) (v : SY) : Prop := ∃ (G c : Nat) (f : Int32) (fm oa own od : Nat → Int32), u = (nI G, nI c, f, fm, oa) ∧ v = (nI G, own, od) ∧ ga_I G c fm oa own od
theorem i_up {k : Nat} {u : SX} {v : SY} (h : i_Rel k u v) : i_Rel (k + 3) u v := h
theorem io_rel {k G c : Nat} {f : Int32} {fm oa own od : Nat → Int32} (h : ga_I G c fm oa own od) : i_Rel k (nI G, nI c, f, fm, oa) (nI G, own, od) := ⟨G, c, f, fm, oa, own, od, rfl, rfl, h⟩
/-! ===== constructors ===== -/
theorem io_x74 {post : SX → Prop} {gc ec fs : Int32} {fm : Nat → Int32} (hp : ∀ a : Nat → Int32, (∀ x, x < 128 → a x = -1) → post (gc, ec, fs, fm, a)) :
    ∀ d b (a : Nat → Int32), b + d = 128 → (∀ x, x < b → a x = -1) → ∀ n, d < n → wX_init_74 post gc ec fs n (nI b) fm a := by
  intro d
  induction d with
  | zero =>
    intro b a hb ha n hn
    obtain ⟨n, rfl⟩ : ∃ m, n = m + 1 := ⟨n - 1, by omega⟩
    exact br_t (nI_le (a := 128) (by omega) (by omega)) (hp a fun x hx => ha x (by omega))
  | succ d ih =>
    intro b a hb ha n hn
    obtain ⟨n, rfl⟩ : ∃ m, n = m + 1 := ⟨n - 1, by omega⟩
    have e1 : upd a (nI b).toNatClampNeg (vp_nar .byte (-1)) = upd a b (-1) := by rw [nI_clamp (by omega), gn_bm1]
    refine br_f (nI_ge (b := 128) (by omega) (by decide)) ⟨vp_in_nI (by omega) (by decide), nm_r e1 (nm_r (nI_1 b) (ih (b + 1) _ (by omega) (fun x hx => ?_) n (by omega)))⟩
    by_cases e : x = b
    · rw [e, pk_us]
    · rw [pk_un e]; exact ha x (by omega)
theorem io_x46 {post : SX → Prop} {ec fs : Int32} {oa : Nat → Int32} {G : Nat} (hG : G ≤ 4) (hp : ∀ m : Nat → Int32, (∀ g l, g < G → l < 6 → m (6 * g + l) = if l = 5 then 1 else 0) → ∃ n, wX_init_74 post (nI G) ec fs n 0 m oa) :
    ∀ d g (m : Nat → Int32), g + d = G → (∀ g' l, l < 6 → m (6 * g' + l) = if g' < g ∧ l = 5 then 1 else 0) → ∀ n, d < n → wX_init_46 post (nI G) ec fs n (nI g) m oa := by
  intro d
  induction d with
  | zero =>
    intro g m hg hm n hn
    obtain ⟨n, rfl⟩ : ∃ m, n = m + 1 := ⟨n - 1, by omega⟩
    refine br_t (nI_le (by omega) (by omega)) (hp m fun g' l h1 h2 => ?_)
    rw [hm g' l h2]
    by_cases e : l = 5
    · rw [if_pos e, if_pos ⟨by omega, e⟩]
    · rw [if_neg e, if_neg (fun z => e z.2)]
  | succ d ih =>
    intro g m hg hm n hn
    obtain ⟨n, rfl⟩ : ∃ m, n = m + 1 := ⟨n - 1, by omega⟩
    have e0 : (6 * nI g) + 5 = nI (6 * g + 5) := gn_ix g 5
    have e1 : upd m ((6 * nI g) + 5).toNatClampNeg 1 = upd m (6 * g + 5) 1 := by rw [e0, nI_clamp (by omega)]
    refine br_f (nI_ge (by omega) (by omega)) ⟨by rw [e0]; exact vp_in_nI (by omega) (by decide), nm_r e1 (nm_r (nI_1 g) (ih (g + 1) _ (by omega) (fun g' l hl => ?_) n (by omega)))⟩
    rw [xw_ux (by omega) hl, hm g' l hl]
    by_cases e : g' = g ∧ l = 5
    · rw [if_pos e, if_pos (by omega)]
    · rw [if_neg e]
      by_cases c : g' < g ∧ l = 5
      · rw [if_pos c, if_pos (by omega)]
      · rw [if_neg c, if_neg (by omega)]
theorem io_y47 {post : SY → Prop} {gr : Int32} {od : Nat → Int32} (hp : ∀ a : Nat → Int32, (∀ x, x < 128 → a x = -1) → post (gr, a, od)) :
    ∀ d b (a : Nat → Int32), b + d = 128 → (∀ x, x < b → a x = -1) → ∀ n, d < n → wY_init_47 post gr n (nI b) a od := by
  intro d
  induction d with
  | zero =>
    intro b a hb ha n hn
    obtain ⟨n, rfl⟩ : ∃ m, n = m + 1 := ⟨n - 1, by omega⟩
    exact br_t (nI_le (a := 128) (by omega) (by omega)) (hp a fun x hx => ha x (by omega))
  | succ d ih =>
    intro b a hb ha n hn
    obtain ⟨n, rfl⟩ : ∃ m, n = m + 1 := ⟨n - 1, by omega⟩
    have e1 : upd a (nI b).toNatClampNeg (-1) = upd a b (-1) := by rw [nI_clamp (by omega)]
    refine br_f (nI_ge (b := 128) (by omega) (by decide)) ⟨vp_in_nI (by omega) (by decide), nm_r e1 (nm_r (nI_1 b) (ih (b + 1) _ (by omega) (fun x hx => ?_) n (by omega)))⟩
    by_cases e : x = b
    · rw [e, pk_us]
    · rw [pk_un e]; exact ha x (by omega)
theorem io_clamp (p : Int32) : ∃ G : Nat, 1 ≤ G ∧ G ≤ 4 ∧ (∀ post : SX → Prop, (∃ n46 : Nat, wX_init_46 post (nI G) 0 0 n46 0 (fun _ => 0) (fun _ => 0)) → wpX_init post p) ∧ (∀ post : SY → Prop, (∃ n47 : Nat, wY_init_47 post (nI G) n47 0 (fun _ => 0) (fun _ => 0)) → wpY_init post p) := by
  by_cases h1 : 1 ≤ p
  · by_cases h4 : p ≤ 4
    · have h0 : ¬ p < 0 := fun z => Int32.lt_irrefl (Int32.lt_of_lt_of_le z (Int32.le_trans (by decide) h1))
      obtain ⟨G, hG, rfl⟩ := nI_of h0
      have a1 : 1 ≤ G := (nI_leI (a := 1) (by decide) hG).mp h1
      have a4 : G ≤ 4 := (nI_leI (b := 4) hG (by decide)).mp h4
      exact ⟨G, a1, a4, fun post h => br_t h1 (br_t h4 h), fun post h => br_t h1 (br_t h4 h)⟩
    · exact ⟨4, by decide, by decide, fun post h => br_t h1 (br_f h4 h), fun post h => br_t h1 (br_f h4 h)⟩
  · exact ⟨1, by decide, by decide, fun post h => br_f h1 h, fun post h => br_f h1 h⟩
theorem i_vc0 (k0 : Int32) : wpX_init (fun u => wpY_init (fun v => i_Rel 1 u v) k0) k0 := by
  obtain ⟨G, hG1, hG, hX, hY⟩ := io_clamp k0
  refine hX _ ⟨G + 1, io_x46 hG (fun m hm => ⟨129, io_x74 (fun a ha => hY _ ⟨129, io_y47 (fun w hw => ?_) 128 0 _ rfl (fun x hx => absurd hx (Nat.not_lt_zero x)) 129 (by decide)⟩) 128 0 _ rfl (fun x hx => absurd hx (Nat.not_lt_zero x)) 129 (by decide)⟩) G 0 _ (Nat.zero_add G) (fun g' l hl => ?_) (G + 1) (by omega)⟩
  · exact io_rel (c := 0) (gi_init hG1 hG hm ha hw)
  · rw [if_neg (by omega)]
/-! ===== small tests ===== -/
section
variable {G k b : Nat} {ec fs gc v : Int32} {fm oa own od : Nat → Int32}
theorem io_ord (v : Int32) : (v < 0 ∨ nI 6 ≤ v) ∨ ∃ k, k ≤ 5 ∧ v = nI k := by
  rcases pk_ix v (n := 6) (by decide) with h | h | ⟨j, hj, e⟩
  · exact Or.inl (Or.inl h)
  · exact Or.inl (Or.inr h)
  · exact Or.inr ⟨j, by omega, e⟩
theorem io_blk (v : Int32) (hG : G ≤ 4) : (v < 0 ∨ nI (32 * G) ≤ v) ∨ ∃ g t, g < G ∧ t < 32 ∧ v = nI (32 * g + t) := by
  rcases pk_ix v (n := 32 * G) (by omega) with h | h | ⟨j, hj, e⟩
  · exact Or.inl (Or.inl h)
  · exact Or.inl (Or.inr h)
  · exact Or.inr ⟨j / 32, j % 32, by omega, by omega, by rw [e]; exact congrArg nI (by omega)⟩
theorem io_xob {post : Int32 → Prop} (h : v < 0 ∨ nI 6 ≤ v) (hp : post 0) : wpX_isOrder post (gc, ec, fs, fm, oa) v := by
  unfold wpX_isOrder
  by_cases z : v < 0
  · exact br_t z hp
  · exact br_f z (br_t (Int32.lt_of_lt_of_le (by decide : (5 : Int32) < nI 6) (h.resolve_left z)) hp)
theorem io_xog {post : Int32 → Prop} (hk : k ≤ 5) (hp : post 1) : wpX_isOrder post (gc, ec, fs, fm, oa) (nI k) := by
  unfold wpX_isOrder
  exact br_f (nI_pos (by omega)) (br_f (nI_nlt (a := 5) hk (by decide)) hp)
theorem io_yob {post : Int32 → Prop} (h : v < 0 ∨ nI 6 ≤ v) (hp : post 0) : wpY_isOrder post (gc, own, od) v := by
  unfold wpY_isOrder
  by_cases z : v < 0
  · exact br_t z hp
  · exact br_f z (br_t (Int32.lt_of_lt_of_le (by decide : (5 : Int32) < nI 6) (h.resolve_left z)) hp)
theorem io_yog {post : Int32 → Prop} (hk : k ≤ 5) (hp : post 1) : wpY_isOrder post (gc, own, od) (nI k) := by
  unfold wpY_isOrder
  exact br_f (nI_pos (by omega)) (br_f (nI_nlt (a := 5) hk (by decide)) hp)
theorem io_xbb {post : Int32 → Prop} (h : v < 0 ∨ nI (32 * G) ≤ v) (hp : post 0) : wpX_isBlock post (nI G, ec, fs, fm, oa) v := by
  unfold wpX_isBlock
  by_cases z : v < 0
  · exact br_t z hp
  · exact br_f z (br_t (by rw [gn_32]; exact h.resolve_left z) hp)
theorem io_xbg {post : Int32 → Prop} (hG : G ≤ 4) (hb : b < 32 * G) (hp : post 1) : wpX_isBlock post (nI G, ec, fs, fm, oa) (nI b) := by
  unfold wpX_isBlock
  exact br_f (nI_pos (by omega)) (br_f (by rw [gn_32]; exact nI_ge hb (by omega)) hp)
theorem io_ybb {post : Int32 → Prop} (h : v < 0 ∨ nI (32 * G) ≤ v) (hp : post 0) : wpY_isBlock post (nI G, own, od) v := by
  unfold wpY_isBlock
  by_cases z : v < 0
  · exact br_t z hp
  · exact br_f z (br_t (by rw [gn_32]; exact h.resolve_left z) hp)
theorem io_ybg {post : Int32 → Prop} (hG : G ≤ 4) (hb : b < 32 * G) (hp : post 1) : wpY_isBlock post (nI G, own, od) (nI b) := by
  unfold wpY_isBlock
  exact br_f (nI_pos (by omega)) (br_f (by rw [gn_32]; exact nI_ge hb (by omega)) hp)
end
/-! ===== extents, freeBlocks, freeRuns ===== -/
theorem i_vc_extents {k : Nat} {u : SX} {v : SY} (I : i_Rel k u v) (hk : k + 3 ≤ 1537) : wpX_extents (fun r => wpY_extents (fun r' => r' = r ∧ i_Rel (k + 3) u v) v) u := by
  have I' := i_up I
  obtain ⟨G, c, f, fm, oa, own, od, rfl, rfl, h⟩ := I
  obtain ⟨hG1, hG, hc, hM, w⟩ := h
  unfold wpX_extents wpY_extents
  exact ⟨32 * G + 1, yw_ex4 hG ⟨by rw [hc], I'⟩ (32 * G) 0 (Nat.zero_add _) _ (by omega)⟩
theorem i_vc_freeBlocks {k : Nat} {u : SX} {v : SY} (I : i_Rel k u v) (hk : k + 3 ≤ 1537) (v1 : Int32) : wpX_freeBlocks (fun r => wpY_freeBlocks (fun r' => r' = r ∧ i_Rel (k + 3) u v) v v1) u v1 := by
  have I' := i_up I
  obtain ⟨G, c, f, fm, oa, own, od, rfl, rfl, h⟩ := I
  obtain ⟨hG1, hG, hc, hM, w⟩ := h
  unfold wpX_freeBlocks wpY_freeBlocks wpY_isGroup
  by_cases h0 : v1 < 0
  · exact br_t h0 (br_t h0 (br_t rfl ⟨rfl, I'⟩))
  · refine br_f h0 ?_
    by_cases h1 : v1 < nI G
    · obtain ⟨g, hg, rfl⟩ := nI_of h0
      have hgG : g < G := (nI_ltI hg (by omega)).mp h1
      refine br_t h1 (xs_freeIn (k := 0) hM hG hgG (by decide) (br_f h0 (br_f (nI_ge hgG (by omega)) (br_f (by decide) (nm_r (gn_32 g) ⟨33, ?_⟩)))))
      exact yw_fb17 (by omega) ⟨rfl, I'⟩ 32 0 rfl 33 (by decide)
    · exact br_f h1 (br_f h0 (br_t (Int32.not_lt.mp h1) (br_t rfl ⟨rfl, I'⟩)))
theorem io_fr14 {post : Int32 → Prop} {G k : Nat} {ec fs : Int32} {fm oa own : Nat → Int32} (hM : ga_M G fm own) (hG : G ≤ 4) (hk : k ≤ 5) (hp : post (nI (ga_R own k G))) :
    ∀ d g, g + d = G → ∀ n, d < n → wX_freeRuns_14 post (nI k) (nI G) ec fs fm oa n (nI (ga_R own k g)) (nI g) := by
  intro d
  induction d with
  | zero =>
    intro g hg n hn
    obtain ⟨n, rfl⟩ : ∃ m, n = m + 1 := ⟨n - 1, by omega⟩
    have e : g = G := by omega
    subst e
    exact br_t (nI_le (by omega) (by omega)) hp
  | succ d ih =>
    intro g hg n hn
    obtain ⟨n, rfl⟩ : ∃ m, n = m + 1 := ⟨n - 1, by omega⟩
    exact br_f (nI_ge (by omega) (by omega)) (xs_freeIn hM hG (by omega) hk (nm_r (nI_add _ _) (nm_r (nI_1 g) (ih (g + 1) (by omega) n (by omega)))))
theorem i_vc_freeRuns {k : Nat} {u : SX} {v : SY} (I : i_Rel k u v) (hk : k + 3 ≤ 1537) (v1 : Int32) : wpX_freeRuns (fun r => wpY_freeRuns (fun r' => r' = r ∧ i_Rel (k + 3) u v) v v1) u v1 := by
  have I' := i_up I
  obtain ⟨G, c, f, fm, oa, own, od, rfl, rfl, h⟩ := I
  obtain ⟨hG1, hG, hc, hM, w⟩ := h
  unfold wpX_freeRuns wpY_freeRuns
  rcases io_ord v1 with hb | ⟨o, ho, rfl⟩
  · exact io_xob hb (br_t rfl (io_yob hb (br_t rfl ⟨rfl, I'⟩)))
  · refine io_xog ho (br_f (by decide) ⟨G + 1, io_fr14 hM hG ho ?_ G 0 (Nat.zero_add G) _ (by omega)⟩)
    refine io_yog ho (br_f (by decide) ⟨32 * G + 1, yw_fr14 hG ho ?_ (32 * G) 0 (Nat.zero_add _) _ (by omega)⟩)
    exact ⟨by rw [gi_R own ho G], I'⟩
/-! ===== largestFree ===== -/
theorem io_lf {G g : Nat} {gc ec fs gr : Int32} {fm oa own od : Nat → Int32} (hM : ga_M G fm own) (hG : G ≤ 4) (hg : g < G) : ∀ d, d ≤ 6 → (∀ j i, d ≤ j → ga_T (ga_P own g) j i = false) → ∃ r : Int32, (∀ post : Int32 → Prop, post r → wX_largestFree_16 post (nI g) gc ec fs fm oa (d + 1) (nI d + (-1))) ∧ (∀ post : Int32 → Prop, post r → wY_largestFree_12 post (nI g) gr own od (d + 1) (nI d + (-1))) := by
  intro d
  induction d with
  | zero =>
    intro _ _
    have h : nI 0 + (-1) < 0 := by decide
    exact ⟨-2, fun post hp => br_t h hp, fun post hp => br_t h hp⟩
  | succ e ih =>
    intro hd hN
    rw [pk_m1]
    have hs := ga_S_spec (ga_P own g) e (t := 0) (by decide)
    have hB : ∀ i, ga_B (ga_P own g) e i = ga_T (ga_P own g) e i := by
      intro i
      unfold ga_B
      rw [hN (e + 1) _ (Nat.le_refl _), Bool.not_false, Bool.and_true]
    have hx : fm ((6 * nI g) + nI e).toNatClampNeg = fm (6 * g + e) := by rw [xw_cl (by omega) (by omega)]
    have e32 : (32 * nI g) + 32 = nI (32 * g + 32) := by rw [gn_32]; exact nI_add (32 * g) 32
    have n0 : ¬ nI e < 0 := nI_pos (by omega)
    rcases Nat.lt_or_ge (ga_S (ga_P own g) e 0) 32 with h | h
    · have hT := (ga_q_iff.mp (hs.2.2.1 h)).2
      refine ⟨nI e, fun post hp => br_f n0 ⟨xw_in (by omega) (by omega), br_f (fun z => ?_) hp⟩, fun post hp => br_f n0 (yw_search (g := g) (t := 0) (by omega) (by omega) (by decide) (gn_32 g) e32 (fun _ => br_f (nI_pos (by omega)) hp) (fun z => absurd z (by omega)))⟩
      rw [hx, gb_0] at z
      have hlt : ga_S (ga_P own g) e 0 / 2 ^ e < 32 := xw_d32 h
      have := z _ hlt
      rw [hM g e _ hg (by omega) hlt, hB, hT] at this
      exact Bool.noConfusion this
    · have hT : ∀ i, ga_T (ga_P own g) e i = false := by
        intro i
        cases z : ga_T (ga_P own g) e i with
        | false => rfl
        | true =>
          have hlt : i * 2 ^ e < 32 := by
            rcases Nat.lt_or_ge (i * 2 ^ e) 32 with y | y
            · exact y
            · rw [ga_T_out (ga_P32 own g) y] at z; exact Bool.noConfusion z
          have hq : ga_q (ga_P own g) e (i * 2 ^ e) = true := ga_q_iff.mpr ⟨Nat.mul_mod_left _ _, by rw [ga_mul]; exact z⟩
          rw [hs.2.2.2 _ (Nat.zero_le _) (by omega)] at hq
          exact Bool.noConfusion hq
      obtain ⟨r, hX, hY⟩ := ih (by omega) (fun j i hj => by
        by_cases y : j = e
        · rw [y]; exact hT i
        · exact hN j i (by omega))
      have hz : fm ((6 * nI g) + nI e).toNatClampNeg = 0 := by
        rw [hx, gb_0]
        intro i hi
        rw [hM g e i hg (by omega) hi, hB, hT]
      exact ⟨r, fun post hp => br_f n0 ⟨xw_in (by omega) (by omega), br_t hz (nm_e (hX post hp))⟩, fun post hp => br_f n0 (yw_search (g := g) (t := 0) (by omega) (by omega) (by decide) (gn_32 g) e32 (fun z => absurd z (by omega)) (fun _ => br_t (by decide) (nm_e (hY post hp))))⟩
theorem i_vc_largestFree {k : Nat} {u : SX} {v : SY} (I : i_Rel k u v) (hk : k + 3 ≤ 1537) (v1 : Int32) : wpX_largestFree (fun r => wpY_largestFree (fun r' => r' = r ∧ i_Rel (k + 3) u v) v v1) u v1 := by
  have I' := i_up I
  obtain ⟨G, c, f, fm, oa, own, od, rfl, rfl, h⟩ := I
  obtain ⟨hG1, hG, hc, hM, w⟩ := h
  unfold wpX_largestFree wpY_largestFree wpY_isGroup
  by_cases h0 : v1 < 0
  · exact br_t h0 (br_t h0 (br_t rfl ⟨rfl, I'⟩))
  · refine br_f h0 ?_
    by_cases h1 : v1 < nI G
    · obtain ⟨g, hg, rfl⟩ := nI_of h0
      have hgG : g < G := (nI_ltI hg (by omega)).mp h1
      obtain ⟨r, hX, hY⟩ := io_lf (gc := nI G) (ec := nI c) (fs := f) (gr := nI G) (oa := oa) (od := od) hM hG hgG 6 (Nat.le_refl 6) (fun j i hj => ga_T_6 (ga_P32 own g) j i hj)
      exact br_t h1 ⟨7, hX _ (br_f h0 (br_f (nI_ge hgG (by omega)) (br_f (by decide) ⟨7, hY _ ⟨rfl, I'⟩⟩)))⟩
    · exact br_f h1 (br_f h0 (br_t (Int32.not_lt.mp h1) (br_t rfl ⟨rfl, I'⟩)))
/-! ===== extentOf ===== -/
theorem i_vc_extentOf {k : Nat} {u : SX} {v : SY} (I : i_Rel k u v) (hk : k + 3 ≤ 1537) (v1 : Int32) : wpX_extentOf (fun r => wpY_extentOf (fun r' => r' = r ∧ i_Rel (k + 3) u v) v v1) u v1 := by
  have I' := i_up I
  obtain ⟨G, c, f, fm, oa, own, od, rfl, rfl, h⟩ := I
  obtain ⟨hG1, hG, hc, hM, w⟩ := h
  unfold wpX_extentOf wpY_extentOf
  rcases io_blk v1 hG with hb | ⟨g, t, hg, ht, rfl⟩
  · exact io_xbb hb (br_t rfl (io_ybb hb (br_t rfl ⟨rfl, I'⟩)))
  · generalize eb : 32 * g + t = b
    have hb : b < 32 * G := by omega
    refine io_xbg hG hb (br_f (by decide) ⟨7, xs_ext (by omega) (fun k hk ho => ?_) (fun hn => ?_) 6 0 rfl (fun k hk => absurd hk (Nat.not_lt_zero k)) 7 (by decide)⟩)
    · have hle := Nat.div_mul_le_self b (2 ^ k)
      have e := (ga_W_at w (by omega) hk ho).2.2 b ga_al5.symm
      refine io_ybg hG hb (br_f (by decide) ⟨vp_in_nI (by omega) (by decide), ?_⟩)
      rw [nI_clamp (by omega), e]
      exact br_f (gn_m1ne (by omega)) ⟨vp_in_nI (by omega) (by decide), rfl, I'⟩
    · have e : own b = -1 := by
        rcases w.1 b hb with z | ⟨k, k1, k2, k3⟩
        · exact z
        · exact absurd k2 (hn k k1)
      refine io_ybg hG hb (br_f (by decide) ⟨vp_in_nI (by omega) (by decide), ?_⟩)
      rw [nI_clamp (by omega), e]
      exact br_t rfl ⟨rfl, I'⟩
end
section
/-! ===== the calls that change ===== -/
section
variable {G c g t k b : Nat} {gc ec fs v p0 p1 p2 : Int32} {fm oa own od : Nat → Int32}
theorem ic_ec (w : ga_W G oa own od) (hG : G ≤ 4) (v : Int32) : ((v < 0 ∨ nI (32 * G) ≤ v) ∨ ∃ b, b < 32 * G ∧ v = nI b ∧ oa b = -1 ∧ own b ≠ nI b) ∨ ∃ g t k, g < G ∧ t < 32 ∧ k ≤ 5 ∧ v = nI (32 * g + t) ∧ oa (32 * g + t) = nI k ∧ own (32 * g + t) = nI (32 * g + t) := by
  rcases io_blk v hG with h | ⟨g, t, hg, ht, e⟩
  · exact Or.inl (Or.inl h)
  · by_cases z : own (32 * g + t) = nI (32 * g + t)
    · obtain ⟨k, k1, k2⟩ := ga_W_own w hG (by omega) z
      exact Or.inr ⟨g, t, k, hg, ht, k1, e, k2, z⟩
    · exact Or.inl (Or.inr ⟨32 * g + t, by omega, e, ga_W_free w hG (by omega) z, z⟩)
theorem ic_xeb {post : Int32 → Prop} (hG : G ≤ 4) (h : (v < 0 ∨ nI (32 * G) ≤ v) ∨ ∃ b, b < 32 * G ∧ v = nI b ∧ oa b = -1 ∧ own b ≠ nI b) (hp : post 0) : wpX_isExtent post (nI G, ec, fs, fm, oa) v := by
  unfold wpX_isExtent
  rcases h with h | ⟨b, hb, rfl, ho, _⟩
  · exact io_xbb h (br_t rfl hp)
  · refine io_xbg hG hb (br_f (by decide) ⟨vp_in_nI (by omega) (by decide), ?_⟩)
    rw [nI_clamp (by omega), ho]
    exact br_t (by decide) hp
theorem ic_xeg {post : Int32 → Prop} (hG : G ≤ 4) (hb : b < 32 * G) (hk : k ≤ 5) (ho : oa b = nI k) (hp : post 1) : wpX_isExtent post (nI G, ec, fs, fm, oa) (nI b) := by
  unfold wpX_isExtent
  refine io_xbg hG hb (br_f (by decide) ⟨vp_in_nI (by omega) (by decide), ?_⟩)
  rw [nI_clamp (by omega), ho]
  exact br_f (nI_pos (by omega)) hp
theorem ic_yeb {post : Int32 → Prop} (hG : G ≤ 4) (h : (v < 0 ∨ nI (32 * G) ≤ v) ∨ ∃ b, b < 32 * G ∧ v = nI b ∧ oa b = -1 ∧ own b ≠ nI b) (hp : post 0) : wpY_isExtent post (nI G, own, od) v := by
  unfold wpY_isExtent
  rcases h with h | ⟨b, hb, rfl, _, ho⟩
  · exact io_ybb h (br_t rfl hp)
  · refine io_ybg hG hb (br_f (by decide) ⟨vp_in_nI (by omega) (by decide), ?_⟩)
    rw [nI_clamp (by omega)]
    exact br_f ho hp
theorem ic_yeg {post : Int32 → Prop} (hG : G ≤ 4) (hb : b < 32 * G) (ho : own b = nI b) (hp : post 1) : wpY_isExtent post (nI G, own, od) (nI b) := by
  unfold wpY_isExtent
  refine io_ybg hG hb (br_f (by decide) ⟨vp_in_nI (by omega) (by decide), ?_⟩)
  rw [nI_clamp (by omega)]
  exact br_t ho hp
theorem ic_g5 (hg : g < 4) (ht : t < 32) : nI (32 * g + t) >>> ((5 : Int32) &&& 31) = nI g := by
  rw [gn_shr5 (by omega), show (32 * g + t) / 32 = g by omega]
theorem ic_t31 (hg : g < 4) (ht : t < 32) : nI (32 * g + t) &&& 31 = nI t := by
  rw [gn_and31 (by omega), show (32 * g + t) % 32 = t by omega]
theorem ic_give {post : SX → Prop} (e0 : p0 = nI g) (e1 : p1 = nI k) (e2 : p2 = nI t) (hM : ga_M G fm own) (hG : G ≤ 4) (hg : g < G) (ht : t < 32) (hk : k ≤ 5) (hP : ga_P own g t = false) (hp : ∀ J (fm' : Nat → Int32), k ≤ J → (∀ j, k ≤ j → j < J → ga_T (ga_P own g) j (t / 2 ^ j ^^^ 1) = true) → ga_T (ga_P own g) J (t / 2 ^ J ^^^ 1) = false → ga_GV g J k t fm fm' → post (gc, ec, fs, fm', oa)) : wpX_giveBack post (gc, ec, fs, fm, oa) p0 p1 p2 := by
  subst e0 e1 e2
  exact xw_give hM hG hg ht hk hP hp
theorem ic_carve {post : SX → Prop} (e0 : p0 = nI g) (e1 : p1 = nI k) (e2 : p2 = nI t) (hM : ga_M G fm own) (hG : G ≤ 4) (hg : g < G) (ht : t < 32) (hk : k ≤ 5) (hT : ga_T (ga_P own g) k (t / 2 ^ k) = true) (hp : ∀ J (fm' : Nat → Int32), k ≤ J → ga_T (ga_P own g) J (t / 2 ^ J) = true → ga_T (ga_P own g) (J + 1) (t / 2 ^ (J + 1)) = false → ga_CV g J k t fm fm' → post (gc, ec, fs, fm', oa)) : wpX_carve post (gc, ec, fs, fm, oa) p0 p1 p2 := by
  subst e0 e1 e2
  exact xw_carve hM hG hg ht hk hT hp
theorem ic_ifr {post : Int32 → Prop} (e0 : p0 = nI g) (e1 : p1 = nI k) (e2 : p2 = nI t) (hM : ga_M G fm own) (hG : G ≤ 4) (hg : g < G) (ht : t < 32) (hk : k ≤ 5) (h1 : ga_T (ga_P own g) k (t / 2 ^ k) = true → post 1) (h0 : ga_T (ga_P own g) k (t / 2 ^ k) = false → post 0) : wpX_isFreeRun post (gc, ec, fs, fm, oa) p0 p1 p2 := by
  subst e0 e1 e2
  exact xw_ifr hM hG hg ht hk h1 h0
theorem ic_occupy {post : Int32 → SX → Prop} (e0 : p0 = nI g) (e1 : fs = nI t) (hM : ga_M G fm own) (hG : G ≤ 4) (hg : g < G) (ht : t < 32) (hk : k ≤ 5) (hT : ga_T (ga_P own g) k (t / 2 ^ k) = true)
    (hp : ∀ J (fm' : Nat → Int32), k ≤ J → ga_T (ga_P own g) J (t / 2 ^ J) = true → ga_T (ga_P own g) (J + 1) (t / 2 ^ (J + 1)) = false → ga_CV g J k t fm fm' → post (nI (32 * g + t)) (gc, nI (c + 1), nI t, fm', upd oa (32 * g + t) (nI k))) :
    wpX_occupy post (gc, nI c, fs, fm, oa) p0 (nI k) := by
  subst e0 e1
  exact xs_occupy hM hG hg ht hk hT hp
theorem ic_search {post : Int32 → SX → Prop} (e0 : p0 = nI g) (e2 : p2 = nI t) (hM : ga_M G fm own) (hG : G ≤ 4) (hg : g < G) (ht : t < 32) (hk : k ≤ 5)
    (hp1 : ga_S (ga_P own g) k t < 32 → post 1 (gc, ec, nI (ga_S (ga_P own g) k t), fm, oa)) (hp0 : ga_S (ga_P own g) k t = 32 → post 0 (gc, ec, nI (ga_S (ga_P own g) k t), fm, oa)) :
    wpX_search post (gc, ec, fs, fm, oa) p0 (nI k) p2 := by
  subst e0 e2
  exact xs_search hM hG hg ht hk hp1 hp0
end
/-! ===== claim ===== -/
theorem ic_mask {k b : Nat} (hk : k ≤ 5) (hb : b < 2 ^ 31) : nI b &&& (((1 : Int32) <<< (nI k &&& 31)) - 1) = nI (b % 2 ^ k) := by
  have h2 := xw_p5 hk
  have hpos := Nat.two_pow_pos k
  refine pk_andN (by omega) k ?_
  rw [gn_1l (by omega), show nI (2 ^ k) - 1 = nI (2 ^ k - 1) from pk_sub (b := 1) hpos, pk_tn (by omega)]
theorem i_vc_claim {k : Nat} {u : SX} {v : SY} (I : i_Rel k u v) (hk : k + 3 ≤ 1537) (v1 : Int32) (v2 : Int32) : wpX_claim (fun r u' => wpY_claim (fun r' v' => r' = r ∧ i_Rel (k + 3) u' v') v v1 v2) u v1 v2 := by
  obtain ⟨G, c, f, fm, oa, own, od, rfl, rfl, h⟩ := I
  obtain ⟨hG1, hG, hc, hM, w⟩ := id h
  unfold wpX_claim wpY_claim
  rcases io_ord v1 with hb | ⟨o, ho, rfl⟩
  · exact io_xob hb (br_t rfl (io_yob hb (br_t rfl ⟨rfl, io_rel h⟩)))
  refine io_xog ho (br_f (by decide) ?_)
  rcases io_blk v2 hG with hb | ⟨g, t, hg, ht, rfl⟩
  · exact io_xbb hb (br_t rfl (io_yog ho (br_f (by decide) (io_ybb hb (br_t rfl ⟨rfl, io_rel h⟩)))))
  refine io_xbg hG (by omega) (br_f (by decide) ?_)
  have hm := ic_mask (k := o) (b := 32 * g + t) ho (by omega)
  have h2 := xw_p5 ho
  have hlt := Nat.mod_lt (32 * g + t) (Nat.two_pow_pos o)
  by_cases ha : (32 * g + t) % 2 ^ o = 0
  · have hal := (ga_al7 ho).mp ha
    have hfit := yw_fit ho ht hal
    refine br_t (by rw [hm, ha]; rfl) (ic_ifr (ic_g5 (by omega) ht) rfl (ic_t31 (by omega) ht) hM hG hg ht ho (fun hT => ?_) (fun hT => ?_))
    · refine br_f (by decide) (nm_r (ic_t31 (by omega) ht) (ic_occupy (ic_g5 (by omega) ht) rfl hM hG hg ht ho hT (fun J fm' j1 j3 j4 hC => ?_)))
      refine io_yog ho (br_f (by decide) (io_ybg hG (by omega) (br_f (by decide) (yw_isRun ho (by omega) (fun _ => ?_) (fun z => absurd ha z)))))
      refine br_f (by decide) (yw_freeT (by omega) ht ho hal rfl (gn_1l (by omega)) (fun _ => ?_) (fun z => absurd hT (by rw [z]; exact Bool.noConfusion)))
      exact br_f (by decide) (yw_make ho (by omega) rfl rfl ⟨rfl, io_rel (gi_mk h hg ht ho hal hT j1 j3 j4 hC)⟩)
    · refine br_t rfl (io_yog ho (br_f (by decide) (io_ybg hG (by omega) (br_f (by decide) (yw_isRun ho (by omega) (fun _ => ?_) (fun z => absurd ha z))))))
      refine br_f (by decide) (yw_freeT (by omega) ht ho hal rfl (gn_1l (by omega)) (fun z => absurd z (by rw [hT]; exact Bool.noConfusion)) (fun _ => ?_))
      exact br_t rfl ⟨rfl, io_rel h⟩
  · refine br_f (by rw [hm]; exact nI_ne0 (by omega) (by omega)) ?_
    refine io_yog ho (br_f (by decide) (io_ybg hG (by omega) (br_f (by decide) (yw_isRun ho (by omega) (fun z => absurd z ha) (fun _ => ?_)))))
    exact br_t rfl ⟨rfl, io_rel h⟩
/-! ===== release ===== -/
theorem i_vc_release {k : Nat} {u : SX} {v : SY} (I : i_Rel k u v) (hk : k + 3 ≤ 1537) (v1 : Int32) : wpX_release (fun r u' => wpY_release (fun r' v' => r' = r ∧ i_Rel (k + 3) u' v') v v1) u v1 := by
  obtain ⟨G, c, f, fm, oa, own, od, rfl, rfl, h⟩ := I
  obtain ⟨hG1, hG, hc, hM, w⟩ := id h
  unfold wpX_release wpY_release
  rcases ic_ec w hG v1 with hb | ⟨g, t, o, hg, ht, ho, rfl, hoa, how⟩
  · exact ic_xeb hG hb (br_t rfl (ic_yeb hG hb (br_t rfl ⟨rfl, io_rel h⟩)))
  have hs : 32 * g + t < 32 * G := by omega
  obtain ⟨hod, -, -⟩ := ga_W_at w hs ho hoa
  obtain ⟨hal, hP⟩ := gi_P w hG hg ht ho hoa
  have hfit := yw_fit ho ht hal
  have ecl : (nI (32 * g + t)).toNatClampNeg = 32 * g + t := nI_clamp (by omega)
  have hin : vp_in (nI (32 * g + t)) 128 := vp_in_nI (by omega) (by decide)
  refine ic_xeg hG hs ho hoa (br_f (by decide) ⟨hin, nm_r (e' := nI o) (by rw [ecl, hoa]) ?_⟩)
  refine ic_give (ic_g5 (by omega) ht) rfl (ic_t31 (by omega) ht) hM hG hg ht ho (hP t rfl) (fun J fm' j1 j3 j4 hC => ?_)
  obtain ⟨c', rfl, h'⟩ := gi_rel h hg ht ho hoa j1 j3 j4 hC
  refine ⟨hin, nm_r (e' := upd oa (32 * g + t) (-1)) (by rw [ecl, gn_bm1]) (nm_r (nI_pred c') ?_)⟩
  refine ic_yeg hG hs how (br_f (by decide) ⟨hin, ?_⟩)
  refine yw_fill (s := 32 * g + t) (c := 2 ^ o) (by omega) rfl (by rw [ecl, hod, gn_1l (by omega)]) ⟨hin, ?_, io_rel h'⟩
  rw [ecl, hod]
/-! ===== grow ===== -/
theorem ic_bit {k s : Nat} (hk : k ≤ 4) (hs : s < 128) (hal : s % 2 ^ k = 0) : ((nI s >>> (nI k &&& 31)) &&& 1) = 0 ↔ s % 2 ^ (k + 1) = 0 := by
  rw [gn_shr (by omega) (by omega), pk_andN (m := 1) (by have := Nat.div_le_self s (2 ^ k); omega) 1 (by decide), ← nI_0, nI_eq (by omega) (by decide)]
  rcases ga_k6 (k := k) (by omega) with rfl | rfl | rfl | rfl | rfl | rfl <;> simp only [Nat.reducePow, Nat.reduceAdd] at * <;> omega
theorem i_vc_grow {k : Nat} {u : SX} {v : SY} (I : i_Rel k u v) (hk : k + 3 ≤ 1537) (v1 : Int32) : wpX_grow (fun r u' => wpY_grow (fun r' v' => r' = r ∧ i_Rel (k + 3) u' v') v v1) u v1 := by
  obtain ⟨G, c, f, fm, oa, own, od, rfl, rfl, h⟩ := I
  obtain ⟨hG1, hG, hc, hM, w⟩ := id h
  unfold wpX_grow wpY_grow
  rcases ic_ec w hG v1 with hb | ⟨g, t, o, hg, ht, ho, rfl, hoa, how⟩
  · exact ic_xeb hG hb (br_t rfl (ic_yeb hG hb (br_t rfl ⟨rfl, io_rel h⟩)))
  have hs : 32 * g + t < 32 * G := by omega
  obtain ⟨hod, hals, -⟩ := ga_W_at w hs ho hoa
  obtain ⟨hal, hP⟩ := gi_P w hG hg ht ho hoa
  have ecl : (nI (32 * g + t)).toNatClampNeg = 32 * g + t := nI_clamp (by omega)
  have hin : vp_in (nI (32 * g + t)) 128 := vp_in_nI (by omega) (by decide)
  refine ic_xeg hG hs ho hoa (br_f (by decide) ⟨hin, nm_r (e' := nI o) (by rw [ecl, hoa]) ?_⟩)
  by_cases h5 : o = 5
  · have e5 : nI o = 5 := by rw [h5]; rfl
    exact br_t e5 (ic_yeg hG hs how (br_f (by decide) ⟨hin, nm_r (e' := nI o) (by rw [ecl, hod]) (br_t e5 ⟨rfl, io_rel h⟩)⟩))
  have n5 : ¬ nI o = 5 := fun z => h5 (gn_inj (a := o) (b := 5) (by omega) (by decide) z)
  have ho4 : o ≤ 4 := by omega
  refine br_f n5 ?_
  have hbit := ic_bit (k := o) (s := 32 * g + t) ho4 (by omega) hals
  by_cases ha : (32 * g + t) % 2 ^ (o + 1) = 0
  · have hal1 : t % 2 ^ (o + 1) = 0 := (ga_al7 (by omega)).mp ha
    have hh := gi_hf (b := 0) ho4 hal1
    have ht2 : t + 2 ^ o < 32 := hh.2.2.1 ht
    have e3 : (nI (32 * g + t) &&& 31) + ((1 : Int32) <<< (nI o &&& 31)) = nI (t + 2 ^ o) := by rw [ic_t31 (by omega) ht, gn_1l (by omega), nI_add]
    have e4 : nI (32 * g + t) + ((1 : Int32) <<< (nI o &&& 31)) = nI (32 * g + (t + 2 ^ o)) := by rw [gn_1l (by omega), nI_add, Nat.add_assoc]
    have hfit := yw_fit (k := o + 1) (by omega) ht hal1
    refine br_t (hbit.mpr ha) (nm_r e3 (ic_ifr (ic_g5 (by omega) ht) rfl rfl hM hG hg ht2 ho (fun hT => ?_) (fun hT => ?_)))
    · refine br_f (by decide) (ic_carve (ic_g5 (by omega) ht) rfl rfl hM hG hg ht2 ho hT (fun J fm' j1 j3 j4 hC => ?_))
      refine ⟨hin, nm_r (e' := upd oa (32 * g + t) (nI (o + 1))) (by rw [ecl, nI_1, gn_byte (o + 1) (by omega)]) ?_⟩
      refine ic_yeg hG hs how (br_f (by decide) ⟨hin, nm_r (e' := nI o) (by rw [ecl, hod]) (br_f n5 ?_)⟩)
      rw [nI_1 o]
      refine yw_isRun (k := o + 1) (by omega) (by omega) (fun _ => ?_) (fun z => absurd ha z)
      refine br_f (by decide) (yw_freeT (by omega) ht2 ho hh.2.2.2.1 e4 (gn_1l (by omega)) (fun _ => ?_) (fun z => absurd hT (by rw [z]; exact Bool.noConfusion)))
      exact br_f (by decide) (yw_make (k := o + 1) (by omega) (by omega) rfl rfl ⟨rfl, io_rel (gi_grow h hg ht ho4 hoa hal1 hT j1 j3 j4 hC)⟩)
    · refine br_t rfl (ic_yeg hG hs how (br_f (by decide) ⟨hin, nm_r (e' := nI o) (by rw [ecl, hod]) (br_f n5 ?_)⟩))
      rw [nI_1 o]
      refine yw_isRun (k := o + 1) (by omega) (by omega) (fun _ => ?_) (fun z => absurd ha z)
      refine br_f (by decide) (yw_freeT (by omega) ht2 ho hh.2.2.2.1 e4 (gn_1l (by omega)) (fun z => absurd z (by rw [hT]; exact Bool.noConfusion)) (fun _ => ?_))
      exact br_t rfl ⟨rfl, io_rel h⟩
  · refine br_f (fun z => ha (hbit.mp z)) ?_
    refine ic_yeg hG hs how (br_f (by decide) ⟨hin, nm_r (e' := nI o) (by rw [ecl, hod]) (br_f n5 ?_)⟩)
    rw [nI_1 o]
    refine yw_isRun (k := o + 1) (by omega) (by omega) (fun z => absurd z ha) (fun _ => ?_)
    exact br_t rfl ⟨rfl, io_rel h⟩
/-! ===== halve ===== -/
theorem i_vc_halve {k : Nat} {u : SX} {v : SY} (I : i_Rel k u v) (hk : k + 3 ≤ 1537) (v1 : Int32) : wpX_halve (fun r u' => wpY_halve (fun r' v' => r' = r ∧ i_Rel (k + 3) u' v') v v1) u v1 := by
  obtain ⟨G, c, f, fm, oa, own, od, rfl, rfl, h⟩ := I
  obtain ⟨hG1, hG, hc, hM, w⟩ := id h
  unfold wpX_halve wpY_halve
  rcases ic_ec w hG v1 with hb | ⟨g, t, o, hg, ht, ho, rfl, hoa, how⟩
  · exact ic_xeb hG hb (br_t rfl (ic_yeb hG hb (br_t rfl ⟨rfl, io_rel h⟩)))
  have hs : 32 * g + t < 32 * G := by omega
  obtain ⟨hod, hals, -⟩ := ga_W_at w hs ho hoa
  obtain ⟨hal, hP⟩ := gi_P w hG hg ht ho hoa
  have hfit := yw_fit ho ht hal
  have ecl : (nI (32 * g + t)).toNatClampNeg = 32 * g + t := nI_clamp (by omega)
  have hin : vp_in (nI (32 * g + t)) 128 := vp_in_nI (by omega) (by decide)
  refine ic_xeg hG hs ho hoa (br_f (by decide) ⟨hin, ?_⟩)
  rcases o with _ | o
  · refine nm_r (e' := -1) (by rw [ecl, hoa]; decide) (br_f (by decide) ?_)
    exact ic_yeg hG hs how (br_f (by decide) ⟨hin, nm_r (e' := nI 0) (by rw [ecl, hod]) (br_t rfl ⟨rfl, io_rel h⟩)⟩)
  · have ho4 : o ≤ 4 := by omega
    have hh := gi_hf (b := 0) ho4 hal
    have ht2 : t + 2 ^ o < 32 := hh.2.2.1 ht
    have hle : 2 ^ o ≤ 2 ^ (o + 1) := Nat.pow_le_pow_right (by decide) (by omega)
    have e3 : (nI (32 * g + t) &&& 31) + ((1 : Int32) <<< (nI o &&& 31)) = nI (t + 2 ^ o) := by rw [ic_t31 (by omega) ht, gn_1l (by omega), nI_add]
    refine nm_r (e' := nI o) (by rw [ecl, hoa, nI_pred]) (br_t (nI_pos' (by omega)) ?_)
    refine ic_give (ic_g5 (by omega) ht) rfl e3 hM hG hg ht2 (by omega) (hP _ ((gi_hf ho4 hal).1.mpr (Or.inr rfl))) (fun J fm' j1 j3 j4 hC => ?_)
    refine ⟨hin, nm_r (e' := upd oa (32 * g + t) (nI o)) (by rw [ecl, gn_byte o (by omega)]) ?_⟩
    refine ic_yeg hG hs how (br_f (by decide) ⟨hin, nm_r (e' := nI (o + 1)) (by rw [ecl, hod]) (br_f (nI_ne0 (by omega) (by omega)) ?_)⟩)
    refine yw_fill (s := 32 * g + t) (c := 2 ^ (o + 1)) (by omega) rfl (gn_1l (by omega)) ?_
    exact yw_make (k := o) (by omega) (by omega) (nI_pred o) rfl ⟨nI_pred o, io_rel (gi_halve h hg ht ho4 hoa j1 j3 j4 hC)⟩
end
section
/-! ===== allocate ===== -/
/-- the k-th group from home on has room -/
def ga_rm (own : Nat → Int32) (G home o kk : Nat) : Bool := decide (ga_S (ga_P own ((home + kk) % G)) o 0 < 32)
section
variable {G c home o : Nat} {fm oa own od : Nat → Int32}
theorem al_rem {kk : Nat} (hG1 : 1 ≤ G) (hG : G ≤ 4) (hh : home < G) (hk : kk ≤ G) : (nI home + nI kk) - (nI home + nI kk) / nI G * nI G = nI ((home + kk) % G) := by
  rw [nI_add, pk_rem (by omega) (by omega) (by omega)]
theorem al_x45 {post : Int32 → SX → Prop} (hM : ga_M G fm own) (hG1 : 1 ≤ G) (hG : G ≤ 4) (hh : home < G) (ho : o ≤ 5) :
    ∀ d kk, kk + d = G → (∀ g t, g = (home + ga_fs (ga_rm own G home o) d kk) % G → t = ga_S (ga_P own g) o 0 → ga_fs (ga_rm own G home o) d kk < G → ∀ J (fm' : Nat → Int32), o ≤ J → ga_T (ga_P own g) J (t / 2 ^ J) = true → ga_T (ga_P own g) (J + 1) (t / 2 ^ (J + 1)) = false → ga_CV g J o t fm fm' → post (nI (32 * g + t)) (nI G, nI (c + 1), nI t, fm', upd oa (32 * g + t) (nI o))) →
    (ga_fs (ga_rm own G home o) d kk = G → ∀ f, post (-2) (nI G, nI c, f, fm, oa)) → ∀ n f, d < n → wX_allocate_45 post (nI o) (nI home) n (nI kk) (nI G) (nI c) f fm oa := by
  intro d
  induction d with
  | zero =>
    intro kk hkk hp1 hp0 n f hn
    obtain ⟨n, rfl⟩ : ∃ m, n = m + 1 := ⟨n - 1, by omega⟩
    exact br_t (nI_le (by omega) (by omega)) (hp0 (by show kk = G; omega) f)
  | succ d ih =>
    intro kk hkk hp1 hp0 n f hn
    obtain ⟨n, rfl⟩ : ∃ m, n = m + 1 := ⟨n - 1, by omega⟩
    have hgm : (home + kk) % G < G := Nat.mod_lt _ (by omega)
    have hs := ga_S_spec (ga_P own ((home + kk) % G)) o (t := 0) (by decide)
    refine br_f (nI_ge (by omega) (by omega)) ⟨nI_ne0 (by omega) (by omega), nm_r (al_rem hG1 hG hh (by omega)) (ic_search (g := (home + kk) % G) (t := 0) rfl rfl hM hG hgm (by decide) ho (fun h => ?_) (fun h => ?_))⟩
    · have hq : ga_rm own G home o kk = true := decide_eq_true h
      rw [ga_fs_t hq] at hp1
      exact br_f (by decide) (ic_occupy rfl rfl hM hG hgm h ho (ga_q_iff.mp (hs.2.2.1 h)).2 (fun J fm' j1 j3 j4 hC => hp1 _ _ rfl rfl (by omega) J fm' j1 j3 j4 hC))
    · have hq : ga_rm own G home o kk = false := decide_eq_false (by omega)
      rw [ga_fs_f hq] at hp1 hp0
      exact br_t rfl (nm_r (nI_1 kk) (ih (kk + 1) (by omega) hp1 hp0 n _ (by omega)))
theorem al_y41 {post : Int32 → SY → Prop} (hG1 : 1 ≤ G) (hG : G ≤ 4) (hh : home < G) (ho : o ≤ 5) :
    ∀ d kk, kk + d = G → (∀ g t, g = (home + ga_fs (ga_rm own G home o) d kk) % G → t = ga_S (ga_P own g) o 0 → ga_fs (ga_rm own G home o) d kk < G → wY_allocate_92 post (nI o) (nI (32 * g + t)) (nI G) own od) →
    (ga_fs (ga_rm own G home o) d kk = G → wY_allocate_92 post (nI o) (-1) (nI G) own od) → ∀ n, d < n → wY_allocate_41 post (nI o) (nI home) (nI G) own od n (-1) (nI kk) := by
  intro d
  induction d with
  | zero =>
    intro kk hkk hp1 hp0 n hn
    obtain ⟨n, rfl⟩ : ∃ m, n = m + 1 := ⟨n - 1, by omega⟩
    exact br_t (nI_le (by omega) (by omega)) (hp0 (by show kk = G; omega))
  | succ d ih =>
    intro kk hkk hp1 hp0 n hn
    obtain ⟨n, rfl⟩ : ∃ m, n = m + 1 := ⟨n - 1, by omega⟩
    have hgm : (home + kk) % G < G := Nat.mod_lt _ (by omega)
    have e32 : (32 * nI ((home + kk) % G)) + 32 = nI (32 * ((home + kk) % G) + 32) := by rw [gn_32]; exact nI_add _ 32
    refine br_f (nI_ge (by omega) (by omega)) (br_f (by decide) ⟨nI_ne0 (by omega) (by omega), nm_r (al_rem hG1 hG hh (by omega)) (yw_search (g := (home + kk) % G) (t := 0) (by omega) ho (by decide) (gn_32 _) e32 (fun h => ?_) (fun h => ?_))⟩)
    · have hq : ga_rm own G home o kk = true := decide_eq_true h
      rw [ga_fs_t hq] at hp1
      have K := hp1 _ _ rfl rfl (by omega)
      obtain ⟨n, rfl⟩ : ∃ m, n = m + 1 := ⟨n - 1, by omega⟩
      exact nm_r (nI_1 kk) (br_c (fun _ => K) (fun _ => br_t (nI_pos' (by omega)) K))
    · have hq : ga_rm own G home o kk = false := decide_eq_false (by omega)
      rw [ga_fs_f hq] at hp1 hp0
      exact nm_r (nI_1 kk) (ih (kk + 1) (by omega) hp1 hp0 n (by omega))
theorem al_y92 {post : Int32 → SY → Prop} {s : Nat} (ho : o ≤ 5) (hs : s + 2 ^ o ≤ 128) (hp : post (nI s) (nI G, ga_fl own s (2 ^ o) (nI s), upd od s (nI o))) : wY_allocate_92 post (nI o) (nI s) (nI G) own od := by
  have hpos := Nat.two_pow_pos o
  unfold wY_allocate_92
  exact br_t (nI_pos' (by omega)) (yw_make ho hs rfl rfl hp)
end
theorem i_vc_allocate {k : Nat} {u : SX} {v : SY} (I : i_Rel k u v) (hk : k + 3 ≤ 1537) (v1 : Int32) (v2 : Int32) : wpX_allocate (fun r u' => wpY_allocate (fun r' v' => r' = r ∧ i_Rel (k + 3) u' v') v v1 v2) u v1 v2 := by
  obtain ⟨G, c, f, fm, oa, own, od, rfl, rfl, h⟩ := I
  obtain ⟨hG1, hG, hc, hM, w⟩ := id h
  unfold wpX_allocate
  rcases io_ord v1 with hb | ⟨o, ho, rfl⟩
  · refine io_xob hb (br_t rfl ?_)
    unfold wpY_allocate
    exact io_yob hb (br_t rfl ⟨rfl, io_rel h⟩)
  refine io_xog ho (br_f (by decide) ?_)
  rcases io_blk v2 hG with hb | ⟨g, t, hg, ht, rfl⟩
  · refine io_xbb hb (br_t rfl ?_)
    unfold wpY_allocate
    exact io_yog ho (br_f (by decide) (io_ybb hb (br_t rfl ⟨rfl, io_rel h⟩)))
  refine io_xbg hG (by omega) (br_f (by decide) (nm_r (ic_g5 (by omega) ht) ?_))
  have e32 : (32 * nI g) + 32 = nI (32 * g + 32) := by rw [gn_32]; exact nI_add _ 32
  have ed : nI (32 * g + t) / 32 = nI g := by
    have := pk_div (a := 32 * g + t) (d := 32) (by omega) (by decide) (by decide)
    rw [show (32 * g + t) / 32 = g by omega] at this
    exact this
  have hsp := ga_S_spec (ga_P own g) o (t := t) (by omega)
  have hsp0 : ∀ g', ga_S (ga_P own g') o 0 < 32 → ga_S (ga_P own g') o 0 % 2 ^ o = 0 ∧ ga_T (ga_P own g') o (ga_S (ga_P own g') o 0 / 2 ^ o) = true := fun g' z => ga_q_iff.mp ((ga_S_spec (ga_P own g') o (t := 0) (by decide)).2.2.1 z)
  refine ic_search rfl (ic_t31 (by omega) ht) hM hG hg ht ho (fun hS => ?_) (fun hS => ?_)
  · obtain ⟨hal, hT⟩ := ga_q_iff.mp (hsp.2.2.1 hS)
    have hfit := yw_fit ho hS hal
    refine br_f (by decide) (ic_occupy rfl rfl hM hG hg hS ho hT (fun J fm' j1 j3 j4 hC => ?_))
    unfold wpY_allocate
    refine io_yog ho (br_f (by decide) (io_ybg hG (by omega) (br_f (by decide) ⟨by decide, nm_r ed ?_⟩)))
    refine yw_search (by omega) ho (by omega) rfl e32 (fun _ => ⟨1, ?_⟩) (fun z => absurd z (by omega))
    refine br_f (nI_ge (a := 0) (by omega) (by omega)) (br_t (nI_pos' (by omega)) (al_y92 ho (by omega) ⟨rfl, io_rel (gi_mk h hg hS ho hal hT j1 j3 j4 hC)⟩))
  · have hfs := ga_fs_spec (ga_rm own G g o) G 0
    rw [Nat.zero_add] at hfs
    have Y : ∀ post : Int32 → SY → Prop, (∃ n41, wY_allocate_41 post (nI o) (nI g) (nI G) own od n41 (-1) 0) → wpY_allocate post (nI G, own, od) (nI o) (nI (32 * g + t)) := by
      intro post hp
      unfold wpY_allocate
      refine io_yog ho (br_f (by decide) (io_ybg hG (by omega) (br_f (by decide) ⟨by decide, nm_r ed ?_⟩)))
      exact yw_search (by omega) ho (by omega) rfl e32 (fun z => absurd z (by omega)) (fun _ => hp)
    refine br_t rfl ⟨G + 1, al_x45 hM hG1 hG hg ho G 0 (Nat.zero_add G) (fun g' t' eg et hK J fm' j1 j3 j4 hC => ?_) (fun hK f' => ?_) (G + 1) _ (by omega)⟩
    · have hg' : g' < G := by rw [eg]; exact Nat.mod_lt _ (by omega)
      have ht' : t' < 32 := by
        rw [et, eg]
        exact of_decide_eq_true (hfs.2.2.1 hK)
      obtain ⟨hal, hT⟩ := hsp0 g' (by rw [← et]; exact ht')
      rw [← et] at hal hT
      have hfit := yw_fit ho ht' hal
      refine Y _ ⟨G + 1, al_y41 hG1 hG hg ho G 0 (Nat.zero_add G) (fun g2 t2 eg2 et2 _ => ?_) (fun z => absurd z (by omega)) (G + 1) (by omega)⟩
      have e1 : g2 = g' := eg2.trans eg.symm
      subst e1
      have e2 : t2 = t' := et2.trans et.symm
      subst e2
      exact al_y92 ho (by omega) ⟨rfl, io_rel (gi_mk h hg' ht' ho hal hT j1 j3 j4 hC)⟩
    · refine Y _ ⟨G + 1, al_y41 hG1 hG hg ho G 0 (Nat.zero_add G) (fun g2 t2 eg2 et2 z => absurd z (by omega)) (fun _ => ?_) (G + 1) (by omega)⟩
      unfold wY_allocate_92
      exact br_f (by decide) ⟨rfl, io_rel h⟩
end
