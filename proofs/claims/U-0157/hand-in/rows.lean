section
/-! pure rows to paste: stores, nI and lN arithmetic, masks, shifts, narrowing, branches by naturals (pk_le, pk_lt, pk_eq), loops (lp1 .. lp16: the measure of the state; rp1 ..: recursion), negatives. Take what you need -/
theorem pk_us {f : Nat → Int32} {k : Nat} {x : Int32} : upd f k x k = x := if_pos rfl
theorem pk_un {f : Nat → Int32} {k j : Nat} {x : Int32} (h : j ≠ k) : upd f k x j = f j := if_neg h
theorem pk_uLs {f : Nat → Int64} {k : Nat} {x : Int64} : vp_updL f k x k = x := if_pos rfl
theorem pk_uLn {f : Nat → Int64} {k j : Nat} {x : Int64} (h : j ≠ k) : vp_updL f k x j = f j := if_neg h
theorem pk_sub {a b : Nat} (h : b ≤ a) : nI a - nI b = nI (a - b) := by
  obtain ⟨c, rfl⟩ : ∃ c, a = c + b := ⟨a - b, by omega⟩
  rw [← nI_add, Int32.add_sub_cancel, Nat.add_sub_cancel]
theorem pk_m1 (n : Nat) : nI (n + 1) + (-1) = nI n := by
  rw [← nI_1, Int32.add_assoc, show (1 : Int32) + (-1) = 0 from rfl, Int32.add_zero]
theorem pk_mul (a b : Nat) : nI a * nI b = nI (a * b) := (Int32.ofNat_mul a b).symm
theorem pk_div {a d : Nat} (ha : a < 2 ^ 31) (h0 : 0 < d) (hd : d < 2 ^ 31) : nI a / nI d = nI (a / d) := by
  apply Int32.toInt_inj.mp
  rw [lg_idiv_nonneg (by rw [nI_toInt ha]; omega) (by rw [nI_toInt hd]; omega), nI_toInt ha, nI_toInt hd, nI_toInt (Nat.lt_of_le_of_lt (Nat.div_le_self a d) ha)]
  first | rfl | exact (Int.natCast_ediv _ _).symm
theorem pk_rem {a d : Nat} (ha : a < 2 ^ 31) (h0 : 0 < d) (hd : d < 2 ^ 31) : nI a - nI a / nI d * nI d = nI (a % d) := by
  rw [pk_div ha h0 hd, pk_mul, pk_sub (Nat.div_mul_le_self a d)]
  exact congrArg nI (by have := Nat.div_add_mod' a d; omega)
theorem pk_sub_toInt {a b : Nat} (ha : a < 2 ^ 30) (hb : b < 2 ^ 30) : (nI a - nI b).toInt = (a : Int) - b := by
  rw [Int32.toInt_sub, nI_toInt (by omega), nI_toInt (by omega)]
  exact Int.bmod_eq_of_le (by omega) (by omega)
theorem pk_sneg {a b : Nat} (hb : b < 2 ^ 30) (h : a < b) : nI a - nI b < 0 := by
  rw [Int32.lt_iff_toInt_lt, pk_sub_toInt (by omega) hb, show (0 : Int32).toInt = 0 from by decide]
  omega
theorem pk_ix (x : Int32) {n : Nat} (hn : n < 2 ^ 31) : x < 0 ∨ nI n ≤ x ∨ ∃ j : Nat, j < n ∧ x = nI j := by
  by_cases h : x < 0
  · exact Or.inl h
  · obtain ⟨j, hj, rfl⟩ := nI_of h
    by_cases h2 : j < n
    · exact Or.inr (Or.inr ⟨j, h2, rfl⟩)
    · exact Or.inr (Or.inl (nI_le (by omega) hj))
theorem pk_le {x y : Int32} {A B : Prop} (a b : Nat) (f : a ≤ b → A) (g : b < a → B) (hx : x = nI a := by rfl) (hy : y = nI b := by rfl) (ha : a < 2 ^ 31 := by omega) (hb : b < 2 ^ 31 := by omega) : (x ≤ y → A) ∧ (¬ x ≤ y → B) := by
  subst hx hy
  rw [nI_leI ha hb]
  exact ⟨f, fun z => g (by omega)⟩
theorem pk_lt {x y : Int32} {A B : Prop} (a b : Nat) (f : a < b → A) (g : b ≤ a → B) (hx : x = nI a := by rfl) (hy : y = nI b := by rfl) (ha : a < 2 ^ 31 := by omega) (hb : b < 2 ^ 31 := by omega) : (x < y → A) ∧ (¬ x < y → B) := by
  subst hx hy
  rw [nI_ltI ha hb]
  exact ⟨f, fun z => g (by omega)⟩
theorem pk_eq {x y : Int32} {A B : Prop} (a b : Nat) (f : a = b → A) (g : a ≠ b → B) (hx : x = nI a := by rfl) (hy : y = nI b := by rfl) (ha : a < 2 ^ 31 := by omega) (hb : b < 2 ^ 31 := by omega) : (x = y → A) ∧ (¬ x = y → B) := by
  subst hx hy
  rw [nI_eq ha hb]
  exact ⟨f, g⟩
theorem pk_in {x : Int32} (n N : Nat) (h : n < N) (hx : x = nI n := by rfl) (hN : N < 2 ^ 31 := by omega) : vp_in x N := by
  subst hx
  exact vp_in_nI h hN
theorem pk_cl {x : Int32} (n : Nat) (hx : x = nI n := by rfl) (h : n < 2 ^ 31 := by omega) : x.toNatClampNeg = n := by
  subst hx
  exact nI_clamp h
theorem pk_tn {n : Nat} (h : n < 2 ^ 32) : (nI n).toBitVec.toNat = n := Nat.mod_eq_of_lt h
theorem pk_and (x : Int32) {m : Int32} (k : Nat) (hm : m.toBitVec.toNat = 2 ^ k - 1) : x &&& m = nI (x.toBitVec.toNat % 2 ^ k) := by
  apply Int32.toBitVec_inj.mp
  apply BitVec.eq_of_toNat_eq
  rw [Int32.toBitVec_and, BitVec.toNat_and, hm, Nat.and_two_pow_sub_one_eq_mod]
  show _ = (BitVec.ofNat 32 _).toNat
  rw [BitVec.toNat_ofNat]
  exact (Nat.mod_eq_of_lt (Nat.lt_of_le_of_lt (Nat.mod_le _ _) x.toBitVec.isLt)).symm
theorem pk_andN {n : Nat} (h : n < 2 ^ 32) {m : Int32} (k : Nat) (hm : m.toBitVec.toNat = 2 ^ k - 1) : nI n &&& m = nI (n % 2 ^ k) := by
  rw [pk_and _ k hm, pk_tn h]
theorem pk_andE (x : Int32) {m : Int32} (k : Nat) (hm : m.toBitVec.toNat = 2 ^ k - 1) : ∃ j : Nat, j < 2 ^ k ∧ x &&& m = nI j := ⟨_, Nat.mod_lt _ (Nat.two_pow_pos k), pk_and x k hm⟩
theorem pk_andIn (x : Int32) {m : Int32} (k : Nat) (hm : m.toBitVec.toNat = 2 ^ k - 1) (hk : k ≤ 30) : vp_in (x &&& m) (2 ^ k) := by
  obtain ⟨j, hj, e⟩ := pk_andE x k hm
  rw [e]
  exact vp_in_nI hj (Nat.lt_of_le_of_lt (Nat.pow_le_pow_right (by decide) hk) (by decide))
theorem pk_shl (a s : Int32) (k : Nat) (hs : (s.toBitVec.smod 32).toNat = k) : (a <<< s).toBitVec.toNat = a.toBitVec.toNat * 2 ^ k % 2 ^ 32 := by
  show (a.toBitVec <<< (s.toBitVec.smod 32).toNat).toNat = _
  rw [hs, BitVec.toNat_shiftLeft, Nat.shiftLeft_eq]
theorem pk_shlN {n : Nat} (s : Int32) (k : Nat) (hs : (s.toBitVec.smod 32).toNat = k) (h : n * 2 ^ k < 2 ^ 32) : nI n <<< s = nI (n * 2 ^ k) := by
  apply Int32.toBitVec_inj.mp
  apply BitVec.eq_of_toNat_eq
  have hn : n < 2 ^ 32 := Nat.lt_of_le_of_lt (Nat.le_mul_of_pos_right n (Nat.two_pow_pos k)) h
  rw [pk_shl _ _ k hs, pk_tn hn, pk_tn h, Nat.mod_eq_of_lt h]
theorem pk_shr (a s : Int32) (k : Nat) (hs : (s.toBitVec.smod 32).toNat = k) : (a >>> s).toInt = a.toInt >>> k := by
  show (a.toBitVec.sshiftRight (s.toBitVec.smod 32).toNat).toInt = _
  rw [hs, BitVec.toInt_sshiftRight]
  rfl
theorem pk_shrN {n : Nat} (h : n < 2 ^ 31) (s : Int32) (k : Nat) (hs : (s.toBitVec.smod 32).toNat = k) : nI n >>> s = nI (n / 2 ^ k) := by
  apply Int32.toInt_inj.mp
  have h2 : n / 2 ^ k ≤ n := Nat.div_le_self _ _
  rw [pk_shr _ _ k hs, nI_toInt h, nI_toInt (by omega), Int.shiftRight_eq_div_pow]
  rfl
theorem pk_ushr (x s : Int32) (k : Nat) (hs : ((s.toUInt32 &&& Int32.toUInt32 31).toBitVec % 32).toNat = k) : (x.toUInt32 >>> (s.toUInt32 &&& Int32.toUInt32 31)).toInt32.toBitVec.toNat = x.toBitVec.toNat / 2 ^ k := by
  have e : (x.toUInt32 >>> (s.toUInt32 &&& Int32.toUInt32 31)).toInt32.toBitVec = x.toBitVec >>> k := by
    rw [← hs]
    exact UInt32.toBitVec_shiftRight _ _
  rw [e, BitVec.toNat_ushiftRight, Nat.shiftRight_eq_div_pow]
theorem pk_ushrN {n : Nat} (hn : n < 2 ^ 32) (s : Int32) (k : Nat) (hs : ((s.toUInt32 &&& Int32.toUInt32 31).toBitVec % 32).toNat = k) : ((nI n).toUInt32 >>> (s.toUInt32 &&& Int32.toUInt32 31)).toInt32 = nI (n / 2 ^ k) := by
  apply Int32.toBitVec_inj.mp
  apply BitVec.eq_of_toNat_eq
  rw [pk_ushr _ s k hs, pk_tn hn, pk_tn (Nat.lt_of_le_of_lt (Nat.div_le_self _ _) hn)]
theorem pk_nb (z : Int32) : narrow .byte (.int z.toInt8.toInt32) = .int z.toInt8.toInt32 := congrArg Value.int (by simp)
theorem pk_ns (z : Int32) : narrow .short (.int z.toInt16.toInt32) = .int z.toInt16.toInt32 := congrArg Value.int (by simp)
theorem pk_fb (r : Int32) : fits .byte (.int r.toInt8.toInt32) = true := by
  have ⟨a, b⟩ := lg_i2b_range r
  have h1 : (-128 : Int32).toInt = -128 := by decide
  have h2 : (127 : Int32).toInt = 127 := by decide
  simp only [fits, Bool.and_eq_true, decide_eq_true_eq, Int32.le_iff_toInt_le, h1, h2]
  omega
theorem pk_fs (r : Int32) : fits .short (.int r.toInt16.toInt32) = true := by
  have ⟨a, b⟩ := lg_i2s_range r
  have h1 : (-32768 : Int32).toInt = -32768 := by decide
  have h2 : (32767 : Int32).toInt = 32767 := by decide
  simp only [fits, Bool.and_eq_true, decide_eq_true_eq, Int32.le_iff_toInt_le, h1, h2]
  omega
theorem pk_charN {q : Nat} (hq : q < 65536) : narrow .char (.int (nI q)) = .int (nI q) ∧ fits .char (.int (nI q)) = true := by
  constructor
  · have e : (nI q).toUInt32.toUInt16.toUInt32.toInt32 = nI q := by
      apply Int32.toBitVec_inj.mp
      apply BitVec.eq_of_toNat_eq
      show (nI q).toUInt32.toUInt16.toUInt32.toNat = q % 2 ^ 32
      rw [UInt16.toNat_toUInt32, UInt32.toNat_toUInt16, show (nI q).toUInt32.toNat = q % 2 ^ 32 from rfl]
      omega
    exact congrArg Value.int e
  · have a : (0 : Int32) ≤ nI q := nI_pos' (by omega)
    have b : nI q ≤ 65535 := nI_le (b := 65535) (by omega) (by decide)
    show (decide ((0 : Int32) ≤ nI q) && decide (nI q ≤ 65535)) = true
    rw [decide_eq_true a, decide_eq_true b]
    rfl
theorem pk_char (x : Int32) : (x.toUInt32 % 65536).toInt32 = nI (x.toBitVec.toNat % 65536) := by
  apply Int32.toBitVec_inj.mp
  apply BitVec.eq_of_toNat_eq
  rw [pk_tn (by omega)]
  show (x.toUInt32 % 65536).toNat = _
  rw [UInt32.toNat_mod]
  rfl
theorem pk_nc (x : Int32) : narrow .char (.int (x.toUInt32 % 65536).toInt32) = .int (x.toUInt32 % 65536).toInt32 := by
  rw [pk_char]
  exact (pk_charN (Nat.mod_lt _ (by decide))).1
theorem pk_fc (x : Int32) : fits .char (.int (x.toUInt32 % 65536).toInt32) = true := by
  rw [pk_char]
  exact (pk_charN (Nat.mod_lt _ (by decide))).2
theorem pk_vb (z : Int32) : vp_nar .byte z.toInt8.toInt32 = z.toInt8.toInt32 := by rw [vp_nar_byte]; simp
theorem pk_vs (z : Int32) : vp_nar .short z.toInt16.toInt32 = z.toInt16.toInt32 := by rw [vp_nar_short]; simp
theorem pk_vc (z : Int32) : vp_nar .char (z.toUInt32 % 65536).toInt32 = (z.toUInt32 % 65536).toInt32 := Value.int.inj (pk_nc z)
theorem pk_lT {n : Nat} (h : n < 2 ^ 63) : (lN n).toInt = (n : Int) := lg_ofNat_toInt h
theorem pk_lLT {a b : Nat} (ha : a < 2 ^ 63) (hb : b < 2 ^ 63) : lN a < lN b ↔ a < b := by
  rw [Int64.lt_iff_toInt_lt, pk_lT ha, pk_lT hb]; omega
theorem pk_lLE {a b : Nat} (ha : a < 2 ^ 63) (hb : b < 2 ^ 63) : lN a ≤ lN b ↔ a ≤ b := by
  rw [Int64.le_iff_toInt_le, pk_lT ha, pk_lT hb]; omega
theorem pk_lEQ {a b : Nat} (ha : a < 2 ^ 63) (hb : b < 2 ^ 63) : lN a = lN b ↔ a = b := by
  rw [← Int64.toInt_inj, pk_lT ha, pk_lT hb]; omega
theorem pk_lOf {x : Int64} (h : ¬ x < 0) : ∃ k : Nat, k < 2 ^ 63 ∧ x = lN k := by
  rw [Int64.lt_iff_toInt_lt] at h
  have h0 : (0 : Int64).toInt = 0 := by decide
  have hx := Int64.toInt_lt x
  refine ⟨x.toInt.toNat, by omega, Int64.toInt_inj.mp ?_⟩
  rw [pk_lT (by omega)]
  omega
theorem pk_lDiv {a b : Nat} (ha : a < 2 ^ 63) (h0 : 0 < b) (hb : b < 2 ^ 63) : lN a / lN b = lN (a / b) := by
  apply Int64.toInt_inj.mp
  rw [lg_ldiv_nonneg (by rw [pk_lT ha]; omega) (by rw [pk_lT hb]; omega), pk_lT ha, pk_lT hb, pk_lT (Nat.lt_of_le_of_lt (Nat.div_le_self a b) ha)]
  rfl
theorem pk_lRem {a b : Nat} (ha : a < 2 ^ 63) (h0 : 0 < b) (hb : b < 2 ^ 63) : lN a - lN a / lN b * lN b = lN (a % b) := by
  rw [pk_lDiv ha h0 hb, lN_mul, lN_sub (Nat.div_mul_le_self a b)]
  exact congrArg lN (by have := Nat.div_add_mod' a b; omega)
theorem pk_loop {σ : Type} (W : Nat → Nat → σ → Prop) (I : Nat → σ → Prop) (e i0 : Nat) (s : σ) (hi : i0 ≤ e) (h0 : I i0 s) (hx : ∀ n s, I e s → W (n + 1) e s)
    (hs : ∀ n i s, i < e → I i s → (∀ s', I (i + 1) s' → W n (i + 1) s') → W (n + 1) i s) : ∃ n, W n i0 s :=
  ⟨e + 1, loop_i W I e hx hs (e + 1) i0 s hi (by omega) h0⟩
theorem pk_loopD {σ : Type} (W : Nat → Nat → σ → Prop) (I : Nat → σ → Prop) (hx : ∀ n s, I 0 s → W (n + 1) 0 s)
    (hs : ∀ n i s, I (i + 1) s → (∀ s', I i s' → W n i s') → W (n + 1) (i + 1) s) : ∀ (e : Nat) (s : σ), I e s → W (e + 1) e s := by
  intro e
  induction e with
  | zero => exact fun s h => hx 0 s h
  | succ e ih => exact fun s h => hs (e + 1) e s h (fun s' h' => ih s' h')
theorem lp1 {A1 : Type} (W : Nat → A1 → Prop) (I : A1 → Prop) (μ : A1 → Nat) (hs : ∀ (n : Nat) (a1 : A1), I a1 → (∀ (b1 : A1), I b1 → μ b1 < μ a1 → W n b1) → W (n + 1) a1) (a1 : A1) (h : I a1) : ∃ n, W n a1 :=
  loop_m (σ := A1) (fun n s => W n s) (fun s => I s) (fun s => μ s) (fun n s hI hk => hs n s hI (fun b1 h9 hm => hk b1 h9 hm)) a1 h
theorem lp2 {A1 A2 : Type} (W : Nat → A1 → A2 → Prop) (I : A1 → A2 → Prop) (μ : A1 → A2 → Nat) (hs : ∀ (n : Nat) (a1 : A1) (a2 : A2), I a1 a2 → (∀ (b1 : A1) (b2 : A2), I b1 b2 → μ b1 b2 < μ a1 a2 → W n b1 b2) → W (n + 1) a1 a2) (a1 : A1) (a2 : A2) (h : I a1 a2) : ∃ n, W n a1 a2 :=
  loop_m (σ := A1 × A2) (fun n s => W n s.1 s.2) (fun s => I s.1 s.2) (fun s => μ s.1 s.2) (fun n s hI hk => hs n s.1 s.2 hI (fun b1 b2 h9 hm => hk (b1, b2) h9 hm)) (a1, a2) h
theorem lp3 {A1 A2 A3 : Type} (W : Nat → A1 → A2 → A3 → Prop) (I : A1 → A2 → A3 → Prop) (μ : A1 → A2 → A3 → Nat) (hs : ∀ (n : Nat) (a1 : A1) (a2 : A2) (a3 : A3), I a1 a2 a3 → (∀ (b1 : A1) (b2 : A2) (b3 : A3), I b1 b2 b3 → μ b1 b2 b3 < μ a1 a2 a3 → W n b1 b2 b3) → W (n + 1) a1 a2 a3) (a1 : A1) (a2 : A2) (a3 : A3) (h : I a1 a2 a3) : ∃ n, W n a1 a2 a3 :=
  loop_m (σ := A1 × A2 × A3) (fun n s => W n s.1 s.2.1 s.2.2) (fun s => I s.1 s.2.1 s.2.2) (fun s => μ s.1 s.2.1 s.2.2) (fun n s hI hk => hs n s.1 s.2.1 s.2.2 hI (fun b1 b2 b3 h9 hm => hk (b1, b2, b3) h9 hm)) (a1, a2, a3) h
theorem lp4 {A1 A2 A3 A4 : Type} (W : Nat → A1 → A2 → A3 → A4 → Prop) (I : A1 → A2 → A3 → A4 → Prop) (μ : A1 → A2 → A3 → A4 → Nat) (hs : ∀ (n : Nat) (a1 : A1) (a2 : A2) (a3 : A3) (a4 : A4), I a1 a2 a3 a4 → (∀ (b1 : A1) (b2 : A2) (b3 : A3) (b4 : A4), I b1 b2 b3 b4 → μ b1 b2 b3 b4 < μ a1 a2 a3 a4 → W n b1 b2 b3 b4) → W (n + 1) a1 a2 a3 a4) (a1 : A1) (a2 : A2) (a3 : A3) (a4 : A4) (h : I a1 a2 a3 a4) : ∃ n, W n a1 a2 a3 a4 :=
  loop_m (σ := A1 × A2 × A3 × A4) (fun n s => W n s.1 s.2.1 s.2.2.1 s.2.2.2) (fun s => I s.1 s.2.1 s.2.2.1 s.2.2.2) (fun s => μ s.1 s.2.1 s.2.2.1 s.2.2.2) (fun n s hI hk => hs n s.1 s.2.1 s.2.2.1 s.2.2.2 hI (fun b1 b2 b3 b4 h9 hm => hk (b1, b2, b3, b4) h9 hm)) (a1, a2, a3, a4) h
theorem lp5 {A1 A2 A3 A4 A5 : Type} (W : Nat → A1 → A2 → A3 → A4 → A5 → Prop) (I : A1 → A2 → A3 → A4 → A5 → Prop) (μ : A1 → A2 → A3 → A4 → A5 → Nat) (hs : ∀ (n : Nat) (a1 : A1) (a2 : A2) (a3 : A3) (a4 : A4) (a5 : A5), I a1 a2 a3 a4 a5 → (∀ (b1 : A1) (b2 : A2) (b3 : A3) (b4 : A4) (b5 : A5), I b1 b2 b3 b4 b5 → μ b1 b2 b3 b4 b5 < μ a1 a2 a3 a4 a5 → W n b1 b2 b3 b4 b5) → W (n + 1) a1 a2 a3 a4 a5) (a1 : A1) (a2 : A2) (a3 : A3) (a4 : A4) (a5 : A5) (h : I a1 a2 a3 a4 a5) : ∃ n, W n a1 a2 a3 a4 a5 :=
  loop_m (σ := A1 × A2 × A3 × A4 × A5) (fun n s => W n s.1 s.2.1 s.2.2.1 s.2.2.2.1 s.2.2.2.2) (fun s => I s.1 s.2.1 s.2.2.1 s.2.2.2.1 s.2.2.2.2) (fun s => μ s.1 s.2.1 s.2.2.1 s.2.2.2.1 s.2.2.2.2) (fun n s hI hk => hs n s.1 s.2.1 s.2.2.1 s.2.2.2.1 s.2.2.2.2 hI (fun b1 b2 b3 b4 b5 h9 hm => hk (b1, b2, b3, b4, b5) h9 hm)) (a1, a2, a3, a4, a5) h
theorem lp6 {A1 A2 A3 A4 A5 A6 : Type} (W : Nat → A1 → A2 → A3 → A4 → A5 → A6 → Prop) (I : A1 → A2 → A3 → A4 → A5 → A6 → Prop) (μ : A1 → A2 → A3 → A4 → A5 → A6 → Nat) (hs : ∀ (n : Nat) (a1 : A1) (a2 : A2) (a3 : A3) (a4 : A4) (a5 : A5) (a6 : A6), I a1 a2 a3 a4 a5 a6 → (∀ (b1 : A1) (b2 : A2) (b3 : A3) (b4 : A4) (b5 : A5) (b6 : A6), I b1 b2 b3 b4 b5 b6 → μ b1 b2 b3 b4 b5 b6 < μ a1 a2 a3 a4 a5 a6 → W n b1 b2 b3 b4 b5 b6) → W (n + 1) a1 a2 a3 a4 a5 a6) (a1 : A1) (a2 : A2) (a3 : A3) (a4 : A4) (a5 : A5) (a6 : A6) (h : I a1 a2 a3 a4 a5 a6) : ∃ n, W n a1 a2 a3 a4 a5 a6 :=
  loop_m (σ := A1 × A2 × A3 × A4 × A5 × A6) (fun n s => W n s.1 s.2.1 s.2.2.1 s.2.2.2.1 s.2.2.2.2.1 s.2.2.2.2.2) (fun s => I s.1 s.2.1 s.2.2.1 s.2.2.2.1 s.2.2.2.2.1 s.2.2.2.2.2) (fun s => μ s.1 s.2.1 s.2.2.1 s.2.2.2.1 s.2.2.2.2.1 s.2.2.2.2.2) (fun n s hI hk => hs n s.1 s.2.1 s.2.2.1 s.2.2.2.1 s.2.2.2.2.1 s.2.2.2.2.2 hI (fun b1 b2 b3 b4 b5 b6 h9 hm => hk (b1, b2, b3, b4, b5, b6) h9 hm)) (a1, a2, a3, a4, a5, a6) h
theorem lp7 {A1 A2 A3 A4 A5 A6 A7 : Type} (W : Nat → A1 → A2 → A3 → A4 → A5 → A6 → A7 → Prop) (I : A1 → A2 → A3 → A4 → A5 → A6 → A7 → Prop) (μ : A1 → A2 → A3 → A4 → A5 → A6 → A7 → Nat) (hs : ∀ (n : Nat) (a1 : A1) (a2 : A2) (a3 : A3) (a4 : A4) (a5 : A5) (a6 : A6) (a7 : A7), I a1 a2 a3 a4 a5 a6 a7 → (∀ (b1 : A1) (b2 : A2) (b3 : A3) (b4 : A4) (b5 : A5) (b6 : A6) (b7 : A7), I b1 b2 b3 b4 b5 b6 b7 → μ b1 b2 b3 b4 b5 b6 b7 < μ a1 a2 a3 a4 a5 a6 a7 → W n b1 b2 b3 b4 b5 b6 b7) → W (n + 1) a1 a2 a3 a4 a5 a6 a7) (a1 : A1) (a2 : A2) (a3 : A3) (a4 : A4) (a5 : A5) (a6 : A6) (a7 : A7) (h : I a1 a2 a3 a4 a5 a6 a7) : ∃ n, W n a1 a2 a3 a4 a5 a6 a7 :=
  loop_m (σ := A1 × A2 × A3 × A4 × A5 × A6 × A7) (fun n s => W n s.1 s.2.1 s.2.2.1 s.2.2.2.1 s.2.2.2.2.1 s.2.2.2.2.2.1 s.2.2.2.2.2.2) (fun s => I s.1 s.2.1 s.2.2.1 s.2.2.2.1 s.2.2.2.2.1 s.2.2.2.2.2.1 s.2.2.2.2.2.2) (fun s => μ s.1 s.2.1 s.2.2.1 s.2.2.2.1 s.2.2.2.2.1 s.2.2.2.2.2.1 s.2.2.2.2.2.2) (fun n s hI hk => hs n s.1 s.2.1 s.2.2.1 s.2.2.2.1 s.2.2.2.2.1 s.2.2.2.2.2.1 s.2.2.2.2.2.2 hI (fun b1 b2 b3 b4 b5 b6 b7 h9 hm => hk (b1, b2, b3, b4, b5, b6, b7) h9 hm)) (a1, a2, a3, a4, a5, a6, a7) h
theorem lp8 {A1 A2 A3 A4 A5 A6 A7 A8 : Type} (W : Nat → A1 → A2 → A3 → A4 → A5 → A6 → A7 → A8 → Prop) (I : A1 → A2 → A3 → A4 → A5 → A6 → A7 → A8 → Prop) (μ : A1 → A2 → A3 → A4 → A5 → A6 → A7 → A8 → Nat) (hs : ∀ (n : Nat) (a1 : A1) (a2 : A2) (a3 : A3) (a4 : A4) (a5 : A5) (a6 : A6) (a7 : A7) (a8 : A8), I a1 a2 a3 a4 a5 a6 a7 a8 → (∀ (b1 : A1) (b2 : A2) (b3 : A3) (b4 : A4) (b5 : A5) (b6 : A6) (b7 : A7) (b8 : A8), I b1 b2 b3 b4 b5 b6 b7 b8 → μ b1 b2 b3 b4 b5 b6 b7 b8 < μ a1 a2 a3 a4 a5 a6 a7 a8 → W n b1 b2 b3 b4 b5 b6 b7 b8) → W (n + 1) a1 a2 a3 a4 a5 a6 a7 a8) (a1 : A1) (a2 : A2) (a3 : A3) (a4 : A4) (a5 : A5) (a6 : A6) (a7 : A7) (a8 : A8) (h : I a1 a2 a3 a4 a5 a6 a7 a8) : ∃ n, W n a1 a2 a3 a4 a5 a6 a7 a8 :=
  loop_m (σ := A1 × A2 × A3 × A4 × A5 × A6 × A7 × A8) (fun n s => W n s.1 s.2.1 s.2.2.1 s.2.2.2.1 s.2.2.2.2.1 s.2.2.2.2.2.1 s.2.2.2.2.2.2.1 s.2.2.2.2.2.2.2) (fun s => I s.1 s.2.1 s.2.2.1 s.2.2.2.1 s.2.2.2.2.1 s.2.2.2.2.2.1 s.2.2.2.2.2.2.1 s.2.2.2.2.2.2.2) (fun s => μ s.1 s.2.1 s.2.2.1 s.2.2.2.1 s.2.2.2.2.1 s.2.2.2.2.2.1 s.2.2.2.2.2.2.1 s.2.2.2.2.2.2.2) (fun n s hI hk => hs n s.1 s.2.1 s.2.2.1 s.2.2.2.1 s.2.2.2.2.1 s.2.2.2.2.2.1 s.2.2.2.2.2.2.1 s.2.2.2.2.2.2.2 hI (fun b1 b2 b3 b4 b5 b6 b7 b8 h9 hm => hk (b1, b2, b3, b4, b5, b6, b7, b8) h9 hm)) (a1, a2, a3, a4, a5, a6, a7, a8) h
theorem lp9 {A1 A2 A3 A4 A5 A6 A7 A8 A9 : Type} (W : Nat → A1 → A2 → A3 → A4 → A5 → A6 → A7 → A8 → A9 → Prop) (I : A1 → A2 → A3 → A4 → A5 → A6 → A7 → A8 → A9 → Prop) (μ : A1 → A2 → A3 → A4 → A5 → A6 → A7 → A8 → A9 → Nat) (hs : ∀ (n : Nat) (a1 : A1) (a2 : A2) (a3 : A3) (a4 : A4) (a5 : A5) (a6 : A6) (a7 : A7) (a8 : A8) (a9 : A9), I a1 a2 a3 a4 a5 a6 a7 a8 a9 → (∀ (b1 : A1) (b2 : A2) (b3 : A3) (b4 : A4) (b5 : A5) (b6 : A6) (b7 : A7) (b8 : A8) (b9 : A9), I b1 b2 b3 b4 b5 b6 b7 b8 b9 → μ b1 b2 b3 b4 b5 b6 b7 b8 b9 < μ a1 a2 a3 a4 a5 a6 a7 a8 a9 → W n b1 b2 b3 b4 b5 b6 b7 b8 b9) → W (n + 1) a1 a2 a3 a4 a5 a6 a7 a8 a9) (a1 : A1) (a2 : A2) (a3 : A3) (a4 : A4) (a5 : A5) (a6 : A6) (a7 : A7) (a8 : A8) (a9 : A9) (h : I a1 a2 a3 a4 a5 a6 a7 a8 a9) : ∃ n, W n a1 a2 a3 a4 a5 a6 a7 a8 a9 :=
  loop_m (σ := A1 × A2 × A3 × A4 × A5 × A6 × A7 × A8 × A9) (fun n s => W n s.1 s.2.1 s.2.2.1 s.2.2.2.1 s.2.2.2.2.1 s.2.2.2.2.2.1 s.2.2.2.2.2.2.1 s.2.2.2.2.2.2.2.1 s.2.2.2.2.2.2.2.2) (fun s => I s.1 s.2.1 s.2.2.1 s.2.2.2.1 s.2.2.2.2.1 s.2.2.2.2.2.1 s.2.2.2.2.2.2.1 s.2.2.2.2.2.2.2.1 s.2.2.2.2.2.2.2.2) (fun s => μ s.1 s.2.1 s.2.2.1 s.2.2.2.1 s.2.2.2.2.1 s.2.2.2.2.2.1 s.2.2.2.2.2.2.1 s.2.2.2.2.2.2.2.1 s.2.2.2.2.2.2.2.2) (fun n s hI hk => hs n s.1 s.2.1 s.2.2.1 s.2.2.2.1 s.2.2.2.2.1 s.2.2.2.2.2.1 s.2.2.2.2.2.2.1 s.2.2.2.2.2.2.2.1 s.2.2.2.2.2.2.2.2 hI (fun b1 b2 b3 b4 b5 b6 b7 b8 b9 h9 hm => hk (b1, b2, b3, b4, b5, b6, b7, b8, b9) h9 hm)) (a1, a2, a3, a4, a5, a6, a7, a8, a9) h
theorem lp10 {A1 A2 A3 A4 A5 A6 A7 A8 A9 A10 : Type} (W : Nat → A1 → A2 → A3 → A4 → A5 → A6 → A7 → A8 → A9 → A10 → Prop) (I : A1 → A2 → A3 → A4 → A5 → A6 → A7 → A8 → A9 → A10 → Prop) (μ : A1 → A2 → A3 → A4 → A5 → A6 → A7 → A8 → A9 → A10 → Nat) (hs : ∀ (n : Nat) (a1 : A1) (a2 : A2) (a3 : A3) (a4 : A4) (a5 : A5) (a6 : A6) (a7 : A7) (a8 : A8) (a9 : A9) (a10 : A10), I a1 a2 a3 a4 a5 a6 a7 a8 a9 a10 → (∀ (b1 : A1) (b2 : A2) (b3 : A3) (b4 : A4) (b5 : A5) (b6 : A6) (b7 : A7) (b8 : A8) (b9 : A9) (b10 : A10), I b1 b2 b3 b4 b5 b6 b7 b8 b9 b10 → μ b1 b2 b3 b4 b5 b6 b7 b8 b9 b10 < μ a1 a2 a3 a4 a5 a6 a7 a8 a9 a10 → W n b1 b2 b3 b4 b5 b6 b7 b8 b9 b10) → W (n + 1) a1 a2 a3 a4 a5 a6 a7 a8 a9 a10) (a1 : A1) (a2 : A2) (a3 : A3) (a4 : A4) (a5 : A5) (a6 : A6) (a7 : A7) (a8 : A8) (a9 : A9) (a10 : A10) (h : I a1 a2 a3 a4 a5 a6 a7 a8 a9 a10) : ∃ n, W n a1 a2 a3 a4 a5 a6 a7 a8 a9 a10 :=
  loop_m (σ := A1 × A2 × A3 × A4 × A5 × A6 × A7 × A8 × A9 × A10) (fun n s => W n s.1 s.2.1 s.2.2.1 s.2.2.2.1 s.2.2.2.2.1 s.2.2.2.2.2.1 s.2.2.2.2.2.2.1 s.2.2.2.2.2.2.2.1 s.2.2.2.2.2.2.2.2.1 s.2.2.2.2.2.2.2.2.2) (fun s => I s.1 s.2.1 s.2.2.1 s.2.2.2.1 s.2.2.2.2.1 s.2.2.2.2.2.1 s.2.2.2.2.2.2.1 s.2.2.2.2.2.2.2.1 s.2.2.2.2.2.2.2.2.1 s.2.2.2.2.2.2.2.2.2) (fun s => μ s.1 s.2.1 s.2.2.1 s.2.2.2.1 s.2.2.2.2.1 s.2.2.2.2.2.1 s.2.2.2.2.2.2.1 s.2.2.2.2.2.2.2.1 s.2.2.2.2.2.2.2.2.1 s.2.2.2.2.2.2.2.2.2) (fun n s hI hk => hs n s.1 s.2.1 s.2.2.1 s.2.2.2.1 s.2.2.2.2.1 s.2.2.2.2.2.1 s.2.2.2.2.2.2.1 s.2.2.2.2.2.2.2.1 s.2.2.2.2.2.2.2.2.1 s.2.2.2.2.2.2.2.2.2 hI (fun b1 b2 b3 b4 b5 b6 b7 b8 b9 b10 h9 hm => hk (b1, b2, b3, b4, b5, b6, b7, b8, b9, b10) h9 hm)) (a1, a2, a3, a4, a5, a6, a7, a8, a9, a10) h
theorem lp11 {A1 A2 A3 A4 A5 A6 A7 A8 A9 A10 A11 : Type} (W : Nat → A1 → A2 → A3 → A4 → A5 → A6 → A7 → A8 → A9 → A10 → A11 → Prop) (I : A1 → A2 → A3 → A4 → A5 → A6 → A7 → A8 → A9 → A10 → A11 → Prop) (μ : A1 → A2 → A3 → A4 → A5 → A6 → A7 → A8 → A9 → A10 → A11 → Nat) (hs : ∀ (n : Nat) (a1 : A1) (a2 : A2) (a3 : A3) (a4 : A4) (a5 : A5) (a6 : A6) (a7 : A7) (a8 : A8) (a9 : A9) (a10 : A10) (a11 : A11), I a1 a2 a3 a4 a5 a6 a7 a8 a9 a10 a11 → (∀ (b1 : A1) (b2 : A2) (b3 : A3) (b4 : A4) (b5 : A5) (b6 : A6) (b7 : A7) (b8 : A8) (b9 : A9) (b10 : A10) (b11 : A11), I b1 b2 b3 b4 b5 b6 b7 b8 b9 b10 b11 → μ b1 b2 b3 b4 b5 b6 b7 b8 b9 b10 b11 < μ a1 a2 a3 a4 a5 a6 a7 a8 a9 a10 a11 → W n b1 b2 b3 b4 b5 b6 b7 b8 b9 b10 b11) → W (n + 1) a1 a2 a3 a4 a5 a6 a7 a8 a9 a10 a11) (a1 : A1) (a2 : A2) (a3 : A3) (a4 : A4) (a5 : A5) (a6 : A6) (a7 : A7) (a8 : A8) (a9 : A9) (a10 : A10) (a11 : A11) (h : I a1 a2 a3 a4 a5 a6 a7 a8 a9 a10 a11) : ∃ n, W n a1 a2 a3 a4 a5 a6 a7 a8 a9 a10 a11 :=
  loop_m (σ := A1 × A2 × A3 × A4 × A5 × A6 × A7 × A8 × A9 × A10 × A11) (fun n s => W n s.1 s.2.1 s.2.2.1 s.2.2.2.1 s.2.2.2.2.1 s.2.2.2.2.2.1 s.2.2.2.2.2.2.1 s.2.2.2.2.2.2.2.1 s.2.2.2.2.2.2.2.2.1 s.2.2.2.2.2.2.2.2.2.1 s.2.2.2.2.2.2.2.2.2.2) (fun s => I s.1 s.2.1 s.2.2.1 s.2.2.2.1 s.2.2.2.2.1 s.2.2.2.2.2.1 s.2.2.2.2.2.2.1 s.2.2.2.2.2.2.2.1 s.2.2.2.2.2.2.2.2.1 s.2.2.2.2.2.2.2.2.2.1 s.2.2.2.2.2.2.2.2.2.2) (fun s => μ s.1 s.2.1 s.2.2.1 s.2.2.2.1 s.2.2.2.2.1 s.2.2.2.2.2.1 s.2.2.2.2.2.2.1 s.2.2.2.2.2.2.2.1 s.2.2.2.2.2.2.2.2.1 s.2.2.2.2.2.2.2.2.2.1 s.2.2.2.2.2.2.2.2.2.2) (fun n s hI hk => hs n s.1 s.2.1 s.2.2.1 s.2.2.2.1 s.2.2.2.2.1 s.2.2.2.2.2.1 s.2.2.2.2.2.2.1 s.2.2.2.2.2.2.2.1 s.2.2.2.2.2.2.2.2.1 s.2.2.2.2.2.2.2.2.2.1 s.2.2.2.2.2.2.2.2.2.2 hI (fun b1 b2 b3 b4 b5 b6 b7 b8 b9 b10 b11 h9 hm => hk (b1, b2, b3, b4, b5, b6, b7, b8, b9, b10, b11) h9 hm)) (a1, a2, a3, a4, a5, a6, a7, a8, a9, a10, a11) h
theorem lp12 {A1 A2 A3 A4 A5 A6 A7 A8 A9 A10 A11 A12 : Type} (W : Nat → A1 → A2 → A3 → A4 → A5 → A6 → A7 → A8 → A9 → A10 → A11 → A12 → Prop) (I : A1 → A2 → A3 → A4 → A5 → A6 → A7 → A8 → A9 → A10 → A11 → A12 → Prop) (μ : A1 → A2 → A3 → A4 → A5 → A6 → A7 → A8 → A9 → A10 → A11 → A12 → Nat) (hs : ∀ (n : Nat) (a1 : A1) (a2 : A2) (a3 : A3) (a4 : A4) (a5 : A5) (a6 : A6) (a7 : A7) (a8 : A8) (a9 : A9) (a10 : A10) (a11 : A11) (a12 : A12), I a1 a2 a3 a4 a5 a6 a7 a8 a9 a10 a11 a12 → (∀ (b1 : A1) (b2 : A2) (b3 : A3) (b4 : A4) (b5 : A5) (b6 : A6) (b7 : A7) (b8 : A8) (b9 : A9) (b10 : A10) (b11 : A11) (b12 : A12), I b1 b2 b3 b4 b5 b6 b7 b8 b9 b10 b11 b12 → μ b1 b2 b3 b4 b5 b6 b7 b8 b9 b10 b11 b12 < μ a1 a2 a3 a4 a5 a6 a7 a8 a9 a10 a11 a12 → W n b1 b2 b3 b4 b5 b6 b7 b8 b9 b10 b11 b12) → W (n + 1) a1 a2 a3 a4 a5 a6 a7 a8 a9 a10 a11 a12) (a1 : A1) (a2 : A2) (a3 : A3) (a4 : A4) (a5 : A5) (a6 : A6) (a7 : A7) (a8 : A8) (a9 : A9) (a10 : A10) (a11 : A11) (a12 : A12) (h : I a1 a2 a3 a4 a5 a6 a7 a8 a9 a10 a11 a12) : ∃ n, W n a1 a2 a3 a4 a5 a6 a7 a8 a9 a10 a11 a12 :=
  loop_m (σ := A1 × A2 × A3 × A4 × A5 × A6 × A7 × A8 × A9 × A10 × A11 × A12) (fun n s => W n s.1 s.2.1 s.2.2.1 s.2.2.2.1 s.2.2.2.2.1 s.2.2.2.2.2.1 s.2.2.2.2.2.2.1 s.2.2.2.2.2.2.2.1 s.2.2.2.2.2.2.2.2.1 s.2.2.2.2.2.2.2.2.2.1 s.2.2.2.2.2.2.2.2.2.2.1 s.2.2.2.2.2.2.2.2.2.2.2) (fun s => I s.1 s.2.1 s.2.2.1 s.2.2.2.1 s.2.2.2.2.1 s.2.2.2.2.2.1 s.2.2.2.2.2.2.1 s.2.2.2.2.2.2.2.1 s.2.2.2.2.2.2.2.2.1 s.2.2.2.2.2.2.2.2.2.1 s.2.2.2.2.2.2.2.2.2.2.1 s.2.2.2.2.2.2.2.2.2.2.2) (fun s => μ s.1 s.2.1 s.2.2.1 s.2.2.2.1 s.2.2.2.2.1 s.2.2.2.2.2.1 s.2.2.2.2.2.2.1 s.2.2.2.2.2.2.2.1 s.2.2.2.2.2.2.2.2.1 s.2.2.2.2.2.2.2.2.2.1 s.2.2.2.2.2.2.2.2.2.2.1 s.2.2.2.2.2.2.2.2.2.2.2) (fun n s hI hk => hs n s.1 s.2.1 s.2.2.1 s.2.2.2.1 s.2.2.2.2.1 s.2.2.2.2.2.1 s.2.2.2.2.2.2.1 s.2.2.2.2.2.2.2.1 s.2.2.2.2.2.2.2.2.1 s.2.2.2.2.2.2.2.2.2.1 s.2.2.2.2.2.2.2.2.2.2.1 s.2.2.2.2.2.2.2.2.2.2.2 hI (fun b1 b2 b3 b4 b5 b6 b7 b8 b9 b10 b11 b12 h9 hm => hk (b1, b2, b3, b4, b5, b6, b7, b8, b9, b10, b11, b12) h9 hm)) (a1, a2, a3, a4, a5, a6, a7, a8, a9, a10, a11, a12) h
theorem lp13 {A1 A2 A3 A4 A5 A6 A7 A8 A9 A10 A11 A12 A13 : Type} (W : Nat → A1 → A2 → A3 → A4 → A5 → A6 → A7 → A8 → A9 → A10 → A11 → A12 → A13 → Prop) (I : A1 → A2 → A3 → A4 → A5 → A6 → A7 → A8 → A9 → A10 → A11 → A12 → A13 → Prop) (μ : A1 → A2 → A3 → A4 → A5 → A6 → A7 → A8 → A9 → A10 → A11 → A12 → A13 → Nat) (hs : ∀ (n : Nat) (a1 : A1) (a2 : A2) (a3 : A3) (a4 : A4) (a5 : A5) (a6 : A6) (a7 : A7) (a8 : A8) (a9 : A9) (a10 : A10) (a11 : A11) (a12 : A12) (a13 : A13), I a1 a2 a3 a4 a5 a6 a7 a8 a9 a10 a11 a12 a13 → (∀ (b1 : A1) (b2 : A2) (b3 : A3) (b4 : A4) (b5 : A5) (b6 : A6) (b7 : A7) (b8 : A8) (b9 : A9) (b10 : A10) (b11 : A11) (b12 : A12) (b13 : A13), I b1 b2 b3 b4 b5 b6 b7 b8 b9 b10 b11 b12 b13 → μ b1 b2 b3 b4 b5 b6 b7 b8 b9 b10 b11 b12 b13 < μ a1 a2 a3 a4 a5 a6 a7 a8 a9 a10 a11 a12 a13 → W n b1 b2 b3 b4 b5 b6 b7 b8 b9 b10 b11 b12 b13) → W (n + 1) a1 a2 a3 a4 a5 a6 a7 a8 a9 a10 a11 a12 a13) (a1 : A1) (a2 : A2) (a3 : A3) (a4 : A4) (a5 : A5) (a6 : A6) (a7 : A7) (a8 : A8) (a9 : A9) (a10 : A10) (a11 : A11) (a12 : A12) (a13 : A13) (h : I a1 a2 a3 a4 a5 a6 a7 a8 a9 a10 a11 a12 a13) : ∃ n, W n a1 a2 a3 a4 a5 a6 a7 a8 a9 a10 a11 a12 a13 :=
  loop_m (σ := A1 × A2 × A3 × A4 × A5 × A6 × A7 × A8 × A9 × A10 × A11 × A12 × A13) (fun n s => W n s.1 s.2.1 s.2.2.1 s.2.2.2.1 s.2.2.2.2.1 s.2.2.2.2.2.1 s.2.2.2.2.2.2.1 s.2.2.2.2.2.2.2.1 s.2.2.2.2.2.2.2.2.1 s.2.2.2.2.2.2.2.2.2.1 s.2.2.2.2.2.2.2.2.2.2.1 s.2.2.2.2.2.2.2.2.2.2.2.1 s.2.2.2.2.2.2.2.2.2.2.2.2) (fun s => I s.1 s.2.1 s.2.2.1 s.2.2.2.1 s.2.2.2.2.1 s.2.2.2.2.2.1 s.2.2.2.2.2.2.1 s.2.2.2.2.2.2.2.1 s.2.2.2.2.2.2.2.2.1 s.2.2.2.2.2.2.2.2.2.1 s.2.2.2.2.2.2.2.2.2.2.1 s.2.2.2.2.2.2.2.2.2.2.2.1 s.2.2.2.2.2.2.2.2.2.2.2.2) (fun s => μ s.1 s.2.1 s.2.2.1 s.2.2.2.1 s.2.2.2.2.1 s.2.2.2.2.2.1 s.2.2.2.2.2.2.1 s.2.2.2.2.2.2.2.1 s.2.2.2.2.2.2.2.2.1 s.2.2.2.2.2.2.2.2.2.1 s.2.2.2.2.2.2.2.2.2.2.1 s.2.2.2.2.2.2.2.2.2.2.2.1 s.2.2.2.2.2.2.2.2.2.2.2.2) (fun n s hI hk => hs n s.1 s.2.1 s.2.2.1 s.2.2.2.1 s.2.2.2.2.1 s.2.2.2.2.2.1 s.2.2.2.2.2.2.1 s.2.2.2.2.2.2.2.1 s.2.2.2.2.2.2.2.2.1 s.2.2.2.2.2.2.2.2.2.1 s.2.2.2.2.2.2.2.2.2.2.1 s.2.2.2.2.2.2.2.2.2.2.2.1 s.2.2.2.2.2.2.2.2.2.2.2.2 hI (fun b1 b2 b3 b4 b5 b6 b7 b8 b9 b10 b11 b12 b13 h9 hm => hk (b1, b2, b3, b4, b5, b6, b7, b8, b9, b10, b11, b12, b13) h9 hm)) (a1, a2, a3, a4, a5, a6, a7, a8, a9, a10, a11, a12, a13) h
theorem lp14 {A1 A2 A3 A4 A5 A6 A7 A8 A9 A10 A11 A12 A13 A14 : Type} (W : Nat → A1 → A2 → A3 → A4 → A5 → A6 → A7 → A8 → A9 → A10 → A11 → A12 → A13 → A14 → Prop) (I : A1 → A2 → A3 → A4 → A5 → A6 → A7 → A8 → A9 → A10 → A11 → A12 → A13 → A14 → Prop) (μ : A1 → A2 → A3 → A4 → A5 → A6 → A7 → A8 → A9 → A10 → A11 → A12 → A13 → A14 → Nat) (hs : ∀ (n : Nat) (a1 : A1) (a2 : A2) (a3 : A3) (a4 : A4) (a5 : A5) (a6 : A6) (a7 : A7) (a8 : A8) (a9 : A9) (a10 : A10) (a11 : A11) (a12 : A12) (a13 : A13) (a14 : A14), I a1 a2 a3 a4 a5 a6 a7 a8 a9 a10 a11 a12 a13 a14 → (∀ (b1 : A1) (b2 : A2) (b3 : A3) (b4 : A4) (b5 : A5) (b6 : A6) (b7 : A7) (b8 : A8) (b9 : A9) (b10 : A10) (b11 : A11) (b12 : A12) (b13 : A13) (b14 : A14), I b1 b2 b3 b4 b5 b6 b7 b8 b9 b10 b11 b12 b13 b14 → μ b1 b2 b3 b4 b5 b6 b7 b8 b9 b10 b11 b12 b13 b14 < μ a1 a2 a3 a4 a5 a6 a7 a8 a9 a10 a11 a12 a13 a14 → W n b1 b2 b3 b4 b5 b6 b7 b8 b9 b10 b11 b12 b13 b14) → W (n + 1) a1 a2 a3 a4 a5 a6 a7 a8 a9 a10 a11 a12 a13 a14) (a1 : A1) (a2 : A2) (a3 : A3) (a4 : A4) (a5 : A5) (a6 : A6) (a7 : A7) (a8 : A8) (a9 : A9) (a10 : A10) (a11 : A11) (a12 : A12) (a13 : A13) (a14 : A14) (h : I a1 a2 a3 a4 a5 a6 a7 a8 a9 a10 a11 a12 a13 a14) : ∃ n, W n a1 a2 a3 a4 a5 a6 a7 a8 a9 a10 a11 a12 a13 a14 :=
  loop_m (σ := A1 × A2 × A3 × A4 × A5 × A6 × A7 × A8 × A9 × A10 × A11 × A12 × A13 × A14) (fun n s => W n s.1 s.2.1 s.2.2.1 s.2.2.2.1 s.2.2.2.2.1 s.2.2.2.2.2.1 s.2.2.2.2.2.2.1 s.2.2.2.2.2.2.2.1 s.2.2.2.2.2.2.2.2.1 s.2.2.2.2.2.2.2.2.2.1 s.2.2.2.2.2.2.2.2.2.2.1 s.2.2.2.2.2.2.2.2.2.2.2.1 s.2.2.2.2.2.2.2.2.2.2.2.2.1 s.2.2.2.2.2.2.2.2.2.2.2.2.2) (fun s => I s.1 s.2.1 s.2.2.1 s.2.2.2.1 s.2.2.2.2.1 s.2.2.2.2.2.1 s.2.2.2.2.2.2.1 s.2.2.2.2.2.2.2.1 s.2.2.2.2.2.2.2.2.1 s.2.2.2.2.2.2.2.2.2.1 s.2.2.2.2.2.2.2.2.2.2.1 s.2.2.2.2.2.2.2.2.2.2.2.1 s.2.2.2.2.2.2.2.2.2.2.2.2.1 s.2.2.2.2.2.2.2.2.2.2.2.2.2) (fun s => μ s.1 s.2.1 s.2.2.1 s.2.2.2.1 s.2.2.2.2.1 s.2.2.2.2.2.1 s.2.2.2.2.2.2.1 s.2.2.2.2.2.2.2.1 s.2.2.2.2.2.2.2.2.1 s.2.2.2.2.2.2.2.2.2.1 s.2.2.2.2.2.2.2.2.2.2.1 s.2.2.2.2.2.2.2.2.2.2.2.1 s.2.2.2.2.2.2.2.2.2.2.2.2.1 s.2.2.2.2.2.2.2.2.2.2.2.2.2) (fun n s hI hk => hs n s.1 s.2.1 s.2.2.1 s.2.2.2.1 s.2.2.2.2.1 s.2.2.2.2.2.1 s.2.2.2.2.2.2.1 s.2.2.2.2.2.2.2.1 s.2.2.2.2.2.2.2.2.1 s.2.2.2.2.2.2.2.2.2.1 s.2.2.2.2.2.2.2.2.2.2.1 s.2.2.2.2.2.2.2.2.2.2.2.1 s.2.2.2.2.2.2.2.2.2.2.2.2.1 s.2.2.2.2.2.2.2.2.2.2.2.2.2 hI (fun b1 b2 b3 b4 b5 b6 b7 b8 b9 b10 b11 b12 b13 b14 h9 hm => hk (b1, b2, b3, b4, b5, b6, b7, b8, b9, b10, b11, b12, b13, b14) h9 hm)) (a1, a2, a3, a4, a5, a6, a7, a8, a9, a10, a11, a12, a13, a14) h
theorem lp15 {A1 A2 A3 A4 A5 A6 A7 A8 A9 A10 A11 A12 A13 A14 A15 : Type} (W : Nat → A1 → A2 → A3 → A4 → A5 → A6 → A7 → A8 → A9 → A10 → A11 → A12 → A13 → A14 → A15 → Prop) (I : A1 → A2 → A3 → A4 → A5 → A6 → A7 → A8 → A9 → A10 → A11 → A12 → A13 → A14 → A15 → Prop) (μ : A1 → A2 → A3 → A4 → A5 → A6 → A7 → A8 → A9 → A10 → A11 → A12 → A13 → A14 → A15 → Nat) (hs : ∀ (n : Nat) (a1 : A1) (a2 : A2) (a3 : A3) (a4 : A4) (a5 : A5) (a6 : A6) (a7 : A7) (a8 : A8) (a9 : A9) (a10 : A10) (a11 : A11) (a12 : A12) (a13 : A13) (a14 : A14) (a15 : A15), I a1 a2 a3 a4 a5 a6 a7 a8 a9 a10 a11 a12 a13 a14 a15 → (∀ (b1 : A1) (b2 : A2) (b3 : A3) (b4 : A4) (b5 : A5) (b6 : A6) (b7 : A7) (b8 : A8) (b9 : A9) (b10 : A10) (b11 : A11) (b12 : A12) (b13 : A13) (b14 : A14) (b15 : A15), I b1 b2 b3 b4 b5 b6 b7 b8 b9 b10 b11 b12 b13 b14 b15 → μ b1 b2 b3 b4 b5 b6 b7 b8 b9 b10 b11 b12 b13 b14 b15 < μ a1 a2 a3 a4 a5 a6 a7 a8 a9 a10 a11 a12 a13 a14 a15 → W n b1 b2 b3 b4 b5 b6 b7 b8 b9 b10 b11 b12 b13 b14 b15) → W (n + 1) a1 a2 a3 a4 a5 a6 a7 a8 a9 a10 a11 a12 a13 a14 a15) (a1 : A1) (a2 : A2) (a3 : A3) (a4 : A4) (a5 : A5) (a6 : A6) (a7 : A7) (a8 : A8) (a9 : A9) (a10 : A10) (a11 : A11) (a12 : A12) (a13 : A13) (a14 : A14) (a15 : A15) (h : I a1 a2 a3 a4 a5 a6 a7 a8 a9 a10 a11 a12 a13 a14 a15) : ∃ n, W n a1 a2 a3 a4 a5 a6 a7 a8 a9 a10 a11 a12 a13 a14 a15 :=
  loop_m (σ := A1 × A2 × A3 × A4 × A5 × A6 × A7 × A8 × A9 × A10 × A11 × A12 × A13 × A14 × A15) (fun n s => W n s.1 s.2.1 s.2.2.1 s.2.2.2.1 s.2.2.2.2.1 s.2.2.2.2.2.1 s.2.2.2.2.2.2.1 s.2.2.2.2.2.2.2.1 s.2.2.2.2.2.2.2.2.1 s.2.2.2.2.2.2.2.2.2.1 s.2.2.2.2.2.2.2.2.2.2.1 s.2.2.2.2.2.2.2.2.2.2.2.1 s.2.2.2.2.2.2.2.2.2.2.2.2.1 s.2.2.2.2.2.2.2.2.2.2.2.2.2.1 s.2.2.2.2.2.2.2.2.2.2.2.2.2.2) (fun s => I s.1 s.2.1 s.2.2.1 s.2.2.2.1 s.2.2.2.2.1 s.2.2.2.2.2.1 s.2.2.2.2.2.2.1 s.2.2.2.2.2.2.2.1 s.2.2.2.2.2.2.2.2.1 s.2.2.2.2.2.2.2.2.2.1 s.2.2.2.2.2.2.2.2.2.2.1 s.2.2.2.2.2.2.2.2.2.2.2.1 s.2.2.2.2.2.2.2.2.2.2.2.2.1 s.2.2.2.2.2.2.2.2.2.2.2.2.2.1 s.2.2.2.2.2.2.2.2.2.2.2.2.2.2) (fun s => μ s.1 s.2.1 s.2.2.1 s.2.2.2.1 s.2.2.2.2.1 s.2.2.2.2.2.1 s.2.2.2.2.2.2.1 s.2.2.2.2.2.2.2.1 s.2.2.2.2.2.2.2.2.1 s.2.2.2.2.2.2.2.2.2.1 s.2.2.2.2.2.2.2.2.2.2.1 s.2.2.2.2.2.2.2.2.2.2.2.1 s.2.2.2.2.2.2.2.2.2.2.2.2.1 s.2.2.2.2.2.2.2.2.2.2.2.2.2.1 s.2.2.2.2.2.2.2.2.2.2.2.2.2.2) (fun n s hI hk => hs n s.1 s.2.1 s.2.2.1 s.2.2.2.1 s.2.2.2.2.1 s.2.2.2.2.2.1 s.2.2.2.2.2.2.1 s.2.2.2.2.2.2.2.1 s.2.2.2.2.2.2.2.2.1 s.2.2.2.2.2.2.2.2.2.1 s.2.2.2.2.2.2.2.2.2.2.1 s.2.2.2.2.2.2.2.2.2.2.2.1 s.2.2.2.2.2.2.2.2.2.2.2.2.1 s.2.2.2.2.2.2.2.2.2.2.2.2.2.1 s.2.2.2.2.2.2.2.2.2.2.2.2.2.2 hI (fun b1 b2 b3 b4 b5 b6 b7 b8 b9 b10 b11 b12 b13 b14 b15 h9 hm => hk (b1, b2, b3, b4, b5, b6, b7, b8, b9, b10, b11, b12, b13, b14, b15) h9 hm)) (a1, a2, a3, a4, a5, a6, a7, a8, a9, a10, a11, a12, a13, a14, a15) h
theorem lp16 {A1 A2 A3 A4 A5 A6 A7 A8 A9 A10 A11 A12 A13 A14 A15 A16 : Type} (W : Nat → A1 → A2 → A3 → A4 → A5 → A6 → A7 → A8 → A9 → A10 → A11 → A12 → A13 → A14 → A15 → A16 → Prop) (I : A1 → A2 → A3 → A4 → A5 → A6 → A7 → A8 → A9 → A10 → A11 → A12 → A13 → A14 → A15 → A16 → Prop) (μ : A1 → A2 → A3 → A4 → A5 → A6 → A7 → A8 → A9 → A10 → A11 → A12 → A13 → A14 → A15 → A16 → Nat) (hs : ∀ (n : Nat) (a1 : A1) (a2 : A2) (a3 : A3) (a4 : A4) (a5 : A5) (a6 : A6) (a7 : A7) (a8 : A8) (a9 : A9) (a10 : A10) (a11 : A11) (a12 : A12) (a13 : A13) (a14 : A14) (a15 : A15) (a16 : A16), I a1 a2 a3 a4 a5 a6 a7 a8 a9 a10 a11 a12 a13 a14 a15 a16 → (∀ (b1 : A1) (b2 : A2) (b3 : A3) (b4 : A4) (b5 : A5) (b6 : A6) (b7 : A7) (b8 : A8) (b9 : A9) (b10 : A10) (b11 : A11) (b12 : A12) (b13 : A13) (b14 : A14) (b15 : A15) (b16 : A16), I b1 b2 b3 b4 b5 b6 b7 b8 b9 b10 b11 b12 b13 b14 b15 b16 → μ b1 b2 b3 b4 b5 b6 b7 b8 b9 b10 b11 b12 b13 b14 b15 b16 < μ a1 a2 a3 a4 a5 a6 a7 a8 a9 a10 a11 a12 a13 a14 a15 a16 → W n b1 b2 b3 b4 b5 b6 b7 b8 b9 b10 b11 b12 b13 b14 b15 b16) → W (n + 1) a1 a2 a3 a4 a5 a6 a7 a8 a9 a10 a11 a12 a13 a14 a15 a16) (a1 : A1) (a2 : A2) (a3 : A3) (a4 : A4) (a5 : A5) (a6 : A6) (a7 : A7) (a8 : A8) (a9 : A9) (a10 : A10) (a11 : A11) (a12 : A12) (a13 : A13) (a14 : A14) (a15 : A15) (a16 : A16) (h : I a1 a2 a3 a4 a5 a6 a7 a8 a9 a10 a11 a12 a13 a14 a15 a16) : ∃ n, W n a1 a2 a3 a4 a5 a6 a7 a8 a9 a10 a11 a12 a13 a14 a15 a16 :=
  loop_m (σ := A1 × A2 × A3 × A4 × A5 × A6 × A7 × A8 × A9 × A10 × A11 × A12 × A13 × A14 × A15 × A16) (fun n s => W n s.1 s.2.1 s.2.2.1 s.2.2.2.1 s.2.2.2.2.1 s.2.2.2.2.2.1 s.2.2.2.2.2.2.1 s.2.2.2.2.2.2.2.1 s.2.2.2.2.2.2.2.2.1 s.2.2.2.2.2.2.2.2.2.1 s.2.2.2.2.2.2.2.2.2.2.1 s.2.2.2.2.2.2.2.2.2.2.2.1 s.2.2.2.2.2.2.2.2.2.2.2.2.1 s.2.2.2.2.2.2.2.2.2.2.2.2.2.1 s.2.2.2.2.2.2.2.2.2.2.2.2.2.2.1 s.2.2.2.2.2.2.2.2.2.2.2.2.2.2.2) (fun s => I s.1 s.2.1 s.2.2.1 s.2.2.2.1 s.2.2.2.2.1 s.2.2.2.2.2.1 s.2.2.2.2.2.2.1 s.2.2.2.2.2.2.2.1 s.2.2.2.2.2.2.2.2.1 s.2.2.2.2.2.2.2.2.2.1 s.2.2.2.2.2.2.2.2.2.2.1 s.2.2.2.2.2.2.2.2.2.2.2.1 s.2.2.2.2.2.2.2.2.2.2.2.2.1 s.2.2.2.2.2.2.2.2.2.2.2.2.2.1 s.2.2.2.2.2.2.2.2.2.2.2.2.2.2.1 s.2.2.2.2.2.2.2.2.2.2.2.2.2.2.2) (fun s => μ s.1 s.2.1 s.2.2.1 s.2.2.2.1 s.2.2.2.2.1 s.2.2.2.2.2.1 s.2.2.2.2.2.2.1 s.2.2.2.2.2.2.2.1 s.2.2.2.2.2.2.2.2.1 s.2.2.2.2.2.2.2.2.2.1 s.2.2.2.2.2.2.2.2.2.2.1 s.2.2.2.2.2.2.2.2.2.2.2.1 s.2.2.2.2.2.2.2.2.2.2.2.2.1 s.2.2.2.2.2.2.2.2.2.2.2.2.2.1 s.2.2.2.2.2.2.2.2.2.2.2.2.2.2.1 s.2.2.2.2.2.2.2.2.2.2.2.2.2.2.2) (fun n s hI hk => hs n s.1 s.2.1 s.2.2.1 s.2.2.2.1 s.2.2.2.2.1 s.2.2.2.2.2.1 s.2.2.2.2.2.2.1 s.2.2.2.2.2.2.2.1 s.2.2.2.2.2.2.2.2.1 s.2.2.2.2.2.2.2.2.2.1 s.2.2.2.2.2.2.2.2.2.2.1 s.2.2.2.2.2.2.2.2.2.2.2.1 s.2.2.2.2.2.2.2.2.2.2.2.2.1 s.2.2.2.2.2.2.2.2.2.2.2.2.2.1 s.2.2.2.2.2.2.2.2.2.2.2.2.2.2.1 s.2.2.2.2.2.2.2.2.2.2.2.2.2.2.2 hI (fun b1 b2 b3 b4 b5 b6 b7 b8 b9 b10 b11 b12 b13 b14 b15 b16 h9 hm => hk (b1, b2, b3, b4, b5, b6, b7, b8, b9, b10, b11, b12, b13, b14, b15, b16) h9 hm)) (a1, a2, a3, a4, a5, a6, a7, a8, a9, a10, a11, a12, a13, a14, a15, a16) h
theorem pk_least (P : Nat → Prop) (h : ∃ k, P k) : ∃ k, P k ∧ ∀ j, j < k → ¬ P j := by
  obtain ⟨k, hk⟩ := h
  induction k using Nat.strongRecOn with
  | ind k ih =>
    by_cases e : ∃ j, j < k ∧ P j
    · obtain ⟨j, hj, pj⟩ := e
      exact ih j hj pj
    · exact ⟨k, hk, fun j hj pj => e ⟨j, hj, pj⟩⟩
theorem rp1 {ρ A1 : Type} (W : Nat → (ρ → Prop) → A1 → Prop) (ok : A1 → Prop) (μ : A1 → Nat) (val : A1 → ρ)
    (hs : ∀ (d : Nat) (post : ρ → Prop) (a1 : A1), ok a1 → post (val a1) → (∀ (post' : ρ → Prop) (b1 : A1), ok b1 → μ b1 < μ a1 → post' (val b1) → W d post' b1) → W (d + 1) post a1) :
    ∀ (d : Nat) (post : ρ → Prop) (a1 : A1), ok a1 → μ a1 < d → post (val a1) → W d post a1 := by
  intro d
  induction d with
  | zero => intro post a1 _ h; omega
  | succ d ih =>
    intro post a1 ho hm hp
    exact hs d post a1 ho hp (fun post' b1 ho' hm' hp' => ih post' b1 ho' (by omega) hp')
theorem rp2 {ρ A1 A2 : Type} (W : Nat → (ρ → Prop) → A1 → A2 → Prop) (ok : A1 → A2 → Prop) (μ : A1 → A2 → Nat) (val : A1 → A2 → ρ)
    (hs : ∀ (d : Nat) (post : ρ → Prop) (a1 : A1) (a2 : A2), ok a1 a2 → post (val a1 a2) → (∀ (post' : ρ → Prop) (b1 : A1) (b2 : A2), ok b1 b2 → μ b1 b2 < μ a1 a2 → post' (val b1 b2) → W d post' b1 b2) → W (d + 1) post a1 a2) :
    ∀ (d : Nat) (post : ρ → Prop) (a1 : A1) (a2 : A2), ok a1 a2 → μ a1 a2 < d → post (val a1 a2) → W d post a1 a2 := by
  intro d
  induction d with
  | zero => intro post a1 a2 _ h; omega
  | succ d ih =>
    intro post a1 a2 ho hm hp
    exact hs d post a1 a2 ho hp (fun post' b1 b2 ho' hm' hp' => ih post' b1 b2 ho' (by omega) hp')
theorem rp3 {ρ A1 A2 A3 : Type} (W : Nat → (ρ → Prop) → A1 → A2 → A3 → Prop) (ok : A1 → A2 → A3 → Prop) (μ : A1 → A2 → A3 → Nat) (val : A1 → A2 → A3 → ρ)
    (hs : ∀ (d : Nat) (post : ρ → Prop) (a1 : A1) (a2 : A2) (a3 : A3), ok a1 a2 a3 → post (val a1 a2 a3) → (∀ (post' : ρ → Prop) (b1 : A1) (b2 : A2) (b3 : A3), ok b1 b2 b3 → μ b1 b2 b3 < μ a1 a2 a3 → post' (val b1 b2 b3) → W d post' b1 b2 b3) → W (d + 1) post a1 a2 a3) :
    ∀ (d : Nat) (post : ρ → Prop) (a1 : A1) (a2 : A2) (a3 : A3), ok a1 a2 a3 → μ a1 a2 a3 < d → post (val a1 a2 a3) → W d post a1 a2 a3 := by
  intro d
  induction d with
  | zero => intro post a1 a2 a3 _ h; omega
  | succ d ih =>
    intro post a1 a2 a3 ho hm hp
    exact hs d post a1 a2 a3 ho hp (fun post' b1 b2 b3 ho' hm' hp' => ih post' b1 b2 b3 ho' (by omega) hp')
theorem rp4 {ρ A1 A2 A3 A4 : Type} (W : Nat → (ρ → Prop) → A1 → A2 → A3 → A4 → Prop) (ok : A1 → A2 → A3 → A4 → Prop) (μ : A1 → A2 → A3 → A4 → Nat) (val : A1 → A2 → A3 → A4 → ρ)
    (hs : ∀ (d : Nat) (post : ρ → Prop) (a1 : A1) (a2 : A2) (a3 : A3) (a4 : A4), ok a1 a2 a3 a4 → post (val a1 a2 a3 a4) → (∀ (post' : ρ → Prop) (b1 : A1) (b2 : A2) (b3 : A3) (b4 : A4), ok b1 b2 b3 b4 → μ b1 b2 b3 b4 < μ a1 a2 a3 a4 → post' (val b1 b2 b3 b4) → W d post' b1 b2 b3 b4) → W (d + 1) post a1 a2 a3 a4) :
    ∀ (d : Nat) (post : ρ → Prop) (a1 : A1) (a2 : A2) (a3 : A3) (a4 : A4), ok a1 a2 a3 a4 → μ a1 a2 a3 a4 < d → post (val a1 a2 a3 a4) → W d post a1 a2 a3 a4 := by
  intro d
  induction d with
  | zero => intro post a1 a2 a3 a4 _ h; omega
  | succ d ih =>
    intro post a1 a2 a3 a4 ho hm hp
    exact hs d post a1 a2 a3 a4 ho hp (fun post' b1 b2 b3 b4 ho' hm' hp' => ih post' b1 b2 b3 b4 ho' (by omega) hp')
theorem rp5 {ρ A1 A2 A3 A4 A5 : Type} (W : Nat → (ρ → Prop) → A1 → A2 → A3 → A4 → A5 → Prop) (ok : A1 → A2 → A3 → A4 → A5 → Prop) (μ : A1 → A2 → A3 → A4 → A5 → Nat) (val : A1 → A2 → A3 → A4 → A5 → ρ)
    (hs : ∀ (d : Nat) (post : ρ → Prop) (a1 : A1) (a2 : A2) (a3 : A3) (a4 : A4) (a5 : A5), ok a1 a2 a3 a4 a5 → post (val a1 a2 a3 a4 a5) → (∀ (post' : ρ → Prop) (b1 : A1) (b2 : A2) (b3 : A3) (b4 : A4) (b5 : A5), ok b1 b2 b3 b4 b5 → μ b1 b2 b3 b4 b5 < μ a1 a2 a3 a4 a5 → post' (val b1 b2 b3 b4 b5) → W d post' b1 b2 b3 b4 b5) → W (d + 1) post a1 a2 a3 a4 a5) :
    ∀ (d : Nat) (post : ρ → Prop) (a1 : A1) (a2 : A2) (a3 : A3) (a4 : A4) (a5 : A5), ok a1 a2 a3 a4 a5 → μ a1 a2 a3 a4 a5 < d → post (val a1 a2 a3 a4 a5) → W d post a1 a2 a3 a4 a5 := by
  intro d
  induction d with
  | zero => intro post a1 a2 a3 a4 a5 _ h; omega
  | succ d ih =>
    intro post a1 a2 a3 a4 a5 ho hm hp
    exact hs d post a1 a2 a3 a4 a5 ho hp (fun post' b1 b2 b3 b4 b5 ho' hm' hp' => ih post' b1 b2 b3 b4 b5 ho' (by omega) hp')
theorem rp6 {ρ A1 A2 A3 A4 A5 A6 : Type} (W : Nat → (ρ → Prop) → A1 → A2 → A3 → A4 → A5 → A6 → Prop) (ok : A1 → A2 → A3 → A4 → A5 → A6 → Prop) (μ : A1 → A2 → A3 → A4 → A5 → A6 → Nat) (val : A1 → A2 → A3 → A4 → A5 → A6 → ρ)
    (hs : ∀ (d : Nat) (post : ρ → Prop) (a1 : A1) (a2 : A2) (a3 : A3) (a4 : A4) (a5 : A5) (a6 : A6), ok a1 a2 a3 a4 a5 a6 → post (val a1 a2 a3 a4 a5 a6) → (∀ (post' : ρ → Prop) (b1 : A1) (b2 : A2) (b3 : A3) (b4 : A4) (b5 : A5) (b6 : A6), ok b1 b2 b3 b4 b5 b6 → μ b1 b2 b3 b4 b5 b6 < μ a1 a2 a3 a4 a5 a6 → post' (val b1 b2 b3 b4 b5 b6) → W d post' b1 b2 b3 b4 b5 b6) → W (d + 1) post a1 a2 a3 a4 a5 a6) :
    ∀ (d : Nat) (post : ρ → Prop) (a1 : A1) (a2 : A2) (a3 : A3) (a4 : A4) (a5 : A5) (a6 : A6), ok a1 a2 a3 a4 a5 a6 → μ a1 a2 a3 a4 a5 a6 < d → post (val a1 a2 a3 a4 a5 a6) → W d post a1 a2 a3 a4 a5 a6 := by
  intro d
  induction d with
  | zero => intro post a1 a2 a3 a4 a5 a6 _ h; omega
  | succ d ih =>
    intro post a1 a2 a3 a4 a5 a6 ho hm hp
    exact hs d post a1 a2 a3 a4 a5 a6 ho hp (fun post' b1 b2 b3 b4 b5 b6 ho' hm' hp' => ih post' b1 b2 b3 b4 b5 b6 ho' (by omega) hp')
theorem rec_p {σ ρ : Type} (W : Nat → (ρ → Prop) → σ → Prop) (ok : σ → Prop) (μ : σ → Nat) (val : σ → ρ)
    (hs : ∀ d s post, ok s → post (val s) → (∀ s' post', ok s' → μ s' < μ s → post' (val s') → W d post' s') → W (d + 1) post s) :
    ∀ d s post, ok s → μ s < d → post (val s) → W d post s := by
  intro d
  induction d with
  | zero => intro s post _ h; omega
  | succ d ih =>
    intro s post ho hm hp
    exact hs d s post ho hp (fun s' post' ho' hm' hp' => ih s' post' ho' (by omega) hp')
theorem rec_q {σ ρ : Type} (W : Nat → (ρ → Prop) → σ → Prop) (ok : σ → Prop) (μ : σ → Nat) (Q : σ → ρ → Prop)
    (hs : ∀ d s post, ok s → (∀ r, Q s r → post r) → (∀ s' post', ok s' → μ s' < μ s → (∀ r, Q s' r → post' r) → W d post' s') → W (d + 1) post s) :
    ∀ d s post, ok s → μ s < d → (∀ r, Q s r → post r) → W d post s := by
  intro d
  induction d with
  | zero => intro s post _ h; omega
  | succ d ih =>
    intro s post ho hm hp
    exact hs d s post ho hp (fun s' post' ho' hm' hp' => ih s' post' ho' (by omega) hp')
def bx_sum (f : Nat → Int32) : Nat → Int32
  | 0 => 0
  | n + 1 => bx_sum f n + f n
theorem ek_u {A : Prop} {B : Nat → Prop} {k N : Nat} (hk : k < N) (h : B k) : (some k = none → A) ∧ (∀ y : Nat, some k = some y → (y < N ∧ B y)) :=
  ⟨fun z => absurd z (Option.some_ne_none k), fun _ e => (by cases e; exact ⟨hk, h⟩)⟩
theorem ek_nu {A : Prop} {B : Nat → Prop} (h : A) : ((none : Option Nat) = none → A) ∧ (∀ y : Nat, (none : Option Nat) = some y → B y) :=
  ⟨fun _ => h, fun _ e => (by cases e)⟩
theorem ek_if {c d A B : Prop} (e : c ↔ d) (f : d → A) (g : ¬ d → B) : (c → A) ∧ (¬ c → B) :=
  ⟨fun z => f (e.mp z), fun z => g (fun y => z (e.mpr y))⟩
theorem ek_v {α : Sort _} {P : α → Prop} {a b : α} (e : a = b) (h : P b) : P a := e ▸ h
theorem co_some {x : Option Nat} {A : Prop} {B : Nat → Prop} (i : Nat) (h : B i) (hx : x = some i := by rfl) : (x = none → A) ∧ (∀ y : Nat, x = some y → B y) := by
  subst hx
  exact ⟨fun e => (nomatch e), fun y e => Option.some.inj e ▸ h⟩
theorem co_none {x : Option Nat} {A : Prop} {B : Nat → Prop} (h : A) (hx : x = none := by rfl) : (x = none → A) ∧ (∀ y : Nat, x = some y → B y) := by
  subst hx
  exact ⟨fun _ => h, fun y e => (nomatch e)⟩
theorem co_any {x : Option Nat} {A : Prop} {B : Nat → Prop} (hn : x = none → A) (hs : ∀ i : Nat, x = some i → B i) : (x = none → A) ∧ (∀ y : Nat, x = some y → B y) := ⟨hn, hs⟩
theorem co_2 {P : Nat → Prop} (h0 : P 0) (h1 : P 1) {i : Nat} (hi : i < 2) : P i :=
  match i, hi with
  | 0, _ => h0
  | 1, _ => h1
theorem co_3 {P : Nat → Prop} (h0 : P 0) (h1 : P 1) (h2 : P 2) {i : Nat} (hi : i < 3) : P i :=
  match i, hi with
  | 0, _ => h0
  | 1, _ => h1
  | 2, _ => h2
theorem co_4 {P : Nat → Prop} (h0 : P 0) (h1 : P 1) (h2 : P 2) (h3 : P 3) {i : Nat} (hi : i < 4) : P i :=
  match i, hi with
  | 0, _ => h0
  | 1, _ => h1
  | 2, _ => h2
  | 3, _ => h3
theorem co_dec {N : Nat} {P : Nat → Prop} [DecidablePred P] (h : (List.range N).all (fun i => decide (P i)) = true) {i : Nat} (hi : i < N) : P i := by
  have := List.all_eq_true.mp h i (List.mem_range.mpr hi)
  exact of_decide_eq_true this
theorem co_tab {α : Type} {l : List α} {d : α} {P : α → Prop} (h : ∀ a, a ∈ l → P a) {i : Nat} (hi : i < l.length) : P (l.getD i d) := by
  rw [List.getD_eq_getElem?_getD, List.getElem?_eq_getElem hi]
  exact h _ (List.getElem_mem hi)
theorem pk_mu {x : Int32} {L : Nat} (h0 : ¬ x < 0) (h : ¬ nI L ≤ x) (hL : L < 2 ^ 31) : ∃ j : Nat, j < L ∧ x = nI j ∧ x + 1 = nI (j + 1) ∧ x.toNatClampNeg = j ∧ L - (x + 1).toNatClampNeg < L - x.toNatClampNeg := by
  obtain ⟨j, hj, rfl⟩ := nI_of h0
  have hl : j < L := Nat.not_le.mp fun q => h (nI_le q hj)
  refine ⟨j, hl, rfl, nI_1 j, nI_clamp hj, ?_⟩
  rw [nI_1, nI_clamp (by omega), nI_clamp hj]
  omega
theorem op_s {α : Type} {r : Option α} {A : Prop} {B : α → Prop} {y : α} (h : r = some y) (b : B y) : (r = none → A) ∧ ∀ z, r = some z → B z :=
  ⟨fun e => (by rw [h] at e; cases e), fun z e => (by rw [h] at e; cases e; exact b)⟩
def l_holds {α : Type} (a : Nat → Option Nat) (LP : List Nat) (p : Nat → α) (c : Nat) (b : Nat → α) : Prop :=
  ∀ j, j < c → ∃ y, a j = some y ∧ y ∈ LP ∧ p y = b j
theorem l_holds_0 {α : Type} {a : Nat → Option Nat} {LP : List Nat} {p b : Nat → α} : l_holds a LP p 0 b := fun j h => absurd h (Nat.not_lt_zero j)
theorem l_in_new (LP : List Nat) (q : Nat) : q ∈ LP ++ [q] := List.mem_append.mpr (Or.inr (List.mem_singleton.mpr rfl))
def l_sum (b : Nat → Int32) : Nat → Int32
  | 0 => 0
  | k + 1 => l_sum b k + b k
theorem sb_shr0 (x : Int32) : x >>> ((0 : Int32) &&& 31) = x := by
  rw [show ((0 : Int32) &&& 31) = 0 by decide]
  simp
theorem sb_shl0 (x : Int32) : x <<< ((0 : Int32) &&& 31) = x := by
  rw [show ((0 : Int32) &&& 31) = 0 by decide]
  simp
theorem sb_cl0 : (0 : Int32).toNatClampNeg = 0 := by decide
theorem sb_m1 {p : Nat} (h : 0 < p) : nI p + (-1) = nI (p - 1) := by
  obtain ⟨q, rfl⟩ : ∃ q, p = q + 1 := ⟨p - 1, by omega⟩
  exact pk_m1 q
def sb_b (c : Nat) : Int32 := (nI c).toInt8.toInt32
theorem sb_byte : ∀ c, c < 256 → sb_b c &&& 255 = nI c ∧ ((nI c).toUInt32 % 65536).toInt32 = nI c ∧ nI c ≤ 255 := by decide +kernel
def sb_Fit (a : Nat → Int32) : Prop := ∀ j, fits .byte (.int (a j)) = true
def sb_Lat (t : Nat → Nat) (n : Nat) (a : Nat → Int32) : Prop := ∀ j, j < n → t j < 256 ∧ a j = sb_b (t j)
theorem sb_fitB (c : Nat) : fits .byte (.int (sb_b c)) = true := pk_fb _
theorem sb_fit0 : sb_Fit (fun _ => 0) := fun _ => by
  show fits .byte (.int 0) = true
  decide
theorem sb_fitU {a : Nat → Int32} {k : Nat} {x : Int32} (h : sb_Fit a) (hx : fits .byte (.int x) = true) : sb_Fit (upd a k x) := by
  intro j
  by_cases e : j = k
  · subst e
    rw [pk_us]
    exact hx
  · rw [pk_un e]
    exact h j
def sb_cat (t : Nat → Nat) (n : Nat) (s : Nat → Nat) : Nat → Nat := fun j => if j < n then t j else s (j - n)
theorem sb_cat_lo {t s : Nat → Nat} {n j : Nat} (h : j < n) : sb_cat t n s j = t j := if_pos h
theorem sb_cat_hi {t s : Nat → Nat} {n j : Nat} : sb_cat t n s (n + j) = s j := by
  show (if n + j < n then t (n + j) else s (n + j - n)) = s j
  rw [if_neg (by omega), Nat.add_sub_cancel_left]
theorem sb_latPut {t s : Nat → Nat} {n w : Nat} {a a' : Nat → Int32} (h : sb_Lat t n a) (hk : ∀ j, j < n → a' j = a j) (hs : ∀ i, i < w → s i < 256 ∧ a' (n + i) = sb_b (s i)) : sb_Lat (sb_cat t n s) (n + w) a' := by
  intro j hj
  by_cases e : j < n
  · rw [sb_cat_lo e, hk j e]
    exact h j e
  · obtain ⟨i, rfl⟩ : ∃ i, j = n + i := ⟨j - n, by omega⟩
    rw [sb_cat_hi]
    exact hs i (by omega)
theorem sb_latKeep {t : Nat → Nat} {n : Nat} {a a' : Nat → Int32} (h : sb_Lat t n a) (hk : ∀ j, j < n → a' j = a j) : sb_Lat t n a' := fun j hj => by
  rw [hk j hj]
  exact h j hj
def sb_cap (q m : Nat) : Nat := if q ≤ m then m else if 2 * m + 2 < q then q else 2 * m + 2
def sb_Room (q m mc ms : Nat) : Prop := q ≤ m ∨ (1 ≤ mc ∧ sb_cap q m ≤ ms ∧ sb_cap q m ≤ 65536)
theorem sb_cap_ge (q m : Nat) : q ≤ sb_cap q m := by
  unfold sb_cap
  split
  · omega
  · split <;> omega
theorem sb_cap_gem (q m : Nat) : m ≤ sb_cap q m := by
  unfold sb_cap
  split
  · omega
  · split <;> omega
theorem sb_cap_le {q m mc ms : Nat} (hm : m ≤ 65536) (hr : sb_Room q m mc ms) : sb_cap q m ≤ 65536 := by
  rcases hr with h | h
  · rw [sb_cap, if_pos h]
    exact hm
  · exact h.2.2
theorem sb_at {P : Int32 → Prop} {x y : Int32} (e : x = y) (h : P y) : P x := e ▸ h
def sb_dg (w : Nat) : Nat := if w < 10 then 1 else if w < 100 then 2 else if w < 1000 then 3 else if w < 10000 then 4 else if w < 100000 then 5 else if w < 1000000 then 6 else if w < 10000000 then 7 else if w < 100000000 then 8 else if w < 1000000000 then 9 else 10
def sb_dec (v : Nat) : Nat → Nat := fun i => 48 + v / 10 ^ (sb_dg v - 1 - i) % 10
theorem sb_dg_in (w : Nat) : 1 ≤ sb_dg w ∧ sb_dg w ≤ 10 := by
  unfold sb_dg
  constructor <;> (repeat' split) <;> omega
theorem sb_dg100 {w : Nat} (h : 100 ≤ w) (hw : w < 2 ^ 31) : sb_dg w = sb_dg (w / 100) + 2 := by
  rw [sb_dg, sb_dg, if_neg (show ¬ w < 10 by omega), if_neg (show ¬ w < 100 by omega)]
  by_cases h3 : w < 1000
  · rw [if_pos h3, if_pos (show w / 100 < 10 by omega)]
  rw [if_neg h3, if_neg (show ¬ w / 100 < 10 by omega)]
  by_cases h4 : w < 10000
  · rw [if_pos h4, if_pos (show w / 100 < 100 by omega)]
  rw [if_neg h4, if_neg (show ¬ w / 100 < 100 by omega)]
  by_cases h5 : w < 100000
  · rw [if_pos h5, if_pos (show w / 100 < 1000 by omega)]
  rw [if_neg h5, if_neg (show ¬ w / 100 < 1000 by omega)]
  by_cases h6 : w < 1000000
  · rw [if_pos h6, if_pos (show w / 100 < 10000 by omega)]
  rw [if_neg h6, if_neg (show ¬ w / 100 < 10000 by omega)]
  by_cases h7 : w < 10000000
  · rw [if_pos h7, if_pos (show w / 100 < 100000 by omega)]
  rw [if_neg h7, if_neg (show ¬ w / 100 < 100000 by omega)]
  by_cases h8 : w < 100000000
  · rw [if_pos h8, if_pos (show w / 100 < 1000000 by omega)]
  rw [if_neg h8, if_neg (show ¬ w / 100 < 1000000 by omega)]
  by_cases h9 : w < 1000000000
  · rw [if_pos h9, if_pos (show w / 100 < 10000000 by omega)]
  rw [if_neg h9, if_neg (show ¬ w / 100 < 10000000 by omega)]
  rw [if_pos (show w / 100 < 100000000 by omega)]
theorem sb_negT {w : Nat} (h : w < 2 ^ 31) : (-nI w).toInt = -(w : Int) := by
  rw [Int32.toInt_neg, nI_toInt h]
  exact Int.bmod_eq_of_le (by omega) (by omega)
theorem sb_nle {a b : Nat} (ha : a < 2 ^ 31) (hb : b < 2 ^ 31) : -nI a ≤ -nI b ↔ b ≤ a := by
  rw [Int32.le_iff_toInt_le, sb_negT ha, sb_negT hb]
  omega
theorem sb_nlt {a b : Nat} (ha : a < 2 ^ 31) (hb : b < 2 ^ 31) : -nI a < -nI b ↔ b < a := by
  rw [Int32.lt_iff_toInt_lt, sb_negT ha, sb_negT hb]
  omega
theorem sb_cmp {A B : Prop} {x : Int32} (v c : Nat) (f : c ≤ v → A) (g : v < c → B) (hv : v < 2 ^ 31) (hx : x = -nI c := by rfl) (hc : c < 2 ^ 31 := by omega) : (-nI v ≤ x → A) ∧ (¬ -nI v ≤ x → B) := by
  subst hx
  rw [sb_nle hv hc]
  exact ⟨f, fun z => g (by omega)⟩
theorem sb_ndiv {w : Nat} (hw : w < 2 ^ 31) : (-nI w) / 100 = -nI (w / 100) := by
  apply Int32.toInt_inj.mp
  have h100 : (100 : Int32).toInt = 100 := by decide
  rw [Int32.toInt_div, sb_negT hw, h100, sb_negT (by omega), Int.neg_tdiv, Int.tdiv_eq_ediv_of_nonneg (by omega), Int.bmod_eq_of_le (by omega) (by omega)]
  omega
theorem sb_nrem {w : Nat} (hw : w < 2 ^ 31) : (-nI (w / 100)) * 100 - (-nI w) = nI (w % 100) := by
  have h := pk_rem (a := w) (d := 100) hw (by decide) (by decide)
  rw [pk_div hw (by decide) (by decide)] at h
  rw [← h]
  show (-nI (w / 100)) * nI 100 - (-nI w) = nI w - nI (w / 100) * nI 100
  rw [Int32.neg_mul, Int32.sub_neg, Int32.add_comm, ← Int32.sub_eq_add_neg]
end
section
/-! rows on bits, shifts and unsigned numbers, to paste: each family out of a closed proof of our own, whole with what it rests on; each by itself clean at Lean in its own claim (generation 39, form 5). Take a family whole -/
/-! ===== Int32 by its bits: bt x i ===== -/
def bt (x : Int32) (i : Nat) : Bool := x.toBitVec.getLsbD i
theorem b_ext {x y : Int32} (h : ∀ i, i < 32 → bt x i = bt y i) : x = y := Int32.toBitVec_inj.mp (BitVec.eq_of_getLsbD_eq (fun i hi => h i hi))
theorem b_or (x y : Int32) (i : Nat) : bt (x ||| y) i = (bt x i || bt y i) := by unfold bt; rw [Int32.toBitVec_or, BitVec.getLsbD_or]
theorem b_and (x y : Int32) (i : Nat) : bt (x &&& y) i = (bt x i && bt y i) := by unfold bt; rw [Int32.toBitVec_and, BitVec.getLsbD_and]
theorem b_xor (x y : Int32) (i : Nat) : bt (x ^^^ y) i = (bt x i ^^ bt y i) := by unfold bt; rw [Int32.toBitVec_xor, BitVec.getLsbD_xor]
theorem b_big {x : Int32} {i : Nat} (h : 32 ≤ i) : bt x i = false := BitVec.getLsbD_of_ge _ _ h
theorem b_255 (i : Nat) : bt 255 i = decide (i < 8) := by
  rcases Nat.lt_or_ge i 32 with h | h
  · exact (by decide +kernel : ∀ i, i < 32 → bt 255 i = decide (i < 8)) i h
  · rw [b_big h, decide_eq_false (by omega)]
theorem b_65535 (i : Nat) : bt 65535 i = decide (i < 16) := by
  rcases Nat.lt_or_ge i 32 with h | h
  · exact (by decide +kernel : ∀ i, i < 32 → bt 65535 i = decide (i < 16)) i h
  · rw [b_big h, decide_eq_false (by omega)]
theorem b_m1 : ∀ i, i < 32 → bt (-1) i = true := by decide +kernel
theorem b_0 (i : Nat) : bt 0 i = false := BitVec.getLsbD_zero
theorem s_l : ∀ n, n < 32 → ((nI n &&& 31).toBitVec.smod 32).toNat = n := by decide +kernel
theorem s_u : ∀ n, n < 32 → (((nI n).toUInt32 &&& Int32.toUInt32 31).toBitVec % 32).toNat = n := by decide +kernel
theorem b_shl (n : Nat) (hn : n < 32) (x : Int32) {i : Nat} (hi : i < 32) : bt (x <<< (nI n &&& 31)) i = (decide (n ≤ i) && bt x (i - n)) := by
  unfold bt
  rw [Int32.toBitVec_shiftLeft]
  show (x.toBitVec <<< ((nI n &&& 31).toBitVec.smod 32).toNat).getLsbD i = _
  rw [s_l n hn, BitVec.getLsbD_shiftLeft]
  rcases Nat.lt_or_ge i n with h | h
  · simp [h, Nat.not_le.mpr h]
  · simp [hi, h, Nat.not_lt.mpr h]
theorem b_ushr (n : Nat) (hn : n < 32) (x : Int32) (i : Nat) : bt ((x.toUInt32 >>> ((nI n).toUInt32 &&& Int32.toUInt32 31)).toInt32) i = bt x (n + i) := by
  show (x.toUInt32 >>> ((nI n).toUInt32 &&& Int32.toUInt32 31)).toBitVec.getLsbD i = x.toUInt32.toBitVec.getLsbD (n + i)
  rw [UInt32.toBitVec_shiftRight]
  show (x.toUInt32.toBitVec >>> (((nI n).toUInt32 &&& Int32.toUInt32 31).toBitVec % 32).toNat).getLsbD i = _
  rw [s_u n hn, BitVec.getLsbD_ushiftRight]
theorem b_sshr (n : Nat) (hn : n < 32) (x : Int32) {i : Nat} (hi : i < 32) : bt (x >>> (nI n &&& 31)) i = if n + i < 32 then bt x (n + i) else bt x 31 := by
  unfold bt
  rw [Int32.toBitVec_shiftRight]
  show (x.toBitVec.sshiftRight ((nI n &&& 31).toBitVec.smod 32).toNat).getLsbD i = _
  rw [s_l n hn, BitVec.getLsbD_sshiftRight, BitVec.msb_eq_getLsbD_last]
  simp [hi]
theorem b_shl8 (x : Int32) {i : Nat} (hi : i < 32) : bt (x <<< ((8 : Int32) &&& 31)) i = (decide (8 ≤ i) && bt x (i - 8)) := b_shl 8 (by omega) x hi
theorem b_shl16 (x : Int32) {i : Nat} (hi : i < 32) : bt (x <<< ((16 : Int32) &&& 31)) i = (decide (16 ≤ i) && bt x (i - 16)) := b_shl 16 (by omega) x hi
theorem b_shl24 (x : Int32) {i : Nat} (hi : i < 32) : bt (x <<< ((24 : Int32) &&& 31)) i = (decide (24 ≤ i) && bt x (i - 24)) := b_shl 24 (by omega) x hi
theorem b_sshr8 (x : Int32) {i : Nat} (hi : i < 32) : bt (x >>> ((8 : Int32) &&& 31)) i = if 8 + i < 32 then bt x (8 + i) else bt x 31 := b_sshr 8 (by omega) x hi
/-! ===== nI under and, xor, >>>, one bit, 65535 ===== -/
theorem nx_and (a b : Nat) : nI a &&& nI b = nI (a &&& b) := by
  apply Int32.toBitVec_inj.1
  show BitVec.ofNat 32 a &&& BitVec.ofNat 32 b = BitVec.ofNat 32 (a &&& b)
  apply BitVec.eq_of_getLsbD_eq
  intro i hi
  simp [hi]
theorem nx_xor (a b : Nat) : nI a ^^^ nI b = nI (a ^^^ b) := by
  apply Int32.toBitVec_inj.1
  show BitVec.ofNat 32 a ^^^ BitVec.ofNat 32 b = BitVec.ofNat 32 (a ^^^ b)
  apply BitVec.eq_of_getLsbD_eq
  intro i hi
  simp [hi]
theorem nx_cnt : ∀ j : Fin 32, (UInt32.ofNat j.val &&& Int32.toUInt32 31).toNat % 32 = j.val := by decide +kernel
theorem nx_ush {k j : Nat} (hk : k < 65536) (hj : j < 32) : ((nI k).toUInt32 >>> ((nI j).toUInt32 &&& Int32.toUInt32 31)).toInt32 = nI (k >>> j) := by
  have hs : k >>> j ≤ k := by
    rw [Nat.shiftRight_eq_div_pow]
    exact Nat.div_le_self _ _
  have e2 : UInt32.ofNat k >>> (UInt32.ofNat j &&& Int32.toUInt32 31) = UInt32.ofNat (k >>> j) := by
    apply UInt32.toNat_inj.1
    have h1 : (UInt32.ofNat k).toNat = k := Nat.mod_eq_of_lt (by omega)
    have h2 : (UInt32.ofNat (k >>> j)).toNat = k >>> j := Nat.mod_eq_of_lt (by omega)
    rw [UInt32.toNat_shiftRight, nx_cnt ⟨j, hj⟩, h1, h2]
  show (UInt32.ofNat k >>> (UInt32.ofNat j &&& Int32.toUInt32 31)).toInt32 = _
  rw [e2]
  rfl
theorem nx_bit {k j : Nat} (hk : k < 65536) (hj : j < 16) : (((nI k).toUInt32 >>> ((nI j).toUInt32 &&& Int32.toUInt32 31)).toInt32 &&& 1) = 0 ↔ k.testBit j = false := by
  rw [nx_ush hk (by omega)]
  show nI (k >>> j) &&& nI 1 = 0 ↔ _
  rw [nx_and, Nat.and_one_is_mod, ← nI_0, nI_eq (by omega) (by omega), Nat.testBit_eq_decide_div_mod_eq, Nat.shiftRight_eq_div_pow, decide_eq_false_iff_not]
  generalize k / 2 ^ j = z
  omega
theorem nx_mod (k : Nat) : nI k &&& 65535 = nI (k % 65536) := by
  show nI k &&& nI 65535 = _
  rw [nx_and, show (65535 : Nat) = 2 ^ 16 - 1 from rfl, Nat.and_two_pow_sub_one_eq_mod]
theorem nx_m16 {k : Nat} (h : k < 65536) : nI k &&& 65535 = nI k := by rw [nx_mod, Nat.mod_eq_of_lt h]
theorem nx_mask (x : Int32) : ∃ k, k < 65536 ∧ x &&& 65535 = nI k := by
  have e : x = nI x.toBitVec.toNat := by
    apply Int32.toBitVec_inj.1
    show x.toBitVec = BitVec.ofNat 32 x.toBitVec.toNat
    simp
  refine ⟨x.toBitVec.toNat % 65536, Nat.mod_lt _ (by omega), ?_⟩
  rw [← nx_mod, ← e]
/-! ===== Int32 as a set of bits: test, set ===== -/
def nf_M (m : Int32) : Nat := 4294967296 - m.toBitVec.toNat
theorem nf_sh : ∀ l, l < 32 → ((1 : Int32) <<< (nI l &&& 31)).toBitVec = BitVec.twoPow 32 l := by decide +kernel
theorem nf_sl : ∀ l, l < 32 → (((nI l).toUInt32 &&& Int32.toUInt32 31).toBitVec % 32).toNat = l := by decide +kernel
theorem nf_tp : ∀ l, l < 32 → BitVec.twoPow 32 l ≠ 0#32 := by decide +kernel
theorem nf_bit (m : Int32) (l : Nat) (hl : l < 32) : ((m.toUInt32 >>> ((nI l).toUInt32 &&& Int32.toUInt32 31)).toInt32 &&& 1) = 0 ↔ (m &&& ((1 : Int32) <<< (nI l &&& 31))) = 0 := by
  have e : ((m.toUInt32 >>> ((nI l).toUInt32 &&& Int32.toUInt32 31)).toInt32).toBitVec = m.toBitVec >>> l := by
    show m.toBitVec >>> (((nI l).toUInt32 &&& Int32.toUInt32 31).toBitVec % 32) = m.toBitVec >>> l
    rw [BitVec.ushiftRight_eq', nf_sl l hl]
  rw [← Int32.toBitVec_inj, ← Int32.toBitVec_inj, Int32.toBitVec_and, Int32.toBitVec_and, nf_sh l hl, e, BitVec.and_twoPow]
  show (m.toBitVec >>> l &&& 1#32) = 0#32 ↔ _ = 0#32
  rw [BitVec.and_one_eq_setWidth_ofBool_getLsbD, BitVec.getLsbD_ushiftRight, Nat.add_zero]
  cases hb : m.toBitVec.getLsbD l
  · exact ⟨fun _ => by simp, fun _ => by decide⟩
  · exact ⟨fun z => absurd z (by decide), fun z => absurd ((if_pos rfl).symm.trans z) (nf_tp l hl)⟩
theorem nf_gr (m k : Int32) (h : m &&& k = 0) (hk : k ≠ 0) : nf_M (m ||| k) < nf_M m := by
  have hm := m.toBitVec.isLt
  have hm' := (m ||| k).toBitVec.isLt
  have h1 : m.toBitVec.toNat ≤ (m ||| k).toBitVec.toNat := by
    rw [Int32.toBitVec_or, BitVec.toNat_or]
    exact Nat.left_le_or
  have h2 : m.toBitVec.toNat ≠ (m ||| k).toBitVec.toNat := by
    intro e
    have e2 : m = m ||| k := Int32.toBitVec_inj.mp (BitVec.eq_of_toNat_eq e)
    apply hk
    apply Int32.toBitVec_inj.mp
    show k.toBitVec = 0#32
    apply BitVec.eq_of_getLsbD_eq
    intro i hi
    have a : m.toBitVec.getLsbD i = (m.toBitVec.getLsbD i || k.toBitVec.getLsbD i) := by rw [← BitVec.getLsbD_or, ← Int32.toBitVec_or, ← e2]
    have b : (m.toBitVec.getLsbD i && k.toBitVec.getLsbD i) = false := by
      rw [← BitVec.getLsbD_and, ← Int32.toBitVec_and, h]
      exact BitVec.getLsbD_zero
    rw [BitVec.getLsbD_zero]
    revert a b
    cases m.toBitVec.getLsbD i <;> cases k.toBitVec.getLsbD i <;> simp
  unfold nf_M
  omega
/-! ===== a byte read unsigned ===== -/
theorem bp_b (x : Int32) : x.toInt8.toInt32 &&& 255 = x &&& 255 := by
  apply Int32.toBitVec_inj.mp
  rw [Int32.toBitVec_and, Int32.toBitVec_and, Int8.toBitVec_toInt32, Int32.toBitVec_toInt8]
  apply BitVec.eq_of_getLsbD_eq
  intro i hi
  rw [BitVec.getLsbD_and, BitVec.getLsbD_and]
  have hm : ∀ i < 32, 8 ≤ i → (255 : Int32).toBitVec.getLsbD i = false := by decide
  rcases Nat.lt_or_ge i 8 with z | z
  · rw [BitVec.getLsbD_signExtend, BitVec.getLsbD_signExtend, if_pos z, if_pos hi]
    simp only [z, hi, decide_true, Bool.true_and]
  · rw [hm i hi z]; simp
/-! ===== the char cast and 65535 ===== -/
theorem em_w (v : Int32) : ∃ w : Nat, w < 65536 ∧ (v.toUInt32 % 65536).toInt32 = nI w ∧ v &&& 65535 = nI w := by
  have hr := lw_u16_r v
  have h0 : (0 : Int32).toInt = 0 := by decide
  obtain ⟨w, h1, h2⟩ := nI_of (x := lw_u16 v) (by rw [Int32.lt_iff_toInt_lt]; omega)
  have h3 : (v.toUInt32 % 65536).toInt32 = nI w := h2
  rw [h2, nI_toInt h1] at hr
  exact ⟨w, by omega, h3, by rw [← lg_i2c_mask, ← lg_i2c_nf, h3]⟩
/-! ===== Int64 as a set of bits: test, set, clear ===== -/
theorem ts_nf {x : Bool} (h : ¬ x = false) : x = true := by cases x <;> first | rfl | exact absurd rfl h
theorem ts_nt {x : Bool} (h : ¬ x = true) : x = false := by cases x <;> first | rfl | exact absurd rfl h
theorem ts_bit {w : Int64} {s : UInt64} {j : Nat} (hj : j < 64) (hs : s.toNat = j) : ((w.toUInt64 >>> s).toInt64 &&& 1) = 0 ↔ w.toBitVec.getLsbD j = false := by
  have e : (w.toUInt64 >>> s).toInt64.toBitVec = w.toBitVec >>> j := by
    apply BitVec.eq_of_toNat_eq
    show (w.toUInt64 >>> s).toNat = _
    rw [UInt64.toNat_shiftRight, hs, Nat.mod_eq_of_lt hj, BitVec.toNat_ushiftRight]
    rfl
  rw [← Int64.toBitVec_inj, Int64.toBitVec_and, e]
  show w.toBitVec >>> j &&& 1#64 = 0#64 ↔ _
  constructor
  · intro h
    have t := congrArg (fun x => x.getLsbD 0) h
    simpa using t
  · intro h
    apply BitVec.eq_of_getLsbD_eq
    intro i hi
    cases i with
    | zero => simp [h]
    | succ i => simp
theorem ts_or {w m : Int64} {j : Nat} (hj : j < 64) (hm : m.toBitVec = BitVec.twoPow 64 j) : (w ||| m) = w ↔ w.toBitVec.getLsbD j = true := by
  rw [← Int64.toBitVec_inj, Int64.toBitVec_or, hm]
  constructor
  · intro h
    have t := congrArg (fun x => x.getLsbD j) h
    simp only [BitVec.getLsbD_or, BitVec.getLsbD_twoPow] at t
    simpa [hj] using t.symm
  · intro h
    apply BitVec.eq_of_getLsbD_eq
    intro i hi
    rw [BitVec.getLsbD_or, BitVec.getLsbD_twoPow]
    by_cases e : j = i
    · subst e; rw [h, Bool.true_or]
    · simp [e]
theorem ts_and {w m : Int64} {j : Nat} (hj : j < 64) (hm : m.toBitVec = BitVec.twoPow 64 j) : (w &&& (m ^^^ (-1))) = w ↔ w.toBitVec.getLsbD j = false := by
  have ha : (-1 : Int64).toBitVec = BitVec.allOnes 64 := by decide
  rw [← Int64.toBitVec_inj, Int64.toBitVec_and, Int64.toBitVec_xor, hm, ha]
  constructor
  · intro h
    have t := congrArg (fun x => x.getLsbD j) h
    simp only [BitVec.getLsbD_and, BitVec.getLsbD_xor, BitVec.getLsbD_twoPow, BitVec.getLsbD_allOnes] at t
    simpa [hj] using t.symm
  · intro h
    apply BitVec.eq_of_getLsbD_eq
    intro i hi
    rw [BitVec.getLsbD_and, BitVec.getLsbD_xor, BitVec.getLsbD_twoPow, BitVec.getLsbD_allOnes]
    by_cases e : j = i
    · subst e; rw [h, Bool.false_and]
    · simp [e, hi]
/-! ===== lN n to 2^64: shifts, and, or, masks, one bit ===== -/
theorem wb_tb (n : Nat) : (lN n).toBitVec = BitVec.ofNat 64 n := rfl
theorem wb_inj {a b : Int64} (h : a.toBitVec = b.toBitVec) : a = b := Int64.toBitVec_inj.mp h
theorem wb_tn {n : Nat} (h : n < 2 ^ 64) : (lN n).toBitVec.toNat = n := by rw [wb_tb, BitVec.toNat_ofNat, Nat.mod_eq_of_lt h]
theorem wb_of (x : Int64) : ∃ n, n < 2 ^ 64 ∧ x = lN n := ⟨x.toBitVec.toNat, x.toBitVec.isLt, wb_inj (by rw [wb_tb]; simp)⟩
theorem wb_of32 (x : Int32) : ∃ n, n < 2 ^ 32 ∧ x = nI n := ⟨x.toBitVec.toNat, x.toBitVec.isLt, Int32.toBitVec_inj.mp (by show _ = BitVec.ofNat 32 _; simp)⟩
theorem wb_c : ∀ k, k < 64 → ((nI k).toInt64 &&& 63) = lN k := by decide +kernel
theorem wb_cu : ∀ k, k < 64 → ((nI k).toInt64.toUInt64 &&& Int64.toUInt64 63) = UInt64.ofNat k := by decide +kernel
theorem wb_sm : ∀ k, k < 64 → (BitVec.ofNat 64 k).smod 64 = BitVec.ofNat 64 k := by decide +kernel
theorem wb_pw {a b : Nat} (h : a ≤ b) : 2 ^ b = 2 ^ a * 2 ^ (b - a) := by rw [← Nat.pow_add]; congr 1; omega
theorem wb_lt2 {a b : Nat} (h : a < b) : 2 ^ a < 2 ^ b := Nat.pow_lt_pow_right (by decide) h
theorem wb_mod (n : Nat) : lN n = lN (n % 2 ^ 64) := wb_inj (by rw [wb_tb, wb_tb]; apply BitVec.eq_of_toNat_eq; rw [BitVec.toNat_ofNat, BitVec.toNat_ofNat, Nat.mod_mod])
theorem wb_shr {n k : Nat} (hn : n < 2 ^ 64) (hk : k < 64) : ((lN n).toUInt64 >>> ((nI k).toInt64.toUInt64 &&& Int64.toUInt64 63)).toInt64 = lN (n / 2 ^ k) := by
  rw [wb_cu k hk]
  apply wb_inj
  apply BitVec.eq_of_toNat_eq
  show ((lN n).toUInt64 >>> UInt64.ofNat k).toNat = (BitVec.ofNat 64 _).toNat
  have h1 : (UInt64.ofNat k).toNat = k := by
    show (BitVec.ofNat 64 k).toNat = k
    rw [BitVec.toNat_ofNat, Nat.mod_eq_of_lt (by omega)]
  have h2 : (lN n).toUInt64.toNat = n := wb_tn hn
  rw [UInt64.toNat_shiftRight, h1, h2, Nat.mod_eq_of_lt hk, Nat.shiftRight_eq_div_pow, BitVec.toNat_ofNat, Nat.mod_eq_of_lt (Nat.lt_of_le_of_lt (Nat.div_le_self _ _) hn)]
theorem wb_shl (n : Nat) {k : Nat} (hk : k < 64) : lN n <<< ((nI k).toInt64 &&& 63) = lN (n * 2 ^ k) := by
  rw [wb_c k hk]
  apply wb_inj
  rw [Int64.toBitVec_shiftLeft, wb_tb, wb_tb, wb_tb, wb_sm k hk]
  apply BitVec.eq_of_toNat_eq
  rw [BitVec.shiftLeft_eq', BitVec.toNat_shiftLeft, BitVec.toNat_ofNat, BitVec.toNat_ofNat, BitVec.toNat_ofNat, Nat.mod_eq_of_lt (show k < 2 ^ 64 by omega), Nat.shiftLeft_eq, Nat.mul_mod, Nat.mod_mod, ← Nat.mul_mod]
theorem wb_and {a b : Nat} (ha : a < 2 ^ 64) (hb : b < 2 ^ 64) : lN a &&& lN b = lN (a &&& b) := by
  apply wb_inj
  rw [Int64.toBitVec_and, wb_tb, wb_tb, wb_tb]
  apply BitVec.eq_of_toNat_eq
  rw [BitVec.toNat_and, BitVec.toNat_ofNat, BitVec.toNat_ofNat, BitVec.toNat_ofNat, Nat.mod_eq_of_lt ha, Nat.mod_eq_of_lt hb, Nat.mod_eq_of_lt (Nat.and_lt_two_pow _ hb)]
theorem wb_or {a b : Nat} (ha : a < 2 ^ 64) (hb : b < 2 ^ 64) : lN a ||| lN b = lN (a ||| b) := by
  apply wb_inj
  rw [Int64.toBitVec_or, wb_tb, wb_tb, wb_tb]
  apply BitVec.eq_of_toNat_eq
  rw [BitVec.toNat_or, BitVec.toNat_ofNat, BitVec.toNat_ofNat, BitVec.toNat_ofNat, Nat.mod_eq_of_lt ha, Nat.mod_eq_of_lt hb, Nat.mod_eq_of_lt (Nat.or_lt_two_pow ha hb)]
theorem wb_mask {n k : Nat} (hn : n < 2 ^ 64) (hk : k < 64) : lN n &&& lN (2 ^ k - 1) = lN (n % 2 ^ k) := by
  rw [wb_and hn (by have := wb_lt2 hk; omega), Nat.and_two_pow_sub_one_eq_mod]
theorem wb_a1 {n : Nat} (hn : n < 2 ^ 64) : lN n &&& 1 = lN (n % 2) := wb_mask (k := 1) hn (by decide)
theorem wb_bit {n k : Nat} (hn : n < 2 ^ 64) (hk : k < 64) : ((lN n).toUInt64 >>> ((nI k).toInt64.toUInt64 &&& Int64.toUInt64 63)).toInt64 &&& 1 = lN (n / 2 ^ k % 2) := by
  rw [wb_shr hn hk, wb_a1 (Nat.lt_of_le_of_lt (Nat.div_le_self _ _) hn)]
theorem wb_xor {q k : Nat} (hk : k < 63) (h : 2 ^ k ≤ q) (h2 : q < 2 ^ (k + 1)) : lN q ^^^ lN (2 ^ k) = lN (q - 2 ^ k) := by
  obtain ⟨r, rfl⟩ : ∃ r, q = 2 ^ k + r := ⟨q - 2 ^ k, by omega⟩
  have hr : r < 2 ^ k := by rw [Nat.pow_succ] at h2; omega
  have hx : (2 ^ k + r) ^^^ 2 ^ k = r := by
    apply Nat.eq_of_testBit_eq
    intro i
    rw [Nat.testBit_xor, Nat.testBit_two_pow]
    rcases Nat.lt_trichotomy i k with h | h | h
    · rw [Nat.testBit_two_pow_add_gt h]
      simp [show ¬ k = i by omega]
    · subst h
      rw [Nat.testBit_two_pow_add_eq]
      simp
    · have a1 : 2 ^ (k + 1) ≤ 2 ^ i := Nat.pow_le_pow_right (by decide) h
      rw [Nat.testBit_lt_two_pow (show 2 ^ k + r < 2 ^ i by omega), Nat.testBit_lt_two_pow (show r < 2 ^ i by omega)]
      simp [show ¬ k = i by omega]
  have b1 := wb_lt2 (show k + 1 < 64 by omega)
  have b2 := wb_lt2 (show k < 64 by omega)
  apply wb_inj
  rw [Int64.toBitVec_xor, wb_tb, wb_tb, wb_tb]
  apply BitVec.eq_of_toNat_eq
  rw [BitVec.toNat_xor, BitVec.toNat_ofNat, BitVec.toNat_ofNat, BitVec.toNat_ofNat, Nat.mod_eq_of_lt (by omega : 2 ^ k + r < 2 ^ 64), Nat.mod_eq_of_lt b2, hx, Nat.add_sub_cancel_left, Nat.mod_eq_of_lt (by omega)]
/-! ===== lN: masks, 'or' of parts that don't overlap is a sum ===== -/
theorem u_tn {n : Nat} (h : n < 2 ^ 64) : (UInt64.ofNat n).toNat = n := Nat.mod_eq_of_lt h
theorem g_and {a b c : Nat} (ha : a < 2 ^ 64) (hb : b < 2 ^ 64) (hc : a &&& b = c) : lN a &&& lN b = lN c := by
  subst hc
  have h : UInt64.ofNat a &&& UInt64.ofNat b = UInt64.ofNat (a &&& b) := UInt64.toNat_inj.mp (by rw [UInt64.toNat_and, u_tn ha, u_tn hb, u_tn (Nat.and_lt_two_pow a hb)])
  have h2 := congrArg UInt64.toInt64 h
  exact h2
theorem g_and1 {a : Nat} (ha : a < 2 ^ 64) : lN a &&& 1 = lN (a % 2) := g_and (b := 1) ha (by decide) (Nat.and_two_pow_sub_one_eq_mod a 1)
theorem g_mask {a s p : Nat} (hp : 2 ^ s = p) (hs : s < 64) (ha : a < 2 ^ 64) : lN a &&& lN (p - 1) = lN (a % p) := by
  subst hp
  have := Nat.pow_lt_pow_right (show 1 < 2 by decide) hs
  exact g_and ha (by omega) (Nat.and_two_pow_sub_one_eq_mod a s)
theorem g_or {k p a b : Nat} (hp : 2 ^ k = p) (ha : a < p) (h : b * p + a < 2 ^ 64) : lN (b * p) ||| lN a = lN (b * p + a) := by
  subst hp
  have h1 : b * 2 ^ k ||| a = b * 2 ^ k + a := by rw [← Nat.shiftLeft_eq, Nat.shiftLeft_add_eq_or_of_lt ha]
  have h3 : UInt64.ofNat (b * 2 ^ k) ||| UInt64.ofNat a = UInt64.ofNat (b * 2 ^ k + a) := UInt64.toNat_inj.mp (by rw [UInt64.toNat_or, u_tn (by omega), u_tn (by omega), u_tn h, h1])
  have h2 := congrArg UInt64.toInt64 h3
  exact h2
theorem g_or' {k p a b : Nat} (hp : 2 ^ k = p) (ha : a < p) (h : a + b * p < 2 ^ 64) : lN a ||| lN (b * p) = lN (a + b * p) := by
  rw [Int64.or_comm, g_or hp ha (by omega), Nat.add_comm]
theorem g_ushr {a k p : Nat} {y : UInt64} (hy : y = UInt64.ofNat k) (hk : k < 64) (hp : 2 ^ k = p) (ha : a < 2 ^ 64) : ((lN a).toUInt64 >>> y).toInt64 = lN (a / p) := by
  subst hy hp
  have h : UInt64.ofNat a >>> UInt64.ofNat k = UInt64.ofNat (a / 2 ^ k) := UInt64.toNat_inj.mp (by rw [UInt64.toNat_shiftRight, u_tn ha, u_tn (by omega), u_tn (Nat.lt_of_le_of_lt (Nat.div_le_self _ _) ha), Nat.mod_eq_of_lt hk, Nat.shiftRight_eq_div_pow])
  have h2 := congrArg UInt64.toInt64 h
  exact h2
theorem g_shl {a k p : Nat} {y : Int64} (hy : y.toBitVec.smod 64 = BitVec.ofNat 64 k) (hk : k < 64) (hp : 2 ^ k = p) (ha : a < 2 ^ 64) : lN a <<< y = lN (a * p) := by
  subst hp
  apply Int64.toBitVec_inj.mp
  rw [Int64.toBitVec_shiftLeft, hy]
  apply BitVec.eq_of_toNat_eq
  have hb : (lN a).toBitVec.toNat = a := Nat.mod_eq_of_lt ha
  have hk' : (BitVec.ofNat 64 k).toNat = k := Nat.mod_eq_of_lt (by omega)
  have h : ((lN a).toBitVec <<< BitVec.ofNat 64 k).toNat = (a * 2 ^ k) % 2 ^ 64 := by simp only [BitVec.shiftLeft_eq', BitVec.toNat_shiftLeft, hb, hk', Nat.shiftLeft_eq]
  exact h
/-! ===== lN to 2^62 under >> and >>> ===== -/
theorem pf_lI {a : Nat} (h : a < 2 ^ 63) : (lN a).toInt = (a : Int) := lg_ofNat_toInt h
theorem pf_shr {a d : Nat} {D : Int64} (hD : (D.toBitVec.smod 64).toNat = d) (h : a < 2 ^ 62) : lN a >>> D = lN (a / 2 ^ d) := by
  have hd : a / 2 ^ d ≤ a := Nat.div_le_self _ _
  apply Int64.toInt_inj.mp
  have e : (lN a >>> D).toInt = (lN a).toInt >>> d := by
    rw [← hD]
    exact BitVec.toInt_sshiftRight ..
  rw [e, Int.shiftRight_eq_div_pow, pf_lI (by omega), pf_lI (by omega)]
  rfl
theorem pf_ushr {a d : Nat} {D : UInt64} (hD : D.toNat % 64 = d) (h : a < 2 ^ 62) : ((lN a).toUInt64 >>> D).toInt64 = lN (a / 2 ^ d) := by
  have hd : a / 2 ^ d ≤ a := Nat.div_le_self _ _
  have e : (lN a).toUInt64 >>> D = UInt64.ofNat (a / 2 ^ d) := UInt64.toNat_inj.mp (by
    rw [UInt64.toNat_shiftRight, hD, Nat.shiftRight_eq_div_pow, UInt64.toNat_ofNat']
    show (UInt64.ofNat a).toNat / 2 ^ d = _
    rw [UInt64.toNat_ofNat', Nat.mod_eq_of_lt (by omega), Nat.mod_eq_of_lt (by omega)])
  rw [e]
  rfl
theorem pf_andw (x : Int64) : ∃ m, m < 2 ^ 32 ∧ x &&& 4294967295 = lN m := ⟨x.toBitVec.toNat % 2 ^ 32, Nat.mod_lt _ (by decide), Int64.toBitVec_inj.mp (BitVec.eq_of_toNat_eq (by
  show (x.toBitVec &&& 4294967295#64).toNat = (BitVec.ofNat 64 (x.toBitVec.toNat % 2 ^ 32)).toNat
  rw [BitVec.toNat_and, show (4294967295#64).toNat = 2 ^ 32 - 1 from by decide, Nat.and_two_pow_sub_one_eq_mod, BitVec.toNat_ofNat]
  omega))⟩
/-! ===== Int64 as an unsigned number: uN x ===== -/
def uN (x : Int64) : Nat := x.toUInt64.toNat
theorem uN_lt (x : Int64) : uN x < 18446744073709551616 := x.toUInt64.toNat_lt
theorem uN_inj {x y : Int64} (h : uN x = uN y) : x = y := congrArg UInt64.toInt64 (UInt64.toNat_inj.mp h)
theorem uN_add (x y : Int64) : uN (x + y) = (uN x + uN y) % 18446744073709551616 := by
  show (x.toUInt64 + y.toUInt64).toNat = _
  exact UInt64.toNat_add _ _
theorem uN_mul (x y : Int64) : uN (x * y) = (uN x * uN y) % 18446744073709551616 := by
  show (x.toUInt64 * y.toUInt64).toNat = _
  exact UInt64.toNat_mul _ _
theorem uN_shl (x : Int64) : uN (x <<< ((1 : Int32).toInt64 &&& 63)) = (2 * uN x) % 18446744073709551616 := by
  have h : (((1 : Int32).toInt64 &&& 63).toBitVec.smod 64).toNat = 1 := by decide
  show (x.toBitVec <<< (((1 : Int32).toInt64 &&& 63).toBitVec.smod 64).toNat).toNat = _
  rw [h, BitVec.toNat_shiftLeft, Nat.shiftLeft_eq, Nat.mul_comm]
  rfl
theorem uN_shr (x : Int64) (s : UInt64) : uN (x.toUInt64 >>> s).toInt64 = uN x / 2 ^ (s.toNat % 64) := by
  show (x.toUInt64 >>> s).toNat = _
  rw [UInt64.toNat_shiftRight, Nat.shiftRight_eq_div_pow]
  rfl
theorem uN_s32 (x : Int64) : uN (x.toUInt64 >>> ((32 : Int32).toInt64.toUInt64 &&& Int64.toUInt64 63)).toInt64 = uN x / 4294967296 := by
  have h : ((32 : Int32).toInt64.toUInt64 &&& Int64.toUInt64 63).toNat % 64 = 32 := by decide
  rw [uN_shr, h]
theorem uN_s63 (x : Int64) : uN (x.toUInt64 >>> ((63 : Int32).toInt64.toUInt64 &&& Int64.toUInt64 63)).toInt64 = uN x / 9223372036854775808 := by
  have h : ((63 : Int32).toInt64.toUInt64 &&& Int64.toUInt64 63).toNat % 64 = 63 := by decide
  rw [uN_shr, h]
theorem uN_lo (x : Int64) : uN (x &&& 4294967295) = uN x % 4294967296 := by
  show (x.toUInt64 &&& Int64.toUInt64 4294967295).toNat = _
  rw [UInt64.toNat_and]
  exact Nat.and_two_pow_sub_one_eq_mod _ 32
theorem uN_bit (x : Int64) : (x &&& 1) = 0 ↔ uN x % 2 = 0 := by
  have h : uN (x &&& 1) = uN x % 2 := by
    show (x.toUInt64 &&& Int64.toUInt64 1).toNat = _
    rw [UInt64.toNat_and]
    exact Nat.and_two_pow_sub_one_eq_mod _ 1
  rw [← h]
  exact ⟨fun z => by rw [z]; rfl, fun z => uN_inj (z.trans rfl)⟩
theorem uN_or {x y : Int64} (hy : uN y < 2) : uN ((x <<< ((1 : Int32).toInt64 &&& 63)) ||| y) = (2 * uN x) % 18446744073709551616 + uN y := by
  have h1 : uN ((x <<< ((1 : Int32).toInt64 &&& 63)) ||| y) = uN (x <<< ((1 : Int32).toInt64 &&& 63)) ||| uN y := UInt64.toNat_or _ _
  have h2 : (2 * uN x) % 18446744073709551616 = 2 ^ 1 * (uN x % 9223372036854775808) := by omega
  rw [h1, uN_shl, h2]
  exact (Nat.two_pow_add_eq_or_of_lt (i := 1) hy _).symm
theorem nat_xor {a : Nat} (h : a < 18446744073709551616) : a ^^^ 2 ^ 63 = (a + 9223372036854775808) % 18446744073709551616 := by
  have h1 : (a ^^^ 2 ^ 63) % 2 ^ 63 = a % 2 ^ 63 := by rw [Nat.xor_mod_two_pow, Nat.mod_self, Nat.xor_zero]
  have h2 : (a ^^^ 2 ^ 63) / 2 ^ 63 = (a / 2 ^ 63) ^^^ 1 := by rw [Nat.xor_div_two_pow, Nat.div_self (Nat.two_pow_pos 63)]
  have h3 : a / 2 ^ 63 = 0 ∨ a / 2 ^ 63 = 1 := by omega
  generalize a ^^^ 2 ^ 63 = t at h1 h2
  rcases h3 with h3 | h3
  · rw [h3] at h2
    have h2 : t / 2 ^ 63 = 1 := h2
    omega
  · rw [h3] at h2
    have h2 : t / 2 ^ 63 = 0 := h2
    omega
theorem uN_xor (x : Int64) : uN (x ^^^ (-9223372036854775808)) = (uN x + 9223372036854775808) % 18446744073709551616 := by
  rw [← nat_xor (uN_lt x)]
  exact UInt64.toNat_xor _ _
theorem uN_int (x : Int64) : x.toInt = if 2 * uN x < 18446744073709551616 then (uN x : Int) else (uN x : Int) - 18446744073709551616 := BitVec.toInt_eq_toNat_cond _
theorem uN_le (x y : Int64) : (x ^^^ (-9223372036854775808)) ≤ (y ^^^ (-9223372036854775808)) ↔ uN x ≤ uN y := by
  have hx := uN_lt x
  have hy := uN_lt y
  rw [Int64.le_iff_toInt_le, uN_int, uN_int, uN_xor, uN_xor]
  omega
theorem uN_sk (x : Int64) {k : Nat} (hk : k < 64) : uN (x.toUInt64 >>> ((nI k).toInt64.toUInt64 &&& Int64.toUInt64 63)).toInt64 = uN x / 2 ^ k := by
  have h : ((nI k).toInt64.toUInt64 &&& Int64.toUInt64 63).toNat % 64 = k := by
    rw [nI_l (by omega), UInt64.toNat_and]
    have e : (lN k).toUInt64.toNat = k % 2 ^ 64 := rfl
    have e2 : (Int64.toUInt64 63).toNat = 2 ^ 6 - 1 := by decide
    rw [e, e2, Nat.and_two_pow_sub_one_eq_mod]
    omega
  rw [uN_shr, h]
/-! ===== unsigned comparison by xor with the least ===== -/
theorem lN_bv (n : Nat) : (lN n).toBitVec = BitVec.ofNat 64 n := rfl
theorem lN_nat {n : Nat} (h : n < 2 ^ 64) : (lN n).toBitVec.toNat = n := by rw [lN_bv, BitVec.toNat_ofNat]; exact Nat.mod_eq_of_lt h
theorem lN_xor (a b : Nat) : lN a ^^^ lN b = lN (a ^^^ b) := by
  apply Int64.toBitVec_inj.mp; rw [Int64.toBitVec_xor, lN_bv, lN_bv, lN_bv]; apply BitVec.eq_of_getLsbD_eq; intro i hi; simp [BitVec.getLsbD_ofNat, Nat.testBit_xor, hi]
theorem lN_ti {m : Nat} (h : m < 2 ^ 64) : (lN m).toInt = if m < 2 ^ 63 then (m : Int) else (m : Int) - 2 ^ 64 := by
  have c := BitVec.toInt_eq_toNat_cond (lN m).toBitVec
  rw [lN_nat h] at c
  show (lN m).toBitVec.toInt = _
  rw [c]
  split <;> split <;> omega
theorem xor63 {x : Nat} (h : x < 2 ^ 63) : x ^^^ 2 ^ 63 = 2 ^ 63 + x := by
  apply Nat.eq_of_testBit_eq
  intro i
  rw [Nat.testBit_xor, Nat.testBit_two_pow]
  rcases Nat.lt_trichotomy i 63 with z | z | z
  · rw [Nat.testBit_two_pow_add_gt z, decide_eq_false (by omega)]; simp
  · subst z; rw [Nat.testBit_two_pow_add_eq]; simp
  · have hp : 2 ^ 64 ≤ 2 ^ i := Nat.pow_le_pow_right (by decide) z
    rw [Nat.testBit_lt_two_pow (show x < 2 ^ i by omega), Nat.testBit_lt_two_pow (show 2 ^ 63 + x < 2 ^ i by omega), decide_eq_false (by omega)]; rfl
theorem xorS {a : Nat} (h : a < 2 ^ 64) : (lN a ^^^ (-9223372036854775808)).toInt = (a : Int) - 2 ^ 63 := by
  rw [show (-9223372036854775808 : Int64) = lN (2 ^ 63) from by decide +kernel, lN_xor]
  rcases Nat.lt_or_ge a (2 ^ 63) with z | z
  · rw [xor63 z, lN_ti (by omega), if_neg (by omega)]; omega
  · obtain ⟨x, rfl⟩ : ∃ x, a = 2 ^ 63 + x := ⟨a - 2 ^ 63, by omega⟩
    rw [← xor63 (by omega), Nat.xor_assoc, Nat.xor_self, Nat.xor_zero, lN_ti (by omega), if_pos (by omega), xor63 (by omega)]; omega
theorem ultL {a b : Nat} (ha : a < 2 ^ 64) (hb : b < 2 ^ 64) : ((lN b ^^^ (-9223372036854775808)) ≤ (lN a ^^^ (-9223372036854775808))) ↔ b ≤ a := by
  rw [Int64.le_iff_toInt_le, xorS ha, xorS hb]; omega
/-! ===== Int64 masks of n low bits ===== -/
theorem cr_bits (W U M : BitVec 64) : ((W &&& U) &&& (U &&& (M ^^^ BitVec.allOnes 64))) = 0#64 ↔ (W &&& U) &&& M = W &&& U := by
  constructor
  · intro h
    apply BitVec.eq_of_getLsbD_eq
    intro i hi
    have e := congrArg (fun x => BitVec.getLsbD x i) h
    simp only [BitVec.getLsbD_and, BitVec.getLsbD_xor, BitVec.getLsbD_allOnes, BitVec.getLsbD_zero, hi, decide_true] at e ⊢
    revert e
    cases W.getLsbD i <;> cases U.getLsbD i <;> cases M.getLsbD i <;> decide
  · intro h
    apply BitVec.eq_of_getLsbD_eq
    intro i hi
    have e := congrArg (fun x => BitVec.getLsbD x i) h
    simp only [BitVec.getLsbD_and, BitVec.getLsbD_xor, BitVec.getLsbD_allOnes, BitVec.getLsbD_zero, hi, decide_true] at e ⊢
    revert e
    cases W.getLsbD i <;> cases U.getLsbD i <;> cases M.getLsbD i <;> decide
theorem cr_mask (w U m : Int64) (n : Nat) (hm : m.toBitVec.toNat = 2 ^ n - 1) : ((w &&& U) &&& (U &&& (m ^^^ (-1)))) = 0 ↔ (w &&& U).toBitVec.toNat < 2 ^ n := by
  have e0 : (-1 : Int64).toBitVec = BitVec.allOnes 64 := by decide
  have z0 : (0 : Int64).toBitVec = 0#64 := by decide
  rw [← Int64.toBitVec_inj, z0, Int64.toBitVec_and, Int64.toBitVec_and, Int64.toBitVec_and, Int64.toBitVec_xor, e0, cr_bits]
  generalize w.toBitVec &&& U.toBitVec = T
  rw [← BitVec.toNat_inj, BitVec.toNat_and, hm, Nat.and_two_pow_sub_one_eq_mod]
  constructor
  · intro h
    have t := Nat.mod_lt T.toNat (Nat.two_pow_pos n)
    rw [h] at t
    exact t
  · exact Nat.mod_eq_of_lt
theorem cr_shr (t : Int64) (x : UInt64) (n : Nat) (hx : x.toNat % 64 = n) : (t.toUInt64 >>> x).toInt64 = 0 ↔ t.toBitVec.toNat < 2 ^ n := by
  rw [← Int64.toBitVec_inj, ← BitVec.toNat_inj]
  show (t.toUInt64 >>> x).toNat = 0 ↔ t.toUInt64.toNat < 2 ^ n
  rw [UInt64.toNat_shiftRight, hx, Nat.shiftRight_eq_div_pow]
  constructor
  · intro h
    have d : t.toUInt64.toNat / 2 ^ n < 1 := by
      rw [h]
      decide
    have e := (Nat.div_lt_iff_lt_mul (Nat.two_pow_pos n)).mp d
    rw [Nat.one_mul] at e
    exact e
  · exact Nat.div_eq_of_lt
theorem cr_amt (s : Int64) : ∃ n, n < 64 ∧ s &&& 63 = lN n ∧ (s.toUInt64 &&& Int64.toUInt64 63).toNat % 64 = n := by
  have e : (s.toUInt64 &&& Int64.toUInt64 63).toNat = s.toUInt64.toNat % 2 ^ 6 := by
    rw [UInt64.toNat_and, show (Int64.toUInt64 63).toNat = 2 ^ 6 - 1 from by decide, Nat.and_two_pow_sub_one_eq_mod]
  refine ⟨s.toUInt64.toNat % 2 ^ 6, by omega, ?_, by omega⟩
  rw [← Int64.toBitVec_inj, ← BitVec.toNat_inj]
  show (s.toUInt64 &&& Int64.toUInt64 63).toNat = (BitVec.ofNat 64 (s.toUInt64.toNat % 2 ^ 6)).toNat
  rw [e, BitVec.toNat_ofNat]
  omega
end
section
def ax_vars (u : SX) : Int32 := match u with
  | (_, _, _, _, _, _, _, _, _, _, _, _, _, _, _, _, _, _, _, _, _, _, _, _, _, _, _, _, f_vars, _, _, _, _, _, _, _, _, _, _, _, _, _, _, _, _, _, _, _, _, _, _, _, _, _, _, _, _, _, _, _) => f_vars
def ax_capacity (u : SX) : Int32 := match u with
  | (_, _, _, _, _, _, _, _, _, _, _, _, _, _, _, _, _, _, _, _, _, _, _, _, _, _, _, _, _, f_capacity, _, _, _, _, _, _, _, _, _, _, _, _, _, _, _, _, _, _, _, _, _, _, _, _, _, _, _, _, _, _) => f_capacity
def ax_operands (u : SX) : Int32 := match u with
  | (_, _, _, _, _, _, _, _, _, _, _, _, _, _, _, _, _, _, _, _, _, _, _, _, _, _, _, _, _, _, f_operands, _, _, _, _, _, _, _, _, _, _, _, _, _, _, _, _, _, _, _, _, _, _, _, _, _, _, _, _, _) => f_operands
def ax_nest (u : SX) : Int32 := match u with
  | (_, _, _, _, _, _, _, _, _, _, _, _, _, _, _, _, _, _, _, _, _, _, _, _, _, _, _, _, _, _, _, f_nest, _, _, _, _, _, _, _, _, _, _, _, _, _, _, _, _, _, _, _, _, _, _, _, _, _, _, _, _) => f_nest
def ax_used (u : SX) : Int32 := match u with
  | (_, _, _, _, _, _, _, _, _, _, _, _, _, _, _, _, _, _, _, _, _, _, _, _, _, _, _, _, _, _, _, _, f_used, _, _, _, _, _, _, _, _, _, _, _, _, _, _, _, _, _, _, _, _, _, _, _, _, _, _, _) => f_used
def ax_tail (u : SX) : Int32 := match u with
  | (_, _, _, _, _, _, _, _, _, _, _, _, _, _, _, _, _, _, _, _, _, _, _, _, _, _, _, _, _, _, _, _, _, f_tail, _, _, _, _, _, _, _, _, _, _, _, _, _, _, _, _, _, _, _, _, _, _, _, _, _, _) => f_tail
def ax_loaded (u : SX) : Int32 := match u with
  | (_, _, _, _, _, _, _, _, _, _, _, _, _, _, _, _, _, _, _, _, _, _, _, _, _, _, _, _, _, _, _, _, _, _, f_loaded, _, _, _, _, _, _, _, _, _, _, _, _, _, _, _, _, _, _, _, _, _, _, _, _, _) => f_loaded
def ax_depth (u : SX) : Int32 := match u with
  | (_, _, _, _, _, _, _, _, _, _, _, _, _, _, _, _, _, _, _, _, _, _, _, _, _, _, _, _, _, _, _, _, _, _, _, f_depth, _, _, _, _, _, _, _, _, _, _, _, _, _, _, _, _, _, _, _, _, _, _, _, _) => f_depth
def ax_open (u : SX) : Int32 := match u with
  | (_, _, _, _, _, _, _, _, _, _, _, _, _, _, _, _, _, _, _, _, _, _, _, _, _, _, _, _, _, _, _, _, _, _, _, _, f_open, _, _, _, _, _, _, _, _, _, _, _, _, _, _, _, _, _, _, _, _, _, _, _) => f_open
def ax_stage (u : SX) : Int32 := match u with
  | (_, _, _, _, _, _, _, _, _, _, _, _, _, _, _, _, _, _, _, _, _, _, _, _, _, _, _, _, _, _, _, _, _, _, _, _, _, f_stage, _, _, _, _, _, _, _, _, _, _, _, _, _, _, _, _, _, _, _, _, _, _) => f_stage
def ax_divideAt (u : SX) : Int32 := match u with
  | (_, _, _, _, _, _, _, _, _, _, _, _, _, _, _, _, _, _, _, _, _, _, _, _, _, _, _, _, _, _, _, _, _, _, _, _, _, _, f_divideAt, _, _, _, _, _, _, _, _, _, _, _, _, _, _, _, _, _, _, _, _, _) => f_divideAt
def ax_size (u : SX) : Int32 := match u with
  | (_, _, _, _, _, _, _, _, _, _, _, _, _, _, _, _, _, _, _, _, _, _, _, _, _, _, _, _, _, _, _, _, _, _, _, _, _, _, _, f_size, _, _, _, _, _, _, _, _, _, _, _, _, _, _, _, _, _, _, _, _) => f_size
def ax_calls (u : SX) : Int32 := match u with
  | (_, _, _, _, _, _, _, _, _, _, _, _, _, _, _, _, _, _, _, _, _, _, _, _, _, _, _, _, _, _, _, _, _, _, _, _, _, _, _, _, f_calls, _, _, _, _, _, _, _, _, _, _, _, _, _, _, _, _, _, _, _) => f_calls
def ax_acc (u : SX) : Int32 := match u with
  | (_, _, _, _, _, _, _, _, _, _, _, _, _, _, _, _, _, _, _, _, _, _, _, _, _, _, _, _, _, _, _, _, _, _, _, _, _, _, _, _, _, f_acc, _, _, _, _, _, _, _, _, _, _, _, _, _, _, _, _, _, _) => f_acc
def ax_carry (u : SX) : Int32 := match u with
  | (_, _, _, _, _, _, _, _, _, _, _, _, _, _, _, _, _, _, _, _, _, _, _, _, _, _, _, _, _, _, _, _, _, _, _, _, _, _, _, _, _, _, f_carry, _, _, _, _, _, _, _, _, _, _, _, _, _, _, _, _, _) => f_carry
def ax_index (u : SX) : Int32 := match u with
  | (_, _, _, _, _, _, _, _, _, _, _, _, _, _, _, _, _, _, _, _, _, _, _, _, _, _, _, _, _, _, _, _, _, _, _, _, _, _, _, _, _, _, _, f_index, _, _, _, _, _, _, _, _, _, _, _, _, _, _, _, _) => f_index
def ax_pc (u : SX) : Int32 := match u with
  | (_, _, _, _, _, _, _, _, _, _, _, _, _, _, _, _, _, _, _, _, _, _, _, _, _, _, _, _, _, _, _, _, _, _, _, _, _, _, _, _, _, _, _, _, f_pc, _, _, _, _, _, _, _, _, _, _, _, _, _, _, _) => f_pc
def ax_kinds (u : SX) : Nat → Int32 := match u with
  | (_, _, _, _, _, _, _, _, _, _, _, _, _, _, _, _, _, _, _, _, _, _, _, _, _, _, _, _, _, _, _, _, _, _, _, _, _, _, _, _, _, _, _, _, _, a_kinds, _, _, _, _, _, _, _, _, _, _, _, _, _, _) => a_kinds
def ax_args (u : SX) : Nat → Int32 := match u with
  | (_, _, _, _, _, _, _, _, _, _, _, _, _, _, _, _, _, _, _, _, _, _, _, _, _, _, _, _, _, _, _, _, _, _, _, _, _, _, _, _, _, _, _, _, _, _, a_args, _, _, _, _, _, _, _, _, _, _, _, _, _) => a_args
def ax_first (u : SX) : Nat → Int32 := match u with
  | (_, _, _, _, _, _, _, _, _, _, _, _, _, _, _, _, _, _, _, _, _, _, _, _, _, _, _, _, _, _, _, _, _, _, _, _, _, _, _, _, _, _, _, _, _, _, _, a_first, _, _, _, _, _, _, _, _, _, _, _, _) => a_first
def ax_match (u : SX) : Nat → Int32 := match u with
  | (_, _, _, _, _, _, _, _, _, _, _, _, _, _, _, _, _, _, _, _, _, _, _, _, _, _, _, _, _, _, _, _, _, _, _, _, _, _, _, _, _, _, _, _, _, _, _, _, a_match, _, _, _, _, _, _, _, _, _, _, _) => a_match
def ax_openAt (u : SX) : Nat → Int32 := match u with
  | (_, _, _, _, _, _, _, _, _, _, _, _, _, _, _, _, _, _, _, _, _, _, _, _, _, _, _, _, _, _, _, _, _, _, _, _, _, _, _, _, _, _, _, _, _, _, _, _, _, a_openAt, _, _, _, _, _, _, _, _, _, _) => a_openAt
def ax_places (u : SX) : Nat → Int32 := match u with
  | (_, _, _, _, _, _, _, _, _, _, _, _, _, _, _, _, _, _, _, _, _, _, _, _, _, _, _, _, _, _, _, _, _, _, _, _, _, _, _, _, _, _, _, _, _, _, _, _, _, _, a_places, _, _, _, _, _, _, _, _, _) => a_places
def ax_dones (u : SX) : Nat → Int32 := match u with
  | (_, _, _, _, _, _, _, _, _, _, _, _, _, _, _, _, _, _, _, _, _, _, _, _, _, _, _, _, _, _, _, _, _, _, _, _, _, _, _, _, _, _, _, _, _, _, _, _, _, _, _, a_dones, _, _, _, _, _, _, _, _) => a_dones
def ax_wideVars (u : SX) : Nat → Int32 := match u with
  | (_, _, _, _, _, _, _, _, _, _, _, _, _, _, _, _, _, _, _, _, _, _, _, _, _, _, _, _, _, _, _, _, _, _, _, _, _, _, _, _, _, _, _, _, _, _, _, _, _, _, _, _, a_wideVars, _, _, _, _, _, _, _) => a_wideVars
def ax_wideStack (u : SX) : Nat → Int32 := match u with
  | (_, _, _, _, _, _, _, _, _, _, _, _, _, _, _, _, _, _, _, _, _, _, _, _, _, _, _, _, _, _, _, _, _, _, _, _, _, _, _, _, _, _, _, _, _, _, _, _, _, _, _, _, _, a_wideStack, _, _, _, _, _, _) => a_wideStack
def ax_codeOp (u : SX) : Nat → Int32 := match u with
  | (_, _, _, _, _, _, _, _, _, _, _, _, _, _, _, _, _, _, _, _, _, _, _, _, _, _, _, _, _, _, _, _, _, _, _, _, _, _, _, _, _, _, _, _, _, _, _, _, _, _, _, _, _, _, a_codeOp, _, _, _, _, _) => a_codeOp
def ax_codeArg (u : SX) : Nat → Int32 := match u with
  | (_, _, _, _, _, _, _, _, _, _, _, _, _, _, _, _, _, _, _, _, _, _, _, _, _, _, _, _, _, _, _, _, _, _, _, _, _, _, _, _, _, _, _, _, _, _, _, _, _, _, _, _, _, _, _, a_codeArg, _, _, _, _) => a_codeArg
def ax_entry (u : SX) : Nat → Int32 := match u with
  | (_, _, _, _, _, _, _, _, _, _, _, _, _, _, _, _, _, _, _, _, _, _, _, _, _, _, _, _, _, _, _, _, _, _, _, _, _, _, _, _, _, _, _, _, _, _, _, _, _, _, _, _, _, _, _, _, a_entry, _, _, _) => a_entry
def ax_helper (u : SX) : Nat → Int32 := match u with
  | (_, _, _, _, _, _, _, _, _, _, _, _, _, _, _, _, _, _, _, _, _, _, _, _, _, _, _, _, _, _, _, _, _, _, _, _, _, _, _, _, _, _, _, _, _, _, _, _, _, _, _, _, _, _, _, _, _, a_helper, _, _) => a_helper
def ax_mem (u : SX) : Nat → Int32 := match u with
  | (_, _, _, _, _, _, _, _, _, _, _, _, _, _, _, _, _, _, _, _, _, _, _, _, _, _, _, _, _, _, _, _, _, _, _, _, _, _, _, _, _, _, _, _, _, _, _, _, _, _, _, _, _, _, _, _, _, _, a_mem, _) => a_mem
def ax_returns (u : SX) : Nat → Int32 := match u with
  | (_, _, _, _, _, _, _, _, _, _, _, _, _, _, _, _, _, _, _, _, _, _, _, _, _, _, _, _, _, _, _, _, _, _, _, _, _, _, _, _, _, _, _, _, _, _, _, _, _, _, _, _, _, _, _, _, _, _, _, a_returns) => a_returns
def sx_vars (u : SX) (x : Int32) : SX := match u with
  | (f_LDI, f_LDA, f_STA, f_ADC, f_SBC, f_ANA, f_XRA, f_ORA, f_ROL, f_ROR, f_DEC, f_CLC, f_LDX, f_JZ, f_JNZ, f_JC, f_JNC, f_JPL, f_JSR, f_RTS, f_HLT, f_STACK, f_REST, f_COUNT, f_SIGN_Q, f_SIGN_A, f_OPA, f_OPB, _, f_capacity, f_operands, f_nest, f_used, f_tail, f_loaded, f_depth, f_open, f_stage, f_divideAt, f_size, f_calls, f_acc, f_carry, f_index, f_pc, a_kinds, a_args, a_first, a_match, a_openAt, a_places, a_dones, a_wideVars, a_wideStack, a_codeOp, a_codeArg, a_entry, a_helper, a_mem, a_returns) => (f_LDI, f_LDA, f_STA, f_ADC, f_SBC, f_ANA, f_XRA, f_ORA, f_ROL, f_ROR, f_DEC, f_CLC, f_LDX, f_JZ, f_JNZ, f_JC, f_JNC, f_JPL, f_JSR, f_RTS, f_HLT, f_STACK, f_REST, f_COUNT, f_SIGN_Q, f_SIGN_A, f_OPA, f_OPB, x, f_capacity, f_operands, f_nest, f_used, f_tail, f_loaded, f_depth, f_open, f_stage, f_divideAt, f_size, f_calls, f_acc, f_carry, f_index, f_pc, a_kinds, a_args, a_first, a_match, a_openAt, a_places, a_dones, a_wideVars, a_wideStack, a_codeOp, a_codeArg, a_entry, a_helper, a_mem, a_returns)
def sx_capacity (u : SX) (x : Int32) : SX := match u with
  | (f_LDI, f_LDA, f_STA, f_ADC, f_SBC, f_ANA, f_XRA, f_ORA, f_ROL, f_ROR, f_DEC, f_CLC, f_LDX, f_JZ, f_JNZ, f_JC, f_JNC, f_JPL, f_JSR, f_RTS, f_HLT, f_STACK, f_REST, f_COUNT, f_SIGN_Q, f_SIGN_A, f_OPA, f_OPB, f_vars, _, f_operands, f_nest, f_used, f_tail, f_loaded, f_depth, f_open, f_stage, f_divideAt, f_size, f_calls, f_acc, f_carry, f_index, f_pc, a_kinds, a_args, a_first, a_match, a_openAt, a_places, a_dones, a_wideVars, a_wideStack, a_codeOp, a_codeArg, a_entry, a_helper, a_mem, a_returns) => (f_LDI, f_LDA, f_STA, f_ADC, f_SBC, f_ANA, f_XRA, f_ORA, f_ROL, f_ROR, f_DEC, f_CLC, f_LDX, f_JZ, f_JNZ, f_JC, f_JNC, f_JPL, f_JSR, f_RTS, f_HLT, f_STACK, f_REST, f_COUNT, f_SIGN_Q, f_SIGN_A, f_OPA, f_OPB, f_vars, x, f_operands, f_nest, f_used, f_tail, f_loaded, f_depth, f_open, f_stage, f_divideAt, f_size, f_calls, f_acc, f_carry, f_index, f_pc, a_kinds, a_args, a_first, a_match, a_openAt, a_places, a_dones, a_wideVars, a_wideStack, a_codeOp, a_codeArg, a_entry, a_helper, a_mem, a_returns)
def sx_operands (u : SX) (x : Int32) : SX := match u with
  | (f_LDI, f_LDA, f_STA, f_ADC, f_SBC, f_ANA, f_XRA, f_ORA, f_ROL, f_ROR, f_DEC, f_CLC, f_LDX, f_JZ, f_JNZ, f_JC, f_JNC, f_JPL, f_JSR, f_RTS, f_HLT, f_STACK, f_REST, f_COUNT, f_SIGN_Q, f_SIGN_A, f_OPA, f_OPB, f_vars, f_capacity, _, f_nest, f_used, f_tail, f_loaded, f_depth, f_open, f_stage, f_divideAt, f_size, f_calls, f_acc, f_carry, f_index, f_pc, a_kinds, a_args, a_first, a_match, a_openAt, a_places, a_dones, a_wideVars, a_wideStack, a_codeOp, a_codeArg, a_entry, a_helper, a_mem, a_returns) => (f_LDI, f_LDA, f_STA, f_ADC, f_SBC, f_ANA, f_XRA, f_ORA, f_ROL, f_ROR, f_DEC, f_CLC, f_LDX, f_JZ, f_JNZ, f_JC, f_JNC, f_JPL, f_JSR, f_RTS, f_HLT, f_STACK, f_REST, f_COUNT, f_SIGN_Q, f_SIGN_A, f_OPA, f_OPB, f_vars, f_capacity, x, f_nest, f_used, f_tail, f_loaded, f_depth, f_open, f_stage, f_divideAt, f_size, f_calls, f_acc, f_carry, f_index, f_pc, a_kinds, a_args, a_first, a_match, a_openAt, a_places, a_dones, a_wideVars, a_wideStack, a_codeOp, a_codeArg, a_entry, a_helper, a_mem, a_returns)
def sx_nest (u : SX) (x : Int32) : SX := match u with
  | (f_LDI, f_LDA, f_STA, f_ADC, f_SBC, f_ANA, f_XRA, f_ORA, f_ROL, f_ROR, f_DEC, f_CLC, f_LDX, f_JZ, f_JNZ, f_JC, f_JNC, f_JPL, f_JSR, f_RTS, f_HLT, f_STACK, f_REST, f_COUNT, f_SIGN_Q, f_SIGN_A, f_OPA, f_OPB, f_vars, f_capacity, f_operands, _, f_used, f_tail, f_loaded, f_depth, f_open, f_stage, f_divideAt, f_size, f_calls, f_acc, f_carry, f_index, f_pc, a_kinds, a_args, a_first, a_match, a_openAt, a_places, a_dones, a_wideVars, a_wideStack, a_codeOp, a_codeArg, a_entry, a_helper, a_mem, a_returns) => (f_LDI, f_LDA, f_STA, f_ADC, f_SBC, f_ANA, f_XRA, f_ORA, f_ROL, f_ROR, f_DEC, f_CLC, f_LDX, f_JZ, f_JNZ, f_JC, f_JNC, f_JPL, f_JSR, f_RTS, f_HLT, f_STACK, f_REST, f_COUNT, f_SIGN_Q, f_SIGN_A, f_OPA, f_OPB, f_vars, f_capacity, f_operands, x, f_used, f_tail, f_loaded, f_depth, f_open, f_stage, f_divideAt, f_size, f_calls, f_acc, f_carry, f_index, f_pc, a_kinds, a_args, a_first, a_match, a_openAt, a_places, a_dones, a_wideVars, a_wideStack, a_codeOp, a_codeArg, a_entry, a_helper, a_mem, a_returns)
def sx_used (u : SX) (x : Int32) : SX := match u with
  | (f_LDI, f_LDA, f_STA, f_ADC, f_SBC, f_ANA, f_XRA, f_ORA, f_ROL, f_ROR, f_DEC, f_CLC, f_LDX, f_JZ, f_JNZ, f_JC, f_JNC, f_JPL, f_JSR, f_RTS, f_HLT, f_STACK, f_REST, f_COUNT, f_SIGN_Q, f_SIGN_A, f_OPA, f_OPB, f_vars, f_capacity, f_operands, f_nest, _, f_tail, f_loaded, f_depth, f_open, f_stage, f_divideAt, f_size, f_calls, f_acc, f_carry, f_index, f_pc, a_kinds, a_args, a_first, a_match, a_openAt, a_places, a_dones, a_wideVars, a_wideStack, a_codeOp, a_codeArg, a_entry, a_helper, a_mem, a_returns) => (f_LDI, f_LDA, f_STA, f_ADC, f_SBC, f_ANA, f_XRA, f_ORA, f_ROL, f_ROR, f_DEC, f_CLC, f_LDX, f_JZ, f_JNZ, f_JC, f_JNC, f_JPL, f_JSR, f_RTS, f_HLT, f_STACK, f_REST, f_COUNT, f_SIGN_Q, f_SIGN_A, f_OPA, f_OPB, f_vars, f_capacity, f_operands, f_nest, x, f_tail, f_loaded, f_depth, f_open, f_stage, f_divideAt, f_size, f_calls, f_acc, f_carry, f_index, f_pc, a_kinds, a_args, a_first, a_match, a_openAt, a_places, a_dones, a_wideVars, a_wideStack, a_codeOp, a_codeArg, a_entry, a_helper, a_mem, a_returns)
def sx_tail (u : SX) (x : Int32) : SX := match u with
  | (f_LDI, f_LDA, f_STA, f_ADC, f_SBC, f_ANA, f_XRA, f_ORA, f_ROL, f_ROR, f_DEC, f_CLC, f_LDX, f_JZ, f_JNZ, f_JC, f_JNC, f_JPL, f_JSR, f_RTS, f_HLT, f_STACK, f_REST, f_COUNT, f_SIGN_Q, f_SIGN_A, f_OPA, f_OPB, f_vars, f_capacity, f_operands, f_nest, f_used, _, f_loaded, f_depth, f_open, f_stage, f_divideAt, f_size, f_calls, f_acc, f_carry, f_index, f_pc, a_kinds, a_args, a_first, a_match, a_openAt, a_places, a_dones, a_wideVars, a_wideStack, a_codeOp, a_codeArg, a_entry, a_helper, a_mem, a_returns) => (f_LDI, f_LDA, f_STA, f_ADC, f_SBC, f_ANA, f_XRA, f_ORA, f_ROL, f_ROR, f_DEC, f_CLC, f_LDX, f_JZ, f_JNZ, f_JC, f_JNC, f_JPL, f_JSR, f_RTS, f_HLT, f_STACK, f_REST, f_COUNT, f_SIGN_Q, f_SIGN_A, f_OPA, f_OPB, f_vars, f_capacity, f_operands, f_nest, f_used, x, f_loaded, f_depth, f_open, f_stage, f_divideAt, f_size, f_calls, f_acc, f_carry, f_index, f_pc, a_kinds, a_args, a_first, a_match, a_openAt, a_places, a_dones, a_wideVars, a_wideStack, a_codeOp, a_codeArg, a_entry, a_helper, a_mem, a_returns)
def sx_loaded (u : SX) (x : Int32) : SX := match u with
  | (f_LDI, f_LDA, f_STA, f_ADC, f_SBC, f_ANA, f_XRA, f_ORA, f_ROL, f_ROR, f_DEC, f_CLC, f_LDX, f_JZ, f_JNZ, f_JC, f_JNC, f_JPL, f_JSR, f_RTS, f_HLT, f_STACK, f_REST, f_COUNT, f_SIGN_Q, f_SIGN_A, f_OPA, f_OPB, f_vars, f_capacity, f_operands, f_nest, f_used, f_tail, _, f_depth, f_open, f_stage, f_divideAt, f_size, f_calls, f_acc, f_carry, f_index, f_pc, a_kinds, a_args, a_first, a_match, a_openAt, a_places, a_dones, a_wideVars, a_wideStack, a_codeOp, a_codeArg, a_entry, a_helper, a_mem, a_returns) => (f_LDI, f_LDA, f_STA, f_ADC, f_SBC, f_ANA, f_XRA, f_ORA, f_ROL, f_ROR, f_DEC, f_CLC, f_LDX, f_JZ, f_JNZ, f_JC, f_JNC, f_JPL, f_JSR, f_RTS, f_HLT, f_STACK, f_REST, f_COUNT, f_SIGN_Q, f_SIGN_A, f_OPA, f_OPB, f_vars, f_capacity, f_operands, f_nest, f_used, f_tail, x, f_depth, f_open, f_stage, f_divideAt, f_size, f_calls, f_acc, f_carry, f_index, f_pc, a_kinds, a_args, a_first, a_match, a_openAt, a_places, a_dones, a_wideVars, a_wideStack, a_codeOp, a_codeArg, a_entry, a_helper, a_mem, a_returns)
def sx_depth (u : SX) (x : Int32) : SX := match u with
  | (f_LDI, f_LDA, f_STA, f_ADC, f_SBC, f_ANA, f_XRA, f_ORA, f_ROL, f_ROR, f_DEC, f_CLC, f_LDX, f_JZ, f_JNZ, f_JC, f_JNC, f_JPL, f_JSR, f_RTS, f_HLT, f_STACK, f_REST, f_COUNT, f_SIGN_Q, f_SIGN_A, f_OPA, f_OPB, f_vars, f_capacity, f_operands, f_nest, f_used, f_tail, f_loaded, _, f_open, f_stage, f_divideAt, f_size, f_calls, f_acc, f_carry, f_index, f_pc, a_kinds, a_args, a_first, a_match, a_openAt, a_places, a_dones, a_wideVars, a_wideStack, a_codeOp, a_codeArg, a_entry, a_helper, a_mem, a_returns) => (f_LDI, f_LDA, f_STA, f_ADC, f_SBC, f_ANA, f_XRA, f_ORA, f_ROL, f_ROR, f_DEC, f_CLC, f_LDX, f_JZ, f_JNZ, f_JC, f_JNC, f_JPL, f_JSR, f_RTS, f_HLT, f_STACK, f_REST, f_COUNT, f_SIGN_Q, f_SIGN_A, f_OPA, f_OPB, f_vars, f_capacity, f_operands, f_nest, f_used, f_tail, f_loaded, x, f_open, f_stage, f_divideAt, f_size, f_calls, f_acc, f_carry, f_index, f_pc, a_kinds, a_args, a_first, a_match, a_openAt, a_places, a_dones, a_wideVars, a_wideStack, a_codeOp, a_codeArg, a_entry, a_helper, a_mem, a_returns)
def sx_open (u : SX) (x : Int32) : SX := match u with
  | (f_LDI, f_LDA, f_STA, f_ADC, f_SBC, f_ANA, f_XRA, f_ORA, f_ROL, f_ROR, f_DEC, f_CLC, f_LDX, f_JZ, f_JNZ, f_JC, f_JNC, f_JPL, f_JSR, f_RTS, f_HLT, f_STACK, f_REST, f_COUNT, f_SIGN_Q, f_SIGN_A, f_OPA, f_OPB, f_vars, f_capacity, f_operands, f_nest, f_used, f_tail, f_loaded, f_depth, _, f_stage, f_divideAt, f_size, f_calls, f_acc, f_carry, f_index, f_pc, a_kinds, a_args, a_first, a_match, a_openAt, a_places, a_dones, a_wideVars, a_wideStack, a_codeOp, a_codeArg, a_entry, a_helper, a_mem, a_returns) => (f_LDI, f_LDA, f_STA, f_ADC, f_SBC, f_ANA, f_XRA, f_ORA, f_ROL, f_ROR, f_DEC, f_CLC, f_LDX, f_JZ, f_JNZ, f_JC, f_JNC, f_JPL, f_JSR, f_RTS, f_HLT, f_STACK, f_REST, f_COUNT, f_SIGN_Q, f_SIGN_A, f_OPA, f_OPB, f_vars, f_capacity, f_operands, f_nest, f_used, f_tail, f_loaded, f_depth, x, f_stage, f_divideAt, f_size, f_calls, f_acc, f_carry, f_index, f_pc, a_kinds, a_args, a_first, a_match, a_openAt, a_places, a_dones, a_wideVars, a_wideStack, a_codeOp, a_codeArg, a_entry, a_helper, a_mem, a_returns)
def sx_stage (u : SX) (x : Int32) : SX := match u with
  | (f_LDI, f_LDA, f_STA, f_ADC, f_SBC, f_ANA, f_XRA, f_ORA, f_ROL, f_ROR, f_DEC, f_CLC, f_LDX, f_JZ, f_JNZ, f_JC, f_JNC, f_JPL, f_JSR, f_RTS, f_HLT, f_STACK, f_REST, f_COUNT, f_SIGN_Q, f_SIGN_A, f_OPA, f_OPB, f_vars, f_capacity, f_operands, f_nest, f_used, f_tail, f_loaded, f_depth, f_open, _, f_divideAt, f_size, f_calls, f_acc, f_carry, f_index, f_pc, a_kinds, a_args, a_first, a_match, a_openAt, a_places, a_dones, a_wideVars, a_wideStack, a_codeOp, a_codeArg, a_entry, a_helper, a_mem, a_returns) => (f_LDI, f_LDA, f_STA, f_ADC, f_SBC, f_ANA, f_XRA, f_ORA, f_ROL, f_ROR, f_DEC, f_CLC, f_LDX, f_JZ, f_JNZ, f_JC, f_JNC, f_JPL, f_JSR, f_RTS, f_HLT, f_STACK, f_REST, f_COUNT, f_SIGN_Q, f_SIGN_A, f_OPA, f_OPB, f_vars, f_capacity, f_operands, f_nest, f_used, f_tail, f_loaded, f_depth, f_open, x, f_divideAt, f_size, f_calls, f_acc, f_carry, f_index, f_pc, a_kinds, a_args, a_first, a_match, a_openAt, a_places, a_dones, a_wideVars, a_wideStack, a_codeOp, a_codeArg, a_entry, a_helper, a_mem, a_returns)
def sx_divideAt (u : SX) (x : Int32) : SX := match u with
  | (f_LDI, f_LDA, f_STA, f_ADC, f_SBC, f_ANA, f_XRA, f_ORA, f_ROL, f_ROR, f_DEC, f_CLC, f_LDX, f_JZ, f_JNZ, f_JC, f_JNC, f_JPL, f_JSR, f_RTS, f_HLT, f_STACK, f_REST, f_COUNT, f_SIGN_Q, f_SIGN_A, f_OPA, f_OPB, f_vars, f_capacity, f_operands, f_nest, f_used, f_tail, f_loaded, f_depth, f_open, f_stage, _, f_size, f_calls, f_acc, f_carry, f_index, f_pc, a_kinds, a_args, a_first, a_match, a_openAt, a_places, a_dones, a_wideVars, a_wideStack, a_codeOp, a_codeArg, a_entry, a_helper, a_mem, a_returns) => (f_LDI, f_LDA, f_STA, f_ADC, f_SBC, f_ANA, f_XRA, f_ORA, f_ROL, f_ROR, f_DEC, f_CLC, f_LDX, f_JZ, f_JNZ, f_JC, f_JNC, f_JPL, f_JSR, f_RTS, f_HLT, f_STACK, f_REST, f_COUNT, f_SIGN_Q, f_SIGN_A, f_OPA, f_OPB, f_vars, f_capacity, f_operands, f_nest, f_used, f_tail, f_loaded, f_depth, f_open, f_stage, x, f_size, f_calls, f_acc, f_carry, f_index, f_pc, a_kinds, a_args, a_first, a_match, a_openAt, a_places, a_dones, a_wideVars, a_wideStack, a_codeOp, a_codeArg, a_entry, a_helper, a_mem, a_returns)
def sx_size (u : SX) (x : Int32) : SX := match u with
  | (f_LDI, f_LDA, f_STA, f_ADC, f_SBC, f_ANA, f_XRA, f_ORA, f_ROL, f_ROR, f_DEC, f_CLC, f_LDX, f_JZ, f_JNZ, f_JC, f_JNC, f_JPL, f_JSR, f_RTS, f_HLT, f_STACK, f_REST, f_COUNT, f_SIGN_Q, f_SIGN_A, f_OPA, f_OPB, f_vars, f_capacity, f_operands, f_nest, f_used, f_tail, f_loaded, f_depth, f_open, f_stage, f_divideAt, _, f_calls, f_acc, f_carry, f_index, f_pc, a_kinds, a_args, a_first, a_match, a_openAt, a_places, a_dones, a_wideVars, a_wideStack, a_codeOp, a_codeArg, a_entry, a_helper, a_mem, a_returns) => (f_LDI, f_LDA, f_STA, f_ADC, f_SBC, f_ANA, f_XRA, f_ORA, f_ROL, f_ROR, f_DEC, f_CLC, f_LDX, f_JZ, f_JNZ, f_JC, f_JNC, f_JPL, f_JSR, f_RTS, f_HLT, f_STACK, f_REST, f_COUNT, f_SIGN_Q, f_SIGN_A, f_OPA, f_OPB, f_vars, f_capacity, f_operands, f_nest, f_used, f_tail, f_loaded, f_depth, f_open, f_stage, f_divideAt, x, f_calls, f_acc, f_carry, f_index, f_pc, a_kinds, a_args, a_first, a_match, a_openAt, a_places, a_dones, a_wideVars, a_wideStack, a_codeOp, a_codeArg, a_entry, a_helper, a_mem, a_returns)
def sx_calls (u : SX) (x : Int32) : SX := match u with
  | (f_LDI, f_LDA, f_STA, f_ADC, f_SBC, f_ANA, f_XRA, f_ORA, f_ROL, f_ROR, f_DEC, f_CLC, f_LDX, f_JZ, f_JNZ, f_JC, f_JNC, f_JPL, f_JSR, f_RTS, f_HLT, f_STACK, f_REST, f_COUNT, f_SIGN_Q, f_SIGN_A, f_OPA, f_OPB, f_vars, f_capacity, f_operands, f_nest, f_used, f_tail, f_loaded, f_depth, f_open, f_stage, f_divideAt, f_size, _, f_acc, f_carry, f_index, f_pc, a_kinds, a_args, a_first, a_match, a_openAt, a_places, a_dones, a_wideVars, a_wideStack, a_codeOp, a_codeArg, a_entry, a_helper, a_mem, a_returns) => (f_LDI, f_LDA, f_STA, f_ADC, f_SBC, f_ANA, f_XRA, f_ORA, f_ROL, f_ROR, f_DEC, f_CLC, f_LDX, f_JZ, f_JNZ, f_JC, f_JNC, f_JPL, f_JSR, f_RTS, f_HLT, f_STACK, f_REST, f_COUNT, f_SIGN_Q, f_SIGN_A, f_OPA, f_OPB, f_vars, f_capacity, f_operands, f_nest, f_used, f_tail, f_loaded, f_depth, f_open, f_stage, f_divideAt, f_size, x, f_acc, f_carry, f_index, f_pc, a_kinds, a_args, a_first, a_match, a_openAt, a_places, a_dones, a_wideVars, a_wideStack, a_codeOp, a_codeArg, a_entry, a_helper, a_mem, a_returns)
def sx_acc (u : SX) (x : Int32) : SX := match u with
  | (f_LDI, f_LDA, f_STA, f_ADC, f_SBC, f_ANA, f_XRA, f_ORA, f_ROL, f_ROR, f_DEC, f_CLC, f_LDX, f_JZ, f_JNZ, f_JC, f_JNC, f_JPL, f_JSR, f_RTS, f_HLT, f_STACK, f_REST, f_COUNT, f_SIGN_Q, f_SIGN_A, f_OPA, f_OPB, f_vars, f_capacity, f_operands, f_nest, f_used, f_tail, f_loaded, f_depth, f_open, f_stage, f_divideAt, f_size, f_calls, _, f_carry, f_index, f_pc, a_kinds, a_args, a_first, a_match, a_openAt, a_places, a_dones, a_wideVars, a_wideStack, a_codeOp, a_codeArg, a_entry, a_helper, a_mem, a_returns) => (f_LDI, f_LDA, f_STA, f_ADC, f_SBC, f_ANA, f_XRA, f_ORA, f_ROL, f_ROR, f_DEC, f_CLC, f_LDX, f_JZ, f_JNZ, f_JC, f_JNC, f_JPL, f_JSR, f_RTS, f_HLT, f_STACK, f_REST, f_COUNT, f_SIGN_Q, f_SIGN_A, f_OPA, f_OPB, f_vars, f_capacity, f_operands, f_nest, f_used, f_tail, f_loaded, f_depth, f_open, f_stage, f_divideAt, f_size, f_calls, x, f_carry, f_index, f_pc, a_kinds, a_args, a_first, a_match, a_openAt, a_places, a_dones, a_wideVars, a_wideStack, a_codeOp, a_codeArg, a_entry, a_helper, a_mem, a_returns)
def sx_carry (u : SX) (x : Int32) : SX := match u with
  | (f_LDI, f_LDA, f_STA, f_ADC, f_SBC, f_ANA, f_XRA, f_ORA, f_ROL, f_ROR, f_DEC, f_CLC, f_LDX, f_JZ, f_JNZ, f_JC, f_JNC, f_JPL, f_JSR, f_RTS, f_HLT, f_STACK, f_REST, f_COUNT, f_SIGN_Q, f_SIGN_A, f_OPA, f_OPB, f_vars, f_capacity, f_operands, f_nest, f_used, f_tail, f_loaded, f_depth, f_open, f_stage, f_divideAt, f_size, f_calls, f_acc, _, f_index, f_pc, a_kinds, a_args, a_first, a_match, a_openAt, a_places, a_dones, a_wideVars, a_wideStack, a_codeOp, a_codeArg, a_entry, a_helper, a_mem, a_returns) => (f_LDI, f_LDA, f_STA, f_ADC, f_SBC, f_ANA, f_XRA, f_ORA, f_ROL, f_ROR, f_DEC, f_CLC, f_LDX, f_JZ, f_JNZ, f_JC, f_JNC, f_JPL, f_JSR, f_RTS, f_HLT, f_STACK, f_REST, f_COUNT, f_SIGN_Q, f_SIGN_A, f_OPA, f_OPB, f_vars, f_capacity, f_operands, f_nest, f_used, f_tail, f_loaded, f_depth, f_open, f_stage, f_divideAt, f_size, f_calls, f_acc, x, f_index, f_pc, a_kinds, a_args, a_first, a_match, a_openAt, a_places, a_dones, a_wideVars, a_wideStack, a_codeOp, a_codeArg, a_entry, a_helper, a_mem, a_returns)
def sx_index (u : SX) (x : Int32) : SX := match u with
  | (f_LDI, f_LDA, f_STA, f_ADC, f_SBC, f_ANA, f_XRA, f_ORA, f_ROL, f_ROR, f_DEC, f_CLC, f_LDX, f_JZ, f_JNZ, f_JC, f_JNC, f_JPL, f_JSR, f_RTS, f_HLT, f_STACK, f_REST, f_COUNT, f_SIGN_Q, f_SIGN_A, f_OPA, f_OPB, f_vars, f_capacity, f_operands, f_nest, f_used, f_tail, f_loaded, f_depth, f_open, f_stage, f_divideAt, f_size, f_calls, f_acc, f_carry, _, f_pc, a_kinds, a_args, a_first, a_match, a_openAt, a_places, a_dones, a_wideVars, a_wideStack, a_codeOp, a_codeArg, a_entry, a_helper, a_mem, a_returns) => (f_LDI, f_LDA, f_STA, f_ADC, f_SBC, f_ANA, f_XRA, f_ORA, f_ROL, f_ROR, f_DEC, f_CLC, f_LDX, f_JZ, f_JNZ, f_JC, f_JNC, f_JPL, f_JSR, f_RTS, f_HLT, f_STACK, f_REST, f_COUNT, f_SIGN_Q, f_SIGN_A, f_OPA, f_OPB, f_vars, f_capacity, f_operands, f_nest, f_used, f_tail, f_loaded, f_depth, f_open, f_stage, f_divideAt, f_size, f_calls, f_acc, f_carry, x, f_pc, a_kinds, a_args, a_first, a_match, a_openAt, a_places, a_dones, a_wideVars, a_wideStack, a_codeOp, a_codeArg, a_entry, a_helper, a_mem, a_returns)
def sx_pc (u : SX) (x : Int32) : SX := match u with
  | (f_LDI, f_LDA, f_STA, f_ADC, f_SBC, f_ANA, f_XRA, f_ORA, f_ROL, f_ROR, f_DEC, f_CLC, f_LDX, f_JZ, f_JNZ, f_JC, f_JNC, f_JPL, f_JSR, f_RTS, f_HLT, f_STACK, f_REST, f_COUNT, f_SIGN_Q, f_SIGN_A, f_OPA, f_OPB, f_vars, f_capacity, f_operands, f_nest, f_used, f_tail, f_loaded, f_depth, f_open, f_stage, f_divideAt, f_size, f_calls, f_acc, f_carry, f_index, _, a_kinds, a_args, a_first, a_match, a_openAt, a_places, a_dones, a_wideVars, a_wideStack, a_codeOp, a_codeArg, a_entry, a_helper, a_mem, a_returns) => (f_LDI, f_LDA, f_STA, f_ADC, f_SBC, f_ANA, f_XRA, f_ORA, f_ROL, f_ROR, f_DEC, f_CLC, f_LDX, f_JZ, f_JNZ, f_JC, f_JNC, f_JPL, f_JSR, f_RTS, f_HLT, f_STACK, f_REST, f_COUNT, f_SIGN_Q, f_SIGN_A, f_OPA, f_OPB, f_vars, f_capacity, f_operands, f_nest, f_used, f_tail, f_loaded, f_depth, f_open, f_stage, f_divideAt, f_size, f_calls, f_acc, f_carry, f_index, x, a_kinds, a_args, a_first, a_match, a_openAt, a_places, a_dones, a_wideVars, a_wideStack, a_codeOp, a_codeArg, a_entry, a_helper, a_mem, a_returns)
def sx_kinds (u : SX) (x : Nat → Int32) : SX := match u with
  | (f_LDI, f_LDA, f_STA, f_ADC, f_SBC, f_ANA, f_XRA, f_ORA, f_ROL, f_ROR, f_DEC, f_CLC, f_LDX, f_JZ, f_JNZ, f_JC, f_JNC, f_JPL, f_JSR, f_RTS, f_HLT, f_STACK, f_REST, f_COUNT, f_SIGN_Q, f_SIGN_A, f_OPA, f_OPB, f_vars, f_capacity, f_operands, f_nest, f_used, f_tail, f_loaded, f_depth, f_open, f_stage, f_divideAt, f_size, f_calls, f_acc, f_carry, f_index, f_pc, _, a_args, a_first, a_match, a_openAt, a_places, a_dones, a_wideVars, a_wideStack, a_codeOp, a_codeArg, a_entry, a_helper, a_mem, a_returns) => (f_LDI, f_LDA, f_STA, f_ADC, f_SBC, f_ANA, f_XRA, f_ORA, f_ROL, f_ROR, f_DEC, f_CLC, f_LDX, f_JZ, f_JNZ, f_JC, f_JNC, f_JPL, f_JSR, f_RTS, f_HLT, f_STACK, f_REST, f_COUNT, f_SIGN_Q, f_SIGN_A, f_OPA, f_OPB, f_vars, f_capacity, f_operands, f_nest, f_used, f_tail, f_loaded, f_depth, f_open, f_stage, f_divideAt, f_size, f_calls, f_acc, f_carry, f_index, f_pc, x, a_args, a_first, a_match, a_openAt, a_places, a_dones, a_wideVars, a_wideStack, a_codeOp, a_codeArg, a_entry, a_helper, a_mem, a_returns)
def sx_args (u : SX) (x : Nat → Int32) : SX := match u with
  | (f_LDI, f_LDA, f_STA, f_ADC, f_SBC, f_ANA, f_XRA, f_ORA, f_ROL, f_ROR, f_DEC, f_CLC, f_LDX, f_JZ, f_JNZ, f_JC, f_JNC, f_JPL, f_JSR, f_RTS, f_HLT, f_STACK, f_REST, f_COUNT, f_SIGN_Q, f_SIGN_A, f_OPA, f_OPB, f_vars, f_capacity, f_operands, f_nest, f_used, f_tail, f_loaded, f_depth, f_open, f_stage, f_divideAt, f_size, f_calls, f_acc, f_carry, f_index, f_pc, a_kinds, _, a_first, a_match, a_openAt, a_places, a_dones, a_wideVars, a_wideStack, a_codeOp, a_codeArg, a_entry, a_helper, a_mem, a_returns) => (f_LDI, f_LDA, f_STA, f_ADC, f_SBC, f_ANA, f_XRA, f_ORA, f_ROL, f_ROR, f_DEC, f_CLC, f_LDX, f_JZ, f_JNZ, f_JC, f_JNC, f_JPL, f_JSR, f_RTS, f_HLT, f_STACK, f_REST, f_COUNT, f_SIGN_Q, f_SIGN_A, f_OPA, f_OPB, f_vars, f_capacity, f_operands, f_nest, f_used, f_tail, f_loaded, f_depth, f_open, f_stage, f_divideAt, f_size, f_calls, f_acc, f_carry, f_index, f_pc, a_kinds, x, a_first, a_match, a_openAt, a_places, a_dones, a_wideVars, a_wideStack, a_codeOp, a_codeArg, a_entry, a_helper, a_mem, a_returns)
def sx_first (u : SX) (x : Nat → Int32) : SX := match u with
  | (f_LDI, f_LDA, f_STA, f_ADC, f_SBC, f_ANA, f_XRA, f_ORA, f_ROL, f_ROR, f_DEC, f_CLC, f_LDX, f_JZ, f_JNZ, f_JC, f_JNC, f_JPL, f_JSR, f_RTS, f_HLT, f_STACK, f_REST, f_COUNT, f_SIGN_Q, f_SIGN_A, f_OPA, f_OPB, f_vars, f_capacity, f_operands, f_nest, f_used, f_tail, f_loaded, f_depth, f_open, f_stage, f_divideAt, f_size, f_calls, f_acc, f_carry, f_index, f_pc, a_kinds, a_args, _, a_match, a_openAt, a_places, a_dones, a_wideVars, a_wideStack, a_codeOp, a_codeArg, a_entry, a_helper, a_mem, a_returns) => (f_LDI, f_LDA, f_STA, f_ADC, f_SBC, f_ANA, f_XRA, f_ORA, f_ROL, f_ROR, f_DEC, f_CLC, f_LDX, f_JZ, f_JNZ, f_JC, f_JNC, f_JPL, f_JSR, f_RTS, f_HLT, f_STACK, f_REST, f_COUNT, f_SIGN_Q, f_SIGN_A, f_OPA, f_OPB, f_vars, f_capacity, f_operands, f_nest, f_used, f_tail, f_loaded, f_depth, f_open, f_stage, f_divideAt, f_size, f_calls, f_acc, f_carry, f_index, f_pc, a_kinds, a_args, x, a_match, a_openAt, a_places, a_dones, a_wideVars, a_wideStack, a_codeOp, a_codeArg, a_entry, a_helper, a_mem, a_returns)
def sx_match (u : SX) (x : Nat → Int32) : SX := match u with
  | (f_LDI, f_LDA, f_STA, f_ADC, f_SBC, f_ANA, f_XRA, f_ORA, f_ROL, f_ROR, f_DEC, f_CLC, f_LDX, f_JZ, f_JNZ, f_JC, f_JNC, f_JPL, f_JSR, f_RTS, f_HLT, f_STACK, f_REST, f_COUNT, f_SIGN_Q, f_SIGN_A, f_OPA, f_OPB, f_vars, f_capacity, f_operands, f_nest, f_used, f_tail, f_loaded, f_depth, f_open, f_stage, f_divideAt, f_size, f_calls, f_acc, f_carry, f_index, f_pc, a_kinds, a_args, a_first, _, a_openAt, a_places, a_dones, a_wideVars, a_wideStack, a_codeOp, a_codeArg, a_entry, a_helper, a_mem, a_returns) => (f_LDI, f_LDA, f_STA, f_ADC, f_SBC, f_ANA, f_XRA, f_ORA, f_ROL, f_ROR, f_DEC, f_CLC, f_LDX, f_JZ, f_JNZ, f_JC, f_JNC, f_JPL, f_JSR, f_RTS, f_HLT, f_STACK, f_REST, f_COUNT, f_SIGN_Q, f_SIGN_A, f_OPA, f_OPB, f_vars, f_capacity, f_operands, f_nest, f_used, f_tail, f_loaded, f_depth, f_open, f_stage, f_divideAt, f_size, f_calls, f_acc, f_carry, f_index, f_pc, a_kinds, a_args, a_first, x, a_openAt, a_places, a_dones, a_wideVars, a_wideStack, a_codeOp, a_codeArg, a_entry, a_helper, a_mem, a_returns)
def sx_openAt (u : SX) (x : Nat → Int32) : SX := match u with
  | (f_LDI, f_LDA, f_STA, f_ADC, f_SBC, f_ANA, f_XRA, f_ORA, f_ROL, f_ROR, f_DEC, f_CLC, f_LDX, f_JZ, f_JNZ, f_JC, f_JNC, f_JPL, f_JSR, f_RTS, f_HLT, f_STACK, f_REST, f_COUNT, f_SIGN_Q, f_SIGN_A, f_OPA, f_OPB, f_vars, f_capacity, f_operands, f_nest, f_used, f_tail, f_loaded, f_depth, f_open, f_stage, f_divideAt, f_size, f_calls, f_acc, f_carry, f_index, f_pc, a_kinds, a_args, a_first, a_match, _, a_places, a_dones, a_wideVars, a_wideStack, a_codeOp, a_codeArg, a_entry, a_helper, a_mem, a_returns) => (f_LDI, f_LDA, f_STA, f_ADC, f_SBC, f_ANA, f_XRA, f_ORA, f_ROL, f_ROR, f_DEC, f_CLC, f_LDX, f_JZ, f_JNZ, f_JC, f_JNC, f_JPL, f_JSR, f_RTS, f_HLT, f_STACK, f_REST, f_COUNT, f_SIGN_Q, f_SIGN_A, f_OPA, f_OPB, f_vars, f_capacity, f_operands, f_nest, f_used, f_tail, f_loaded, f_depth, f_open, f_stage, f_divideAt, f_size, f_calls, f_acc, f_carry, f_index, f_pc, a_kinds, a_args, a_first, a_match, x, a_places, a_dones, a_wideVars, a_wideStack, a_codeOp, a_codeArg, a_entry, a_helper, a_mem, a_returns)
def sx_places (u : SX) (x : Nat → Int32) : SX := match u with
  | (f_LDI, f_LDA, f_STA, f_ADC, f_SBC, f_ANA, f_XRA, f_ORA, f_ROL, f_ROR, f_DEC, f_CLC, f_LDX, f_JZ, f_JNZ, f_JC, f_JNC, f_JPL, f_JSR, f_RTS, f_HLT, f_STACK, f_REST, f_COUNT, f_SIGN_Q, f_SIGN_A, f_OPA, f_OPB, f_vars, f_capacity, f_operands, f_nest, f_used, f_tail, f_loaded, f_depth, f_open, f_stage, f_divideAt, f_size, f_calls, f_acc, f_carry, f_index, f_pc, a_kinds, a_args, a_first, a_match, a_openAt, _, a_dones, a_wideVars, a_wideStack, a_codeOp, a_codeArg, a_entry, a_helper, a_mem, a_returns) => (f_LDI, f_LDA, f_STA, f_ADC, f_SBC, f_ANA, f_XRA, f_ORA, f_ROL, f_ROR, f_DEC, f_CLC, f_LDX, f_JZ, f_JNZ, f_JC, f_JNC, f_JPL, f_JSR, f_RTS, f_HLT, f_STACK, f_REST, f_COUNT, f_SIGN_Q, f_SIGN_A, f_OPA, f_OPB, f_vars, f_capacity, f_operands, f_nest, f_used, f_tail, f_loaded, f_depth, f_open, f_stage, f_divideAt, f_size, f_calls, f_acc, f_carry, f_index, f_pc, a_kinds, a_args, a_first, a_match, a_openAt, x, a_dones, a_wideVars, a_wideStack, a_codeOp, a_codeArg, a_entry, a_helper, a_mem, a_returns)
def sx_dones (u : SX) (x : Nat → Int32) : SX := match u with
  | (f_LDI, f_LDA, f_STA, f_ADC, f_SBC, f_ANA, f_XRA, f_ORA, f_ROL, f_ROR, f_DEC, f_CLC, f_LDX, f_JZ, f_JNZ, f_JC, f_JNC, f_JPL, f_JSR, f_RTS, f_HLT, f_STACK, f_REST, f_COUNT, f_SIGN_Q, f_SIGN_A, f_OPA, f_OPB, f_vars, f_capacity, f_operands, f_nest, f_used, f_tail, f_loaded, f_depth, f_open, f_stage, f_divideAt, f_size, f_calls, f_acc, f_carry, f_index, f_pc, a_kinds, a_args, a_first, a_match, a_openAt, a_places, _, a_wideVars, a_wideStack, a_codeOp, a_codeArg, a_entry, a_helper, a_mem, a_returns) => (f_LDI, f_LDA, f_STA, f_ADC, f_SBC, f_ANA, f_XRA, f_ORA, f_ROL, f_ROR, f_DEC, f_CLC, f_LDX, f_JZ, f_JNZ, f_JC, f_JNC, f_JPL, f_JSR, f_RTS, f_HLT, f_STACK, f_REST, f_COUNT, f_SIGN_Q, f_SIGN_A, f_OPA, f_OPB, f_vars, f_capacity, f_operands, f_nest, f_used, f_tail, f_loaded, f_depth, f_open, f_stage, f_divideAt, f_size, f_calls, f_acc, f_carry, f_index, f_pc, a_kinds, a_args, a_first, a_match, a_openAt, a_places, x, a_wideVars, a_wideStack, a_codeOp, a_codeArg, a_entry, a_helper, a_mem, a_returns)
def sx_wideVars (u : SX) (x : Nat → Int32) : SX := match u with
  | (f_LDI, f_LDA, f_STA, f_ADC, f_SBC, f_ANA, f_XRA, f_ORA, f_ROL, f_ROR, f_DEC, f_CLC, f_LDX, f_JZ, f_JNZ, f_JC, f_JNC, f_JPL, f_JSR, f_RTS, f_HLT, f_STACK, f_REST, f_COUNT, f_SIGN_Q, f_SIGN_A, f_OPA, f_OPB, f_vars, f_capacity, f_operands, f_nest, f_used, f_tail, f_loaded, f_depth, f_open, f_stage, f_divideAt, f_size, f_calls, f_acc, f_carry, f_index, f_pc, a_kinds, a_args, a_first, a_match, a_openAt, a_places, a_dones, _, a_wideStack, a_codeOp, a_codeArg, a_entry, a_helper, a_mem, a_returns) => (f_LDI, f_LDA, f_STA, f_ADC, f_SBC, f_ANA, f_XRA, f_ORA, f_ROL, f_ROR, f_DEC, f_CLC, f_LDX, f_JZ, f_JNZ, f_JC, f_JNC, f_JPL, f_JSR, f_RTS, f_HLT, f_STACK, f_REST, f_COUNT, f_SIGN_Q, f_SIGN_A, f_OPA, f_OPB, f_vars, f_capacity, f_operands, f_nest, f_used, f_tail, f_loaded, f_depth, f_open, f_stage, f_divideAt, f_size, f_calls, f_acc, f_carry, f_index, f_pc, a_kinds, a_args, a_first, a_match, a_openAt, a_places, a_dones, x, a_wideStack, a_codeOp, a_codeArg, a_entry, a_helper, a_mem, a_returns)
def sx_wideStack (u : SX) (x : Nat → Int32) : SX := match u with
  | (f_LDI, f_LDA, f_STA, f_ADC, f_SBC, f_ANA, f_XRA, f_ORA, f_ROL, f_ROR, f_DEC, f_CLC, f_LDX, f_JZ, f_JNZ, f_JC, f_JNC, f_JPL, f_JSR, f_RTS, f_HLT, f_STACK, f_REST, f_COUNT, f_SIGN_Q, f_SIGN_A, f_OPA, f_OPB, f_vars, f_capacity, f_operands, f_nest, f_used, f_tail, f_loaded, f_depth, f_open, f_stage, f_divideAt, f_size, f_calls, f_acc, f_carry, f_index, f_pc, a_kinds, a_args, a_first, a_match, a_openAt, a_places, a_dones, a_wideVars, _, a_codeOp, a_codeArg, a_entry, a_helper, a_mem, a_returns) => (f_LDI, f_LDA, f_STA, f_ADC, f_SBC, f_ANA, f_XRA, f_ORA, f_ROL, f_ROR, f_DEC, f_CLC, f_LDX, f_JZ, f_JNZ, f_JC, f_JNC, f_JPL, f_JSR, f_RTS, f_HLT, f_STACK, f_REST, f_COUNT, f_SIGN_Q, f_SIGN_A, f_OPA, f_OPB, f_vars, f_capacity, f_operands, f_nest, f_used, f_tail, f_loaded, f_depth, f_open, f_stage, f_divideAt, f_size, f_calls, f_acc, f_carry, f_index, f_pc, a_kinds, a_args, a_first, a_match, a_openAt, a_places, a_dones, a_wideVars, x, a_codeOp, a_codeArg, a_entry, a_helper, a_mem, a_returns)
def sx_codeOp (u : SX) (x : Nat → Int32) : SX := match u with
  | (f_LDI, f_LDA, f_STA, f_ADC, f_SBC, f_ANA, f_XRA, f_ORA, f_ROL, f_ROR, f_DEC, f_CLC, f_LDX, f_JZ, f_JNZ, f_JC, f_JNC, f_JPL, f_JSR, f_RTS, f_HLT, f_STACK, f_REST, f_COUNT, f_SIGN_Q, f_SIGN_A, f_OPA, f_OPB, f_vars, f_capacity, f_operands, f_nest, f_used, f_tail, f_loaded, f_depth, f_open, f_stage, f_divideAt, f_size, f_calls, f_acc, f_carry, f_index, f_pc, a_kinds, a_args, a_first, a_match, a_openAt, a_places, a_dones, a_wideVars, a_wideStack, _, a_codeArg, a_entry, a_helper, a_mem, a_returns) => (f_LDI, f_LDA, f_STA, f_ADC, f_SBC, f_ANA, f_XRA, f_ORA, f_ROL, f_ROR, f_DEC, f_CLC, f_LDX, f_JZ, f_JNZ, f_JC, f_JNC, f_JPL, f_JSR, f_RTS, f_HLT, f_STACK, f_REST, f_COUNT, f_SIGN_Q, f_SIGN_A, f_OPA, f_OPB, f_vars, f_capacity, f_operands, f_nest, f_used, f_tail, f_loaded, f_depth, f_open, f_stage, f_divideAt, f_size, f_calls, f_acc, f_carry, f_index, f_pc, a_kinds, a_args, a_first, a_match, a_openAt, a_places, a_dones, a_wideVars, a_wideStack, x, a_codeArg, a_entry, a_helper, a_mem, a_returns)
def sx_codeArg (u : SX) (x : Nat → Int32) : SX := match u with
  | (f_LDI, f_LDA, f_STA, f_ADC, f_SBC, f_ANA, f_XRA, f_ORA, f_ROL, f_ROR, f_DEC, f_CLC, f_LDX, f_JZ, f_JNZ, f_JC, f_JNC, f_JPL, f_JSR, f_RTS, f_HLT, f_STACK, f_REST, f_COUNT, f_SIGN_Q, f_SIGN_A, f_OPA, f_OPB, f_vars, f_capacity, f_operands, f_nest, f_used, f_tail, f_loaded, f_depth, f_open, f_stage, f_divideAt, f_size, f_calls, f_acc, f_carry, f_index, f_pc, a_kinds, a_args, a_first, a_match, a_openAt, a_places, a_dones, a_wideVars, a_wideStack, a_codeOp, _, a_entry, a_helper, a_mem, a_returns) => (f_LDI, f_LDA, f_STA, f_ADC, f_SBC, f_ANA, f_XRA, f_ORA, f_ROL, f_ROR, f_DEC, f_CLC, f_LDX, f_JZ, f_JNZ, f_JC, f_JNC, f_JPL, f_JSR, f_RTS, f_HLT, f_STACK, f_REST, f_COUNT, f_SIGN_Q, f_SIGN_A, f_OPA, f_OPB, f_vars, f_capacity, f_operands, f_nest, f_used, f_tail, f_loaded, f_depth, f_open, f_stage, f_divideAt, f_size, f_calls, f_acc, f_carry, f_index, f_pc, a_kinds, a_args, a_first, a_match, a_openAt, a_places, a_dones, a_wideVars, a_wideStack, a_codeOp, x, a_entry, a_helper, a_mem, a_returns)
def sx_entry (u : SX) (x : Nat → Int32) : SX := match u with
  | (f_LDI, f_LDA, f_STA, f_ADC, f_SBC, f_ANA, f_XRA, f_ORA, f_ROL, f_ROR, f_DEC, f_CLC, f_LDX, f_JZ, f_JNZ, f_JC, f_JNC, f_JPL, f_JSR, f_RTS, f_HLT, f_STACK, f_REST, f_COUNT, f_SIGN_Q, f_SIGN_A, f_OPA, f_OPB, f_vars, f_capacity, f_operands, f_nest, f_used, f_tail, f_loaded, f_depth, f_open, f_stage, f_divideAt, f_size, f_calls, f_acc, f_carry, f_index, f_pc, a_kinds, a_args, a_first, a_match, a_openAt, a_places, a_dones, a_wideVars, a_wideStack, a_codeOp, a_codeArg, _, a_helper, a_mem, a_returns) => (f_LDI, f_LDA, f_STA, f_ADC, f_SBC, f_ANA, f_XRA, f_ORA, f_ROL, f_ROR, f_DEC, f_CLC, f_LDX, f_JZ, f_JNZ, f_JC, f_JNC, f_JPL, f_JSR, f_RTS, f_HLT, f_STACK, f_REST, f_COUNT, f_SIGN_Q, f_SIGN_A, f_OPA, f_OPB, f_vars, f_capacity, f_operands, f_nest, f_used, f_tail, f_loaded, f_depth, f_open, f_stage, f_divideAt, f_size, f_calls, f_acc, f_carry, f_index, f_pc, a_kinds, a_args, a_first, a_match, a_openAt, a_places, a_dones, a_wideVars, a_wideStack, a_codeOp, a_codeArg, x, a_helper, a_mem, a_returns)
def sx_helper (u : SX) (x : Nat → Int32) : SX := match u with
  | (f_LDI, f_LDA, f_STA, f_ADC, f_SBC, f_ANA, f_XRA, f_ORA, f_ROL, f_ROR, f_DEC, f_CLC, f_LDX, f_JZ, f_JNZ, f_JC, f_JNC, f_JPL, f_JSR, f_RTS, f_HLT, f_STACK, f_REST, f_COUNT, f_SIGN_Q, f_SIGN_A, f_OPA, f_OPB, f_vars, f_capacity, f_operands, f_nest, f_used, f_tail, f_loaded, f_depth, f_open, f_stage, f_divideAt, f_size, f_calls, f_acc, f_carry, f_index, f_pc, a_kinds, a_args, a_first, a_match, a_openAt, a_places, a_dones, a_wideVars, a_wideStack, a_codeOp, a_codeArg, a_entry, _, a_mem, a_returns) => (f_LDI, f_LDA, f_STA, f_ADC, f_SBC, f_ANA, f_XRA, f_ORA, f_ROL, f_ROR, f_DEC, f_CLC, f_LDX, f_JZ, f_JNZ, f_JC, f_JNC, f_JPL, f_JSR, f_RTS, f_HLT, f_STACK, f_REST, f_COUNT, f_SIGN_Q, f_SIGN_A, f_OPA, f_OPB, f_vars, f_capacity, f_operands, f_nest, f_used, f_tail, f_loaded, f_depth, f_open, f_stage, f_divideAt, f_size, f_calls, f_acc, f_carry, f_index, f_pc, a_kinds, a_args, a_first, a_match, a_openAt, a_places, a_dones, a_wideVars, a_wideStack, a_codeOp, a_codeArg, a_entry, x, a_mem, a_returns)
def sx_mem (u : SX) (x : Nat → Int32) : SX := match u with
  | (f_LDI, f_LDA, f_STA, f_ADC, f_SBC, f_ANA, f_XRA, f_ORA, f_ROL, f_ROR, f_DEC, f_CLC, f_LDX, f_JZ, f_JNZ, f_JC, f_JNC, f_JPL, f_JSR, f_RTS, f_HLT, f_STACK, f_REST, f_COUNT, f_SIGN_Q, f_SIGN_A, f_OPA, f_OPB, f_vars, f_capacity, f_operands, f_nest, f_used, f_tail, f_loaded, f_depth, f_open, f_stage, f_divideAt, f_size, f_calls, f_acc, f_carry, f_index, f_pc, a_kinds, a_args, a_first, a_match, a_openAt, a_places, a_dones, a_wideVars, a_wideStack, a_codeOp, a_codeArg, a_entry, a_helper, _, a_returns) => (f_LDI, f_LDA, f_STA, f_ADC, f_SBC, f_ANA, f_XRA, f_ORA, f_ROL, f_ROR, f_DEC, f_CLC, f_LDX, f_JZ, f_JNZ, f_JC, f_JNC, f_JPL, f_JSR, f_RTS, f_HLT, f_STACK, f_REST, f_COUNT, f_SIGN_Q, f_SIGN_A, f_OPA, f_OPB, f_vars, f_capacity, f_operands, f_nest, f_used, f_tail, f_loaded, f_depth, f_open, f_stage, f_divideAt, f_size, f_calls, f_acc, f_carry, f_index, f_pc, a_kinds, a_args, a_first, a_match, a_openAt, a_places, a_dones, a_wideVars, a_wideStack, a_codeOp, a_codeArg, a_entry, a_helper, x, a_returns)
def sx_returns (u : SX) (x : Nat → Int32) : SX := match u with
  | (f_LDI, f_LDA, f_STA, f_ADC, f_SBC, f_ANA, f_XRA, f_ORA, f_ROL, f_ROR, f_DEC, f_CLC, f_LDX, f_JZ, f_JNZ, f_JC, f_JNC, f_JPL, f_JSR, f_RTS, f_HLT, f_STACK, f_REST, f_COUNT, f_SIGN_Q, f_SIGN_A, f_OPA, f_OPB, f_vars, f_capacity, f_operands, f_nest, f_used, f_tail, f_loaded, f_depth, f_open, f_stage, f_divideAt, f_size, f_calls, f_acc, f_carry, f_index, f_pc, a_kinds, a_args, a_first, a_match, a_openAt, a_places, a_dones, a_wideVars, a_wideStack, a_codeOp, a_codeArg, a_entry, a_helper, a_mem, _) => (f_LDI, f_LDA, f_STA, f_ADC, f_SBC, f_ANA, f_XRA, f_ORA, f_ROL, f_ROR, f_DEC, f_CLC, f_LDX, f_JZ, f_JNZ, f_JC, f_JNC, f_JPL, f_JSR, f_RTS, f_HLT, f_STACK, f_REST, f_COUNT, f_SIGN_Q, f_SIGN_A, f_OPA, f_OPB, f_vars, f_capacity, f_operands, f_nest, f_used, f_tail, f_loaded, f_depth, f_open, f_stage, f_divideAt, f_size, f_calls, f_acc, f_carry, f_index, f_pc, a_kinds, a_args, a_first, a_match, a_openAt, a_places, a_dones, a_wideVars, a_wideStack, a_codeOp, a_codeArg, a_entry, a_helper, a_mem, x)
def ay_vars (u : SY) : Int32 := match u with
  | (f_vars, _, _, _, _, _, _, _, _, _, _, _) => f_vars
def ay_capacity (u : SY) : Int32 := match u with
  | (_, f_capacity, _, _, _, _, _, _, _, _, _, _) => f_capacity
def ay_operands (u : SY) : Int32 := match u with
  | (_, _, f_operands, _, _, _, _, _, _, _, _, _) => f_operands
def ay_nest (u : SY) : Int32 := match u with
  | (_, _, _, f_nest, _, _, _, _, _, _, _, _) => f_nest
def ay_phaseNow (u : SY) : Int32 := match u with
  | (_, _, _, _, f_phaseNow, _, _, _, _, _, _, _) => f_phaseNow
def ay_used (u : SY) : Int32 := match u with
  | (_, _, _, _, _, f_used, _, _, _, _, _, _) => f_used
def ay_kinds (u : SY) : Nat → Int32 := match u with
  | (_, _, _, _, _, _, a_kinds, _, _, _, _, _) => a_kinds
def ay_args (u : SY) : Nat → Int32 := match u with
  | (_, _, _, _, _, _, _, a_args, _, _, _, _) => a_args
def ay_values (u : SY) : Nat → Int32 := match u with
  | (_, _, _, _, _, _, _, _, a_values, _, _, _) => a_values
def ay_places (u : SY) : Nat → Int32 := match u with
  | (_, _, _, _, _, _, _, _, _, a_places, _, _) => a_places
def ay_counts (u : SY) : Nat → Int32 := match u with
  | (_, _, _, _, _, _, _, _, _, _, a_counts, _) => a_counts
def ay_stack (u : SY) : Nat → Int32 := match u with
  | (_, _, _, _, _, _, _, _, _, _, _, a_stack) => a_stack
def sy_vars (u : SY) (x : Int32) : SY := match u with
  | (_, f_capacity, f_operands, f_nest, f_phaseNow, f_used, a_kinds, a_args, a_values, a_places, a_counts, a_stack) => (x, f_capacity, f_operands, f_nest, f_phaseNow, f_used, a_kinds, a_args, a_values, a_places, a_counts, a_stack)
def sy_capacity (u : SY) (x : Int32) : SY := match u with
  | (f_vars, _, f_operands, f_nest, f_phaseNow, f_used, a_kinds, a_args, a_values, a_places, a_counts, a_stack) => (f_vars, x, f_operands, f_nest, f_phaseNow, f_used, a_kinds, a_args, a_values, a_places, a_counts, a_stack)
def sy_operands (u : SY) (x : Int32) : SY := match u with
  | (f_vars, f_capacity, _, f_nest, f_phaseNow, f_used, a_kinds, a_args, a_values, a_places, a_counts, a_stack) => (f_vars, f_capacity, x, f_nest, f_phaseNow, f_used, a_kinds, a_args, a_values, a_places, a_counts, a_stack)
def sy_nest (u : SY) (x : Int32) : SY := match u with
  | (f_vars, f_capacity, f_operands, _, f_phaseNow, f_used, a_kinds, a_args, a_values, a_places, a_counts, a_stack) => (f_vars, f_capacity, f_operands, x, f_phaseNow, f_used, a_kinds, a_args, a_values, a_places, a_counts, a_stack)
def sy_phaseNow (u : SY) (x : Int32) : SY := match u with
  | (f_vars, f_capacity, f_operands, f_nest, _, f_used, a_kinds, a_args, a_values, a_places, a_counts, a_stack) => (f_vars, f_capacity, f_operands, f_nest, x, f_used, a_kinds, a_args, a_values, a_places, a_counts, a_stack)
def sy_used (u : SY) (x : Int32) : SY := match u with
  | (f_vars, f_capacity, f_operands, f_nest, f_phaseNow, _, a_kinds, a_args, a_values, a_places, a_counts, a_stack) => (f_vars, f_capacity, f_operands, f_nest, f_phaseNow, x, a_kinds, a_args, a_values, a_places, a_counts, a_stack)
def sy_kinds (u : SY) (x : Nat → Int32) : SY := match u with
  | (f_vars, f_capacity, f_operands, f_nest, f_phaseNow, f_used, _, a_args, a_values, a_places, a_counts, a_stack) => (f_vars, f_capacity, f_operands, f_nest, f_phaseNow, f_used, x, a_args, a_values, a_places, a_counts, a_stack)
def sy_args (u : SY) (x : Nat → Int32) : SY := match u with
  | (f_vars, f_capacity, f_operands, f_nest, f_phaseNow, f_used, a_kinds, _, a_values, a_places, a_counts, a_stack) => (f_vars, f_capacity, f_operands, f_nest, f_phaseNow, f_used, a_kinds, x, a_values, a_places, a_counts, a_stack)
def sy_values (u : SY) (x : Nat → Int32) : SY := match u with
  | (f_vars, f_capacity, f_operands, f_nest, f_phaseNow, f_used, a_kinds, a_args, _, a_places, a_counts, a_stack) => (f_vars, f_capacity, f_operands, f_nest, f_phaseNow, f_used, a_kinds, a_args, x, a_places, a_counts, a_stack)
def sy_places (u : SY) (x : Nat → Int32) : SY := match u with
  | (f_vars, f_capacity, f_operands, f_nest, f_phaseNow, f_used, a_kinds, a_args, a_values, _, a_counts, a_stack) => (f_vars, f_capacity, f_operands, f_nest, f_phaseNow, f_used, a_kinds, a_args, a_values, x, a_counts, a_stack)
def sy_counts (u : SY) (x : Nat → Int32) : SY := match u with
  | (f_vars, f_capacity, f_operands, f_nest, f_phaseNow, f_used, a_kinds, a_args, a_values, a_places, _, a_stack) => (f_vars, f_capacity, f_operands, f_nest, f_phaseNow, f_used, a_kinds, a_args, a_values, a_places, x, a_stack)
def sy_stack (u : SY) (x : Nat → Int32) : SY := match u with
  | (f_vars, f_capacity, f_operands, f_nest, f_phaseNow, f_used, a_kinds, a_args, a_values, a_places, a_counts, _) => (f_vars, f_capacity, f_operands, f_nest, f_phaseNow, f_used, a_kinds, a_args, a_values, a_places, a_counts, x)
def vX_fits_113 (post : Int32 → Prop) (u : SX) : Prop := match u with
  | (f_LDI, f_LDA, f_STA, f_ADC, f_SBC, f_ANA, f_XRA, f_ORA, f_ROL, f_ROR, f_DEC, f_CLC, f_LDX, f_JZ, f_JNZ, f_JC, f_JNC, f_JPL, f_JSR, f_RTS, f_HLT, f_STACK, f_REST, f_COUNT, f_SIGN_Q, f_SIGN_A, f_OPA, f_OPB, f_vars, f_capacity, f_operands, f_nest, f_used, f_tail, f_loaded, f_depth, f_open, f_stage, f_divideAt, f_size, f_calls, f_acc, f_carry, f_index, f_pc, a_kinds, a_args, a_first, a_match, a_openAt, a_places, a_dones, a_wideVars, a_wideStack, a_codeOp, a_codeArg, a_entry, a_helper, a_mem, a_returns) => wX_fits_113 post f_LDI f_LDA f_STA f_ADC f_SBC f_ANA f_XRA f_ORA f_ROL f_ROR f_DEC f_CLC f_LDX f_JZ f_JNZ f_JC f_JNC f_JPL f_JSR f_RTS f_HLT f_STACK f_REST f_COUNT f_SIGN_Q f_SIGN_A f_OPA f_OPB f_vars f_capacity f_operands f_nest f_used f_tail f_loaded f_depth f_open f_stage f_divideAt f_size f_calls f_acc f_carry f_index f_pc a_kinds a_args a_first a_match a_openAt a_places a_dones a_wideVars a_wideStack a_codeOp a_codeArg a_entry a_helper a_mem a_returns
def vX_fits_44 (post : Int32 → Prop) (u : SX) : Prop := match u with
  | (f_LDI, f_LDA, f_STA, f_ADC, f_SBC, f_ANA, f_XRA, f_ORA, f_ROL, f_ROR, f_DEC, f_CLC, f_LDX, f_JZ, f_JNZ, f_JC, f_JNC, f_JPL, f_JSR, f_RTS, f_HLT, f_STACK, f_REST, f_COUNT, f_SIGN_Q, f_SIGN_A, f_OPA, f_OPB, f_vars, f_capacity, f_operands, f_nest, f_used, f_tail, f_loaded, f_depth, f_open, f_stage, f_divideAt, f_size, f_calls, f_acc, f_carry, f_index, f_pc, a_kinds, a_args, a_first, a_match, a_openAt, a_places, a_dones, a_wideVars, a_wideStack, a_codeOp, a_codeArg, a_entry, a_helper, a_mem, a_returns) => wX_fits_44 post f_LDI f_LDA f_STA f_ADC f_SBC f_ANA f_XRA f_ORA f_ROL f_ROR f_DEC f_CLC f_LDX f_JZ f_JNZ f_JC f_JNC f_JPL f_JSR f_RTS f_HLT f_STACK f_REST f_COUNT f_SIGN_Q f_SIGN_A f_OPA f_OPB f_vars f_capacity f_operands f_nest f_used f_tail f_loaded f_depth f_open f_stage f_divideAt f_size f_calls f_acc f_carry f_index f_pc a_kinds a_args a_first a_match a_openAt a_places a_dones a_wideVars a_wideStack a_codeOp a_codeArg a_entry a_helper a_mem a_returns
def vX_track_80 (post : SX → Prop) (u : SX) : Prop := match u with
  | (f_LDI, f_LDA, f_STA, f_ADC, f_SBC, f_ANA, f_XRA, f_ORA, f_ROL, f_ROR, f_DEC, f_CLC, f_LDX, f_JZ, f_JNZ, f_JC, f_JNC, f_JPL, f_JSR, f_RTS, f_HLT, f_STACK, f_REST, f_COUNT, f_SIGN_Q, f_SIGN_A, f_OPA, f_OPB, f_vars, f_capacity, f_operands, f_nest, f_used, f_tail, f_loaded, f_depth, f_open, f_stage, f_divideAt, f_size, f_calls, f_acc, f_carry, f_index, f_pc, a_kinds, a_args, a_first, a_match, a_openAt, a_places, a_dones, a_wideVars, a_wideStack, a_codeOp, a_codeArg, a_entry, a_helper, a_mem, a_returns) => wX_track_80 post f_LDI f_LDA f_STA f_ADC f_SBC f_ANA f_XRA f_ORA f_ROL f_ROR f_DEC f_CLC f_LDX f_JZ f_JNZ f_JC f_JNC f_JPL f_JSR f_RTS f_HLT f_STACK f_REST f_COUNT f_SIGN_Q f_SIGN_A f_OPA f_OPB f_vars f_capacity f_operands f_nest f_used f_tail f_loaded f_depth f_open f_stage f_divideAt f_size f_calls f_acc f_carry f_index f_pc a_kinds a_args a_first a_match a_openAt a_places a_dones a_wideVars a_wideStack a_codeOp a_codeArg a_entry a_helper a_mem a_returns
def vX_feed_114 (post : Int32 → SX → Prop) (x1 : Int32) (z0 : Int32) (z1 : Int32) (u : SX) : Prop := match u with
  | (f_LDI, f_LDA, f_STA, f_ADC, f_SBC, f_ANA, f_XRA, f_ORA, f_ROL, f_ROR, f_DEC, f_CLC, f_LDX, f_JZ, f_JNZ, f_JC, f_JNC, f_JPL, f_JSR, f_RTS, f_HLT, f_STACK, f_REST, f_COUNT, f_SIGN_Q, f_SIGN_A, f_OPA, f_OPB, f_vars, f_capacity, f_operands, f_nest, f_used, f_tail, f_loaded, f_depth, f_open, f_stage, f_divideAt, f_size, f_calls, f_acc, f_carry, f_index, f_pc, a_kinds, a_args, a_first, a_match, a_openAt, a_places, a_dones, a_wideVars, a_wideStack, a_codeOp, a_codeArg, a_entry, a_helper, a_mem, a_returns) => wX_feed_114 post x1 z0 z1 f_LDI f_LDA f_STA f_ADC f_SBC f_ANA f_XRA f_ORA f_ROL f_ROR f_DEC f_CLC f_LDX f_JZ f_JNZ f_JC f_JNC f_JPL f_JSR f_RTS f_HLT f_STACK f_REST f_COUNT f_SIGN_Q f_SIGN_A f_OPA f_OPB f_vars f_capacity f_operands f_nest f_used f_tail f_loaded f_depth f_open f_stage f_divideAt f_size f_calls f_acc f_carry f_index f_pc a_kinds a_args a_first a_match a_openAt a_places a_dones a_wideVars a_wideStack a_codeOp a_codeArg a_entry a_helper a_mem a_returns
def vX_feed_60 (post : Int32 → SX → Prop) (x1 : Int32) (x2 : Int32) (u : SX) : Prop := match u with
  | (f_LDI, f_LDA, f_STA, f_ADC, f_SBC, f_ANA, f_XRA, f_ORA, f_ROL, f_ROR, f_DEC, f_CLC, f_LDX, f_JZ, f_JNZ, f_JC, f_JNC, f_JPL, f_JSR, f_RTS, f_HLT, f_STACK, f_REST, f_COUNT, f_SIGN_Q, f_SIGN_A, f_OPA, f_OPB, f_vars, f_capacity, f_operands, f_nest, f_used, f_tail, f_loaded, f_depth, f_open, f_stage, f_divideAt, f_size, f_calls, f_acc, f_carry, f_index, f_pc, a_kinds, a_args, a_first, a_match, a_openAt, a_places, a_dones, a_wideVars, a_wideStack, a_codeOp, a_codeArg, a_entry, a_helper, a_mem, a_returns) => wX_feed_60 post x1 x2 f_LDI f_LDA f_STA f_ADC f_SBC f_ANA f_XRA f_ORA f_ROL f_ROR f_DEC f_CLC f_LDX f_JZ f_JNZ f_JC f_JNC f_JPL f_JSR f_RTS f_HLT f_STACK f_REST f_COUNT f_SIGN_Q f_SIGN_A f_OPA f_OPB f_vars f_capacity f_operands f_nest f_used f_tail f_loaded f_depth f_open f_stage f_divideAt f_size f_calls f_acc f_carry f_index f_pc a_kinds a_args a_first a_match a_openAt a_places a_dones a_wideVars a_wideStack a_codeOp a_codeArg a_entry a_helper a_mem a_returns
def vX_feed_43 (post : Int32 → SX → Prop) (x1 : Int32) (x2 : Int32) (u : SX) : Prop := match u with
  | (f_LDI, f_LDA, f_STA, f_ADC, f_SBC, f_ANA, f_XRA, f_ORA, f_ROL, f_ROR, f_DEC, f_CLC, f_LDX, f_JZ, f_JNZ, f_JC, f_JNC, f_JPL, f_JSR, f_RTS, f_HLT, f_STACK, f_REST, f_COUNT, f_SIGN_Q, f_SIGN_A, f_OPA, f_OPB, f_vars, f_capacity, f_operands, f_nest, f_used, f_tail, f_loaded, f_depth, f_open, f_stage, f_divideAt, f_size, f_calls, f_acc, f_carry, f_index, f_pc, a_kinds, a_args, a_first, a_match, a_openAt, a_places, a_dones, a_wideVars, a_wideStack, a_codeOp, a_codeArg, a_entry, a_helper, a_mem, a_returns) => wX_feed_43 post x1 x2 f_LDI f_LDA f_STA f_ADC f_SBC f_ANA f_XRA f_ORA f_ROL f_ROR f_DEC f_CLC f_LDX f_JZ f_JNZ f_JC f_JNC f_JPL f_JSR f_RTS f_HLT f_STACK f_REST f_COUNT f_SIGN_Q f_SIGN_A f_OPA f_OPB f_vars f_capacity f_operands f_nest f_used f_tail f_loaded f_depth f_open f_stage f_divideAt f_size f_calls f_acc f_carry f_index f_pc a_kinds a_args a_first a_match a_openAt a_places a_dones a_wideVars a_wideStack a_codeOp a_codeArg a_entry a_helper a_mem a_returns
def vX_feed_33 (post : Int32 → SX → Prop) (x1 : Int32) (x2 : Int32) (u : SX) : Prop := match u with
  | (f_LDI, f_LDA, f_STA, f_ADC, f_SBC, f_ANA, f_XRA, f_ORA, f_ROL, f_ROR, f_DEC, f_CLC, f_LDX, f_JZ, f_JNZ, f_JC, f_JNC, f_JPL, f_JSR, f_RTS, f_HLT, f_STACK, f_REST, f_COUNT, f_SIGN_Q, f_SIGN_A, f_OPA, f_OPB, f_vars, f_capacity, f_operands, f_nest, f_used, f_tail, f_loaded, f_depth, f_open, f_stage, f_divideAt, f_size, f_calls, f_acc, f_carry, f_index, f_pc, a_kinds, a_args, a_first, a_match, a_openAt, a_places, a_dones, a_wideVars, a_wideStack, a_codeOp, a_codeArg, a_entry, a_helper, a_mem, a_returns) => wX_feed_33 post x1 x2 f_LDI f_LDA f_STA f_ADC f_SBC f_ANA f_XRA f_ORA f_ROL f_ROR f_DEC f_CLC f_LDX f_JZ f_JNZ f_JC f_JNC f_JPL f_JSR f_RTS f_HLT f_STACK f_REST f_COUNT f_SIGN_Q f_SIGN_A f_OPA f_OPB f_vars f_capacity f_operands f_nest f_used f_tail f_loaded f_depth f_open f_stage f_divideAt f_size f_calls f_acc f_carry f_index f_pc a_kinds a_args a_first a_match a_openAt a_places a_dones a_wideVars a_wideStack a_codeOp a_codeArg a_entry a_helper a_mem a_returns
def vX_reset_45 (post : SX → Prop) (n : Nat) (x1 : Int32) (u : SX) : Prop := match u with
  | (f_LDI, f_LDA, f_STA, f_ADC, f_SBC, f_ANA, f_XRA, f_ORA, f_ROL, f_ROR, f_DEC, f_CLC, f_LDX, f_JZ, f_JNZ, f_JC, f_JNC, f_JPL, f_JSR, f_RTS, f_HLT, f_STACK, f_REST, f_COUNT, f_SIGN_Q, f_SIGN_A, f_OPA, f_OPB, f_vars, f_capacity, f_operands, f_nest, f_used, f_tail, f_loaded, f_depth, f_open, f_stage, f_divideAt, f_size, f_calls, f_acc, f_carry, f_index, f_pc, a_kinds, a_args, a_first, a_match, a_openAt, a_places, a_dones, a_wideVars, a_wideStack, a_codeOp, a_codeArg, a_entry, a_helper, a_mem, a_returns) => wX_reset_45 post f_LDI f_LDA f_STA f_ADC f_SBC f_ANA f_XRA f_ORA f_ROL f_ROR f_DEC f_CLC f_LDX f_JZ f_JNZ f_JC f_JNC f_JPL f_JSR f_RTS f_HLT f_STACK f_REST f_COUNT f_SIGN_Q f_SIGN_A f_OPA f_OPB f_vars f_capacity f_operands f_nest f_used f_tail f_loaded f_depth f_open f_stage f_divideAt f_size f_calls f_acc f_carry f_index f_pc n x1 a_kinds a_args a_first a_match a_openAt a_places a_dones a_wideVars a_wideStack a_codeOp a_codeArg a_entry a_helper a_mem a_returns
def vX_reset_23 (post : SX → Prop) (n : Nat) (x1 : Int32) (u : SX) : Prop := match u with
  | (f_LDI, f_LDA, f_STA, f_ADC, f_SBC, f_ANA, f_XRA, f_ORA, f_ROL, f_ROR, f_DEC, f_CLC, f_LDX, f_JZ, f_JNZ, f_JC, f_JNC, f_JPL, f_JSR, f_RTS, f_HLT, f_STACK, f_REST, f_COUNT, f_SIGN_Q, f_SIGN_A, f_OPA, f_OPB, f_vars, f_capacity, f_operands, f_nest, f_used, f_tail, f_loaded, f_depth, f_open, f_stage, f_divideAt, f_size, f_calls, f_acc, f_carry, f_index, f_pc, a_kinds, a_args, a_first, a_match, a_openAt, a_places, a_dones, a_wideVars, a_wideStack, a_codeOp, a_codeArg, a_entry, a_helper, a_mem, a_returns) => wX_reset_23 post f_LDI f_LDA f_STA f_ADC f_SBC f_ANA f_XRA f_ORA f_ROL f_ROR f_DEC f_CLC f_LDX f_JZ f_JNZ f_JC f_JNC f_JPL f_JSR f_RTS f_HLT f_STACK f_REST f_COUNT f_SIGN_Q f_SIGN_A f_OPA f_OPB f_vars f_capacity f_operands f_nest f_used f_tail f_loaded f_depth f_open f_stage f_divideAt f_size f_calls f_acc f_carry f_index f_pc n x1 a_kinds a_args a_first a_match a_openAt a_places a_dones a_wideVars a_wideStack a_codeOp a_codeArg a_entry a_helper a_mem a_returns
def vX_reset_2 (post : SX → Prop) (n : Nat) (x1 : Int32) (u : SX) : Prop := match u with
  | (f_LDI, f_LDA, f_STA, f_ADC, f_SBC, f_ANA, f_XRA, f_ORA, f_ROL, f_ROR, f_DEC, f_CLC, f_LDX, f_JZ, f_JNZ, f_JC, f_JNC, f_JPL, f_JSR, f_RTS, f_HLT, f_STACK, f_REST, f_COUNT, f_SIGN_Q, f_SIGN_A, f_OPA, f_OPB, f_vars, f_capacity, f_operands, f_nest, f_used, f_tail, f_loaded, f_depth, f_open, f_stage, f_divideAt, f_size, f_calls, f_acc, f_carry, f_index, f_pc, a_kinds, a_args, a_first, a_match, a_openAt, a_places, a_dones, a_wideVars, a_wideStack, a_codeOp, a_codeArg, a_entry, a_helper, a_mem, a_returns) => wX_reset_2 post f_LDI f_LDA f_STA f_ADC f_SBC f_ANA f_XRA f_ORA f_ROL f_ROR f_DEC f_CLC f_LDX f_JZ f_JNZ f_JC f_JNC f_JPL f_JSR f_RTS f_HLT f_STACK f_REST f_COUNT f_SIGN_Q f_SIGN_A f_OPA f_OPB f_vars f_capacity f_operands f_nest f_used f_tail f_loaded f_depth f_open f_stage f_divideAt f_size f_calls f_acc f_carry f_index f_pc n x1 a_kinds a_args a_first a_match a_openAt a_places a_dones a_wideVars a_wideStack a_codeOp a_codeArg a_entry a_helper a_mem a_returns
def vX_linkBlocks_95 (post : SX → Prop) (n : Nat) (x1 : Int32) (x2 : Int32) (x3 : Int32) (u : SX) : Prop := match u with
  | (f_LDI, f_LDA, f_STA, f_ADC, f_SBC, f_ANA, f_XRA, f_ORA, f_ROL, f_ROR, f_DEC, f_CLC, f_LDX, f_JZ, f_JNZ, f_JC, f_JNC, f_JPL, f_JSR, f_RTS, f_HLT, f_STACK, f_REST, f_COUNT, f_SIGN_Q, f_SIGN_A, f_OPA, f_OPB, f_vars, f_capacity, f_operands, f_nest, f_used, f_tail, f_loaded, f_depth, f_open, f_stage, f_divideAt, f_size, f_calls, f_acc, f_carry, f_index, f_pc, a_kinds, a_args, a_first, a_match, a_openAt, a_places, a_dones, a_wideVars, a_wideStack, a_codeOp, a_codeArg, a_entry, a_helper, a_mem, a_returns) => wX_linkBlocks_95 post (wX_linkBlocks_6 post f_LDI f_LDA f_STA f_ADC f_SBC f_ANA f_XRA f_ORA f_ROL f_ROR f_DEC f_CLC f_LDX f_JZ f_JNZ f_JC f_JNC f_JPL f_JSR f_RTS f_HLT f_STACK f_REST f_COUNT f_SIGN_Q f_SIGN_A f_OPA f_OPB f_vars f_capacity f_operands f_nest f_used f_tail f_loaded f_depth f_open f_stage f_divideAt f_size f_calls f_acc f_carry f_index f_pc n) x1 x2 x3 f_LDI f_LDA f_STA f_ADC f_SBC f_ANA f_XRA f_ORA f_ROL f_ROR f_DEC f_CLC f_LDX f_JZ f_JNZ f_JC f_JNC f_JPL f_JSR f_RTS f_HLT f_STACK f_REST f_COUNT f_SIGN_Q f_SIGN_A f_OPA f_OPB f_vars f_capacity f_operands f_nest f_used f_tail f_loaded f_depth f_open f_stage f_divideAt f_size f_calls f_acc f_carry f_index f_pc a_kinds a_args a_first a_match a_openAt a_places a_dones a_wideVars a_wideStack a_codeOp a_codeArg a_entry a_helper a_mem a_returns
def vX_linkBlocks_83 (post : SX → Prop) (n : Nat) (x1 : Int32) (x2 : Int32) (x3 : Int32) (x4 : Int32) (u : SX) : Prop := match u with
  | (f_LDI, f_LDA, f_STA, f_ADC, f_SBC, f_ANA, f_XRA, f_ORA, f_ROL, f_ROR, f_DEC, f_CLC, f_LDX, f_JZ, f_JNZ, f_JC, f_JNC, f_JPL, f_JSR, f_RTS, f_HLT, f_STACK, f_REST, f_COUNT, f_SIGN_Q, f_SIGN_A, f_OPA, f_OPB, f_vars, f_capacity, f_operands, f_nest, f_used, f_tail, f_loaded, f_depth, f_open, f_stage, f_divideAt, f_size, f_calls, f_acc, f_carry, f_index, f_pc, a_kinds, a_args, a_first, a_match, a_openAt, a_places, a_dones, a_wideVars, a_wideStack, a_codeOp, a_codeArg, a_entry, a_helper, a_mem, a_returns) => wX_linkBlocks_83 post (wX_linkBlocks_6 post f_LDI f_LDA f_STA f_ADC f_SBC f_ANA f_XRA f_ORA f_ROL f_ROR f_DEC f_CLC f_LDX f_JZ f_JNZ f_JC f_JNC f_JPL f_JSR f_RTS f_HLT f_STACK f_REST f_COUNT f_SIGN_Q f_SIGN_A f_OPA f_OPB f_vars f_capacity f_operands f_nest f_used f_tail f_loaded f_depth f_open f_stage f_divideAt f_size f_calls f_acc f_carry f_index f_pc n) x1 x2 x3 x4 f_LDI f_LDA f_STA f_ADC f_SBC f_ANA f_XRA f_ORA f_ROL f_ROR f_DEC f_CLC f_LDX f_JZ f_JNZ f_JC f_JNC f_JPL f_JSR f_RTS f_HLT f_STACK f_REST f_COUNT f_SIGN_Q f_SIGN_A f_OPA f_OPB f_vars f_capacity f_operands f_nest f_used f_tail f_loaded f_depth f_open f_stage f_divideAt f_size f_calls f_acc f_carry f_index f_pc a_kinds a_args a_first a_match a_openAt a_places a_dones a_wideVars a_wideStack a_codeOp a_codeArg a_entry a_helper a_mem a_returns
def vX_linkBlocks_6 (post : SX → Prop) (n : Nat) (x1 : Int32) (x2 : Int32) (x3 : Int32) (u : SX) : Prop := match u with
  | (f_LDI, f_LDA, f_STA, f_ADC, f_SBC, f_ANA, f_XRA, f_ORA, f_ROL, f_ROR, f_DEC, f_CLC, f_LDX, f_JZ, f_JNZ, f_JC, f_JNC, f_JPL, f_JSR, f_RTS, f_HLT, f_STACK, f_REST, f_COUNT, f_SIGN_Q, f_SIGN_A, f_OPA, f_OPB, f_vars, f_capacity, f_operands, f_nest, f_used, f_tail, f_loaded, f_depth, f_open, f_stage, f_divideAt, f_size, f_calls, f_acc, f_carry, f_index, f_pc, a_kinds, a_args, a_first, a_match, a_openAt, a_places, a_dones, a_wideVars, a_wideStack, a_codeOp, a_codeArg, a_entry, a_helper, a_mem, a_returns) => wX_linkBlocks_6 post f_LDI f_LDA f_STA f_ADC f_SBC f_ANA f_XRA f_ORA f_ROL f_ROR f_DEC f_CLC f_LDX f_JZ f_JNZ f_JC f_JNC f_JPL f_JSR f_RTS f_HLT f_STACK f_REST f_COUNT f_SIGN_Q f_SIGN_A f_OPA f_OPB f_vars f_capacity f_operands f_nest f_used f_tail f_loaded f_depth f_open f_stage f_divideAt f_size f_calls f_acc f_carry f_index f_pc n x1 x2 x3 a_kinds a_args a_first a_match a_openAt a_places a_dones a_wideVars a_wideStack a_codeOp a_codeArg a_entry a_helper a_mem a_returns
def vX_emitFill_9 (post : SX → Prop) (x1 : Int32) (n : Nat) (x3 : Int32) (u : SX) : Prop := match u with
  | (f_LDI, f_LDA, f_STA, f_ADC, f_SBC, f_ANA, f_XRA, f_ORA, f_ROL, f_ROR, f_DEC, f_CLC, f_LDX, f_JZ, f_JNZ, f_JC, f_JNC, f_JPL, f_JSR, f_RTS, f_HLT, f_STACK, f_REST, f_COUNT, f_SIGN_Q, f_SIGN_A, f_OPA, f_OPB, f_vars, f_capacity, f_operands, f_nest, f_used, f_tail, f_loaded, f_depth, f_open, f_stage, f_divideAt, f_size, f_calls, f_acc, f_carry, f_index, f_pc, a_kinds, a_args, a_first, a_match, a_openAt, a_places, a_dones, a_wideVars, a_wideStack, a_codeOp, a_codeArg, a_entry, a_helper, a_mem, a_returns) => wX_emitFill_9 post x1 n x3 f_LDI f_LDA f_STA f_ADC f_SBC f_ANA f_XRA f_ORA f_ROL f_ROR f_DEC f_CLC f_LDX f_JZ f_JNZ f_JC f_JNC f_JPL f_JSR f_RTS f_HLT f_STACK f_REST f_COUNT f_SIGN_Q f_SIGN_A f_OPA f_OPB f_vars f_capacity f_operands f_nest f_used f_tail f_loaded f_depth f_open f_stage f_divideAt f_size f_calls f_acc f_carry f_index f_pc a_kinds a_args a_first a_match a_openAt a_places a_dones a_wideVars a_wideStack a_codeOp a_codeArg a_entry a_helper a_mem a_returns
def vX_emitRight_2 (post : SX → Prop) (x1 : Int32) (n : Nat) (x2 : Int32) (u : SX) : Prop := match u with
  | (f_LDI, f_LDA, f_STA, f_ADC, f_SBC, f_ANA, f_XRA, f_ORA, f_ROL, f_ROR, f_DEC, f_CLC, f_LDX, f_JZ, f_JNZ, f_JC, f_JNC, f_JPL, f_JSR, f_RTS, f_HLT, f_STACK, f_REST, f_COUNT, f_SIGN_Q, f_SIGN_A, f_OPA, f_OPB, f_vars, f_capacity, f_operands, f_nest, f_used, f_tail, f_loaded, f_depth, f_open, f_stage, f_divideAt, f_size, f_calls, f_acc, f_carry, f_index, f_pc, a_kinds, a_args, a_first, a_match, a_openAt, a_places, a_dones, a_wideVars, a_wideStack, a_codeOp, a_codeArg, a_entry, a_helper, a_mem, a_returns) => wX_emitRight_2 post x1 n x2 f_LDI f_LDA f_STA f_ADC f_SBC f_ANA f_XRA f_ORA f_ROL f_ROR f_DEC f_CLC f_LDX f_JZ f_JNZ f_JC f_JNC f_JPL f_JSR f_RTS f_HLT f_STACK f_REST f_COUNT f_SIGN_Q f_SIGN_A f_OPA f_OPB f_vars f_capacity f_operands f_nest f_used f_tail f_loaded f_depth f_open f_stage f_divideAt f_size f_calls f_acc f_carry f_index f_pc a_kinds a_args a_first a_match a_openAt a_places a_dones a_wideVars a_wideStack a_codeOp a_codeArg a_entry a_helper a_mem a_returns
def vX_emitChain_11 (post : SX → Prop) (x1 : Int32) (x2 : Int32) (x3 : Int32) (n : Nat) (x4 : Int32) (u : SX) : Prop := match u with
  | (f_LDI, f_LDA, f_STA, f_ADC, f_SBC, f_ANA, f_XRA, f_ORA, f_ROL, f_ROR, f_DEC, f_CLC, f_LDX, f_JZ, f_JNZ, f_JC, f_JNC, f_JPL, f_JSR, f_RTS, f_HLT, f_STACK, f_REST, f_COUNT, f_SIGN_Q, f_SIGN_A, f_OPA, f_OPB, f_vars, f_capacity, f_operands, f_nest, f_used, f_tail, f_loaded, f_depth, f_open, f_stage, f_divideAt, f_size, f_calls, f_acc, f_carry, f_index, f_pc, a_kinds, a_args, a_first, a_match, a_openAt, a_places, a_dones, a_wideVars, a_wideStack, a_codeOp, a_codeArg, a_entry, a_helper, a_mem, a_returns) => wX_emitChain_11 post x1 x2 x3 n x4 f_LDI f_LDA f_STA f_ADC f_SBC f_ANA f_XRA f_ORA f_ROL f_ROR f_DEC f_CLC f_LDX f_JZ f_JNZ f_JC f_JNC f_JPL f_JSR f_RTS f_HLT f_STACK f_REST f_COUNT f_SIGN_Q f_SIGN_A f_OPA f_OPB f_vars f_capacity f_operands f_nest f_used f_tail f_loaded f_depth f_open f_stage f_divideAt f_size f_calls f_acc f_carry f_index f_pc a_kinds a_args a_first a_match a_openAt a_places a_dones a_wideVars a_wideStack a_codeOp a_codeArg a_entry a_helper a_mem a_returns
def vX_emitLeft_2 (post : SX → Prop) (x1 : Int32) (n : Nat) (x2 : Int32) (u : SX) : Prop := match u with
  | (f_LDI, f_LDA, f_STA, f_ADC, f_SBC, f_ANA, f_XRA, f_ORA, f_ROL, f_ROR, f_DEC, f_CLC, f_LDX, f_JZ, f_JNZ, f_JC, f_JNC, f_JPL, f_JSR, f_RTS, f_HLT, f_STACK, f_REST, f_COUNT, f_SIGN_Q, f_SIGN_A, f_OPA, f_OPB, f_vars, f_capacity, f_operands, f_nest, f_used, f_tail, f_loaded, f_depth, f_open, f_stage, f_divideAt, f_size, f_calls, f_acc, f_carry, f_index, f_pc, a_kinds, a_args, a_first, a_match, a_openAt, a_places, a_dones, a_wideVars, a_wideStack, a_codeOp, a_codeArg, a_entry, a_helper, a_mem, a_returns) => wX_emitLeft_2 post x1 n x2 f_LDI f_LDA f_STA f_ADC f_SBC f_ANA f_XRA f_ORA f_ROL f_ROR f_DEC f_CLC f_LDX f_JZ f_JNZ f_JC f_JNC f_JPL f_JSR f_RTS f_HLT f_STACK f_REST f_COUNT f_SIGN_Q f_SIGN_A f_OPA f_OPB f_vars f_capacity f_operands f_nest f_used f_tail f_loaded f_depth f_open f_stage f_divideAt f_size f_calls f_acc f_carry f_index f_pc a_kinds a_args a_first a_match a_openAt a_places a_dones a_wideVars a_wideStack a_codeOp a_codeArg a_entry a_helper a_mem a_returns
def vX_emitCopy_2 (post : SX → Prop) (x1 : Int32) (x2 : Int32) (n : Nat) (x3 : Int32) (u : SX) : Prop := match u with
  | (f_LDI, f_LDA, f_STA, f_ADC, f_SBC, f_ANA, f_XRA, f_ORA, f_ROL, f_ROR, f_DEC, f_CLC, f_LDX, f_JZ, f_JNZ, f_JC, f_JNC, f_JPL, f_JSR, f_RTS, f_HLT, f_STACK, f_REST, f_COUNT, f_SIGN_Q, f_SIGN_A, f_OPA, f_OPB, f_vars, f_capacity, f_operands, f_nest, f_used, f_tail, f_loaded, f_depth, f_open, f_stage, f_divideAt, f_size, f_calls, f_acc, f_carry, f_index, f_pc, a_kinds, a_args, a_first, a_match, a_openAt, a_places, a_dones, a_wideVars, a_wideStack, a_codeOp, a_codeArg, a_entry, a_helper, a_mem, a_returns) => wX_emitCopy_2 post x1 x2 n x3 f_LDI f_LDA f_STA f_ADC f_SBC f_ANA f_XRA f_ORA f_ROL f_ROR f_DEC f_CLC f_LDX f_JZ f_JNZ f_JC f_JNC f_JPL f_JSR f_RTS f_HLT f_STACK f_REST f_COUNT f_SIGN_Q f_SIGN_A f_OPA f_OPB f_vars f_capacity f_operands f_nest f_used f_tail f_loaded f_depth f_open f_stage f_divideAt f_size f_calls f_acc f_carry f_index f_pc a_kinds a_args a_first a_match a_openAt a_places a_dones a_wideVars a_wideStack a_codeOp a_codeArg a_entry a_helper a_mem a_returns
def vX_emitNegateIf_26 (post : SX → Prop) (x2 : Int32) (x3 : Int32) (n : Nat) (x4 : Int32) (u : SX) : Prop := match u with
  | (f_LDI, f_LDA, f_STA, f_ADC, f_SBC, f_ANA, f_XRA, f_ORA, f_ROL, f_ROR, f_DEC, f_CLC, f_LDX, f_JZ, f_JNZ, f_JC, f_JNC, f_JPL, f_JSR, f_RTS, f_HLT, f_STACK, f_REST, f_COUNT, f_SIGN_Q, f_SIGN_A, f_OPA, f_OPB, f_vars, f_capacity, f_operands, f_nest, f_used, f_tail, f_loaded, f_depth, f_open, f_stage, f_divideAt, f_size, f_calls, f_acc, f_carry, f_index, f_pc, a_kinds, a_args, a_first, a_match, a_openAt, a_places, a_dones, a_wideVars, a_wideStack, a_codeOp, a_codeArg, a_entry, a_helper, a_mem, a_returns) => wX_emitNegateIf_26 post x2 x3 n x4 f_LDI f_LDA f_STA f_ADC f_SBC f_ANA f_XRA f_ORA f_ROL f_ROR f_DEC f_CLC f_LDX f_JZ f_JNZ f_JC f_JNC f_JPL f_JSR f_RTS f_HLT f_STACK f_REST f_COUNT f_SIGN_Q f_SIGN_A f_OPA f_OPB f_vars f_capacity f_operands f_nest f_used f_tail f_loaded f_depth f_open f_stage f_divideAt f_size f_calls f_acc f_carry f_index f_pc a_kinds a_args a_first a_match a_openAt a_places a_dones a_wideVars a_wideStack a_codeOp a_codeArg a_entry a_helper a_mem a_returns
def vX_emitCompare_10 (post : SX → Prop) (x1 : Int32) (x2 : Int32) (n : Nat) (x3 : Int32) (u : SX) : Prop := match u with
  | (f_LDI, f_LDA, f_STA, f_ADC, f_SBC, f_ANA, f_XRA, f_ORA, f_ROL, f_ROR, f_DEC, f_CLC, f_LDX, f_JZ, f_JNZ, f_JC, f_JNC, f_JPL, f_JSR, f_RTS, f_HLT, f_STACK, f_REST, f_COUNT, f_SIGN_Q, f_SIGN_A, f_OPA, f_OPB, f_vars, f_capacity, f_operands, f_nest, f_used, f_tail, f_loaded, f_depth, f_open, f_stage, f_divideAt, f_size, f_calls, f_acc, f_carry, f_index, f_pc, a_kinds, a_args, a_first, a_match, a_openAt, a_places, a_dones, a_wideVars, a_wideStack, a_codeOp, a_codeArg, a_entry, a_helper, a_mem, a_returns) => wX_emitCompare_10 post x1 x2 n x3 f_LDI f_LDA f_STA f_ADC f_SBC f_ANA f_XRA f_ORA f_ROL f_ROR f_DEC f_CLC f_LDX f_JZ f_JNZ f_JC f_JNC f_JPL f_JSR f_RTS f_HLT f_STACK f_REST f_COUNT f_SIGN_Q f_SIGN_A f_OPA f_OPB f_vars f_capacity f_operands f_nest f_used f_tail f_loaded f_depth f_open f_stage f_divideAt f_size f_calls f_acc f_carry f_index f_pc a_kinds a_args a_first a_match a_openAt a_places a_dones a_wideVars a_wideStack a_codeOp a_codeArg a_entry a_helper a_mem a_returns
def vX_emitTest_9 (post : SX → Prop) (x1 : Int32) (n : Nat) (x2 : Int32) (u : SX) : Prop := match u with
  | (f_LDI, f_LDA, f_STA, f_ADC, f_SBC, f_ANA, f_XRA, f_ORA, f_ROL, f_ROR, f_DEC, f_CLC, f_LDX, f_JZ, f_JNZ, f_JC, f_JNC, f_JPL, f_JSR, f_RTS, f_HLT, f_STACK, f_REST, f_COUNT, f_SIGN_Q, f_SIGN_A, f_OPA, f_OPB, f_vars, f_capacity, f_operands, f_nest, f_used, f_tail, f_loaded, f_depth, f_open, f_stage, f_divideAt, f_size, f_calls, f_acc, f_carry, f_index, f_pc, a_kinds, a_args, a_first, a_match, a_openAt, a_places, a_dones, a_wideVars, a_wideStack, a_codeOp, a_codeArg, a_entry, a_helper, a_mem, a_returns) => wX_emitTest_9 post x1 n x2 f_LDI f_LDA f_STA f_ADC f_SBC f_ANA f_XRA f_ORA f_ROL f_ROR f_DEC f_CLC f_LDX f_JZ f_JNZ f_JC f_JNC f_JPL f_JSR f_RTS f_HLT f_STACK f_REST f_COUNT f_SIGN_Q f_SIGN_A f_OPA f_OPB f_vars f_capacity f_operands f_nest f_used f_tail f_loaded f_depth f_open f_stage f_divideAt f_size f_calls f_acc f_carry f_index f_pc a_kinds a_args a_first a_match a_openAt a_places a_dones a_wideVars a_wideStack a_codeOp a_codeArg a_entry a_helper a_mem a_returns
def vX_emitShift_105 (post : SX → Prop) (x2 : Int32) (x3 : Int32) (u : SX) : Prop := match u with
  | (f_LDI, f_LDA, f_STA, f_ADC, f_SBC, f_ANA, f_XRA, f_ORA, f_ROL, f_ROR, f_DEC, f_CLC, f_LDX, f_JZ, f_JNZ, f_JC, f_JNC, f_JPL, f_JSR, f_RTS, f_HLT, f_STACK, f_REST, f_COUNT, f_SIGN_Q, f_SIGN_A, f_OPA, f_OPB, f_vars, f_capacity, f_operands, f_nest, f_used, f_tail, f_loaded, f_depth, f_open, f_stage, f_divideAt, f_size, f_calls, f_acc, f_carry, f_index, f_pc, a_kinds, a_args, a_first, a_match, a_openAt, a_places, a_dones, a_wideVars, a_wideStack, a_codeOp, a_codeArg, a_entry, a_helper, a_mem, a_returns) => wX_emitShift_105 post x2 x3 f_LDI f_LDA f_STA f_ADC f_SBC f_ANA f_XRA f_ORA f_ROL f_ROR f_DEC f_CLC f_LDX f_JZ f_JNZ f_JC f_JNC f_JPL f_JSR f_RTS f_HLT f_STACK f_REST f_COUNT f_SIGN_Q f_SIGN_A f_OPA f_OPB f_vars f_capacity f_operands f_nest f_used f_tail f_loaded f_depth f_open f_stage f_divideAt f_size f_calls f_acc f_carry f_index f_pc a_kinds a_args a_first a_match a_openAt a_places a_dones a_wideVars a_wideStack a_codeOp a_codeArg a_entry a_helper a_mem a_returns
def vX_emitOperator_106 (post : SX → Prop) (x1 : Int32) (x2 : Int32) (u : SX) : Prop := match u with
  | (f_LDI, f_LDA, f_STA, f_ADC, f_SBC, f_ANA, f_XRA, f_ORA, f_ROL, f_ROR, f_DEC, f_CLC, f_LDX, f_JZ, f_JNZ, f_JC, f_JNC, f_JPL, f_JSR, f_RTS, f_HLT, f_STACK, f_REST, f_COUNT, f_SIGN_Q, f_SIGN_A, f_OPA, f_OPB, f_vars, f_capacity, f_operands, f_nest, f_used, f_tail, f_loaded, f_depth, f_open, f_stage, f_divideAt, f_size, f_calls, f_acc, f_carry, f_index, f_pc, a_kinds, a_args, a_first, a_match, a_openAt, a_places, a_dones, a_wideVars, a_wideStack, a_codeOp, a_codeArg, a_entry, a_helper, a_mem, a_returns) => wX_emitOperator_106 post x1 x2 f_LDI f_LDA f_STA f_ADC f_SBC f_ANA f_XRA f_ORA f_ROL f_ROR f_DEC f_CLC f_LDX f_JZ f_JNZ f_JC f_JNC f_JPL f_JSR f_RTS f_HLT f_STACK f_REST f_COUNT f_SIGN_Q f_SIGN_A f_OPA f_OPB f_vars f_capacity f_operands f_nest f_used f_tail f_loaded f_depth f_open f_stage f_divideAt f_size f_calls f_acc f_carry f_index f_pc a_kinds a_args a_first a_match a_openAt a_places a_dones a_wideVars a_wideStack a_codeOp a_codeArg a_entry a_helper a_mem a_returns
def vX_emitConst_2 (post : SX → Prop) (x1 : Int32) (x2 : Int32) (n : Nat) (x3 : Int32) (u : SX) : Prop := match u with
  | (f_LDI, f_LDA, f_STA, f_ADC, f_SBC, f_ANA, f_XRA, f_ORA, f_ROL, f_ROR, f_DEC, f_CLC, f_LDX, f_JZ, f_JNZ, f_JC, f_JNC, f_JPL, f_JSR, f_RTS, f_HLT, f_STACK, f_REST, f_COUNT, f_SIGN_Q, f_SIGN_A, f_OPA, f_OPB, f_vars, f_capacity, f_operands, f_nest, f_used, f_tail, f_loaded, f_depth, f_open, f_stage, f_divideAt, f_size, f_calls, f_acc, f_carry, f_index, f_pc, a_kinds, a_args, a_first, a_match, a_openAt, a_places, a_dones, a_wideVars, a_wideStack, a_codeOp, a_codeArg, a_entry, a_helper, a_mem, a_returns) => wX_emitConst_2 post x1 x2 n x3 f_LDI f_LDA f_STA f_ADC f_SBC f_ANA f_XRA f_ORA f_ROL f_ROR f_DEC f_CLC f_LDX f_JZ f_JNZ f_JC f_JNC f_JPL f_JSR f_RTS f_HLT f_STACK f_REST f_COUNT f_SIGN_Q f_SIGN_A f_OPA f_OPB f_vars f_capacity f_operands f_nest f_used f_tail f_loaded f_depth f_open f_stage f_divideAt f_size f_calls f_acc f_carry f_index f_pc a_kinds a_args a_first a_match a_openAt a_places a_dones a_wideVars a_wideStack a_codeOp a_codeArg a_entry a_helper a_mem a_returns
def vX_compile_47 (post : SX → Prop) (n : Nat) (x1 : Int32) (x2 : Int32) (u : SX) : Prop := match u with
  | (f_LDI, f_LDA, f_STA, f_ADC, f_SBC, f_ANA, f_XRA, f_ORA, f_ROL, f_ROR, f_DEC, f_CLC, f_LDX, f_JZ, f_JNZ, f_JC, f_JNC, f_JPL, f_JSR, f_RTS, f_HLT, f_STACK, f_REST, f_COUNT, f_SIGN_Q, f_SIGN_A, f_OPA, f_OPB, f_vars, f_capacity, f_operands, f_nest, f_used, f_tail, f_loaded, f_depth, f_open, f_stage, f_divideAt, f_size, f_calls, f_acc, f_carry, f_index, f_pc, a_kinds, a_args, a_first, a_match, a_openAt, a_places, a_dones, a_wideVars, a_wideStack, a_codeOp, a_codeArg, a_entry, a_helper, a_mem, a_returns) => wX_compile_47 post n x1 x2 f_LDI f_LDA f_STA f_ADC f_SBC f_ANA f_XRA f_ORA f_ROL f_ROR f_DEC f_CLC f_LDX f_JZ f_JNZ f_JC f_JNC f_JPL f_JSR f_RTS f_HLT f_STACK f_REST f_COUNT f_SIGN_Q f_SIGN_A f_OPA f_OPB f_vars f_capacity f_operands f_nest f_used f_tail f_loaded f_depth f_open f_stage f_divideAt f_size f_calls f_acc f_carry f_index f_pc a_kinds a_args a_first a_match a_openAt a_places a_dones a_wideVars a_wideStack a_codeOp a_codeArg a_entry a_helper a_mem a_returns
def vX_input_50 (post : Int32 → SX → Prop) (x1 : Int32) (x2 : Int32) (n : Nat) (x3 : Int32) (u : SX) : Prop := match u with
  | (f_LDI, f_LDA, f_STA, f_ADC, f_SBC, f_ANA, f_XRA, f_ORA, f_ROL, f_ROR, f_DEC, f_CLC, f_LDX, f_JZ, f_JNZ, f_JC, f_JNC, f_JPL, f_JSR, f_RTS, f_HLT, f_STACK, f_REST, f_COUNT, f_SIGN_Q, f_SIGN_A, f_OPA, f_OPB, f_vars, f_capacity, f_operands, f_nest, f_used, f_tail, f_loaded, f_depth, f_open, f_stage, f_divideAt, f_size, f_calls, f_acc, f_carry, f_index, f_pc, a_kinds, a_args, a_first, a_match, a_openAt, a_places, a_dones, a_wideVars, a_wideStack, a_codeOp, a_codeArg, a_entry, a_helper, a_mem, a_returns) => wX_input_50 post x1 x2 f_LDI f_LDA f_STA f_ADC f_SBC f_ANA f_XRA f_ORA f_ROL f_ROR f_DEC f_CLC f_LDX f_JZ f_JNZ f_JC f_JNC f_JPL f_JSR f_RTS f_HLT f_STACK f_REST f_COUNT f_SIGN_Q f_SIGN_A f_OPA f_OPB f_vars f_capacity f_operands f_nest f_used f_tail f_loaded f_depth f_open f_stage f_divideAt f_size f_calls f_acc f_carry f_index f_pc n x3 a_kinds a_args a_first a_match a_openAt a_places a_dones a_wideVars a_wideStack a_codeOp a_codeArg a_entry a_helper a_mem a_returns
def vX_wideStatement_42 (post : SX → Prop) (x2 : Int32) (u : SX) : Prop := match u with
  | (f_LDI, f_LDA, f_STA, f_ADC, f_SBC, f_ANA, f_XRA, f_ORA, f_ROL, f_ROR, f_DEC, f_CLC, f_LDX, f_JZ, f_JNZ, f_JC, f_JNC, f_JPL, f_JSR, f_RTS, f_HLT, f_STACK, f_REST, f_COUNT, f_SIGN_Q, f_SIGN_A, f_OPA, f_OPB, f_vars, f_capacity, f_operands, f_nest, f_used, f_tail, f_loaded, f_depth, f_open, f_stage, f_divideAt, f_size, f_calls, f_acc, f_carry, f_index, f_pc, a_kinds, a_args, a_first, a_match, a_openAt, a_places, a_dones, a_wideVars, a_wideStack, a_codeOp, a_codeArg, a_entry, a_helper, a_mem, a_returns) => wX_wideStatement_42 post x2 f_LDI f_LDA f_STA f_ADC f_SBC f_ANA f_XRA f_ORA f_ROL f_ROR f_DEC f_CLC f_LDX f_JZ f_JNZ f_JC f_JNC f_JPL f_JSR f_RTS f_HLT f_STACK f_REST f_COUNT f_SIGN_Q f_SIGN_A f_OPA f_OPB f_vars f_capacity f_operands f_nest f_used f_tail f_loaded f_depth f_open f_stage f_divideAt f_size f_calls f_acc f_carry f_index f_pc a_kinds a_args a_first a_match a_openAt a_places a_dones a_wideVars a_wideStack a_codeOp a_codeArg a_entry a_helper a_mem a_returns
def vX_wideStatement_9 (post : SX → Prop) (n : Nat) (x1 : Int32) (x2 : Int32) (u : SX) : Prop := match u with
  | (f_LDI, f_LDA, f_STA, f_ADC, f_SBC, f_ANA, f_XRA, f_ORA, f_ROL, f_ROR, f_DEC, f_CLC, f_LDX, f_JZ, f_JNZ, f_JC, f_JNC, f_JPL, f_JSR, f_RTS, f_HLT, f_STACK, f_REST, f_COUNT, f_SIGN_Q, f_SIGN_A, f_OPA, f_OPB, f_vars, f_capacity, f_operands, f_nest, f_used, f_tail, f_loaded, f_depth, f_open, f_stage, f_divideAt, f_size, f_calls, f_acc, f_carry, f_index, f_pc, a_kinds, a_args, a_first, a_match, a_openAt, a_places, a_dones, a_wideVars, a_wideStack, a_codeOp, a_codeArg, a_entry, a_helper, a_mem, a_returns) => wX_wideStatement_9 post n x1 x2 f_LDI f_LDA f_STA f_ADC f_SBC f_ANA f_XRA f_ORA f_ROL f_ROR f_DEC f_CLC f_LDX f_JZ f_JNZ f_JC f_JNC f_JPL f_JSR f_RTS f_HLT f_STACK f_REST f_COUNT f_SIGN_Q f_SIGN_A f_OPA f_OPB f_vars f_capacity f_operands f_nest f_used f_tail f_loaded f_depth f_open f_stage f_divideAt f_size f_calls f_acc f_carry f_index f_pc a_kinds a_args a_first a_match a_openAt a_places a_dones a_wideVars a_wideStack a_codeOp a_codeArg a_entry a_helper a_mem a_returns
def vX_operate_18 (post : SX → Prop) (x1 : Int32) (x2 : Int32) (z0 : Int32) (u : SX) : Prop := match u with
  | (f_LDI, f_LDA, f_STA, f_ADC, f_SBC, f_ANA, f_XRA, f_ORA, f_ROL, f_ROR, f_DEC, f_CLC, f_LDX, f_JZ, f_JNZ, f_JC, f_JNC, f_JPL, f_JSR, f_RTS, f_HLT, f_STACK, f_REST, f_COUNT, f_SIGN_Q, f_SIGN_A, f_OPA, f_OPB, f_vars, f_capacity, f_operands, f_nest, f_used, f_tail, f_loaded, f_depth, f_open, f_stage, f_divideAt, f_size, f_calls, f_acc, f_carry, f_index, f_pc, a_kinds, a_args, a_first, a_match, a_openAt, a_places, a_dones, a_wideVars, a_wideStack, a_codeOp, a_codeArg, a_entry, a_helper, a_mem, a_returns) => wX_operate_18 post x1 x2 z0 f_LDI f_LDA f_STA f_ADC f_SBC f_ANA f_XRA f_ORA f_ROL f_ROR f_DEC f_CLC f_LDX f_JZ f_JNZ f_JC f_JNC f_JPL f_JSR f_RTS f_HLT f_STACK f_REST f_COUNT f_SIGN_Q f_SIGN_A f_OPA f_OPB f_vars f_capacity f_operands f_nest f_used f_tail f_loaded f_depth f_open f_stage f_divideAt f_size f_calls f_acc f_carry f_index f_pc a_kinds a_args a_first a_match a_openAt a_places a_dones a_wideVars a_wideStack a_codeOp a_codeArg a_entry a_helper a_mem a_returns
def vX_control_179 (post : SX → Prop) (x2 : Int32) (z0 : Int32) (u : SX) : Prop := match u with
  | (f_LDI, f_LDA, f_STA, f_ADC, f_SBC, f_ANA, f_XRA, f_ORA, f_ROL, f_ROR, f_DEC, f_CLC, f_LDX, f_JZ, f_JNZ, f_JC, f_JNC, f_JPL, f_JSR, f_RTS, f_HLT, f_STACK, f_REST, f_COUNT, f_SIGN_Q, f_SIGN_A, f_OPA, f_OPB, f_vars, f_capacity, f_operands, f_nest, f_used, f_tail, f_loaded, f_depth, f_open, f_stage, f_divideAt, f_size, f_calls, f_acc, f_carry, f_index, f_pc, a_kinds, a_args, a_first, a_match, a_openAt, a_places, a_dones, a_wideVars, a_wideStack, a_codeOp, a_codeArg, a_entry, a_helper, a_mem, a_returns) => wX_control_179 post x2 z0 f_LDI f_LDA f_STA f_ADC f_SBC f_ANA f_XRA f_ORA f_ROL f_ROR f_DEC f_CLC f_LDX f_JZ f_JNZ f_JC f_JNC f_JPL f_JSR f_RTS f_HLT f_STACK f_REST f_COUNT f_SIGN_Q f_SIGN_A f_OPA f_OPB f_vars f_capacity f_operands f_nest f_used f_tail f_loaded f_depth f_open f_stage f_divideAt f_size f_calls f_acc f_carry f_index f_pc a_kinds a_args a_first a_match a_openAt a_places a_dones a_wideVars a_wideStack a_codeOp a_codeArg a_entry a_helper a_mem a_returns
def vX_control_163 (post : SX → Prop) (x2 : Int32) (u : SX) : Prop := match u with
  | (f_LDI, f_LDA, f_STA, f_ADC, f_SBC, f_ANA, f_XRA, f_ORA, f_ROL, f_ROR, f_DEC, f_CLC, f_LDX, f_JZ, f_JNZ, f_JC, f_JNC, f_JPL, f_JSR, f_RTS, f_HLT, f_STACK, f_REST, f_COUNT, f_SIGN_Q, f_SIGN_A, f_OPA, f_OPB, f_vars, f_capacity, f_operands, f_nest, f_used, f_tail, f_loaded, f_depth, f_open, f_stage, f_divideAt, f_size, f_calls, f_acc, f_carry, f_index, f_pc, a_kinds, a_args, a_first, a_match, a_openAt, a_places, a_dones, a_wideVars, a_wideStack, a_codeOp, a_codeArg, a_entry, a_helper, a_mem, a_returns) => wX_control_163 post x2 f_LDI f_LDA f_STA f_ADC f_SBC f_ANA f_XRA f_ORA f_ROL f_ROR f_DEC f_CLC f_LDX f_JZ f_JNZ f_JC f_JNC f_JPL f_JSR f_RTS f_HLT f_STACK f_REST f_COUNT f_SIGN_Q f_SIGN_A f_OPA f_OPB f_vars f_capacity f_operands f_nest f_used f_tail f_loaded f_depth f_open f_stage f_divideAt f_size f_calls f_acc f_carry f_index f_pc a_kinds a_args a_first a_match a_openAt a_places a_dones a_wideVars a_wideStack a_codeOp a_codeArg a_entry a_helper a_mem a_returns
def vX_control_96 (post : SX → Prop) (x2 : Int32) (z0 : Int32) (u : SX) : Prop := match u with
  | (f_LDI, f_LDA, f_STA, f_ADC, f_SBC, f_ANA, f_XRA, f_ORA, f_ROL, f_ROR, f_DEC, f_CLC, f_LDX, f_JZ, f_JNZ, f_JC, f_JNC, f_JPL, f_JSR, f_RTS, f_HLT, f_STACK, f_REST, f_COUNT, f_SIGN_Q, f_SIGN_A, f_OPA, f_OPB, f_vars, f_capacity, f_operands, f_nest, f_used, f_tail, f_loaded, f_depth, f_open, f_stage, f_divideAt, f_size, f_calls, f_acc, f_carry, f_index, f_pc, a_kinds, a_args, a_first, a_match, a_openAt, a_places, a_dones, a_wideVars, a_wideStack, a_codeOp, a_codeArg, a_entry, a_helper, a_mem, a_returns) => wX_control_96 post x2 z0 f_LDI f_LDA f_STA f_ADC f_SBC f_ANA f_XRA f_ORA f_ROL f_ROR f_DEC f_CLC f_LDX f_JZ f_JNZ f_JC f_JNC f_JPL f_JSR f_RTS f_HLT f_STACK f_REST f_COUNT f_SIGN_Q f_SIGN_A f_OPA f_OPB f_vars f_capacity f_operands f_nest f_used f_tail f_loaded f_depth f_open f_stage f_divideAt f_size f_calls f_acc f_carry f_index f_pc a_kinds a_args a_first a_match a_openAt a_places a_dones a_wideVars a_wideStack a_codeOp a_codeArg a_entry a_helper a_mem a_returns
def vX_control_116 (post : SX → Prop) (x2 : Int32) (z0 : Int32) (u : SX) : Prop := match u with
  | (f_LDI, f_LDA, f_STA, f_ADC, f_SBC, f_ANA, f_XRA, f_ORA, f_ROL, f_ROR, f_DEC, f_CLC, f_LDX, f_JZ, f_JNZ, f_JC, f_JNC, f_JPL, f_JSR, f_RTS, f_HLT, f_STACK, f_REST, f_COUNT, f_SIGN_Q, f_SIGN_A, f_OPA, f_OPB, f_vars, f_capacity, f_operands, f_nest, f_used, f_tail, f_loaded, f_depth, f_open, f_stage, f_divideAt, f_size, f_calls, f_acc, f_carry, f_index, f_pc, a_kinds, a_args, a_first, a_match, a_openAt, a_places, a_dones, a_wideVars, a_wideStack, a_codeOp, a_codeArg, a_entry, a_helper, a_mem, a_returns) => wX_control_116 post x2 z0 f_LDI f_LDA f_STA f_ADC f_SBC f_ANA f_XRA f_ORA f_ROL f_ROR f_DEC f_CLC f_LDX f_JZ f_JNZ f_JC f_JNC f_JPL f_JSR f_RTS f_HLT f_STACK f_REST f_COUNT f_SIGN_Q f_SIGN_A f_OPA f_OPB f_vars f_capacity f_operands f_nest f_used f_tail f_loaded f_depth f_open f_stage f_divideAt f_size f_calls f_acc f_carry f_index f_pc a_kinds a_args a_first a_match a_openAt a_places a_dones a_wideVars a_wideStack a_codeOp a_codeArg a_entry a_helper a_mem a_returns
def vX_control_136 (post : SX → Prop) (x2 : Int32) (z0 : Int32) (u : SX) : Prop := match u with
  | (f_LDI, f_LDA, f_STA, f_ADC, f_SBC, f_ANA, f_XRA, f_ORA, f_ROL, f_ROR, f_DEC, f_CLC, f_LDX, f_JZ, f_JNZ, f_JC, f_JNC, f_JPL, f_JSR, f_RTS, f_HLT, f_STACK, f_REST, f_COUNT, f_SIGN_Q, f_SIGN_A, f_OPA, f_OPB, f_vars, f_capacity, f_operands, f_nest, f_used, f_tail, f_loaded, f_depth, f_open, f_stage, f_divideAt, f_size, f_calls, f_acc, f_carry, f_index, f_pc, a_kinds, a_args, a_first, a_match, a_openAt, a_places, a_dones, a_wideVars, a_wideStack, a_codeOp, a_codeArg, a_entry, a_helper, a_mem, a_returns) => wX_control_136 post x2 z0 f_LDI f_LDA f_STA f_ADC f_SBC f_ANA f_XRA f_ORA f_ROL f_ROR f_DEC f_CLC f_LDX f_JZ f_JNZ f_JC f_JNC f_JPL f_JSR f_RTS f_HLT f_STACK f_REST f_COUNT f_SIGN_Q f_SIGN_A f_OPA f_OPB f_vars f_capacity f_operands f_nest f_used f_tail f_loaded f_depth f_open f_stage f_divideAt f_size f_calls f_acc f_carry f_index f_pc a_kinds a_args a_first a_match a_openAt a_places a_dones a_wideVars a_wideStack a_codeOp a_codeArg a_entry a_helper a_mem a_returns
def vX_control_156 (post : SX → Prop) (x2 : Int32) (z0 : Int32) (u : SX) : Prop := match u with
  | (f_LDI, f_LDA, f_STA, f_ADC, f_SBC, f_ANA, f_XRA, f_ORA, f_ROL, f_ROR, f_DEC, f_CLC, f_LDX, f_JZ, f_JNZ, f_JC, f_JNC, f_JPL, f_JSR, f_RTS, f_HLT, f_STACK, f_REST, f_COUNT, f_SIGN_Q, f_SIGN_A, f_OPA, f_OPB, f_vars, f_capacity, f_operands, f_nest, f_used, f_tail, f_loaded, f_depth, f_open, f_stage, f_divideAt, f_size, f_calls, f_acc, f_carry, f_index, f_pc, a_kinds, a_args, a_first, a_match, a_openAt, a_places, a_dones, a_wideVars, a_wideStack, a_codeOp, a_codeArg, a_entry, a_helper, a_mem, a_returns) => wX_control_156 post x2 z0 f_LDI f_LDA f_STA f_ADC f_SBC f_ANA f_XRA f_ORA f_ROL f_ROR f_DEC f_CLC f_LDX f_JZ f_JNZ f_JC f_JNC f_JPL f_JSR f_RTS f_HLT f_STACK f_REST f_COUNT f_SIGN_Q f_SIGN_A f_OPA f_OPB f_vars f_capacity f_operands f_nest f_used f_tail f_loaded f_depth f_open f_stage f_divideAt f_size f_calls f_acc f_carry f_index f_pc a_kinds a_args a_first a_match a_openAt a_places a_dones a_wideVars a_wideStack a_codeOp a_codeArg a_entry a_helper a_mem a_returns
def vX_octetStatement_24 (post : SX → Prop) (n : Nat) (x1 : Int32) (x2 : Int32) (u : SX) : Prop := match u with
  | (f_LDI, f_LDA, f_STA, f_ADC, f_SBC, f_ANA, f_XRA, f_ORA, f_ROL, f_ROR, f_DEC, f_CLC, f_LDX, f_JZ, f_JNZ, f_JC, f_JNC, f_JPL, f_JSR, f_RTS, f_HLT, f_STACK, f_REST, f_COUNT, f_SIGN_Q, f_SIGN_A, f_OPA, f_OPB, f_vars, f_capacity, f_operands, f_nest, f_used, f_tail, f_loaded, f_depth, f_open, f_stage, f_divideAt, f_size, f_calls, f_acc, f_carry, f_index, f_pc, a_kinds, a_args, a_first, a_match, a_openAt, a_places, a_dones, a_wideVars, a_wideStack, a_codeOp, a_codeArg, a_entry, a_helper, a_mem, a_returns) => wX_octetStatement_24 post n x1 x2 f_LDI f_LDA f_STA f_ADC f_SBC f_ANA f_XRA f_ORA f_ROL f_ROR f_DEC f_CLC f_LDX f_JZ f_JNZ f_JC f_JNC f_JPL f_JSR f_RTS f_HLT f_STACK f_REST f_COUNT f_SIGN_Q f_SIGN_A f_OPA f_OPB f_vars f_capacity f_operands f_nest f_used f_tail f_loaded f_depth f_open f_stage f_divideAt f_size f_calls f_acc f_carry f_index f_pc a_kinds a_args a_first a_match a_openAt a_places a_dones a_wideVars a_wideStack a_codeOp a_codeArg a_entry a_helper a_mem a_returns
def vX_step_71 (post : Int32 → SX → Prop) (n : Nat) (x1 : Int32) (x2 : Int32) (x3 : Int32) (x4 : Int32) (u : SX) : Prop := match u with
  | (f_LDI, f_LDA, f_STA, f_ADC, f_SBC, f_ANA, f_XRA, f_ORA, f_ROL, f_ROR, f_DEC, f_CLC, f_LDX, f_JZ, f_JNZ, f_JC, f_JNC, f_JPL, f_JSR, f_RTS, f_HLT, f_STACK, f_REST, f_COUNT, f_SIGN_Q, f_SIGN_A, f_OPA, f_OPB, f_vars, f_capacity, f_operands, f_nest, f_used, f_tail, f_loaded, f_depth, f_open, f_stage, f_divideAt, f_size, f_calls, f_acc, f_carry, f_index, f_pc, a_kinds, a_args, a_first, a_match, a_openAt, a_places, a_dones, a_wideVars, a_wideStack, a_codeOp, a_codeArg, a_entry, a_helper, a_mem, a_returns) => wX_step_71 post (wX_step_37 post x1 x2  n) x1 x2 x3 x4 f_LDI f_LDA f_STA f_ADC f_SBC f_ANA f_XRA f_ORA f_ROL f_ROR f_DEC f_CLC f_LDX f_JZ f_JNZ f_JC f_JNC f_JPL f_JSR f_RTS f_HLT f_STACK f_REST f_COUNT f_SIGN_Q f_SIGN_A f_OPA f_OPB f_vars f_capacity f_operands f_nest f_used f_tail f_loaded f_depth f_open f_stage f_divideAt f_size f_calls f_acc f_carry f_index f_pc a_kinds a_args a_first a_match a_openAt a_places a_dones a_wideVars a_wideStack a_codeOp a_codeArg a_entry a_helper a_mem a_returns
def vX_step_37 (post : Int32 → SX → Prop) (x1 : Int32) (x2 : Int32) (n : Nat) (x3 : Int32) (x4 : Int32) (u : SX) : Prop := match u with
  | (f_LDI, f_LDA, f_STA, f_ADC, f_SBC, f_ANA, f_XRA, f_ORA, f_ROL, f_ROR, f_DEC, f_CLC, f_LDX, f_JZ, f_JNZ, f_JC, f_JNC, f_JPL, f_JSR, f_RTS, f_HLT, f_STACK, f_REST, f_COUNT, f_SIGN_Q, f_SIGN_A, f_OPA, f_OPB, f_vars, f_capacity, f_operands, f_nest, f_used, f_tail, f_loaded, f_depth, f_open, f_stage, f_divideAt, f_size, f_calls, f_acc, f_carry, f_index, f_pc, a_kinds, a_args, a_first, a_match, a_openAt, a_places, a_dones, a_wideVars, a_wideStack, a_codeOp, a_codeArg, a_entry, a_helper, a_mem, a_returns) => wX_step_37 post x1 x2 n x3 x4 f_LDI f_LDA f_STA f_ADC f_SBC f_ANA f_XRA f_ORA f_ROL f_ROR f_DEC f_CLC f_LDX f_JZ f_JNZ f_JC f_JNC f_JPL f_JSR f_RTS f_HLT f_STACK f_REST f_COUNT f_SIGN_Q f_SIGN_A f_OPA f_OPB f_vars f_capacity f_operands f_nest f_used f_tail f_loaded f_depth f_open f_stage f_divideAt f_size f_calls f_acc f_carry f_index f_pc a_kinds a_args a_first a_match a_openAt a_places a_dones a_wideVars a_wideStack a_codeOp a_codeArg a_entry a_helper a_mem a_returns
def vY_rowStart_6 (post : Int32 → Prop) (n : Nat) (x2 : Int32) (x3 : Int32) (u : SY) : Prop := match u with
  | (f_vars, f_capacity, f_operands, f_nest, f_phaseNow, f_used, a_kinds, a_args, a_values, a_places, a_counts, a_stack) => wY_rowStart_6 post f_vars f_capacity f_operands f_nest f_phaseNow f_used a_kinds a_args a_values a_places a_counts a_stack n x2 x3
def vY_countKind_5 (post : Int32 → Prop) (x1 : Int32) (n : Nat) (x3 : Int32) (x4 : Int32) (u : SY) : Prop := match u with
  | (f_vars, f_capacity, f_operands, f_nest, f_phaseNow, f_used, a_kinds, a_args, a_values, a_places, a_counts, a_stack) => wY_countKind_5 post x1 f_vars f_capacity f_operands f_nest f_phaseNow f_used a_kinds a_args a_values a_places a_counts a_stack n x3 x4
def vY_matchingEnd_35 (post : Int32 → Prop) (n : Nat) (x2 : Int32) (x3 : Int32) (u : SY) : Prop := match u with
  | (f_vars, f_capacity, f_operands, f_nest, f_phaseNow, f_used, a_kinds, a_args, a_values, a_places, a_counts, a_stack) => wY_matchingEnd_35 post (wY_matchingEnd_4 post f_vars f_capacity f_operands f_nest f_phaseNow f_used a_kinds a_args a_values a_places a_counts a_stack n) x2 x3 f_vars f_capacity f_operands f_nest f_phaseNow f_used a_kinds a_args a_values a_places a_counts a_stack
def vY_matchingEnd_32 (post : Int32 → Prop) (n : Nat) (x2 : Int32) (x3 : Int32) (u : SY) : Prop := match u with
  | (f_vars, f_capacity, f_operands, f_nest, f_phaseNow, f_used, a_kinds, a_args, a_values, a_places, a_counts, a_stack) => wY_matchingEnd_32 post (wY_matchingEnd_4 post f_vars f_capacity f_operands f_nest f_phaseNow f_used a_kinds a_args a_values a_places a_counts a_stack n) x2 x3 f_vars f_capacity f_operands f_nest f_phaseNow f_used a_kinds a_args a_values a_places a_counts a_stack
def vY_matchingEnd_4 (post : Int32 → Prop) (n : Nat) (x2 : Int32) (x3 : Int32) (u : SY) : Prop := match u with
  | (f_vars, f_capacity, f_operands, f_nest, f_phaseNow, f_used, a_kinds, a_args, a_values, a_places, a_counts, a_stack) => wY_matchingEnd_4 post f_vars f_capacity f_operands f_nest f_phaseNow f_used a_kinds a_args a_values a_places a_counts a_stack n x2 x3
def vY_matchingOpen_27 (post : Int32 → Prop) (n : Nat) (x1 : Int32) (x2 : Int32) (u : SY) : Prop := match u with
  | (f_vars, f_capacity, f_operands, f_nest, f_phaseNow, f_used, a_kinds, a_args, a_values, a_places, a_counts, a_stack) => wY_matchingOpen_27 post (wY_matchingOpen_2 post x1 f_vars f_capacity f_operands f_nest f_phaseNow f_used a_kinds a_args a_values a_places a_counts a_stack n) x1 x2 f_vars f_capacity f_operands f_nest f_phaseNow f_used a_kinds a_args a_values a_places a_counts a_stack
def vY_matchingOpen_2 (post : Int32 → Prop) (x1 : Int32) (n : Nat) (x2 : Int32) (u : SY) : Prop := match u with
  | (f_vars, f_capacity, f_operands, f_nest, f_phaseNow, f_used, a_kinds, a_args, a_values, a_places, a_counts, a_stack) => wY_matchingOpen_2 post x1 f_vars f_capacity f_operands f_nest f_phaseNow f_used a_kinds a_args a_values a_places a_counts a_stack n x2
def vY_zeroMachines_23 (post : SY → Prop) (n : Nat) (x1 : Int32) (u : SY) : Prop := match u with
  | (f_vars, f_capacity, f_operands, f_nest, f_phaseNow, f_used, a_kinds, a_args, a_values, a_places, a_counts, a_stack) => wY_zeroMachines_23 post f_vars f_capacity f_operands f_nest f_phaseNow f_used n x1 a_kinds a_args a_values a_places a_counts a_stack
def vY_zeroMachines_2 (post : SY → Prop) (n : Nat) (x1 : Int32) (u : SY) : Prop := match u with
  | (f_vars, f_capacity, f_operands, f_nest, f_phaseNow, f_used, a_kinds, a_args, a_values, a_places, a_counts, a_stack) => wY_zeroMachines_2 post f_vars f_capacity f_operands f_nest f_phaseNow f_used n x1 a_kinds a_args a_values a_places a_counts a_stack
def vY_feed_257 (post : Int32 → SY → Prop) (z0 : Int32) (z1 : Int32) (u : SY) : Prop := match u with
  | (f_vars, f_capacity, f_operands, f_nest, f_phaseNow, f_used, a_kinds, a_args, a_values, a_places, a_counts, a_stack) => wY_feed_257 post z0 z1 f_vars f_capacity f_operands f_nest f_phaseNow f_used a_kinds a_args a_values a_places a_counts a_stack
def vY_feed_229 (post : Int32 → SY → Prop) (x1 : Int32) (x2 : Int32) (u : SY) : Prop := match u with
  | (f_vars, f_capacity, f_operands, f_nest, f_phaseNow, f_used, a_kinds, a_args, a_values, a_places, a_counts, a_stack) => wY_feed_229 post x1 x2 f_vars f_capacity f_operands f_nest f_phaseNow f_used a_kinds a_args a_values a_places a_counts a_stack
def vY_feed_207 (post : Int32 → SY → Prop) (x1 : Int32) (x2 : Int32) (x3 : Int32) (x8 : Int32) (u : SY) : Prop := match u with
  | (f_vars, f_capacity, f_operands, f_nest, f_phaseNow, f_used, a_kinds, a_args, a_values, a_places, a_counts, a_stack) => wY_feed_207 post x1 x2 x3 x8 f_vars f_capacity f_operands f_nest f_phaseNow f_used a_kinds a_args a_values a_places a_counts a_stack
def vY_feed_189 (post : Int32 → SY → Prop) (x1 : Int32) (x2 : Int32) (x3 : Int32) (x7 : Int32) (x8 : Int32) (u : SY) : Prop := match u with
  | (f_vars, f_capacity, f_operands, f_nest, f_phaseNow, f_used, a_kinds, a_args, a_values, a_places, a_counts, a_stack) => wY_feed_189 post x1 x2 x3 x7 x8 f_vars f_capacity f_operands f_nest f_phaseNow f_used a_kinds a_args a_values a_places a_counts a_stack
def vY_feed_179 (post : Int32 → SY → Prop) (x1 : Int32) (x2 : Int32) (x3 : Int32) (x7 : Int32) (x8 : Int32) (u : SY) : Prop := match u with
  | (f_vars, f_capacity, f_operands, f_nest, f_phaseNow, f_used, a_kinds, a_args, a_values, a_places, a_counts, a_stack) => wY_feed_179 post x1 x2 x3 x7 x8 f_vars f_capacity f_operands f_nest f_phaseNow f_used a_kinds a_args a_values a_places a_counts a_stack
def vY_feed_165 (post : Int32 → SY → Prop) (x1 : Int32) (x2 : Int32) (x3 : Int32) (x7 : Int32) (x8 : Int32) (u : SY) : Prop := match u with
  | (f_vars, f_capacity, f_operands, f_nest, f_phaseNow, f_used, a_kinds, a_args, a_values, a_places, a_counts, a_stack) => wY_feed_165 post x1 x2 x3 x7 x8 f_vars f_capacity f_operands f_nest f_phaseNow f_used a_kinds a_args a_values a_places a_counts a_stack
def vY_feed_151 (post : Int32 → SY → Prop) (x1 : Int32) (x2 : Int32) (x3 : Int32) (x7 : Int32) (x8 : Int32) (u : SY) : Prop := match u with
  | (f_vars, f_capacity, f_operands, f_nest, f_phaseNow, f_used, a_kinds, a_args, a_values, a_places, a_counts, a_stack) => wY_feed_151 post x1 x2 x3 x7 x8 f_vars f_capacity f_operands f_nest f_phaseNow f_used a_kinds a_args a_values a_places a_counts a_stack
def vY_feed_136 (post : Int32 → SY → Prop) (x1 : Int32) (x2 : Int32) (x3 : Int32) (x4 : Int32) (x5 : Int32) (x7 : Int32) (x8 : Int32) (u : SY) : Prop := match u with
  | (f_vars, f_capacity, f_operands, f_nest, f_phaseNow, f_used, a_kinds, a_args, a_values, a_places, a_counts, a_stack) => wY_feed_136 post x1 x2 x3 x4 x5 x7 x8 f_vars f_capacity f_operands f_nest f_phaseNow f_used a_kinds a_args a_values a_places a_counts a_stack
def vY_feed_64 (post : Int32 → SY → Prop) (x1 : Int32) (x2 : Int32) (u : SY) : Prop := match u with
  | (f_vars, f_capacity, f_operands, f_nest, f_phaseNow, f_used, a_kinds, a_args, a_values, a_places, a_counts, a_stack) => wY_feed_64 post x1 x2 f_vars f_capacity f_operands f_nest f_phaseNow f_used a_kinds a_args a_values a_places a_counts a_stack
def vY_feed_47 (post : Int32 → SY → Prop) (x1 : Int32) (x2 : Int32) (u : SY) : Prop := match u with
  | (f_vars, f_capacity, f_operands, f_nest, f_phaseNow, f_used, a_kinds, a_args, a_values, a_places, a_counts, a_stack) => wY_feed_47 post x1 x2 f_vars f_capacity f_operands f_nest f_phaseNow f_used a_kinds a_args a_values a_places a_counts a_stack
def vY_feed_33 (post : Int32 → SY → Prop) (x1 : Int32) (x2 : Int32) (u : SY) : Prop := match u with
  | (f_vars, f_capacity, f_operands, f_nest, f_phaseNow, f_used, a_kinds, a_args, a_values, a_places, a_counts, a_stack) => wY_feed_33 post x1 x2 f_vars f_capacity f_operands f_nest f_phaseNow f_used a_kinds a_args a_values a_places a_counts a_stack
def vY_statement_271 (post : SY → Prop) (x1 : Int32) (x4 : Int32) (u : SY) : Prop := match u with
  | (f_vars, f_capacity, f_operands, f_nest, f_phaseNow, f_used, a_kinds, a_args, a_values, a_places, a_counts, a_stack) => wY_statement_271 post x1 x4 f_vars f_capacity f_operands f_nest f_phaseNow f_used a_kinds a_args a_values a_places a_counts a_stack
def vY_statement_246 (post : SY → Prop) (x1 : Int32) (x4 : Int32) (u : SY) : Prop := match u with
  | (f_vars, f_capacity, f_operands, f_nest, f_phaseNow, f_used, a_kinds, a_args, a_values, a_places, a_counts, a_stack) => wY_statement_246 post x1 x4 f_vars f_capacity f_operands f_nest f_phaseNow f_used a_kinds a_args a_values a_places a_counts a_stack
def vY_statement_160 (post : SY → Prop) (x1 : Int32) (x2 : Int32) (u : SY) : Prop := match u with
  | (f_vars, f_capacity, f_operands, f_nest, f_phaseNow, f_used, a_kinds, a_args, a_values, a_places, a_counts, a_stack) => wY_statement_160 post x1 x2 f_vars f_capacity f_operands f_nest f_phaseNow f_used a_kinds a_args a_values a_places a_counts a_stack
def vY_statement_17 (post : SY → Prop) (x1 : Int32) (n : Nat) (x2 : Int32) (x3 : Int32) (x4 : Int32) (u : SY) : Prop := match u with
  | (f_vars, f_capacity, f_operands, f_nest, f_phaseNow, f_used, a_kinds, a_args, a_values, a_places, a_counts, a_stack) => wY_statement_17 post x1 f_vars f_capacity f_operands f_nest f_phaseNow f_used n x2 x3 x4 a_kinds a_args a_values a_places a_counts a_stack
def vY_step_38 (post : Int32 → SY → Prop) (x1 : Int32) (x2 : Int32) (n : Nat) (x3 : Int32) (x4 : Int32) (u : SY) : Prop := match u with
  | (f_vars, f_capacity, f_operands, f_nest, f_phaseNow, f_used, a_kinds, a_args, a_values, a_places, a_counts, a_stack) => wY_step_38 post x1 x2 n x3 x4 f_vars f_capacity f_operands f_nest f_phaseNow f_used a_kinds a_args a_values a_places a_counts a_stack
end
section
theorem eX_clamp (post : Int32 → Prop) (u : SX) (p0 : Int32) (p1 : Int32) (p2 : Int32) : wpX_clamp post u p0 p1 p2 = (((p1 ≤ p0 → (((p0 ≤ p2 → (post p0)) ∧ (¬ p0 ≤ p2 → (post p2))))) ∧ (¬ p1 ≤ p0 → (post p1)))) := rfl
theorem eX_isVar (post : Int32 → Prop) (u : SX) (p0 : Int32) : wpX_isVar post u p0 = (((p0 < 0 → (post 0)) ∧ (¬ p0 < 0 → ((((ax_vars u) ≤ p0 → (post 0)) ∧ (¬ (ax_vars u) ≤ p0 → (post 1))))))) := rfl
theorem eX_fits_113 (post : Int32 → Prop) (u : SX) : vX_fits_113 post u = ((((ax_depth u) = 1 → ((((ax_open u) = (ax_nest u) → (post 0)) ∧ (¬ (ax_open u) = (ax_nest u) → (post 1))))) ∧ (¬ (ax_depth u) = 1 → (post 0)))) := rfl
theorem eX_fits_44 (post : Int32 → Prop) (u : SX) : vX_fits_44 post u = ((((ax_loaded u) = (ax_operands u) → (post 0)) ∧ (¬ (ax_loaded u) = (ax_operands u) → (post 1)))) := rfl
theorem eX_fits (post : Int32 → Prop) (u : SX) (p0 : Int32) : wpX_fits post u p0 = (((p0 < 0 → (vX_fits_113 post u)) ∧ (¬ p0 < 0 → (((6 < p0 → (vX_fits_113 post u)) ∧ (¬ 6 < p0 → (((p0 = 0 → (vX_fits_44 post u)) ∧ (¬ p0 = 0 → (((p0 = 1 → (vX_fits_44 post u)) ∧ (¬ p0 = 1 → (((p0 = 2 → ((((ax_depth u) < 2 → (post 0)) ∧ (¬ (ax_depth u) < 2 → (post 1))))) ∧ (¬ p0 = 2 → (((p0 = 3 → ((((ax_depth u) = 1 → (post 1)) ∧ (¬ (ax_depth u) = 1 → (post 0))))) ∧ (¬ p0 = 3 → (((p0 = 4 → (vX_fits_113 post u)) ∧ (¬ p0 = 4 → (((p0 = 5 → (vX_fits_113 post u)) ∧ (¬ p0 = 5 → (((p0 = 6 → ((((ax_tail u) = (ax_used u) → ((((ax_open u) = 0 → (post 0)) ∧ (¬ (ax_open u) = 0 → (post 1))))) ∧ (¬ (ax_tail u) = (ax_used u) → (post 0))))) ∧ (¬ p0 = 6 → (True)))))))))))))))))))))))))))) := rfl
theorem eX_startStatement (post : SX → Prop) (u : SX) : wpX_startStatement post u = (post (sx_tail (sx_loaded (sx_depth u 0) 0) (ax_used u))) := rfl
theorem eX_track_80 (post : SX → Prop) (u : SX) : vX_track_80 post u = (wpX_startStatement (fun u6 => (post u6)) u) := rfl
theorem eX_track (post : SX → Prop) (u : SX) (p0 : Int32) : wpX_track post u p0 = (((p0 = 2 → (∀ f_depth_70, f_depth_70 = (ax_depth u) - 1 → (post (sx_depth u f_depth_70)))) ∧ (¬ p0 = 2 → (((2 ≤ p0 → (((p0 = 6 → (∀ f_open_67, f_open_67 = (ax_open u) - 1 → (vX_track_80 post (sx_open u f_open_67)))) ∧ (¬ p0 = 6 → (((p0 = 3 → (vX_track_80 post u)) ∧ (¬ p0 = 3 → (∀ f_open_66, f_open_66 = (ax_open u) + 1 → (vX_track_80 post (sx_open u f_open_66)))))))))) ∧ (¬ 2 ≤ p0 → (∀ f_loaded_68, f_loaded_68 = (ax_loaded u) + 1 → (∀ f_depth_69, f_depth_69 = (ax_depth u) + 1 → (post (sx_loaded (sx_depth u f_depth_69) f_loaded_68)))))))))) := rfl
theorem eX_feed_114 (post : Int32 → SX → Prop) (x1 : Int32) (z0 : Int32) (z1 : Int32) (u : SX) : vX_feed_114 post x1 z0 z1 u = (vp_in z1 48 ∧ ∀ a_args_135, a_args_135 = upd (ax_args u) z1.toNatClampNeg z0 → (∀ f_used_136, f_used_136 = (ax_used u) + 1 → (wpX_track (fun u138 => (post 0 u138)) (sx_used (sx_args u a_args_135) f_used_136) x1))) := rfl
theorem eX_feed_60 (post : Int32 → SX → Prop) (x1 : Int32) (x2 : Int32) (u : SX) : vX_feed_60 post x1 x2 u = ((((ax_used u) = (ax_capacity u) → (post (-2) u)) ∧ (¬ (ax_used u) = (ax_capacity u) → (wpX_fits (fun r_69 => (((r_69 = 0 → (post (-4) u)) ∧ (¬ r_69 = 0 → (vp_in (ax_used u) 48 ∧ ∀ a_kinds_132, a_kinds_132 = upd (ax_kinds u) (ax_used u).toNatClampNeg (vp_nar .byte x1.toInt8.toInt32) → (((x1 < 4 → (vX_feed_114 post x1 x2 (ax_used u) (sx_kinds u a_kinds_132))) ∧ (¬ x1 < 4 → (vX_feed_114 post x1 0 (ax_used u) (sx_kinds u a_kinds_132)))))))))) u x1)))) := rfl
theorem eX_feed_43 (post : Int32 → SX → Prop) (x1 : Int32) (x2 : Int32) (u : SX) : vX_feed_43 post x1 x2 u = (((x1 = 2 → (((x2 < 0 → (post (-1) u)) ∧ (¬ x2 < 0 → (((x2 ≤ 9 → (vX_feed_60 post x1 x2 u)) ∧ (¬ x2 ≤ 9 → (post (-1) u)))))))) ∧ (¬ x1 = 2 → (vX_feed_60 post x1 x2 u)))) := rfl
theorem eX_feed_33 (post : Int32 → SX → Prop) (x1 : Int32) (x2 : Int32) (u : SX) : vX_feed_33 post x1 x2 u = (wpX_isVar (fun r_5 => (((r_5 = 0 → (post (-1) u)) ∧ (¬ r_5 = 0 → (vX_feed_43 post x1 x2 u))))) u x2) := rfl
theorem eX_feed (post : Int32 → SX → Prop) (u : SX) (p0 : Int32) (p1 : Int32) : wpX_feed post u p0 p1 = ((((ax_stage u) = 1 → (post (-3) u)) ∧ (¬ (ax_stage u) = 1 → (((p0 < 0 → (post (-1) u)) ∧ (¬ p0 < 0 → (((p0 ≤ 6 → (((p0 = 1 → (vX_feed_33 post p0 p1 u)) ∧ (¬ p0 = 1 → (((p0 = 3 → (vX_feed_33 post p0 p1 u)) ∧ (¬ p0 = 3 → (vX_feed_43 post p0 p1 u)))))))) ∧ (¬ p0 ≤ 6 → (post (-1) u)))))))))) := rfl
theorem eX_isMachine (post : Int32 → Prop) (u : SX) (p0 : Int32) : wpX_isMachine post u p0 = (((p0 = 0 → (post 1)) ∧ (¬ p0 = 0 → (((p0 = 1 → (post 1)) ∧ (¬ p0 = 1 → (post 0))))))) := rfl
theorem eX_drop (post : Int32 → SX → Prop) (u : SX) : wpX_drop post u = ((((ax_stage u) = 1 → (post (-3) u)) ∧ (¬ (ax_stage u) = 1 → (∀ x1_2, x1_2 = (ax_used u) - (ax_tail u) → (wpX_startStatement (fun u4 => (post x1_2 u4)) (sx_used u (ax_tail u))))))) := rfl
theorem eX_reset_45 (post : SX → Prop) (n : Nat) (x1 : Int32) (u : SX) : vX_reset_45 post (n + 1) x1 u = (((2 ≤ x1 → (post u)) ∧ (¬ 2 ≤ x1 → (vp_in x1 2 ∧ ∀ a_places_5, a_places_5 = upd (ax_places u) x1.toNatClampNeg 0 → (vp_in x1 2 ∧ ∀ a_dones_7, a_dones_7 = upd (ax_dones u) x1.toNatClampNeg 0 → (∀ x1_8, x1_8 = x1 + 1 → (vX_reset_45 post n x1_8 (sx_places (sx_dones u a_dones_7) a_places_5)))))))) := rfl
theorem eX_reset_23 (post : SX → Prop) (n : Nat) (x1 : Int32) (u : SX) : vX_reset_23 post (n + 1) x1 u = (((128 ≤ x1 → (∃ n45 : Nat, vX_reset_45 post n45 0 u)) ∧ (¬ 128 ≤ x1 → (vp_in x1 128 ∧ ∀ a_mem_10, a_mem_10 = upd (ax_mem u) x1.toNatClampNeg 0 → (∀ x1_11, x1_11 = x1 + 1 → (vX_reset_23 post n x1_11 (sx_mem u a_mem_10))))))) := rfl
theorem eX_reset_2 (post : SX → Prop) (n : Nat) (x1 : Int32) (u : SX) : vX_reset_2 post (n + 1) x1 u = (((8 ≤ x1 → (∃ n23 : Nat, vX_reset_23 post n23 0 u)) ∧ (¬ 8 ≤ x1 → (vp_in x1 8 ∧ ∀ a_wideVars_13, a_wideVars_13 = upd (ax_wideVars u) x1.toNatClampNeg 0 → (∀ x1_14, x1_14 = x1 + 1 → (vX_reset_2 post n x1_14 (sx_wideVars u a_wideVars_13))))))) := rfl
theorem eX_reset (post : SX → Prop) (u : SX) : wpX_reset post u = (∃ n2 : Nat, vX_reset_2 post n2 0 u) := rfl
theorem eX_clear (post : SX → Prop) (u : SX) : wpX_clear post u = (wpX_startStatement (fun u2 => (wpX_reset (fun u63 => (post u63)) u2)) (sx_used (sx_open (sx_stage u 0) 0) 0)) := rfl
theorem eX_linkBlocks_95 (post : SX → Prop) (n : Nat) (x1 : Int32) (x2 : Int32) (x3 : Int32) (u : SX) : vX_linkBlocks_95 post n x1 x2 x3 u = (((4 ≤ x2 → (∀ x3_11, x3_11 = x3 + 1 → (vX_linkBlocks_6 post n x1 x2 x3_11 u))) ∧ (¬ 4 ≤ x2 → (vp_in x2 4 ∧ ∀ a_openAt_13, a_openAt_13 = upd (ax_openAt u) x2.toNatClampNeg x3 → (∀ x2_14, x2_14 = x2 + 1 → (∀ x3_15, x3_15 = x3 + 1 → (vX_linkBlocks_6 post n x1 x2_14 x3_15 (sx_openAt u a_openAt_13)))))))) := rfl
theorem eX_linkBlocks_83 (post : SX → Prop) (n : Nat) (x1 : Int32) (x2 : Int32) (x3 : Int32) (x4 : Int32) (u : SX) : vX_linkBlocks_83 post n x1 x2 x3 x4 u = (((x4 = 4 → (vX_linkBlocks_95 post n x1 x2 x3 u)) ∧ (¬ x4 = 4 → (((x4 = 5 → (vX_linkBlocks_95 post n x1 x2 x3 u)) ∧ (¬ x4 = 5 → (∀ x3_17, x3_17 = x3 + 1 → (vX_linkBlocks_6 post n x1 x2 x3_17 u)))))))) := rfl
theorem eX_linkBlocks_6 (post : SX → Prop) (n : Nat) (x1 : Int32) (x2 : Int32) (x3 : Int32) (u : SX) : vX_linkBlocks_6 post (n + 1) x1 x2 x3 u = ((((ax_used u) ≤ x3 → (post u)) ∧ (¬ (ax_used u) ≤ x3 → (vp_in x3 48 ∧ (∀ x4_3, x4_3 = (ax_kinds u) x3.toNatClampNeg → (((3 ≤ x4_3 → (vp_in x3 48 ∧ ∀ a_first_6, a_first_6 = upd (ax_first u) x3.toNatClampNeg x1 → (∀ x1_7, x1_7 = x3 + 1 → (((x4_3 = 6 → (((x2 ≤ 0 → (vX_linkBlocks_83 post n x1_7 x2 x3 x4_3 (sx_first u a_first_6))) ∧ (¬ x2 ≤ 0 → (∀ x2_19, x2_19 = x2 + (-1) → (vp_in x2_19 4 ∧ (vp_in x3 48 ∧ ∀ a_match_22, a_match_22 = upd (ax_match u) x3.toNatClampNeg ((ax_openAt u) x2_19.toNatClampNeg) → (vp_in x2_19 4 ∧ (vp_in ((ax_openAt u) x2_19.toNatClampNeg) 48 ∧ ∀ a_match_25, a_match_25 = upd a_match_22 ((ax_openAt u) x2_19.toNatClampNeg).toNatClampNeg x3 → (∀ x3_26, x3_26 = x3 + 1 → (vX_linkBlocks_6 post n x1_7 x2_19 x3_26 (sx_first (sx_match u a_match_25) a_first_6)))))))))))) ∧ (¬ x4_3 = 6 → (vX_linkBlocks_83 post n x1_7 x2 x3 x4_3 (sx_first u a_first_6)))))))) ∧ (¬ 3 ≤ x4_3 → (∀ x3_27, x3_27 = x3 + 1 → (vX_linkBlocks_6 post n x1 x2 x3_27 u)))))))))) := rfl
theorem eX_linkBlocks (post : SX → Prop) (u : SX) : wpX_linkBlocks post u = (∃ n6 : Nat, vX_linkBlocks_6 post n6 0 0 0 u) := rfl
theorem eX_emit (post : Int32 → SX → Prop) (u : SX) (p0 : Int32) (p1 : Int32) : wpX_emit post u p0 p1 = (((2048 ≤ (ax_size u) → (post (ax_size u) u)) ∧ (¬ 2048 ≤ (ax_size u) → (vp_in (ax_size u) 2048 ∧ ∀ a_codeOp_3, a_codeOp_3 = upd (ax_codeOp u) (ax_size u).toNatClampNeg (vp_nar .byte p0.toInt8.toInt32) → (vp_in (ax_size u) 2048 ∧ ∀ a_codeArg_5, a_codeArg_5 = upd (ax_codeArg u) (ax_size u).toNatClampNeg (vp_nar .short p1.toInt16.toInt32) → (∀ f_size_6, f_size_6 = (ax_size u) + 1 → (post (ax_size u) (sx_size (sx_codeOp (sx_codeArg u a_codeArg_5) a_codeOp_3) f_size_6)))))))) := rfl
theorem eX_emitFill_9 (post : SX → Prop) (x1 : Int32) (n : Nat) (x3 : Int32) (u : SX) : vX_emitFill_9 post x1 (n + 1) x3 u = (((4 ≤ x3 → (post u)) ∧ (¬ 4 ≤ x3 → (wpX_emit (fun r_63 u64 => (∀ x3_124, x3_124 = x3 + 1 → (vX_emitFill_9 post x1 n x3_124 u64))) u 2 (x1 + x3))))) := rfl
theorem eX_emitFill (post : SX → Prop) (u : SX) (p0 : Int32) (p1 : Int32) : wpX_emitFill post u p0 p1 = (wpX_emit (fun r_1 u2 => (∃ n9 : Nat, vX_emitFill_9 post p0 n9 0 u2)) u 0 p1) := rfl
theorem eX_emitLoopStart (post : SX → Prop) (u : SX) : wpX_emitLoopStart post u = (wpX_emitFill (fun u2 => (wpX_emit (fun r_62 u63 => (wpX_emit (fun r_123 u124 => (post u124)) u63 2 56)) u2 0 32)) u 52 0) := rfl
theorem eX_emitRight_2 (post : SX → Prop) (x1 : Int32) (n : Nat) (x2 : Int32) (u : SX) : vX_emitRight_2 post x1 (n + 1) x2 u = (((x2 < 0 → (post u)) ∧ (¬ x2 < 0 → (wpX_emit (fun r_2 u3 => (∀ x2_63, x2_63 = x2 + (-1) → (vX_emitRight_2 post x1 n x2_63 u3))) u 9 (x1 + x2))))) := rfl
theorem eX_emitRight (post : SX → Prop) (u : SX) (p0 : Int32) : wpX_emitRight post u p0 = (∃ n2 : Nat, vX_emitRight_2 post p0 n2 3 u) := rfl
theorem eX_emitChain_11 (post : SX → Prop) (x1 : Int32) (x2 : Int32) (x3 : Int32) (n : Nat) (x4 : Int32) (u : SX) : vX_emitChain_11 post x1 x2 x3 (n + 1) x4 u = (((4 ≤ x4 → (post u)) ∧ (¬ 4 ≤ x4 → (wpX_emit (fun r_63 u64 => (wpX_emit (fun r_124 u125 => (wpX_emit (fun r_185 u186 => (∀ x4_246, x4_246 = x4 + 1 → (vX_emitChain_11 post x1 x2 x3 n x4_246 u186))) u125 2 (x2 + x4))) u64 x1 (x3 + x4))) u 1 (x2 + x4))))) := rfl
theorem eX_emitChain (post : SX → Prop) (u : SX) (p0 : Int32) (p1 : Int32) (p2 : Int32) : wpX_emitChain post u p0 p1 p2 = (wpX_emit (fun r_1 u2 => (∃ n11 : Nat, vX_emitChain_11 post p0 p1 p2 n11 0 u2)) u 11 0) := rfl
theorem eX_patch (post : SX → Prop) (u : SX) (p0 : Int32) : wpX_patch post u p0 = (((2048 ≤ p0 → (post u)) ∧ (¬ 2048 ≤ p0 → (vp_in p0 2048 ∧ ∀ a_codeArg_3, a_codeArg_3 = upd (ax_codeArg u) p0.toNatClampNeg (vp_nar .short (ax_size u).toInt16.toInt32) → (post (sx_codeArg u a_codeArg_3)))))) := rfl
theorem eX_emitLeft_2 (post : SX → Prop) (x1 : Int32) (n : Nat) (x2 : Int32) (u : SX) : vX_emitLeft_2 post x1 (n + 1) x2 u = (((4 ≤ x2 → (post u)) ∧ (¬ 4 ≤ x2 → (wpX_emit (fun r_2 u3 => (∀ x2_63, x2_63 = x2 + 1 → (vX_emitLeft_2 post x1 n x2_63 u3))) u 8 (x1 + x2))))) := rfl
theorem eX_emitLeft (post : SX → Prop) (u : SX) (p0 : Int32) : wpX_emitLeft post u p0 = (∃ n2 : Nat, vX_emitLeft_2 post p0 n2 0 u) := rfl
theorem eX_emitLoopEnd (post : SX → Prop) (u : SX) (p0 : Int32) : wpX_emitLoopEnd post u p0 = (wpX_emit (fun r_1 u2 => (wpX_emit (fun r_62 u63 => (post u63)) u2 14 p0)) u 10 56) := rfl
theorem eX_emitCopy_2 (post : SX → Prop) (x1 : Int32) (x2 : Int32) (n : Nat) (x3 : Int32) (u : SX) : vX_emitCopy_2 post x1 x2 (n + 1) x3 u = (((4 ≤ x3 → (post u)) ∧ (¬ 4 ≤ x3 → (wpX_emit (fun r_2 u3 => (wpX_emit (fun r_63 u64 => (∀ x3_124, x3_124 = x3 + 1 → (vX_emitCopy_2 post x1 x2 n x3_124 u64))) u3 2 (x2 + x3))) u 1 (x1 + x3))))) := rfl
theorem eX_emitCopy (post : SX → Prop) (u : SX) (p0 : Int32) (p1 : Int32) : wpX_emitCopy post u p0 p1 = (∃ n2 : Nat, vX_emitCopy_2 post p0 p1 n2 0 u) := rfl
theorem eX_emitMul (post : SX → Prop) (u : SX) : wpX_emitMul post u = (∀ a_helper_2, a_helper_2 = upd (ax_helper u) 4 (ax_size u) → (wpX_emitLoopStart (fun u4 => (wpX_emit (fun r_64 u65 => (wpX_emitRight (fun u126 => (wpX_emit (fun r_186 u187 => (wpX_emitChain (fun u248 => (wpX_patch (fun u309 => (wpX_emit (fun r_369 u370 => (wpX_emitLeft (fun u431 => (wpX_emitLoopEnd (fun u492 => (wpX_emitCopy (fun u553 => (wpX_emit (fun r_613 u614 => (post u614)) u553 19 0)) u492 52 128)) u431 (ax_size u4))) u370 132)) u309 11 0)) u248 r_186)) u187 3 52 132)) u126 16 0)) u65 128)) u4 11 0)) (sx_helper u a_helper_2))) := rfl
theorem eX_emitNegateIf_26 (post : SX → Prop) (x2 : Int32) (x3 : Int32) (n : Nat) (x4 : Int32) (u : SX) : vX_emitNegateIf_26 post x2 x3 (n + 1) x4 u = (((4 ≤ x4 → (wpX_patch (fun u186 => (post u186)) u x3)) ∧ (¬ 4 ≤ x4 → (wpX_emit (fun r_246 u247 => (wpX_emit (fun r_307 u308 => (wpX_emit (fun r_368 u369 => (∀ x4_429, x4_429 = x4 + 1 → (vX_emitNegateIf_26 post x2 x3 n x4_429 u369))) u308 2 (x2 + x4))) u247 4 (x2 + x4))) u 0 0)))) := rfl
theorem eX_emitNegateIf (post : SX → Prop) (u : SX) (p0 : Int32) (p1 : Int32) : wpX_emitNegateIf post u p0 p1 = (wpX_emit (fun r_1 u2 => (wpX_emit (fun r_62 u63 => (wpX_emit (fun r_123 u124 => (∃ n26 : Nat, vX_emitNegateIf_26 post p1 r_62 n26 0 u124)) u63 11 0)) u2 17 0)) u 1 p0) := rfl
theorem eX_emitCompare_10 (post : SX → Prop) (x1 : Int32) (x2 : Int32) (n : Nat) (x3 : Int32) (u : SX) : vX_emitCompare_10 post x1 x2 (n + 1) x3 u = (((4 ≤ x3 → (post u)) ∧ (¬ 4 ≤ x3 → (wpX_emit (fun r_63 u64 => (wpX_emit (fun r_124 u125 => (∀ x3_185, x3_185 = x3 + 1 → (vX_emitCompare_10 post x1 x2 n x3_185 u125))) u64 4 (x2 + x3))) u 1 (x1 + x3))))) := rfl
theorem eX_emitCompare (post : SX → Prop) (u : SX) (p0 : Int32) (p1 : Int32) : wpX_emitCompare post u p0 p1 = (wpX_emit (fun r_1 u2 => (∃ n10 : Nat, vX_emitCompare_10 post p0 p1 n10 0 u2)) u 11 0) := rfl
theorem eX_emitDivide (post : SX → Prop) (u : SX) : wpX_emitDivide post u = (wpX_emit (fun r_1 u2 => (wpX_emit (fun r_62 u63 => (wpX_emit (fun r_123 u124 => (wpX_emit (fun r_184 u185 => (wpX_emitNegateIf (fun u246 => (wpX_emitNegateIf (fun u307 => (wpX_emitLoopStart (fun u368 => (wpX_emit (fun r_428 u429 => (wpX_emitLeft (fun u490 => (wpX_emitLeft (fun u551 => (wpX_emitCompare (fun u612 => (wpX_emit (fun r_672 u673 => (wpX_emitChain (fun u734 => (wpX_emit (fun r_794 u795 => (wpX_emit (fun r_855 u856 => (wpX_emit (fun r_916 u917 => (wpX_patch (fun u978 => (wpX_emitLoopEnd (fun u1039 => (wpX_emit (fun r_1099 u1100 => (post u1100)) u1039 19 0)) u978 (ax_size u368))) u917 r_672)) u856 2 128)) u795 7 128)) u734 0 1)) u673 4 52 132)) u612 15 0)) u551 52 132)) u490 52)) u429 128)) u368 11 0)) u307)) u246 135 132)) u185 131 128)) u124 2 57)) u63 6 135)) u2 2 58)) (sx_divideAt u (ax_size u)) 1 131) := rfl
theorem eX_emitTest_9 (post : SX → Prop) (x1 : Int32) (n : Nat) (x2 : Int32) (u : SX) : vX_emitTest_9 post x1 (n + 1) x2 u = (((4 ≤ x2 → (post u)) ∧ (¬ 4 ≤ x2 → (wpX_emit (fun r_63 u64 => (∀ x2_124, x2_124 = x2 + 1 → (vX_emitTest_9 post x1 n x2_124 u64))) u 7 (x1 + x2))))) := rfl
theorem eX_emitTest (post : SX → Prop) (u : SX) (p0 : Int32) : wpX_emitTest post u p0 = (wpX_emit (fun r_1 u2 => (∃ n9 : Nat, vX_emitTest_9 post p0 n9 1 u2)) u 1 p0) := rfl
theorem eX_emitDiv (post : SX → Prop) (u : SX) : wpX_emitDiv post u = (∀ a_helper_2, a_helper_2 = upd (ax_helper u) 5 (ax_size u) → (wpX_emitTest (fun u4 => (wpX_emit (fun r_64 u65 => (wpX_emitFill (fun u126 => (wpX_emit (fun r_186 u187 => (wpX_patch (fun u248 => (wpX_emit (fun r_308 u309 => (wpX_emitNegateIf (fun u370 => (wpX_emit (fun r_430 u431 => (post u431)) u370 19 0)) u309 57 128)) u248 18 (ax_divideAt u248))) u187 r_64)) u126 19 0)) u65 128 255)) u4 14 0)) (sx_helper u a_helper_2) 132)) := rfl
theorem eX_emitRem (post : SX → Prop) (u : SX) : wpX_emitRem post u = (∀ a_helper_2, a_helper_2 = upd (ax_helper u) 6 (ax_size u) → (wpX_emitTest (fun u4 => (wpX_emit (fun r_64 u65 => (wpX_emit (fun r_125 u126 => (wpX_patch (fun u187 => (wpX_emit (fun r_247 u248 => (wpX_emitCopy (fun u309 => (wpX_emitNegateIf (fun u370 => (wpX_emit (fun r_430 u431 => (post u431)) u370 19 0)) u309 58 128)) u248 52 128)) u187 18 (ax_divideAt u187))) u126 r_64)) u65 19 0)) u4 14 0)) (sx_helper u a_helper_2) 132)) := rfl
theorem eX_emitShift_105 (post : SX → Prop) (x2 : Int32) (x3 : Int32) (u : SX) : vX_emitShift_105 post x2 x3 u = (wpX_emitLoopEnd (fun u493 => (wpX_patch (fun u554 => (wpX_emit (fun r_614 u615 => (post u615)) u554 19 0)) u493 x2)) u x3) := rfl
theorem eX_emitShift (post : SX → Prop) (u : SX) (p0 : Int32) : wpX_emitShift post u p0 = (vp_in p0 10 ∧ ∀ a_helper_2, a_helper_2 = upd (ax_helper u) p0.toNatClampNeg (ax_size u) → (wpX_emit (fun r_3 u4 => (wpX_emit (fun r_64 u65 => (wpX_emit (fun r_125 u126 => (wpX_emit (fun r_186 u187 => (((p0 = 7 → (wpX_emit (fun r_675 u676 => (wpX_emitLeft (fun u737 => (vX_emitShift_105 post r_186 (ax_size u187) u737)) u676 128)) u187 11 0)) ∧ (¬ p0 = 7 → (wpX_emit (fun r_248 u249 => (wpX_emit (fun r_309 u310 => (wpX_emit (fun r_370 u371 => (wpX_emitRight (fun u432 => (vX_emitShift_105 post r_186 (ax_size u187) u432)) u371 128)) u310 8 58)) u249 2 58)) u187 1 131))))) u126 13 0)) u65 2 56)) u4 5 132)) (sx_helper u a_helper_2) 0 31)) := rfl
theorem eX_emitFlip (post : SX → Prop) (u : SX) (p0 : Int32) : wpX_emitFlip post u p0 = (wpX_emit (fun r_1 u2 => (wpX_emit (fun r_62 u63 => (wpX_emit (fun r_123 u124 => (post u124)) u63 2 p0)) u2 6 p0)) u 0 128) := rfl
theorem eX_emitLess (post : SX → Prop) (u : SX) (p0 : Int32) (p1 : Int32) : wpX_emitLess post u p0 p1 = (wpX_emitFlip (fun u2 => (wpX_emitFlip (fun u63 => (wpX_emitCompare (fun u124 => (wpX_emitFill (fun u185 => (wpX_emit (fun r_245 u246 => (post u246)) u185 8 p0)) u124 p0 0)) u63 p0 p1)) u2 (p1 + 3))) u (p0 + 3)) := rfl
theorem eX_emitOperator_106 (post : SX → Prop) (x1 : Int32) (x2 : Int32) (u : SX) : vX_emitOperator_106 post x1 x2 u = (wpX_emit (fun r_3 u4 => (vp_in x1 10 ∧ (wpX_emit (fun r_65 u66 => (post u66)) u4 18 ((ax_helper u4) x1.toNatClampNeg)))) u 12 x2) := rfl
theorem eX_emitOperator (post : SX → Prop) (u : SX) (p0 : Int32) (p1 : Int32) (p2 : Int32) : wpX_emitOperator post u p0 p1 p2 = (((p0 < 0 → (vX_emitOperator_106 post p0 p1 u)) ∧ (¬ p0 < 0 → (((9 < p0 → (vX_emitOperator_106 post p0 p1 u)) ∧ (¬ 9 < p0 → (((p0 = 0 → (wpX_emitChain (fun u128 => (post u128)) u 3 p1 p2)) ∧ (¬ p0 = 0 → (((p0 = 1 → (wpX_emitChain (fun u190 => (post u190)) u 4 p1 p2)) ∧ (¬ p0 = 1 → (((p0 = 2 → (wpX_emitChain (fun u252 => (post u252)) u 5 p1 p2)) ∧ (¬ p0 = 2 → (((p0 = 3 → (wpX_emitChain (fun u314 => (post u314)) u 6 p1 p2)) ∧ (¬ p0 = 3 → (((p0 = 4 → (vX_emitOperator_106 post p0 p1 u)) ∧ (¬ p0 = 4 → (((p0 = 5 → (vX_emitOperator_106 post p0 p1 u)) ∧ (¬ p0 = 5 → (((p0 = 6 → (vX_emitOperator_106 post p0 p1 u)) ∧ (¬ p0 = 6 → (((p0 = 7 → (vX_emitOperator_106 post p0 p1 u)) ∧ (¬ p0 = 7 → (((p0 = 8 → (vX_emitOperator_106 post p0 p1 u)) ∧ (¬ p0 = 8 → (((p0 = 9 → (wpX_emitLess (fun u381 => (post u381)) u p1 p2)) ∧ (¬ p0 = 9 → (True))))))))))))))))))))))))))))))))))))) := rfl
theorem eX_emitConst_2 (post : SX → Prop) (x1 : Int32) (x2 : Int32) (n : Nat) (x3 : Int32) (u : SX) : vX_emitConst_2 post x1 x2 (n + 1) x3 u = (((4 ≤ x3 → (post u)) ∧ (¬ 4 ≤ x3 → (wpX_emit (fun r_2 u3 => (wpX_emit (fun r_63 u64 => (∀ x3_124, x3_124 = x3 + 1 → (vX_emitConst_2 post x1 x2 n x3_124 u64))) u3 2 (x2 + x3))) u 0 (((x1.toUInt32 >>> ((8 * x3).toUInt32 &&& Int32.toUInt32 31)).toInt32) &&& 255))))) := rfl
theorem eX_emitConst (post : SX → Prop) (u : SX) (p0 : Int32) (p1 : Int32) : wpX_emitConst post u p0 p1 = (∃ n2 : Nat, vX_emitConst_2 post p0 p1 n2 0 u) := rfl
theorem eX_emitToken (post : Int32 → SX → Prop) (u : SX) (p0 : Int32) (p1 : Int32) : wpX_emitToken post u p0 p1 = (∀ x3_1, x3_1 = 32 + (4 * p1) → (vp_in p0 48 ∧ (((((ax_kinds u) p0.toNatClampNeg) = 2 → (vp_in p0 48 ∧ (wpX_emitOperator (fun u132 => (post (p1 - 1) u132)) u ((ax_args u) p0.toNatClampNeg) (x3_1 - 8) (x3_1 - 4)))) ∧ (¬ ((ax_kinds u) p0.toNatClampNeg) = 2 → (vp_in p0 48 ∧ (((((ax_kinds u) p0.toNatClampNeg) = 1 → (vp_in p0 48 ∧ (wpX_emitCopy (fun u70 => (post (p1 + 1) u70)) u (4 * ((ax_args u) p0.toNatClampNeg)) x3_1))) ∧ (¬ ((ax_kinds u) p0.toNatClampNeg) = 1 → (vp_in p0 48 ∧ (wpX_emitConst (fun u8 => (post (p1 + 1) u8)) u ((ax_args u) p0.toNatClampNeg) x3_1))))))))))) := rfl
theorem eX_afterEnd (post : Int32 → Prop) (u : SX) (p0 : Int32) : wpX_afterEnd post u p0 = (vp_in p0 48 ∧ (∀ x2_2, x2_2 = (ax_match u) p0.toNatClampNeg → (vp_in x2_2 48 ∧ (((((ax_kinds u) x2_2.toNatClampNeg) = 4 → (post (p0 + 1))) ∧ (¬ ((ax_kinds u) x2_2.toNatClampNeg) = 4 → (vp_in x2_2 48 ∧ (post ((ax_first u) x2_2.toNatClampNeg))))))))) := rfl
theorem eX_emitClosing (post : SX → Prop) (u : SX) (p0 : Int32) : wpX_emitClosing post u p0 = (vp_in p0 48 ∧ (((((ax_kinds u) p0.toNatClampNeg) = 6 → (wpX_afterEnd (fun r_434 => (wpX_emit (fun r_495 u496 => (post u496)) u 20 r_434)) u p0)) ∧ (¬ ((ax_kinds u) p0.toNatClampNeg) = 6 → (vp_in p0 48 ∧ (((((ax_kinds u) p0.toNatClampNeg) = 3 → (vp_in p0 48 ∧ (wpX_emitCopy (fun u313 => (wpX_emit (fun r_373 u374 => (post u374)) u313 20 (p0 + 1))) u 32 (4 * ((ax_args u) p0.toNatClampNeg))))) ∧ (¬ ((ax_kinds u) p0.toNatClampNeg) = 3 → (wpX_emitTest (fun u6 => (wpX_emit (fun r_66 u67 => (wpX_emit (fun r_127 u128 => (wpX_patch (fun u189 => (vp_in p0 48 ∧ (wpX_emit (fun r_250 u251 => (post u251)) u189 20 (((ax_match u189) p0.toNatClampNeg) + 1)))) u128 r_66)) u67 20 (p0 + 1))) u6 13 0)) u 32))))))))) := rfl
theorem eX_compile_47 (post : SX → Prop) (n : Nat) (x1 : Int32) (x2 : Int32) (u : SX) : vX_compile_47 post (n + 1) x1 x2 u = ((((ax_used u) ≤ x2 → (post u)) ∧ (¬ (ax_used u) ≤ x2 → (vp_in x2 48 ∧ (((3 ≤ ((ax_kinds u) x2.toNatClampNeg) → (wpX_emitClosing (fun u373 => (vp_in (x2 + 1) 49 ∧ ∀ a_entry_434, a_entry_434 = upd (ax_entry u373) (x2 + 1).toNatClampNeg (ax_size u373) → (∀ x2_435, x2_435 = x2 + 1 → (vX_compile_47 post n 0 x2_435 (sx_entry u373 a_entry_434))))) u x2)) ∧ (¬ 3 ≤ ((ax_kinds u) x2.toNatClampNeg) → (wpX_emitToken (fun r_436 u437 => (∀ x2_497, x2_497 = x2 + 1 → (vX_compile_47 post n r_436 x2_497 u437))) u x2 x1)))))))) := rfl
theorem eX_compile (post : SX → Prop) (u : SX) : wpX_compile post u = (wpX_emitMul (fun u2 => (wpX_emitDivide (fun u63 => (wpX_emitDiv (fun u124 => (wpX_emitRem (fun u185 => (wpX_emitShift (fun u246 => (wpX_emitShift (fun u307 => (∀ a_entry_368, a_entry_368 = upd (ax_entry u307) 0 (ax_size u307) → (∃ n47 : Nat, vX_compile_47 post n47 0 0 (sx_entry u307 a_entry_368)))) u246 8)) u185 7)) u124)) u63)) u2)) (sx_size u 0)) := rfl
theorem eX_seal (post : Int32 → SX → Prop) (u : SX) : wpX_seal post u = ((((ax_stage u) = 1 → (post (-3) u)) ∧ (¬ (ax_stage u) = 1 → ((((ax_used u) = 0 → (post (-4) u)) ∧ (¬ (ax_used u) = 0 → ((((ax_tail u) = (ax_used u) → ((((ax_open u) = 0 → (wpX_reset (fun u6 => (wpX_linkBlocks (fun u67 => (wpX_compile (fun u128 => (post 0 u128)) u67)) u6)) (sx_stage u 1))) ∧ (¬ (ax_open u) = 0 → (post (-4) u))))) ∧ (¬ (ax_tail u) = (ax_used u) → (post (-4) u)))))))))) := rfl
theorem eX_input_50 (post : Int32 → SX → Prop) (x1 : Int32) (x2 : Int32) (n : Nat) (x3 : Int32) (u : SX) : vX_input_50 post x1 x2 (n + 1) x3 u = (((4 ≤ x3 → (post 0 u)) ∧ (¬ 4 ≤ x3 → (vp_in ((4 * x1) + x3) 128 ∧ ∀ a_mem_70, a_mem_70 = upd (ax_mem u) ((4 * x1) + x3).toNatClampNeg (((x2.toUInt32 >>> ((8 * x3).toUInt32 &&& Int32.toUInt32 31)).toInt32) &&& 255) → (∀ x3_71, x3_71 = x3 + 1 → (vX_input_50 post x1 x2 n x3_71 (sx_mem u a_mem_70))))))) := rfl
theorem eX_input (post : Int32 → SX → Prop) (u : SX) (p0 : Int32) (p1 : Int32) : wpX_input post u p0 p1 = ((((ax_stage u) = 0 → (post (-3) u)) ∧ (¬ (ax_stage u) = 0 → (wpX_isVar (fun r_2 => (((r_2 = 0 → (post (-1) u)) ∧ (¬ r_2 = 0 → (((((ax_dones u) 0) = 0 → (((((ax_dones u) 1) = 0 → (vp_in p0 8 ∧ ∀ a_wideVars_67, a_wideVars_67 = upd (ax_wideVars u) p0.toNatClampNeg p1 → (∃ n50 : Nat, vX_input_50 post p0 p1 n50 0 (sx_wideVars u a_wideVars_67)))) ∧ (¬ ((ax_dones u) 1) = 0 → (post (-3) u))))) ∧ (¬ ((ax_dones u) 0) = 0 → (post (-3) u)))))))) u p0)))) := rfl
theorem eX_rewind (post : Int32 → SX → Prop) (u : SX) : wpX_rewind post u = ((((ax_stage u) = 0 → (post (-3) u)) ∧ (¬ (ax_stage u) = 0 → (wpX_reset (fun u3 => (post 0 u3)) u)))) := rfl
theorem eX_apply (post : Int32 → Prop) (u : SX) (p0 : Int32) (p1 : Int32) (p2 : Int32) : wpX_apply post u p0 p1 p2 = (((p0 < 0 → (((p2 ≤ p1 → (post 0)) ∧ (¬ p2 ≤ p1 → (post 1))))) ∧ (¬ p0 < 0 → (((8 < p0 → (((p2 ≤ p1 → (post 0)) ∧ (¬ p2 ≤ p1 → (post 1))))) ∧ (¬ 8 < p0 → (((p0 = 0 → (post (p1 + p2))) ∧ (¬ p0 = 0 → (((p0 = 1 → (post (p1 - p2))) ∧ (¬ p0 = 1 → (((p0 = 2 → (post (p1 &&& p2))) ∧ (¬ p0 = 2 → (((p0 = 3 → (post (p1 ^^^ p2))) ∧ (¬ p0 = 3 → (((p0 = 4 → (post (p1 * p2))) ∧ (¬ p0 = 4 → (((p0 = 5 → (((p2 = 0 → (post (-1))) ∧ (¬ p2 = 0 → (¬ p2 = 0 ∧ (post (p1 / p2))))))) ∧ (¬ p0 = 5 → (((p0 = 6 → (((p2 = 0 → (post p1)) ∧ (¬ p2 = 0 → (¬ p2 = 0 ∧ (post (p1 - p1 / p2 * p2))))))) ∧ (¬ p0 = 6 → (((p0 = 7 → (post (p1 <<< ((p2 &&& 31) &&& 31)))) ∧ (¬ p0 = 7 → (((p0 = 8 → (post (p1 >>> ((p2 &&& 31) &&& 31)))) ∧ (¬ p0 = 8 → (True)))))))))))))))))))))))))))))))))) := rfl
theorem eX_wideToken (post : Int32 → SX → Prop) (u : SX) (p0 : Int32) (p1 : Int32) : wpX_wideToken post u p0 p1 = (vp_in p0 48 ∧ (((((ax_kinds u) p0.toNatClampNeg) = 2 → (vp_in p0 48 ∧ (vp_in (p1 - 2) 8 ∧ (vp_in (p1 - 1) 8 ∧ (wpX_apply (fun r_15 => (vp_in (p1 - 2) 8 ∧ ∀ a_wideStack_77, a_wideStack_77 = upd (ax_wideStack u) (p1 - 2).toNatClampNeg r_15 → (post (p1 - 1) (sx_wideStack u a_wideStack_77)))) u ((ax_args u) p0.toNatClampNeg) ((ax_wideStack u) (p1 - 2).toNatClampNeg) ((ax_wideStack u) (p1 - 1).toNatClampNeg)))))) ∧ (¬ ((ax_kinds u) p0.toNatClampNeg) = 2 → (vp_in p0 48 ∧ (((((ax_kinds u) p0.toNatClampNeg) = 1 → (vp_in p0 48 ∧ (vp_in ((ax_args u) p0.toNatClampNeg) 8 ∧ (vp_in p1 8 ∧ ∀ a_wideStack_11, a_wideStack_11 = upd (ax_wideStack u) p1.toNatClampNeg ((ax_wideVars u) ((ax_args u) p0.toNatClampNeg).toNatClampNeg) → (post (p1 + 1) (sx_wideStack u a_wideStack_11)))))) ∧ (¬ ((ax_kinds u) p0.toNatClampNeg) = 1 → (vp_in p0 48 ∧ (vp_in p1 8 ∧ ∀ a_wideStack_7, a_wideStack_7 = upd (ax_wideStack u) p1.toNatClampNeg ((ax_args u) p0.toNatClampNeg) → (post (p1 + 1) (sx_wideStack u a_wideStack_7)))))))))))) := rfl
theorem eX_wideStatement_42 (post : SX → Prop) (x2 : Int32) (u : SX) : vX_wideStatement_42 post x2 u = (∀ x3_3, x3_3 = (ax_wideStack u) 0 → (vp_in x2 48 ∧ (((((ax_kinds u) x2.toNatClampNeg) = 6 → (wpX_afterEnd (fun r_19 => (∀ a_places_81, a_places_81 = upd (ax_places u) 0 r_19 → (post (sx_places u a_places_81)))) u x2)) ∧ (¬ ((ax_kinds u) x2.toNatClampNeg) = 6 → (vp_in x2 48 ∧ (((((ax_kinds u) x2.toNatClampNeg) = 3 → (vp_in x2 48 ∧ (vp_in ((ax_args u) x2.toNatClampNeg) 8 ∧ ∀ a_wideVars_16, a_wideVars_16 = upd (ax_wideVars u) ((ax_args u) x2.toNatClampNeg).toNatClampNeg x3_3 → (∀ a_places_18, a_places_18 = upd (ax_places u) 0 (x2 + 1) → (post (sx_places (sx_wideVars u a_wideVars_16) a_places_18)))))) ∧ (¬ ((ax_kinds u) x2.toNatClampNeg) = 3 → (((x3_3 = 0 → (vp_in x2 48 ∧ (∀ a_places_11, a_places_11 = upd (ax_places u) 0 (((ax_match u) x2.toNatClampNeg) + 1) → (post (sx_places u a_places_11))))) ∧ (¬ x3_3 = 0 → (∀ a_places_13, a_places_13 = upd (ax_places u) 0 (x2 + 1) → (post (sx_places u a_places_13))))))))))))))) := rfl
theorem eX_wideStatement_9 (post : SX → Prop) (n : Nat) (x1 : Int32) (x2 : Int32) (u : SX) : vX_wideStatement_9 post (n + 1) x1 x2 u = (((((ax_used u) - 1) ≤ x2 → (vX_wideStatement_42 post x2 u)) ∧ (¬ ((ax_used u) - 1) ≤ x2 → (vp_in x2 48 ∧ (((3 ≤ ((ax_kinds u) x2.toNatClampNeg) → (vX_wideStatement_42 post x2 u)) ∧ (¬ 3 ≤ ((ax_kinds u) x2.toNatClampNeg) → (wpX_wideToken (fun r_84 u85 => (∀ x2_145, x2_145 = x2 + 1 → (vX_wideStatement_9 post n r_84 x2_145 u85))) u x2 x1)))))))) := rfl
theorem eX_wideStatement (post : SX → Prop) (u : SX) : wpX_wideStatement post u = (∀ x2_1, x2_1 = (ax_places u) 0 → (∃ n9 : Nat, vX_wideStatement_9 post n9 0 x2_1 u)) := rfl
theorem eX_split (post : SX → Prop) (u : SX) (p0 : Int32) : wpX_split post u p0 = (∀ f_acc_1, f_acc_1 = p0 &&& 255 → (∀ f_carry_2, f_carry_2 = (p0 >>> ((8 : Int32) &&& 31)) &&& 1 → (post (sx_acc (sx_carry u f_carry_2) f_acc_1)))) := rfl
theorem eX_modify (post : SX → Prop) (u : SX) (p0 : Int32) (p1 : Int32) : wpX_modify post u p0 p1 = (((p0 = 8 → (vp_in p1 128 ∧ (∀ x3_13, x3_13 = (((ax_mem u) p1.toNatClampNeg) <<< ((1 : Int32) &&& 31)) ||| (ax_carry u) → (vp_in p1 128 ∧ ∀ a_mem_15, a_mem_15 = upd (ax_mem u) p1.toNatClampNeg (x3_13 &&& 255) → (∀ f_carry_16, f_carry_16 = x3_13 >>> ((8 : Int32) &&& 31) → (post (sx_carry (sx_mem u a_mem_15) f_carry_16))))))) ∧ (¬ p0 = 8 → (((p0 = 9 → (vp_in p1 128 ∧ (∀ x3_8, x3_8 = ((ax_mem u) p1.toNatClampNeg) ||| ((ax_carry u) <<< ((8 : Int32) &&& 31)) → (vp_in p1 128 ∧ ∀ a_mem_10, a_mem_10 = upd (ax_mem u) p1.toNatClampNeg (x3_8 >>> ((1 : Int32) &&& 31)) → (∀ f_carry_11, f_carry_11 = x3_8 &&& 1 → (post (sx_carry (sx_mem u a_mem_10) f_carry_11))))))) ∧ (¬ p0 = 9 → (vp_in p1 128 ∧ (∀ f_acc_4, f_acc_4 = (((ax_mem u) p1.toNatClampNeg) - 1) &&& 255 → (vp_in p1 128 ∧ ∀ a_mem_6, a_mem_6 = upd (ax_mem u) p1.toNatClampNeg f_acc_4 → (post (sx_acc (sx_mem u a_mem_6) f_acc_4))))))))))) := rfl
theorem eX_operate_18 (post : SX → Prop) (x1 : Int32) (x2 : Int32) (z0 : Int32) (u : SX) : vX_operate_18 post x1 x2 z0 u = (∀ x3_2, x3_2 = z0 &&& 127 → (((x1 < 0 → (wpX_modify (fun u6 => (post u6)) u x1 x3_2)) ∧ (¬ x1 < 0 → (((7 < x1 → (wpX_modify (fun u67 => (post u67)) u x1 x3_2)) ∧ (¬ 7 < x1 → (((x1 = 0 → (post (sx_acc u x2))) ∧ (¬ x1 = 0 → (((x1 = 1 → (vp_in x3_2 128 ∧ (∀ f_acc_130, f_acc_130 = (ax_mem u) x3_2.toNatClampNeg → (post (sx_acc u f_acc_130))))) ∧ (¬ x1 = 1 → (((x1 = 2 → (vp_in x3_2 128 ∧ ∀ a_mem_133, a_mem_133 = upd (ax_mem u) x3_2.toNatClampNeg (ax_acc u) → (post (sx_mem u a_mem_133)))) ∧ (¬ x1 = 2 → (((x1 = 3 → (vp_in x3_2 128 ∧ (wpX_split (fun u137 => (post u137)) u (((ax_acc u) + ((ax_mem u) x3_2.toNatClampNeg)) + (ax_carry u))))) ∧ (¬ x1 = 3 → (((x1 = 4 → (vp_in x3_2 128 ∧ (wpX_split (fun u200 => (post u200)) u (((ax_acc u) - ((ax_mem u) x3_2.toNatClampNeg)) - (ax_carry u))))) ∧ (¬ x1 = 4 → (((x1 = 5 → (vp_in x3_2 128 ∧ (∀ f_acc_262, f_acc_262 = (ax_acc u) &&& ((ax_mem u) x3_2.toNatClampNeg) → (post (sx_acc u f_acc_262))))) ∧ (¬ x1 = 5 → (((x1 = 6 → (vp_in x3_2 128 ∧ (∀ f_acc_265, f_acc_265 = (ax_acc u) ^^^ ((ax_mem u) x3_2.toNatClampNeg) → (post (sx_acc u f_acc_265))))) ∧ (¬ x1 = 6 → (((x1 = 7 → (vp_in x3_2 128 ∧ (∀ f_acc_268, f_acc_268 = (ax_acc u) ||| ((ax_mem u) x3_2.toNatClampNeg) → (post (sx_acc u f_acc_268))))) ∧ (¬ x1 = 7 → (True)))))))))))))))))))))))))))))))) := rfl
theorem eX_operate (post : SX → Prop) (u : SX) (p0 : Int32) (p1 : Int32) : wpX_operate post u p0 p1 = ((((p1 &&& 128) = 0 → (vX_operate_18 post p0 p1 p1 u)) ∧ (¬ (p1 &&& 128) = 0 → (vX_operate_18 post p0 p1 (p1 + (ax_index u)) u)))) := rfl
theorem eX_enter (post : SX → Prop) (u : SX) (p0 : Int32) : wpX_enter post u p0 = (((4 ≤ (ax_calls u) → (post u)) ∧ (¬ 4 ≤ (ax_calls u) → (vp_in (ax_calls u) 4 ∧ ∀ a_returns_3, a_returns_3 = upd (ax_returns u) (ax_calls u).toNatClampNeg (ax_pc u) → (∀ f_calls_4, f_calls_4 = (ax_calls u) + 1 → (post (sx_calls (sx_pc (sx_returns u a_returns_3) p0) f_calls_4))))))) := rfl
theorem eX_leave (post : SX → Prop) (u : SX) : wpX_leave post u = ((((ax_calls u) ≤ 0 → (post u)) ∧ (¬ (ax_calls u) ≤ 0 → (∀ f_calls_2, f_calls_2 = (ax_calls u) - 1 → (vp_in f_calls_2 4 ∧ (∀ f_pc_4, f_pc_4 = (ax_returns u) f_calls_2.toNatClampNeg → (post (sx_calls (sx_pc u f_pc_4) f_calls_2)))))))) := rfl
theorem eX_jump (post : SX → Prop) (u : SX) (p0 : Int32) (p1 : Int32) : wpX_jump post u p0 p1 = (((p0 = 0 → (post u)) ∧ (¬ p0 = 0 → (post (sx_pc u p1))))) := rfl
theorem eX_control_179 (post : SX → Prop) (x2 : Int32) (z0 : Int32) (u : SX) : vX_control_179 post x2 z0 u = (wpX_jump (fun u5 => (post u5)) u z0 x2) := rfl
theorem eX_control_163 (post : SX → Prop) (x2 : Int32) (u : SX) : vX_control_163 post x2 u = (((128 ≤ (ax_acc u) → (vX_control_179 post x2 0 u)) ∧ (¬ 128 ≤ (ax_acc u) → (vX_control_179 post x2 1 u)))) := rfl
theorem eX_control_96 (post : SX → Prop) (x2 : Int32) (z0 : Int32) (u : SX) : vX_control_96 post x2 z0 u = (wpX_jump (fun u70 => (post u70)) u z0 x2) := rfl
theorem eX_control_116 (post : SX → Prop) (x2 : Int32) (z0 : Int32) (u : SX) : vX_control_116 post x2 z0 u = (wpX_jump (fun u133 => (post u133)) u z0 x2) := rfl
theorem eX_control_136 (post : SX → Prop) (x2 : Int32) (z0 : Int32) (u : SX) : vX_control_136 post x2 z0 u = (wpX_jump (fun u196 => (post u196)) u z0 x2) := rfl
theorem eX_control_156 (post : SX → Prop) (x2 : Int32) (z0 : Int32) (u : SX) : vX_control_156 post x2 z0 u = (wpX_jump (fun u259 => (post u259)) u z0 x2) := rfl
theorem eX_control (post : SX → Prop) (u : SX) (p0 : Int32) (p1 : Int32) : wpX_control post u p0 p1 = (((p0 < 11 → (vX_control_163 post p1 u)) ∧ (¬ p0 < 11 → (((19 < p0 → (vX_control_163 post p1 u)) ∧ (¬ 19 < p0 → (((p0 = 11 → (post (sx_carry u 0))) ∧ (¬ p0 = 11 → (((p0 = 12 → (post (sx_index u p1))) ∧ (¬ p0 = 12 → (((p0 = 13 → ((((ax_acc u) = 0 → (vX_control_96 post p1 1 u)) ∧ (¬ (ax_acc u) = 0 → (vX_control_96 post p1 0 u))))) ∧ (¬ p0 = 13 → (((p0 = 14 → ((((ax_acc u) = 0 → (vX_control_116 post p1 0 u)) ∧ (¬ (ax_acc u) = 0 → (vX_control_116 post p1 1 u))))) ∧ (¬ p0 = 14 → (((p0 = 15 → ((((ax_carry u) = 0 → (vX_control_136 post p1 0 u)) ∧ (¬ (ax_carry u) = 0 → (vX_control_136 post p1 1 u))))) ∧ (¬ p0 = 15 → (((p0 = 16 → ((((ax_carry u) = 0 → (vX_control_156 post p1 1 u)) ∧ (¬ (ax_carry u) = 0 → (vX_control_156 post p1 0 u))))) ∧ (¬ p0 = 16 → (((p0 = 17 → (vX_control_163 post p1 u)) ∧ (¬ p0 = 17 → (((p0 = 18 → (wpX_enter (fun u322 => (post u322)) u p1)) ∧ (¬ p0 = 18 → (((p0 = 19 → (wpX_leave (fun u384 => (post u384)) u)) ∧ (¬ p0 = 19 → (True)))))))))))))))))))))))))))))))))) := rfl
theorem eX_octetStatement_24 (post : SX → Prop) (n : Nat) (x1 : Int32) (x2 : Int32) (u : SX) : vX_octetStatement_24 post (n + 1) x1 x2 u = (((20000 ≤ x2 → (post u)) ∧ (¬ 20000 ≤ x2 → (((x1 = 0 → (post u)) ∧ (¬ x1 = 0 → ((((ax_size u) ≤ (ax_pc u) → (post u)) ∧ (¬ (ax_size u) ≤ (ax_pc u) → (vp_in (ax_pc u) 2048 ∧ (∀ x3_7, x3_7 = (ax_codeOp u) (ax_pc u).toNatClampNeg → (vp_in (ax_pc u) 2048 ∧ (∀ x4_9, x4_9 = (ax_codeArg u) (ax_pc u).toNatClampNeg → (∀ f_pc_10, f_pc_10 = (ax_pc u) + 1 → (((x3_7 = 20 → (∀ a_places_138, a_places_138 = upd (ax_places u) 1 x4_9 → (∀ x2_139, x2_139 = x2 + 1 → (vX_octetStatement_24 post n 0 x2_139 (sx_pc (sx_places u a_places_138) f_pc_10))))) ∧ (¬ x3_7 = 20 → (((11 ≤ x3_7 → (wpX_control (fun u14 => (∀ x2_74, x2_74 = x2 + 1 → (vX_octetStatement_24 post n x1 x2_74 u14))) (sx_pc u f_pc_10) x3_7 x4_9)) ∧ (¬ 11 ≤ x3_7 → (wpX_operate (fun u76 => (∀ x2_136, x2_136 = x2 + 1 → (vX_octetStatement_24 post n x1 x2_136 u76))) (sx_pc u f_pc_10) x3_7 x4_9))))))))))))))))))))) := rfl
theorem eX_octetStatement (post : SX → Prop) (u : SX) : wpX_octetStatement post u = (vp_in ((ax_places u) 1) 49 ∧ (∀ f_pc_2, f_pc_2 = (ax_entry u) ((ax_places u) 1).toNatClampNeg → (∃ n24 : Nat, vX_octetStatement_24 post n24 1 0 (sx_calls (sx_pc u f_pc_2) 0)))) := rfl
theorem eX_step_71 (post : Int32 → SX → Prop) (n : Nat) (x1 : Int32) (x2 : Int32) (x3 : Int32) (x4 : Int32) (u : SX) : vX_step_71 post n x1 x2 x3 x4 u = (vp_in x1 2 ∧ (vp_in x1 2 ∧ ∀ a_dones_133, a_dones_133 = upd (ax_dones u) x1.toNatClampNeg (((ax_dones u) x1.toNatClampNeg) + 1) → (∀ x3_134, x3_134 = x3 + 1 → (∀ x4_135, x4_135 = x4 + 1 → (vX_step_37 post x1 x2 n x3_134 x4_135 (sx_dones u a_dones_133)))))) := rfl
theorem eX_step_37 (post : Int32 → SX → Prop) (x1 : Int32) (x2 : Int32) (n : Nat) (x3 : Int32) (x4 : Int32) (u : SX) : vX_step_37 post x1 x2 (n + 1) x3 x4 u = (((x2 ≤ x4 → (post x3 u)) ∧ (¬ x2 ≤ x4 → (vp_in x1 2 ∧ ((((ax_used u) ≤ ((ax_places u) x1.toNatClampNeg) → (post x3 u)) ∧ (¬ (ax_used u) ≤ ((ax_places u) x1.toNatClampNeg) → (((x1 = 0 → (wpX_wideStatement (fun u137 => (vX_step_71 post n x1 x2 x3 x4 u137)) u)) ∧ (¬ x1 = 0 → (wpX_octetStatement (fun u71 => (vX_step_71 post n x1 x2 x3 x4 u71)) u))))))))))) := rfl
theorem eX_step (post : Int32 → SX → Prop) (u : SX) (p0 : Int32) (p1 : Int32) : wpX_step post u p0 p1 = ((((ax_stage u) = 0 → (post (-3) u)) ∧ (¬ (ax_stage u) = 0 → (wpX_isMachine (fun r_2 => (((r_2 = 0 → (post (-1) u)) ∧ (¬ r_2 = 0 → (((p1 < 1 → (post (-1) u)) ∧ (¬ p1 < 1 → (((p1 ≤ 4 → (∃ n37 : Nat, vX_step_37 post p0 p1 n37 0 0 u)) ∧ (¬ p1 ≤ 4 → (post (-1) u))))))))))) u p0)))) := rfl
theorem eX_wide (post : Int32 → Prop) (u : SX) (p0 : Int32) : wpX_wide post u p0 = (wpX_isVar (fun r_1 => (((r_1 = 0 → (post 0)) ∧ (¬ r_1 = 0 → (vp_in p0 8 ∧ (post ((ax_wideVars u) p0.toNatClampNeg))))))) u p0) := rfl
theorem eX_octet (post : Int32 → Prop) (u : SX) (p0 : Int32) (p1 : Int32) : wpX_octet post u p0 p1 = (wpX_isVar (fun r_1 => (((r_1 = 0 → (post (-1))) ∧ (¬ r_1 = 0 → (((p1 < 0 → (post (-1))) ∧ (¬ p1 < 0 → (((p1 ≤ 3 → (vp_in ((4 * p0) + p1) 128 ∧ (post ((ax_mem u) ((4 * p0) + p1).toNatClampNeg)))) ∧ (¬ p1 ≤ 3 → (post (-1)))))))))))) u p0) := rfl
theorem eX_place (post : Int32 → Prop) (u : SX) (p0 : Int32) : wpX_place post u p0 = (wpX_isMachine (fun r_1 => (((r_1 = 0 → (post (-1))) ∧ (¬ r_1 = 0 → (vp_in p0 2 ∧ (post ((ax_places u) p0.toNatClampNeg))))))) u p0) := rfl
theorem eX_done (post : Int32 → Prop) (u : SX) (p0 : Int32) : wpX_done post u p0 = (wpX_isMachine (fun r_1 => (((r_1 = 0 → (post (-1))) ∧ (¬ r_1 = 0 → (vp_in p0 2 ∧ (post ((ax_dones u) p0.toNatClampNeg))))))) u p0) := rfl
theorem eX_kindAt (post : Int32 → Prop) (u : SX) (p0 : Int32) : wpX_kindAt post u p0 = (((p0 < 0 → (post (-1))) ∧ (¬ p0 < 0 → ((((ax_used u) ≤ p0 → (post (-1))) ∧ (¬ (ax_used u) ≤ p0 → (vp_in p0 48 ∧ (post ((ax_kinds u) p0.toNatClampNeg))))))))) := rfl
theorem eX_argAt (post : Int32 → Prop) (u : SX) (p0 : Int32) : wpX_argAt post u p0 = (((p0 < 0 → (post 0)) ∧ (¬ p0 < 0 → ((((ax_used u) ≤ p0 → (post 0)) ∧ (¬ (ax_used u) ≤ p0 → (vp_in p0 48 ∧ (post ((ax_args u) p0.toNatClampNeg))))))))) := rfl
theorem eX_used (post : Int32 → Prop) (u : SX) : wpX_used post u = (post (ax_used u)) := rfl
theorem eX_phase (post : Int32 → Prop) (u : SX) : wpX_phase post u = (post (ax_stage u)) := rfl
end
section
theorem eY_clamp (post : Int32 → Prop) (u : SY) (p0 : Int32) (p1 : Int32) (p2 : Int32) : wpY_clamp post u p0 p1 p2 = (((p1 ≤ p0 → (((p0 ≤ p2 → (post p0)) ∧ (¬ p0 ≤ p2 → (post p2))))) ∧ (¬ p1 ≤ p0 → (post p1)))) := rfl
theorem eY_rowStart_6 (post : Int32 → Prop) (n : Nat) (x2 : Int32) (x3 : Int32) (u : SY) : vY_rowStart_6 post (n + 1) x2 x3 u = (((x3 < 0 → (post x2)) ∧ (¬ x3 < 0 → (vp_in x3 48 ∧ (((3 ≤ ((ay_kinds u) x3.toNatClampNeg) → (post x2)) ∧ (¬ 3 ≤ ((ay_kinds u) x3.toNatClampNeg) → (∀ x3_5, x3_5 = x3 + (-1) → (vY_rowStart_6 post n x3 x3_5 u))))))))) := rfl
theorem eY_rowStart (post : Int32 → Prop) (u : SY) (p0 : Int32) : wpY_rowStart post u p0 = (∀ x3_1, x3_1 = p0 - 1 → (∃ n6 : Nat, vY_rowStart_6 post n6 p0 x3_1 u)) := rfl
theorem eY_countKind_5 (post : Int32 → Prop) (x1 : Int32) (n : Nat) (x3 : Int32) (x4 : Int32) (u : SY) : vY_countKind_5 post x1 (n + 1) x3 x4 u = ((((ay_used u) ≤ x4 → (post x3)) ∧ (¬ (ay_used u) ≤ x4 → (vp_in x4 48 ∧ (((((ay_kinds u) x4.toNatClampNeg) = x1 → (∀ x3_5, x3_5 = x3 + 1 → (∀ x4_6, x4_6 = x4 + 1 → (vY_countKind_5 post x1 n x3_5 x4_6 u)))) ∧ (¬ ((ay_kinds u) x4.toNatClampNeg) = x1 → (∀ x4_4, x4_4 = x4 + 1 → (vY_countKind_5 post x1 n x3 x4_4 u))))))))) := rfl
theorem eY_countKind (post : Int32 → Prop) (u : SY) (p0 : Int32) (p1 : Int32) : wpY_countKind post u p0 p1 = (∃ n5 : Nat, vY_countKind_5 post p0 n5 0 p1 u) := rfl
theorem eY_openCount (post : Int32 → Prop) (u : SY) : wpY_openCount post u = (wpY_countKind (fun r_1 => (wpY_countKind (fun r_14 => (wpY_countKind (fun r_27 => (post ((r_1 + r_14) - r_27))) u 6 0)) u 5 0)) u 4 0) := rfl
theorem eY_matchingEnd_35 (post : Int32 → Prop) (n : Nat) (x2 : Int32) (x3 : Int32) (u : SY) : vY_matchingEnd_35 post n x2 x3 u = (vp_in x3 48 ∧ (((((ay_kinds u) x3.toNatClampNeg) = 6 → (∀ x2_8, x2_8 = x2 + (-1) → (((x2_8 = 0 → (post x3)) ∧ (¬ x2_8 = 0 → (∀ x3_10, x3_10 = x3 + 1 → (vY_matchingEnd_4 post n x2_8 x3_10 u))))))) ∧ (¬ ((ay_kinds u) x3.toNatClampNeg) = 6 → (∀ x3_7, x3_7 = x3 + 1 → (vY_matchingEnd_4 post n x2 x3_7 u)))))) := rfl
theorem eY_matchingEnd_32 (post : Int32 → Prop) (n : Nat) (x2 : Int32) (x3 : Int32) (u : SY) : vY_matchingEnd_32 post n x2 x3 u = (∀ x2_4, x2_4 = x2 + 1 → (vY_matchingEnd_35 post n x2_4 x3 u)) := rfl
theorem eY_matchingEnd_4 (post : Int32 → Prop) (n : Nat) (x2 : Int32) (x3 : Int32) (u : SY) : vY_matchingEnd_4 post (n + 1) x2 x3 u = ((((ay_used u) ≤ x3 → (post (ay_used u))) ∧ (¬ (ay_used u) ≤ x3 → (vp_in x3 48 ∧ (((((ay_kinds u) x3.toNatClampNeg) = 4 → (vY_matchingEnd_32 post n x2 x3 u)) ∧ (¬ ((ay_kinds u) x3.toNatClampNeg) = 4 → (vp_in x3 48 ∧ (((((ay_kinds u) x3.toNatClampNeg) = 5 → (vY_matchingEnd_32 post n x2 x3 u)) ∧ (¬ ((ay_kinds u) x3.toNatClampNeg) = 5 → (vY_matchingEnd_35 post n x2 x3 u)))))))))))) := rfl
theorem eY_matchingEnd (post : Int32 → Prop) (u : SY) (p0 : Int32) : wpY_matchingEnd post u p0 = (∃ n4 : Nat, vY_matchingEnd_4 post n4 0 p0 u) := rfl
theorem eY_matchingOpen_27 (post : Int32 → Prop) (n : Nat) (x1 : Int32) (x2 : Int32) (u : SY) : vY_matchingOpen_27 post n x1 x2 u = (wpY_matchingEnd (fun r_4 => (((r_4 = x1 → (post x2)) ∧ (¬ r_4 = x1 → (∀ x2_18, x2_18 = x2 + 1 → (vY_matchingOpen_2 post x1 n x2_18 u)))))) u x2) := rfl
theorem eY_matchingOpen_2 (post : Int32 → Prop) (x1 : Int32) (n : Nat) (x2 : Int32) (u : SY) : vY_matchingOpen_2 post x1 (n + 1) x2 u = (((x1 ≤ x2 → (post x1)) ∧ (¬ x1 ≤ x2 → (vp_in x2 48 ∧ (((((ay_kinds u) x2.toNatClampNeg) = 4 → (vY_matchingOpen_27 post n x1 x2 u)) ∧ (¬ ((ay_kinds u) x2.toNatClampNeg) = 4 → (vp_in x2 48 ∧ (((((ay_kinds u) x2.toNatClampNeg) = 5 → (vY_matchingOpen_27 post n x1 x2 u)) ∧ (¬ ((ay_kinds u) x2.toNatClampNeg) = 5 → (∀ x2_21, x2_21 = x2 + 1 → (vY_matchingOpen_2 post x1 n x2_21 u))))))))))))) := rfl
theorem eY_matchingOpen (post : Int32 → Prop) (u : SY) (p0 : Int32) : wpY_matchingOpen post u p0 = (∃ n2 : Nat, vY_matchingOpen_2 post p0 n2 0 u) := rfl
theorem eY_zeroMachines_23 (post : SY → Prop) (n : Nat) (x1 : Int32) (u : SY) : vY_zeroMachines_23 post (n + 1) x1 u = (((2 ≤ x1 → (post u)) ∧ (¬ 2 ≤ x1 → (vp_in x1 2 ∧ ∀ a_places_4, a_places_4 = upd (ay_places u) x1.toNatClampNeg 0 → (vp_in x1 2 ∧ ∀ a_counts_6, a_counts_6 = upd (ay_counts u) x1.toNatClampNeg 0 → (∀ x1_7, x1_7 = x1 + 1 → (vY_zeroMachines_23 post n x1_7 (sy_places (sy_counts u a_counts_6) a_places_4)))))))) := rfl
theorem eY_zeroMachines_2 (post : SY → Prop) (n : Nat) (x1 : Int32) (u : SY) : vY_zeroMachines_2 post (n + 1) x1 u = (((16 ≤ x1 → (∃ n23 : Nat, vY_zeroMachines_23 post n23 0 u)) ∧ (¬ 16 ≤ x1 → (vp_in x1 16 ∧ ∀ a_values_9, a_values_9 = upd (ay_values u) x1.toNatClampNeg 0 → (∀ x1_10, x1_10 = x1 + 1 → (vY_zeroMachines_2 post n x1_10 (sy_values u a_values_9))))))) := rfl
theorem eY_zeroMachines (post : SY → Prop) (u : SY) : wpY_zeroMachines post u = (∃ n2 : Nat, vY_zeroMachines_2 post n2 0 u) := rfl
theorem eY_feed_257 (post : Int32 → SY → Prop) (z0 : Int32) (z1 : Int32) (u : SY) : vY_feed_257 post z0 z1 u = (vp_in z1 48 ∧ ∀ a_args_87, a_args_87 = upd (ay_args u) z1.toNatClampNeg z0 → (∀ f_used_88, f_used_88 = (ay_used u) + 1 → (post 0 (sy_used (sy_args u a_args_87) f_used_88)))) := rfl
theorem eY_feed_229 (post : Int32 → SY → Prop) (x1 : Int32) (x2 : Int32) (u : SY) : vY_feed_229 post x1 x2 u = (vp_in (ay_used u) 48 ∧ ∀ a_kinds_84, a_kinds_84 = upd (ay_kinds u) (ay_used u).toNatClampNeg x1 → (((3 < x1 → (vY_feed_257 post 0 (ay_used u) (sy_kinds u a_kinds_84))) ∧ (¬ 3 < x1 → (vY_feed_257 post x2 (ay_used u) (sy_kinds u a_kinds_84)))))) := rfl
theorem eY_feed_207 (post : Int32 → SY → Prop) (x1 : Int32) (x2 : Int32) (x3 : Int32) (x8 : Int32) (u : SY) : vY_feed_207 post x1 x2 x3 x8 u = (((x1 = 6 → (((x3 = (ay_used u) → (((x8 = 0 → (post (-4) u)) ∧ (¬ x8 = 0 → (vY_feed_229 post x1 x2 u))))) ∧ (¬ x3 = (ay_used u) → (post (-4) u))))) ∧ (¬ x1 = 6 → (vY_feed_229 post x1 x2 u)))) := rfl
theorem eY_feed_189 (post : Int32 → SY → Prop) (x1 : Int32) (x2 : Int32) (x3 : Int32) (x7 : Int32) (x8 : Int32) (u : SY) : vY_feed_189 post x1 x2 x3 x7 x8 u = (((x7 = 1 → (((x8 = (ay_nest u) → (post (-4) u)) ∧ (¬ x8 = (ay_nest u) → (vY_feed_207 post x1 x2 x3 x8 u))))) ∧ (¬ x7 = 1 → (post (-4) u)))) := rfl
theorem eY_feed_179 (post : Int32 → SY → Prop) (x1 : Int32) (x2 : Int32) (x3 : Int32) (x7 : Int32) (x8 : Int32) (u : SY) : vY_feed_179 post x1 x2 x3 x7 x8 u = (((x1 = 4 → (vY_feed_189 post x1 x2 x3 x7 x8 u)) ∧ (¬ x1 = 4 → (((x1 = 5 → (vY_feed_189 post x1 x2 x3 x7 x8 u)) ∧ (¬ x1 = 5 → (vY_feed_207 post x1 x2 x3 x8 u))))))) := rfl
theorem eY_feed_165 (post : Int32 → SY → Prop) (x1 : Int32) (x2 : Int32) (x3 : Int32) (x7 : Int32) (x8 : Int32) (u : SY) : vY_feed_165 post x1 x2 x3 x7 x8 u = (((x1 = 3 → (((x7 = 1 → (vY_feed_179 post x1 x2 x3 x7 x8 u)) ∧ (¬ x7 = 1 → (post (-4) u))))) ∧ (¬ x1 = 3 → (vY_feed_179 post x1 x2 x3 x7 x8 u)))) := rfl
theorem eY_feed_151 (post : Int32 → SY → Prop) (x1 : Int32) (x2 : Int32) (x3 : Int32) (x7 : Int32) (x8 : Int32) (u : SY) : vY_feed_151 post x1 x2 x3 x7 x8 u = (((x1 = 2 → (((2 ≤ x7 → (vY_feed_165 post x1 x2 x3 x7 x8 u)) ∧ (¬ 2 ≤ x7 → (post (-4) u))))) ∧ (¬ x1 = 2 → (vY_feed_165 post x1 x2 x3 x7 x8 u)))) := rfl
theorem eY_feed_136 (post : Int32 → SY → Prop) (x1 : Int32) (x2 : Int32) (x3 : Int32) (x4 : Int32) (x5 : Int32) (x7 : Int32) (x8 : Int32) (u : SY) : vY_feed_136 post x1 x2 x3 x4 x5 x7 x8 u = ((((x4 + x5) = (ay_operands u) → (post (-4) u)) ∧ (¬ (x4 + x5) = (ay_operands u) → (vY_feed_151 post x1 x2 x3 x7 x8 u)))) := rfl
theorem eY_feed_64 (post : Int32 → SY → Prop) (x1 : Int32) (x2 : Int32) (u : SY) : vY_feed_64 post x1 x2 u = ((((ay_used u) = (ay_capacity u) → (post (-2) u)) ∧ (¬ (ay_used u) = (ay_capacity u) → (wpY_rowStart (fun r_9 => (wpY_countKind (fun r_22 => (wpY_countKind (fun r_35 => (wpY_countKind (fun r_48 => (∀ x7_61, x7_61 = (r_22 + r_35) - r_48 → (wpY_openCount (fun r_62 => (((x1 = 0 → (vY_feed_136 post x1 x2 r_9 r_22 r_35 x7_61 r_62 u)) ∧ (¬ x1 = 0 → (((x1 = 1 → (vY_feed_136 post x1 x2 r_9 r_22 r_35 x7_61 r_62 u)) ∧ (¬ x1 = 1 → (vY_feed_151 post x1 x2 r_9 x7_61 r_62 u)))))))) u))) u 2 r_9)) u 1 r_9)) u 0 r_9)) u (ay_used u))))) := rfl
theorem eY_feed_47 (post : Int32 → SY → Prop) (x1 : Int32) (x2 : Int32) (u : SY) : vY_feed_47 post x1 x2 u = (((x1 = 2 → (((x2 < 0 → (post (-1) u)) ∧ (¬ x2 < 0 → (((x2 ≤ 9 → (vY_feed_64 post x1 x2 u)) ∧ (¬ x2 ≤ 9 → (post (-1) u)))))))) ∧ (¬ x1 = 2 → (vY_feed_64 post x1 x2 u)))) := rfl
theorem eY_feed_33 (post : Int32 → SY → Prop) (x1 : Int32) (x2 : Int32) (u : SY) : vY_feed_33 post x1 x2 u = (((x2 < 0 → (post (-1) u)) ∧ (¬ x2 < 0 → (((x2 < (ay_vars u) → (vY_feed_47 post x1 x2 u)) ∧ (¬ x2 < (ay_vars u) → (post (-1) u))))))) := rfl
theorem eY_feed (post : Int32 → SY → Prop) (u : SY) (p0 : Int32) (p1 : Int32) : wpY_feed post u p0 p1 = ((((ay_phaseNow u) = 1 → (post (-3) u)) ∧ (¬ (ay_phaseNow u) = 1 → (((p0 < 0 → (post (-1) u)) ∧ (¬ p0 < 0 → (((p0 ≤ 6 → (((p0 = 1 → (vY_feed_33 post p0 p1 u)) ∧ (¬ p0 = 1 → (((p0 = 3 → (vY_feed_33 post p0 p1 u)) ∧ (¬ p0 = 3 → (vY_feed_47 post p0 p1 u)))))))) ∧ (¬ p0 ≤ 6 → (post (-1) u)))))))))) := rfl
theorem eY_drop (post : Int32 → SY → Prop) (u : SY) : wpY_drop post u = ((((ay_phaseNow u) = 1 → (post (-3) u)) ∧ (¬ (ay_phaseNow u) = 1 → (wpY_rowStart (fun r_2 => (∀ x2_15, x2_15 = (ay_used u) - r_2 → (post x2_15 (sy_used u r_2)))) u (ay_used u))))) := rfl
theorem eY_clear (post : SY → Prop) (u : SY) : wpY_clear post u = (wpY_zeroMachines (fun u2 => (post u2)) (sy_phaseNow (sy_used u 0) 0)) := rfl
theorem eY_seal (post : Int32 → SY → Prop) (u : SY) : wpY_seal post u = ((((ay_phaseNow u) = 1 → (post (-3) u)) ∧ (¬ (ay_phaseNow u) = 1 → (wpY_rowStart (fun r_2 => (wpY_openCount (fun r_15 => ((((ay_used u) = 0 → (post (-4) u)) ∧ (¬ (ay_used u) = 0 → (((r_2 = (ay_used u) → (((r_15 = 0 → (wpY_zeroMachines (fun u32 => (post 0 u32)) (sy_phaseNow u 1))) ∧ (¬ r_15 = 0 → (post (-4) u))))) ∧ (¬ r_2 = (ay_used u) → (post (-4) u)))))))) u)) u (ay_used u))))) := rfl
theorem eY_input (post : Int32 → SY → Prop) (u : SY) (p0 : Int32) (p1 : Int32) : wpY_input post u p0 p1 = ((((ay_phaseNow u) = 0 → (post (-3) u)) ∧ (¬ (ay_phaseNow u) = 0 → (((p0 < 0 → (post (-1) u)) ∧ (¬ p0 < 0 → (((p0 < (ay_vars u) → (((((ay_counts u) 0) = 0 → (((((ay_counts u) 1) = 0 → (vp_in p0 16 ∧ ∀ a_values_7, a_values_7 = upd (ay_values u) p0.toNatClampNeg p1 → (vp_in (8 + p0) 16 ∧ ∀ a_values_9, a_values_9 = upd a_values_7 (8 + p0).toNatClampNeg p1 → (post 0 (sy_values u a_values_9))))) ∧ (¬ ((ay_counts u) 1) = 0 → (post (-3) u))))) ∧ (¬ ((ay_counts u) 0) = 0 → (post (-3) u))))) ∧ (¬ p0 < (ay_vars u) → (post (-1) u)))))))))) := rfl
theorem eY_rewind (post : Int32 → SY → Prop) (u : SY) : wpY_rewind post u = ((((ay_phaseNow u) = 0 → (post (-3) u)) ∧ (¬ (ay_phaseNow u) = 0 → (wpY_zeroMachines (fun u3 => (post 0 u3)) u)))) := rfl
theorem eY_apply (post : Int32 → Prop) (u : SY) (p0 : Int32) (p1 : Int32) (p2 : Int32) : wpY_apply post u p0 p1 p2 = (((p0 = 0 → (post (p1 + p2))) ∧ (¬ p0 = 0 → (((p0 = 1 → (post (p1 - p2))) ∧ (¬ p0 = 1 → (((p0 = 2 → (post (p1 &&& p2))) ∧ (¬ p0 = 2 → (((p0 = 3 → (post (p1 ^^^ p2))) ∧ (¬ p0 = 3 → (((p0 = 4 → (post (p1 * p2))) ∧ (¬ p0 = 4 → (((p0 = 5 → (((p2 = 0 → (post (-1))) ∧ (¬ p2 = 0 → (¬ p2 = 0 ∧ (post (p1 / p2))))))) ∧ (¬ p0 = 5 → (((p0 = 6 → (((p2 = 0 → (post p1)) ∧ (¬ p2 = 0 → (¬ p2 = 0 ∧ (post (p1 - p1 / p2 * p2))))))) ∧ (¬ p0 = 6 → (((p0 = 7 → (post (p1 <<< ((p2 &&& 31) &&& 31)))) ∧ (¬ p0 = 7 → (((p0 = 8 → (post (p1 >>> ((p2 &&& 31) &&& 31)))) ∧ (¬ p0 = 8 → (((p2 ≤ p1 → (post 0)) ∧ (¬ p2 ≤ p1 → (post 1))))))))))))))))))))))))))))))) := rfl
theorem eY_statement_271 (post : SY → Prop) (x1 : Int32) (x4 : Int32) (u : SY) : vY_statement_271 post x1 x4 u = (vp_in x1 2 ∧ ∀ a_places_14, a_places_14 = upd (ay_places u) x1.toNatClampNeg x4 → (vp_in x1 2 ∧ (vp_in x1 2 ∧ ∀ a_counts_17, a_counts_17 = upd (ay_counts u) x1.toNatClampNeg (((ay_counts u) x1.toNatClampNeg) + 1) → (post (sy_places (sy_counts u a_counts_17) a_places_14))))) := rfl
theorem eY_statement_246 (post : SY → Prop) (x1 : Int32) (x4 : Int32) (u : SY) : vY_statement_246 post x1 x4 u = (vY_statement_271 post x1 x4 u) := rfl
theorem eY_statement_160 (post : SY → Prop) (x1 : Int32) (x2 : Int32) (u : SY) : vY_statement_160 post x1 x2 u = (((x2 < (ay_used u) → (∀ x4_7, x4_7 = x2 + 1 → (vp_in x2 48 ∧ (((((ay_kinds u) x2.toNatClampNeg) = 3 → (vp_in x2 48 ∧ (vp_in ((x1 * 8) + ((ay_args u) x2.toNatClampNeg)) 16 ∧ ∀ a_values_62, a_values_62 = upd (ay_values u) ((x1 * 8) + ((ay_args u) x2.toNatClampNeg)).toNatClampNeg ((ay_stack u) 0) → (vY_statement_271 post x1 x4_7 (sy_values u a_values_62))))) ∧ (¬ ((ay_kinds u) x2.toNatClampNeg) = 3 → (vp_in x2 48 ∧ (((((ay_kinds u) x2.toNatClampNeg) = 6 → (wpY_matchingOpen (fun r_32 => (vp_in r_32 48 ∧ (((((ay_kinds u) r_32.toNatClampNeg) = 5 → (wpY_rowStart (fun r_47 => (vY_statement_246 post x1 r_47 u)) u r_32)) ∧ (¬ ((ay_kinds u) r_32.toNatClampNeg) = 5 → (vY_statement_246 post x1 x4_7 u)))))) u x2)) ∧ (¬ ((ay_kinds u) x2.toNatClampNeg) = 6 → (((((ay_stack u) 0) = 0 → (wpY_matchingEnd (fun r_18 => (∀ x4_31, x4_31 = r_18 + 1 → (vY_statement_271 post x1 x4_31 u))) u x2)) ∧ (¬ ((ay_stack u) 0) = 0 → (vY_statement_271 post x1 x4_7 u)))))))))))))) ∧ (¬ x2 < (ay_used u) → (post u)))) := rfl
theorem eY_statement_17 (post : SY → Prop) (x1 : Int32) (n : Nat) (x2 : Int32) (x3 : Int32) (x4 : Int32) (u : SY) : vY_statement_17 post x1 (n + 1) x2 x3 x4 u = ((((ay_used u) ≤ x4 → (vY_statement_160 post x1 x2 u)) ∧ (¬ (ay_used u) ≤ x4 → (vp_in x4 48 ∧ (((3 ≤ ((ay_kinds u) x4.toNatClampNeg) → (vY_statement_160 post x1 x2 u)) ∧ (¬ 3 ≤ ((ay_kinds u) x4.toNatClampNeg) → (vp_in x4 48 ∧ (((((ay_kinds u) x4.toNatClampNeg) = 0 → (vp_in x4 48 ∧ (vp_in x3 48 ∧ ∀ a_stack_102, a_stack_102 = upd (ay_stack u) x3.toNatClampNeg ((ay_args u) x4.toNatClampNeg) → (∀ x3_103, x3_103 = x3 + 1 → (∀ x2_104, x2_104 = x4 + 1 → (∀ x4_105, x4_105 = x4 + 1 → (vY_statement_17 post x1 n x2_104 x3_103 x4_105 (sy_stack u a_stack_102)))))))) ∧ (¬ ((ay_kinds u) x4.toNatClampNeg) = 0 → (vp_in x4 48 ∧ (((((ay_kinds u) x4.toNatClampNeg) = 1 → (vp_in x4 48 ∧ (vp_in ((x1 * 8) + ((ay_args u) x4.toNatClampNeg)) 16 ∧ (vp_in x3 48 ∧ ∀ a_stack_96, a_stack_96 = upd (ay_stack u) x3.toNatClampNeg ((ay_values u) ((x1 * 8) + ((ay_args u) x4.toNatClampNeg)).toNatClampNeg) → (∀ x3_97, x3_97 = x3 + 1 → (∀ x2_98, x2_98 = x4 + 1 → (∀ x4_99, x4_99 = x4 + 1 → (vY_statement_17 post x1 n x2_98 x3_97 x4_99 (sy_stack u a_stack_96))))))))) ∧ (¬ ((ay_kinds u) x4.toNatClampNeg) = 1 → (((x3 < 2 → (∀ x2_70, x2_70 = x4 + 1 → (∀ x4_71, x4_71 = x4 + 1 → (vY_statement_17 post x1 n x2_70 x3 x4_71 u)))) ∧ (¬ x3 < 2 → (vp_in x4 48 ∧ (vp_in (x3 - 2) 48 ∧ (vp_in (x3 - 1) 48 ∧ (wpY_apply (fun r_75 => (vp_in (x3 - 2) 48 ∧ ∀ a_stack_89, a_stack_89 = upd (ay_stack u) (x3 - 2).toNatClampNeg r_75 → (∀ x3_90, x3_90 = x3 + (-1) → (∀ x2_91, x2_91 = x4 + 1 → (∀ x4_92, x4_92 = x4 + 1 → (vY_statement_17 post x1 n x2_91 x3_90 x4_92 (sy_stack u a_stack_89))))))) u ((ay_args u) x4.toNatClampNeg) ((ay_stack u) (x3 - 2).toNatClampNeg) ((ay_stack u) (x3 - 1).toNatClampNeg))))))))))))))))))))))) := rfl
theorem eY_statement (post : SY → Prop) (u : SY) (p0 : Int32) : wpY_statement post u p0 = (vp_in p0 2 ∧ (∀ x2_2, x2_2 = (ay_places u) p0.toNatClampNeg → (vp_in p0 2 ∧ (∀ x4_4, x4_4 = (ay_places u) p0.toNatClampNeg → (∃ n17 : Nat, vY_statement_17 post p0 n17 x2_2 0 x4_4 u))))) := rfl
theorem eY_step_38 (post : Int32 → SY → Prop) (x1 : Int32) (x2 : Int32) (n : Nat) (x3 : Int32) (x4 : Int32) (u : SY) : vY_step_38 post x1 x2 (n + 1) x3 x4 u = (((x2 ≤ x4 → (post x3 u)) ∧ (¬ x2 ≤ x4 → (vp_in x1 2 ∧ ((((ay_used u) ≤ ((ay_places u) x1.toNatClampNeg) → (∀ x4_9, x4_9 = x4 + 1 → (vY_step_38 post x1 x2 n x3 x4_9 u))) ∧ (¬ (ay_used u) ≤ ((ay_places u) x1.toNatClampNeg) → (wpY_statement (fun u11 => (∀ x3_23, x3_23 = x3 + 1 → (∀ x4_24, x4_24 = x4 + 1 → (vY_step_38 post x1 x2 n x3_23 x4_24 u11)))) u x1)))))))) := rfl
theorem eY_step (post : Int32 → SY → Prop) (u : SY) (p0 : Int32) (p1 : Int32) : wpY_step post u p0 p1 = ((((ay_phaseNow u) = 0 → (post (-3) u)) ∧ (¬ (ay_phaseNow u) = 0 → (((p0 < 0 → (post (-1) u)) ∧ (¬ p0 < 0 → (((p0 ≤ 1 → (((p1 < 1 → (post (-1) u)) ∧ (¬ p1 < 1 → (((p1 ≤ 4 → (∃ n38 : Nat, vY_step_38 post p0 p1 n38 0 0 u)) ∧ (¬ p1 ≤ 4 → (post (-1) u)))))))) ∧ (¬ p0 ≤ 1 → (post (-1) u)))))))))) := rfl
theorem eY_wide (post : Int32 → Prop) (u : SY) (p0 : Int32) : wpY_wide post u p0 = (((p0 < 0 → (post 0)) ∧ (¬ p0 < 0 → (((p0 < (ay_vars u) → (vp_in p0 16 ∧ (post ((ay_values u) p0.toNatClampNeg)))) ∧ (¬ p0 < (ay_vars u) → (post 0))))))) := rfl
theorem eY_octet (post : Int32 → Prop) (u : SY) (p0 : Int32) (p1 : Int32) : wpY_octet post u p0 p1 = (((p0 < 0 → (post (-1))) ∧ (¬ p0 < 0 → ((((ay_vars u) ≤ p0 → (post (-1))) ∧ (¬ (ay_vars u) ≤ p0 → (((p1 < 0 → (post (-1))) ∧ (¬ p1 < 0 → (((p1 ≤ 3 → (vp_in (8 + p0) 16 ∧ (post (((((ay_values u) (8 + p0).toNatClampNeg).toUInt32 >>> ((8 * p1).toUInt32 &&& Int32.toUInt32 31)).toInt32) &&& 255)))) ∧ (¬ p1 ≤ 3 → (post (-1)))))))))))))) := rfl
theorem eY_place (post : Int32 → Prop) (u : SY) (p0 : Int32) : wpY_place post u p0 = (((p0 < 0 → (post (-1))) ∧ (¬ p0 < 0 → (((p0 ≤ 1 → (vp_in p0 2 ∧ (post ((ay_places u) p0.toNatClampNeg)))) ∧ (¬ p0 ≤ 1 → (post (-1)))))))) := rfl
theorem eY_done (post : Int32 → Prop) (u : SY) (p0 : Int32) : wpY_done post u p0 = (((p0 < 0 → (post (-1))) ∧ (¬ p0 < 0 → (((p0 ≤ 1 → (vp_in p0 2 ∧ (post ((ay_counts u) p0.toNatClampNeg)))) ∧ (¬ p0 ≤ 1 → (post (-1)))))))) := rfl
theorem eY_kindAt (post : Int32 → Prop) (u : SY) (p0 : Int32) : wpY_kindAt post u p0 = (((p0 < 0 → (post (-1))) ∧ (¬ p0 < 0 → (((p0 < (ay_used u) → (vp_in p0 48 ∧ (post ((ay_kinds u) p0.toNatClampNeg)))) ∧ (¬ p0 < (ay_used u) → (post (-1)))))))) := rfl
theorem eY_argAt (post : Int32 → Prop) (u : SY) (p0 : Int32) : wpY_argAt post u p0 = (((p0 < 0 → (post 0)) ∧ (¬ p0 < 0 → (((p0 < (ay_used u) → (vp_in p0 48 ∧ (post ((ay_args u) p0.toNatClampNeg)))) ∧ (¬ p0 < (ay_used u) → (post 0))))))) := rfl
theorem eY_used (post : Int32 → Prop) (u : SY) : wpY_used post u = (post (ay_used u)) := rfl
theorem eY_phase (post : Int32 → Prop) (u : SY) : wpY_phase post u = (post (ay_phaseNow u)) := rfl
end
section
/-! the octet machine, pure: memory, accumulator, carry, index, place, return stack -/
def oc_upd (m : Nat → Nat) (k v : Nat) : Nat → Nat := fun j => if j = k then v else m j
theorem oc_us {m : Nat → Nat} {k v : Nat} : oc_upd m k v k = v := if_pos rfl
theorem oc_un {m : Nat → Nat} {k v j : Nat} (h : j ≠ k) : oc_upd m k v j = m j := if_neg h
def oc_ea (g x : Nat) : Nat := if g < 128 then g else (g + x) % 128
abbrev OcS : Type := (Nat → Nat) × Nat × Nat × Nat × Nat × List Nat
def oc_exec (o g : Nat) (m : Nat → Nat) (a c x p : Nat) (r : List Nat) : OcS :=
  if o = 0 then (m, g, c, x, p + 1, r)
  else if o = 1 then (m, m (oc_ea g x), c, x, p + 1, r)
  else if o = 2 then (oc_upd m (oc_ea g x) a, a, c, x, p + 1, r)
  else if o = 3 then (m, (a + m (oc_ea g x) + c) % 256, (a + m (oc_ea g x) + c) / 256, x, p + 1, r)
  else if o = 4 then (m, (a + 512 - m (oc_ea g x) - c) % 256, (m (oc_ea g x) + c + 255 - a) / 256, x, p + 1, r)
  else if o = 5 then (m, a &&& m (oc_ea g x), c, x, p + 1, r)
  else if o = 6 then (m, a ^^^ m (oc_ea g x), c, x, p + 1, r)
  else if o = 7 then (m, a ||| m (oc_ea g x), c, x, p + 1, r)
  else if o = 8 then (oc_upd m (oc_ea g x) ((2 * m (oc_ea g x) + c) % 256), a, (2 * m (oc_ea g x) + c) / 256, x, p + 1, r)
  else if o = 9 then (oc_upd m (oc_ea g x) ((m (oc_ea g x) + 256 * c) / 2), a, m (oc_ea g x) % 2, x, p + 1, r)
  else if o = 10 then (oc_upd m (oc_ea g x) ((m (oc_ea g x) + 255) % 256), (m (oc_ea g x) + 255) % 256, c, x, p + 1, r)
  else if o = 11 then (m, a, 0, x, p + 1, r)
  else if o = 12 then (m, a, c, g, p + 1, r)
  else if o = 13 then (m, a, c, x, (if a = 0 then g else p + 1), r)
  else if o = 14 then (m, a, c, x, (if a = 0 then p + 1 else g), r)
  else if o = 15 then (m, a, c, x, (if c = 0 then p + 1 else g), r)
  else if o = 16 then (m, a, c, x, (if c = 0 then g else p + 1), r)
  else if o = 17 then (m, a, c, x, (if a < 128 then g else p + 1), r)
  else if o = 18 then (if r.length < 4 then (m, a, c, x, g, (p + 1) :: r) else (m, a, c, x, p + 1, r))
  else if o = 19 then (m, a, c, x, r.headD (p + 1), r.tail)
  else (m, a, c, x, p, r)
def oc_step (C : Nat → Nat × Nat) (s : OcS) : OcS :=
  oc_exec (C s.2.2.2.2.1).1 (C s.2.2.2.2.1).2 s.1 s.2.1 s.2.2.1 s.2.2.2.1 s.2.2.2.2.1 s.2.2.2.2.2
def oc_run (C : Nat → Nat × Nat) : Nat → OcS → OcS
  | 0 => fun s => s
  | n + 1 => fun s => oc_run C n (oc_step C s)
theorem oc_run_add (C : Nat → Nat × Nat) (b : Nat) : ∀ (a : Nat) (s : OcS), oc_run C (a + b) s = oc_run C b (oc_run C a s) := by
  intro a
  induction a with
  | zero => intro s; rw [Nat.zero_add]; rfl
  | succ a ih =>
    intro s
    rw [Nat.add_right_comm]
    exact ih (oc_step C s)
def oc_R (C : Nat → Nat × Nat) (k : Nat) (s t : OcS) : Prop := ∃ n, n ≤ k ∧ oc_run C n s = t
theorem oc_rf {C : Nat → Nat × Nat} {k : Nat} {s : OcS} : oc_R C k s s := ⟨0, Nat.zero_le _, rfl⟩
theorem oc_tr {C : Nat → Nat × Nat} {i j : Nat} {s t w : OcS} (h : oc_R C i s t) (k : oc_R C j t w) : oc_R C (i + j) s w := by
  obtain ⟨n, hn, e⟩ := h
  obtain ⟨l, hl, f⟩ := k
  exact ⟨n + l, by omega, by rw [oc_run_add, e, f]⟩
theorem oc_le {C : Nat → Nat × Nat} {i j : Nat} {s t : OcS} (h : oc_R C i s t) (k : i ≤ j) : oc_R C j s t := by
  obtain ⟨n, hn, e⟩ := h
  exact ⟨n, by omega, e⟩
section
variable {C : Nat → Nat × Nat} {m : Nat → Nat} {a c x p o g : Nat} {r : List Nat}
theorem oc_s1 (h : C p = (o, g)) : oc_R C 1 (m, a, c, x, p, r) (oc_exec o g m a c x p r) :=
  ⟨1, Nat.le_refl 1, by
    show oc_exec (C p).1 (C p).2 m a c x p r = _
    rw [h]⟩
theorem oc_LDI (h : C p = (0, g)) : oc_R C 1 (m, a, c, x, p, r) (m, g, c, x, p + 1, r) := oc_s1 h
theorem oc_LDA (h : C p = (1, g)) : oc_R C 1 (m, a, c, x, p, r) (m, m (oc_ea g x), c, x, p + 1, r) := oc_s1 h
theorem oc_STA (h : C p = (2, g)) : oc_R C 1 (m, a, c, x, p, r) (oc_upd m (oc_ea g x) a, a, c, x, p + 1, r) := oc_s1 h
theorem oc_ADC (h : C p = (3, g)) : oc_R C 1 (m, a, c, x, p, r) (m, (a + m (oc_ea g x) + c) % 256, (a + m (oc_ea g x) + c) / 256, x, p + 1, r) := oc_s1 h
theorem oc_SBC (h : C p = (4, g)) : oc_R C 1 (m, a, c, x, p, r) (m, (a + 512 - m (oc_ea g x) - c) % 256, (m (oc_ea g x) + c + 255 - a) / 256, x, p + 1, r) := oc_s1 h
theorem oc_ANA (h : C p = (5, g)) : oc_R C 1 (m, a, c, x, p, r) (m, a &&& m (oc_ea g x), c, x, p + 1, r) := oc_s1 h
theorem oc_XRA (h : C p = (6, g)) : oc_R C 1 (m, a, c, x, p, r) (m, a ^^^ m (oc_ea g x), c, x, p + 1, r) := oc_s1 h
theorem oc_ORA (h : C p = (7, g)) : oc_R C 1 (m, a, c, x, p, r) (m, a ||| m (oc_ea g x), c, x, p + 1, r) := oc_s1 h
theorem oc_ROL (h : C p = (8, g)) : oc_R C 1 (m, a, c, x, p, r) (oc_upd m (oc_ea g x) ((2 * m (oc_ea g x) + c) % 256), a, (2 * m (oc_ea g x) + c) / 256, x, p + 1, r) := oc_s1 h
theorem oc_ROR (h : C p = (9, g)) : oc_R C 1 (m, a, c, x, p, r) (oc_upd m (oc_ea g x) ((m (oc_ea g x) + 256 * c) / 2), a, m (oc_ea g x) % 2, x, p + 1, r) := oc_s1 h
theorem oc_DEC (h : C p = (10, g)) : oc_R C 1 (m, a, c, x, p, r) (oc_upd m (oc_ea g x) ((m (oc_ea g x) + 255) % 256), (m (oc_ea g x) + 255) % 256, c, x, p + 1, r) := oc_s1 h
theorem oc_CLC (h : C p = (11, g)) : oc_R C 1 (m, a, c, x, p, r) (m, a, 0, x, p + 1, r) := oc_s1 h
theorem oc_LDX (h : C p = (12, g)) : oc_R C 1 (m, a, c, x, p, r) (m, a, c, g, p + 1, r) := oc_s1 h
theorem oc_JZt (h : C p = (13, g)) (k : a = 0) : oc_R C 1 (m, a, c, x, p, r) (m, a, c, x, g, r) := by
  have e := oc_s1 (m := m) (a := a) (c := c) (x := x) (r := r) h
  have f : oc_exec 13 g m a c x p r = (m, a, c, x, (if a = 0 then g else p + 1), r) := rfl
  rw [f, if_pos k] at e; exact e
theorem oc_JZf (h : C p = (13, g)) (k : a ≠ 0) : oc_R C 1 (m, a, c, x, p, r) (m, a, c, x, p + 1, r) := by
  have e := oc_s1 (m := m) (a := a) (c := c) (x := x) (r := r) h
  have f : oc_exec 13 g m a c x p r = (m, a, c, x, (if a = 0 then g else p + 1), r) := rfl
  rw [f, if_neg k] at e; exact e
theorem oc_JNZf (h : C p = (14, g)) (k : a = 0) : oc_R C 1 (m, a, c, x, p, r) (m, a, c, x, p + 1, r) := by
  have e := oc_s1 (m := m) (a := a) (c := c) (x := x) (r := r) h
  have f : oc_exec 14 g m a c x p r = (m, a, c, x, (if a = 0 then p + 1 else g), r) := rfl
  rw [f, if_pos k] at e; exact e
theorem oc_JNZt (h : C p = (14, g)) (k : a ≠ 0) : oc_R C 1 (m, a, c, x, p, r) (m, a, c, x, g, r) := by
  have e := oc_s1 (m := m) (a := a) (c := c) (x := x) (r := r) h
  have f : oc_exec 14 g m a c x p r = (m, a, c, x, (if a = 0 then p + 1 else g), r) := rfl
  rw [f, if_neg k] at e; exact e
theorem oc_JCf (h : C p = (15, g)) (k : c = 0) : oc_R C 1 (m, a, c, x, p, r) (m, a, c, x, p + 1, r) := by
  have e := oc_s1 (m := m) (a := a) (c := c) (x := x) (r := r) h
  have f : oc_exec 15 g m a c x p r = (m, a, c, x, (if c = 0 then p + 1 else g), r) := rfl
  rw [f, if_pos k] at e; exact e
theorem oc_JCt (h : C p = (15, g)) (k : c ≠ 0) : oc_R C 1 (m, a, c, x, p, r) (m, a, c, x, g, r) := by
  have e := oc_s1 (m := m) (a := a) (c := c) (x := x) (r := r) h
  have f : oc_exec 15 g m a c x p r = (m, a, c, x, (if c = 0 then p + 1 else g), r) := rfl
  rw [f, if_neg k] at e; exact e
theorem oc_JNCt (h : C p = (16, g)) (k : c = 0) : oc_R C 1 (m, a, c, x, p, r) (m, a, c, x, g, r) := by
  have e := oc_s1 (m := m) (a := a) (c := c) (x := x) (r := r) h
  have f : oc_exec 16 g m a c x p r = (m, a, c, x, (if c = 0 then g else p + 1), r) := rfl
  rw [f, if_pos k] at e; exact e
theorem oc_JNCf (h : C p = (16, g)) (k : c ≠ 0) : oc_R C 1 (m, a, c, x, p, r) (m, a, c, x, p + 1, r) := by
  have e := oc_s1 (m := m) (a := a) (c := c) (x := x) (r := r) h
  have f : oc_exec 16 g m a c x p r = (m, a, c, x, (if c = 0 then g else p + 1), r) := rfl
  rw [f, if_neg k] at e; exact e
theorem oc_JPLt (h : C p = (17, g)) (k : a < 128) : oc_R C 1 (m, a, c, x, p, r) (m, a, c, x, g, r) := by
  have e := oc_s1 (m := m) (a := a) (c := c) (x := x) (r := r) h
  have f : oc_exec 17 g m a c x p r = (m, a, c, x, (if a < 128 then g else p + 1), r) := rfl
  rw [f, if_pos k] at e; exact e
theorem oc_JPLf (h : C p = (17, g)) (k : ¬ a < 128) : oc_R C 1 (m, a, c, x, p, r) (m, a, c, x, p + 1, r) := by
  have e := oc_s1 (m := m) (a := a) (c := c) (x := x) (r := r) h
  have f : oc_exec 17 g m a c x p r = (m, a, c, x, (if a < 128 then g else p + 1), r) := rfl
  rw [f, if_neg k] at e; exact e
theorem oc_JSR (h : C p = (18, g)) (k : r.length < 4) : oc_R C 1 (m, a, c, x, p, r) (m, a, c, x, g, (p + 1) :: r) := by
  have e := oc_s1 (m := m) (a := a) (c := c) (x := x) (r := r) h
  have f : oc_exec 18 g m a c x p r = (if r.length < 4 then (m, a, c, x, g, (p + 1) :: r) else (m, a, c, x, p + 1, r)) := rfl
  rw [f, if_pos k] at e; exact e
theorem oc_RTS {q : Nat} (h : C p = (19, g)) : oc_R C 1 (m, a, c, x, p, q :: r) (m, a, c, x, q, r) := oc_s1 h
end
/-- what every step keeps -/
def oc_ok (s : OcS) : Prop := (∀ i, s.1 i < 256) ∧ s.2.1 < 256 ∧ s.2.2.1 < 2 ∧ s.2.2.2.1 < 32768
def oc_good (C : Nat → Nat × Nat) : Prop := ∀ p, ((C p).1 = 0 → (C p).2 < 256) ∧ (C p).2 < 32768
theorem oc_ok_upd {m : Nat → Nat} {k v : Nat} (h : ∀ i, m i < 256) (hv : v < 256) : ∀ i, oc_upd m k v i < 256 := by
  intro i
  unfold oc_upd
  split
  · exact hv
  · exact h i
theorem oc_ok_exec {o g : Nat} {m : Nat → Nat} {a c x p : Nat} {r : List Nat} (hm : ∀ i, m i < 256) (ha : a < 256) (hc : c < 2) (hx : x < 32768) (h0 : o = 0 → g < 256) (hg : g < 32768) : oc_ok (oc_exec o g m a c x p r) := by
  have he := hm (oc_ea g x)
  have ho : oc_ea g x = oc_ea g x := rfl
  unfold oc_exec
  generalize oc_ea g x = e at he
  have hand : a &&& m e < 256 := Nat.and_lt_two_pow (n := 8) a he
  have hxor : a ^^^ m e < 256 := Nat.xor_lt_two_pow (n := 8) ha he
  have hor : a ||| m e < 256 := Nat.or_lt_two_pow (n := 8) ha he
  by_cases o0 : o = 0
  · rw [if_pos o0]; exact ⟨hm, h0 o0, hc, hx⟩
  rw [if_neg o0]
  by_cases o1 : o = 1
  · rw [if_pos o1]; exact ⟨hm, he, hc, hx⟩
  rw [if_neg o1]
  by_cases o2 : o = 2
  · rw [if_pos o2]; exact ⟨oc_ok_upd hm ha, ha, hc, hx⟩
  rw [if_neg o2]
  by_cases o3 : o = 3
  · rw [if_pos o3]; exact ⟨hm, Nat.mod_lt _ (by decide), by show (a + m e + c) / 256 < 2; omega, hx⟩
  rw [if_neg o3]
  by_cases o4 : o = 4
  · rw [if_pos o4]; exact ⟨hm, Nat.mod_lt _ (by decide), by show (m e + c + 255 - a) / 256 < 2; omega, hx⟩
  rw [if_neg o4]
  by_cases o5 : o = 5
  · rw [if_pos o5]; exact ⟨hm, hand, hc, hx⟩
  rw [if_neg o5]
  by_cases o6 : o = 6
  · rw [if_pos o6]; exact ⟨hm, hxor, hc, hx⟩
  rw [if_neg o6]
  by_cases o7 : o = 7
  · rw [if_pos o7]; exact ⟨hm, hor, hc, hx⟩
  rw [if_neg o7]
  by_cases o8 : o = 8
  · rw [if_pos o8]; exact ⟨oc_ok_upd hm (Nat.mod_lt _ (by decide)), ha, by show (2 * m e + c) / 256 < 2; omega, hx⟩
  rw [if_neg o8]
  by_cases o9 : o = 9
  · rw [if_pos o9]; exact ⟨oc_ok_upd hm (by omega), ha, Nat.mod_lt _ (by decide), hx⟩
  rw [if_neg o9]
  by_cases o10 : o = 10
  · rw [if_pos o10]; exact ⟨oc_ok_upd hm (Nat.mod_lt _ (by decide)), Nat.mod_lt _ (by decide), hc, hx⟩
  rw [if_neg o10]
  by_cases o11 : o = 11
  · rw [if_pos o11]; exact ⟨hm, ha, Nat.zero_lt_two, hx⟩
  rw [if_neg o11]
  by_cases o12 : o = 12
  · rw [if_pos o12]; exact ⟨hm, ha, hc, hg⟩
  rw [if_neg o12]
  by_cases o13 : o = 13
  · rw [if_pos o13]; exact ⟨hm, ha, hc, hx⟩
  rw [if_neg o13]
  by_cases o14 : o = 14
  · rw [if_pos o14]; exact ⟨hm, ha, hc, hx⟩
  rw [if_neg o14]
  by_cases o15 : o = 15
  · rw [if_pos o15]; exact ⟨hm, ha, hc, hx⟩
  rw [if_neg o15]
  by_cases o16 : o = 16
  · rw [if_pos o16]; exact ⟨hm, ha, hc, hx⟩
  rw [if_neg o16]
  by_cases o17 : o = 17
  · rw [if_pos o17]; exact ⟨hm, ha, hc, hx⟩
  rw [if_neg o17]
  by_cases o18 : o = 18
  · rw [if_pos o18]; split <;> exact ⟨hm, ha, hc, hx⟩
  rw [if_neg o18]
  by_cases o19 : o = 19
  · rw [if_pos o19]; exact ⟨hm, ha, hc, hx⟩
  rw [if_neg o19]
  exact ⟨hm, ha, hc, hx⟩
theorem oc_ok_step {C : Nat → Nat × Nat} (hC : oc_good C) {s : OcS} (h : oc_ok s) : oc_ok (oc_step C s) :=
  oc_ok_exec h.1 h.2.1 h.2.2.1 h.2.2.2 (hC _).1 (hC _).2
theorem oc_ok_run {C : Nat → Nat × Nat} (hC : oc_good C) : ∀ (n : Nat) (s : OcS), oc_ok s → oc_ok (oc_run C n s) := by
  intro n
  induction n with
  | zero => intro s h; exact h
  | succ n ih => intro s h; exact ih _ (oc_ok_step hC h)
theorem oc_ok_R {C : Nat → Nat × Nat} (hC : oc_good C) {k : Nat} {s t : OcS} (h : oc_R C k s t) (hs : oc_ok s) : oc_ok t := by
  obtain ⟨n, _, e⟩ := h
  rw [← e]
  exact oc_ok_run hC n s hs
end
section
/-! code as lists of (operation, argument) -/
def oc_at (C : Nat → Nat × Nat) : Nat → List (Nat × Nat) → Prop
  | _, [] => True
  | p, i :: l => C p = i ∧ oc_at C (p + 1) l
theorem oc_at_app {C : Nat → Nat × Nat} {l2 : List (Nat × Nat)} : ∀ {l1 : List (Nat × Nat)} {p : Nat}, oc_at C p (l1 ++ l2) → oc_at C p l1 ∧ oc_at C (p + l1.length) l2 := by
  intro l1
  induction l1 with
  | nil => intro p h; exact ⟨trivial, h⟩
  | cons i l ih =>
    intro p h
    have h1 : C p = i ∧ oc_at C (p + 1) (l ++ l2) := h
    obtain ⟨k1, k2⟩ := ih h1.2
    refine ⟨⟨h1.1, k1⟩, ?_⟩
    rw [List.length_cons, show p + (l.length + 1) = p + 1 + l.length by omega]
    exact k2
theorem oc_at_drop {C : Nat → Nat × Nat} : ∀ (n : Nat) (l : List (Nat × Nat)) (p : Nat), oc_at C p l → oc_at C (p + n) (l.drop n) := by
  intro n
  induction n with
  | zero => intro l p h; exact h
  | succ n ih =>
    intro l p h
    cases l with
    | nil => exact trivial
    | cons i l =>
      have h1 : C p = i ∧ oc_at C (p + 1) l := h
      have := ih l (p + 1) h1.2
      rw [show p + (n + 1) = p + 1 + n by omega]
      exact this
theorem oc_at_take {C : Nat → Nat × Nat} : ∀ (n : Nat) (l : List (Nat × Nat)) (p : Nat), oc_at C p l → oc_at C p (l.take n) := by
  intro n
  induction n with
  | zero => intro l p h; rw [List.take_zero]; exact trivial
  | succ n ih =>
    intro l p h
    cases l with
    | nil => exact trivial
    | cons i l =>
      have h1 : C p = i ∧ oc_at C (p + 1) l := h
      exact ⟨h1.1, ih l (p + 1) h1.2⟩
theorem oc_at_sub {C : Nat → Nat × Nat} {l k : List (Nat × Nat)} (h : oc_at C 0 l) (n j : Nat) (e : (l.drop n).take j = k) : oc_at C n k := by
  rw [← e]
  have := oc_at_take j _ _ (oc_at_drop n l 0 h)
  rw [Nat.zero_add] at this
  exact this
def cd_copy (f t : Nat) : List (Nat × Nat) := [(1, f), (2, t), (1, f + 1), (2, t + 1), (1, f + 2), (2, t + 2), (1, f + 3), (2, t + 3)]
def cd_const (w t : Nat) : List (Nat × Nat) := [(0, w % 256), (2, t), (0, w / 256 % 256), (2, t + 1), (0, w / 65536 % 256), (2, t + 2), (0, w / 16777216 % 256), (2, t + 3)]
def cd_fill (t o : Nat) : List (Nat × Nat) := [(0, o), (2, t), (2, t + 1), (2, t + 2), (2, t + 3)]
def cd_chain (o a b : Nat) : List (Nat × Nat) := [(11, 0), (1, a), (o, b), (2, a), (1, a + 1), (o, b + 1), (2, a + 1), (1, a + 2), (o, b + 2), (2, a + 2), (1, a + 3), (o, b + 3), (2, a + 3)]
def cd_cmp (a b : Nat) : List (Nat × Nat) := [(11, 0), (1, a), (4, b), (1, a + 1), (4, b + 1), (1, a + 2), (4, b + 2), (1, a + 3), (4, b + 3)]
def cd_flip (o : Nat) : List (Nat × Nat) := [(0, 128), (6, o), (2, o)]
def cd_less (a b : Nat) : List (Nat × Nat) := cd_flip (a + 3) ++ (cd_flip (b + 3) ++ (cd_cmp a b ++ (cd_fill a 0 ++ [(8, a)])))
def cd_test (a : Nat) : List (Nat × Nat) := [(1, a), (7, a + 1), (7, a + 2), (7, a + 3)]
def cd_left (a : Nat) : List (Nat × Nat) := [(8, a), (8, a + 1), (8, a + 2), (8, a + 3)]
def cd_right (a : Nat) : List (Nat × Nat) := [(9, a + 3), (9, a + 2), (9, a + 1), (9, a)]
def cd_neg (s a q : Nat) : List (Nat × Nat) := [(1, s), (17, q), (11, 0), (0, 0), (4, a), (2, a), (0, 0), (4, a + 1), (2, a + 1), (0, 0), (4, a + 2), (2, a + 2), (0, 0), (4, a + 3), (2, a + 3)]
/-! words of four octets -/
def oc_w (m : Nat → Nat) (a : Nat) : Nat := m a + 256 * m (a + 1) + 65536 * m (a + 2) + 16777216 * m (a + 3)
def oc_eaw (g x A : Nat) : Prop := oc_ea g x = A ∧ oc_ea (g + 1) x = A + 1 ∧ oc_ea (g + 2) x = A + 2 ∧ oc_ea (g + 3) x = A + 3
def oc_fr (A : Nat) (m m' : Nat → Nat) : Prop := ∀ i, (i < A ∨ A + 4 ≤ i) → m' i = m i
theorem oc_ea_d {g x : Nat} (h : g < 128) : oc_ea g x = g := if_pos h
theorem oc_ea_i {g x : Nat} (h : 128 ≤ g) (k : g + x < 256) : oc_ea g x = g + x - 128 := by
  unfold oc_ea
  rw [if_neg (by omega)]
  omega
theorem oc_eaw_d {g x : Nat} (h : g + 3 < 128) : oc_eaw g x g := ⟨oc_ea_d (by omega), oc_ea_d (by omega), oc_ea_d (by omega), oc_ea_d (by omega)⟩
theorem oc_eaw_a {x : Nat} (h : x + 8 < 128) : oc_eaw 128 x x :=
  ⟨by rw [oc_ea_i (by omega) (by omega)]; omega, by rw [oc_ea_i (by omega) (by omega)]; omega, by rw [oc_ea_i (by omega) (by omega)]; omega, by rw [oc_ea_i (by omega) (by omega)]; omega⟩
theorem oc_eaw_b {x : Nat} (h : x + 8 < 128) : oc_eaw 132 x (x + 4) :=
  ⟨by rw [oc_ea_i (by omega) (by omega)]; omega, by rw [oc_ea_i (by omega) (by omega)]; omega, by rw [oc_ea_i (by omega) (by omega)]; omega, by rw [oc_ea_i (by omega) (by omega)]; omega⟩
theorem oc_w_lt {m : Nat → Nat} (hm : ∀ i, m i < 256) (A : Nat) : oc_w m A < 4294967296 := by
  have h0 := hm A
  have h1 := hm (A + 1)
  have h2 := hm (A + 2)
  have h3 := hm (A + 3)
  unfold oc_w
  omega
theorem oc_w_fr {m m' : Nat → Nat} {A B : Nat} (h : oc_fr A m m') (d : A + 4 ≤ B ∨ B + 4 ≤ A) : oc_w m' B = oc_w m B := by
  unfold oc_w
  rw [h B (by omega), h (B + 1) (by omega), h (B + 2) (by omega), h (B + 3) (by omega)]
theorem oc_w_eq {m m' : Nat → Nat} {B : Nat} (h : ∀ i, B ≤ i → i < B + 4 → m' i = m i) : oc_w m' B = oc_w m B := by
  unfold oc_w
  rw [h B (by omega) (by omega), h (B + 1) (by omega) (by omega), h (B + 2) (by omega) (by omega), h (B + 3) (by omega) (by omega)]
/-- four writes side by side -/
def oc_up4 (m : Nat → Nat) (A v0 v1 v2 v3 : Nat) : Nat → Nat := oc_upd (oc_upd (oc_upd (oc_upd m A v0) (A + 1) v1) (A + 2) v2) (A + 3) v3
theorem oc_up4_w (m : Nat → Nat) (A v0 v1 v2 v3 : Nat) : oc_w (oc_up4 m A v0 v1 v2 v3) A = v0 + 256 * v1 + 65536 * v2 + 16777216 * v3 := by
  unfold oc_w oc_up4
  simp (disch := omega) only [oc_un, oc_us]
theorem oc_up4_fr (m : Nat → Nat) (A v0 v1 v2 v3 : Nat) : oc_fr A m (oc_up4 m A v0 v1 v2 v3) := by
  intro i hi
  unfold oc_up4
  simp (disch := omega) only [oc_un]
section
variable {C : Nat → Nat × Nat} {m : Nat → Nat} {a c x p : Nat} {r : List Nat}
theorem oc_copyW {f t F T : Nat} (hc : oc_at C p (cd_copy f t)) (hF : oc_eaw f x F) (hT : oc_eaw t x T) (hd : F + 4 ≤ T ∨ T + 4 ≤ F) :
    ∃ m' a', oc_R C 8 (m, a, c, x, p, r) (m', a', c, x, p + 8, r) ∧ oc_w m' T = oc_w m F ∧ oc_fr T m m' := by
  obtain ⟨h0, h1, h2, h3, h4, h5, h6, h7, _⟩ := hc
  obtain ⟨f0, f1, f2, f3⟩ := hF
  obtain ⟨t0, t1, t2, t3⟩ := hT
  have R := oc_tr (oc_LDA (m := m) (a := a) (c := c) (x := x) (r := r) h0) (oc_tr (oc_STA h1) (oc_tr (oc_LDA h2) (oc_tr (oc_STA h3) (oc_tr (oc_LDA h4) (oc_tr (oc_STA h5) (oc_tr (oc_LDA h6) (oc_STA h7)))))))
  rw [f0, f1, f2, f3, t0, t1, t2, t3] at R
  simp (disch := omega) only [oc_un] at R
  exact ⟨oc_up4 m T (m F) (m (F + 1)) (m (F + 2)) (m (F + 3)), _, R, oc_up4_w .., oc_up4_fr _ _ _ _ _ _⟩
theorem oc_constW {w t T : Nat} (hc : oc_at C p (cd_const w t)) (hT : oc_eaw t x T) (hw : w < 4294967296) :
    ∃ m' a', oc_R C 8 (m, a, c, x, p, r) (m', a', c, x, p + 8, r) ∧ oc_w m' T = w ∧ oc_fr T m m' := by
  obtain ⟨h0, h1, h2, h3, h4, h5, h6, h7, _⟩ := hc
  obtain ⟨t0, t1, t2, t3⟩ := hT
  have R := oc_tr (oc_LDI (m := m) (a := a) (c := c) (x := x) (r := r) h0) (oc_tr (oc_STA h1) (oc_tr (oc_LDI h2) (oc_tr (oc_STA h3) (oc_tr (oc_LDI h4) (oc_tr (oc_STA h5) (oc_tr (oc_LDI h6) (oc_STA h7)))))))
  rw [t0, t1, t2, t3] at R
  refine ⟨oc_up4 m T (w % 256) (w / 256 % 256) (w / 65536 % 256) (w / 16777216 % 256), _, R, ?_, oc_up4_fr _ _ _ _ _ _⟩
  rw [oc_up4_w]
  omega
theorem oc_fillW {o t T : Nat} (hc : oc_at C p (cd_fill t o)) (hT : oc_eaw t x T) :
    ∃ m', oc_R C 5 (m, a, c, x, p, r) (m', o, c, x, p + 5, r) ∧ oc_w m' T = o * 16843009 ∧ oc_fr T m m' := by
  obtain ⟨h0, h1, h2, h3, h4, _⟩ := hc
  obtain ⟨t0, t1, t2, t3⟩ := hT
  have R := oc_tr (oc_LDI (m := m) (a := a) (c := c) (x := x) (r := r) h0) (oc_tr (oc_STA h1) (oc_tr (oc_STA h2) (oc_tr (oc_STA h3) (oc_STA h4))))
  rw [t0, t1, t2, t3] at R
  refine ⟨oc_up4 m T o o o o, R, ?_, oc_up4_fr _ _ _ _ _ _⟩
  rw [oc_up4_w]
  omega
theorem oc_flipO {o O : Nat} (hc : oc_at C p (cd_flip o)) (hO : oc_ea o x = O) :
    ∃ a', oc_R C 3 (m, a, c, x, p, r) (oc_upd m O (128 ^^^ m O), a', c, x, p + 3, r) := by
  obtain ⟨h0, h1, h2, _⟩ := hc
  have R := oc_tr (oc_LDI (m := m) (a := a) (c := c) (x := x) (r := r) h0) (oc_tr (oc_XRA h1) (oc_STA h2))
  rw [hO] at R
  exact ⟨_, R⟩
theorem oc_testW {g A : Nat} (hc : oc_at C p (cd_test g)) (hA : oc_eaw g x A) :
    ∃ a', oc_R C 4 (m, a, c, x, p, r) (m, a', c, x, p + 4, r) ∧ (a' = 0 ↔ oc_w m A = 0) := by
  obtain ⟨h0, h1, h2, h3, _⟩ := hc
  obtain ⟨t0, t1, t2, t3⟩ := hA
  have R := oc_tr (oc_LDA (m := m) (a := a) (c := c) (x := x) (r := r) h0) (oc_tr (oc_ORA h1) (oc_tr (oc_ORA h2) (oc_ORA h3)))
  rw [t0, t1, t2, t3] at R
  refine ⟨_, R, ?_⟩
  rw [Nat.or_eq_zero_iff, Nat.or_eq_zero_iff, Nat.or_eq_zero_iff]
  unfold oc_w
  omega
theorem oc_rol4 {v0 v1 v2 v3 t0 t1 t2 t3 c : Nat} (h0 : v0 < 256) (h1 : v1 < 256) (h2 : v2 < 256) (h3 : v3 < 256) (hc : c < 2) (e0 : t0 = 2 * v0 + c) (e1 : t1 = 2 * v1 + t0 / 256) (e2 : t2 = 2 * v2 + t1 / 256) (e3 : t3 = 2 * v3 + t2 / 256) :
    t0 % 256 + 256 * (t1 % 256) + 65536 * (t2 % 256) + 16777216 * (t3 % 256) = (2 * (v0 + 256 * v1 + 65536 * v2 + 16777216 * v3) + c) % 4294967296 ∧ t3 / 256 = (2 * (v0 + 256 * v1 + 65536 * v2 + 16777216 * v3) + c) / 4294967296 := by
  omega
theorem oc_leftW {g A : Nat} (hc : oc_at C p (cd_left g)) (hA : oc_eaw g x A) (hm : ∀ i, m i < 256) (hcc : c < 2) :
    ∃ m', oc_R C 4 (m, a, c, x, p, r) (m', a, (2 * oc_w m A + c) / 4294967296, x, p + 4, r) ∧ oc_w m' A = (2 * oc_w m A + c) % 4294967296 ∧ oc_fr A m m' := by
  obtain ⟨h0, h1, h2, h3, _⟩ := hc
  obtain ⟨t0, t1, t2, t3⟩ := hA
  have R := oc_tr (oc_ROL (m := m) (a := a) (c := c) (x := x) (r := r) h0) (oc_tr (oc_ROL h1) (oc_tr (oc_ROL h2) (oc_ROL h3)))
  rw [t0, t1, t2, t3] at R
  simp (disch := omega) only [oc_un] at R
  have K := oc_rol4 (hm A) (hm (A + 1)) (hm (A + 2)) (hm (A + 3)) hcc rfl rfl rfl rfl
  have e : (2 * oc_w m A + c) / 4294967296 = _ := K.2.symm
  rw [e]
  refine ⟨oc_up4 m A _ _ _ _, R, ?_, oc_up4_fr _ _ _ _ _ _⟩
  rw [oc_up4_w]
  exact K.1
theorem oc_ror4 {v0 v1 v2 v3 c : Nat} (h0 : v0 < 256) (h1 : v1 < 256) (h2 : v2 < 256) (h3 : v3 < 256) (hc : c < 2) :
    (v0 + 256 * (v1 % 2)) / 2 + 256 * ((v1 + 256 * (v2 % 2)) / 2) + 65536 * ((v2 + 256 * (v3 % 2)) / 2) + 16777216 * ((v3 + 256 * c) / 2) = (v0 + 256 * v1 + 65536 * v2 + 16777216 * v3 + 4294967296 * c) / 2 ∧ v0 % 2 = (v0 + 256 * v1 + 65536 * v2 + 16777216 * v3) % 2 := by
  omega
theorem oc_up4r_w (m : Nat → Nat) (A v0 v1 v2 v3 : Nat) : oc_w (oc_upd (oc_upd (oc_upd (oc_upd m (A + 3) v3) (A + 2) v2) (A + 1) v1) A v0) A = v0 + 256 * v1 + 65536 * v2 + 16777216 * v3 := by
  unfold oc_w
  simp (disch := omega) only [oc_un, oc_us]
theorem oc_up4r_fr (m : Nat → Nat) (A v0 v1 v2 v3 : Nat) : oc_fr A m (oc_upd (oc_upd (oc_upd (oc_upd m (A + 3) v3) (A + 2) v2) (A + 1) v1) A v0) := by
  intro i hi
  simp (disch := omega) only [oc_un]
theorem oc_rightW {g A : Nat} (hc : oc_at C p (cd_right g)) (hA : oc_eaw g x A) (hm : ∀ i, m i < 256) (hcc : c < 2) :
    ∃ m', oc_R C 4 (m, a, c, x, p, r) (m', a, oc_w m A % 2, x, p + 4, r) ∧ oc_w m' A = (oc_w m A + 4294967296 * c) / 2 ∧ oc_fr A m m' := by
  obtain ⟨h0, h1, h2, h3, _⟩ := hc
  obtain ⟨t0, t1, t2, t3⟩ := hA
  have R := oc_tr (oc_ROR (m := m) (a := a) (c := c) (x := x) (r := r) h0) (oc_tr (oc_ROR h1) (oc_tr (oc_ROR h2) (oc_ROR h3)))
  rw [t0, t1, t2, t3] at R
  simp (disch := omega) only [oc_un] at R
  have K := oc_ror4 (hm A) (hm (A + 1)) (hm (A + 2)) (hm (A + 3)) hcc
  have e : oc_w m A % 2 = _ := K.2.symm
  rw [e]
  refine ⟨_, R, ?_, oc_up4r_fr _ _ _ _ _ _⟩
  rw [oc_up4r_w]
  exact K.1
theorem oc_add4 {a0 a1 a2 a3 b0 b1 b2 b3 t0 t1 t2 t3 : Nat} (e0 : t0 = a0 + b0 + 0) (e1 : t1 = a1 + b1 + t0 / 256) (e2 : t2 = a2 + b2 + t1 / 256) (e3 : t3 = a3 + b3 + t2 / 256) (h0 : a0 < 256) (h1 : a1 < 256) (h2 : a2 < 256) (h3 : a3 < 256) (k0 : b0 < 256) (k1 : b1 < 256) (k2 : b2 < 256) (k3 : b3 < 256) :
    t0 % 256 + 256 * (t1 % 256) + 65536 * (t2 % 256) + 16777216 * (t3 % 256) = (a0 + 256 * a1 + 65536 * a2 + 16777216 * a3 + (b0 + 256 * b1 + 65536 * b2 + 16777216 * b3)) % 4294967296 := by
  omega
theorem oc_addW {g h A B : Nat} (hc : oc_at C p (cd_chain 3 g h)) (hA : oc_eaw g x A) (hB : oc_eaw h x B) (hd : A + 4 ≤ B ∨ B + 4 ≤ A) (hm : ∀ i, m i < 256) :
    ∃ m' a' c', oc_R C 13 (m, a, c, x, p, r) (m', a', c', x, p + 13, r) ∧ oc_w m' A = (oc_w m A + oc_w m B) % 4294967296 ∧ oc_fr A m m' := by
  obtain ⟨h0, h1, h2, h3, h4, h5, h6, h7, h8, h9, h10, h11, h12, _⟩ := hc
  obtain ⟨t0, t1, t2, t3⟩ := hA
  obtain ⟨s0, s1, s2, s3⟩ := hB
  have R := oc_tr (oc_CLC (m := m) (a := a) (c := c) (x := x) (r := r) h0) (oc_tr (oc_LDA h1) (oc_tr (oc_ADC h2) (oc_tr (oc_STA h3) (oc_tr (oc_LDA h4) (oc_tr (oc_ADC h5) (oc_tr (oc_STA h6) (oc_tr (oc_LDA h7) (oc_tr (oc_ADC h8) (oc_tr (oc_STA h9) (oc_tr (oc_LDA h10) (oc_tr (oc_ADC h11) (oc_STA h12))))))))))))
  rw [t0, t1, t2, t3, s0, s1, s2, s3] at R
  simp (disch := omega) only [oc_un] at R
  refine ⟨oc_up4 m A _ _ _ _, _, _, R, ?_, oc_up4_fr _ _ _ _ _ _⟩
  rw [oc_up4_w]
  exact oc_add4 rfl rfl rfl rfl (hm _) (hm _) (hm _) (hm _) (hm _) (hm _) (hm _) (hm _)
theorem oc_sub4 {a0 a1 a2 a3 b0 b1 b2 b3 c0 c1 c2 c3 : Nat} (e0 : c0 = (b0 + 0 + 255 - a0) / 256) (e1 : c1 = (b1 + c0 + 255 - a1) / 256) (e2 : c2 = (b2 + c1 + 255 - a2) / 256) (e3 : c3 = (b3 + c2 + 255 - a3) / 256) (h0 : a0 < 256) (h1 : a1 < 256) (h2 : a2 < 256) (h3 : a3 < 256) (k0 : b0 < 256) (k1 : b1 < 256) (k2 : b2 < 256) (k3 : b3 < 256) :
    (a0 + 512 - b0 - 0) % 256 + 256 * ((a1 + 512 - b1 - c0) % 256) + 65536 * ((a2 + 512 - b2 - c1) % 256) + 16777216 * ((a3 + 512 - b3 - c2) % 256) = (a0 + 256 * a1 + 65536 * a2 + 16777216 * a3 + 4294967296 - (b0 + 256 * b1 + 65536 * b2 + 16777216 * b3)) % 4294967296 ∧ (c3 = 1 ↔ a0 + 256 * a1 + 65536 * a2 + 16777216 * a3 < b0 + 256 * b1 + 65536 * b2 + 16777216 * b3) ∧ c3 < 2 := by
  have f0 : (c0 = 1 ∧ a0 < b0) ∨ (c0 = 0 ∧ b0 ≤ a0) := by omega
  have f1 : (c1 = 1 ∧ a1 < b1 + c0) ∨ (c1 = 0 ∧ b1 + c0 ≤ a1) := by omega
  have f2 : (c2 = 1 ∧ a2 < b2 + c1) ∨ (c2 = 0 ∧ b2 + c1 ≤ a2) := by omega
  have f3 : (c3 = 1 ∧ a3 < b3 + c2) ∨ (c3 = 0 ∧ b3 + c2 ≤ a3) := by omega
  clear e0 e1 e2 e3
  refine ⟨?_, ?_, ?_⟩
  · rcases f0 with ⟨rfl, f0⟩ | ⟨rfl, f0⟩ <;> rcases f1 with ⟨rfl, f1⟩ | ⟨rfl, f1⟩ <;> rcases f2 with ⟨rfl, f2⟩ | ⟨rfl, f2⟩ <;> rcases f3 with ⟨rfl, f3⟩ | ⟨rfl, f3⟩ <;> omega
  · rcases f0 with ⟨rfl, f0⟩ | ⟨rfl, f0⟩ <;> rcases f1 with ⟨rfl, f1⟩ | ⟨rfl, f1⟩ <;> rcases f2 with ⟨rfl, f2⟩ | ⟨rfl, f2⟩ <;> rcases f3 with ⟨rfl, f3⟩ | ⟨rfl, f3⟩ <;> omega
  · omega
theorem oc_subW {g h A B : Nat} (hc : oc_at C p (cd_chain 4 g h)) (hA : oc_eaw g x A) (hB : oc_eaw h x B) (hd : A + 4 ≤ B ∨ B + 4 ≤ A) (hm : ∀ i, m i < 256) :
    ∃ m' a' c', oc_R C 13 (m, a, c, x, p, r) (m', a', c', x, p + 13, r) ∧ oc_w m' A = (oc_w m A + 4294967296 - oc_w m B) % 4294967296 ∧ oc_fr A m m' := by
  obtain ⟨h0, h1, h2, h3, h4, h5, h6, h7, h8, h9, h10, h11, h12, _⟩ := hc
  obtain ⟨t0, t1, t2, t3⟩ := hA
  obtain ⟨s0, s1, s2, s3⟩ := hB
  have R := oc_tr (oc_CLC (m := m) (a := a) (c := c) (x := x) (r := r) h0) (oc_tr (oc_LDA h1) (oc_tr (oc_SBC h2) (oc_tr (oc_STA h3) (oc_tr (oc_LDA h4) (oc_tr (oc_SBC h5) (oc_tr (oc_STA h6) (oc_tr (oc_LDA h7) (oc_tr (oc_SBC h8) (oc_tr (oc_STA h9) (oc_tr (oc_LDA h10) (oc_tr (oc_SBC h11) (oc_STA h12))))))))))))
  rw [t0, t1, t2, t3, s0, s1, s2, s3] at R
  simp (disch := omega) only [oc_un] at R
  refine ⟨oc_up4 m A _ _ _ _, _, _, R, ?_, oc_up4_fr _ _ _ _ _ _⟩
  rw [oc_up4_w]
  exact (oc_sub4 rfl rfl rfl rfl (hm _) (hm _) (hm _) (hm _) (hm _) (hm _) (hm _) (hm _)).1
theorem oc_cmpW {g h A B : Nat} (hc : oc_at C p (cd_cmp g h)) (hA : oc_eaw g x A) (hB : oc_eaw h x B) (hm : ∀ i, m i < 256) :
    ∃ a' c', oc_R C 9 (m, a, c, x, p, r) (m, a', c', x, p + 9, r) ∧ (c' = 1 ↔ oc_w m A < oc_w m B) ∧ c' < 2 := by
  obtain ⟨h0, h1, h2, h3, h4, h5, h6, h7, h8, _⟩ := hc
  obtain ⟨t0, t1, t2, t3⟩ := hA
  obtain ⟨s0, s1, s2, s3⟩ := hB
  have R := oc_tr (oc_CLC (m := m) (a := a) (c := c) (x := x) (r := r) h0) (oc_tr (oc_LDA h1) (oc_tr (oc_SBC h2) (oc_tr (oc_LDA h3) (oc_tr (oc_SBC h4) (oc_tr (oc_LDA h5) (oc_tr (oc_SBC h6) (oc_tr (oc_LDA h7) (oc_SBC h8))))))))
  rw [t0, t1, t2, t3, s0, s1, s2, s3] at R
  exact ⟨_, _, R, (oc_sub4 rfl rfl rfl rfl (hm _) (hm _) (hm _) (hm _) (hm _) (hm _) (hm _) (hm _)).2⟩
theorem oc_and2 {a b y z : Nat} (ha : a < 256) (hb : b < 256) : (a + 256 * y) &&& (b + 256 * z) = (a &&& b) + 256 * (y &&& z) := by
  have h1 : ((a + 256 * y) &&& (b + 256 * z)) % 2 ^ 8 = a &&& b := by
    rw [Nat.and_mod_two_pow, show (a + 256 * y) % 2 ^ 8 = a by omega, show (b + 256 * z) % 2 ^ 8 = b by omega]
  have h2 : ((a + 256 * y) &&& (b + 256 * z)) / 2 ^ 8 = y &&& z := by
    rw [Nat.and_div_two_pow, show (a + 256 * y) / 2 ^ 8 = y by omega, show (b + 256 * z) / 2 ^ 8 = z by omega]
  generalize (a + 256 * y) &&& (b + 256 * z) = q at h1 h2
  omega
theorem oc_xor2 {a b y z : Nat} (ha : a < 256) (hb : b < 256) : (a + 256 * y) ^^^ (b + 256 * z) = (a ^^^ b) + 256 * (y ^^^ z) := by
  have h1 : ((a + 256 * y) ^^^ (b + 256 * z)) % 2 ^ 8 = a ^^^ b := by
    rw [Nat.xor_mod_two_pow, show (a + 256 * y) % 2 ^ 8 = a by omega, show (b + 256 * z) % 2 ^ 8 = b by omega]
  have h2 : ((a + 256 * y) ^^^ (b + 256 * z)) / 2 ^ 8 = y ^^^ z := by
    rw [Nat.xor_div_two_pow, show (a + 256 * y) / 2 ^ 8 = y by omega, show (b + 256 * z) / 2 ^ 8 = z by omega]
  generalize (a + 256 * y) ^^^ (b + 256 * z) = q at h1 h2
  omega
theorem oc_and4 {a0 a1 a2 a3 b0 b1 b2 b3 : Nat} (h0 : a0 < 256) (h1 : a1 < 256) (h2 : a2 < 256) (k0 : b0 < 256) (k1 : b1 < 256) (k2 : b2 < 256) :
    (a0 &&& b0) + 256 * (a1 &&& b1) + 65536 * (a2 &&& b2) + 16777216 * (a3 &&& b3) = (a0 + 256 * a1 + 65536 * a2 + 16777216 * a3) &&& (b0 + 256 * b1 + 65536 * b2 + 16777216 * b3) := by
  rw [show a0 + 256 * a1 + 65536 * a2 + 16777216 * a3 = a0 + 256 * (a1 + 256 * (a2 + 256 * a3)) by omega, show b0 + 256 * b1 + 65536 * b2 + 16777216 * b3 = b0 + 256 * (b1 + 256 * (b2 + 256 * b3)) by omega, oc_and2 h0 k0, oc_and2 h1 k1, oc_and2 h2 k2]
  omega
theorem oc_xor4 {a0 a1 a2 a3 b0 b1 b2 b3 : Nat} (h0 : a0 < 256) (h1 : a1 < 256) (h2 : a2 < 256) (k0 : b0 < 256) (k1 : b1 < 256) (k2 : b2 < 256) :
    (a0 ^^^ b0) + 256 * (a1 ^^^ b1) + 65536 * (a2 ^^^ b2) + 16777216 * (a3 ^^^ b3) = (a0 + 256 * a1 + 65536 * a2 + 16777216 * a3) ^^^ (b0 + 256 * b1 + 65536 * b2 + 16777216 * b3) := by
  rw [show a0 + 256 * a1 + 65536 * a2 + 16777216 * a3 = a0 + 256 * (a1 + 256 * (a2 + 256 * a3)) by omega, show b0 + 256 * b1 + 65536 * b2 + 16777216 * b3 = b0 + 256 * (b1 + 256 * (b2 + 256 * b3)) by omega, oc_xor2 h0 k0, oc_xor2 h1 k1, oc_xor2 h2 k2]
  omega
theorem oc_andW {g h A B : Nat} (hc : oc_at C p (cd_chain 5 g h)) (hA : oc_eaw g x A) (hB : oc_eaw h x B) (hd : A + 4 ≤ B ∨ B + 4 ≤ A) (hm : ∀ i, m i < 256) :
    ∃ m' a' c', oc_R C 13 (m, a, c, x, p, r) (m', a', c', x, p + 13, r) ∧ oc_w m' A = oc_w m A &&& oc_w m B ∧ oc_fr A m m' := by
  obtain ⟨h0, h1, h2, h3, h4, h5, h6, h7, h8, h9, h10, h11, h12, _⟩ := hc
  obtain ⟨t0, t1, t2, t3⟩ := hA
  obtain ⟨s0, s1, s2, s3⟩ := hB
  have R := oc_tr (oc_CLC (m := m) (a := a) (c := c) (x := x) (r := r) h0) (oc_tr (oc_LDA h1) (oc_tr (oc_ANA h2) (oc_tr (oc_STA h3) (oc_tr (oc_LDA h4) (oc_tr (oc_ANA h5) (oc_tr (oc_STA h6) (oc_tr (oc_LDA h7) (oc_tr (oc_ANA h8) (oc_tr (oc_STA h9) (oc_tr (oc_LDA h10) (oc_tr (oc_ANA h11) (oc_STA h12))))))))))))
  rw [t0, t1, t2, t3, s0, s1, s2, s3] at R
  simp (disch := omega) only [oc_un] at R
  refine ⟨oc_up4 m A _ _ _ _, _, _, R, ?_, oc_up4_fr _ _ _ _ _ _⟩
  rw [oc_up4_w]
  exact oc_and4 (hm _) (hm _) (hm _) (hm _) (hm _) (hm _)
theorem oc_xorW {g h A B : Nat} (hc : oc_at C p (cd_chain 6 g h)) (hA : oc_eaw g x A) (hB : oc_eaw h x B) (hd : A + 4 ≤ B ∨ B + 4 ≤ A) (hm : ∀ i, m i < 256) :
    ∃ m' a' c', oc_R C 13 (m, a, c, x, p, r) (m', a', c', x, p + 13, r) ∧ oc_w m' A = oc_w m A ^^^ oc_w m B ∧ oc_fr A m m' := by
  obtain ⟨h0, h1, h2, h3, h4, h5, h6, h7, h8, h9, h10, h11, h12, _⟩ := hc
  obtain ⟨t0, t1, t2, t3⟩ := hA
  obtain ⟨s0, s1, s2, s3⟩ := hB
  have R := oc_tr (oc_CLC (m := m) (a := a) (c := c) (x := x) (r := r) h0) (oc_tr (oc_LDA h1) (oc_tr (oc_XRA h2) (oc_tr (oc_STA h3) (oc_tr (oc_LDA h4) (oc_tr (oc_XRA h5) (oc_tr (oc_STA h6) (oc_tr (oc_LDA h7) (oc_tr (oc_XRA h8) (oc_tr (oc_STA h9) (oc_tr (oc_LDA h10) (oc_tr (oc_XRA h11) (oc_STA h12))))))))))))
  rw [t0, t1, t2, t3, s0, s1, s2, s3] at R
  simp (disch := omega) only [oc_un] at R
  refine ⟨oc_up4 m A _ _ _ _, _, _, R, ?_, oc_up4_fr _ _ _ _ _ _⟩
  rw [oc_up4_w]
  exact oc_xor4 (hm _) (hm _) (hm _) (hm _) (hm _) (hm _)
theorem oc_negW {s g q S A : Nat} (hc : oc_at C p (cd_neg s g q)) (hq : q = p + 15) (hS : oc_ea s x = S) (hA : oc_eaw g x A) (hm : ∀ i, m i < 256) :
    ∃ m' a' c', oc_R C 15 (m, a, c, x, p, r) (m', a', c', x, p + 15, r) ∧ oc_w m' A = (if m S < 128 then oc_w m A else (4294967296 - oc_w m A) % 4294967296) ∧ oc_fr A m m' := by
  subst hq
  obtain ⟨h0, h1, h2, h3, h4, h5, h6, h7, h8, h9, h10, h11, h12, h13, h14, _⟩ := hc
  by_cases k : m S < 128
  · have R := oc_tr (oc_LDA (m := m) (a := a) (c := c) (x := x) (r := r) h0) (oc_JPLt h1 (by rw [hS]; exact k))
    refine ⟨m, _, _, oc_le R (by omega), by rw [if_pos k], fun _ _ => rfl⟩
  · obtain ⟨t0, t1, t2, t3⟩ := hA
    have R := oc_tr (oc_LDA (m := m) (a := a) (c := c) (x := x) (r := r) h0) (oc_tr (oc_JPLf h1 (by rw [hS]; exact k)) (oc_tr (oc_CLC h2) (oc_tr (oc_LDI h3) (oc_tr (oc_SBC h4) (oc_tr (oc_STA h5) (oc_tr (oc_LDI h6) (oc_tr (oc_SBC h7) (oc_tr (oc_STA h8) (oc_tr (oc_LDI h9) (oc_tr (oc_SBC h10) (oc_tr (oc_STA h11) (oc_tr (oc_LDI h12) (oc_tr (oc_SBC h13) (oc_STA h14))))))))))))))
    rw [t0, t1, t2, t3] at R
    simp (disch := omega) only [oc_un] at R
    refine ⟨oc_up4 m A _ _ _ _, _, _, R, ?_, oc_up4_fr _ _ _ _ _ _⟩
    rw [oc_up4_w, if_neg k]
    have K := (oc_sub4 (a0 := 0) (a1 := 0) (a2 := 0) (a3 := 0) rfl rfl rfl rfl (by omega) (by omega) (by omega) (by omega) (hm A) (hm (A + 1)) (hm (A + 2)) (hm (A + 3))).1
    refine K.trans ?_
    unfold oc_w
    omega
end
end
section
/-! the shared helper routines: their code, and what they do -/
def cd_HL : List (Nat × Nat) :=
  cd_fill 52 0 ++ ([(0, 32), (2, 56), (11, 0)] ++ (cd_right 128 ++ ([(16, 26)] ++ (cd_chain 3 52 132 ++ ([(11, 0)] ++ (cd_left 132 ++ ([(10, 56), (14, 7)] ++ (cd_copy 52 128 ++ ([(19, 0)]
  ++ ([(1, 131), (2, 58), (6, 135), (2, 57)] ++ (cd_neg 131 128 61 ++ (cd_neg 135 132 76 ++ (cd_fill 52 0 ++ ([(0, 32), (2, 56), (11, 0)] ++ (cd_left 128 ++ (cd_left 52 ++ (cd_cmp 52 132 ++ ([(15, 118)] ++ (cd_chain 4 52 132 ++ ([(0, 1), (7, 128), (2, 128), (10, 56), (14, 83), (19, 0)]
  ++ (cd_test 132 ++ ([(14, 132)] ++ (cd_fill 128 255 ++ ([(19, 0), (18, 42)] ++ (cd_neg 57 128 148 ++ ([(19, 0)]
  ++ (cd_test 132 ++ ([(14, 155), (19, 0), (18, 42)] ++ (cd_copy 52 128 ++ (cd_neg 58 128 179 ++ ([(19, 0)]
  ++ ([(0, 31), (5, 132), (2, 56), (13, 191), (11, 0)] ++ (cd_left 128 ++ ([(10, 56), (14, 184), (19, 0)]
  ++ ([(0, 31), (5, 132), (2, 56), (13, 205), (1, 131), (2, 58), (8, 58)] ++ (cd_right 128 ++ [(10, 56), (14, 196), (19, 0)]))))))))))))))))))))))))))))))))))))
theorem cd_HL_len : cd_HL.length = 206 := by decide +kernel
theorem oc_in1 {C : Nat → Nat × Nat} (HC : oc_at C 0 cd_HL) (n : Nat) {i : Nat × Nat} (e : (cd_HL.drop n).take 1 = [i]) : C n = i := (oc_at_sub HC n 1 e).1
theorem oc_w_upd {m : Nat → Nat} {k v B : Nat} (d : k < B ∨ B + 4 ≤ k) : oc_w (oc_upd m k v) B = oc_w m B := by
  unfold oc_w
  simp (disch := omega) only [oc_un]
theorem oc_mulM (q a b : Nat) : ((q + a % 2 * b) % 4294967296 + a / 2 * (2 * b % 4294967296)) % 4294967296 = (q + a * b) % 4294967296 := by
  have h1 : a / 2 * (2 * b % 4294967296) + 4294967296 * (a / 2 * (2 * b / 4294967296)) = a / 2 * (2 * b) := by
    rw [Nat.mul_left_comm, ← Nat.mul_add, Nat.mod_add_div]
  have h2 : a * b = a / 2 * (2 * b) + a % 2 * b := by
    rw [← Nat.mul_assoc, ← Nat.add_mul, Nat.mul_comm (a / 2) 2, Nat.div_add_mod]
  rw [h2, ← h1]
  generalize a / 2 * (2 * b % 4294967296) = P
  generalize a / 2 * (2 * b / 4294967296) = Z
  generalize a % 2 * b = T
  omega
section
variable {C : Nat → Nat × Nat} {x : Nat} {r : List Nat}
theorem oc_mul1 (HC : oc_at C 0 cd_HL) (GC : oc_good C) (hx : 32 ≤ x) (hx2 : x + 8 ≤ 52) {m : Nat → Nat} {a c n : Nat} (hs : oc_ok (m, a, c, x, 7, r)) (hn : m 56 = n + 1) (hn2 : n < 32) :
    ∃ m' c', oc_R C 25 (m, a, c, x, 7, r) (m', n, c', x, 32, r) ∧ m' 56 = n ∧ oc_w m' x = oc_w m x / 2 ∧ oc_w m' (x + 4) = 2 * oc_w m (x + 4) % 4294967296 ∧ oc_w m' 52 = (oc_w m 52 + oc_w m x % 2 * oc_w m (x + 4)) % 4294967296 ∧ ∀ i, i < x → m' i = m i := by
  have c7 : C 7 = (11, 0) := oc_in1 HC 7 (by decide +kernel)
  have c8 : oc_at C 8 (cd_right 128) := oc_at_sub HC 8 4 (by decide +kernel)
  have c12 : C 12 = (16, 26) := oc_in1 HC 12 (by decide +kernel)
  have c13 : oc_at C 13 (cd_chain 3 52 132) := oc_at_sub HC 13 13 (by decide +kernel)
  have c26 : C 26 = (11, 0) := oc_in1 HC 26 (by decide +kernel)
  have c27 : oc_at C 27 (cd_left 132) := oc_at_sub HC 27 4 (by decide +kernel)
  have c31 : C 31 = (10, 56) := oc_in1 HC 31 (by decide +kernel)
  have eA : oc_eaw 128 x x := oc_eaw_a (by omega)
  have eB : oc_eaw 132 x (x + 4) := oc_eaw_b (by omega)
  have eR : oc_eaw 52 x 52 := oc_eaw_d (by omega)
  have hm : ∀ i, m i < 256 := hs.1
  have R0 := oc_CLC (m := m) (a := a) (c := c) (x := x) (r := r) c7
  obtain ⟨m1, R1, w1, f1⟩ := oc_rightW (m := m) (a := a) (c := 0) (r := r) c8 eA hm (by omega)
  have R01 := oc_tr R0 R1
  have s1 := oc_ok_R GC R01 hs
  have hm1 : ∀ i, m1 i < 256 := s1.1
  have ew : (oc_w m x + 4294967296 * 0) / 2 = oc_w m x / 2 := by omega
  rw [ew] at w1
  have wB1 : oc_w m1 (x + 4) = oc_w m (x + 4) := oc_w_fr f1 (by omega)
  have wR1 : oc_w m1 52 = oc_w m 52 := oc_w_fr f1 (by omega)
  have K : ∃ m2 a2 c2, oc_R C 14 (m1, a, oc_w m x % 2, x, 12, r) (m2, a2, c2, x, 26, r) ∧ oc_w m2 52 = (oc_w m 52 + oc_w m x % 2 * oc_w m (x + 4)) % 4294967296 ∧ oc_fr 52 m1 m2 := by
    by_cases z : oc_w m x % 2 = 0
    · refine ⟨m1, a, _, oc_le (oc_JNCt c12 z) (by omega), ?_, fun _ _ => rfl⟩
      rw [z, Nat.zero_mul, Nat.add_zero, wR1, Nat.mod_eq_of_lt (oc_w_lt hm 52)]
    · obtain ⟨m2, a2, c2, R2, w2, f2⟩ := oc_addW (m := m1) (a := a) (c := oc_w m x % 2) (r := r) c13 eR eB (by omega) hm1
      refine ⟨m2, a2, c2, oc_tr (oc_JNCf c12 z) R2, ?_, f2⟩
      rw [w2, wB1, wR1, show oc_w m x % 2 = 1 by omega, Nat.one_mul]
  obtain ⟨m2, a2, c2, R2, w2, f2⟩ := K
  have R02 := oc_tr R01 R2
  have s2 := oc_ok_R GC R02 hs
  have hm2 : ∀ i, m2 i < 256 := s2.1
  have R3 := oc_tr R02 (oc_CLC (m := m2) (a := a2) (c := c2) (x := x) (r := r) c26)
  obtain ⟨m3, R4, w3, f3⟩ := oc_leftW (m := m2) (a := a2) (c := 0) (r := r) c27 eB hm2 (by omega)
  have e56 : m3 56 = n + 1 := by
    rw [f3 56 (by omega), f2 56 (by omega), f1 56 (by omega), hn]
  have R5 := oc_DEC (m := m3) (a := a2) (c := (2 * oc_w m2 (x + 4) + 0) / 4294967296) (x := x) (r := r) c31
  rw [oc_ea_d (by omega), e56, show (n + 1 + 255) % 256 = n by omega] at R5
  refine ⟨oc_upd m3 56 n, _, oc_tr R3 (oc_tr R4 R5), oc_us, ?_, ?_, ?_, ?_⟩
  · rw [oc_w_upd (by omega), oc_w_fr f3 (by omega), oc_w_fr f2 (by omega), w1]
  · rw [oc_w_upd (by omega), w3, oc_w_fr f2 (by omega), wB1, Nat.add_zero]
  · rw [oc_w_upd (by omega), oc_w_fr f3 (by omega), w2]
  · intro i hi
    rw [oc_un (by omega), f3 i (by omega), f2 i (by omega), f1 i (by omega)]
theorem oc_mulL (HC : oc_at C 0 cd_HL) (GC : oc_good C) (hx : 32 ≤ x) (hx2 : x + 8 ≤ 52) : ∀ (n : Nat) (m : Nat → Nat) (a c : Nat), n < 32 → oc_ok (m, a, c, x, 7, r) → m 56 = n + 1 → oc_w m x < 2 ^ (n + 1) →
    ∃ m' a' c', oc_R C (26 * (n + 1)) (m, a, c, x, 7, r) (m', a', c', x, 33, r) ∧ oc_w m' 52 = (oc_w m 52 + oc_w m x * oc_w m (x + 4)) % 4294967296 ∧ ∀ i, i < x → m' i = m i := by
  have c32 : C 32 = (14, 7) := oc_in1 HC 32 (by decide +kernel)
  intro n
  induction n with
  | zero =>
    intro m a c h32 hs hn hw
    obtain ⟨m1, c1, R1, e1, w1, w2, w3, f1⟩ := oc_mul1 HC GC hx hx2 hs hn h32
    refine ⟨m1, 0, c1, oc_le (oc_tr R1 (oc_JNZf c32 rfl)) (by omega), ?_, f1⟩
    have hw2 : oc_w m x < 2 := hw
    rw [w3, show oc_w m x % 2 = oc_w m x by omega]
  | succ n ih =>
    intro m a c h32 hs hn hw
    obtain ⟨m1, c1, R1, e1, w1, w2, w3, f1⟩ := oc_mul1 HC GC hx hx2 hs hn h32
    have R2 := oc_tr R1 (oc_JNZt c32 (by omega))
    have s2 := oc_ok_R GC R2 hs
    have hw1 : oc_w m1 x < 2 ^ (n + 1) := by
      rw [w1]
      rw [Nat.pow_succ] at hw
      omega
    obtain ⟨m3, a3, c3, R3, w4, f3⟩ := ih m1 (n + 1) c1 (by omega) s2 e1 hw1
    refine ⟨m3, a3, c3, oc_le (oc_tr R2 R3) (by omega), ?_, fun i hi => by rw [f3 i hi, f1 i hi]⟩
    rw [w4, w1, w2, w3, oc_mulM]
theorem oc_lsW {p : Nat} (hc : oc_at C p (cd_fill 52 0)) (h5 : C (p + 5) = (0, 32)) (h6 : C (p + 6) = (2, 56)) {m : Nat → Nat} {a c : Nat} :
    ∃ m', oc_R C 7 (m, a, c, x, p, r) (m', 32, c, x, p + 7, r) ∧ oc_w m' 52 = 0 ∧ m' 56 = 32 ∧ ∀ i, (i < 52 ∨ 57 ≤ i) → m' i = m i := by
  obtain ⟨m1, R1, w1, f1⟩ := oc_fillW (m := m) (a := a) (c := c) (x := x) (r := r) hc (oc_eaw_d (by omega))
  have R2 := oc_tr R1 (oc_tr (oc_LDI h5) (oc_STA h6))
  rw [oc_ea_d (by omega)] at R2
  refine ⟨oc_upd m1 56 32, R2, ?_, oc_us, ?_⟩
  · rw [oc_w_upd (by omega), w1]
  · intro i hi
    rw [oc_un (by omega), f1 i (by omega)]
theorem oc_mulR (HC : oc_at C 0 cd_HL) (GC : oc_good C) (hx : 32 ≤ x) (hx2 : x + 8 ≤ 52) {q : Nat} {m : Nat → Nat} {a c : Nat} (hs : oc_ok (m, a, c, x, 0, q :: r)) :
    ∃ m' a' c', oc_R C 900 (m, a, c, x, 0, q :: r) (m', a', c', x, q, r) ∧ oc_w m' x = oc_w m x * oc_w m (x + 4) % 4294967296 ∧ ∀ i, i < x → m' i = m i := by
  have d0 : oc_at C 0 (cd_fill 52 0) := oc_at_sub HC 0 5 (by decide +kernel)
  have d5 : C 5 = (0, 32) := oc_in1 HC 5 (by decide +kernel)
  have d6 : C 6 = (2, 56) := oc_in1 HC 6 (by decide +kernel)
  have d33 : oc_at C 33 (cd_copy 52 128) := oc_at_sub HC 33 8 (by decide +kernel)
  have d41 : C 41 = (19, 0) := oc_in1 HC 41 (by decide +kernel)
  obtain ⟨m1, R1, w1, e1, f1⟩ := oc_lsW (m := m) (a := a) (c := c) (x := x) (r := q :: r) d0 d5 d6
  have s1 := oc_ok_R GC R1 hs
  have wA : oc_w m1 x = oc_w m x := oc_w_eq (fun i _ _ => f1 i (by omega))
  have wB : oc_w m1 (x + 4) = oc_w m (x + 4) := oc_w_eq (fun i _ _ => f1 i (by omega))
  have hlt : oc_w m1 x < 2 ^ (31 + 1) := oc_w_lt s1.1 x
  obtain ⟨m2, a2, c2, R2, w2, f2⟩ := oc_mulL HC GC hx hx2 31 m1 32 c (by omega) s1 e1 hlt
  obtain ⟨m3, a3, R3, w3, f3⟩ := oc_copyW (m := m2) (a := a2) (c := c2) (x := x) (r := q :: r) d33 (oc_eaw_d (by omega)) (oc_eaw_a (by omega)) (by omega)
  refine ⟨m3, a3, c2, oc_le (oc_tr R1 (oc_tr R2 (oc_tr R3 (oc_RTS d41)))) (by omega), ?_, ?_⟩
  · rw [w3, w2, w1, wA, wB, Nat.zero_add]
  · intro i hi
    rw [f3 i (by omega), f2 i hi, f1 i (by omega)]
/-! division -/
theorem oc_or1 : ∀ v, v < 256 → v % 2 = 0 → 1 ||| v = v + 1 := by decide +kernel
theorem oc_div1 (HC : oc_at C 0 cd_HL) (GC : oc_good C) (hx : 32 ≤ x) (hx2 : x + 8 ≤ 52) {m : Nat → Nat} {a c n : Nat} (hs : oc_ok (m, a, c, x, 83, r)) (hn : m 56 = n + 1) (hn2 : n < 32) (hb : oc_w m (x + 4) ≤ 2147483648) (hr : oc_w m 52 < oc_w m (x + 4)) :
    ∃ m' c' t, oc_R C 36 (m, a, c, x, 83, r) (m', n, c', x, 119, r) ∧ m' 56 = n ∧ oc_w m' (x + 4) = oc_w m (x + 4) ∧ t < 2 ∧ oc_w m' x + 4294967296 * oc_w m' 52 + 4294967296 * (oc_w m (x + 4) * t) = 2 * (oc_w m x + 4294967296 * oc_w m 52) + t ∧ oc_w m' 52 < oc_w m (x + 4) ∧ ∀ i, (i < x ∨ 57 ≤ i) → m' i = m i := by
  have c83 : C 83 = (11, 0) := oc_in1 HC 83 (by decide +kernel)
  have c84 : oc_at C 84 (cd_left 128) := oc_at_sub HC 84 4 (by decide +kernel)
  have c88 : oc_at C 88 (cd_left 52) := oc_at_sub HC 88 4 (by decide +kernel)
  have c92 : oc_at C 92 (cd_cmp 52 132) := oc_at_sub HC 92 9 (by decide +kernel)
  have c101 : C 101 = (15, 118) := oc_in1 HC 101 (by decide +kernel)
  have c102 : oc_at C 102 (cd_chain 4 52 132) := oc_at_sub HC 102 13 (by decide +kernel)
  have c115 : C 115 = (0, 1) := oc_in1 HC 115 (by decide +kernel)
  have c116 : C 116 = (7, 128) := oc_in1 HC 116 (by decide +kernel)
  have c117 : C 117 = (2, 128) := oc_in1 HC 117 (by decide +kernel)
  have c118 : C 118 = (10, 56) := oc_in1 HC 118 (by decide +kernel)
  have eA : oc_eaw 128 x x := oc_eaw_a (by omega)
  have eB : oc_eaw 132 x (x + 4) := oc_eaw_b (by omega)
  have eR : oc_eaw 52 x 52 := oc_eaw_d (by omega)
  have hm : ∀ i, m i < 256 := hs.1
  have R0 := oc_CLC (m := m) (a := a) (c := c) (x := x) (r := r) c83
  obtain ⟨m1, R1, w1, f1⟩ := oc_leftW (m := m) (a := a) (c := 0) (r := r) c84 eA hm (by omega)
  have R01 := oc_tr R0 R1
  have hm1 : ∀ i, m1 i < 256 := (oc_ok_R GC R01 hs).1
  have hA := oc_w_lt hm x
  have wB1 : oc_w m1 (x + 4) = oc_w m (x + 4) := oc_w_fr f1 (by omega)
  have wR1 : oc_w m1 52 = oc_w m 52 := oc_w_fr f1 (by omega)
  obtain ⟨m2, R2, w2, f2⟩ := oc_leftW (m := m1) (a := a) (c := (2 * oc_w m x + 0) / 4294967296) (r := r) c88 eR hm1 (by omega)
  have R02 := oc_tr R01 R2
  have hm2 : ∀ i, m2 i < 256 := (oc_ok_R GC R02 hs).1
  have wB2 : oc_w m2 (x + 4) = oc_w m (x + 4) := by rw [oc_w_fr f2 (by omega), wB1]
  have wA2 : oc_w m2 x = (2 * oc_w m x + 0) % 4294967296 := by rw [oc_w_fr f2 (by omega), w1]
  rw [wR1] at w2
  obtain ⟨a3, c3, R3, h3, k3⟩ := oc_cmpW (m := m2) (a := a) (c := (2 * oc_w m1 52 + (2 * oc_w m x + 0) / 4294967296) / 4294967296) (r := r) c92 eR eB hm2
  have R03 := oc_tr R02 R3
  have K : ∃ m4 a4 c4 t, oc_R C 17 (m2, a3, c3, x, 101, r) (m4, a4, c4, x, 118, r) ∧ t < 2 ∧ oc_w m4 (x + 4) = oc_w m (x + 4) ∧ oc_w m4 x + 4294967296 * oc_w m4 52 + 4294967296 * (oc_w m (x + 4) * t) = 2 * (oc_w m x + 4294967296 * oc_w m 52) + t ∧ oc_w m4 52 < oc_w m (x + 4) ∧ ∀ i, (i < x ∨ 56 ≤ i) → m4 i = m2 i := by
    by_cases z : c3 = 0
    · have hge : ¬ oc_w m2 52 < oc_w m2 (x + 4) := fun h => by have := h3.mpr h; omega
      obtain ⟨m4, a4, c4, R4, w4, f4⟩ := oc_subW (m := m2) (a := a3) (c := c3) (r := r) c102 eR eB (by omega) hm2
      have R5 := oc_tr (oc_JCf c101 z) (oc_tr R4 (oc_tr (oc_LDI c115) (oc_tr (oc_ORA c116) (oc_STA c117))))
      rw [eA.1] at R5
      have hm4 := hm2 x
      have f4x : m4 x = m2 x := f4 x (by omega)
      have ev : m2 x % 2 = 0 := by
        have : oc_w m2 x = m2 x + 256 * m2 (x + 1) + 65536 * m2 (x + 2) + 16777216 * m2 (x + 3) := rfl
        omega
      rw [f4x, oc_or1 (m2 x) hm4 ev] at R5
      have wx : oc_w (oc_upd m4 x (m2 x + 1)) x = oc_w m2 x + 1 := by
        unfold oc_w
        rw [oc_us]
        simp (disch := omega) only [oc_un]
        rw [f4 (x + 1) (by omega), f4 (x + 2) (by omega), f4 (x + 3) (by omega)]
        omega
      have w52 : oc_w (oc_upd m4 x (m2 x + 1)) 52 = oc_w m4 52 := oc_w_upd (by omega)
      refine ⟨oc_upd m4 x (m2 x + 1), _, _, 1, R5, by omega, ?_, ?_, ?_, ?_⟩
      · rw [oc_w_upd (by omega), oc_w_fr f4 (by omega), wB2]
      · rw [wx, w52, w4, wA2, w2, wB2, Nat.mul_one]
        rw [w2, wB2] at hge
        omega
      · rw [w52, w4, w2, wB2]
        rw [w2, wB2] at hge
        omega
      · intro i hi
        rw [oc_un (by omega), f4 i (by omega)]
    · have hlt : oc_w m2 52 < oc_w m2 (x + 4) := h3.mp (by omega)
      rw [w2, wB2] at hlt
      refine ⟨m2, a3, c3, 0, oc_le (oc_JCt c101 z) (by omega), by omega, wB2, ?_, ?_, fun _ _ => rfl⟩
      · rw [wA2, w2, Nat.mul_zero]
        omega
      · rw [w2]
        exact hlt
  obtain ⟨m4, a4, c4, t, R4, ht, wB4, hZ, hR, f4⟩ := K
  have e56 : m4 56 = n + 1 := by
    rw [f4 56 (by omega), f2 56 (by omega), f1 56 (by omega), hn]
  have R5 := oc_DEC (m := m4) (a := a4) (c := c4) (x := x) (r := r) c118
  rw [oc_ea_d (by omega), e56, show (n + 1 + 255) % 256 = n by omega] at R5
  refine ⟨oc_upd m4 56 n, c4, t, oc_tr R03 (oc_tr R4 R5), oc_us, ?_, ht, ?_, ?_, ?_⟩
  · rw [oc_w_upd (by omega), wB4]
  · rw [oc_w_upd (by omega), oc_w_upd (by omega), hZ]
  · rw [oc_w_upd (by omega)]
    exact hR
  · intro i hi
    rw [oc_un (by omega), f4 i (by omega), f2 i (by omega), f1 i (by omega)]
theorem oc_divM {b Q t P Z0 Z1 Zk : Nat} (ht : t < 2) (h1 : Z1 + 4294967296 * (b * t) = 2 * Z0 + t) (h2 : Zk + 4294967296 * (b * Q) = P * Z1 + Q) : Zk + 4294967296 * (b * (Q + t * P)) = P * 2 * Z0 + (Q + t * P) := by
  have e : P * (Z1 + 4294967296 * (b * t)) = P * (2 * Z0 + t) := by rw [h1]
  rw [Nat.mul_add, Nat.mul_add] at e
  have e1 : P * (4294967296 * (b * t)) = 4294967296 * (b * (t * P)) := by
    rw [Nat.mul_left_comm, Nat.mul_comm P (b * t), Nat.mul_assoc]
  have e2 : P * (2 * Z0) = P * 2 * Z0 := by rw [Nat.mul_assoc]
  have e3 : P * t = t * P := Nat.mul_comm _ _
  rw [Nat.mul_add]
  rw [e1, e2, e3] at e
  generalize P * 2 * Z0 = X at *
  generalize b * (t * P) = Y at *
  generalize b * Q = W at *
  generalize t * P = V at *
  generalize P * Z1 = U at *
  omega
theorem oc_divL (HC : oc_at C 0 cd_HL) (GC : oc_good C) (hx : 32 ≤ x) (hx2 : x + 8 ≤ 52) : ∀ (n : Nat) (m : Nat → Nat) (a c : Nat), n < 32 → oc_ok (m, a, c, x, 83, r) → m 56 = n + 1 → oc_w m (x + 4) ≤ 2147483648 → oc_w m 52 < oc_w m (x + 4) →
    ∃ m' a' c' Q, oc_R C (37 * (n + 1)) (m, a, c, x, 83, r) (m', a', c', x, 120, r) ∧ Q < 2 ^ (n + 1) ∧ oc_w m' x + 4294967296 * oc_w m' 52 + 4294967296 * (oc_w m (x + 4) * Q) = 2 ^ (n + 1) * (oc_w m x + 4294967296 * oc_w m 52) + Q ∧ oc_w m' 52 < oc_w m (x + 4) ∧ ∀ i, (i < x ∨ 57 ≤ i) → m' i = m i := by
  have c119 : C 119 = (14, 83) := oc_in1 HC 119 (by decide +kernel)
  intro n
  induction n with
  | zero =>
    intro m a c h32 hs hn hb hr
    obtain ⟨m1, c1, t, R1, e1, wB, ht, hZ, hR, f1⟩ := oc_div1 HC GC hx hx2 hs hn h32 hb hr
    refine ⟨m1, 0, c1, t, oc_le (oc_tr R1 (oc_JNZf c119 rfl)) (by omega), ht, hZ, hR, f1⟩
  | succ n ih =>
    intro m a c h32 hs hn hb hr
    obtain ⟨m1, c1, t, R1, e1, wB, ht, hZ, hR, f1⟩ := oc_div1 HC GC hx hx2 hs hn h32 hb hr
    have R2 := oc_tr R1 (oc_JNZt c119 (by omega))
    have s2 := oc_ok_R GC R2 hs
    obtain ⟨m3, a3, c3, Q, R3, hQ, hZ3, hR3, f3⟩ := ih m1 (n + 1) c1 (by omega) s2 e1 (by rw [wB]; exact hb) (by rw [wB]; exact hR)
    rw [wB] at hZ3 hR3
    refine ⟨m3, a3, c3, Q + t * 2 ^ (n + 1), oc_le (oc_tr R2 R3) (by omega), ?_, ?_, hR3, fun i hi => by rw [f3 i hi, f1 i hi]⟩
    · have e : t * 2 ^ (n + 1) ≤ 1 * 2 ^ (n + 1) := Nat.mul_le_mul_right _ (by omega)
      have e2 : 2 ^ (n + 1 + 1) = 2 ^ (n + 1) * 2 := rfl
      omega
    · exact oc_divM ht hZ hZ3
def oc_ab (w : Nat) : Nat := if w < 2147483648 then w else 4294967296 - w
theorem oc_ab_le {w : Nat} (h : w < 4294967296) : oc_ab w ≤ 2147483648 := by
  unfold oc_ab
  split <;> omega
theorem oc_top {m : Nat → Nat} (hm : ∀ i, m i < 256) (A : Nat) : m (A + 3) < 128 ↔ oc_w m A < 2147483648 := by
  have h0 := hm A
  have h1 := hm (A + 1)
  have h2 := hm (A + 2)
  have h3 := hm (A + 3)
  unfold oc_w
  omega
theorem oc_neg_ab {m : Nat → Nat} (hm : ∀ i, m i < 256) (A : Nat) : (if m (A + 3) < 128 then oc_w m A else (4294967296 - oc_w m A) % 4294967296) = oc_ab (oc_w m A) := by
  have h := oc_top hm A
  have hl := oc_w_lt hm A
  unfold oc_ab
  by_cases k : m (A + 3) < 128
  · rw [if_pos k, if_pos (h.mp k)]
  · have k2 : ¬ oc_w m A < 2147483648 := fun z => k (h.mpr z)
    rw [if_neg k, if_neg k2, Nat.mod_eq_of_lt (by omega)]
theorem oc_quo {A b Q w ρ : Nat} (hw : w < 4294967296) (hQ : Q < 4294967296) (h : w + 4294967296 * ρ + 4294967296 * (b * Q) = 4294967296 * A + Q) (hρ : ρ < b) : w = A / b ∧ ρ = A % b := by
  have e : w = Q := by
    generalize b * Q = W at h
    omega
  have e2 : A = ρ + b * Q := by
    generalize b * Q = W at h
    omega
  have d : A / b = Q := by
    rw [e2, Nat.add_mul_div_left _ _ (by omega), Nat.div_eq_of_lt hρ, Nat.zero_add]
  have d2 : A % b = ρ := by
    rw [e2, Nat.add_mul_mod_self_left, Nat.mod_eq_of_lt hρ]
  exact ⟨by rw [d, e], d2.symm⟩
theorem oc_divideR (HC : oc_at C 0 cd_HL) (GC : oc_good C) (hx : 32 ≤ x) (hx2 : x + 8 ≤ 52) {q : Nat} {m : Nat → Nat} {a c : Nat} (hs : oc_ok (m, a, c, x, 42, q :: r)) (hb : oc_w m (x + 4) ≠ 0) :
    ∃ m' a' c', oc_R C 1230 (m, a, c, x, 42, q :: r) (m', a', c', x, q, r) ∧ oc_w m' x = oc_ab (oc_w m x) / oc_ab (oc_w m (x + 4)) ∧ oc_w m' 52 = oc_ab (oc_w m x) % oc_ab (oc_w m (x + 4)) ∧ m' 58 = m (x + 3) ∧ m' 57 = m (x + 3) ^^^ m (x + 7) ∧ ∀ i, i < x → m' i = m i := by
  have d42 : C 42 = (1, 131) := oc_in1 HC 42 (by decide +kernel)
  have d43 : C 43 = (2, 58) := oc_in1 HC 43 (by decide +kernel)
  have d44 : C 44 = (6, 135) := oc_in1 HC 44 (by decide +kernel)
  have d45 : C 45 = (2, 57) := oc_in1 HC 45 (by decide +kernel)
  have d46 : oc_at C 46 (cd_neg 131 128 61) := oc_at_sub HC 46 15 (by decide +kernel)
  have d61 : oc_at C 61 (cd_neg 135 132 76) := oc_at_sub HC 61 15 (by decide +kernel)
  have d76 : oc_at C 76 (cd_fill 52 0) := oc_at_sub HC 76 5 (by decide +kernel)
  have d81 : C 81 = (0, 32) := oc_in1 HC 81 (by decide +kernel)
  have d82 : C 82 = (2, 56) := oc_in1 HC 82 (by decide +kernel)
  have d120 : C 120 = (19, 0) := oc_in1 HC 120 (by decide +kernel)
  have eA : oc_eaw 128 x x := oc_eaw_a (by omega)
  have eB : oc_eaw 132 x (x + 4) := oc_eaw_b (by omega)
  have e131 : oc_ea 131 x = x + 3 := eA.2.2.2
  have e135 : oc_ea 135 x = x + 7 := eB.2.2.2
  have hm : ∀ i, m i < 256 := hs.1
  have R1 := oc_tr (oc_LDA (m := m) (a := a) (c := c) (x := x) (r := q :: r) d42) (oc_tr (oc_STA d43) (oc_tr (oc_XRA d44) (oc_STA d45)))
  rw [e131, e135, oc_ea_d (by omega), oc_ea_d (by omega)] at R1
  simp (disch := omega) only [oc_un] at R1
  have s1 := oc_ok_R GC R1 hs
  have hm1 := s1.1
  have E1 : ∀ i, i < 57 → (oc_upd (oc_upd m 58 (m (x + 3))) 57 (m (x + 3) ^^^ m (x + 7))) i = m i := by
    intro i hi
    simp (disch := omega) only [oc_un]
  have E57 : (oc_upd (oc_upd m 58 (m (x + 3))) 57 (m (x + 3) ^^^ m (x + 7))) 57 = m (x + 3) ^^^ m (x + 7) := oc_us
  have E58 : (oc_upd (oc_upd m 58 (m (x + 3))) 57 (m (x + 3) ^^^ m (x + 7))) 58 = m (x + 3) := by
    rw [oc_un (by omega), oc_us]
  generalize oc_upd (oc_upd m 58 (m (x + 3))) 57 (m (x + 3) ^^^ m (x + 7)) = m1 at R1 s1 hm1 E1 E57 E58
  have hm1' : ∀ i, m1 i < 256 := hm1
  obtain ⟨m2, a2, c2, R2, w2, f2⟩ := oc_negW (m := m1) (a := m (x + 3) ^^^ m (x + 7)) (c := c) (x := x) (r := q :: r) d46 rfl e131 eA hm1'
  have R02 := oc_tr R1 R2
  have hm2 : ∀ i, m2 i < 256 := (oc_ok_R GC R02 hs).1
  obtain ⟨m3, a3, c3, R3, w3, f3⟩ := oc_negW (m := m2) (a := a2) (c := c2) (x := x) (r := q :: r) d61 rfl e135 eB hm2
  have R03 := oc_tr R02 R3
  have hm3 : ∀ i, m3 i < 256 := (oc_ok_R GC R03 hs).1
  obtain ⟨m4, R4, w4, e4, f4⟩ := oc_lsW (m := m3) (a := a3) (c := c3) (x := x) (r := q :: r) d76 d81 d82
  have R04 := oc_tr R03 R4
  have s4 := oc_ok_R GC R04 hs
  have wA1 : oc_w m1 x = oc_w m x := oc_w_eq (fun i _ _ => E1 i (by omega))
  have wB1 : oc_w m1 (x + 4) = oc_w m (x + 4) := oc_w_eq (fun i _ _ => E1 i (by omega))
  rw [oc_neg_ab hm1' x, wA1] at w2
  have wB2 : oc_w m2 (x + 4) = oc_w m (x + 4) := by rw [oc_w_fr f2 (by omega), wB1]
  have w3' : oc_w m3 (x + 4) = oc_ab (oc_w m2 (x + 4)) := by
    rw [w3]
    exact oc_neg_ab hm2 (x + 4)
  rw [wB2] at w3'
  have wA4 : oc_w m4 x = oc_ab (oc_w m x) := by
    rw [oc_w_eq (m := m3) (fun i _ _ => f4 i (by omega)), oc_w_fr f3 (by omega), w2]
  have wB4 : oc_w m4 (x + 4) = oc_ab (oc_w m (x + 4)) := by
    rw [oc_w_eq (m := m3) (fun i _ _ => f4 i (by omega)), w3']
  have hb4 : oc_w m4 (x + 4) ≤ 2147483648 := by
    rw [wB4]
    exact oc_ab_le (oc_w_lt hm (x + 4))
  have hbl := oc_w_lt hm (x + 4)
  have hr4 : oc_w m4 52 < oc_w m4 (x + 4) := by
    rw [w4, wB4]
    unfold oc_ab
    split <;> omega
  obtain ⟨m5, a5, c5, Q, R5, hQ, hZ, hR, f5⟩ := oc_divL HC GC hx hx2 31 m4 32 c3 (by omega) s4 e4 hb4 hr4
  have s5 := oc_ok_R GC R5 s4
  rw [w4, Nat.mul_zero, Nat.add_zero] at hZ
  obtain ⟨u1, u2⟩ := oc_quo (oc_w_lt s5.1 x) hQ hZ hR
  rw [wA4, wB4] at u1 u2
  refine ⟨m5, a5, c5, oc_le (oc_tr R04 (oc_tr R5 (oc_RTS d120))) (by omega), u1, u2, ?_, ?_, ?_⟩
  · rw [f5 58 (by omega), f4 58 (by omega), f3 58 (by omega), f2 58 (by omega), E58]
  · rw [f5 57 (by omega), f4 57 (by omega), f3 57 (by omega), f2 57 (by omega), E57]
  · intro i hi
    rw [f5 i (by omega), f4 i (by omega), f3 i (by omega), f2 i (by omega), E1 i (by omega)]
end
end
section
/-! the operators of the octet machine, by naturals -/
def oc_sr : Nat → Nat → Nat
  | 0, w => w
  | n + 1, w => oc_sr n ((w + 4294967296 * (w / 2147483648)) / 2)
def oc_ap (o a b : Nat) : Nat :=
  if o = 0 then (a + b) % 4294967296
  else if o = 1 then (a + 4294967296 - b) % 4294967296
  else if o = 2 then a &&& b
  else if o = 3 then a ^^^ b
  else if o = 4 then a * b % 4294967296
  else if o = 5 then (if b = 0 then 4294967295 else if (a < 2147483648 ↔ b < 2147483648) then oc_ab a / oc_ab b else (4294967296 - oc_ab a / oc_ab b) % 4294967296)
  else if o = 6 then (if b = 0 then a else if a < 2147483648 then oc_ab a % oc_ab b else (4294967296 - oc_ab a % oc_ab b) % 4294967296)
  else if o = 7 then a * 2 ^ (b % 32) % 4294967296
  else if o = 8 then oc_sr (b % 32) a
  else if (a + 2147483648) % 4294967296 < (b + 2147483648) % 4294967296 then 1 else 0
theorem oc_ap0 (a b : Nat) : oc_ap 0 a b = (a + b) % 4294967296 := by
  unfold oc_ap
  rw [if_pos rfl]
theorem oc_ap1 (a b : Nat) : oc_ap 1 a b = (a + 4294967296 - b) % 4294967296 := by
  unfold oc_ap
  rw [if_neg (by decide), if_pos rfl]
theorem oc_ap2 (a b : Nat) : oc_ap 2 a b = a &&& b := by
  unfold oc_ap
  rw [if_neg (by decide), if_neg (by decide), if_pos rfl]
theorem oc_ap3 (a b : Nat) : oc_ap 3 a b = a ^^^ b := by
  unfold oc_ap
  rw [if_neg (by decide), if_neg (by decide), if_neg (by decide), if_pos rfl]
theorem oc_ap4 (a b : Nat) : oc_ap 4 a b = a * b % 4294967296 := by
  unfold oc_ap
  rw [if_neg (by decide), if_neg (by decide), if_neg (by decide), if_neg (by decide), if_pos rfl]
theorem oc_ap5 (a b : Nat) : oc_ap 5 a b = (if b = 0 then 4294967295 else if (a < 2147483648 ↔ b < 2147483648) then oc_ab a / oc_ab b else (4294967296 - oc_ab a / oc_ab b) % 4294967296) := by
  unfold oc_ap
  rw [if_neg (by decide), if_neg (by decide), if_neg (by decide), if_neg (by decide), if_neg (by decide), if_pos rfl]
theorem oc_ap6 (a b : Nat) : oc_ap 6 a b = (if b = 0 then a else if a < 2147483648 then oc_ab a % oc_ab b else (4294967296 - oc_ab a % oc_ab b) % 4294967296) := by
  unfold oc_ap
  rw [if_neg (by decide), if_neg (by decide), if_neg (by decide), if_neg (by decide), if_neg (by decide), if_neg (by decide), if_pos rfl]
theorem oc_ap7 (a b : Nat) : oc_ap 7 a b = a * 2 ^ (b % 32) % 4294967296 := by
  unfold oc_ap
  rw [if_neg (by decide), if_neg (by decide), if_neg (by decide), if_neg (by decide), if_neg (by decide), if_neg (by decide), if_neg (by decide), if_pos rfl]
theorem oc_ap8 (a b : Nat) : oc_ap 8 a b = oc_sr (b % 32) a := by
  unfold oc_ap
  rw [if_neg (by decide), if_neg (by decide), if_neg (by decide), if_neg (by decide), if_neg (by decide), if_neg (by decide), if_neg (by decide), if_neg (by decide), if_pos rfl]
theorem oc_ap9 (a b : Nat) : oc_ap 9 a b = (if (a + 2147483648) % 4294967296 < (b + 2147483648) % 4294967296 then 1 else 0) := by
  unfold oc_ap
  rw [if_neg (by decide), if_neg (by decide), if_neg (by decide), if_neg (by decide), if_neg (by decide), if_neg (by decide), if_neg (by decide), if_neg (by decide), if_neg (by decide)]
theorem oc_xtop {u v : Nat} (hu : u < 256) (hv : v < 256) : u ^^^ v < 128 ↔ (u < 128 ↔ v < 128) := by
  have h : (u ^^^ v) / 2 ^ 7 = u / 2 ^ 7 ^^^ v / 2 ^ 7 := Nat.xor_div_two_pow
  have h1 : u / 2 ^ 7 = 0 ∨ u / 2 ^ 7 = 1 := by omega
  have h2 : v / 2 ^ 7 = 0 ∨ v / 2 ^ 7 = 1 := by omega
  rcases h1 with h1 | h1 <;> rcases h2 with h2 | h2 <;> rw [h1, h2] at h
  · rw [show (0 : Nat) ^^^ 0 = 0 from rfl] at h; omega
  · rw [show (0 : Nat) ^^^ 1 = 1 from rfl] at h; omega
  · rw [show (1 : Nat) ^^^ 0 = 1 from rfl] at h; omega
  · rw [show (1 : Nat) ^^^ 1 = 0 from rfl] at h; omega
theorem oc_flipV : ∀ v, v < 256 → 128 ^^^ v = (v + 128) % 256 := by decide +kernel
section
variable {C : Nat → Nat × Nat} {x : Nat} {r : List Nat}
theorem oc_divR (HC : oc_at C 0 cd_HL) (GC : oc_good C) (hx : 32 ≤ x) (hx2 : x + 8 ≤ 52) {q : Nat} {m : Nat → Nat} {a c : Nat} (hs : oc_ok (m, a, c, x, 121, q :: r)) (hl : (q :: r).length < 4) :
    ∃ m' a' c', oc_R C 1260 (m, a, c, x, 121, q :: r) (m', a', c', x, q, r) ∧ oc_w m' x = oc_ap 5 (oc_w m x) (oc_w m (x + 4)) ∧ ∀ i, i < x → m' i = m i := by
  have d121 : oc_at C 121 (cd_test 132) := oc_at_sub HC 121 4 (by decide +kernel)
  have d125 : C 125 = (14, 132) := oc_in1 HC 125 (by decide +kernel)
  have d126 : oc_at C 126 (cd_fill 128 255) := oc_at_sub HC 126 5 (by decide +kernel)
  have d131 : C 131 = (19, 0) := oc_in1 HC 131 (by decide +kernel)
  have d132 : C 132 = (18, 42) := oc_in1 HC 132 (by decide +kernel)
  have d133 : oc_at C 133 (cd_neg 57 128 148) := oc_at_sub HC 133 15 (by decide +kernel)
  have d148 : C 148 = (19, 0) := oc_in1 HC 148 (by decide +kernel)
  have eA : oc_eaw 128 x x := oc_eaw_a (by omega)
  have eB : oc_eaw 132 x (x + 4) := oc_eaw_b (by omega)
  have hm : ∀ i, m i < 256 := hs.1
  obtain ⟨a1, R1, t1⟩ := oc_testW (m := m) (a := a) (c := c) (r := q :: r) d121 eB
  by_cases z : oc_w m (x + 4) = 0
  · obtain ⟨m2, R2, w2, f2⟩ := oc_fillW (m := m) (a := a1) (c := c) (r := q :: r) d126 eA
    refine ⟨m2, 255, c, oc_le (oc_tr R1 (oc_tr (oc_JNZf d125 (t1.mpr z)) (oc_tr R2 (oc_RTS d131)))) (by omega), ?_, fun i hi => f2 i (by omega)⟩
    rw [w2, z, oc_ap5, if_pos rfl]
  · have R2 := oc_tr R1 (oc_tr (oc_JNZt d125 (fun h => z (t1.mp h))) (oc_JSR d132 hl))
    have s2 := oc_ok_R GC R2 hs
    obtain ⟨m3, a3, c3, R3, w3, _, _, e57, f3⟩ := oc_divideR HC GC hx hx2 s2 z
    have R4 := oc_tr R2 R3
    have s4 := oc_ok_R GC R4 hs
    obtain ⟨m5, a5, c5, R5, w5, f5⟩ := oc_negW (m := m3) (a := a3) (c := c3) (x := x) (r := q :: r) d133 rfl (oc_ea_d (by omega)) eA s4.1
    refine ⟨m5, a5, c5, oc_le (oc_tr R4 (oc_tr R5 (oc_RTS d148))) (by omega), ?_, fun i hi => by rw [f5 i (by omega), f3 i hi]⟩
    have k1 := oc_xtop (hm (x + 3)) (hm (x + 7))
    have k2 := oc_top hm x
    have k3 := oc_top hm (x + 4)
    have k3' : m (x + 7) < 128 ↔ oc_w m (x + 4) < 2147483648 := k3
    rw [oc_ap5, w5, e57, w3, if_neg z]
    rw [k2, k3'] at k1
    by_cases y : (oc_w m x < 2147483648 ↔ oc_w m (x + 4) < 2147483648)
    · rw [if_pos y, if_pos (k1.mpr y)]
    · rw [if_neg y, if_neg (fun h => y (k1.mp h))]
theorem oc_remR (HC : oc_at C 0 cd_HL) (GC : oc_good C) (hx : 32 ≤ x) (hx2 : x + 8 ≤ 52) {q : Nat} {m : Nat → Nat} {a c : Nat} (hs : oc_ok (m, a, c, x, 149, q :: r)) (hl : (q :: r).length < 4) :
    ∃ m' a' c', oc_R C 1270 (m, a, c, x, 149, q :: r) (m', a', c', x, q, r) ∧ oc_w m' x = oc_ap 6 (oc_w m x) (oc_w m (x + 4)) ∧ ∀ i, i < x → m' i = m i := by
  have d149 : oc_at C 149 (cd_test 132) := oc_at_sub HC 149 4 (by decide +kernel)
  have d153 : C 153 = (14, 155) := oc_in1 HC 153 (by decide +kernel)
  have d154 : C 154 = (19, 0) := oc_in1 HC 154 (by decide +kernel)
  have d155 : C 155 = (18, 42) := oc_in1 HC 155 (by decide +kernel)
  have d156 : oc_at C 156 (cd_copy 52 128) := oc_at_sub HC 156 8 (by decide +kernel)
  have d164 : oc_at C 164 (cd_neg 58 128 179) := oc_at_sub HC 164 15 (by decide +kernel)
  have d179 : C 179 = (19, 0) := oc_in1 HC 179 (by decide +kernel)
  have eA : oc_eaw 128 x x := oc_eaw_a (by omega)
  have eB : oc_eaw 132 x (x + 4) := oc_eaw_b (by omega)
  have hm : ∀ i, m i < 256 := hs.1
  obtain ⟨a1, R1, t1⟩ := oc_testW (m := m) (a := a) (c := c) (r := q :: r) d149 eB
  by_cases z : oc_w m (x + 4) = 0
  · refine ⟨m, a1, c, oc_le (oc_tr R1 (oc_tr (oc_JNZf d153 (t1.mpr z)) (oc_RTS d154))) (by omega), ?_, fun i hi => rfl⟩
    rw [z, oc_ap6, if_pos rfl]
  · have R2 := oc_tr R1 (oc_tr (oc_JNZt d153 (fun h => z (t1.mp h))) (oc_JSR d155 hl))
    have s2 := oc_ok_R GC R2 hs
    obtain ⟨m3, a3, c3, R3, _, w3, e58, _, f3⟩ := oc_divideR HC GC hx hx2 s2 z
    have R4 := oc_tr R2 R3
    obtain ⟨m4, a4, R5, w4, f4⟩ := oc_copyW (m := m3) (a := a3) (c := c3) (x := x) (r := q :: r) d156 (oc_eaw_d (by omega)) eA (by omega)
    have R6 := oc_tr R4 R5
    have s6 := oc_ok_R GC R6 hs
    obtain ⟨m5, a5, c5, R7, w5, f5⟩ := oc_negW (m := m4) (a := a4) (c := c3) (x := x) (r := q :: r) d164 rfl (oc_ea_d (by omega)) eA s6.1
    refine ⟨m5, a5, c5, oc_le (oc_tr R6 (oc_tr R7 (oc_RTS d179))) (by omega), ?_, fun i hi => by rw [f5 i (by omega), f4 i (by omega), f3 i hi]⟩
    have k2 := oc_top hm x
    rw [oc_ap6, w5, f4 58 (by omega), e58, w4, w3, if_neg z]
    by_cases y : oc_w m x < 2147483648
    · rw [if_pos y, if_pos (k2.mpr y)]
    · rw [if_neg y, if_neg (fun h => y (k2.mp h))]
theorem oc_shlL (HC : oc_at C 0 cd_HL) (GC : oc_good C) (hx : 32 ≤ x) (hx2 : x + 8 ≤ 52) : ∀ (n : Nat) (m : Nat → Nat) (a c : Nat), n < 32 → oc_ok (m, a, c, x, 184, r) → m 56 = n + 1 →
    ∃ m' a' c', oc_R C (7 * (n + 1)) (m, a, c, x, 184, r) (m', a', c', x, 191, r) ∧ oc_w m' x = oc_w m x * 2 ^ (n + 1) % 4294967296 ∧ ∀ i, i < x → m' i = m i := by
  have c184 : C 184 = (11, 0) := oc_in1 HC 184 (by decide +kernel)
  have c185 : oc_at C 185 (cd_left 128) := oc_at_sub HC 185 4 (by decide +kernel)
  have c189 : C 189 = (10, 56) := oc_in1 HC 189 (by decide +kernel)
  have c190 : C 190 = (14, 184) := oc_in1 HC 190 (by decide +kernel)
  have one : ∀ (n : Nat) (m : Nat → Nat) (a c : Nat), n < 32 → oc_ok (m, a, c, x, 184, r) → m 56 = n + 1 → ∃ m' c', oc_R C 6 (m, a, c, x, 184, r) (m', n, c', x, 190, r) ∧ m' 56 = n ∧ oc_w m' x = 2 * oc_w m x % 4294967296 ∧ ∀ i, i < x → m' i = m i := by
    intro n m a c h32 hs hn
    have R0 := oc_CLC (m := m) (a := a) (c := c) (x := x) (r := r) c184
    obtain ⟨m1, R1, w1, f1⟩ := oc_leftW (m := m) (a := a) (c := 0) (x := x) (r := r) c185 (oc_eaw_a (by omega)) hs.1 (by omega)
    have e56 : m1 56 = n + 1 := by rw [f1 56 (by omega), hn]
    have R5 := oc_DEC (m := m1) (a := a) (c := (2 * oc_w m x + 0) / 4294967296) (x := x) (r := r) c189
    rw [oc_ea_d (by omega), e56, show (n + 1 + 255) % 256 = n by omega] at R5
    refine ⟨oc_upd m1 56 n, _, oc_tr R0 (oc_tr R1 R5), oc_us, ?_, ?_⟩
    · rw [oc_w_upd (by omega), w1, Nat.add_zero]
    · intro i hi
      rw [oc_un (by omega), f1 i (by omega)]
  intro n
  induction n with
  | zero =>
    intro m a c h32 hs hn
    obtain ⟨m1, c1, R1, e1, w1, f1⟩ := one 0 m a c h32 hs hn
    refine ⟨m1, 0, c1, oc_le (oc_tr R1 (oc_JNZf c190 rfl)) (by omega), ?_, f1⟩
    rw [w1, Nat.mul_comm, show 2 ^ (0 + 1) = 2 from rfl]
  | succ n ih =>
    intro m a c h32 hs hn
    obtain ⟨m1, c1, R1, e1, w1, f1⟩ := one (n + 1) m a c h32 hs hn
    have R2 := oc_tr R1 (oc_JNZt c190 (by omega))
    have s2 := oc_ok_R GC R2 hs
    obtain ⟨m3, a3, c3, R3, w3, f3⟩ := ih m1 (n + 1) c1 (by omega) s2 e1
    refine ⟨m3, a3, c3, oc_le (oc_tr R2 R3) (by omega), ?_, fun i hi => by rw [f3 i hi, f1 i hi]⟩
    rw [w3, w1, Nat.mod_mul_mod, show 2 ^ (n + 1 + 1) = 2 * 2 ^ (n + 1) from Nat.pow_succ'.trans rfl, Nat.mul_comm 2 (oc_w m x), Nat.mul_assoc]
theorem oc_shlR (HC : oc_at C 0 cd_HL) (GC : oc_good C) (hx : 32 ≤ x) (hx2 : x + 8 ≤ 52) {q : Nat} {m : Nat → Nat} {a c : Nat} (hs : oc_ok (m, a, c, x, 180, q :: r)) :
    ∃ m' a' c', oc_R C 300 (m, a, c, x, 180, q :: r) (m', a', c', x, q, r) ∧ oc_w m' x = oc_ap 7 (oc_w m x) (oc_w m (x + 4)) ∧ ∀ i, i < x → m' i = m i := by
  have d180 : C 180 = (0, 31) := oc_in1 HC 180 (by decide +kernel)
  have d181 : C 181 = (5, 132) := oc_in1 HC 181 (by decide +kernel)
  have d182 : C 182 = (2, 56) := oc_in1 HC 182 (by decide +kernel)
  have d183 : C 183 = (13, 191) := oc_in1 HC 183 (by decide +kernel)
  have d191 : C 191 = (19, 0) := oc_in1 HC 191 (by decide +kernel)
  have eB : oc_eaw 132 x (x + 4) := oc_eaw_b (by omega)
  have hm : ∀ i, m i < 256 := hs.1
  have R1 := oc_tr (oc_LDI (m := m) (a := a) (c := c) (x := x) (r := q :: r) d180) (oc_tr (oc_ANA d181) (oc_STA d182))
  have en : 31 &&& m (x + 4) = oc_w m (x + 4) % 32 := by
    rw [Nat.and_comm, show (31 : Nat) = 2 ^ 5 - 1 from rfl, Nat.and_two_pow_sub_one_eq_mod]
    unfold oc_w
    omega
  rw [eB.1, oc_ea_d (by omega), en] at R1
  have s1 := oc_ok_R GC R1 hs
  have wA : oc_w (oc_upd m 56 (oc_w m (x + 4) % 32)) x = oc_w m x := oc_w_upd (by omega)
  rw [oc_ap7]
  have hk : oc_w m (x + 4) % 32 < 32 := Nat.mod_lt _ (by decide)
  generalize oc_w m (x + 4) % 32 = k at R1 s1 wA hk ⊢
  cases k with
  | zero =>
    refine ⟨_, _, _, oc_le (oc_tr R1 (oc_tr (oc_JZt d183 rfl) (oc_RTS d191))) (by omega), ?_, fun i hi => oc_un (by omega)⟩
    rw [wA, Nat.pow_zero, Nat.mul_one, Nat.mod_eq_of_lt (oc_w_lt hm x)]
  | succ k =>
    have R2 := oc_tr R1 (oc_JZf d183 (by omega))
    have s2 := oc_ok_R GC R2 hs
    obtain ⟨m3, a3, c3, R3, w3, f3⟩ := oc_shlL HC GC hx hx2 k _ _ _ (by omega) s2 oc_us
    refine ⟨m3, a3, c3, oc_le (oc_tr R2 (oc_tr R3 (oc_RTS d191))) (by omega), ?_, fun i hi => by rw [f3 i hi, oc_un (by omega)]⟩
    rw [w3, wA]
theorem oc_shrL (HC : oc_at C 0 cd_HL) (GC : oc_good C) (hx : 32 ≤ x) (hx2 : x + 8 ≤ 52) : ∀ (n : Nat) (m : Nat → Nat) (a c : Nat), n < 32 → oc_ok (m, a, c, x, 196, r) → m 56 = n + 1 →
    ∃ m' a' c', oc_R C (9 * (n + 1)) (m, a, c, x, 196, r) (m', a', c', x, 205, r) ∧ oc_w m' x = oc_sr (n + 1) (oc_w m x) ∧ ∀ i, i < x → m' i = m i := by
  have c196 : C 196 = (1, 131) := oc_in1 HC 196 (by decide +kernel)
  have c197 : C 197 = (2, 58) := oc_in1 HC 197 (by decide +kernel)
  have c198 : C 198 = (8, 58) := oc_in1 HC 198 (by decide +kernel)
  have c199 : oc_at C 199 (cd_right 128) := oc_at_sub HC 199 4 (by decide +kernel)
  have c203 : C 203 = (10, 56) := oc_in1 HC 203 (by decide +kernel)
  have c204 : C 204 = (14, 196) := oc_in1 HC 204 (by decide +kernel)
  have eA : oc_eaw 128 x x := oc_eaw_a (by omega)
  have one : ∀ (n : Nat) (m : Nat → Nat) (a c : Nat), n < 32 → oc_ok (m, a, c, x, 196, r) → m 56 = n + 1 → ∃ m' c', oc_R C 8 (m, a, c, x, 196, r) (m', n, c', x, 204, r) ∧ m' 56 = n ∧ oc_w m' x = (oc_w m x + 4294967296 * (oc_w m x / 2147483648)) / 2 ∧ ∀ i, i < x → m' i = m i := by
    intro n m a c h32 hs hn
    have hm : ∀ i, m i < 256 := hs.1
    have hc2 : c < 2 := hs.2.2.1
    have R0 := oc_tr (oc_LDA (m := m) (a := a) (c := c) (x := x) (r := r) c196) (oc_tr (oc_STA c197) (oc_ROL c198))
    rw [eA.2.2.2, oc_ea_d (by omega), oc_us] at R0
    have h3 := hm (x + 3)
    have etop : (2 * m (x + 3) + c) / 256 = oc_w m x / 2147483648 := by
      have h0 := hm x
      have h1 := hm (x + 1)
      have h2 := hm (x + 2)
      unfold oc_w
      omega
    rw [etop] at R0
    have s0 := oc_ok_R GC R0 hs
    have F0 : ∀ i, i ≠ 58 → (oc_upd (oc_upd m 58 (m (x + 3))) 58 ((2 * m (x + 3) + c) % 256)) i = m i := by
      intro i hi
      rw [oc_un hi, oc_un hi]
    generalize oc_upd (oc_upd m 58 (m (x + 3))) 58 ((2 * m (x + 3) + c) % 256) = m0 at R0 s0 F0
    have wA0 : oc_w m0 x = oc_w m x := oc_w_eq (fun i _ _ => F0 i (by omega))
    obtain ⟨m1, R1, w1, f1⟩ := oc_rightW (m := m0) (a := m (x + 3)) (c := oc_w m x / 2147483648) (r := r) c199 eA s0.1 s0.2.2.1
    have e56 : m1 56 = n + 1 := by rw [f1 56 (by omega), F0 56 (by omega), hn]
    have R5 := oc_DEC (m := m1) (a := m (x + 3)) (c := oc_w m0 x % 2) (x := x) (r := r) c203
    rw [oc_ea_d (by omega), e56, show (n + 1 + 255) % 256 = n by omega] at R5
    refine ⟨oc_upd m1 56 n, _, oc_tr R0 (oc_tr R1 R5), oc_us, ?_, ?_⟩
    · rw [oc_w_upd (by omega), w1, wA0]
    · intro i hi
      rw [oc_un (by omega), f1 i (by omega), F0 i (by omega)]
  intro n
  induction n with
  | zero =>
    intro m a c h32 hs hn
    obtain ⟨m1, c1, R1, e1, w1, f1⟩ := one 0 m a c h32 hs hn
    exact ⟨m1, 0, c1, oc_le (oc_tr R1 (oc_JNZf c204 rfl)) (by omega), w1, f1⟩
  | succ n ih =>
    intro m a c h32 hs hn
    obtain ⟨m1, c1, R1, e1, w1, f1⟩ := one (n + 1) m a c h32 hs hn
    have R2 := oc_tr R1 (oc_JNZt c204 (by omega))
    have s2 := oc_ok_R GC R2 hs
    obtain ⟨m3, a3, c3, R3, w3, f3⟩ := ih m1 (n + 1) c1 (by omega) s2 e1
    refine ⟨m3, a3, c3, oc_le (oc_tr R2 R3) (by omega), ?_, fun i hi => by rw [f3 i hi, f1 i hi]⟩
    rw [w3, w1]
    rfl
theorem oc_shrR (HC : oc_at C 0 cd_HL) (GC : oc_good C) (hx : 32 ≤ x) (hx2 : x + 8 ≤ 52) {q : Nat} {m : Nat → Nat} {a c : Nat} (hs : oc_ok (m, a, c, x, 192, q :: r)) :
    ∃ m' a' c', oc_R C 300 (m, a, c, x, 192, q :: r) (m', a', c', x, q, r) ∧ oc_w m' x = oc_ap 8 (oc_w m x) (oc_w m (x + 4)) ∧ ∀ i, i < x → m' i = m i := by
  have d192 : C 192 = (0, 31) := oc_in1 HC 192 (by decide +kernel)
  have d193 : C 193 = (5, 132) := oc_in1 HC 193 (by decide +kernel)
  have d194 : C 194 = (2, 56) := oc_in1 HC 194 (by decide +kernel)
  have d195 : C 195 = (13, 205) := oc_in1 HC 195 (by decide +kernel)
  have d205 : C 205 = (19, 0) := oc_in1 HC 205 (by decide +kernel)
  have eB : oc_eaw 132 x (x + 4) := oc_eaw_b (by omega)
  have hm : ∀ i, m i < 256 := hs.1
  have R1 := oc_tr (oc_LDI (m := m) (a := a) (c := c) (x := x) (r := q :: r) d192) (oc_tr (oc_ANA d193) (oc_STA d194))
  have en : 31 &&& m (x + 4) = oc_w m (x + 4) % 32 := by
    rw [Nat.and_comm, show (31 : Nat) = 2 ^ 5 - 1 from rfl, Nat.and_two_pow_sub_one_eq_mod]
    unfold oc_w
    omega
  rw [eB.1, oc_ea_d (by omega), en] at R1
  have s1 := oc_ok_R GC R1 hs
  have wA : oc_w (oc_upd m 56 (oc_w m (x + 4) % 32)) x = oc_w m x := oc_w_upd (by omega)
  rw [oc_ap8]
  have hk : oc_w m (x + 4) % 32 < 32 := Nat.mod_lt _ (by decide)
  generalize oc_w m (x + 4) % 32 = k at R1 s1 wA hk ⊢
  cases k with
  | zero =>
    refine ⟨_, _, _, oc_le (oc_tr R1 (oc_tr (oc_JZt d195 rfl) (oc_RTS d205))) (by omega), wA, fun i hi => oc_un (by omega)⟩
  | succ k =>
    have R2 := oc_tr R1 (oc_JZf d195 (by omega))
    have s2 := oc_ok_R GC R2 hs
    obtain ⟨m3, a3, c3, R3, w3, f3⟩ := oc_shrL HC GC hx hx2 k _ _ _ (by omega) s2 oc_us
    refine ⟨m3, a3, c3, oc_le (oc_tr R2 (oc_tr R3 (oc_RTS d205))) (by omega), ?_, fun i hi => by rw [f3 i hi, oc_un (by omega)]⟩
    rw [w3, wA]
/-- signed comparison in line -/
theorem oc_lessW (GC : oc_good C) {p A : Nat} (hc : oc_at C p (cd_less A (A + 4))) (hA : A + 8 < 128) {m : Nat → Nat} {a c : Nat} (hs : oc_ok (m, a, c, x, p, r)) :
    ∃ m' a' c', oc_R C 21 (m, a, c, x, p, r) (m', a', c', x, p + 21, r) ∧ oc_w m' A = oc_ap 9 (oc_w m A) (oc_w m (A + 4)) ∧ ∀ i, i < A → m' i = m i := by
  obtain ⟨h1, hc⟩ := oc_at_app hc
  obtain ⟨h2, hc⟩ := oc_at_app hc
  obtain ⟨h3, hc⟩ := oc_at_app hc
  obtain ⟨h4, hc⟩ := oc_at_app hc
  have hm : ∀ i, m i < 256 := hs.1
  obtain ⟨a1, R1⟩ := oc_flipO (m := m) (a := a) (c := c) (x := x) (r := r) h1 (oc_ea_d (by omega))
  have h2' : oc_at C (p + 3) (cd_flip (A + 4 + 3)) := h2
  obtain ⟨a2, R2⟩ := oc_flipO (m := oc_upd m (A + 3) (128 ^^^ m (A + 3))) (a := a1) (c := c) (x := x) (r := r) h2' (oc_ea_d (by omega))
  have R12 := oc_tr R1 R2
  rw [oc_un (by omega), oc_flipV _ (hm _), oc_flipV _ (hm _)] at R12
  have s2 := oc_ok_R GC R12 hs
  have wA : oc_w (oc_upd (oc_upd m (A + 3) ((m (A + 3) + 128) % 256)) (A + 4 + 3) ((m (A + 4 + 3) + 128) % 256)) A = (oc_w m A + 2147483648) % 4294967296 := by
    unfold oc_w
    simp (disch := omega) only [oc_un, oc_us]
    have q0 := hm A
    have q1 := hm (A + 1)
    have q2 := hm (A + 2)
    have q3 := hm (A + 3)
    omega
  have wB : oc_w (oc_upd (oc_upd m (A + 3) ((m (A + 3) + 128) % 256)) (A + 4 + 3) ((m (A + 4 + 3) + 128) % 256)) (A + 4) = (oc_w m (A + 4) + 2147483648) % 4294967296 := by
    unfold oc_w
    simp (disch := omega) only [oc_un, oc_us]
    have q0 := hm (A + 4)
    have q1 := hm (A + 4 + 1)
    have q2 := hm (A + 4 + 2)
    have q3 := hm (A + 4 + 3)
    omega
  have F : ∀ i, i < A → (oc_upd (oc_upd m (A + 3) ((m (A + 3) + 128) % 256)) (A + 4 + 3) ((m (A + 4 + 3) + 128) % 256)) i = m i := by
    intro i hi
    simp (disch := omega) only [oc_un]
  generalize oc_upd (oc_upd m (A + 3) ((m (A + 3) + 128) % 256)) (A + 4 + 3) ((m (A + 4 + 3) + 128) % 256) = m2 at R12 s2 wA wB F
  have h3' : oc_at C (p + 6) (cd_cmp A (A + 4)) := h3
  obtain ⟨a3, c3, R3, k3, l3⟩ := oc_cmpW (m := m2) (a := a2) (c := c) (x := x) (r := r) h3' (oc_eaw_d (by omega)) (oc_eaw_d (by omega)) s2.1
  have h4' : oc_at C (p + 15) (cd_fill A 0) := h4
  obtain ⟨m4, R4, w4, f4⟩ := oc_fillW (m := m2) (a := a3) (c := c3) (x := x) (r := r) h4' (oc_eaw_d (by omega))
  have h5 : C (p + 20) = (8, A) := hc.1
  have R5 := oc_ROL (m := m4) (a := 0) (c := c3) (x := x) (r := r) h5
  rw [oc_ea_d (by omega)] at R5
  have z4 : m4 A = 0 ∧ m4 (A + 1) = 0 ∧ m4 (A + 2) = 0 ∧ m4 (A + 3) = 0 := by
    unfold oc_w at w4
    omega
  rw [z4.1] at R5
  have v5 : (2 * 0 + c3) % 256 = c3 := by omega
  rw [v5] at R5
  refine ⟨_, _, _, oc_tr R12 (oc_tr R3 (oc_tr R4 R5)), ?_, ?_⟩
  · rw [oc_ap9]
    have e : oc_w (oc_upd m4 A c3) A = c3 := by
      unfold oc_w
      rw [oc_us]
      simp (disch := omega) only [oc_un]
      rw [z4.2.1, z4.2.2.1, z4.2.2.2]
      omega
    rw [e]
    rw [wA, wB] at k3
    by_cases y : (oc_w m A + 2147483648) % 4294967296 < (oc_w m (A + 4) + 2147483648) % 4294967296
    · rw [if_pos y]
      exact k3.mpr y
    · rw [if_neg y]
      have : ¬ c3 = 1 := fun h => y (k3.mp h)
      omega
  · intro i hi
    rw [oc_un (by omega), f4 i (by omega), F i hi]
end
end
section
/-! an operator's code, and what it does -/
def cd_ha (o : Nat) : Nat := if o = 4 then 0 else if o = 5 then 121 else if o = 6 then 149 else if o = 7 then 180 else 192
def cd_op (o a b : Nat) : List (Nat × Nat) :=
  if o = 0 then cd_chain 3 a b else if o = 1 then cd_chain 4 a b else if o = 2 then cd_chain 5 a b else if o = 3 then cd_chain 6 a b else if o = 9 then cd_less a b else [(12, a), (18, cd_ha o)]
theorem oc_opW {C : Nat → Nat × Nat} (HC : oc_at C 0 cd_HL) (GC : oc_good C) {o p A : Nat} (ho : o < 10) (hA : 32 ≤ A) (hA2 : A + 8 ≤ 52) (hc : oc_at C p (cd_op o A (A + 4))) {x : Nat} {r : List Nat} {m : Nat → Nat} {a c : Nat} (hs : oc_ok (m, a, c, x, p, r)) (hl : r.length < 3) :
    ∃ m' a' c' x', oc_R C 1300 (m, a, c, x, p, r) (m', a', c', x', p + (cd_op o A (A + 4)).length, r) ∧ oc_w m' A = oc_ap o (oc_w m A) (oc_w m (A + 4)) ∧ ∀ i, i < A → m' i = m i := by
  have hm : ∀ i, m i < 256 := hs.1
  have eA : oc_eaw A x A := oc_eaw_d (by omega)
  have eB : oc_eaw (A + 4) x (A + 4) := oc_eaw_d (by omega)
  have hlen : (((p + 1 + 1) :: r).length) < 4 := by rw [List.length_cons]; omega
  have call : ∀ g, cd_op o A (A + 4) = [(12, A), (18, g)] → oc_R C 2 (m, a, c, x, p, r) (m, a, c, A, g, (p + 1 + 1) :: r) := by
    intro g e
    rw [e] at hc
    exact oc_tr (oc_LDX hc.1) (oc_JSR hc.2.1 (by omega))
  match o, ho, hc, call with
  | 0, _, hc, _ =>
    obtain ⟨m1, a1, c1, R1, w1, f1⟩ := oc_addW (m := m) (a := a) (c := c) (r := r) hc eA eB (by omega) hm
    rw [oc_ap0]
    exact ⟨m1, a1, c1, x, oc_le R1 (by omega), w1, fun i hi => f1 i (by omega)⟩
  | 1, _, hc, _ =>
    obtain ⟨m1, a1, c1, R1, w1, f1⟩ := oc_subW (m := m) (a := a) (c := c) (r := r) hc eA eB (by omega) hm
    rw [oc_ap1]
    exact ⟨m1, a1, c1, x, oc_le R1 (by omega), w1, fun i hi => f1 i (by omega)⟩
  | 2, _, hc, _ =>
    obtain ⟨m1, a1, c1, R1, w1, f1⟩ := oc_andW (m := m) (a := a) (c := c) (r := r) hc eA eB (by omega) hm
    rw [oc_ap2]
    exact ⟨m1, a1, c1, x, oc_le R1 (by omega), w1, fun i hi => f1 i (by omega)⟩
  | 3, _, hc, _ =>
    obtain ⟨m1, a1, c1, R1, w1, f1⟩ := oc_xorW (m := m) (a := a) (c := c) (r := r) hc eA eB (by omega) hm
    rw [oc_ap3]
    exact ⟨m1, a1, c1, x, oc_le R1 (by omega), w1, fun i hi => f1 i (by omega)⟩
  | 4, _, hc, call =>
    have R0 := call 0 rfl
    have s0 := oc_ok_R GC R0 hs
    obtain ⟨m1, a1, c1, R1, w1, f1⟩ := oc_mulR HC GC hA hA2 s0
    rw [oc_ap4]
    exact ⟨m1, a1, c1, A, oc_le (oc_tr R0 R1) (by omega), w1, f1⟩
  | 5, _, hc, call =>
    have R0 := call 121 rfl
    have s0 := oc_ok_R GC R0 hs
    obtain ⟨m1, a1, c1, R1, w1, f1⟩ := oc_divR HC GC hA hA2 s0 hlen
    exact ⟨m1, a1, c1, A, oc_le (oc_tr R0 R1) (by omega), w1, f1⟩
  | 6, _, hc, call =>
    have R0 := call 149 rfl
    have s0 := oc_ok_R GC R0 hs
    obtain ⟨m1, a1, c1, R1, w1, f1⟩ := oc_remR HC GC hA hA2 s0 hlen
    exact ⟨m1, a1, c1, A, oc_le (oc_tr R0 R1) (by omega), w1, f1⟩
  | 7, _, hc, call =>
    have R0 := call 180 rfl
    have s0 := oc_ok_R GC R0 hs
    obtain ⟨m1, a1, c1, R1, w1, f1⟩ := oc_shlR HC GC hA hA2 s0
    exact ⟨m1, a1, c1, A, oc_le (oc_tr R0 R1) (by omega), w1, f1⟩
  | 8, _, hc, call =>
    have R0 := call 192 rfl
    have s0 := oc_ok_R GC R0 hs
    obtain ⟨m1, a1, c1, R1, w1, f1⟩ := oc_shrR HC GC hA hA2 s0
    exact ⟨m1, a1, c1, A, oc_le (oc_tr R0 R1) (by omega), w1, f1⟩
  | 9, _, hc, _ =>
    obtain ⟨m1, a1, c1, R1, w1, f1⟩ := oc_lessW GC hc (by omega) hs
    exact ⟨m1, a1, c1, x, oc_le R1 (by omega), w1, f1⟩
  | n + 10, h, _, _ => exact absurd h (by omega)
/-! the same operators over ints -/
def pu_U (x : Int32) : Nat := x.toBitVec.toNat
theorem pu_U_lt (x : Int32) : pu_U x < 4294967296 := x.toBitVec.isLt
theorem pu_U_inj {x y : Int32} (h : pu_U x = pu_U y) : x = y := Int32.toBitVec_inj.mp (BitVec.eq_of_toNat_eq h)
theorem pu_U_nI {n : Nat} (h : n < 4294967296) : pu_U (nI n) = n := pk_tn h
theorem pu_of (x : Int32) : x = nI (pu_U x) := pu_U_inj (pu_U_nI (pu_U_lt x)).symm
def pu_ap (o : Nat) (a b : Int32) : Int32 :=
  if o = 0 then a + b
  else if o = 1 then a - b
  else if o = 2 then a &&& b
  else if o = 3 then a ^^^ b
  else if o = 4 then a * b
  else if o = 5 then (if b = 0 then -1 else a / b)
  else if o = 6 then (if b = 0 then a else a - a / b * b)
  else if o = 7 then a <<< ((b &&& 31) &&& 31)
  else if o = 8 then a >>> ((b &&& 31) &&& 31)
  else if b ≤ a then 0 else 1
theorem pu_ap0 (a b : Int32) : pu_ap 0 a b = a + b := by
  unfold pu_ap
  rw [if_pos rfl]
theorem pu_ap1 (a b : Int32) : pu_ap 1 a b = a - b := by
  unfold pu_ap
  rw [if_neg (by decide), if_pos rfl]
theorem pu_ap2 (a b : Int32) : pu_ap 2 a b = a &&& b := by
  unfold pu_ap
  rw [if_neg (by decide), if_neg (by decide), if_pos rfl]
theorem pu_ap3 (a b : Int32) : pu_ap 3 a b = a ^^^ b := by
  unfold pu_ap
  rw [if_neg (by decide), if_neg (by decide), if_neg (by decide), if_pos rfl]
theorem pu_ap4 (a b : Int32) : pu_ap 4 a b = a * b := by
  unfold pu_ap
  rw [if_neg (by decide), if_neg (by decide), if_neg (by decide), if_neg (by decide), if_pos rfl]
theorem pu_ap5 (a b : Int32) : pu_ap 5 a b = (if b = 0 then -1 else a / b) := by
  unfold pu_ap
  rw [if_neg (by decide), if_neg (by decide), if_neg (by decide), if_neg (by decide), if_neg (by decide), if_pos rfl]
theorem pu_ap6 (a b : Int32) : pu_ap 6 a b = (if b = 0 then a else a - a / b * b) := by
  unfold pu_ap
  rw [if_neg (by decide), if_neg (by decide), if_neg (by decide), if_neg (by decide), if_neg (by decide), if_neg (by decide), if_pos rfl]
theorem pu_ap7 (a b : Int32) : pu_ap 7 a b = a <<< ((b &&& 31) &&& 31) := by
  unfold pu_ap
  rw [if_neg (by decide), if_neg (by decide), if_neg (by decide), if_neg (by decide), if_neg (by decide), if_neg (by decide), if_neg (by decide), if_pos rfl]
theorem pu_ap8 (a b : Int32) : pu_ap 8 a b = a >>> ((b &&& 31) &&& 31) := by
  unfold pu_ap
  rw [if_neg (by decide), if_neg (by decide), if_neg (by decide), if_neg (by decide), if_neg (by decide), if_neg (by decide), if_neg (by decide), if_neg (by decide), if_pos rfl]
theorem pu_ap9 (a b : Int32) : pu_ap 9 a b = (if b ≤ a then 0 else 1) := by
  unfold pu_ap
  rw [if_neg (by decide), if_neg (by decide), if_neg (by decide), if_neg (by decide), if_neg (by decide), if_neg (by decide), if_neg (by decide), if_neg (by decide), if_neg (by decide)]
theorem pu_U0 {b : Int32} : b = 0 ↔ pu_U b = 0 := ⟨fun h => by rw [h]; rfl, fun h => pu_U_inj h⟩
theorem pu_add (a b : Int32) : pu_U (a + b) = (pu_U a + pu_U b) % 4294967296 := BitVec.toNat_add a.toBitVec b.toBitVec
theorem pu_sub (a b : Int32) : pu_U (a - b) = (pu_U a + 4294967296 - pu_U b) % 4294967296 := by
  have h : pu_U (a - b) = (2 ^ 32 - pu_U b + pu_U a) % 2 ^ 32 := BitVec.toNat_sub a.toBitVec b.toBitVec
  have hb := pu_U_lt b
  rw [h]
  omega
theorem pu_mul (a b : Int32) : pu_U (a * b) = pu_U a * pu_U b % 4294967296 := BitVec.toNat_mul a.toBitVec b.toBitVec
theorem pu_neg (a : Int32) : pu_U (-a) = (4294967296 - pu_U a) % 4294967296 := BitVec.toNat_neg a.toBitVec
theorem pu_msb (a : Int32) : a.toBitVec.msb = decide (2147483648 ≤ pu_U a) := BitVec.msb_eq_decide a.toBitVec
theorem pu_div (a b : Int32) : pu_U (a / b) = if (pu_U a < 2147483648 ↔ pu_U b < 2147483648) then oc_ab (pu_U a) / oc_ab (pu_U b) else (4294967296 - oc_ab (pu_U a) / oc_ab (pu_U b)) % 4294967296 := by
  have h : (a / b).toBitVec = a.toBitVec.sdiv b.toBitVec := Int32.toBitVec_div
  have ha := pu_U_lt a
  have hb := pu_U_lt b
  have na : (-a.toBitVec).toNat = (4294967296 - pu_U a) % 4294967296 := BitVec.toNat_neg a.toBitVec
  have nb : (-b.toBitVec).toNat = (4294967296 - pu_U b) % 4294967296 := BitVec.toNat_neg b.toBitVec
  have ua : a.toBitVec.toNat = pu_U a := rfl
  have ub : b.toBitVec.toNat = pu_U b := rfl
  have hneg : ∀ v : BitVec 32, (-v).toNat = (4294967296 - v.toNat) % 4294967296 := fun v => BitVec.toNat_neg v
  have hdiv : ∀ v w : BitVec 32, (v.udiv w).toNat = v.toNat / w.toNat := fun v w => BitVec.toNat_udiv
  show (a / b).toBitVec.toNat = _
  rw [h, BitVec.sdiv_eq]
  by_cases ka : pu_U a < 2147483648 <;> by_cases kb : pu_U b < 2147483648
  · have ma : a.toBitVec.msb = false := by rw [pu_msb]; exact decide_eq_false (by omega)
    have mb : b.toBitVec.msb = false := by rw [pu_msb]; exact decide_eq_false (by omega)
    rw [ma, mb]
    rw [if_pos ⟨fun _ => kb, fun _ => ka⟩]
    show (a.toBitVec.udiv b.toBitVec).toNat = _
    rw [hdiv, ua, ub, oc_ab, oc_ab, if_pos ka, if_pos kb]
  · have ma : a.toBitVec.msb = false := by rw [pu_msb]; exact decide_eq_false (by omega)
    have mb : b.toBitVec.msb = true := by rw [pu_msb]; exact decide_eq_true (by omega)
    rw [ma, mb]
    rw [if_neg (fun z => kb (z.mp ka))]
    show (-(a.toBitVec.udiv (-b.toBitVec))).toNat = _
    rw [hneg, hdiv, nb, ua, oc_ab, oc_ab, if_pos ka, if_neg kb, Nat.mod_eq_of_lt (by omega : 4294967296 - pu_U b < 4294967296)]
  · have ma : a.toBitVec.msb = true := by rw [pu_msb]; exact decide_eq_true (by omega)
    have mb : b.toBitVec.msb = false := by rw [pu_msb]; exact decide_eq_false (by omega)
    rw [ma, mb]
    rw [if_neg (fun z => ka (z.mpr kb))]
    show (-((-a.toBitVec).udiv b.toBitVec)).toNat = _
    rw [hneg, hdiv, na, ub, oc_ab, oc_ab, if_neg ka, if_pos kb, Nat.mod_eq_of_lt (by omega : 4294967296 - pu_U a < 4294967296)]
  · have ma : a.toBitVec.msb = true := by rw [pu_msb]; exact decide_eq_true (by omega)
    have mb : b.toBitVec.msb = true := by rw [pu_msb]; exact decide_eq_true (by omega)
    rw [ma, mb]
    rw [if_pos ⟨fun z => absurd z ka, fun z => absurd z kb⟩]
    show ((-a.toBitVec).udiv (-b.toBitVec)).toNat = _
    rw [hdiv, na, nb, oc_ab, oc_ab, if_neg ka, if_neg kb, Nat.mod_eq_of_lt (by omega : 4294967296 - pu_U a < 4294967296), Nat.mod_eq_of_lt (by omega : 4294967296 - pu_U b < 4294967296)]
theorem pu_rem (a b : Int32) (hb0 : pu_U b ≠ 0) : pu_U (a - a / b * b) = if pu_U a < 2147483648 then oc_ab (pu_U a) % oc_ab (pu_U b) else (4294967296 - oc_ab (pu_U a) % oc_ab (pu_U b)) % 4294967296 := by
  have ha := pu_U_lt a
  have hb := pu_U_lt b
  have key : ∀ x : Int32, pu_U x < 2147483648 → x = nI (oc_ab (pu_U x)) := by
    intro x hx
    rw [oc_ab, if_pos hx]
    exact pu_of x
  have keyn : ∀ x : Int32, ¬ pu_U x < 2147483648 → x = -nI (oc_ab (pu_U x)) := by
    intro x hx
    have hl := pu_U_lt x
    apply pu_U_inj
    rw [pu_neg, pu_U_nI (by rw [oc_ab, if_neg hx]; omega), oc_ab, if_neg hx]
    omega
  have hd := pu_div a b
  have hpos : 0 < oc_ab (pu_U b) := by
    unfold oc_ab
    split <;> omega
  have hql : oc_ab (pu_U a) / oc_ab (pu_U b) < 4294967296 := Nat.lt_of_le_of_lt (Nat.div_le_self _ _) (Nat.lt_of_le_of_lt (oc_ab_le ha) (by decide))
  have hA : oc_ab (pu_U a) = oc_ab (pu_U b) * (oc_ab (pu_U a) / oc_ab (pu_U b)) + oc_ab (pu_U a) % oc_ab (pu_U b) := (Nat.div_add_mod _ _).symm
  have hrl : oc_ab (pu_U a) % oc_ab (pu_U b) < 4294967296 := Nat.lt_of_le_of_lt (Nat.mod_le _ _) (Nat.lt_of_le_of_lt (oc_ab_le ha) (by decide))
  have eA : nI (oc_ab (pu_U a)) = nI (oc_ab (pu_U b)) * nI (oc_ab (pu_U a) / oc_ab (pu_U b)) + nI (oc_ab (pu_U a) % oc_ab (pu_U b)) := by
    rw [pk_mul, nI_add, ← hA]
  have hdq : a / b = if (pu_U a < 2147483648 ↔ pu_U b < 2147483648) then nI (oc_ab (pu_U a) / oc_ab (pu_U b)) else -nI (oc_ab (pu_U a) / oc_ab (pu_U b)) := by
    apply pu_U_inj
    rw [hd]
    split
    · rw [pu_U_nI hql]
    · rw [pu_neg, pu_U_nI hql]
  rw [hdq]
  generalize hqq : oc_ab (pu_U a) / oc_ab (pu_U b) = q at eA
  generalize hrr : oc_ab (pu_U a) % oc_ab (pu_U b) = ρ at eA hrl
  by_cases ka : pu_U a < 2147483648 <;> by_cases kb : pu_U b < 2147483648
  · have ea := key a ka
    have eb := key b kb
    rw [if_pos ⟨fun _ => kb, fun _ => ka⟩, if_pos ka]
    have : a - nI q * b = nI ρ := by
      generalize nI (oc_ab (pu_U a)) = va at ea eA
      generalize nI (oc_ab (pu_U b)) = vb at eb eA
      rw [ea, eb, eA]
      grind
    rw [this, pu_U_nI hrl]
  · have ea := key a ka
    have eb := keyn b kb
    rw [if_neg (fun z => kb (z.mp ka)), if_pos ka]
    have : a - -nI q * b = nI ρ := by
      generalize nI (oc_ab (pu_U a)) = va at ea eA
      generalize nI (oc_ab (pu_U b)) = vb at eb eA
      rw [ea, eb, eA]
      grind
    rw [this, pu_U_nI hrl]
  · have ea := keyn a ka
    have eb := key b kb
    rw [if_neg (fun z => ka (z.mpr kb)), if_neg ka]
    have : a - -nI q * b = -nI ρ := by
      generalize nI (oc_ab (pu_U a)) = va at ea eA
      generalize nI (oc_ab (pu_U b)) = vb at eb eA
      rw [ea, eb, eA]
      grind
    rw [this, pu_neg, pu_U_nI hrl]
  · have ea := keyn a ka
    have eb := keyn b kb
    rw [if_pos ⟨fun z => absurd z ka, fun z => absurd z kb⟩, if_neg ka]
    have : a - nI q * b = -nI ρ := by
      generalize nI (oc_ab (pu_U a)) = va at ea eA
      generalize nI (oc_ab (pu_U b)) = vb at eb eA
      rw [ea, eb, eA]
      grind
    rw [this, pu_neg, pu_U_nI hrl]
def pu_tI (w : Nat) : Int := if w < 2147483648 then (w : Int) else (w : Int) - 4294967296
theorem pu_toInt (x : Int32) : x.toInt = pu_tI (pu_U x) := by
  have h : x.toInt = if 2 * pu_U x < 2 ^ 32 then (pu_U x : Int) else (pu_U x : Int) - (2 ^ 32 : Nat) := BitVec.toInt_eq_toNat_cond x.toBitVec
  rw [h, pu_tI]
  split <;> split <;> omega
theorem pu_tI_inj {v w : Nat} (hv : v < 4294967296) (hw : w < 4294967296) (h : pu_tI v = pu_tI w) : v = w := by
  unfold pu_tI at h
  split at h <;> split at h <;> omega
theorem pu_sr : ∀ (n w : Nat), w < 4294967296 → oc_sr n w < 4294967296 ∧ pu_tI (oc_sr n w) = pu_tI w >>> n := by
  intro n
  induction n with
  | zero => intro w h; exact ⟨h, (Int.shiftRight_zero _).symm⟩
  | succ n ih =>
    intro w h
    have hl : (w + 4294967296 * (w / 2147483648)) / 2 < 4294967296 := by omega
    obtain ⟨i1, i2⟩ := ih _ hl
    refine ⟨i1, ?_⟩
    show pu_tI (oc_sr n ((w + 4294967296 * (w / 2147483648)) / 2)) = _
    rw [i2, Nat.add_comm n 1, Int.shiftRight_add]
    congr 1
    rw [Int.shiftRight_eq_div_pow]
    show _ = pu_tI w / 2
    unfold pu_tI
    split <;> split <;> omega
theorem pu_apU {o : Nat} (ho : o < 10) (a b : Int32) : pu_U (pu_ap o a b) = oc_ap o (pu_U a) (pu_U b) := by
  have hs : (b &&& 31) = nI (pu_U b % 32) := pk_and b 5 (by decide)
  have hk : pu_U b % 32 < 32 := Nat.mod_lt _ (by decide)
  match o, ho with
  | 0, _ => rw [pu_ap0, oc_ap0]; exact pu_add a b
  | 1, _ => rw [pu_ap1, oc_ap1]; exact pu_sub a b
  | 2, _ => rw [pu_ap2, oc_ap2]; exact BitVec.toNat_and a.toBitVec b.toBitVec
  | 3, _ => rw [pu_ap3, oc_ap3]; exact BitVec.toNat_xor a.toBitVec b.toBitVec
  | 4, _ => rw [pu_ap4, oc_ap4]; exact pu_mul a b
  | 5, _ =>
    rw [pu_ap5, oc_ap5]
    by_cases z : b = 0
    · rw [if_pos z, if_pos (pu_U0.mp z)]; decide
    · rw [if_neg z, if_neg (fun h => z (pu_U0.mpr h)), pu_div]
  | 6, _ =>
    rw [pu_ap6, oc_ap6]
    by_cases z : b = 0
    · rw [if_pos z, if_pos (pu_U0.mp z)]
    · rw [if_neg z, if_neg (fun h => z (pu_U0.mpr h)), pu_rem a b (fun h => z (pu_U0.mpr h))]
  | 7, _ =>
    rw [pu_ap7, oc_ap7]
    rw [hs]
    exact pk_shl a _ _ (s_l _ hk)
  | 8, _ =>
    rw [pu_ap8, oc_ap8]
    rw [hs]
    have h := pk_shr a _ _ (s_l _ hk)
    obtain ⟨i1, i2⟩ := pu_sr (pu_U b % 32) (pu_U a) (pu_U_lt a)
    rw [pu_toInt, pu_toInt, ← i2] at h
    exact pu_tI_inj (pu_U_lt _) i1 h
  | 9, _ =>
    rw [pu_ap9, oc_ap9]
    have ha := pu_U_lt a
    have hb := pu_U_lt b
    have h : b ≤ a ↔ ¬ ((pu_U a + 2147483648) % 4294967296 < (pu_U b + 2147483648) % 4294967296) := by
      rw [Int32.le_iff_toInt_le, pu_toInt, pu_toInt]
      unfold pu_tI
      split <;> split <;> omega
    by_cases z : b ≤ a
    · rw [if_pos z, if_neg (h.mp z)]; rfl
    · rw [if_neg z, if_pos (Classical.not_not.mp (fun k => z (h.mpr k)))]; rfl
  | n + 10, h => exact absurd h (by omega)
end
section
/-! the source text: depth, operands, start of the statement, blocks before token i -/
def pu_nx (k i : Nat) (q : Nat × Nat × Nat × Nat) : Nat × Nat × Nat × Nat :=
  (if k < 2 then q.1 + 1 else if k = 2 then q.1 - 1 else 0,
   if k < 2 then q.2.1 + 1 else if k = 2 then q.2.1 else 0,
   if k < 3 then q.2.2.1 else i + 1,
   if k = 4 ∨ k = 5 then q.2.2.2 + 1 else if k = 6 then q.2.2.2 - 1 else q.2.2.2)
def pu_st (K : Nat → Nat) : Nat → Nat × Nat × Nat × Nat
  | 0 => (0, 0, 0, 0)
  | i + 1 => pu_nx (K i) i (pu_st K i)
def pu_lv (K : Nat → Nat) (i : Nat) : Nat := (pu_st K i).1
def pu_ld (K : Nat → Nat) (i : Nat) : Nat := (pu_st K i).2.1
def pu_tl (K : Nat → Nat) (i : Nat) : Nat := (pu_st K i).2.2.1
def pu_op (K : Nat → Nat) (i : Nat) : Nat := (pu_st K i).2.2.2
theorem pu_lv_s (K : Nat → Nat) (i : Nat) : pu_lv K (i + 1) = if K i < 2 then pu_lv K i + 1 else if K i = 2 then pu_lv K i - 1 else 0 := rfl
theorem pu_ld_s (K : Nat → Nat) (i : Nat) : pu_ld K (i + 1) = if K i < 2 then pu_ld K i + 1 else if K i = 2 then pu_ld K i else 0 := rfl
theorem pu_tl_s (K : Nat → Nat) (i : Nat) : pu_tl K (i + 1) = if K i < 3 then pu_tl K i else i + 1 := rfl
theorem pu_op_s (K : Nat → Nat) (i : Nat) : pu_op K (i + 1) = if K i = 4 ∨ K i = 5 then pu_op K i + 1 else if K i = 6 then pu_op K i - 1 else pu_op K i := rfl
theorem pu_st_c {K K' : Nat → Nat} : ∀ i, (∀ j, j < i → K j = K' j) → pu_st K i = pu_st K' i := by
  intro i
  induction i with
  | zero => intro _; rfl
  | succ i ih =>
    intro h
    show pu_nx (K i) i (pu_st K i) = pu_nx (K' i) i (pu_st K' i)
    rw [ih (fun j hj => h j (by omega)), h i (by omega)]
def pu_wf (K : Nat → Nat) (A : Nat → Int32) (nv no nn us : Nat) : Prop := ∀ i, i < us →
  K i ≤ 6 ∧ (K i < 2 → pu_ld K i < no) ∧ (K i = 1 ∨ K i = 3 → ∃ v, v < nv ∧ A i = nI v) ∧ (K i = 2 → 2 ≤ pu_lv K i ∧ ∃ o, o < 10 ∧ A i = nI o) ∧ (3 ≤ K i → K i ≤ 5 → pu_lv K i = 1) ∧ (K i = 6 → pu_tl K i = i ∧ 0 < pu_op K i) ∧ (K i = 4 ∨ K i = 5 → pu_op K i < nn)
theorem pu_tl_le (K : Nat → Nat) : ∀ i, pu_tl K i ≤ i := by
  intro i
  induction i with
  | zero => exact Nat.le_refl 0
  | succ i ih =>
    rw [pu_tl_s]
    split <;> omega
theorem pu_tl_tl (K : Nat → Nat) : ∀ i, pu_tl K (pu_tl K i) = pu_tl K i := by
  intro i
  induction i with
  | zero => rfl
  | succ i ih =>
    by_cases h : K i < 3
    · rw [pu_tl_s, if_pos h]; exact ih
    · have e : pu_tl K (i + 1) = i + 1 := by rw [pu_tl_s, if_neg h]
      rw [e, e]
theorem pu_tl_lv {K : Nat → Nat} : ∀ {i}, pu_tl K i = i → pu_lv K i = 0 ∧ pu_ld K i = 0 := by
  intro i h
  cases i with
  | zero => exact ⟨rfl, rfl⟩
  | succ i =>
    have hle := pu_tl_le K i
    rw [pu_tl_s] at h
    rw [pu_lv_s, pu_ld_s]
    by_cases k : K i < 3
    · rw [if_pos k] at h; omega
    · rw [if_neg (by omega), if_neg (by omega), if_neg (by omega), if_neg (by omega)]
      exact ⟨rfl, rfl⟩
theorem pu_tl_cl {K : Nat → Nat} {i : Nat} (h : 3 ≤ K i) : pu_tl K (i + 1) = i + 1 := by
  rw [pu_tl_s, if_neg (by omega)]
theorem pu_row {K : Nat → Nat} : ∀ {i j : Nat}, pu_tl K i ≤ j → j < i → K j < 3 := by
  intro i
  induction i with
  | zero => intro j _ h; omega
  | succ i ih =>
    intro j h1 h2
    rw [pu_tl_s] at h1
    by_cases k : K i < 3
    · rw [if_pos k] at h1
      by_cases e : j = i
      · rw [e]; exact k
      · exact ih h1 (by omega)
    · rw [if_neg k] at h1; omega
theorem pu_lv_ld {K : Nat → Nat} {A : Nat → Int32} {nv no nn us : Nat} (h : pu_wf K A nv no nn us) : ∀ i, i ≤ us → pu_lv K i ≤ pu_ld K i ∧ pu_ld K i ≤ no := by
  intro i
  induction i with
  | zero => intro _; exact ⟨Nat.le_refl 0, Nat.zero_le _⟩
  | succ i ih =>
    intro hi
    have h1 := ih (by omega)
    have h2 := (h i (by omega)).2.1
    rw [pu_lv_s, pu_ld_s]
    by_cases a : K i < 2
    · rw [if_pos a, if_pos a]; have := h2 a; omega
    · rw [if_neg a, if_neg a]
      by_cases b : K i = 2
      · rw [if_pos b, if_pos b]; omega
      · rw [if_neg b, if_neg b]; omega
/-! counts -/
def pu_cc (K : Nat → Nat) (k : Nat) : Nat → Nat
  | 0 => 0
  | i + 1 => pu_cc K k i + (if K i = k then 1 else 0)
theorem pu_cc_s (K : Nat → Nat) (k i : Nat) : pu_cc K k (i + 1) = pu_cc K k i + (if K i = k then 1 else 0) := rfl
theorem pu_cc_mono (K : Nat → Nat) (k : Nat) : ∀ {a b : Nat}, a ≤ b → pu_cc K k a ≤ pu_cc K k b := by
  intro a b h
  induction b with
  | zero => rw [Nat.le_zero.mp h]; exact Nat.le_refl _
  | succ b ih =>
    by_cases e : a = b + 1
    · rw [e]; exact Nat.le_refl _
    · have := ih (by omega)
      rw [pu_cc_s]
      omega
theorem pu_cnt {K : Nat → Nat} {A : Nat → Int32} {nv no nn us : Nat} (h : pu_wf K A nv no nn us) : ∀ i, i ≤ us →
    pu_ld K i + pu_cc K 0 (pu_tl K i) + pu_cc K 1 (pu_tl K i) = pu_cc K 0 i + pu_cc K 1 i ∧ pu_lv K i + pu_cc K 2 i = pu_ld K i + pu_cc K 2 (pu_tl K i) ∧ pu_op K i + pu_cc K 6 i = pu_cc K 4 i + pu_cc K 5 i := by
  intro i
  induction i with
  | zero => intro _; exact ⟨rfl, rfl, rfl⟩
  | succ i ih =>
    intro hi
    obtain ⟨h1, h2, h3⟩ := ih (by omega)
    obtain ⟨k6, w1, _, w3, _, w5, _⟩ := h i (by omega)
    rw [pu_lv_s, pu_ld_s, pu_tl_s, pu_op_s, pu_cc_s K 6, pu_cc_s K 4, pu_cc_s K 5]
    by_cases a : K i < 3
    · rw [if_pos a, pu_cc_s K 0, pu_cc_s K 1, pu_cc_s K 2]
      by_cases b : K i < 2
      · rw [if_pos b, if_pos b, if_neg (show ¬ K i = 2 by omega), if_neg (show ¬ (K i = 4 ∨ K i = 5) by omega), if_neg (show ¬ K i = 6 by omega), if_neg (show ¬ K i = 6 by omega), if_neg (show ¬ K i = 4 by omega), if_neg (show ¬ K i = 5 by omega)]
        by_cases c : K i = 0
        · rw [if_pos c, if_neg (show ¬ K i = 1 by omega)]; omega
        · rw [if_neg c, if_pos (show K i = 1 by omega)]; omega
      · have c : K i = 2 := by omega
        have := (w3 c).1
        rw [if_neg b, if_neg b, if_pos c, if_pos c, if_pos c, if_neg (show ¬ (K i = 4 ∨ K i = 5) by omega), if_neg (show ¬ K i = 6 by omega), if_neg (show ¬ K i = 6 by omega), if_neg (show ¬ K i = 4 by omega), if_neg (show ¬ K i = 5 by omega), if_neg (show ¬ K i = 0 by omega), if_neg (show ¬ K i = 1 by omega)]
        omega
    · rw [if_neg (show ¬ K i < 2 by omega), if_neg (show ¬ K i < 2 by omega), if_neg (show ¬ K i = 2 by omega), if_neg (show ¬ K i = 2 by omega), if_neg a]
      refine ⟨by omega, by omega, ?_⟩
      by_cases b : K i = 4 ∨ K i = 5
      · rw [if_pos b, if_neg (show ¬ K i = 6 by omega)]
        rcases b with b | b
        · rw [if_pos b, if_neg (show ¬ K i = 5 by omega)]; omega
        · rw [if_neg (show ¬ K i = 4 by omega), if_pos b]; omega
      · rw [if_neg b, if_neg (show ¬ K i = 4 by omega), if_neg (show ¬ K i = 5 by omega)]
        by_cases c : K i = 6
        · have := (w5 c).2
          rw [if_pos c, if_pos c]; omega
        · rw [if_neg c, if_neg c]; omega
/-! the statement that begins at s -/
theorem pu_end {K : Nat → Nat} {s us : Nat} (hs : s < us) (hu : pu_tl K us = us) : ∃ e, s ≤ e ∧ e < us ∧ 3 ≤ K e ∧ ∀ j, s ≤ j → j < e → K j < 3 := by
  obtain ⟨w, rfl⟩ : ∃ w, us = w + 1 := ⟨us - 1, by omega⟩
  have hw : 3 ≤ K w := by
    have hle := pu_tl_le K w
    rw [pu_tl_s] at hu
    by_cases k : K w < 3
    · rw [if_pos k] at hu; omega
    · omega
  obtain ⟨e, ⟨e1, e2⟩, e3⟩ := pk_least (fun j => s ≤ j ∧ 3 ≤ K j) ⟨w, by omega, hw⟩
  refine ⟨e, e1, ?_, e2, fun j h1 h2 => ?_⟩
  · by_cases k : w < e
    · exact absurd ⟨by omega, hw⟩ (e3 w k)
    · omega
  · by_cases k : K j < 3
    · exact k
    · exact absurd ⟨h1, by omega⟩ (e3 j h2)
theorem pu_tl_in {K : Nat → Nat} {s e : Nat} (hs : pu_tl K s = s) (h : ∀ j, s ≤ j → j < e → K j < 3) : ∀ d, s + d ≤ e → pu_tl K (s + d) = s := by
  intro d
  induction d with
  | zero => intro _; exact hs
  | succ d ih =>
    intro hd
    rw [← Nat.add_assoc, pu_tl_s, if_pos (h (s + d) (by omega) (by omega))]
    exact ih (by omega)
/-! matching blocks -/
def pu_Mt (K : Nat → Nat) (o e : Nat) : Prop := o < e ∧ (K o = 4 ∨ K o = 5) ∧ K e = 6 ∧ pu_op K (e + 1) = pu_op K o ∧ ∀ x, o < x → x ≤ e → pu_op K o < pu_op K x
theorem pu_Mt_o {K : Nat → Nat} {o o' e : Nat} (h : pu_Mt K o e) (h' : pu_Mt K o' e) : o = o' := by
  obtain ⟨a1, _, _, a4, a5⟩ := h
  obtain ⟨b1, _, _, b4, b5⟩ := h'
  by_cases k : o < o'
  · have := a5 o' k (by omega); omega
  · by_cases k' : o' < o
    · have := b5 o k' (by omega); omega
    · omega
theorem pu_Mt_e {K : Nat → Nat} {o e e' : Nat} (h : pu_Mt K o e) (h' : pu_Mt K o e') : e = e' := by
  obtain ⟨a1, _, _, a4, a5⟩ := h
  obtain ⟨b1, _, _, b4, b5⟩ := h'
  by_cases k : e < e'
  · have := b5 (e + 1) (by omega) (by omega); omega
  · by_cases k' : e' < e
    · have := a5 (e' + 1) (by omega) (by omega); omega
    · omega
/-! a statement's stack -/
def pu_tok (k : Nat) (a : Int32) (V st : Nat → Int32) (t : Nat) : Nat → Int32 :=
  if k = 0 then upd st t a else if k = 1 then upd st t (V a.toNatClampNeg) else upd st (t - 2) (pu_ap a.toNatClampNeg (st (t - 2)) (st (t - 1)))
def pu_stf (f : Nat → Int32) (K : Nat → Nat) (A V : Nat → Int32) (s : Nat) : Nat → (Nat → Int32)
  | 0 => f
  | d + 1 => pu_tok (K (s + d)) (A (s + d)) V (pu_stf f K A V s d) (pu_lv K (s + d))
def pu_stk (K : Nat → Nat) (A V : Nat → Int32) (s : Nat) : Nat → (Nat → Int32) := pu_stf (fun _ => 0) K A V s
def pu_agr (n : Nat) (f g : Nat → Int32) : Prop := ∀ j, j < n → f j = g j
theorem pu_tok_agr {K : Nat → Nat} {A V f g : Nat → Int32} {i : Nat} (hk : K i < 3) (h2 : K i = 2 → 2 ≤ pu_lv K i) (h : pu_agr (pu_lv K i) f g) :
    pu_agr (pu_lv K (i + 1)) (pu_tok (K i) (A i) V f (pu_lv K i)) (pu_tok (K i) (A i) V g (pu_lv K i)) := by
  intro j hj
  rw [pu_lv_s] at hj
  unfold pu_tok
  by_cases a : K i = 0
  · rw [if_pos a, if_pos a]
    rw [if_pos (show K i < 2 by omega)] at hj
    unfold upd
    by_cases e : j = pu_lv K i
    · rw [if_pos e, if_pos e]
    · rw [if_neg e, if_neg e]; exact h j (by omega)
  · rw [if_neg a, if_neg a]
    by_cases b : K i = 1
    · rw [if_pos b, if_pos b]
      rw [if_pos (show K i < 2 by omega)] at hj
      unfold upd
      by_cases e : j = pu_lv K i
      · rw [if_pos e, if_pos e]
      · rw [if_neg e, if_neg e]; exact h j (by omega)
    · have c : K i = 2 := by omega
      have := h2 c
      rw [if_neg b, if_neg b]
      rw [if_neg (show ¬ K i < 2 by omega), if_pos c] at hj
      rw [h (pu_lv K i - 2) (by omega), h (pu_lv K i - 1) (by omega)]
      unfold upd
      by_cases e : j = pu_lv K i - 2
      · rw [if_pos e, if_pos e]
      · rw [if_neg e, if_neg e]; exact h j (by omega)
theorem pu_stf_agr {K : Nat → Nat} {A V : Nat → Int32} {nv no nn us s e : Nat} (hw : pu_wf K A nv no nn us) (hs : pu_tl K s = s) (he : e ≤ us) (hr : ∀ j, s ≤ j → j < e → K j < 3) (f g : Nat → Int32) : ∀ d, s + d ≤ e → pu_agr (pu_lv K (s + d)) (pu_stf f K A V s d) (pu_stf g K A V s d) := by
  intro d
  induction d with
  | zero =>
    intro _ j hj
    rw [Nat.add_zero, (pu_tl_lv hs).1] at hj
    omega
  | succ d ih =>
    intro hd
    exact pu_tok_agr (hr (s + d) (by omega) (by omega)) (fun h => ((hw (s + d) (by omega)).2.2.2.1 h).1) (ih (by omega))
/-! where a statement leads -/
def pu_ae (K mt : Nat → Nat) (e : Nat) : Nat := if K (mt e) = 4 then e + 1 else pu_tl K (mt e)
def pu_next (K mt : Nat → Nat) (e : Nat) (v : Int32) : Nat :=
  if K e = 6 then pu_ae K mt e else if K e = 3 then e + 1 else if v = 0 then mt e + 1 else e + 1
/-- the blocks are linked -/
def pu_lk (K : Nat → Nat) (us : Nat) (mt : Nat → Nat) : Prop := ∀ i, i < us → ((K i = 4 ∨ K i = 5) → pu_Mt K i (mt i) ∧ mt i < us) ∧ (K i = 6 → pu_Mt K (mt i) i)
theorem pu_next_ok {K mt : Nat → Nat} {us e : Nat} (hl : pu_lk K us mt) (he : e < us) (h3 : 3 ≤ K e) (h6 : K e ≤ 6) (v : Int32) : pu_next K mt e v ≤ us ∧ pu_tl K (pu_next K mt e v) = pu_next K mt e v := by
  unfold pu_next
  have c1 : e + 1 ≤ us ∧ pu_tl K (e + 1) = e + 1 := ⟨by omega, pu_tl_cl h3⟩
  by_cases a : K e = 6
  · rw [if_pos a]
    unfold pu_ae
    by_cases b : K (mt e) = 4
    · rw [if_pos b]; exact c1
    · rw [if_neg b]
      have h1 := pu_tl_le K (mt e)
      have h2 := ((hl e he).2 a).1
      exact ⟨by omega, pu_tl_tl K _⟩
  · rw [if_neg a]
    by_cases b : K e = 3
    · rw [if_pos b]; exact c1
    · rw [if_neg b]
      by_cases c : v = 0
      · rw [if_pos c]
        obtain ⟨h1, h2⟩ := (hl e he).1 (by omega)
        exact ⟨by omega, pu_tl_cl (by rw [h1.2.2.1]; omega)⟩
      · rw [if_neg c]; exact c1
end
section
/-! the code of a whole text -/
def cd_tok (k : Nat) (a : Int32) (t : Nat) : List (Nat × Nat) :=
  if k = 2 then cd_op a.toNatClampNeg (32 + 4 * t - 8) (32 + 4 * t - 4) else if k = 1 then cd_copy (4 * a.toNatClampNeg) (32 + 4 * t) else cd_const (pu_U a) (32 + 4 * t)
def cd_cl (K mt : Nat → Nat) (A : Nat → Int32) (e p : Nat) : List (Nat × Nat) :=
  if K e = 6 then [(20, pu_ae K mt e)] else if K e = 3 then cd_copy 32 (4 * (A e).toNatClampNeg) ++ [(20, e + 1)] else cd_test 32 ++ [(13, p + 6), (20, e + 1), (20, mt e + 1)]
def cd_seg (K mt : Nat → Nat) (A : Nat → Int32) (i p : Nat) : List (Nat × Nat) := if K i < 3 then cd_tok (K i) (A i) (pu_lv K i) else cd_cl K mt A i p
def cd_all (K mt : Nat → Nat) (A : Nat → Int32) : Nat → List (Nat × Nat)
  | 0 => cd_HL
  | i + 1 => cd_all K mt A i ++ cd_seg K mt A i (cd_all K mt A i).length
def cd_P (K mt : Nat → Nat) (A : Nat → Int32) (i : Nat) : Nat := (cd_all K mt A i).length
def cd_C (K mt : Nat → Nat) (A : Nat → Int32) (us : Nat) : Nat → Nat × Nat := fun j => (cd_all K mt A us).getD j (21, 0)
theorem cd_P_0 (K mt : Nat → Nat) (A : Nat → Int32) : cd_P K mt A 0 = 206 := cd_HL_len
theorem cd_P_s (K mt : Nat → Nat) (A : Nat → Int32) (i : Nat) : cd_P K mt A (i + 1) = cd_P K mt A i + (cd_seg K mt A i (cd_P K mt A i)).length := by
  show (cd_all K mt A i ++ cd_seg K mt A i (cd_all K mt A i).length).length = _
  rw [List.length_append]
  rfl
theorem oc_at_get {C : Nat → Nat × Nat} {d : Nat × Nat} : ∀ (l : List (Nat × Nat)) (p : Nat), (∀ j, j < l.length → C (p + j) = l.getD j d) → oc_at C p l := by
  intro l
  induction l with
  | nil => intro p _; exact trivial
  | cons i l ih =>
    intro p h
    refine ⟨?_, ih (p + 1) (fun j hj => ?_)⟩
    · have := h 0 (by rw [List.length_cons]; omega)
      rw [Nat.add_zero] at this
      rw [this]
      rfl
    · have := h (j + 1) (by rw [List.length_cons]; omega)
      rw [show p + (j + 1) = p + 1 + j by omega] at this
      rw [this]
      rfl
theorem cd_C_all (K mt : Nat → Nat) (A : Nat → Int32) (us : Nat) : oc_at (cd_C K mt A us) 0 (cd_all K mt A us) :=
  oc_at_get _ _ (fun j _ => by rw [Nat.zero_add]; rfl)
theorem cd_C_pre (K mt : Nat → Nat) (A : Nat → Int32) {C : Nat → Nat × Nat} (i : Nat) : ∀ d, oc_at C 0 (cd_all K mt A (i + d)) → oc_at C 0 (cd_all K mt A i) := by
  intro d
  induction d with
  | zero => intro h; exact h
  | succ d ih =>
    intro h
    exact ih (oc_at_app (l1 := cd_all K mt A (i + d)) h).1
theorem cd_C_HL (K mt : Nat → Nat) (A : Nat → Int32) (us : Nat) : oc_at (cd_C K mt A us) 0 cd_HL := by
  have h := cd_C_pre K mt A (C := cd_C K mt A us) 0 us (by rw [Nat.zero_add]; exact cd_C_all K mt A us)
  exact h
theorem cd_C_seg (K mt : Nat → Nat) (A : Nat → Int32) {us i : Nat} (hi : i < us) : oc_at (cd_C K mt A us) (cd_P K mt A i) (cd_seg K mt A i (cd_P K mt A i)) := by
  have h := cd_C_pre K mt A (C := cd_C K mt A us) (i + 1) (us - (i + 1)) (by rw [show i + 1 + (us - (i + 1)) = us by omega]; exact cd_C_all K mt A us)
  have h2 := (oc_at_app (l1 := cd_all K mt A i) h).2
  rw [Nat.zero_add] at h2
  exact h2
/-! every instruction is in its range -/
def cd_g (i : Nat × Nat) : Prop := i.1 ≤ 20 ∧ i.2 < 32768 ∧ (i.1 < 11 → i.2 < 256)
theorem cd_g_mk {o g : Nat} (h1 : o ≤ 20) (h2 : g < 32768) (h3 : o < 11 → g < 256) : cd_g (o, g) := ⟨h1, h2, h3⟩
theorem cd_g_copy {f t : Nat} (hf : f + 3 < 256) (ht : t + 3 < 256) : ∀ i ∈ cd_copy f t, cd_g i := by
  simp only [cd_copy, List.forall_mem_cons, cd_g]
  repeat' apply And.intro
  all_goals first | omega | (intro i h; exact absurd h List.not_mem_nil)
theorem cd_g_const {w t : Nat} (ht : t + 3 < 256) : ∀ i ∈ cd_const w t, cd_g i := by
  simp only [cd_const, List.forall_mem_cons, cd_g]
  repeat' apply And.intro
  all_goals first | omega | (intro i h; exact absurd h List.not_mem_nil)
theorem cd_g_fill {t o : Nat} (ht : t + 3 < 256) (ho : o < 256) : ∀ i ∈ cd_fill t o, cd_g i := by
  simp only [cd_fill, List.forall_mem_cons, cd_g]
  repeat' apply And.intro
  all_goals first | omega | (intro i h; exact absurd h List.not_mem_nil)
theorem cd_g_chain {o a b : Nat} (ho : o < 11) (ha : a + 3 < 256) (hb : b + 3 < 256) : ∀ i ∈ cd_chain o a b, cd_g i := by
  simp only [cd_chain, List.forall_mem_cons, cd_g]
  repeat' apply And.intro
  all_goals first | omega | (intro i h; exact absurd h List.not_mem_nil)
theorem cd_g_cmp {a b : Nat} (ha : a + 3 < 256) (hb : b + 3 < 256) : ∀ i ∈ cd_cmp a b, cd_g i := by
  simp only [cd_cmp, List.forall_mem_cons, cd_g]
  repeat' apply And.intro
  all_goals first | omega | (intro i h; exact absurd h List.not_mem_nil)
theorem cd_g_flip {o : Nat} (ho : o < 256) : ∀ i ∈ cd_flip o, cd_g i := by
  simp only [cd_flip, List.forall_mem_cons, cd_g]
  repeat' apply And.intro
  all_goals first | omega | (intro i h; exact absurd h List.not_mem_nil)
theorem cd_g_test {a : Nat} (ha : a + 3 < 256) : ∀ i ∈ cd_test a, cd_g i := by
  simp only [cd_test, List.forall_mem_cons, cd_g]
  repeat' apply And.intro
  all_goals first | omega | (intro i h; exact absurd h List.not_mem_nil)
theorem cd_g_app {k l : List (Nat × Nat)} (hk : ∀ i ∈ k, cd_g i) (hl : ∀ i ∈ l, cd_g i) : ∀ i ∈ k ++ l, cd_g i := by
  intro i hi
  rcases List.mem_append.mp hi with h | h
  · exact hk i h
  · exact hl i h
theorem cd_g_one {o g : Nat} (h : cd_g (o, g)) : ∀ i ∈ [(o, g)], cd_g i := by
  intro i hi
  rw [List.mem_singleton.mp hi]
  exact h
theorem cd_g_less {a b : Nat} (ha : a + 3 < 256) (hb : b + 3 < 256) : ∀ i ∈ cd_less a b, cd_g i :=
  cd_g_app (cd_g_flip ha) (cd_g_app (cd_g_flip hb) (cd_g_app (cd_g_cmp ha hb) (cd_g_app (cd_g_fill ha (by omega)) (cd_g_one (cd_g_mk (by decide) (by omega) (fun _ => by omega))))))
theorem cd_ha_le (o : Nat) : cd_ha o ≤ 192 := by
  unfold cd_ha
  split
  · omega
  · split
    · omega
    · split
      · omega
      · split <;> omega
theorem cd_g_op {o a b : Nat} (ha : a + 3 < 256) (hb : b + 3 < 256) : ∀ i ∈ cd_op o a b, cd_g i := by
  have hh := cd_ha_le o
  unfold cd_op
  split
  · exact cd_g_chain (by omega) ha hb
  · split
    · exact cd_g_chain (by omega) ha hb
    · split
      · exact cd_g_chain (by omega) ha hb
      · split
        · exact cd_g_chain (by omega) ha hb
        · split
          · exact cd_g_less ha hb
          · intro i hi
            rcases List.mem_cons.mp hi with h | h
            · rw [h]; exact cd_g_mk (by decide) (by omega) (fun h => absurd h (by decide))
            · rw [List.mem_singleton.mp h]; exact cd_g_mk (by decide) (by omega) (fun h => absurd h (by decide))
theorem cd_op_len (o a b : Nat) : (cd_op o a b).length ≤ 21 := by
  unfold cd_op
  split
  · exact (by decide : 13 ≤ 21)
  · split
    · exact (by decide : 13 ≤ 21)
    · split
      · exact (by decide : 13 ≤ 21)
      · split
        · exact (by decide : 13 ≤ 21)
        · split
          · exact (by decide : 21 ≤ 21)
          · exact (by decide : 2 ≤ 21)
theorem cd_seg_len (K mt : Nat → Nat) (A : Nat → Int32) (i p : Nat) : (cd_seg K mt A i p).length ≤ 21 := by
  unfold cd_seg cd_tok cd_cl
  split
  · split
    · exact cd_op_len _ _ _
    · split
      · exact (by decide : 8 ≤ 21)
      · exact (by decide : 8 ≤ 21)
  · split
    · exact (by decide : 1 ≤ 21)
    · split
      · exact (by decide : 9 ≤ 21)
      · exact (by decide : 7 ≤ 21)
theorem cd_P_le (K mt : Nat → Nat) (A : Nat → Int32) : ∀ i, cd_P K mt A i ≤ 206 + 21 * i := by
  intro i
  induction i with
  | zero => rw [cd_P_0]; omega
  | succ i ih =>
    have := cd_seg_len K mt A i (cd_P K mt A i)
    rw [cd_P_s]
    omega
theorem cd_g_HL : ∀ i ∈ cd_HL, cd_g i := by
  unfold cd_g
  decide +kernel
theorem cd_g_seg {K mt : Nat → Nat} {A : Nat → Int32} {nv no nn us i p : Nat} (hw : pu_wf K A nv no nn us) (hl : pu_lk K us mt) (hv : nv ≤ 8) (ho : no ≤ 5) (hu : us ≤ 48) (hi : i < us) (hp : p ≤ 2048) : ∀ q ∈ cd_seg K mt A i p, cd_g q := by
  obtain ⟨k6, w1, w2, w3, w4, w5, w6⟩ := hw i hi
  have hlv := pu_lv_ld hw i (by omega)
  unfold cd_seg
  split
  · rename_i k3
    unfold cd_tok
    split
    · exact cd_g_op (by omega) (by omega)
    · split
      · rename_i k1
        obtain ⟨v, v1, v2⟩ := w2 (Or.inl k1)
        rw [v2, nI_clamp (by omega)]
        exact cd_g_copy (by omega) (by omega)
      · exact cd_g_const (by omega)
  · rename_i k3
    unfold cd_cl
    split
    · rename_i k
      have := ((hl i hi).2 k).1
      have h2 := pu_tl_le K (mt i)
      refine cd_g_one (cd_g_mk (by decide) ?_ (fun h => absurd h (by decide)))
      unfold pu_ae
      split <;> omega
    · split
      · rename_i k
        obtain ⟨v, v1, v2⟩ := w2 (Or.inr k)
        rw [v2, nI_clamp (by omega)]
        exact cd_g_app (cd_g_copy (by omega) (by omega)) (cd_g_one (cd_g_mk (by decide) (by omega) (fun h => absurd h (by decide))))
      · have := ((hl i hi).1 (by omega)).2
        refine cd_g_app (cd_g_test (by omega)) ?_
        simp only [List.forall_mem_cons, cd_g]
        repeat' apply And.intro
        all_goals first | omega | (intro i h; exact absurd h List.not_mem_nil)
theorem cd_g_all {K mt : Nat → Nat} {A : Nat → Int32} {nv no nn us : Nat} (hw : pu_wf K A nv no nn us) (hl : pu_lk K us mt) (hv : nv ≤ 8) (ho : no ≤ 5) (hu : us ≤ 48) : ∀ i, i ≤ us → ∀ q ∈ cd_all K mt A i, cd_g q := by
  intro i
  induction i with
  | zero => intro _; exact cd_g_HL
  | succ i ih =>
    intro hi
    refine cd_g_app (ih (by omega)) (cd_g_seg hw hl hv ho hu (by omega) ?_)
    have := cd_P_le K mt A i
    show cd_P K mt A i ≤ 2048
    omega
theorem cd_getD {l : List (Nat × Nat)} {d : Nat × Nat} {P : Nat × Nat → Prop} (h : ∀ i ∈ l, P i) (hd : P d) (j : Nat) : P (l.getD j d) := by
  by_cases k : j < l.length
  · rw [List.getD_eq_getElem?_getD, List.getElem?_eq_getElem k]
    exact h _ (List.getElem_mem k)
  · rw [List.getD_eq_getElem?_getD, List.getElem?_eq_none (by omega)]
    exact hd
/-- instructions behind the end: 21 -/
theorem cd_C_g {K mt : Nat → Nat} {A : Nat → Int32} {nv no nn us : Nat} (hw : pu_wf K A nv no nn us) (hl : pu_lk K us mt) (hv : nv ≤ 8) (ho : no ≤ 5) (hu : us ≤ 48) (p : Nat) : (cd_C K mt A us p).1 ≤ 21 ∧ (cd_C K mt A us p).2 < 32768 ∧ ((cd_C K mt A us p).1 < 11 → (cd_C K mt A us p).2 < 256) :=
  cd_getD (P := fun i => i.1 ≤ 21 ∧ i.2 < 32768 ∧ (i.1 < 11 → i.2 < 256)) (fun i hi => by
    obtain ⟨h1, h2, h3⟩ := cd_g_all hw hl hv ho hu us (Nat.le_refl _) i hi
    exact ⟨by omega, h2, h3⟩) ⟨by decide, by decide, fun h => absurd h (by decide)⟩ p
theorem cd_C_out {K mt : Nat → Nat} {A : Nat → Int32} {us p : Nat} (h : cd_P K mt A us ≤ p) : cd_C K mt A us p = (21, 0) := by
  unfold cd_C
  rw [List.getD_eq_getElem?_getD, List.getElem?_eq_none h]
  rfl
theorem cd_C_good {K mt : Nat → Nat} {A : Nat → Int32} {nv no nn us : Nat} (hw : pu_wf K A nv no nn us) (hl : pu_lk K us mt) (hv : nv ≤ 8) (ho : no ≤ 5) (hu : us ≤ 48) : oc_good (cd_C K mt A us) := by
  intro p
  obtain ⟨_, h2, h3⟩ := cd_C_g hw hl hv ho hu p
  exact ⟨fun h => h3 (by omega), h2⟩
theorem cd_C_in {K mt : Nat → Nat} {A : Nat → Int32} {nv no nn us : Nat} (hw : pu_wf K A nv no nn us) (hl : pu_lk K us mt) (hv : nv ≤ 8) (ho : no ≤ 5) (hu : us ≤ 48) {j : Nat} (hj : j < cd_P K mt A us) : cd_g (cd_C K mt A us j) := by
  unfold cd_C
  rw [List.getD_eq_getElem?_getD, List.getElem?_eq_getElem hj]
  exact cd_g_all hw hl hv ho hu us (Nat.le_refl _) _ (List.getElem_mem hj)
end
section
/-! the pure run of one statement's code -/
section
variable {K mt : Nat → Nat} {A V : Nat → Int32} {nv no nn us : Nat}
theorem oc_toks (hw : pu_wf K A nv no nn us) (hl : pu_lk K us mt) (hv : nv ≤ 8) (ho : no ≤ 5) (hu : us ≤ 48) {s e : Nat} (hs : pu_tl K s = s) (he : e ≤ us) (hr : ∀ j, s ≤ j → j < e → K j < 3)
    {m : Nat → Nat} {a c x : Nat} (hk : oc_ok (m, a, c, x, cd_P K mt A s, [])) (hV : ∀ v, v < 8 → oc_w m (4 * v) = pu_U (V v)) :
    ∀ d, s + d ≤ e → ∃ m' a' c' x', oc_R (cd_C K mt A us) (8 * pu_ld K (s + d) + 1300 * (pu_ld K (s + d) - pu_lv K (s + d))) (m, a, c, x, cd_P K mt A s, []) (m', a', c', x', cd_P K mt A (s + d), []) ∧ (∀ j, j < pu_lv K (s + d) → oc_w m' (32 + 4 * j) = pu_U (pu_stk K A V s d j)) ∧ ∀ i, i < 32 → m' i = m i := by
  have HC := cd_C_HL K mt A us
  have GC := cd_C_good hw hl hv ho hu
  intro d
  induction d with
  | zero =>
    intro _
    refine ⟨m, a, c, x, oc_rf, ?_, fun _ _ => rfl⟩
    intro j hj
    rw [Nat.add_zero, (pu_tl_lv hs).1] at hj
    omega
  | succ d ih =>
    intro hd
    obtain ⟨m1, a1, c1, x1, R1, w1, f1⟩ := ih (by omega)
    have s1 := oc_ok_R GC R1 hk
    have k3 := hr (s + d) (by omega) (by omega)
    have hc := cd_C_seg K mt A (us := us) (i := s + d) (by omega)
    obtain ⟨b1, b2⟩ := pu_lv_ld hw (s + d) (by omega)
    obtain ⟨_, q1, q2, q3, _, _, _⟩ := hw (s + d) (by omega)
    rw [← Nat.add_assoc, cd_P_s]
    unfold cd_seg at hc ⊢
    rw [if_pos k3] at hc
    rw [if_pos k3]
    unfold cd_tok at hc ⊢
    show ∃ m' a' c' x', _ ∧ (∀ j, j < pu_lv K (s + d + 1) → oc_w m' (32 + 4 * j) = pu_U (pu_tok (K (s + d)) (A (s + d)) V (pu_stk K A V s d) (pu_lv K (s + d)) j)) ∧ _
    rw [pu_ld_s, pu_lv_s]
    unfold pu_tok
    by_cases k2 : K (s + d) = 2
    · obtain ⟨l2, o, o1, o2⟩ := q3 k2
      rw [if_pos k2] at hc
      rw [if_pos k2, if_neg (show ¬ K (s + d) < 2 by omega), if_neg (show ¬ K (s + d) < 2 by omega), if_pos k2, if_pos k2, if_neg (show ¬ K (s + d) = 0 by omega), if_neg (show ¬ K (s + d) = 1 by omega)]
      rw [o2, nI_clamp (by omega)] at hc
      rw [o2, nI_clamp (by omega)]
      generalize hT : pu_lv K (s + d) - 2 = t
      have e1 : 32 + 4 * pu_lv K (s + d) - 8 = 32 + 4 * t := by omega
      have e2 : 32 + 4 * pu_lv K (s + d) - 4 = 32 + 4 * t + 4 := by omega
      have e3 : pu_lv K (s + d) - 1 = t + 1 := by omega
      rw [e1, e2] at hc
      rw [e1, e2, e3]
      obtain ⟨m2, a2, c2, x2, R2, w2, f2⟩ := oc_opW HC GC o1 (by omega) (by omega) hc s1 (by decide)
      refine ⟨m2, a2, c2, x2, oc_le (oc_tr R1 R2) (by omega), ?_, fun i hi => by rw [f2 i (by omega), f1 i hi]⟩
      intro j hj
      by_cases ej : j = t
      · rw [ej, pk_us, pu_apU o1, w2, w1 t (by omega)]
        have := w1 (t + 1) (by omega)
        rw [show 32 + 4 * (t + 1) = 32 + 4 * t + 4 by omega] at this
        rw [this]
      · rw [pk_un ej, ← w1 j (by omega)]
        exact oc_w_eq (fun i i1 i2 => f2 i (by omega))
    · have kl : K (s + d) < 2 := by omega
      have hld := q1 kl
      rw [if_neg k2] at hc
      rw [if_pos kl, if_pos kl, if_neg k2]
      by_cases k1 : K (s + d) = 1
      · obtain ⟨v, v1, v2⟩ := q2 (Or.inl k1)
        rw [if_pos k1] at hc
        rw [if_pos k1, if_neg (show ¬ K (s + d) = 0 by omega), if_pos k1]
        rw [v2, nI_clamp (by omega)] at hc
        rw [v2, nI_clamp (by omega)]
        obtain ⟨m2, a2, R2, w2, f2⟩ := oc_copyW (m := m1) (a := a1) (c := c1) (x := x1) (r := []) hc (oc_eaw_d (by omega)) (oc_eaw_d (by omega)) (by omega)
        have el : (cd_copy (4 * v) (32 + 4 * pu_lv K (s + d))).length = 8 := rfl
        rw [el]
        refine ⟨m2, a2, c1, x1, oc_le (oc_tr R1 R2) (by omega), ?_, fun i hi => by rw [f2 i (by omega), f1 i hi]⟩
        intro j hj
        by_cases ej : j = pu_lv K (s + d)
        · rw [ej, pk_us, w2, oc_w_eq (m := m) (fun i i1 i2 => f1 i (by omega)), hV v (by omega)]
        · rw [pk_un ej, ← w1 j (by omega)]
          exact oc_w_fr f2 (by omega)
      · rw [if_neg k1] at hc
        rw [if_neg k1, if_pos (show K (s + d) = 0 by omega)]
        obtain ⟨m2, a2, R2, w2, f2⟩ := oc_constW (m := m1) (a := a1) (c := c1) (x := x1) (r := []) hc (oc_eaw_d (by omega)) (pu_U_lt _)
        have el : (cd_const (pu_U (A (s + d))) (32 + 4 * pu_lv K (s + d))).length = 8 := rfl
        rw [el]
        refine ⟨m2, a2, c1, x1, oc_le (oc_tr R1 R2) (by omega), ?_, fun i hi => by rw [f2 i (by omega), f1 i hi]⟩
        intro j hj
        by_cases ej : j = pu_lv K (s + d)
        · rw [ej, pk_us, w2]
        · rw [pk_un ej, ← w1 j (by omega)]
          exact oc_w_fr f2 (by omega)
/-- the variables behind the statement -/
def pu_vals (K : Nat → Nat) (A V : Nat → Int32) (e : Nat) (v : Int32) : Nat → Int32 := if K e = 3 then upd V (A e).toNatClampNeg v else V
theorem oc_stmt (hw : pu_wf K A nv no nn us) (hl : pu_lk K us mt) (hv : nv ≤ 8) (ho : no ≤ 5) (hu : us ≤ 48) {s e : Nat} (hs : pu_tl K s = s) (hse : s ≤ e) (he : e < us) (h3 : 3 ≤ K e) (hr : ∀ j, s ≤ j → j < e → K j < 3)
    {m : Nat → Nat} {a c x : Nat} (hk : oc_ok (m, a, c, x, cd_P K mt A s, [])) (hV : ∀ v, v < 8 → oc_w m (4 * v) = pu_U (V v)) :
    ∃ m' a' c' x' p', oc_R (cd_C K mt A us) 9000 (m, a, c, x, cd_P K mt A s, []) (m', a', c', x', p', []) ∧ cd_C K mt A us p' = (20, pu_next K mt e (pu_stk K A V s (e - s) 0)) ∧ ∀ v, v < 8 → oc_w m' (4 * v) = pu_U (pu_vals K A V e (pu_stk K A V s (e - s) 0) v) := by
  have GC := cd_C_good hw hl hv ho hu
  obtain ⟨m1, a1, c1, x1, R1, w1, f1⟩ := oc_toks (V := V) hw hl hv ho hu hs (Nat.le_of_lt he) hr hk hV (e - s) (by omega)
  rw [show s + (e - s) = e by omega] at R1 w1
  obtain ⟨b1, b2⟩ := pu_lv_ld hw e (by omega)
  obtain ⟨k6, _, q2, _, q4, _, _⟩ := hw e he
  have hc := cd_C_seg K mt A he
  unfold cd_seg at hc
  rw [if_neg (by omega)] at hc
  unfold cd_cl at hc
  have V1 : ∀ v, v < 8 → oc_w m1 (4 * v) = pu_U (V v) := by
    intro v h
    rw [oc_w_eq (m := m) (fun i i1 i2 => f1 i (by omega)), hV v h]
  unfold pu_next pu_vals
  by_cases a6 : K e = 6
  · rw [if_pos a6] at hc
    rw [if_pos a6, if_neg (show ¬ K e = 3 by omega)]
    exact ⟨m1, a1, c1, x1, _, oc_le R1 (by omega), hc.1, V1⟩
  · rw [if_neg a6] at hc
    rw [if_neg a6]
    have l1 : pu_lv K e = 1 := q4 h3 (by omega)
    have wv : oc_w m1 32 = pu_U (pu_stk K A V s (e - s) 0) := w1 0 (by omega)
    by_cases a3 : K e = 3
    · rw [if_pos a3] at hc
      rw [if_pos a3, if_pos a3]
      obtain ⟨v, v1, v2⟩ := q2 (Or.inr a3)
      rw [v2, nI_clamp (by omega)] at hc
      rw [v2, nI_clamp (by omega)]
      obtain ⟨hc1, hc2⟩ := oc_at_app hc
      obtain ⟨m2, a2, R2, w2, f2⟩ := oc_copyW (m := m1) (a := a1) (c := c1) (x := x1) (r := []) hc1 (oc_eaw_d (by omega)) (oc_eaw_d (by omega)) (by omega)
      refine ⟨m2, a2, c1, x1, _, oc_le (oc_tr R1 R2) (by omega), hc2.1, ?_⟩
      intro z hz
      by_cases ez : z = v
      · rw [ez, pk_us, w2, wv]
      · rw [pk_un ez, ← V1 z hz]
        exact oc_w_fr f2 (by omega)
    · rw [if_neg a3] at hc
      rw [if_neg a3, if_neg a3]
      obtain ⟨hc1, hc2⟩ := oc_at_app hc
      obtain ⟨a2, R2, t2⟩ := oc_testW (m := m1) (a := a1) (c := c1) (x := x1) (r := []) hc1 (oc_eaw_d (by omega))
      rw [wv] at t2
      by_cases z : pu_stk K A V s (e - s) 0 = 0
      · rw [if_pos z]
        have za : a2 = 0 := t2.mpr (pu_U0.mp z)
        exact ⟨m1, a2, c1, x1, cd_P K mt A e + 6, oc_le (oc_tr R1 (oc_tr R2 (oc_JZt hc2.1 za))) (by omega), hc2.2.2.1, V1⟩
      · rw [if_neg z]
        have za : a2 ≠ 0 := fun h => z (pu_U0.mpr (t2.mp h))
        exact ⟨m1, a2, c1, x1, _, oc_le (oc_tr R1 (oc_tr R2 (oc_JZf hc2.1 za))) (by omega), hc2.2.1, V1⟩
end
end
section
def em_s (u : SX) (y_divideAt : Int32) (y_size : Int32) (y_codeOp : Nat → Int32) (y_codeArg : Nat → Int32) (y_entry : Nat → Int32) (y_helper : Nat → Int32) : SX := match u with
  | (f_LDI, f_LDA, f_STA, f_ADC, f_SBC, f_ANA, f_XRA, f_ORA, f_ROL, f_ROR, f_DEC, f_CLC, f_LDX, f_JZ, f_JNZ, f_JC, f_JNC, f_JPL, f_JSR, f_RTS, f_HLT, f_STACK, f_REST, f_COUNT, f_SIGN_Q, f_SIGN_A, f_OPA, f_OPB, f_vars, f_capacity, f_operands, f_nest, f_used, f_tail, f_loaded, f_depth, f_open, f_stage, _, _, f_calls, f_acc, f_carry, f_index, f_pc, a_kinds, a_args, a_first, a_match, a_openAt, a_places, a_dones, a_wideVars, a_wideStack, _, _, _, _, a_mem, a_returns) => (f_LDI, f_LDA, f_STA, f_ADC, f_SBC, f_ANA, f_XRA, f_ORA, f_ROL, f_ROR, f_DEC, f_CLC, f_LDX, f_JZ, f_JNZ, f_JC, f_JNC, f_JPL, f_JSR, f_RTS, f_HLT, f_STACK, f_REST, f_COUNT, f_SIGN_Q, f_SIGN_A, f_OPA, f_OPB, f_vars, f_capacity, f_operands, f_nest, f_used, f_tail, f_loaded, f_depth, f_open, f_stage, y_divideAt, y_size, f_calls, f_acc, f_carry, f_index, f_pc, a_kinds, a_args, a_first, a_match, a_openAt, a_places, a_dones, a_wideVars, a_wideStack, y_codeOp, y_codeArg, y_entry, y_helper, a_mem, a_returns)
/-! emission: state u is u0 but for the code, which holds C below n (the argument at h is still owed) -/
def em_G (C : Nat → Nat × Nat) : Prop := ∀ p, (C p).1 ≤ 21 ∧ (C p).2 < 32768
def em_E (u0 : SX) (C : Nat → Nat × Nat) (n h : Nat) (dv : Int32) (en he : Nat → Int32) (u : SX) : Prop :=
  ∃ cO cA : Nat → Int32, u = em_s u0 dv (nI n) cO cA en he ∧ ∀ j, j < n → cO j = nI (C j).1 ∧ (j ≠ h → cA j = nI (C j).2)
theorem em_byte : ∀ o, o < 22 → (nI o).toInt8.toInt32 = nI o := by decide +kernel
theorem em_short {g : Nat} (h : g < 32768) : (nI g).toInt16.toInt32 = nI g := by
  apply Int32.toInt_inj.mp
  rw [Int16.toInt_toInt32, Int32.toInt_toInt16, nI_toInt (by omega)]
  have : (g : Int).bmod (2 ^ 16) = g := by
    rw [Int.bmod_def]
    split <;> omega
  exact this
theorem em_emit {u0 : SX} {C : Nat → Nat × Nat} {n h o g : Nat} {dv O G : Int32} {en he : Nat → Int32} {u : SX} {post : Int32 → SX → Prop} (GC : em_G C) (hE : em_E u0 C n h dv en he u) (hn : n < 2048) (hh : h ≠ n) (hc : C n = (o, g)) (eO : O = nI o) (eG : G = nI g) (P : ∀ u', em_E u0 C (n + 1) h dv en he u' → post (nI n) u') : wpX_emit post u O G := by
  obtain ⟨cO, cA, rfl, H⟩ := hE
  obtain ⟨g1, g2⟩ := GC n
  rw [hc] at g1 g2
  have g1' : o ≤ 21 := g1
  have g2' : g < 32768 := g2
  rw [eX_emit]
  have hsz : ax_size (em_s u0 dv (nI n) cO cA en he) = nI n := rfl
  rw [hsz, eO, eG, pk_vb, pk_vs, em_byte o (by omega), em_short g2', nI_clamp (by omega)]
  refine br_f (nI_ge (b := 2048) (by omega) (by decide)) ⟨vp_in_nI hn (by decide), ?_⟩
  intro cO' e1
  refine ⟨vp_in_nI hn (by decide), ?_⟩
  intro cA' e2 sz e3
  refine P _ ⟨cO', cA', ?_, ?_⟩
  · rw [e3, nI_1]
    rfl
  · intro j hj
    have e1' : cO' = upd cO n (nI o) := e1
    have e2' : cA' = upd cA n (nI g) := e2
    rw [e1', e2']
    by_cases e : j = n
    · rw [e, pk_us, pk_us, hc]
      exact ⟨rfl, fun _ => rfl⟩
    · rw [pk_un e, pk_un e]
      exact H j (by omega)
theorem em_hole {u0 : SX} {C : Nat → Nat × Nat} {n h o g : Nat} {dv O G : Int32} {en he : Nat → Int32} {u : SX} {post : Int32 → SX → Prop} (GC : em_G C) (hE : em_E u0 C n h dv en he u) (hn : n < 2048) (hh : 2048 ≤ h) (hc : C n = (o, g)) (eO : O = nI o) (P : ∀ u', em_E u0 C (n + 1) n dv en he u' → post (nI n) u') : wpX_emit post u O G := by
  obtain ⟨cO, cA, rfl, H⟩ := hE
  obtain ⟨g1, g2⟩ := GC n
  rw [hc] at g1 g2
  have g1' : o ≤ 21 := g1
  rw [eX_emit]
  have hsz : ax_size (em_s u0 dv (nI n) cO cA en he) = nI n := rfl
  rw [hsz, eO, pk_vb, em_byte o (by omega), nI_clamp (by omega)]
  refine br_f (nI_ge (b := 2048) (by omega) (by decide)) ⟨vp_in_nI hn (by decide), ?_⟩
  intro cO' e1
  refine ⟨vp_in_nI hn (by decide), ?_⟩
  intro cA' e2 sz e3
  refine P _ ⟨cO', cA', ?_, ?_⟩
  · rw [e3, nI_1]
    rfl
  · intro j hj
    have e1' : cO' = upd cO n (nI o) := e1
    have e2' : cA' = upd cA n _ := e2
    rw [e1', e2']
    by_cases e : j = n
    · rw [e, pk_us, hc]
      exact ⟨rfl, fun z => absurd rfl z⟩
    · rw [pk_un e, pk_un e]
      exact ⟨(H j (by omega)).1, fun _ => (H j (by omega)).2 (by omega)⟩
theorem em_patch {u0 : SX} {C : Nat → Nat × Nat} {n h : Nat} {dv Q : Int32} {en he : Nat → Int32} {u : SX} {post : SX → Prop} (hE : em_E u0 C n h dv en he u) (hn : n ≤ 2048) (hh : h < n) (hc : (C h).2 = n) (eQ : Q = nI h) (P : ∀ u', em_E u0 C n 5000 dv en he u' → post u') : wpX_patch post u Q := by
  obtain ⟨cO, cA, rfl, H⟩ := hE
  rw [eX_patch]
  have hsz : ax_size (em_s u0 dv (nI n) cO cA en he) = nI n := rfl
  rw [hsz, eQ, pk_vs, em_short (by omega), nI_clamp (by omega)]
  refine br_f (nI_ge (b := 2048) (by omega) (by decide)) ⟨vp_in_nI (by omega) (by decide), ?_⟩
  intro cA' e2
  refine P _ ⟨cO, cA', rfl, ?_⟩
  intro j hj
  have e2' : cA' = upd cA h (nI n) := e2
  rw [e2']
  refine ⟨(H j hj).1, fun _ => ?_⟩
  by_cases e : j = h
  · rw [e, pk_us, hc]
  · rw [pk_un e]
    exact (H j hj).2 e
/-- octets of a word, as the program takes them -/
theorem em_octK (w s : Int32) (k : Nat) (hs : ((s.toUInt32 &&& Int32.toUInt32 31).toBitVec % 32).toNat = k) : ((w.toUInt32 >>> (s.toUInt32 &&& Int32.toUInt32 31)).toInt32) &&& 255 = nI (pu_U w / 2 ^ k % 256) := by
  rw [pk_and _ (m := 255) 8 (by decide), pk_ushr w s k hs]
  rfl
theorem em_oct0 (w : Int32) : ((w.toUInt32 >>> (((8 : Int32) * 0).toUInt32 &&& Int32.toUInt32 31)).toInt32) &&& 255 = nI (pu_U w % 256) := by
  have h := em_octK w (8 * 0) 0 (by decide)
  rw [Nat.pow_zero, Nat.div_one] at h
  exact h
theorem em_oct1 (w : Int32) : ((w.toUInt32 >>> (((8 : Int32) * 1).toUInt32 &&& Int32.toUInt32 31)).toInt32) &&& 255 = nI (pu_U w / 256 % 256) := em_octK w (8 * 1) 8 (by decide)
theorem em_oct2 (w : Int32) : ((w.toUInt32 >>> (((8 : Int32) * 2).toUInt32 &&& Int32.toUInt32 31)).toInt32) &&& 255 = nI (pu_U w / 65536 % 256) := em_octK w (8 * 2) 16 (by decide)
theorem em_oct3 (w : Int32) : ((w.toUInt32 >>> (((8 : Int32) * 3).toUInt32 &&& Int32.toUInt32 31)).toInt32) &&& 255 = nI (pu_U w / 16777216 % 256) := em_octK w (8 * 3) 24 (by decide)
end
section
theorem em_fill {u0 : SX} {C : Nat → Nat × Nat} {n h : Nat} {dv : Int32} {en he : Nat → Int32} {u : SX} {post : SX → Prop} {t o : Nat} {T O : Int32} (GC : em_G C) (hE : em_E u0 C n h dv en he u) (hn : n + 5 ≤ 2048) (hh : h < n ∨ 2048 ≤ h) (hc : oc_at C n (cd_fill t o)) (eT : T = nI t) (eO : O = nI o) (P : ∀ u', em_E u0 C (n + 5) h dv en he u' → post u') : wpX_emitFill post u T O := by
  subst eT
  subst eO
  obtain ⟨c0, c1, c2, c3, c4, _⟩ := hc
  have E0 := hE
  rw [eX_emitFill]
  refine em_emit GC E0 (by omega) (by omega) c0 (rfl) (rfl) ?_
  intro u1 E1
  refine ⟨6, ?_⟩
  rw [eX_emitFill_9]
  refine br_f (by decide) ?_
  refine em_emit GC E1 (by omega) (by omega) c1 (rfl) (nI_add t 0) ?_
  intro u2 E2
  refine nm_r (e' := 1) (by decide) ?_
  rw [eX_emitFill_9]
  refine br_f (by decide) ?_
  refine em_emit GC E2 (by omega) (by omega) c2 (rfl) (nI_add t 1) ?_
  intro u3 E3
  refine nm_r (e' := 2) (by decide) ?_
  rw [eX_emitFill_9]
  refine br_f (by decide) ?_
  refine em_emit GC E3 (by omega) (by omega) c3 (rfl) (nI_add t 2) ?_
  intro u4 E4
  refine nm_r (e' := 3) (by decide) ?_
  rw [eX_emitFill_9]
  refine br_f (by decide) ?_
  refine em_emit GC E4 (by omega) (by omega) c4 (rfl) (nI_add t 3) ?_
  intro u5 E5
  refine nm_r (e' := 4) (by decide) ?_
  rw [eX_emitFill_9]
  refine br_t (by decide) ?_
  exact P u5 E5
theorem em_right {u0 : SX} {C : Nat → Nat × Nat} {n h : Nat} {dv : Int32} {en he : Nat → Int32} {u : SX} {post : SX → Prop} {a : Nat} {A : Int32} (GC : em_G C) (hE : em_E u0 C n h dv en he u) (hn : n + 4 ≤ 2048) (hh : h < n ∨ 2048 ≤ h) (hc : oc_at C n (cd_right a)) (eA : A = nI a) (P : ∀ u', em_E u0 C (n + 4) h dv en he u' → post u') : wpX_emitRight post u A := by
  subst eA
  obtain ⟨c0, c1, c2, c3, _⟩ := hc
  have E0 := hE
  rw [eX_emitRight]
  refine ⟨6, ?_⟩
  rw [eX_emitRight_2]
  refine br_f (by decide) ?_
  refine em_emit GC E0 (by omega) (by omega) c0 (rfl) (nI_add a 3) ?_
  intro u1 E1
  refine nm_r (e' := 2) (by decide) ?_
  rw [eX_emitRight_2]
  refine br_f (by decide) ?_
  refine em_emit GC E1 (by omega) (by omega) c1 (rfl) (nI_add a 2) ?_
  intro u2 E2
  refine nm_r (e' := 1) (by decide) ?_
  rw [eX_emitRight_2]
  refine br_f (by decide) ?_
  refine em_emit GC E2 (by omega) (by omega) c2 (rfl) (nI_add a 1) ?_
  intro u3 E3
  refine nm_r (e' := 0) (by decide) ?_
  rw [eX_emitRight_2]
  refine br_f (by decide) ?_
  refine em_emit GC E3 (by omega) (by omega) c3 (rfl) (nI_add a 0) ?_
  intro u4 E4
  refine nm_r (e' := (-1)) (by decide) ?_
  rw [eX_emitRight_2]
  refine br_t (by decide) ?_
  exact P u4 E4
theorem em_left {u0 : SX} {C : Nat → Nat × Nat} {n h : Nat} {dv : Int32} {en he : Nat → Int32} {u : SX} {post : SX → Prop} {a : Nat} {A : Int32} (GC : em_G C) (hE : em_E u0 C n h dv en he u) (hn : n + 4 ≤ 2048) (hh : h < n ∨ 2048 ≤ h) (hc : oc_at C n (cd_left a)) (eA : A = nI a) (P : ∀ u', em_E u0 C (n + 4) h dv en he u' → post u') : wpX_emitLeft post u A := by
  subst eA
  obtain ⟨c0, c1, c2, c3, _⟩ := hc
  have E0 := hE
  rw [eX_emitLeft]
  refine ⟨6, ?_⟩
  rw [eX_emitLeft_2]
  refine br_f (by decide) ?_
  refine em_emit GC E0 (by omega) (by omega) c0 (rfl) (nI_add a 0) ?_
  intro u1 E1
  refine nm_r (e' := 1) (by decide) ?_
  rw [eX_emitLeft_2]
  refine br_f (by decide) ?_
  refine em_emit GC E1 (by omega) (by omega) c1 (rfl) (nI_add a 1) ?_
  intro u2 E2
  refine nm_r (e' := 2) (by decide) ?_
  rw [eX_emitLeft_2]
  refine br_f (by decide) ?_
  refine em_emit GC E2 (by omega) (by omega) c2 (rfl) (nI_add a 2) ?_
  intro u3 E3
  refine nm_r (e' := 3) (by decide) ?_
  rw [eX_emitLeft_2]
  refine br_f (by decide) ?_
  refine em_emit GC E3 (by omega) (by omega) c3 (rfl) (nI_add a 3) ?_
  intro u4 E4
  refine nm_r (e' := 4) (by decide) ?_
  rw [eX_emitLeft_2]
  refine br_t (by decide) ?_
  exact P u4 E4
theorem em_chain {u0 : SX} {C : Nat → Nat × Nat} {n h : Nat} {dv : Int32} {en he : Nat → Int32} {u : SX} {post : SX → Prop} {o a b : Nat} {O A B : Int32} (GC : em_G C) (hE : em_E u0 C n h dv en he u) (hn : n + 13 ≤ 2048) (hh : h < n ∨ 2048 ≤ h) (hc : oc_at C n (cd_chain o a b)) (eO : O = nI o) (eA : A = nI a) (eB : B = nI b) (P : ∀ u', em_E u0 C (n + 13) h dv en he u' → post u') : wpX_emitChain post u O A B := by
  subst eO
  subst eA
  subst eB
  obtain ⟨c0, c1, c2, c3, c4, c5, c6, c7, c8, c9, c10, c11, c12, _⟩ := hc
  have E0 := hE
  rw [eX_emitChain]
  refine em_emit GC E0 (by omega) (by omega) c0 (rfl) (rfl) ?_
  intro u1 E1
  refine ⟨6, ?_⟩
  rw [eX_emitChain_11]
  refine br_f (by decide) ?_
  refine em_emit GC E1 (by omega) (by omega) c1 (rfl) (nI_add a 0) ?_
  intro u2 E2
  refine em_emit GC E2 (by omega) (by omega) c2 (rfl) (nI_add b 0) ?_
  intro u3 E3
  refine em_emit GC E3 (by omega) (by omega) c3 (rfl) (nI_add a 0) ?_
  intro u4 E4
  refine nm_r (e' := 1) (by decide) ?_
  rw [eX_emitChain_11]
  refine br_f (by decide) ?_
  refine em_emit GC E4 (by omega) (by omega) c4 (rfl) (nI_add a 1) ?_
  intro u5 E5
  refine em_emit GC E5 (by omega) (by omega) c5 (rfl) (nI_add b 1) ?_
  intro u6 E6
  refine em_emit GC E6 (by omega) (by omega) c6 (rfl) (nI_add a 1) ?_
  intro u7 E7
  refine nm_r (e' := 2) (by decide) ?_
  rw [eX_emitChain_11]
  refine br_f (by decide) ?_
  refine em_emit GC E7 (by omega) (by omega) c7 (rfl) (nI_add a 2) ?_
  intro u8 E8
  refine em_emit GC E8 (by omega) (by omega) c8 (rfl) (nI_add b 2) ?_
  intro u9 E9
  refine em_emit GC E9 (by omega) (by omega) c9 (rfl) (nI_add a 2) ?_
  intro u10 E10
  refine nm_r (e' := 3) (by decide) ?_
  rw [eX_emitChain_11]
  refine br_f (by decide) ?_
  refine em_emit GC E10 (by omega) (by omega) c10 (rfl) (nI_add a 3) ?_
  intro u11 E11
  refine em_emit GC E11 (by omega) (by omega) c11 (rfl) (nI_add b 3) ?_
  intro u12 E12
  refine em_emit GC E12 (by omega) (by omega) c12 (rfl) (nI_add a 3) ?_
  intro u13 E13
  refine nm_r (e' := 4) (by decide) ?_
  rw [eX_emitChain_11]
  refine br_t (by decide) ?_
  exact P u13 E13
theorem em_copy {u0 : SX} {C : Nat → Nat × Nat} {n h : Nat} {dv : Int32} {en he : Nat → Int32} {u : SX} {post : SX → Prop} {f t : Nat} {F T : Int32} (GC : em_G C) (hE : em_E u0 C n h dv en he u) (hn : n + 8 ≤ 2048) (hh : h < n ∨ 2048 ≤ h) (hc : oc_at C n (cd_copy f t)) (eF : F = nI f) (eT : T = nI t) (P : ∀ u', em_E u0 C (n + 8) h dv en he u' → post u') : wpX_emitCopy post u F T := by
  subst eF
  subst eT
  obtain ⟨c0, c1, c2, c3, c4, c5, c6, c7, _⟩ := hc
  have E0 := hE
  rw [eX_emitCopy]
  refine ⟨6, ?_⟩
  rw [eX_emitCopy_2]
  refine br_f (by decide) ?_
  refine em_emit GC E0 (by omega) (by omega) c0 (rfl) (nI_add f 0) ?_
  intro u1 E1
  refine em_emit GC E1 (by omega) (by omega) c1 (rfl) (nI_add t 0) ?_
  intro u2 E2
  refine nm_r (e' := 1) (by decide) ?_
  rw [eX_emitCopy_2]
  refine br_f (by decide) ?_
  refine em_emit GC E2 (by omega) (by omega) c2 (rfl) (nI_add f 1) ?_
  intro u3 E3
  refine em_emit GC E3 (by omega) (by omega) c3 (rfl) (nI_add t 1) ?_
  intro u4 E4
  refine nm_r (e' := 2) (by decide) ?_
  rw [eX_emitCopy_2]
  refine br_f (by decide) ?_
  refine em_emit GC E4 (by omega) (by omega) c4 (rfl) (nI_add f 2) ?_
  intro u5 E5
  refine em_emit GC E5 (by omega) (by omega) c5 (rfl) (nI_add t 2) ?_
  intro u6 E6
  refine nm_r (e' := 3) (by decide) ?_
  rw [eX_emitCopy_2]
  refine br_f (by decide) ?_
  refine em_emit GC E6 (by omega) (by omega) c6 (rfl) (nI_add f 3) ?_
  intro u7 E7
  refine em_emit GC E7 (by omega) (by omega) c7 (rfl) (nI_add t 3) ?_
  intro u8 E8
  refine nm_r (e' := 4) (by decide) ?_
  rw [eX_emitCopy_2]
  refine br_t (by decide) ?_
  exact P u8 E8
theorem em_cmp {u0 : SX} {C : Nat → Nat × Nat} {n h : Nat} {dv : Int32} {en he : Nat → Int32} {u : SX} {post : SX → Prop} {a b : Nat} {A B : Int32} (GC : em_G C) (hE : em_E u0 C n h dv en he u) (hn : n + 9 ≤ 2048) (hh : h < n ∨ 2048 ≤ h) (hc : oc_at C n (cd_cmp a b)) (eA : A = nI a) (eB : B = nI b) (P : ∀ u', em_E u0 C (n + 9) h dv en he u' → post u') : wpX_emitCompare post u A B := by
  subst eA
  subst eB
  obtain ⟨c0, c1, c2, c3, c4, c5, c6, c7, c8, _⟩ := hc
  have E0 := hE
  rw [eX_emitCompare]
  refine em_emit GC E0 (by omega) (by omega) c0 (rfl) (rfl) ?_
  intro u1 E1
  refine ⟨6, ?_⟩
  rw [eX_emitCompare_10]
  refine br_f (by decide) ?_
  refine em_emit GC E1 (by omega) (by omega) c1 (rfl) (nI_add a 0) ?_
  intro u2 E2
  refine em_emit GC E2 (by omega) (by omega) c2 (rfl) (nI_add b 0) ?_
  intro u3 E3
  refine nm_r (e' := 1) (by decide) ?_
  rw [eX_emitCompare_10]
  refine br_f (by decide) ?_
  refine em_emit GC E3 (by omega) (by omega) c3 (rfl) (nI_add a 1) ?_
  intro u4 E4
  refine em_emit GC E4 (by omega) (by omega) c4 (rfl) (nI_add b 1) ?_
  intro u5 E5
  refine nm_r (e' := 2) (by decide) ?_
  rw [eX_emitCompare_10]
  refine br_f (by decide) ?_
  refine em_emit GC E5 (by omega) (by omega) c5 (rfl) (nI_add a 2) ?_
  intro u6 E6
  refine em_emit GC E6 (by omega) (by omega) c6 (rfl) (nI_add b 2) ?_
  intro u7 E7
  refine nm_r (e' := 3) (by decide) ?_
  rw [eX_emitCompare_10]
  refine br_f (by decide) ?_
  refine em_emit GC E7 (by omega) (by omega) c7 (rfl) (nI_add a 3) ?_
  intro u8 E8
  refine em_emit GC E8 (by omega) (by omega) c8 (rfl) (nI_add b 3) ?_
  intro u9 E9
  refine nm_r (e' := 4) (by decide) ?_
  rw [eX_emitCompare_10]
  refine br_t (by decide) ?_
  exact P u9 E9
theorem em_test {u0 : SX} {C : Nat → Nat × Nat} {n h : Nat} {dv : Int32} {en he : Nat → Int32} {u : SX} {post : SX → Prop} {a : Nat} {A : Int32} (GC : em_G C) (hE : em_E u0 C n h dv en he u) (hn : n + 4 ≤ 2048) (hh : h < n ∨ 2048 ≤ h) (hc : oc_at C n (cd_test a)) (eA : A = nI a) (P : ∀ u', em_E u0 C (n + 4) h dv en he u' → post u') : wpX_emitTest post u A := by
  subst eA
  obtain ⟨c0, c1, c2, c3, _⟩ := hc
  have E0 := hE
  rw [eX_emitTest]
  refine em_emit GC E0 (by omega) (by omega) c0 (rfl) (rfl) ?_
  intro u1 E1
  refine ⟨6, ?_⟩
  rw [eX_emitTest_9]
  refine br_f (by decide) ?_
  refine em_emit GC E1 (by omega) (by omega) c1 (rfl) (nI_add a 1) ?_
  intro u2 E2
  refine nm_r (e' := 2) (by decide) ?_
  rw [eX_emitTest_9]
  refine br_f (by decide) ?_
  refine em_emit GC E2 (by omega) (by omega) c2 (rfl) (nI_add a 2) ?_
  intro u3 E3
  refine nm_r (e' := 3) (by decide) ?_
  rw [eX_emitTest_9]
  refine br_f (by decide) ?_
  refine em_emit GC E3 (by omega) (by omega) c3 (rfl) (nI_add a 3) ?_
  intro u4 E4
  refine nm_r (e' := 4) (by decide) ?_
  rw [eX_emitTest_9]
  refine br_t (by decide) ?_
  exact P u4 E4
theorem em_flip {u0 : SX} {C : Nat → Nat × Nat} {n h : Nat} {dv : Int32} {en he : Nat → Int32} {u : SX} {post : SX → Prop} {o : Nat} {O : Int32} (GC : em_G C) (hE : em_E u0 C n h dv en he u) (hn : n + 3 ≤ 2048) (hh : h < n ∨ 2048 ≤ h) (hc : oc_at C n (cd_flip o)) (eO : O = nI o) (P : ∀ u', em_E u0 C (n + 3) h dv en he u' → post u') : wpX_emitFlip post u O := by
  subst eO
  obtain ⟨c0, c1, c2, _⟩ := hc
  have E0 := hE
  rw [eX_emitFlip]
  refine em_emit GC E0 (by omega) (by omega) c0 (rfl) (rfl) ?_
  intro u1 E1
  refine em_emit GC E1 (by omega) (by omega) c1 (rfl) (rfl) ?_
  intro u2 E2
  refine em_emit GC E2 (by omega) (by omega) c2 (rfl) (rfl) ?_
  intro u3 E3
  exact P u3 E3
theorem em_const {u0 : SX} {C : Nat → Nat × Nat} {n h : Nat} {dv : Int32} {en he : Nat → Int32} {u : SX} {post : SX → Prop} {w : Int32} {t : Nat} {T : Int32} (GC : em_G C) (hE : em_E u0 C n h dv en he u) (hn : n + 8 ≤ 2048) (hh : h < n ∨ 2048 ≤ h) (hc : oc_at C n (cd_const (pu_U w) t)) (eT : T = nI t) (P : ∀ u', em_E u0 C (n + 8) h dv en he u' → post u') : wpX_emitConst post u w T := by
  subst eT
  obtain ⟨c0, c1, c2, c3, c4, c5, c6, c7, _⟩ := hc
  have E0 := hE
  rw [eX_emitConst]
  refine ⟨6, ?_⟩
  rw [eX_emitConst_2]
  refine br_f (by decide) ?_
  refine em_emit GC E0 (by omega) (by omega) c0 (rfl) (em_oct0 w) ?_
  intro u1 E1
  refine em_emit GC E1 (by omega) (by omega) c1 (rfl) (nI_add t 0) ?_
  intro u2 E2
  refine nm_r (e' := 1) (by decide) ?_
  rw [eX_emitConst_2]
  refine br_f (by decide) ?_
  refine em_emit GC E2 (by omega) (by omega) c2 (rfl) (em_oct1 w) ?_
  intro u3 E3
  refine em_emit GC E3 (by omega) (by omega) c3 (rfl) (nI_add t 1) ?_
  intro u4 E4
  refine nm_r (e' := 2) (by decide) ?_
  rw [eX_emitConst_2]
  refine br_f (by decide) ?_
  refine em_emit GC E4 (by omega) (by omega) c4 (rfl) (em_oct2 w) ?_
  intro u5 E5
  refine em_emit GC E5 (by omega) (by omega) c5 (rfl) (nI_add t 2) ?_
  intro u6 E6
  refine nm_r (e' := 3) (by decide) ?_
  rw [eX_emitConst_2]
  refine br_f (by decide) ?_
  refine em_emit GC E6 (by omega) (by omega) c6 (rfl) (em_oct3 w) ?_
  intro u7 E7
  refine em_emit GC E7 (by omega) (by omega) c7 (rfl) (nI_add t 3) ?_
  intro u8 E8
  refine nm_r (e' := 4) (by decide) ?_
  rw [eX_emitConst_2]
  refine br_t (by decide) ?_
  exact P u8 E8
end
section
/-! emission of the helpers -/
section
variable {u0 : SX} {C : Nat → Nat × Nat} {n h : Nat} {dv : Int32} {en he : Nat → Int32} {u : SX} {post : SX → Prop}
theorem em_size (hE : em_E u0 C n h dv en he u) : ax_size u = nI n := by
  obtain ⟨cO, cA, rfl, _⟩ := hE
  rfl
theorem em_dv (hE : em_E u0 C n h dv en he u) : ax_divideAt u = dv := by
  obtain ⟨cO, cA, rfl, _⟩ := hE
  rfl
theorem em_he (hE : em_E u0 C n h dv en he u) : ax_helper u = he := by
  obtain ⟨cO, cA, rfl, _⟩ := hE
  rfl
theorem em_en (hE : em_E u0 C n h dv en he u) : ax_entry u = en := by
  obtain ⟨cO, cA, rfl, _⟩ := hE
  rfl
theorem em_kinds (hE : em_E u0 C n h dv en he u) : ax_kinds u = ax_kinds u0 := by
  obtain ⟨cO, cA, rfl, _⟩ := hE
  rfl
theorem em_args (hE : em_E u0 C n h dv en he u) : ax_args u = ax_args u0 := by
  obtain ⟨cO, cA, rfl, _⟩ := hE
  rfl
theorem em_match (hE : em_E u0 C n h dv en he u) : ax_match u = ax_match u0 := by
  obtain ⟨cO, cA, rfl, _⟩ := hE
  rfl
theorem em_first (hE : em_E u0 C n h dv en he u) : ax_first u = ax_first u0 := by
  obtain ⟨cO, cA, rfl, _⟩ := hE
  rfl
theorem em_used (hE : em_E u0 C n h dv en he u) : ax_used u = ax_used u0 := by
  obtain ⟨cO, cA, rfl, _⟩ := hE
  rfl
theorem em_sethe (hE : em_E u0 C n h dv en he u) (f : Nat → Int32) : em_E u0 C n h dv en f (sx_helper u f) := by
  obtain ⟨cO, cA, rfl, H⟩ := hE
  exact ⟨cO, cA, rfl, H⟩
theorem em_setdv (hE : em_E u0 C n h dv en he u) (x : Int32) : em_E u0 C n h x en he (sx_divideAt u x) := by
  obtain ⟨cO, cA, rfl, H⟩ := hE
  exact ⟨cO, cA, rfl, H⟩
theorem em_seten (hE : em_E u0 C n h dv en he u) (f : Nat → Int32) : em_E u0 C n h dv f he (sx_entry u f) := by
  obtain ⟨cO, cA, rfl, H⟩ := hE
  exact ⟨cO, cA, rfl, H⟩
theorem em_le {l : Nat} {Q : Int32} (GC : em_G C) (hE : em_E u0 C n h dv en he u) (hn : n + 2 ≤ 2048) (hh : h < n ∨ 2048 ≤ h) (c0 : C n = (10, 56)) (c1 : C (n + 1) = (14, l)) (eQ : Q = nI l) (P : ∀ u', em_E u0 C (n + 2) h dv en he u' → post u') : wpX_emitLoopEnd post u Q := by
  rw [eX_emitLoopEnd]
  refine em_emit GC hE (by omega) (by omega) c0 rfl rfl ?_
  intro u1 E1
  refine em_emit GC E1 (by omega) (by omega) c1 rfl eQ ?_
  intro u2 E2
  exact P u2 E2
theorem em_ls (GC : em_G C) (hE : em_E u0 C n h dv en he u) (hn : n + 7 ≤ 2048) (hh : h < n ∨ 2048 ≤ h) (hc : oc_at C n (cd_fill 52 0)) (c5 : C (n + 5) = (0, 32)) (c6 : C (n + 6) = (2, 56)) (P : ∀ u', em_E u0 C (n + 7) h dv en he u' → post u') : wpX_emitLoopStart post u := by
  rw [eX_emitLoopStart]
  refine em_fill GC hE (by omega) hh hc rfl rfl ?_
  intro u1 E1
  refine em_emit GC E1 (by omega) (by omega) c5 rfl rfl ?_
  intro u2 E2
  refine em_emit GC E2 (by omega) (by omega) c6 rfl rfl ?_
  intro u3 E3
  exact P u3 E3
theorem em_neg {s a : Nat} {S A : Int32} (GC : em_G C) (hE : em_E u0 C n h dv en he u) (hn : n + 15 ≤ 2048) (hh : 2048 ≤ h) (hc : oc_at C n (cd_neg s a (n + 15))) (eS : S = nI s) (eA : A = nI a) (P : ∀ u', em_E u0 C (n + 15) 5000 dv en he u' → post u') : wpX_emitNegateIf post u S A := by
  subst eS
  subst eA
  obtain ⟨c0, c1, c2, c3, c4, c5, c6, c7, c8, c9, c10, c11, c12, c13, c14, _⟩ := hc
  rw [eX_emitNegateIf]
  refine em_emit GC hE (by omega) (by omega) c0 rfl rfl ?_
  intro u1 E1
  refine em_hole GC E1 (by omega) (by omega) c1 rfl ?_
  intro u2 E2
  refine em_emit GC E2 (by omega) (by omega) c2 rfl rfl ?_
  intro u3 E3
  refine ⟨6, ?_⟩
  rw [eX_emitNegateIf_26]
  refine br_f (by decide) ?_
  refine em_emit GC E3 (by omega) (by omega) c3 rfl rfl ?_
  intro u4 E4
  refine em_emit GC E4 (by omega) (by omega) c4 rfl (nI_add a 0) ?_
  intro u5 E5
  refine em_emit GC E5 (by omega) (by omega) c5 rfl (nI_add a 0) ?_
  intro u6 E6
  refine nm_r (e' := 1) (by decide) ?_
  rw [eX_emitNegateIf_26]
  refine br_f (by decide) ?_
  refine em_emit GC E6 (by omega) (by omega) c6 rfl rfl ?_
  intro u7 E7
  refine em_emit GC E7 (by omega) (by omega) c7 rfl (nI_add a 1) ?_
  intro u8 E8
  refine em_emit GC E8 (by omega) (by omega) c8 rfl (nI_add a 1) ?_
  intro u9 E9
  refine nm_r (e' := 2) (by decide) ?_
  rw [eX_emitNegateIf_26]
  refine br_f (by decide) ?_
  refine em_emit GC E9 (by omega) (by omega) c9 rfl rfl ?_
  intro u10 E10
  refine em_emit GC E10 (by omega) (by omega) c10 rfl (nI_add a 2) ?_
  intro u11 E11
  refine em_emit GC E11 (by omega) (by omega) c11 rfl (nI_add a 2) ?_
  intro u12 E12
  refine nm_r (e' := 3) (by decide) ?_
  rw [eX_emitNegateIf_26]
  refine br_f (by decide) ?_
  refine em_emit GC E12 (by omega) (by omega) c12 rfl rfl ?_
  intro u13 E13
  refine em_emit GC E13 (by omega) (by omega) c13 rfl (nI_add a 3) ?_
  intro u14 E14
  refine em_emit GC E14 (by omega) (by omega) c14 rfl (nI_add a 3) ?_
  intro u15 E15
  refine nm_r (e' := 4) (by decide) ?_
  rw [eX_emitNegateIf_26]
  refine br_t (by decide) ?_
  refine em_patch E15 (by omega) (by omega) (congrArg Prod.snd c1) rfl ?_
  intro u16 E16
  exact P u16 E16
theorem em_less {a b : Nat} {A B : Int32} (GC : em_G C) (hE : em_E u0 C n h dv en he u) (hn : n + 21 ≤ 2048) (hh : h < n ∨ 2048 ≤ h) (hc : oc_at C n (cd_less a b)) (eA : A = nI a) (eB : B = nI b) (P : ∀ u', em_E u0 C (n + 21) h dv en he u' → post u') : wpX_emitLess post u A B := by
  subst eA
  subst eB
  obtain ⟨h1, hc⟩ := oc_at_app hc
  obtain ⟨h2, hc⟩ := oc_at_app hc
  obtain ⟨h3, hc⟩ := oc_at_app hc
  obtain ⟨h4, hc⟩ := oc_at_app hc
  have h5 : C (n + 20) = (8, a) := hc.1
  rw [eX_emitLess]
  refine em_flip GC hE (by omega) (by omega) h1 (nI_add a 3) ?_
  intro u1 E1
  refine em_flip GC E1 (by omega) (by omega) h2 (nI_add b 3) ?_
  intro u2 E2
  refine em_cmp GC E2 (by omega) (by omega) h3 rfl rfl ?_
  intro u3 E3
  refine em_fill GC E3 (by omega) (by omega) h4 rfl rfl ?_
  intro u4 E4
  refine em_emit GC E4 (by omega) (by omega) h5 rfl rfl ?_
  intro u5 E5
  exact P u5 E5
theorem em_Mul (GC : em_G C) (HC : oc_at C 0 cd_HL) (hE : em_E u0 C 0 5000 dv en he u) (P : ∀ u', em_E u0 C 42 5000 dv en (upd he 4 0) u' → post u') : wpX_emitMul post u := by
  have d0 : oc_at C 0 (cd_fill 52 0) := oc_at_sub HC 0 5 (by decide +kernel)
  have d5 : C 5 = (0, 32) := oc_in1 HC 5 (by decide +kernel)
  have d6 : C 6 = (2, 56) := oc_in1 HC 6 (by decide +kernel)
  have d7 : C 7 = (11, 0) := oc_in1 HC 7 (by decide +kernel)
  have d8 : oc_at C 8 (cd_right 128) := oc_at_sub HC 8 4 (by decide +kernel)
  have d12 : C 12 = (16, 26) := oc_in1 HC 12 (by decide +kernel)
  have d13 : oc_at C 13 (cd_chain 3 52 132) := oc_at_sub HC 13 13 (by decide +kernel)
  have d26 : C 26 = (11, 0) := oc_in1 HC 26 (by decide +kernel)
  have d27 : oc_at C 27 (cd_left 132) := oc_at_sub HC 27 4 (by decide +kernel)
  have d31 : C 31 = (10, 56) := oc_in1 HC 31 (by decide +kernel)
  have d32 : C 32 = (14, 7) := oc_in1 HC 32 (by decide +kernel)
  have d33 : oc_at C 33 (cd_copy 52 128) := oc_at_sub HC 33 8 (by decide +kernel)
  have d41 : C 41 = (19, 0) := oc_in1 HC 41 (by decide +kernel)
  rw [eX_emitMul]
  intro hp ehp
  rw [em_he hE, em_size hE] at ehp
  subst ehp
  refine em_ls GC (em_sethe hE (upd he 4 (nI 0))) (by omega) (by omega) d0 d5 d6 ?_
  intro u1 E1
  refine em_emit GC E1 (by omega) (by omega) d7 rfl rfl ?_
  intro u2 E2
  refine em_right GC E2 (by omega) (by omega) d8 rfl ?_
  intro u3 E3
  refine em_hole GC E3 (by omega) (by omega) d12 rfl ?_
  intro u4 E4
  refine em_chain GC E4 (by omega) (by omega) d13 rfl rfl rfl ?_
  intro u5 E5
  refine em_patch E5 (by omega) (by omega) (congrArg Prod.snd d12) rfl ?_
  intro u6 E6
  refine em_emit GC E6 (by omega) (by omega) d26 rfl rfl ?_
  intro u7 E7
  refine em_left GC E7 (by omega) (by omega) d27 rfl ?_
  intro u8 E8
  refine em_le GC E8 (by omega) (by omega) d31 d32 (em_size E1) ?_
  intro u9 E9
  refine em_copy GC E9 (by omega) (by omega) d33 rfl rfl ?_
  intro u10 E10
  refine em_emit GC E10 (by omega) (by omega) d41 rfl rfl ?_
  intro u11 E11
  exact P u11 E11
theorem em_Divide (GC : em_G C) (HC : oc_at C 0 cd_HL) (hE : em_E u0 C 42 5000 dv en he u) (P : ∀ u', em_E u0 C 121 5000 (nI 42) en he u' → post u') : wpX_emitDivide post u := by
  have d42 : C 42 = (1, 131) := oc_in1 HC 42 (by decide +kernel)
  have d43 : C 43 = (2, 58) := oc_in1 HC 43 (by decide +kernel)
  have d44 : C 44 = (6, 135) := oc_in1 HC 44 (by decide +kernel)
  have d45 : C 45 = (2, 57) := oc_in1 HC 45 (by decide +kernel)
  have d46 : oc_at C 46 (cd_neg 131 128 61) := oc_at_sub HC 46 15 (by decide +kernel)
  have d61 : oc_at C 61 (cd_neg 135 132 76) := oc_at_sub HC 61 15 (by decide +kernel)
  have d76 : oc_at C 76 (cd_fill 52 0) := oc_at_sub HC 76 5 (by decide +kernel)
  have d81 : C 81 = (0, 32) := oc_in1 HC 81 (by decide +kernel)
  have d82 : C 82 = (2, 56) := oc_in1 HC 82 (by decide +kernel)
  have d83 : C 83 = (11, 0) := oc_in1 HC 83 (by decide +kernel)
  have d84 : oc_at C 84 (cd_left 128) := oc_at_sub HC 84 4 (by decide +kernel)
  have d88 : oc_at C 88 (cd_left 52) := oc_at_sub HC 88 4 (by decide +kernel)
  have d92 : oc_at C 92 (cd_cmp 52 132) := oc_at_sub HC 92 9 (by decide +kernel)
  have d101 : C 101 = (15, 118) := oc_in1 HC 101 (by decide +kernel)
  have d102 : oc_at C 102 (cd_chain 4 52 132) := oc_at_sub HC 102 13 (by decide +kernel)
  have d115 : C 115 = (0, 1) := oc_in1 HC 115 (by decide +kernel)
  have d116 : C 116 = (7, 128) := oc_in1 HC 116 (by decide +kernel)
  have d117 : C 117 = (2, 128) := oc_in1 HC 117 (by decide +kernel)
  have d118 : C 118 = (10, 56) := oc_in1 HC 118 (by decide +kernel)
  have d119 : C 119 = (14, 83) := oc_in1 HC 119 (by decide +kernel)
  have d120 : C 120 = (19, 0) := oc_in1 HC 120 (by decide +kernel)
  rw [eX_emitDivide, em_size hE]
  have E0 := em_setdv hE (nI 42)
  refine em_emit GC E0 (by omega) (by omega) d42 rfl rfl ?_
  intro u1 E1
  refine em_emit GC E1 (by omega) (by omega) d43 rfl rfl ?_
  intro u2 E2
  refine em_emit GC E2 (by omega) (by omega) d44 rfl rfl ?_
  intro u3 E3
  refine em_emit GC E3 (by omega) (by omega) d45 rfl rfl ?_
  intro u4 E4
  refine em_neg GC E4 (by omega) (by omega) d46 rfl rfl ?_
  intro u5 E5
  refine em_neg GC E5 (by omega) (by omega) d61 rfl rfl ?_
  intro u6 E6
  refine em_ls GC E6 (by omega) (by omega) d76 d81 d82 ?_
  intro u7 E7
  refine em_emit GC E7 (by omega) (by omega) d83 rfl rfl ?_
  intro u8 E8
  refine em_left GC E8 (by omega) (by omega) d84 rfl ?_
  intro u9 E9
  refine em_left GC E9 (by omega) (by omega) d88 rfl ?_
  intro u10 E10
  refine em_cmp GC E10 (by omega) (by omega) d92 rfl rfl ?_
  intro u11 E11
  refine em_hole GC E11 (by omega) (by omega) d101 rfl ?_
  intro u12 E12
  refine em_chain GC E12 (by omega) (by omega) d102 rfl rfl rfl ?_
  intro u13 E13
  refine em_emit GC E13 (by omega) (by omega) d115 rfl rfl ?_
  intro u14 E14
  refine em_emit GC E14 (by omega) (by omega) d116 rfl rfl ?_
  intro u15 E15
  refine em_emit GC E15 (by omega) (by omega) d117 rfl rfl ?_
  intro u16 E16
  refine em_patch E16 (by omega) (by omega) (congrArg Prod.snd d101) rfl ?_
  intro u17 E17
  refine em_le GC E17 (by omega) (by omega) d118 d119 (em_size E7) ?_
  intro u18 E18
  refine em_emit GC E18 (by omega) (by omega) d120 rfl rfl ?_
  intro u19 E19
  exact P u19 E19
theorem em_Div (GC : em_G C) (HC : oc_at C 0 cd_HL) (hE : em_E u0 C 121 5000 (nI 42) en he u) (P : ∀ u', em_E u0 C 149 5000 (nI 42) en (upd he 5 (nI 121)) u' → post u') : wpX_emitDiv post u := by
  have d121 : oc_at C 121 (cd_test 132) := oc_at_sub HC 121 4 (by decide +kernel)
  have d125 : C 125 = (14, 132) := oc_in1 HC 125 (by decide +kernel)
  have d126 : oc_at C 126 (cd_fill 128 255) := oc_at_sub HC 126 5 (by decide +kernel)
  have d131 : C 131 = (19, 0) := oc_in1 HC 131 (by decide +kernel)
  have d132 : C 132 = (18, 42) := oc_in1 HC 132 (by decide +kernel)
  have d133 : oc_at C 133 (cd_neg 57 128 148) := oc_at_sub HC 133 15 (by decide +kernel)
  have d148 : C 148 = (19, 0) := oc_in1 HC 148 (by decide +kernel)
  rw [eX_emitDiv]
  intro hp ehp
  rw [em_he hE, em_size hE] at ehp
  subst ehp
  refine em_test GC (em_sethe hE (upd he 5 (nI 121))) (by omega) (by omega) d121 rfl ?_
  intro u1 E1
  refine em_hole GC E1 (by omega) (by omega) d125 rfl ?_
  intro u2 E2
  refine em_fill GC E2 (by omega) (by omega) d126 rfl rfl ?_
  intro u3 E3
  refine em_emit GC E3 (by omega) (by omega) d131 rfl rfl ?_
  intro u4 E4
  refine em_patch E4 (by omega) (by omega) (congrArg Prod.snd d125) rfl ?_
  intro u5 E5
  refine em_emit GC E5 (by omega) (by omega) d132 rfl (em_dv E5) ?_
  intro u6 E6
  refine em_neg GC E6 (by omega) (by omega) d133 rfl rfl ?_
  intro u7 E7
  refine em_emit GC E7 (by omega) (by omega) d148 rfl rfl ?_
  intro u8 E8
  exact P u8 E8
theorem em_Rem (GC : em_G C) (HC : oc_at C 0 cd_HL) (hE : em_E u0 C 149 5000 (nI 42) en he u) (P : ∀ u', em_E u0 C 180 5000 (nI 42) en (upd he 6 (nI 149)) u' → post u') : wpX_emitRem post u := by
  have d149 : oc_at C 149 (cd_test 132) := oc_at_sub HC 149 4 (by decide +kernel)
  have d153 : C 153 = (14, 155) := oc_in1 HC 153 (by decide +kernel)
  have d154 : C 154 = (19, 0) := oc_in1 HC 154 (by decide +kernel)
  have d155 : C 155 = (18, 42) := oc_in1 HC 155 (by decide +kernel)
  have d156 : oc_at C 156 (cd_copy 52 128) := oc_at_sub HC 156 8 (by decide +kernel)
  have d164 : oc_at C 164 (cd_neg 58 128 179) := oc_at_sub HC 164 15 (by decide +kernel)
  have d179 : C 179 = (19, 0) := oc_in1 HC 179 (by decide +kernel)
  rw [eX_emitRem]
  intro hp ehp
  rw [em_he hE, em_size hE] at ehp
  subst ehp
  refine em_test GC (em_sethe hE (upd he 6 (nI 149))) (by omega) (by omega) d149 rfl ?_
  intro u1 E1
  refine em_hole GC E1 (by omega) (by omega) d153 rfl ?_
  intro u2 E2
  refine em_emit GC E2 (by omega) (by omega) d154 rfl rfl ?_
  intro u3 E3
  refine em_patch E3 (by omega) (by omega) (congrArg Prod.snd d153) rfl ?_
  intro u4 E4
  refine em_emit GC E4 (by omega) (by omega) d155 rfl (em_dv E4) ?_
  intro u5 E5
  refine em_copy GC E5 (by omega) (by omega) d156 rfl rfl ?_
  intro u6 E6
  refine em_neg GC E6 (by omega) (by omega) d164 rfl rfl ?_
  intro u7 E7
  refine em_emit GC E7 (by omega) (by omega) d179 rfl rfl ?_
  intro u8 E8
  exact P u8 E8
theorem em_Shl (GC : em_G C) (HC : oc_at C 0 cd_HL) (hE : em_E u0 C 180 5000 dv en he u) (P : ∀ u', em_E u0 C 192 5000 dv en (upd he 7 (nI 180)) u' → post u') : wpX_emitShift post u 7 := by
  have d180 : C 180 = (0, 31) := oc_in1 HC 180 (by decide +kernel)
  have d181 : C 181 = (5, 132) := oc_in1 HC 181 (by decide +kernel)
  have d182 : C 182 = (2, 56) := oc_in1 HC 182 (by decide +kernel)
  have d183 : C 183 = (13, 191) := oc_in1 HC 183 (by decide +kernel)
  have d184 : C 184 = (11, 0) := oc_in1 HC 184 (by decide +kernel)
  have d185 : oc_at C 185 (cd_left 128) := oc_at_sub HC 185 4 (by decide +kernel)
  have d189 : C 189 = (10, 56) := oc_in1 HC 189 (by decide +kernel)
  have d190 : C 190 = (14, 184) := oc_in1 HC 190 (by decide +kernel)
  have d191 : C 191 = (19, 0) := oc_in1 HC 191 (by decide +kernel)
  rw [eX_emitShift]
  refine ⟨vp_in_nI (n := 7) (by omega) (by omega), ?_⟩
  intro hp ehp
  rw [em_he hE, em_size hE, show (7 : Int32).toNatClampNeg = 7 from by decide] at ehp
  subst ehp
  refine em_emit GC (em_sethe hE (upd he 7 (nI 180))) (by omega) (by omega) d180 rfl rfl ?_
  intro u1 E1
  refine em_emit GC E1 (by omega) (by omega) d181 rfl rfl ?_
  intro u2 E2
  refine em_emit GC E2 (by omega) (by omega) d182 rfl rfl ?_
  intro u3 E3
  refine em_hole GC E3 (by omega) (by omega) d183 rfl ?_
  intro u4 E4
  refine br_t rfl ?_
  refine em_emit GC E4 (by omega) (by omega) d184 rfl rfl ?_
  intro u5 E5
  refine em_left GC E5 (by omega) (by omega) d185 rfl ?_
  intro u6 E6
  rw [eX_emitShift_105]
  refine em_le GC E6 (by omega) (by omega) d189 d190 (em_size E4) ?_
  intro u7 E7
  refine em_patch E7 (by omega) (by omega) (congrArg Prod.snd d183) rfl ?_
  intro u8 E8
  refine em_emit GC E8 (by omega) (by omega) d191 rfl rfl ?_
  intro u9 E9
  exact P u9 E9
theorem em_Shr (GC : em_G C) (HC : oc_at C 0 cd_HL) (hE : em_E u0 C 192 5000 dv en he u) (P : ∀ u', em_E u0 C 206 5000 dv en (upd he 8 (nI 192)) u' → post u') : wpX_emitShift post u 8 := by
  have d192 : C 192 = (0, 31) := oc_in1 HC 192 (by decide +kernel)
  have d193 : C 193 = (5, 132) := oc_in1 HC 193 (by decide +kernel)
  have d194 : C 194 = (2, 56) := oc_in1 HC 194 (by decide +kernel)
  have d195 : C 195 = (13, 205) := oc_in1 HC 195 (by decide +kernel)
  have d196 : C 196 = (1, 131) := oc_in1 HC 196 (by decide +kernel)
  have d197 : C 197 = (2, 58) := oc_in1 HC 197 (by decide +kernel)
  have d198 : C 198 = (8, 58) := oc_in1 HC 198 (by decide +kernel)
  have d199 : oc_at C 199 (cd_right 128) := oc_at_sub HC 199 4 (by decide +kernel)
  have d203 : C 203 = (10, 56) := oc_in1 HC 203 (by decide +kernel)
  have d204 : C 204 = (14, 196) := oc_in1 HC 204 (by decide +kernel)
  have d205 : C 205 = (19, 0) := oc_in1 HC 205 (by decide +kernel)
  rw [eX_emitShift]
  refine ⟨vp_in_nI (n := 8) (by omega) (by omega), ?_⟩
  intro hp ehp
  rw [em_he hE, em_size hE, show (8 : Int32).toNatClampNeg = 8 from by decide] at ehp
  subst ehp
  refine em_emit GC (em_sethe hE (upd he 8 (nI 192))) (by omega) (by omega) d192 rfl rfl ?_
  intro u1 E1
  refine em_emit GC E1 (by omega) (by omega) d193 rfl rfl ?_
  intro u2 E2
  refine em_emit GC E2 (by omega) (by omega) d194 rfl rfl ?_
  intro u3 E3
  refine em_hole GC E3 (by omega) (by omega) d195 rfl ?_
  intro u4 E4
  refine br_f (by decide) ?_
  refine em_emit GC E4 (by omega) (by omega) d196 rfl rfl ?_
  intro u5 E5
  refine em_emit GC E5 (by omega) (by omega) d197 rfl rfl ?_
  intro u6 E6
  refine em_emit GC E6 (by omega) (by omega) d198 rfl rfl ?_
  intro u7 E7
  refine em_right GC E7 (by omega) (by omega) d199 rfl ?_
  intro u8 E8
  rw [eX_emitShift_105]
  refine em_le GC E8 (by omega) (by omega) d203 d204 (em_size E4) ?_
  intro u9 E9
  refine em_patch E9 (by omega) (by omega) (congrArg Prod.snd d195) rfl ?_
  intro u10 E10
  refine em_emit GC E10 (by omega) (by omega) d205 rfl rfl ?_
  intro u11 E11
  exact P u11 E11
end
end
section
/-! emission of the text's own code -/
section
variable {u0 : SX} {C : Nat → Nat × Nat} {n h : Nat} {dv : Int32} {en he : Nat → Int32} {u : SX}
theorem em_call {o a : Nat} {post : SX → Prop} (GC : em_G C) (hE : em_E u0 C n h dv en he u) (hn : n + 2 ≤ 2048) (hh : h < n ∨ 2048 ≤ h) (ho : o < 10) (c0 : C n = (12, a)) (c1 : C (n + 1) = (18, cd_ha o)) (hq : he o = nI (cd_ha o)) (P : ∀ u', em_E u0 C (n + 2) h dv en he u' → post u') : vX_emitOperator_106 post (nI o) (nI a) u := by
  rw [eX_emitOperator_106]
  refine em_emit GC hE (by omega) (by omega) c0 rfl rfl ?_
  intro u1 E1
  refine ⟨vp_in_nI ho (by decide), ?_⟩
  refine em_emit GC E1 (by omega) (by omega) c1 rfl (by rw [em_he E1, nI_clamp (by omega), hq]) ?_
  intro u2 E2
  exact P u2 E2
theorem em_Op {o a b : Nat} {post : SX → Prop} (GC : em_G C) (hE : em_E u0 C n h dv en he u) (hn : n + 21 ≤ 2048) (hh : h < n ∨ 2048 ≤ h) (ho : o < 10) (hc : oc_at C n (cd_op o a b)) (hq : ∀ o, 4 ≤ o → o ≤ 8 → he o = nI (cd_ha o)) (P : ∀ u', em_E u0 C (n + (cd_op o a b).length) h dv en he u' → post u') : wpX_emitOperator post u (nI o) (nI a) (nI b) := by
  rw [eX_emitOperator]
  match o, ho, hc, P with
  | 0, _, hc, P =>
    refine br_f (by decide) (br_f (by decide) (br_t rfl ?_))
    exact em_chain GC hE (by omega) hh hc rfl rfl rfl P
  | 1, _, hc, P =>
    refine br_f (by decide) (br_f (by decide) (br_f (by decide) (br_t rfl ?_)))
    exact em_chain GC hE (by omega) hh hc rfl rfl rfl P
  | 2, _, hc, P =>
    refine br_f (by decide) (br_f (by decide) (br_f (by decide) (br_f (by decide) (br_t rfl ?_))))
    exact em_chain GC hE (by omega) hh hc rfl rfl rfl P
  | 3, _, hc, P =>
    refine br_f (by decide) (br_f (by decide) (br_f (by decide) (br_f (by decide) (br_f (by decide) (br_t rfl ?_)))))
    exact em_chain GC hE (by omega) hh hc rfl rfl rfl P
  | 4, ho, hc, P =>
    refine br_f (by decide) (br_f (by decide) (br_f (by decide) (br_f (by decide) (br_f (by decide) (br_f (by decide) (br_t rfl ?_))))))
    exact em_call GC hE (by omega) hh ho hc.1 hc.2.1 (hq 4 (by decide) (by decide)) P
  | 5, ho, hc, P =>
    refine br_f (by decide) (br_f (by decide) (br_f (by decide) (br_f (by decide) (br_f (by decide) (br_f (by decide) (br_f (by decide) (br_t rfl ?_)))))))
    exact em_call GC hE (by omega) hh ho hc.1 hc.2.1 (hq 5 (by decide) (by decide)) P
  | 6, ho, hc, P =>
    refine br_f (by decide) (br_f (by decide) (br_f (by decide) (br_f (by decide) (br_f (by decide) (br_f (by decide) (br_f (by decide) (br_f (by decide) (br_t rfl ?_))))))))
    exact em_call GC hE (by omega) hh ho hc.1 hc.2.1 (hq 6 (by decide) (by decide)) P
  | 7, ho, hc, P =>
    refine br_f (by decide) (br_f (by decide) (br_f (by decide) (br_f (by decide) (br_f (by decide) (br_f (by decide) (br_f (by decide) (br_f (by decide) (br_f (by decide) (br_t rfl ?_)))))))))
    exact em_call GC hE (by omega) hh ho hc.1 hc.2.1 (hq 7 (by decide) (by decide)) P
  | 8, ho, hc, P =>
    refine br_f (by decide) (br_f (by decide) (br_f (by decide) (br_f (by decide) (br_f (by decide) (br_f (by decide) (br_f (by decide) (br_f (by decide) (br_f (by decide) (br_f (by decide) (br_t rfl ?_))))))))))
    exact em_call GC hE (by omega) hh ho hc.1 hc.2.1 (hq 8 (by decide) (by decide)) P
  | 9, _, hc, P =>
    refine br_f (by decide) (br_f (by decide) (br_f (by decide) (br_f (by decide) (br_f (by decide) (br_f (by decide) (br_f (by decide) (br_f (by decide) (br_f (by decide) (br_f (by decide) (br_f (by decide) (br_t rfl ?_)))))))))))
    exact em_less GC hE (by omega) hh hc rfl rfl P
  | k + 10, z, _, _ => exact absurd z (by omega)
end
section
variable {u0 : SX} {K mt : Nat → Nat} {A : Nat → Int32} {nv no nn us : Nat} {C : Nat → Nat × Nat} {dv : Int32} {en he : Nat → Int32} {u : SX}
theorem em_Tok {i n : Nat} {post : Int32 → SX → Prop} (GC : em_G C) (hw : pu_wf K A nv no nn us) (hv : nv ≤ 8) (ho : no ≤ 5) (hu : us ≤ 48) (hi : i < us) (h3 : K i < 3) (hK : ax_kinds u0 = fun j => nI (K j)) (hA : ax_args u0 = A) (hq : ∀ o, 4 ≤ o → o ≤ 8 → he o = nI (cd_ha o))
    (hE : em_E u0 C n 5000 dv en he u) (hn : n + 21 ≤ 2048) (hc : oc_at C n (cd_tok (K i) (A i) (pu_lv K i))) (P : ∀ u', em_E u0 C (n + (cd_tok (K i) (A i) (pu_lv K i)).length) 5000 dv en he u' → post (nI (pu_lv K (i + 1))) u') : wpX_emitToken post u (nI i) (nI (pu_lv K i)) := by
  obtain ⟨_, q1, q2, q3, _, _, _⟩ := hw i hi
  obtain ⟨b1, b2⟩ := pu_lv_ld hw i (by omega)
  rw [eX_emitToken, em_kinds hE, em_args hE, hK, hA, nI_clamp (by omega)]
  have hin : vp_in (nI i) 48 := vp_in_nI (by omega) (by decide)
  have e0 : (32 : Int32) + 4 * nI (pu_lv K i) = nI (32 + 4 * pu_lv K i) := by
    have e := pk_mul 4 (pu_lv K i)
    have e' : (4 : Int32) * nI (pu_lv K i) = nI (4 * pu_lv K i) := e
    rw [e']
    exact nI_add 32 _
  rw [e0]
  refine nm_e ?_
  refine ⟨hin, ?_⟩
  rw [pu_lv_s] at P
  unfold cd_tok at hc P
  by_cases k2 : K i = 2
  · obtain ⟨l2, o, o1, o2⟩ := q3 k2
    refine br_t (by show nI (K i) = 2; rw [k2]; rfl) ⟨hin, ?_⟩
    rw [if_pos k2] at hc
    rw [if_pos k2, if_neg (by omega), if_pos k2] at P
    rw [o2, nI_clamp (by omega)] at hc P
    rw [o2]
    have s8 : nI (32 + 4 * pu_lv K i) - 8 = nI (32 + 4 * pu_lv K i - 8) := pk_sub (a := 32 + 4 * pu_lv K i) (b := 8) (by omega)
    have s4 : nI (32 + 4 * pu_lv K i) - 4 = nI (32 + 4 * pu_lv K i - 4) := pk_sub (a := 32 + 4 * pu_lv K i) (b := 4) (by omega)
    have s1 : nI (pu_lv K i) - 1 = nI (pu_lv K i - 1) := pk_sub (a := pu_lv K i) (b := 1) (by omega)
    rw [s8, s4]
    refine em_Op GC hE hn (by omega) o1 hc hq ?_
    intro u1 E1
    rw [s1]
    exact P u1 E1
  · have kl : K i < 2 := by omega
    have hld := q1 kl
    rw [if_neg k2] at hc
    rw [if_neg k2, if_pos kl] at P
    refine br_f (fun z => k2 ((nI_eq (by omega) (by omega)).mp (z : nI (K i) = nI 2))) ⟨hin, ?_⟩
    by_cases k1 : K i = 1
    · obtain ⟨v, v1, v2⟩ := q2 (Or.inl k1)
      refine br_t (by show nI (K i) = 1; rw [k1]; rfl) ⟨hin, ?_⟩
      rw [if_pos k1] at hc P
      rw [v2, nI_clamp (by omega)] at hc P
      rw [v2]
      refine em_copy GC hE (by omega) (by omega) hc (pk_mul 4 v) rfl ?_
      intro u1 E1
      rw [nI_1]
      exact P u1 E1
    · rw [if_neg k1] at hc P
      refine br_f (fun z => k1 ((nI_eq (by omega) (by omega)).mp (z : nI (K i) = nI 1))) ⟨hin, ?_⟩
      refine em_const GC hE (by omega) (by omega) hc rfl ?_
      intro u1 E1
      rw [nI_1]
      exact P u1 E1
theorem em_Cl {i n : Nat} {post : SX → Prop} (GC : em_G C) (hw : pu_wf K A nv no nn us) (hl : pu_lk K us mt) (hv : nv ≤ 8) (hu : us ≤ 48) (hi : i < us) (h3 : ¬ K i < 3) (hK : ax_kinds u0 = fun j => nI (K j)) (hA : ax_args u0 = A) (hM : ∀ j, j < us → 4 ≤ K j → ax_match u0 j = nI (mt j)) (hF : ∀ j, j < us → 3 ≤ K j → ax_first u0 j = nI (pu_tl K j))
    (hE : em_E u0 C n 5000 dv en he u) (hn : n + 21 ≤ 2048) (hc : oc_at C n (cd_cl K mt A i n)) (P : ∀ u', em_E u0 C (n + (cd_cl K mt A i n).length) 5000 dv en he u' → post u') : wpX_emitClosing post u (nI i) := by
  obtain ⟨k6, _, q2, _, _, _, _⟩ := hw i hi
  have hin : vp_in (nI i) 48 := vp_in_nI (by omega) (by decide)
  rw [eX_emitClosing, em_kinds hE, em_args hE, hK, hA, nI_clamp (by omega)]
  refine ⟨hin, ?_⟩
  unfold cd_cl at hc P
  by_cases a6 : K i = 6
  · rw [if_pos a6] at hc P
    refine br_t (by show nI (K i) = 6; rw [a6]; rfl) ?_
    have ml := ((hl i hi).2 a6)
    have m1 := ml.1
    rw [eX_afterEnd, em_kinds hE, em_match hE, em_first hE, hK, nI_clamp (by omega), hM i hi (by omega)]
    refine ⟨hin, nm_e ⟨vp_in_nI (by omega) (by decide), ?_⟩⟩
    rw [nI_clamp (by omega)]
    unfold pu_ae at hc P
    by_cases b4 : K (mt i) = 4
    · rw [if_pos b4] at hc P
      refine br_t (by show nI (K (mt i)) = 4; rw [b4]; rfl) ?_
      refine em_emit GC hE (by omega) (by omega) hc.1 rfl (nI_1 i) ?_
      intro u1 E1
      exact P u1 E1
    · have b5 : K (mt i) = 5 := by have := ml.2.1; omega
      rw [if_neg b4] at hc P
      refine br_f (fun z => b4 ((nI_eq (by omega) (by omega)).mp (z : nI (K (mt i)) = nI 4))) ⟨vp_in_nI (by omega) (by decide), ?_⟩
      refine em_emit GC hE (by omega) (by omega) hc.1 rfl (hF (mt i) (by omega) (by omega)) ?_
      intro u1 E1
      exact P u1 E1
  · rw [if_neg a6] at hc P
    refine br_f (fun z => a6 ((nI_eq (by omega) (by omega)).mp (z : nI (K i) = nI 6))) ⟨hin, ?_⟩
    by_cases a3 : K i = 3
    · rw [if_pos a3] at hc P
      obtain ⟨v, v1, v2⟩ := q2 (Or.inr a3)
      refine br_t (by show nI (K i) = 3; rw [a3]; rfl) ⟨hin, ?_⟩
      rw [v2, nI_clamp (by omega)] at hc P
      rw [v2]
      obtain ⟨hc1, hc2⟩ := oc_at_app hc
      refine em_copy GC hE (by omega) (by omega) hc1 rfl (pk_mul 4 v) ?_
      intro u1 E1
      refine em_emit GC E1 (by omega) (by omega) hc2.1 rfl (nI_1 i) ?_
      intro u2 E2
      exact P u2 E2
    · rw [if_neg a3] at hc P
      refine br_f (fun z => a3 ((nI_eq (by omega) (by omega)).mp (z : nI (K i) = nI 3))) ?_
      obtain ⟨hc1, hc2⟩ := oc_at_app hc
      have ml := ((hl i hi).1 (by omega)).2
      have c4 : C (n + 4) = (13, n + 6) := hc2.1
      have c5 : C (n + 4 + 1) = (20, i + 1) := hc2.2.1
      have c6 : C (n + 4 + 1 + 1) = (20, mt i + 1) := hc2.2.2.1
      refine em_test GC hE (by omega) (by omega) hc1 rfl ?_
      intro u1 E1
      refine em_hole GC E1 (by omega) (by omega) c4 rfl ?_
      intro u2 E2
      refine em_emit GC E2 (by omega) (by omega) c5 rfl (nI_1 i) ?_
      intro u3 E3
      refine em_patch E3 (by omega) (by omega) (by rw [c4]) rfl ?_
      intro u4 E4
      refine ⟨hin, ?_⟩
      refine em_emit GC E4 (by omega) (by omega) c6 rfl (by rw [em_match E4, hM i hi (by omega), nI_1]) ?_
      intro u5 E5
      exact P u5 E5
theorem em_loop {post : SX → Prop} (GC : em_G (cd_C K mt A us)) (hw : pu_wf K A nv no nn us) (hl : pu_lk K us mt) (hv : nv ≤ 8) (ho : no ≤ 5) (hu : us ≤ 48) (hK : ax_kinds u0 = fun j => nI (K j)) (hA : ax_args u0 = A) (hU : ax_used u0 = nI us) (hM : ∀ j, j < us → 4 ≤ K j → ax_match u0 j = nI (mt j)) (hF : ∀ j, j < us → 3 ≤ K j → ax_first u0 j = nI (pu_tl K j)) (hq : ∀ o, 4 ≤ o → o ≤ 8 → he o = nI (cd_ha o))
    (P : ∀ en' u', em_E u0 (cd_C K mt A us) (cd_P K mt A us) 5000 dv en' he u' → (∀ j, j ≤ us → pu_tl K j = j → en' j = nI (cd_P K mt A j)) → post u') :
    ∀ (d i : Nat) (en : Nat → Int32) (u : SX), i + d = us → em_E u0 (cd_C K mt A us) (cd_P K mt A i) 5000 dv en he u → (∀ j, j ≤ i → pu_tl K j = j → en j = nI (cd_P K mt A j)) → vX_compile_47 post (d + 1) (nI (pu_lv K i)) (nI i) u := by
  intro d
  induction d with
  | zero =>
    intro i en u hi hE hen
    have e : i = us := by omega
    subst e
    rw [eX_compile_47, em_used hE, hU]
    exact br_t (nI_le (Nat.le_refl _) (by omega)) (P en u hE hen)
  | succ d ih =>
    intro i en u hi hE hen
    have hP := cd_P_le K mt A i
    have hc := cd_C_seg K mt A (us := us) (i := i) (by omega)
    rw [eX_compile_47, em_used hE, hU, em_kinds hE, hK, nI_clamp (by omega)]
    refine br_f (nI_ge (by omega) (by omega)) ⟨vp_in_nI (by omega) (by decide), ?_⟩
    obtain ⟨k6, _⟩ := hw i (by omega)
    have hPs := cd_P_s K mt A i
    unfold cd_seg at hc hPs
    by_cases k3 : K i < 3
    · rw [if_pos k3] at hc hPs
      refine br_f (nI_ge (b := 3) k3 (by decide)) ?_
      refine em_Tok GC hw hv ho hu (by omega) k3 hK hA hq hE (by omega) hc ?_
      intro u1 E1
      refine nm_r (nI_1 i) ?_
      refine ih (i + 1) en u1 (by omega) (by rw [hPs]; exact E1) ?_
      intro j hj ht
      refine hen j ?_ ht
      by_cases ej : j = i + 1
      · rw [ej, pu_tl_s, if_pos k3] at ht
        have := pu_tl_le K i
        omega
      · omega
    · rw [if_neg k3] at hc hPs
      refine br_t (nI_le (a := 3) (by omega) (by omega)) ?_
      refine em_Cl GC hw hl hv hu (by omega) k3 hK hA hM hF hE (by omega) hc ?_
      intro u1 E1
      rw [← hPs] at E1
      rw [em_en E1, em_size E1, nI_1, nI_clamp (by omega)]
      refine ⟨vp_in_nI (by omega) (by decide), nm_e (nm_e ?_)⟩
      have hlv : pu_lv K (i + 1) = 0 := (pu_tl_lv (pu_tl_cl (by omega))).1
      have R := ih (i + 1) (upd en (i + 1) (nI (cd_P K mt A (i + 1)))) _ (by omega) (em_seten E1 _) (by
        intro j hj ht
        by_cases ej : j = i + 1
        · rw [ej, pk_us]
        · rw [pk_un ej]
          exact hen j (by omega) ht)
      rw [hlv] at R
      exact R
theorem em_compile {post : SX → Prop} (hw : pu_wf K A nv no nn us) (hl : pu_lk K us mt) (hv : nv ≤ 8) (ho : no ≤ 5) (hu : us ≤ 48) (hK : ax_kinds u0 = fun j => nI (K j)) (hA : ax_args u0 = A) (hU : ax_used u0 = nI us) (hM : ∀ j, j < us → 4 ≤ K j → ax_match u0 j = nI (mt j)) (hF : ∀ j, j < us → 3 ≤ K j → ax_first u0 j = nI (pu_tl K j))
    (P : ∀ dv en he u', em_E u0 (cd_C K mt A us) (cd_P K mt A us) 5000 dv en he u' → (∀ j, j ≤ us → pu_tl K j = j → en j = nI (cd_P K mt A j)) → post u') : wpX_compile post u0 := by
  have GC : em_G (cd_C K mt A us) := fun p => ⟨(cd_C_g hw hl hv ho hu p).1, (cd_C_g hw hl hv ho hu p).2.1⟩
  have HC := cd_C_HL K mt A us
  rw [eX_compile]
  have E0 : em_E u0 (cd_C K mt A us) 0 5000 (ax_divideAt u0) (ax_entry u0) (ax_helper u0) (sx_size u0 0) := ⟨ax_codeOp u0, ax_codeArg u0, rfl, fun j hj => absurd hj (Nat.not_lt_zero j)⟩
  refine em_Mul GC HC E0 ?_
  intro u1 E1
  refine em_Divide GC HC E1 ?_
  intro u2 E2
  refine em_Div GC HC E2 ?_
  intro u3 E3
  refine em_Rem GC HC E3 ?_
  intro u4 E4
  refine em_Shl GC HC E4 ?_
  intro u5 E5
  refine em_Shr GC HC E5 ?_
  intro u6 E6
  rw [em_en E6, em_size E6]
  refine nm_e ⟨us + 1, ?_⟩
  refine em_loop GC hw hl hv ho hu hK hA hU hM hF ?_ (fun en' u' hE hen => P _ en' _ u' hE hen) us 0 _ _ (by omega) (by rw [cd_P_0]; exact em_seten E6 _) ?_
  · intro o o1 o2
    have : o = 4 ∨ o = 5 ∨ o = 6 ∨ o = 7 ∨ o = 8 := by omega
    rcases this with rfl | rfl | rfl | rfl | rfl <;> rfl
  · intro j hj _
    have : j = 0 := by omega
    rw [this, pk_us, cd_P_0]
end
end
section
def oc_st (u : SX) (y_calls : Int32) (y_acc : Int32) (y_carry : Int32) (y_index : Int32) (y_pc : Int32) (y_places : Nat → Int32) (y_mem : Nat → Int32) (y_returns : Nat → Int32) : SX := match u with
  | (f_LDI, f_LDA, f_STA, f_ADC, f_SBC, f_ANA, f_XRA, f_ORA, f_ROL, f_ROR, f_DEC, f_CLC, f_LDX, f_JZ, f_JNZ, f_JC, f_JNC, f_JPL, f_JSR, f_RTS, f_HLT, f_STACK, f_REST, f_COUNT, f_SIGN_Q, f_SIGN_A, f_OPA, f_OPB, f_vars, f_capacity, f_operands, f_nest, f_used, f_tail, f_loaded, f_depth, f_open, f_stage, f_divideAt, f_size, _, _, _, _, _, a_kinds, a_args, a_first, a_match, a_openAt, _, a_dones, a_wideVars, a_wideStack, a_codeOp, a_codeArg, a_entry, a_helper, _, _) => (f_LDI, f_LDA, f_STA, f_ADC, f_SBC, f_ANA, f_XRA, f_ORA, f_ROL, f_ROR, f_DEC, f_CLC, f_LDX, f_JZ, f_JNZ, f_JC, f_JNC, f_JPL, f_JSR, f_RTS, f_HLT, f_STACK, f_REST, f_COUNT, f_SIGN_Q, f_SIGN_A, f_OPA, f_OPB, f_vars, f_capacity, f_operands, f_nest, f_used, f_tail, f_loaded, f_depth, f_open, f_stage, f_divideAt, f_size, y_calls, y_acc, y_carry, y_index, y_pc, a_kinds, a_args, a_first, a_match, a_openAt, y_places, a_dones, a_wideVars, a_wideStack, a_codeOp, a_codeArg, a_entry, a_helper, y_mem, y_returns)
/-! the octet machine's loop against the pure machine -/
def ot_rt : List Nat → (Nat → Int32) → Prop
  | [], _ => True
  | q :: r, f => f r.length = nI q ∧ ot_rt r f
theorem ot_rt_upd {f : Nat → Int32} {k : Nat} {v : Int32} : ∀ {r : List Nat}, r.length ≤ k → ot_rt r f → ot_rt r (upd f k v) := by
  intro r
  induction r with
  | nil => intro _ _; exact trivial
  | cons q r ih =>
    intro hk h
    rw [List.length_cons] at hk
    refine ⟨?_, ih (by omega) h.2⟩
    rw [pk_un (by omega)]
    exact h.1
def ot_S (u0 : SX) (pl : Nat → Int32) (s : OcS) (u : SX) : Prop :=
  ∃ ret : Nat → Int32, u = oc_st u0 (nI s.2.2.2.2.2.length) (nI s.2.1) (nI s.2.2.1) (nI s.2.2.2.1) (nI s.2.2.2.2.1) pl (fun i => nI (s.1 i)) ret ∧ ot_rt s.2.2.2.2.2 ret
theorem ot_upd (m : Nat → Nat) (e v : Nat) : upd (fun i => nI (m i)) e (nI v) = fun i => nI (oc_upd m e v i) := by
  funext i
  unfold upd oc_upd
  split <;> rfl
theorem nx_or (a b : Nat) : nI a ||| nI b = nI (a ||| b) := by
  apply Int32.toBitVec_inj.1
  show BitVec.ofNat 32 a ||| BitVec.ofNat 32 b = BitVec.ofNat 32 (a ||| b)
  apply BitVec.eq_of_getLsbD_eq
  intro i hi
  simp [hi]
theorem ot_128 : ∀ g, g < 256 → (nI g &&& 128 = 0 ↔ g < 128) := by decide +kernel
theorem ot_255 : ∀ t, t < 512 → nI t &&& 255 = nI (t % 256) := by decide +kernel
theorem ot_8 : ∀ t, t < 512 → nI t >>> ((8 : Int32) &&& 31) = nI (t / 256) := by decide +kernel
theorem ot_81 : ∀ t, t < 512 → (nI t >>> ((8 : Int32) &&& 31)) &&& 1 = nI (t / 256) := by decide +kernel
theorem ot_n255 : ∀ d, d < 257 → 0 < d → (-nI d) &&& 255 = nI ((512 - d) % 256) := by decide +kernel
theorem ot_n8 : ∀ d, d < 257 → 0 < d → ((-nI d) >>> ((8 : Int32) &&& 31)) &&& 1 = nI 1 := by decide +kernel
theorem ot_rol : ∀ v, v < 256 → ∀ c, c < 2 → (nI v <<< ((1 : Int32) &&& 31)) ||| nI c = nI (2 * v + c) := by decide +kernel
theorem ot_ror : ∀ v, v < 256 → ∀ c, c < 2 → nI v ||| (nI c <<< ((8 : Int32) &&& 31)) = nI (v + 256 * c) := by decide +kernel
theorem ot_1 : ∀ t, t < 512 → nI t >>> ((1 : Int32) &&& 31) = nI (t / 2) ∧ nI t &&& 1 = nI (t % 2) := by decide +kernel
theorem ot_dec : ∀ v, v < 256 → (nI v - 1) &&& 255 = nI ((v + 255) % 256) := by decide +kernel
theorem ot_sub {a b c : Nat} (ha : a < 256) (hb : b < 256) (hc : c < 2) : ((nI a - nI b) - nI c) &&& 255 = nI ((a + 512 - b - c) % 256) ∧ (((nI a - nI b) - nI c) >>> ((8 : Int32) &&& 31)) &&& 1 = nI ((b + c + 255 - a) / 256) := by
  by_cases h : b + c ≤ a
  · have e : (nI a - nI b) - nI c = nI (a - b - c) := by
      rw [pk_sub (by omega), pk_sub (by omega)]
    rw [e, ot_255 _ (by omega), ot_81 _ (by omega)]
    refine ⟨congrArg nI ?_, congrArg nI ?_⟩ <;> omega
  · have e1 : nI b + nI c = nI (b + c - a) + nI a := by
      rw [nI_add, nI_add]
      exact congrArg nI (by omega)
    have e : (nI a - nI b) - nI c = -nI (b + c - a) := by
      generalize nI (b + c - a) = z at e1
      generalize nI a = va at e1
      generalize nI b = vb at e1
      generalize nI c = vc at e1
      grind
    rw [e, ot_n255 _ (by omega) (by omega), ot_n8 _ (by omega) (by omega)]
    refine ⟨congrArg nI ?_, congrArg nI ?_⟩ <;> omega
section
variable {u0 : SX} {pl : Nat → Int32} {m : Nat → Nat} {a c x p g : Nat} {r : List Nat} {u : SX} {post : SX → Prop}
theorem ot_ea (hg : g < 256) (hx : x < 32768) (hS : ot_S u0 pl (m, a, c, x, p, r) u) {O : Int32} (P : ∀ z0, z0 &&& 127 = nI (oc_ea g x) → vX_operate_18 post O (nI g) z0 u) : wpX_operate post u O (nI g) := by
  obtain ⟨ret, rfl, _⟩ := hS
  rw [eX_operate]
  by_cases h : g < 128
  · refine br_t ((ot_128 g hg).mpr h) (P _ ?_)
    rw [pk_andN (by omega) (m := 127) 7 (by decide), oc_ea, if_pos h]
    exact congrArg nI (by omega)
  · refine br_f (fun z => h ((ot_128 g hg).mp z)) (P _ ?_)
    show (nI g + nI x) &&& 127 = _
    rw [nI_add, pk_andN (by omega) (m := 127) 7 (by decide), oc_ea, if_neg h]
    try rfl
theorem oc_ea_lt {g x : Nat} : oc_ea g x < 128 := by
  unfold oc_ea
  split <;> omega
theorem ot_o0 (hm : ∀ i, m i < 256) (ha : a < 256) (hc : c < 2) (hg : g < 256) (hx : x < 32768) (hS : ot_S u0 pl (m, a, c, x, p + 1, r) u) (P : ∀ u', ot_S u0 pl (oc_exec 0 g m a c x p r) u' → post u') : wpX_operate post u 0 (nI g) := by
  refine ot_ea hg hx hS fun z0 ez => ?_
  obtain ⟨ret, rfl, hr⟩ := hS
  have he := oc_ea_lt (g := g) (x := x)
  have hv := hm (oc_ea g x)
  rw [eX_operate_18]
  refine nm_r ez ?_
  rw [nI_clamp (by omega)]
  refine br_f (by decide) (br_f (by decide) (br_t rfl ?_))
  exact P _ ⟨ret, rfl, hr⟩
theorem ot_o1 (hm : ∀ i, m i < 256) (ha : a < 256) (hc : c < 2) (hg : g < 256) (hx : x < 32768) (hS : ot_S u0 pl (m, a, c, x, p + 1, r) u) (P : ∀ u', ot_S u0 pl (oc_exec 1 g m a c x p r) u' → post u') : wpX_operate post u 1 (nI g) := by
  refine ot_ea hg hx hS fun z0 ez => ?_
  obtain ⟨ret, rfl, hr⟩ := hS
  have he := oc_ea_lt (g := g) (x := x)
  have hv := hm (oc_ea g x)
  rw [eX_operate_18]
  refine nm_r ez ?_
  rw [nI_clamp (by omega)]
  refine br_f (by decide) (br_f (by decide) (br_f (by decide) (br_t rfl ?_)))
  exact ⟨vp_in_nI he (by decide), nm_e (P _ ⟨ret, rfl, hr⟩)⟩
theorem ot_o2 (hm : ∀ i, m i < 256) (ha : a < 256) (hc : c < 2) (hg : g < 256) (hx : x < 32768) (hS : ot_S u0 pl (m, a, c, x, p + 1, r) u) (P : ∀ u', ot_S u0 pl (oc_exec 2 g m a c x p r) u' → post u') : wpX_operate post u 2 (nI g) := by
  refine ot_ea hg hx hS fun z0 ez => ?_
  obtain ⟨ret, rfl, hr⟩ := hS
  have he := oc_ea_lt (g := g) (x := x)
  have hv := hm (oc_ea g x)
  rw [eX_operate_18]
  refine nm_r ez ?_
  rw [nI_clamp (by omega)]
  refine br_f (by decide) (br_f (by decide) (br_f (by decide) (br_f (by decide) (br_t rfl ?_))))
  refine ⟨vp_in_nI he (by decide), nm_r (ot_upd m (oc_ea g x) a) (P _ ⟨ret, rfl, hr⟩)⟩
theorem ot_o3 (hm : ∀ i, m i < 256) (ha : a < 256) (hc : c < 2) (hg : g < 256) (hx : x < 32768) (hS : ot_S u0 pl (m, a, c, x, p + 1, r) u) (P : ∀ u', ot_S u0 pl (oc_exec 3 g m a c x p r) u' → post u') : wpX_operate post u 3 (nI g) := by
  refine ot_ea hg hx hS fun z0 ez => ?_
  obtain ⟨ret, rfl, hr⟩ := hS
  have he := oc_ea_lt (g := g) (x := x)
  have hv := hm (oc_ea g x)
  rw [eX_operate_18]
  refine nm_r ez ?_
  rw [nI_clamp (by omega)]
  refine br_f (by decide) (br_f (by decide) (br_f (by decide) (br_f (by decide) (br_f (by decide) (br_t rfl ?_)))))
  refine ⟨vp_in_nI he (by decide), ?_⟩
  rw [eX_split]
  have e : (nI a + nI (m (oc_ea g x))) + nI c = nI (a + m (oc_ea g x) + c) := by rw [nI_add, nI_add]
  refine nm_r (e' := nI ((a + m (oc_ea g x) + c) % 256)) ?_ (nm_r (e' := nI ((a + m (oc_ea g x) + c) / 256)) ?_ (P _ ⟨ret, rfl, hr⟩))
  · exact (congrArg (· &&& 255) e).trans (ot_255 _ (by omega))
  · exact (congrArg (fun z : Int32 => (z >>> ((8 : Int32) &&& 31)) &&& 1) e).trans (ot_81 _ (by omega))
theorem ot_o4 (hm : ∀ i, m i < 256) (ha : a < 256) (hc : c < 2) (hg : g < 256) (hx : x < 32768) (hS : ot_S u0 pl (m, a, c, x, p + 1, r) u) (P : ∀ u', ot_S u0 pl (oc_exec 4 g m a c x p r) u' → post u') : wpX_operate post u 4 (nI g) := by
  refine ot_ea hg hx hS fun z0 ez => ?_
  obtain ⟨ret, rfl, hr⟩ := hS
  have he := oc_ea_lt (g := g) (x := x)
  have hv := hm (oc_ea g x)
  rw [eX_operate_18]
  refine nm_r ez ?_
  rw [nI_clamp (by omega)]
  refine br_f (by decide) (br_f (by decide) (br_f (by decide) (br_f (by decide) (br_f (by decide) (br_f (by decide) (br_t rfl ?_))))))
  refine ⟨vp_in_nI he (by decide), ?_⟩
  rw [eX_split]
  have e := ot_sub ha hv hc
  exact nm_r (e' := nI ((a + 512 - m (oc_ea g x) - c) % 256)) e.1 (nm_r (e' := nI ((m (oc_ea g x) + c + 255 - a) / 256)) e.2 (P _ ⟨ret, rfl, hr⟩))
theorem ot_o5 (hm : ∀ i, m i < 256) (ha : a < 256) (hc : c < 2) (hg : g < 256) (hx : x < 32768) (hS : ot_S u0 pl (m, a, c, x, p + 1, r) u) (P : ∀ u', ot_S u0 pl (oc_exec 5 g m a c x p r) u' → post u') : wpX_operate post u 5 (nI g) := by
  refine ot_ea hg hx hS fun z0 ez => ?_
  obtain ⟨ret, rfl, hr⟩ := hS
  have he := oc_ea_lt (g := g) (x := x)
  have hv := hm (oc_ea g x)
  rw [eX_operate_18]
  refine nm_r ez ?_
  rw [nI_clamp (by omega)]
  refine br_f (by decide) (br_f (by decide) (br_f (by decide) (br_f (by decide) (br_f (by decide) (br_f (by decide) (br_f (by decide) (br_t rfl ?_)))))))
  exact ⟨vp_in_nI he (by decide), nm_r (e' := nI (a &&& m (oc_ea g x))) (nx_and a (m (oc_ea g x))) (P _ ⟨ret, rfl, hr⟩)⟩
theorem ot_o6 (hm : ∀ i, m i < 256) (ha : a < 256) (hc : c < 2) (hg : g < 256) (hx : x < 32768) (hS : ot_S u0 pl (m, a, c, x, p + 1, r) u) (P : ∀ u', ot_S u0 pl (oc_exec 6 g m a c x p r) u' → post u') : wpX_operate post u 6 (nI g) := by
  refine ot_ea hg hx hS fun z0 ez => ?_
  obtain ⟨ret, rfl, hr⟩ := hS
  have he := oc_ea_lt (g := g) (x := x)
  have hv := hm (oc_ea g x)
  rw [eX_operate_18]
  refine nm_r ez ?_
  rw [nI_clamp (by omega)]
  refine br_f (by decide) (br_f (by decide) (br_f (by decide) (br_f (by decide) (br_f (by decide) (br_f (by decide) (br_f (by decide) (br_f (by decide) (br_t rfl ?_))))))))
  exact ⟨vp_in_nI he (by decide), nm_r (e' := nI (a ^^^ m (oc_ea g x))) (nx_xor a (m (oc_ea g x))) (P _ ⟨ret, rfl, hr⟩)⟩
theorem ot_o7 (hm : ∀ i, m i < 256) (ha : a < 256) (hc : c < 2) (hg : g < 256) (hx : x < 32768) (hS : ot_S u0 pl (m, a, c, x, p + 1, r) u) (P : ∀ u', ot_S u0 pl (oc_exec 7 g m a c x p r) u' → post u') : wpX_operate post u 7 (nI g) := by
  refine ot_ea hg hx hS fun z0 ez => ?_
  obtain ⟨ret, rfl, hr⟩ := hS
  have he := oc_ea_lt (g := g) (x := x)
  have hv := hm (oc_ea g x)
  rw [eX_operate_18]
  refine nm_r ez ?_
  rw [nI_clamp (by omega)]
  refine br_f (by decide) (br_f (by decide) (br_f (by decide) (br_f (by decide) (br_f (by decide) (br_f (by decide) (br_f (by decide) (br_f (by decide) (br_f (by decide) (br_t rfl ?_)))))))))
  exact ⟨vp_in_nI he (by decide), nm_r (e' := nI (a ||| m (oc_ea g x))) (nx_or a (m (oc_ea g x))) (P _ ⟨ret, rfl, hr⟩)⟩
theorem ot_o8 (hm : ∀ i, m i < 256) (ha : a < 256) (hc : c < 2) (hg : g < 256) (hx : x < 32768) (hS : ot_S u0 pl (m, a, c, x, p + 1, r) u) (P : ∀ u', ot_S u0 pl (oc_exec 8 g m a c x p r) u' → post u') : wpX_operate post u 8 (nI g) := by
  refine ot_ea hg hx hS fun z0 ez => ?_
  obtain ⟨ret, rfl, hr⟩ := hS
  have he := oc_ea_lt (g := g) (x := x)
  have hv := hm (oc_ea g x)
  rw [eX_operate_18]
  refine nm_r ez ?_
  rw [nI_clamp (by omega)]
  refine br_f (by decide) (br_t (by decide) ?_)
  rw [eX_modify, nI_clamp (by omega)]
  refine br_t rfl ⟨vp_in_nI he (by decide), ?_⟩
  refine nm_r (e' := nI (2 * m (oc_ea g x) + c)) (ot_rol _ hv c hc) ⟨vp_in_nI he (by decide), ?_⟩
  refine nm_r (e' := fun i => nI (oc_upd m (oc_ea g x) ((2 * m (oc_ea g x) + c) % 256) i)) ?_ (nm_r (e' := nI ((2 * m (oc_ea g x) + c) / 256)) (ot_8 _ (by omega)) (P _ ⟨ret, rfl, hr⟩))
  rw [ot_255 _ (by omega)]
  exact ot_upd m (oc_ea g x) _
theorem ot_o9 (hm : ∀ i, m i < 256) (ha : a < 256) (hc : c < 2) (hg : g < 256) (hx : x < 32768) (hS : ot_S u0 pl (m, a, c, x, p + 1, r) u) (P : ∀ u', ot_S u0 pl (oc_exec 9 g m a c x p r) u' → post u') : wpX_operate post u 9 (nI g) := by
  refine ot_ea hg hx hS fun z0 ez => ?_
  obtain ⟨ret, rfl, hr⟩ := hS
  have he := oc_ea_lt (g := g) (x := x)
  have hv := hm (oc_ea g x)
  rw [eX_operate_18]
  refine nm_r ez ?_
  rw [nI_clamp (by omega)]
  refine br_f (by decide) (br_t (by decide) ?_)
  rw [eX_modify, nI_clamp (by omega)]
  refine br_f (by decide) (br_t rfl ⟨vp_in_nI he (by decide), ?_⟩)
  refine nm_r (e' := nI (m (oc_ea g x) + 256 * c)) (ot_ror _ hv c hc) ⟨vp_in_nI he (by decide), ?_⟩
  have e1 := ot_1 (m (oc_ea g x) + 256 * c) (by omega)
  refine nm_r (e' := fun i => nI (oc_upd m (oc_ea g x) ((m (oc_ea g x) + 256 * c) / 2) i)) ?_ (nm_r (e' := nI (m (oc_ea g x) % 2)) ?_ (P _ ⟨ret, rfl, hr⟩))
  · rw [e1.1]
    exact ot_upd m (oc_ea g x) _
  · rw [e1.2]
    exact congrArg nI (by omega)
theorem ot_o10 (hm : ∀ i, m i < 256) (ha : a < 256) (hc : c < 2) (hg : g < 256) (hx : x < 32768) (hS : ot_S u0 pl (m, a, c, x, p + 1, r) u) (P : ∀ u', ot_S u0 pl (oc_exec 10 g m a c x p r) u' → post u') : wpX_operate post u 10 (nI g) := by
  refine ot_ea hg hx hS fun z0 ez => ?_
  obtain ⟨ret, rfl, hr⟩ := hS
  have he := oc_ea_lt (g := g) (x := x)
  have hv := hm (oc_ea g x)
  rw [eX_operate_18]
  refine nm_r ez ?_
  rw [nI_clamp (by omega)]
  refine br_f (by decide) (br_t (by decide) ?_)
  rw [eX_modify, nI_clamp (by omega)]
  refine br_f (by decide) (br_f (by decide) ⟨vp_in_nI he (by decide), ?_⟩)
  refine nm_r (e' := nI ((m (oc_ea g x) + 255) % 256)) (ot_dec _ hv) ⟨vp_in_nI he (by decide), ?_⟩
  exact nm_r (ot_upd m (oc_ea g x) _) (P _ ⟨ret, rfl, hr⟩)
theorem ot_c11 (ha : a < 256) (hc : c < 2) (hp : p < 2048) (hl : r.length ≤ 4) (hS : ot_S u0 pl (m, a, c, x, p + 1, r) u) (P : ∀ u', ot_S u0 pl (oc_exec 11 g m a c x p r) u' → post u') : wpX_control post u 11 (nI g) := by
  obtain ⟨ret, rfl, hr⟩ := hS
  rw [eX_control]
  refine br_f (by decide) (br_f (by decide) (br_t rfl ?_))
  exact P _ ⟨ret, rfl, hr⟩
theorem ot_c12 (ha : a < 256) (hc : c < 2) (hp : p < 2048) (hl : r.length ≤ 4) (hS : ot_S u0 pl (m, a, c, x, p + 1, r) u) (P : ∀ u', ot_S u0 pl (oc_exec 12 g m a c x p r) u' → post u') : wpX_control post u 12 (nI g) := by
  obtain ⟨ret, rfl, hr⟩ := hS
  rw [eX_control]
  refine br_f (by decide) (br_f (by decide) (br_f (by decide) (br_t rfl ?_)))
  exact P _ ⟨ret, rfl, hr⟩
theorem ot_c13 (ha : a < 256) (hc : c < 2) (hp : p < 2048) (hl : r.length ≤ 4) (hS : ot_S u0 pl (m, a, c, x, p + 1, r) u) (P : ∀ u', ot_S u0 pl (oc_exec 13 g m a c x p r) u' → post u') : wpX_control post u 13 (nI g) := by
  obtain ⟨ret, rfl, hr⟩ := hS
  rw [eX_control]
  refine br_f (by decide) (br_f (by decide) (br_f (by decide) (br_f (by decide) (br_t rfl ?_))))
  by_cases z : a = 0
  · refine br_t (by show nI a = 0; rw [z]; rfl) ?_
    rw [eX_control_96, eX_jump]
    refine br_f (by decide) ?_
    refine P _ ⟨ret, ?_, hr⟩
    show _ = oc_st u0 (nI r.length) (nI a) (nI c) (nI x) (nI (if a = 0 then g else p + 1)) pl (fun i => nI (m i)) ret
    rw [if_pos z]
    try rfl
  · refine br_f (fun y => z ((nI_eq (by omega) (by omega)).mp (y : nI a = nI 0))) ?_
    rw [eX_control_96, eX_jump]
    refine br_t rfl ?_
    refine P _ ⟨ret, ?_, hr⟩
    show _ = oc_st u0 (nI r.length) (nI a) (nI c) (nI x) (nI (if a = 0 then g else p + 1)) pl (fun i => nI (m i)) ret
    rw [if_neg z]
    try rfl
theorem ot_c14 (ha : a < 256) (hc : c < 2) (hp : p < 2048) (hl : r.length ≤ 4) (hS : ot_S u0 pl (m, a, c, x, p + 1, r) u) (P : ∀ u', ot_S u0 pl (oc_exec 14 g m a c x p r) u' → post u') : wpX_control post u 14 (nI g) := by
  obtain ⟨ret, rfl, hr⟩ := hS
  rw [eX_control]
  refine br_f (by decide) (br_f (by decide) (br_f (by decide) (br_f (by decide) (br_f (by decide) (br_t rfl ?_)))))
  by_cases z : a = 0
  · refine br_t (by show nI a = 0; rw [z]; rfl) ?_
    rw [eX_control_116, eX_jump]
    refine br_t rfl ?_
    refine P _ ⟨ret, ?_, hr⟩
    show _ = oc_st u0 (nI r.length) (nI a) (nI c) (nI x) (nI (if a = 0 then p + 1 else g)) pl (fun i => nI (m i)) ret
    rw [if_pos z]
    try rfl
  · refine br_f (fun y => z ((nI_eq (by omega) (by omega)).mp (y : nI a = nI 0))) ?_
    rw [eX_control_116, eX_jump]
    refine br_f (by decide) ?_
    refine P _ ⟨ret, ?_, hr⟩
    show _ = oc_st u0 (nI r.length) (nI a) (nI c) (nI x) (nI (if a = 0 then p + 1 else g)) pl (fun i => nI (m i)) ret
    rw [if_neg z]
    try rfl
theorem ot_c15 (ha : a < 256) (hc : c < 2) (hp : p < 2048) (hl : r.length ≤ 4) (hS : ot_S u0 pl (m, a, c, x, p + 1, r) u) (P : ∀ u', ot_S u0 pl (oc_exec 15 g m a c x p r) u' → post u') : wpX_control post u 15 (nI g) := by
  obtain ⟨ret, rfl, hr⟩ := hS
  rw [eX_control]
  refine br_f (by decide) (br_f (by decide) (br_f (by decide) (br_f (by decide) (br_f (by decide) (br_f (by decide) (br_t rfl ?_))))))
  by_cases z : c = 0
  · refine br_t (by show nI c = 0; rw [z]; rfl) ?_
    rw [eX_control_136, eX_jump]
    refine br_t rfl ?_
    refine P _ ⟨ret, ?_, hr⟩
    show _ = oc_st u0 (nI r.length) (nI a) (nI c) (nI x) (nI (if c = 0 then p + 1 else g)) pl (fun i => nI (m i)) ret
    rw [if_pos z]
    try rfl
  · refine br_f (fun y => z ((nI_eq (by omega) (by omega)).mp (y : nI c = nI 0))) ?_
    rw [eX_control_136, eX_jump]
    refine br_f (by decide) ?_
    refine P _ ⟨ret, ?_, hr⟩
    show _ = oc_st u0 (nI r.length) (nI a) (nI c) (nI x) (nI (if c = 0 then p + 1 else g)) pl (fun i => nI (m i)) ret
    rw [if_neg z]
    try rfl
theorem ot_c16 (ha : a < 256) (hc : c < 2) (hp : p < 2048) (hl : r.length ≤ 4) (hS : ot_S u0 pl (m, a, c, x, p + 1, r) u) (P : ∀ u', ot_S u0 pl (oc_exec 16 g m a c x p r) u' → post u') : wpX_control post u 16 (nI g) := by
  obtain ⟨ret, rfl, hr⟩ := hS
  rw [eX_control]
  refine br_f (by decide) (br_f (by decide) (br_f (by decide) (br_f (by decide) (br_f (by decide) (br_f (by decide) (br_f (by decide) (br_t rfl ?_)))))))
  by_cases z : c = 0
  · refine br_t (by show nI c = 0; rw [z]; rfl) ?_
    rw [eX_control_156, eX_jump]
    refine br_f (by decide) ?_
    refine P _ ⟨ret, ?_, hr⟩
    show _ = oc_st u0 (nI r.length) (nI a) (nI c) (nI x) (nI (if c = 0 then g else p + 1)) pl (fun i => nI (m i)) ret
    rw [if_pos z]
    try rfl
  · refine br_f (fun y => z ((nI_eq (by omega) (by omega)).mp (y : nI c = nI 0))) ?_
    rw [eX_control_156, eX_jump]
    refine br_t rfl ?_
    refine P _ ⟨ret, ?_, hr⟩
    show _ = oc_st u0 (nI r.length) (nI a) (nI c) (nI x) (nI (if c = 0 then g else p + 1)) pl (fun i => nI (m i)) ret
    rw [if_neg z]
    try rfl
theorem ot_c17 (ha : a < 256) (hc : c < 2) (hp : p < 2048) (hl : r.length ≤ 4) (hS : ot_S u0 pl (m, a, c, x, p + 1, r) u) (P : ∀ u', ot_S u0 pl (oc_exec 17 g m a c x p r) u' → post u') : wpX_control post u 17 (nI g) := by
  obtain ⟨ret, rfl, hr⟩ := hS
  rw [eX_control]
  refine br_f (by decide) (br_f (by decide) (br_f (by decide) (br_f (by decide) (br_f (by decide) (br_f (by decide) (br_f (by decide) (br_f (by decide) (br_t rfl ?_))))))))
  rw [eX_control_163]
  by_cases z : a < 128
  · refine br_f (nI_ge (a := a) (b := 128) z (by decide)) ?_
    rw [eX_control_179, eX_jump]
    refine br_f (by decide) ?_
    refine P _ ⟨ret, ?_, hr⟩
    show _ = oc_st u0 (nI r.length) (nI a) (nI c) (nI x) (nI (if a < 128 then g else p + 1)) pl (fun i => nI (m i)) ret
    rw [if_pos z]
    try rfl
  · refine br_t (nI_le (a := 128) (b := a) (by omega) (by omega)) ?_
    rw [eX_control_179, eX_jump]
    refine br_t rfl ?_
    refine P _ ⟨ret, ?_, hr⟩
    show _ = oc_st u0 (nI r.length) (nI a) (nI c) (nI x) (nI (if a < 128 then g else p + 1)) pl (fun i => nI (m i)) ret
    rw [if_neg z]
    try rfl
theorem ot_c18 (ha : a < 256) (hc : c < 2) (hp : p < 2048) (hl : r.length ≤ 4) (hS : ot_S u0 pl (m, a, c, x, p + 1, r) u) (P : ∀ u', ot_S u0 pl (oc_exec 18 g m a c x p r) u' → post u') : wpX_control post u 18 (nI g) := by
  obtain ⟨ret, rfl, hr⟩ := hS
  rw [eX_control]
  refine br_f (by decide) (br_f (by decide) (br_f (by decide) (br_f (by decide) (br_f (by decide) (br_f (by decide) (br_f (by decide) (br_f (by decide) (br_f (by decide) (br_t rfl ?_)))))))))
  rw [eX_enter]
  have ee : oc_exec 18 g m a c x p r = if r.length < 4 then (m, a, c, x, g, (p + 1) :: r) else (m, a, c, x, p + 1, r) := rfl
  rw [ee] at P
  have hcl : ax_calls (oc_st u0 (nI r.length) (nI a) (nI c) (nI x) (nI (p + 1)) pl (fun i => nI (m i)) ret) = nI r.length := rfl
  have hcl2 : ax_calls (oc_st u0 (nI (m, a, c, x, p + 1, r).2.2.2.2.2.length) (nI (m, a, c, x, p + 1, r).2.1) (nI (m, a, c, x, p + 1, r).2.2.1) (nI (m, a, c, x, p + 1, r).2.2.2.1) (nI (m, a, c, x, p + 1, r).2.2.2.2.1) pl (fun i => nI ((m, a, c, x, p + 1, r).1 i)) ret) = nI r.length := rfl
  rw [hcl2, nI_clamp (by omega)]
  by_cases z : r.length < 4
  · rw [if_pos z] at P
    refine br_f (nI_ge (b := 4) z (by decide)) ⟨vp_in_nI z (by decide), nm_e (nm_r (nI_1 r.length) (P _ ⟨_, rfl, ?_, ot_rt_upd (Nat.le_refl _) hr⟩))⟩
    exact pk_us
  · rw [if_neg z] at P
    exact br_t (nI_le (a := 4) (by omega) (by omega)) (P _ ⟨ret, rfl, hr⟩)
theorem ot_c19 (ha : a < 256) (hc : c < 2) (hp : p < 2048) (hl : r.length ≤ 4) (hS : ot_S u0 pl (m, a, c, x, p + 1, r) u) (P : ∀ u', ot_S u0 pl (oc_exec 19 g m a c x p r) u' → post u') : wpX_control post u 19 (nI g) := by
  obtain ⟨ret, rfl, hr⟩ := hS
  rw [eX_control]
  refine br_f (by decide) (br_f (by decide) (br_f (by decide) (br_f (by decide) (br_f (by decide) (br_f (by decide) (br_f (by decide) (br_f (by decide) (br_f (by decide) (br_f (by decide) (br_t rfl ?_))))))))))
  rw [eX_leave]
  cases r with
  | nil => exact br_t (by show nI 0 ≤ 0; decide) (P _ ⟨ret, rfl, hr⟩)
  | cons q r =>
    have hl' : r.length < 4 := by rw [List.length_cons] at hl; omega
    have hcl : ax_calls (oc_st u0 (nI (m, a, c, x, p + 1, q :: r).2.2.2.2.2.length) (nI (m, a, c, x, p + 1, q :: r).2.1) (nI (m, a, c, x, p + 1, q :: r).2.2.1) (nI (m, a, c, x, p + 1, q :: r).2.2.2.1) (nI (m, a, c, x, p + 1, q :: r).2.2.2.2.1) pl (fun i => nI ((m, a, c, x, p + 1, q :: r).1 i)) ret) = nI (r.length + 1) := rfl
    rw [hcl]
    refine br_f (nI_nle (by omega) (by omega)) (nm_r (nI_pred r.length) ⟨vp_in_nI hl' (by decide), ?_⟩)
    rw [nI_clamp (by omega)]
    exact nm_r (e' := nI q) hr.1 (P _ ⟨ret, rfl, hr.2⟩)
end
end
section
/-! one statement on the octet machine -/
section
variable {u0 : SX} {pl : Nat → Int32} {m : Nat → Nat} {a c x p g : Nat} {r : List Nat} {u : SX} {post : SX → Prop}
theorem ot_operate {o : Nat} (ho : o < 11) (hm : ∀ i, m i < 256) (ha : a < 256) (hc : c < 2) (hg : g < 256) (hx : x < 32768) (hS : ot_S u0 pl (m, a, c, x, p + 1, r) u) (P : ∀ u', ot_S u0 pl (oc_exec o g m a c x p r) u' → post u') : wpX_operate post u (nI o) (nI g) := by
  match o, ho, P with
  | 0, _, P => exact ot_o0 hm ha hc hg hx hS P
  | 1, _, P => exact ot_o1 hm ha hc hg hx hS P
  | 2, _, P => exact ot_o2 hm ha hc hg hx hS P
  | 3, _, P => exact ot_o3 hm ha hc hg hx hS P
  | 4, _, P => exact ot_o4 hm ha hc hg hx hS P
  | 5, _, P => exact ot_o5 hm ha hc hg hx hS P
  | 6, _, P => exact ot_o6 hm ha hc hg hx hS P
  | 7, _, P => exact ot_o7 hm ha hc hg hx hS P
  | 8, _, P => exact ot_o8 hm ha hc hg hx hS P
  | 9, _, P => exact ot_o9 hm ha hc hg hx hS P
  | 10, _, P => exact ot_o10 hm ha hc hg hx hS P
  | k + 11, z, _ => exact absurd z (by omega)
theorem ot_control {o : Nat} (ho : 11 ≤ o) (ho2 : o < 20) (ha : a < 256) (hc : c < 2) (hp : p < 2048) (hl : r.length ≤ 4) (hS : ot_S u0 pl (m, a, c, x, p + 1, r) u) (P : ∀ u', ot_S u0 pl (oc_exec o g m a c x p r) u' → post u') : wpX_control post u (nI o) (nI g) := by
  obtain ⟨d, rfl⟩ : ∃ d, o = 11 + d := ⟨o - 11, by omega⟩
  have hd : d < 9 := by omega
  match d, hd, P with
  | 0, _, P => exact ot_c11 ha hc hp hl hS P
  | 1, _, P => exact ot_c12 ha hc hp hl hS P
  | 2, _, P => exact ot_c13 ha hc hp hl hS P
  | 3, _, P => exact ot_c14 ha hc hp hl hS P
  | 4, _, P => exact ot_c15 ha hc hp hl hS P
  | 5, _, P => exact ot_c16 ha hc hp hl hS P
  | 6, _, P => exact ot_c17 ha hc hp hl hS P
  | 7, _, P => exact ot_c18 ha hc hp hl hS P
  | 8, _, P => exact ot_c19 ha hc hp hl hS P
  | k + 9, z, _ => exact absurd z (by omega)
theorem oc_exec_st {o : Nat} (h : 20 ≤ o) : oc_exec o g m a c x p r = (m, a, c, x, p, r) := by
  unfold oc_exec
  rw [if_neg (by omega), if_neg (by omega), if_neg (by omega), if_neg (by omega), if_neg (by omega), if_neg (by omega), if_neg (by omega), if_neg (by omega), if_neg (by omega), if_neg (by omega), if_neg (by omega), if_neg (by omega), if_neg (by omega), if_neg (by omega), if_neg (by omega), if_neg (by omega), if_neg (by omega), if_neg (by omega), if_neg (by omega), if_neg (by omega)]
theorem oc_stuck {C : Nat → Nat × Nat} (h : 20 ≤ (C p).1) : ∀ n, oc_run C n (m, a, c, x, p, r) = (m, a, c, x, p, r) := by
  intro n
  induction n with
  | zero => rfl
  | succ n ih =>
    have e : oc_step C (m, a, c, x, p, r) = (m, a, c, x, p, r) := oc_exec_st h
    show oc_run C n (oc_step C (m, a, c, x, p, r)) = _
    rw [e]
    exact ih
theorem oc_len (hl : r.length ≤ 4) {o : Nat} : (oc_exec o g m a c x p r).2.2.2.2.2.length ≤ 4 := by
  unfold oc_exec
  by_cases o18 : o = 18
  · rw [if_neg (by omega), if_neg (by omega), if_neg (by omega), if_neg (by omega), if_neg (by omega), if_neg (by omega), if_neg (by omega), if_neg (by omega), if_neg (by omega), if_neg (by omega), if_neg (by omega), if_neg (by omega), if_neg (by omega), if_neg (by omega), if_neg (by omega), if_neg (by omega), if_neg (by omega), if_neg (by omega), if_pos o18]
    by_cases k : r.length < 4
    · rw [if_pos k]
      show ((p + 1) :: r).length ≤ 4
      rw [List.length_cons]
      omega
    · rw [if_neg k]
      exact hl
  · by_cases o19 : o = 19
    · rw [if_neg (by omega), if_neg (by omega), if_neg (by omega), if_neg (by omega), if_neg (by omega), if_neg (by omega), if_neg (by omega), if_neg (by omega), if_neg (by omega), if_neg (by omega), if_neg (by omega), if_neg (by omega), if_neg (by omega), if_neg (by omega), if_neg (by omega), if_neg (by omega), if_neg (by omega), if_neg (by omega), if_neg o18, if_pos o19]
      show r.tail.length ≤ 4
      rw [List.length_tail]
      omega
    · rw [if_neg o18, if_neg o19]
      by_cases o0 : o = 0
      · rw [if_pos o0]; exact hl
      rw [if_neg o0]
      by_cases o1 : o = 1
      · rw [if_pos o1]; exact hl
      rw [if_neg o1]
      by_cases o2 : o = 2
      · rw [if_pos o2]; exact hl
      rw [if_neg o2]
      by_cases o3 : o = 3
      · rw [if_pos o3]; exact hl
      rw [if_neg o3]
      by_cases o4 : o = 4
      · rw [if_pos o4]; exact hl
      rw [if_neg o4]
      by_cases o5 : o = 5
      · rw [if_pos o5]; exact hl
      rw [if_neg o5]
      by_cases o6 : o = 6
      · rw [if_pos o6]; exact hl
      rw [if_neg o6]
      by_cases o7 : o = 7
      · rw [if_pos o7]; exact hl
      rw [if_neg o7]
      by_cases o8 : o = 8
      · rw [if_pos o8]; exact hl
      rw [if_neg o8]
      by_cases o9 : o = 9
      · rw [if_pos o9]; exact hl
      rw [if_neg o9]
      by_cases o10 : o = 10
      · rw [if_pos o10]; exact hl
      rw [if_neg o10]
      by_cases o11 : o = 11
      · rw [if_pos o11]; exact hl
      rw [if_neg o11]
      by_cases o12 : o = 12
      · rw [if_pos o12]; exact hl
      rw [if_neg o12]
      by_cases o13 : o = 13
      · rw [if_pos o13]; exact hl
      rw [if_neg o13]
      by_cases o14 : o = 14
      · rw [if_pos o14]; exact hl
      rw [if_neg o14]
      by_cases o15 : o = 15
      · rw [if_pos o15]; exact hl
      rw [if_neg o15]
      by_cases o16 : o = 16
      · rw [if_pos o16]; exact hl
      rw [if_neg o16]
      by_cases o17 : o = 17
      · rw [if_pos o17]; exact hl
      rw [if_neg o17]
      exact hl
end
/-- the code of state u0 is C below sz -/
def ot_code (u0 : SX) (C : Nat → Nat × Nat) (sz : Nat) : Prop := ax_size u0 = nI sz ∧ sz ≤ 2048 ∧ (∀ j, j < sz → ax_codeOp u0 j = nI (C j).1 ∧ ax_codeArg u0 j = nI (C j).2) ∧ (∀ j, sz ≤ j → C j = (21, 0)) ∧ ∀ j, j < sz → (C j).1 ≤ 20 ∧ (C j).2 < 32768 ∧ ((C j).1 < 11 → (C j).2 < 256)
section
variable {u0 : SX} {pl : Nat → Int32} {C : Nat → Nat × Nat} {sz : Nat} {post : SX → Prop}
theorem ot_head (H : ot_code u0 C sz) {m : Nat → Nat} {a c x p k N : Nat} {r : List Nat} {u : SX} (hS : ot_S u0 pl (m, a, c, x, p, r) u) (hok : oc_ok (m, a, c, x, p, r)) (hl : r.length ≤ 4) (hp : p < sz) (hk : k < 20000)
    (h20 : (C p).1 = 20 → ∀ u', ot_S u0 (upd pl 1 (nI (C p).2)) (m, a, c, x, p + 1, r) u' → vX_octetStatement_24 post N 0 (nI (k + 1)) u')
    (hgo : (C p).1 < 20 → ∀ u', ot_S u0 pl (oc_exec (C p).1 (C p).2 m a c x p r) u' → vX_octetStatement_24 post N 1 (nI (k + 1)) u') :
    vX_octetStatement_24 post (N + 1) 1 (nI k) u := by
  obtain ⟨ret, rfl, hr⟩ := hS
  obtain ⟨H1, H2, H3, H4, H5⟩ := H
  obtain ⟨g1, g2, g3⟩ := H5 p hp
  obtain ⟨o1, o2, o3, o4⟩ := hok
  have o2' : a < 256 := o2
  have o3' : c < 2 := o3
  have o4' : x < 32768 := o4
  rw [eX_octetStatement_24]
  have hin : vp_in (nI p) 2048 := vp_in_nI (by omega) (by decide)
  have hcl : (nI p).toNatClampNeg = p := nI_clamp (by omega)
  refine br_f (nI_ge (b := 20000) hk (by decide)) (br_f (by decide) (br_f ?_ ⟨hin, ?_⟩))
  · show ¬ ax_size u0 ≤ nI p
    rw [H1]
    exact nI_ge hp (by omega)
  refine nm_r (e' := nI (C p).1) ?_ ⟨hin, ?_⟩
  · show ax_codeOp u0 (nI p).toNatClampNeg = _
    rw [hcl]
    exact (H3 p hp).1
  refine nm_r (e' := nI (C p).2) ?_ ?_
  · show ax_codeArg u0 (nI p).toNatClampNeg = _
    rw [hcl]
    exact (H3 p hp).2
  refine nm_r (e' := nI (p + 1)) (nI_1 p) ?_
  by_cases z : (C p).1 = 20
  · refine br_t (by show nI (C p).1 = 20; rw [z]; rfl) ?_
    refine nm_e (nm_r (nI_1 k) ?_)
    exact h20 z _ ⟨ret, rfl, hr⟩
  · refine br_f (fun y => z ((nI_eq (by omega) (by omega)).mp (y : nI (C p).1 = nI 20))) ?_
    have hS' : ot_S u0 pl (m, a, c, x, p + 1, r) (oc_st u0 (nI r.length) (nI a) (nI c) (nI x) (nI (p + 1)) pl (fun i => nI (m i)) ret) := ⟨ret, rfl, hr⟩
    by_cases y : 11 ≤ (C p).1
    · refine br_t (nI_le (a := 11) y (by omega)) ?_
      have w : (C p).1 < 20 := by omega
      exact ot_control y w o2' o3' (by omega) hl hS' (fun u' h' => nm_r (nI_1 k) (hgo w u' h'))
    · refine br_f (nI_ge (b := 11) (by omega) (by decide)) ?_
      exact ot_operate (by omega) o1 o2' o3' (g3 (by omega)) o4' hS' (fun u' h' => nm_r (nI_1 k) (hgo (by omega) u' h'))
theorem ot_loop (H : ot_code u0 C sz) (GC : oc_good C) {m' : Nat → Nat} {a' c' x' p' g : Nat} {r' : List Nat} (hc : C p' = (20, g)) (P : ∀ u', ot_S u0 (upd pl 1 (nI g)) (m', a', c', x', p' + 1, r') u' → post u') :
    ∀ (n : Nat) (m : Nat → Nat) (a c x p : Nat) (r : List Nat) (k : Nat) (u : SX), oc_ok (m, a, c, x, p, r) → r.length ≤ 4 → ot_S u0 pl (m, a, c, x, p, r) u → oc_run C n (m, a, c, x, p, r) = (m', a', c', x', p', r') → k + n < 20000 → vX_octetStatement_24 post (n + 2) 1 (nI k) u := by
  intro n
  have halt : ∀ (N n : Nat) (m : Nat → Nat) (a c x p : Nat) (r : List Nat) (k : Nat) (u : SX), oc_ok (m, a, c, x, p, r) → r.length ≤ 4 → ot_S u0 pl (m, a, c, x, p, r) u → oc_run C n (m, a, c, x, p, r) = (m', a', c', x', p', r') → k < 20000 → 20 ≤ (C p).1 → vX_octetStatement_24 post (N + 2) 1 (nI k) u := by
    intro N n m a c x p r k u hok hl hS he hk h20
    rw [oc_stuck h20] at he
    have e1 : m = m' := congrArg (fun s : OcS => s.1) he
    have e2 : a = a' := congrArg (fun s : OcS => s.2.1) he
    have e3 : c = c' := congrArg (fun s : OcS => s.2.2.1) he
    have e4 : x = x' := congrArg (fun s : OcS => s.2.2.2.1) he
    have e5 : p = p' := congrArg (fun s : OcS => s.2.2.2.2.1) he
    have e6 : r = r' := congrArg (fun s : OcS => s.2.2.2.2.2) he
    subst e1 e2 e3 e4 e5 e6
    have hp : p < sz := by
      by_cases y : p < sz
      · exact y
      · have := H.2.2.2.1 p (by omega)
        rw [hc] at this
        have z : (20 : Nat) = 21 := congrArg Prod.fst this
        omega
    refine ot_head H hS hok hl hp hk ?_ ?_
    · intro _ u' hS'
      rw [hc] at hS'
      rw [eX_octetStatement_24]
      exact br_c (fun _ => P u' hS') (fun _ => br_t rfl (P u' hS'))
    · intro z
      rw [hc] at z
      have z' : 20 < 20 := z
      omega
  induction n with
  | zero =>
    intro m a c x p r k u hok hl hS he hk
    refine halt 0 0 m a c x p r k u hok hl hS he (by omega) ?_
    have e5 : p = p' := congrArg (fun s : OcS => s.2.2.2.2.1) he
    rw [e5, hc]
    exact Nat.le_refl 20
  | succ n ih =>
    intro m a c x p r k u hok hl hS he hk
    by_cases z : 20 ≤ (C p).1
    · exact halt (n + 1) (n + 1) m a c x p r k u hok hl hS he (by omega) z
    · have hp : p < sz := by
        by_cases y : p < sz
        · exact y
        · have := H.2.2.2.1 p (by omega)
          rw [this] at z
          exact absurd (by decide : 20 ≤ 21) z
      have hok2 := oc_ok_step GC hok
      refine ot_head H hS hok hl hp (by omega) ?_ ?_
      · intro y
        omega
      · intro _ u' hS'
        exact ih _ _ _ _ _ _ (k + 1) u' hok2 (oc_len hl) hS' he (by omega)
/-- the printed statement, out of a pure run -/
theorem ot_run {u : SX} (H : ot_code u C sz) (GC : oc_good C) {m m' : Nat → Nat} {a c x a' c' x' p' p q g n : Nat} {r' : List Nat} (hm : ax_mem u = fun i => nI (m i)) (ha : ax_acc u = nI a) (hcc : ax_carry u = nI c) (hx : ax_index u = nI x) (hq : ax_places u 1 = nI q) (hq2 : q < 49) (he : ax_entry u q = nI p) (hok : oc_ok (m, a, c, x, p, []))
    (hR : oc_R C n (m, a, c, x, p, []) (m', a', c', x', p', r')) (hn : n < 20000) (hc : C p' = (20, g)) (P : ∀ u', ot_S u (upd (ax_places u) 1 (nI g)) (m', a', c', x', p' + 1, r') u' → post u') : wpX_octetStatement post u := by
  obtain ⟨k, hk, e⟩ := hR
  rw [eX_octetStatement, hq, nI_clamp (by omega), he]
  refine ⟨vp_in_nI hq2 (by decide), nm_e ⟨k + 2, ?_⟩⟩
  refine ot_loop (pl := ax_places u) H GC hc P k m a c x p [] 0 _ hok (by decide) ⟨ax_returns u, ?_, trivial⟩ e (by omega)
  show sx_calls (sx_pc u (nI p)) 0 = oc_st u 0 (nI a) (nI c) (nI x) (nI p) (ax_places u) (fun i => nI (m i)) (ax_returns u)
  rw [← hm, ← ha, ← hcc, ← hx]
  rfl
end
end
section
/-! small loops of both sides -/
theorem zz_ne (a b : Nat) (h : a ≠ b) (ha : a < 2 ^ 31) (hb : b < 2 ^ 31) : ¬ nI a = nI b := fun z => h ((nI_eq ha hb).mp z)
def rs_z (n : Nat) (f : Nat → Int32) : Nat → Int32 := fun j => if j < n then 0 else f j
theorem rs_z0 (f : Nat → Int32) : rs_z 0 f = f := by
  funext j
  unfold rs_z
  rw [if_neg (Nat.not_lt_zero j)]
theorem rs_zs (n : Nat) (f : Nat → Int32) : upd (rs_z n f) n 0 = rs_z (n + 1) f := by
  funext j
  unfold upd rs_z
  by_cases e : j = n
  · rw [if_pos e, if_pos (by omega)]
  · rw [if_neg e]
    by_cases h : j < n
    · rw [if_pos h, if_pos (by omega)]
    · rw [if_neg h, if_neg (by omega)]
def rs_s (u : SX) (y_places : Nat → Int32) (y_dones : Nat → Int32) (y_wideVars : Nat → Int32) (y_mem : Nat → Int32) : SX := match u with
  | (f_LDI, f_LDA, f_STA, f_ADC, f_SBC, f_ANA, f_XRA, f_ORA, f_ROL, f_ROR, f_DEC, f_CLC, f_LDX, f_JZ, f_JNZ, f_JC, f_JNC, f_JPL, f_JSR, f_RTS, f_HLT, f_STACK, f_REST, f_COUNT, f_SIGN_Q, f_SIGN_A, f_OPA, f_OPB, f_vars, f_capacity, f_operands, f_nest, f_used, f_tail, f_loaded, f_depth, f_open, f_stage, f_divideAt, f_size, f_calls, f_acc, f_carry, f_index, f_pc, a_kinds, a_args, a_first, a_match, a_openAt, _, _, _, a_wideStack, a_codeOp, a_codeArg, a_entry, a_helper, _, a_returns) => (f_LDI, f_LDA, f_STA, f_ADC, f_SBC, f_ANA, f_XRA, f_ORA, f_ROL, f_ROR, f_DEC, f_CLC, f_LDX, f_JZ, f_JNZ, f_JC, f_JNC, f_JPL, f_JSR, f_RTS, f_HLT, f_STACK, f_REST, f_COUNT, f_SIGN_Q, f_SIGN_A, f_OPA, f_OPB, f_vars, f_capacity, f_operands, f_nest, f_used, f_tail, f_loaded, f_depth, f_open, f_stage, f_divideAt, f_size, f_calls, f_acc, f_carry, f_index, f_pc, a_kinds, a_args, a_first, a_match, a_openAt, y_places, y_dones, y_wideVars, a_wideStack, a_codeOp, a_codeArg, a_entry, a_helper, y_mem, a_returns)
theorem rs_s_id (u : SX) : rs_s u (ax_places u) (ax_dones u) (ax_wideVars u) (ax_mem u) = u := rfl
section
variable {post : SX → Prop} {U : SX} {pl dn wv me : Nat → Int32}
theorem rs_x45 (P : post (rs_s U (rs_z 2 pl) (rs_z 2 dn) wv me)) : ∀ d i, i + d = 2 → vX_reset_45 post (d + 1) (nI i) (rs_s U (rs_z i pl) (rs_z i dn) wv me) := by
  intro d
  induction d with
  | zero =>
    intro i hi
    have e : i = 2 := by omega
    subst e
    rw [eX_reset_45]
    exact br_t (by decide) P
  | succ d ih =>
    intro i hi
    rw [eX_reset_45]
    have hin : vp_in (nI i) 2 := vp_in_nI (by omega) (by decide)
    rw [nI_clamp (by omega)]
    refine br_f (nI_ge (b := 2) (by omega) (by decide)) ⟨hin, ?_⟩
    refine nm_r (e' := rs_z (i + 1) pl) (rs_zs i pl) ⟨hin, ?_⟩
    refine nm_r (e' := rs_z (i + 1) dn) (rs_zs i dn) ?_
    refine nm_r (nI_1 i) ?_
    exact ih (i + 1) (by omega)
theorem rs_x23 (P : vX_reset_45 post 3 0 (rs_s U pl dn wv (rs_z 128 me))) : ∀ d i, i + d = 128 → vX_reset_23 post (d + 1) (nI i) (rs_s U pl dn wv (rs_z i me)) := by
  intro d
  induction d with
  | zero =>
    intro i hi
    have e : i = 128 := by omega
    subst e
    rw [eX_reset_23]
    exact br_t (by decide) ⟨3, P⟩
  | succ d ih =>
    intro i hi
    rw [eX_reset_23]
    have hin : vp_in (nI i) 128 := vp_in_nI (by omega) (by decide)
    rw [nI_clamp (by omega)]
    refine br_f (nI_ge (b := 128) (by omega) (by decide)) ⟨hin, ?_⟩
    refine nm_r (e' := rs_z (i + 1) me) (rs_zs i me) ?_
    refine nm_r (nI_1 i) ?_
    exact ih (i + 1) (by omega)
theorem rs_x2 (P : vX_reset_23 post 129 0 (rs_s U pl dn (rs_z 8 wv) me)) : ∀ d i, i + d = 8 → vX_reset_2 post (d + 1) (nI i) (rs_s U pl dn (rs_z i wv) me) := by
  intro d
  induction d with
  | zero =>
    intro i hi
    have e : i = 8 := by omega
    subst e
    rw [eX_reset_2]
    exact br_t (by decide) ⟨129, P⟩
  | succ d ih =>
    intro i hi
    rw [eX_reset_2]
    have hin : vp_in (nI i) 8 := vp_in_nI (by omega) (by decide)
    rw [nI_clamp (by omega)]
    refine br_f (nI_ge (b := 8) (by omega) (by decide)) ⟨hin, ?_⟩
    refine nm_r (e' := rs_z (i + 1) wv) (rs_zs i wv) ?_
    refine nm_r (nI_1 i) ?_
    exact ih (i + 1) (by omega)
end
def rs_X (u : SX) : SX := rs_s u (rs_z 2 (ax_places u)) (rs_z 2 (ax_dones u)) (rs_z 8 (ax_wideVars u)) (rs_z 128 (ax_mem u))
theorem rs_reset {post : SX → Prop} (u : SX) (P : post (rs_X u)) : wpX_reset post u := by
  rw [eX_reset]
  have h2 := rs_x45 (post := post) (U := u) (pl := ax_places u) (dn := ax_dones u) (wv := rs_z 8 (ax_wideVars u)) (me := rs_z 128 (ax_mem u)) P 2 0 rfl
  rw [rs_z0, rs_z0] at h2
  have h1 := rs_x23 h2 128 0 rfl
  rw [rs_z0] at h1
  have h0 := rs_x2 h1 8 0 rfl
  rw [rs_z0, rs_s_id] at h0
  exact ⟨9, h0⟩
section
variable {post : SY → Prop}
theorem rs_y23 (U : SY) (P : post (sy_places (sy_counts U (rs_z 2 (ay_counts U))) (rs_z 2 (ay_places U)))) : ∀ d i, i + d = 2 → vY_zeroMachines_23 post (d + 1) (nI i) (sy_places (sy_counts U (rs_z i (ay_counts U))) (rs_z i (ay_places U))) := by
  intro d
  induction d with
  | zero =>
    intro i hi
    have e : i = 2 := by omega
    subst e
    rw [eY_zeroMachines_23]
    exact br_t (by decide) P
  | succ d ih =>
    intro i hi
    rw [eY_zeroMachines_23]
    have hin : vp_in (nI i) 2 := vp_in_nI (by omega) (by decide)
    rw [nI_clamp (by omega)]
    refine br_f (nI_ge (b := 2) (by omega) (by decide)) ⟨hin, ?_⟩
    refine nm_r (e' := rs_z (i + 1) (ay_places U)) (rs_zs i (ay_places U)) ⟨hin, ?_⟩
    refine nm_r (e' := rs_z (i + 1) (ay_counts U)) (rs_zs i (ay_counts U)) ?_
    refine nm_r (nI_1 i) ?_
    exact ih (i + 1) (by omega)
theorem rs_y2 (U : SY) (P : vY_zeroMachines_23 post 3 0 (sy_values U (rs_z 16 (ay_values U)))) : ∀ d i, i + d = 16 → vY_zeroMachines_2 post (d + 1) (nI i) (sy_values U (rs_z i (ay_values U))) := by
  intro d
  induction d with
  | zero =>
    intro i hi
    have e : i = 16 := by omega
    subst e
    rw [eY_zeroMachines_2]
    exact br_t (by decide) ⟨3, P⟩
  | succ d ih =>
    intro i hi
    rw [eY_zeroMachines_2]
    have hin : vp_in (nI i) 16 := vp_in_nI (by omega) (by decide)
    rw [nI_clamp (by omega)]
    refine br_f (nI_ge (b := 16) (by omega) (by decide)) ⟨hin, ?_⟩
    refine nm_r (e' := rs_z (i + 1) (ay_values U)) (rs_zs i (ay_values U)) ?_
    refine nm_r (nI_1 i) ?_
    exact ih (i + 1) (by omega)
def rs_Y (v : SY) : SY := sy_places (sy_counts (sy_values v (rs_z 16 (ay_values v))) (rs_z 2 (ay_counts v))) (rs_z 2 (ay_places v))
theorem rs_zero (v : SY) (P : post (rs_Y v)) : wpY_zeroMachines post v := by
  rw [eY_zeroMachines]
  have h2 := rs_y23 (post := post) (sy_values v (rs_z 16 (ay_values v))) P 2 0 rfl
  rw [rs_z0, rs_z0] at h2
  have h1 := rs_y2 (post := post) v h2 16 0 rfl
  rw [rs_z0] at h1
  exact ⟨17, h1⟩
end
/-! the reference's scans -/
section
variable {post : Int32 → Prop} {v : SY} {K : Nat → Nat}
theorem yr_row6 (hK : ay_kinds v = fun j => nI (K j)) (hk : ∀ j, K j ≤ 6) {T : Nat} (P : post (nI T)) : ∀ s, s ≤ 48 → pu_tl K s = T → vY_rowStart_6 post (s + 1) (nI s) (nI s + (-1)) v := by
  intro s
  induction s with
  | zero =>
    intro _ ht
    rw [eY_rowStart_6]
    refine br_t (by decide) ?_
    rw [← ht] at P
    exact P
  | succ s ih =>
    intro hs ht
    have h6 := hk s
    rw [eY_rowStart_6, pk_m1, hK, nI_clamp (by omega)]
    refine br_f (nI_pos (by omega)) ⟨vp_in_nI (by omega) (by decide), ?_⟩
    rw [pu_tl_s] at ht
    by_cases k : K s < 3
    · rw [if_pos k] at ht
      refine br_f (nI_ge (b := 3) k (by decide)) (nm_e ?_)
      exact ih (by omega) ht
    · rw [if_neg k] at ht
      refine br_t (nI_le (a := 3) (by omega) (by omega)) ?_
      rw [ht]
      exact P
theorem yr_row (hK : ay_kinds v = fun j => nI (K j)) (hk : ∀ j, K j ≤ 6) {i : Nat} (hi : i ≤ 48) (P : post (nI (pu_tl K i))) : wpY_rowStart post v (nI i) := by
  rw [eY_rowStart]
  have e : nI i - 1 = nI i + (-1) := by
    generalize nI i = z
    grind
  exact nm_r e ⟨i + 1, yr_row6 hK hk P i hi rfl⟩
theorem yr_cnt5 (hK : ay_kinds v = fun j => nI (K j)) (hk : ∀ j, K j ≤ 6) {us k b : Nat} (hU : ay_used v = nI us) (hu : us ≤ 48) (hk6 : k ≤ 6) (P : post (nI (pu_cc K k us - pu_cc K k b))) : ∀ d i, i + d = us → b ≤ i → vY_countKind_5 post (nI k) (d + 1) (nI (pu_cc K k i - pu_cc K k b)) (nI i) v := by
  intro d
  induction d with
  | zero =>
    intro i hi _
    have e : i = us := by omega
    subst e
    rw [eY_countKind_5, hU]
    exact br_t (nI_le (Nat.le_refl _) (by omega)) P
  | succ d ih =>
    intro i hi hb
    have h6 := hk i
    have hmo := pu_cc_mono K k hb
    rw [eY_countKind_5, hU, hK, nI_clamp (by omega)]
    refine br_f (nI_ge (by omega) (by omega)) ⟨vp_in_nI (by omega) (by decide), ?_⟩
    have R := ih (i + 1) (by omega) (by omega)
    rw [pu_cc_s] at R
    by_cases e : K i = k
    · rw [if_pos e] at R
      refine br_t (by show nI (K i) = nI k; rw [e]) ?_
      refine nm_r (e' := nI (pu_cc K k i + 1 - pu_cc K k b)) ?_ (nm_r (nI_1 i) R)
      rw [nI_1]
      exact congrArg nI (by omega)
    · rw [if_neg e, Nat.add_zero] at R
      refine br_f (fun z => e ((nI_eq (by omega) (by omega)).mp (z : nI (K i) = nI k))) ?_
      exact nm_r (nI_1 i) R
theorem yr_cnt (hK : ay_kinds v = fun j => nI (K j)) (hk : ∀ j, K j ≤ 6) {us k b : Nat} (hU : ay_used v = nI us) (hu : us ≤ 48) (hk6 : k ≤ 6) (hb : b ≤ us) (P : post (nI (pu_cc K k us - pu_cc K k b))) : wpY_countKind post v (nI k) (nI b) := by
  rw [eY_countKind]
  have R := yr_cnt5 hK hk hU hu hk6 P (us - b) b (by omega) (Nat.le_refl _)
  rw [Nat.sub_self] at R
  exact ⟨us - b + 1, R⟩
theorem yr_open (hK : ay_kinds v = fun j => nI (K j)) (hk : ∀ j, K j ≤ 6) {us : Nat} {A : Nat → Int32} {nv no nn : Nat} (hw : pu_wf K A nv no nn us) (hU : ay_used v = nI us) (hu : us ≤ 48) (P : post (nI (pu_op K us))) : wpY_openCount post v := by
  have hcnt := (pu_cnt hw us (Nat.le_refl _)).2.2
  rw [eY_openCount]
  refine yr_cnt (k := 4) (b := 0) hK hk hU hu (by decide) (by omega) ?_
  refine yr_cnt (k := 5) (b := 0) hK hk hU hu (by decide) (by omega) ?_
  refine yr_cnt (k := 6) (b := 0) hK hk hU hu (by decide) (by omega) ?_
  have z : ∀ k, pu_cc K k 0 = 0 := fun _ => rfl
  rw [z, z, z, Nat.sub_zero, Nat.sub_zero, Nat.sub_zero, nI_add, pk_sub (by omega), show pu_cc K 4 us + pu_cc K 5 us - pu_cc K 6 us = pu_op K us by omega]
  exact P
theorem yr_end4 (hK : ay_kinds v = fun j => nI (K j)) (hk : ∀ j, K j ≤ 6) {us : Nat} {A : Nat → Int32} {nv no nn o e : Nat} (hw : pu_wf K A nv no nn us) (hU : ay_used v = nI us) (hu : us ≤ 48) (hM : pu_Mt K o e) (he : e < us) (P : post (nI e)) : ∀ d i, i + d = e → o ≤ i → vY_matchingEnd_4 post (d + 1) (nI (pu_op K i - pu_op K o)) (nI i) v := by
  obtain ⟨m1, m2, m3, m4, m5⟩ := hM
  have hcnt := fun j (h : j ≤ us) => (pu_cnt hw j h).2.2
  have hccb : ∀ k i, pu_cc K k i ≤ i := by
    intro k i
    induction i with
    | zero => exact Nat.le_refl 0
    | succ i ih =>
      rw [pu_cc_s]
      split <;> omega
  intro d
  induction d with
  | zero =>
    intro i hi ho
    have ei : i = e := by omega
    subst ei
    have h6 := hk i
    have q := m5 i m1 (Nat.le_refl _)
    rw [pu_op_s, if_neg (by omega), if_pos m3] at m4
    have hc := hcnt i (by omega)
    have c4 := hccb 4 i
    have c5 := hccb 5 i
    rw [eY_matchingEnd_4, hU, hK, nI_clamp (by omega)]
    refine br_f (nI_ge (by omega) (by omega)) ⟨vp_in_nI (by omega) (by decide), ?_⟩
    refine br_f (zz_ne (K i) 4 (by omega) (by omega) (by omega)) ⟨vp_in_nI (by omega) (by decide), ?_⟩
    refine br_f (zz_ne (K i) 5 (by omega) (by omega) (by omega)) ?_
    rw [eY_matchingEnd_35, hK, nI_clamp (by omega)]
    refine ⟨vp_in_nI (by omega) (by decide), br_t (by show nI (K i) = 6; rw [m3]; rfl) ?_⟩
    refine nm_r (e' := nI 0) ?_ (br_t rfl P)
    have : pu_op K i - pu_op K o = 0 + 1 := by omega
    rw [this]
    exact pk_m1 0
  | succ d ih =>
    intro i hi ho
    have h6 := hk i
    have hc := hcnt i (by omega)
    have c4 := hccb 4 i
    have c5 := hccb 5 i
    have hge : pu_op K o ≤ pu_op K i := by
      by_cases z : i = o
      · rw [z]; exact Nat.le_refl _
      · have := m5 i (by omega) (by omega)
        omega
    have R := ih (i + 1) (by omega) (by omega)
    have n1 := m5 (i + 1) (by omega) (by omega)
    rw [eY_matchingEnd_4, hU, hK, nI_clamp (by omega)]
    refine br_f (nI_ge (by omega) (by omega)) ⟨vp_in_nI (by omega) (by decide), ?_⟩
    rw [pu_op_s] at R n1
    have inc : (K i = 4 ∨ K i = 5) → vY_matchingEnd_32 post (d + 1) (nI (pu_op K i - pu_op K o)) (nI i) v := by
      intro z
      rw [if_pos z] at R
      rw [eY_matchingEnd_32]
      refine nm_r (nI_1 _) ?_
      rw [eY_matchingEnd_35, hK, nI_clamp (by omega)]
      refine ⟨vp_in_nI (by omega) (by decide), br_f (zz_ne (K i) 6 (by omega) (by omega) (by omega)) ?_⟩
      refine nm_r (nI_1 i) ?_
      rw [show pu_op K i - pu_op K o + 1 = pu_op K i + 1 - pu_op K o by omega]
      exact R
    by_cases z4 : K i = 4
    · exact br_t (by show nI (K i) = 4; rw [z4]; rfl) (inc (Or.inl z4))
    · refine br_f (fun z => z4 ((nI_eq (by omega) (by omega)).mp (z : nI (K i) = nI 4))) ⟨vp_in_nI (by omega) (by decide), ?_⟩
      by_cases z5 : K i = 5
      · exact br_t (by show nI (K i) = 5; rw [z5]; rfl) (inc (Or.inr z5))
      · refine br_f (fun z => z5 ((nI_eq (by omega) (by omega)).mp (z : nI (K i) = nI 5))) ?_
        rw [if_neg (show ¬ (K i = 4 ∨ K i = 5) by omega)] at R n1
        rw [eY_matchingEnd_35, hK, nI_clamp (by omega)]
        refine ⟨vp_in_nI (by omega) (by decide), ?_⟩
        by_cases z6 : K i = 6
        · rw [if_pos z6] at R n1
          refine br_t (by show nI (K i) = 6; rw [z6]; rfl) ?_
          refine nm_r (e' := nI (pu_op K i - 1 - pu_op K o)) ?_ ?_
          · have : pu_op K i - pu_op K o = (pu_op K i - 1 - pu_op K o) + 1 := by omega
            rw [this]
            exact pk_m1 _
          · refine br_f (zz_ne (pu_op K i - 1 - pu_op K o) 0 (by omega) (by omega) (by omega)) ?_
            exact nm_r (nI_1 i) R
        · rw [if_neg z6] at R
          refine br_f (fun y => z6 ((nI_eq (by omega) (by omega)).mp (y : nI (K i) = nI 6))) ?_
          exact nm_r (nI_1 i) R
theorem yr_end (hK : ay_kinds v = fun j => nI (K j)) (hk : ∀ j, K j ≤ 6) {us : Nat} {A : Nat → Int32} {nv no nn o e : Nat} (hw : pu_wf K A nv no nn us) (hU : ay_used v = nI us) (hu : us ≤ 48) (hM : pu_Mt K o e) (he : e < us) (P : post (nI e)) : wpY_matchingEnd post v (nI o) := by
  rw [eY_matchingEnd]
  have h1 := hM.1
  have R := yr_end4 hK hk hw hU hu hM he P (e - o) o (by omega) (Nat.le_refl _)
  rw [Nat.sub_self] at R
  exact ⟨e - o + 1, R⟩
theorem yr_mo2 (hK : ay_kinds v = fun j => nI (K j)) (hk : ∀ j, K j ≤ 6) {us : Nat} {A : Nat → Int32} {mt : Nat → Nat} {nv no nn o e : Nat} (hw : pu_wf K A nv no nn us) (hl : pu_lk K us mt) (hU : ay_used v = nI us) (hu : us ≤ 48) (hM : pu_Mt K o e) (he : e < us) (P : post (nI o)) : ∀ d i, i + d = o → vY_matchingOpen_2 post (nI e) (d + 1) (nI i) v := by
  have m1 := hM.1
  intro d
  induction d with
  | zero =>
    intro i hi
    have ei : i = o := by omega
    subst ei
    have h6 := hk i
    rw [eY_matchingOpen_2, hK, nI_clamp (by omega)]
    refine br_f (nI_ge (by omega) (by omega)) ⟨vp_in_nI (by omega) (by decide), ?_⟩
    have fin : vY_matchingOpen_27 post 0 (nI e) (nI i) v := by
      rw [eY_matchingOpen_27]
      exact yr_end hK hk hw hU hu hM he (br_t rfl P)
    by_cases z4 : K i = 4
    · exact br_t (by show nI (K i) = 4; rw [z4]; rfl) fin
    · refine br_f (fun z => z4 ((nI_eq (by omega) (by omega)).mp (z : nI (K i) = nI 4))) ⟨vp_in_nI (by omega) (by decide), ?_⟩
      have z5 : K i = 5 := by have := hM.2.1; omega
      exact br_t (by show nI (K i) = 5; rw [z5]; rfl) fin
  | succ d ih =>
    intro i hi
    have h6 := hk i
    have R := ih (i + 1) (by omega)
    rw [eY_matchingOpen_2, hK, nI_clamp (by omega)]
    refine br_f (nI_ge (by omega) (by omega)) ⟨vp_in_nI (by omega) (by decide), ?_⟩
    have go : (K i = 4 ∨ K i = 5) → vY_matchingOpen_27 post (d + 1) (nI e) (nI i) v := by
      intro z
      obtain ⟨n1, n2⟩ := (hl i (by omega)).1 z
      rw [eY_matchingOpen_27]
      refine yr_end hK hk hw hU hu n1 n2 ?_
      refine br_f (fun y => ?_) (nm_r (nI_1 i) R)
      have ee : mt i = e := (nI_eq (by omega) (by omega)).mp y
      rw [ee] at n1
      have := pu_Mt_o n1 hM
      omega
    by_cases z4 : K i = 4
    · exact br_t (by show nI (K i) = 4; rw [z4]; rfl) (go (Or.inl z4))
    · refine br_f (fun z => z4 ((nI_eq (by omega) (by omega)).mp (z : nI (K i) = nI 4))) ⟨vp_in_nI (by omega) (by decide), ?_⟩
      by_cases z5 : K i = 5
      · exact br_t (by show nI (K i) = 5; rw [z5]; rfl) (go (Or.inr z5))
      · refine br_f (fun z => z5 ((nI_eq (by omega) (by omega)).mp (z : nI (K i) = nI 5))) ?_
        exact nm_r (nI_1 i) R
theorem yr_mo (hK : ay_kinds v = fun j => nI (K j)) (hk : ∀ j, K j ≤ 6) {us : Nat} {A : Nat → Int32} {mt : Nat → Nat} {nv no nn o e : Nat} (hw : pu_wf K A nv no nn us) (hl : pu_lk K us mt) (hU : ay_used v = nI us) (hu : us ≤ 48) (hM : pu_Mt K o e) (he : e < us) (P : post (nI o)) : wpY_matchingOpen post v (nI e) := by
  rw [eY_matchingOpen]
  exact ⟨o + 1, yr_mo2 hK hk hw hl hU hu hM he P o 0 (by omega)⟩
end
end
section
def lb_s (u : SX) (y_first : Nat → Int32) (y_match : Nat → Int32) (y_openAt : Nat → Int32) : SX := match u with
  | (f_LDI, f_LDA, f_STA, f_ADC, f_SBC, f_ANA, f_XRA, f_ORA, f_ROL, f_ROR, f_DEC, f_CLC, f_LDX, f_JZ, f_JNZ, f_JC, f_JNC, f_JPL, f_JSR, f_RTS, f_HLT, f_STACK, f_REST, f_COUNT, f_SIGN_Q, f_SIGN_A, f_OPA, f_OPB, f_vars, f_capacity, f_operands, f_nest, f_used, f_tail, f_loaded, f_depth, f_open, f_stage, f_divideAt, f_size, f_calls, f_acc, f_carry, f_index, f_pc, a_kinds, a_args, _, _, _, a_places, a_dones, a_wideVars, a_wideStack, a_codeOp, a_codeArg, a_entry, a_helper, a_mem, a_returns) => (f_LDI, f_LDA, f_STA, f_ADC, f_SBC, f_ANA, f_XRA, f_ORA, f_ROL, f_ROR, f_DEC, f_CLC, f_LDX, f_JZ, f_JNZ, f_JC, f_JNC, f_JPL, f_JSR, f_RTS, f_HLT, f_STACK, f_REST, f_COUNT, f_SIGN_Q, f_SIGN_A, f_OPA, f_OPB, f_vars, f_capacity, f_operands, f_nest, f_used, f_tail, f_loaded, f_depth, f_open, f_stage, f_divideAt, f_size, f_calls, f_acc, f_carry, f_index, f_pc, a_kinds, a_args, y_first, y_match, y_openAt, a_places, a_dones, a_wideVars, a_wideStack, a_codeOp, a_codeArg, a_entry, a_helper, a_mem, a_returns)
/-! linkBlocks -/
def lb_I (K : Nat → Nat) (i : Nat) (fi ma oa : Nat → Int32) (sk mt : Nat → Nat) : Prop :=
  (∀ j, j < pu_op K i → oa j = nI (sk j) ∧ sk j < i ∧ (K (sk j) = 4 ∨ K (sk j) = 5) ∧ pu_op K (sk j) = j ∧ ∀ x, sk j < x → x ≤ i → j < pu_op K x)
  ∧ (∀ o, o < i → (K o = 4 ∨ K o = 5) → (∃ j, j < pu_op K i ∧ sk j = o) ∨ (pu_Mt K o (mt o) ∧ mt o < i ∧ ma o = nI (mt o)))
  ∧ (∀ e, e < i → K e = 6 → pu_Mt K (mt e) e ∧ ma e = nI (mt e))
  ∧ (∀ q, q < i → 3 ≤ K q → fi q = nI (pu_tl K q))
section
variable {u0 : SX} {K : Nat → Nat} {A : Nat → Int32} {nv no nn us : Nat} {fi ma oa : Nat → Int32} {sk mt : Nat → Nat} {i : Nat}
theorem lb_tok (h : lb_I K i fi ma oa sk mt) (k3 : K i < 3) : lb_I K (i + 1) fi ma oa sk mt := by
  obtain ⟨h1, h2, h3, h4⟩ := h
  have e : pu_op K (i + 1) = pu_op K i := by rw [pu_op_s, if_neg (by omega), if_neg (by omega)]
  refine ⟨?_, ?_, ?_, ?_⟩
  · intro j hj
    rw [e] at hj
    obtain ⟨a1, a2, a3, a4, a5⟩ := h1 j hj
    refine ⟨a1, by omega, a3, a4, fun x x1 x2 => ?_⟩
    by_cases z : x = i + 1
    · rw [z, e]; exact hj
    · exact a5 x x1 (by omega)
  · intro o ho k
    have : o ≠ i := fun z => by rw [z] at k; omega
    rcases h2 o (by omega) k with ⟨j, j1, j2⟩ | ⟨b1, b2, b3⟩
    · exact Or.inl ⟨j, by rw [e]; exact j1, j2⟩
    · exact Or.inr ⟨b1, by omega, b3⟩
  · intro q hq k
    have : q ≠ i := fun z => by rw [z] at k; omega
    exact h3 q (by omega) k
  · intro q hq k
    have : q ≠ i := fun z => by rw [z] at k; omega
    exact h4 q (by omega) k
theorem lb_set (h : lb_I K i fi ma oa sk mt) (k3 : K i = 3) : lb_I K (i + 1) (upd fi i (nI (pu_tl K i))) ma oa sk mt := by
  obtain ⟨h1, h2, h3, h4⟩ := h
  have e : pu_op K (i + 1) = pu_op K i := by rw [pu_op_s, if_neg (by omega), if_neg (by omega)]
  refine ⟨?_, ?_, ?_, ?_⟩
  · intro j hj
    rw [e] at hj
    obtain ⟨a1, a2, a3, a4, a5⟩ := h1 j hj
    refine ⟨a1, by omega, a3, a4, fun x x1 x2 => ?_⟩
    by_cases z : x = i + 1
    · rw [z, e]; exact hj
    · exact a5 x x1 (by omega)
  · intro o ho k
    have : o ≠ i := fun z => by rw [z] at k; omega
    rcases h2 o (by omega) k with ⟨j, j1, j2⟩ | ⟨b1, b2, b3⟩
    · exact Or.inl ⟨j, by rw [e]; exact j1, j2⟩
    · exact Or.inr ⟨b1, by omega, b3⟩
  · intro q hq k
    have : q ≠ i := fun z => by rw [z] at k; omega
    exact h3 q (by omega) k
  · intro q hq k
    by_cases z : q = i
    · rw [z, pk_us]
    · rw [pk_un z]; exact h4 q (by omega) k
theorem lb_opn (h : lb_I K i fi ma oa sk mt) (k3 : K i = 4 ∨ K i = 5) : lb_I K (i + 1) (upd fi i (nI (pu_tl K i))) ma (upd oa (pu_op K i) (nI i)) (oc_upd sk (pu_op K i) i) mt := by
  obtain ⟨h1, h2, h3, h4⟩ := h
  have e : pu_op K (i + 1) = pu_op K i + 1 := by rw [pu_op_s, if_pos k3]
  refine ⟨?_, ?_, ?_, ?_⟩
  · intro j hj
    rw [e] at hj
    by_cases z : j = pu_op K i
    · rw [z, pk_us, oc_us]
      refine ⟨rfl, by omega, k3, rfl, fun x x1 x2 => ?_⟩
      have : x = i + 1 := by omega
      rw [this, e]
      omega
    · obtain ⟨a1, a2, a3, a4, a5⟩ := h1 j (by omega)
      rw [pk_un z, oc_un z]
      refine ⟨a1, by omega, a3, a4, fun x x1 x2 => ?_⟩
      by_cases y : x = i + 1
      · rw [y, e]; omega
      · exact a5 x x1 (by omega)
  · intro o ho k
    by_cases z : o = i
    · exact Or.inl ⟨pu_op K i, by omega, by rw [oc_us, z]⟩
    · rcases h2 o (by omega) k with ⟨j, j1, j2⟩ | ⟨b1, b2, b3⟩
      · exact Or.inl ⟨j, by omega, by rw [oc_un (by omega)]; exact j2⟩
      · exact Or.inr ⟨b1, by omega, b3⟩
  · intro q hq k
    have : q ≠ i := fun z => by rw [z] at k; omega
    exact h3 q (by omega) k
  · intro q hq k
    by_cases z : q = i
    · rw [z, pk_us]
    · rw [pk_un z]; exact h4 q (by omega) k
theorem lb_end (h : lb_I K i fi ma oa sk mt) (k6 : K i = 6) (hp : 0 < pu_op K i) {o : Nat} (ho : sk (pu_op K i - 1) = o) : lb_I K (i + 1) (upd fi i (nI (pu_tl K i))) (upd (upd ma i (nI o)) o (nI i)) oa sk (oc_upd (oc_upd mt i o) o i) := by
  obtain ⟨h1, h2, h3, h4⟩ := h
  have e : pu_op K (i + 1) = pu_op K i - 1 := by rw [pu_op_s, if_neg (by omega), if_pos k6]
  obtain ⟨c1, c2, c3, c4, c5⟩ := h1 (pu_op K i - 1) (by omega)
  rw [ho] at c1 c2 c3 c4 c5
  have hM : pu_Mt K o i := ⟨c2, c3, k6, by rw [e, c4], fun x x1 x2 => by rw [c4]; exact c5 x x1 x2⟩
  refine ⟨?_, ?_, ?_, ?_⟩
  · intro j hj
    rw [e] at hj
    obtain ⟨a1, a2, a3, a4, a5⟩ := h1 j (by omega)
    refine ⟨a1, by omega, a3, a4, fun x x1 x2 => ?_⟩
    by_cases z : x = i + 1
    · rw [z, e]; exact hj
    · exact a5 x x1 (by omega)
  · intro q hq k
    have qi : q ≠ i := fun z => by rw [z] at k; omega
    by_cases z : q = o
    · refine Or.inr ?_
      rw [z, oc_us, pk_us]
      exact ⟨hM, by omega, rfl⟩
    · rcases h2 q (by omega) k with ⟨j, j1, j2⟩ | ⟨b1, b2, b3⟩
      · refine Or.inl ⟨j, ?_, j2⟩
        rw [e]
        by_cases y : j = pu_op K i - 1
        · rw [y, ho] at j2; omega
        · omega
      · refine Or.inr ?_
        rw [oc_un z, oc_un qi, pk_un z, pk_un qi]
        exact ⟨b1, by omega, b3⟩
  · intro q hq k
    have qo : q ≠ o := fun z => by rw [z] at k; omega
    rw [oc_un qo, pk_un qo]
    by_cases z : q = i
    · rw [z, oc_us, pk_us]
      exact ⟨hM, rfl⟩
    · rw [oc_un z, pk_un z]
      exact h3 q (by omega) k
  · intro q hq k
    by_cases z : q = i
    · rw [z, pk_us]
    · rw [pk_un z]; exact h4 q (by omega) k
theorem lb_loop {post : SX → Prop} (hw : pu_wf K A nv no nn us) (hk : ∀ j, K j ≤ 6) (hn : nn ≤ 4) (hu : us ≤ 48) (hK : ax_kinds u0 = fun j => nI (K j)) (hU : ax_used u0 = nI us) (P : ∀ fi ma oa sk mt, lb_I K us fi ma oa sk mt → post (lb_s u0 fi ma oa)) :
    ∀ (d i : Nat) (fi ma oa : Nat → Int32) (sk mt : Nat → Nat), i + d = us → pu_op K i ≤ 4 → lb_I K i fi ma oa sk mt → vX_linkBlocks_6 post (d + 1) (nI (pu_tl K i)) (nI (pu_op K i)) (nI i) (lb_s u0 fi ma oa) := by
  intro d
  induction d with
  | zero =>
    intro i fi ma oa sk mt hi _ hI
    have e : i = us := by omega
    subst e
    rw [eX_linkBlocks_6]
    refine br_t ?_ (P fi ma oa sk mt hI)
    show ax_used u0 ≤ nI i
    rw [hU]
    exact nI_le (Nat.le_refl _) (by omega)
  | succ d ih =>
    intro i fi ma oa sk mt hi h4 hI
    have h6 := hk i
    have hin : vp_in (nI i) 48 := vp_in_nI (by omega) (by decide)
    obtain ⟨_, _, _, _, _, w5, w6⟩ := hw i (by omega)
    rw [eX_linkBlocks_6]
    refine br_f ?_ ⟨hin, ?_⟩
    · show ¬ ax_used u0 ≤ nI i
      rw [hU]
      exact nI_ge (by omega) (by omega)
    refine nm_r (e' := nI (K i)) ?_ ?_
    · show ax_kinds u0 (nI i).toNatClampNeg = _
      rw [hK, nI_clamp (by omega)]
    by_cases k3 : K i < 3
    · refine br_f (nI_ge (b := 3) k3 (by decide)) (nm_r (nI_1 i) ?_)
      have R := ih (i + 1) fi ma oa sk mt (by omega) (by rw [pu_op_s, if_neg (by omega), if_neg (by omega)]; exact h4) (lb_tok hI k3)
      rw [pu_tl_s, if_pos k3, pu_op_s, if_neg (by omega), if_neg (by omega)] at R
      exact R
    · refine br_t (nI_le (a := 3) (by omega) (by omega)) ⟨hin, ?_⟩
      rw [nI_clamp (by omega)]
      refine nm_r (e' := upd fi i (nI (pu_tl K i))) rfl ?_
      refine nm_r (nI_1 i) ?_
      by_cases k6 : K i = 6
      · have hp := (w5 k6).2
        refine br_t (by show nI (K i) = 6; rw [k6]; rfl) (br_f (nI_nle hp (by omega)) ?_)
        have hs1 : nI (pu_op K i) + (-1) = nI (pu_op K i - 1) := sb_m1 hp
        refine nm_r hs1 ?_
        rw [nI_clamp (by omega)]
        have hin4 : vp_in (nI (pu_op K i - 1)) 4 := vp_in_nI (by omega) (by decide)
        obtain ⟨c1, c2, c3, c4, c5⟩ := hI.1 (pu_op K i - 1) (by omega)
        generalize ho : sk (pu_op K i - 1) = o at c1 c2
        refine ⟨hin4, hin, ?_⟩
        refine nm_r (e' := upd ma i (nI o)) ?_ ⟨hin4, ?_⟩
        · show upd ma i (oa (pu_op K i - 1)) = _
          rw [c1]
        have eo : ax_openAt (lb_s u0 fi ma oa) (pu_op K i - 1) = nI o := c1
        rw [eo, nI_clamp (by omega)]
        refine ⟨vp_in_nI (by omega) (by decide), ?_⟩
        refine nm_e (nm_r (nI_1 i) ?_)
        have R := ih (i + 1) _ _ _ _ _ (by omega) (by rw [pu_op_s, if_neg (by omega), if_pos k6]; omega) (lb_end hI k6 hp ho)
        rw [pu_tl_s, if_neg k3, pu_op_s, if_neg (by omega), if_pos k6] at R
        exact R
      · refine br_f (fun z => k6 ((nI_eq (by omega) (by omega)).mp (z : nI (K i) = nI 6))) ?_
        rw [eX_linkBlocks_83]
        have opn : (K i = 4 ∨ K i = 5) → vX_linkBlocks_95 post (d + 1) (nI (i + 1)) (nI (pu_op K i)) (nI i) (lb_s u0 (upd fi i (nI (pu_tl K i))) ma oa) := by
          intro z
          have hlt := w6 z
          rw [eX_linkBlocks_95]
          refine br_f (nI_ge (b := 4) (by omega) (by decide)) ⟨vp_in_nI (by omega) (by decide), ?_⟩
          rw [nI_clamp (by omega)]
          refine nm_e (nm_r (nI_1 _) (nm_r (nI_1 i) ?_))
          have R := ih (i + 1) _ _ _ _ _ (by omega) (by rw [pu_op_s, if_pos z]; omega) (lb_opn hI z)
          rw [pu_tl_s, if_neg k3, pu_op_s, if_pos z] at R
          exact R
        by_cases z4 : K i = 4
        · exact br_t (by show nI (K i) = 4; rw [z4]; rfl) (opn (Or.inl z4))
        · refine br_f (fun z => z4 ((nI_eq (by omega) (by omega)).mp (z : nI (K i) = nI 4))) ?_
          by_cases z5 : K i = 5
          · exact br_t (by show nI (K i) = 5; rw [z5]; rfl) (opn (Or.inr z5))
          · refine br_f (fun z => z5 ((nI_eq (by omega) (by omega)).mp (z : nI (K i) = nI 5))) (nm_r (nI_1 i) ?_)
            have R := ih (i + 1) _ _ _ _ _ (by omega) (by rw [pu_op_s, if_neg (by omega), if_neg (by omega)]; exact h4) (lb_set hI (by omega))
            rw [pu_tl_s, if_neg k3, pu_op_s, if_neg (by omega), if_neg (by omega)] at R
            exact R
theorem lb_link {post : SX → Prop} (hw : pu_wf K A nv no nn us) (hk : ∀ j, K j ≤ 6) (hn : nn ≤ 4) (hu : us ≤ 48) (hK : ax_kinds u0 = fun j => nI (K j)) (hU : ax_used u0 = nI us) (h0 : pu_op K us = 0) (P : ∀ fi ma oa mt, pu_lk K us mt → (∀ j, j < us → 4 ≤ K j → ma j = nI (mt j)) → (∀ j, j < us → 3 ≤ K j → fi j = nI (pu_tl K j)) → post (lb_s u0 fi ma oa)) : wpX_linkBlocks post u0 := by
  rw [eX_linkBlocks]
  refine ⟨us + 1, ?_⟩
  have R := lb_loop (u0 := u0) (post := post) hw hk hn hu hK hU ?_ us 0 (ax_first u0) (ax_match u0) (ax_openAt u0) (fun _ => 0) (fun _ => 0) (by omega) (Nat.zero_le _) ⟨fun j hj => absurd hj (Nat.not_lt_zero j), fun j hj => absurd hj (Nat.not_lt_zero j), fun j hj => absurd hj (Nat.not_lt_zero j), fun j hj => absurd hj (Nat.not_lt_zero j)⟩
  · exact R
  · intro fi ma oa sk mt hI
    obtain ⟨_, h2, h3, h4⟩ := hI
    refine P fi ma oa mt ?_ ?_ h4
    · intro i hi
      refine ⟨fun z => ?_, fun z => (h3 i hi z).1⟩
      rcases h2 i hi z with ⟨j, j1, _⟩ | ⟨b1, b2, _⟩
      · omega
      · exact ⟨b1, b2⟩
    · intro j hj z
      have := hk j
      by_cases z6 : K j = 6
      · exact (h3 j hj z6).2
      · rcases h2 j hj (by omega) with ⟨q, j1, _⟩ | ⟨_, _, b3⟩
        · omega
        · exact b3
end
end
section
/-! the wide machine and the reference: one statement each -/
section
variable {K mt : Nat → Nat} {A : Nat → Int32} {nv no nn us : Nat}
theorem wd_apX {post : Int32 → Prop} (u : SX) {o : Nat} (ho : o < 10) (a b : Int32) (P : post (pu_ap o a b)) : wpX_apply post u (nI o) a b := by
  rw [eX_apply]
  match o, ho, P with
  | 0, _, P => rw [pu_ap0] at P; exact br_f (by decide) (br_f (by decide) (br_t rfl P))
  | 1, _, P => rw [pu_ap1] at P; exact br_f (by decide) (br_f (by decide) (br_f (by decide) (br_t rfl P)))
  | 2, _, P => rw [pu_ap2] at P; exact br_f (by decide) (br_f (by decide) (br_f (by decide) (br_f (by decide) (br_t rfl P))))
  | 3, _, P => rw [pu_ap3] at P; exact br_f (by decide) (br_f (by decide) (br_f (by decide) (br_f (by decide) (br_f (by decide) (br_t rfl P)))))
  | 4, _, P => rw [pu_ap4] at P; exact br_f (by decide) (br_f (by decide) (br_f (by decide) (br_f (by decide) (br_f (by decide) (br_f (by decide) (br_t rfl P))))))
  | 5, _, P =>
    have P' := P
    rw [pu_ap5] at P'
    refine br_f (by decide) (br_f (by decide) (br_f (by decide) (br_f (by decide) (br_f (by decide) (br_f (by decide) (br_f (by decide) (br_t rfl ?_)))))))
    by_cases z : b = 0
    · rw [if_pos z] at P'; exact br_t z P'
    · rw [if_neg z] at P'; exact br_f z ⟨z, P'⟩
  | 6, _, P =>
    have P' := P
    rw [pu_ap6] at P'
    refine br_f (by decide) (br_f (by decide) (br_f (by decide) (br_f (by decide) (br_f (by decide) (br_f (by decide) (br_f (by decide) (br_f (by decide) (br_t rfl ?_))))))))
    by_cases z : b = 0
    · rw [if_pos z] at P'; exact br_t z P'
    · rw [if_neg z] at P'; exact br_f z ⟨z, P'⟩
  | 7, _, P => rw [pu_ap7] at P; exact br_f (by decide) (br_f (by decide) (br_f (by decide) (br_f (by decide) (br_f (by decide) (br_f (by decide) (br_f (by decide) (br_f (by decide) (br_f (by decide) (br_t rfl P)))))))))
  | 8, _, P => rw [pu_ap8] at P; exact br_f (by decide) (br_f (by decide) (br_f (by decide) (br_f (by decide) (br_f (by decide) (br_f (by decide) (br_f (by decide) (br_f (by decide) (br_f (by decide) (br_f (by decide) (br_t rfl P))))))))))
  | 9, _, P =>
    have P' := P
    rw [pu_ap9] at P'
    refine br_f (by decide) (br_t (by decide) ?_)
    by_cases z : b ≤ a
    · rw [if_pos z] at P'; exact br_t z P'
    · rw [if_neg z] at P'; exact br_f z P'
  | k + 10, z, _ => exact absurd z (by omega)
theorem wd_apY {post : Int32 → Prop} (v : SY) {o : Nat} (ho : o < 10) (a b : Int32) (P : post (pu_ap o a b)) : wpY_apply post v (nI o) a b := by
  rw [eY_apply]
  match o, ho, P with
  | 0, _, P => rw [pu_ap0] at P; exact br_t rfl P
  | 1, _, P => rw [pu_ap1] at P; exact br_f (by decide) (br_t rfl P)
  | 2, _, P => rw [pu_ap2] at P; exact br_f (by decide) (br_f (by decide) (br_t rfl P))
  | 3, _, P => rw [pu_ap3] at P; exact br_f (by decide) (br_f (by decide) (br_f (by decide) (br_t rfl P)))
  | 4, _, P => rw [pu_ap4] at P; exact br_f (by decide) (br_f (by decide) (br_f (by decide) (br_f (by decide) (br_t rfl P))))
  | 5, _, P =>
    have P' := P
    rw [pu_ap5] at P'
    refine br_f (by decide) (br_f (by decide) (br_f (by decide) (br_f (by decide) (br_f (by decide) (br_t rfl ?_)))))
    by_cases z : b = 0
    · rw [if_pos z] at P'; exact br_t z P'
    · rw [if_neg z] at P'; exact br_f z ⟨z, P'⟩
  | 6, _, P =>
    have P' := P
    rw [pu_ap6] at P'
    refine br_f (by decide) (br_f (by decide) (br_f (by decide) (br_f (by decide) (br_f (by decide) (br_f (by decide) (br_t rfl ?_))))))
    by_cases z : b = 0
    · rw [if_pos z] at P'; exact br_t z P'
    · rw [if_neg z] at P'; exact br_f z ⟨z, P'⟩
  | 7, _, P => rw [pu_ap7] at P; exact br_f (by decide) (br_f (by decide) (br_f (by decide) (br_f (by decide) (br_f (by decide) (br_f (by decide) (br_f (by decide) (br_t rfl P)))))))
  | 8, _, P => rw [pu_ap8] at P; exact br_f (by decide) (br_f (by decide) (br_f (by decide) (br_f (by decide) (br_f (by decide) (br_f (by decide) (br_f (by decide) (br_f (by decide) (br_t rfl P))))))))
  | 9, _, P =>
    have P' := P
    rw [pu_ap9] at P'
    refine br_f (by decide) (br_f (by decide) (br_f (by decide) (br_f (by decide) (br_f (by decide) (br_f (by decide) (br_f (by decide) (br_f (by decide) (br_f (by decide) ?_))))))))
    by_cases z : b ≤ a
    · rw [if_pos z] at P'; exact br_t z P'
    · rw [if_neg z] at P'; exact br_f z P'
  | k + 10, z, _ => exact absurd z (by omega)
/-- one token on the wide machine -/
theorem wd_tok {post : Int32 → SX → Prop} (hw : pu_wf K A nv no nn us) (hv : nv ≤ 8) (ho : no ≤ 5) (hu : us ≤ 48) {u : SX} (hK : ax_kinds u = fun j => nI (K j)) (hA : ax_args u = A) {i : Nat} (hi : i < us) (k3 : K i < 3) (P : post (nI (pu_lv K (i + 1))) (sx_wideStack u (pu_tok (K i) (A i) (ax_wideVars u) (ax_wideStack u) (pu_lv K i)))) : wpX_wideToken post u (nI i) (nI (pu_lv K i)) := by
  obtain ⟨_, q1, q2, q3, _, _, _⟩ := hw i hi
  obtain ⟨b1, b2⟩ := pu_lv_ld hw i (by omega)
  have hin : vp_in (nI i) 48 := vp_in_nI (by omega) (by decide)
  rw [eX_wideToken, hK, hA, nI_clamp (by omega)]
  rw [pu_lv_s] at P
  unfold pu_tok at P
  refine ⟨hin, ?_⟩
  by_cases k2 : K i = 2
  · obtain ⟨l2, o, o1, o2⟩ := q3 k2
    rw [if_neg (show ¬ K i < 2 by omega), if_pos k2, if_neg (show ¬ K i = 0 by omega), if_neg (show ¬ K i = 1 by omega), o2, nI_clamp (by omega)] at P
    refine br_t (by show nI (K i) = 2; rw [k2]; rfl) ⟨hin, ?_⟩
    have s2 : nI (pu_lv K i) - 2 = nI (pu_lv K i - 2) := pk_sub (a := pu_lv K i) (b := 2) (by omega)
    have s1 : nI (pu_lv K i) - 1 = nI (pu_lv K i - 1) := pk_sub (a := pu_lv K i) (b := 1) (by omega)
    rw [s2, s1, nI_clamp (n := pu_lv K i - 2) (by omega), nI_clamp (n := pu_lv K i - 1) (by omega), o2]
    refine ⟨vp_in_nI (by omega) (by decide), vp_in_nI (by omega) (by decide), ?_⟩
    exact wd_apX u o1 _ _ ⟨vp_in_nI (by omega) (by decide), nm_e P⟩
  · have kl : K i < 2 := by omega
    have hld := q1 kl
    rw [if_pos kl] at P
    refine br_f (fun z => k2 ((nI_eq (by omega) (by omega)).mp (z : nI (K i) = nI 2))) ⟨hin, ?_⟩
    rw [nI_1, nI_clamp (n := pu_lv K i) (by omega)]
    by_cases k1 : K i = 1
    · obtain ⟨w, v1, v2⟩ := q2 (Or.inl k1)
      rw [if_neg (show ¬ K i = 0 by omega), if_pos k1] at P
      refine br_t (by show nI (K i) = 1; rw [k1]; rfl) ⟨hin, ?_, vp_in_nI (by omega) (by decide), nm_e P⟩
      rw [v2]
      exact vp_in_nI (by omega) (by decide)
    · rw [if_pos (show K i = 0 by omega)] at P
      exact br_f (fun z => k1 ((nI_eq (by omega) (by omega)).mp (z : nI (K i) = nI 1))) ⟨hin, vp_in_nI (by omega) (by decide), nm_e P⟩
/-- the end of a statement on the wide machine -/
theorem wd_close {post : SX → Prop} (hw : pu_wf K A nv no nn us) (hl : pu_lk K us mt) (hv : nv ≤ 8) (hu : us ≤ 48) {u : SX} (hK : ax_kinds u = fun j => nI (K j)) (hA : ax_args u = A) (hM : ∀ j, j < us → 4 ≤ K j → ax_match u j = nI (mt j)) (hF : ∀ j, j < us → 3 ≤ K j → ax_first u j = nI (pu_tl K j)) {e : Nat} (he : e < us) (h3 : 3 ≤ K e) (P : post (sx_places (sx_wideVars u (pu_vals K A (ax_wideVars u) e (ax_wideStack u 0))) (upd (ax_places u) 0 (nI (pu_next K mt e (ax_wideStack u 0)))))) : vX_wideStatement_42 post (nI e) u := by
  obtain ⟨k6, _, q2, _, _, _, _⟩ := hw e he
  have hin : vp_in (nI e) 48 := vp_in_nI (by omega) (by decide)
  rw [eX_wideStatement_42, hK, hA, nI_clamp (by omega)]
  unfold pu_vals pu_next at P
  refine nm_e ⟨hin, ?_⟩
  by_cases a6 : K e = 6
  · rw [if_neg (show ¬ K e = 3 by omega), if_pos a6] at P
    refine br_t (by show nI (K e) = 6; rw [a6]; rfl) ?_
    have ml := ((hl e he).2 a6)
    have m1 := ml.1
    rw [eX_afterEnd, hK, nI_clamp (by omega), hM e he (by omega)]
    refine ⟨hin, nm_e ⟨vp_in_nI (by omega) (by decide), ?_⟩⟩
    rw [nI_clamp (by omega)]
    unfold pu_ae at P
    by_cases b4 : K (mt e) = 4
    · rw [if_pos b4] at P
      refine br_t (by show nI (K (mt e)) = 4; rw [b4]; rfl) ?_
      rw [nI_1]
      exact nm_e P
    · have b5 : K (mt e) = 5 := by have := ml.2.1; omega
      rw [if_neg b4] at P
      refine br_f (fun z => b4 ((nI_eq (by omega) (by omega)).mp (z : nI (K (mt e)) = nI 4))) ⟨vp_in_nI (by omega) (by decide), ?_⟩
      rw [hF (mt e) (by omega) (by omega)]
      exact nm_e P
  · refine br_f (fun z => a6 ((nI_eq (by omega) (by omega)).mp (z : nI (K e) = nI 6))) ⟨hin, ?_⟩
    rw [if_neg a6] at P
    rw [nI_1]
    by_cases a3 : K e = 3
    · obtain ⟨w, v1, v2⟩ := q2 (Or.inr a3)
      rw [if_pos a3, if_pos a3] at P
      refine br_t (by show nI (K e) = 3; rw [a3]; rfl) ⟨hin, ?_, nm_e (nm_e P)⟩
      rw [v2]
      exact vp_in_nI (by omega) (by decide)
    · rw [if_neg a3, if_neg a3] at P
      refine br_f (fun z => a3 ((nI_eq (by omega) (by omega)).mp (z : nI (K e) = nI 3))) ?_
      by_cases z : ax_wideStack u 0 = 0
      · rw [if_pos z] at P
        refine br_t z ⟨hin, ?_⟩
        rw [hM e he (by omega), nI_1]
        exact nm_e P
      · rw [if_neg z] at P
        exact br_f z (nm_e P)
theorem wd_loop {post : SX → Prop} (hw : pu_wf K A nv no nn us) (hv : nv ≤ 8) (ho : no ≤ 5) (hu : us ≤ 48) {u : SX} (hU : ax_used u = nI us) (hK : ax_kinds u = fun j => nI (K j)) (hA : ax_args u = A) {s e : Nat} (hr : ∀ j, s ≤ j → j < e → K j < 3) (he : e < us) (h3 : 3 ≤ K e) (P : vX_wideStatement_42 post (nI e) (sx_wideStack u (pu_stf (ax_wideStack u) K A (ax_wideVars u) s (e - s)))) :
    ∀ q d, s + d + q = e → vX_wideStatement_9 post (q + 1) (nI (pu_lv K (s + d))) (nI (s + d)) (sx_wideStack u (pu_stf (ax_wideStack u) K A (ax_wideVars u) s d)) := by
  have hus : nI us - 1 = nI (us - 1) := pk_sub (a := us) (b := 1) (by omega)
  have h6 := (hw e he).1
  intro q
  induction q with
  | zero =>
    intro d hd
    have ee : s + d = e := by omega
    have ed : d = e - s := by omega
    rw [eX_wideStatement_9]
    have hU' : ax_used (sx_wideStack u (pu_stf (ax_wideStack u) K A (ax_wideVars u) s d)) = nI us := hU
    have hK' : ax_kinds (sx_wideStack u (pu_stf (ax_wideStack u) K A (ax_wideVars u) s d)) = fun j => nI (K j) := hK
    rw [hU', hK', hus, nI_clamp (by omega), ee]
    rw [← ed] at P
    refine br_c (fun _ => P) (fun _ => ⟨vp_in_nI (by omega) (by decide), br_t (nI_le (a := 3) h3 (by omega)) P⟩)
  | succ q ih =>
    intro d hd
    have k3 := hr (s + d) (by omega) (by omega)
    rw [eX_wideStatement_9]
    have hU' : ax_used (sx_wideStack u (pu_stf (ax_wideStack u) K A (ax_wideVars u) s d)) = nI us := hU
    have hK' : ax_kinds (sx_wideStack u (pu_stf (ax_wideStack u) K A (ax_wideVars u) s d)) = fun j => nI (K j) := hK
    rw [hU', hK', hus, nI_clamp (by omega)]
    refine br_f (nI_ge (by omega) (by omega)) ⟨vp_in_nI (by omega) (by decide), br_f (nI_ge (b := 3) k3 (by decide)) ?_⟩
    refine wd_tok hw hv ho hu hK' hA (by omega) k3 ?_
    exact nm_r (nI_1 (s + d)) (ih (d + 1) (by omega))
theorem wd_stmt {post : SX → Prop} (hw : pu_wf K A nv no nn us) (hl : pu_lk K us mt) (hv : nv ≤ 8) (ho : no ≤ 5) (hu : us ≤ 48) {u : SX} (hU : ax_used u = nI us) (hK : ax_kinds u = fun j => nI (K j)) (hA : ax_args u = A) (hM : ∀ j, j < us → 4 ≤ K j → ax_match u j = nI (mt j)) (hF : ∀ j, j < us → 3 ≤ K j → ax_first u j = nI (pu_tl K j)) {s e : Nat} (hs : pu_tl K s = s) (hse : s ≤ e) (hr : ∀ j, s ≤ j → j < e → K j < 3) (he : e < us) (h3 : 3 ≤ K e) (hp : ax_places u 0 = nI s)
    (P : ∀ st, (K e ≠ 6 → st 0 = pu_stk K A (ax_wideVars u) s (e - s) 0) → post (sx_places (sx_wideVars (sx_wideStack u st) (pu_vals K A (ax_wideVars u) e (st 0))) (upd (ax_places u) 0 (nI (pu_next K mt e (st 0)))))) : wpX_wideStatement post u := by
  rw [eX_wideStatement, hp]
  refine nm_e ⟨e - s + 1, ?_⟩
  have hlv : pu_lv K s = 0 := (pu_tl_lv hs).1
  have R := wd_loop (post := post) hw hv ho hu hU hK hA hr he h3 ?_ (e - s) 0 (by omega)
  · rw [show s + 0 = s from rfl, hlv] at R
    exact R
  · refine wd_close (u := sx_wideStack u (pu_stf (ax_wideStack u) K A (ax_wideVars u) s (e - s))) hw hl hv hu hK hA hM hF he h3 ?_
    refine P (pu_stf (ax_wideStack u) K A (ax_wideVars u) s (e - s)) ?_
    intro n6
    have g := pu_stf_agr (V := ax_wideVars u) hw hs (Nat.le_of_lt he) hr (ax_wideStack u) (fun _ => 0) (e - s) (by omega)
    have hk6 := (hw e he).1
    have l1 := (hw e he).2.2.2.2.1 h3 (by omega)
    rw [show s + (e - s) = e by omega, l1] at g
    exact g 0 (by omega)
end
/-! the reference's statement -/
section
variable {K mt : Nat → Nat} {A : Nat → Int32} {nv no nn us M : Nat}
def ys_vals (K : Nat → Nat) (A f : Nat → Int32) (M e : Nat) (z : Int32) : Nat → Int32 := if K e = 3 then upd f (M * 8 + (A e).toNatClampNeg) z else f
def ys_fin (v : SY) (M : Nat) (st va : Nat → Int32) (q : Nat) : SY := sy_places (sy_counts (sy_values (sy_stack v st) va) (upd (ay_counts v) M (ay_counts v M + 1))) (upd (ay_places v) M (nI q))
theorem ys_271 {post : SY → Prop} {v : SY} {q : Nat} (hM2 : M < 2) (P : post (sy_places (sy_counts v (upd (ay_counts v) M (ay_counts v M + 1))) (upd (ay_places v) M (nI q)))) : vY_statement_271 post (nI M) (nI q) v := by
  have hin : vp_in (nI M) 2 := vp_in_nI hM2 (by decide)
  rw [eY_statement_271, nI_clamp (by omega)]
  exact ⟨hin, nm_e ⟨hin, hin, nm_e P⟩⟩
theorem ys_160 {post : SY → Prop} (hw : pu_wf K A nv no nn us) (hl : pu_lk K us mt) (hk : ∀ j, K j ≤ 6) (hv : nv ≤ 8) (hu : us ≤ 48) (hM2 : M < 2) {v : SY} (hU : ay_used v = nI us) (hK : ay_kinds v = fun j => nI (K j)) (hA : ay_args v = A) {e : Nat} (he : e < us) (h3 : 3 ≤ K e) (P : post (ys_fin v M (ay_stack v) (ys_vals K A (ay_values v) M e (ay_stack v 0)) (pu_next K mt e (ay_stack v 0)))) : vY_statement_160 post (nI M) (nI e) v := by
  obtain ⟨k6, _, q2, _, _, _, _⟩ := hw e he
  have hin : vp_in (nI e) 48 := vp_in_nI (by omega) (by decide)
  rw [eY_statement_160, hU, hK, hA, nI_clamp (by omega), nI_1]
  unfold ys_fin ys_vals pu_next at P
  refine br_t (nI_lt he (by omega)) (nm_e ⟨hin, ?_⟩)
  by_cases a3 : K e = 3
  · obtain ⟨w, v1, v2⟩ := q2 (Or.inr a3)
    rw [if_pos a3, if_neg (show ¬ K e = 6 by omega), if_pos a3, v2, nI_clamp (by omega)] at P
    refine br_t (by show nI (K e) = 3; rw [a3]; rfl) ⟨hin, ?_⟩
    have e8 : nI M * 8 + A e = nI (M * 8 + w) := by
      rw [v2]
      have : nI M * 8 = nI (M * 8) := pk_mul M 8
      rw [this, nI_add]
    rw [e8, nI_clamp (by omega)]
    refine ⟨vp_in_nI (by omega) (by decide), nm_e ?_⟩
    exact ys_271 hM2 P
  · rw [if_neg a3] at P
    refine br_f (fun z => a3 ((nI_eq (by omega) (by omega)).mp (z : nI (K e) = nI 3))) ⟨hin, ?_⟩
    by_cases a6 : K e = 6
    · rw [if_pos a6] at P
      refine br_t (by show nI (K e) = 6; rw [a6]; rfl) ?_
      have ml := ((hl e he).2 a6)
      have m1 := ml.1
      refine yr_mo hK hk hw hl hU hu ml he ⟨vp_in_nI (by omega) (by decide), ?_⟩
      rw [nI_clamp (by omega)]
      unfold pu_ae at P
      by_cases b4 : K (mt e) = 4
      · rw [if_pos b4] at P
        refine br_f (zz_ne (K (mt e)) 5 (by omega) (by omega) (by omega)) ?_
        rw [eY_statement_246]
        exact ys_271 hM2 P
      · have b5 : K (mt e) = 5 := by have := ml.2.1; omega
        rw [if_neg b4] at P
        refine br_t (by show nI (K (mt e)) = 5; rw [b5]; rfl) ?_
        refine yr_row hK hk (by omega) ?_
        rw [eY_statement_246]
        exact ys_271 hM2 P
    · rw [if_neg a6, if_neg a3] at P
      refine br_f (fun z => a6 ((nI_eq (by omega) (by omega)).mp (z : nI (K e) = nI 6))) ?_
      by_cases z : ay_stack v 0 = 0
      · rw [if_pos z] at P
        refine br_t z ?_
        obtain ⟨n1, n2⟩ := (hl e he).1 (by omega)
        refine yr_end hK hk hw hU hu n1 n2 ?_
        rw [nI_1]
        exact nm_e (ys_271 hM2 P)
      · rw [if_neg z] at P
        exact br_f z (ys_271 hM2 P)
theorem ys_loop {post : SY → Prop} (hw : pu_wf K A nv no nn us) (hk : ∀ j, K j ≤ 6) (hv : nv ≤ 8) (ho : no ≤ 5) (hu : us ≤ 48) (hM2 : M < 2) {v : SY} (hU : ay_used v = nI us) (hK : ay_kinds v = fun j => nI (K j)) (hA : ay_args v = A) {s e : Nat} (hr : ∀ j, s ≤ j → j < e → K j < 3) (he : e < us) (h3 : 3 ≤ K e) (P : vY_statement_160 post (nI M) (nI e) (sy_stack v (pu_stf (ay_stack v) K A (fun j => ay_values v (M * 8 + j)) s (e - s)))) :
    ∀ q d, s + d + q = e → vY_statement_17 post (nI M) (q + 1) (nI (s + d)) (nI (pu_lv K (s + d))) (nI (s + d)) (sy_stack v (pu_stf (ay_stack v) K A (fun j => ay_values v (M * 8 + j)) s d)) := by
  have h6 := (hw e he).1
  intro q
  induction q with
  | zero =>
    intro d hd
    have ee : s + d = e := by omega
    have ed : d = e - s := by omega
    rw [eY_statement_17]
    have hU' : ay_used (sy_stack v (pu_stf (ay_stack v) K A (fun j => ay_values v (M * 8 + j)) s d)) = nI us := hU
    have hK' : ay_kinds (sy_stack v (pu_stf (ay_stack v) K A (fun j => ay_values v (M * 8 + j)) s d)) = fun j => nI (K j) := hK
    rw [hU', hK', nI_clamp (n := s + d) (by omega), ee]
    rw [← ed] at P
    exact br_f (nI_ge he (by omega)) ⟨vp_in_nI (by omega) (by decide), br_t (nI_le (a := 3) h3 (by omega)) P⟩
  | succ q ih =>
    intro d hd
    have k3 := hr (s + d) (by omega) (by omega)
    have hi : s + d < us := by omega
    have R := ih (d + 1) (by omega)
    rw [← Nat.add_assoc] at R
    rw [pu_lv_s] at R
    have eT : pu_stf (ay_stack v) K A (fun j => ay_values v (M * 8 + j)) s (d + 1) = pu_tok (K (s + d)) (A (s + d)) (fun j => ay_values v (M * 8 + j)) (pu_stf (ay_stack v) K A (fun j => ay_values v (M * 8 + j)) s d) (pu_lv K (s + d)) := rfl
    rw [eT] at R
    unfold pu_tok at R
    obtain ⟨_, q1, q2, q3, _, _, _⟩ := hw (s + d) hi
    obtain ⟨b1, b2⟩ := pu_lv_ld hw (s + d) (by omega)
    have hin : vp_in (nI (s + d)) 48 := vp_in_nI (by omega) (by decide)
    generalize pu_stf (ay_stack v) K A (fun j => ay_values v (M * 8 + j)) s d = st at R
    rw [eY_statement_17]
    have hU' : ay_used (sy_stack v st) = nI us := hU
    have hK' : ay_kinds (sy_stack v st) = fun j => nI (K j) := hK
    have hA' : ay_args (sy_stack v st) = A := hA
    have hS' : ay_stack (sy_stack v st) = st := rfl
    have hV' : ay_values (sy_stack v st) = ay_values v := rfl
    rw [hU', hK', hA', hS', hV', nI_clamp (n := s + d) (by omega), nI_1 (s + d)]
    refine br_f (nI_ge hi (by omega)) ⟨hin, br_f (nI_ge (b := 3) k3 (by decide)) ⟨hin, ?_⟩⟩
    by_cases k0 : K (s + d) = 0
    · have hld := q1 (by omega)
      rw [if_pos (show K (s + d) < 2 by omega), if_pos k0] at R
      rw [nI_1, nI_clamp (by omega)]
      exact br_t (by show nI (K (s + d)) = 0; rw [k0]; rfl) ⟨hin, vp_in_nI (by omega) (by decide), nm_e (nm_e (nm_e (nm_e R)))⟩
    · rw [if_neg k0] at R
      refine br_f (fun z => k0 ((nI_eq (by omega) (by omega)).mp (z : nI (K (s + d)) = nI 0))) ⟨hin, ?_⟩
      by_cases k1 : K (s + d) = 1
      · have hld := q1 (by omega)
        obtain ⟨w, v1, v2⟩ := q2 (Or.inl k1)
        rw [if_pos (show K (s + d) < 2 by omega), if_pos k1, v2, nI_clamp (n := w) (by omega)] at R
        have e8 : nI M * 8 + A (s + d) = nI (M * 8 + w) := by
          rw [v2]
          have : nI M * 8 = nI (M * 8) := pk_mul M 8
          rw [this, nI_add]
        rw [e8, nI_1, nI_clamp (n := M * 8 + w) (by omega), nI_clamp (n := pu_lv K (s + d)) (by omega)]
        exact br_t (by show nI (K (s + d)) = 1; rw [k1]; rfl) ⟨hin, vp_in_nI (by omega) (by decide), vp_in_nI (by omega) (by decide), nm_e (nm_e (nm_e (nm_e R)))⟩
      · have k2 : K (s + d) = 2 := by omega
        obtain ⟨l2, o, o1, o2⟩ := q3 k2
        rw [if_neg k1, if_neg (show ¬ K (s + d) < 2 by omega), if_pos k2, o2, nI_clamp (n := o) (by omega)] at R
        refine br_f (fun z => k1 ((nI_eq (by omega) (by omega)).mp (z : nI (K (s + d)) = nI 1))) ?_
        refine br_f (nI_nlt (b := 2) l2 (by omega)) ⟨hin, ?_⟩
        have s2 : nI (pu_lv K (s + d)) - 2 = nI (pu_lv K (s + d) - 2) := pk_sub (a := pu_lv K (s + d)) (b := 2) (by omega)
        have s1 : nI (pu_lv K (s + d)) - 1 = nI (pu_lv K (s + d) - 1) := pk_sub (a := pu_lv K (s + d)) (b := 1) (by omega)
        have sm : nI (pu_lv K (s + d)) + (-1) = nI (pu_lv K (s + d) - 1) := sb_m1 (by omega)
        rw [s2, s1, sm, nI_clamp (n := pu_lv K (s + d) - 2) (by omega), nI_clamp (n := pu_lv K (s + d) - 1) (by omega), o2]
        refine ⟨vp_in_nI (by omega) (by decide), vp_in_nI (by omega) (by decide), ?_⟩
        exact wd_apY _ o1 _ _ ⟨vp_in_nI (by omega) (by decide), nm_e (nm_e (nm_e (nm_e R)))⟩
theorem ys_stmt {post : SY → Prop} (hw : pu_wf K A nv no nn us) (hl : pu_lk K us mt) (hk : ∀ j, K j ≤ 6) (hv : nv ≤ 8) (ho : no ≤ 5) (hu : us ≤ 48) (hM2 : M < 2) {v : SY} (hU : ay_used v = nI us) (hK : ay_kinds v = fun j => nI (K j)) (hA : ay_args v = A) {s e : Nat} (hs : pu_tl K s = s) (hse : s ≤ e) (hr : ∀ j, s ≤ j → j < e → K j < 3) (he : e < us) (h3 : 3 ≤ K e) (hp : ay_places v M = nI s) {st : Nat → Int32} (hst : st = pu_stf (ay_stack v) K A (fun j => ay_values v (M * 8 + j)) s (e - s))
    (P : post (ys_fin v M st (ys_vals K A (ay_values v) M e (st 0)) (pu_next K mt e (st 0)))) : wpY_statement post v (nI M) := by
  have hin : vp_in (nI M) 2 := vp_in_nI hM2 (by decide)
  rw [eY_statement, nI_clamp (by omega), hp]
  refine ⟨hin, nm_e ⟨hin, nm_e ⟨e - s + 1, ?_⟩⟩⟩
  have hlv : pu_lv K s = 0 := (pu_tl_lv hs).1
  have R := ys_loop (post := post) hw hk hv ho hu hM2 hU hK hA hr he h3 ?_ (e - s) 0 (by omega)
  · rw [show s + 0 = s from rfl, hlv] at R
    exact R
  · rw [← hst]
    exact ys_160 (v := sy_stack v st) hw hl hk hv hu hM2 hU hK hA he h3 P
theorem ys_val (hw : pu_wf K A nv no nn us) {s e : Nat} (hs : pu_tl K s = s) (hse : s ≤ e) (hr : ∀ j, s ≤ j → j < e → K j < 3) (he : e < us) (h3 : 3 ≤ K e) (n6 : K e ≠ 6) (f V : Nat → Int32) : pu_stf f K A V s (e - s) 0 = pu_stk K A V s (e - s) 0 := by
  have g := pu_stf_agr (V := V) hw hs (Nat.le_of_lt he) hr f (fun _ => 0) (e - s) (by omega)
  have hk6 := (hw e he).1
  have l1 := (hw e he).2.2.2.2.1 h3 (by omega)
  rw [show s + (e - s) = e by omega, l1] at g
  exact g 0 (by omega)
end
end
section
def ed_s (u : SX) (y_used : Int32) (y_tail : Int32) (y_loaded : Int32) (y_depth : Int32) (y_open : Int32) (y_stage : Int32) (y_kinds : Nat → Int32) (y_args : Nat → Int32) : SX := match u with
  | (f_LDI, f_LDA, f_STA, f_ADC, f_SBC, f_ANA, f_XRA, f_ORA, f_ROL, f_ROR, f_DEC, f_CLC, f_LDX, f_JZ, f_JNZ, f_JC, f_JNC, f_JPL, f_JSR, f_RTS, f_HLT, f_STACK, f_REST, f_COUNT, f_SIGN_Q, f_SIGN_A, f_OPA, f_OPB, f_vars, f_capacity, f_operands, f_nest, _, _, _, _, _, _, f_divideAt, f_size, f_calls, f_acc, f_carry, f_index, f_pc, _, _, a_first, a_match, a_openAt, a_places, a_dones, a_wideVars, a_wideStack, a_codeOp, a_codeArg, a_entry, a_helper, a_mem, a_returns) => (f_LDI, f_LDA, f_STA, f_ADC, f_SBC, f_ANA, f_XRA, f_ORA, f_ROL, f_ROR, f_DEC, f_CLC, f_LDX, f_JZ, f_JNZ, f_JC, f_JNC, f_JPL, f_JSR, f_RTS, f_HLT, f_STACK, f_REST, f_COUNT, f_SIGN_Q, f_SIGN_A, f_OPA, f_OPB, f_vars, f_capacity, f_operands, f_nest, y_used, y_tail, y_loaded, y_depth, y_open, y_stage, f_divideAt, f_size, f_calls, f_acc, f_carry, f_index, f_pc, y_kinds, y_args, a_first, a_match, a_openAt, a_places, a_dones, a_wideVars, a_wideStack, a_codeOp, a_codeArg, a_entry, a_helper, a_mem, a_returns)
/-! the relation -/
def rl_lim (nv cp no nn us : Nat) : Prop := 1 ≤ nv ∧ nv ≤ 8 ∧ 8 ≤ cp ∧ cp ≤ 48 ∧ 2 ≤ no ∧ no ≤ 5 ∧ 1 ≤ nn ∧ nn ≤ 4 ∧ us ≤ cp
def rl_rY (us : Nat) (K mt : Nat → Nat) (v : SY) : Prop := 0 < us ∧ pu_tl K us = us ∧ pu_op K us = 0 ∧ pu_lk K us mt ∧ ∀ M, M < 2 → ∃ q, q ≤ us ∧ ay_places v M = nI q ∧ pu_tl K q = q
def rl_Y (nv cp no nn us ph : Nat) (K mt : Nat → Nat) (A : Nat → Int32) (v : SY) : Prop :=
  rl_lim nv cp no nn us ∧ ay_vars v = nI nv ∧ ay_capacity v = nI cp ∧ ay_operands v = nI no ∧ ay_nest v = nI nn ∧ ay_phaseNow v = nI ph ∧ ph < 2 ∧ ay_used v = nI us ∧ ay_kinds v = (fun j => nI (K j)) ∧ ay_args v = A ∧ (∀ j, K j ≤ 6) ∧ pu_wf K A nv no nn us ∧ (ph = 1 → rl_rY us K mt v)
def rl_m (u : SX) (v : SY) : Prop :=
  ∃ (m : Nat → Nat) (a c x : Nat), ax_mem u = (fun i => nI (m i)) ∧ ax_acc u = nI a ∧ ax_carry u = nI c ∧ ax_index u = nI x ∧ oc_ok (m, a, c, x, 0, []) ∧ ∀ j, j < 8 → oc_w m (4 * j) = pu_U (ay_values v (8 + j))
def rl_rX (us : Nat) (K mt : Nat → Nat) (A : Nat → Int32) (u : SX) : Prop :=
  (∀ j, j < us → 4 ≤ K j → ax_match u j = nI (mt j)) ∧ (∀ j, j < us → 3 ≤ K j → ax_first u j = nI (pu_tl K j)) ∧ ot_code u (cd_C K mt A us) (cd_P K mt A us) ∧ ∀ j, j ≤ us → pu_tl K j = j → ax_entry u j = nI (cd_P K mt A j)
def rl_X (nv cp no nn us ph : Nat) (K mt : Nat → Nat) (A : Nat → Int32) (u : SX) (v : SY) : Prop :=
  ax_vars u = nI nv ∧ ax_capacity u = nI cp ∧ ax_operands u = nI no ∧ ax_nest u = nI nn ∧ ax_stage u = nI ph ∧ ax_used u = nI us ∧ ax_tail u = nI (pu_tl K us) ∧ ax_loaded u = nI (pu_ld K us) ∧ ax_depth u = nI (pu_lv K us) ∧ ax_open u = nI (pu_op K us) ∧ ax_kinds u = (fun j => nI (K j)) ∧ ax_args u = A ∧ ax_places u = ay_places v ∧ ax_dones u = ay_counts v ∧ (∀ j, j < 8 → ax_wideVars u j = ay_values v j) ∧ rl_m u v ∧ (ph = 1 → rl_rX us K mt A u)
def i_Rel (_ : Nat) (u : SX) (v : SY) : Prop := ∃ (nv cp no nn us ph : Nat) (K mt : Nat → Nat) (A : Nat → Int32), rl_Y nv cp no nn us ph K mt A v ∧ rl_X nv cp no nn us ph K mt A u v
theorem i_up {k : Nat} {u : SX} {v : SY} (h : i_Rel k u v) : i_Rel (k + 3) u v := h
theorem cl_clamp (p : Int32) (lo hi : Nat) (h : lo ≤ hi) (hh : hi < 2 ^ 31) : ∃ n, lo ≤ n ∧ n ≤ hi ∧ (∀ (post : Int32 → Prop) (u : SX), post (nI n) → wpX_clamp post u p (nI lo) (nI hi)) ∧ (∀ (post : Int32 → Prop) (v : SY), post (nI n) → wpY_clamp post v p (nI lo) (nI hi)) := by
  by_cases a : nI lo ≤ p
  · by_cases b : p ≤ nI hi
    · have h0 : ¬ p < 0 := by
        intro z
        have h1 : (0 : Int32) ≤ nI lo := nI_pos' (by omega)
        exact absurd (Int32.le_trans h1 a) (Int32.not_le.mpr z)
      obtain ⟨j, hj, e⟩ := nI_of h0
      subst e
      rw [nI_leI (by omega) hj] at a
      rw [nI_leI hj hh] at b
      refine ⟨j, a, b, fun post u P => ?_, fun post v P => ?_⟩
      · rw [eX_clamp]
        exact br_t (nI_le a hj) (br_t (nI_le b hh) P)
      · rw [eY_clamp]
        exact br_t (nI_le a hj) (br_t (nI_le b hh) P)
    · refine ⟨hi, h, Nat.le_refl _, fun post u P => ?_, fun post v P => ?_⟩
      · rw [eX_clamp]
        exact br_t a (br_f b P)
      · rw [eY_clamp]
        exact br_t a (br_f b P)
  · refine ⟨lo, Nat.le_refl _, h, fun post u P => ?_, fun post v P => ?_⟩
    · rw [eX_clamp]
      exact br_f a P
    · rw [eY_clamp]
      exact br_f a P
theorem i_vc0 (k0 : Int32) (k1 : Int32) (k2 : Int32) (k3 : Int32) : wpX_init (fun u => wpY_init (fun v => i_Rel 4 u v) k0 k1 k2 k3) k0 k1 k2 k3 := by
  obtain ⟨n0, a0, b0, x0, y0⟩ := cl_clamp k0 1 8 (by decide) (by decide)
  obtain ⟨n1, a1, b1, x1, y1⟩ := cl_clamp k1 8 48 (by decide) (by decide)
  obtain ⟨n2, a2, b2, x2, y2⟩ := cl_clamp k2 2 5 (by decide) (by decide)
  obtain ⟨n3, a3, b3, x3, y3⟩ := cl_clamp k3 1 4 (by decide) (by decide)
  unfold wpX_init
  refine x0 _ _ ?_
  refine x1 _ _ ?_
  refine x2 _ _ ?_
  refine x3 _ _ ?_
  unfold wpY_init
  refine y0 _ _ ?_
  refine y1 _ _ ?_
  refine y2 _ _ ?_
  refine y3 _ _ ?_
  refine ⟨n0, n1, n2, n3, 0, 0, fun _ => 0, fun _ => 0, fun _ => 0, ?_, ?_⟩
  · refine ⟨⟨a0, b0, a1, b1, a2, b2, a3, b3, Nat.zero_le _⟩, rfl, rfl, rfl, rfl, rfl, by decide, rfl, rfl, rfl, fun _ => Nat.zero_le _, fun i hi => absurd hi (Nat.not_lt_zero i), fun h => absurd h (by decide)⟩
  · refine ⟨rfl, rfl, rfl, rfl, rfl, rfl, rfl, rfl, rfl, rfl, rfl, rfl, rfl, rfl, fun _ _ => rfl, ?_, fun h => absurd h (by decide)⟩
    refine ⟨fun _ => 0, 0, 0, 0, rfl, rfl, rfl, rfl, ⟨fun _ => (by decide : 0 < 256), (by decide : 0 < 256), (by decide : 0 < 2), (by decide : 0 < 32768)⟩, fun _ _ => rfl⟩
/-! the getters -/
theorem gt_isVar {post : Int32 → Prop} {u : SX} {nv : Nat} (hv : ax_vars u = nI nv) (p : Int32) : (p < 0 → post 0 → wpX_isVar post u p) ∧ (nI nv ≤ p → post 0 → wpX_isVar post u p) ∧ (∀ j, j < nv → nv < 2 ^ 31 → p = nI j → post 1 → wpX_isVar post u p) := by
  refine ⟨fun h P => ?_, fun h P => ?_, fun j hj hn e P => ?_⟩
  · rw [eX_isVar]
    exact br_t h P
  · rw [eX_isVar, hv]
    exact br_c (fun _ => P) (fun _ => br_t h P)
  · rw [eX_isVar, hv, e]
    exact br_f (nI_pos (by omega)) (br_f (nI_ge hj hn) P)
theorem i_vc_used {k : Nat} {u : SX} {v : SY} (I : i_Rel k u v) (hk : k + 3 ≤ 1540) : wpX_used (fun r => wpY_used (fun r' => r' = r ∧ i_Rel (k + 3) u v) v) u := by
  rw [eX_used, eY_used]
  refine ⟨?_, I⟩
  obtain ⟨nv, cp, no, nn, us, ph, K, mt, A, ⟨_, _, _, _, _, _, _, yu, _⟩, ⟨_, _, _, _, _, xu, _⟩⟩ := I
  rw [yu, xu]
theorem i_vc_phase {k : Nat} {u : SX} {v : SY} (I : i_Rel k u v) (hk : k + 3 ≤ 1540) : wpX_phase (fun r => wpY_phase (fun r' => r' = r ∧ i_Rel (k + 3) u v) v) u := by
  rw [eX_phase, eY_phase]
  refine ⟨?_, I⟩
  obtain ⟨nv, cp, no, nn, us, ph, K, mt, A, ⟨_, _, _, _, _, yp, _⟩, ⟨_, _, _, _, xp, _⟩⟩ := I
  rw [yp, xp]
theorem i_vc_wide {k : Nat} {u : SX} {v : SY} (I : i_Rel k u v) (hk : k + 3 ≤ 1540) (v1 : Int32) : wpX_wide (fun r => wpY_wide (fun r' => r' = r ∧ i_Rel (k + 3) u v) v v1) u v1 := by
  have I2 := I
  obtain ⟨nv, cp, no, nn, us, ph, K, mt, A, ⟨⟨_, l2, _⟩, yv, _⟩, ⟨xv, _, _, _, _, _, _, _, _, _, _, _, _, _, xw, _⟩⟩ := I
  obtain ⟨g1, g2, g3⟩ := gt_isVar (post := fun r_1 => (((r_1 = 0 → (wpY_wide (fun r' => r' = 0 ∧ i_Rel (k + 3) u v) v v1)) ∧ (¬ r_1 = 0 → (vp_in v1 8 ∧ (wpY_wide (fun r' => r' = (ax_wideVars u) v1.toNatClampNeg ∧ i_Rel (k + 3) u v) v v1)))))) xv v1
  rw [eX_wide]
  rcases pk_ix v1 (n := nv) (by omega) with h | h | ⟨j, hj, e⟩
  · refine g1 h (br_t rfl ?_)
    rw [eY_wide]
    exact br_t h ⟨rfl, I2⟩
  · refine g2 h (br_t rfl ?_)
    rw [eY_wide, yv]
    exact br_c (fun _ => ⟨rfl, I2⟩) (fun _ => br_f (Int32.not_lt.mpr h) ⟨rfl, I2⟩)
  · refine g3 j hj (by omega) e (br_f (by decide) ?_)
    rw [eY_wide, yv, e, nI_clamp (by omega)]
    exact ⟨vp_in_nI (by omega) (by decide), br_f (nI_pos (by omega)) (br_t (nI_lt hj (by omega)) ⟨vp_in_nI (by omega) (by decide), (xw j (by omega)).symm, I2⟩)⟩
theorem gt_byte {m : Nat → Nat} (hm : ∀ i, m i < 256) {A w : Nat} (h : oc_w m A = w) : m A = w % 256 ∧ m (A + 1) = w / 256 % 256 ∧ m (A + 2) = w / 65536 % 256 ∧ m (A + 3) = w / 16777216 % 256 := by
  have h0 := hm A
  have h1 := hm (A + 1)
  have h2 := hm (A + 2)
  have h3 := hm (A + 3)
  unfold oc_w at h
  omega
theorem i_vc_octet {k : Nat} {u : SX} {v : SY} (I : i_Rel k u v) (hk : k + 3 ≤ 1540) (v1 : Int32) (v2 : Int32) : wpX_octet (fun r => wpY_octet (fun r' => r' = r ∧ i_Rel (k + 3) u v) v v1 v2) u v1 v2 := by
  have I2 := I
  obtain ⟨nv, cp, no, nn, us, ph, K, mt, A, ⟨⟨_, l2, _⟩, yv, _⟩, ⟨xv, _, _, _, _, _, _, _, _, _, _, _, _, _, _, ⟨m, a, c, x, xm, _, _, _, ok, xw⟩, _⟩⟩ := I
  have hm : ∀ i, m i < 256 := ok.1
  rw [eX_octet, eX_isVar, xv, xm]
  rcases pk_ix v1 (n := nv) (by omega) with h | h | ⟨j, hj, e⟩
  · refine br_t h (br_t rfl ?_)
    rw [eY_octet]
    exact br_t h ⟨rfl, I2⟩
  · have Y : wpY_octet (fun r' => r' = -1 ∧ i_Rel (k + 3) u v) v v1 v2 := by
      rw [eY_octet, yv]
      exact br_c (fun _ => ⟨rfl, I2⟩) (fun _ => br_t h ⟨rfl, I2⟩)
    exact br_c (fun _ => br_t rfl Y) (fun _ => br_t h (br_t rfl Y))
  · subst e
    have n0 : ¬ nI j < 0 := nI_pos (by omega)
    have n1 : ¬ nI nv ≤ nI j := nI_ge hj (by omega)
    refine br_f n0 (br_f n1 (br_f (by decide) ?_))
    rcases pk_ix v2 (n := 4) (by omega) with h | h | ⟨q, hq, e⟩
    · refine br_t h ?_
      rw [eY_octet, yv]
      exact br_f n0 (br_f n1 (br_t h ⟨rfl, I2⟩))
    · have h3 : ¬ v2 ≤ 3 := by
        intro z
        exact absurd (Int32.le_trans h z) (by decide)
      have Y : wpY_octet (fun r' => r' = -1 ∧ i_Rel (k + 3) u v) v (nI j) v2 := by
        rw [eY_octet, yv]
        exact br_f n0 (br_f n1 (br_c (fun _ => ⟨rfl, I2⟩) (fun _ => br_f h3 ⟨rfl, I2⟩)))
      exact br_c (fun _ => Y) (fun _ => br_f h3 Y)
    · subst e
      have e4 : (4 : Int32) * nI j + nI q = nI (4 * j + q) := by
        have : (4 : Int32) * nI j = nI (4 * j) := pk_mul 4 j
        rw [this, nI_add]
      have e8 : (8 : Int32) + nI j = nI (8 + j) := nI_add 8 j
      have p0 : ¬ nI q < 0 := nI_pos (by omega)
      have p3 : nI q ≤ 3 := nI_le (b := 3) (by omega) (by decide)
      refine br_f p0 (br_t p3 ?_)
      rw [e4, nI_clamp (by omega), eY_octet, yv, e8, nI_clamp (n := 8 + j) (by omega)]
      refine ⟨vp_in_nI (by omega) (by decide), br_f n0 (br_f n1 (br_f p0 (br_t p3 ⟨vp_in_nI (by omega) (by decide), ?_, I2⟩)))⟩
      obtain ⟨q0, q1, q2, q3⟩ := gt_byte hm (xw j (by omega))
      have hcase : q = 0 ∨ q = 1 ∨ q = 2 ∨ q = 3 := by omega
      rcases hcase with rfl | rfl | rfl | rfl
      · exact (em_oct0 _).trans (congrArg nI q0.symm)
      · exact (em_oct1 _).trans (congrArg nI q1.symm)
      · exact (em_oct2 _).trans (congrArg nI q2.symm)
      · exact (em_oct3 _).trans (congrArg nI q3.symm)
theorem i_vc_place {k : Nat} {u : SX} {v : SY} (I : i_Rel k u v) (hk : k + 3 ≤ 1540) (v1 : Int32) : wpX_place (fun r => wpY_place (fun r' => r' = r ∧ i_Rel (k + 3) u v) v v1) u v1 := by
  have I2 := I
  obtain ⟨nv, cp, no, nn, us, ph, K, mt, A, _, ⟨_, _, _, _, _, _, _, _, _, _, _, _, xp, _⟩⟩ := I
  rw [eX_place, eX_isMachine, xp]
  rcases pk_ix v1 (n := 2) (by omega) with h | h | ⟨j, hj, e⟩
  · have z0 : ¬ v1 = 0 := fun z => by rw [z] at h; exact absurd h (by decide)
    have z1 : ¬ v1 = 1 := fun z => by rw [z] at h; exact absurd h (by decide)
    refine br_f z0 (br_f z1 (br_t rfl ?_))
    rw [eY_place]
    exact br_t h ⟨rfl, I2⟩
  · have z0 : ¬ v1 = 0 := fun z => by rw [z] at h; exact absurd h (by decide)
    have z1 : ¬ v1 = 1 := fun z => by rw [z] at h; exact absurd h (by decide)
    refine br_f z0 (br_f z1 (br_t rfl ?_))
    rw [eY_place]
    have h3 : ¬ v1 ≤ 1 := by
      intro z
      exact absurd (Int32.le_trans h z) (by decide)
    exact br_c (fun _ => ⟨rfl, I2⟩) (fun _ => br_f h3 ⟨rfl, I2⟩)
  · subst e
    have Y : wpY_place (fun r' => r' = ay_places v j ∧ i_Rel (k + 3) u v) v (nI j) := by
      rw [eY_place, nI_clamp (by omega)]
      exact br_f (nI_pos (by omega)) (br_t (nI_le (b := 1) (by omega) (by decide)) ⟨vp_in_nI hj (by decide), rfl, I2⟩)
    rw [nI_clamp (by omega)]
    have hcase : j = 0 ∨ j = 1 := by omega
    rcases hcase with rfl | rfl
    · exact br_t rfl (br_f (by decide) ⟨vp_in_nI hj (by decide), Y⟩)
    · exact br_f (by decide) (br_t rfl (br_f (by decide) ⟨vp_in_nI hj (by decide), Y⟩))
theorem i_vc_done {k : Nat} {u : SX} {v : SY} (I : i_Rel k u v) (hk : k + 3 ≤ 1540) (v1 : Int32) : wpX_done (fun r => wpY_done (fun r' => r' = r ∧ i_Rel (k + 3) u v) v v1) u v1 := by
  have I2 := I
  obtain ⟨nv, cp, no, nn, us, ph, K, mt, A, _, ⟨_, _, _, _, _, _, _, _, _, _, _, _, _, xp, _⟩⟩ := I
  rw [eX_done, eX_isMachine, xp]
  rcases pk_ix v1 (n := 2) (by omega) with h | h | ⟨j, hj, e⟩
  · have z0 : ¬ v1 = 0 := fun z => by rw [z] at h; exact absurd h (by decide)
    have z1 : ¬ v1 = 1 := fun z => by rw [z] at h; exact absurd h (by decide)
    refine br_f z0 (br_f z1 (br_t rfl ?_))
    rw [eY_done]
    exact br_t h ⟨rfl, I2⟩
  · have z0 : ¬ v1 = 0 := fun z => by rw [z] at h; exact absurd h (by decide)
    have z1 : ¬ v1 = 1 := fun z => by rw [z] at h; exact absurd h (by decide)
    refine br_f z0 (br_f z1 (br_t rfl ?_))
    rw [eY_done]
    have h3 : ¬ v1 ≤ 1 := by
      intro z
      exact absurd (Int32.le_trans h z) (by decide)
    exact br_c (fun _ => ⟨rfl, I2⟩) (fun _ => br_f h3 ⟨rfl, I2⟩)
  · subst e
    have Y : wpY_done (fun r' => r' = ay_counts v j ∧ i_Rel (k + 3) u v) v (nI j) := by
      rw [eY_done, nI_clamp (by omega)]
      exact br_f (nI_pos (by omega)) (br_t (nI_le (b := 1) (by omega) (by decide)) ⟨vp_in_nI hj (by decide), rfl, I2⟩)
    rw [nI_clamp (by omega)]
    have hcase : j = 0 ∨ j = 1 := by omega
    rcases hcase with rfl | rfl
    · exact br_t rfl (br_f (by decide) ⟨vp_in_nI hj (by decide), Y⟩)
    · exact br_f (by decide) (br_t rfl (br_f (by decide) ⟨vp_in_nI hj (by decide), Y⟩))
theorem i_vc_kindAt {k : Nat} {u : SX} {v : SY} (I : i_Rel k u v) (hk : k + 3 ≤ 1540) (v1 : Int32) : wpX_kindAt (fun r => wpY_kindAt (fun r' => r' = r ∧ i_Rel (k + 3) u v) v v1) u v1 := by
  have I2 := I
  obtain ⟨nv, cp, no, nn, us, ph, K, mt, A, ⟨⟨_, _, _, l4, _, _, _, _, l9⟩, _, _, _, _, _, _, yu, yk, _⟩, ⟨_, _, _, _, _, xu, _, _, _, _, xk, _⟩⟩ := I
  rw [eX_kindAt, xu, xk]
  rcases pk_ix v1 (n := us) (by omega) with h | h | ⟨j, hj, e⟩
  · refine br_t h ?_
    rw [eY_kindAt]
    exact br_t h ⟨rfl, I2⟩
  · have Y : wpY_kindAt (fun r' => r' = -1 ∧ i_Rel (k + 3) u v) v v1 := by
      rw [eY_kindAt, yu]
      exact br_c (fun _ => ⟨rfl, I2⟩) (fun _ => br_f (Int32.not_lt.mpr h) ⟨rfl, I2⟩)
    exact br_c (fun _ => Y) (fun _ => br_t h Y)
  · subst e
    have hin : vp_in (nI j) 48 := vp_in_nI (by omega) (by decide)
    have Y : wpY_kindAt (fun r' => r' = (fun j => nI (K j)) j ∧ i_Rel (k + 3) u v) v (nI j) := by
      rw [eY_kindAt, yu, yk, nI_clamp (by omega)]
      exact br_f (nI_pos (by omega)) (br_t (nI_lt hj (by omega)) ⟨hin, rfl, I2⟩)
    rw [nI_clamp (by omega)]
    exact br_f (nI_pos (by omega)) (br_f (nI_ge hj (by omega)) ⟨hin, Y⟩)
theorem i_vc_argAt {k : Nat} {u : SX} {v : SY} (I : i_Rel k u v) (hk : k + 3 ≤ 1540) (v1 : Int32) : wpX_argAt (fun r => wpY_argAt (fun r' => r' = r ∧ i_Rel (k + 3) u v) v v1) u v1 := by
  have I2 := I
  obtain ⟨nv, cp, no, nn, us, ph, K, mt, A, ⟨⟨_, _, _, l4, _, _, _, _, l9⟩, _, _, _, _, _, _, yu, _, ya, _⟩, ⟨_, _, _, _, _, xu, _, _, _, _, _, xa, _⟩⟩ := I
  rw [eX_argAt, xu, xa]
  rcases pk_ix v1 (n := us) (by omega) with h | h | ⟨j, hj, e⟩
  · refine br_t h ?_
    rw [eY_argAt]
    exact br_t h ⟨rfl, I2⟩
  · have Y : wpY_argAt (fun r' => r' = 0 ∧ i_Rel (k + 3) u v) v v1 := by
      rw [eY_argAt, yu]
      exact br_c (fun _ => ⟨rfl, I2⟩) (fun _ => br_f (Int32.not_lt.mpr h) ⟨rfl, I2⟩)
    exact br_c (fun _ => Y) (fun _ => br_t h Y)
  · subst e
    have hin : vp_in (nI j) 48 := vp_in_nI (by omega) (by decide)
    have Y : wpY_argAt (fun r' => r' = A j ∧ i_Rel (k + 3) u v) v (nI j) := by
      rw [eY_argAt, yu, ya, nI_clamp (by omega)]
      exact br_f (nI_pos (by omega)) (br_t (nI_lt hj (by omega)) ⟨hin, rfl, I2⟩)
    rw [nI_clamp (by omega)]
    exact br_f (nI_pos (by omega)) (br_f (nI_ge hj (by omega)) ⟨hin, Y⟩)
end
section
theorem sx_el {P : SX → Prop} (h : ∀ (f_LDI : Int32) (f_LDA : Int32) (f_STA : Int32) (f_ADC : Int32) (f_SBC : Int32) (f_ANA : Int32) (f_XRA : Int32) (f_ORA : Int32) (f_ROL : Int32) (f_ROR : Int32) (f_DEC : Int32) (f_CLC : Int32) (f_LDX : Int32) (f_JZ : Int32) (f_JNZ : Int32) (f_JC : Int32) (f_JNC : Int32) (f_JPL : Int32) (f_JSR : Int32) (f_RTS : Int32) (f_HLT : Int32) (f_STACK : Int32) (f_REST : Int32) (f_COUNT : Int32) (f_SIGN_Q : Int32) (f_SIGN_A : Int32) (f_OPA : Int32) (f_OPB : Int32) (f_vars : Int32) (f_capacity : Int32) (f_operands : Int32) (f_nest : Int32) (f_used : Int32) (f_tail : Int32) (f_loaded : Int32) (f_depth : Int32) (f_open : Int32) (f_stage : Int32) (f_divideAt : Int32) (f_size : Int32) (f_calls : Int32) (f_acc : Int32) (f_carry : Int32) (f_index : Int32) (f_pc : Int32) (a_kinds : Nat → Int32) (a_args : Nat → Int32) (a_first : Nat → Int32) (a_match : Nat → Int32) (a_openAt : Nat → Int32) (a_places : Nat → Int32) (a_dones : Nat → Int32) (a_wideVars : Nat → Int32) (a_wideStack : Nat → Int32) (a_codeOp : Nat → Int32) (a_codeArg : Nat → Int32) (a_entry : Nat → Int32) (a_helper : Nat → Int32) (a_mem : Nat → Int32) (a_returns : Nat → Int32), P (f_LDI, f_LDA, f_STA, f_ADC, f_SBC, f_ANA, f_XRA, f_ORA, f_ROL, f_ROR, f_DEC, f_CLC, f_LDX, f_JZ, f_JNZ, f_JC, f_JNC, f_JPL, f_JSR, f_RTS, f_HLT, f_STACK, f_REST, f_COUNT, f_SIGN_Q, f_SIGN_A, f_OPA, f_OPB, f_vars, f_capacity, f_operands, f_nest, f_used, f_tail, f_loaded, f_depth, f_open, f_stage, f_divideAt, f_size, f_calls, f_acc, f_carry, f_index, f_pc, a_kinds, a_args, a_first, a_match, a_openAt, a_places, a_dones, a_wideVars, a_wideStack, a_codeOp, a_codeArg, a_entry, a_helper, a_mem, a_returns)) (u : SX) : P u := match u with
  | (f_LDI, f_LDA, f_STA, f_ADC, f_SBC, f_ANA, f_XRA, f_ORA, f_ROL, f_ROR, f_DEC, f_CLC, f_LDX, f_JZ, f_JNZ, f_JC, f_JNC, f_JPL, f_JSR, f_RTS, f_HLT, f_STACK, f_REST, f_COUNT, f_SIGN_Q, f_SIGN_A, f_OPA, f_OPB, f_vars, f_capacity, f_operands, f_nest, f_used, f_tail, f_loaded, f_depth, f_open, f_stage, f_divideAt, f_size, f_calls, f_acc, f_carry, f_index, f_pc, a_kinds, a_args, a_first, a_match, a_openAt, a_places, a_dones, a_wideVars, a_wideStack, a_codeOp, a_codeArg, a_entry, a_helper, a_mem, a_returns) => h f_LDI f_LDA f_STA f_ADC f_SBC f_ANA f_XRA f_ORA f_ROL f_ROR f_DEC f_CLC f_LDX f_JZ f_JNZ f_JC f_JNC f_JPL f_JSR f_RTS f_HLT f_STACK f_REST f_COUNT f_SIGN_Q f_SIGN_A f_OPA f_OPB f_vars f_capacity f_operands f_nest f_used f_tail f_loaded f_depth f_open f_stage f_divideAt f_size f_calls f_acc f_carry f_index f_pc a_kinds a_args a_first a_match a_openAt a_places a_dones a_wideVars a_wideStack a_codeOp a_codeArg a_entry a_helper a_mem a_returns
/-! clear, drop, rewind, input -/
theorem ed_clear (u : SX) : sx_tail (sx_loaded (sx_depth (sx_used (sx_open (sx_stage u 0) 0) 0) 0) 0) (ax_used (sx_used (sx_open (sx_stage u 0) 0) 0)) = ed_s u 0 0 0 0 0 0 (ax_kinds u) (ax_args u) := by
  refine sx_el (P := fun u => sx_tail (sx_loaded (sx_depth (sx_used (sx_open (sx_stage u 0) 0) 0) 0) 0) (ax_used (sx_used (sx_open (sx_stage u 0) 0) 0)) = ed_s u 0 0 0 0 0 0 (ax_kinds u) (ax_args u)) ?_ u
  intros
  rfl
theorem ed_drop (u : SX) (t : Int32) : sx_tail (sx_loaded (sx_depth (sx_used u t) 0) 0) (ax_used (sx_used u t)) = ed_s u t t 0 0 (ax_open u) (ax_stage u) (ax_kinds u) (ax_args u) := by
  refine sx_el (P := fun u => sx_tail (sx_loaded (sx_depth (sx_used u t) 0) 0) (ax_used (sx_used u t)) = ed_s u t t 0 0 (ax_open u) (ax_stage u) (ax_kinds u) (ax_args u)) ?_ u
  intros
  rfl
def rs_m (m : Nat → Nat) (i : Nat) : Nat := if i < 128 then 0 else m i
theorem rs_m_lo {m : Nat → Nat} {i : Nat} (h : i < 128) : rs_m m i = 0 := if_pos h
theorem rs_m_hi {m : Nat → Nat} {i : Nat} (h : ¬ i < 128) : rs_m m i = m i := if_neg h
section
variable {nv cp no nn us ph : Nat} {K mt : Nat → Nat} {A : Nat → Int32}
theorem rl_zero {u : SX} {v : SY} (HY : rl_Y nv cp no nn us ph K mt A v) (HX : rl_X nv cp no nn us ph K mt A u v) : rl_Y nv cp no nn us ph K mt A (rs_Y v) ∧ rl_X nv cp no nn us ph K mt A (rs_X u) (rs_Y v) := by
  obtain ⟨l, yv, yc, yo, yn, yp, hp, yu, yk, ya, hk, hw, hy⟩ := HY
  obtain ⟨xv, xc, xo, xn, xs, xu, xt, xl, xd, xq, xk, xa, xp, xe, xw, ⟨m, a, c, x, mm, ma, mc, mx, ok, mw⟩, hx⟩ := HX
  refine ⟨⟨l, yv, yc, yo, yn, yp, hp, yu, yk, ya, hk, hw, fun h => ?_⟩, ⟨xv, xc, xo, xn, xs, xu, xt, xl, xd, xq, xk, xa, ?_, ?_, ?_, ?_, fun h => ?_⟩⟩
  · obtain ⟨r1, r2, r3, r4, r5⟩ := hy h
    refine ⟨r1, r2, r3, r4, fun M hM => ⟨0, Nat.zero_le _, ?_, rfl⟩⟩
    show rs_z 2 (ay_places v) M = nI 0
    unfold rs_z
    rw [if_pos hM]
    rfl
  · show rs_z 2 (ax_places u) = rs_z 2 (ay_places v)
    rw [xp]
  · show rs_z 2 (ax_dones u) = rs_z 2 (ay_counts v)
    rw [xe]
  · intro j hj
    show rs_z 8 (ax_wideVars u) j = rs_z 16 (ay_values v) j
    unfold rs_z
    rw [if_pos hj, if_pos (by omega)]
  · refine ⟨rs_m m, a, c, x, ?_, ma, mc, mx, ⟨?_, ok.2⟩, ?_⟩
    · show rs_z 128 (ax_mem u) = _
      rw [mm]
      funext i
      show (if i < 128 then 0 else nI (m i)) = nI (rs_m m i)
      by_cases z : i < 128
      · rw [if_pos z, rs_m_lo z]; rfl
      · rw [if_neg z, rs_m_hi z]
    · intro i
      show rs_m m i < 256
      by_cases z : i < 128
      · rw [rs_m_lo z]; decide
      · rw [rs_m_hi z]; exact ok.1 i
    · intro j hj
      show _ = pu_U (if 8 + j < 16 then 0 else ay_values v (8 + j))
      rw [if_pos (by omega)]
      unfold oc_w
      rw [rs_m_lo (by omega), rs_m_lo (by omega), rs_m_lo (by omega), rs_m_lo (by omega)]
      rfl
  · obtain ⟨r1, r2, ⟨c1, c2, c3, c4, c5⟩, r4⟩ := hx h
    exact ⟨r1, r2, ⟨c1, c2, c3, c4, c5⟩, r4⟩
theorem pu_op_row {t e : Nat} (h : ∀ j, t ≤ j → j < e → K j < 3) : ∀ d, t + d ≤ e → pu_op K (t + d) = pu_op K t := by
  intro d
  induction d with
  | zero => intro _; rfl
  | succ d ih =>
    intro hd
    have k3 := h (t + d) (by omega) (by omega)
    rw [← Nat.add_assoc, pu_op_s, if_neg (by omega), if_neg (by omega)]
    exact ih (by omega)
end
theorem i_vc_clear {k : Nat} {u : SX} {v : SY} (I : i_Rel k u v) (hk : k + 3 ≤ 1540) : wpX_clear (fun u' => wpY_clear (fun v' => i_Rel (k + 3) u' v') v) u := by
  obtain ⟨nv, cp, no, nn, us, ph, K, mt, A, ⟨⟨l1, l2, l3, l4, l5, l6, l7, l8, l9⟩, yv, yc, yo, yn, yp, hp, yu, yk, ya, hkk, hw, hy⟩, ⟨xv, xc, xo, xn, xs, xu, xt, xl, xd, xq, xk, xa, xp, xe, xw, ⟨m, a, c, x, mm, ma, mc, mx, ok, mw⟩, hx⟩⟩ := I
  rw [eX_clear, eX_startStatement, ed_clear]
  refine rs_reset _ ?_
  rw [eY_clear]
  refine rs_zero _ ?_
  refine ⟨nv, cp, no, nn, 0, 0, K, mt, A, rl_zero ?_ ?_⟩
  · exact ⟨⟨l1, l2, l3, l4, l5, l6, l7, l8, Nat.zero_le _⟩, yv, yc, yo, yn, rfl, by decide, rfl, yk, ya, hkk, fun i hi => absurd hi (Nat.not_lt_zero i), fun h => absurd h (by decide)⟩
  · exact ⟨xv, xc, xo, xn, rfl, rfl, rfl, rfl, rfl, rfl, xk, xa, xp, xe, xw, ⟨m, a, c, x, mm, ma, mc, mx, ok, mw⟩, fun h => absurd h (by decide)⟩
theorem i_vc_drop {k : Nat} {u : SX} {v : SY} (I : i_Rel k u v) (hk : k + 3 ≤ 1540) : wpX_drop (fun r u' => wpY_drop (fun r' v' => r' = r ∧ i_Rel (k + 3) u' v') v) u := by
  have I2 := I
  obtain ⟨nv, cp, no, nn, us, ph, K, mt, A, ⟨⟨l1, l2, l3, l4, l5, l6, l7, l8, l9⟩, yv, yc, yo, yn, yp, hp, yu, yk, ya, hkk, hw, hy⟩, ⟨xv, xc, xo, xn, xs, xu, xt, xl, xd, xq, xk, xa, xp, xe, xw, ⟨m, a, c, x, mm, ma, mc, mx, ok, mw⟩, hx⟩⟩ := I
  rw [eX_drop, xs]
  have hph : ph = 0 ∨ ph = 1 := by omega
  rcases hph with rfl | rfl
  · refine br_f (by decide) ?_
    rw [xu, xt]
    refine nm_e ?_
    rw [eX_startStatement, ed_drop, eY_drop, yp]
    refine br_f (by decide) ?_
    rw [yu]
    refine yr_row yk hkk (by omega) ?_
    refine nm_e ⟨rfl, ?_⟩
    have htl := pu_tl_le K us
    have htt := pu_tl_tl K us
    obtain ⟨q1, q2⟩ := pu_tl_lv htt
    have qo : pu_op K us = pu_op K (pu_tl K us) := by
      have := pu_op_row (K := K) (t := pu_tl K us) (e := us) (fun j h1 h2 => pu_row h1 h2) (us - pu_tl K us) (by omega)
      rw [show pu_tl K us + (us - pu_tl K us) = us by omega] at this
      exact this
    refine ⟨nv, cp, no, nn, pu_tl K us, 0, K, mt, A, ?_, ?_⟩
    · exact ⟨⟨l1, l2, l3, l4, l5, l6, l7, l8, by omega⟩, yv, yc, yo, yn, yp, by decide, rfl, yk, ya, hkk, fun i hi => hw i (by omega), fun h => absurd h (by decide)⟩
    · refine ⟨xv, xc, xo, xn, xs, rfl, ?_, ?_, ?_, ?_, xk, xa, xp, xe, xw, ⟨m, a, c, x, mm, ma, mc, mx, ok, mw⟩, fun h => absurd h (by decide)⟩
      · rw [htt]; rfl
      · rw [q2]; rfl
      · rw [q1]; rfl
      · rw [← qo]; exact xq
  · refine br_t rfl ?_
    rw [eY_drop, yp]
    exact br_t rfl ⟨rfl, I2⟩
theorem i_vc_rewind {k : Nat} {u : SX} {v : SY} (I : i_Rel k u v) (hk : k + 3 ≤ 1540) : wpX_rewind (fun r u' => wpY_rewind (fun r' v' => r' = r ∧ i_Rel (k + 3) u' v') v) u := by
  have I2 := I
  obtain ⟨nv, cp, no, nn, us, ph, K, mt, A, HY, HX⟩ := I
  have yp : ay_phaseNow v = nI ph := HY.2.2.2.2.2.1
  have hp : ph < 2 := HY.2.2.2.2.2.2.1
  have xs : ax_stage u = nI ph := HX.2.2.2.2.1
  rw [eX_rewind, xs]
  have hph : ph = 0 ∨ ph = 1 := by omega
  rcases hph with rfl | rfl
  · refine br_t rfl ?_
    rw [eY_rewind, yp]
    exact br_t rfl ⟨rfl, I2⟩
  · refine br_f (by decide) (rs_reset _ ?_)
    rw [eY_rewind, yp]
    exact br_f (by decide) (rs_zero _ ⟨rfl, nv, cp, no, nn, us, 1, K, mt, A, rl_zero HY HX⟩)
theorem in_loop {post : Int32 → SX → Prop} {u : SX} {wv : Nat → Int32} {m : Nat → Nat} {j : Nat} (hj : j < 8) (x : Int32) (P : post 0 (rs_s u (ax_places u) (ax_dones u) wv (fun i => nI (oc_up4 m (4 * j) (pu_U x % 256) (pu_U x / 256 % 256) (pu_U x / 65536 % 256) (pu_U x / 16777216 % 256) i)))) : vX_input_50 post (nI j) x 5 0 (rs_s u (ax_places u) (ax_dones u) wv (fun i => nI (m i))) := by
  have e4 : ∀ q, (4 : Int32) * nI j + nI q = nI (4 * j + q) := by
    intro q
    have : (4 : Int32) * nI j = nI (4 * j) := pk_mul 4 j
    rw [this, nI_add]
  rw [eX_input_50]
  refine br_f (by decide) ?_
  rw [show (4 : Int32) * nI j + 0 = nI (4 * j + 0) from e4 0, nI_clamp (by omega), em_oct0]
  refine ⟨vp_in_nI (by omega) (by decide), nm_r (ot_upd m _ _) (nm_r (e' := 1) (by decide) ?_)⟩
  rw [eX_input_50]
  refine br_f (by decide) ?_
  rw [show (4 : Int32) * nI j + 1 = nI (4 * j + 1) from e4 1, nI_clamp (by omega), em_oct1]
  refine ⟨vp_in_nI (by omega) (by decide), nm_r (ot_upd _ _ _) (nm_r (e' := 2) (by decide) ?_)⟩
  rw [eX_input_50]
  refine br_f (by decide) ?_
  rw [show (4 : Int32) * nI j + 2 = nI (4 * j + 2) from e4 2, nI_clamp (by omega), em_oct2]
  refine ⟨vp_in_nI (by omega) (by decide), nm_r (ot_upd _ _ _) (nm_r (e' := 3) (by decide) ?_)⟩
  rw [eX_input_50]
  refine br_f (by decide) ?_
  rw [show (4 : Int32) * nI j + 3 = nI (4 * j + 3) from e4 3, nI_clamp (by omega), em_oct3]
  refine ⟨vp_in_nI (by omega) (by decide), nm_r (ot_upd _ _ _) (nm_r (e' := 4) (by decide) ?_)⟩
  rw [eX_input_50]
  exact br_t (by decide) P
theorem i_vc_input {k : Nat} {u : SX} {v : SY} (I : i_Rel k u v) (hk : k + 3 ≤ 1540) (v1 : Int32) (v2 : Int32) : wpX_input (fun r u' => wpY_input (fun r' v' => r' = r ∧ i_Rel (k + 3) u' v') v v1 v2) u v1 v2 := by
  have I2 := I
  obtain ⟨nv, cp, no, nn, us, ph, K, mt, A, ⟨⟨l1, l2, l3, l4, l5, l6, l7, l8, l9⟩, yv, yc, yo, yn, yp, hp, yu, yk, ya, hkk, hw, hy⟩, ⟨xv, xc, xo, xn, xs, xu, xt, xl, xd, xq, xk, xa, xp, xe, xw, ⟨m, a, c, x, mm, ma, mc, mx, ok, mw⟩, hx⟩⟩ := I
  rw [eX_input, xs]
  have hph : ph = 0 ∨ ph = 1 := by omega
  rcases hph with rfl | rfl
  · refine br_t rfl ?_
    rw [eY_input, yp]
    exact br_t rfl ⟨rfl, I2⟩
  refine br_f (by decide) ?_
  rw [eX_isVar, xv]
  rcases pk_ix v1 (n := nv) (by omega) with h | h | ⟨j, hj, e⟩
  · refine br_t h (br_t rfl ?_)
    rw [eY_input, yp]
    exact br_f (by decide) (br_t h ⟨rfl, I2⟩)
  · have Y : wpY_input (fun r' v' => r' = -1 ∧ i_Rel (k + 3) u v') v v1 v2 := by
      rw [eY_input, yp, yv]
      exact br_f (by decide) (br_c (fun _ => ⟨rfl, I2⟩) (fun _ => br_f (Int32.not_lt.mpr h) ⟨rfl, I2⟩))
    exact br_c (fun _ => br_t rfl Y) (fun _ => br_t h (br_t rfl Y))
  · subst e
    refine br_f (nI_pos (by omega)) (br_f (nI_ge hj (by omega)) (br_f (by decide) ?_))
    rw [xe]
    have YL : (¬ ay_counts v 0 = 0 ∨ ¬ ay_counts v 1 = 0) → wpY_input (fun r' v' => r' = -3 ∧ i_Rel (k + 3) u v') v (nI j) v2 := by
      intro z
      rw [eY_input, yp, yv]
      refine br_f (by decide) (br_f (nI_pos (by omega)) (br_t (nI_lt hj (by omega)) ?_))
      refine br_c (fun z0 => ?_) (fun _ => ⟨rfl, I2⟩)
      refine br_f ?_ ⟨rfl, I2⟩
      rcases z with z | z
      · exact absurd z0 z
      · exact z
    by_cases z0 : ay_counts v 0 = 0
    · refine br_t z0 ?_
      by_cases z1 : ay_counts v 1 = 0
      · refine br_t z1 ⟨vp_in_nI (by omega) (by decide), ?_⟩
        rw [nI_clamp (by omega)]
        refine nm_e ⟨5, ?_⟩
        have eS : sx_wideVars u (upd (ax_wideVars u) j v2) = rs_s u (ax_places u) (ax_dones u) (upd (ax_wideVars u) j v2) (fun i => nI (m i)) := by
          rw [← mm]
          rfl
        rw [eS]
        refine in_loop (by omega) v2 ?_
        rw [eY_input, yp, yv]
        refine br_f (by decide) (br_f (nI_pos (by omega)) (br_t (nI_lt hj (by omega)) (br_t z0 (br_t z1 ⟨vp_in_nI (by omega) (by decide), ?_⟩))))
        have e8 : (8 : Int32) + nI j = nI (8 + j) := nI_add 8 j
        rw [e8, nI_clamp (n := j) (by omega), nI_clamp (n := 8 + j) (by omega)]
        refine nm_e ⟨vp_in_nI (by omega) (by decide), nm_e ⟨rfl, ?_⟩⟩
        have hU := pu_U_lt v2
        have hm : ∀ i, m i < 256 := ok.1
        refine ⟨nv, cp, no, nn, us, 1, K, mt, A, ?_, ?_⟩
        · exact ⟨⟨l1, l2, l3, l4, l5, l6, l7, l8, l9⟩, yv, yc, yo, yn, yp, hp, yu, yk, ya, hkk, hw, fun h => hy h⟩
        · refine ⟨xv, xc, xo, xn, xs, xu, xt, xl, xd, xq, xk, xa, xp, xe, ?_, ?_, fun h => ?_⟩
          · intro i hi
            show upd (ax_wideVars u) j v2 i = upd (upd (ay_values v) j v2) (8 + j) v2 i
            rw [pk_un (f := upd (ay_values v) j v2) (by omega)]
            by_cases z : i = j
            · rw [z, pk_us, pk_us]
            · rw [pk_un z, pk_un z]
              exact xw i hi
          · refine ⟨_, a, c, x, rfl, ma, mc, mx, ⟨?_, ok.2⟩, ?_⟩
            · unfold oc_up4
              exact oc_ok_upd (oc_ok_upd (oc_ok_upd (oc_ok_upd hm (Nat.mod_lt _ (by decide))) (Nat.mod_lt _ (by decide))) (Nat.mod_lt _ (by decide))) (Nat.mod_lt _ (by decide))
            · intro i hi
              show _ = pu_U (upd (upd (ay_values v) j v2) (8 + j) v2 (8 + i))
              by_cases z : i = j
              · rw [z, pk_us, oc_up4_w]
                omega
              · rw [pk_un (show 8 + i ≠ 8 + j by omega), pk_un (show 8 + i ≠ j by omega), ← mw i hi]
                exact oc_w_fr (oc_up4_fr _ _ _ _ _ _) (by omega)
          · obtain ⟨r1, r2, ⟨c1, c2, c3, c4, c5⟩, r4⟩ := hx h
            exact ⟨r1, r2, ⟨c1, c2, c3, c4, c5⟩, r4⟩
      · exact br_f z1 (YL (Or.inr z1))
    · exact br_f z0 (YL (Or.inl z0))
end
section
/-! feed -/
section
variable {K : Nat → Nat} {A : Nat → Int32} {nv no nn us k : Nat} {a : Int32}
theorem fd_st (K : Nat → Nat) (us k : Nat) : ∀ i, i ≤ us → pu_st (oc_upd K us k) i = pu_st K i := fun i hi => pu_st_c i (fun j hj => oc_un (by omega))
theorem fd_lv {i : Nat} (hi : i ≤ us) : pu_lv (oc_upd K us k) i = pu_lv K i := congrArg (fun q => q.1) (fd_st K us k i hi)
theorem fd_ld {i : Nat} (hi : i ≤ us) : pu_ld (oc_upd K us k) i = pu_ld K i := congrArg (fun q => q.2.1) (fd_st K us k i hi)
theorem fd_tl {i : Nat} (hi : i ≤ us) : pu_tl (oc_upd K us k) i = pu_tl K i := congrArg (fun q => q.2.2.1) (fd_st K us k i hi)
theorem fd_op {i : Nat} (hi : i ≤ us) : pu_op (oc_upd K us k) i = pu_op K i := congrArg (fun q => q.2.2.2) (fd_st K us k i hi)
theorem fd_wf (hw : pu_wf K A nv no nn us) (k6 : k ≤ 6) (h1 : k < 2 → pu_ld K us < no) (h2 : k = 1 ∨ k = 3 → ∃ v, v < nv ∧ a = nI v) (h3 : k = 2 → 2 ≤ pu_lv K us ∧ ∃ o, o < 10 ∧ a = nI o) (h4 : 3 ≤ k → k ≤ 5 → pu_lv K us = 1) (h5 : k = 6 → pu_tl K us = us ∧ 0 < pu_op K us) (h6 : k = 4 ∨ k = 5 → pu_op K us < nn) : pu_wf (oc_upd K us k) (upd A us a) nv no nn (us + 1) := by
  intro i hi
  rw [fd_lv (by omega), fd_ld (by omega), fd_tl (by omega), fd_op (by omega)]
  by_cases e : i = us
  · rw [e, oc_us, pk_us]
    exact ⟨k6, h1, h2, h3, h4, h5, h6⟩
  · rw [oc_un e, pk_un e]
    exact hw i (by omega)
def fd_fit (no nn us : Nat) (K : Nat → Nat) (k : Nat) : Prop := (k < 2 → pu_ld K us ≠ no) ∧ (k = 2 → 2 ≤ pu_lv K us) ∧ (k = 3 → pu_lv K us = 1) ∧ (k = 4 ∨ k = 5 → pu_lv K us = 1 ∧ pu_op K us ≠ nn) ∧ (k = 6 → pu_tl K us = us ∧ pu_op K us ≠ 0)
end
theorem es_used (u : SX) (y1 : Int32) (y2 : Int32) (y3 : Int32) (y4 : Int32) (y5 : Int32) (y6 : Int32) (y7 : Nat → Int32) (y8 : Nat → Int32) (z : Int32) : sx_used (ed_s u y1 y2 y3 y4 y5 y6 y7 y8) z = ed_s u z y2 y3 y4 y5 y6 y7 y8 := rfl
theorem ea_used (u : SX) (y1 : Int32) (y2 : Int32) (y3 : Int32) (y4 : Int32) (y5 : Int32) (y6 : Int32) (y7 : Nat → Int32) (y8 : Nat → Int32) : ax_used (ed_s u y1 y2 y3 y4 y5 y6 y7 y8) = y1 := rfl
theorem es_tail (u : SX) (y1 : Int32) (y2 : Int32) (y3 : Int32) (y4 : Int32) (y5 : Int32) (y6 : Int32) (y7 : Nat → Int32) (y8 : Nat → Int32) (z : Int32) : sx_tail (ed_s u y1 y2 y3 y4 y5 y6 y7 y8) z = ed_s u y1 z y3 y4 y5 y6 y7 y8 := rfl
theorem ea_tail (u : SX) (y1 : Int32) (y2 : Int32) (y3 : Int32) (y4 : Int32) (y5 : Int32) (y6 : Int32) (y7 : Nat → Int32) (y8 : Nat → Int32) : ax_tail (ed_s u y1 y2 y3 y4 y5 y6 y7 y8) = y2 := rfl
theorem es_loaded (u : SX) (y1 : Int32) (y2 : Int32) (y3 : Int32) (y4 : Int32) (y5 : Int32) (y6 : Int32) (y7 : Nat → Int32) (y8 : Nat → Int32) (z : Int32) : sx_loaded (ed_s u y1 y2 y3 y4 y5 y6 y7 y8) z = ed_s u y1 y2 z y4 y5 y6 y7 y8 := rfl
theorem ea_loaded (u : SX) (y1 : Int32) (y2 : Int32) (y3 : Int32) (y4 : Int32) (y5 : Int32) (y6 : Int32) (y7 : Nat → Int32) (y8 : Nat → Int32) : ax_loaded (ed_s u y1 y2 y3 y4 y5 y6 y7 y8) = y3 := rfl
theorem es_depth (u : SX) (y1 : Int32) (y2 : Int32) (y3 : Int32) (y4 : Int32) (y5 : Int32) (y6 : Int32) (y7 : Nat → Int32) (y8 : Nat → Int32) (z : Int32) : sx_depth (ed_s u y1 y2 y3 y4 y5 y6 y7 y8) z = ed_s u y1 y2 y3 z y5 y6 y7 y8 := rfl
theorem ea_depth (u : SX) (y1 : Int32) (y2 : Int32) (y3 : Int32) (y4 : Int32) (y5 : Int32) (y6 : Int32) (y7 : Nat → Int32) (y8 : Nat → Int32) : ax_depth (ed_s u y1 y2 y3 y4 y5 y6 y7 y8) = y4 := rfl
theorem es_open (u : SX) (y1 : Int32) (y2 : Int32) (y3 : Int32) (y4 : Int32) (y5 : Int32) (y6 : Int32) (y7 : Nat → Int32) (y8 : Nat → Int32) (z : Int32) : sx_open (ed_s u y1 y2 y3 y4 y5 y6 y7 y8) z = ed_s u y1 y2 y3 y4 z y6 y7 y8 := rfl
theorem ea_open (u : SX) (y1 : Int32) (y2 : Int32) (y3 : Int32) (y4 : Int32) (y5 : Int32) (y6 : Int32) (y7 : Nat → Int32) (y8 : Nat → Int32) : ax_open (ed_s u y1 y2 y3 y4 y5 y6 y7 y8) = y5 := rfl
theorem es_stage (u : SX) (y1 : Int32) (y2 : Int32) (y3 : Int32) (y4 : Int32) (y5 : Int32) (y6 : Int32) (y7 : Nat → Int32) (y8 : Nat → Int32) (z : Int32) : sx_stage (ed_s u y1 y2 y3 y4 y5 y6 y7 y8) z = ed_s u y1 y2 y3 y4 y5 z y7 y8 := rfl
theorem ea_stage (u : SX) (y1 : Int32) (y2 : Int32) (y3 : Int32) (y4 : Int32) (y5 : Int32) (y6 : Int32) (y7 : Nat → Int32) (y8 : Nat → Int32) : ax_stage (ed_s u y1 y2 y3 y4 y5 y6 y7 y8) = y6 := rfl
theorem es_kinds (u : SX) (y1 : Int32) (y2 : Int32) (y3 : Int32) (y4 : Int32) (y5 : Int32) (y6 : Int32) (y7 : Nat → Int32) (y8 : Nat → Int32) (z : Nat → Int32) : sx_kinds (ed_s u y1 y2 y3 y4 y5 y6 y7 y8) z = ed_s u y1 y2 y3 y4 y5 y6 z y8 := rfl
theorem ea_kinds (u : SX) (y1 : Int32) (y2 : Int32) (y3 : Int32) (y4 : Int32) (y5 : Int32) (y6 : Int32) (y7 : Nat → Int32) (y8 : Nat → Int32) : ax_kinds (ed_s u y1 y2 y3 y4 y5 y6 y7 y8) = y7 := rfl
theorem es_args (u : SX) (y1 : Int32) (y2 : Int32) (y3 : Int32) (y4 : Int32) (y5 : Int32) (y6 : Int32) (y7 : Nat → Int32) (y8 : Nat → Int32) (z : Nat → Int32) : sx_args (ed_s u y1 y2 y3 y4 y5 y6 y7 y8) z = ed_s u y1 y2 y3 y4 y5 y6 y7 z := rfl
theorem ea_args (u : SX) (y1 : Int32) (y2 : Int32) (y3 : Int32) (y4 : Int32) (y5 : Int32) (y6 : Int32) (y7 : Nat → Int32) (y8 : Nat → Int32) : ax_args (ed_s u y1 y2 y3 y4 y5 y6 y7 y8) = y8 := rfl
theorem es_k0 (u : SX) (z : Nat → Int32) : sx_kinds u z = ed_s u (ax_used u) (ax_tail u) (ax_loaded u) (ax_depth u) (ax_open u) (ax_stage u) z (ax_args u) := rfl
theorem ed_w (u : SX) (kk aa : Nat → Int32) (uu : Int32) : sx_used (sx_args (sx_kinds u kk) aa) uu = ed_s u uu (ax_tail u) (ax_loaded u) (ax_depth u) (ax_open u) (ax_stage u) kk aa := by
  rw [es_k0, es_args, es_used]
theorem ed_a (u : SX) (kk aa : Nat → Int32) (uu l d : Int32) : sx_loaded (sx_depth (sx_used (sx_args (sx_kinds u kk) aa) uu) d) l = ed_s u uu (ax_tail u) l d (ax_open u) (ax_stage u) kk aa := by
  rw [ed_w, es_depth, es_loaded]
theorem ed_b (u : SX) (kk aa : Nat → Int32) (uu d : Int32) : sx_depth (sx_used (sx_args (sx_kinds u kk) aa) uu) d = ed_s u uu (ax_tail u) (ax_loaded u) d (ax_open u) (ax_stage u) kk aa := by
  rw [ed_w, es_depth]
theorem ed_c (u : SX) (kk aa : Nat → Int32) (uu o : Int32) : sx_tail (sx_loaded (sx_depth (sx_open (sx_used (sx_args (sx_kinds u kk) aa) uu) o) 0) 0) (ax_used (sx_open (sx_used (sx_args (sx_kinds u kk) aa) uu) o)) = ed_s u uu uu 0 0 o (ax_stage u) kk aa := by
  rw [ed_w, es_open, ea_used, es_depth, es_loaded, es_tail]
theorem ed_d (u : SX) (kk aa : Nat → Int32) (uu : Int32) : sx_tail (sx_loaded (sx_depth (sx_used (sx_args (sx_kinds u kk) aa) uu) 0) 0) (ax_used (sx_used (sx_args (sx_kinds u kk) aa) uu)) = ed_s u uu uu 0 0 (ax_open u) (ax_stage u) kk aa := by
  rw [ed_w, ea_used, es_depth, es_loaded, es_tail]
theorem ed_acc (u : SX) (kk aa : Nat → Int32) (uu : Int32) : ax_depth (sx_used (sx_args (sx_kinds u kk) aa) uu) = ax_depth u ∧ ax_loaded (sx_used (sx_args (sx_kinds u kk) aa) uu) = ax_loaded u ∧ ax_open (sx_used (sx_args (sx_kinds u kk) aa) uu) = ax_open u ∧ ax_args (sx_kinds u kk) = ax_args u ∧ ax_used (sx_kinds u kk) = ax_used u := by
  refine ⟨?_, ?_, ?_, ?_, ?_⟩
  · rw [ed_w, ea_depth]
  · rw [ed_w, ea_loaded]
  · rw [ed_w, ea_open]
  · rw [es_k0, ea_args]
  · rw [es_k0, ea_used]
end
section
section
variable {K : Nat → Nat} {A : Nat → Int32} {nv no nn us k : Nat} {u : SX} {post : Int32 → SX → Prop}
theorem fx_track (hus : us < 48) (k6 : k ≤ 6) (xl : ax_loaded u = nI (pu_ld K us)) (xd : ax_depth u = nI (pu_lv K us)) (xq : ax_open u = nI (pu_op K us)) (xt : ax_tail u = nI (pu_tl K us)) (h2 : k = 2 → 2 ≤ pu_lv K us) (h6 : k = 6 → 0 < pu_op K us) {kk aa : Nat → Int32} {post : SX → Prop}
    (P : post (ed_s u (nI (us + 1)) (nI (pu_tl (oc_upd K us k) (us + 1))) (nI (pu_ld (oc_upd K us k) (us + 1))) (nI (pu_lv (oc_upd K us k) (us + 1))) (nI (pu_op (oc_upd K us k) (us + 1))) (ax_stage u) kk aa)) : wpX_track post (sx_used (sx_args (sx_kinds u kk) aa) (nI (us + 1))) (nI k) := by
  obtain ⟨e1, e2, e3, _, _⟩ := ed_acc u kk aa (nI (us + 1))
  rw [pu_lv_s, pu_ld_s, pu_tl_s, pu_op_s, oc_us, fd_lv (Nat.le_refl _), fd_ld (Nat.le_refl _), fd_tl (Nat.le_refl _), fd_op (Nat.le_refl _)] at P
  rw [eX_track, e1, e2, e3, xl, xd, xq]
  by_cases a2 : k = 2
  · rw [if_neg (show ¬ k < 2 by omega), if_neg (show ¬ k < 2 by omega), if_pos a2, if_pos a2, if_pos (show k < 3 by omega), if_neg (show ¬ (k = 4 ∨ k = 5) by omega), if_neg (show ¬ k = 6 by omega)] at P
    have s1 : nI (pu_lv K us) - 1 = nI (pu_lv K us - 1) := pk_sub (a := pu_lv K us) (b := 1) (by have := h2 a2; omega)
    refine br_t (by rw [a2]; rfl) (nm_r s1 ?_)
    rw [ed_b, xt, xl, xq]
    exact P
  · refine br_f (zz_ne k 2 a2 (by omega) (by omega)) ?_
    by_cases b2 : k < 2
    · rw [if_pos b2, if_pos b2, if_pos (show k < 3 by omega), if_neg (show ¬ (k = 4 ∨ k = 5) by omega), if_neg (show ¬ k = 6 by omega)] at P
      refine br_f (nI_ge (b := 2) b2 (by decide)) (nm_r (nI_1 _) (nm_r (nI_1 _) ?_))
      rw [ed_a, xt, xq]
      exact P
    · rw [if_neg b2, if_neg b2, if_neg a2, if_neg a2, if_neg (show ¬ k < 3 by omega)] at P
      refine br_t (nI_le (a := 2) (by omega) (by omega)) ?_
      by_cases a6 : k = 6
      · rw [if_neg (show ¬ (k = 4 ∨ k = 5) by omega), if_pos a6] at P
        have s1 : nI (pu_op K us) - 1 = nI (pu_op K us - 1) := pk_sub (a := pu_op K us) (b := 1) (h6 a6)
        refine br_t (by rw [a6]; rfl) (nm_r s1 ?_)
        rw [eX_track_80, eX_startStatement, ed_c]
        exact P
      · refine br_f (zz_ne k 6 a6 (by omega) (by omega)) ?_
        by_cases a3 : k = 3
        · rw [if_neg (show ¬ (k = 4 ∨ k = 5) by omega), if_neg a6] at P
          refine br_t (by rw [a3]; rfl) ?_
          rw [eX_track_80, eX_startStatement, ed_d, xq]
          exact P
        · rw [if_pos (show k = 4 ∨ k = 5 by omega)] at P
          refine br_f (zz_ne k 3 a3 (by omega) (by omega)) (nm_r (nI_1 _) ?_)
          rw [eX_track_80, eX_startStatement, ed_c]
          exact P
theorem fx_114 (hus : us < 48) (k6 : k ≤ 6) (xu : ax_used u = nI us) (xa : ax_args u = A) (xl : ax_loaded u = nI (pu_ld K us)) (xd : ax_depth u = nI (pu_lv K us)) (xq : ax_open u = nI (pu_op K us)) (xt : ax_tail u = nI (pu_tl K us)) (h2 : k = 2 → 2 ≤ pu_lv K us) (h6 : k = 6 → 0 < pu_op K us) {kk : Nat → Int32} {z : Int32}
    (P : post 0 (ed_s u (nI (us + 1)) (nI (pu_tl (oc_upd K us k) (us + 1))) (nI (pu_ld (oc_upd K us k) (us + 1))) (nI (pu_lv (oc_upd K us k) (us + 1))) (nI (pu_op (oc_upd K us k) (us + 1))) (ax_stage u) kk (upd A us z))) : vX_feed_114 post (nI k) z (nI us) (sx_kinds u kk) := by
  obtain ⟨_, _, _, e4, e5⟩ := ed_acc u kk A 0
  rw [eX_feed_114, e4, e5, xa, xu, nI_clamp (by omega)]
  refine ⟨vp_in_nI hus (by decide), nm_e (nm_r (nI_1 us) ?_)⟩
  exact fx_track hus k6 xl xd xq xt h2 h6 P
end
end
section
section
variable {K : Nat → Nat} {A : Nat → Int32} {nv no nn us k : Nat} {u : SX} {post : Int32 → SX → Prop}
theorem fx_fits (k6 : k ≤ 6) (hus : us ≤ 48) (hno : no ≤ 5) (hnn : nn ≤ 4) (hlv : pu_lv K us ≤ 5) (hld : pu_ld K us ≤ 5) (hop : pu_op K us ≤ 100) (xo : ax_operands u = nI no) (xn : ax_nest u = nI nn) (xu : ax_used u = nI us) (xl : ax_loaded u = nI (pu_ld K us)) (xd : ax_depth u = nI (pu_lv K us)) (xq : ax_open u = nI (pu_op K us)) (xt : ax_tail u = nI (pu_tl K us)) {Q : Int32 → Prop} (F : fd_fit no nn us K k → Q 1) (G : ¬ fd_fit no nn us K k → Q 0) : wpX_fits Q u (nI k) := by
  have htl := pu_tl_le K us
  rw [eX_fits, xu, xd, xq, xt]
  unfold fd_fit at F G
  match k, k6, F, G with
  | 0, _, F, G =>
    refine br_f (by decide) (br_f (by decide) (br_t rfl ?_))
    rw [eX_fits_44, xl, xo]
    by_cases z : pu_ld K us = no
    · refine br_t (by rw [z]) (G (fun h => h.1 (by decide) z))
    · refine br_f (zz_ne _ _ z (by omega) (by omega)) (F ⟨fun _ => z, fun h => absurd h (by decide), fun h => absurd h (by decide), fun h => absurd h (by decide), fun h => absurd h (by decide)⟩)
  | 1, _, F, G =>
    refine br_f (by decide) (br_f (by decide) (br_f (by decide) (br_t rfl ?_)))
    rw [eX_fits_44, xl, xo]
    by_cases z : pu_ld K us = no
    · refine br_t (by rw [z]) (G (fun h => h.1 (by decide) z))
    · refine br_f (zz_ne _ _ z (by omega) (by omega)) (F ⟨fun _ => z, fun h => absurd h (by decide), fun h => absurd h (by decide), fun h => absurd h (by decide), fun h => absurd h (by decide)⟩)
  | 2, _, F, G =>
    refine br_f (by decide) (br_f (by decide) (br_f (by decide) (br_f (by decide) (br_t rfl ?_))))
    by_cases z : pu_lv K us < 2
    · exact br_t (nI_lt (b := 2) z (by decide)) (G (fun h => absurd (h.2.1 rfl) (by omega)))
    · exact br_f (nI_nlt (b := 2) (by omega) (by omega)) (F ⟨fun h => absurd h (by decide), fun _ => by omega, fun h => absurd h (by decide), fun h => absurd h (by decide), fun h => absurd h (by decide)⟩)
  | 3, _, F, G =>
    refine br_f (by decide) (br_f (by decide) (br_f (by decide) (br_f (by decide) (br_f (by decide) (br_t rfl ?_)))))
    by_cases z : pu_lv K us = 1
    · exact br_t (by rw [z]; rfl) (F ⟨fun h => absurd h (by decide), fun h => absurd h (by decide), fun _ => z, fun h => absurd h (by decide), fun h => absurd h (by decide)⟩)
    · exact br_f (zz_ne _ 1 z (by omega) (by omega)) (G (fun h => z (h.2.2.1 rfl)))
  | 4, _, F, G =>
    refine br_f (by decide) (br_f (by decide) (br_f (by decide) (br_f (by decide) (br_f (by decide) (br_f (by decide) (br_t rfl ?_))))))
    rw [eX_fits_113, xd, xq, xn]
    by_cases z : pu_lv K us = 1
    · refine br_t (by rw [z]; rfl) ?_
      by_cases y : pu_op K us = nn
      · exact br_t (by rw [y]) (G (fun h => (h.2.2.2.1 (Or.inl rfl)).2 y))
      · exact br_f (zz_ne _ _ y (by omega) (by omega)) (F ⟨fun h => absurd h (by decide), fun h => absurd h (by decide), fun h => absurd h (by decide), fun _ => ⟨z, y⟩, fun h => absurd h (by decide)⟩)
    · exact br_f (zz_ne _ 1 z (by omega) (by omega)) (G (fun h => z (h.2.2.2.1 (Or.inl rfl)).1))
  | 5, _, F, G =>
    refine br_f (by decide) (br_f (by decide) (br_f (by decide) (br_f (by decide) (br_f (by decide) (br_f (by decide) (br_f (by decide) (br_t rfl ?_)))))))
    rw [eX_fits_113, xd, xq, xn]
    by_cases z : pu_lv K us = 1
    · refine br_t (by rw [z]; rfl) ?_
      by_cases y : pu_op K us = nn
      · exact br_t (by rw [y]) (G (fun h => (h.2.2.2.1 (Or.inr rfl)).2 y))
      · exact br_f (zz_ne _ _ y (by omega) (by omega)) (F ⟨fun h => absurd h (by decide), fun h => absurd h (by decide), fun h => absurd h (by decide), fun _ => ⟨z, y⟩, fun h => absurd h (by decide)⟩)
    · exact br_f (zz_ne _ 1 z (by omega) (by omega)) (G (fun h => z (h.2.2.2.1 (Or.inr rfl)).1))
  | 6, _, F, G =>
    refine br_f (by decide) (br_f (by decide) (br_f (by decide) (br_f (by decide) (br_f (by decide) (br_f (by decide) (br_f (by decide) (br_f (by decide) (br_t rfl ?_))))))))
    by_cases z : pu_tl K us = us
    · refine br_t (by rw [z]) ?_
      by_cases y : pu_op K us = 0
      · exact br_t (by rw [y]; rfl) (G (fun h => (h.2.2.2.2 rfl).2 y))
      · exact br_f (zz_ne _ 0 y (by omega) (by omega)) (F ⟨fun h => absurd h (by decide), fun h => absurd h (by decide), fun h => absurd h (by decide), fun h => absurd h (by decide), fun _ => ⟨z, y⟩⟩)
    · exact br_f (zz_ne _ _ z (by omega) (by omega)) (G (fun h => z (h.2.2.2.2 rfl).1))
  | n + 7, h, _, _ => exact absurd h (by omega)
end
end
section
section
variable {K : Nat → Nat} {A : Nat → Int32} {nv no nn us k : Nat} {v : SY} {post : Int32 → SY → Prop}
theorem fy_229 (hus : us < 48) (k6 : k ≤ 6) (yu : ay_used v = nI us) (ya : ay_args v = A) (yk : ay_kinds v = fun j => nI (K j)) (x2 : Int32) (P : post 0 (sy_used (sy_args (sy_kinds v (fun j => nI (oc_upd K us k j))) (upd A us (if k < 4 then x2 else 0))) (nI (us + 1)))) : vY_feed_229 post (nI k) x2 v := by
  rw [eY_feed_229, yu, yk, nI_clamp (by omega)]
  refine ⟨vp_in_nI hus (by decide), nm_r (ot_upd K us k) ?_⟩
  have e1 : ay_args (sy_kinds v (fun j => nI (oc_upd K us k j))) = A := ya
  have e2 : ay_used (sy_kinds v (fun j => nI (oc_upd K us k j))) = nI us := yu
  by_cases z : k < 4
  · rw [if_pos z] at P
    refine br_f (nI_nlt (b := k) (a := 3) (by omega) (by decide)) ?_
    rw [eY_feed_257, e1, e2, nI_clamp (by omega)]
    exact ⟨vp_in_nI hus (by decide), nm_e (nm_r (nI_1 us) P)⟩
  · rw [if_neg z] at P
    refine br_t (nI_lt (a := 3) (by omega) (by omega)) ?_
    rw [eY_feed_257, e1, e2, nI_clamp (by omega)]
    exact ⟨vp_in_nI hus (by decide), nm_e (nm_r (nI_1 us) P)⟩
theorem fy_64 (hw : pu_wf K A nv no nn us) (hk : ∀ j, K j ≤ 6) (k6 : k ≤ 6) (hus : us ≤ 48) (hno : no ≤ 5) (hnn : nn ≤ 4) (hop : pu_op K us ≤ 100) {cp : Nat} (hcp : cp ≤ 48) (hne : us ≠ cp) (yc : ay_capacity v = nI cp) (yo : ay_operands v = nI no) (yn : ay_nest v = nI nn) (yu : ay_used v = nI us) (yk : ay_kinds v = fun j => nI (K j)) (x2 : Int32) (F : fd_fit no nn us K k → vY_feed_229 post (nI k) x2 v) (G : ¬ fd_fit no nn us K k → post (-4) v) : vY_feed_64 post (nI k) x2 v := by
  have htl := pu_tl_le K us
  obtain ⟨b1, b2⟩ := pu_lv_ld hw us (Nat.le_refl _)
  obtain ⟨c1, c2, c3⟩ := pu_cnt hw us (Nat.le_refl _)
  have m0 := pu_cc_mono K 0 htl
  have m1 := pu_cc_mono K 1 htl
  have m2 := pu_cc_mono K 2 htl
  rw [eY_feed_64, yu, yc]
  refine br_f (zz_ne _ _ hne (by omega) (by omega)) ?_
  refine yr_row yk hk hus ?_
  refine yr_cnt (k := 0) yk hk yu hus (by decide) htl ?_
  refine yr_cnt (k := 1) yk hk yu hus (by decide) htl ?_
  refine yr_cnt (k := 2) yk hk yu hus (by decide) htl ?_
  have e7 : nI (pu_cc K 0 us - pu_cc K 0 (pu_tl K us)) + nI (pu_cc K 1 us - pu_cc K 1 (pu_tl K us)) - nI (pu_cc K 2 us - pu_cc K 2 (pu_tl K us)) = nI (pu_lv K us) := by
    rw [nI_add, pk_sub (by omega)]
    exact congrArg nI (by omega)
  refine nm_r e7 ?_
  refine yr_open yk hk hw yu hus ?_
  have e4 : nI (pu_cc K 0 us - pu_cc K 0 (pu_tl K us)) + nI (pu_cc K 1 us - pu_cc K 1 (pu_tl K us)) = nI (pu_ld K us) := by
    rw [nI_add]
    exact congrArg nI (by omega)
  generalize nI (pu_cc K 0 us - pu_cc K 0 (pu_tl K us)) = w0 at e4
  generalize nI (pu_cc K 1 us - pu_cc K 1 (pu_tl K us)) = w1 at e4
  unfold fd_fit at F G
  match k, k6, F, G with
  | 0, _, F, G =>
    refine br_t rfl ?_
    rw [eY_feed_136, e4, yo]
    by_cases z : pu_ld K us = no
    · exact br_t (by rw [z]) (G (fun h => h.1 (by decide) z))
    · refine br_f (zz_ne _ _ z (by omega) (by omega)) ?_
      rw [eY_feed_151, eY_feed_165, eY_feed_179, eY_feed_207]
      exact br_f (by decide) (br_f (by decide) (br_f (by decide) (br_f (by decide) (br_f (by decide) (F ⟨fun _ => z, fun h => absurd h (by decide), fun h => absurd h (by decide), fun h => absurd h (by decide), fun h => absurd h (by decide)⟩)))))
  | 1, _, F, G =>
    refine br_f (by decide) (br_t rfl ?_)
    rw [eY_feed_136, e4, yo]
    by_cases z : pu_ld K us = no
    · exact br_t (by rw [z]) (G (fun h => h.1 (by decide) z))
    · refine br_f (zz_ne _ _ z (by omega) (by omega)) ?_
      rw [eY_feed_151, eY_feed_165, eY_feed_179, eY_feed_207]
      exact br_f (by decide) (br_f (by decide) (br_f (by decide) (br_f (by decide) (br_f (by decide) (F ⟨fun _ => z, fun h => absurd h (by decide), fun h => absurd h (by decide), fun h => absurd h (by decide), fun h => absurd h (by decide)⟩)))))
  | 2, _, F, G =>
    refine br_f (by decide) (br_f (by decide) ?_)
    rw [eY_feed_151]
    refine br_t rfl ?_
    by_cases z : pu_lv K us < 2
    · exact br_f (nI_ge (b := 2) z (by decide)) (G (fun h => absurd (h.2.1 rfl) (by omega)))
    · refine br_t (nI_le (a := 2) (by omega) (by omega)) ?_
      rw [eY_feed_165, eY_feed_179, eY_feed_207]
      exact br_f (by decide) (br_f (by decide) (br_f (by decide) (br_f (by decide) (F ⟨fun h => absurd h (by decide), fun _ => by omega, fun h => absurd h (by decide), fun h => absurd h (by decide), fun h => absurd h (by decide)⟩))))
  | 3, _, F, G =>
    refine br_f (by decide) (br_f (by decide) ?_)
    rw [eY_feed_151]
    refine br_f (by decide) ?_
    rw [eY_feed_165]
    refine br_t rfl ?_
    by_cases z : pu_lv K us = 1
    · refine br_t (by rw [z]; rfl) ?_
      rw [eY_feed_179, eY_feed_207]
      exact br_f (by decide) (br_f (by decide) (br_f (by decide) (F ⟨fun h => absurd h (by decide), fun h => absurd h (by decide), fun _ => z, fun h => absurd h (by decide), fun h => absurd h (by decide)⟩)))
    · exact br_f (zz_ne _ 1 z (by omega) (by omega)) (G (fun h => z (h.2.2.1 rfl)))
  | 4, _, F, G =>
    refine br_f (by decide) (br_f (by decide) ?_)
    rw [eY_feed_151]
    refine br_f (by decide) ?_
    rw [eY_feed_165]
    refine br_f (by decide) ?_
    rw [eY_feed_179]
    refine br_t rfl ?_
    rw [eY_feed_189, yn]
    by_cases z : pu_lv K us = 1
    · refine br_t (by rw [z]; rfl) ?_
      by_cases y : pu_op K us = nn
      · exact br_t (by rw [y]) (G (fun h => (h.2.2.2.1 (Or.inl rfl)).2 y))
      · refine br_f (zz_ne _ _ y (by omega) (by omega)) ?_
        rw [eY_feed_207]
        exact br_f (by decide) (F ⟨fun h => absurd h (by decide), fun h => absurd h (by decide), fun h => absurd h (by decide), fun _ => ⟨z, y⟩, fun h => absurd h (by decide)⟩)
    · exact br_f (zz_ne _ 1 z (by omega) (by omega)) (G (fun h => z (h.2.2.2.1 (Or.inl rfl)).1))
  | 5, _, F, G =>
    refine br_f (by decide) (br_f (by decide) ?_)
    rw [eY_feed_151]
    refine br_f (by decide) ?_
    rw [eY_feed_165]
    refine br_f (by decide) ?_
    rw [eY_feed_179]
    refine br_f (by decide) (br_t rfl ?_)
    rw [eY_feed_189, yn]
    by_cases z : pu_lv K us = 1
    · refine br_t (by rw [z]; rfl) ?_
      by_cases y : pu_op K us = nn
      · exact br_t (by rw [y]) (G (fun h => (h.2.2.2.1 (Or.inr rfl)).2 y))
      · refine br_f (zz_ne _ _ y (by omega) (by omega)) ?_
        rw [eY_feed_207]
        exact br_f (by decide) (F ⟨fun h => absurd h (by decide), fun h => absurd h (by decide), fun h => absurd h (by decide), fun _ => ⟨z, y⟩, fun h => absurd h (by decide)⟩)
    · exact br_f (zz_ne _ 1 z (by omega) (by omega)) (G (fun h => z (h.2.2.2.1 (Or.inr rfl)).1))
  | 6, _, F, G =>
    refine br_f (by decide) (br_f (by decide) ?_)
    rw [eY_feed_151]
    refine br_f (by decide) ?_
    rw [eY_feed_165]
    refine br_f (by decide) ?_
    rw [eY_feed_179]
    refine br_f (by decide) (br_f (by decide) ?_)
    rw [eY_feed_207, yu]
    refine br_t rfl ?_
    by_cases z : pu_tl K us = us
    · refine br_t (by rw [z]) ?_
      by_cases y : pu_op K us = 0
      · exact br_t (by rw [y]; rfl) (G (fun h => (h.2.2.2.2 rfl).2 y))
      · exact br_f (zz_ne _ 0 y (by omega) (by omega)) (F ⟨fun h => absurd h (by decide), fun h => absurd h (by decide), fun h => absurd h (by decide), fun h => absurd h (by decide), fun _ => ⟨z, y⟩⟩)
    · exact br_f (zz_ne _ _ z (by omega) (by omega)) (G (fun h => z (h.2.2.2.2 rfl).1))
  | n + 7, h, _, _ => exact absurd h (by omega)
end
end
section
/-! feed: both sides together -/
theorem pu_op_le (K : Nat → Nat) : ∀ i, pu_op K i ≤ i := by
  intro i
  induction i with
  | zero => exact Nat.le_refl 0
  | succ i ih =>
    rw [pu_op_s]
    split
    · omega
    · split <;> omega
theorem oc_upd_le {K : Nat → Nat} (h : ∀ j, K j ≤ 6) {us k : Nat} (hk : k ≤ 6) : ∀ j, oc_upd K us k j ≤ 6 := by
  intro j
  unfold oc_upd
  split
  · exact hk
  · exact h j
theorem i_vc_feed {k : Nat} {u : SX} {v : SY} (I : i_Rel k u v) (hk : k + 3 ≤ 1540) (v1 : Int32) (v2 : Int32) : wpX_feed (fun r u' => wpY_feed (fun r' v' => r' = r ∧ i_Rel (k + 3) u' v') v v1 v2) u v1 v2 := by
  have I2 := I
  obtain ⟨nv, cp, no, nn, us, ph, K, mt, A, ⟨⟨l1, l2, l3, l4, l5, l6, l7, l8, l9⟩, yv, yc, yo, yn, yp, hp, yu, yk, ya, hkk, hw, hy⟩, ⟨xv, xc, xo, xn, xs, xu, xt, xl, xd, xq, xk, xa, xp, xe, xw, ⟨m, a, c, x, mm, ma, mc, mx, ok, mw⟩, hx⟩⟩ := I
  rw [eX_feed, xs]
  have hph : ph = 0 ∨ ph = 1 := by omega
  rcases hph with rfl | rfl
  case inr =>
    refine br_t rfl ?_
    rw [eY_feed, yp]
    exact br_t rfl ⟨rfl, I2⟩
  refine br_f (by decide) ?_
  rcases pk_ix v1 (n := 7) (by omega) with h | h | ⟨q, hq, e⟩
  · refine br_t h ?_
    rw [eY_feed, yp]
    exact br_f (by decide) (br_t h ⟨rfl, I2⟩)
  · have h6 : ¬ v1 ≤ 6 := by
      intro z
      exact absurd (Int32.le_trans h z) (by decide)
    have Y : wpY_feed (fun r' v' => r' = -1 ∧ i_Rel (k + 3) u v') v v1 v2 := by
      rw [eY_feed, yp]
      exact br_f (by decide) (br_c (fun _ => ⟨rfl, I2⟩) (fun _ => br_f h6 ⟨rfl, I2⟩))
    exact br_c (fun _ => Y) (fun _ => br_f h6 Y)
  subst e
  have p0 : ¬ nI q < 0 := nI_pos (by omega)
  have p6 : nI q ≤ 6 := nI_le (b := 6) (by omega) (by decide)
  refine br_f p0 (br_t p6 ?_)
  obtain ⟨b1, b2⟩ := pu_lv_ld hw us (Nat.le_refl _)
  have hop := pu_op_le K us
  -- the reference behind its first tests
  have YP : ∀ (Q : Int32 → SY → Prop), (((nI q = 1 → vY_feed_33 Q (nI q) v2 v) ∧ (¬ nI q = 1 → (((nI q = 3 → vY_feed_33 Q (nI q) v2 v) ∧ (¬ nI q = 3 → vY_feed_47 Q (nI q) v2 v)))))) → wpY_feed Q v (nI q) v2 := by
    intro Q h
    rw [eY_feed, yp]
    exact br_f (by decide) (br_f p0 (br_t p6 h))
  -- the main part
  have MAIN : (∀ (Q : Int32 → SY → Prop), vY_feed_64 Q (nI q) v2 v → wpY_feed Q v (nI q) v2) → (q = 1 ∨ q = 3 → ∃ w, w < nv ∧ v2 = nI w) → (q = 2 → ∃ o, o < 10 ∧ v2 = nI o) → vX_feed_60 (fun r u' => wpY_feed (fun r' v' => r' = r ∧ i_Rel (k + 3) u' v') v (nI q) v2) (nI q) v2 u := by
    intro YW g1 g2
    rw [eX_feed_60, xu, xc]
    by_cases full : us = cp
    · refine br_t (by rw [full]) (YW _ ?_)
      rw [eY_feed_64, yu, yc]
      exact br_t (by rw [full]) ⟨rfl, I2⟩
    refine br_f (zz_ne _ _ full (by omega) (by omega)) ?_
    refine fx_fits (K := K) (by omega) (by omega) l6 l8 (by omega) (by omega) (by omega) xo xn xu xl xd xq xt ?_ ?_
    · intro fit
      have fit' := fit
      obtain ⟨f1, f2, f3, f4, f5⟩ := fit'
      have REL : ∀ z : Int32, z = (if q < 4 then v2 else 0) → i_Rel (k + 3) (ed_s u (nI (us + 1)) (nI (pu_tl (oc_upd K us q) (us + 1))) (nI (pu_ld (oc_upd K us q) (us + 1))) (nI (pu_lv (oc_upd K us q) (us + 1))) (nI (pu_op (oc_upd K us q) (us + 1))) (ax_stage u) (fun j => nI (oc_upd K us q j)) (upd A us z)) (sy_used (sy_args (sy_kinds v (fun j => nI (oc_upd K us q j))) (upd A us (if q < 4 then v2 else 0))) (nI (us + 1))) := by
        intro z ez
        rw [← ez]
        refine ⟨nv, cp, no, nn, us + 1, 0, oc_upd K us q, mt, upd A us z, ?_, ?_⟩
        · refine ⟨⟨l1, l2, l3, l4, l5, l6, l7, l8, by omega⟩, yv, yc, yo, yn, yp, by decide, rfl, rfl, rfl, oc_upd_le hkk (by omega), ?_, fun h => absurd h (by decide)⟩
          refine fd_wf hw (by omega) (fun h => ?_) (fun h => ?_) (fun h => ?_) (fun h h' => ?_) (fun h => ?_) (fun h => ?_)
          · have := f1 h; omega
          · obtain ⟨w, w1, w2⟩ := g1 h
            exact ⟨w, w1, by rw [ez, if_pos (by omega), w2]⟩
          · obtain ⟨o, o1, o2⟩ := g2 h
            exact ⟨f2 h, o, o1, by rw [ez, if_pos (by omega), o2]⟩
          · by_cases y : q = 3
            · exact f3 y
            · exact (f4 (by omega)).1
          · have := f5 h; exact ⟨this.1, by omega⟩
          · have h1 := (f4 h).2
            have h2 : pu_op K us ≤ nn := by
              have := hw
              clear this
              -- open blocks never exceed the nest
              have key : ∀ i, i ≤ us → pu_op K i ≤ nn := by
                intro i
                induction i with
                | zero => intro _; exact Nat.zero_le _
                | succ i ih =>
                  intro hi
                  have i1 := ih (by omega)
                  have i2 := (hw i (by omega)).2.2.2.2.2.2
                  rw [pu_op_s]
                  by_cases y : K i = 4 ∨ K i = 5
                  · rw [if_pos y]; exact i2 y
                  · rw [if_neg y]; split <;> omega
              exact key us (Nat.le_refl _)
            omega
        · exact ⟨xv, xc, xo, xn, xs, rfl, rfl, rfl, rfl, rfl, rfl, rfl, xp, xe, xw, ⟨m, a, c, x, mm, ma, mc, mx, ok, mw⟩, fun h => absurd h (by decide)⟩
      refine br_f (by decide) ⟨vp_in_nI (by omega) (by decide), ?_⟩
      have ek : upd (ax_kinds u) (nI us).toNatClampNeg (vp_nar .byte (nI q).toInt8.toInt32) = fun j => nI (oc_upd K us q j) := by
        rw [xk, nI_clamp (by omega), pk_vb, em_byte q (by omega)]
        exact ot_upd K us q
      refine nm_r ek ?_
      have YY : ∀ z : Int32, z = (if q < 4 then v2 else 0) → wpY_feed (fun r' v' => r' = 0 ∧ i_Rel (k + 3) (ed_s u (nI (us + 1)) (nI (pu_tl (oc_upd K us q) (us + 1))) (nI (pu_ld (oc_upd K us q) (us + 1))) (nI (pu_lv (oc_upd K us q) (us + 1))) (nI (pu_op (oc_upd K us q) (us + 1))) (ax_stage u) (fun j => nI (oc_upd K us q j)) (upd A us z)) v') v (nI q) v2 := by
        intro z ez
        refine YW _ (fy_64 hw hkk (by omega) (by omega) l6 l8 (by omega) l4 full yc yo yn yu yk v2 (fun _ => ?_) (fun nf => absurd fit nf))
        exact fy_229 (by omega) (by omega) yu ya yk v2 ⟨rfl, REL z ez⟩
      by_cases y : q < 4
      · refine br_t (nI_lt (b := 4) y (by decide)) ?_
        exact fx_114 (by omega) (by omega) xu xa xl xd xq xt f2 (fun h => by have := f5 h; omega) (YY v2 (by rw [if_pos y]))
      · refine br_f (nI_nlt (b := 4) (by omega) (by omega)) ?_
        exact fx_114 (by omega) (by omega) xu xa xl xd xq xt f2 (fun h => by have := f5 h; omega) (YY 0 (by rw [if_neg y]))
    · intro nf
      refine br_t rfl (YW _ (fy_64 hw hkk (by omega) (by omega) l6 l8 (by omega) l4 full yc yo yn yu yk v2 (fun f => absurd f nf) (fun _ => ⟨rfl, I2⟩)))
  -- the argument's tests
  by_cases q13 : q = 1 ∨ q = 3
  · have X33 : vX_feed_33 (fun r u' => wpY_feed (fun r' v' => r' = r ∧ i_Rel (k + 3) u' v') v (nI q) v2) (nI q) v2 u := by
      rw [eX_feed_33, eX_isVar, xv]
      have Y33 : ∀ (Q : Int32 → SY → Prop), vY_feed_33 Q (nI q) v2 v → wpY_feed Q v (nI q) v2 := by
        intro Q h
        refine YP Q ?_
        rcases q13 with z | z
        · exact br_t (by rw [z]; rfl) h
        · exact br_f (zz_ne q 1 (by omega) (by omega) (by omega)) (br_t (by rw [z]; rfl) h)
      rcases pk_ix v2 (n := nv) (by omega) with h | h | ⟨w, w1, w2⟩
      · refine br_t h (br_t rfl (Y33 _ ?_))
        rw [eY_feed_33]
        exact br_t h ⟨rfl, I2⟩
      · have Y : wpY_feed (fun r' v' => r' = -1 ∧ i_Rel (k + 3) u v') v (nI q) v2 := by
          refine Y33 _ ?_
          rw [eY_feed_33, yv]
          exact br_c (fun _ => ⟨rfl, I2⟩) (fun _ => br_f (Int32.not_lt.mpr h) ⟨rfl, I2⟩)
        exact br_c (fun _ => br_t rfl Y) (fun _ => br_t h (br_t rfl Y))
      · have n0 : ¬ v2 < 0 := by rw [w2]; exact nI_pos (by omega)
        have n1 : ¬ nI nv ≤ v2 := by rw [w2]; exact nI_ge w1 (by omega)
        have n2 : v2 < nI nv := by rw [w2]; exact nI_lt w1 (by omega)
        refine br_f n0 (br_f n1 (br_f (by decide) ?_))
        rw [eX_feed_43]
        refine br_f (zz_ne q 2 (by omega) (by omega) (by omega)) (MAIN (fun Q h => Y33 Q ?_) (fun _ => ⟨w, w1, w2⟩) (fun h => by omega))
        rw [eY_feed_33, yv, eY_feed_47]
        exact br_f n0 (br_t n2 (br_f (zz_ne q 2 (by omega) (by omega) (by omega)) h))
    rcases q13 with z | z
    · exact br_t (by rw [z]; rfl) X33
    · exact br_f (zz_ne q 1 (by omega) (by omega) (by omega)) (br_t (by rw [z]; rfl) X33)
  · refine br_f (zz_ne q 1 (by omega) (by omega) (by omega)) (br_f (zz_ne q 3 (by omega) (by omega) (by omega)) ?_)
    have Y47 : ∀ (Q : Int32 → SY → Prop), vY_feed_47 Q (nI q) v2 v → wpY_feed Q v (nI q) v2 := fun Q h => YP Q (br_f (zz_ne q 1 (by omega) (by omega) (by omega)) (br_f (zz_ne q 3 (by omega) (by omega) (by omega)) h))
    rw [eX_feed_43]
    by_cases q2 : q = 2
    · refine br_t (by rw [q2]; rfl) ?_
      rcases pk_ix v2 (n := 10) (by omega) with h | h | ⟨w, w1, w2⟩
      · refine br_t h (Y47 _ ?_)
        rw [eY_feed_47]
        exact br_t (by rw [q2]; rfl) (br_t h ⟨rfl, I2⟩)
      · have h9 : ¬ v2 ≤ 9 := by
          intro z
          exact absurd (Int32.le_trans h z) (by decide)
        have Y : wpY_feed (fun r' v' => r' = -1 ∧ i_Rel (k + 3) u v') v (nI q) v2 := by
          refine Y47 _ ?_
          rw [eY_feed_47]
          exact br_t (by rw [q2]; rfl) (br_c (fun _ => ⟨rfl, I2⟩) (fun _ => br_f h9 ⟨rfl, I2⟩))
        exact br_c (fun _ => Y) (fun _ => br_f h9 Y)
      · have n0 : ¬ v2 < 0 := by rw [w2]; exact nI_pos (by omega)
        have n9 : v2 ≤ 9 := by rw [w2]; exact nI_le (b := 9) (by omega) (by decide)
        refine br_f n0 (br_t n9 (MAIN (fun Q h => Y47 Q ?_) (fun h => absurd h q13) (fun _ => ⟨w, w1, w2⟩)))
        rw [eY_feed_47]
        exact br_t (by rw [q2]; rfl) (br_f n0 (br_t n9 h))
    · refine br_f (zz_ne q 2 q2 (by omega) (by omega)) (MAIN (fun Q h => Y47 Q ?_) (fun h => absurd h q13) (fun h => absurd h q2))
      rw [eY_feed_47]
      exact br_f (zz_ne q 2 q2 (by omega) (by omega)) h
end
section
/-! seal -/
theorem i_vc_seal {k : Nat} {u : SX} {v : SY} (I : i_Rel k u v) (hk : k + 3 ≤ 1540) : wpX_seal (fun r u' => wpY_seal (fun r' v' => r' = r ∧ i_Rel (k + 3) u' v') v) u := by
  have I2 := I
  obtain ⟨nv, cp, no, nn, us, ph, K, mt, A, ⟨⟨l1, l2, l3, l4, l5, l6, l7, l8, l9⟩, yv, yc, yo, yn, yp, hp, yu, yk, ya, hkk, hw, hy⟩, ⟨xv, xc, xo, xn, xs, xu, xt, xl, xd, xq, xk, xa, xp, xe, xw, ⟨m, a, c, x, mm, ma, mc, mx, ok, mw⟩, hx⟩⟩ := I
  rw [eX_seal, xs]
  have hph : ph = 0 ∨ ph = 1 := by omega
  rcases hph with rfl | rfl
  case inr =>
    refine br_t rfl ?_
    rw [eY_seal, yp]
    exact br_t rfl ⟨rfl, I2⟩
  have htl := pu_tl_le K us
  have hop := pu_op_le K us
  have YP : ∀ (Q : Int32 → SY → Prop), ((nI us = 0 → Q (-4) v) ∧ (¬ nI us = 0 → (((nI (pu_tl K us) = nI us → (((nI (pu_op K us) = 0 → wpY_zeroMachines (fun u32 => Q 0 u32) (sy_phaseNow v 1)) ∧ (¬ nI (pu_op K us) = 0 → Q (-4) v)))) ∧ (¬ nI (pu_tl K us) = nI us → Q (-4) v))))) → wpY_seal Q v := by
    intro Q h
    rw [eY_seal, yp, yu]
    refine br_f (by decide) ?_
    refine yr_row yk hkk (by omega) ?_
    refine yr_open yk hkk hw yu (by omega) ?_
    exact h
  refine br_f (by decide) ?_
  rw [xu, xt, xq]
  by_cases z0 : us = 0
  · exact br_t (by rw [z0]; rfl) (YP _ (br_t (by rw [z0]; rfl) ⟨rfl, I2⟩))
  have n0 : ¬ nI us = 0 := zz_ne us 0 z0 (by omega) (by omega)
  refine br_f n0 ?_
  by_cases zt : pu_tl K us = us
  case neg =>
    have nt : ¬ nI (pu_tl K us) = nI us := zz_ne _ _ zt (by omega) (by omega)
    exact br_f nt (YP _ (br_f n0 (br_f nt ⟨rfl, I2⟩)))
  refine br_t (by rw [zt]) ?_
  by_cases zo : pu_op K us = 0
  case neg =>
    have no' : ¬ nI (pu_op K us) = 0 := zz_ne _ 0 zo (by omega) (by omega)
    exact br_f no' (YP _ (br_f n0 (br_t (by rw [zt]) (br_f no' ⟨rfl, I2⟩))))
  refine br_t (by rw [zo]; rfl) ?_
  refine rs_reset _ ?_
  refine lb_link (u0 := rs_X (sx_stage u 1)) (A := A) hw hkk l8 (by omega) xk xu zo ?_
  intro fi ma' oa mt' hlk hma hfi
  refine em_compile (u0 := lb_s (rs_X (sx_stage u 1)) fi ma' oa) (A := A) hw hlk l2 l6 (by omega) xk xa xu hma hfi ?_
  intro dv en he u' hE hen
  refine YP _ (br_f n0 (br_t (by rw [zt]) (br_t (by rw [zo]; rfl) (rs_zero _ ⟨rfl, ?_⟩))))
  obtain ⟨cO, cA, rfl, H⟩ := hE
  have hPle := cd_P_le K mt' A us
  refine ⟨nv, cp, no, nn, us, 1, K, mt', A, ?_, ?_⟩
  · refine ⟨⟨l1, l2, l3, l4, l5, l6, l7, l8, l9⟩, yv, yc, yo, yn, rfl, by decide, yu, yk, ya, hkk, hw, fun _ => ?_⟩
    refine ⟨by omega, zt, zo, hlk, fun M hM => ⟨0, Nat.zero_le _, ?_, rfl⟩⟩
    show rs_z 2 (ay_places v) M = nI 0
    unfold rs_z
    rw [if_pos hM]
    rfl
  · refine ⟨xv, xc, xo, xn, rfl, xu, xt, xl, xd, xq, xk, xa, ?_, ?_, ?_, ?_, fun _ => ?_⟩
    · show rs_z 2 (ax_places u) = rs_z 2 (ay_places v)
      rw [xp]
    · show rs_z 2 (ax_dones u) = rs_z 2 (ay_counts v)
      rw [xe]
    · intro j hj
      show rs_z 8 (ax_wideVars u) j = rs_z 16 (ay_values v) j
      unfold rs_z
      rw [if_pos hj, if_pos (by omega)]
    · refine ⟨rs_m m, a, c, x, ?_, ma, mc, mx, ⟨?_, ok.2⟩, ?_⟩
      · show rs_z 128 (ax_mem u) = _
        rw [mm]
        funext i
        show (if i < 128 then 0 else nI (m i)) = nI (rs_m m i)
        by_cases z : i < 128
        · rw [if_pos z, rs_m_lo z]; rfl
        · rw [if_neg z, rs_m_hi z]
      · intro i
        show rs_m m i < 256
        by_cases z : i < 128
        · rw [rs_m_lo z]; decide
        · rw [rs_m_hi z]; exact ok.1 i
      · intro j hj
        show _ = pu_U (if 8 + j < 16 then 0 else ay_values v (8 + j))
        rw [if_pos (by omega)]
        unfold oc_w
        rw [rs_m_lo (by omega), rs_m_lo (by omega), rs_m_lo (by omega), rs_m_lo (by omega)]
        rfl
    · refine ⟨hma, hfi, ⟨rfl, by omega, ?_, fun j hj => cd_C_out hj, fun j hj => cd_C_in hw hlk l2 l6 (by omega) hj⟩, hen⟩
      intro j hj
      obtain ⟨h1, h2⟩ := H j hj
      exact ⟨h1, h2 (by omega)⟩
end
section
/-! one statement, both sides -/
section
variable {nv cp no nn us : Nat} {K mt : Nat → Nat} {A : Nat → Int32}
theorem st_V (hw : pu_wf K A nv no nn us) (hv : nv ≤ 8) {s e : Nat} (he : e ≤ us) (hr : ∀ j, s ≤ j → j < e → K j < 3) {f V V' : Nat → Int32} (h : ∀ j, j < 8 → V j = V' j) : ∀ d, s + d ≤ e → pu_stf f K A V s d = pu_stf f K A V' s d := by
  intro d
  induction d with
  | zero => intro _; rfl
  | succ d ih =>
    intro hd
    show pu_tok (K (s + d)) (A (s + d)) V (pu_stf f K A V s d) (pu_lv K (s + d)) = pu_tok (K (s + d)) (A (s + d)) V' (pu_stf f K A V' s d) (pu_lv K (s + d))
    rw [ih (by omega)]
    unfold pu_tok
    by_cases k0 : K (s + d) = 0
    · rw [if_pos k0, if_pos k0]
    · rw [if_neg k0, if_neg k0]
      by_cases k1 : K (s + d) = 1
      · obtain ⟨w, w1, w2⟩ := (hw (s + d) (by omega)).2.2.1 (Or.inl k1)
        rw [if_pos k1, if_pos k1, w2, nI_clamp (by omega), h w (by omega)]
      · rw [if_neg k1, if_neg k1]
theorem st_next6 {e : Nat} (h : K e = 6) (y z : Int32) : pu_next K mt e y = pu_next K mt e z := by
  unfold pu_next
  rw [if_pos h, if_pos h]
theorem st_vals6 {e M : Nat} (h : K e = 6) (f : Nat → Int32) (y z : Int32) : ys_vals K A f M e y = ys_vals K A f M e z := by
  unfold ys_vals
  rw [if_neg (by omega), if_neg (by omega)]
theorem st_Y {v : SY} {M s e : Nat} (hM : M < 2) (HY : rl_Y nv cp no nn us 1 K mt A v) (he : e < us) (h3 : 3 ≤ K e) (st : Nat → Int32) (va : Nat → Int32) (z : Int32) : rl_Y nv cp no nn us 1 K mt A (ys_fin v M st va (pu_next K mt e z)) := by
  obtain ⟨l, yv, yc, yo, yn, yp, hp, yu, yk, ya, hk, hw, hy⟩ := HY
  obtain ⟨r1, r2, r3, r4, r5⟩ := hy rfl
  refine ⟨l, yv, yc, yo, yn, yp, hp, yu, yk, ya, hk, hw, fun _ => ⟨r1, r2, r3, r4, fun N hN => ?_⟩⟩
  by_cases q : N = M
  · obtain ⟨o1, o2⟩ := pu_next_ok r4 he h3 (hk e) z
    refine ⟨_, o1, ?_, o2⟩
    show upd (ay_places v) M _ N = _
    rw [q, pk_us]
  · obtain ⟨p, p1, p2, p3⟩ := r5 N hN
    refine ⟨p, p1, ?_, p3⟩
    show upd (ay_places v) M _ N = _
    rw [pk_un q]
    exact p2
theorem st_X0 {u : SX} {v : SY} (HX : rl_X nv cp no nn us 1 K mt A u v) (hw : pu_wf K A nv no nn us) (hv : nv ≤ 8) {e : Nat} (he : e < us) (st st' : Nat → Int32) (z : Int32) (q : Nat) :
    rl_X nv cp no nn us 1 K mt A (sx_dones (sx_places (sx_wideVars (sx_wideStack u st) (pu_vals K A (ax_wideVars u) e z)) (upd (ax_places u) 0 (nI q))) (upd (ax_dones u) 0 (ax_dones u 0 + 1))) (ys_fin v 0 st' (ys_vals K A (ay_values v) 0 e z) q) := by
  obtain ⟨xv, xc, xo, xn, xs, xu, xt, xl, xd, xq, xk, xa, xp, xe, xw, ⟨m, a, c, x, mm, ma, mc, mx, ok, mw⟩, hx⟩ := HX
  obtain ⟨r1, r2, ⟨c1, c2, c3, c4, c5⟩, r4⟩ := hx rfl
  refine ⟨xv, xc, xo, xn, xs, xu, xt, xl, xd, xq, xk, xa, ?_, ?_, ?_, ?_, fun _ => ⟨r1, r2, ⟨c1, c2, c3, c4, c5⟩, r4⟩⟩
  · show upd (ax_places u) 0 (nI q) = upd (ay_places v) 0 (nI q)
    rw [xp]
  · show upd (ax_dones u) 0 (ax_dones u 0 + 1) = upd (ay_counts v) 0 (ay_counts v 0 + 1)
    rw [xe]
  · intro j hj
    show pu_vals K A (ax_wideVars u) e z j = ys_vals K A (ay_values v) 0 e z j
    unfold pu_vals ys_vals
    by_cases k3 : K e = 3
    · rw [if_pos k3, if_pos k3, Nat.zero_mul, Nat.zero_add]
      unfold upd
      by_cases y : j = (A e).toNatClampNeg
      · rw [if_pos y, if_pos y]
      · rw [if_neg y, if_neg y]; exact xw j hj
    · rw [if_neg k3, if_neg k3]; exact xw j hj
  · refine ⟨m, a, c, x, mm, ma, mc, mx, ok, fun j hj => ?_⟩
    show _ = pu_U (ys_vals K A (ay_values v) 0 e z (8 + j))
    rw [mw j hj]
    unfold ys_vals
    by_cases k3 : K e = 3
    · obtain ⟨w, w1, w2⟩ := (hw e he).2.2.1 (Or.inr k3)
      rw [if_pos k3, w2, nI_clamp (by omega), pk_un (by omega)]
    · rw [if_neg k3]
theorem st_X1 {u : SX} {v : SY} (HX : rl_X nv cp no nn us 1 K mt A u v) (hw : pu_wf K A nv no nn us) (hv : nv ≤ 8) {e : Nat} (he : e < us) (st : Nat → Int32) (z : Int32) (q : Nat) {m' : Nat → Nat} {a' c' x' p' : Nat} {cl : Int32} {ret : Nat → Int32} (hok : oc_ok (m', a', c', x', 0, [])) (hV : ∀ j, j < 8 → oc_w m' (4 * j) = pu_U (pu_vals K A (fun j => ay_values v (1 * 8 + j)) e z j)) :
    rl_X nv cp no nn us 1 K mt A (sx_dones (oc_st u cl (nI a') (nI c') (nI x') (nI p') (upd (ax_places u) 1 (nI q)) (fun i => nI (m' i)) ret) (upd (ax_dones u) 1 (ax_dones u 1 + 1))) (ys_fin v 1 st (ys_vals K A (ay_values v) 1 e z) q) := by
  obtain ⟨xv, xc, xo, xn, xs, xu, xt, xl, xd, xq, xk, xa, xp, xe, xw, ⟨m, a, c, x, mm, ma, mc, mx, ok, mw⟩, hx⟩ := HX
  obtain ⟨r1, r2, ⟨c1, c2, c3, c4, c5⟩, r4⟩ := hx rfl
  refine ⟨xv, xc, xo, xn, xs, xu, xt, xl, xd, xq, xk, xa, ?_, ?_, ?_, ?_, fun _ => ⟨r1, r2, ⟨c1, c2, c3, c4, c5⟩, r4⟩⟩
  · show upd (ax_places u) 1 (nI q) = upd (ay_places v) 1 (nI q)
    rw [xp]
  · show upd (ax_dones u) 1 (ax_dones u 1 + 1) = upd (ay_counts v) 1 (ay_counts v 1 + 1)
    rw [xe]
  · intro j hj
    show ax_wideVars u j = ys_vals K A (ay_values v) 1 e z j
    rw [xw j hj]
    unfold ys_vals
    by_cases k3 : K e = 3
    · rw [if_pos k3, pk_un (by omega)]
    · rw [if_neg k3]
  · refine ⟨m', a', c', x', rfl, rfl, rfl, rfl, hok, fun j hj => ?_⟩
    show _ = pu_U (ys_vals K A (ay_values v) 1 e z (8 + j))
    rw [hV j hj]
    unfold ys_vals pu_vals
    by_cases k3 : K e = 3
    · rw [if_pos k3, if_pos k3]
      unfold upd
      by_cases y : j = (A e).toNatClampNeg
      · rw [if_pos y, if_pos (by omega)]
      · rw [if_neg y, if_neg (by omega)]
    · rw [if_neg k3, if_neg k3]
theorem st_one {v : SY} {M : Nat} (hM : M < 2) (HY : rl_Y nv cp no nn us 1 K mt A v) (hlt : ¬ nI us ≤ ay_places v M) :
    ∃ v', rl_Y nv cp no nn us 1 K mt A v' ∧ (∀ Q : SY → Prop, Q v' → wpY_statement Q v (nI M)) ∧ ∀ u, rl_X nv cp no nn us 1 K mt A u v → ∀ Q : SX → Prop, (∀ u'', rl_X nv cp no nn us 1 K mt A (sx_dones u'' (upd (ax_dones u'') M (ax_dones u'' M + 1))) v' → Q u'') → (M = 0 → wpX_wideStatement Q u) ∧ (M = 1 → wpX_octetStatement Q u) := by
  have HY2 := HY
  obtain ⟨⟨l1, l2, l3, l4, l5, l6, l7, l8, l9⟩, yv, yc, yo, yn, yp, hp, yu, yk, ya, hk, hw, hy⟩ := HY
  obtain ⟨r1, r2, r3, hlk, r5⟩ := hy rfl
  obtain ⟨s, s1, s2, s3⟩ := r5 M hM
  have hs : s < us := by
    rw [s2, nI_leI (by omega) (by omega)] at hlt
    omega
  obtain ⟨e, e1, e2, e3, e4⟩ := pu_end hs r2
  generalize hst : pu_stf (ay_stack v) K A (fun j => ay_values v (M * 8 + j)) s (e - s) = st
  generalize hval : pu_stk K A (fun j => ay_values v (M * 8 + j)) s (e - s) 0 = val
  have hsv : K e ≠ 6 → st 0 = val := by
    intro n6
    rw [← hst, ← hval]
    exact ys_val hw s3 e1 e4 e2 e3 n6 _ _
  have hnx : ∀ y : Int32, (K e ≠ 6 → y = val) → pu_next K mt e y = pu_next K mt e val := by
    intro y h
    by_cases n6 : K e = 6
    · exact st_next6 n6 _ _
    · rw [h n6]
  have hvl : ∀ y : Int32, (K e ≠ 6 → y = val) → ys_vals K A (ay_values v) M e y = ys_vals K A (ay_values v) M e val := by
    intro y h
    by_cases n6 : K e = 6
    · exact st_vals6 n6 _ _ _
    · rw [h n6]
  refine ⟨ys_fin v M st (ys_vals K A (ay_values v) M e val) (pu_next K mt e val), st_Y (s := s) hM HY2 e2 e3 _ _ _, ?_, ?_⟩
  · intro Q hQ
    refine ys_stmt hw hlk hk l2 l6 (by omega) hM yu yk ya s3 e1 e4 e2 e3 s2 hst.symm ?_
    rw [hvl _ hsv, hnx _ hsv]
    exact hQ
  · intro u HX Q hQ
    have HX2 := HX
    obtain ⟨xv, xc, xo, xn, xs, xu, xt, xl, xd, xq, xk, xa, xp, xe, xw, ⟨m, a, c, x, mm, ma, mc, mx, ok, mw⟩, hx⟩ := HX
    obtain ⟨x1, x2, x3, x4⟩ := hx rfl
    refine ⟨fun m0 => ?_, fun m1 => ?_⟩
    · subst m0
      refine wd_stmt hw hlk l2 l6 (by omega) xu xk xa x1 x2 s3 e1 e4 e2 e3 (by rw [xp]; exact s2) ?_
      intro st' h'
      have hV : pu_stk K A (ax_wideVars u) s (e - s) 0 = val := by
        rw [← hval]
        show pu_stf (fun _ => 0) K A (ax_wideVars u) s (e - s) 0 = pu_stf (fun _ => 0) K A (fun j => ay_values v (0 * 8 + j)) s (e - s) 0
        rw [st_V hw l2 (Nat.le_of_lt e2) e4 (V' := fun j => ay_values v (0 * 8 + j)) (fun j hj => by rw [xw j hj, Nat.zero_mul, Nat.zero_add]) (e - s) (by omega)]
      have hy' : K e ≠ 6 → st' 0 = val := fun n6 => by rw [h' n6, hV]
      have hpv : pu_vals K A (ax_wideVars u) e (st' 0) = pu_vals K A (ax_wideVars u) e val := by
        by_cases n6 : K e = 6
        · unfold pu_vals
          rw [if_neg (by omega), if_neg (by omega)]
        · rw [hy' n6]
      rw [hpv, hnx _ hy']
      exact hQ _ (st_X0 HX2 hw l2 e2 st' st val _)
    · subst m1
      have GC := cd_C_good hw hlk l2 l6 (show us ≤ 48 by omega)
      have ok' : oc_ok (m, a, c, x, cd_P K mt A s, []) := ok
      obtain ⟨m', a', c', x', p', R, hc, hV⟩ := oc_stmt (V := fun j => ay_values v (1 * 8 + j)) hw hlk l2 l6 (by omega) s3 e1 e2 e3 e4 ok' (fun j hj => by rw [mw j hj])
      rw [hval] at hc hV
      have okR := oc_ok_R GC R ok'
      refine ot_run x3 GC mm ma mc mx (by rw [xp]; exact s2) (by omega) (x4 s s1 s3) ok' R (by omega) hc ?_
      intro u' hS
      obtain ⟨ret, rfl, _⟩ := hS
      exact hQ _ (st_X1 HX2 hw l2 e2 st val _ okR hV)
end
end
section
/-! step -/
section
variable {nv cp no nn us : Nat} {K mt : Nat → Nat} {A : Nat → Int32} {M n : Nat}
theorem st_idle (hM : M < 2) (hn : n ≤ 4) {v : SY} {c : Nat} (hp : ay_used v ≤ ay_places v M) {post : Int32 → SY → Prop} (P : post (nI c) v) : ∀ d i, i + d = n → vY_step_38 post (nI M) (nI n) (d + 1) (nI c) (nI i) v := by
  intro d
  induction d with
  | zero =>
    intro i hi
    rw [eY_step_38]
    exact br_t (nI_le (by omega) (by omega)) P
  | succ d ih =>
    intro i hi
    rw [eY_step_38, nI_clamp (by omega)]
    exact br_f (nI_ge (by omega) (by omega)) ⟨vp_in_nI hM (by decide), br_t hp (nm_r (nI_1 i) (ih (i + 1) (by omega)))⟩
theorem st_loop (hM : M < 2) (hn : n ≤ 4) : ∀ (d i c : Nat) (v : SY), i + d = n → rl_Y nv cp no nn us 1 K mt A v →
    ∃ (r : Int32) (v' : SY), rl_Y nv cp no nn us 1 K mt A v' ∧ (∀ post : Int32 → SY → Prop, post r v' → vY_step_38 post (nI M) (nI n) (d + 1) (nI c) (nI i) v) ∧ ∀ u, rl_X nv cp no nn us 1 K mt A u v → ∀ post : Int32 → SX → Prop, (∀ u', rl_X nv cp no nn us 1 K mt A u' v' → post r u') → vX_step_37 post (nI M) (nI n) (d + 1) (nI c) (nI i) u := by
  intro d
  induction d with
  | zero =>
    intro i c v hi HY
    refine ⟨nI c, v, HY, fun post P => ?_, fun u HX post P => ?_⟩
    · rw [eY_step_38]
      exact br_t (nI_le (by omega) (by omega)) P
    · rw [eX_step_37]
      exact br_t (nI_le (by omega) (by omega)) (P u HX)
  | succ d ih =>
    intro i c v hi HY
    have yu : ay_used v = nI us := HY.2.2.2.2.2.2.2.1
    have hin : vp_in (nI M) 2 := vp_in_nI hM (by decide)
    have hni : ¬ nI n ≤ nI i := nI_ge (by omega) (by omega)
    by_cases hlt : nI us ≤ ay_places v M
    · refine ⟨nI c, v, HY, fun post P => ?_, fun u HX post P => ?_⟩
      · exact st_idle hM hn (by rw [yu]; exact hlt) P (d + 1) i hi
      · have xu : ax_used u = nI us := HX.2.2.2.2.2.1
        have xp : ax_places u = ay_places v := HX.2.2.2.2.2.2.2.2.2.2.2.2.1
        rw [eX_step_37, xu, xp, nI_clamp (by omega)]
        exact br_f hni ⟨hin, br_t hlt (P u HX)⟩
    · obtain ⟨v1, HY1, Y1, X1⟩ := st_one hM HY hlt
      obtain ⟨r, v', HY', Y2, X2⟩ := ih (i + 1) (c + 1) v1 (by omega) HY1
      refine ⟨r, v', HY', fun post P => ?_, fun u HX post P => ?_⟩
      · rw [eY_step_38, yu, nI_clamp (by omega)]
        refine br_f hni ⟨hin, br_f hlt (Y1 _ ?_)⟩
        exact nm_r (nI_1 c) (nm_r (nI_1 i) (Y2 post P))
      · have xu : ax_used u = nI us := HX.2.2.2.2.2.1
        have xp : ax_places u = ay_places v := HX.2.2.2.2.2.2.2.2.2.2.2.2.1
        rw [eX_step_37, xu, xp, nI_clamp (by omega)]
        refine br_f hni ⟨hin, br_f hlt ?_⟩
        have go := X1 u HX (fun u'' => vX_step_71 post (d + 1) (nI M) (nI n) (nI c) (nI i) u'') (fun u'' H => by
          rw [eX_step_71, nI_clamp (by omega)]
          exact ⟨hin, hin, nm_e (nm_r (nI_1 c) (nm_r (nI_1 i) (X2 _ H post P)))⟩)
        have hcase : M = 0 ∨ M = 1 := by omega
        rcases hcase with z | z
        · exact br_t (by rw [z]; rfl) (go.1 z)
        · exact br_f (by rw [z]; decide) (go.2 z)
end
theorem i_vc_step {k : Nat} {u : SX} {v : SY} (I : i_Rel k u v) (hk : k + 3 ≤ 1540) (v1 : Int32) (v2 : Int32) : wpX_step (fun r u' => wpY_step (fun r' v' => r' = r ∧ i_Rel (k + 3) u' v') v v1 v2) u v1 v2 := by
  have I2 := I
  obtain ⟨nv, cp, no, nn, us, ph, K, mt, A, HY, HX⟩ := I
  have yp : ay_phaseNow v = nI ph := HY.2.2.2.2.2.1
  have hp : ph < 2 := HY.2.2.2.2.2.2.1
  have xs : ax_stage u = nI ph := HX.2.2.2.2.1
  rw [eX_step, xs]
  have hph : ph = 0 ∨ ph = 1 := by omega
  rcases hph with rfl | rfl
  · refine br_t rfl ?_
    rw [eY_step, yp]
    exact br_t rfl ⟨rfl, I2⟩
  refine br_f (by decide) ?_
  rw [eX_isMachine]
  rcases pk_ix v1 (n := 2) (by omega) with h | h | ⟨M, hM, e⟩
  · have z0 : ¬ v1 = 0 := fun z => by rw [z] at h; exact absurd h (by decide)
    have z1 : ¬ v1 = 1 := fun z => by rw [z] at h; exact absurd h (by decide)
    refine br_f z0 (br_f z1 (br_t rfl ?_))
    rw [eY_step, yp]
    exact br_f (by decide) (br_t h ⟨rfl, I2⟩)
  · have z0 : ¬ v1 = 0 := fun z => by rw [z] at h; exact absurd h (by decide)
    have z1 : ¬ v1 = 1 := fun z => by rw [z] at h; exact absurd h (by decide)
    have h3 : ¬ v1 ≤ 1 := by
      intro z
      exact absurd (Int32.le_trans h z) (by decide)
    refine br_f z0 (br_f z1 (br_t rfl ?_))
    rw [eY_step, yp]
    exact br_f (by decide) (br_c (fun _ => ⟨rfl, I2⟩) (fun _ => br_f h3 ⟨rfl, I2⟩))
  subst e
  have YP : ∀ (Q : Int32 → SY → Prop), ((v2 < 1 → Q (-1) v) ∧ (¬ v2 < 1 → (((v2 ≤ 4 → (∃ n38 : Nat, vY_step_38 Q (nI M) v2 n38 0 0 v)) ∧ (¬ v2 ≤ 4 → Q (-1) v))))) → wpY_step Q v (nI M) v2 := by
    intro Q h
    rw [eY_step, yp]
    exact br_f (by decide) (br_f (nI_pos (by omega)) (br_t (nI_le (b := 1) (by omega) (by decide)) h))
  have MAIN : ((v2 < 1 → wpY_step (fun r' v' => r' = -1 ∧ i_Rel (k + 3) u v') v (nI M) v2) ∧ (¬ v2 < 1 → (((v2 ≤ 4 → (∃ n37 : Nat, vX_step_37 (fun r u' => wpY_step (fun r' v' => r' = r ∧ i_Rel (k + 3) u' v') v (nI M) v2) (nI M) v2 n37 0 0 u)) ∧ (¬ v2 ≤ 4 → wpY_step (fun r' v' => r' = -1 ∧ i_Rel (k + 3) u v') v (nI M) v2))))) := by
    by_cases a1 : v2 < 1
    · exact br_t a1 (YP _ (br_t a1 ⟨rfl, I2⟩))
    refine br_f a1 ?_
    by_cases a4 : v2 ≤ 4
    case neg => exact br_f a4 (YP _ (br_f a1 (br_f a4 ⟨rfl, I2⟩)))
    refine br_t a4 ?_
    have h0 : ¬ v2 < 0 := by
      intro z
      exact a1 (Int32.lt_trans z (by decide))
    obtain ⟨n, hn, e⟩ := nI_of2 (M := 4) (n := 4) (by decide) h0 a4
    subst e
    obtain ⟨r, v', HY', Y, X⟩ := st_loop (M := M) hM hn n 0 0 v (by omega) HY
    refine ⟨n + 1, X u HX _ ?_⟩
    intro u' HX'
    exact YP _ (br_f a1 (br_t a4 ⟨n + 1, Y _ ⟨rfl, nv, cp, no, nn, us, 1, K, mt, A, HY', HX'⟩⟩))
  have hcase : M = 0 ∨ M = 1 := by omega
  rcases hcase with rfl | rfl
  · exact br_t rfl (br_f (by decide) MAIN)
  · exact br_f (by decide) (br_t rfl (br_f (by decide) MAIN))
end
