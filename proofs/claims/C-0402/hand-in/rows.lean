section
/-! pure rows to paste: stores, nI and lN arithmetic, masks, shifts, narrowing, branches by naturals (pk_le, pk_lt, pk_eq), loops (lp1 .. lp16: the measure of the state; rp1 ..: recursion), negatives. Take what you need -/
theorem pk_us {f : Nat → Int32} {k : Nat} {x : Int32} : upd f k x k = x := if_pos rfl
theorem pk_un {f : Nat → Int32} {k j : Nat} {x : Int32} (h : j ≠ k) : upd f k x j = f j := if_neg h
theorem pk_uLs {f : Nat → Int64} {k : Nat} {x : Int64} : vp_updL f k x k = x := if_pos rfl
theorem pk_uLn {f : Nat → Int64} {k j : Nat} {x : Int64} (h : j ≠ k) : vp_updL f k x j = f j := if_neg h
theorem pk_sub {a b : Nat} (h : b ≤ a) : nI a - nI b = nI (a - b) := by
  obtain ⟨c, rfl⟩ : ∃ c, a = c + b := ⟨a - b, by omega⟩
  rw [← nI_add, Int32.add_sub_cancel, Nat.add_sub_cancel]
theorem pk_m1 (n : Nat) : nI (n + 1) + (-1) = nI n := by
  rw [← nI_1, Int32.add_assoc, show (1 : Int32) + (-1) = 0 from rfl, Int32.add_zero]
theorem pk_mul (a b : Nat) : nI a * nI b = nI (a * b) := (Int32.ofNat_mul a b).symm
theorem pk_div {a d : Nat} (ha : a < 2 ^ 31) (h0 : 0 < d) (hd : d < 2 ^ 31) : nI a / nI d = nI (a / d) := by
  apply Int32.toInt_inj.mp
  rw [lg_idiv_nonneg (by rw [nI_toInt ha]; omega) (by rw [nI_toInt hd]; omega), nI_toInt ha, nI_toInt hd, nI_toInt (Nat.lt_of_le_of_lt (Nat.div_le_self a d) ha)]
  first | rfl | exact (Int.natCast_ediv _ _).symm
theorem pk_rem {a d : Nat} (ha : a < 2 ^ 31) (h0 : 0 < d) (hd : d < 2 ^ 31) : nI a - nI a / nI d * nI d = nI (a % d) := by
  rw [pk_div ha h0 hd, pk_mul, pk_sub (Nat.div_mul_le_self a d)]
  exact congrArg nI (by have := Nat.div_add_mod' a d; omega)
theorem pk_sub_toInt {a b : Nat} (ha : a < 2 ^ 30) (hb : b < 2 ^ 30) : (nI a - nI b).toInt = (a : Int) - b := by
  rw [Int32.toInt_sub, nI_toInt (by omega), nI_toInt (by omega)]
  exact Int.bmod_eq_of_le (by omega) (by omega)
theorem pk_sneg {a b : Nat} (hb : b < 2 ^ 30) (h : a < b) : nI a - nI b < 0 := by
  rw [Int32.lt_iff_toInt_lt, pk_sub_toInt (by omega) hb, show (0 : Int32).toInt = 0 from by decide]
  omega
theorem pk_ix (x : Int32) {n : Nat} (hn : n < 2 ^ 31) : x < 0 ∨ nI n ≤ x ∨ ∃ j : Nat, j < n ∧ x = nI j := by
  by_cases h : x < 0
  · exact Or.inl h
  · obtain ⟨j, hj, rfl⟩ := nI_of h
    by_cases h2 : j < n
    · exact Or.inr (Or.inr ⟨j, h2, rfl⟩)
    · exact Or.inr (Or.inl (nI_le (by omega) hj))
theorem pk_le {x y : Int32} {A B : Prop} (a b : Nat) (f : a ≤ b → A) (g : b < a → B) (hx : x = nI a := by rfl) (hy : y = nI b := by rfl) (ha : a < 2 ^ 31 := by omega) (hb : b < 2 ^ 31 := by omega) : (x ≤ y → A) ∧ (¬ x ≤ y → B) := by
  subst hx hy
  rw [nI_leI ha hb]
  exact ⟨f, fun z => g (by omega)⟩
theorem pk_lt {x y : Int32} {A B : Prop} (a b : Nat) (f : a < b → A) (g : b ≤ a → B) (hx : x = nI a := by rfl) (hy : y = nI b := by rfl) (ha : a < 2 ^ 31 := by omega) (hb : b < 2 ^ 31 := by omega) : (x < y → A) ∧ (¬ x < y → B) := by
  subst hx hy
  rw [nI_ltI ha hb]
  exact ⟨f, fun z => g (by omega)⟩
theorem pk_eq {x y : Int32} {A B : Prop} (a b : Nat) (f : a = b → A) (g : a ≠ b → B) (hx : x = nI a := by rfl) (hy : y = nI b := by rfl) (ha : a < 2 ^ 31 := by omega) (hb : b < 2 ^ 31 := by omega) : (x = y → A) ∧ (¬ x = y → B) := by
  subst hx hy
  rw [nI_eq ha hb]
  exact ⟨f, g⟩
theorem pk_in {x : Int32} (n N : Nat) (h : n < N) (hx : x = nI n := by rfl) (hN : N < 2 ^ 31 := by omega) : vp_in x N := by
  subst hx
  exact vp_in_nI h hN
theorem pk_cl {x : Int32} (n : Nat) (hx : x = nI n := by rfl) (h : n < 2 ^ 31 := by omega) : x.toNatClampNeg = n := by
  subst hx
  exact nI_clamp h
theorem pk_tn {n : Nat} (h : n < 2 ^ 32) : (nI n).toBitVec.toNat = n := Nat.mod_eq_of_lt h
theorem pk_and (x : Int32) {m : Int32} (k : Nat) (hm : m.toBitVec.toNat = 2 ^ k - 1) : x &&& m = nI (x.toBitVec.toNat % 2 ^ k) := by
  apply Int32.toBitVec_inj.mp
  apply BitVec.eq_of_toNat_eq
  rw [Int32.toBitVec_and, BitVec.toNat_and, hm, Nat.and_two_pow_sub_one_eq_mod]
  show _ = (BitVec.ofNat 32 _).toNat
  rw [BitVec.toNat_ofNat]
  exact (Nat.mod_eq_of_lt (Nat.lt_of_le_of_lt (Nat.mod_le _ _) x.toBitVec.isLt)).symm
theorem pk_andN {n : Nat} (h : n < 2 ^ 32) {m : Int32} (k : Nat) (hm : m.toBitVec.toNat = 2 ^ k - 1) : nI n &&& m = nI (n % 2 ^ k) := by
  rw [pk_and _ k hm, pk_tn h]
theorem pk_andE (x : Int32) {m : Int32} (k : Nat) (hm : m.toBitVec.toNat = 2 ^ k - 1) : ∃ j : Nat, j < 2 ^ k ∧ x &&& m = nI j := ⟨_, Nat.mod_lt _ (Nat.two_pow_pos k), pk_and x k hm⟩
theorem pk_andIn (x : Int32) {m : Int32} (k : Nat) (hm : m.toBitVec.toNat = 2 ^ k - 1) (hk : k ≤ 30) : vp_in (x &&& m) (2 ^ k) := by
  obtain ⟨j, hj, e⟩ := pk_andE x k hm
  rw [e]
  exact vp_in_nI hj (Nat.lt_of_le_of_lt (Nat.pow_le_pow_right (by decide) hk) (by decide))
theorem pk_shl (a s : Int32) (k : Nat) (hs : (s.toBitVec.smod 32).toNat = k) : (a <<< s).toBitVec.toNat = a.toBitVec.toNat * 2 ^ k % 2 ^ 32 := by
  show (a.toBitVec <<< (s.toBitVec.smod 32).toNat).toNat = _
  rw [hs, BitVec.toNat_shiftLeft, Nat.shiftLeft_eq]
theorem pk_shlN {n : Nat} (s : Int32) (k : Nat) (hs : (s.toBitVec.smod 32).toNat = k) (h : n * 2 ^ k < 2 ^ 32) : nI n <<< s = nI (n * 2 ^ k) := by
  apply Int32.toBitVec_inj.mp
  apply BitVec.eq_of_toNat_eq
  have hn : n < 2 ^ 32 := Nat.lt_of_le_of_lt (Nat.le_mul_of_pos_right n (Nat.two_pow_pos k)) h
  rw [pk_shl _ _ k hs, pk_tn hn, pk_tn h, Nat.mod_eq_of_lt h]
theorem pk_shr (a s : Int32) (k : Nat) (hs : (s.toBitVec.smod 32).toNat = k) : (a >>> s).toInt = a.toInt >>> k := by
  show (a.toBitVec.sshiftRight (s.toBitVec.smod 32).toNat).toInt = _
  rw [hs, BitVec.toInt_sshiftRight]
  rfl
theorem pk_shrN {n : Nat} (h : n < 2 ^ 31) (s : Int32) (k : Nat) (hs : (s.toBitVec.smod 32).toNat = k) : nI n >>> s = nI (n / 2 ^ k) := by
  apply Int32.toInt_inj.mp
  have h2 : n / 2 ^ k ≤ n := Nat.div_le_self _ _
  rw [pk_shr _ _ k hs, nI_toInt h, nI_toInt (by omega), Int.shiftRight_eq_div_pow]
  rfl
theorem pk_ushr (x s : Int32) (k : Nat) (hs : ((s.toUInt32 &&& Int32.toUInt32 31).toBitVec % 32).toNat = k) : (x.toUInt32 >>> (s.toUInt32 &&& Int32.toUInt32 31)).toInt32.toBitVec.toNat = x.toBitVec.toNat / 2 ^ k := by
  have e : (x.toUInt32 >>> (s.toUInt32 &&& Int32.toUInt32 31)).toInt32.toBitVec = x.toBitVec >>> k := by
    rw [← hs]
    exact UInt32.toBitVec_shiftRight _ _
  rw [e, BitVec.toNat_ushiftRight, Nat.shiftRight_eq_div_pow]
theorem pk_ushrN {n : Nat} (hn : n < 2 ^ 32) (s : Int32) (k : Nat) (hs : ((s.toUInt32 &&& Int32.toUInt32 31).toBitVec % 32).toNat = k) : ((nI n).toUInt32 >>> (s.toUInt32 &&& Int32.toUInt32 31)).toInt32 = nI (n / 2 ^ k) := by
  apply Int32.toBitVec_inj.mp
  apply BitVec.eq_of_toNat_eq
  rw [pk_ushr _ s k hs, pk_tn hn, pk_tn (Nat.lt_of_le_of_lt (Nat.div_le_self _ _) hn)]
theorem pk_nb (z : Int32) : narrow .byte (.int z.toInt8.toInt32) = .int z.toInt8.toInt32 := congrArg Value.int (by simp)
theorem pk_ns (z : Int32) : narrow .short (.int z.toInt16.toInt32) = .int z.toInt16.toInt32 := congrArg Value.int (by simp)
theorem pk_fb (r : Int32) : fits .byte (.int r.toInt8.toInt32) = true := by
  have ⟨a, b⟩ := lg_i2b_range r
  have h1 : (-128 : Int32).toInt = -128 := by decide
  have h2 : (127 : Int32).toInt = 127 := by decide
  simp only [fits, Bool.and_eq_true, decide_eq_true_eq, Int32.le_iff_toInt_le, h1, h2]
  omega
theorem pk_fs (r : Int32) : fits .short (.int r.toInt16.toInt32) = true := by
  have ⟨a, b⟩ := lg_i2s_range r
  have h1 : (-32768 : Int32).toInt = -32768 := by decide
  have h2 : (32767 : Int32).toInt = 32767 := by decide
  simp only [fits, Bool.and_eq_true, decide_eq_true_eq, Int32.le_iff_toInt_le, h1, h2]
  omega
theorem pk_charN {q : Nat} (hq : q < 65536) : narrow .char (.int (nI q)) = .int (nI q) ∧ fits .char (.int (nI q)) = true := by
  constructor
  · have e : (nI q).toUInt32.toUInt16.toUInt32.toInt32 = nI q := by
      apply Int32.toBitVec_inj.mp
      apply BitVec.eq_of_toNat_eq
      show (nI q).toUInt32.toUInt16.toUInt32.toNat = q % 2 ^ 32
      rw [UInt16.toNat_toUInt32, UInt32.toNat_toUInt16, show (nI q).toUInt32.toNat = q % 2 ^ 32 from rfl]
      omega
    exact congrArg Value.int e
  · have a : (0 : Int32) ≤ nI q := nI_pos' (by omega)
    have b : nI q ≤ 65535 := nI_le (b := 65535) (by omega) (by decide)
    show (decide ((0 : Int32) ≤ nI q) && decide (nI q ≤ 65535)) = true
    rw [decide_eq_true a, decide_eq_true b]
    rfl
theorem pk_char (x : Int32) : (x.toUInt32 % 65536).toInt32 = nI (x.toBitVec.toNat % 65536) := by
  apply Int32.toBitVec_inj.mp
  apply BitVec.eq_of_toNat_eq
  rw [pk_tn (by omega)]
  show (x.toUInt32 % 65536).toNat = _
  rw [UInt32.toNat_mod]
  rfl
theorem pk_nc (x : Int32) : narrow .char (.int (x.toUInt32 % 65536).toInt32) = .int (x.toUInt32 % 65536).toInt32 := by
  rw [pk_char]
  exact (pk_charN (Nat.mod_lt _ (by decide))).1
theorem pk_fc (x : Int32) : fits .char (.int (x.toUInt32 % 65536).toInt32) = true := by
  rw [pk_char]
  exact (pk_charN (Nat.mod_lt _ (by decide))).2
theorem pk_vb (z : Int32) : vp_nar .byte z.toInt8.toInt32 = z.toInt8.toInt32 := by rw [vp_nar_byte]; simp
theorem pk_vs (z : Int32) : vp_nar .short z.toInt16.toInt32 = z.toInt16.toInt32 := by rw [vp_nar_short]; simp
theorem pk_vc (z : Int32) : vp_nar .char (z.toUInt32 % 65536).toInt32 = (z.toUInt32 % 65536).toInt32 := Value.int.inj (pk_nc z)
theorem pk_lT {n : Nat} (h : n < 2 ^ 63) : (lN n).toInt = (n : Int) := lg_ofNat_toInt h
theorem pk_lLT {a b : Nat} (ha : a < 2 ^ 63) (hb : b < 2 ^ 63) : lN a < lN b ↔ a < b := by
  rw [Int64.lt_iff_toInt_lt, pk_lT ha, pk_lT hb]; omega
theorem pk_lLE {a b : Nat} (ha : a < 2 ^ 63) (hb : b < 2 ^ 63) : lN a ≤ lN b ↔ a ≤ b := by
  rw [Int64.le_iff_toInt_le, pk_lT ha, pk_lT hb]; omega
theorem pk_lEQ {a b : Nat} (ha : a < 2 ^ 63) (hb : b < 2 ^ 63) : lN a = lN b ↔ a = b := by
  rw [← Int64.toInt_inj, pk_lT ha, pk_lT hb]; omega
theorem pk_lOf {x : Int64} (h : ¬ x < 0) : ∃ k : Nat, k < 2 ^ 63 ∧ x = lN k := by
  rw [Int64.lt_iff_toInt_lt] at h
  have h0 : (0 : Int64).toInt = 0 := by decide
  have hx := Int64.toInt_lt x
  refine ⟨x.toInt.toNat, by omega, Int64.toInt_inj.mp ?_⟩
  rw [pk_lT (by omega)]
  omega
theorem pk_lDiv {a b : Nat} (ha : a < 2 ^ 63) (h0 : 0 < b) (hb : b < 2 ^ 63) : lN a / lN b = lN (a / b) := by
  apply Int64.toInt_inj.mp
  rw [lg_ldiv_nonneg (by rw [pk_lT ha]; omega) (by rw [pk_lT hb]; omega), pk_lT ha, pk_lT hb, pk_lT (Nat.lt_of_le_of_lt (Nat.div_le_self a b) ha)]
  rfl
theorem pk_lRem {a b : Nat} (ha : a < 2 ^ 63) (h0 : 0 < b) (hb : b < 2 ^ 63) : lN a - lN a / lN b * lN b = lN (a % b) := by
  rw [pk_lDiv ha h0 hb, lN_mul, lN_sub (Nat.div_mul_le_self a b)]
  exact congrArg lN (by have := Nat.div_add_mod' a b; omega)
theorem pk_loop {σ : Type} (W : Nat → Nat → σ → Prop) (I : Nat → σ → Prop) (e i0 : Nat) (s : σ) (hi : i0 ≤ e) (h0 : I i0 s) (hx : ∀ n s, I e s → W (n + 1) e s)
    (hs : ∀ n i s, i < e → I i s → (∀ s', I (i + 1) s' → W n (i + 1) s') → W (n + 1) i s) : ∃ n, W n i0 s :=
  ⟨e + 1, loop_i W I e hx hs (e + 1) i0 s hi (by omega) h0⟩
theorem pk_loopD {σ : Type} (W : Nat → Nat → σ → Prop) (I : Nat → σ → Prop) (hx : ∀ n s, I 0 s → W (n + 1) 0 s)
    (hs : ∀ n i s, I (i + 1) s → (∀ s', I i s' → W n i s') → W (n + 1) (i + 1) s) : ∀ (e : Nat) (s : σ), I e s → W (e + 1) e s := by
  intro e
  induction e with
  | zero => exact fun s h => hx 0 s h
  | succ e ih => exact fun s h => hs (e + 1) e s h (fun s' h' => ih s' h')
theorem lp1 {A1 : Type} (W : Nat → A1 → Prop) (I : A1 → Prop) (μ : A1 → Nat) (hs : ∀ (n : Nat) (a1 : A1), I a1 → (∀ (b1 : A1), I b1 → μ b1 < μ a1 → W n b1) → W (n + 1) a1) (a1 : A1) (h : I a1) : ∃ n, W n a1 :=
  loop_m (σ := A1) (fun n s => W n s) (fun s => I s) (fun s => μ s) (fun n s hI hk => hs n s hI (fun b1 h9 hm => hk b1 h9 hm)) a1 h
theorem lp2 {A1 A2 : Type} (W : Nat → A1 → A2 → Prop) (I : A1 → A2 → Prop) (μ : A1 → A2 → Nat) (hs : ∀ (n : Nat) (a1 : A1) (a2 : A2), I a1 a2 → (∀ (b1 : A1) (b2 : A2), I b1 b2 → μ b1 b2 < μ a1 a2 → W n b1 b2) → W (n + 1) a1 a2) (a1 : A1) (a2 : A2) (h : I a1 a2) : ∃ n, W n a1 a2 :=
  loop_m (σ := A1 × A2) (fun n s => W n s.1 s.2) (fun s => I s.1 s.2) (fun s => μ s.1 s.2) (fun n s hI hk => hs n s.1 s.2 hI (fun b1 b2 h9 hm => hk (b1, b2) h9 hm)) (a1, a2) h
theorem lp3 {A1 A2 A3 : Type} (W : Nat → A1 → A2 → A3 → Prop) (I : A1 → A2 → A3 → Prop) (μ : A1 → A2 → A3 → Nat) (hs : ∀ (n : Nat) (a1 : A1) (a2 : A2) (a3 : A3), I a1 a2 a3 → (∀ (b1 : A1) (b2 : A2) (b3 : A3), I b1 b2 b3 → μ b1 b2 b3 < μ a1 a2 a3 → W n b1 b2 b3) → W (n + 1) a1 a2 a3) (a1 : A1) (a2 : A2) (a3 : A3) (h : I a1 a2 a3) : ∃ n, W n a1 a2 a3 :=
  loop_m (σ := A1 × A2 × A3) (fun n s => W n s.1 s.2.1 s.2.2) (fun s => I s.1 s.2.1 s.2.2) (fun s => μ s.1 s.2.1 s.2.2) (fun n s hI hk => hs n s.1 s.2.1 s.2.2 hI (fun b1 b2 b3 h9 hm => hk (b1, b2, b3) h9 hm)) (a1, a2, a3) h
theorem lp4 {A1 A2 A3 A4 : Type} (W : Nat → A1 → A2 → A3 → A4 → Prop) (I : A1 → A2 → A3 → A4 → Prop) (μ : A1 → A2 → A3 → A4 → Nat) (hs : ∀ (n : Nat) (a1 : A1) (a2 : A2) (a3 : A3) (a4 : A4), I a1 a2 a3 a4 → (∀ (b1 : A1) (b2 : A2) (b3 : A3) (b4 : A4), I b1 b2 b3 b4 → μ b1 b2 b3 b4 < μ a1 a2 a3 a4 → W n b1 b2 b3 b4) → W (n + 1) a1 a2 a3 a4) (a1 : A1) (a2 : A2) (a3 : A3) (a4 : A4) (h : I a1 a2 a3 a4) : ∃ n, W n a1 a2 a3 a4 :=
  loop_m (σ := A1 × A2 × A3 × A4) (fun n s => W n s.1 s.2.1 s.2.2.1 s.2.2.2) (fun s => I s.1 s.2.1 s.2.2.1 s.2.2.2) (fun s => μ s.1 s.2.1 s.2.2.1 s.2.2.2) (fun n s hI hk => hs n s.1 s.2.1 s.2.2.1 s.2.2.2 hI (fun b1 b2 b3 b4 h9 hm => hk (b1, b2, b3, b4) h9 hm)) (a1, a2, a3, a4) h
theorem lp5 {A1 A2 A3 A4 A5 : Type} (W : Nat → A1 → A2 → A3 → A4 → A5 → Prop) (I : A1 → A2 → A3 → A4 → A5 → Prop) (μ : A1 → A2 → A3 → A4 → A5 → Nat) (hs : ∀ (n : Nat) (a1 : A1) (a2 : A2) (a3 : A3) (a4 : A4) (a5 : A5), I a1 a2 a3 a4 a5 → (∀ (b1 : A1) (b2 : A2) (b3 : A3) (b4 : A4) (b5 : A5), I b1 b2 b3 b4 b5 → μ b1 b2 b3 b4 b5 < μ a1 a2 a3 a4 a5 → W n b1 b2 b3 b4 b5) → W (n + 1) a1 a2 a3 a4 a5) (a1 : A1) (a2 : A2) (a3 : A3) (a4 : A4) (a5 : A5) (h : I a1 a2 a3 a4 a5) : ∃ n, W n a1 a2 a3 a4 a5 :=
  loop_m (σ := A1 × A2 × A3 × A4 × A5) (fun n s => W n s.1 s.2.1 s.2.2.1 s.2.2.2.1 s.2.2.2.2) (fun s => I s.1 s.2.1 s.2.2.1 s.2.2.2.1 s.2.2.2.2) (fun s => μ s.1 s.2.1 s.2.2.1 s.2.2.2.1 s.2.2.2.2) (fun n s hI hk => hs n s.1 s.2.1 s.2.2.1 s.2.2.2.1 s.2.2.2.2 hI (fun b1 b2 b3 b4 b5 h9 hm => hk (b1, b2, b3, b4, b5) h9 hm)) (a1, a2, a3, a4, a5) h
theorem lp6 {A1 A2 A3 A4 A5 A6 : Type} (W : Nat → A1 → A2 → A3 → A4 → A5 → A6 → Prop) (I : A1 → A2 → A3 → A4 → A5 → A6 → Prop) (μ : A1 → A2 → A3 → A4 → A5 → A6 → Nat) (hs : ∀ (n : Nat) (a1 : A1) (a2 : A2) (a3 : A3) (a4 : A4) (a5 : A5) (a6 : A6), I a1 a2 a3 a4 a5 a6 → (∀ (b1 : A1) (b2 : A2) (b3 : A3) (b4 : A4) (b5 : A5) (b6 : A6), I b1 b2 b3 b4 b5 b6 → μ b1 b2 b3 b4 b5 b6 < μ a1 a2 a3 a4 a5 a6 → W n b1 b2 b3 b4 b5 b6) → W (n + 1) a1 a2 a3 a4 a5 a6) (a1 : A1) (a2 : A2) (a3 : A3) (a4 : A4) (a5 : A5) (a6 : A6) (h : I a1 a2 a3 a4 a5 a6) : ∃ n, W n a1 a2 a3 a4 a5 a6 :=
  loop_m (σ := A1 × A2 × A3 × A4 × A5 × A6) (fun n s => W n s.1 s.2.1 s.2.2.1 s.2.2.2.1 s.2.2.2.2.1 s.2.2.2.2.2) (fun s => I s.1 s.2.1 s.2.2.1 s.2.2.2.1 s.2.2.2.2.1 s.2.2.2.2.2) (fun s => μ s.1 s.2.1 s.2.2.1 s.2.2.2.1 s.2.2.2.2.1 s.2.2.2.2.2) (fun n s hI hk => hs n s.1 s.2.1 s.2.2.1 s.2.2.2.1 s.2.2.2.2.1 s.2.2.2.2.2 hI (fun b1 b2 b3 b4 b5 b6 h9 hm => hk (b1, b2, b3, b4, b5, b6) h9 hm)) (a1, a2, a3, a4, a5, a6) h
theorem lp7 {A1 A2 A3 A4 A5 A6 A7 : Type} (W : Nat → A1 → A2 → A3 → A4 → A5 → A6 → A7 → Prop) (I : A1 → A2 → A3 → A4 → A5 → A6 → A7 → Prop) (μ : A1 → A2 → A3 → A4 → A5 → A6 → A7 → Nat) (hs : ∀ (n : Nat) (a1 : A1) (a2 : A2) (a3 : A3) (a4 : A4) (a5 : A5) (a6 : A6) (a7 : A7), I a1 a2 a3 a4 a5 a6 a7 → (∀ (b1 : A1) (b2 : A2) (b3 : A3) (b4 : A4) (b5 : A5) (b6 : A6) (b7 : A7), I b1 b2 b3 b4 b5 b6 b7 → μ b1 b2 b3 b4 b5 b6 b7 < μ a1 a2 a3 a4 a5 a6 a7 → W n b1 b2 b3 b4 b5 b6 b7) → W (n + 1) a1 a2 a3 a4 a5 a6 a7) (a1 : A1) (a2 : A2) (a3 : A3) (a4 : A4) (a5 : A5) (a6 : A6) (a7 : A7) (h : I a1 a2 a3 a4 a5 a6 a7) : ∃ n, W n a1 a2 a3 a4 a5 a6 a7 :=
  loop_m (σ := A1 × A2 × A3 × A4 × A5 × A6 × A7) (fun n s => W n s.1 s.2.1 s.2.2.1 s.2.2.2.1 s.2.2.2.2.1 s.2.2.2.2.2.1 s.2.2.2.2.2.2) (fun s => I s.1 s.2.1 s.2.2.1 s.2.2.2.1 s.2.2.2.2.1 s.2.2.2.2.2.1 s.2.2.2.2.2.2) (fun s => μ s.1 s.2.1 s.2.2.1 s.2.2.2.1 s.2.2.2.2.1 s.2.2.2.2.2.1 s.2.2.2.2.2.2) (fun n s hI hk => hs n s.1 s.2.1 s.2.2.1 s.2.2.2.1 s.2.2.2.2.1 s.2.2.2.2.2.1 s.2.2.2.2.2.2 hI (fun b1 b2 b3 b4 b5 b6 b7 h9 hm => hk (b1, b2, b3, b4, b5, b6, b7) h9 hm)) (a1, a2, a3, a4, a5, a6, a7) h
theorem lp8 {A1 A2 A3 A4 A5 A6 A7 A8 : Type} (W : Nat → A1 → A2 → A3 → A4 → A5 → A6 → A7 → A8 → Prop) (I : A1 → A2 → A3 → A4 → A5 → A6 → A7 → A8 → Prop) (μ : A1 → A2 → A3 → A4 → A5 → A6 → A7 → A8 → Nat) (hs : ∀ (n : Nat) (a1 : A1) (a2 : A2) (a3 : A3) (a4 : A4) (a5 : A5) (a6 : A6) (a7 : A7) (a8 : A8), I a1 a2 a3 a4 a5 a6 a7 a8 → (∀ (b1 : A1) (b2 : A2) (b3 : A3) (b4 : A4) (b5 : A5) (b6 : A6) (b7 : A7) (b8 : A8), I b1 b2 b3 b4 b5 b6 b7 b8 → μ b1 b2 b3 b4 b5 b6 b7 b8 < μ a1 a2 a3 a4 a5 a6 a7 a8 → W n b1 b2 b3 b4 b5 b6 b7 b8) → W (n + 1) a1 a2 a3 a4 a5 a6 a7 a8) (a1 : A1) (a2 : A2) (a3 : A3) (a4 : A4) (a5 : A5) (a6 : A6) (a7 : A7) (a8 : A8) (h : I a1 a2 a3 a4 a5 a6 a7 a8) : ∃ n, W n a1 a2 a3 a4 a5 a6 a7 a8 :=
  loop_m (σ := A1 × A2 × A3 × A4 × A5 × A6 × A7 × A8) (fun n s => W n s.1 s.2.1 s.2.2.1 s.2.2.2.1 s.2.2.2.2.1 s.2.2.2.2.2.1 s.2.2.2.2.2.2.1 s.2.2.2.2.2.2.2) (fun s => I s.1 s.2.1 s.2.2.1 s.2.2.2.1 s.2.2.2.2.1 s.2.2.2.2.2.1 s.2.2.2.2.2.2.1 s.2.2.2.2.2.2.2) (fun s => μ s.1 s.2.1 s.2.2.1 s.2.2.2.1 s.2.2.2.2.1 s.2.2.2.2.2.1 s.2.2.2.2.2.2.1 s.2.2.2.2.2.2.2) (fun n s hI hk => hs n s.1 s.2.1 s.2.2.1 s.2.2.2.1 s.2.2.2.2.1 s.2.2.2.2.2.1 s.2.2.2.2.2.2.1 s.2.2.2.2.2.2.2 hI (fun b1 b2 b3 b4 b5 b6 b7 b8 h9 hm => hk (b1, b2, b3, b4, b5, b6, b7, b8) h9 hm)) (a1, a2, a3, a4, a5, a6, a7, a8) h
theorem lp9 {A1 A2 A3 A4 A5 A6 A7 A8 A9 : Type} (W : Nat → A1 → A2 → A3 → A4 → A5 → A6 → A7 → A8 → A9 → Prop) (I : A1 → A2 → A3 → A4 → A5 → A6 → A7 → A8 → A9 → Prop) (μ : A1 → A2 → A3 → A4 → A5 → A6 → A7 → A8 → A9 → Nat) (hs : ∀ (n : Nat) (a1 : A1) (a2 : A2) (a3 : A3) (a4 : A4) (a5 : A5) (a6 : A6) (a7 : A7) (a8 : A8) (a9 : A9), I a1 a2 a3 a4 a5 a6 a7 a8 a9 → (∀ (b1 : A1) (b2 : A2) (b3 : A3) (b4 : A4) (b5 : A5) (b6 : A6) (b7 : A7) (b8 : A8) (b9 : A9), I b1 b2 b3 b4 b5 b6 b7 b8 b9 → μ b1 b2 b3 b4 b5 b6 b7 b8 b9 < μ a1 a2 a3 a4 a5 a6 a7 a8 a9 → W n b1 b2 b3 b4 b5 b6 b7 b8 b9) → W (n + 1) a1 a2 a3 a4 a5 a6 a7 a8 a9) (a1 : A1) (a2 : A2) (a3 : A3) (a4 : A4) (a5 : A5) (a6 : A6) (a7 : A7) (a8 : A8) (a9 : A9) (h : I a1 a2 a3 a4 a5 a6 a7 a8 a9) : ∃ n, W n a1 a2 a3 a4 a5 a6 a7 a8 a9 :=
  loop_m (σ := A1 × A2 × A3 × A4 × A5 × A6 × A7 × A8 × A9) (fun n s => W n s.1 s.2.1 s.2.2.1 s.2.2.2.1 s.2.2.2.2.1 s.2.2.2.2.2.1 s.2.2.2.2.2.2.1 s.2.2.2.2.2.2.2.1 s.2.2.2.2.2.2.2.2) (fun s => I s.1 s.2.1 s.2.2.1 s.2.2.2.1 s.2.2.2.2.1 s.2.2.2.2.2.1 s.2.2.2.2.2.2.1 s.2.2.2.2.2.2.2.1 s.2.2.2.2.2.2.2.2) (fun s => μ s.1 s.2.1 s.2.2.1 s.2.2.2.1 s.2.2.2.2.1 s.2.2.2.2.2.1 s.2.2.2.2.2.2.1 s.2.2.2.2.2.2.2.1 s.2.2.2.2.2.2.2.2) (fun n s hI hk => hs n s.1 s.2.1 s.2.2.1 s.2.2.2.1 s.2.2.2.2.1 s.2.2.2.2.2.1 s.2.2.2.2.2.2.1 s.2.2.2.2.2.2.2.1 s.2.2.2.2.2.2.2.2 hI (fun b1 b2 b3 b4 b5 b6 b7 b8 b9 h9 hm => hk (b1, b2, b3, b4, b5, b6, b7, b8, b9) h9 hm)) (a1, a2, a3, a4, a5, a6, a7, a8, a9) h
theorem lp10 {A1 A2 A3 A4 A5 A6 A7 A8 A9 A10 : Type} (W : Nat → A1 → A2 → A3 → A4 → A5 → A6 → A7 → A8 → A9 → A10 → Prop) (I : A1 → A2 → A3 → A4 → A5 → A6 → A7 → A8 → A9 → A10 → Prop) (μ : A1 → A2 → A3 → A4 → A5 → A6 → A7 → A8 → A9 → A10 → Nat) (hs : ∀ (n : Nat) (a1 : A1) (a2 : A2) (a3 : A3) (a4 : A4) (a5 : A5) (a6 : A6) (a7 : A7) (a8 : A8) (a9 : A9) (a10 : A10), I a1 a2 a3 a4 a5 a6 a7 a8 a9 a10 → (∀ (b1 : A1) (b2 : A2) (b3 : A3) (b4 : A4) (b5 : A5) (b6 : A6) (b7 : A7) (b8 : A8) (b9 : A9) (b10 : A10), I b1 b2 b3 b4 b5 b6 b7 b8 b9 b10 → μ b1 b2 b3 b4 b5 b6 b7 b8 b9 b10 < μ a1 a2 a3 a4 a5 a6 a7 a8 a9 a10 → W n b1 b2 b3 b4 b5 b6 b7 b8 b9 b10) → W (n + 1) a1 a2 a3 a4 a5 a6 a7 a8 a9 a10) (a1 : A1) (a2 : A2) (a3 : A3) (a4 : A4) (a5 : A5) (a6 : A6) (a7 : A7) (a8 : A8) (a9 : A9) (a10 : A10) (h : I a1 a2 a3 a4 a5 a6 a7 a8 a9 a10) : ∃ n, W n a1 a2 a3 a4 a5 a6 a7 a8 a9 a10 :=
  loop_m (σ := A1 × A2 × A3 × A4 × A5 × A6 × A7 × A8 × A9 × A10) (fun n s => W n s.1 s.2.1 s.2.2.1 s.2.2.2.1 s.2.2.2.2.1 s.2.2.2.2.2.1 s.2.2.2.2.2.2.1 s.2.2.2.2.2.2.2.1 s.2.2.2.2.2.2.2.2.1 s.2.2.2.2.2.2.2.2.2) (fun s => I s.1 s.2.1 s.2.2.1 s.2.2.2.1 s.2.2.2.2.1 s.2.2.2.2.2.1 s.2.2.2.2.2.2.1 s.2.2.2.2.2.2.2.1 s.2.2.2.2.2.2.2.2.1 s.2.2.2.2.2.2.2.2.2) (fun s => μ s.1 s.2.1 s.2.2.1 s.2.2.2.1 s.2.2.2.2.1 s.2.2.2.2.2.1 s.2.2.2.2.2.2.1 s.2.2.2.2.2.2.2.1 s.2.2.2.2.2.2.2.2.1 s.2.2.2.2.2.2.2.2.2) (fun n s hI hk => hs n s.1 s.2.1 s.2.2.1 s.2.2.2.1 s.2.2.2.2.1 s.2.2.2.2.2.1 s.2.2.2.2.2.2.1 s.2.2.2.2.2.2.2.1 s.2.2.2.2.2.2.2.2.1 s.2.2.2.2.2.2.2.2.2 hI (fun b1 b2 b3 b4 b5 b6 b7 b8 b9 b10 h9 hm => hk (b1, b2, b3, b4, b5, b6, b7, b8, b9, b10) h9 hm)) (a1, a2, a3, a4, a5, a6, a7, a8, a9, a10) h
theorem lp11 {A1 A2 A3 A4 A5 A6 A7 A8 A9 A10 A11 : Type} (W : Nat → A1 → A2 → A3 → A4 → A5 → A6 → A7 → A8 → A9 → A10 → A11 → Prop) (I : A1 → A2 → A3 → A4 → A5 → A6 → A7 → A8 → A9 → A10 → A11 → Prop) (μ : A1 → A2 → A3 → A4 → A5 → A6 → A7 → A8 → A9 → A10 → A11 → Nat) (hs : ∀ (n : Nat) (a1 : A1) (a2 : A2) (a3 : A3) (a4 : A4) (a5 : A5) (a6 : A6) (a7 : A7) (a8 : A8) (a9 : A9) (a10 : A10) (a11 : A11), I a1 a2 a3 a4 a5 a6 a7 a8 a9 a10 a11 → (∀ (b1 : A1) (b2 : A2) (b3 : A3) (b4 : A4) (b5 : A5) (b6 : A6) (b7 : A7) (b8 : A8) (b9 : A9) (b10 : A10) (b11 : A11), I b1 b2 b3 b4 b5 b6 b7 b8 b9 b10 b11 → μ b1 b2 b3 b4 b5 b6 b7 b8 b9 b10 b11 < μ a1 a2 a3 a4 a5 a6 a7 a8 a9 a10 a11 → W n b1 b2 b3 b4 b5 b6 b7 b8 b9 b10 b11) → W (n + 1) a1 a2 a3 a4 a5 a6 a7 a8 a9 a10 a11) (a1 : A1) (a2 : A2) (a3 : A3) (a4 : A4) (a5 : A5) (a6 : A6) (a7 : A7) (a8 : A8) (a9 : A9) (a10 : A10) (a11 : A11) (h : I a1 a2 a3 a4 a5 a6 a7 a8 a9 a10 a11) : ∃ n, W n a1 a2 a3 a4 a5 a6 a7 a8 a9 a10 a11 :=
  loop_m (σ := A1 × A2 × A3 × A4 × A5 × A6 × A7 × A8 × A9 × A10 × A11) (fun n s => W n s.1 s.2.1 s.2.2.1 s.2.2.2.1 s.2.2.2.2.1 s.2.2.2.2.2.1 s.2.2.2.2.2.2.1 s.2.2.2.2.2.2.2.1 s.2.2.2.2.2.2.2.2.1 s.2.2.2.2.2.2.2.2.2.1 s.2.2.2.2.2.2.2.2.2.2) (fun s => I s.1 s.2.1 s.2.2.1 s.2.2.2.1 s.2.2.2.2.1 s.2.2.2.2.2.1 s.2.2.2.2.2.2.1 s.2.2.2.2.2.2.2.1 s.2.2.2.2.2.2.2.2.1 s.2.2.2.2.2.2.2.2.2.1 s.2.2.2.2.2.2.2.2.2.2) (fun s => μ s.1 s.2.1 s.2.2.1 s.2.2.2.1 s.2.2.2.2.1 s.2.2.2.2.2.1 s.2.2.2.2.2.2.1 s.2.2.2.2.2.2.2.1 s.2.2.2.2.2.2.2.2.1 s.2.2.2.2.2.2.2.2.2.1 s.2.2.2.2.2.2.2.2.2.2) (fun n s hI hk => hs n s.1 s.2.1 s.2.2.1 s.2.2.2.1 s.2.2.2.2.1 s.2.2.2.2.2.1 s.2.2.2.2.2.2.1 s.2.2.2.2.2.2.2.1 s.2.2.2.2.2.2.2.2.1 s.2.2.2.2.2.2.2.2.2.1 s.2.2.2.2.2.2.2.2.2.2 hI (fun b1 b2 b3 b4 b5 b6 b7 b8 b9 b10 b11 h9 hm => hk (b1, b2, b3, b4, b5, b6, b7, b8, b9, b10, b11) h9 hm)) (a1, a2, a3, a4, a5, a6, a7, a8, a9, a10, a11) h
theorem lp12 {A1 A2 A3 A4 A5 A6 A7 A8 A9 A10 A11 A12 : Type} (W : Nat → A1 → A2 → A3 → A4 → A5 → A6 → A7 → A8 → A9 → A10 → A11 → A12 → Prop) (I : A1 → A2 → A3 → A4 → A5 → A6 → A7 → A8 → A9 → A10 → A11 → A12 → Prop) (μ : A1 → A2 → A3 → A4 → A5 → A6 → A7 → A8 → A9 → A10 → A11 → A12 → Nat) (hs : ∀ (n : Nat) (a1 : A1) (a2 : A2) (a3 : A3) (a4 : A4) (a5 : A5) (a6 : A6) (a7 : A7) (a8 : A8) (a9 : A9) (a10 : A10) (a11 : A11) (a12 : A12), I a1 a2 a3 a4 a5 a6 a7 a8 a9 a10 a11 a12 → (∀ (b1 : A1) (b2 : A2) (b3 : A3) (b4 : A4) (b5 : A5) (b6 : A6) (b7 : A7) (b8 : A8) (b9 : A9) (b10 : A10) (b11 : A11) (b12 : A12), I b1 b2 b3 b4 b5 b6 b7 b8 b9 b10 b11 b12 → μ b1 b2 b3 b4 b5 b6 b7 b8 b9 b10 b11 b12 < μ a1 a2 a3 a4 a5 a6 a7 a8 a9 a10 a11 a12 → W n b1 b2 b3 b4 b5 b6 b7 b8 b9 b10 b11 b12) → W (n + 1) a1 a2 a3 a4 a5 a6 a7 a8 a9 a10 a11 a12) (a1 : A1) (a2 : A2) (a3 : A3) (a4 : A4) (a5 : A5) (a6 : A6) (a7 : A7) (a8 : A8) (a9 : A9) (a10 : A10) (a11 : A11) (a12 : A12) (h : I a1 a2 a3 a4 a5 a6 a7 a8 a9 a10 a11 a12) : ∃ n, W n a1 a2 a3 a4 a5 a6 a7 a8 a9 a10 a11 a12 :=
  loop_m (σ := A1 × A2 × A3 × A4 × A5 × A6 × A7 × A8 × A9 × A10 × A11 × A12) (fun n s => W n s.1 s.2.1 s.2.2.1 s.2.2.2.1 s.2.2.2.2.1 s.2.2.2.2.2.1 s.2.2.2.2.2.2.1 s.2.2.2.2.2.2.2.1 s.2.2.2.2.2.2.2.2.1 s.2.2.2.2.2.2.2.2.2.1 s.2.2.2.2.2.2.2.2.2.2.1 s.2.2.2.2.2.2.2.2.2.2.2) (fun s => I s.1 s.2.1 s.2.2.1 s.2.2.2.1 s.2.2.2.2.1 s.2.2.2.2.2.1 s.2.2.2.2.2.2.1 s.2.2.2.2.2.2.2.1 s.2.2.2.2.2.2.2.2.1 s.2.2.2.2.2.2.2.2.2.1 s.2.2.2.2.2.2.2.2.2.2.1 s.2.2.2.2.2.2.2.2.2.2.2) (fun s => μ s.1 s.2.1 s.2.2.1 s.2.2.2.1 s.2.2.2.2.1 s.2.2.2.2.2.1 s.2.2.2.2.2.2.1 s.2.2.2.2.2.2.2.1 s.2.2.2.2.2.2.2.2.1 s.2.2.2.2.2.2.2.2.2.1 s.2.2.2.2.2.2.2.2.2.2.1 s.2.2.2.2.2.2.2.2.2.2.2) (fun n s hI hk => hs n s.1 s.2.1 s.2.2.1 s.2.2.2.1 s.2.2.2.2.1 s.2.2.2.2.2.1 s.2.2.2.2.2.2.1 s.2.2.2.2.2.2.2.1 s.2.2.2.2.2.2.2.2.1 s.2.2.2.2.2.2.2.2.2.1 s.2.2.2.2.2.2.2.2.2.2.1 s.2.2.2.2.2.2.2.2.2.2.2 hI (fun b1 b2 b3 b4 b5 b6 b7 b8 b9 b10 b11 b12 h9 hm => hk (b1, b2, b3, b4, b5, b6, b7, b8, b9, b10, b11, b12) h9 hm)) (a1, a2, a3, a4, a5, a6, a7, a8, a9, a10, a11, a12) h
theorem lp13 {A1 A2 A3 A4 A5 A6 A7 A8 A9 A10 A11 A12 A13 : Type} (W : Nat → A1 → A2 → A3 → A4 → A5 → A6 → A7 → A8 → A9 → A10 → A11 → A12 → A13 → Prop) (I : A1 → A2 → A3 → A4 → A5 → A6 → A7 → A8 → A9 → A10 → A11 → A12 → A13 → Prop) (μ : A1 → A2 → A3 → A4 → A5 → A6 → A7 → A8 → A9 → A10 → A11 → A12 → A13 → Nat) (hs : ∀ (n : Nat) (a1 : A1) (a2 : A2) (a3 : A3) (a4 : A4) (a5 : A5) (a6 : A6) (a7 : A7) (a8 : A8) (a9 : A9) (a10 : A10) (a11 : A11) (a12 : A12) (a13 : A13), I a1 a2 a3 a4 a5 a6 a7 a8 a9 a10 a11 a12 a13 → (∀ (b1 : A1) (b2 : A2) (b3 : A3) (b4 : A4) (b5 : A5) (b6 : A6) (b7 : A7) (b8 : A8) (b9 : A9) (b10 : A10) (b11 : A11) (b12 : A12) (b13 : A13), I b1 b2 b3 b4 b5 b6 b7 b8 b9 b10 b11 b12 b13 → μ b1 b2 b3 b4 b5 b6 b7 b8 b9 b10 b11 b12 b13 < μ a1 a2 a3 a4 a5 a6 a7 a8 a9 a10 a11 a12 a13 → W n b1 b2 b3 b4 b5 b6 b7 b8 b9 b10 b11 b12 b13) → W (n + 1) a1 a2 a3 a4 a5 a6 a7 a8 a9 a10 a11 a12 a13) (a1 : A1) (a2 : A2) (a3 : A3) (a4 : A4) (a5 : A5) (a6 : A6) (a7 : A7) (a8 : A8) (a9 : A9) (a10 : A10) (a11 : A11) (a12 : A12) (a13 : A13) (h : I a1 a2 a3 a4 a5 a6 a7 a8 a9 a10 a11 a12 a13) : ∃ n, W n a1 a2 a3 a4 a5 a6 a7 a8 a9 a10 a11 a12 a13 :=
  loop_m (σ := A1 × A2 × A3 × A4 × A5 × A6 × A7 × A8 × A9 × A10 × A11 × A12 × A13) (fun n s => W n s.1 s.2.1 s.2.2.1 s.2.2.2.1 s.2.2.2.2.1 s.2.2.2.2.2.1 s.2.2.2.2.2.2.1 s.2.2.2.2.2.2.2.1 s.2.2.2.2.2.2.2.2.1 s.2.2.2.2.2.2.2.2.2.1 s.2.2.2.2.2.2.2.2.2.2.1 s.2.2.2.2.2.2.2.2.2.2.2.1 s.2.2.2.2.2.2.2.2.2.2.2.2) (fun s => I s.1 s.2.1 s.2.2.1 s.2.2.2.1 s.2.2.2.2.1 s.2.2.2.2.2.1 s.2.2.2.2.2.2.1 s.2.2.2.2.2.2.2.1 s.2.2.2.2.2.2.2.2.1 s.2.2.2.2.2.2.2.2.2.1 s.2.2.2.2.2.2.2.2.2.2.1 s.2.2.2.2.2.2.2.2.2.2.2.1 s.2.2.2.2.2.2.2.2.2.2.2.2) (fun s => μ s.1 s.2.1 s.2.2.1 s.2.2.2.1 s.2.2.2.2.1 s.2.2.2.2.2.1 s.2.2.2.2.2.2.1 s.2.2.2.2.2.2.2.1 s.2.2.2.2.2.2.2.2.1 s.2.2.2.2.2.2.2.2.2.1 s.2.2.2.2.2.2.2.2.2.2.1 s.2.2.2.2.2.2.2.2.2.2.2.1 s.2.2.2.2.2.2.2.2.2.2.2.2) (fun n s hI hk => hs n s.1 s.2.1 s.2.2.1 s.2.2.2.1 s.2.2.2.2.1 s.2.2.2.2.2.1 s.2.2.2.2.2.2.1 s.2.2.2.2.2.2.2.1 s.2.2.2.2.2.2.2.2.1 s.2.2.2.2.2.2.2.2.2.1 s.2.2.2.2.2.2.2.2.2.2.1 s.2.2.2.2.2.2.2.2.2.2.2.1 s.2.2.2.2.2.2.2.2.2.2.2.2 hI (fun b1 b2 b3 b4 b5 b6 b7 b8 b9 b10 b11 b12 b13 h9 hm => hk (b1, b2, b3, b4, b5, b6, b7, b8, b9, b10, b11, b12, b13) h9 hm)) (a1, a2, a3, a4, a5, a6, a7, a8, a9, a10, a11, a12, a13) h
theorem lp14 {A1 A2 A3 A4 A5 A6 A7 A8 A9 A10 A11 A12 A13 A14 : Type} (W : Nat → A1 → A2 → A3 → A4 → A5 → A6 → A7 → A8 → A9 → A10 → A11 → A12 → A13 → A14 → Prop) (I : A1 → A2 → A3 → A4 → A5 → A6 → A7 → A8 → A9 → A10 → A11 → A12 → A13 → A14 → Prop) (μ : A1 → A2 → A3 → A4 → A5 → A6 → A7 → A8 → A9 → A10 → A11 → A12 → A13 → A14 → Nat) (hs : ∀ (n : Nat) (a1 : A1) (a2 : A2) (a3 : A3) (a4 : A4) (a5 : A5) (a6 : A6) (a7 : A7) (a8 : A8) (a9 : A9) (a10 : A10) (a11 : A11) (a12 : A12) (a13 : A13) (a14 : A14), I a1 a2 a3 a4 a5 a6 a7 a8 a9 a10 a11 a12 a13 a14 → (∀ (b1 : A1) (b2 : A2) (b3 : A3) (b4 : A4) (b5 : A5) (b6 : A6) (b7 : A7) (b8 : A8) (b9 : A9) (b10 : A10) (b11 : A11) (b12 : A12) (b13 : A13) (b14 : A14), I b1 b2 b3 b4 b5 b6 b7 b8 b9 b10 b11 b12 b13 b14 → μ b1 b2 b3 b4 b5 b6 b7 b8 b9 b10 b11 b12 b13 b14 < μ a1 a2 a3 a4 a5 a6 a7 a8 a9 a10 a11 a12 a13 a14 → W n b1 b2 b3 b4 b5 b6 b7 b8 b9 b10 b11 b12 b13 b14) → W (n + 1) a1 a2 a3 a4 a5 a6 a7 a8 a9 a10 a11 a12 a13 a14) (a1 : A1) (a2 : A2) (a3 : A3) (a4 : A4) (a5 : A5) (a6 : A6) (a7 : A7) (a8 : A8) (a9 : A9) (a10 : A10) (a11 : A11) (a12 : A12) (a13 : A13) (a14 : A14) (h : I a1 a2 a3 a4 a5 a6 a7 a8 a9 a10 a11 a12 a13 a14) : ∃ n, W n a1 a2 a3 a4 a5 a6 a7 a8 a9 a10 a11 a12 a13 a14 :=
  loop_m (σ := A1 × A2 × A3 × A4 × A5 × A6 × A7 × A8 × A9 × A10 × A11 × A12 × A13 × A14) (fun n s => W n s.1 s.2.1 s.2.2.1 s.2.2.2.1 s.2.2.2.2.1 s.2.2.2.2.2.1 s.2.2.2.2.2.2.1 s.2.2.2.2.2.2.2.1 s.2.2.2.2.2.2.2.2.1 s.2.2.2.2.2.2.2.2.2.1 s.2.2.2.2.2.2.2.2.2.2.1 s.2.2.2.2.2.2.2.2.2.2.2.1 s.2.2.2.2.2.2.2.2.2.2.2.2.1 s.2.2.2.2.2.2.2.2.2.2.2.2.2) (fun s => I s.1 s.2.1 s.2.2.1 s.2.2.2.1 s.2.2.2.2.1 s.2.2.2.2.2.1 s.2.2.2.2.2.2.1 s.2.2.2.2.2.2.2.1 s.2.2.2.2.2.2.2.2.1 s.2.2.2.2.2.2.2.2.2.1 s.2.2.2.2.2.2.2.2.2.2.1 s.2.2.2.2.2.2.2.2.2.2.2.1 s.2.2.2.2.2.2.2.2.2.2.2.2.1 s.2.2.2.2.2.2.2.2.2.2.2.2.2) (fun s => μ s.1 s.2.1 s.2.2.1 s.2.2.2.1 s.2.2.2.2.1 s.2.2.2.2.2.1 s.2.2.2.2.2.2.1 s.2.2.2.2.2.2.2.1 s.2.2.2.2.2.2.2.2.1 s.2.2.2.2.2.2.2.2.2.1 s.2.2.2.2.2.2.2.2.2.2.1 s.2.2.2.2.2.2.2.2.2.2.2.1 s.2.2.2.2.2.2.2.2.2.2.2.2.1 s.2.2.2.2.2.2.2.2.2.2.2.2.2) (fun n s hI hk => hs n s.1 s.2.1 s.2.2.1 s.2.2.2.1 s.2.2.2.2.1 s.2.2.2.2.2.1 s.2.2.2.2.2.2.1 s.2.2.2.2.2.2.2.1 s.2.2.2.2.2.2.2.2.1 s.2.2.2.2.2.2.2.2.2.1 s.2.2.2.2.2.2.2.2.2.2.1 s.2.2.2.2.2.2.2.2.2.2.2.1 s.2.2.2.2.2.2.2.2.2.2.2.2.1 s.2.2.2.2.2.2.2.2.2.2.2.2.2 hI (fun b1 b2 b3 b4 b5 b6 b7 b8 b9 b10 b11 b12 b13 b14 h9 hm => hk (b1, b2, b3, b4, b5, b6, b7, b8, b9, b10, b11, b12, b13, b14) h9 hm)) (a1, a2, a3, a4, a5, a6, a7, a8, a9, a10, a11, a12, a13, a14) h
theorem lp15 {A1 A2 A3 A4 A5 A6 A7 A8 A9 A10 A11 A12 A13 A14 A15 : Type} (W : Nat → A1 → A2 → A3 → A4 → A5 → A6 → A7 → A8 → A9 → A10 → A11 → A12 → A13 → A14 → A15 → Prop) (I : A1 → A2 → A3 → A4 → A5 → A6 → A7 → A8 → A9 → A10 → A11 → A12 → A13 → A14 → A15 → Prop) (μ : A1 → A2 → A3 → A4 → A5 → A6 → A7 → A8 → A9 → A10 → A11 → A12 → A13 → A14 → A15 → Nat) (hs : ∀ (n : Nat) (a1 : A1) (a2 : A2) (a3 : A3) (a4 : A4) (a5 : A5) (a6 : A6) (a7 : A7) (a8 : A8) (a9 : A9) (a10 : A10) (a11 : A11) (a12 : A12) (a13 : A13) (a14 : A14) (a15 : A15), I a1 a2 a3 a4 a5 a6 a7 a8 a9 a10 a11 a12 a13 a14 a15 → (∀ (b1 : A1) (b2 : A2) (b3 : A3) (b4 : A4) (b5 : A5) (b6 : A6) (b7 : A7) (b8 : A8) (b9 : A9) (b10 : A10) (b11 : A11) (b12 : A12) (b13 : A13) (b14 : A14) (b15 : A15), I b1 b2 b3 b4 b5 b6 b7 b8 b9 b10 b11 b12 b13 b14 b15 → μ b1 b2 b3 b4 b5 b6 b7 b8 b9 b10 b11 b12 b13 b14 b15 < μ a1 a2 a3 a4 a5 a6 a7 a8 a9 a10 a11 a12 a13 a14 a15 → W n b1 b2 b3 b4 b5 b6 b7 b8 b9 b10 b11 b12 b13 b14 b15) → W (n + 1) a1 a2 a3 a4 a5 a6 a7 a8 a9 a10 a11 a12 a13 a14 a15) (a1 : A1) (a2 : A2) (a3 : A3) (a4 : A4) (a5 : A5) (a6 : A6) (a7 : A7) (a8 : A8) (a9 : A9) (a10 : A10) (a11 : A11) (a12 : A12) (a13 : A13) (a14 : A14) (a15 : A15) (h : I a1 a2 a3 a4 a5 a6 a7 a8 a9 a10 a11 a12 a13 a14 a15) : ∃ n, W n a1 a2 a3 a4 a5 a6 a7 a8 a9 a10 a11 a12 a13 a14 a15 :=
  loop_m (σ := A1 × A2 × A3 × A4 × A5 × A6 × A7 × A8 × A9 × A10 × A11 × A12 × A13 × A14 × A15) (fun n s => W n s.1 s.2.1 s.2.2.1 s.2.2.2.1 s.2.2.2.2.1 s.2.2.2.2.2.1 s.2.2.2.2.2.2.1 s.2.2.2.2.2.2.2.1 s.2.2.2.2.2.2.2.2.1 s.2.2.2.2.2.2.2.2.2.1 s.2.2.2.2.2.2.2.2.2.2.1 s.2.2.2.2.2.2.2.2.2.2.2.1 s.2.2.2.2.2.2.2.2.2.2.2.2.1 s.2.2.2.2.2.2.2.2.2.2.2.2.2.1 s.2.2.2.2.2.2.2.2.2.2.2.2.2.2) (fun s => I s.1 s.2.1 s.2.2.1 s.2.2.2.1 s.2.2.2.2.1 s.2.2.2.2.2.1 s.2.2.2.2.2.2.1 s.2.2.2.2.2.2.2.1 s.2.2.2.2.2.2.2.2.1 s.2.2.2.2.2.2.2.2.2.1 s.2.2.2.2.2.2.2.2.2.2.1 s.2.2.2.2.2.2.2.2.2.2.2.1 s.2.2.2.2.2.2.2.2.2.2.2.2.1 s.2.2.2.2.2.2.2.2.2.2.2.2.2.1 s.2.2.2.2.2.2.2.2.2.2.2.2.2.2) (fun s => μ s.1 s.2.1 s.2.2.1 s.2.2.2.1 s.2.2.2.2.1 s.2.2.2.2.2.1 s.2.2.2.2.2.2.1 s.2.2.2.2.2.2.2.1 s.2.2.2.2.2.2.2.2.1 s.2.2.2.2.2.2.2.2.2.1 s.2.2.2.2.2.2.2.2.2.2.1 s.2.2.2.2.2.2.2.2.2.2.2.1 s.2.2.2.2.2.2.2.2.2.2.2.2.1 s.2.2.2.2.2.2.2.2.2.2.2.2.2.1 s.2.2.2.2.2.2.2.2.2.2.2.2.2.2) (fun n s hI hk => hs n s.1 s.2.1 s.2.2.1 s.2.2.2.1 s.2.2.2.2.1 s.2.2.2.2.2.1 s.2.2.2.2.2.2.1 s.2.2.2.2.2.2.2.1 s.2.2.2.2.2.2.2.2.1 s.2.2.2.2.2.2.2.2.2.1 s.2.2.2.2.2.2.2.2.2.2.1 s.2.2.2.2.2.2.2.2.2.2.2.1 s.2.2.2.2.2.2.2.2.2.2.2.2.1 s.2.2.2.2.2.2.2.2.2.2.2.2.2.1 s.2.2.2.2.2.2.2.2.2.2.2.2.2.2 hI (fun b1 b2 b3 b4 b5 b6 b7 b8 b9 b10 b11 b12 b13 b14 b15 h9 hm => hk (b1, b2, b3, b4, b5, b6, b7, b8, b9, b10, b11, b12, b13, b14, b15) h9 hm)) (a1, a2, a3, a4, a5, a6, a7, a8, a9, a10, a11, a12, a13, a14, a15) h
theorem lp16 {A1 A2 A3 A4 A5 A6 A7 A8 A9 A10 A11 A12 A13 A14 A15 A16 : Type} (W : Nat → A1 → A2 → A3 → A4 → A5 → A6 → A7 → A8 → A9 → A10 → A11 → A12 → A13 → A14 → A15 → A16 → Prop) (I : A1 → A2 → A3 → A4 → A5 → A6 → A7 → A8 → A9 → A10 → A11 → A12 → A13 → A14 → A15 → A16 → Prop) (μ : A1 → A2 → A3 → A4 → A5 → A6 → A7 → A8 → A9 → A10 → A11 → A12 → A13 → A14 → A15 → A16 → Nat) (hs : ∀ (n : Nat) (a1 : A1) (a2 : A2) (a3 : A3) (a4 : A4) (a5 : A5) (a6 : A6) (a7 : A7) (a8 : A8) (a9 : A9) (a10 : A10) (a11 : A11) (a12 : A12) (a13 : A13) (a14 : A14) (a15 : A15) (a16 : A16), I a1 a2 a3 a4 a5 a6 a7 a8 a9 a10 a11 a12 a13 a14 a15 a16 → (∀ (b1 : A1) (b2 : A2) (b3 : A3) (b4 : A4) (b5 : A5) (b6 : A6) (b7 : A7) (b8 : A8) (b9 : A9) (b10 : A10) (b11 : A11) (b12 : A12) (b13 : A13) (b14 : A14) (b15 : A15) (b16 : A16), I b1 b2 b3 b4 b5 b6 b7 b8 b9 b10 b11 b12 b13 b14 b15 b16 → μ b1 b2 b3 b4 b5 b6 b7 b8 b9 b10 b11 b12 b13 b14 b15 b16 < μ a1 a2 a3 a4 a5 a6 a7 a8 a9 a10 a11 a12 a13 a14 a15 a16 → W n b1 b2 b3 b4 b5 b6 b7 b8 b9 b10 b11 b12 b13 b14 b15 b16) → W (n + 1) a1 a2 a3 a4 a5 a6 a7 a8 a9 a10 a11 a12 a13 a14 a15 a16) (a1 : A1) (a2 : A2) (a3 : A3) (a4 : A4) (a5 : A5) (a6 : A6) (a7 : A7) (a8 : A8) (a9 : A9) (a10 : A10) (a11 : A11) (a12 : A12) (a13 : A13) (a14 : A14) (a15 : A15) (a16 : A16) (h : I a1 a2 a3 a4 a5 a6 a7 a8 a9 a10 a11 a12 a13 a14 a15 a16) : ∃ n, W n a1 a2 a3 a4 a5 a6 a7 a8 a9 a10 a11 a12 a13 a14 a15 a16 :=
  loop_m (σ := A1 × A2 × A3 × A4 × A5 × A6 × A7 × A8 × A9 × A10 × A11 × A12 × A13 × A14 × A15 × A16) (fun n s => W n s.1 s.2.1 s.2.2.1 s.2.2.2.1 s.2.2.2.2.1 s.2.2.2.2.2.1 s.2.2.2.2.2.2.1 s.2.2.2.2.2.2.2.1 s.2.2.2.2.2.2.2.2.1 s.2.2.2.2.2.2.2.2.2.1 s.2.2.2.2.2.2.2.2.2.2.1 s.2.2.2.2.2.2.2.2.2.2.2.1 s.2.2.2.2.2.2.2.2.2.2.2.2.1 s.2.2.2.2.2.2.2.2.2.2.2.2.2.1 s.2.2.2.2.2.2.2.2.2.2.2.2.2.2.1 s.2.2.2.2.2.2.2.2.2.2.2.2.2.2.2) (fun s => I s.1 s.2.1 s.2.2.1 s.2.2.2.1 s.2.2.2.2.1 s.2.2.2.2.2.1 s.2.2.2.2.2.2.1 s.2.2.2.2.2.2.2.1 s.2.2.2.2.2.2.2.2.1 s.2.2.2.2.2.2.2.2.2.1 s.2.2.2.2.2.2.2.2.2.2.1 s.2.2.2.2.2.2.2.2.2.2.2.1 s.2.2.2.2.2.2.2.2.2.2.2.2.1 s.2.2.2.2.2.2.2.2.2.2.2.2.2.1 s.2.2.2.2.2.2.2.2.2.2.2.2.2.2.1 s.2.2.2.2.2.2.2.2.2.2.2.2.2.2.2) (fun s => μ s.1 s.2.1 s.2.2.1 s.2.2.2.1 s.2.2.2.2.1 s.2.2.2.2.2.1 s.2.2.2.2.2.2.1 s.2.2.2.2.2.2.2.1 s.2.2.2.2.2.2.2.2.1 s.2.2.2.2.2.2.2.2.2.1 s.2.2.2.2.2.2.2.2.2.2.1 s.2.2.2.2.2.2.2.2.2.2.2.1 s.2.2.2.2.2.2.2.2.2.2.2.2.1 s.2.2.2.2.2.2.2.2.2.2.2.2.2.1 s.2.2.2.2.2.2.2.2.2.2.2.2.2.2.1 s.2.2.2.2.2.2.2.2.2.2.2.2.2.2.2) (fun n s hI hk => hs n s.1 s.2.1 s.2.2.1 s.2.2.2.1 s.2.2.2.2.1 s.2.2.2.2.2.1 s.2.2.2.2.2.2.1 s.2.2.2.2.2.2.2.1 s.2.2.2.2.2.2.2.2.1 s.2.2.2.2.2.2.2.2.2.1 s.2.2.2.2.2.2.2.2.2.2.1 s.2.2.2.2.2.2.2.2.2.2.2.1 s.2.2.2.2.2.2.2.2.2.2.2.2.1 s.2.2.2.2.2.2.2.2.2.2.2.2.2.1 s.2.2.2.2.2.2.2.2.2.2.2.2.2.2.1 s.2.2.2.2.2.2.2.2.2.2.2.2.2.2.2 hI (fun b1 b2 b3 b4 b5 b6 b7 b8 b9 b10 b11 b12 b13 b14 b15 b16 h9 hm => hk (b1, b2, b3, b4, b5, b6, b7, b8, b9, b10, b11, b12, b13, b14, b15, b16) h9 hm)) (a1, a2, a3, a4, a5, a6, a7, a8, a9, a10, a11, a12, a13, a14, a15, a16) h
theorem pk_least (P : Nat → Prop) (h : ∃ k, P k) : ∃ k, P k ∧ ∀ j, j < k → ¬ P j := by
  obtain ⟨k, hk⟩ := h
  induction k using Nat.strongRecOn with
  | ind k ih =>
    by_cases e : ∃ j, j < k ∧ P j
    · obtain ⟨j, hj, pj⟩ := e
      exact ih j hj pj
    · exact ⟨k, hk, fun j hj pj => e ⟨j, hj, pj⟩⟩
theorem rp1 {ρ A1 : Type} (W : Nat → (ρ → Prop) → A1 → Prop) (ok : A1 → Prop) (μ : A1 → Nat) (val : A1 → ρ)
    (hs : ∀ (d : Nat) (post : ρ → Prop) (a1 : A1), ok a1 → post (val a1) → (∀ (post' : ρ → Prop) (b1 : A1), ok b1 → μ b1 < μ a1 → post' (val b1) → W d post' b1) → W (d + 1) post a1) :
    ∀ (d : Nat) (post : ρ → Prop) (a1 : A1), ok a1 → μ a1 < d → post (val a1) → W d post a1 := by
  intro d
  induction d with
  | zero => intro post a1 _ h; omega
  | succ d ih =>
    intro post a1 ho hm hp
    exact hs d post a1 ho hp (fun post' b1 ho' hm' hp' => ih post' b1 ho' (by omega) hp')
theorem rp2 {ρ A1 A2 : Type} (W : Nat → (ρ → Prop) → A1 → A2 → Prop) (ok : A1 → A2 → Prop) (μ : A1 → A2 → Nat) (val : A1 → A2 → ρ)
    (hs : ∀ (d : Nat) (post : ρ → Prop) (a1 : A1) (a2 : A2), ok a1 a2 → post (val a1 a2) → (∀ (post' : ρ → Prop) (b1 : A1) (b2 : A2), ok b1 b2 → μ b1 b2 < μ a1 a2 → post' (val b1 b2) → W d post' b1 b2) → W (d + 1) post a1 a2) :
    ∀ (d : Nat) (post : ρ → Prop) (a1 : A1) (a2 : A2), ok a1 a2 → μ a1 a2 < d → post (val a1 a2) → W d post a1 a2 := by
  intro d
  induction d with
  | zero => intro post a1 a2 _ h; omega
  | succ d ih =>
    intro post a1 a2 ho hm hp
    exact hs d post a1 a2 ho hp (fun post' b1 b2 ho' hm' hp' => ih post' b1 b2 ho' (by omega) hp')
theorem rp3 {ρ A1 A2 A3 : Type} (W : Nat → (ρ → Prop) → A1 → A2 → A3 → Prop) (ok : A1 → A2 → A3 → Prop) (μ : A1 → A2 → A3 → Nat) (val : A1 → A2 → A3 → ρ)
    (hs : ∀ (d : Nat) (post : ρ → Prop) (a1 : A1) (a2 : A2) (a3 : A3), ok a1 a2 a3 → post (val a1 a2 a3) → (∀ (post' : ρ → Prop) (b1 : A1) (b2 : A2) (b3 : A3), ok b1 b2 b3 → μ b1 b2 b3 < μ a1 a2 a3 → post' (val b1 b2 b3) → W d post' b1 b2 b3) → W (d + 1) post a1 a2 a3) :
    ∀ (d : Nat) (post : ρ → Prop) (a1 : A1) (a2 : A2) (a3 : A3), ok a1 a2 a3 → μ a1 a2 a3 < d → post (val a1 a2 a3) → W d post a1 a2 a3 := by
  intro d
  induction d with
  | zero => intro post a1 a2 a3 _ h; omega
  | succ d ih =>
    intro post a1 a2 a3 ho hm hp
    exact hs d post a1 a2 a3 ho hp (fun post' b1 b2 b3 ho' hm' hp' => ih post' b1 b2 b3 ho' (by omega) hp')
theorem rp4 {ρ A1 A2 A3 A4 : Type} (W : Nat → (ρ → Prop) → A1 → A2 → A3 → A4 → Prop) (ok : A1 → A2 → A3 → A4 → Prop) (μ : A1 → A2 → A3 → A4 → Nat) (val : A1 → A2 → A3 → A4 → ρ)
    (hs : ∀ (d : Nat) (post : ρ → Prop) (a1 : A1) (a2 : A2) (a3 : A3) (a4 : A4), ok a1 a2 a3 a4 → post (val a1 a2 a3 a4) → (∀ (post' : ρ → Prop) (b1 : A1) (b2 : A2) (b3 : A3) (b4 : A4), ok b1 b2 b3 b4 → μ b1 b2 b3 b4 < μ a1 a2 a3 a4 → post' (val b1 b2 b3 b4) → W d post' b1 b2 b3 b4) → W (d + 1) post a1 a2 a3 a4) :
    ∀ (d : Nat) (post : ρ → Prop) (a1 : A1) (a2 : A2) (a3 : A3) (a4 : A4), ok a1 a2 a3 a4 → μ a1 a2 a3 a4 < d → post (val a1 a2 a3 a4) → W d post a1 a2 a3 a4 := by
  intro d
  induction d with
  | zero => intro post a1 a2 a3 a4 _ h; omega
  | succ d ih =>
    intro post a1 a2 a3 a4 ho hm hp
    exact hs d post a1 a2 a3 a4 ho hp (fun post' b1 b2 b3 b4 ho' hm' hp' => ih post' b1 b2 b3 b4 ho' (by omega) hp')
theorem rp5 {ρ A1 A2 A3 A4 A5 : Type} (W : Nat → (ρ → Prop) → A1 → A2 → A3 → A4 → A5 → Prop) (ok : A1 → A2 → A3 → A4 → A5 → Prop) (μ : A1 → A2 → A3 → A4 → A5 → Nat) (val : A1 → A2 → A3 → A4 → A5 → ρ)
    (hs : ∀ (d : Nat) (post : ρ → Prop) (a1 : A1) (a2 : A2) (a3 : A3) (a4 : A4) (a5 : A5), ok a1 a2 a3 a4 a5 → post (val a1 a2 a3 a4 a5) → (∀ (post' : ρ → Prop) (b1 : A1) (b2 : A2) (b3 : A3) (b4 : A4) (b5 : A5), ok b1 b2 b3 b4 b5 → μ b1 b2 b3 b4 b5 < μ a1 a2 a3 a4 a5 → post' (val b1 b2 b3 b4 b5) → W d post' b1 b2 b3 b4 b5) → W (d + 1) post a1 a2 a3 a4 a5) :
    ∀ (d : Nat) (post : ρ → Prop) (a1 : A1) (a2 : A2) (a3 : A3) (a4 : A4) (a5 : A5), ok a1 a2 a3 a4 a5 → μ a1 a2 a3 a4 a5 < d → post (val a1 a2 a3 a4 a5) → W d post a1 a2 a3 a4 a5 := by
  intro d
  induction d with
  | zero => intro post a1 a2 a3 a4 a5 _ h; omega
  | succ d ih =>
    intro post a1 a2 a3 a4 a5 ho hm hp
    exact hs d post a1 a2 a3 a4 a5 ho hp (fun post' b1 b2 b3 b4 b5 ho' hm' hp' => ih post' b1 b2 b3 b4 b5 ho' (by omega) hp')
theorem rp6 {ρ A1 A2 A3 A4 A5 A6 : Type} (W : Nat → (ρ → Prop) → A1 → A2 → A3 → A4 → A5 → A6 → Prop) (ok : A1 → A2 → A3 → A4 → A5 → A6 → Prop) (μ : A1 → A2 → A3 → A4 → A5 → A6 → Nat) (val : A1 → A2 → A3 → A4 → A5 → A6 → ρ)
    (hs : ∀ (d : Nat) (post : ρ → Prop) (a1 : A1) (a2 : A2) (a3 : A3) (a4 : A4) (a5 : A5) (a6 : A6), ok a1 a2 a3 a4 a5 a6 → post (val a1 a2 a3 a4 a5 a6) → (∀ (post' : ρ → Prop) (b1 : A1) (b2 : A2) (b3 : A3) (b4 : A4) (b5 : A5) (b6 : A6), ok b1 b2 b3 b4 b5 b6 → μ b1 b2 b3 b4 b5 b6 < μ a1 a2 a3 a4 a5 a6 → post' (val b1 b2 b3 b4 b5 b6) → W d post' b1 b2 b3 b4 b5 b6) → W (d + 1) post a1 a2 a3 a4 a5 a6) :
    ∀ (d : Nat) (post : ρ → Prop) (a1 : A1) (a2 : A2) (a3 : A3) (a4 : A4) (a5 : A5) (a6 : A6), ok a1 a2 a3 a4 a5 a6 → μ a1 a2 a3 a4 a5 a6 < d → post (val a1 a2 a3 a4 a5 a6) → W d post a1 a2 a3 a4 a5 a6 := by
  intro d
  induction d with
  | zero => intro post a1 a2 a3 a4 a5 a6 _ h; omega
  | succ d ih =>
    intro post a1 a2 a3 a4 a5 a6 ho hm hp
    exact hs d post a1 a2 a3 a4 a5 a6 ho hp (fun post' b1 b2 b3 b4 b5 b6 ho' hm' hp' => ih post' b1 b2 b3 b4 b5 b6 ho' (by omega) hp')
theorem rec_p {σ ρ : Type} (W : Nat → (ρ → Prop) → σ → Prop) (ok : σ → Prop) (μ : σ → Nat) (val : σ → ρ)
    (hs : ∀ d s post, ok s → post (val s) → (∀ s' post', ok s' → μ s' < μ s → post' (val s') → W d post' s') → W (d + 1) post s) :
    ∀ d s post, ok s → μ s < d → post (val s) → W d post s := by
  intro d
  induction d with
  | zero => intro s post _ h; omega
  | succ d ih =>
    intro s post ho hm hp
    exact hs d s post ho hp (fun s' post' ho' hm' hp' => ih s' post' ho' (by omega) hp')
theorem rec_q {σ ρ : Type} (W : Nat → (ρ → Prop) → σ → Prop) (ok : σ → Prop) (μ : σ → Nat) (Q : σ → ρ → Prop)
    (hs : ∀ d s post, ok s → (∀ r, Q s r → post r) → (∀ s' post', ok s' → μ s' < μ s → (∀ r, Q s' r → post' r) → W d post' s') → W (d + 1) post s) :
    ∀ d s post, ok s → μ s < d → (∀ r, Q s r → post r) → W d post s := by
  intro d
  induction d with
  | zero => intro s post _ h; omega
  | succ d ih =>
    intro s post ho hm hp
    exact hs d s post ho hp (fun s' post' ho' hm' hp' => ih s' post' ho' (by omega) hp')
def bx_sum (f : Nat → Int32) : Nat → Int32
  | 0 => 0
  | n + 1 => bx_sum f n + f n
theorem ek_u {A : Prop} {B : Nat → Prop} {k N : Nat} (hk : k < N) (h : B k) : (some k = none → A) ∧ (∀ y : Nat, some k = some y → (y < N ∧ B y)) :=
  ⟨fun z => absurd z (Option.some_ne_none k), fun _ e => (by cases e; exact ⟨hk, h⟩)⟩
theorem ek_nu {A : Prop} {B : Nat → Prop} (h : A) : ((none : Option Nat) = none → A) ∧ (∀ y : Nat, (none : Option Nat) = some y → B y) :=
  ⟨fun _ => h, fun _ e => (by cases e)⟩
theorem ek_if {c d A B : Prop} (e : c ↔ d) (f : d → A) (g : ¬ d → B) : (c → A) ∧ (¬ c → B) :=
  ⟨fun z => f (e.mp z), fun z => g (fun y => z (e.mpr y))⟩
theorem ek_v {α : Sort _} {P : α → Prop} {a b : α} (e : a = b) (h : P b) : P a := e ▸ h
theorem co_some {x : Option Nat} {A : Prop} {B : Nat → Prop} (i : Nat) (h : B i) (hx : x = some i := by rfl) : (x = none → A) ∧ (∀ y : Nat, x = some y → B y) := by
  subst hx
  exact ⟨fun e => (nomatch e), fun y e => Option.some.inj e ▸ h⟩
theorem co_none {x : Option Nat} {A : Prop} {B : Nat → Prop} (h : A) (hx : x = none := by rfl) : (x = none → A) ∧ (∀ y : Nat, x = some y → B y) := by
  subst hx
  exact ⟨fun _ => h, fun y e => (nomatch e)⟩
theorem co_any {x : Option Nat} {A : Prop} {B : Nat → Prop} (hn : x = none → A) (hs : ∀ i : Nat, x = some i → B i) : (x = none → A) ∧ (∀ y : Nat, x = some y → B y) := ⟨hn, hs⟩
theorem co_2 {P : Nat → Prop} (h0 : P 0) (h1 : P 1) {i : Nat} (hi : i < 2) : P i :=
  match i, hi with
  | 0, _ => h0
  | 1, _ => h1
theorem co_3 {P : Nat → Prop} (h0 : P 0) (h1 : P 1) (h2 : P 2) {i : Nat} (hi : i < 3) : P i :=
  match i, hi with
  | 0, _ => h0
  | 1, _ => h1
  | 2, _ => h2
theorem co_4 {P : Nat → Prop} (h0 : P 0) (h1 : P 1) (h2 : P 2) (h3 : P 3) {i : Nat} (hi : i < 4) : P i :=
  match i, hi with
  | 0, _ => h0
  | 1, _ => h1
  | 2, _ => h2
  | 3, _ => h3
theorem co_dec {N : Nat} {P : Nat → Prop} [DecidablePred P] (h : (List.range N).all (fun i => decide (P i)) = true) {i : Nat} (hi : i < N) : P i := by
  have := List.all_eq_true.mp h i (List.mem_range.mpr hi)
  exact of_decide_eq_true this
theorem co_tab {α : Type} {l : List α} {d : α} {P : α → Prop} (h : ∀ a, a ∈ l → P a) {i : Nat} (hi : i < l.length) : P (l.getD i d) := by
  rw [List.getD_eq_getElem?_getD, List.getElem?_eq_getElem hi]
  exact h _ (List.getElem_mem hi)
theorem pk_mu {x : Int32} {L : Nat} (h0 : ¬ x < 0) (h : ¬ nI L ≤ x) (hL : L < 2 ^ 31) : ∃ j : Nat, j < L ∧ x = nI j ∧ x + 1 = nI (j + 1) ∧ x.toNatClampNeg = j ∧ L - (x + 1).toNatClampNeg < L - x.toNatClampNeg := by
  obtain ⟨j, hj, rfl⟩ := nI_of h0
  have hl : j < L := Nat.not_le.mp fun q => h (nI_le q hj)
  refine ⟨j, hl, rfl, nI_1 j, nI_clamp hj, ?_⟩
  rw [nI_1, nI_clamp (by omega), nI_clamp hj]
  omega
theorem op_s {α : Type} {r : Option α} {A : Prop} {B : α → Prop} {y : α} (h : r = some y) (b : B y) : (r = none → A) ∧ ∀ z, r = some z → B z :=
  ⟨fun e => (by rw [h] at e; cases e), fun z e => (by rw [h] at e; cases e; exact b)⟩
def l_holds {α : Type} (a : Nat → Option Nat) (LP : List Nat) (p : Nat → α) (c : Nat) (b : Nat → α) : Prop :=
  ∀ j, j < c → ∃ y, a j = some y ∧ y ∈ LP ∧ p y = b j
theorem l_holds_0 {α : Type} {a : Nat → Option Nat} {LP : List Nat} {p b : Nat → α} : l_holds a LP p 0 b := fun j h => absurd h (Nat.not_lt_zero j)
theorem l_in_new (LP : List Nat) (q : Nat) : q ∈ LP ++ [q] := List.mem_append.mpr (Or.inr (List.mem_singleton.mpr rfl))
def l_sum (b : Nat → Int32) : Nat → Int32
  | 0 => 0
  | k + 1 => l_sum b k + b k
theorem sb_shr0 (x : Int32) : x >>> ((0 : Int32) &&& 31) = x := by
  rw [show ((0 : Int32) &&& 31) = 0 by decide]
  simp
theorem sb_shl0 (x : Int32) : x <<< ((0 : Int32) &&& 31) = x := by
  rw [show ((0 : Int32) &&& 31) = 0 by decide]
  simp
theorem sb_cl0 : (0 : Int32).toNatClampNeg = 0 := by decide
theorem sb_m1 {p : Nat} (h : 0 < p) : nI p + (-1) = nI (p - 1) := by
  obtain ⟨q, rfl⟩ : ∃ q, p = q + 1 := ⟨p - 1, by omega⟩
  exact pk_m1 q
def sb_b (c : Nat) : Int32 := (nI c).toInt8.toInt32
theorem sb_byte : ∀ c, c < 256 → sb_b c &&& 255 = nI c ∧ ((nI c).toUInt32 % 65536).toInt32 = nI c ∧ nI c ≤ 255 := by decide +kernel
def sb_Fit (a : Nat → Int32) : Prop := ∀ j, fits .byte (.int (a j)) = true
def sb_Lat (t : Nat → Nat) (n : Nat) (a : Nat → Int32) : Prop := ∀ j, j < n → t j < 256 ∧ a j = sb_b (t j)
theorem sb_fitB (c : Nat) : fits .byte (.int (sb_b c)) = true := pk_fb _
theorem sb_fit0 : sb_Fit (fun _ => 0) := fun _ => by
  show fits .byte (.int 0) = true
  decide
theorem sb_fitU {a : Nat → Int32} {k : Nat} {x : Int32} (h : sb_Fit a) (hx : fits .byte (.int x) = true) : sb_Fit (upd a k x) := by
  intro j
  by_cases e : j = k
  · subst e
    rw [pk_us]
    exact hx
  · rw [pk_un e]
    exact h j
def sb_cat (t : Nat → Nat) (n : Nat) (s : Nat → Nat) : Nat → Nat := fun j => if j < n then t j else s (j - n)
theorem sb_cat_lo {t s : Nat → Nat} {n j : Nat} (h : j < n) : sb_cat t n s j = t j := if_pos h
theorem sb_cat_hi {t s : Nat → Nat} {n j : Nat} : sb_cat t n s (n + j) = s j := by
  show (if n + j < n then t (n + j) else s (n + j - n)) = s j
  rw [if_neg (by omega), Nat.add_sub_cancel_left]
theorem sb_latPut {t s : Nat → Nat} {n w : Nat} {a a' : Nat → Int32} (h : sb_Lat t n a) (hk : ∀ j, j < n → a' j = a j) (hs : ∀ i, i < w → s i < 256 ∧ a' (n + i) = sb_b (s i)) : sb_Lat (sb_cat t n s) (n + w) a' := by
  intro j hj
  by_cases e : j < n
  · rw [sb_cat_lo e, hk j e]
    exact h j e
  · obtain ⟨i, rfl⟩ : ∃ i, j = n + i := ⟨j - n, by omega⟩
    rw [sb_cat_hi]
    exact hs i (by omega)
theorem sb_latKeep {t : Nat → Nat} {n : Nat} {a a' : Nat → Int32} (h : sb_Lat t n a) (hk : ∀ j, j < n → a' j = a j) : sb_Lat t n a' := fun j hj => by
  rw [hk j hj]
  exact h j hj
def sb_cap (q m : Nat) : Nat := if q ≤ m then m else if 2 * m + 2 < q then q else 2 * m + 2
def sb_Room (q m mc ms : Nat) : Prop := q ≤ m ∨ (1 ≤ mc ∧ sb_cap q m ≤ ms ∧ sb_cap q m ≤ 65536)
theorem sb_cap_ge (q m : Nat) : q ≤ sb_cap q m := by
  unfold sb_cap
  split
  · omega
  · split <;> omega
theorem sb_cap_gem (q m : Nat) : m ≤ sb_cap q m := by
  unfold sb_cap
  split
  · omega
  · split <;> omega
theorem sb_cap_le {q m mc ms : Nat} (hm : m ≤ 65536) (hr : sb_Room q m mc ms) : sb_cap q m ≤ 65536 := by
  rcases hr with h | h
  · rw [sb_cap, if_pos h]
    exact hm
  · exact h.2.2
theorem sb_at {P : Int32 → Prop} {x y : Int32} (e : x = y) (h : P y) : P x := e ▸ h
def sb_dg (w : Nat) : Nat := if w < 10 then 1 else if w < 100 then 2 else if w < 1000 then 3 else if w < 10000 then 4 else if w < 100000 then 5 else if w < 1000000 then 6 else if w < 10000000 then 7 else if w < 100000000 then 8 else if w < 1000000000 then 9 else 10
def sb_dec (v : Nat) : Nat → Nat := fun i => 48 + v / 10 ^ (sb_dg v - 1 - i) % 10
theorem sb_dg_in (w : Nat) : 1 ≤ sb_dg w ∧ sb_dg w ≤ 10 := by
  unfold sb_dg
  constructor <;> (repeat' split) <;> omega
theorem sb_dg100 {w : Nat} (h : 100 ≤ w) (hw : w < 2 ^ 31) : sb_dg w = sb_dg (w / 100) + 2 := by
  rw [sb_dg, sb_dg, if_neg (show ¬ w < 10 by omega), if_neg (show ¬ w < 100 by omega)]
  by_cases h3 : w < 1000
  · rw [if_pos h3, if_pos (show w / 100 < 10 by omega)]
  rw [if_neg h3, if_neg (show ¬ w / 100 < 10 by omega)]
  by_cases h4 : w < 10000
  · rw [if_pos h4, if_pos (show w / 100 < 100 by omega)]
  rw [if_neg h4, if_neg (show ¬ w / 100 < 100 by omega)]
  by_cases h5 : w < 100000
  · rw [if_pos h5, if_pos (show w / 100 < 1000 by omega)]
  rw [if_neg h5, if_neg (show ¬ w / 100 < 1000 by omega)]
  by_cases h6 : w < 1000000
  · rw [if_pos h6, if_pos (show w / 100 < 10000 by omega)]
  rw [if_neg h6, if_neg (show ¬ w / 100 < 10000 by omega)]
  by_cases h7 : w < 10000000
  · rw [if_pos h7, if_pos (show w / 100 < 100000 by omega)]
  rw [if_neg h7, if_neg (show ¬ w / 100 < 100000 by omega)]
  by_cases h8 : w < 100000000
  · rw [if_pos h8, if_pos (show w / 100 < 1000000 by omega)]
  rw [if_neg h8, if_neg (show ¬ w / 100 < 1000000 by omega)]
  by_cases h9 : w < 1000000000
  · rw [if_pos h9, if_pos (show w / 100 < 10000000 by omega)]
  rw [if_neg h9, if_neg (show ¬ w / 100 < 10000000 by omega)]
  rw [if_pos (show w / 100 < 100000000 by omega)]
theorem sb_negT {w : Nat} (h : w < 2 ^ 31) : (-nI w).toInt = -(w : Int) := by
  rw [Int32.toInt_neg, nI_toInt h]
  exact Int.bmod_eq_of_le (by omega) (by omega)
theorem sb_nle {a b : Nat} (ha : a < 2 ^ 31) (hb : b < 2 ^ 31) : -nI a ≤ -nI b ↔ b ≤ a := by
  rw [Int32.le_iff_toInt_le, sb_negT ha, sb_negT hb]
  omega
theorem sb_nlt {a b : Nat} (ha : a < 2 ^ 31) (hb : b < 2 ^ 31) : -nI a < -nI b ↔ b < a := by
  rw [Int32.lt_iff_toInt_lt, sb_negT ha, sb_negT hb]
  omega
theorem sb_cmp {A B : Prop} {x : Int32} (v c : Nat) (f : c ≤ v → A) (g : v < c → B) (hv : v < 2 ^ 31) (hx : x = -nI c := by rfl) (hc : c < 2 ^ 31 := by omega) : (-nI v ≤ x → A) ∧ (¬ -nI v ≤ x → B) := by
  subst hx
  rw [sb_nle hv hc]
  exact ⟨f, fun z => g (by omega)⟩
theorem sb_ndiv {w : Nat} (hw : w < 2 ^ 31) : (-nI w) / 100 = -nI (w / 100) := by
  apply Int32.toInt_inj.mp
  have h100 : (100 : Int32).toInt = 100 := by decide
  rw [Int32.toInt_div, sb_negT hw, h100, sb_negT (by omega), Int.neg_tdiv, Int.tdiv_eq_ediv_of_nonneg (by omega), Int.bmod_eq_of_le (by omega) (by omega)]
  omega
theorem sb_nrem {w : Nat} (hw : w < 2 ^ 31) : (-nI (w / 100)) * 100 - (-nI w) = nI (w % 100) := by
  have h := pk_rem (a := w) (d := 100) hw (by decide) (by decide)
  rw [pk_div hw (by decide) (by decide)] at h
  rw [← h]
  show (-nI (w / 100)) * nI 100 - (-nI w) = nI w - nI (w / 100) * nI 100
  rw [Int32.neg_mul, Int32.sub_neg, Int32.add_comm, ← Int32.sub_eq_add_neg]
end
section
/-! base: indices, contiguous writes, packed register maps, counting -/
theorem qb_ix3 (n e c : Nat) : nI n * 144 + nI e * 6 + nI c = nI (n * 144 + e * 6 + c) := by
  rw [show (144 : Int32) = nI 144 from rfl, show (6 : Int32) = nI 6 from rfl, pk_mul, pk_mul, nI_add, nI_add]
theorem qb_ix2 (n e : Nat) : nI n * 144 + nI e * 6 = nI (n * 144 + e * 6) := by
  rw [show (144 : Int32) = nI 144 from rfl, show (6 : Int32) = nI 6 from rfl, pk_mul, pk_mul, nI_add]
theorem qb_ix24 (n e : Nat) : nI n * 24 + nI e = nI (n * 24 + e) := by
  rw [show (24 : Int32) = nI 24 from rfl, pk_mul, nI_add]
theorem qb_ix8 (n e : Nat) : nI n * 8 + nI e = nI (n * 8 + e) := by
  rw [show (8 : Int32) = nI 8 from rfl, pk_mul, nI_add]
theorem qb_ix6 (n e : Nat) : nI n * 6 + nI e = nI (n * 6 + e) := by
  rw [show (6 : Int32) = nI 6 from rfl, pk_mul, nI_add]
theorem qb_ix144 (n e : Nat) : nI n * 144 + nI e = nI (n * 144 + e) := by
  rw [show (144 : Int32) = nI 144 from rfl, pk_mul, nI_add]
theorem qb_ix30 (n e c : Nat) : nI n * 30 + nI e * 3 + nI c = nI (n * 30 + e * 3 + c) := by
  rw [show (30 : Int32) = nI 30 from rfl, show (3 : Int32) = nI 3 from rfl, pk_mul, pk_mul, nI_add, nI_add]
theorem qb_ix303 (n e : Nat) : nI n * 30 + nI e * 3 = nI (n * 30 + e * 3) := by
  rw [show (30 : Int32) = nI 30 from rfl, show (3 : Int32) = nI 3 from rfl, pk_mul, pk_mul, nI_add]
theorem qb_cl {n : Nat} (h : n < 2 ^ 31) : (nI n).toNatClampNeg = n := nI_clamp h
/-- a value that stands for a natural below 2^31 -/
theorem qb_tn {x : Int32} {n : Nat} (h : n < 2 ^ 31) (e : x = nI n) : x.toNatClampNeg = n := by rw [e, nI_clamp h]
theorem qb_neg1 : (-1 : Int32) < 0 := by decide
theorem qb_n1 : ¬ (0 : Int32) ≤ -1 := by decide
theorem qb_nI0 {n : Nat} (h : n < 2 ^ 31) : 0 ≤ nI n := nI_pos' h
theorem qb_inj {a b : Nat} (ha : a < 2 ^ 31) (hb : b < 2 ^ 31) (h : nI a = nI b) : a = b := (nI_eq ha hb).1 h
theorem qb_b1 : vp_nar .boolean 1 = 1 := by rfl
theorem qb_b0 : vp_nar .boolean 0 = 0 := by rfl

/-- the array f with the values xs written from index b on -/
def qb_bl (f : Nat → Int32) (b : Nat) (xs : List Int32) : Nat → Int32 := fun j => if b ≤ j ∧ j < b + xs.length then xs.getD (j - b) 0 else f j
theorem qb_bl_nil (f : Nat → Int32) (b : Nat) : qb_bl f b [] = f := by
  funext j
  show (if b ≤ j ∧ j < b + ([] : List Int32).length then _ else f j) = f j
  rw [if_neg (by simp)]
theorem qb_bl_in {f : Nat → Int32} {b : Nat} {xs : List Int32} {i : Nat} (h : i < xs.length) : qb_bl f b xs (b + i) = xs.getD i 0 := by
  show (if b ≤ b + i ∧ b + i < b + xs.length then xs.getD (b + i - b) 0 else f (b + i)) = _
  rw [if_pos (by omega), Nat.add_sub_cancel_left]
theorem qb_bl_out {f : Nat → Int32} {b : Nat} {xs : List Int32} {j : Nat} (h : j < b ∨ b + xs.length ≤ j) : qb_bl f b xs j = f j := if_neg (by omega)
theorem qb_getD_take {xs : List Int32} {i c : Nat} (h : i < c) : (xs.take c).getD i 0 = xs.getD i 0 := by
  rw [List.getD_eq_getElem?_getD, List.getD_eq_getElem?_getD, List.getElem?_take_of_lt h]
theorem qb_bl_step {f : Nat → Int32} {b : Nat} {xs : List Int32} {c : Nat} (h : c < xs.length) : upd (qb_bl f b (xs.take c)) (b + c) (xs.getD c 0) = qb_bl f b (xs.take (c + 1)) := by
  funext j
  have l1 : (xs.take c).length = c := by rw [List.length_take]; omega
  have l2 : (xs.take (c + 1)).length = c + 1 := by rw [List.length_take]; omega
  by_cases e : j = b + c
  · subst e
    rw [pk_us, qb_bl_in (by omega), qb_getD_take (by omega)]
  · rw [pk_un e]
    by_cases e2 : b ≤ j ∧ j < b + c
    · obtain ⟨i, rfl⟩ : ∃ i, j = b + i := ⟨j - b, by omega⟩
      rw [qb_bl_in (by omega), qb_bl_in (by omega), qb_getD_take (by omega), qb_getD_take (by omega)]
    · rw [qb_bl_out (by omega), qb_bl_out (by omega)]
theorem qb_bl_all {f : Nat → Int32} {b : Nat} {xs : List Int32} : qb_bl f b (xs.take xs.length) = qb_bl f b xs := by rw [List.take_length]
theorem qb_bl_0 {f : Nat → Int32} {b : Nat} {xs : List Int32} : f = qb_bl f b (xs.take 0) := by rw [List.take_zero, qb_bl_nil]
/-- the law of a copying loop -/
theorem qb_loop (W : Nat → Nat → (Nat → Int32) → Prop) (f : Nat → Int32) (b : Nat) (xs : List Int32) (w : Nat) (hw : xs.length = w)
    (hx : ∀ n, W (n + 1) w (qb_bl f b xs))
    (hs : ∀ n c, c < w → W n (c + 1) (upd (qb_bl f b (xs.take c)) (b + c) (xs.getD c 0)) → W (n + 1) c (qb_bl f b (xs.take c))) : ∃ n, W n 0 f := by
  refine loop_0 W (fun i s => s = qb_bl f b (xs.take i)) w f qb_bl_0 ?_ ?_
  · intro n s hI
    rw [← hw, List.take_length] at hI
    rw [hI]; exact hx n
  · intro n i s hi hI K
    rw [hI]
    refine hs n i hi (K _ (qb_bl_step (by omega)))

/-- packed maps: five bits a column, low column first -/
def qb_enc : List Nat → Nat
  | [] => 0
  | m :: ms => m + 32 * qb_enc ms
theorem qb_enc_lt : ∀ ms : List Nat, (∀ m ∈ ms, m < 32) → qb_enc ms < 32 ^ ms.length := by
  intro ms
  induction ms with
  | nil => intro _; show 0 < 1; omega
  | cons m ms ih =>
    intro h
    have h1 := ih (fun x hx => h x (List.mem_cons_of_mem _ hx))
    have h2 := h m (List.mem_cons_self ..)
    show m + 32 * qb_enc ms < 32 ^ (ms.length + 1)
    rw [Nat.pow_succ]
    omega
theorem qb_enc_app : ∀ (ms : List Nat) (x : Nat), qb_enc (ms ++ [x]) = qb_enc ms + x * 32 ^ ms.length := by
  intro ms x
  induction ms with
  | nil => show x + 32 * 0 = 0 + x * 1; omega
  | cons m ms ih =>
    show m + 32 * qb_enc (ms ++ [x]) = m + 32 * qb_enc ms + x * 32 ^ (ms.length + 1)
    rw [ih, Nat.pow_succ, Nat.mul_add]
    have : 32 * (x * 32 ^ ms.length) = x * (32 ^ ms.length * 32) := by
      rw [Nat.mul_comm (32 ^ ms.length) 32, ← Nat.mul_assoc, ← Nat.mul_assoc, Nat.mul_comm 32 x]
    omega
theorem qb_enc_get : ∀ (ms : List Nat) (c : Nat), (∀ m ∈ ms, m < 32) → c < ms.length → qb_enc ms / 32 ^ c % 32 = ms.getD c 0 := by
  intro ms
  induction ms with
  | nil => intro c _ h; exact absurd h (Nat.not_lt_zero _)
  | cons m ms ih =>
    intro c h hc
    have h2 := h m (List.mem_cons_self ..)
    cases c with
    | zero =>
      show (m + 32 * qb_enc ms) / 32 ^ 0 % 32 = m
      rw [Nat.pow_zero, Nat.div_one]
      omega
    | succ c =>
      show (m + 32 * qb_enc ms) / 32 ^ (c + 1) % 32 = ms.getD c 0
      rw [Nat.pow_succ, Nat.mul_comm (32 ^ c) 32, ← Nat.div_div_eq_div_mul, show (m + 32 * qb_enc ms) / 32 = qb_enc ms by omega]
      exact ih c (fun x hx => h x (List.mem_cons_of_mem _ hx)) (Nat.lt_of_succ_lt_succ hc)
theorem qb_enc_drop : ∀ (ms : List Nat) (c : Nat), (∀ m ∈ ms, m < 32) → qb_enc ms / 32 ^ c = qb_enc (ms.drop c) := by
  intro ms c
  induction c generalizing ms with
  | zero => intro _; rw [Nat.pow_zero, Nat.div_one, List.drop_zero]
  | succ c ih =>
    intro h
    cases ms with
    | nil => show 0 / _ = 0; exact Nat.zero_div _
    | cons m ms =>
      have h2 := h m (List.mem_cons_self ..)
      show (m + 32 * qb_enc ms) / 32 ^ (c + 1) = qb_enc (ms.drop c)
      rw [Nat.pow_succ, Nat.mul_comm (32 ^ c) 32, ← Nat.div_div_eq_div_mul, show (m + 32 * qb_enc ms) / 32 = qb_enc ms by omega]
      exact ih ms (fun x hx => h x (List.mem_cons_of_mem _ hx))
theorem qb_p5 (c : Nat) : 2 ^ (5 * c) = 32 ^ c := by rw [Nat.pow_mul]
theorem qb_enc30 {ms : List Nat} (h : ∀ m ∈ ms, m < 32) (hl : ms.length ≤ 6) : qb_enc ms < 2 ^ 30 := by
  have h1 := qb_enc_lt ms h
  have h2 : 32 ^ ms.length ≤ 32 ^ 6 := Nat.pow_le_pow_right (by omega) hl
  have : (32 : Nat) ^ 6 = 2 ^ 30 := by decide
  omega
theorem qb_sl : ∀ n, n < 32 → ((nI n &&& 31).toBitVec.smod 32).toNat = n := by decide +kernel
theorem qb_5 (c : Nat) : (5 : Int32) * nI c = nI (5 * c) := by rw [show (5 : Int32) = nI 5 from rfl, pk_mul]
theorem qb_3 (c : Nat) : (3 : Int32) * nI c = nI (3 * c) := by rw [show (3 : Int32) = nI 3 from rfl, pk_mul]
/-- the register of a column -/
theorem qb_get {ms : List Nat} {c : Nat} (h : ∀ m ∈ ms, m < 32) (hl : ms.length ≤ 6) (hc : c < ms.length) : (nI (qb_enc ms) >>> ((5 * nI c) &&& 31)) &&& 31 = nI (ms.getD c 0) := by
  have h30 := qb_enc30 h hl
  rw [qb_5, pk_shrN (by omega) _ (5 * c) (qb_sl _ (by omega)), pk_andN (by have := Nat.div_le_self (qb_enc ms) (2 ^ (5 * c)); omega) 5 (by decide), qb_p5, show (2 : Nat) ^ 5 = 32 by decide, qb_enc_get ms c h hc]
theorem qb_shr {ms : List Nat} {c : Nat} (h : ∀ m ∈ ms, m < 32) (hl : ms.length ≤ 6) (hc : c < 6) : nI (qb_enc ms) >>> ((5 * nI c) &&& 31) = nI (qb_enc (ms.drop c)) := by
  have h30 := qb_enc30 h hl
  rw [qb_5, pk_shrN (by omega) _ (5 * c) (qb_sl _ (by omega)), qb_p5, qb_enc_drop ms c h]
theorem qb_nor (a b : Nat) : nI a ||| nI b = nI (a ||| b) := by
  apply Int32.toBitVec_inj.1
  show BitVec.ofNat 32 a ||| BitVec.ofNat 32 b = BitVec.ofNat 32 (a ||| b)
  apply BitVec.eq_of_getLsbD_eq
  intro i hi
  simp [hi]
theorem qb_or {a b k : Nat} (ha : a < 2 ^ k) : a ||| (b * 2 ^ k) = a + b * 2 ^ k := by
  rw [Nat.or_comm, ← Nat.shiftLeft_eq, ← Nat.shiftLeft_add_eq_or_of_lt ha, Nat.add_comm]
theorem qb_push {ms : List Nat} {x : Nat} (h : ∀ m ∈ ms, m < 32) (hl : ms.length < 6) (hx : x < 32) : nI (qb_enc ms) ||| (nI x <<< ((5 * nI ms.length) &&& 31)) = nI (qb_enc (ms ++ [x])) := by
  have h1 := qb_enc_lt ms h
  have h2 : 32 ^ ms.length ≤ 32 ^ 5 := Nat.pow_le_pow_right (by omega) (by omega)
  have h3 : x * 32 ^ ms.length ≤ 31 * 32 ^ 5 := Nat.mul_le_mul (by omega) h2
  have h4 : (32 : Nat) ^ 5 = 33554432 := by decide
  have h5 : x * 32 ^ ms.length < 2 ^ 32 := by omega
  rw [qb_5, pk_shlN _ (5 * ms.length) (qb_sl _ (by omega)) (by rw [qb_p5]; exact h5), qb_nor, qb_or (by rw [qb_p5]; exact h1), qb_p5, qb_enc_app]

/-- counting: different numbers out of a list are no more than the list -/
theorem qb_nodup_len : ∀ (a b : List Nat), a.Nodup → (∀ x ∈ a, x ∈ b) → a.length ≤ b.length := by
  intro a
  induction a with
  | nil => intro b _ _; exact Nat.zero_le _
  | cons x a ih =>
    intro b hn hs
    have hx : x ∈ b := hs x (List.mem_cons_self ..)
    rw [List.nodup_cons] at hn
    have h := ih (b.erase x) hn.2 (fun y hy => (List.mem_erase_of_ne (a := y) (b := x) (fun e => hn.1 (by rw [← e]; exact hy))).2 (hs y (List.mem_cons_of_mem _ hy)))
    rw [List.length_erase_of_mem hx] at h
    have : 0 < b.length := List.length_pos_of_mem hx
    show a.length + 1 ≤ b.length
    omega
theorem qb_nodup_lt {a : List Nat} {n : Nat} (hn : a.Nodup) (h : ∀ x ∈ a, x < n) : a.length ≤ n := by
  have := qb_nodup_len a (List.range n) hn (fun x hx => List.mem_range.2 (h x hx))
  rwa [List.length_range] at this
end
section
/-! the pure semantics: plans, what an operator gives out, the value of a node, the pushing machine -/
abbrev qp_R : Type := List Int32
abbrev qp_W : Type := List (List Int32)
abbrev qp_D : Type := Nat → List (List Int32)
abbrev qp_S : Type := qp_D × qp_D
abbrev qp_PL : Type := (Nat → Nat) × (Nat → Nat) × (Nat → Nat) × (Nat → Nat) × (Nat → Int32) × (Nat → Int32) × (Nat → Int32) × (Nat → List (List Int32))
def qp_kd (g : qp_PL) (n : Nat) : Nat := g.1 n
def qp_lf (g : qp_PL) (n : Nat) : Nat := g.2.1 n
def qp_rt (g : qp_PL) (n : Nat) : Nat := g.2.2.1 n
def qp_wd (g : qp_PL) (n : Nat) : Nat := g.2.2.2.1 n
def qp_p (g : qp_PL) (n : Nat) : Int32 := g.2.2.2.2.1 n
def qp_q (g : qp_PL) (n : Nat) : Int32 := g.2.2.2.2.2.1 n
def qp_r (g : qp_PL) (n : Nat) : Int32 := g.2.2.2.2.2.2.1 n
def qp_tb (g : qp_PL) (n : Nat) : qp_W := g.2.2.2.2.2.2.2 n

def qp_cmp (k x y : Int32) : Bool := if k = 0 then decide (x = y) else if k = 1 then decide (¬ x = y) else if k = 2 then decide (¬ y ≤ x) else if k = 3 then decide (¬ y < x) else if k = 4 then decide (¬ x ≤ y) else decide (¬ x < y)
def qp_calc (k x y : Int32) : Int32 := if k = 0 then x + y else if k = 1 then x - y else if k = 2 then x * y else if k = 3 then (if y ≤ x then y else x) else (if x ≤ y then y else x)
def qp_at (x : qp_R) (k : Int32) : Int32 := x.getD k.toNatClampNeg 0
def qp_col (cols : Int32) (i : Nat) : Nat := ((cols >>> ((3 * nI i) &&& 31)) &&& 7).toNatClampNeg
def qp_prj (cols : Int32) (k : Nat) (x : qp_R) : qp_R := (List.range k).map (fun i => x.getD (qp_col cols i) 0)
def qp_hit (key col : Int32) (T : qp_W) : qp_W := T.filter (fun y => decide (qp_at y col = key))
def qp_join (jk key col : Int32) (w : Nat) (T : qp_W) (x : qp_R) : qp_W :=
  if jk = 1 then (if qp_hit key col T = [] then [] else [x])
  else if jk = 2 then (if qp_hit key col T = [] then [x] else [])
  else if jk = 3 ∧ qp_hit key col T = [] then [x ++ List.replicate w 0]
  else (qp_hit key col T).map (fun y => x ++ y)
/-- the rows that operator n gives out for row x: Sn its right rows (a join), Dn what it has given out so far -/
def qp_out (g : qp_PL) (n : Nat) (Sn Dn : qp_W) (x : qp_R) : qp_W :=
  if qp_kd g n = 1 then (if qp_cmp (qp_q g n) (qp_at x (qp_p g n)) (qp_r g n) = true then [x] else [])
  else if qp_kd g n = 2 then (if qp_cmp (qp_q g n) (qp_at x (qp_p g n)) (qp_at x (qp_r g n)) = true then [x] else [])
  else if qp_kd g n = 3 then [x ++ [qp_calc (qp_p g n) (qp_at x (qp_q g n)) (qp_at x (qp_r g n))]]
  else if qp_kd g n = 4 then [qp_prj (qp_p g n) (qp_q g n).toNatClampNeg x]
  else if qp_kd g n = 5 then qp_join (qp_p g n) (qp_at x (qp_q g n)) (qp_r g n) (qp_wd g (qp_rt g n)) Sn x
  else if qp_kd g n = 8 then (if x ∈ Dn then [] else [x])
  else if qp_kd g n = 9 then (if Dn.length < (qp_p g n).toNatClampNeg then [x] else [])
  else [x]
def qp_cmb (agg old v : Int32) : Int32 := if agg = 0 then old + 1 else if agg = 1 then old + v else if agg = 2 then (if old ≤ v then old else v) else (if v ≤ old then old else v)
/-- one row more into the groups -/
def qp_gs (agg key v : Int32) : qp_W → qp_W
  | [] => [[key, if agg = 0 then 1 else v]]
  | y :: ys => if y.getD 0 0 = key then [y.getD 0 0, qp_cmb agg (y.getD 1 0) v] :: ys else y :: qp_gs agg key v ys
/-- does a row with this key go before that value? -/
def qp_bef (desc key there : Int32) : Bool := if desc = 1 then decide (¬ key ≤ there) else decide (¬ there ≤ key)
/-- one row more into the ordered rows: behind all rows that don't come after it -/
def qp_ins (desc col key : Int32) (x : qp_R) : qp_W → qp_W
  | [] => [x]
  | y :: ys => if (y :: ys).all (fun z => qp_bef desc key (qp_at z col)) = true then x :: y :: ys else y :: qp_ins desc col key x ys
def qp_fold (g : qp_PL) (n : Nat) (Sn A : qp_W) : qp_W := A.foldl (fun D x => D ++ qp_out g n Sn D x) []
/-- one row more into the sink k (12: the result) -/
def qp_snk (g : qp_PL) (k : Nat) (T : qp_W) (x : qp_R) : qp_W :=
  if k = 12 then T ++ [x]
  else if qp_kd g k = 7 then qp_gs (qp_q g k) (qp_at x (qp_p g k)) (qp_at x (qp_r g k)) T
  else if qp_kd g k = 10 then qp_ins (qp_q g k) (qp_p g k) (qp_at x (qp_p g k)) x T
  else T ++ [x]
def qp_val (g : qp_PL) (V : qp_D) (n : Nat) : qp_W :=
  if qp_kd g n = 0 then qp_tb g n
  else if qp_kd g n = 6 then V (qp_lf g n) ++ V (qp_rt g n)
  else if qp_kd g n = 7 ∨ qp_kd g n = 10 then (V (qp_lf g n)).foldl (qp_snk g n) []
  else qp_fold g n (V (qp_rt g n)) (V (qp_lf g n))
def qp_T (g : qp_PL) : Nat → qp_D
  | 0 => fun _ => []
  | k + 1 => fun m => if m = k then qp_val g (qp_T g k) k else qp_T g k m
def qp_V (g : qp_PL) (n : Nat) : qp_W := qp_T g (n + 1) n
theorem qp_T_V (g : qp_PL) : ∀ k m, m < k → qp_T g k m = qp_V g m := by
  intro k
  induction k with
  | zero => intro m h; exact absurd h (Nat.not_lt_zero _)
  | succ k ih =>
    intro m h
    by_cases e : m = k
    · subst e; rfl
    · show (if m = k then _ else qp_T g k m) = _
      rw [if_neg e]; exact ih m (by omega)
theorem qp_V_eq0 (g : qp_PL) (n : Nat) : qp_V g n = qp_val g (qp_T g n) n := by
  show (if n = n then _ else _) = _
  rw [if_pos rfl]
/-- a node's children lie below it -/
def qp_Low (g : qp_PL) (n : Nat) : Prop := (qp_kd g n ≠ 0 → qp_lf g n < n) ∧ ((qp_kd g n = 5 ∨ qp_kd g n = 6) → qp_rt g n < n)
theorem qp_out_S {g : qp_PL} {n : Nat} {S1 S2 D : qp_W} {x : qp_R} (h : qp_kd g n ≠ 5) : qp_out g n S1 D x = qp_out g n S2 D x := by
  unfold qp_out
  rw [if_neg h, if_neg h]
theorem qp_fold_S {g : qp_PL} {n : Nat} {S1 S2 A : qp_W} (h : qp_kd g n ≠ 5) : qp_fold g n S1 A = qp_fold g n S2 A := by
  unfold qp_fold
  have : (fun (D : qp_W) x => D ++ qp_out g n S1 D x) = (fun D x => D ++ qp_out g n S2 D x) := by
    funext D x; rw [qp_out_S h]
  rw [this]
theorem qp_V_eq {g : qp_PL} {n : Nat} (h : qp_Low g n) : qp_V g n = qp_val g (qp_V g) n := by
  rw [qp_V_eq0]
  unfold qp_val
  by_cases h0 : qp_kd g n = 0
  · rw [if_pos h0, if_pos h0]
  · rw [if_neg h0, if_neg h0, qp_T_V g n _ (h.1 h0)]
    by_cases h6 : qp_kd g n = 6
    · rw [if_pos h6, if_pos h6, qp_T_V g n _ (h.2 (Or.inr h6))]
    · rw [if_neg h6, if_neg h6]
      by_cases h5 : qp_kd g n = 5
      · rw [qp_T_V g n _ (h.2 (Or.inl h5))]
      · rw [qp_fold_S (S2 := qp_V g (qp_rt g n)) h5]

/-! the pushing machine, abstractly -/
def qp_up (D : qp_D) (n : Nat) (v : qp_W) : qp_D := fun m => if m = n then v else D m
theorem qp_up_s {D : qp_D} {n : Nat} {v : qp_W} : qp_up D n v n = v := if_pos rfl
theorem qp_up_n {D : qp_D} {n m : Nat} {v : qp_W} (h : m ≠ n) : qp_up D n v m = D m := if_neg h
def qp_add (s : qp_S) (n : Nat) (y : qp_R) : qp_S := (qp_up s.1 n (s.1 n ++ [y]), s.2)
def qp_push (g : qp_PL) (k : Nat) : List Nat → qp_S → qp_R → qp_S
  | [], s, x => (s.1, qp_up s.2 k (qp_snk g k (s.2 k) x))
  | n :: ns, s, x => (qp_out g n (s.2 n) (s.1 n) x).foldl (fun s y => qp_push g k ns (qp_add s n y) y) s
def qp_rows (g : qp_PL) (s : qp_S) (n : Nat) : qp_W := if qp_kd g n = 0 then qp_tb g n else s.2 n
def qp_pipe (g : qp_PL) (s : qp_S) (t : Nat × Nat × List Nat) : qp_S := (qp_rows g s t.2.1).foldl (fun s x => qp_push g t.1 t.2.2 (qp_add s t.2.1 x) x) s
def qp_exec (g : qp_PL) (l : List (Nat × Nat × List Nat)) (s : qp_S) : qp_S := l.foldl (qp_pipe g) s
def qp_so (g : qp_PL) (n : Nat) : Prop := qp_kd g n = 0 ∨ qp_kd g n = 7 ∨ qp_kd g n = 10
theorem qp_so_dec (g : qp_PL) (n : Nat) : qp_so g n ∨ ¬ qp_so g n := Classical.em _
def qp_sob (g : qp_PL) (n : Nat) : Bool := decide (qp_kd g n = 0) || decide (qp_kd g n = 7) || decide (qp_kd g n = 10)
theorem qp_sob_t {g : qp_PL} {n : Nat} : qp_sob g n = true ↔ qp_so g n := by
  unfold qp_sob qp_so
  simp [or_assoc]
/-- the pipelines below n, left to right: sink, source, the operators above the source up to the top -/
def qp_src (g : qp_PL) (k : Nat) : Nat → Nat → List Nat → List (Nat × Nat × List Nat)
  | 0, _, _ => []
  | f + 1, n, ctx => if qp_sob g n = true then [(k, n, ctx)] else if qp_kd g n = 6 then qp_src g k f (qp_lf g n) (n :: ctx) ++ qp_src g k f (qp_rt g n) (n :: ctx) else qp_src g k f (qp_lf g n) (n :: ctx)
/-- the nodes of the pipelines below n -/
def qp_gn (g : qp_PL) : Nat → Nat → List Nat
  | 0, _ => []
  | f + 1, n => if qp_sob g n = true then [n] else if qp_kd g n = 6 then n :: (qp_gn g f (qp_lf g n) ++ qp_gn g f (qp_rt g n)) else n :: qp_gn g f (qp_lf g n)
def qp_top (g : qp_PL) (i : Nat) : Nat := if qp_kd g i = 5 then qp_rt g i else qp_lf g i
def qp_brk (g : qp_PL) (i : Nat) : Bool := decide (qp_kd g i = 5) || decide (qp_kd g i = 7) || decide (qp_kd g i = 10)
def qp_grp (g : qp_PL) (w : Nat → Bool) (i : Nat) : List (Nat × Nat × List Nat) := if (w i && qp_brk g i) = true then qp_src g i 13 (qp_top g i) [] else []
def qp_prog (g : qp_PL) (w : Nat → Bool) : Nat → List (Nat × Nat × List Nat)
  | 0 => []
  | i + 1 => qp_prog g w i ++ qp_grp g w i
def qp_full (g : qp_PL) (w : Nat → Bool) (root : Nat) : List (Nat × Nat × List Nat) := qp_prog g w (root + 1) ++ qp_src g 12 13 root []
end
section
/-! the pushing machine: growth, frames, the chain of values -/
def qp_le (s s' : qp_S) : Prop := ∀ m, (s.1 m).length ≤ (s'.1 m).length ∧ (s.2 m).length ≤ (s'.2 m).length
theorem qp_le_rfl {s : qp_S} : qp_le s s := fun _ => ⟨Nat.le_refl _, Nat.le_refl _⟩
theorem qp_le_trans {a b c : qp_S} (h : qp_le a b) (h' : qp_le b c) : qp_le a c := fun m => ⟨Nat.le_trans (h m).1 (h' m).1, Nat.le_trans (h m).2 (h' m).2⟩
theorem qp_le_foldl {α : Type} (f : qp_S → α → qp_S) (h : ∀ s y, qp_le s (f s y)) : ∀ (l : List α) (s : qp_S), qp_le s (l.foldl f s) := by
  intro l
  induction l with
  | nil => intro s; exact qp_le_rfl
  | cons y l ih => intro s; exact qp_le_trans (h s y) (ih _)
theorem qp_gs_len (agg key v : Int32) : ∀ T : qp_W, T.length ≤ (qp_gs agg key v T).length ∧ (qp_gs agg key v T).length ≤ T.length + 1 := by
  intro T
  induction T with
  | nil => exact ⟨Nat.zero_le _, Nat.le_refl _⟩
  | cons y ys ih =>
    unfold qp_gs
    by_cases h : y.getD 0 0 = key
    · rw [if_pos h]; simp
    · rw [if_neg h]; simp only [List.length_cons]; omega
theorem qp_ins_len (desc col key : Int32) (x : qp_R) : ∀ T : qp_W, (qp_ins desc col key x T).length = T.length + 1 := by
  intro T
  induction T with
  | nil => rfl
  | cons y ys ih =>
    unfold qp_ins
    by_cases h : (y :: ys).all (fun z => qp_bef desc key (qp_at z col)) = true
    · rw [if_pos h]; rfl
    · rw [if_neg h]; simp only [List.length_cons]; omega
theorem qp_snk_len (g : qp_PL) (k : Nat) (T : qp_W) (x : qp_R) : T.length ≤ (qp_snk g k T x).length ∧ (qp_snk g k T x).length ≤ T.length + 1 := by
  unfold qp_snk
  split
  · simp
  · split
    · exact qp_gs_len _ _ _ T
    · split
      · rw [qp_ins_len]; omega
      · simp
theorem qp_add_le {s : qp_S} {n : Nat} {y : qp_R} : qp_le s (qp_add s n y) := by
  intro m
  refine ⟨?_, Nat.le_refl _⟩
  show _ ≤ (qp_up s.1 n (s.1 n ++ [y]) m).length
  by_cases h : m = n
  · subst h; rw [qp_up_s]; simp
  · rw [qp_up_n h]; exact Nat.le_refl _
theorem qp_push_le (g : qp_PL) (k : Nat) : ∀ (ns : List Nat) (s : qp_S) (x : qp_R), qp_le s (qp_push g k ns s x) := by
  intro ns
  induction ns with
  | nil =>
    intro s x m
    refine ⟨Nat.le_refl _, ?_⟩
    show _ ≤ (qp_up s.2 k (qp_snk g k (s.2 k) x) m).length
    by_cases h : m = k
    · subst h; rw [qp_up_s]; exact (qp_snk_len ..).1
    · rw [qp_up_n h]; exact Nat.le_refl _
  | cons n ns ih =>
    intro s x
    exact qp_le_foldl _ (fun s y => qp_le_trans qp_add_le (ih _ _)) _ _
theorem qp_pipe_le (g : qp_PL) (s : qp_S) (t : Nat × Nat × List Nat) : qp_le s (qp_pipe g s t) :=
  qp_le_foldl _ (fun _ _ => qp_le_trans qp_add_le (qp_push_le _ _ _ _ _)) _ _
theorem qp_exec_le (g : qp_PL) (l : List (Nat × Nat × List Nat)) (s : qp_S) : qp_le s (qp_exec g l s) := qp_le_foldl _ (fun s t => qp_pipe_le g s t) _ _

/-- only the outputs of L and the sink k change -/
def qp_fr (k : Nat) (L : List Nat) (s s' : qp_S) : Prop := (∀ m, m ∉ L → s'.1 m = s.1 m) ∧ (∀ m, m ≠ k → s'.2 m = s.2 m)
theorem qp_fr_rfl {k : Nat} {L : List Nat} {s : qp_S} : qp_fr k L s s := ⟨fun _ _ => rfl, fun _ _ => rfl⟩
theorem qp_fr_trans {k : Nat} {L : List Nat} {a b c : qp_S} (h : qp_fr k L a b) (h' : qp_fr k L b c) : qp_fr k L a c := ⟨fun m hm => (h'.1 m hm).trans (h.1 m hm), fun m hm => (h'.2 m hm).trans (h.2 m hm)⟩
theorem qp_fr_mono {k : Nat} {L L' : List Nat} {a b : qp_S} (hL : ∀ m, m ∈ L → m ∈ L') (h : qp_fr k L a b) : qp_fr k L' a b := ⟨fun m hm => h.1 m (fun x => hm (hL m x)), h.2⟩
theorem qp_fr_foldl {α : Type} {k : Nat} {L : List Nat} (f : qp_S → α → qp_S) (h : ∀ s y, qp_fr k L s (f s y)) : ∀ (l : List α) (s : qp_S), qp_fr k L s (l.foldl f s) := by
  intro l
  induction l with
  | nil => intro s; exact qp_fr_rfl
  | cons y l ih => intro s; exact qp_fr_trans (h s y) (ih _)
theorem qp_fr_add {k n : Nat} {L : List Nat} {s : qp_S} {y : qp_R} (h : n ∈ L) : qp_fr k L s (qp_add s n y) :=
  ⟨fun m hm => qp_up_n (fun e => hm (e ▸ h)), fun _ _ => rfl⟩
theorem qp_push_fr (g : qp_PL) (k : Nat) : ∀ (ns : List Nat) (s : qp_S) (x : qp_R), qp_fr k ns s (qp_push g k ns s x) := by
  intro ns
  induction ns with
  | nil => intro s x; exact ⟨fun _ _ => rfl, fun m hm => qp_up_n hm⟩
  | cons n ns ih =>
    intro s x
    exact qp_fr_foldl _ (fun s y => qp_fr_trans (qp_fr_add (List.mem_cons_self ..)) (qp_fr_mono (fun m hm => List.mem_cons_of_mem _ hm) (ih _ _))) _ _
theorem qp_pipe_fr (g : qp_PL) (s : qp_S) (k c : Nat) (ns : List Nat) : qp_fr k (c :: ns) s (qp_pipe g s (k, c, ns)) :=
  qp_fr_foldl _ (fun _ _ => qp_fr_trans (qp_fr_add (List.mem_cons_self ..)) (qp_fr_mono (fun m hm => List.mem_cons_of_mem _ hm) (qp_push_fr ..))) _ _

/-- what n has given out once its child c has given out A -/
def qp_F (g : qp_PL) (V : qp_D) (c n : Nat) (A : qp_W) : qp_W := if qp_kd g n = 6 then (if c = qp_lf g n then A else V (qp_lf g n) ++ A) else qp_fold g n (V (qp_rt g n)) A
theorem qp_F_snoc (g : qp_PL) (V : qp_D) (c n : Nat) (A Sn : qp_W) (x : qp_R) (hS : qp_kd g n = 5 → Sn = V (qp_rt g n)) : qp_F g V c n (A ++ [x]) = qp_F g V c n A ++ qp_out g n Sn (qp_F g V c n A) x := by
  unfold qp_F
  by_cases h6 : qp_kd g n = 6
  · rw [if_pos h6, if_pos h6]
    have ho : ∀ S D, qp_out g n S D x = [x] := by
      intro S D; unfold qp_out; rw [h6]; simp
    rw [ho]
    by_cases hc : c = qp_lf g n
    · rw [if_pos hc, if_pos hc]
    · rw [if_neg hc, if_neg hc, List.append_assoc]
  · rw [if_neg h6, if_neg h6]
    unfold qp_fold
    rw [List.foldl_append]
    show _ ++ _ = _
    congr 1
    by_cases h5 : qp_kd g n = 5
    · rw [hS h5]
    · exact qp_out_S h5
/-- the values along a path: each operator has given out what follows from its child, the sink too -/
def qp_CI (g : qp_PL) (V : qp_D) (k : Nat) : Nat → List Nat → qp_S → Prop
  | c, [], s => s.2 k = (s.1 c).foldl (qp_snk g k) []
  | c, n :: ns, s => s.1 n = qp_F g V c n (s.1 c) ∧ qp_CI g V k n ns s
def qp_inc : Nat → List Nat → Prop
  | _, [] => True
  | c, n :: ns => c < n ∧ qp_inc n ns
theorem qp_inc_lt : ∀ (ns : List Nat) (c m : Nat), qp_inc c ns → m ∈ ns → c < m := by
  intro ns
  induction ns with
  | nil => intro c m _ h; exact absurd h (List.not_mem_nil)
  | cons n ns ih =>
    intro c m h hm
    rcases List.mem_cons.1 hm with e | e
    · exact e ▸ h.1
    · exact Nat.lt_trans h.1 (ih n m h.2 e)
theorem qp_CI_fr (g : qp_PL) (V : qp_D) (k : Nat) : ∀ (ns : List Nat) (c : Nat) (s s' : qp_S), (∀ m, m = c ∨ m ∈ ns → s'.1 m = s.1 m) → s'.2 k = s.2 k → qp_CI g V k c ns s → qp_CI g V k c ns s' := by
  intro ns
  induction ns with
  | nil =>
    intro c s s' h hk H
    show s'.2 k = _
    rw [hk, h c (Or.inl rfl)]; exact H
  | cons n ns ih =>
    intro c s s' h hk H
    refine ⟨?_, ih n s s' (fun m hm => h m (Or.inr (by rcases hm with e | e; exact e ▸ List.mem_cons_self ..; exact List.mem_cons_of_mem _ e))) hk H.2⟩
    rw [h n (Or.inr (List.mem_cons_self ..)), h c (Or.inl rfl)]; exact H.1
theorem qp_CI_push (g : qp_PL) (V : qp_D) (k : Nat) : ∀ (ns : List Nat) (c : Nat) (s : qp_S) (x : qp_R), qp_inc c ns → (∀ n ∈ ns, qp_kd g n = 5 → s.2 n = V (qp_rt g n)) → k ∉ ns → qp_CI g V k c ns s →
    qp_CI g V k c ns (qp_push g k ns (qp_add s c x) x) ∧ (qp_push g k ns (qp_add s c x) x).1 c = s.1 c ++ [x] := by
  intro ns
  induction ns with
  | nil =>
    intro c s x _ _ _ H
    refine ⟨?_, qp_up_s⟩
    show qp_up s.2 k (qp_snk g k (s.2 k) x) k = (qp_up s.1 c (s.1 c ++ [x]) c).foldl (qp_snk g k) []
    rw [qp_up_s, qp_up_s, List.foldl_append]
    have H' : s.2 k = (s.1 c).foldl (qp_snk g k) [] := H
    rw [H']; rfl
  | cons n ns ih =>
    intro c s x hi hj hk H
    have hk' : k ∉ ns := fun e => hk (List.mem_cons_of_mem _ e)
    have hkn : n ≠ k := fun e => hk (e ▸ List.mem_cons_self ..)
    have hcn : c ≠ n := Nat.ne_of_lt hi.1
    have hnn : n ∉ ns := fun e => Nat.lt_irrefl _ (qp_inc_lt ns n n hi.2 e)
    -- the inner claim: pushing ys out of n
    have inner : ∀ (ys : qp_W) (s : qp_S), (∀ n ∈ ns, qp_kd g n = 5 → s.2 n = V (qp_rt g n)) → qp_CI g V k n ns s →
        qp_CI g V k n ns (ys.foldl (fun s y => qp_push g k ns (qp_add s n y) y) s) ∧ (ys.foldl (fun s y => qp_push g k ns (qp_add s n y) y) s).1 n = s.1 n ++ ys := by
      intro ys
      induction ys with
      | nil => intro s _ h; exact ⟨h, (List.append_nil _).symm⟩
      | cons y ys ihy =>
        intro s hj' h
        obtain ⟨h1, h2⟩ := ih n s y hi.2 hj' hk' h
        have hfr : ∀ m, m ≠ k → (qp_push g k ns (qp_add s n y) y).2 m = s.2 m := (qp_push_fr g k ns (qp_add s n y) y).2
        obtain ⟨h3, h4⟩ := ihy (qp_push g k ns (qp_add s n y) y) (fun m hm h5 => by rw [hfr m (fun e => hk' (e ▸ hm))]; exact hj' m hm h5) h1
        refine ⟨h3, ?_⟩
        show (ys.foldl _ (qp_push g k ns (qp_add s n y) y)).1 n = _
        rw [h4, h2, List.append_assoc]; rfl
    have e1 : (qp_add s c x).1 n = s.1 n := qp_up_n (Ne.symm hcn)
    have hCI : qp_CI g V k n ns (qp_add s c x) := by
      refine qp_CI_fr g V k ns n s _ (fun m hm => qp_up_n ?_) rfl H.2
      rcases hm with e | e
      · exact e ▸ Ne.symm hcn
      · exact Ne.symm (Nat.ne_of_lt (Nat.lt_trans hi.1 (qp_inc_lt ns n m hi.2 e)))
    obtain ⟨h1, h2⟩ := inner (qp_out g n (s.2 n) (s.1 n) x) (qp_add s c x) (fun m hm => hj m (List.mem_cons_of_mem _ hm)) hCI
    have ep : qp_push g k (n :: ns) (qp_add s c x) x = (qp_out g n (s.2 n) (s.1 n) x).foldl (fun s y => qp_push g k ns (qp_add s n y) y) (qp_add s c x) := by
      show (qp_out g n ((qp_add s c x).2 n) ((qp_add s c x).1 n) x).foldl _ _ = _
      rw [e1]; rfl
    have hc : (qp_push g k (n :: ns) (qp_add s c x) x).1 c = s.1 c ++ [x] := by
      rw [(qp_push_fr g k (n :: ns) (qp_add s c x) x).1 c (by
        intro e
        rcases List.mem_cons.1 e with e | e
        · exact hcn e
        · exact Nat.lt_irrefl _ (Nat.lt_trans hi.1 (qp_inc_lt ns n c hi.2 e)))]
      exact qp_up_s
    refine ⟨⟨?_, ?_⟩, hc⟩
    · rw [hc, qp_F_snoc g V c n (s.1 c) (s.2 n) x (hj n (List.mem_cons_self ..)), ep, h2, e1, ← H.1]
    · rw [ep]; exact h1
/-- a whole pipeline -/
theorem qp_CI_pipe (g : qp_PL) (V : qp_D) (k c : Nat) (ns : List Nat) (s : qp_S) (hi : qp_inc c ns) (hj : ∀ n ∈ ns, qp_kd g n = 5 → s.2 n = V (qp_rt g n)) (hk : k ∉ ns) (H : qp_CI g V k c ns s) :
    qp_CI g V k c ns (qp_pipe g s (k, c, ns)) ∧ (qp_pipe g s (k, c, ns)).1 c = s.1 c ++ qp_rows g s c := by
  unfold qp_pipe
  generalize qp_rows g s c = rows
  dsimp only
  induction rows generalizing s with
  | nil => exact ⟨H, (List.append_nil _).symm⟩
  | cons x rows ih =>
    obtain ⟨h1, h2⟩ := qp_CI_push g V k ns c s x hi hj hk H
    have hfr : ∀ m, m ≠ k → (qp_push g k ns (qp_add s c x) x).2 m = s.2 m := (qp_push_fr g k ns (qp_add s c x) x).2
    obtain ⟨h3, h4⟩ := ih (qp_push g k ns (qp_add s c x) x) (fun m hm h5 => by rw [hfr m (fun e => hk (e ▸ hm))]; exact hj m hm h5) h1
    refine ⟨h3, ?_⟩
    show (rows.foldl _ (qp_push g k ns (qp_add s c x) x)).1 c = _
    rw [h4, h2, List.append_assoc]; rfl
end
section
/-! well-formed plans; the groups of pipelines; the whole program gives the root's value -/
def qp_c (w : Nat) (x : Int32) : Prop := ∃ a : Nat, a < w ∧ x = nI a
def qp_prm (g : qp_PL) (n : Nat) : Prop :=
  (qp_kd g n = 0 → qp_wd g n ≤ 3 ∧ (qp_tb g n).length ≤ 10 ∧ ∀ x ∈ qp_tb g n, x.length = qp_wd g n) ∧
  (qp_kd g n = 1 → qp_c (qp_wd g (qp_lf g n)) (qp_p g n) ∧ qp_c 6 (qp_q g n) ∧ qp_wd g n = qp_wd g (qp_lf g n)) ∧
  (qp_kd g n = 2 → qp_c (qp_wd g (qp_lf g n)) (qp_p g n) ∧ qp_c 6 (qp_q g n) ∧ qp_c (qp_wd g (qp_lf g n)) (qp_r g n) ∧ qp_wd g n = qp_wd g (qp_lf g n)) ∧
  (qp_kd g n = 3 → qp_c 5 (qp_p g n) ∧ qp_c (qp_wd g (qp_lf g n)) (qp_q g n) ∧ qp_c (qp_wd g (qp_lf g n)) (qp_r g n) ∧ qp_wd g n = qp_wd g (qp_lf g n) + 1) ∧
  (qp_kd g n = 4 → qp_q g n = nI (qp_wd g n) ∧ ∀ i, i < qp_wd g n → qp_col (qp_p g n) i < qp_wd g (qp_lf g n)) ∧
  (qp_kd g n = 5 → qp_c 4 (qp_p g n) ∧ qp_c (qp_wd g (qp_lf g n)) (qp_q g n) ∧ qp_c (qp_wd g (qp_rt g n)) (qp_r g n) ∧ qp_wd g n = (if qp_p g n = 0 ∨ qp_p g n = 3 then qp_wd g (qp_lf g n) + qp_wd g (qp_rt g n) else qp_wd g (qp_lf g n))) ∧
  (qp_kd g n = 6 → qp_wd g n = qp_wd g (qp_lf g n) ∧ qp_wd g (qp_rt g n) = qp_wd g (qp_lf g n)) ∧
  (qp_kd g n = 7 → qp_c (qp_wd g (qp_lf g n)) (qp_p g n) ∧ qp_c 4 (qp_q g n) ∧ qp_c (qp_wd g (qp_lf g n)) (qp_r g n) ∧ qp_wd g n = 2) ∧
  (qp_kd g n = 8 → qp_wd g n = qp_wd g (qp_lf g n)) ∧
  (qp_kd g n = 9 → qp_c (2 ^ 31) (qp_p g n) ∧ qp_wd g n = qp_wd g (qp_lf g n)) ∧
  (qp_kd g n = 10 → qp_c (qp_wd g (qp_lf g n)) (qp_p g n) ∧ qp_c 2 (qp_q g n) ∧ qp_wd g n = qp_wd g (qp_lf g n))
def qp_ok (g : qp_PL) (pa : Nat → Nat) (n : Nat) : Prop :=
  qp_kd g n ≤ 10 ∧ 1 ≤ qp_wd g n ∧ qp_wd g n ≤ 6 ∧
  (qp_kd g n ≠ 0 → qp_lf g n < n ∧ pa (qp_lf g n) = n) ∧
  (qp_kd g n = 5 ∨ qp_kd g n = 6 → qp_rt g n < n ∧ pa (qp_rt g n) = n ∧ qp_rt g n ≠ qp_lf g n) ∧
  qp_prm g n
theorem qp_ok_low {g : qp_PL} {pa : Nat → Nat} {n : Nat} (h : qp_ok g pa n) : qp_Low g n := ⟨fun e => (h.2.2.2.1 e).1, fun e => (h.2.2.2.2.1 e).1⟩
theorem qp_so0 {g : qp_PL} {n : Nat} (h : ¬ qp_so g n) : qp_kd g n ≠ 0 := fun e => h (Or.inl e)
/-- m hangs in its parent's pipelines -/
def qp_ed (g : qp_PL) (pa : Nat → Nat) (m : Nat) : Prop := m < pa m ∧ ¬ qp_so g (pa m) ∧ (m = qp_lf g (pa m) ∨ (qp_kd g (pa m) = 6 ∧ m = qp_rt g (pa m)))

section
variable {g : qp_PL} {pa : Nat → Nat} {N : Nat}
theorem qp_sobf {n : Nat} (h : ¬ qp_so g n) : ¬ qp_sob g n = true := fun e => h (qp_sob_t.1 e)
theorem qp_gn_so {f n : Nat} (h : qp_so g n) : qp_gn g (f + 1) n = [n] := if_pos (qp_sob_t.2 h)
theorem qp_gn_6 {f n : Nat} (h : ¬ qp_so g n) (h6 : qp_kd g n = 6) : qp_gn g (f + 1) n = n :: (qp_gn g f (qp_lf g n) ++ qp_gn g f (qp_rt g n)) := by
  show (if _ then _ else _) = _
  rw [if_neg (qp_sobf h), if_pos h6]
theorem qp_gn_o {f n : Nat} (h : ¬ qp_so g n) (h6 : ¬ qp_kd g n = 6) : qp_gn g (f + 1) n = n :: qp_gn g f (qp_lf g n) := by
  show (if _ then _ else _) = _
  rw [if_neg (qp_sobf h), if_neg h6]
theorem qp_src_so {k f n : Nat} {ctx : List Nat} (h : qp_so g n) : qp_src g k (f + 1) n ctx = [(k, n, ctx)] := if_pos (qp_sob_t.2 h)
theorem qp_src_6 {k f n : Nat} {ctx : List Nat} (h : ¬ qp_so g n) (h6 : qp_kd g n = 6) : qp_src g k (f + 1) n ctx = qp_src g k f (qp_lf g n) (n :: ctx) ++ qp_src g k f (qp_rt g n) (n :: ctx) := by
  show (if _ then _ else _) = _
  rw [if_neg (qp_sobf h), if_pos h6]
theorem qp_src_o {k f n : Nat} {ctx : List Nat} (h : ¬ qp_so g n) (h6 : ¬ qp_kd g n = 6) : qp_src g k (f + 1) n ctx = qp_src g k f (qp_lf g n) (n :: ctx) := by
  show (if _ then _ else _) = _
  rw [if_neg (qp_sobf h), if_neg h6]
theorem qp_gn_self {f n : Nat} (h : n < f) : n ∈ qp_gn g f n := by
  obtain ⟨f, rfl⟩ : ∃ f', f = f' + 1 := ⟨f - 1, by omega⟩
  rcases qp_so_dec g n with hs | hs
  · rw [qp_gn_so hs]; exact List.mem_cons_self ..
  · by_cases h6 : qp_kd g n = 6
    · rw [qp_gn_6 hs h6]; exact List.mem_cons_self ..
    · rw [qp_gn_o hs h6]; exact List.mem_cons_self ..
theorem qp_gn_le (hok : ∀ n, n < N → qp_ok g pa n) : ∀ f n, n < f → n < N → ∀ m ∈ qp_gn g f n, m ≤ n := by
  intro f
  induction f with
  | zero => intro n h; exact absurd h (Nat.not_lt_zero _)
  | succ f ih =>
    intro n hf hN m hm
    rcases qp_so_dec g n with hs | hs
    · rw [qp_gn_so hs] at hm
      rw [List.mem_singleton.1 hm]; exact Nat.le_refl _
    · have hl := ((hok n hN).2.2.2.1 (qp_so0 hs)).1
      by_cases h6 : qp_kd g n = 6
      · have hr := ((hok n hN).2.2.2.2.1 (Or.inr h6)).1
        rw [qp_gn_6 hs h6] at hm
        rcases List.mem_cons.1 hm with e | e
        · omega
        · rcases List.mem_append.1 e with e | e
          · have := ih _ (by omega) (by omega) m e; omega
          · have := ih _ (by omega) (by omega) m e; omega
      · rw [qp_gn_o hs h6] at hm
        rcases List.mem_cons.1 hm with e | e
        · omega
        · have := ih _ (by omega) (by omega) m e; omega
theorem qp_gn_up (hok : ∀ n, n < N → qp_ok g pa n) : ∀ f n, n < f → n < N → ∀ m ∈ qp_gn g f n, m = n ∨ (qp_ed g pa m ∧ pa m ∈ qp_gn g f n) := by
  intro f
  induction f with
  | zero => intro n h; exact absurd h (Nat.not_lt_zero _)
  | succ f ih =>
    intro n hf hN m hm
    rcases qp_so_dec g n with hs | hs
    · rw [qp_gn_so hs] at hm
      exact Or.inl (List.mem_singleton.1 hm)
    · obtain ⟨hl, pl⟩ := (hok n hN).2.2.2.1 (qp_so0 hs)
      by_cases h6 : qp_kd g n = 6
      · obtain ⟨hr, pr, hne⟩ := (hok n hN).2.2.2.2.1 (Or.inr h6)
        rw [qp_gn_6 hs h6] at hm ⊢
        rcases List.mem_cons.1 hm with e | e
        · exact Or.inl e
        · right
          rcases List.mem_append.1 e with e | e
          · rcases ih _ (by omega) (by omega) m e with e2 | e2
            · rw [e2]
              refine ⟨⟨by rw [pl]; exact hl, by rw [pl]; exact hs, by rw [pl]; exact Or.inl rfl⟩, ?_⟩
              rw [pl]; exact List.mem_cons_self ..
            · exact ⟨e2.1, List.mem_cons_of_mem _ (List.mem_append_left _ e2.2)⟩
          · rcases ih _ (by omega) (by omega) m e with e2 | e2
            · rw [e2]
              refine ⟨⟨by rw [pr]; exact hr, by rw [pr]; exact hs, by rw [pr]; exact Or.inr ⟨h6, rfl⟩⟩, ?_⟩
              rw [pr]; exact List.mem_cons_self ..
            · exact ⟨e2.1, List.mem_cons_of_mem _ (List.mem_append_right _ e2.2)⟩
      · rw [qp_gn_o hs h6] at hm ⊢
        rcases List.mem_cons.1 hm with e | e
        · exact Or.inl e
        · right
          rcases ih _ (by omega) (by omega) m e with e2 | e2
          · rw [e2]
            refine ⟨⟨by rw [pl]; exact hl, by rw [pl]; exact hs, by rw [pl]; exact Or.inl rfl⟩, ?_⟩
            rw [pl]; exact List.mem_cons_self ..
          · exact ⟨e2.1, List.mem_cons_of_mem _ e2.2⟩
theorem qp_gn_cmp (hok : ∀ n, n < N → qp_ok g pa n) {f f' a b : Nat} (ha : a < f) (haN : a < N) (hb : b < f') (hbN : b < N) : ∀ d m, m + d = N → m ∈ qp_gn g f a → m ∈ qp_gn g f' b → a ∈ qp_gn g f' b ∨ b ∈ qp_gn g f a := by
  intro d
  induction d using Nat.strongRecOn with
  | ind d ih =>
    intro m hd h1 h2
    rcases qp_gn_up hok f a ha haN m h1 with e | ⟨e, e'⟩
    · exact Or.inl (e ▸ h2)
    · rcases qp_gn_up hok f' b hb hbN m h2 with e2 | ⟨e2, e2'⟩
      · exact Or.inr (e2 ▸ h1)
      · have := qp_gn_le hok f a ha haN _ e'
        have := e.1
        exact ih (N - pa m) (by omega) (pa m) (by omega) e' e2'
theorem qp_gn_disj (hok : ∀ n, n < N → qp_ok g pa n) {f n : Nat} (hf : n < f + 1) (hN : n < N) (h6 : qp_kd g n = 6) : ∀ m, m ∈ qp_gn g f (qp_lf g n) → m ∈ qp_gn g f (qp_rt g n) → False := by
  intro m h1 h2
  obtain ⟨hl, pl⟩ := (hok n hN).2.2.2.1 (by omega)
  obtain ⟨hr, pr, hne⟩ := (hok n hN).2.2.2.2.1 (Or.inr h6)
  have hm := qp_gn_le hok f _ (by omega) (by omega) m h1
  rcases qp_gn_cmp hok (f := f) (f' := f) (a := qp_lf g n) (b := qp_rt g n) (by omega) (by omega) (by omega) (by omega) (N - m) m (by omega) h1 h2 with e | e
  · rcases qp_gn_up hok f _ (by omega) (by omega) _ e with e2 | e2
    · exact hne e2.symm
    · have := qp_gn_le hok f _ (by omega) (by omega) _ e2.2
      omega
  · rcases qp_gn_up hok f _ (by omega) (by omega) _ e with e2 | e2
    · exact hne e2
    · have := qp_gn_le hok f _ (by omega) (by omega) _ e2.2
      omega
end
section
variable {g : qp_PL} {pa : Nat → Nat} {N : Nat}
theorem qp_exec_app {l l' : List (Nat × Nat × List Nat)} {s : qp_S} : qp_exec g (l ++ l') s = qp_exec g l' (qp_exec g l s) := List.foldl_append ..
theorem qp_V_0 {n : Nat} (h : qp_kd g n = 0) : qp_V g n = qp_tb g n := by
  rw [qp_V_eq0]; unfold qp_val; rw [if_pos h]
theorem qp_V_6 {n : Nat} (hl : qp_Low g n) (h : qp_kd g n = 6) : qp_V g n = qp_V g (qp_lf g n) ++ qp_V g (qp_rt g n) := by
  rw [qp_V_eq hl]; unfold qp_val; rw [if_neg (by omega), if_pos h]
theorem qp_V_s {n : Nat} (hl : qp_Low g n) (h : qp_kd g n = 7 ∨ qp_kd g n = 10) : qp_V g n = (qp_V g (qp_lf g n)).foldl (qp_snk g n) [] := by
  rw [qp_V_eq hl]; unfold qp_val; rw [if_neg (by omega), if_neg (by omega), if_pos h]
theorem qp_V_o {n : Nat} (hl : qp_Low g n) (hs : ¬ qp_so g n) (h6 : ¬ qp_kd g n = 6) : qp_V g n = qp_fold g n (qp_V g (qp_rt g n)) (qp_V g (qp_lf g n)) := by
  rw [qp_V_eq hl]; unfold qp_val
  rw [if_neg (qp_so0 hs), if_neg h6, if_neg (fun e => hs (Or.inr e))]
theorem qp_F_nil {V : qp_D} {c n : Nat} (h : qp_kd g n = 6 → c = qp_lf g n) : qp_F g V c n [] = [] := by
  unfold qp_F
  by_cases h6 : qp_kd g n = 6
  · rw [if_pos h6, if_pos (h h6)]
  · rw [if_neg h6]; rfl
/-- one group: the pipelines below n -/
theorem qp_group (hok : ∀ n, n < N → qp_ok g pa n) (k : Nat) : ∀ f n (ctx : List Nat) (s : qp_S), n < f → n < N → qp_inc n ctx → qp_CI g (qp_V g) k n ctx s →
    (∀ m ∈ qp_gn g f n, s.1 m = []) → (∀ m ∈ qp_gn g f n, qp_kd g m = 5 → s.2 m = qp_V g (qp_rt g m)) → (∀ m ∈ qp_gn g f n, (qp_kd g m = 7 ∨ qp_kd g m = 10) → s.2 m = qp_V g m) →
    (∀ m ∈ ctx, qp_kd g m = 5 → s.2 m = qp_V g (qp_rt g m)) → k ∉ ctx → k ∉ qp_gn g f n →
    qp_CI g (qp_V g) k n ctx (qp_exec g (qp_src g k f n ctx) s) ∧ (∀ m ∈ qp_gn g f n, (qp_exec g (qp_src g k f n ctx) s).1 m = qp_V g m) ∧ qp_fr k (qp_gn g f n ++ ctx) s (qp_exec g (qp_src g k f n ctx) s) := by
  intro f
  induction f with
  | zero => intro n ctx s h; exact absurd h (Nat.not_lt_zero _)
  | succ f ih =>
    intro n ctx s hf hN hi hC h0 hj hs7 hjc hkc hkg
    have hlow := qp_ok_low (hok n hN)
    rcases qp_so_dec g n with hs | hs
    · rw [qp_src_so hs, qp_gn_so hs]
      show qp_CI g (qp_V g) k n ctx (qp_pipe g s (k, n, ctx)) ∧ _
      have hr : qp_rows g s n = qp_V g n := by
        unfold qp_rows
        by_cases e0 : qp_kd g n = 0
        · rw [if_pos e0, qp_V_0 e0]
        · rw [if_neg e0]
          exact hs7 n (by rw [qp_gn_so hs]; exact List.mem_cons_self ..) (hs.resolve_left e0)
      obtain ⟨h1, h2⟩ := qp_CI_pipe g (qp_V g) k n ctx s hi hjc hkc hC
      refine ⟨h1, ?_, ?_⟩
      · intro m hm
        rw [List.mem_singleton.1 hm]
        show (qp_pipe g s (k, n, ctx)).1 n = _
        rw [h2, h0 n (by rw [qp_gn_so hs]; exact List.mem_cons_self ..), hr]; rfl
      · exact qp_fr_mono (fun m hm => by simpa using hm) (qp_pipe_fr g s k n ctx)
    · obtain ⟨hl, pl⟩ := (hok n hN).2.2.2.1 (qp_so0 hs)
      by_cases h6 : qp_kd g n = 6
      · obtain ⟨hr, pr, hne⟩ := (hok n hN).2.2.2.2.1 (Or.inr h6)
        rw [qp_gn_6 hs h6] at h0 hj hs7 hkg ⊢
        rw [qp_src_6 hs h6, qp_exec_app]
        have mL : ∀ m, m ∈ qp_gn g f (qp_lf g n) → m ∈ n :: (qp_gn g f (qp_lf g n) ++ qp_gn g f (qp_rt g n)) := fun m hm => List.mem_cons_of_mem _ (List.mem_append_left _ hm)
        have mR : ∀ m, m ∈ qp_gn g f (qp_rt g n) → m ∈ n :: (qp_gn g f (qp_lf g n) ++ qp_gn g f (qp_rt g n)) := fun m hm => List.mem_cons_of_mem _ (List.mem_append_right _ hm)
        have hkn : n ≠ k := fun e => hkg (e ▸ List.mem_cons_self ..)
        have hkc' : k ∉ n :: ctx := fun e => by
          rcases List.mem_cons.1 e with e | e
          · exact hkn e.symm
          · exact hkc e
        have hjn : qp_kd g n = 5 → s.2 n = qp_V g (qp_rt g n) := fun e => by omega
        have sl : qp_lf g n ∈ qp_gn g f (qp_lf g n) := qp_gn_self (by omega)
        have sr : qp_rt g n ∈ qp_gn g f (qp_rt g n) := qp_gn_self (by omega)
        have big : ∀ m c, c < n → m ≤ c → m ∉ n :: ctx := fun m c h1 h2 e => by
          rcases List.mem_cons.1 e with e | e
          · omega
          · have := qp_inc_lt ctx n m hi e; omega
        have gl := qp_gn_le hok f (qp_lf g n) (by omega) (by omega)
        have gr := qp_gn_le hok f (qp_rt g n) (by omega) (by omega)
        obtain ⟨a1, a2, a3⟩ := ih (qp_lf g n) (n :: ctx) s (by omega) (by omega) ⟨hl, hi⟩
          ⟨by rw [h0 n (List.mem_cons_self ..), h0 _ (mL _ sl), qp_F_nil (fun _ => rfl)], hC⟩
          (fun m hm => h0 m (mL m hm)) (fun m hm => hj m (mL m hm)) (fun m hm => hs7 m (mL m hm))
          (fun m hm h5 => by
            rcases List.mem_cons.1 hm with e | e
            · exact e ▸ hjn (e ▸ h5)
            · exact hjc m e h5) hkc' (fun e => hkg (mL _ e))
        generalize qp_exec g (qp_src g k f (qp_lf g n) (n :: ctx)) s = s1 at a1 a2 a3 ⊢
        have nR : ∀ m, m ∈ qp_gn g f (qp_rt g n) → m ∉ qp_gn g f (qp_lf g n) ++ (n :: ctx) := fun m hm e => by
          rcases List.mem_append.1 e with e | e
          · exact qp_gn_disj hok hf hN h6 m e hm
          · exact big m _ hr (gr m hm) e
        have z1 : ∀ m, m ∈ qp_gn g f (qp_rt g n) → s1.1 m = [] := fun m hm => by rw [a3.1 m (nR m hm)]; exact h0 m (mR m hm)
        have kR : ∀ m, m ∈ qp_gn g f (qp_rt g n) → m ≠ k := fun m hm e => hkg (e ▸ mR m hm)
        have e1 : s1.1 n = qp_V g (qp_lf g n) := by
          rw [a1.1, a2 _ sl]; unfold qp_F; rw [if_pos h6, if_pos rfl]
        obtain ⟨b1, b2, b3⟩ := ih (qp_rt g n) (n :: ctx) s1 (by omega) (by omega) ⟨hr, hi⟩
          ⟨by rw [e1, z1 _ sr]; unfold qp_F; rw [if_pos h6, if_neg hne, List.append_nil], a1.2⟩
          z1 (fun m hm h5 => by rw [a3.2 m (kR m hm)]; exact hj m (mR m hm) h5) (fun m hm h5 => by rw [a3.2 m (kR m hm)]; exact hs7 m (mR m hm) h5)
          (fun m hm h5 => by
            rw [a3.2 m (fun e => hkc' (e ▸ hm))]
            rcases List.mem_cons.1 hm with e | e
            · exact e ▸ hjn (e ▸ h5)
            · exact hjc m e h5) hkc' (fun e => hkg (mR _ e))
        generalize qp_exec g (qp_src g k f (qp_rt g n) (n :: ctx)) s1 = s2 at b1 b2 b3 ⊢
        have nL : ∀ m, m ∈ qp_gn g f (qp_lf g n) → m ∉ qp_gn g f (qp_rt g n) ++ (n :: ctx) := fun m hm e => by
          rcases List.mem_append.1 e with e | e
          · exact qp_gn_disj hok hf hN h6 m hm e
          · exact big m _ hl (gl m hm) e
        refine ⟨b1.2, ?_, ?_⟩
        · intro m hm
          rcases List.mem_cons.1 hm with e | e
          · rw [e, b1.1, b2 _ sr, qp_V_6 hlow h6]; unfold qp_F; rw [if_pos h6, if_neg hne]
          · rcases List.mem_append.1 e with e | e
            · rw [b3.1 m (nL m e)]; exact a2 m e
            · exact b2 m e
        · refine qp_fr_trans (qp_fr_mono ?_ a3) (qp_fr_mono ?_ b3)
          · intro m hm
            simp only [List.mem_append, List.mem_cons] at hm ⊢
            rcases hm with e | e | e
            · exact Or.inl (Or.inr (Or.inl e))
            · exact Or.inl (Or.inl e)
            · exact Or.inr e
          · intro m hm
            simp only [List.mem_append, List.mem_cons] at hm ⊢
            rcases hm with e | e | e
            · exact Or.inl (Or.inr (Or.inr e))
            · exact Or.inl (Or.inl e)
            · exact Or.inr e
      · rw [qp_gn_o hs h6] at h0 hj hs7 hkg ⊢
        rw [qp_src_o hs h6]
        have mL : ∀ m, m ∈ qp_gn g f (qp_lf g n) → m ∈ n :: qp_gn g f (qp_lf g n) := fun m hm => List.mem_cons_of_mem _ hm
        have hkn : n ≠ k := fun e => hkg (e ▸ List.mem_cons_self ..)
        have hkc' : k ∉ n :: ctx := fun e => by
          rcases List.mem_cons.1 e with e | e
          · exact hkn e.symm
          · exact hkc e
        have sl : qp_lf g n ∈ qp_gn g f (qp_lf g n) := qp_gn_self (by omega)
        obtain ⟨a1, a2, a3⟩ := ih (qp_lf g n) (n :: ctx) s (by omega) (by omega) ⟨hl, hi⟩
          ⟨by rw [h0 n (List.mem_cons_self ..), h0 _ (mL _ sl), qp_F_nil (fun _ => rfl)], hC⟩
          (fun m hm => h0 m (mL m hm)) (fun m hm => hj m (mL m hm)) (fun m hm => hs7 m (mL m hm))
          (fun m hm h5 => by
            rcases List.mem_cons.1 hm with e | e
            · exact e ▸ hj n (List.mem_cons_self ..) (e ▸ h5)
            · exact hjc m e h5) hkc' (fun e => hkg (mL _ e))
        generalize qp_exec g (qp_src g k f (qp_lf g n) (n :: ctx)) s = s1 at a1 a2 a3 ⊢
        refine ⟨a1.2, ?_, ?_⟩
        · intro m hm
          rcases List.mem_cons.1 hm with e | e
          · rw [e, a1.1, a2 _ sl, qp_V_o hlow hs h6]; unfold qp_F; rw [if_neg h6]
          · exact a2 m e
        · refine qp_fr_mono ?_ a3
          intro m hm
          simp only [List.mem_append, List.mem_cons] at hm ⊢
          rcases hm with e | e | e
          · exact Or.inl (Or.inr e)
          · exact Or.inl (Or.inl e)
          · exact Or.inr e
end
end
section
/-! the whole program -/
section
variable {g : qp_PL} {pa : Nat → Nat} {N : Nat}
theorem qp_top_ok (hok : ∀ n, n < N → qp_ok g pa n) {i : Nat} (hi : i < N) (hb : qp_brk g i = true) : qp_top g i < i ∧ pa (qp_top g i) = i ∧ ¬ qp_ed g pa (qp_top g i) := by
  have hb' : qp_kd g i = 5 ∨ qp_kd g i = 7 ∨ qp_kd g i = 10 := by
    unfold qp_brk at hb; simpa [or_assoc] using hb
  unfold qp_top
  by_cases h5 : qp_kd g i = 5
  · rw [if_pos h5]
    obtain ⟨hr, pr, hne⟩ := (hok i hi).2.2.2.2.1 (Or.inl h5)
    refine ⟨hr, pr, fun e => ?_⟩
    have e2 := e.2.2
    rw [pr] at e2
    rcases e2 with e2 | e2
    · exact hne e2
    · omega
  · rw [if_neg h5]
    obtain ⟨hl, pl⟩ := (hok i hi).2.2.2.1 (by omega)
    refine ⟨hl, pl, fun e => ?_⟩
    have e2 := e.2.1
    rw [pl] at e2
    exact e2 (Or.inr (hb'.resolve_left h5))
/-- different groups share no node -/
theorem qp_tops (hok : ∀ n, n < N → qp_ok g pa n) (hN : N ≤ 12) {i j : Nat} (hi : i < N) (hj : j < i) (hbi : qp_brk g i = true) (hbj : qp_brk g j = true) : ∀ m, m ∈ qp_gn g 13 (qp_top g i) → m ∈ qp_gn g 13 (qp_top g j) → False := by
  intro m h1 h2
  obtain ⟨a1, a2, a3⟩ := qp_top_ok hok hi hbi
  obtain ⟨b1, b2, b3⟩ := qp_top_ok hok (Nat.lt_trans hj hi) hbj
  have hm := qp_gn_le hok 13 _ (by omega) (by omega) m h1
  rcases qp_gn_cmp hok (f := 13) (f' := 13) (a := qp_top g i) (b := qp_top g j) (by omega) (by omega) (by omega) (by omega) (N - m) m (by omega) h1 h2 with e | e
  · rcases qp_gn_up hok 13 _ (by omega) (by omega) _ e with e2 | e2
    · rw [e2] at a2; omega
    · exact a3 e2.1
  · rcases qp_gn_up hok 13 _ (by omega) (by omega) _ e with e2 | e2
    · rw [e2] at b2; omega
    · exact b3 e2.1
theorem qp_tops_root (hok : ∀ n, n < N → qp_ok g pa n) (hN : N ≤ 12) {root j : Nat} (hi : root < N) (hj : j ≤ root) (hbj : qp_brk g j = true) : ∀ m, m ∈ qp_gn g 13 root → m ∈ qp_gn g 13 (qp_top g j) → False := by
  intro m h1 h2
  obtain ⟨b1, b2, b3⟩ := qp_top_ok hok (Nat.lt_of_le_of_lt hj hi) hbj
  have hm := qp_gn_le hok 13 _ (by omega) (by omega) m h1
  rcases qp_gn_cmp hok (f := 13) (f' := 13) (a := root) (b := qp_top g j) (by omega) (by omega) (by omega) (by omega) (N - m) m (by omega) h1 h2 with e | e
  · have := qp_gn_le hok 13 _ (by omega) (by omega) _ e; omega
  · rcases qp_gn_up hok 13 _ (by omega) (by omega) _ e with e2 | e2
    · omega
    · exact b3 e2.1
/-- wanted nodes: closed downwards -/
def qp_wcl (g : qp_PL) (w : Nat → Bool) (root : Nat) : Prop := w root = true ∧ ∀ n, n ≤ root → w n = true → (qp_kd g n ≠ 0 → w (qp_lf g n) = true) ∧ (qp_kd g n = 5 ∨ qp_kd g n = 6 → w (qp_rt g n) = true)
theorem qp_w_gn (hok : ∀ n, n < N → qp_ok g pa n) {w : Nat → Bool} {root : Nat} (hr : root < N) (hw : qp_wcl g w root) : ∀ f n, n < f → n ≤ root → w n = true → ∀ m ∈ qp_gn g f n, w m = true := by
  intro f
  induction f with
  | zero => intro n h; exact absurd h (Nat.not_lt_zero _)
  | succ f ih =>
    intro n hf hn hwn m hm
    have hN : n < N := by omega
    rcases qp_so_dec g n with hs | hs
    · rw [qp_gn_so hs] at hm
      rw [List.mem_singleton.1 hm]; exact hwn
    · obtain ⟨hl, pl⟩ := (hok n hN).2.2.2.1 (qp_so0 hs)
      by_cases h6 : qp_kd g n = 6
      · obtain ⟨hr', pr, hne⟩ := (hok n hN).2.2.2.2.1 (Or.inr h6)
        rw [qp_gn_6 hs h6] at hm
        rcases List.mem_cons.1 hm with e | e
        · exact e ▸ hwn
        · rcases List.mem_append.1 e with e | e
          · exact ih _ (by omega) (by omega) ((hw.2 n hn hwn).1 (by omega)) m e
          · exact ih _ (by omega) (by omega) ((hw.2 n hn hwn).2 (Or.inr h6)) m e
      · rw [qp_gn_o hs h6] at hm
        rcases List.mem_cons.1 hm with e | e
        · exact e ▸ hwn
        · exact ih _ (by omega) (by omega) ((hw.2 n hn hwn).1 (qp_so0 hs)) m e
theorem qp_top_w {w : Nat → Bool} {root i : Nat} (hw : qp_wcl g w root) (hi : i ≤ root) (hwi : w i = true) (hb : qp_brk g i = true) : w (qp_top g i) = true := by
  have hb' : qp_kd g i = 5 ∨ qp_kd g i = 7 ∨ qp_kd g i = 10 := by
    unfold qp_brk at hb; simpa [or_assoc] using hb
  unfold qp_top
  by_cases h5 : qp_kd g i = 5
  · rw [if_pos h5]; exact (hw.2 i hi hwi).2 (Or.inl h5)
  · rw [if_neg h5]; exact (hw.2 i hi hwi).1 (by omega)
def qp_act (g : qp_PL) (w : Nat → Bool) (j : Nat) : Prop := w j = true ∧ qp_brk g j = true
def qp_fin (g : qp_PL) (j : Nat) : qp_W := if qp_kd g j = 5 then qp_V g (qp_rt g j) else qp_V g j
/-- the state after the groups below i -/
def qp_PI (g : qp_PL) (w : Nat → Bool) (i : Nat) (s : qp_S) : Prop :=
  (∀ j, j < i → qp_act g w j → s.2 j = qp_fin g j) ∧ (∀ j, i ≤ j ∨ ¬ qp_act g w j → s.2 j = []) ∧
  (∀ m, s.1 m = [] ∨ ∃ j, j < i ∧ qp_act g w j ∧ m ∈ qp_gn g 13 (qp_top g j) ∧ s.1 m = qp_V g m)
theorem qp_app_fold (A B : qp_W) : A.foldl (fun T x => T ++ [x]) B = B ++ A := by
  induction A generalizing B with
  | nil => exact (List.append_nil _).symm
  | cons a A ih => show A.foldl _ (B ++ [a]) = _; rw [ih, List.append_assoc]; rfl
theorem qp_snk_app {k : Nat} (h : k = 12 ∨ (qp_kd g k ≠ 7 ∧ qp_kd g k ≠ 10)) (A : qp_W) : A.foldl (qp_snk g k) [] = A := by
  have : qp_snk g k = fun T x => T ++ [x] := by
    funext T x
    unfold qp_snk
    by_cases e : k = 12
    · rw [if_pos e]
    · have h' := h.resolve_left e
      rw [if_neg e, if_neg h'.1, if_neg h'.2]
  rw [this, qp_app_fold]; rfl
theorem qp_fin_top (hok : ∀ n, n < N → qp_ok g pa n) {i : Nat} (hN : N ≤ 12) (hi : i < N) (hb : qp_brk g i = true) : (qp_V g (qp_top g i)).foldl (qp_snk g i) [] = qp_fin g i := by
  have hb' : qp_kd g i = 5 ∨ qp_kd g i = 7 ∨ qp_kd g i = 10 := by
    unfold qp_brk at hb; simpa [or_assoc] using hb
  unfold qp_top qp_fin
  by_cases h5 : qp_kd g i = 5
  · rw [if_pos h5, if_pos h5, qp_snk_app (Or.inr ⟨by omega, by omega⟩)]
  · rw [if_neg h5, if_neg h5, qp_V_s (qp_ok_low (hok i hi)) (hb'.resolve_left h5)]
theorem qp_PI_join {w : Nat → Bool} {root i : Nat} {s : qp_S} (hI : qp_PI g w i s) {m : Nat} (hm : m < i) (hwm : w m = true) (h5 : qp_kd g m = 5) : s.2 m = qp_V g (qp_rt g m) := by
  rw [hI.1 m hm ⟨hwm, by unfold qp_brk; rw [h5]; rfl⟩]; unfold qp_fin; rw [if_pos h5]
theorem qp_PI_src {w : Nat → Bool} {root i : Nat} {s : qp_S} (hI : qp_PI g w i s) {m : Nat} (hm : m < i) (hwm : w m = true) (h5 : qp_kd g m = 7 ∨ qp_kd g m = 10) : s.2 m = qp_V g m := by
  rw [hI.1 m hm ⟨hwm, by unfold qp_brk; rcases h5 with e | e <;> rw [e] <;> rfl⟩]; unfold qp_fin; rw [if_neg (by omega)]
theorem qp_PI_step (hok : ∀ n, n < N → qp_ok g pa n) (hN : N ≤ 12) {w : Nat → Bool} {root : Nat} (hr : root < N) (hw : qp_wcl g w root) {i : Nat} (hi : i ≤ root) {s : qp_S} (hI : qp_PI g w i s) : qp_PI g w (i + 1) (qp_exec g (qp_grp g w i) s) := by
  unfold qp_grp
  by_cases ha : (w i && qp_brk g i) = true
  · rw [if_pos ha]
    have ha' : qp_act g w i := by simpa [qp_act] using ha
    obtain ⟨t1, t2, t3⟩ := qp_top_ok hok (i := i) (by omega) ha'.2
    have wt := qp_top_w hw hi ha'.1 ha'.2
    have wg := qp_w_gn hok hr hw 13 (qp_top g i) (by omega) (by omega) wt
    have le := qp_gn_le hok 13 (qp_top g i) (by omega) (by omega)
    have z : ∀ m ∈ qp_gn g 13 (qp_top g i), s.1 m = [] := by
      intro m hm
      rcases hI.2.2 m with e | ⟨j, hj, aj, mj, _⟩
      · exact e
      · exact (qp_tops hok hN (by omega) hj ha'.2 aj.2 m hm mj).elim
    have zi : s.2 i = [] := hI.2.1 i (Or.inl (Nat.le_refl _))
    obtain ⟨a1, a2, a3⟩ := qp_group hok i 13 (qp_top g i) [] s (by omega) (by omega) trivial
      (by show s.2 i = (s.1 _).foldl _ []; rw [zi, z _ (qp_gn_self (by omega))]; rfl) z
      (fun m hm h5 => qp_PI_join (root := root) hI (by have := le m hm; omega) (wg m hm) h5) (fun m hm h5 => qp_PI_src (root := root) hI (by have := le m hm; omega) (wg m hm) h5)
      (fun m hm => absurd hm (List.not_mem_nil)) (List.not_mem_nil) (fun e => by have := le i e; omega)
    generalize qp_exec g (qp_src g i 13 (qp_top g i) []) s = s1 at a1 a2 a3 ⊢
    rw [List.append_nil] at a3
    refine ⟨?_, ?_, ?_⟩
    · intro j hj aj
      by_cases e : j = i
      · subst e
        have a1' : s1.2 j = (s1.1 (qp_top g j)).foldl (qp_snk g j) [] := a1
        rw [a1', a2 _ (qp_gn_self (by omega)), qp_fin_top hok hN (by omega) aj.2]
      · rw [a3.2 j e]; exact hI.1 j (by omega) aj
    · intro j hj
      have e : j ≠ i := by
        rcases hj with e | e
        · omega
        · intro e2; exact e (e2 ▸ ha')
      rw [a3.2 j e]
      exact hI.2.1 j (by rcases hj with e | e; exact Or.inl (by omega); exact Or.inr e)
    · intro m
      by_cases hm : m ∈ qp_gn g 13 (qp_top g i)
      · exact Or.inr ⟨i, by omega, ha', hm, a2 m hm⟩
      · rw [a3.1 m hm]
        rcases hI.2.2 m with e | ⟨j, hj, r⟩
        · exact Or.inl e
        · exact Or.inr ⟨j, by omega, r⟩
  · rw [if_neg ha]
    have ha' : ¬ qp_act g w i := fun e => ha (by simpa [qp_act] using e)
    refine ⟨fun j hj aj => ?_, fun j hj => ?_, fun m => ?_⟩
    · by_cases e : j = i
      · exact absurd (e ▸ aj) ha'
      · exact hI.1 j (by omega) aj
    · exact hI.2.1 j (by rcases hj with e | e; exact Or.inl (by omega); exact Or.inr e)
    · rcases hI.2.2 m with e | ⟨j, hj, r⟩
      · exact Or.inl e
      · exact Or.inr ⟨j, by omega, r⟩
def qp_s0 : qp_S := (fun _ => [], fun _ => [])
theorem qp_PI_all (hok : ∀ n, n < N → qp_ok g pa n) (hN : N ≤ 12) {w : Nat → Bool} {root : Nat} (hr : root < N) (hw : qp_wcl g w root) : ∀ i, i ≤ root + 1 → qp_PI g w i (qp_exec g (qp_prog g w i) qp_s0) := by
  intro i
  induction i with
  | zero => intro _; exact ⟨fun j hj => absurd hj (Nat.not_lt_zero _), fun _ _ => rfl, fun _ => Or.inl rfl⟩
  | succ i ih =>
    intro hi
    show qp_PI g w (i + 1) (qp_exec g (qp_prog g w i ++ qp_grp g w i) qp_s0)
    rw [qp_exec_app]
    exact qp_PI_step hok hN hr hw (by omega) (ih (by omega))
/-- the whole program gives the root's value, and nothing ever holds more than 24 rows -/
theorem qp_main (hok : ∀ n, n < N → qp_ok g pa n) (hN : N ≤ 12) {w : Nat → Bool} {root : Nat} (hr : root < N) (hw : qp_wcl g w root) (hV : ∀ m, m ≤ root → w m = true → (qp_V g m).length ≤ 24) :
    (qp_exec g (qp_full g w root) qp_s0).2 12 = qp_V g root ∧ ∀ m, ((qp_exec g (qp_full g w root) qp_s0).1 m).length ≤ 24 ∧ ((qp_exec g (qp_full g w root) qp_s0).2 m).length ≤ 24 := by
  unfold qp_full
  rw [qp_exec_app]
  have hI := qp_PI_all hok hN hr hw (root + 1) (Nat.le_refl _)
  generalize qp_exec g (qp_prog g w (root + 1)) qp_s0 = s at hI ⊢
  have wg := qp_w_gn hok hr hw 13 root (by omega) (by omega) hw.1
  have le := qp_gn_le hok 13 root (by omega) (by omega)
  have z : ∀ m ∈ qp_gn g 13 root, s.1 m = [] := by
    intro m hm
    rcases hI.2.2 m with e | ⟨j, hj, aj, mj, _⟩
    · exact e
    · exact (qp_tops_root hok hN hr (by omega) aj.2 m hm mj).elim
  have z12 : s.2 12 = [] := hI.2.1 12 (Or.inl (by omega))
  obtain ⟨a1, a2, a3⟩ := qp_group hok 12 13 root [] s (by omega) (by omega) trivial
    (by show s.2 12 = (s.1 _).foldl _ []; rw [z12, z _ (qp_gn_self (by omega))]; rfl) z
    (fun m hm h5 => qp_PI_join (root := root) hI (by have := le m hm; omega) (wg m hm) h5) (fun m hm h5 => qp_PI_src (root := root) hI (by have := le m hm; omega) (wg m hm) h5)
    (fun m hm => absurd hm (List.not_mem_nil)) (List.not_mem_nil) (fun e => by have := le 12 e; omega)
  generalize qp_exec g (qp_src g 12 13 root []) s = s1 at a1 a2 a3 ⊢
  rw [List.append_nil] at a3
  have e12 : s1.2 12 = qp_V g root := by
    have a1' : s1.2 12 = (s1.1 root).foldl (qp_snk g 12) [] := a1
    rw [a1', a2 _ (qp_gn_self (by omega)), qp_snk_app (Or.inl rfl)]
  refine ⟨e12, fun m => ⟨?_, ?_⟩⟩
  · by_cases hm : m ∈ qp_gn g 13 root
    · rw [a2 m hm]; exact hV m (le m hm) (wg m hm)
    · rw [a3.1 m hm]
      rcases hI.2.2 m with e | ⟨j, hj, aj, mj, e⟩
      · rw [e]; exact Nat.zero_le _
      · rw [e]
        obtain ⟨t1, _, _⟩ := qp_top_ok hok (i := j) (by omega) aj.2
        have := qp_gn_le hok 13 _ (by omega) (by omega) m mj
        exact hV m (by omega) (qp_w_gn hok hr hw 13 _ (by omega) (by omega) (qp_top_w hw (by omega) aj.1 aj.2) m mj)
  · by_cases em : m = 12
    · rw [em, e12]; exact hV root (Nat.le_refl _) hw.1
    · rw [a3.2 m em]
      by_cases h1 : m < root + 1
      · by_cases h2 : qp_act g w m
        · rw [hI.1 m h1 h2]
          unfold qp_fin
          by_cases h5 : qp_kd g m = 5
          · rw [if_pos h5]
            have := ((hok m (by omega)).2.2.2.2.1 (Or.inl h5)).1
            exact hV _ (by omega) ((hw.2 m (by omega) h2.1).2 (Or.inl h5))
          · rw [if_neg h5]; exact hV m (by omega) h2.1
        · rw [hI.2.1 m (Or.inr h2)]; exact Nat.zero_le _
      · rw [hI.2.1 m (Or.inl (by omega))]; exact Nat.zero_le _
end
end
section
/-! hash chains, purely -/
/-- the first index at or behind e whose row has P; -1 if there is none -/
def qm_fi (P : qp_R → Bool) : qp_W → Nat → Int32
  | [], _ => -1
  | y :: ys, e => if P y = true then nI e else qm_fi P ys (e + 1)
theorem qm_fi_t {P : qp_R → Bool} {y : qp_R} {ys : qp_W} {e : Nat} (h : P y = true) : qm_fi P (y :: ys) e = nI e := if_pos h
theorem qm_fi_f {P : qp_R → Bool} {y : qp_R} {ys : qp_W} {e : Nat} (h : ¬ P y = true) : qm_fi P (y :: ys) e = qm_fi P ys (e + 1) := if_neg h
theorem qm_fi_none {P : qp_R → Bool} : ∀ (T : qp_W) (e : Nat), (∀ y ∈ T, ¬ P y = true) → qm_fi P T e = -1 := by
  intro T
  induction T with
  | nil => intro e _; rfl
  | cons y ys ih =>
    intro e h
    rw [qm_fi_f (h y (List.mem_cons_self ..))]
    exact ih (e + 1) (fun z hz => h z (List.mem_cons_of_mem _ hz))
theorem qm_fi_cases {P : qp_R → Bool} : ∀ (T : qp_W) (e : Nat), (qm_fi P T e = -1 ∧ ∀ y ∈ T, ¬ P y = true) ∨ ∃ i, i < T.length ∧ qm_fi P T e = nI (e + i) ∧ P (T.getD i []) = true ∧ (∀ B, qm_fi P (T ++ B) e = nI (e + i)) ∧ ∀ j, j < i → ¬ P (T.getD j []) = true := by
  intro T
  induction T with
  | nil => intro e; exact Or.inl ⟨rfl, fun y hy => absurd hy (List.not_mem_nil)⟩
  | cons y ys ih =>
    intro e
    by_cases h : P y = true
    · refine Or.inr ⟨0, by simp, qm_fi_t h, h, fun B => ?_, fun j hj => absurd hj (Nat.not_lt_zero _)⟩
      rw [List.cons_append, qm_fi_t h]; rfl
    · rcases ih (e + 1) with ⟨h1, h2⟩ | ⟨i, h1, h2, h3, h4, h5⟩
      · refine Or.inl ⟨by rw [qm_fi_f h]; exact h1, fun z hz => ?_⟩
        rcases List.mem_cons.1 hz with e | e
        · rw [e]; exact h
        · exact h2 z e
      · refine Or.inr ⟨i + 1, by simp only [List.length_cons]; omega, ?_, h3, fun B => ?_, fun j hj => ?_⟩
        · rw [qm_fi_f h, h2]; exact congrArg nI (by omega)
        · rw [List.cons_append, qm_fi_f h, h4]; exact congrArg nI (by omega)
        · cases j with
          | zero => exact h
          | succ j => exact h5 j (by omega)
theorem qm_fi_app_f {P : qp_R → Bool} {x : qp_R} (h : ¬ P x = true) : ∀ (T : qp_W) (e : Nat), qm_fi P (T ++ [x]) e = qm_fi P T e := by
  intro T
  induction T with
  | nil => intro e; exact qm_fi_f h
  | cons y ys ih =>
    intro e
    by_cases hy : P y = true
    · rw [List.cons_append, qm_fi_t hy, qm_fi_t hy]
    · rw [List.cons_append, qm_fi_f hy, qm_fi_f hy]; exact ih _
theorem qm_fi_app_n {P : qp_R → Bool} {x : qp_R} (h : P x = true) : ∀ (T : qp_W) (e : Nat), (∀ y ∈ T, ¬ P y = true) → qm_fi P (T ++ [x]) e = nI (e + T.length) := by
  intro T
  induction T with
  | nil => intro e _; exact qm_fi_t h
  | cons y ys ih =>
    intro e hn
    rw [List.cons_append, qm_fi_f (hn y (List.mem_cons_self ..)), ih (e + 1) (fun z hz => hn z (List.mem_cons_of_mem _ hz))]
    exact congrArg nI (by simp only [List.length_cons]; omega)
theorem qm_drop {T : qp_W} {i : Nat} (h : i < T.length) : T.drop i = T.getD i [] :: T.drop (i + 1) := by
  rw [List.drop_eq_getElem_cons h, List.getD_eq_getElem?_getD, List.getElem?_eq_getElem h]; rfl
theorem qm_getD_mem {T : qp_W} {i : Nat} (h : i < T.length) : T.getD i [] ∈ T := by
  rw [List.getD_eq_getElem?_getD, List.getElem?_eq_getElem h]; exact List.getElem_mem h
theorem qm_mem_getD {T : qp_W} {y : qp_R} (h : y ∈ T) : ∃ i, i < T.length ∧ T.getD i [] = y := by
  obtain ⟨i, hi, e⟩ := List.getElem_of_mem h
  exact ⟨i, hi, by rw [List.getD_eq_getElem?_getD, List.getElem?_eq_getElem hi]; exact e⟩
theorem qm_getD_app {T : qp_W} {x : qp_R} {i : Nat} (h : i < T.length) : (T ++ [x]).getD i [] = T.getD i [] := by
  rw [List.getD_eq_getElem?_getD, List.getD_eq_getElem?_getD, List.getElem?_append_left h]
theorem qm_getD_last {T : qp_W} {x : qp_R} : (T ++ [x]).getD T.length [] = x := by
  rw [List.getD_eq_getElem?_getD, List.getElem?_append_right (Nat.le_refl _), Nat.sub_self]; rfl

/-- chains of node n for the rows T under the hash hf -/
def qm_ch (hf : qp_R → Nat) (T : qp_W) (hd tl lk : Nat → Int32) (n : Nat) : Prop :=
  (∀ h, h < 8 → hd (n * 8 + h) = qm_fi (fun y => decide (hf y = h)) T 0) ∧
  (∀ e, e < T.length → lk (n * 24 + e) = qm_fi (fun y => decide (hf y = hf (T.getD e []))) (T.drop (e + 1)) (e + 1)) ∧
  (∀ h, h < 8 → (∀ y ∈ T, hf y ≠ h) ∨ ∃ e, e < T.length ∧ tl (n * 8 + h) = nI e ∧ hf (T.getD e []) = h ∧ ∀ e', e < e' → e' < T.length → hf (T.getD e' []) ≠ h)
theorem qm_ch_fr {hf : qp_R → Nat} {T : qp_W} {hd tl lk hd' tl' lk' : Nat → Int32} {n : Nat} (h1 : ∀ h, h < 8 → hd' (n * 8 + h) = hd (n * 8 + h)) (h2 : ∀ h, h < 8 → tl' (n * 8 + h) = tl (n * 8 + h)) (h3 : ∀ e, e < T.length → lk' (n * 24 + e) = lk (n * 24 + e)) (H : qm_ch hf T hd tl lk n) : qm_ch hf T hd' tl' lk' n := by
  refine ⟨fun h hh => (h1 h hh).trans (H.1 h hh), fun e he => (h3 e he).trans (H.2.1 e he), fun h hh => ?_⟩
  rcases H.2.2 h hh with e | ⟨e, he, r, r'⟩
  · exact Or.inl e
  · exact Or.inr ⟨e, he, (h2 h hh).trans r, r'⟩
/-- a row more at the end of its chain -/
theorem qm_ch_app {hf : qp_R → Nat} {T : qp_W} {hd tl lk : Nat → Int32} {n : Nat} {x : qp_R} (hx : hf x < 8) (hT : T.length < 24) (H : qm_ch hf T hd tl lk n) :
    (hd (n * 8 + hf x) = -1 → qm_ch hf (T ++ [x]) (upd hd (n * 8 + hf x) (nI T.length)) (upd tl (n * 8 + hf x) (nI T.length)) (upd lk (n * 24 + T.length) (-1)) n) ∧
    (∀ t, t < T.length → hd (n * 8 + hf x) ≠ -1 → tl (n * 8 + hf x) = nI t → qm_ch hf (T ++ [x]) hd (upd tl (n * 8 + hf x) (nI T.length)) (upd (upd lk (n * 24 + T.length) (-1)) (n * 24 + t) (nI T.length)) n) := by
  have tlx : ∀ tl' : Nat → Int32, tl' = upd tl (n * 8 + hf x) (nI T.length) → ∀ h, h < 8 → (∀ y ∈ T ++ [x], hf y ≠ h) ∨ ∃ e, e < (T ++ [x]).length ∧ tl' (n * 8 + h) = nI e ∧ hf ((T ++ [x]).getD e []) = h ∧ ∀ e', e < e' → e' < (T ++ [x]).length → hf ((T ++ [x]).getD e' []) ≠ h := by
    intro tl' e0 h hh
    subst e0
    have hl : (T ++ [x]).length = T.length + 1 := by simp
    by_cases e : h = hf x
    · subst e
      exact Or.inr ⟨T.length, by omega, pk_us, by rw [qm_getD_last], fun e' h1 h2 => by omega⟩
    · rcases H.2.2 h hh with e2 | ⟨e2, he, r1, r2, r3⟩
      · refine Or.inl (fun y hy => ?_)
        rcases List.mem_append.1 hy with e3 | e3
        · exact e2 y e3
        · rw [List.mem_singleton.1 e3]; exact fun h => e h.symm
      · refine Or.inr ⟨e2, by omega, by rw [pk_un (by omega)]; exact r1, by rw [qm_getD_app he]; exact r2, fun e' h1 h2 => ?_⟩
        by_cases e3 : e' < T.length
        · rw [qm_getD_app e3]; exact r3 e' h1 e3
        · have : e' = T.length := by omega
          rw [this, qm_getD_last]; exact fun h => e h.symm
  have hl : (T ++ [x]).length = T.length + 1 := by simp
  have dr : ∀ e, e < T.length → (T ++ [x]).drop (e + 1) = T.drop (e + 1) ++ [x] := fun e he => List.drop_append_of_le_length (by omega)
  refine ⟨fun hn => ⟨?_, ?_, tlx _ rfl⟩, fun t ht hn e0 => ⟨?_, ?_, tlx _ rfl⟩⟩
  · intro h hh
    by_cases e : h = hf x
    · subst e
      rw [pk_us]
      rcases qm_fi_cases (P := fun y => decide (hf y = hf x)) T 0 with ⟨c1, c2⟩ | ⟨i, c1, c2, _⟩
      · rw [qm_fi_app_n (decide_eq_true rfl) T 0 c2, Nat.zero_add]
      · rw [H.1 _ hx, c2] at hn
        exact absurd hn (by
          intro z
          have := nI_pos (n := 0 + i) (by omega)
          rw [z] at this; exact this qb_neg1)
    · rw [pk_un (by omega), qm_fi_app_f (fun z => e (of_decide_eq_true z).symm)]
      exact H.1 h hh
  · intro e he
    by_cases e1 : e = T.length
    · subst e1
      rw [pk_us, List.drop_eq_nil_of_le (by omega)]; rfl
    · have he' : e < T.length := by omega
      rw [pk_un (by omega), dr e he', qm_getD_app he']
      by_cases e2 : hf (T.getD e []) = hf x
      · -- then the head can't be -1
        exfalso
        rcases qm_fi_cases (P := fun y => decide (hf y = hf x)) T 0 with ⟨c1, c2⟩ | ⟨i, c1, c2, _⟩
        · exact c2 _ (qm_getD_mem he') (decide_eq_true e2)
        · rw [H.1 _ hx, c2] at hn
          have := nI_pos (n := 0 + i) (by omega)
          rw [hn] at this; exact this qb_neg1
      · rw [qm_fi_app_f (fun z => e2 (of_decide_eq_true z).symm)]
        exact H.2.1 e he'
  · intro h hh
    by_cases e : h = hf x
    · subst e
      rcases qm_fi_cases (P := fun y => decide (hf y = hf x)) T 0 with ⟨c1, c2⟩ | ⟨i, c1, c2, _, c4, _⟩
      · exact absurd ((H.1 _ hx).trans c1) hn
      · rw [c4, H.1 _ hx, c2]
    · rw [qm_fi_app_f (fun z => e (of_decide_eq_true z).symm)]
      exact H.1 h hh
  · -- the links
    have tt : hf (T.getD t []) = hf x ∧ ∀ e', t < e' → e' < T.length → hf (T.getD e' []) ≠ hf x := by
      rcases H.2.2 (hf x) hx with e | ⟨e, he, r1, r2, r3⟩
      · exact absurd ((H.1 _ hx).trans (qm_fi_none T 0 (fun y hy z => e y hy (of_decide_eq_true z)))) hn
      · rw [e0] at r1
        have := qb_inj (by omega) (by omega) r1
        subst this; exact ⟨r2, r3⟩
    intro e he
    by_cases e1 : e = T.length
    · subst e1
      rw [pk_un (by omega), pk_us, List.drop_eq_nil_of_le (by omega)]; rfl
    · have he' : e < T.length := by omega
      rw [dr e he', qm_getD_app he']
      by_cases e2 : hf (T.getD e []) = hf x
      · by_cases e3 : e = t
        · subst e3
          rw [pk_us, qm_fi_app_n (decide_eq_true e2.symm)]
          · rw [List.length_drop]; exact congrArg nI (by omega)
          · intro y hy
            obtain ⟨i, hi, ei⟩ := qm_mem_getD hy
            have hi' : i < T.length - (e + 1) := by rw [List.length_drop] at hi; exact hi
            have ed : (T.drop (e + 1)).getD i [] = T.getD (e + 1 + i) [] := by
              rw [List.getD_eq_getElem?_getD, List.getD_eq_getElem?_getD, List.getElem?_drop]
            have := tt.2 (e + 1 + i) (by omega) (by omega)
            rw [← ed, ei] at this
            exact fun z => this ((of_decide_eq_true z).trans e2)
        · rw [pk_un (by omega), pk_un (by omega), H.2.1 e he']
          have lt : e < t := by
            rcases Nat.lt_trichotomy e t with h | h | h
            · exact h
            · exact absurd h e3
            · exact absurd e2 (tt.2 e h he')
          rcases qm_fi_cases (P := fun y => decide (hf y = hf (T.getD e []))) (T.drop (e + 1)) (e + 1) with ⟨c1, c2⟩ | ⟨i, c1, c2, _, c4, _⟩
          · have ed : (T.drop (e + 1)).getD (t - (e + 1)) [] = T.getD t [] := by
              rw [List.getD_eq_getElem?_getD, List.getD_eq_getElem?_getD, List.getElem?_drop]
              rw [show e + 1 + (t - (e + 1)) = t by omega]
            have := c2 _ (qm_getD_mem (T := T.drop (e + 1)) (i := t - (e + 1)) (by rw [List.length_drop]; omega))
            rw [ed] at this
            exact absurd (decide_eq_true (tt.1.trans e2.symm)) this
          · rw [c4, c2]
      · have ne : e ≠ t := fun z => e2 (by rw [z]; exact tt.1)
        rw [qm_fi_app_f (fun z => e2 (of_decide_eq_true z).symm), pk_un (by omega), pk_un (by omega)]
        exact H.2.1 e he'

/-- the bucket -/
def qm_bx (h : Int32) : Int32 := h ^^^ ((h.toUInt32 >>> ((15 : Int32).toUInt32 &&& Int32.toUInt32 31)).toInt32)
def qm_by (x : Int32) : Int32 := (x * 73) + ((x.toUInt32 >>> ((7 : Int32).toUInt32 &&& Int32.toUInt32 31)).toInt32)
def qm_bz (x : Int32) : Int32 := x ^^^ ((x.toUInt32 >>> ((11 : Int32).toUInt32 &&& Int32.toUInt32 31)).toInt32)
def qm_bk (h : Int32) : Nat := (qm_bz (qm_by (qm_bx h))).toBitVec.toNat % 2 ^ 3
theorem qm_bk_lt (h : Int32) : qm_bk h < 8 := Nat.mod_lt _ (by decide)
theorem qm_bucket {post : Int32 → Prop} {h : Int32} (K : post (nI (qm_bk h))) : wpX_bucket post h := by
  intro x1 e1 x2 e2
  subst e1 e2
  have := pk_and (qm_bz (qm_by (qm_bx h))) (m := 7) 3 (by decide)
  show post (qm_bz (qm_by (qm_bx h)) &&& 7)
  rw [this]; exact K
def qm_mix (y : qp_R) : Int32 := y.foldl (fun m v => m * 31 + v) 0
def qm_hf (g : qp_PL) (n : Nat) (y : qp_R) : Nat := if qp_kd g n = 5 then qm_bk (qp_at y (qp_r g n)) else if qp_kd g n = 7 then qm_bk (y.getD 0 0) else qm_bk (qm_mix y)
theorem qm_hf_lt (g : qp_PL) (n : Nat) (y : qp_R) : qm_hf g n y < 8 := by
  unfold qm_hf
  split
  · exact qm_bk_lt _
  · split
    · exact qm_bk_lt _
    · exact qm_bk_lt _
end
section
/-! the machine's small methods, each with a general post: seek, sameRow, chain, append -/
section
variable {f_tables f_nodes f_codeLen f_rowMap f_rowWidth f_nextReg f_loops f_resRows f_resWidth : Int32} {a_tabWidth a_tabRows a_tab a_kind a_left a_right a_parent a_p a_q a_r a_nodeWidth a_bound a_wanted a_cOp a_cA a_cB a_cC a_cD a_loopHead a_todo a_reg a_cursor a_loopKey a_met a_store a_storeRows a_headOf a_tailOf a_link a_result : Nat → Int32}
theorem qm_seek_l {post : Int32 → Prop} {hf : qp_R → Nat} {h n col : Nat} {key : Int32} {T : qp_W} (hn : n < 12) (hT : T.length ≤ 24) (hc : col < 6)
    (hs : ∀ e, e < T.length → a_store (n * 144 + e * 6 + col) = (T.getD e []).getD col 0)
    (hl : ∀ e, e < T.length → a_link (n * 24 + e) = qm_fi (fun y => decide (hf y = hf (T.getD e []))) (T.drop (e + 1)) (e + 1))
    (hh : ∀ y ∈ T, y.getD col 0 = key → hf y = h) :
    ∀ d i j fuel, i + d = T.length → j ≤ i → d < fuel → post (qm_fi (fun y => decide (y.getD col 0 = key)) (T.drop i) i) →
      wX_seek_7 post (nI n) (nI col) key f_tables f_nodes f_codeLen f_rowMap f_rowWidth f_nextReg f_loops f_resRows f_resWidth a_tabWidth a_tabRows a_tab a_kind a_left a_right a_parent a_p a_q a_r a_nodeWidth a_bound a_wanted a_cOp a_cA a_cB a_cC a_cD a_loopHead a_todo a_reg a_cursor a_loopKey a_met a_store a_storeRows a_headOf a_tailOf a_link a_result fuel (qm_fi (fun y => decide (hf y = h)) (T.drop i) i) (nI j) := by
  intro d
  induction d with
  | zero =>
    intro i j fuel hi hj hf' K
    obtain ⟨f, rfl⟩ : ∃ f, fuel = f + 1 := ⟨fuel - 1, by omega⟩
    rw [List.drop_eq_nil_of_le (by omega)] at K ⊢
    exact br_c (fun _ => K) (fun _ => br_t qb_neg1 K)
  | succ d ih =>
    intro i j fuel hi hj hf' K
    have hi' : i < T.length := by omega
    rw [qm_drop hi'] at K ⊢
    by_cases e : hf (T.getD i []) = h
    · obtain ⟨f, rfl⟩ : ∃ f, fuel = f + 1 := ⟨fuel - 1, by omega⟩
      rw [qm_fi_t (decide_eq_true e)]
      refine br_f (nI_ge (a := j) (b := 24) (by omega) (by decide)) (br_f (nI_pos (by omega)) ?_)
      rw [qb_ix3, nI_clamp (by omega), hs i hi']
      refine ⟨vp_in_nI (by omega) (by decide), ?_⟩
      by_cases ek : (T.getD i []).getD col 0 = key
      · rw [qm_fi_t (decide_eq_true ek)] at K
        exact br_t ek K
      · rw [qm_fi_f (fun z => ek (of_decide_eq_true z))] at K
        refine br_f ek ?_
        rw [qb_ix24, nI_clamp (by omega), hl i hi']
        refine ⟨vp_in_nI (by omega) (by decide), nm_e (nm_r (nI_1 j) ?_)⟩
        rw [e]
        exact ih (i + 1) (j + 1) f (by omega) (by omega) (by omega) K
    · rw [qm_fi_f (fun z => e (of_decide_eq_true z))]
      have ek : ¬ (T.getD i []).getD col 0 = key := fun z => e (hh _ (qm_getD_mem hi') z)
      rw [qm_fi_f (fun z => ek (of_decide_eq_true z))] at K
      exact ih (i + 1) j fuel (by omega) (by omega) (by omega) K
theorem qm_seek {post : Int32 → Prop} {hf : qp_R → Nat} {h n col i : Nat} {key : Int32} {T : qp_W} (hn : n < 12) (hT : T.length ≤ 24) (hc : col < 6) (hi : i ≤ T.length)
    (hs : ∀ e, e < T.length → a_store (n * 144 + e * 6 + col) = (T.getD e []).getD col 0)
    (hl : ∀ e, e < T.length → a_link (n * 24 + e) = qm_fi (fun y => decide (hf y = hf (T.getD e []))) (T.drop (e + 1)) (e + 1))
    (hh : ∀ y ∈ T, y.getD col 0 = key → hf y = h)
    (K : post (qm_fi (fun y => decide (y.getD col 0 = key)) (T.drop i) i)) :
    wpX_seek post (f_tables, f_nodes, f_codeLen, f_rowMap, f_rowWidth, f_nextReg, f_loops, f_resRows, f_resWidth, a_tabWidth, a_tabRows, a_tab, a_kind, a_left, a_right, a_parent, a_p, a_q, a_r, a_nodeWidth, a_bound, a_wanted, a_cOp, a_cA, a_cB, a_cC, a_cD, a_loopHead, a_todo, a_reg, a_cursor, a_loopKey, a_met, a_store, a_storeRows, a_headOf, a_tailOf, a_link, a_result) (nI n) (nI col) key (qm_fi (fun y => decide (hf y = h)) (T.drop i) i) :=
  ⟨T.length + 1, qm_seek_l hn hT hc hs hl hh (T.length - i) i 0 (T.length + 1) (by omega) (by omega) (by omega) K⟩
/-- the chain of a new row -/
theorem qm_chain {post : SX → Prop} {hf : qp_R → Nat} {n : Nat} {T : qp_W} {x : qp_R} (hn : n < 12) (hT : T.length < 24) (hx : hf x < 8) (H : qm_ch hf T a_headOf a_tailOf a_link n)
    (K : ∀ hd tl lk : Nat → Int32, qm_ch hf (T ++ [x]) hd tl lk n → (∀ j, j < n * 8 ∨ n * 8 + 8 ≤ j → hd j = a_headOf j ∧ tl j = a_tailOf j) → (∀ j, j < n * 24 ∨ n * 24 + 24 ≤ j → lk j = a_link j) →
      post (f_tables, f_nodes, f_codeLen, f_rowMap, f_rowWidth, f_nextReg, f_loops, f_resRows, f_resWidth, a_tabWidth, a_tabRows, a_tab, a_kind, a_left, a_right, a_parent, a_p, a_q, a_r, a_nodeWidth, a_bound, a_wanted, a_cOp, a_cA, a_cB, a_cC, a_cD, a_loopHead, a_todo, a_reg, a_cursor, a_loopKey, a_met, a_store, upd a_storeRows n (nI (T.length + 1)), hd, tl, lk, a_result)) :
    wpX_chain post (f_tables, f_nodes, f_codeLen, f_rowMap, f_rowWidth, f_nextReg, f_loops, f_resRows, f_resWidth, a_tabWidth, a_tabRows, a_tab, a_kind, a_left, a_right, a_parent, a_p, a_q, a_r, a_nodeWidth, a_bound, a_wanted, a_cOp, a_cA, a_cB, a_cC, a_cD, a_loopHead, a_todo, a_reg, a_cursor, a_loopKey, a_met, a_store, a_storeRows, a_headOf, a_tailOf, a_link, a_result) (nI n) (nI T.length) (nI (hf x)) := by
  refine nm_r (qb_ix8 n (hf x)) ?_
  rw [qb_ix24, nI_clamp (by omega), nI_clamp (by omega)]
  refine ⟨vp_in_nI (by omega) (by decide), nm_e ⟨vp_in_nI (by omega) (by decide), ?_⟩⟩
  by_cases e : a_headOf (n * 8 + hf x) = -1
  · rw [e]
    refine br_f qb_n1 ⟨vp_in_nI (by omega) (by decide), nm_e ?_⟩
    unfold wX_chain_59
    rw [nI_clamp (by omega)]
    refine ⟨vp_in_nI (by omega) (by decide), nm_e ⟨vp_in_nI (by omega) (by decide), ?_⟩⟩
    rw [nI_clamp (by omega), nI_1]
    refine nm_e (K _ _ _ ((qm_ch_app hx hT H).1 e) (fun j hj => ⟨pk_un (by omega), pk_un (by omega)⟩) (fun j hj => pk_un (by omega)))
  · obtain ⟨t, ht, et⟩ : ∃ t, t < T.length ∧ a_tailOf (n * 8 + hf x) = nI t := by
      rcases H.2.2 (hf x) hx with e2 | ⟨t, ht, r1, _⟩
      · exact absurd ((H.1 _ hx).trans (qm_fi_none T 0 (fun y hy z => e2 y hy (of_decide_eq_true z)))) e
      · exact ⟨t, ht, r1⟩
    have e0 : 0 ≤ a_headOf (n * 8 + hf x) := by
      rcases qm_fi_cases (P := fun y => decide (hf y = hf x)) T 0 with ⟨c1, c2⟩ | ⟨i, c1, c2, _⟩
      · exact absurd ((H.1 _ hx).trans c1) e
      · rw [H.1 _ hx, c2]; exact nI_pos' (by omega)
    refine br_t e0 ?_
    rw [et, qb_ix24, nI_clamp (by omega)]
    refine ⟨vp_in_nI (by omega) (by decide), vp_in_nI (by omega) (by decide), nm_e ?_⟩
    unfold wX_chain_59
    rw [nI_clamp (by omega)]
    refine ⟨vp_in_nI (by omega) (by decide), nm_e ⟨vp_in_nI (by omega) (by decide), ?_⟩⟩
    rw [nI_clamp (by omega), nI_1]
    refine nm_e (K _ _ _ ((qm_ch_app hx hT H).2 t ht e et) (fun j hj => ⟨rfl, pk_un (by omega)⟩) (fun j hj => by rw [pk_un (by omega), pk_un (by omega)]))
end
end
section
/-! append, sameRow, fresh, exists, probe, take, keep -/
theorem qm_mg {f : Nat → Int32} {ms : List Nat} {c : Nat} (h : c < ms.length) : (ms.map f).getD c 0 = f (ms.getD c 0) := by
  rw [List.getD_eq_getElem?_getD, List.getD_eq_getElem?_getD, List.getElem?_map, List.getElem?_eq_getElem h]; rfl
theorem qm_m32 {ms : List Nat} {c : Nat} (h : ∀ m ∈ ms, m < 32) (hc : c < ms.length) : ms.getD c 0 < 32 := by
  rw [List.getD_eq_getElem?_getD, List.getElem?_eq_getElem hc]; exact h _ (List.getElem_mem hc)
section
variable {f_tables f_nodes f_codeLen f_rowMap f_rowWidth f_nextReg f_loops f_resRows f_resWidth : Int32} {a_tabWidth a_tabRows a_tab a_kind a_left a_right a_parent a_p a_q a_r a_nodeWidth a_bound a_wanted a_cOp a_cA a_cB a_cC a_cD a_loopHead a_todo a_reg a_cursor a_loopKey a_met a_store a_storeRows a_headOf a_tailOf a_link a_result : Nat → Int32}
theorem qm_append {post : SX → Prop} {hf : qp_R → Nat} {n : Nat} {T : qp_W} {ms : List Nat} (hn : n < 12) (hT : T.length < 24) (hsr : a_storeRows n = nI T.length) (hm : ∀ m ∈ ms, m < 32) (hl : ms.length ≤ 6)
    (hx : hf (ms.map a_reg) < 8) (H : qm_ch hf T a_headOf a_tailOf a_link n)
    (K : ∀ hd tl lk : Nat → Int32, qm_ch hf (T ++ [ms.map a_reg]) hd tl lk n → (∀ j, j < n * 8 ∨ n * 8 + 8 ≤ j → hd j = a_headOf j ∧ tl j = a_tailOf j) → (∀ j, j < n * 24 ∨ n * 24 + 24 ≤ j → lk j = a_link j) →
      post (f_tables, f_nodes, f_codeLen, f_rowMap, f_rowWidth, f_nextReg, f_loops, f_resRows, f_resWidth, a_tabWidth, a_tabRows, a_tab, a_kind, a_left, a_right, a_parent, a_p, a_q, a_r, a_nodeWidth, a_bound, a_wanted, a_cOp, a_cA, a_cB, a_cC, a_cD, a_loopHead, a_todo, a_reg, a_cursor, a_loopKey, a_met, qb_bl a_store (n * 144 + T.length * 6) (ms.map a_reg), upd a_storeRows n (nI (T.length + 1)), hd, tl, lk, a_result)) :
    wpX_append post (f_tables, f_nodes, f_codeLen, f_rowMap, f_rowWidth, f_nextReg, f_loops, f_resRows, f_resWidth, a_tabWidth, a_tabRows, a_tab, a_kind, a_left, a_right, a_parent, a_p, a_q, a_r, a_nodeWidth, a_bound, a_wanted, a_cOp, a_cA, a_cB, a_cC, a_cD, a_loopHead, a_todo, a_reg, a_cursor, a_loopKey, a_met, a_store, a_storeRows, a_headOf, a_tailOf, a_link, a_result) (nI n) (nI ms.length) (nI (qb_enc ms)) (nI (hf (ms.map a_reg))) := by
  refine ⟨vp_in_nI hn (by decide), ?_⟩
  rw [nI_clamp (by omega)]
  refine nm_r hsr (br_t (nI_lt (a := T.length) (b := 24) hT (by decide)) ?_)
  refine qb_loop (fun f c s => wX_append_19 post (nI n) (nI ms.length) (nI (qb_enc ms)) (nI (hf (ms.map a_reg))) (nI T.length) f_tables f_nodes f_codeLen f_rowMap f_rowWidth f_nextReg f_loops f_resRows f_resWidth f (nI c) a_tabWidth a_tabRows a_tab a_kind a_left a_right a_parent a_p a_q a_r a_nodeWidth a_bound a_wanted a_cOp a_cA a_cB a_cC a_cD a_loopHead a_todo a_reg a_cursor a_loopKey a_met s a_storeRows a_headOf a_tailOf a_link a_result) a_store (n * 144 + T.length * 6) (ms.map a_reg) ms.length (by rw [List.length_map]) ?_ ?_
  · intro f
    exact br_t (nI_le (Nat.le_refl _) (by omega)) (qm_chain hn hT hx H K)
  · intro f c hc K'
    refine br_f (nI_ge hc (by omega)) ?_
    rw [qb_get hm hl hc, qb_ix3, nI_clamp (by omega), nI_clamp (by have := qm_m32 hm hc; omega)]
    refine ⟨vp_in_nI (qm_m32 hm hc) (by decide), vp_in_nI (by omega) (by decide), nm_r (e' := upd (qb_bl a_store (n * 144 + T.length * 6) ((ms.map a_reg).take c)) (n * 144 + T.length * 6 + c) ((ms.map a_reg).getD c 0)) (by rw [qm_mg hc]) (nm_r (nI_1 c) K')⟩
theorem qm_sameRow {post : Int32 → Prop} {n e : Nat} {y : qp_R} {ms : List Nat} (hn : n < 12) (he : e < 24) (hm : ∀ m ∈ ms, m < 32) (hl : ms.length ≤ 6) (hy : y.length = ms.length)
    (hs : ∀ c, c < ms.length → a_store (n * 144 + e * 6 + c) = y.getD c 0)
    (K1 : y = ms.map a_reg → post 1) (K0 : y ≠ ms.map a_reg → post 0) : wpX_sameRow post (f_tables, f_nodes, f_codeLen, f_rowMap, f_rowWidth, f_nextReg, f_loops, f_resRows, f_resWidth, a_tabWidth, a_tabRows, a_tab, a_kind, a_left, a_right, a_parent, a_p, a_q, a_r, a_nodeWidth, a_bound, a_wanted, a_cOp, a_cA, a_cB, a_cC, a_cD, a_loopHead, a_todo, a_reg, a_cursor, a_loopKey, a_met, a_store, a_storeRows, a_headOf, a_tailOf, a_link, a_result) (nI n) (nI e) (nI ms.length) (nI (qb_enc ms)) := by
  have L : ∀ d c f, c + d = ms.length → d < f → (∀ i, i < c → y.getD i 0 = (ms.map a_reg).getD i 0) → wX_sameRow_3 post (nI n) (nI e) (nI ms.length) (nI (qb_enc ms)) f_tables f_nodes f_codeLen f_rowMap f_rowWidth f_nextReg f_loops f_resRows f_resWidth a_tabWidth a_tabRows a_tab a_kind a_left a_right a_parent a_p a_q a_r a_nodeWidth a_bound a_wanted a_cOp a_cA a_cB a_cC a_cD a_loopHead a_todo a_reg a_cursor a_loopKey a_met a_store a_storeRows a_headOf a_tailOf a_link a_result f (nI c) := by
    intro d
    induction d with
    | zero =>
      intro c f hc hf h
      obtain ⟨f, rfl⟩ : ∃ f', f = f' + 1 := ⟨f - 1, by omega⟩
      refine br_t (nI_le (by omega) (by omega)) (K1 ?_)
      apply List.ext_getElem?
      intro i
      by_cases hi : i < y.length
      · have := h i (by omega)
        rw [List.getD_eq_getElem?_getD, List.getD_eq_getElem?_getD, List.getElem?_eq_getElem hi, List.getElem?_eq_getElem (by rw [List.length_map]; omega)] at this
        rw [List.getElem?_eq_getElem hi, List.getElem?_eq_getElem (by rw [List.length_map]; omega)]
        exact congrArg some this
      · rw [List.getElem?_eq_none (by omega), List.getElem?_eq_none (by rw [List.length_map]; omega)]
    | succ d ih =>
      intro c f hc hf h
      obtain ⟨f, rfl⟩ : ∃ f', f = f' + 1 := ⟨f - 1, by omega⟩
      have hc' : c < ms.length := by omega
      refine br_f (nI_ge hc' (by omega)) ?_
      rw [qb_get hm hl hc', qb_ix3, nI_clamp (by omega), nI_clamp (by have := qm_m32 hm hc'; omega), hs c hc']
      refine ⟨vp_in_nI (by omega) (by decide), vp_in_nI (qm_m32 hm hc') (by decide), br_c (fun z => nm_r (nI_1 c) (ih (c + 1) f (by omega) (by omega) ?_)) (fun z => K0 ?_)⟩
      · intro i hi
        by_cases ei : i = c
        · rw [ei, z, qm_mg hc']
        · exact h i (by omega)
      · intro e2
        apply z
        rw [e2, qm_mg hc']
  exact ⟨ms.length + 1, L ms.length 0 _ (by omega) (by omega) (fun i hi => absurd hi (Nat.not_lt_zero _))⟩
theorem qm_probe {post : SX → Prop} {a n : Nat} {key : Int32} (ha : a < 8) (hn : n < 12)
    (K : post (f_tables, f_nodes, f_codeLen, f_rowMap, f_rowWidth, f_nextReg, f_loops, f_resRows, f_resWidth, a_tabWidth, a_tabRows, a_tab, a_kind, a_left, a_right, a_parent, a_p, a_q, a_r, a_nodeWidth, a_bound, a_wanted, a_cOp, a_cA, a_cB, a_cC, a_cD, a_loopHead, a_todo, a_reg, upd a_cursor a (a_headOf (n * 8 + qm_bk key)), upd a_loopKey a key, upd a_met a 0, a_store, a_storeRows, a_headOf, a_tailOf, a_link, a_result)) : wpX_probe post (f_tables, f_nodes, f_codeLen, f_rowMap, f_rowWidth, f_nextReg, f_loops, f_resRows, f_resWidth, a_tabWidth, a_tabRows, a_tab, a_kind, a_left, a_right, a_parent, a_p, a_q, a_r, a_nodeWidth, a_bound, a_wanted, a_cOp, a_cA, a_cB, a_cC, a_cD, a_loopHead, a_todo, a_reg, a_cursor, a_loopKey, a_met, a_store, a_storeRows, a_headOf, a_tailOf, a_link, a_result) (nI a) (nI n) key := by
  unfold wpX_probe
  refine qm_bucket ?_
  have hb := qm_bk_lt key
  rw [nI_clamp (by omega), qb_ix8, nI_clamp (by omega)]
  exact ⟨vp_in_nI ha (by decide), nm_e ⟨vp_in_nI (by omega) (by decide), vp_in_nI ha (by decide), nm_e ⟨vp_in_nI ha (by decide), nm_e K⟩⟩⟩
theorem qm_fi_neg {P : qp_R → Bool} {T : qp_W} (h : ∀ y ∈ T, ¬ P y = true) : qm_fi P T 0 < 0 := by
  rw [qm_fi_none T 0 h]; exact qb_neg1
theorem qm_exists {post : Int32 → Prop} {hf : qp_R → Nat} {n col : Nat} {key : Int32} {T : qp_W} (hn : n < 12) (hT : T.length ≤ 24) (hc : col < 6) (hr : a_r n = nI col)
    (hs : ∀ e, e < T.length → a_store (n * 144 + e * 6 + col) = (T.getD e []).getD col 0) (H : qm_ch hf T a_headOf a_tailOf a_link n)
    (hh : ∀ y ∈ T, y.getD col 0 = key → hf y = qm_bk key)
    (K0 : (∀ y ∈ T, ¬ y.getD col 0 = key) → post 0) (K1 : (∃ y ∈ T, y.getD col 0 = key) → post 1) : wpX_exists post (f_tables, f_nodes, f_codeLen, f_rowMap, f_rowWidth, f_nextReg, f_loops, f_resRows, f_resWidth, a_tabWidth, a_tabRows, a_tab, a_kind, a_left, a_right, a_parent, a_p, a_q, a_r, a_nodeWidth, a_bound, a_wanted, a_cOp, a_cA, a_cB, a_cC, a_cD, a_loopHead, a_todo, a_reg, a_cursor, a_loopKey, a_met, a_store, a_storeRows, a_headOf, a_tailOf, a_link, a_result) (nI n) key := by
  have hb := qm_bk_lt key
  unfold wpX_exists
  refine qm_bucket ?_
  rw [nI_clamp (by omega), qb_ix8, nI_clamp (by omega), H.1 _ hb, hr]
  refine ⟨vp_in_nI hn (by decide), vp_in_nI (by omega) (by decide), ?_⟩
  refine qm_seek (i := 0) hn hT hc (by omega) hs H.2.1 hh ?_
  rcases qm_fi_cases (P := fun y => decide (y.getD col 0 = key)) T 0 with ⟨c1, c2⟩ | ⟨i, c1, c2, c3, _⟩
  · exact br_t (by rw [List.drop_zero, c1]; exact qb_neg1) (K0 (fun y hy z => c2 y hy (decide_eq_true z)))
  · exact br_f (by rw [List.drop_zero, c2]; exact nI_pos (by omega)) (K1 ⟨_, qm_getD_mem c1, of_decide_eq_true c3⟩)
theorem qm_take {post : Int32 → SX → Prop} {n c k : Nat} (hn : n < 12) (hc : c ≤ 24) (hk : k < 2 ^ 31) (hs : a_storeRows n = nI c) (hp : a_p n = nI k)
    (K1 : c < k → post 1 (f_tables, f_nodes, f_codeLen, f_rowMap, f_rowWidth, f_nextReg, f_loops, f_resRows, f_resWidth, a_tabWidth, a_tabRows, a_tab, a_kind, a_left, a_right, a_parent, a_p, a_q, a_r, a_nodeWidth, a_bound, a_wanted, a_cOp, a_cA, a_cB, a_cC, a_cD, a_loopHead, a_todo, a_reg, a_cursor, a_loopKey, a_met, a_store, upd a_storeRows n (nI (c + 1)), a_headOf, a_tailOf, a_link, a_result)) (K0 : ¬ c < k → post 0 (f_tables, f_nodes, f_codeLen, f_rowMap, f_rowWidth, f_nextReg, f_loops, f_resRows, f_resWidth, a_tabWidth, a_tabRows, a_tab, a_kind, a_left, a_right, a_parent, a_p, a_q, a_r, a_nodeWidth, a_bound, a_wanted, a_cOp, a_cA, a_cB, a_cC, a_cD, a_loopHead, a_todo, a_reg, a_cursor, a_loopKey, a_met, a_store, a_storeRows, a_headOf, a_tailOf, a_link, a_result)) : wpX_take post (f_tables, f_nodes, f_codeLen, f_rowMap, f_rowWidth, f_nextReg, f_loops, f_resRows, f_resWidth, a_tabWidth, a_tabRows, a_tab, a_kind, a_left, a_right, a_parent, a_p, a_q, a_r, a_nodeWidth, a_bound, a_wanted, a_cOp, a_cA, a_cB, a_cC, a_cD, a_loopHead, a_todo, a_reg, a_cursor, a_loopKey, a_met, a_store, a_storeRows, a_headOf, a_tailOf, a_link, a_result) (nI n) := by
  refine ⟨vp_in_nI hn (by decide), vp_in_nI hn (by decide), ?_⟩
  rw [nI_clamp (by omega), hs, hp, nI_1]
  by_cases h : c < k
  · exact br_t (nI_lt h hk) ⟨vp_in_nI hn (by decide), vp_in_nI hn (by decide), nm_e (K1 h)⟩
  · exact br_f (nI_nlt (by omega) (by omega)) (K0 h)
theorem qm_keep {post : SX → Prop} {hf : qp_R → Nat} {n col : Nat} {T : qp_W} {ms : List Nat} (hn : n < 12) (hT : T.length < 24) (hsr : a_storeRows n = nI T.length) (hm : ∀ m ∈ ms, m < 32) (hl : ms.length ≤ 6)
    (hr : a_r n = nI col) (hcol : col < ms.length) (hx : hf (ms.map a_reg) = qm_bk ((ms.map a_reg).getD col 0)) (H : qm_ch hf T a_headOf a_tailOf a_link n)
    (K : ∀ hd tl lk : Nat → Int32, qm_ch hf (T ++ [ms.map a_reg]) hd tl lk n → (∀ j, j < n * 8 ∨ n * 8 + 8 ≤ j → hd j = a_headOf j ∧ tl j = a_tailOf j) → (∀ j, j < n * 24 ∨ n * 24 + 24 ≤ j → lk j = a_link j) →
      post (f_tables, f_nodes, f_codeLen, f_rowMap, f_rowWidth, f_nextReg, f_loops, f_resRows, f_resWidth, a_tabWidth, a_tabRows, a_tab, a_kind, a_left, a_right, a_parent, a_p, a_q, a_r, a_nodeWidth, a_bound, a_wanted, a_cOp, a_cA, a_cB, a_cC, a_cD, a_loopHead, a_todo, a_reg, a_cursor, a_loopKey, a_met, qb_bl a_store (n * 144 + T.length * 6) (ms.map a_reg), upd a_storeRows n (nI (T.length + 1)), hd, tl, lk, a_result)) :
    wpX_keep post (f_tables, f_nodes, f_codeLen, f_rowMap, f_rowWidth, f_nextReg, f_loops, f_resRows, f_resWidth, a_tabWidth, a_tabRows, a_tab, a_kind, a_left, a_right, a_parent, a_p, a_q, a_r, a_nodeWidth, a_bound, a_wanted, a_cOp, a_cA, a_cB, a_cC, a_cD, a_loopHead, a_todo, a_reg, a_cursor, a_loopKey, a_met, a_store, a_storeRows, a_headOf, a_tailOf, a_link, a_result) (nI n) (nI ms.length) (nI (qb_enc ms)) := by
  refine ⟨vp_in_nI hn (by decide), ?_⟩
  rw [nI_clamp (by omega), hr, qb_get hm hl hcol, nI_clamp (by have := qm_m32 hm hcol; omega)]
  refine ⟨vp_in_nI (qm_m32 hm hcol) (by decide), nm_e (qm_bucket ?_)⟩
  rw [← qm_mg (f := a_reg) hcol, ← hx]
  exact qm_append hn hT hsr hm hl (by rw [hx]; exact qm_bk_lt _) H K
end
end
section
/-! fresh, fold -/
theorem qm_mix_s {x : qp_R} {c : Nat} (h : c < x.length) : qm_mix (x.take (c + 1)) = qm_mix (x.take c) * 31 + x.getD c 0 := by
  unfold qm_mix
  rw [List.take_succ, List.foldl_append, List.getElem?_eq_getElem h, List.getD_eq_getElem?_getD, List.getElem?_eq_getElem h]; rfl
theorem qm_ext {x y : qp_R} (hl : x.length = y.length) (h : ∀ c, c < x.length → x.getD c 0 = y.getD c 0) : x = y := by
  apply List.ext_getElem hl
  intro i h1 h2
  have := h i h1
  rwa [List.getD_eq_getElem?_getD, List.getD_eq_getElem?_getD, List.getElem?_eq_getElem h1, List.getElem?_eq_getElem h2] at this
section
variable {f_tables f_nodes f_codeLen f_rowMap f_rowWidth f_nextReg f_loops f_resRows f_resWidth : Int32} {a_tabWidth a_tabRows a_tab a_kind a_left a_right a_parent a_p a_q a_r a_nodeWidth a_bound a_wanted a_cOp a_cA a_cB a_cC a_cD a_loopHead a_todo a_reg a_cursor a_loopKey a_met a_store a_storeRows a_headOf a_tailOf a_link a_result : Nat → Int32}
theorem qm_fresh {post : Int32 → SX → Prop} {hf : qp_R → Nat} {n : Nat} {T : qp_W} {ms : List Nat} (hn : n < 12) (hT : T.length ≤ 24) (hT2 : ms.map a_reg ∉ T → T.length < 24) (hsr : a_storeRows n = nI T.length) (hm : ∀ m ∈ ms, m < 32) (hl : ms.length ≤ 6)
    (hrow : ∀ y ∈ T, y.length = ms.length) (hs : ∀ e c, e < T.length → c < ms.length → a_store (n * 144 + e * 6 + c) = (T.getD e []).getD c 0)
    (hx : hf (ms.map a_reg) = qm_bk (qm_mix (ms.map a_reg))) (H : qm_ch hf T a_headOf a_tailOf a_link n)
    (K0 : ms.map a_reg ∈ T → post 0 (f_tables, f_nodes, f_codeLen, f_rowMap, f_rowWidth, f_nextReg, f_loops, f_resRows, f_resWidth, a_tabWidth, a_tabRows, a_tab, a_kind, a_left, a_right, a_parent, a_p, a_q, a_r, a_nodeWidth, a_bound, a_wanted, a_cOp, a_cA, a_cB, a_cC, a_cD, a_loopHead, a_todo, a_reg, a_cursor, a_loopKey, a_met, a_store, a_storeRows, a_headOf, a_tailOf, a_link, a_result))
    (K1 : ms.map a_reg ∉ T → ∀ hd tl lk : Nat → Int32, qm_ch hf (T ++ [ms.map a_reg]) hd tl lk n → (∀ j, j < n * 8 ∨ n * 8 + 8 ≤ j → hd j = a_headOf j ∧ tl j = a_tailOf j) → (∀ j, j < n * 24 ∨ n * 24 + 24 ≤ j → lk j = a_link j) →
      post 1 (f_tables, f_nodes, f_codeLen, f_rowMap, f_rowWidth, f_nextReg, f_loops, f_resRows, f_resWidth, a_tabWidth, a_tabRows, a_tab, a_kind, a_left, a_right, a_parent, a_p, a_q, a_r, a_nodeWidth, a_bound, a_wanted, a_cOp, a_cA, a_cB, a_cC, a_cD, a_loopHead, a_todo, a_reg, a_cursor, a_loopKey, a_met, qb_bl a_store (n * 144 + T.length * 6) (ms.map a_reg), upd a_storeRows n (nI (T.length + 1)), hd, tl, lk, a_result)) :
    wpX_fresh post (f_tables, f_nodes, f_codeLen, f_rowMap, f_rowWidth, f_nextReg, f_loops, f_resRows, f_resWidth, a_tabWidth, a_tabRows, a_tab, a_kind, a_left, a_right, a_parent, a_p, a_q, a_r, a_nodeWidth, a_bound, a_wanted, a_cOp, a_cA, a_cB, a_cC, a_cD, a_loopHead, a_todo, a_reg, a_cursor, a_loopKey, a_met, a_store, a_storeRows, a_headOf, a_tailOf, a_link, a_result) (nI n) (nI ms.length) (nI (qb_enc ms)) := by
  have hx8 : hf (ms.map a_reg) < 8 := by rw [hx]; exact qm_bk_lt _
  have A : ms.map a_reg ∉ T → wX_fresh_110 post (nI n) (nI ms.length) (nI (qb_enc ms)) (nI (hf (ms.map a_reg))) f_tables f_nodes f_codeLen f_rowMap f_rowWidth f_nextReg f_loops f_resRows f_resWidth a_tabWidth a_tabRows a_tab a_kind a_left a_right a_parent a_p a_q a_r a_nodeWidth a_bound a_wanted a_cOp a_cA a_cB a_cC a_cD a_loopHead a_todo a_reg a_cursor a_loopKey a_met a_store a_storeRows a_headOf a_tailOf a_link a_result := by
    intro hx
    exact qm_append hn (hT2 hx) hsr hm hl hx8 H (K1 hx)
  have L : ∀ d i j f, i + d = T.length → j ≤ i → d < f → (∀ e, e < i → T.getD e [] ≠ ms.map a_reg) →
      wX_fresh_64 post (nI n) (nI ms.length) (nI (qb_enc ms)) (nI (hf (ms.map a_reg))) f_tables f_nodes f_codeLen f_rowMap f_rowWidth f_nextReg f_loops f_resRows f_resWidth a_tabWidth a_tabRows a_tab a_kind a_left a_right a_parent a_p a_q a_r a_nodeWidth a_bound a_wanted a_cOp a_cA a_cB a_cC a_cD a_loopHead a_todo a_reg a_cursor a_loopKey a_met a_store a_storeRows a_headOf a_tailOf a_link a_result f (qm_fi (fun y => decide (hf y = hf (ms.map a_reg))) (T.drop i) i) (nI j) := by
    intro d
    induction d with
    | zero =>
      intro i j f hi hj hf' h
      obtain ⟨f, rfl⟩ : ∃ f', f = f' + 1 := ⟨f - 1, by omega⟩
      have hx : ms.map a_reg ∉ T := fun z => by
        obtain ⟨e, he, ee⟩ := qm_mem_getD z
        exact h e (by omega) ee
      rw [List.drop_eq_nil_of_le (by omega)]
      exact br_c (fun _ => A hx) (fun _ => br_t qb_neg1 (A hx))
    | succ d ih =>
      intro i j f hi hj hf' h
      have hi' : i < T.length := by omega
      rw [qm_drop hi']
      have nx : T.getD i [] ≠ ms.map a_reg → ∀ e, e < i + 1 → T.getD e [] ≠ ms.map a_reg := fun z e he => by
        by_cases ee : e = i
        · rw [ee]; exact z
        · exact h e (by omega)
      by_cases e : hf (T.getD i []) = hf (ms.map a_reg)
      · obtain ⟨f, rfl⟩ : ∃ f', f = f' + 1 := ⟨f - 1, by omega⟩
        rw [qm_fi_t (decide_eq_true e)]
        refine br_f (nI_ge (a := j) (b := 24) (by omega) (by decide)) (br_f (nI_pos (by omega)) ?_)
        refine qm_sameRow hn (by omega) hm hl (hrow _ (qm_getD_mem hi')) (fun c hc => hs i c hi' hc) ?_ ?_
        · intro z
          exact br_f (by decide) (K0 (z ▸ qm_getD_mem hi'))
        · intro z
          refine br_t rfl ?_
          rw [qb_ix24, nI_clamp (by omega), H.2.1 i hi', e]
          exact ⟨vp_in_nI (by omega) (by decide), nm_e (nm_r (nI_1 j) (ih (i + 1) (j + 1) f (by omega) (by omega) (by omega) (nx z)))⟩
      · rw [qm_fi_f (fun z => e (of_decide_eq_true z))]
        exact ih (i + 1) j f (by omega) (by omega) (by omega) (nx (fun z => e (by rw [z])))
  have M : ∀ d c f, c + d = ms.length → d < f → wX_fresh_6 post (nI n) (nI ms.length) (nI (qb_enc ms)) f_tables f_nodes f_codeLen f_rowMap f_rowWidth f_nextReg f_loops f_resRows f_resWidth a_tabWidth a_tabRows a_tab a_kind a_left a_right a_parent a_p a_q a_r a_nodeWidth a_bound a_wanted a_cOp a_cA a_cB a_cC a_cD a_loopHead a_todo a_reg a_cursor a_loopKey a_met a_store a_storeRows a_headOf a_tailOf a_link a_result f (qm_mix ((ms.map a_reg).take c)) (nI c) := by
    intro d
    induction d with
    | zero =>
      intro c f hc hf'
      obtain ⟨f, rfl⟩ : ∃ f', f = f' + 1 := ⟨f - 1, by omega⟩
      rw [List.take_of_length_le (by rw [List.length_map]; omega)]
      refine br_t (nI_le (by omega) (by omega)) (qm_bucket ?_)
      rw [← hx, qb_ix8, nI_clamp (by omega), H.1 _ hx8]
      exact ⟨vp_in_nI (by omega) (by decide), nm_e ⟨T.length + 1, L T.length 0 0 _ (by omega) (by omega) (by omega) (fun e he => absurd he (Nat.not_lt_zero _))⟩⟩
    | succ d ih =>
      intro c f hc hf'
      obtain ⟨f, rfl⟩ : ∃ f', f = f' + 1 := ⟨f - 1, by omega⟩
      have hc' : c < ms.length := by omega
      refine br_f (nI_ge hc' (by omega)) ?_
      rw [qb_get hm hl hc', nI_clamp (by have := qm_m32 hm hc'; omega)]
      refine ⟨vp_in_nI (qm_m32 hm hc') (by decide), nm_r (e' := qm_mix ((ms.map a_reg).take (c + 1))) (by rw [qm_mix_s (by rw [List.length_map]; exact hc'), qm_mg hc']) (nm_r (nI_1 c) (ih (c + 1) f (by omega) (by omega)))⟩
  exact ⟨ms.length + 1, M ms.length 0 _ (by omega) (by omega)⟩
theorem qm_fold {post : SX → Prop} {hf : qp_R → Nat} {n : Nat} {key val : Int32} {T : qp_W} (hn : n < 12) (hT : T.length ≤ 24) (hT2 : (∀ y ∈ T, ¬ y.getD 0 0 = key) → T.length < 24) (hsr : a_storeRows n = nI T.length)
    (hs : ∀ e c, e < T.length → c < 2 → a_store (n * 144 + e * 6 + c) = (T.getD e []).getD c 0)
    (hh : ∀ y : qp_R, hf y = qm_bk (y.getD 0 0)) (hq : qp_c 4 (a_q n)) (H : qm_ch hf T a_headOf a_tailOf a_link n)
    (K1 : ∀ e, e < T.length → (T.getD e []).getD 0 0 = key → (∀ j, j < e → ¬ (T.getD j []).getD 0 0 = key) → ∀ st : Nat → Int32, (∀ j, j ≠ n * 144 + e * 6 + 1 → st j = a_store j) → st (n * 144 + e * 6 + 1) = qp_cmb (a_q n) ((T.getD e []).getD 1 0) val → post (f_tables, f_nodes, f_codeLen, f_rowMap, f_rowWidth, f_nextReg, f_loops, f_resRows, f_resWidth, a_tabWidth, a_tabRows, a_tab, a_kind, a_left, a_right, a_parent, a_p, a_q, a_r, a_nodeWidth, a_bound, a_wanted, a_cOp, a_cA, a_cB, a_cC, a_cD, a_loopHead, a_todo, a_reg, a_cursor, a_loopKey, a_met, st, a_storeRows, a_headOf, a_tailOf, a_link, a_result))
    (K2 : (∀ y ∈ T, ¬ y.getD 0 0 = key) → ∀ st hd tl lk : Nat → Int32, (∀ j, j ≠ n * 144 + T.length * 6 → j ≠ n * 144 + T.length * 6 + 1 → st j = a_store j) → st (n * 144 + T.length * 6) = key → st (n * 144 + T.length * 6 + 1) = (if a_q n = 0 then 1 else val) →
      qm_ch hf (T ++ [[key, if a_q n = 0 then 1 else val]]) hd tl lk n → (∀ j, j < n * 8 ∨ n * 8 + 8 ≤ j → hd j = a_headOf j ∧ tl j = a_tailOf j) → (∀ j, j < n * 24 ∨ n * 24 + 24 ≤ j → lk j = a_link j) →
      post (f_tables, f_nodes, f_codeLen, f_rowMap, f_rowWidth, f_nextReg, f_loops, f_resRows, f_resWidth, a_tabWidth, a_tabRows, a_tab, a_kind, a_left, a_right, a_parent, a_p, a_q, a_r, a_nodeWidth, a_bound, a_wanted, a_cOp, a_cA, a_cB, a_cC, a_cD, a_loopHead, a_todo, a_reg, a_cursor, a_loopKey, a_met, st, upd a_storeRows n (nI (T.length + 1)), hd, tl, lk, a_result)) :
    wpX_fold post (f_tables, f_nodes, f_codeLen, f_rowMap, f_rowWidth, f_nextReg, f_loops, f_resRows, f_resWidth, a_tabWidth, a_tabRows, a_tab, a_kind, a_left, a_right, a_parent, a_p, a_q, a_r, a_nodeWidth, a_bound, a_wanted, a_cOp, a_cA, a_cB, a_cC, a_cD, a_loopHead, a_todo, a_reg, a_cursor, a_loopKey, a_met, a_store, a_storeRows, a_headOf, a_tailOf, a_link, a_result) (nI n) key val := by
  have hb := qm_bk_lt key
  unfold wpX_fold
  refine qm_bucket ?_
  rw [qb_ix8, nI_clamp (n := n * 8 + qm_bk key) (by omega), H.1 _ hb]
  refine ⟨vp_in_nI (by omega) (by decide), ?_⟩
  refine qm_seek (col := 0) (i := 0) hn hT (by omega) (by omega) (fun e he => hs e 0 he (by omega)) H.2.1 (fun y _ hy => by rw [hh, hy]) ?_
  rw [List.drop_zero]
  rcases qm_fi_cases (P := fun y => decide (y.getD 0 0 = key)) T 0 with ⟨c1, c2⟩ | ⟨e, c1, c2, c3, _, c5⟩
  · rw [c1]
    have c2' : ∀ y ∈ T, ¬ y.getD 0 0 = key := fun y hy z => c2 y hy (decide_eq_true z)
    have hlt := hT2 c2'
    refine br_f qb_n1 ⟨vp_in_nI hn (by decide), ?_⟩
    rw [nI_clamp (by omega)]
    refine nm_r hsr (br_t (nI_lt (a := T.length) (b := 24) hlt (by decide)) ?_)
    rw [qb_ix2, nI_clamp (by omega), nI_1]
    have ek : qm_bk key = hf [key, if a_q n = 0 then 1 else val] := by rw [hh]; rfl
    have fin : ∀ z0, z0 = (if a_q n = 0 then 1 else val) → wX_fold_96 post (nI n) (nI (qm_bk key)) (nI T.length) z0 (nI (n * 144 + T.length * 6 + 1)) f_tables f_nodes f_codeLen f_rowMap f_rowWidth f_nextReg f_loops f_resRows f_resWidth a_tabWidth a_tabRows a_tab a_kind a_left a_right a_parent a_p a_q a_r a_nodeWidth a_bound a_wanted a_cOp a_cA a_cB a_cC a_cD a_loopHead a_todo a_reg a_cursor a_loopKey a_met (upd a_store (n * 144 + T.length * 6) key) a_storeRows a_headOf a_tailOf a_link a_result := by
      intro z0 ez
      unfold wX_fold_96
      rw [nI_clamp (by omega), ek]
      refine ⟨vp_in_nI (by omega) (by decide), nm_e (qm_chain hn hlt (by rw [hh]; exact hb) H (fun hd tl lk h1 h2 h3 => ?_))⟩
      exact K2 c2' _ hd tl lk (fun j h h' => by rw [pk_un h', pk_un h]) (by rw [pk_un (by omega), pk_us]) (by rw [pk_us]; exact ez) h1 h2 h3
    refine ⟨vp_in_nI (by omega) (by decide), nm_e ⟨vp_in_nI hn (by decide), br_c (fun z => fin 1 (by rw [if_pos z])) (fun z => fin val (by rw [if_neg z]))⟩⟩
  · rw [c2, Nat.zero_add]
    have c3' : (T.getD e []).getD 0 0 = key := of_decide_eq_true c3
    have c5' : ∀ j, j < e → ¬ (T.getD j []).getD 0 0 = key := fun j hj z => c5 j hj (decide_eq_true z)
    refine br_t (nI_pos' (by omega)) (nm_r (by rw [qb_ix2, nI_1]) ⟨vp_in_nI (by omega) (by decide), ?_⟩)
    rw [nI_clamp (by omega), nI_clamp (by omega), hs e 1 c1 (by omega)]
    have F := K1 e c1 c3' c5'
    have up : ∀ v, v = qp_cmb (a_q n) ((T.getD e []).getD 1 0) val → post (f_tables, f_nodes, f_codeLen, f_rowMap, f_rowWidth, f_nextReg, f_loops, f_resRows, f_resWidth, a_tabWidth, a_tabRows, a_tab, a_kind, a_left, a_right, a_parent, a_p, a_q, a_r, a_nodeWidth, a_bound, a_wanted, a_cOp, a_cA, a_cB, a_cC, a_cD, a_loopHead, a_todo, a_reg, a_cursor, a_loopKey, a_met, upd a_store (n * 144 + e * 6 + 1) v, a_storeRows, a_headOf, a_tailOf, a_link, a_result) := fun v ev => F _ (fun j hj => pk_un hj) (by rw [pk_us]; exact ev)
    have st0 : (T.getD e []).getD 1 0 = qp_cmb (a_q n) ((T.getD e []).getD 1 0) val → post (f_tables, f_nodes, f_codeLen, f_rowMap, f_rowWidth, f_nextReg, f_loops, f_resRows, f_resWidth, a_tabWidth, a_tabRows, a_tab, a_kind, a_left, a_right, a_parent, a_p, a_q, a_r, a_nodeWidth, a_bound, a_wanted, a_cOp, a_cA, a_cB, a_cC, a_cD, a_loopHead, a_todo, a_reg, a_cursor, a_loopKey, a_met, a_store, a_storeRows, a_headOf, a_tailOf, a_link, a_result) := fun ev => F _ (fun j hj => rfl) (by rw [hs e 1 c1 (by omega)]; exact ev)
    obtain ⟨ag, hag, eag⟩ := hq
    refine nm_e ⟨vp_in_nI hn (by decide), br_c (fun z => ⟨vp_in_nI (by omega) (by decide), nm_e (up _ ?_)⟩) (fun z0 => ⟨vp_in_nI hn (by decide), br_c (fun z => ⟨vp_in_nI (by omega) (by decide), nm_e (up _ ?_)⟩) (fun z1 => ⟨vp_in_nI hn (by decide), br_c (fun z => br_c (fun y => st0 ?_) (fun y => ⟨vp_in_nI (by omega) (by decide), nm_e (up _ ?_)⟩)) (fun z2 => br_c (fun y => st0 ?_) (fun y => ⟨vp_in_nI (by omega) (by decide), nm_e (up _ ?_)⟩))⟩)⟩)⟩
    · unfold qp_cmb; rw [if_pos z]
    · unfold qp_cmb; rw [if_neg z0, if_pos z]
    · unfold qp_cmb; rw [if_neg z0, if_neg z1, if_pos z, if_pos y]
    · unfold qp_cmb; rw [if_neg z0, if_neg z1, if_pos z, if_neg y]
    · unfold qp_cmb; rw [if_neg z0, if_neg z1, if_neg z2, if_pos y]
    · unfold qp_cmb; rw [if_neg z0, if_neg z1, if_neg z2, if_neg y]
end
end
section
/-! place, emitRow, fetch, match, holds, calc -/
theorem qm_rg {b w c : Nat} (h : c < w) : (List.range' b w).getD c 0 = b + c := by
  rw [List.getD_eq_getElem?_getD, List.getElem?_eq_getElem (by rw [List.length_range']; exact h), List.getElem_range']
  show b + 1 * c = b + c
  rw [Nat.one_mul]
theorem qm_rg_mem {b w m : Nat} (hb : b + w ≤ 32) (h : m ∈ List.range' b w) : m < 32 := by
  rw [List.mem_range'_1] at h; omega
theorem qm_cells {f : Nat → Int32} {b w c : Nat} (h : c < w) : ((List.range w).map (fun c => f (b + c))).getD c 0 = f (b + c) := by
  rw [List.getD_eq_getElem?_getD, List.getElem?_eq_getElem (by rw [List.length_map, List.length_range]; exact h), List.getElem_map, List.getElem_range]; rfl
theorem qp_ins_at (desc col key : Int32) (x : qp_R) : ∀ (T : qp_W) (a : Nat), a ≤ T.length → (∀ i, a ≤ i → i < T.length → qp_bef desc key (qp_at (T.getD i []) col) = true) → (∀ b, a = b + 1 → ¬ qp_bef desc key (qp_at (T.getD b []) col) = true) → qp_ins desc col key x T = T.take a ++ x :: T.drop a := by
  intro T
  induction T with
  | nil => intro a ha _ _; have : a = 0 := by simpa using ha
           subst this; rfl
  | cons y ys ih =>
    intro a ha h1 h2
    unfold qp_ins
    cases a with
    | zero =>
      rw [if_pos]
      · rfl
      · rw [List.all_eq_true]
        intro z hz
        obtain ⟨i, hi, e⟩ := qm_mem_getD hz
        rw [← e]; exact h1 i (Nat.zero_le _) hi
    | succ a =>
      have hlen : (y :: ys).length = ys.length + 1 := rfl
      rw [if_neg]
      · rw [ih a (by omega) (fun i hi1 hi2 => h1 (i + 1) (by omega) (by omega)) (fun b hb => h2 (b + 1) (by omega))]; rfl
      · intro z
        rw [List.all_eq_true] at z
        exact h2 a rfl (z _ (qm_getD_mem (by omega)))
theorem qm_ins_get {T : qp_W} {x : qp_R} {a i : Nat} (ha : a ≤ T.length) : (T.take a ++ x :: T.drop a).getD i [] = if i < a then T.getD i [] else if i = a then x else T.getD (i - 1) [] := by
  have l : (T.take a).length = a := by rw [List.length_take]; omega
  rw [List.getD_eq_getElem?_getD]
  by_cases h : i < a
  · rw [if_pos h, List.getElem?_append_left (by omega), List.getElem?_take_of_lt h, List.getD_eq_getElem?_getD]
  · rw [if_neg h, List.getElem?_append_right (by omega), l]
    by_cases e : i = a
    · rw [if_pos e, e, Nat.sub_self]; rfl
    · rw [if_neg e]
      obtain ⟨d, rfl⟩ : ∃ d, i = a + 1 + d := ⟨i - a - 1, by omega⟩
      rw [show a + 1 + d - a = d + 1 by omega, List.getElem?_cons_succ, List.getElem?_drop, List.getD_eq_getElem?_getD, show a + d = a + 1 + d - 1 by omega]
section
variable {f_tables f_nodes f_codeLen f_rowMap f_rowWidth f_nextReg f_loops f_resRows f_resWidth : Int32} {a_tabWidth a_tabRows a_tab a_kind a_left a_right a_parent a_p a_q a_r a_nodeWidth a_bound a_wanted a_cOp a_cA a_cB a_cC a_cD a_loopHead a_todo a_reg a_cursor a_loopKey a_met a_store a_storeRows a_headOf a_tailOf a_link a_result : Nat → Int32}
theorem qm_holds {post : Int32 → Prop} {k x y : Int32} (hk : qp_c 6 k) (K : post (if qp_cmp k x y = true then 1 else 0)) : wpX_holds post k x y := by
  have T : ∀ {c : Prop} [Decidable c], qp_cmp k x y = decide c → (c → post 1) ∧ (¬ c → post 0) := fun e => ⟨fun h => by rw [e, if_pos (decide_eq_true h)] at K; exact K, fun h => by rw [e, if_neg (fun z => h (of_decide_eq_true z))] at K; exact K⟩
  have F : ∀ {c : Prop} [Decidable c], qp_cmp k x y = decide (¬ c) → (c → post 0) ∧ (¬ c → post 1) := fun e => ⟨fun h => by rw [e, decide_eq_false (fun z => z h)] at K; exact K, fun h => by rw [e, decide_eq_true h] at K; exact K⟩
  obtain ⟨j, hj, rfl⟩ := hk
  match j, hj with
  | 0, _ => exact br_f (by decide) (br_f (by decide) (br_t rfl (T rfl)))
  | 1, _ => exact br_f (by decide) (br_f (by decide) (br_f (by decide) (br_t rfl (F rfl))))
  | 2, _ => exact br_f (by decide) (br_f (by decide) (br_f (by decide) (br_f (by decide) (br_t rfl (F rfl)))))
  | 3, _ => exact br_f (by decide) (br_f (by decide) (br_f (by decide) (br_f (by decide) (br_f (by decide) (br_t rfl (F rfl))))))
  | 4, _ => exact br_f (by decide) (br_f (by decide) (br_f (by decide) (br_f (by decide) (br_f (by decide) (br_f (by decide) (br_t rfl (F rfl)))))))
  | 5, _ => exact br_f (by decide) (br_t (by decide) (F rfl))
theorem qm_calc {post : Int32 → Prop} {k x y : Int32} (hk : qp_c 5 k) (K : post (qp_calc k x y)) : wpX_calc post k x y := by
  obtain ⟨j, hj, rfl⟩ := hk
  match j, hj with
  | 0, _ => exact br_f (by decide) (br_f (by decide) (br_t rfl K))
  | 1, _ => exact br_f (by decide) (br_f (by decide) (br_f (by decide) (br_t rfl K)))
  | 2, _ => exact br_f (by decide) (br_f (by decide) (br_f (by decide) (br_f (by decide) (br_t rfl K))))
  | 3, _ =>
    have K' : post (if y ≤ x then y else x) := K
    exact br_f (by decide) (br_f (by decide) (br_f (by decide) (br_f (by decide) (br_f (by decide) (br_t rfl (br_c (fun h => by rw [if_pos h] at K'; exact K') (fun h => by rw [if_neg h] at K'; exact K')))))))
  | 4, _ =>
    have K' : post (if x ≤ y then y else x) := K
    exact br_f (by decide) (br_t (by decide) (br_c (fun h => by rw [if_pos h] at K'; exact K') (fun h => by rw [if_neg h] at K'; exact K')))
theorem qm_emit {post : SX → Prop} {k : Nat} {ms : List Nat} (hk : k < 24) (hr : f_resRows = nI k) (hm : ∀ m ∈ ms, m < 32) (hl : ms.length ≤ 6)
    (K : post (f_tables, f_nodes, f_codeLen, f_rowMap, f_rowWidth, f_nextReg, f_loops, nI (k + 1), f_resWidth, a_tabWidth, a_tabRows, a_tab, a_kind, a_left, a_right, a_parent, a_p, a_q, a_r, a_nodeWidth, a_bound, a_wanted, a_cOp, a_cA, a_cB, a_cC, a_cD, a_loopHead, a_todo, a_reg, a_cursor, a_loopKey, a_met, a_store, a_storeRows, a_headOf, a_tailOf, a_link, qb_bl a_result (k * 6) (ms.map a_reg))) : wpX_emitRow post (f_tables, f_nodes, f_codeLen, f_rowMap, f_rowWidth, f_nextReg, f_loops, f_resRows, f_resWidth, a_tabWidth, a_tabRows, a_tab, a_kind, a_left, a_right, a_parent, a_p, a_q, a_r, a_nodeWidth, a_bound, a_wanted, a_cOp, a_cA, a_cB, a_cC, a_cD, a_loopHead, a_todo, a_reg, a_cursor, a_loopKey, a_met, a_store, a_storeRows, a_headOf, a_tailOf, a_link, a_result) (nI ms.length) (nI (qb_enc ms)) := by
  subst hr
  refine br_t (nI_lt (a := k) (b := 24) hk (by decide)) ?_
  refine qb_loop (fun f c s => wX_emitRow_12 post (nI ms.length) (nI (qb_enc ms)) f_tables f_nodes f_codeLen f_rowMap f_rowWidth f_nextReg f_loops (nI k) f_resWidth f (nI c) a_tabWidth a_tabRows a_tab a_kind a_left a_right a_parent a_p a_q a_r a_nodeWidth a_bound a_wanted a_cOp a_cA a_cB a_cC a_cD a_loopHead a_todo a_reg a_cursor a_loopKey a_met a_store a_storeRows a_headOf a_tailOf a_link s) a_result (k * 6) (ms.map a_reg) ms.length (by rw [List.length_map]) ?_ ?_
  · intro f
    exact br_t (nI_le (Nat.le_refl _) (by omega)) (nm_r (nI_1 k) K)
  · intro f c hc K'
    refine br_f (nI_ge hc (by omega)) ?_
    rw [qb_get hm hl hc, qb_ix6, nI_clamp (n := k * 6 + c) (by omega), nI_clamp (by have := qm_m32 hm hc; omega)]
    refine ⟨vp_in_nI (qm_m32 hm hc) (by decide), vp_in_nI (by omega) (by decide), nm_r (e' := upd (qb_bl a_result (k * 6) ((ms.map a_reg).take c)) (k * 6 + c) ((ms.map a_reg).getD c 0)) (by rw [qm_mg hc]) (nm_r (nI_1 c) K')⟩
/-- one row of a source into the registers -/
theorem qm_fetch {post : Int32 → SX → Prop} {a n i w : Nat} {R : qp_W} (ha : a < 8) (hn : n < 12) (hw : w ≤ 6) (hw0 : 1 ≤ w) (hi : i ≤ R.length) (hR : R.length ≤ 24) (hcu : a_cursor a = nI i) (hnw : a_nodeWidth n = nI w) (hrow : ∀ y ∈ R, y.length = w)
    (hsrc : (a_kind n = 0 ∧ ∃ t, t < 4 ∧ w ≤ 3 ∧ R.length ≤ 10 ∧ a_p n = nI t ∧ a_tabRows t = nI R.length ∧ ∀ e c, e < R.length → c < w → a_tab (t * 30 + e * 3 + c) = (R.getD e []).getD c 0) ∨
      (¬ a_kind n = 0 ∧ a_storeRows n = nI R.length ∧ ∀ e c, e < R.length → c < w → a_store (n * 144 + e * 6 + c) = (R.getD e []).getD c 0))
    (K0 : i = R.length → post 0 (f_tables, f_nodes, f_codeLen, f_rowMap, f_rowWidth, f_nextReg, f_loops, f_resRows, f_resWidth, a_tabWidth, a_tabRows, a_tab, a_kind, a_left, a_right, a_parent, a_p, a_q, a_r, a_nodeWidth, a_bound, a_wanted, a_cOp, a_cA, a_cB, a_cC, a_cD, a_loopHead, a_todo, a_reg, a_cursor, a_loopKey, a_met, a_store, a_storeRows, a_headOf, a_tailOf, a_link, a_result))
    (K1 : i < R.length → post 1 (f_tables, f_nodes, f_codeLen, f_rowMap, f_rowWidth, f_nextReg, f_loops, f_resRows, f_resWidth, a_tabWidth, a_tabRows, a_tab, a_kind, a_left, a_right, a_parent, a_p, a_q, a_r, a_nodeWidth, a_bound, a_wanted, a_cOp, a_cA, a_cB, a_cC, a_cD, a_loopHead, a_todo, qb_bl a_reg 0 (R.getD i []), upd a_cursor a (nI (i + 1)), a_loopKey, a_met, a_store, a_storeRows, a_headOf, a_tailOf, a_link, a_result)) : wpX_fetch post (f_tables, f_nodes, f_codeLen, f_rowMap, f_rowWidth, f_nextReg, f_loops, f_resRows, f_resWidth, a_tabWidth, a_tabRows, a_tab, a_kind, a_left, a_right, a_parent, a_p, a_q, a_r, a_nodeWidth, a_bound, a_wanted, a_cOp, a_cA, a_cB, a_cC, a_cD, a_loopHead, a_todo, a_reg, a_cursor, a_loopKey, a_met, a_store, a_storeRows, a_headOf, a_tailOf, a_link, a_result) (nI a) (nI n) (nI (qb_enc (List.range' 0 w))) := by
  have hm : ∀ m ∈ List.range' 0 w, m < 32 := fun m h => qm_rg_mem (by omega) h
  have hll : (List.range' 0 w).length = w := List.length_range'
  refine ⟨vp_in_nI ha (by decide), ?_⟩
  rw [nI_clamp (by omega)]
  refine nm_r hcu ⟨vp_in_nI hn (by decide), ?_⟩
  rw [nI_clamp (by omega)]
  rcases hsrc with ⟨hk, t, ht, hw3, hR10, hp, htr, hcell⟩ | ⟨hk, hsr, hcell⟩
  · refine br_t hk (br_f (by decide) ⟨vp_in_nI hn (by decide), ?_⟩)
    rw [nI_clamp (by omega), hp]
    refine ⟨vp_in_nI ht (by decide), ?_⟩
    rw [nI_clamp (n := t) (by omega), htr]
    by_cases e : i < R.length
    · refine br_t (nI_lt e (by omega)) ?_
      refine qb_loop (fun f c s => wX_fetch_63 post (nI a) (nI n) (nI (qb_enc (List.range' 0 w))) (nI i) 1 f_tables f_nodes f_codeLen f_rowMap f_rowWidth f_nextReg f_loops f_resRows f_resWidth f (nI c) a_tabWidth a_tabRows a_tab a_kind a_left a_right a_parent a_p a_q a_r a_nodeWidth a_bound a_wanted a_cOp a_cA a_cB a_cC a_cD a_loopHead a_todo s a_cursor a_loopKey a_met a_store a_storeRows a_headOf a_tailOf a_link a_result) a_reg 0 (R.getD i []) w (hrow _ (qm_getD_mem e)) ?_ ?_
      · intro f
        refine ⟨vp_in_nI hn (by decide), ?_⟩
        rw [nI_clamp (by omega), nI_clamp (n := a) (by omega), hnw]
        exact br_t (nI_le (Nat.le_refl _) (by omega)) ⟨vp_in_nI ha (by decide), nm_r (e' := upd a_cursor a (nI (i + 1))) (by rw [nI_1]) (K1 e)⟩
      · intro f c hc K'
        refine ⟨vp_in_nI hn (by decide), ?_⟩
        rw [nI_clamp (n := n) (by omega), hnw]
        refine br_f (nI_ge hc (by omega)) (br_f (by decide) ⟨vp_in_nI hn (by decide), ?_⟩)
        rw [hp, qb_ix30, nI_clamp (by omega), hcell i c e hc]
        refine ⟨vp_in_nI (by omega) (by decide), ?_⟩
        unfold wX_fetch_123
        rw [qb_get hm (by omega) (by omega), qm_rg hc, nI_clamp (by omega)]
        exact ⟨vp_in_nI (by omega) (by decide), nm_e (nm_r (nI_1 c) K')⟩
    · exact br_f (nI_nlt (by omega) (by omega)) (K0 (by omega))
  · refine br_f hk (br_t rfl ⟨vp_in_nI hn (by decide), ?_⟩)
    rw [nI_clamp (by omega), hsr]
    by_cases e : i < R.length
    · refine br_t (nI_lt e (by omega)) ?_
      refine qb_loop (fun f c s => wX_fetch_63 post (nI a) (nI n) (nI (qb_enc (List.range' 0 w))) (nI i) 0 f_tables f_nodes f_codeLen f_rowMap f_rowWidth f_nextReg f_loops f_resRows f_resWidth f (nI c) a_tabWidth a_tabRows a_tab a_kind a_left a_right a_parent a_p a_q a_r a_nodeWidth a_bound a_wanted a_cOp a_cA a_cB a_cC a_cD a_loopHead a_todo s a_cursor a_loopKey a_met a_store a_storeRows a_headOf a_tailOf a_link a_result) a_reg 0 (R.getD i []) w (hrow _ (qm_getD_mem e)) ?_ ?_
      · intro f
        refine ⟨vp_in_nI hn (by decide), ?_⟩
        rw [nI_clamp (by omega), nI_clamp (n := a) (by omega), hnw]
        exact br_t (nI_le (Nat.le_refl _) (by omega)) ⟨vp_in_nI ha (by decide), nm_r (e' := upd a_cursor a (nI (i + 1))) (by rw [nI_1]) (K1 e)⟩
      · intro f c hc K'
        refine ⟨vp_in_nI hn (by decide), ?_⟩
        rw [nI_clamp (n := n) (by omega), hnw]
        refine br_f (nI_ge hc (by omega)) (br_t rfl ?_)
        rw [qb_ix3, nI_clamp (by omega), hcell i c e hc]
        refine ⟨vp_in_nI (by omega) (by decide), ?_⟩
        unfold wX_fetch_123
        rw [qb_get hm (by omega) (by omega), qm_rg hc, nI_clamp (by omega)]
        exact ⟨vp_in_nI (by omega) (by decide), nm_e (nm_r (nI_1 c) K')⟩
    · exact br_f (nI_nlt (by omega) (by omega)) (K0 (by omega))
end
end
section
/-! match, place -/
theorem qm_rep0 {w c : Nat} : (List.replicate w (0 : Int32)).getD c 0 = 0 := by
  rw [List.getD_eq_getElem?_getD, List.getElem?_replicate]
  split <;> rfl
section
variable {f_tables f_nodes f_codeLen f_rowMap f_rowWidth f_nextReg f_loops f_resRows f_resWidth : Int32} {a_tabWidth a_tabRows a_tab a_kind a_left a_right a_parent a_p a_q a_r a_nodeWidth a_bound a_wanted a_cOp a_cA a_cB a_cC a_cD a_loopHead a_todo a_reg a_cursor a_loopKey a_met a_store a_storeRows a_headOf a_tailOf a_link a_result : Nat → Int32}
theorem qm_match {post : Int32 → SX → Prop} {hf : qp_R → Nat} {a n col i b w rr h : Nat} {key : Int32} {T : qp_W} (ha : a < 8) (hn : n < 12) (hT : T.length ≤ 24) (hi : i ≤ T.length) (hb : b + w ≤ 32) (hw : w ≤ 6) (hcol : col < w) (hr : a_r n = nI col) (hkey : a_loopKey a = key)
    (hcu : a_cursor a = qm_fi (fun y => decide (hf y = h)) (T.drop i) i) (hrr : rr < 12) (hrt : a_right n = nI rr) (hnw : a_nodeWidth rr = nI w) (hrow : ∀ y ∈ T, y.length = w)
    (hs : ∀ e c, e < T.length → c < w → a_store (n * 144 + e * 6 + c) = (T.getD e []).getD c 0)
    (hlk : ∀ e, e < T.length → a_link (n * 24 + e) = qm_fi (fun y => decide (hf y = hf (T.getD e []))) (T.drop (e + 1)) (e + 1))
    (hh : ∀ y ∈ T, y.getD col 0 = key → hf y = h)
    (K1 : ∀ e, i ≤ e → e < T.length → (T.getD e []).getD col 0 = key → (∀ j, i ≤ j → j < e → ¬ (T.getD j []).getD col 0 = key) → post 1 (f_tables, f_nodes, f_codeLen, f_rowMap, f_rowWidth, f_nextReg, f_loops, f_resRows, f_resWidth, a_tabWidth, a_tabRows, a_tab, a_kind, a_left, a_right, a_parent, a_p, a_q, a_r, a_nodeWidth, a_bound, a_wanted, a_cOp, a_cA, a_cB, a_cC, a_cD, a_loopHead, a_todo, qb_bl a_reg b (T.getD e []), upd a_cursor a (qm_fi (fun y => decide (hf y = h)) (T.drop (e + 1)) (e + 1)), a_loopKey, upd a_met a 1, a_store, a_storeRows, a_headOf, a_tailOf, a_link, a_result))
    (K0 : (∀ j, i ≤ j → j < T.length → ¬ (T.getD j []).getD col 0 = key) → (¬ a_p n = 3 ∨ ¬ a_met a = 0) → post 0 (f_tables, f_nodes, f_codeLen, f_rowMap, f_rowWidth, f_nextReg, f_loops, f_resRows, f_resWidth, a_tabWidth, a_tabRows, a_tab, a_kind, a_left, a_right, a_parent, a_p, a_q, a_r, a_nodeWidth, a_bound, a_wanted, a_cOp, a_cA, a_cB, a_cC, a_cD, a_loopHead, a_todo, a_reg, upd a_cursor a (-1), a_loopKey, a_met, a_store, a_storeRows, a_headOf, a_tailOf, a_link, a_result))
    (K2 : (∀ j, i ≤ j → j < T.length → ¬ (T.getD j []).getD col 0 = key) → a_p n = 3 → a_met a = 0 → post 1 (f_tables, f_nodes, f_codeLen, f_rowMap, f_rowWidth, f_nextReg, f_loops, f_resRows, f_resWidth, a_tabWidth, a_tabRows, a_tab, a_kind, a_left, a_right, a_parent, a_p, a_q, a_r, a_nodeWidth, a_bound, a_wanted, a_cOp, a_cA, a_cB, a_cC, a_cD, a_loopHead, a_todo, qb_bl a_reg b (List.replicate w 0), upd a_cursor a (-1), a_loopKey, upd a_met a 1, a_store, a_storeRows, a_headOf, a_tailOf, a_link, a_result)) :
    wpX_match post (f_tables, f_nodes, f_codeLen, f_rowMap, f_rowWidth, f_nextReg, f_loops, f_resRows, f_resWidth, a_tabWidth, a_tabRows, a_tab, a_kind, a_left, a_right, a_parent, a_p, a_q, a_r, a_nodeWidth, a_bound, a_wanted, a_cOp, a_cA, a_cB, a_cC, a_cD, a_loopHead, a_todo, a_reg, a_cursor, a_loopKey, a_met, a_store, a_storeRows, a_headOf, a_tailOf, a_link, a_result) (nI a) (nI n) (nI (qb_enc (List.range' b w))) := by
  have hm : ∀ m ∈ List.range' b w, m < 32 := fun m h => qm_rg_mem hb h
  have hll : (List.range' b w).length = w := List.length_range'
  have dg : ∀ j, (T.drop i).getD j [] = T.getD (i + j) [] := fun j => by
    rw [List.getD_eq_getElem?_getD, List.getD_eq_getElem?_getD, List.getElem?_drop]
  refine ⟨vp_in_nI hn (by decide), vp_in_nI ha (by decide), vp_in_nI ha (by decide), ?_⟩
  rw [nI_clamp (n := n) (by omega), nI_clamp (n := a) (by omega), hr, hkey, hcu]
  refine qm_seek (i := i) hn hT (by omega) hi (fun e he => hs e col he hcol) hlk hh ?_
  refine ⟨vp_in_nI hn (by decide), ?_⟩
  rw [hrt]
  refine ⟨vp_in_nI hrr (by decide), ?_⟩
  rw [nI_clamp (n := rr) (by omega)]
  refine nm_r hnw ?_
  rcases qm_fi_cases (P := fun y => decide (y.getD col 0 = key)) (T.drop i) i with ⟨c1, c2⟩ | ⟨e, c1, c2, c3, _, c5⟩
  · rw [c1]
    have nn : ∀ j, i ≤ j → j < T.length → ¬ (T.getD j []).getD col 0 = key := fun j h1 h2 z => by
      refine c2 (T.getD j []) ?_ (decide_eq_true z)
      have := qm_getD_mem (T := T.drop i) (i := j - i) (by rw [List.length_drop]; omega)
      rwa [dg, show i + (j - i) = j by omega] at this
    refine br_t qb_neg1 ⟨vp_in_nI ha (by decide), nm_e ⟨vp_in_nI hn (by decide), ?_⟩⟩
    by_cases h3 : a_p n = 3
    · refine br_t h3 ⟨vp_in_nI ha (by decide), ?_⟩
      by_cases hz : a_met a = 0
      · refine br_t hz ?_
        refine qb_loop (fun f c s => wX_match_150 post (nI a) (nI (qb_enc (List.range' b w))) (nI w) f_tables f_nodes f_codeLen f_rowMap f_rowWidth f_nextReg f_loops f_resRows f_resWidth f (nI c) a_tabWidth a_tabRows a_tab a_kind a_left a_right a_parent a_p a_q a_r a_nodeWidth a_bound a_wanted a_cOp a_cA a_cB a_cC a_cD a_loopHead a_todo s (upd a_cursor a (-1)) a_loopKey a_met a_store a_storeRows a_headOf a_tailOf a_link a_result) a_reg b (List.replicate w 0) w (List.length_replicate ..) ?_ ?_
        · intro f
          refine br_t (nI_le (Nat.le_refl _) (by omega)) ⟨vp_in_nI ha (by decide), nm_r (e' := upd a_met a 1) (by rw [nI_clamp (by omega), qb_b1]) (K2 nn h3 hz)⟩
        · intro f c hc K'
          refine br_f (nI_ge hc (by omega)) ?_
          rw [qb_get hm (by omega) (by omega), qm_rg hc, nI_clamp (by omega)]
          rw [qm_rep0] at K'
          exact ⟨vp_in_nI (by omega) (by decide), nm_e (nm_r (nI_1 c) K')⟩
      · exact br_f hz (K0 nn (Or.inr hz))
    · exact br_f h3 (K0 nn (Or.inl h3))
  · rw [List.length_drop] at c1
    rw [c2]
    have c3' : (T.getD (i + e) []).getD col 0 = key := by rw [← dg]; exact of_decide_eq_true c3
    have c5' : ∀ j, i ≤ j → j < i + e → ¬ (T.getD j []).getD col 0 = key := fun j h1 h2 z => c5 (j - i) (by omega) (by rw [dg, show i + (j - i) = j by omega]; exact decide_eq_true z)
    have he : i + e < T.length := by omega
    refine br_f (nI_pos (by omega)) ?_
    refine qb_loop (fun f c s => wX_match_46 post (nI a) (nI n) (nI (qb_enc (List.range' b w))) (nI (i + e)) (nI w) f_tables f_nodes f_codeLen f_rowMap f_rowWidth f_nextReg f_loops f_resRows f_resWidth f (nI c) a_tabWidth a_tabRows a_tab a_kind a_left a_right a_parent a_p a_q a_r a_nodeWidth a_bound a_wanted a_cOp a_cA a_cB a_cC a_cD a_loopHead a_todo s a_cursor a_loopKey a_met a_store a_storeRows a_headOf a_tailOf a_link a_result) a_reg b (T.getD (i + e) []) w (hrow _ (qm_getD_mem he)) ?_ ?_
    · intro f
      refine br_t (nI_le (Nat.le_refl _) (by omega)) ?_
      rw [qb_ix24, nI_clamp (n := a) (by omega), nI_clamp (by omega), hlk _ he, hh _ (qm_getD_mem he) c3']
      exact ⟨vp_in_nI (by omega) (by decide), vp_in_nI ha (by decide), nm_e ⟨vp_in_nI ha (by decide), nm_r (e' := upd a_met a 1) (by rw [qb_b1]) (K1 _ (by omega) he c3' c5')⟩⟩
    · intro f c hc K'
      refine br_f (nI_ge hc (by omega)) ?_
      rw [qb_get hm (by omega) (by omega), qm_rg hc, qb_ix3, nI_clamp (n := b + c) (by omega), nI_clamp (by omega), hs _ c he hc]
      exact ⟨vp_in_nI (by omega) (by decide), vp_in_nI (by omega) (by decide), nm_e (nm_r (nI_1 c) K')⟩
theorem qm_gb {post : Int32 → Prop} {n row col : Nat} {key v : Int32} (hn : n < 12) (hr : row < 24) (hc : col < 6) (hp : a_p n = nI col) (hv : a_store (n * 144 + row * 6 + col) = v)
    (K : post (if qp_bef (a_q n) key v = true then 1 else 0)) : wpX_goesBefore post (f_tables, f_nodes, f_codeLen, f_rowMap, f_rowWidth, f_nextReg, f_loops, f_resRows, f_resWidth, a_tabWidth, a_tabRows, a_tab, a_kind, a_left, a_right, a_parent, a_p, a_q, a_r, a_nodeWidth, a_bound, a_wanted, a_cOp, a_cA, a_cB, a_cC, a_cD, a_loopHead, a_todo, a_reg, a_cursor, a_loopKey, a_met, a_store, a_storeRows, a_headOf, a_tailOf, a_link, a_result) (nI n) key (nI row) := by
  refine ⟨vp_in_nI hn (by decide), ?_⟩
  rw [nI_clamp (n := n) (by omega), hp, qb_ix3, nI_clamp (by omega)]
  refine ⟨vp_in_nI (by omega) (by decide), nm_r hv ⟨vp_in_nI hn (by decide), ?_⟩⟩
  unfold qp_bef at K
  by_cases h : a_q n = 1
  · rw [if_pos h] at K
    refine br_t h (br_c (fun z => ?_) (fun z => ?_))
    · rw [decide_eq_false (fun y => y z)] at K; exact K
    · rw [decide_eq_true z] at K; exact K
  · rw [if_neg h] at K
    refine br_f h (br_c (fun z => ?_) (fun z => ?_))
    · rw [decide_eq_false (fun y => y z)] at K; exact K
    · rw [decide_eq_true z] at K; exact K
theorem qm_copyRow {post : SX → Prop} {n a : Nat} (hn : n < 12) (ha : a + 1 < 24)
    (K : post (f_tables, f_nodes, f_codeLen, f_rowMap, f_rowWidth, f_nextReg, f_loops, f_resRows, f_resWidth, a_tabWidth, a_tabRows, a_tab, a_kind, a_left, a_right, a_parent, a_p, a_q, a_r, a_nodeWidth, a_bound, a_wanted, a_cOp, a_cA, a_cB, a_cC, a_cD, a_loopHead, a_todo, a_reg, a_cursor, a_loopKey, a_met, qb_bl a_store (n * 144 + (a + 1) * 6) ((List.range 6).map (fun c => a_store (n * 144 + a * 6 + c))), a_storeRows, a_headOf, a_tailOf, a_link, a_result)) : wpX_copyRow post (f_tables, f_nodes, f_codeLen, f_rowMap, f_rowWidth, f_nextReg, f_loops, f_resRows, f_resWidth, a_tabWidth, a_tabRows, a_tab, a_kind, a_left, a_right, a_parent, a_p, a_q, a_r, a_nodeWidth, a_bound, a_wanted, a_cOp, a_cA, a_cB, a_cC, a_cD, a_loopHead, a_todo, a_reg, a_cursor, a_loopKey, a_met, a_store, a_storeRows, a_headOf, a_tailOf, a_link, a_result) (nI n) (nI a) (nI (a + 1)) := by
  refine qb_loop (fun f c s => wX_copyRow_3 post (nI n) (nI a) (nI (a + 1)) f_tables f_nodes f_codeLen f_rowMap f_rowWidth f_nextReg f_loops f_resRows f_resWidth f (nI c) a_tabWidth a_tabRows a_tab a_kind a_left a_right a_parent a_p a_q a_r a_nodeWidth a_bound a_wanted a_cOp a_cA a_cB a_cC a_cD a_loopHead a_todo a_reg a_cursor a_loopKey a_met s a_storeRows a_headOf a_tailOf a_link a_result) a_store (n * 144 + (a + 1) * 6) ((List.range 6).map (fun c => a_store (n * 144 + a * 6 + c))) 6 (by rw [List.length_map, List.length_range]) ?_ ?_
  · intro f
    exact br_t (nI_le (a := 6) (b := 6) (Nat.le_refl _) (by decide)) K
  · intro f c hc K'
    refine br_f (nI_ge (a := c) (b := 6) hc (by decide)) ?_
    rw [qb_ix3, qb_ix3, nI_clamp (n := n * 144 + a * 6 + c) (by omega), nI_clamp (n := n * 144 + (a + 1) * 6 + c) (by omega)]
    rw [qm_cells (b := n * 144 + a * 6) hc] at K'
    refine ⟨vp_in_nI (by omega) (by decide), vp_in_nI (by omega) (by decide), nm_r ?_ (nm_r (nI_1 c) K')⟩
    rw [qb_bl_out (j := n * 144 + a * 6 + c) (by omega)]
theorem qm_place {post : SX → Prop} {n col : Nat} {T : qp_W} {ms : List Nat} (hn : n < 12) (hT : T.length < 24) (hsr : a_storeRows n = nI T.length) (hm : ∀ m ∈ ms, m < 32) (hl : ms.length ≤ 6) (hp : a_p n = nI col) (hcol : col < ms.length)
    (hs : ∀ e c, e < T.length → c < ms.length → a_store (n * 144 + e * 6 + c) = (T.getD e []).getD c 0)
    (K : ∀ st : Nat → Int32, (∀ e c, e ≤ T.length → c < ms.length → st (n * 144 + e * 6 + c) = ((qp_ins (a_q n) (a_p n) ((ms.map a_reg).getD col 0) (ms.map a_reg) T).getD e []).getD c 0) → (∀ j, j < n * 144 ∨ n * 144 + 144 ≤ j → st j = a_store j) →
      post (f_tables, f_nodes, f_codeLen, f_rowMap, f_rowWidth, f_nextReg, f_loops, f_resRows, f_resWidth, a_tabWidth, a_tabRows, a_tab, a_kind, a_left, a_right, a_parent, a_p, a_q, a_r, a_nodeWidth, a_bound, a_wanted, a_cOp, a_cA, a_cB, a_cC, a_cD, a_loopHead, a_todo, a_reg, a_cursor, a_loopKey, a_met, st, upd a_storeRows n (nI (T.length + 1)), a_headOf, a_tailOf, a_link, a_result)) :
    wpX_place post (f_tables, f_nodes, f_codeLen, f_rowMap, f_rowWidth, f_nextReg, f_loops, f_resRows, f_resWidth, a_tabWidth, a_tabRows, a_tab, a_kind, a_left, a_right, a_parent, a_p, a_q, a_r, a_nodeWidth, a_bound, a_wanted, a_cOp, a_cA, a_cB, a_cC, a_cD, a_loopHead, a_todo, a_reg, a_cursor, a_loopKey, a_met, a_store, a_storeRows, a_headOf, a_tailOf, a_link, a_result) (nI n) (nI ms.length) (nI (qb_enc ms)) := by
  have hlx : (ms.map a_reg).length = ms.length := List.length_map ..
  refine ⟨vp_in_nI hn (by decide), ?_⟩
  rw [nI_clamp (n := n) (by omega)]
  refine nm_r hsr (br_t (nI_lt (a := T.length) (b := 24) hT (by decide)) ⟨vp_in_nI hn (by decide), ?_⟩)
  rw [hp, qb_get hm hl hcol, nI_clamp (by have := qm_m32 hm hcol; omega)]
  refine ⟨vp_in_nI (qm_m32 hm hcol) (by decide), nm_r (qm_mg (f := a_reg) hcol).symm ?_⟩
  have eat : ∀ y : qp_R, qp_at y (a_p n) = y.getD col 0 := fun y => by unfold qp_at; rw [hp, nI_clamp (by omega)]
  have fin : ∀ at' (st : Nat → Int32), at' ≤ T.length → (∀ e c, e < at' → c < ms.length → st (n * 144 + e * 6 + c) = (T.getD e []).getD c 0) → (∀ e c, at' ≤ e → e < T.length → c < ms.length → st (n * 144 + (e + 1) * 6 + c) = (T.getD e []).getD c 0) →
      (∀ e, at' ≤ e → e < T.length → qp_bef (a_q n) ((ms.map a_reg).getD col 0) ((T.getD e []).getD col 0) = true) → (∀ b, at' = b + 1 → ¬ qp_bef (a_q n) ((ms.map a_reg).getD col 0) ((T.getD b []).getD col 0) = true) → (∀ j, j < n * 144 ∨ n * 144 + 144 ≤ j → st j = a_store j) →
      ∃ n79, wX_place_79 post (nI n) (nI ms.length) (nI (qb_enc ms)) (nI T.length) (nI at') f_tables f_nodes f_codeLen f_rowMap f_rowWidth f_nextReg f_loops f_resRows f_resWidth n79 0 a_tabWidth a_tabRows a_tab a_kind a_left a_right a_parent a_p a_q a_r a_nodeWidth a_bound a_wanted a_cOp a_cA a_cB a_cC a_cD a_loopHead a_todo a_reg a_cursor a_loopKey a_met st a_storeRows a_headOf a_tailOf a_link a_result := by
    intro at' st h1 h2 h3 h4 h5 h6
    refine qb_loop (fun f c s => wX_place_79 post (nI n) (nI ms.length) (nI (qb_enc ms)) (nI T.length) (nI at') f_tables f_nodes f_codeLen f_rowMap f_rowWidth f_nextReg f_loops f_resRows f_resWidth f (nI c) a_tabWidth a_tabRows a_tab a_kind a_left a_right a_parent a_p a_q a_r a_nodeWidth a_bound a_wanted a_cOp a_cA a_cB a_cC a_cD a_loopHead a_todo a_reg a_cursor a_loopKey a_met s a_storeRows a_headOf a_tailOf a_link a_result) st (n * 144 + at' * 6) (ms.map a_reg) ms.length hlx ?_ ?_
    · intro f
      refine br_t (nI_le (Nat.le_refl _) (by omega)) ⟨vp_in_nI hn (by decide), ?_⟩
      rw [nI_clamp (n := n) (by omega), nI_1]
      refine nm_e (K _ ?_ ?_)
      · intro e c he hc
        rw [qp_ins_at _ _ _ _ T at' h1 (fun i hi1 hi2 => by rw [eat]; exact h4 i hi1 hi2) (fun b hb => by rw [eat]; exact h5 b hb), qm_ins_get h1]
        by_cases e1 : e < at'
        · rw [if_pos e1, qb_bl_out (by omega)]; exact h2 e c e1 hc
        · rw [if_neg e1]
          by_cases e2 : e = at'
          · rw [if_pos e2, e2, qb_bl_in (by omega)]
          · rw [if_neg e2, qb_bl_out (by omega)]
            obtain ⟨d, rfl⟩ : ∃ d, e = d + 1 := ⟨e - 1, by omega⟩
            exact h3 d c (by omega) (by omega) hc
      · intro j hj
        rw [qb_bl_out (by omega)]; exact h6 j hj
    · intro f c hc K'
      refine br_f (nI_ge hc (by omega)) ?_
      rw [qb_get hm hl hc, qb_ix3, nI_clamp (n := n * 144 + at' * 6 + c) (by omega), nI_clamp (by have := qm_m32 hm hc; omega)]
      rw [qm_mg (f := a_reg) hc] at K'
      exact ⟨vp_in_nI (qm_m32 hm hc) (by decide), vp_in_nI (by omega) (by decide), nm_e (nm_r (nI_1 c) K')⟩
  have L : ∀ at' (st : Nat → Int32) f, at' < f → at' ≤ T.length → (∀ e c, e < at' → c < ms.length → st (n * 144 + e * 6 + c) = (T.getD e []).getD c 0) → (∀ e c, at' ≤ e → e < T.length → c < ms.length → st (n * 144 + (e + 1) * 6 + c) = (T.getD e []).getD c 0) →
      (∀ e, at' ≤ e → e < T.length → qp_bef (a_q n) ((ms.map a_reg).getD col 0) ((T.getD e []).getD col 0) = true) → (∀ j, j < n * 144 ∨ n * 144 + 144 ≤ j → st j = a_store j) →
      wX_place_40 post (nI n) (nI ms.length) (nI (qb_enc ms)) (nI T.length) ((ms.map a_reg).getD col 0) f (nI at') f_tables f_nodes f_codeLen f_rowMap f_rowWidth f_nextReg f_loops f_resRows f_resWidth a_tabWidth a_tabRows a_tab a_kind a_left a_right a_parent a_p a_q a_r a_nodeWidth a_bound a_wanted a_cOp a_cA a_cB a_cC a_cD a_loopHead a_todo a_reg a_cursor a_loopKey a_met st a_storeRows a_headOf a_tailOf a_link a_result := by
    intro at'
    induction at' with
    | zero =>
      intro st f hf h1 h2 h3 h4 h6
      obtain ⟨f, rfl⟩ : ∃ f', f = f' + 1 := ⟨f - 1, by omega⟩
      exact br_t (nI_le (a := 0) (b := 0) (Nat.le_refl _) (by decide)) (fin 0 st h1 h2 h3 h4 (fun b hb => by omega) h6)
    | succ b ih =>
      intro st f hf h1 h2 h3 h4 h6
      obtain ⟨f, rfl⟩ : ∃ f', f = f' + 1 := ⟨f - 1, by omega⟩
      refine br_f (nI_nle (by omega) (by omega)) ?_
      rw [nI_pred]
      refine qm_gb hn (by omega) (by omega) hp (h2 b col (by omega) hcol) ?_
      by_cases hb : qp_bef (a_q n) ((ms.map a_reg).getD col 0) ((T.getD b []).getD col 0) = true
      · rw [if_pos hb]
        refine br_f (by decide) (qm_copyRow hn (by omega) (nm_r (pk_m1 b) ?_))
        have lc : ((List.range 6).map (fun c => st (n * 144 + b * 6 + c))).length = 6 := by rw [List.length_map, List.length_range]
        refine ih _ f (by omega) (by omega) ?_ ?_ ?_ ?_
        · intro e c he hc
          rw [qb_bl_out (by omega)]; exact h2 e c (by omega) hc
        · intro e c he1 he2 hc
          by_cases ee : e = b
          · rw [ee, qb_bl_in (by omega), qm_cells (b := n * 144 + b * 6) (by omega)]; exact h2 b c (by omega) hc
          · rw [qb_bl_out (by omega)]; exact h3 e c (by omega) he2 hc
        · intro e he1 he2
          by_cases ee : e = b
          · rw [ee]; exact hb
          · exact h4 e (by omega) he2
        · intro j hj
          rw [qb_bl_out (by omega)]; exact h6 j hj
      · rw [if_neg hb]
        refine br_t rfl (fin (b + 1) st h1 h2 h3 h4 (fun b' hb' => ?_) h6)
        have : b' = b := by omega
        rw [this]; exact hb
  exact ⟨T.length + 1, L T.length a_store _ (by omega) (Nat.le_refl _) hs (fun e c h1 h2 => by omega) (fun e h1 h2 => by omega) (fun j _ => rfl)⟩
end
end
section
/-! one step of the machine, each operation -/
section
variable {f_tables f_nodes f_codeLen f_rowMap f_rowWidth f_nextReg f_loops f_resRows f_resWidth : Int32} {a_tabWidth a_tabRows a_tab a_kind a_left a_right a_parent a_p a_q a_r a_nodeWidth a_bound a_wanted a_cOp a_cA a_cB a_cC a_cD a_loopHead a_todo a_reg a_cursor a_loopKey a_met a_store a_storeRows a_headOf a_tailOf a_link a_result : Nat → Int32}
theorem qm_336_1 {post : Int32 → SX → Prop} {pc : Nat} (K : post (nI (pc + 1)) (f_tables, f_nodes, f_codeLen, f_rowMap, f_rowWidth, f_nextReg, f_loops, f_resRows, f_resWidth, a_tabWidth, a_tabRows, a_tab, a_kind, a_left, a_right, a_parent, a_p, a_q, a_r, a_nodeWidth, a_bound, a_wanted, a_cOp, a_cA, a_cB, a_cC, a_cD, a_loopHead, a_todo, a_reg, a_cursor, a_loopKey, a_met, a_store, a_storeRows, a_headOf, a_tailOf, a_link, a_result)) : wX_perform_336 post (nI pc) 1 f_tables f_nodes f_codeLen f_rowMap f_rowWidth f_nextReg f_loops f_resRows f_resWidth a_tabWidth a_tabRows a_tab a_kind a_left a_right a_parent a_p a_q a_r a_nodeWidth a_bound a_wanted a_cOp a_cA a_cB a_cC a_cD a_loopHead a_todo a_reg a_cursor a_loopKey a_met a_store a_storeRows a_headOf a_tailOf a_link a_result := by
  refine br_f (by decide) ?_
  rw [nI_1]; exact K
theorem qm_336_0 {post : Int32 → SX → Prop} {pc d : Nat} (hpc : pc < 192) (hD : a_cD pc = nI d) (K : post (nI d) (f_tables, f_nodes, f_codeLen, f_rowMap, f_rowWidth, f_nextReg, f_loops, f_resRows, f_resWidth, a_tabWidth, a_tabRows, a_tab, a_kind, a_left, a_right, a_parent, a_p, a_q, a_r, a_nodeWidth, a_bound, a_wanted, a_cOp, a_cA, a_cB, a_cC, a_cD, a_loopHead, a_todo, a_reg, a_cursor, a_loopKey, a_met, a_store, a_storeRows, a_headOf, a_tailOf, a_link, a_result)) : wX_perform_336 post (nI pc) 0 f_tables f_nodes f_codeLen f_rowMap f_rowWidth f_nextReg f_loops f_resRows f_resWidth a_tabWidth a_tabRows a_tab a_kind a_left a_right a_parent a_p a_q a_r a_nodeWidth a_bound a_wanted a_cOp a_cA a_cB a_cC a_cD a_loopHead a_todo a_reg a_cursor a_loopKey a_met a_store a_storeRows a_headOf a_tailOf a_link a_result := by
  refine br_t rfl ⟨vp_in_nI hpc (by decide), ?_⟩
  rw [nI_clamp (by omega), hD]; exact K
theorem qm_pf1 {post : Int32 → SX → Prop} {pc : Nat} {B Cv : Int32} {a : Nat} (hpc : pc < 192) (ha : a < 8) (hO : a_cOp pc = 1) (hA : a_cA pc = nI a) (hB : a_cB pc = B) (hC : a_cC pc = Cv)
    (K : post (nI (pc + 1)) (f_tables, f_nodes, f_codeLen, f_rowMap, f_rowWidth, f_nextReg, f_loops, f_resRows, f_resWidth, a_tabWidth, a_tabRows, a_tab, a_kind, a_left, a_right, a_parent, a_p, a_q, a_r, a_nodeWidth, a_bound, a_wanted, a_cOp, a_cA, a_cB, a_cC, a_cD, a_loopHead, a_todo, a_reg, upd a_cursor a 0, a_loopKey, a_met, a_store, a_storeRows, a_headOf, a_tailOf, a_link, a_result)) : wpX_perform post (f_tables, f_nodes, f_codeLen, f_rowMap, f_rowWidth, f_nextReg, f_loops, f_resRows, f_resWidth, a_tabWidth, a_tabRows, a_tab, a_kind, a_left, a_right, a_parent, a_p, a_q, a_r, a_nodeWidth, a_bound, a_wanted, a_cOp, a_cA, a_cB, a_cC, a_cD, a_loopHead, a_todo, a_reg, a_cursor, a_loopKey, a_met, a_store, a_storeRows, a_headOf, a_tailOf, a_link, a_result) (nI pc) := by
  refine ⟨vp_in_nI hpc (by decide), ?_⟩
  rw [nI_clamp (n := pc) (by omega)]
  refine nm_r hA ⟨vp_in_nI hpc (by decide), nm_r hB ⟨vp_in_nI hpc (by decide), nm_r hC ⟨vp_in_nI hpc (by decide), nm_r hO ?_⟩⟩⟩
  refine br_f (by decide) (br_f (by decide) (br_t rfl ?_))
  rw [nI_clamp (by omega)]
  exact ⟨vp_in_nI ha (by decide), nm_e (qm_336_1 K)⟩
theorem qm_pf2 {post : Int32 → SX → Prop} {pc d : Nat} {a n i w : Nat} {R : qp_W} (hpc : pc < 192) (hO : a_cOp pc = 2) (hA : a_cA pc = nI a) (hB : a_cB pc = nI n) (hC : a_cC pc = nI (qb_enc (List.range' 0 w))) (hD : a_cD pc = nI d)
    (ha : a < 8) (hn : n < 12) (hw : w ≤ 6) (hw0 : 1 ≤ w) (hi : i ≤ R.length) (hR : R.length ≤ 24) (hcu : a_cursor a = nI i) (hnw : a_nodeWidth n = nI w) (hrow : ∀ y ∈ R, y.length = w)
    (hsrc : (a_kind n = 0 ∧ ∃ t, t < 4 ∧ w ≤ 3 ∧ R.length ≤ 10 ∧ a_p n = nI t ∧ a_tabRows t = nI R.length ∧ ∀ e c, e < R.length → c < w → a_tab (t * 30 + e * 3 + c) = (R.getD e []).getD c 0) ∨
      (¬ a_kind n = 0 ∧ a_storeRows n = nI R.length ∧ ∀ e c, e < R.length → c < w → a_store (n * 144 + e * 6 + c) = (R.getD e []).getD c 0))
    (K0 : i = R.length → post (nI d) (f_tables, f_nodes, f_codeLen, f_rowMap, f_rowWidth, f_nextReg, f_loops, f_resRows, f_resWidth, a_tabWidth, a_tabRows, a_tab, a_kind, a_left, a_right, a_parent, a_p, a_q, a_r, a_nodeWidth, a_bound, a_wanted, a_cOp, a_cA, a_cB, a_cC, a_cD, a_loopHead, a_todo, a_reg, a_cursor, a_loopKey, a_met, a_store, a_storeRows, a_headOf, a_tailOf, a_link, a_result))
    (K1 : i < R.length → post (nI (pc + 1)) (f_tables, f_nodes, f_codeLen, f_rowMap, f_rowWidth, f_nextReg, f_loops, f_resRows, f_resWidth, a_tabWidth, a_tabRows, a_tab, a_kind, a_left, a_right, a_parent, a_p, a_q, a_r, a_nodeWidth, a_bound, a_wanted, a_cOp, a_cA, a_cB, a_cC, a_cD, a_loopHead, a_todo, qb_bl a_reg 0 (R.getD i []), upd a_cursor a (nI (i + 1)), a_loopKey, a_met, a_store, a_storeRows, a_headOf, a_tailOf, a_link, a_result)) : wpX_perform post (f_tables, f_nodes, f_codeLen, f_rowMap, f_rowWidth, f_nextReg, f_loops, f_resRows, f_resWidth, a_tabWidth, a_tabRows, a_tab, a_kind, a_left, a_right, a_parent, a_p, a_q, a_r, a_nodeWidth, a_bound, a_wanted, a_cOp, a_cA, a_cB, a_cC, a_cD, a_loopHead, a_todo, a_reg, a_cursor, a_loopKey, a_met, a_store, a_storeRows, a_headOf, a_tailOf, a_link, a_result) (nI pc) := by
  refine ⟨vp_in_nI hpc (by decide), ?_⟩
  rw [nI_clamp (n := pc) (by omega)]
  refine nm_r hA ⟨vp_in_nI hpc (by decide), nm_r hB ⟨vp_in_nI hpc (by decide), nm_r hC ⟨vp_in_nI hpc (by decide), nm_r hO ?_⟩⟩⟩
  refine br_f (by decide) (br_f (by decide) (br_f (by decide) (br_t rfl ?_)))
  exact qm_fetch ha hn hw hw0 hi hR hcu hnw hrow hsrc (fun h => qm_336_0 hpc hD (K0 h)) (fun h => qm_336_1 (K1 h))
theorem qm_336_if {post : Int32 → SX → Prop} {pc d : Nat} {b : Bool} (hpc : pc < 192) (hD : a_cD pc = nI d) (K : post (nI (if b = true then pc + 1 else d)) (f_tables, f_nodes, f_codeLen, f_rowMap, f_rowWidth, f_nextReg, f_loops, f_resRows, f_resWidth, a_tabWidth, a_tabRows, a_tab, a_kind, a_left, a_right, a_parent, a_p, a_q, a_r, a_nodeWidth, a_bound, a_wanted, a_cOp, a_cA, a_cB, a_cC, a_cD, a_loopHead, a_todo, a_reg, a_cursor, a_loopKey, a_met, a_store, a_storeRows, a_headOf, a_tailOf, a_link, a_result)) : wX_perform_336 post (nI pc) (if b = true then 1 else 0) f_tables f_nodes f_codeLen f_rowMap f_rowWidth f_nextReg f_loops f_resRows f_resWidth a_tabWidth a_tabRows a_tab a_kind a_left a_right a_parent a_p a_q a_r a_nodeWidth a_bound a_wanted a_cOp a_cA a_cB a_cC a_cD a_loopHead a_todo a_reg a_cursor a_loopKey a_met a_store a_storeRows a_headOf a_tailOf a_link a_result := by
  cases b with
  | true => exact qm_336_1 K
  | false => exact qm_336_0 hpc hD K
theorem qm_pf3 {post : Int32 → SX → Prop} {pc d ra : Nat} {k v : Int32} (hpc : pc < 192) (hr : ra < 32) (hO : a_cOp pc = 3) (hA : a_cA pc = nI ra) (hB : a_cB pc = k) (hC : a_cC pc = v) (hD : a_cD pc = nI d) (hk : qp_c 6 k)
    (K : post (nI (if qp_cmp k (a_reg ra) v = true then pc + 1 else d)) (f_tables, f_nodes, f_codeLen, f_rowMap, f_rowWidth, f_nextReg, f_loops, f_resRows, f_resWidth, a_tabWidth, a_tabRows, a_tab, a_kind, a_left, a_right, a_parent, a_p, a_q, a_r, a_nodeWidth, a_bound, a_wanted, a_cOp, a_cA, a_cB, a_cC, a_cD, a_loopHead, a_todo, a_reg, a_cursor, a_loopKey, a_met, a_store, a_storeRows, a_headOf, a_tailOf, a_link, a_result)) : wpX_perform post (f_tables, f_nodes, f_codeLen, f_rowMap, f_rowWidth, f_nextReg, f_loops, f_resRows, f_resWidth, a_tabWidth, a_tabRows, a_tab, a_kind, a_left, a_right, a_parent, a_p, a_q, a_r, a_nodeWidth, a_bound, a_wanted, a_cOp, a_cA, a_cB, a_cC, a_cD, a_loopHead, a_todo, a_reg, a_cursor, a_loopKey, a_met, a_store, a_storeRows, a_headOf, a_tailOf, a_link, a_result) (nI pc) := by
  refine ⟨vp_in_nI hpc (by decide), ?_⟩
  rw [nI_clamp (n := pc) (by omega)]
  refine nm_r hA ⟨vp_in_nI hpc (by decide), nm_r hB ⟨vp_in_nI hpc (by decide), nm_r hC ⟨vp_in_nI hpc (by decide), nm_r hO ?_⟩⟩⟩
  refine br_f (by decide) (br_f (by decide) (br_f (by decide) (br_f (by decide) (br_t rfl ?_))))
  rw [nI_clamp (by omega)]
  exact ⟨vp_in_nI hr (by decide), qm_holds hk (qm_336_if hpc hD K)⟩
theorem qm_pf4 {post : Int32 → SX → Prop} {pc d ra rb : Nat} {k : Int32} (hpc : pc < 192) (hr : ra < 32) (hr' : rb < 32) (hO : a_cOp pc = 4) (hA : a_cA pc = nI ra) (hB : a_cB pc = k) (hC : a_cC pc = nI rb) (hD : a_cD pc = nI d) (hk : qp_c 6 k)
    (K : post (nI (if qp_cmp k (a_reg ra) (a_reg rb) = true then pc + 1 else d)) (f_tables, f_nodes, f_codeLen, f_rowMap, f_rowWidth, f_nextReg, f_loops, f_resRows, f_resWidth, a_tabWidth, a_tabRows, a_tab, a_kind, a_left, a_right, a_parent, a_p, a_q, a_r, a_nodeWidth, a_bound, a_wanted, a_cOp, a_cA, a_cB, a_cC, a_cD, a_loopHead, a_todo, a_reg, a_cursor, a_loopKey, a_met, a_store, a_storeRows, a_headOf, a_tailOf, a_link, a_result)) : wpX_perform post (f_tables, f_nodes, f_codeLen, f_rowMap, f_rowWidth, f_nextReg, f_loops, f_resRows, f_resWidth, a_tabWidth, a_tabRows, a_tab, a_kind, a_left, a_right, a_parent, a_p, a_q, a_r, a_nodeWidth, a_bound, a_wanted, a_cOp, a_cA, a_cB, a_cC, a_cD, a_loopHead, a_todo, a_reg, a_cursor, a_loopKey, a_met, a_store, a_storeRows, a_headOf, a_tailOf, a_link, a_result) (nI pc) := by
  refine ⟨vp_in_nI hpc (by decide), ?_⟩
  rw [nI_clamp (n := pc) (by omega)]
  refine nm_r hA ⟨vp_in_nI hpc (by decide), nm_r hB ⟨vp_in_nI hpc (by decide), nm_r hC ⟨vp_in_nI hpc (by decide), nm_r hO ?_⟩⟩⟩
  refine br_f (by decide) (br_f (by decide) (br_f (by decide) (br_f (by decide) (br_f (by decide) (br_t rfl ?_)))))
  rw [nI_clamp (n := ra) (by omega), nI_clamp (n := rb) (by omega)]
  exact ⟨vp_in_nI hr (by decide), vp_in_nI hr' (by decide), qm_holds hk (qm_336_if hpc hD K)⟩
theorem qm_pf5 {post : Int32 → SX → Prop} {pc ra rb rc : Nat} {k : Int32} (hpc : pc < 192) (hr : ra < 32) (hr' : rb < 32) (hrc : rc < 32) (hO : a_cOp pc = 5) (hA : a_cA pc = k) (hB : a_cB pc = nI (ra + 32 * rb)) (hC : a_cC pc = nI rc) (hk : qp_c 5 k)
    (K : post (nI (pc + 1)) (f_tables, f_nodes, f_codeLen, f_rowMap, f_rowWidth, f_nextReg, f_loops, f_resRows, f_resWidth, a_tabWidth, a_tabRows, a_tab, a_kind, a_left, a_right, a_parent, a_p, a_q, a_r, a_nodeWidth, a_bound, a_wanted, a_cOp, a_cA, a_cB, a_cC, a_cD, a_loopHead, a_todo, upd a_reg rc (qp_calc k (a_reg ra) (a_reg rb)), a_cursor, a_loopKey, a_met, a_store, a_storeRows, a_headOf, a_tailOf, a_link, a_result)) : wpX_perform post (f_tables, f_nodes, f_codeLen, f_rowMap, f_rowWidth, f_nextReg, f_loops, f_resRows, f_resWidth, a_tabWidth, a_tabRows, a_tab, a_kind, a_left, a_right, a_parent, a_p, a_q, a_r, a_nodeWidth, a_bound, a_wanted, a_cOp, a_cA, a_cB, a_cC, a_cD, a_loopHead, a_todo, a_reg, a_cursor, a_loopKey, a_met, a_store, a_storeRows, a_headOf, a_tailOf, a_link, a_result) (nI pc) := by
  refine ⟨vp_in_nI hpc (by decide), ?_⟩
  rw [nI_clamp (n := pc) (by omega)]
  refine nm_r hA ⟨vp_in_nI hpc (by decide), nm_r hB ⟨vp_in_nI hpc (by decide), nm_r hC ⟨vp_in_nI hpc (by decide), nm_r hO ?_⟩⟩⟩
  refine br_f (by decide) (br_f (by decide) (br_f (by decide) (br_f (by decide) (br_f (by decide) (br_f (by decide) (br_t rfl ?_))))))
  rw [pk_andN (by omega) 5 (by decide), pk_shrN (by omega) _ 5 (by decide), show (ra + 32 * rb) % 2 ^ 5 = ra by omega, show (ra + 32 * rb) / 2 ^ 5 = rb by omega, nI_clamp (n := ra) (by omega), nI_clamp (n := rb) (by omega), nI_clamp (n := rc) (by omega)]
  exact ⟨vp_in_nI hr (by decide), vp_in_nI hr' (by decide), qm_calc hk ⟨vp_in_nI hrc (by decide), nm_e (qm_336_1 K)⟩⟩
theorem qm_pf6 {post : Int32 → SX → Prop} {pc a n rk : Nat} (hpc : pc < 192) (ha : a < 8) (hn : n < 12) (hr : rk < 32) (hO : a_cOp pc = 6) (hA : a_cA pc = nI a) (hB : a_cB pc = nI n) (hC : a_cC pc = nI rk)
    (K : post (nI (pc + 1)) (f_tables, f_nodes, f_codeLen, f_rowMap, f_rowWidth, f_nextReg, f_loops, f_resRows, f_resWidth, a_tabWidth, a_tabRows, a_tab, a_kind, a_left, a_right, a_parent, a_p, a_q, a_r, a_nodeWidth, a_bound, a_wanted, a_cOp, a_cA, a_cB, a_cC, a_cD, a_loopHead, a_todo, a_reg, upd a_cursor a (a_headOf (n * 8 + qm_bk (a_reg rk))), upd a_loopKey a (a_reg rk), upd a_met a 0, a_store, a_storeRows, a_headOf, a_tailOf, a_link, a_result)) : wpX_perform post (f_tables, f_nodes, f_codeLen, f_rowMap, f_rowWidth, f_nextReg, f_loops, f_resRows, f_resWidth, a_tabWidth, a_tabRows, a_tab, a_kind, a_left, a_right, a_parent, a_p, a_q, a_r, a_nodeWidth, a_bound, a_wanted, a_cOp, a_cA, a_cB, a_cC, a_cD, a_loopHead, a_todo, a_reg, a_cursor, a_loopKey, a_met, a_store, a_storeRows, a_headOf, a_tailOf, a_link, a_result) (nI pc) := by
  refine ⟨vp_in_nI hpc (by decide), ?_⟩
  rw [nI_clamp (n := pc) (by omega)]
  refine nm_r hA ⟨vp_in_nI hpc (by decide), nm_r hB ⟨vp_in_nI hpc (by decide), nm_r hC ⟨vp_in_nI hpc (by decide), nm_r hO ?_⟩⟩⟩
  refine br_f (by decide) (br_f (by decide) (br_f (by decide) (br_f (by decide) (br_f (by decide) (br_f (by decide) (br_f (by decide) (br_t rfl ?_)))))))
  rw [nI_clamp (n := rk) (by omega)]
  exact ⟨vp_in_nI hr (by decide), qm_probe ha hn (qm_336_1 K)⟩
theorem qm_pf7 {post : Int32 → SX → Prop} {pc d : Nat} {hf : qp_R → Nat} {a n col i b w rr h : Nat} {key : Int32} {T : qp_W} (hpc : pc < 192) (hO : a_cOp pc = 7) (hA : a_cA pc = nI a) (hB : a_cB pc = nI n) (hC : a_cC pc = nI (qb_enc (List.range' b w))) (hD : a_cD pc = nI d)
    (ha : a < 8) (hn : n < 12) (hT : T.length ≤ 24) (hi : i ≤ T.length) (hb : b + w ≤ 32) (hw : w ≤ 6) (hcol : col < w) (hr : a_r n = nI col) (hkey : a_loopKey a = key)
    (hcu : a_cursor a = qm_fi (fun y => decide (hf y = h)) (T.drop i) i) (hrr : rr < 12) (hrt : a_right n = nI rr) (hnw : a_nodeWidth rr = nI w) (hrow : ∀ y ∈ T, y.length = w)
    (hs : ∀ e c, e < T.length → c < w → a_store (n * 144 + e * 6 + c) = (T.getD e []).getD c 0)
    (hlk : ∀ e, e < T.length → a_link (n * 24 + e) = qm_fi (fun y => decide (hf y = hf (T.getD e []))) (T.drop (e + 1)) (e + 1))
    (hh : ∀ y ∈ T, y.getD col 0 = key → hf y = h)
    (K1 : ∀ e, i ≤ e → e < T.length → (T.getD e []).getD col 0 = key → (∀ j, i ≤ j → j < e → ¬ (T.getD j []).getD col 0 = key) → post (nI (pc + 1)) (f_tables, f_nodes, f_codeLen, f_rowMap, f_rowWidth, f_nextReg, f_loops, f_resRows, f_resWidth, a_tabWidth, a_tabRows, a_tab, a_kind, a_left, a_right, a_parent, a_p, a_q, a_r, a_nodeWidth, a_bound, a_wanted, a_cOp, a_cA, a_cB, a_cC, a_cD, a_loopHead, a_todo, qb_bl a_reg b (T.getD e []), upd a_cursor a (qm_fi (fun y => decide (hf y = h)) (T.drop (e + 1)) (e + 1)), a_loopKey, upd a_met a 1, a_store, a_storeRows, a_headOf, a_tailOf, a_link, a_result))
    (K0 : (∀ j, i ≤ j → j < T.length → ¬ (T.getD j []).getD col 0 = key) → (¬ a_p n = 3 ∨ ¬ a_met a = 0) → post (nI d) (f_tables, f_nodes, f_codeLen, f_rowMap, f_rowWidth, f_nextReg, f_loops, f_resRows, f_resWidth, a_tabWidth, a_tabRows, a_tab, a_kind, a_left, a_right, a_parent, a_p, a_q, a_r, a_nodeWidth, a_bound, a_wanted, a_cOp, a_cA, a_cB, a_cC, a_cD, a_loopHead, a_todo, a_reg, upd a_cursor a (-1), a_loopKey, a_met, a_store, a_storeRows, a_headOf, a_tailOf, a_link, a_result))
    (K2 : (∀ j, i ≤ j → j < T.length → ¬ (T.getD j []).getD col 0 = key) → a_p n = 3 → a_met a = 0 → post (nI (pc + 1)) (f_tables, f_nodes, f_codeLen, f_rowMap, f_rowWidth, f_nextReg, f_loops, f_resRows, f_resWidth, a_tabWidth, a_tabRows, a_tab, a_kind, a_left, a_right, a_parent, a_p, a_q, a_r, a_nodeWidth, a_bound, a_wanted, a_cOp, a_cA, a_cB, a_cC, a_cD, a_loopHead, a_todo, qb_bl a_reg b (List.replicate w 0), upd a_cursor a (-1), a_loopKey, upd a_met a 1, a_store, a_storeRows, a_headOf, a_tailOf, a_link, a_result)) :
    wpX_perform post (f_tables, f_nodes, f_codeLen, f_rowMap, f_rowWidth, f_nextReg, f_loops, f_resRows, f_resWidth, a_tabWidth, a_tabRows, a_tab, a_kind, a_left, a_right, a_parent, a_p, a_q, a_r, a_nodeWidth, a_bound, a_wanted, a_cOp, a_cA, a_cB, a_cC, a_cD, a_loopHead, a_todo, a_reg, a_cursor, a_loopKey, a_met, a_store, a_storeRows, a_headOf, a_tailOf, a_link, a_result) (nI pc) := by
  refine ⟨vp_in_nI hpc (by decide), ?_⟩
  rw [nI_clamp (n := pc) (by omega)]
  refine nm_r hA ⟨vp_in_nI hpc (by decide), nm_r hB ⟨vp_in_nI hpc (by decide), nm_r hC ⟨vp_in_nI hpc (by decide), nm_r hO ?_⟩⟩⟩
  refine br_f (by decide) (br_f (by decide) (br_f (by decide) (br_f (by decide) (br_f (by decide) (br_f (by decide) (br_f (by decide) (br_f (by decide) (br_t rfl ?_))))))))
  exact qm_match ha hn hT hi hb hw hcol hr hkey hcu hrr hrt hnw hrow hs hlk hh (fun e h1 h2 h3 h4 => qm_336_1 (K1 e h1 h2 h3 h4)) (fun h1 h2 => qm_336_0 hpc hD (K0 h1 h2)) (fun h1 h2 h3 => qm_336_1 (K2 h1 h2 h3))
theorem qm_pf8 {post : Int32 → SX → Prop} {pc d : Nat} {hf : qp_R → Nat} {n col rk : Nat} {T : qp_W} {sm : Bool} (hpc : pc < 192) (hr32 : rk < 32) (hO : a_cOp pc = 8) (hA : a_cA pc = nI n) (hB : a_cB pc = nI rk) (hC : a_cC pc = (if sm = true then 1 else 0)) (hD : a_cD pc = nI d)
    (hn : n < 12) (hT : T.length ≤ 24) (hc : col < 6) (hr : a_r n = nI col)
    (hs : ∀ e, e < T.length → a_store (n * 144 + e * 6 + col) = (T.getD e []).getD col 0) (H : qm_ch hf T a_headOf a_tailOf a_link n)
    (hh : ∀ y ∈ T, y.getD col 0 = a_reg rk → hf y = qm_bk (a_reg rk))
    (K0 : (∀ y ∈ T, ¬ y.getD col 0 = a_reg rk) → post (nI (if sm = true then d else pc + 1)) (f_tables, f_nodes, f_codeLen, f_rowMap, f_rowWidth, f_nextReg, f_loops, f_resRows, f_resWidth, a_tabWidth, a_tabRows, a_tab, a_kind, a_left, a_right, a_parent, a_p, a_q, a_r, a_nodeWidth, a_bound, a_wanted, a_cOp, a_cA, a_cB, a_cC, a_cD, a_loopHead, a_todo, a_reg, a_cursor, a_loopKey, a_met, a_store, a_storeRows, a_headOf, a_tailOf, a_link, a_result)) (K1 : (∃ y ∈ T, y.getD col 0 = a_reg rk) → post (nI (if sm = true then pc + 1 else d)) (f_tables, f_nodes, f_codeLen, f_rowMap, f_rowWidth, f_nextReg, f_loops, f_resRows, f_resWidth, a_tabWidth, a_tabRows, a_tab, a_kind, a_left, a_right, a_parent, a_p, a_q, a_r, a_nodeWidth, a_bound, a_wanted, a_cOp, a_cA, a_cB, a_cC, a_cD, a_loopHead, a_todo, a_reg, a_cursor, a_loopKey, a_met, a_store, a_storeRows, a_headOf, a_tailOf, a_link, a_result)) : wpX_perform post (f_tables, f_nodes, f_codeLen, f_rowMap, f_rowWidth, f_nextReg, f_loops, f_resRows, f_resWidth, a_tabWidth, a_tabRows, a_tab, a_kind, a_left, a_right, a_parent, a_p, a_q, a_r, a_nodeWidth, a_bound, a_wanted, a_cOp, a_cA, a_cB, a_cC, a_cD, a_loopHead, a_todo, a_reg, a_cursor, a_loopKey, a_met, a_store, a_storeRows, a_headOf, a_tailOf, a_link, a_result) (nI pc) := by
  refine ⟨vp_in_nI hpc (by decide), ?_⟩
  rw [nI_clamp (n := pc) (by omega)]
  refine nm_r hA ⟨vp_in_nI hpc (by decide), nm_r hB ⟨vp_in_nI hpc (by decide), nm_r hC ⟨vp_in_nI hpc (by decide), nm_r hO ?_⟩⟩⟩
  refine br_f (by decide) (br_f (by decide) (br_f (by decide) (br_f (by decide) (br_f (by decide) (br_f (by decide) (br_f (by decide) (br_f (by decide) (br_f (by decide) (br_t rfl ?_)))))))))
  rw [nI_clamp (n := rk) (by omega)]
  refine ⟨vp_in_nI hr32 (by decide), qm_exists hn hT hc hr hs H hh (fun h => ?_) (fun h => ?_)⟩
  · have K := K0 h
    cases sm with
    | true => exact br_t rfl (br_f (by decide) (qm_336_0 hpc hD K))
    | false => exact br_f (by decide) (br_t rfl (qm_336_1 K))
  · have K := K1 h
    cases sm with
    | true => exact br_t rfl (br_t rfl (qm_336_1 K))
    | false => exact br_f (by decide) (br_f (by decide) (qm_336_0 hpc hD K))
theorem qm_pf9 {post : Int32 → SX → Prop} {pc d : Nat} {hf : qp_R → Nat} {n : Nat} {T : qp_W} {ms : List Nat} (hpc : pc < 192) (hO : a_cOp pc = 9) (hA : a_cA pc = nI n) (hB : a_cB pc = nI ms.length) (hC : a_cC pc = nI (qb_enc ms)) (hD : a_cD pc = nI d)
    (hn : n < 12) (hT : T.length ≤ 24) (hT2 : ms.map a_reg ∉ T → T.length < 24) (hsr : a_storeRows n = nI T.length) (hm : ∀ m ∈ ms, m < 32) (hl : ms.length ≤ 6)
    (hrow : ∀ y ∈ T, y.length = ms.length) (hs : ∀ e c, e < T.length → c < ms.length → a_store (n * 144 + e * 6 + c) = (T.getD e []).getD c 0)
    (hx : hf (ms.map a_reg) = qm_bk (qm_mix (ms.map a_reg))) (H : qm_ch hf T a_headOf a_tailOf a_link n)
    (K0 : ms.map a_reg ∈ T → post (nI d) (f_tables, f_nodes, f_codeLen, f_rowMap, f_rowWidth, f_nextReg, f_loops, f_resRows, f_resWidth, a_tabWidth, a_tabRows, a_tab, a_kind, a_left, a_right, a_parent, a_p, a_q, a_r, a_nodeWidth, a_bound, a_wanted, a_cOp, a_cA, a_cB, a_cC, a_cD, a_loopHead, a_todo, a_reg, a_cursor, a_loopKey, a_met, a_store, a_storeRows, a_headOf, a_tailOf, a_link, a_result))
    (K1 : ms.map a_reg ∉ T → ∀ hd tl lk : Nat → Int32, qm_ch hf (T ++ [ms.map a_reg]) hd tl lk n → (∀ j, j < n * 8 ∨ n * 8 + 8 ≤ j → hd j = a_headOf j ∧ tl j = a_tailOf j) → (∀ j, j < n * 24 ∨ n * 24 + 24 ≤ j → lk j = a_link j) →
      post (nI (pc + 1)) (f_tables, f_nodes, f_codeLen, f_rowMap, f_rowWidth, f_nextReg, f_loops, f_resRows, f_resWidth, a_tabWidth, a_tabRows, a_tab, a_kind, a_left, a_right, a_parent, a_p, a_q, a_r, a_nodeWidth, a_bound, a_wanted, a_cOp, a_cA, a_cB, a_cC, a_cD, a_loopHead, a_todo, a_reg, a_cursor, a_loopKey, a_met, qb_bl a_store (n * 144 + T.length * 6) (ms.map a_reg), upd a_storeRows n (nI (T.length + 1)), hd, tl, lk, a_result)) :
    wpX_perform post (f_tables, f_nodes, f_codeLen, f_rowMap, f_rowWidth, f_nextReg, f_loops, f_resRows, f_resWidth, a_tabWidth, a_tabRows, a_tab, a_kind, a_left, a_right, a_parent, a_p, a_q, a_r, a_nodeWidth, a_bound, a_wanted, a_cOp, a_cA, a_cB, a_cC, a_cD, a_loopHead, a_todo, a_reg, a_cursor, a_loopKey, a_met, a_store, a_storeRows, a_headOf, a_tailOf, a_link, a_result) (nI pc) := by
  refine ⟨vp_in_nI hpc (by decide), ?_⟩
  rw [nI_clamp (n := pc) (by omega)]
  refine nm_r hA ⟨vp_in_nI hpc (by decide), nm_r hB ⟨vp_in_nI hpc (by decide), nm_r hC ⟨vp_in_nI hpc (by decide), nm_r hO ?_⟩⟩⟩
  refine br_f (by decide) (br_f (by decide) (br_f (by decide) (br_f (by decide) (br_f (by decide) (br_f (by decide) (br_f (by decide) (br_f (by decide) (br_f (by decide) (br_f (by decide) (br_t rfl ?_))))))))))
  exact qm_fresh hn hT hT2 hsr hm hl hrow hs hx H (fun h => qm_336_0 hpc hD (K0 h)) (fun h hd tl lk h1 h2 h3 => qm_336_1 (K1 h hd tl lk h1 h2 h3))
theorem qm_pf10 {post : Int32 → SX → Prop} {pc d : Nat} {n c k : Nat} {B Cv : Int32} (hpc : pc < 192) (hO : a_cOp pc = 10) (hA : a_cA pc = nI n) (hB : a_cB pc = B) (hC : a_cC pc = Cv) (hD : a_cD pc = nI d) (hn : n < 12) (hc : c ≤ 24) (hk : k < 2 ^ 31) (hs : a_storeRows n = nI c) (hp : a_p n = nI k)
    (K1 : c < k → post (nI (pc + 1)) (f_tables, f_nodes, f_codeLen, f_rowMap, f_rowWidth, f_nextReg, f_loops, f_resRows, f_resWidth, a_tabWidth, a_tabRows, a_tab, a_kind, a_left, a_right, a_parent, a_p, a_q, a_r, a_nodeWidth, a_bound, a_wanted, a_cOp, a_cA, a_cB, a_cC, a_cD, a_loopHead, a_todo, a_reg, a_cursor, a_loopKey, a_met, a_store, upd a_storeRows n (nI (c + 1)), a_headOf, a_tailOf, a_link, a_result)) (K0 : ¬ c < k → post (nI d) (f_tables, f_nodes, f_codeLen, f_rowMap, f_rowWidth, f_nextReg, f_loops, f_resRows, f_resWidth, a_tabWidth, a_tabRows, a_tab, a_kind, a_left, a_right, a_parent, a_p, a_q, a_r, a_nodeWidth, a_bound, a_wanted, a_cOp, a_cA, a_cB, a_cC, a_cD, a_loopHead, a_todo, a_reg, a_cursor, a_loopKey, a_met, a_store, a_storeRows, a_headOf, a_tailOf, a_link, a_result)) : wpX_perform post (f_tables, f_nodes, f_codeLen, f_rowMap, f_rowWidth, f_nextReg, f_loops, f_resRows, f_resWidth, a_tabWidth, a_tabRows, a_tab, a_kind, a_left, a_right, a_parent, a_p, a_q, a_r, a_nodeWidth, a_bound, a_wanted, a_cOp, a_cA, a_cB, a_cC, a_cD, a_loopHead, a_todo, a_reg, a_cursor, a_loopKey, a_met, a_store, a_storeRows, a_headOf, a_tailOf, a_link, a_result) (nI pc) := by
  refine ⟨vp_in_nI hpc (by decide), ?_⟩
  rw [nI_clamp (n := pc) (by omega)]
  refine nm_r hA ⟨vp_in_nI hpc (by decide), nm_r hB ⟨vp_in_nI hpc (by decide), nm_r hC ⟨vp_in_nI hpc (by decide), nm_r hO ?_⟩⟩⟩
  refine br_f (by decide) (br_f (by decide) (br_f (by decide) (br_f (by decide) (br_f (by decide) (br_f (by decide) (br_f (by decide) (br_f (by decide) (br_f (by decide) (br_f (by decide) (br_f (by decide) (br_t rfl ?_)))))))))))
  exact qm_take hn hc hk hs hp (fun h => qm_336_1 (K1 h)) (fun h => qm_336_0 hpc hD (K0 h))
theorem qm_pf11 {post : Int32 → SX → Prop} {pc : Nat} {hf : qp_R → Nat} {n col : Nat} {T : qp_W} {ms : List Nat} (hpc : pc < 192) (hO : a_cOp pc = 11) (hA : a_cA pc = nI n) (hB : a_cB pc = nI ms.length) (hC : a_cC pc = nI (qb_enc ms))
    (hn : n < 12) (hT : T.length < 24) (hsr : a_storeRows n = nI T.length) (hm : ∀ m ∈ ms, m < 32) (hl : ms.length ≤ 6)
    (hr : a_r n = nI col) (hcol : col < ms.length) (hx : hf (ms.map a_reg) = qm_bk ((ms.map a_reg).getD col 0)) (H : qm_ch hf T a_headOf a_tailOf a_link n)
    (K : ∀ hd tl lk : Nat → Int32, qm_ch hf (T ++ [ms.map a_reg]) hd tl lk n → (∀ j, j < n * 8 ∨ n * 8 + 8 ≤ j → hd j = a_headOf j ∧ tl j = a_tailOf j) → (∀ j, j < n * 24 ∨ n * 24 + 24 ≤ j → lk j = a_link j) →
      post (nI (pc + 1)) (f_tables, f_nodes, f_codeLen, f_rowMap, f_rowWidth, f_nextReg, f_loops, f_resRows, f_resWidth, a_tabWidth, a_tabRows, a_tab, a_kind, a_left, a_right, a_parent, a_p, a_q, a_r, a_nodeWidth, a_bound, a_wanted, a_cOp, a_cA, a_cB, a_cC, a_cD, a_loopHead, a_todo, a_reg, a_cursor, a_loopKey, a_met, qb_bl a_store (n * 144 + T.length * 6) (ms.map a_reg), upd a_storeRows n (nI (T.length + 1)), hd, tl, lk, a_result)) :
    wpX_perform post (f_tables, f_nodes, f_codeLen, f_rowMap, f_rowWidth, f_nextReg, f_loops, f_resRows, f_resWidth, a_tabWidth, a_tabRows, a_tab, a_kind, a_left, a_right, a_parent, a_p, a_q, a_r, a_nodeWidth, a_bound, a_wanted, a_cOp, a_cA, a_cB, a_cC, a_cD, a_loopHead, a_todo, a_reg, a_cursor, a_loopKey, a_met, a_store, a_storeRows, a_headOf, a_tailOf, a_link, a_result) (nI pc) := by
  refine ⟨vp_in_nI hpc (by decide), ?_⟩
  rw [nI_clamp (n := pc) (by omega)]
  refine nm_r hA ⟨vp_in_nI hpc (by decide), nm_r hB ⟨vp_in_nI hpc (by decide), nm_r hC ⟨vp_in_nI hpc (by decide), nm_r hO ?_⟩⟩⟩
  refine br_f (by decide) (br_f (by decide) (br_f (by decide) (br_f (by decide) (br_f (by decide) (br_f (by decide) (br_f (by decide) (br_f (by decide) (br_f (by decide) (br_f (by decide) (br_f (by decide) (br_f (by decide) (br_t rfl ?_))))))))))))
  exact qm_keep hn hT hsr hm hl hr hcol hx H (fun hd tl lk h1 h2 h3 => qm_336_1 (K hd tl lk h1 h2 h3))
theorem qm_pf12 {post : Int32 → SX → Prop} {pc : Nat} {hf : qp_R → Nat} {n ra rb : Nat} {T : qp_W} (hpc : pc < 192) (hr : ra < 32) (hr' : rb < 32) (hO : a_cOp pc = 12) (hA : a_cA pc = nI n) (hB : a_cB pc = nI ra) (hC : a_cC pc = nI rb)
    (hn : n < 12) (hT : T.length ≤ 24) (hT2 : (∀ y ∈ T, ¬ y.getD 0 0 = a_reg ra) → T.length < 24) (hsr : a_storeRows n = nI T.length)
    (hs : ∀ e c, e < T.length → c < 2 → a_store (n * 144 + e * 6 + c) = (T.getD e []).getD c 0)
    (hh : ∀ y : qp_R, hf y = qm_bk (y.getD 0 0)) (hq : qp_c 4 (a_q n)) (H : qm_ch hf T a_headOf a_tailOf a_link n)
    (K1 : ∀ e, e < T.length → (T.getD e []).getD 0 0 = a_reg ra → (∀ j, j < e → ¬ (T.getD j []).getD 0 0 = a_reg ra) → ∀ st : Nat → Int32, (∀ j, j ≠ n * 144 + e * 6 + 1 → st j = a_store j) → st (n * 144 + e * 6 + 1) = qp_cmb (a_q n) ((T.getD e []).getD 1 0) (a_reg rb) → post (nI (pc + 1)) (f_tables, f_nodes, f_codeLen, f_rowMap, f_rowWidth, f_nextReg, f_loops, f_resRows, f_resWidth, a_tabWidth, a_tabRows, a_tab, a_kind, a_left, a_right, a_parent, a_p, a_q, a_r, a_nodeWidth, a_bound, a_wanted, a_cOp, a_cA, a_cB, a_cC, a_cD, a_loopHead, a_todo, a_reg, a_cursor, a_loopKey, a_met, st, a_storeRows, a_headOf, a_tailOf, a_link, a_result))
    (K2 : (∀ y ∈ T, ¬ y.getD 0 0 = a_reg ra) → ∀ st hd tl lk : Nat → Int32, (∀ j, j ≠ n * 144 + T.length * 6 → j ≠ n * 144 + T.length * 6 + 1 → st j = a_store j) → st (n * 144 + T.length * 6) = a_reg ra → st (n * 144 + T.length * 6 + 1) = (if a_q n = 0 then 1 else a_reg rb) →
      qm_ch hf (T ++ [[a_reg ra, if a_q n = 0 then 1 else a_reg rb]]) hd tl lk n → (∀ j, j < n * 8 ∨ n * 8 + 8 ≤ j → hd j = a_headOf j ∧ tl j = a_tailOf j) → (∀ j, j < n * 24 ∨ n * 24 + 24 ≤ j → lk j = a_link j) →
      post (nI (pc + 1)) (f_tables, f_nodes, f_codeLen, f_rowMap, f_rowWidth, f_nextReg, f_loops, f_resRows, f_resWidth, a_tabWidth, a_tabRows, a_tab, a_kind, a_left, a_right, a_parent, a_p, a_q, a_r, a_nodeWidth, a_bound, a_wanted, a_cOp, a_cA, a_cB, a_cC, a_cD, a_loopHead, a_todo, a_reg, a_cursor, a_loopKey, a_met, st, upd a_storeRows n (nI (T.length + 1)), hd, tl, lk, a_result)) :
    wpX_perform post (f_tables, f_nodes, f_codeLen, f_rowMap, f_rowWidth, f_nextReg, f_loops, f_resRows, f_resWidth, a_tabWidth, a_tabRows, a_tab, a_kind, a_left, a_right, a_parent, a_p, a_q, a_r, a_nodeWidth, a_bound, a_wanted, a_cOp, a_cA, a_cB, a_cC, a_cD, a_loopHead, a_todo, a_reg, a_cursor, a_loopKey, a_met, a_store, a_storeRows, a_headOf, a_tailOf, a_link, a_result) (nI pc) := by
  refine ⟨vp_in_nI hpc (by decide), ?_⟩
  rw [nI_clamp (n := pc) (by omega)]
  refine nm_r hA ⟨vp_in_nI hpc (by decide), nm_r hB ⟨vp_in_nI hpc (by decide), nm_r hC ⟨vp_in_nI hpc (by decide), nm_r hO ?_⟩⟩⟩
  refine br_f (by decide) (br_f (by decide) (br_f (by decide) (br_f (by decide) (br_f (by decide) (br_f (by decide) (br_f (by decide) (br_f (by decide) (br_f (by decide) (br_f (by decide) (br_f (by decide) (br_f (by decide) (br_f (by decide) (br_t rfl ?_)))))))))))))
  rw [nI_clamp (n := ra) (by omega), nI_clamp (n := rb) (by omega)]
  exact ⟨vp_in_nI hr (by decide), vp_in_nI hr' (by decide), qm_fold hn hT hT2 hsr hs hh hq H (fun e h1 h2 h3 st h4 h5 => qm_336_1 (K1 e h1 h2 h3 st h4 h5)) (fun h1 st hd tl lk h2 h3 h4 h5 h6 h7 => qm_336_1 (K2 h1 st hd tl lk h2 h3 h4 h5 h6 h7))⟩
theorem qm_pf13 {post : Int32 → SX → Prop} {pc : Nat} {n col : Nat} {T : qp_W} {ms : List Nat} (hpc : pc < 192) (hO : a_cOp pc = 13) (hA : a_cA pc = nI n) (hB : a_cB pc = nI ms.length) (hC : a_cC pc = nI (qb_enc ms))
    (hn : n < 12) (hT : T.length < 24) (hsr : a_storeRows n = nI T.length) (hm : ∀ m ∈ ms, m < 32) (hl : ms.length ≤ 6) (hp : a_p n = nI col) (hcol : col < ms.length)
    (hs : ∀ e c, e < T.length → c < ms.length → a_store (n * 144 + e * 6 + c) = (T.getD e []).getD c 0)
    (K : ∀ st : Nat → Int32, (∀ e c, e ≤ T.length → c < ms.length → st (n * 144 + e * 6 + c) = ((qp_ins (a_q n) (a_p n) ((ms.map a_reg).getD col 0) (ms.map a_reg) T).getD e []).getD c 0) → (∀ j, j < n * 144 ∨ n * 144 + 144 ≤ j → st j = a_store j) →
      post (nI (pc + 1)) (f_tables, f_nodes, f_codeLen, f_rowMap, f_rowWidth, f_nextReg, f_loops, f_resRows, f_resWidth, a_tabWidth, a_tabRows, a_tab, a_kind, a_left, a_right, a_parent, a_p, a_q, a_r, a_nodeWidth, a_bound, a_wanted, a_cOp, a_cA, a_cB, a_cC, a_cD, a_loopHead, a_todo, a_reg, a_cursor, a_loopKey, a_met, st, upd a_storeRows n (nI (T.length + 1)), a_headOf, a_tailOf, a_link, a_result)) :
    wpX_perform post (f_tables, f_nodes, f_codeLen, f_rowMap, f_rowWidth, f_nextReg, f_loops, f_resRows, f_resWidth, a_tabWidth, a_tabRows, a_tab, a_kind, a_left, a_right, a_parent, a_p, a_q, a_r, a_nodeWidth, a_bound, a_wanted, a_cOp, a_cA, a_cB, a_cC, a_cD, a_loopHead, a_todo, a_reg, a_cursor, a_loopKey, a_met, a_store, a_storeRows, a_headOf, a_tailOf, a_link, a_result) (nI pc) := by
  refine ⟨vp_in_nI hpc (by decide), ?_⟩
  rw [nI_clamp (n := pc) (by omega)]
  refine nm_r hA ⟨vp_in_nI hpc (by decide), nm_r hB ⟨vp_in_nI hpc (by decide), nm_r hC ⟨vp_in_nI hpc (by decide), nm_r hO ?_⟩⟩⟩
  refine br_f (by decide) (br_f (by decide) (br_f (by decide) (br_f (by decide) (br_f (by decide) (br_f (by decide) (br_f (by decide) (br_f (by decide) (br_f (by decide) (br_f (by decide) (br_f (by decide) (br_f (by decide) (br_f (by decide) (br_f (by decide) (br_t rfl ?_))))))))))))))
  exact qm_place hn hT hsr hm hl hp hcol hs (fun st h1 h2 => qm_336_1 (K st h1 h2))
theorem qm_pf14 {post : Int32 → SX → Prop} {pc : Nat} {A : Int32} {k : Nat} {ms : List Nat} (hpc : pc < 192) (hO : a_cOp pc = 14) (hA : a_cA pc = A) (hB : a_cB pc = nI ms.length) (hC : a_cC pc = nI (qb_enc ms))
    (hk : k < 24) (hr : f_resRows = nI k) (hm : ∀ m ∈ ms, m < 32) (hl : ms.length ≤ 6)
    (K : post (nI (pc + 1)) (f_tables, f_nodes, f_codeLen, f_rowMap, f_rowWidth, f_nextReg, f_loops, nI (k + 1), f_resWidth, a_tabWidth, a_tabRows, a_tab, a_kind, a_left, a_right, a_parent, a_p, a_q, a_r, a_nodeWidth, a_bound, a_wanted, a_cOp, a_cA, a_cB, a_cC, a_cD, a_loopHead, a_todo, a_reg, a_cursor, a_loopKey, a_met, a_store, a_storeRows, a_headOf, a_tailOf, a_link, qb_bl a_result (k * 6) (ms.map a_reg))) : wpX_perform post (f_tables, f_nodes, f_codeLen, f_rowMap, f_rowWidth, f_nextReg, f_loops, f_resRows, f_resWidth, a_tabWidth, a_tabRows, a_tab, a_kind, a_left, a_right, a_parent, a_p, a_q, a_r, a_nodeWidth, a_bound, a_wanted, a_cOp, a_cA, a_cB, a_cC, a_cD, a_loopHead, a_todo, a_reg, a_cursor, a_loopKey, a_met, a_store, a_storeRows, a_headOf, a_tailOf, a_link, a_result) (nI pc) := by
  refine ⟨vp_in_nI hpc (by decide), ?_⟩
  rw [nI_clamp (n := pc) (by omega)]
  refine nm_r hA ⟨vp_in_nI hpc (by decide), nm_r hB ⟨vp_in_nI hpc (by decide), nm_r hC ⟨vp_in_nI hpc (by decide), nm_r hO ?_⟩⟩⟩
  refine br_f (by decide) (br_f (by decide) (br_f (by decide) (br_f (by decide) (br_f (by decide) (br_f (by decide) (br_f (by decide) (br_f (by decide) (br_f (by decide) (br_f (by decide) (br_f (by decide) (br_f (by decide) (br_f (by decide) (br_f (by decide) (br_f (by decide) (br_t rfl ?_)))))))))))))))
  exact qm_emit hk hr hm hl (qm_336_1 K)
theorem qm_pf15 {post : Int32 → SX → Prop} {pc d : Nat} (hpc : pc < 192) (hO : a_cOp pc = 15) (hD : a_cD pc = nI d) (K : post (nI d) (f_tables, f_nodes, f_codeLen, f_rowMap, f_rowWidth, f_nextReg, f_loops, f_resRows, f_resWidth, a_tabWidth, a_tabRows, a_tab, a_kind, a_left, a_right, a_parent, a_p, a_q, a_r, a_nodeWidth, a_bound, a_wanted, a_cOp, a_cA, a_cB, a_cC, a_cD, a_loopHead, a_todo, a_reg, a_cursor, a_loopKey, a_met, a_store, a_storeRows, a_headOf, a_tailOf, a_link, a_result)) : wpX_perform post (f_tables, f_nodes, f_codeLen, f_rowMap, f_rowWidth, f_nextReg, f_loops, f_resRows, f_resWidth, a_tabWidth, a_tabRows, a_tab, a_kind, a_left, a_right, a_parent, a_p, a_q, a_r, a_nodeWidth, a_bound, a_wanted, a_cOp, a_cA, a_cB, a_cC, a_cD, a_loopHead, a_todo, a_reg, a_cursor, a_loopKey, a_met, a_store, a_storeRows, a_headOf, a_tailOf, a_link, a_result) (nI pc) := by
  refine ⟨vp_in_nI hpc (by decide), ?_⟩
  rw [nI_clamp (n := pc) (by omega)]
  refine nm_e ⟨vp_in_nI hpc (by decide), nm_e ⟨vp_in_nI hpc (by decide), nm_e ⟨vp_in_nI hpc (by decide), nm_r hO ?_⟩⟩⟩
  exact br_f (by decide) (br_t (by decide) (qm_336_0 hpc hD K))
end
end
section
/-! the machine's stores represent the abstract state -/
def qm_sw (g : qp_PL) (n : Nat) : Nat := if qp_kd g n = 5 then qp_wd g (qp_rt g n) else qp_wd g n
def qm_st (g : qp_PL) (s : qp_S) (n : Nat) : qp_W := if qp_kd g n = 8 ∨ qp_kd g n = 9 then s.1 n else s.2 n
def qm_rep1 (g : qp_PL) (s : qp_S) (n : Nat) (sto sr hd tl lk : Nat → Int32) : Prop :=
  sr n = nI (qm_st g s n).length ∧
  (qp_kd g n ≠ 9 → (∀ y ∈ qm_st g s n, y.length = qm_sw g n) ∧ ∀ e c, e < (qm_st g s n).length → c < qm_sw g n → sto (n * 144 + e * 6 + c) = ((qm_st g s n).getD e []).getD c 0) ∧
  ((qp_kd g n = 5 ∨ qp_kd g n = 7 ∨ qp_kd g n = 8) → qm_ch (qm_hf g n) (qm_st g s n) hd tl lk n)
def qm_res (rw : Nat) (s : qp_S) (rr : Int32) (res : Nat → Int32) : Prop :=
  rr = nI (s.2 12).length ∧ (∀ y ∈ s.2 12, y.length = rw) ∧ ∀ e c, e < (s.2 12).length → c < rw → res (e * 6 + c) = ((s.2 12).getD e []).getD c 0
abbrev qm_G : Type := Int32 × (Nat → Int32) × (Nat → Int32) × (Nat → Int32) × (Nat → Int32) × (Nat → Int32) × (Nat → Int32)
def qm_rep (g : qp_PL) (N rw : Nat) (s : qp_S) (G : qm_G) : Prop := (∀ n, n < N → qm_rep1 g s n G.2.1 G.2.2.1 G.2.2.2.1 G.2.2.2.2.1 G.2.2.2.2.2.1) ∧ qm_res rw s G.1 G.2.2.2.2.2.2
theorem qm_rep1_fr {g : qp_PL} {s s' : qp_S} {n : Nat} {sto sr hd tl lk sto' sr' hd' tl' lk' : Nat → Int32} (hn : n < 12) (hsz : (qm_st g s n).length ≤ 24) (hsw : qm_sw g n ≤ 6) (e : qm_st g s' n = qm_st g s n)
    (h1 : ∀ j, n * 144 ≤ j → j < n * 144 + 144 → sto' j = sto j) (h2 : sr' n = sr n) (h3 : ∀ j, n * 8 ≤ j → j < n * 8 + 8 → hd' j = hd j ∧ tl' j = tl j) (h4 : ∀ j, n * 24 ≤ j → j < n * 24 + 24 → lk' j = lk j)
    (H : qm_rep1 g s n sto sr hd tl lk) : qm_rep1 g s' n sto' sr' hd' tl' lk' := by
  unfold qm_rep1
  rw [e]
  refine ⟨h2.trans H.1, fun h9 => ⟨(H.2.1 h9).1, fun a c ha hc => ?_⟩, fun h => ?_⟩
  · rw [h1 _ (by omega) (by omega)]; exact (H.2.1 h9).2 a c ha hc
  · exact qm_ch_fr (fun x hx => (h3 _ (by omega) (by omega)).1) (fun x hx => (h3 _ (by omega) (by omega)).2) (fun x hx => h4 _ (by omega) (by omega)) (H.2.2 h)
theorem qm_cell_app {T : qp_W} {x : qp_R} {sto : Nat → Int32} {b w : Nat} (hw : x.length = w) (hw6 : w ≤ 6) (h : ∀ e c, e < T.length → c < w → sto (b + e * 6 + c) = (T.getD e []).getD c 0) :
    ∀ e c, e < (T ++ [x]).length → c < w → qb_bl sto (b + T.length * 6) x (b + e * 6 + c) = ((T ++ [x]).getD e []).getD c 0 := by
  intro e c he hc
  have hl : (T ++ [x]).length = T.length + 1 := by simp
  by_cases e1 : e = T.length
  · rw [e1, qb_bl_in (by omega), qm_getD_last]
  · rw [qb_bl_out (by omega), qm_getD_app (by omega)]; exact h e c (by omega) hc
theorem qm_row_app {T : qp_W} {x : qp_R} {w : Nat} (hw : x.length = w) (h : ∀ y ∈ T, y.length = w) : ∀ y ∈ T ++ [x], y.length = w := by
  intro y hy
  rcases List.mem_append.1 hy with e | e
  · exact h y e
  · rw [List.mem_singleton.1 e]; exact hw
/-- groups: the store after a fold -/
theorem qp_gs_hit (agg key v : Int32) : ∀ (T : qp_W) (e : Nat), e < T.length → (T.getD e []).getD 0 0 = key → (∀ j, j < e → ¬ (T.getD j []).getD 0 0 = key) →
    (qp_gs agg key v T).length = T.length ∧ (qp_gs agg key v T).getD e [] = [(T.getD e []).getD 0 0, qp_cmb agg ((T.getD e []).getD 1 0) v] ∧ ∀ j, j ≠ e → (qp_gs agg key v T).getD j [] = T.getD j [] := by
  intro T
  induction T with
  | nil => intro e h; exact absurd h (Nat.not_lt_zero _)
  | cons y ys ih =>
    intro e he hk hn
    unfold qp_gs
    cases e with
    | zero =>
      have hk' : y.getD 0 0 = key := hk
      rw [if_pos hk']
      refine ⟨rfl, rfl, fun j hj => ?_⟩
      cases j with
      | zero => exact absurd rfl hj
      | succ j => rfl
    | succ e =>
      have h0 : ¬ y.getD 0 0 = key := hn 0 (by omega)
      rw [if_neg h0]
      obtain ⟨a1, a2, a3⟩ := ih e (by simpa using he) hk (fun j hj => hn (j + 1) (by omega))
      refine ⟨by simp only [List.length_cons]; rw [a1], a2, fun j hj => ?_⟩
      cases j with
      | zero => rfl
      | succ j => exact a3 j (by omega)
theorem qp_gs_miss (agg key v : Int32) : ∀ (T : qp_W), (∀ y ∈ T, ¬ y.getD 0 0 = key) → qp_gs agg key v T = T ++ [[key, if agg = 0 then 1 else v]] := by
  intro T
  induction T with
  | nil => intro _; rfl
  | cons y ys ih =>
    intro h
    unfold qp_gs
    rw [if_neg (h y (List.mem_cons_self ..)), ih (fun z hz => h z (List.mem_cons_of_mem _ hz))]; rfl
theorem qm_fi_congr {P : qp_R → Bool} : ∀ (T T' : qp_W) (i : Nat), T.length = T'.length → (∀ j, j < T.length → P (T.getD j []) = P (T'.getD j [])) → qm_fi P T i = qm_fi P T' i := by
  intro T
  induction T with
  | nil =>
    intro T' i hl h
    cases T' with
    | nil => rfl
    | cons y ys => exact absurd hl (by simp)
  | cons y ys ih =>
    intro T' i hl h
    cases T' with
    | nil => exact absurd hl (by simp)
    | cons z zs =>
      have h0 : P y = P z := h 0 (by simp)
      have ht := ih zs (i + 1) (by simpa using hl) (fun j hj => h (j + 1) (by simpa using hj))
      by_cases e : P y = true
      · rw [qm_fi_t e, qm_fi_t (h0 ▸ e)]
      · rw [qm_fi_f e, qm_fi_f (fun z => e (h0.trans z)), ht]
/-- chains don't see a change that keeps the hashes -/
theorem qm_ch_congr {hf : qp_R → Nat} {T T' : qp_W} {hd tl lk : Nat → Int32} {n : Nat} (hl : T'.length = T.length) (h : ∀ j, j < T.length → hf (T'.getD j []) = hf (T.getD j [])) (H : qm_ch hf T hd tl lk n) : qm_ch hf T' hd tl lk n := by
  have dg : ∀ (A : qp_W) a j, (A.drop a).getD j [] = A.getD (a + j) [] := fun A a j => by
    rw [List.getD_eq_getElem?_getD, List.getD_eq_getElem?_getD, List.getElem?_drop]
  refine ⟨fun x hx => ?_, fun e he => ?_, fun x hx => ?_⟩
  · rw [H.1 x hx]
    exact qm_fi_congr T T' 0 hl.symm (fun j hj => by rw [h j hj])
  · rw [H.2.1 e (by omega), h e (by omega)]
    refine qm_fi_congr _ _ _ (by rw [List.length_drop, List.length_drop, hl]) (fun j hj => ?_)
    rw [List.length_drop] at hj
    rw [dg, dg, h _ (by omega)]
  · rcases H.2.2 x hx with e | ⟨e, he, r1, r2, r3⟩
    · refine Or.inl (fun y hy => ?_)
      obtain ⟨i, hi, ei⟩ := qm_mem_getD hy
      rw [← ei, h i (by omega)]
      exact e _ (qm_getD_mem (by omega))
    · exact Or.inr ⟨e, by omega, r1, by rw [h e he]; exact r2, fun e' h1 h2 => by rw [h e' (by omega)]; exact r3 e' h1 (by omega)⟩
/-- how many rows all nodes have given out -/
def qm_mus (D : qp_D) : Nat → Nat
  | 0 => 0
  | k + 1 => qm_mus D k + (D k).length
def qm_mu (D : qp_D) : Nat := qm_mus D 12
theorem qm_mus_out {D : qp_D} {n : Nat} {v : qp_W} : ∀ k, k ≤ n → qm_mus (qp_up D n v) k = qm_mus D k := by
  intro k
  induction k with
  | zero => intro _; rfl
  | succ k ih =>
    intro h
    show qm_mus (qp_up D n v) k + (qp_up D n v k).length = qm_mus D k + (D k).length
    rw [ih (by omega), qp_up_n (by omega)]
theorem qm_mus_in {D : qp_D} {n : Nat} {y : qp_R} : ∀ k, n < k → qm_mus (qp_up D n (D n ++ [y])) k = qm_mus D k + 1 := by
  intro k
  induction k with
  | zero => intro h; exact absurd h (Nat.not_lt_zero _)
  | succ k ih =>
    intro h
    show qm_mus (qp_up D n (D n ++ [y])) k + (qp_up D n (D n ++ [y]) k).length = qm_mus D k + (D k).length + 1
    by_cases e : n = k
    · subst e
      rw [qm_mus_out n (Nat.le_refl _), qp_up_s]; simp; omega
    · rw [ih (by omega), qp_up_n (by omega)]; omega
theorem qm_mu_add {s : qp_S} {n : Nat} {y : qp_R} (h : n < 12) : qm_mu (qp_add s n y).1 = qm_mu s.1 + 1 := qm_mus_in 12 h
theorem qm_mu_le {s s' : qp_S} (h : qp_le s s') : qm_mu s.1 ≤ qm_mu s'.1 := by
  have : ∀ k, qm_mus s.1 k ≤ qm_mus s'.1 k := by
    intro k
    induction k with
    | zero => exact Nat.le_refl _
    | succ k ih =>
      show qm_mus s.1 k + (s.1 k).length ≤ qm_mus s'.1 k + (s'.1 k).length
      have := (h k).1; omega
  exact this 12
def qm_sz (s : qp_S) : Prop := ∀ n, (s.1 n).length ≤ 24 ∧ (s.2 n).length ≤ 24
theorem qm_sz_le {s s' : qp_S} (h : qp_le s s') (H : qm_sz s') : qm_sz s := fun n => ⟨Nat.le_trans (h n).1 (H n).1, Nat.le_trans (h n).2 (H n).2⟩
theorem qm_mu_sz {s : qp_S} (h : qm_sz s) : qm_mu s.1 ≤ 288 := by
  have : ∀ k, qm_mus s.1 k ≤ 24 * k := by
    intro k
    induction k with
    | zero => exact Nat.le_refl _
    | succ k ih =>
      show qm_mus s.1 k + (s.1 k).length ≤ 24 * (k + 1)
      have := (h k).1; omega
  exact this 12
theorem qm_st_sz {g : qp_PL} {s : qp_S} {n : Nat} (h : qm_sz s) : (qm_st g s n).length ≤ 24 := by
  unfold qm_st
  split
  · exact (h n).1
  · exact (h n).2
end
section
/-! the machine's run as a predicate of time, place, stores and registers; its steps -/
abbrev qm_C : Type := Int32 × Int32 × Int32 × Int32 × Int32 × Int32 × Int32 × Int32 × (Nat → Int32) × (Nat → Int32) × (Nat → Int32) × (Nat → Int32) × (Nat → Int32) × (Nat → Int32) × (Nat → Int32) × (Nat → Int32) × (Nat → Int32) × (Nat → Int32) × (Nat → Int32) × (Nat → Int32) × (Nat → Int32) × (Nat → Int32) × (Nat → Int32) × (Nat → Int32) × (Nat → Int32) × (Nat → Int32) × (Nat → Int32) × (Nat → Int32)
def qm_E (post : SX → Prop) (C : qm_C) (t pc : Nat) (G : qm_G) (a_reg a_cursor a_loopKey a_met : Nat → Int32) : Prop := match C, G with
  | (f_tables, f_nodes, f_codeLen, f_rowMap, f_rowWidth, f_nextReg, f_loops, f_resWidth, a_tabWidth, a_tabRows, a_tab, a_kind, a_left, a_right, a_parent, a_p, a_q, a_r, a_nodeWidth, a_bound, a_wanted, a_cOp, a_cA, a_cB, a_cC, a_cD, a_loopHead, a_todo), (f_resRows, a_store, a_storeRows, a_headOf, a_tailOf, a_link, a_result) => ∀ F : Nat, F + t = 100001 → wX_execute_51 post F (nI pc) (nI t) f_tables f_nodes f_codeLen f_rowMap f_rowWidth f_nextReg f_loops f_resRows f_resWidth a_tabWidth a_tabRows a_tab a_kind a_left a_right a_parent a_p a_q a_r a_nodeWidth a_bound a_wanted a_cOp a_cA a_cB a_cC a_cD a_loopHead a_todo a_reg a_cursor a_loopKey a_met a_store a_storeRows a_headOf a_tailOf a_link a_result
def qm_In (C : qm_C) (pc : Nat) (o a b c : Int32) : Prop := match C with
  | (f_tables, f_nodes, f_codeLen, f_rowMap, f_rowWidth, f_nextReg, f_loops, f_resWidth, a_tabWidth, a_tabRows, a_tab, a_kind, a_left, a_right, a_parent, a_p, a_q, a_r, a_nodeWidth, a_bound, a_wanted, a_cOp, a_cA, a_cB, a_cC, a_cD, a_loopHead, a_todo) => a_cOp pc = o ∧ a_cA pc = a ∧ a_cB pc = b ∧ a_cC pc = c
def qm_Dt (C : qm_C) (pc d : Nat) : Prop := match C with
  | (f_tables, f_nodes, f_codeLen, f_rowMap, f_rowWidth, f_nextReg, f_loops, f_resWidth, a_tabWidth, a_tabRows, a_tab, a_kind, a_left, a_right, a_parent, a_p, a_q, a_r, a_nodeWidth, a_bound, a_wanted, a_cOp, a_cA, a_cB, a_cC, a_cD, a_loopHead, a_todo) => a_cD pc = nI d
/-- the state's arrays hold the plan g for the nodes below N -/
def qm_pln (g : qp_PL) (n : Nat) (a_tabRows a_tab a_kind a_right a_p a_q a_r a_nodeWidth : Nat → Int32) : Prop :=
  a_kind n = nI (qp_kd g n) ∧ a_nodeWidth n = nI (qp_wd g n) ∧ a_p n = qp_p g n ∧ a_q n = qp_q g n ∧ a_r n = qp_r g n ∧ (qp_kd g n = 5 → a_right n = nI (qp_rt g n)) ∧
    (qp_kd g n = 0 → ∃ t, t < 4 ∧ a_p n = nI t ∧ a_tabRows t = nI (qp_tb g n).length ∧ ∀ e c, e < (qp_tb g n).length → c < qp_wd g n → a_tab (t * 30 + e * 3 + c) = ((qp_tb g n).getD e []).getD c 0)
def qm_CP (C : qm_C) (g : qp_PL) (N : Nat) : Prop := match C with
  | (f_tables, f_nodes, f_codeLen, f_rowMap, f_rowWidth, f_nextReg, f_loops, f_resWidth, a_tabWidth, a_tabRows, a_tab, a_kind, a_left, a_right, a_parent, a_p, a_q, a_r, a_nodeWidth, a_bound, a_wanted, a_cOp, a_cA, a_cB, a_cC, a_cD, a_loopHead, a_todo) => ∀ n, n < N → qm_pln g n a_tabRows a_tab a_kind a_right a_p a_q a_r a_nodeWidth
section
variable {post : SX → Prop} {C : qm_C} {G : qm_G} {reg cu ky mt : Nat → Int32} {t pc d : Nat}
theorem qm_e1 (ht : t < 100000) (hpc : pc < 192) (hI : qm_In C pc 1 0 0 0) (K : qm_E post C (t + 1) (pc + 1) G reg (upd cu 0 0) ky mt) : qm_E post C t pc G reg cu ky mt := by
  obtain ⟨f_tables, f_nodes, f_codeLen, f_rowMap, f_rowWidth, f_nextReg, f_loops, f_resWidth, a_tabWidth, a_tabRows, a_tab, a_kind, a_left, a_right, a_parent, a_p, a_q, a_r, a_nodeWidth, a_bound, a_wanted, a_cOp, a_cA, a_cB, a_cC, a_cD, a_loopHead, a_todo⟩ := C
  obtain ⟨f_resRows, a_store, a_storeRows, a_headOf, a_tailOf, a_link, a_result⟩ := G
  intro F' hF'
  obtain ⟨F, rfl⟩ : ∃ F, F' = F + 1 := ⟨F' - 1, by omega⟩
  refine br_f (nI_ge (a := t) (b := 100000) ht (by decide)) ⟨vp_in_nI hpc (by decide), br_f (by rw [nI_clamp (by omega), show a_cOp pc = 1 from hI.1]; decide) ?_⟩
  exact qm_pf1 (a := 0) hpc (by omega) hI.1 hI.2.1 hI.2.2.1 hI.2.2.2 (nm_r (nI_1 t) (K F (by omega)))
theorem qm_e3 {ra : Nat} {k v : Int32} (ht : t < 100000) (hpc : pc < 192) (hI : qm_In C pc 3 (nI ra) k v) (hD : qm_Dt C pc d) (hr : ra < 32) (hk : qp_c 6 k) (K : qm_E post C (t + 1) (if qp_cmp k (reg ra) v = true then pc + 1 else d) G reg cu ky mt) : qm_E post C t pc G reg cu ky mt := by
  obtain ⟨f_tables, f_nodes, f_codeLen, f_rowMap, f_rowWidth, f_nextReg, f_loops, f_resWidth, a_tabWidth, a_tabRows, a_tab, a_kind, a_left, a_right, a_parent, a_p, a_q, a_r, a_nodeWidth, a_bound, a_wanted, a_cOp, a_cA, a_cB, a_cC, a_cD, a_loopHead, a_todo⟩ := C
  obtain ⟨f_resRows, a_store, a_storeRows, a_headOf, a_tailOf, a_link, a_result⟩ := G
  intro F' hF'
  obtain ⟨F, rfl⟩ : ∃ F, F' = F + 1 := ⟨F' - 1, by omega⟩
  refine br_f (nI_ge (a := t) (b := 100000) ht (by decide)) ⟨vp_in_nI hpc (by decide), br_f (by rw [nI_clamp (by omega), show a_cOp pc = 3 from hI.1]; decide) ?_⟩
  exact qm_pf3 hpc hr hI.1 hI.2.1 hI.2.2.1 hI.2.2.2 hD hk (nm_r (nI_1 t) (K F (by omega)))
theorem qm_e4 {ra rb : Nat} {k : Int32} (ht : t < 100000) (hpc : pc < 192) (hI : qm_In C pc 4 (nI ra) k (nI rb)) (hD : qm_Dt C pc d) (hr : ra < 32) (hr' : rb < 32) (hk : qp_c 6 k) (K : qm_E post C (t + 1) (if qp_cmp k (reg ra) (reg rb) = true then pc + 1 else d) G reg cu ky mt) : qm_E post C t pc G reg cu ky mt := by
  obtain ⟨f_tables, f_nodes, f_codeLen, f_rowMap, f_rowWidth, f_nextReg, f_loops, f_resWidth, a_tabWidth, a_tabRows, a_tab, a_kind, a_left, a_right, a_parent, a_p, a_q, a_r, a_nodeWidth, a_bound, a_wanted, a_cOp, a_cA, a_cB, a_cC, a_cD, a_loopHead, a_todo⟩ := C
  obtain ⟨f_resRows, a_store, a_storeRows, a_headOf, a_tailOf, a_link, a_result⟩ := G
  intro F' hF'
  obtain ⟨F, rfl⟩ : ∃ F, F' = F + 1 := ⟨F' - 1, by omega⟩
  refine br_f (nI_ge (a := t) (b := 100000) ht (by decide)) ⟨vp_in_nI hpc (by decide), br_f (by rw [nI_clamp (by omega), show a_cOp pc = 4 from hI.1]; decide) ?_⟩
  exact qm_pf4 hpc hr hr' hI.1 hI.2.1 hI.2.2.1 hI.2.2.2 hD hk (nm_r (nI_1 t) (K F (by omega)))
theorem qm_e5 {ra rb rc : Nat} {k : Int32} (ht : t < 100000) (hpc : pc < 192) (hI : qm_In C pc 5 k (nI (ra + 32 * rb)) (nI rc)) (hr : ra < 32) (hr' : rb < 32) (hrc : rc < 32) (hk : qp_c 5 k) (K : qm_E post C (t + 1) (pc + 1) G (upd reg rc (qp_calc k (reg ra) (reg rb))) cu ky mt) : qm_E post C t pc G reg cu ky mt := by
  obtain ⟨f_tables, f_nodes, f_codeLen, f_rowMap, f_rowWidth, f_nextReg, f_loops, f_resWidth, a_tabWidth, a_tabRows, a_tab, a_kind, a_left, a_right, a_parent, a_p, a_q, a_r, a_nodeWidth, a_bound, a_wanted, a_cOp, a_cA, a_cB, a_cC, a_cD, a_loopHead, a_todo⟩ := C
  obtain ⟨f_resRows, a_store, a_storeRows, a_headOf, a_tailOf, a_link, a_result⟩ := G
  intro F' hF'
  obtain ⟨F, rfl⟩ : ∃ F, F' = F + 1 := ⟨F' - 1, by omega⟩
  refine br_f (nI_ge (a := t) (b := 100000) ht (by decide)) ⟨vp_in_nI hpc (by decide), br_f (by rw [nI_clamp (by omega), show a_cOp pc = 5 from hI.1]; decide) ?_⟩
  exact qm_pf5 hpc hr hr' hrc hI.1 hI.2.1 hI.2.2.1 hI.2.2.2 hk (nm_r (nI_1 t) (K F (by omega)))
theorem qm_e6 {a n rk : Nat} (ht : t < 100000) (hpc : pc < 192) (ha : a < 8) (hn : n < 12) (hr : rk < 32) (hI : qm_In C pc 6 (nI a) (nI n) (nI rk))
    (K : qm_E post C (t + 1) (pc + 1) G reg (upd cu a (G.2.2.2.1 (n * 8 + qm_bk (reg rk)))) (upd ky a (reg rk)) (upd mt a 0)) : qm_E post C t pc G reg cu ky mt := by
  obtain ⟨f_tables, f_nodes, f_codeLen, f_rowMap, f_rowWidth, f_nextReg, f_loops, f_resWidth, a_tabWidth, a_tabRows, a_tab, a_kind, a_left, a_right, a_parent, a_p, a_q, a_r, a_nodeWidth, a_bound, a_wanted, a_cOp, a_cA, a_cB, a_cC, a_cD, a_loopHead, a_todo⟩ := C
  obtain ⟨f_resRows, a_store, a_storeRows, a_headOf, a_tailOf, a_link, a_result⟩ := G
  intro F' hF'
  obtain ⟨F, rfl⟩ : ∃ F, F' = F + 1 := ⟨F' - 1, by omega⟩
  refine br_f (nI_ge (a := t) (b := 100000) ht (by decide)) ⟨vp_in_nI hpc (by decide), br_f (by rw [nI_clamp (by omega), show a_cOp pc = 6 from hI.1]; decide) ?_⟩
  exact qm_pf6 hpc ha hn hr hI.1 hI.2.1 hI.2.2.1 hI.2.2.2 (nm_r (nI_1 t) (K F (by omega)))
theorem qm_e15 {a b c : Int32} (ht : t < 100000) (hpc : pc < 192) (hI : qm_In C pc 15 a b c) (hD : qm_Dt C pc d) (K : qm_E post C (t + 1) d G reg cu ky mt) : qm_E post C t pc G reg cu ky mt := by
  obtain ⟨f_tables, f_nodes, f_codeLen, f_rowMap, f_rowWidth, f_nextReg, f_loops, f_resWidth, a_tabWidth, a_tabRows, a_tab, a_kind, a_left, a_right, a_parent, a_p, a_q, a_r, a_nodeWidth, a_bound, a_wanted, a_cOp, a_cA, a_cB, a_cC, a_cD, a_loopHead, a_todo⟩ := C
  obtain ⟨f_resRows, a_store, a_storeRows, a_headOf, a_tailOf, a_link, a_result⟩ := G
  intro F' hF'
  obtain ⟨F, rfl⟩ : ∃ F, F' = F + 1 := ⟨F' - 1, by omega⟩
  refine br_f (nI_ge (a := t) (b := 100000) ht (by decide)) ⟨vp_in_nI hpc (by decide), br_f (by rw [nI_clamp (by omega), show a_cOp pc = 15 from hI.1]; decide) ?_⟩
  exact qm_pf15 hpc hI.1 hD (nm_r (nI_1 t) (K F (by omega)))
section
variable {g : qp_PL} {pa : Nat → Nat} {N rw n : Nat} {s : qp_S}
theorem qm_st_s2 (h8 : qp_kd g n ≠ 8) (h9 : qp_kd g n ≠ 9) : qm_st g s n = s.2 n := if_neg (by omega)
theorem qm_st_s1 (h : qp_kd g n = 8 ∨ qp_kd g n = 9) : qm_st g s n = s.1 n := if_pos h
theorem qm_e2 {i : Nat} (ht : t < 100000) (hpc : pc < 192) (hCP : qm_CP C g N) (hN : N ≤ 12) (hn : n < N) (hok : qp_ok g pa n) (hso : qp_so g n) (hrep : qm_rep g N rw s G) (hsz : qm_sz s)
    (hI : qm_In C pc 2 0 (nI n) (nI (qb_enc (List.range' 0 (qp_wd g n))))) (hD : qm_Dt C pc d) (hi : i ≤ (qp_rows g s n).length) (hcu : cu 0 = nI i)
    (K0 : i = (qp_rows g s n).length → qm_E post C (t + 1) d G reg cu ky mt)
    (K1 : i < (qp_rows g s n).length → qm_E post C (t + 1) (pc + 1) G (qb_bl reg 0 ((qp_rows g s n).getD i [])) (upd cu 0 (nI (i + 1))) ky mt) : qm_E post C t pc G reg cu ky mt := by
  obtain ⟨f_tables, f_nodes, f_codeLen, f_rowMap, f_rowWidth, f_nextReg, f_loops, f_resWidth, a_tabWidth, a_tabRows, a_tab, a_kind, a_left, a_right, a_parent, a_p, a_q, a_r, a_nodeWidth, a_bound, a_wanted, a_cOp, a_cA, a_cB, a_cC, a_cD, a_loopHead, a_todo⟩ := C
  obtain ⟨f_resRows, a_store, a_storeRows, a_headOf, a_tailOf, a_link, a_result⟩ := G
  intro F' hF'
  obtain ⟨F, rfl⟩ : ∃ F, F' = F + 1 := ⟨F' - 1, by omega⟩
  refine br_f (nI_ge (a := t) (b := 100000) ht (by decide)) ⟨vp_in_nI hpc (by decide), br_f (by rw [nI_clamp (by omega), show a_cOp pc = 2 from hI.1]; decide) ?_⟩
  have P := hCP n hn
  have W := hok.2.1
  have W6 := hok.2.2.1
  by_cases h0 : qp_kd g n = 0
  · have er : qp_rows g s n = qp_tb g n := if_pos h0
    rw [er] at hi K0 K1
    obtain ⟨w3, l10, rows⟩ := hok.2.2.2.2.2.1 h0
    obtain ⟨tt, h4, hp, htr, hc⟩ := P.2.2.2.2.2.2 h0
    exact qm_pf2 (a := 0) hpc hI.1 hI.2.1 hI.2.2.1 hI.2.2.2 hD (by omega) (by omega) W6 W hi (by omega) hcu P.2.1 rows (Or.inl ⟨by rw [P.1, h0]; rfl, tt, h4, w3, l10, hp, htr, hc⟩) (fun h => nm_r (nI_1 t) (K0 h F (by omega))) (fun h => nm_r (nI_1 t) (K1 h F (by omega)))
  · have er : qp_rows g s n = s.2 n := if_neg h0
    have h7 : qp_kd g n = 7 ∨ qp_kd g n = 10 := hso.resolve_left h0
    rw [er] at hi K0 K1
    have R := hrep.1 n hn
    unfold qm_rep1 at R
    rw [qm_st_s2 (by omega) (by omega)] at R
    have sw : qm_sw g n = qp_wd g n := if_neg (by omega)
    rw [sw] at R
    have R2 := R.2.1 (by omega)
    exact qm_pf2 (a := 0) hpc hI.1 hI.2.1 hI.2.2.1 hI.2.2.2 hD (by omega) (by omega) W6 W hi (hsz n).2 hcu P.2.1 R2.1 (Or.inr ⟨by rw [P.1, ← nI_0, nI_eq (by omega) (by omega)]; exact h0, R.1, R2.2⟩) (fun h => nm_r (nI_1 t) (K0 h F (by omega))) (fun h => nm_r (nI_1 t) (K1 h F (by omega)))
/-- a row given out by a node without a store of its own -/
theorem qm_rep_add {y : qp_R} (h8 : qp_kd g n ≠ 8) (h9 : qp_kd g n ≠ 9) (hrep : qm_rep g N rw s G) : qm_rep g N rw (qp_add s n y) G := by
  refine ⟨fun m hm => ?_, hrep.2⟩
  have e : qm_st g (qp_add s n y) m = qm_st g s m := by
    unfold qm_st
    by_cases h : qp_kd g m = 8 ∨ qp_kd g m = 9
    · rw [if_pos h, if_pos h]; exact qp_up_n (by intro z; subst z; omega)
    · rw [if_neg h, if_neg h]; rfl
  have := hrep.1 m hm
  unfold qm_rep1 at this ⊢
  rw [e]; exact this
theorem qm_sw6 (hok : ∀ n, n < N → qp_ok g pa n) {m : Nat} (hm : m < N) : qm_sw g m ≤ 6 := by
  unfold qm_sw
  by_cases h : qp_kd g m = 5
  · rw [if_pos h]
    have := ((hok m hm).2.2.2.2.1 (Or.inl h)).1
    exact (hok _ (by omega)).2.2.1
  · rw [if_neg h]; exact (hok m hm).2.2.1
end
end
end
section
/-! steps that write the stores -/
section
variable {post : SX → Prop} {C : qm_C} {G : qm_G} {reg cu ky mt : Nat → Int32} {t pc d : Nat}
variable {g : qp_PL} {pa : Nat → Nat} {N rw n : Nat} {s : qp_S} {ms : List Nat}
theorem qm_hf8 (h : qp_kd g n = 8) (y : qp_R) : qm_hf g n y = qm_bk (qm_mix y) := by
  unfold qm_hf; rw [if_neg (by omega), if_neg (by omega)]
theorem qm_hf5 (h : qp_kd g n = 5) (y : qp_R) : qm_hf g n y = qm_bk (qp_at y (qp_r g n)) := by
  unfold qm_hf; rw [if_pos h]
theorem qm_hf7 (h : qp_kd g n = 7) (y : qp_R) : qm_hf g n y = qm_bk (y.getD 0 0) := by
  unfold qm_hf; rw [if_neg (by omega), if_pos h]
theorem qm_e9 (ht : t < 100000) (hpc : pc < 192) (hN : N ≤ 12) (hn : n < N) (hok : ∀ n, n < N → qp_ok g pa n) (hk : qp_kd g n = 8) (hrep : qm_rep g N rw s G) (hsz : qm_sz s) (hlt : ms.map reg ∉ s.1 n → (s.1 n).length < 24)
    (hm : ∀ m ∈ ms, m < 32) (hml : ms.length = qp_wd g n) (hI : qm_In C pc 9 (nI n) (nI ms.length) (nI (qb_enc ms))) (hD : qm_Dt C pc d)
    (K0 : ms.map reg ∈ s.1 n → qm_E post C (t + 1) d G reg cu ky mt)
    (K1 : ms.map reg ∉ s.1 n → ∀ G', qm_rep g N rw (qp_add s n (ms.map reg)) G' → qm_E post C (t + 1) (pc + 1) G' reg cu ky mt) : qm_E post C t pc G reg cu ky mt := by
  have R := hrep.1 n hn
  have sw : qm_sw g n = ms.length := by unfold qm_sw; rw [if_neg (by omega)]; exact hml.symm
  unfold qm_rep1 at R
  rw [qm_st_s1 (Or.inl hk), sw] at R
  obtain ⟨R1, R2, R3⟩ := R
  have R2 := R2 (by omega)
  have R3 := R3 (Or.inr (Or.inr hk))
  have W6 := (hok n hn).2.2.1
  have hlx : (ms.map reg).length = ms.length := List.length_map ..
  obtain ⟨f_tables, f_nodes, f_codeLen, f_rowMap, f_rowWidth, f_nextReg, f_loops, f_resWidth, a_tabWidth, a_tabRows, a_tab, a_kind, a_left, a_right, a_parent, a_p, a_q, a_r, a_nodeWidth, a_bound, a_wanted, a_cOp, a_cA, a_cB, a_cC, a_cD, a_loopHead, a_todo⟩ := C
  obtain ⟨f_resRows, a_store, a_storeRows, a_headOf, a_tailOf, a_link, a_result⟩ := G
  intro F' hF'
  obtain ⟨F, rfl⟩ : ∃ F, F' = F + 1 := ⟨F' - 1, by omega⟩
  refine br_f (nI_ge (a := t) (b := 100000) ht (by decide)) ⟨vp_in_nI hpc (by decide), br_f (by rw [nI_clamp (by omega), show a_cOp pc = 9 from hI.1]; decide) ?_⟩
  refine qm_pf9 hpc hI.1 hI.2.1 hI.2.2.1 hI.2.2.2 hD (by omega) (hsz n).1 hlt R1 hm (by omega) R2.1 R2.2 (qm_hf8 hk _) R3 (fun h => nm_r (nI_1 t) (K0 h F (by omega))) (fun h hd tl lk h1 h2 h3 => nm_r (nI_1 t) (K1 h (f_resRows, qb_bl a_store (n * 144 + (s.1 n).length * 6) (ms.map reg), upd a_storeRows n (nI ((s.1 n).length + 1)), hd, tl, lk, a_result) ?_ F (by omega)))
  have lt := hlt h
  refine ⟨fun m hm' => ?_, hrep.2⟩
  by_cases e : m = n
  · subst e
    unfold qm_rep1
    rw [qm_st_s1 (Or.inl hk), sw]
    have es : (qp_add s m (ms.map reg)).1 m = s.1 m ++ [ms.map reg] := qp_up_s
    rw [es]
    exact ⟨by show upd a_storeRows m _ m = _; rw [pk_us, List.length_append]; rfl, fun _ => ⟨qm_row_app hlx R2.1, qm_cell_app hlx (by omega) R2.2⟩, fun _ => h1⟩
  · have es : qm_st g (qp_add s n (ms.map reg)) m = qm_st g s m := by
      unfold qm_st
      by_cases h : qp_kd g m = 8 ∨ qp_kd g m = 9
      · rw [if_pos h, if_pos h]; exact qp_up_n e
      · rw [if_neg h, if_neg h]; rfl
    exact qm_rep1_fr (by omega) (qm_st_sz hsz) (qm_sw6 hok hm') es (fun j _ _ => qb_bl_out (by omega)) (pk_un e) (fun j _ _ => h2 j (by omega)) (fun j _ _ => h3 j (by omega)) (hrep.1 m hm')
theorem qm_e10 {b c : Int32} (ht : t < 100000) (hpc : pc < 192) (hCP : qm_CP C g N) (hN : N ≤ 12) (hn : n < N) (hok : ∀ n, n < N → qp_ok g pa n) (hk : qp_kd g n = 9) (hrep : qm_rep g N rw s G) (hsz : qm_sz s) (x : qp_R)
    (hI : qm_In C pc 10 (nI n) b c) (hD : qm_Dt C pc d)
    (K0 : ¬ (s.1 n).length < (qp_p g n).toNatClampNeg → qm_E post C (t + 1) d G reg cu ky mt)
    (K1 : (s.1 n).length < (qp_p g n).toNatClampNeg → ∀ G', qm_rep g N rw (qp_add s n x) G' → qm_E post C (t + 1) (pc + 1) G' reg cu ky mt) : qm_E post C t pc G reg cu ky mt := by
  have R := hrep.1 n hn
  unfold qm_rep1 at R
  rw [qm_st_s1 (Or.inr hk)] at R
  obtain ⟨k, hk31, ek⟩ := ((hok n hn).2.2.2.2.2.2.2.2.2.2.2.2.2.2.1 hk).1
  have ekn : (qp_p g n).toNatClampNeg = k := qb_tn hk31 ek
  rw [ekn] at K0 K1
  obtain ⟨f_tables, f_nodes, f_codeLen, f_rowMap, f_rowWidth, f_nextReg, f_loops, f_resWidth, a_tabWidth, a_tabRows, a_tab, a_kind, a_left, a_right, a_parent, a_p, a_q, a_r, a_nodeWidth, a_bound, a_wanted, a_cOp, a_cA, a_cB, a_cC, a_cD, a_loopHead, a_todo⟩ := C
  obtain ⟨f_resRows, a_store, a_storeRows, a_headOf, a_tailOf, a_link, a_result⟩ := G
  intro F' hF'
  obtain ⟨F, rfl⟩ : ∃ F, F' = F + 1 := ⟨F' - 1, by omega⟩
  refine br_f (nI_ge (a := t) (b := 100000) ht (by decide)) ⟨vp_in_nI hpc (by decide), br_f (by rw [nI_clamp (by omega), show a_cOp pc = 10 from hI.1]; decide) ?_⟩
  refine qm_pf10 hpc hI.1 hI.2.1 hI.2.2.1 hI.2.2.2 hD (by omega) (hsz n).1 hk31 R.1 ((hCP n hn).2.2.1.trans ek) (fun h => nm_r (nI_1 t) (K1 h (f_resRows, a_store, upd a_storeRows n (nI ((s.1 n).length + 1)), a_headOf, a_tailOf, a_link, a_result) ?_ F (by omega))) (fun h => nm_r (nI_1 t) (K0 h F (by omega)))
  refine ⟨fun m hm' => ?_, hrep.2⟩
  by_cases e : m = n
  · subst e
    unfold qm_rep1
    rw [qm_st_s1 (Or.inr hk)]
    have es : (qp_add s m x).1 m = s.1 m ++ [x] := qp_up_s
    rw [es]
    exact ⟨by show upd a_storeRows m _ m = _; rw [pk_us, List.length_append]; rfl, fun h => absurd hk h, fun h => by omega⟩
  · have es : qm_st g (qp_add s n x) m = qm_st g s m := by
      unfold qm_st
      by_cases h : qp_kd g m = 8 ∨ qp_kd g m = 9
      · rw [if_pos h, if_pos h]; exact qp_up_n e
      · rw [if_neg h, if_neg h]; rfl
    exact qm_rep1_fr (by omega) (qm_st_sz hsz) (qm_sw6 hok hm') es (fun j _ _ => rfl) (pk_un e) (fun j _ _ => ⟨rfl, rfl⟩) (fun j _ _ => rfl) (hrep.1 m hm')
/-- other nodes don't see the sink's change -/
theorem qm_rep1_snk {k m : Nat} {v : qp_W} (e : m ≠ k) : qm_st g (s.1, qp_up s.2 k v) m = qm_st g s m := by
  unfold qm_st
  by_cases h : qp_kd g m = 8 ∨ qp_kd g m = 9
  · rw [if_pos h, if_pos h]
  · rw [if_neg h, if_neg h]; exact qp_up_n e
theorem qm_e11 {k : Nat} (ht : t < 100000) (hpc : pc < 192) (hCP : qm_CP C g N) (hN : N ≤ 12) (hn : k < N) (hok : ∀ n, n < N → qp_ok g pa n) (hk : qp_kd g k = 5) (hrep : qm_rep g N rw s G) (hsz : qm_sz s) (hlt : (s.2 k).length < 24)
    (hm : ∀ m ∈ ms, m < 32) (hml : ms.length = qp_wd g (qp_rt g k)) (hI : qm_In C pc 11 (nI k) (nI ms.length) (nI (qb_enc ms)))
    (K : ∀ G', qm_rep g N rw (s.1, qp_up s.2 k (s.2 k ++ [ms.map reg])) G' → qm_E post C (t + 1) (pc + 1) G' reg cu ky mt) : qm_E post C t pc G reg cu ky mt := by
  have R := hrep.1 k hn
  have sw : qm_sw g k = ms.length := by unfold qm_sw; rw [if_pos hk]; exact hml.symm
  unfold qm_rep1 at R
  rw [qm_st_s2 (by omega) (by omega), sw] at R
  obtain ⟨R1, R2, R3⟩ := R
  have R2 := R2 (by omega)
  have R3 := R3 (Or.inl hk)
  have W6 := qm_sw6 hok hn
  have hlx : (ms.map reg).length = ms.length := List.length_map ..
  obtain ⟨col, hcol, ecol⟩ := ((hok k hn).2.2.2.2.2.2.2.2.2.2.1 hk).2.2.1
  have eat : qm_hf g k (ms.map reg) = qm_bk ((ms.map reg).getD col 0) := by
    rw [qm_hf5 hk]; unfold qp_at; rw [ecol, nI_clamp (by omega)]
  obtain ⟨f_tables, f_nodes, f_codeLen, f_rowMap, f_rowWidth, f_nextReg, f_loops, f_resWidth, a_tabWidth, a_tabRows, a_tab, a_kind, a_left, a_right, a_parent, a_p, a_q, a_r, a_nodeWidth, a_bound, a_wanted, a_cOp, a_cA, a_cB, a_cC, a_cD, a_loopHead, a_todo⟩ := C
  obtain ⟨f_resRows, a_store, a_storeRows, a_headOf, a_tailOf, a_link, a_result⟩ := G
  intro F' hF'
  obtain ⟨F, rfl⟩ : ∃ F, F' = F + 1 := ⟨F' - 1, by omega⟩
  refine br_f (nI_ge (a := t) (b := 100000) ht (by decide)) ⟨vp_in_nI hpc (by decide), br_f (by rw [nI_clamp (by omega), show a_cOp pc = 11 from hI.1]; decide) ?_⟩
  refine qm_pf11 hpc hI.1 hI.2.1 hI.2.2.1 hI.2.2.2 (by omega) hlt R1 hm (by omega) ((hCP k hn).2.2.2.2.1.trans ecol) (by omega) eat R3 (fun hd tl lk h1 h2 h3 => nm_r (nI_1 t) (K (f_resRows, qb_bl a_store (k * 144 + (s.2 k).length * 6) (ms.map reg), upd a_storeRows k (nI ((s.2 k).length + 1)), hd, tl, lk, a_result) ?_ F (by omega)))
  refine ⟨fun m hm' => ?_, ?_⟩
  · by_cases e : m = k
    · subst e
      unfold qm_rep1
      rw [qm_st_s2 (by omega) (by omega), sw]
      have es : ((s.1, qp_up s.2 m (s.2 m ++ [ms.map reg])) : qp_S).2 m = s.2 m ++ [ms.map reg] := qp_up_s
      rw [es]
      exact ⟨by show upd a_storeRows m _ m = _; rw [pk_us, List.length_append]; rfl, fun _ => ⟨qm_row_app hlx R2.1, qm_cell_app hlx (by omega) R2.2⟩, fun _ => h1⟩
    · exact qm_rep1_fr (by omega) (qm_st_sz hsz) (qm_sw6 hok hm') (qm_rep1_snk e) (fun j _ _ => qb_bl_out (by omega)) (pk_un e) (fun j _ _ => h2 j (by omega)) (fun j _ _ => h3 j (by omega)) (hrep.1 m hm')
  · have e12 : (qp_up s.2 k (s.2 k ++ [ms.map reg])) 12 = s.2 12 := qp_up_n (by omega)
    have := hrep.2
    unfold qm_res at this ⊢
    dsimp only at this ⊢
    rw [e12]; exact this
theorem qm_e13 {k : Nat} (ht : t < 100000) (hpc : pc < 192) (hCP : qm_CP C g N) (hN : N ≤ 12) (hn : k < N) (hok : ∀ n, n < N → qp_ok g pa n) (hk : qp_kd g k = 10) (hrep : qm_rep g N rw s G) (hsz : qm_sz s) (hlt : (s.2 k).length < 24)
    (hm : ∀ m ∈ ms, m < 32) (hml : ms.length = qp_wd g (qp_lf g k)) (hI : qm_In C pc 13 (nI k) (nI ms.length) (nI (qb_enc ms)))
    (K : ∀ G', qm_rep g N rw (s.1, qp_up s.2 k (qp_ins (qp_q g k) (qp_p g k) (qp_at (ms.map reg) (qp_p g k)) (ms.map reg) (s.2 k))) G' → qm_E post C (t + 1) (pc + 1) G' reg cu ky mt) : qm_E post C t pc G reg cu ky mt := by
  have PR := (hok k hn).2.2.2.2.2.2.2.2.2.2.2.2.2.2.2 hk
  have R := hrep.1 k hn
  have sw : qm_sw g k = ms.length := by unfold qm_sw; rw [if_neg (by omega), hml, PR.2.2]
  unfold qm_rep1 at R
  rw [qm_st_s2 (by omega) (by omega), sw] at R
  obtain ⟨R1, R2, _⟩ := R
  have R2 := R2 (by omega)
  have W6 := qm_sw6 hok hn
  have hlx : (ms.map reg).length = ms.length := List.length_map ..
  obtain ⟨col, hcol, ecol⟩ := PR.1
  have eat : qp_at (ms.map reg) (qp_p g k) = (ms.map reg).getD col 0 := by
    unfold qp_at; rw [ecol, nI_clamp (by omega)]
  rw [eat] at K
  obtain ⟨f_tables, f_nodes, f_codeLen, f_rowMap, f_rowWidth, f_nextReg, f_loops, f_resWidth, a_tabWidth, a_tabRows, a_tab, a_kind, a_left, a_right, a_parent, a_p, a_q, a_r, a_nodeWidth, a_bound, a_wanted, a_cOp, a_cA, a_cB, a_cC, a_cD, a_loopHead, a_todo⟩ := C
  obtain ⟨f_resRows, a_store, a_storeRows, a_headOf, a_tailOf, a_link, a_result⟩ := G
  intro F' hF'
  obtain ⟨F, rfl⟩ : ∃ F, F' = F + 1 := ⟨F' - 1, by omega⟩
  refine br_f (nI_ge (a := t) (b := 100000) ht (by decide)) ⟨vp_in_nI hpc (by decide), br_f (by rw [nI_clamp (by omega), show a_cOp pc = 13 from hI.1]; decide) ?_⟩
  have P := hCP k hn
  refine qm_pf13 hpc hI.1 hI.2.1 hI.2.2.1 hI.2.2.2 (by omega) hlt R1 hm (by omega) (P.2.2.1.trans ecol) (by omega) R2.2 (fun st h1 h2 => nm_r (nI_1 t) (K (f_resRows, st, upd a_storeRows k (nI ((s.2 k).length + 1)), a_headOf, a_tailOf, a_link, a_result) ?_ F (by omega)))
  rw [P.2.2.1, P.2.2.2.1] at h1
  refine ⟨fun m hm' => ?_, ?_⟩
  · by_cases e : m = k
    · subst e
      unfold qm_rep1
      rw [qm_st_s2 (by omega) (by omega), sw]
      have es : ((s.1, qp_up s.2 m (qp_ins (qp_q g m) (qp_p g m) ((ms.map reg).getD col 0) (ms.map reg) (s.2 m))) : qp_S).2 m = qp_ins (qp_q g m) (qp_p g m) ((ms.map reg).getD col 0) (ms.map reg) (s.2 m) := qp_up_s
      rw [es]
      refine ⟨by show upd a_storeRows m _ m = _; rw [pk_us, qp_ins_len], fun _ => ⟨?_, ?_⟩, fun h => by omega⟩
      · intro y hy
        have : y = ms.map reg ∨ y ∈ s.2 m := by
          generalize s.2 m = T at hy
          clear h1 R1 R2 hlt K
          revert hy
          induction T with
          | nil => intro hy; exact Or.inl (List.mem_singleton.1 hy)
          | cons z zs ih =>
            intro hy
            unfold qp_ins at hy
            split at hy
            · exact List.mem_cons.1 hy
            · rcases List.mem_cons.1 hy with e | e
              · exact Or.inr (e ▸ List.mem_cons_self ..)
              · rcases ih e with e | e
                · exact Or.inl e
                · exact Or.inr (List.mem_cons_of_mem _ e)
        rcases this with e | e
        · rw [e]; exact hlx
        · exact R2.1 y e
      · intro e c he hc
        rw [qp_ins_len] at he
        exact h1 e c (by omega) hc
    · exact qm_rep1_fr (by omega) (qm_st_sz hsz) (qm_sw6 hok hm') (qm_rep1_snk e) (fun j _ _ => h2 j (by omega)) (pk_un e) (fun j _ _ => ⟨rfl, rfl⟩) (fun j _ _ => rfl) (hrep.1 m hm')
  · have e12 : ∀ v, (qp_up s.2 k v) 12 = s.2 12 := fun v => qp_up_n (by omega)
    have := hrep.2
    unfold qm_res at this ⊢
    dsimp only at this ⊢
    rw [e12]; exact this
end
end
section
/-! fold, emit, exists, match over the representation -/
section
variable {post : SX → Prop} {C : qm_C} {G : qm_G} {reg cu ky mt : Nat → Int32} {t pc d : Nat}
variable {g : qp_PL} {pa : Nat → Nat} {N rw n : Nat} {s : qp_S} {ms : List Nat}
theorem qm_at_reg {k : Int32} {w : Nat} (h : qp_c w k) (hw : ms.length = w) (h6 : w ≤ 6) : qp_at (ms.map reg) k = reg (ms.getD k.toNatClampNeg 0) ∧ k.toNatClampNeg < ms.length := by
  obtain ⟨a, ha, rfl⟩ := h
  unfold qp_at
  rw [nI_clamp (by omega)]
  exact ⟨qm_mg (by omega), by omega⟩
theorem qm_e12 {k : Nat} (ht : t < 100000) (hpc : pc < 192) (hCP : qm_CP C g N) (hN : N ≤ 12) (hn : k < N) (hok : ∀ n, n < N → qp_ok g pa n) (hk : qp_kd g k = 7) (hrep : qm_rep g N rw s G) (hsz : qm_sz s) (hlt : (qp_gs (qp_q g k) (qp_at (ms.map reg) (qp_p g k)) (qp_at (ms.map reg) (qp_r g k)) (s.2 k)).length ≤ 24)
    (hm : ∀ m ∈ ms, m < 32) (hml : ms.length = qp_wd g (qp_lf g k)) (hI : qm_In C pc 12 (nI k) (nI (ms.getD (qp_p g k).toNatClampNeg 0)) (nI (ms.getD (qp_r g k).toNatClampNeg 0)))
    (K : ∀ G', qm_rep g N rw (s.1, qp_up s.2 k (qp_gs (qp_q g k) (qp_at (ms.map reg) (qp_p g k)) (qp_at (ms.map reg) (qp_r g k)) (s.2 k))) G' → qm_E post C (t + 1) (pc + 1) G' reg cu ky mt) : qm_E post C t pc G reg cu ky mt := by
  have PR := (hok k hn).2.2.2.2.2.2.2.2.2.2.2.2.1 hk
  have W6 : qp_wd g (qp_lf g k) ≤ 6 := by
    have := ((hok k hn).2.2.2.1 (by omega)).1
    exact (hok _ (by omega)).2.2.1
  obtain ⟨ep, lp⟩ := qm_at_reg (reg := reg) PR.1 hml W6
  obtain ⟨er, lr⟩ := qm_at_reg (reg := reg) PR.2.2.1 hml W6
  rw [ep, er] at K hlt
  have R := hrep.1 k hn
  have sw : qm_sw g k = 2 := by unfold qm_sw; rw [if_neg (by omega), PR.2.2.2]
  unfold qm_rep1 at R
  rw [qm_st_s2 (by omega) (by omega), sw] at R
  obtain ⟨R1, R2, R3⟩ := R
  have R2 := R2 (by omega)
  have R3 := R3 (Or.inr (Or.inl hk))
  generalize hra : ms.getD (qp_p g k).toNatClampNeg 0 = ra at K hlt hI
  generalize hrb : ms.getD (qp_r g k).toNatClampNeg 0 = rb at K hlt hI
  have lra : ra < 32 := hra ▸ qm_m32 hm lp
  have lrb : rb < 32 := hrb ▸ qm_m32 hm lr
  obtain ⟨f_tables, f_nodes, f_codeLen, f_rowMap, f_rowWidth, f_nextReg, f_loops, f_resWidth, a_tabWidth, a_tabRows, a_tab, a_kind, a_left, a_right, a_parent, a_p, a_q, a_r, a_nodeWidth, a_bound, a_wanted, a_cOp, a_cA, a_cB, a_cC, a_cD, a_loopHead, a_todo⟩ := C
  obtain ⟨f_resRows, a_store, a_storeRows, a_headOf, a_tailOf, a_link, a_result⟩ := G
  intro F' hF'
  obtain ⟨F, rfl⟩ : ∃ F, F' = F + 1 := ⟨F' - 1, by omega⟩
  refine br_f (nI_ge (a := t) (b := 100000) ht (by decide)) ⟨vp_in_nI hpc (by decide), br_f (by rw [nI_clamp (by omega), show a_cOp pc = 12 from hI.1]; decide) ?_⟩
  have P := hCP k hn
  have eq : a_q k = qp_q g k := P.2.2.2.1
  have e12 : ∀ v, (qp_up s.2 k v) 12 = s.2 12 := fun v => qp_up_n (by omega)
  have res : ∀ v (st sr hd tl lk : Nat → Int32), qm_res rw (s.1, qp_up s.2 k v) ((f_resRows, st, sr, hd, tl, lk, a_result) : qm_G).1 ((f_resRows, st, sr, hd, tl, lk, a_result) : qm_G).2.2.2.2.2.2 := by
    intro v st sr hd tl lk
    have := hrep.2
    unfold qm_res at this ⊢
    dsimp only at this ⊢
    rw [e12]; exact this
  refine qm_pf12 (hf := qm_hf g k) (T := s.2 k) hpc lra lrb hI.1 hI.2.1 hI.2.2.1 hI.2.2.2 (by omega) (hsz k).2 (fun h => ?_) R1 R2.2 (qm_hf7 hk) (by rw [eq]; exact PR.2.1) R3 (fun e h1 h2 h3 st h4 h5 => ?_) (fun h1 st hd tl lk h2 h3 h4 h5 h6 h7 => ?_)
  · rw [qp_gs_miss _ _ _ _ h, List.length_append] at hlt; exact hlt
  · refine nm_r (nI_1 t) (K (f_resRows, st, a_storeRows, a_headOf, a_tailOf, a_link, a_result) ?_ F (by omega))
    obtain ⟨g1, g2, g3⟩ := qp_gs_hit (qp_q g k) (reg ra) (reg rb) (s.2 k) e h1 h2 h3
    rw [eq] at h5
    have hl : (s.2 k).length ≤ 24 := (hsz k).2
    refine ⟨fun m hm' => ?_, res _ _ _ _ _ _⟩
    by_cases em : m = k
    · subst em
      unfold qm_rep1
      rw [qm_st_s2 (by omega) (by omega), sw]
      have es : ((s.1, qp_up s.2 m (qp_gs (qp_q g m) (reg ra) (reg rb) (s.2 m))) : qp_S).2 m = qp_gs (qp_q g m) (reg ra) (reg rb) (s.2 m) := qp_up_s
      rw [es, g1]
      refine ⟨R1, fun _ => ⟨fun y hy => ?_, fun j c hj hc => ?_⟩, fun _ => ?_⟩
      · obtain ⟨j, hj, ej⟩ := qm_mem_getD hy
        rw [g1] at hj
        rw [← ej]
        by_cases e2 : j = e
        · rw [e2, g2]; rfl
        · rw [g3 j e2]; exact R2.1 _ (qm_getD_mem hj)
      · show st _ = _
        by_cases e2 : j = e
        · subst e2
          rw [g2]
          by_cases ec : c = 1
          · subst ec; exact h5
          · have : c = 0 := by omega
            subst this
            rw [h4 _ (by omega)]; exact R2.2 j 0 hj (by omega)
        · rw [g3 j e2, h4 _ (by omega)]; exact R2.2 j c hj hc
      · refine qm_ch_congr g1 (fun j hj => ?_) R3
        rw [qm_hf7 hk, qm_hf7 hk]
        by_cases e2 : j = e
        · rw [e2, g2]; rfl
        · rw [g3 j e2]
    · exact qm_rep1_fr (by omega) (qm_st_sz hsz) (qm_sw6 hok hm') (qm_rep1_snk em) (fun j _ _ => h4 j (by omega)) rfl (fun j _ _ => ⟨rfl, rfl⟩) (fun j _ _ => rfl) (hrep.1 m hm')
  · refine nm_r (nI_1 t) (K (f_resRows, st, upd a_storeRows k (nI ((s.2 k).length + 1)), hd, tl, lk, a_result) ?_ F (by omega))
    rw [eq] at h4 h5
    have eg := qp_gs_miss (qp_q g k) (reg ra) (reg rb) (s.2 k) h1
    have hl : (s.2 k).length < 24 := by rw [eg, List.length_append] at hlt; exact hlt
    refine ⟨fun m hm' => ?_, res _ _ _ _ _ _⟩
    by_cases em : m = k
    · subst em
      unfold qm_rep1
      rw [qm_st_s2 (by omega) (by omega), sw]
      have es : ((s.1, qp_up s.2 m (qp_gs (qp_q g m) (reg ra) (reg rb) (s.2 m))) : qp_S).2 m = qp_gs (qp_q g m) (reg ra) (reg rb) (s.2 m) := qp_up_s
      rw [es, eg]
      refine ⟨by show upd a_storeRows m _ m = _; rw [pk_us, List.length_append]; rfl, fun _ => ⟨qm_row_app rfl R2.1, fun j c hj hc => ?_⟩, fun _ => h5⟩
      show st _ = _
      rw [List.length_append] at hj
      have hj' : j < (s.2 m).length + 1 := hj
      by_cases e2 : j = (s.2 m).length
      · rw [e2, qm_getD_last]
        by_cases ec : c = 1
        · subst ec; exact h4
        · have : c = 0 := by omega
          subst this; exact h3
      · rw [qm_getD_app (by omega), h2 _ (by omega) (by omega)]; exact R2.2 j c (by omega) hc
    · exact qm_rep1_fr (by omega) (qm_st_sz hsz) (qm_sw6 hok hm') (qm_rep1_snk em) (fun j _ _ => h2 j (by omega) (by omega)) (pk_un em) (fun j _ _ => h6 j (by omega)) (fun j _ _ => h7 j (by omega)) (hrep.1 m hm')
theorem qm_e14 {A : Int32} (ht : t < 100000) (hpc : pc < 192) (hN : N ≤ 12) (hrw : rw ≤ 6) (hrep : qm_rep g N rw s G) (hlt : (s.2 12).length < 24)
    (hm : ∀ m ∈ ms, m < 32) (hml : ms.length = rw) (hI : qm_In C pc 14 A (nI ms.length) (nI (qb_enc ms)))
    (K : ∀ G', qm_rep g N rw (s.1, qp_up s.2 12 (s.2 12 ++ [ms.map reg])) G' → qm_E post C (t + 1) (pc + 1) G' reg cu ky mt) : qm_E post C t pc G reg cu ky mt := by
  have hlx : (ms.map reg).length = rw := by rw [List.length_map]; exact hml
  obtain ⟨R1, R2, R3⟩ := hrep.2
  obtain ⟨f_tables, f_nodes, f_codeLen, f_rowMap, f_rowWidth, f_nextReg, f_loops, f_resWidth, a_tabWidth, a_tabRows, a_tab, a_kind, a_left, a_right, a_parent, a_p, a_q, a_r, a_nodeWidth, a_bound, a_wanted, a_cOp, a_cA, a_cB, a_cC, a_cD, a_loopHead, a_todo⟩ := C
  obtain ⟨f_resRows, a_store, a_storeRows, a_headOf, a_tailOf, a_link, a_result⟩ := G
  intro F' hF'
  obtain ⟨F, rfl⟩ : ∃ F, F' = F + 1 := ⟨F' - 1, by omega⟩
  refine br_f (nI_ge (a := t) (b := 100000) ht (by decide)) ⟨vp_in_nI hpc (by decide), br_f (by rw [nI_clamp (by omega), show a_cOp pc = 14 from hI.1]; decide) ?_⟩
  refine qm_pf14 hpc hI.1 hI.2.1 hI.2.2.1 hI.2.2.2 hlt R1 hm (by omega) (nm_r (nI_1 t) (K (nI ((s.2 12).length + 1), a_store, a_storeRows, a_headOf, a_tailOf, a_link, qb_bl a_result ((s.2 12).length * 6) (ms.map reg)) ?_ F (by omega)))
  refine ⟨fun m hm' => ?_, ?_⟩
  · have := hrep.1 m hm'
    unfold qm_rep1 at this ⊢
    rw [qm_rep1_snk (by omega)]; exact this
  · have es : ((s.1, qp_up s.2 12 (s.2 12 ++ [ms.map reg])) : qp_S).2 12 = s.2 12 ++ [ms.map reg] := qp_up_s (D := s.2) (n := 12)
    unfold qm_res
    rw [es]
    refine ⟨by show nI _ = _; rw [List.length_append]; rfl, qm_row_app hlx R2, fun e c he hc => ?_⟩
    have := qm_cell_app (b := 0) (sto := a_result) (T := s.2 12) (x := ms.map reg) hlx hrw (fun e c h h' => by rw [Nat.zero_add]; exact R3 e c h h') e c he hc
    rw [Nat.zero_add, Nat.zero_add] at this
    exact this
theorem qm_hit_nil {key col : Int32} {T : qp_W} : qp_hit key col T = [] ↔ ∀ y ∈ T, ¬ qp_at y col = key := by
  unfold qp_hit
  rw [List.filter_eq_nil_iff]
  exact ⟨fun h y hy z => h y hy (decide_eq_true z), fun h y hy z => h y hy (of_decide_eq_true z)⟩
theorem qm_e8 {rk : Nat} {sm : Bool} (ht : t < 100000) (hpc : pc < 192) (hCP : qm_CP C g N) (hN : N ≤ 12) (hn : n < N) (hok : ∀ n, n < N → qp_ok g pa n) (hk : qp_kd g n = 5) (hrep : qm_rep g N rw s G) (hsz : qm_sz s) (hr : rk < 32)
    (hI : qm_In C pc 8 (nI n) (nI rk) (if sm = true then 1 else 0)) (hD : qm_Dt C pc d)
    (K0 : qp_hit (reg rk) (qp_r g n) (s.2 n) = [] → qm_E post C (t + 1) (if sm = true then d else pc + 1) G reg cu ky mt)
    (K1 : ¬ qp_hit (reg rk) (qp_r g n) (s.2 n) = [] → qm_E post C (t + 1) (if sm = true then pc + 1 else d) G reg cu ky mt) : qm_E post C t pc G reg cu ky mt := by
  have R := hrep.1 n hn
  have W6 := qm_sw6 hok hn
  have sw : qm_sw g n = qp_wd g (qp_rt g n) := if_pos hk
  unfold qm_rep1 at R
  rw [qm_st_s2 (by omega) (by omega)] at R
  obtain ⟨R1, R2, R3⟩ := R
  have R2 := R2 (by omega)
  have R3 := R3 (Or.inl hk)
  obtain ⟨col, hcol, ecol⟩ := ((hok n hn).2.2.2.2.2.2.2.2.2.2.1 hk).2.2.1
  have eat : ∀ y : qp_R, qp_at y (qp_r g n) = y.getD col 0 := fun y => by unfold qp_at; rw [ecol, nI_clamp (by omega)]
  obtain ⟨f_tables, f_nodes, f_codeLen, f_rowMap, f_rowWidth, f_nextReg, f_loops, f_resWidth, a_tabWidth, a_tabRows, a_tab, a_kind, a_left, a_right, a_parent, a_p, a_q, a_r, a_nodeWidth, a_bound, a_wanted, a_cOp, a_cA, a_cB, a_cC, a_cD, a_loopHead, a_todo⟩ := C
  obtain ⟨f_resRows, a_store, a_storeRows, a_headOf, a_tailOf, a_link, a_result⟩ := G
  intro F' hF'
  obtain ⟨F, rfl⟩ : ∃ F, F' = F + 1 := ⟨F' - 1, by omega⟩
  refine br_f (nI_ge (a := t) (b := 100000) ht (by decide)) ⟨vp_in_nI hpc (by decide), br_f (by rw [nI_clamp (by omega), show a_cOp pc = 8 from hI.1]; decide) ?_⟩
  refine qm_pf8 (hf := qm_hf g n) (T := s.2 n) (col := col) hpc hr hI.1 hI.2.1 hI.2.2.1 hI.2.2.2 hD (by omega) (hsz n).2 (by omega) ((hCP n hn).2.2.2.2.1.trans ecol) (fun e he => R2.2 e col he (by omega)) R3 (fun y _ hy => by rw [qm_hf5 hk, eat, hy]) (fun h => nm_r (nI_1 t) (K0 (qm_hit_nil.2 (fun y hy => by rw [eat]; exact h y hy)) F (by omega))) (fun h => nm_r (nI_1 t) (K1 (fun z => ?_) F (by omega)))
  obtain ⟨y, hy, ey⟩ := h
  exact qm_hit_nil.1 z y hy (by rw [eat]; exact ey)
theorem qm_e7 {a i b : Nat} {key : Int32} (ht : t < 100000) (hpc : pc < 192) (hCP : qm_CP C g N) (hN : N ≤ 12) (hn : n < N) (hok : ∀ n, n < N → qp_ok g pa n) (hk : qp_kd g n = 5) (hrep : qm_rep g N rw s G) (hsz : qm_sz s)
    (ha : a < 8) (hi : i ≤ (s.2 n).length) (hb : b + qp_wd g (qp_rt g n) ≤ 32) (hkey : ky a = key) (hcu : cu a = qm_fi (fun y => decide (qm_hf g n y = qm_bk key)) ((s.2 n).drop i) i)
    (hI : qm_In C pc 7 (nI a) (nI n) (nI (qb_enc (List.range' b (qp_wd g (qp_rt g n)))))) (hD : qm_Dt C pc d)
    (K1 : ∀ e, i ≤ e → e < (s.2 n).length → qp_at ((s.2 n).getD e []) (qp_r g n) = key → (∀ j, i ≤ j → j < e → ¬ qp_at ((s.2 n).getD j []) (qp_r g n) = key) → ((s.2 n).getD e []).length = qp_wd g (qp_rt g n) →
      qm_E post C (t + 1) (pc + 1) G (qb_bl reg b ((s.2 n).getD e [])) (upd cu a (qm_fi (fun y => decide (qm_hf g n y = qm_bk key)) ((s.2 n).drop (e + 1)) (e + 1))) ky (upd mt a 1))
    (K0 : (∀ j, i ≤ j → j < (s.2 n).length → ¬ qp_at ((s.2 n).getD j []) (qp_r g n) = key) → (¬ qp_p g n = 3 ∨ ¬ mt a = 0) → qm_E post C (t + 1) d G reg (upd cu a (-1)) ky mt)
    (K2 : (∀ j, i ≤ j → j < (s.2 n).length → ¬ qp_at ((s.2 n).getD j []) (qp_r g n) = key) → qp_p g n = 3 → mt a = 0 → qm_E post C (t + 1) (pc + 1) G (qb_bl reg b (List.replicate (qp_wd g (qp_rt g n)) 0)) (upd cu a (-1)) ky (upd mt a 1)) : qm_E post C t pc G reg cu ky mt := by
  have R := hrep.1 n hn
  have W6 := qm_sw6 hok hn
  have sw : qm_sw g n = qp_wd g (qp_rt g n) := if_pos hk
  unfold qm_rep1 at R
  rw [qm_st_s2 (by omega) (by omega), sw] at R
  rw [sw] at W6
  obtain ⟨R1, R2, R3⟩ := R
  have R2 := R2 (by omega)
  have R3 := R3 (Or.inl hk)
  have rl := ((hok n hn).2.2.2.2.1 (Or.inl hk)).1
  obtain ⟨col, hcol, ecol⟩ := ((hok n hn).2.2.2.2.2.2.2.2.2.2.1 hk).2.2.1
  have eat : ∀ y : qp_R, qp_at y (qp_r g n) = y.getD col 0 := fun y => by unfold qp_at; rw [ecol, nI_clamp (by omega)]
  obtain ⟨f_tables, f_nodes, f_codeLen, f_rowMap, f_rowWidth, f_nextReg, f_loops, f_resWidth, a_tabWidth, a_tabRows, a_tab, a_kind, a_left, a_right, a_parent, a_p, a_q, a_r, a_nodeWidth, a_bound, a_wanted, a_cOp, a_cA, a_cB, a_cC, a_cD, a_loopHead, a_todo⟩ := C
  obtain ⟨f_resRows, a_store, a_storeRows, a_headOf, a_tailOf, a_link, a_result⟩ := G
  intro F' hF'
  obtain ⟨F, rfl⟩ : ∃ F, F' = F + 1 := ⟨F' - 1, by omega⟩
  refine br_f (nI_ge (a := t) (b := 100000) ht (by decide)) ⟨vp_in_nI hpc (by decide), br_f (by rw [nI_clamp (by omega), show a_cOp pc = 7 from hI.1]; decide) ?_⟩
  have P := hCP n hn
  refine qm_pf7 (hf := qm_hf g n) (T := s.2 n) (col := col) (rr := qp_rt g n) (h := qm_bk key) hpc hI.1 hI.2.1 hI.2.2.1 hI.2.2.2 hD ha (by omega) (hsz n).2 hi hb W6 hcol (P.2.2.2.2.1.trans ecol) hkey hcu (by omega) (P.2.2.2.2.2.1 hk) (hCP _ (by omega)).2.1 R2.1 R2.2 R3.2.1 (fun y _ hy => by rw [qm_hf5 hk, eat, hy]) ?_ ?_ ?_
  · intro e h1 h2 h3 h4
    exact nm_r (nI_1 t) (K1 e h1 h2 (by rw [eat]; exact h3) (fun j hj1 hj2 => by rw [eat]; exact h4 j hj1 hj2) (R2.1 _ (qm_getD_mem h2)) F (by omega))
  · intro h1 h2
    exact nm_r (nI_1 t) (K0 (fun j hj1 hj2 => by rw [eat]; exact h1 j hj1 hj2) (by rw [← P.2.2.1]; exact h2) F (by omega))
  · intro h1 h2 h3
    exact nm_r (nI_1 t) (K2 (fun j hj1 hj2 => by rw [eat]; exact h1 j hj1 hj2) (by rw [← P.2.2.1]; exact h2) h3 F (by omega))
end
end
section
/-! the code of a path, and what the machine does with a row on it -/
def qm_Cls (C : qm_C) : List Nat → Nat → Prop
  | [], _ => True
  | h :: hs, p => qm_In C p 15 0 0 0 ∧ qm_Dt C p h ∧ qm_Dt C h (p + 1) ∧ p < 192 ∧ qm_Cls C hs (p + 1)
def qm_Snk (C : qm_C) (g : qp_PL) (k : Nat) (ms : List Nat) (pos : Nat) : Prop :=
  (k = 12 → qm_In C pos 14 0 (nI ms.length) (nI (qb_enc ms))) ∧
  (k ≠ 12 → (qp_kd g k = 5 → qm_In C pos 11 (nI k) (nI ms.length) (nI (qb_enc ms))) ∧ (qp_kd g k = 10 → qm_In C pos 13 (nI k) (nI ms.length) (nI (qb_enc ms))) ∧
    (qp_kd g k = 7 → qm_In C pos 12 (nI k) (nI (ms.getD (qp_p g k).toNatClampNeg 0)) (nI (ms.getD (qp_r g k).toNatClampNeg 0))))
def qm_pj (g : qp_PL) (n : Nat) (ms : List Nat) : List Nat := (List.range (qp_wd g n)).map (fun i => ms.getD (qp_col (qp_p g n) i) 0)
def qm_Seg (C : qm_C) (g : qp_PL) (k : Nat) : List Nat → List Nat → Nat → List Nat → Nat → Nat → Prop
  | [], ms, _, hs, pos, e => qm_Snk C g k ms pos ∧ pos < 192 ∧ qm_Cls C hs (pos + 1) ∧ e = pos + 1 + hs.length
  | n :: ns, ms, nr, hs, pos, e =>
    (qp_kd g n = 1 → qm_In C pos 3 (nI (ms.getD (qp_p g n).toNatClampNeg 0)) (qp_q g n) (qp_r g n) ∧ qm_Dt C pos (hs.headD 0) ∧ pos < 192 ∧ qm_Seg C g k ns ms nr hs (pos + 1) e) ∧
    (qp_kd g n = 2 → qm_In C pos 4 (nI (ms.getD (qp_p g n).toNatClampNeg 0)) (qp_q g n) (nI (ms.getD (qp_r g n).toNatClampNeg 0)) ∧ qm_Dt C pos (hs.headD 0) ∧ pos < 192 ∧ qm_Seg C g k ns ms nr hs (pos + 1) e) ∧
    (qp_kd g n = 3 → qm_In C pos 5 (qp_p g n) (nI (ms.getD (qp_q g n).toNatClampNeg 0 + 32 * ms.getD (qp_r g n).toNatClampNeg 0)) (nI nr) ∧ nr < 32 ∧ pos < 192 ∧ qm_Seg C g k ns (ms ++ [nr]) (nr + 1) hs (pos + 1) e) ∧
    (qp_kd g n = 4 → qm_Seg C g k ns (qm_pj g n ms) nr hs pos e) ∧
    (qp_kd g n = 5 → ((qp_p g n = 1 ∨ qp_p g n = 2) → qm_In C pos 8 (nI n) (nI (ms.getD (qp_q g n).toNatClampNeg 0)) (if decide (qp_p g n = 1) = true then 1 else 0) ∧ qm_Dt C pos (hs.headD 0) ∧ pos < 192 ∧ qm_Seg C g k ns ms nr hs (pos + 1) e) ∧
      (¬ (qp_p g n = 1 ∨ qp_p g n = 2) → qm_In C pos 6 (nI hs.length) (nI n) (nI (ms.getD (qp_q g n).toNatClampNeg 0)) ∧ qm_In C (pos + 1) 7 (nI hs.length) (nI n) (nI (qb_enc (List.range' nr (qp_wd g (qp_rt g n))))) ∧ nr + qp_wd g (qp_rt g n) ≤ 32 ∧ hs.length < 8 ∧ pos + 1 < 192 ∧
        qm_Seg C g k ns (ms ++ List.range' nr (qp_wd g (qp_rt g n))) (nr + qp_wd g (qp_rt g n)) ((pos + 1) :: hs) (pos + 2) e)) ∧
    (qp_kd g n = 6 → qm_Seg C g k ns ms nr hs pos e) ∧
    (qp_kd g n = 8 → qm_In C pos 9 (nI n) (nI ms.length) (nI (qb_enc ms)) ∧ qm_Dt C pos (hs.headD 0) ∧ pos < 192 ∧ qm_Seg C g k ns ms nr hs (pos + 1) e) ∧
    (qp_kd g n = 9 → qm_In C pos 10 (nI n) 0 0 ∧ qm_Dt C pos (hs.headD 0) ∧ pos < 192 ∧ qm_Seg C g k ns ms nr hs (pos + 1) e)
/-- a path of the plan from c to its top, the sink k above it -/
def qm_pth (g : qp_PL) (N k rw : Nat) : Nat → List Nat → Prop
  | c, [] => c < N ∧ ((k = 12 ∧ qp_wd g c = rw) ∨ (k < N ∧ ((qp_kd g k = 5 ∧ qp_rt g k = c) ∨ ((qp_kd g k = 7 ∨ qp_kd g k = 10) ∧ qp_lf g k = c))))
  | c, n :: ns => c < N ∧ n < N ∧ ¬ qp_so g n ∧ (c = qp_lf g n ∨ (qp_kd g n = 6 ∧ c = qp_rt g n)) ∧ qm_pth g N k rw n ns
section
variable {g : qp_PL} {pa : Nat → Nat} {N rw k : Nat} {C : qm_C}
theorem qm_op_kd (hok : ∀ n, n < N → qp_ok g pa n) {n : Nat} (hn : n < N) (hs : ¬ qp_so g n) : qp_kd g n = 1 ∨ qp_kd g n = 2 ∨ qp_kd g n = 3 ∨ qp_kd g n = 4 ∨ qp_kd g n = 5 ∨ qp_kd g n = 6 ∨ qp_kd g n = 8 ∨ qp_kd g n = 9 := by
  have h1 := (hok n hn).1
  have h2 : qp_kd g n ≠ 0 := fun e => hs (Or.inl e)
  have h3 : qp_kd g n ≠ 7 := fun e => hs (Or.inr (Or.inl e))
  have h4 : qp_kd g n ≠ 10 := fun e => hs (Or.inr (Or.inr e))
  omega
theorem qm_pth_lt (hok : ∀ n, n < N → qp_ok g pa n) (hN : N ≤ 12) : ∀ (ns : List Nat) (c : Nat), qm_pth g N k rw c ns → c < k ∧ ∀ m ∈ ns, m < k := by
  intro ns
  induction ns with
  | nil =>
    intro c h
    refine ⟨?_, fun m hm => absurd hm (List.not_mem_nil)⟩
    rcases h.2 with e | ⟨e, e2 | e2⟩
    · have := h.1; omega
    · have := ((hok k e).2.2.2.2.1 (Or.inl e2.1)).1; omega
    · have := ((hok k e).2.2.2.1 (by omega)).1; omega
  | cons n ns ih =>
    intro c h
    obtain ⟨h1, h2⟩ := ih n h.2.2.2.2
    have hc : c < n := by
      rcases h.2.2.2.1 with e | e
      · have := ((hok n h.2.1).2.2.2.1 (qp_so0 h.2.2.1)).1; omega
      · have := ((hok n h.2.1).2.2.2.2.1 (Or.inr e.1)).1; omega
    refine ⟨by omega, fun m hm => ?_⟩
    rcases List.mem_cons.1 hm with e | e
    · omega
    · exact h2 m e
theorem qm_seg_cls (hok : ∀ n, n < N → qp_ok g pa n) : ∀ (ns : List Nat) (c : Nat) (ms : List Nat) (nr : Nat) (hs : List Nat) (pos e : Nat), qm_pth g N k rw c ns → qm_Seg C g k ns ms nr hs pos e → ∃ p, qm_Cls C hs p ∧ p + hs.length = e := by
  intro ns
  induction ns with
  | nil => intro c ms nr hs pos e _ h; exact ⟨pos + 1, h.2.2.1, by have := h.2.2.2; omega⟩
  | cons n ns ih =>
    intro c ms nr hs pos e hp h
    rcases qm_op_kd hok hp.2.1 hp.2.2.1 with z | z | z | z | z | z | z | z
    · exact ih n _ _ _ _ _ hp.2.2.2.2 (h.1 z).2.2.2
    · exact ih n _ _ _ _ _ hp.2.2.2.2 (h.2.1 z).2.2.2
    · exact ih n _ _ _ _ _ hp.2.2.2.2 (h.2.2.1 z).2.2.2
    · exact ih n _ _ _ _ _ hp.2.2.2.2 (h.2.2.2.1 z)
    · by_cases hj : qp_p g n = 1 ∨ qp_p g n = 2
      · exact ih n _ _ _ _ _ hp.2.2.2.2 ((h.2.2.2.2.1 z).1 hj).2.2.2
      · obtain ⟨p, h1, h2⟩ := ih n _ _ _ _ _ hp.2.2.2.2 ((h.2.2.2.2.1 z).2 hj).2.2.2.2.2
        exact ⟨p + 1, h1.2.2.2.2, by rw [List.length_cons] at h2; omega⟩
    · exact ih n _ _ _ _ _ hp.2.2.2.2 (h.2.2.2.2.2.1 z)
    · exact ih n _ _ _ _ _ hp.2.2.2.2 (h.2.2.2.2.2.2.1 z).2.2.2
    · exact ih n _ _ _ _ _ hp.2.2.2.2 (h.2.2.2.2.2.2.2 z).2.2.2
theorem qm_hit_step {key col : Int32} {T : qp_W} : ∀ d i e, i + d = e → e < T.length → qp_at (T.getD e []) col = key → (∀ j, i ≤ j → j < e → ¬ qp_at (T.getD j []) col = key) → qp_hit key col (T.drop i) = T.getD e [] :: qp_hit key col (T.drop (e + 1)) := by
  intro d
  induction d with
  | zero =>
    intro i e h1 h2 h3 _
    have : i = e := by omega
    subst this
    rw [qm_drop h2]; unfold qp_hit; rw [List.filter_cons_of_pos (by exact decide_eq_true h3)]
  | succ d ih =>
    intro i e h1 h2 h3 h4
    rw [qm_drop (i := i) (by omega)]
    have := ih (i + 1) e (by omega) h2 h3 (fun j a b => h4 j (by omega) b)
    rw [← this]
    unfold qp_hit
    rw [List.filter_cons_of_neg (by exact fun z => h4 i (by omega) (by omega) (of_decide_eq_true z))]
theorem qm_hit_end {key col : Int32} {T : qp_W} {i : Nat} (h : ∀ j, i ≤ j → j < T.length → ¬ qp_at (T.getD j []) col = key) : qp_hit key col (T.drop i) = [] := by
  rw [qm_hit_nil]
  intro y hy
  obtain ⟨j, hj, e⟩ := qm_mem_getD hy
  rw [List.length_drop] at hj
  rw [← e, List.getD_eq_getElem?_getD, List.getElem?_drop, ← List.getD_eq_getElem?_getD]
  exact h (i + j) (by omega) (by omega)
theorem qm_bl_rg {f : Nat → Int32} {b w : Nat} {y : qp_R} (h : y.length = w) : (List.range' b w).map (qb_bl f b y) = y := by
  apply qm_ext
  · rw [List.length_map, List.length_range']; exact h.symm
  · intro c hc
    rw [List.length_map, List.length_range'] at hc
    rw [qm_mg (by rw [List.length_range']; exact hc), qm_rg hc, qb_bl_in (by omega)]
theorem qm_map_lt {f f' : Nat → Int32} {ms : List Nat} {nr : Nat} (hm : ∀ m ∈ ms, m < nr) (h : ∀ i, i < nr → f' i = f i) : ms.map f' = ms.map f := List.map_congr_left (fun m hm' => h m (hm m hm'))
/-- the machine takes a row through the rest of a path and comes back to the innermost loop's head -/
def qm_PO (post : SX → Prop) (C : qm_C) (g : qp_PL) (N k rw : Nat) (path : List Nat) : Prop :=
  ∀ (c : Nat) (ms : List Nat) (nr h : Nat) (hs : List Nat) (pos e : Nat) (s : qp_S) (G : qm_G) (reg cu ky mt : Nat → Int32) (t : Nat) (x : qp_R),
    qm_Seg C g k path ms nr (h :: hs) pos e → qm_pth g N k rw c path → ms.length = qp_wd g c → (∀ m ∈ ms, m < nr) → nr ≤ 32 → hs.length < 8 → x = ms.map reg → qm_rep g N rw s G → qm_sz (qp_push g k path s x) → t + path.length ≤ 5 * qm_mu s.1 + 50100 →
    (∀ t' G' reg' cu' ky' mt', qm_rep g N rw (qp_push g k path s x) G' → (∀ i, i < nr → reg' i = reg i) → (∀ i, i < hs.length + 1 → cu' i = cu i ∧ ky' i = ky i ∧ mt' i = mt i) → t' + 5 * qm_mu s.1 ≤ t + 5 * qm_mu (qp_push g k path s x).1 + 4 → qm_E post C t' h G' reg' cu' ky' mt') →
    qm_E post C t pos G reg cu ky mt
/-- the sink -/
theorem qm_po_nil {post : SX → Prop} (hCP : qm_CP C g N) (hN : N ≤ 12) (hok : ∀ n, n < N → qp_ok g pa n) (hrw : rw ≤ 6) : qm_PO post C g N k rw [] := by
  intro c ms nr h hs pos e s G reg cu ky mt t x hS hp hml hm hnr hhs hx hrep hsz ht K
  subst hx
  obtain ⟨hK, hpos, hcl, _⟩ := hS
  have hsz0 : qm_sz s := qm_sz_le (qp_push_le g k [] s _) hsz
  have mu0 := qm_mu_sz hsz0
  have m32 : ∀ m ∈ ms, m < 32 := fun m hm' => by have := hm m hm'; omega
  have fin : ∀ G', qm_rep g N rw (qp_push g k [] s (ms.map reg)) G' → qm_E post C (t + 1) (pos + 1) G' reg cu ky mt := by
    intro G' hr
    refine qm_e15 (by omega) hcl.2.2.2.1 hcl.1 hcl.2.1 (K _ _ _ _ _ _ hr (fun _ _ => rfl) (fun _ _ => ⟨rfl, rfl, rfl⟩) ?_)
    have : qm_mu (qp_push g k [] s (ms.map reg)).1 = qm_mu s.1 := rfl
    rw [this]; omega
  have hk2 : ((qp_push g k [] s (ms.map reg)).2 k).length ≤ 24 := (hsz k).2
  have ek : (qp_push g k [] s (ms.map reg)).2 k = qp_snk g k (s.2 k) (ms.map reg) := qp_up_s (D := s.2) (n := k)
  rw [ek] at hk2
  have ep : ∀ v, qp_snk g k (s.2 k) (ms.map reg) = v → qp_push g k [] s (ms.map reg) = (s.1, qp_up s.2 k v) := fun v hv => by
    show (s.1, qp_up s.2 k (qp_snk g k (s.2 k) (ms.map reg))) = _
    rw [hv]
  rcases hp.2 with ⟨e1, e2⟩ | ⟨e1, e2⟩
  · subst e1
    have ev : qp_snk g 12 (s.2 12) (ms.map reg) = s.2 12 ++ [ms.map reg] := if_pos rfl
    rw [ev, List.length_append] at hk2
    exact qm_e14 (by omega) hpos hN hrw hrep hk2 m32 (by omega) (hK.1 rfl) (fun G' hr => fin G' (by rw [ep _ ev]; exact hr))
  · have k12 : k ≠ 12 := by omega
    rcases e2 with ⟨e2, e3⟩ | ⟨e2, e3⟩
    · have ev : qp_snk g k (s.2 k) (ms.map reg) = s.2 k ++ [ms.map reg] := by
        unfold qp_snk; rw [if_neg k12, if_neg (by omega), if_neg (by omega)]
      rw [ev, List.length_append] at hk2
      exact qm_e11 (by omega) hpos hCP hN e1 hok e2 hrep hsz0 hk2 m32 (by rw [e3]; exact hml) ((hK.2 k12).1 e2) (fun G' hr => fin G' (by rw [ep _ ev]; exact hr))
    · rcases e2 with e2 | e2
      · have ev : qp_snk g k (s.2 k) (ms.map reg) = qp_gs (qp_q g k) (qp_at (ms.map reg) (qp_p g k)) (qp_at (ms.map reg) (qp_r g k)) (s.2 k) := by
          unfold qp_snk; rw [if_neg k12, if_pos e2]
        rw [ev] at hk2
        exact qm_e12 (by omega) hpos hCP hN e1 hok e2 hrep hsz0 hk2 m32 (by rw [e3]; exact hml) ((hK.2 k12).2.2 e2) (fun G' hr => fin G' (by rw [ep _ ev]; exact hr))
      · have ev : qp_snk g k (s.2 k) (ms.map reg) = qp_ins (qp_q g k) (qp_p g k) (qp_at (ms.map reg) (qp_p g k)) (ms.map reg) (s.2 k) := by
          unfold qp_snk; rw [if_neg k12, if_neg (by omega), if_pos e2]
        rw [ev, qp_ins_len] at hk2
        exact qm_e13 (by omega) hpos hCP hN e1 hok e2 hrep hsz0 hk2 m32 (by rw [e3]; exact hml) ((hK.2 k12).2.1 e2) (fun G' hr => fin G' (by rw [ep _ ev]; exact hr))
end
end
section
/-! the operators of a path -/
section
variable {g : qp_PL} {pa : Nat → Nat} {N rw k : Nat} {C : qm_C} {post : SX → Prop}
theorem qm_push1 {n : Nat} {ns : List Nat} {s : qp_S} {x y : qp_R} (h : qp_out g n (s.2 n) (s.1 n) x = [y]) : qp_push g k (n :: ns) s x = qp_push g k ns (qp_add s n y) y := by
  show (qp_out g n (s.2 n) (s.1 n) x).foldl _ s = _
  rw [h]; rfl
theorem qm_push0 {n : Nat} {ns : List Nat} {s : qp_S} {x : qp_R} (h : qp_out g n (s.2 n) (s.1 n) x = []) : qp_push g k (n :: ns) s x = s := by
  show (qp_out g n (s.2 n) (s.1 n) x).foldl _ s = _
  rw [h]; rfl
/-- the child's width -/
theorem qm_cw (hok : ∀ n, n < N → qp_ok g pa n) {c n : Nat} (hn : n < N) (hc : c = qp_lf g n ∨ (qp_kd g n = 6 ∧ c = qp_rt g n)) : qp_wd g c = qp_wd g (qp_lf g n) := by
  rcases hc with e | ⟨e, e2⟩
  · rw [e]
  · rw [e2]; exact ((hok n hn).2.2.2.2.2.2.2.2.2.2.2.1 e).2
/-- the loop of a join: from entry i on, b: has there been a hit? -/
def qm_ml (g : qp_PL) (n : Nat) (key : Int32) (T : qp_W) (x : qp_R) (i : Nat) (b : Bool) : qp_W :=
  if qp_p g n = 3 ∧ b = false ∧ qp_hit key (qp_r g n) (T.drop i) = [] then [x ++ List.replicate (qp_wd g (qp_rt g n)) 0] else (qp_hit key (qp_r g n) (T.drop i)).map (fun y => x ++ y)
theorem qm_jloop (hCP : qm_CP C g N) (hN : N ≤ 12) (hok : ∀ n, n < N → qp_ok g pa n) {ns : List Nat} (IH : qm_PO post C g N k rw ns) {n : Nat} (hn : n < N) (hnk : n ≠ k) (hk : qp_kd g n = 5) (hp : qm_pth g N k rw n ns)
    {ms : List Nat} {nr h : Nat} {hs : List Nat} {pos e : Nat} {T : qp_W} {x : qp_R} {key : Int32} {reg cu ky mt : Nat → Int32}
    (hI : qm_In C (pos + 1) 7 (nI (hs.length + 1)) (nI n) (nI (qb_enc (List.range' nr (qp_wd g (qp_rt g n)))))) (hnr : nr + qp_wd g (qp_rt g n) ≤ 32) (hh8 : hs.length + 1 < 8) (hpos : pos + 1 < 192)
    (hS : qm_Seg C g k ns (ms ++ List.range' nr (qp_wd g (qp_rt g n))) (nr + qp_wd g (qp_rt g n)) ((pos + 1) :: h :: hs) (pos + 2) e)
    (hm : ∀ m ∈ ms, m < nr) (hwn : ms.length + qp_wd g (qp_rt g n) = qp_wd g n) (hx : x = ms.map reg) :
    ∀ (M i : Nat) (b : Bool) (s : qp_S) (G : qm_G) (reg' cu' ky' mt' : Nat → Int32) (t : Nat), 2 * (T.length - i) + (if b = true then 0 else 1) ≤ M → i ≤ T.length → s.2 n = T → qm_rep g N rw s G → (∀ j, j < nr → reg' j = reg j) → (∀ j, j < hs.length + 1 → cu' j = cu j ∧ ky' j = ky j ∧ mt' j = mt j) →
      cu' (hs.length + 1) = qm_fi (fun y => decide (qm_hf g n y = qm_bk key)) (T.drop i) i → ky' (hs.length + 1) = key → mt' (hs.length + 1) = (if b = true then 1 else 0) →
      qm_sz ((qm_ml g n key T x i b).foldl (fun s y => qp_push g k ns (qp_add s n y) y) s) → t + ns.length ≤ 5 * qm_mu s.1 + 50100 →
      (∀ t' G' reg'' cu'' ky'' mt'', qm_rep g N rw ((qm_ml g n key T x i b).foldl (fun s y => qp_push g k ns (qp_add s n y) y) s) G' → (∀ j, j < nr → reg'' j = reg j) → (∀ j, j < hs.length + 1 → cu'' j = cu j ∧ ky'' j = ky j ∧ mt'' j = mt j) →
        t' + 5 * qm_mu s.1 ≤ t + 5 * qm_mu ((qm_ml g n key T x i b).foldl (fun s y => qp_push g k ns (qp_add s n y) y) s).1 + 2 → qm_E post C t' h G' reg'' cu'' ky'' mt'') →
      qm_E post C t (pos + 1) G reg' cu' ky' mt' := by
  intro M
  induction M with
  | zero =>
    intro i b s G reg' cu' ky' mt' t hM hi hT hrep hreg hcu hc0 hk0 hm0 hsz ht K
    -- the measure is 0: i is the end and a hit has been
    have hb : b = true := by
      cases b with
      | true => rfl
      | false => exact absurd hM (by simp)
    subst hb
    have hi' : i = T.length := by simp at hM; omega
    have hsz0 : qm_sz s := qm_sz_le (qp_le_foldl _ (fun s y => qp_le_trans qp_add_le (qp_push_le _ _ _ _ _)) _ _) hsz
    have mu0 := qm_mu_sz hsz0
    obtain ⟨p, hcl, _⟩ := qm_seg_cls hok ns n _ _ _ _ _ hp hS
    have eml : qm_ml g n key T x i true = [] := by
      unfold qm_ml
      rw [if_neg (fun z => by exact absurd z.2.1 (by decide)), hi', List.drop_length]; rfl
    rw [eml] at K hsz
    have hT' : (s.2 n).length = T.length := by rw [hT]
    refine qm_e7 (i := i) (by omega) hpos hCP hN hn hok hk hrep hsz0 hh8 (by omega) hnr hk0 (by rw [hT]; exact hc0) hI hcl.2.2.1 ?_ ?_ ?_
    · intro e' h1 h2; omega
    · intro h1 h2
      refine qm_e15 (by omega) hcl.2.2.2.2.2.2.2.1 hcl.2.2.2.2.1 hcl.2.2.2.2.2.1 (K _ _ _ _ _ _ hrep hreg (fun j hj => ?_) (by show _ ≤ _ + 5 * qm_mu s.1 + 2; omega))
      rw [pk_un (by omega)]; exact hcu j hj
    · intro h1 h2 h3
      rw [hm0] at h3
      exact absurd h3 (by decide)
  | succ M ihM =>
    intro i b s G reg' cu' ky' mt' t hM hi hT hrep hreg hcu hc0 hk0 hm0 hsz ht K
    have hsz0 : qm_sz s := qm_sz_le (qp_le_foldl _ (fun s y => qp_le_trans qp_add_le (qp_push_le _ _ _ _ _)) _ _) hsz
    have mu0 := qm_mu_sz hsz0
    have n12 : n < 12 := by omega
    obtain ⟨p, hcl, _⟩ := qm_seg_cls hok ns n _ _ _ _ _ hp hS
    have hT' : (s.2 n).length = T.length := by rw [hT]
    have emx : ∀ y : qp_R, y.length = qp_wd g (qp_rt g n) → (ms ++ List.range' nr (qp_wd g (qp_rt g n))).map (qb_bl reg' nr y) = x ++ y := by
      intro y hy
      rw [List.map_append, qm_bl_rg hy, hx]
      congr 1
      exact qm_map_lt hm (fun j hj => by rw [qb_bl_out (by omega)]; exact hreg j hj)
    -- one row y out of the join, then on at (i', true)
    have one : ∀ (y : qp_R) (i' : Nat) (v : Int32), y.length = qp_wd g (qp_rt g n) → qm_ml g n key T x i b = (x ++ y) :: qm_ml g n key T x i' true → 2 * (T.length - i') ≤ M → i' ≤ T.length → v = qm_fi (fun y => decide (qm_hf g n y = qm_bk key)) (T.drop i') i' →
        qm_E post C (t + 1) (pos + 2) G (qb_bl reg' nr y) (upd cu' (hs.length + 1) v) ky' (upd mt' (hs.length + 1) 1) := by
      intro y i' v hy eml hM' hi' hv
      rw [eml] at K hsz
      have efold : ((x ++ y) :: qm_ml g n key T x i' true).foldl (fun s y => qp_push g k ns (qp_add s n y) y) s = (qm_ml g n key T x i' true).foldl (fun s y => qp_push g k ns (qp_add s n y) y) (qp_push g k ns (qp_add s n (x ++ y)) (x ++ y)) := rfl
      rw [efold] at K hsz
      have hmu : qm_mu (qp_add s n (x ++ y)).1 = qm_mu s.1 + 1 := qm_mu_add n12
      have szi : qm_sz (qp_push g k ns (qp_add s n (x ++ y)) (x ++ y)) := qm_sz_le (qp_le_foldl _ (fun s y => qp_le_trans qp_add_le (qp_push_le _ _ _ _ _)) _ _) hsz
      refine IH n _ _ (pos + 1) (h :: hs) (pos + 2) e (qp_add s n (x ++ y)) G _ _ _ _ (t + 1) (x ++ y) hS hp ?_ ?_ hnr (by simp only [List.length_cons]; omega) (emx y hy).symm (qm_rep_add (by omega) (by omega) hrep) szi (by omega) ?_
      · rw [List.length_append, List.length_range']; exact hwn
      · intro m hm'
        rcases List.mem_append.1 hm' with e | e
        · have := hm m e; omega
        · rw [List.mem_range'_1] at e; omega
      · intro t3 G3 reg3 cu3 ky3 mt3 hr3 hreg3 hcu3 ht3
        have hlen : (h :: hs).length = hs.length + 1 := rfl
        rw [hlen] at hcu3
        have hmid : qm_mu (qp_push g k ns (qp_add s n (x ++ y)) (x ++ y)).1 ≤ 288 := qm_mu_sz szi
        have c3 := hcu3 (hs.length + 1) (by omega)
        refine ihM i' true (qp_push g k ns (qp_add s n (x ++ y)) (x ++ y)) G3 reg3 cu3 ky3 mt3 t3 (by simp only [if_true]; omega) hi' ?_ hr3 ?_ ?_ ?_ ?_ ?_ hsz (by omega) ?_
        · rw [(qp_push_fr g k ns (qp_add s n (x ++ y)) (x ++ y)).2 n hnk]; exact hT
        · intro j hj
          rw [hreg3 j (by omega), qb_bl_out (by omega)]; exact hreg j hj
        · intro j hj
          obtain ⟨a1, a2, a3⟩ := hcu3 j (by omega)
          obtain ⟨b1, b2, b3⟩ := hcu j hj
          rw [pk_un (by omega)] at a1 a3
          exact ⟨a1.trans b1, a2.trans b2, a3.trans b3⟩
        · rw [c3.1, pk_us]; exact hv
        · rw [c3.2.1]; exact hk0
        · rw [c3.2.2, pk_us]; rfl
        · intro t' G' reg'' cu'' ky'' mt'' r1 r2 r3 r4
          exact K t' G' reg'' cu'' ky'' mt'' r1 r2 r3 (by omega)
    refine qm_e7 (i := i) (by omega) hpos hCP hN hn hok hk hrep hsz0 hh8 (by omega) hnr hk0 (by rw [hT]; exact hc0) hI hcl.2.2.1 ?_ ?_ ?_
    · rw [hT]
      intro e' h1 h2 h3 h4 h5
      have hst := qm_hit_step (e' - i) i e' (by omega) h2 h3 h4
      refine one _ (e' + 1) _ h5 ?_ (by cases b <;> simp at hM <;> omega) (by omega) rfl
      unfold qm_ml
      rw [if_neg (by intro z; rw [hst] at z; exact absurd z.2.2 (by simp)), if_neg (by intro z; exact absurd z.2.1 (by decide)), hst]; rfl
    · rw [hT]
      intro h1 h2
      have hend := qm_hit_end (T := T) (i := i) h1
      have eml : qm_ml g n key T x i b = [] := by
        unfold qm_ml
        rw [hend, if_neg]
        · rfl
        · rintro ⟨z1, z2, _⟩
          rcases h2 with h2 | h2
          · exact h2 z1
          · rw [hm0, z2] at h2; exact h2 rfl
      rw [eml] at K hsz
      refine qm_e15 (by omega) hcl.2.2.2.2.2.2.2.1 hcl.2.2.2.2.1 hcl.2.2.2.2.2.1 (K _ _ _ _ _ _ hrep hreg (fun j hj => ?_) (by show _ ≤ _ + 5 * qm_mu s.1 + 2; omega))
      rw [pk_un (by omega)]; exact hcu j hj
    · rw [hT]
      intro h1 h2 h3
      have hend := qm_hit_end (T := T) (i := i) h1
      have hb : b = false := by
        cases b with
        | false => rfl
        | true => rw [hm0] at h3; exact absurd h3 (by decide)
      subst hb
      refine one _ T.length _ (List.length_replicate ..) ?_ (by simp) (Nat.le_refl _) (by rw [List.drop_length]; rfl)
      unfold qm_ml
      rw [if_pos ⟨h2, rfl, hend⟩, if_neg (by intro z; exact absurd z.2.1 (by decide)), List.drop_length]; rfl
end
end
section
/-! all operators; a whole path -/
section
variable {g : qp_PL} {pa : Nat → Nat} {N rw k : Nat} {C : qm_C} {post : SX → Prop}
theorem qp_out1 {n : Nat} {S D : qp_W} {x : qp_R} (h : qp_kd g n = 1) : qp_out g n S D x = (if qp_cmp (qp_q g n) (qp_at x (qp_p g n)) (qp_r g n) = true then [x] else []) := by
  unfold qp_out; rw [if_pos h]
theorem qp_out2 {n : Nat} {S D : qp_W} {x : qp_R} (h : qp_kd g n = 2) : qp_out g n S D x = (if qp_cmp (qp_q g n) (qp_at x (qp_p g n)) (qp_at x (qp_r g n)) = true then [x] else []) := by
  unfold qp_out; rw [if_neg (by omega), if_pos h]
theorem qp_out3 {n : Nat} {S D : qp_W} {x : qp_R} (h : qp_kd g n = 3) : qp_out g n S D x = [x ++ [qp_calc (qp_p g n) (qp_at x (qp_q g n)) (qp_at x (qp_r g n))]] := by
  unfold qp_out; rw [if_neg (by omega), if_neg (by omega), if_pos h]
theorem qp_out4 {n : Nat} {S D : qp_W} {x : qp_R} (h : qp_kd g n = 4) : qp_out g n S D x = [qp_prj (qp_p g n) (qp_q g n).toNatClampNeg x] := by
  unfold qp_out; rw [if_neg (by omega), if_neg (by omega), if_neg (by omega), if_pos h]
theorem qp_out5 {n : Nat} {S D : qp_W} {x : qp_R} (h : qp_kd g n = 5) : qp_out g n S D x = qp_join (qp_p g n) (qp_at x (qp_q g n)) (qp_r g n) (qp_wd g (qp_rt g n)) S x := by
  unfold qp_out; rw [if_neg (by omega), if_neg (by omega), if_neg (by omega), if_neg (by omega), if_pos h]
theorem qp_out8 {n : Nat} {S D : qp_W} {x : qp_R} (h : qp_kd g n = 8) : qp_out g n S D x = (if x ∈ D then [] else [x]) := by
  unfold qp_out; rw [if_neg (by omega), if_neg (by omega), if_neg (by omega), if_neg (by omega), if_neg (by omega), if_pos h]
theorem qp_out9 {n : Nat} {S D : qp_W} {x : qp_R} (h : qp_kd g n = 9) : qp_out g n S D x = (if D.length < (qp_p g n).toNatClampNeg then [x] else []) := by
  unfold qp_out; rw [if_neg (by omega), if_neg (by omega), if_neg (by omega), if_neg (by omega), if_neg (by omega), if_neg (by omega), if_pos h]
theorem qp_out6 {n : Nat} {S D : qp_W} {x : qp_R} (h : qp_kd g n = 6) : qp_out g n S D x = [x] := by
  unfold qp_out; rw [if_neg (by omega), if_neg (by omega), if_neg (by omega), if_neg (by omega), if_neg (by omega), if_neg (by omega), if_neg (by omega)]
theorem qm_po_cons (hCP : qm_CP C g N) (hN : N ≤ 12) (hok : ∀ n, n < N → qp_ok g pa n) {n : Nat} {ns : List Nat} (IH : qm_PO post C g N k rw ns) : qm_PO post C g N k rw (n :: ns) := by
  intro c ms nr h hs pos e s G reg cu ky mt t x hS hp hml hm hnr hhs hx hrep hsz ht K
  obtain ⟨hcN, hn, hso, hch, hp'⟩ := hp
  have n12 : n < 12 := by omega
  have hcw := qm_cw hok hn hch
  rw [hcw] at hml
  have hlN : qp_lf g n < N := by have := ((hok n hn).2.2.2.1 (qp_so0 hso)).1; omega
  have W6 : qp_wd g (qp_lf g n) ≤ 6 := (hok _ hlN).2.2.1
  have hsz0 : qm_sz s := qm_sz_le (qp_push_le g k (n :: ns) s _) hsz
  have mu0 := qm_mu_sz hsz0
  have m32 : ∀ m ∈ ms, m < 32 := fun m hm' => by have := hm m hm'; omega
  have hlen : (n :: ns).length = ns.length + 1 := rfl
  have ed : (h :: hs).headD 0 = h := rfl
  have hll : (h :: hs).length = hs.length + 1 := rfl
  have hnk : n ≠ k := by have := (qm_pth_lt hok hN ns n hp').1; omega
  obtain ⟨s1, s2, s3, s4, s5, s6, s8, s9⟩ := hS
  have PR := (hok n hn).2.2.2.2.2
  -- one row out, then on
  have go : ∀ (y : qp_R) (ms' : List Nat) (nr' : Nat) (reg' : Nat → Int32) (G' : qm_G) (pos' t1 : Nat), qp_out g n (s.2 n) (s.1 n) x = [y] → qm_Seg C g k ns ms' nr' (h :: hs) pos' e → ms'.length = qp_wd g n → (∀ m ∈ ms', m < nr') → nr ≤ nr' → nr' ≤ 32 → y = ms'.map reg' → (∀ i, i < nr → reg' i = reg i) →
      qm_rep g N rw (qp_add s n y) G' → t1 ≤ t + 1 → t ≤ t1 → qm_E post C t1 pos' G' reg' cu ky mt := by
    intro y ms' nr' reg' G' pos' t1 ho hS' hw' hm' hn1 hn2 hy hreg hr h1 h2
    have ep : qp_push g k (n :: ns) s x = qp_push g k ns (qp_add s n y) y := qm_push1 ho
    rw [ep] at K hsz
    have hmu : qm_mu (qp_add s n y).1 = qm_mu s.1 + 1 := qm_mu_add n12
    refine IH n ms' nr' h hs pos' e (qp_add s n y) G' reg' cu ky mt t1 y hS' hp' hw' hm' hn2 hhs hy hr hsz (by omega) ?_
    intro t' G'' reg'' cu'' ky'' mt'' r1 r2 r3 r4
    exact K t' G'' reg'' cu'' ky'' mt'' r1 (fun i hi => (r2 i (by omega)).trans (hreg i hi)) r3 (by omega)
  have stop : qp_out g n (s.2 n) (s.1 n) x = [] → qm_E post C (t + 1) h G reg cu ky mt := by
    intro ho
    have ep : qp_push g k (n :: ns) s x = s := qm_push0 ho
    rw [ep] at K
    exact K (t + 1) G reg cu ky mt hrep (fun _ _ => rfl) (fun _ _ => ⟨rfl, rfl, rfl⟩) (by omega)
  rcases qm_op_kd hok hn hso with z | z | z | z | z | z | z | z
  · -- filter
    obtain ⟨i1, i2, i3, i4⟩ := s1 z
    obtain ⟨p1, p2, p3⟩ := PR.2.1 z
    obtain ⟨ep, lp⟩ := qm_at_reg (reg := reg) p1 hml W6
    rw [ed] at i2
    refine qm_e3 (by omega) i3 i1 i2 (qm_m32 m32 lp) p2 ?_
    have ho := qp_out1 (S := s.2 n) (D := s.1 n) (x := x) z
    rw [hx, ep, ← hx] at ho
    by_cases hc : qp_cmp (qp_q g n) (reg (ms.getD (qp_p g n).toNatClampNeg 0)) (qp_r g n) = true
    · rw [if_pos hc] at ho ⊢
      exact go x ms nr reg G _ _ ho i4 (by omega) hm (Nat.le_refl _) hnr hx (fun _ _ => rfl) (qm_rep_add (by omega) (by omega) hrep) (by omega) (by omega)
    · rw [if_neg hc] at ho ⊢
      exact stop ho
  · -- filterCols
    obtain ⟨i1, i2, i3, i4⟩ := s2 z
    obtain ⟨p1, p2, p3, p4⟩ := PR.2.2.1 z
    obtain ⟨ep, lp⟩ := qm_at_reg (reg := reg) p1 hml W6
    obtain ⟨er, lr⟩ := qm_at_reg (reg := reg) p3 hml W6
    rw [ed] at i2
    refine qm_e4 (by omega) i3 i1 i2 (qm_m32 m32 lp) (qm_m32 m32 lr) p2 ?_
    have ho := qp_out2 (S := s.2 n) (D := s.1 n) (x := x) z
    rw [hx, ep, er, ← hx] at ho
    by_cases hc : qp_cmp (qp_q g n) (reg (ms.getD (qp_p g n).toNatClampNeg 0)) (reg (ms.getD (qp_r g n).toNatClampNeg 0)) = true
    · rw [if_pos hc] at ho ⊢
      exact go x ms nr reg G _ _ ho i4 (by omega) hm (Nat.le_refl _) hnr hx (fun _ _ => rfl) (qm_rep_add (by omega) (by omega) hrep) (by omega) (by omega)
    · rw [if_neg hc] at ho ⊢
      exact stop ho
  · -- map
    obtain ⟨i1, i2, i3, i4⟩ := s3 z
    obtain ⟨p1, p2, p3, p4⟩ := PR.2.2.2.1 z
    obtain ⟨ep, lp⟩ := qm_at_reg (reg := reg) p2 hml W6
    obtain ⟨er, lr⟩ := qm_at_reg (reg := reg) p3 hml W6
    refine qm_e5 (by omega) i3 i1 (qm_m32 m32 lp) (qm_m32 m32 lr) i2 p1 ?_
    have ho := qp_out3 (S := s.2 n) (D := s.1 n) (x := x) z
    rw [← hx] at ep er
    rw [ep, er] at ho
    refine go _ (ms ++ [nr]) (nr + 1) _ G _ _ ho i4 (by rw [List.length_append]; show ms.length + 1 = _; omega) ?_ (by omega) (by omega) ?_ (fun i hi => pk_un (by omega)) (qm_rep_add (by omega) (by omega) hrep) (by omega) (by omega)
    · intro m hm'
      rcases List.mem_append.1 hm' with e | e
      · have := hm m e; omega
      · rw [List.mem_singleton.1 e]; omega
    · rw [List.map_append, hx, qm_map_lt hm (f' := upd reg nr _) (f := reg) (fun i hi => pk_un (by omega))]
      show _ = _ ++ [upd reg nr _ nr]
      rw [pk_us]
  · -- project
    have i4 := s4 z
    obtain ⟨p1, p2⟩ := PR.2.2.2.2.1 z
    have ho := qp_out4 (S := s.2 n) (D := s.1 n) (x := x) z
    have hw6 := (hok n hn).2.2.1
    have eq : (qp_q g n).toNatClampNeg = qp_wd g n := qb_tn (by omega) p1
    rw [eq] at ho
    refine go _ (qm_pj g n ms) nr reg G _ _ ho i4 (by unfold qm_pj; rw [List.length_map, List.length_range]) ?_ (Nat.le_refl _) hnr ?_ (fun _ _ => rfl) (qm_rep_add (by omega) (by omega) hrep) (by omega) (by omega)
    · intro m hm'
      unfold qm_pj at hm'
      obtain ⟨i, hi, ei⟩ := List.mem_map.1 hm'
      rw [List.mem_range] at hi
      have hc := p2 i hi
      rw [← ei, List.getD_eq_getElem?_getD, List.getElem?_eq_getElem (by omega)]
      exact hm _ (List.getElem_mem _)
    · unfold qp_prj qm_pj
      rw [List.map_map]
      apply List.map_congr_left
      intro i hi
      rw [List.mem_range] at hi
      have hc := p2 i hi
      rw [hx, qm_mg (by omega)]; rfl
  · -- join
    have i5 := s5 z
    obtain ⟨p1, p2, p3, p4⟩ := PR.2.2.2.2.2.1 z
    obtain ⟨ep, lp⟩ := qm_at_reg (reg := reg) p2 hml W6
    have rlt := ((hok n hn).2.2.2.2.1 (Or.inl z)).1
    have ho := qp_out5 (S := s.2 n) (D := s.1 n) (x := x) z
    rw [← hx] at ep
    rw [ep] at ho
    by_cases hj : qp_p g n = 1 ∨ qp_p g n = 2
    · obtain ⟨j1, j2, j3, j4⟩ := i5.1 hj
      rw [ed] at j2
      have wn : qp_wd g n = qp_wd g (qp_lf g n) := by
        rw [p4, if_neg]
        rcases hj with e | e <;> rw [e] <;> decide
      have pass : qp_out g n (s.2 n) (s.1 n) x = [x] → qm_E post C (t + 1) (pos + 1) G reg cu ky mt := fun ho => go x ms nr reg G _ _ ho j4 (by omega) hm (Nat.le_refl _) hnr hx (fun _ _ => rfl) (qm_rep_add (by omega) (by omega) hrep) (by omega) (by omega)
      refine qm_e8 (by omega) j3 hCP hN hn hok z hrep hsz0 (qm_m32 m32 lp) j1 j2 (fun h0 => ?_) (fun h1 => ?_)
      · unfold qp_join at ho
        by_cases e1 : qp_p g n = 1
        · rw [if_pos (decide_eq_true e1)]
          rw [if_pos e1, if_pos h0] at ho
          exact stop ho
        · have e2 := hj.resolve_left e1
          rw [if_neg (fun q => e1 (of_decide_eq_true q))]
          rw [if_neg e1, if_pos e2, if_pos h0] at ho
          exact pass ho
      · unfold qp_join at ho
        by_cases e1 : qp_p g n = 1
        · rw [if_pos (decide_eq_true e1)]
          rw [if_pos e1, if_neg h1] at ho
          exact pass ho
        · have e2 := hj.resolve_left e1
          rw [if_neg (fun q => e1 (of_decide_eq_true q))]
          rw [if_neg e1, if_pos e2, if_neg h1] at ho
          exact stop ho
    · obtain ⟨j1, j2, j3, j4, j5, j6⟩ := i5.2 hj
      rw [hll] at j1 j2 j4
      have e1 : ¬ qp_p g n = 1 := fun e => hj (Or.inl e)
      have e2 : ¬ qp_p g n = 2 := fun e => hj (Or.inr e)
      have wn : ms.length + qp_wd g (qp_rt g n) = qp_wd g n := by
        rw [p4, if_pos]
        · omega
        · obtain ⟨a, ha, ea⟩ := p1
          rw [ea] at e1 e2 ⊢
          match a, ha with
          | 0, _ => exact Or.inl rfl
          | 1, _ => exact absurd rfl e1
          | 2, _ => exact absurd rfl e2
          | 3, _ => exact Or.inr rfl
      refine qm_e6 (by omega) (by omega) j4 n12 (qm_m32 m32 lp) j1 ?_
      have R := hrep.1 n hn
      unfold qm_rep1 at R
      rw [qm_st_s2 (by omega) (by omega)] at R
      have hcR := (R.2.2 (Or.inl z)).1 _ (qm_bk_lt (reg (ms.getD (qp_q g n).toNatClampNeg 0)))
      have eml : qp_out g n (s.2 n) (s.1 n) x = qm_ml g n (reg (ms.getD (qp_q g n).toNatClampNeg 0)) (s.2 n) x 0 false := by
        rw [ho]
        unfold qp_join qm_ml
        rw [if_neg e1, if_neg e2, List.drop_zero]
        by_cases e3 : qp_p g n = 3 ∧ qp_hit (reg (ms.getD (qp_q g n).toNatClampNeg 0)) (qp_r g n) (s.2 n) = []
        · rw [if_pos e3, if_pos ⟨e3.1, rfl, e3.2⟩]
        · rw [if_neg e3, if_neg (fun q => e3 ⟨q.1, q.2.2⟩)]
      have epush : qp_push g k (n :: ns) s x = (qm_ml g n (reg (ms.getD (qp_q g n).toNatClampNeg 0)) (s.2 n) x 0 false).foldl (fun s y => qp_push g k ns (qp_add s n y) y) s := by
        show (qp_out g n (s.2 n) (s.1 n) x).foldl _ s = _
        rw [eml]
      rw [epush] at K hsz
      refine qm_jloop hCP hN hok IH hn hnk z hp' (T := s.2 n) (x := x) (reg := reg) (cu := cu) (ky := ky) (mt := mt) j2 j3 j4 j5 j6 hm wn hx _ 0 false s G reg _ _ _ (t + 1) (Nat.le_refl _) (Nat.zero_le _) rfl hrep (fun _ _ => rfl) (fun j hj => ⟨pk_un (by omega), pk_un (by omega), pk_un (by omega)⟩) ?_ pk_us pk_us hsz (by omega) ?_
      · rw [pk_us, List.drop_zero]; exact hcR
      · intro t' G' reg'' cu'' ky'' mt'' r1 r2 r3 r4
        exact K t' G' reg'' cu'' ky'' mt'' r1 r2 r3 (by omega)
  · -- union
    have i4 := s6 z
    obtain ⟨p1, p2⟩ := PR.2.2.2.2.2.2.1 z
    exact go x ms nr reg G _ _ (qp_out6 z) i4 (by omega) hm (Nat.le_refl _) hnr hx (fun _ _ => rfl) (qm_rep_add (by omega) (by omega) hrep) (by omega) (by omega)
  · -- distinct
    obtain ⟨i1, i2, i3, i4⟩ := s8 z
    have p1 := PR.2.2.2.2.2.2.2.2.1 z
    rw [ed] at i2
    have ho := qp_out8 (S := s.2 n) (D := s.1 n) (x := x) z
    refine qm_e9 (by omega) i3 hN hn hok z hrep hsz0 ?_ m32 (by omega) i1 i2 (fun hin => ?_) (fun hin G' hr => ?_)
    · intro hin
      rw [← hx] at hin
      rw [if_neg hin] at ho
      have ep : qp_push g k (n :: ns) s x = qp_push g k ns (qp_add s n x) x := qm_push1 ho
      have h1 := (hsz n).1
      rw [ep] at h1
      have h2 := (qp_push_le g k ns (qp_add s n x) x n).1
      have h3 : ((qp_add s n x).1 n).length = (s.1 n).length + 1 := by
        show (qp_up s.1 n (s.1 n ++ [x]) n).length = _
        rw [qp_up_s, List.length_append]; rfl
      omega
    · rw [← hx] at hin
      rw [if_pos hin] at ho
      exact stop ho
    · rw [← hx] at hin hr
      rw [if_neg hin] at ho
      exact go x ms nr reg G' _ _ ho i4 (by omega) hm (Nat.le_refl _) hnr hx (fun _ _ => rfl) hr (by omega) (by omega)
  · -- limit
    obtain ⟨i1, i2, i3, i4⟩ := s9 z
    obtain ⟨p1, p2⟩ := PR.2.2.2.2.2.2.2.2.2.1 z
    rw [ed] at i2
    have ho := qp_out9 (S := s.2 n) (D := s.1 n) (x := x) z
    refine qm_e10 (by omega) i3 hCP hN hn hok z hrep hsz0 x i1 i2 (fun hin => ?_) (fun hin G' hr => ?_)
    · rw [if_neg hin] at ho
      exact stop ho
    · rw [if_pos hin] at ho
      exact go x ms nr reg G' _ _ ho i4 (by omega) hm (Nat.le_refl _) hnr hx (fun _ _ => rfl) hr (by omega) (by omega)
theorem qm_po (hCP : qm_CP C g N) (hN : N ≤ 12) (hok : ∀ n, n < N → qp_ok g pa n) (hrw : rw ≤ 6) : ∀ ns, qm_PO post C g N k rw ns := by
  intro ns
  induction ns with
  | nil => exact qm_po_nil hCP hN hok hrw
  | cons n ns ih => exact qm_po_cons hCP hN hok ih
end
end
section
/-! pipelines, the whole program, execute -/
def qm_Pipe (C : qm_C) (g : qp_PL) (k c : Nat) (ns : List Nat) (pos e : Nat) : Prop :=
  qm_In C pos 1 0 0 0 ∧ pos + 1 < 192 ∧ qm_In C (pos + 1) 2 0 (nI c) (nI (qb_enc (List.range' 0 (qp_wd g c)))) ∧ qm_Seg C g k ns (List.range' 0 (qp_wd g c)) (qp_wd g c) [pos + 1] (pos + 2) e
def qm_Prog (C : qm_C) (g : qp_PL) : List (Nat × Nat × List Nat) → Nat → Nat → Prop
  | [], pos, e => e = pos
  | q :: l, pos, e => ∃ m, qm_Pipe C g q.1 q.2.1 q.2.2 pos m ∧ qm_Prog C g l m e
section
variable {g : qp_PL} {pa : Nat → Nat} {N rw k : Nat} {C : qm_C} {post : SX → Prop}
theorem qm_pipe_run (hCP : qm_CP C g N) (hN : N ≤ 12) (hok : ∀ n, n < N → qp_ok g pa n) (hrw : rw ≤ 6) {c : Nat} {ns : List Nat} {pos e : Nat} (hP : qm_Pipe C g k c ns pos e) (hp : qm_pth g N k rw c ns) (hcN : c < N) (hso : qp_so g c) (hns : ns.length ≤ 12)
    {s : qp_S} {G : qm_G} {reg cu ky mt : Nat → Int32} {t : Nat} (hrep : qm_rep g N rw s G) (hsz : qm_sz (qp_pipe g s (k, c, ns))) (ht : t + 50 ≤ 5 * qm_mu s.1 + 50100)
    (K : ∀ t' G' reg' cu' ky' mt', qm_rep g N rw (qp_pipe g s (k, c, ns)) G' → t' + 5 * qm_mu s.1 ≤ t + 5 * qm_mu (qp_pipe g s (k, c, ns)).1 + 2 → qm_E post C t' e G' reg' cu' ky' mt') : qm_E post C t pos G reg cu ky mt := by
  obtain ⟨h1, h2, h3, h4⟩ := hP
  have hck : c ≠ k := by have := (qm_pth_lt hok hN ns c hp).1; omega
  have w6 := (hok c hcN).2.2.1
  obtain ⟨p, hcl, he⟩ := qm_seg_cls hok ns c _ _ _ _ _ hp h4
  have he' : p + 1 = e := he
  have hsz0 : qm_sz s := qm_sz_le (qp_pipe_le g s (k, c, ns)) hsz
  have mu0 := qm_mu_sz hsz0
  have c12 : c < 12 := by omega
  have PO := qm_po (post := post) (C := C) (k := k) hCP hN hok hrw ns
  have L : ∀ (R : qp_W) (d i : Nat) (s' : qp_S) (G' : qm_G) (reg' cu' ky' mt' : Nat → Int32) (t' : Nat), i + d = R.length → qp_rows g s' c = R → qm_rep g N rw s' G' → cu' 0 = nI i → qm_sz ((R.drop i).foldl (fun s x => qp_push g k ns (qp_add s c x) x) s') → t' + 40 ≤ 5 * qm_mu s'.1 + 50100 →
      (∀ t'' G'' reg'' cu'' ky'' mt'', qm_rep g N rw ((R.drop i).foldl (fun s x => qp_push g k ns (qp_add s c x) x) s') G'' → t'' + 5 * qm_mu s'.1 ≤ t' + 5 * qm_mu ((R.drop i).foldl (fun s x => qp_push g k ns (qp_add s c x) x) s').1 + 1 → qm_E post C t'' e G'' reg'' cu'' ky'' mt'') →
      qm_E post C t' (pos + 1) G' reg' cu' ky' mt' := by
    intro R d
    induction d with
    | zero =>
      intro i s' G' reg' cu' ky' mt' t' hi hR hr hcu sz tt K'
      have szs : qm_sz s' := qm_sz_le (qp_le_foldl _ (fun s y => qp_le_trans qp_add_le (qp_push_le _ _ _ _ _)) _ _) sz
      have mus := qm_mu_sz szs
      have e0 : R.drop i = [] := List.drop_eq_nil_of_le (by omega)
      rw [e0] at K'
      refine qm_e2 (i := i) (by omega) h2 hCP hN hcN (hok c hcN) hso hr szs h3 hcl.2.2.1 (by rw [hR]; omega) hcu (fun _ => ?_) (fun hlt => ?_)
      · rw [he']
        exact K' (t' + 1) G' reg' cu' ky' mt' hr (by show _ ≤ _ + 5 * qm_mu s'.1 + 1; omega)
      · rw [hR] at hlt; omega
    | succ d ih =>
      intro i s' G' reg' cu' ky' mt' t' hi hR hr hcu sz tt K'
      have szs : qm_sz s' := qm_sz_le (qp_le_foldl _ (fun s y => qp_le_trans qp_add_le (qp_push_le _ _ _ _ _)) _ _) sz
      have mus := qm_mu_sz szs
      have hlt : i < R.length := by omega
      rw [qm_drop hlt] at K' sz
      have efold : (R.getD i [] :: R.drop (i + 1)).foldl (fun s x => qp_push g k ns (qp_add s c x) x) s' = (R.drop (i + 1)).foldl (fun s x => qp_push g k ns (qp_add s c x) x) (qp_push g k ns (qp_add s' c (R.getD i [])) (R.getD i [])) := rfl
      rw [efold] at K' sz
      have szi : qm_sz (qp_push g k ns (qp_add s' c (R.getD i [])) (R.getD i [])) := qm_sz_le (qp_le_foldl _ (fun s y => qp_le_trans qp_add_le (qp_push_le _ _ _ _ _)) _ _) sz
      have hmu : qm_mu (qp_add s' c (R.getD i [])).1 = qm_mu s'.1 + 1 := qm_mu_add c12
      refine qm_e2 (i := i) (by omega) h2 hCP hN hcN (hok c hcN) hso hr szs h3 hcl.2.2.1 (by rw [hR]; omega) hcu (fun hq => ?_) (fun _ => ?_)
      · rw [hR] at hq; omega
      · rw [hR]
        have hrl : (R.getD i []).length = qp_wd g c := by
          have hm := qm_getD_mem hlt
          rw [← hR] at hm ⊢
          unfold qp_rows at hm ⊢
          by_cases z : qp_kd g c = 0
          · rw [if_pos z] at hm ⊢
            exact ((hok c hcN).2.2.2.2.2.1 z).2.2 _ hm
          · rw [if_neg z] at hm ⊢
            have RR := hr.1 c hcN
            unfold qm_rep1 at RR
            have z7 := hso.resolve_left z
            rw [qm_st_s2 (by omega) (by omega), show qm_sw g c = qp_wd g c from if_neg (by omega)] at RR
            exact (RR.2.1 (by omega)).1 _ hm
        have hk8 : qp_kd g c ≠ 8 ∧ qp_kd g c ≠ 9 := by rcases hso with z | z | z <;> omega
        refine PO c (List.range' 0 (qp_wd g c)) (qp_wd g c) (pos + 1) [] (pos + 2) e (qp_add s' c (R.getD i [])) G' _ _ _ _ (t' + 1) (R.getD i []) h4 hp List.length_range' (fun m hm => by rw [List.mem_range'_1] at hm; omega) (by omega) (by show 0 < 8; omega) (qm_bl_rg hrl).symm (qm_rep_add hk8.1 hk8.2 hr) szi (by omega) ?_
        intro t3 G3 reg3 cu3 ky3 mt3 r1 r2 r3 r4
        refine ih (i + 1) (qp_push g k ns (qp_add s' c (R.getD i [])) (R.getD i [])) G3 reg3 cu3 ky3 mt3 t3 (by omega) ?_ r1 ?_ sz (by omega) ?_
        · rw [← hR]
          unfold qp_rows
          by_cases z : qp_kd g c = 0
          · rw [if_pos z, if_pos z]
          · rw [if_neg z, if_neg z, (qp_push_fr g k ns _ _).2 c hck]; rfl
        · rw [(r3 0 (by show 0 < 1; omega)).1, pk_us]
        · intro t'' G'' reg'' cu'' ky'' mt'' q1 q2
          exact K' t'' G'' reg'' cu'' ky'' mt'' q1 (by omega)
  refine qm_e1 (by omega) (by omega) h1 ?_
  refine L (qp_rows g s c) (qp_rows g s c).length 0 s G reg _ ky mt (t + 1) (by omega) rfl hrep pk_us hsz (by omega) ?_
  intro t'' G'' reg'' cu'' ky'' mt'' q1 q2
  have q2' : t'' + 5 * qm_mu s.1 ≤ t + 1 + 5 * qm_mu (qp_pipe g s (k, c, ns)).1 + 1 := q2
  exact K t'' G'' reg'' cu'' ky'' mt'' q1 (by omega)
theorem qm_prog_run (hCP : qm_CP C g N) (hN : N ≤ 12) (hok : ∀ n, n < N → qp_ok g pa n) (hrw : rw ≤ 6) {e : Nat} : ∀ (l : List (Nat × Nat × List Nat)) (pos : Nat) (s : qp_S) (G : qm_G) (reg cu ky mt : Nat → Int32) (t : Nat),
    qm_Prog C g l pos e → (∀ q ∈ l, qm_pth g N q.1 rw q.2.1 q.2.2 ∧ q.2.1 < N ∧ qp_so g q.2.1 ∧ q.2.2.length ≤ 12) → qm_rep g N rw s G → qm_sz (qp_exec g l s) → t + 2 * l.length + 50 ≤ 5 * qm_mu s.1 + 50100 →
    (∀ t' G' reg' cu' ky' mt', qm_rep g N rw (qp_exec g l s) G' → t' + 5 * qm_mu s.1 ≤ t + 5 * qm_mu (qp_exec g l s).1 + 2 * l.length → qm_E post C t' e G' reg' cu' ky' mt') → qm_E post C t pos G reg cu ky mt := by
  intro l
  induction l with
  | nil =>
    intro pos s G reg cu ky mt t hP _ hrep hsz ht K
    have : e = pos := hP
    subst this
    exact K t G reg cu ky mt hrep (by show _ ≤ t + 5 * qm_mu s.1 + 0; omega)
  | cons q l ih =>
    intro pos s G reg cu ky mt t hP hq hrep hsz ht K
    obtain ⟨m, h1, h2⟩ := hP
    obtain ⟨q1, q2, q3, q4⟩ := hq q (List.mem_cons_self ..)
    have hll : (q :: l).length = l.length + 1 := rfl
    have szi : qm_sz (qp_pipe g s (q.1, q.2.1, q.2.2)) := qm_sz_le (qp_exec_le g l _) hsz
    refine qm_pipe_run hCP hN hok hrw h1 q1 q2 q3 q4 hrep szi (by omega) ?_
    intro t' G' reg' cu' ky' mt' r1 r2
    refine ih m (qp_pipe g s (q.1, q.2.1, q.2.2)) G' reg' cu' ky' mt' t' h2 (fun z hz => hq z (List.mem_cons_of_mem _ hz)) r1 hsz (by omega) ?_
    intro t'' G'' reg'' cu'' ky'' mt'' p1 p2
    have p2' : t'' + 5 * qm_mu (qp_pipe g s (q.1, q.2.1, q.2.2)).1 ≤ t' + 5 * qm_mu (qp_exec g (q :: l) s).1 + 2 * l.length := p2
    exact K t'' G'' reg'' cu'' ky'' mt'' p1 (by omega)
end
theorem qm_repl {w c : Nat} {v : Int32} (h : c < w) : (List.replicate w v).getD c 0 = v := by
  rw [List.getD_eq_getElem?_getD, List.getElem?_replicate, if_pos h]; rfl
section
variable {f_tables f_nodes f_codeLen f_rowMap f_rowWidth f_nextReg f_loops f_resRows f_resWidth : Int32} {a_tabWidth a_tabRows a_tab a_kind a_left a_right a_parent a_p a_q a_r a_nodeWidth a_bound a_wanted a_cOp a_cA a_cB a_cC a_cD a_loopHead a_todo a_reg a_cursor a_loopKey a_met a_store a_storeRows a_headOf a_tailOf a_link a_result : Nat → Int32}
theorem qm_execute {post : SX → Prop} {g : qp_PL} {pa : Nat → Nat} {N rw e : Nat} {l : List (Nat × Nat × List Nat)} (hCP : qm_CP (f_tables, f_nodes, f_codeLen, f_rowMap, f_rowWidth, f_nextReg, f_loops, f_resWidth, a_tabWidth, a_tabRows, a_tab, a_kind, a_left, a_right, a_parent, a_p, a_q, a_r, a_nodeWidth, a_bound, a_wanted, a_cOp, a_cA, a_cB, a_cC, a_cD, a_loopHead, a_todo) g N) (hN : N ≤ 12) (hok : ∀ n, n < N → qp_ok g pa n) (hrw : rw ≤ 6) (hP : qm_Prog (f_tables, f_nodes, f_codeLen, f_rowMap, f_rowWidth, f_nextReg, f_loops, f_resWidth, a_tabWidth, a_tabRows, a_tab, a_kind, a_left, a_right, a_parent, a_p, a_q, a_r, a_nodeWidth, a_bound, a_wanted, a_cOp, a_cA, a_cB, a_cC, a_cD, a_loopHead, a_todo) g l 0 e) (he : e < 192) (hE : a_cOp e = 0)
    (hq : ∀ q ∈ l, qm_pth g N q.1 rw q.2.1 q.2.2 ∧ q.2.1 < N ∧ qp_so g q.2.1 ∧ q.2.2.length ≤ 12) (hl : l.length ≤ 100) (hsz : qm_sz (qp_exec g l qp_s0))
    (K : ∀ (f_resRows : Int32) (a_store a_storeRows a_headOf a_tailOf a_link a_result a_reg a_cursor a_loopKey a_met : Nat → Int32), qm_rep g N rw (qp_exec g l qp_s0) (f_resRows, a_store, a_storeRows, a_headOf, a_tailOf, a_link, a_result) → post (f_tables, f_nodes, f_codeLen, f_rowMap, f_rowWidth, f_nextReg, f_loops, f_resRows, f_resWidth, a_tabWidth, a_tabRows, a_tab, a_kind, a_left, a_right, a_parent, a_p, a_q, a_r, a_nodeWidth, a_bound, a_wanted, a_cOp, a_cA, a_cB, a_cC, a_cD, a_loopHead, a_todo, a_reg, a_cursor, a_loopKey, a_met, a_store, a_storeRows, a_headOf, a_tailOf, a_link, a_result)) : wpX_execute post (f_tables, f_nodes, f_codeLen, f_rowMap, f_rowWidth, f_nextReg, f_loops, f_resRows, f_resWidth, a_tabWidth, a_tabRows, a_tab, a_kind, a_left, a_right, a_parent, a_p, a_q, a_r, a_nodeWidth, a_bound, a_wanted, a_cOp, a_cA, a_cB, a_cC, a_cD, a_loopHead, a_todo, a_reg, a_cursor, a_loopKey, a_met, a_store, a_storeRows, a_headOf, a_tailOf, a_link, a_result) := by
  refine qb_loop (fun f c s => wX_execute_2 post f_tables f_nodes f_codeLen f_rowMap f_rowWidth f_nextReg f_loops f_resRows f_resWidth f (nI c) a_tabWidth a_tabRows a_tab a_kind a_left a_right a_parent a_p a_q a_r a_nodeWidth a_bound a_wanted a_cOp a_cA a_cB a_cC a_cD a_loopHead a_todo a_reg a_cursor a_loopKey a_met a_store s a_headOf a_tailOf a_link a_result) a_storeRows 0 (List.replicate 12 0) 12 (List.length_replicate ..) ?_ ?_
  · intro f
    refine br_t (nI_le (a := 12) (b := 12) (Nat.le_refl _) (by decide)) ?_
    refine qb_loop (fun f c s => wX_execute_23 post f_tables f_nodes f_codeLen f_rowMap f_rowWidth f_nextReg f_loops f_resRows f_resWidth f (nI c) a_tabWidth a_tabRows a_tab a_kind a_left a_right a_parent a_p a_q a_r a_nodeWidth a_bound a_wanted a_cOp a_cA a_cB a_cC a_cD a_loopHead a_todo a_reg a_cursor a_loopKey a_met a_store (qb_bl a_storeRows 0 (List.replicate 12 0)) s a_tailOf a_link a_result) a_headOf 0 (List.replicate 96 (-1)) 96 (List.length_replicate ..) ?_ ?_
    · intro f
      refine br_t (nI_le (a := 96) (b := 96) (Nat.le_refl _) (by decide)) ⟨100001, ?_⟩
      have := qm_prog_run (post := post) (C := (f_tables, f_nodes, f_codeLen, f_rowMap, f_rowWidth, f_nextReg, f_loops, f_resWidth, a_tabWidth, a_tabRows, a_tab, a_kind, a_left, a_right, a_parent, a_p, a_q, a_r, a_nodeWidth, a_bound, a_wanted, a_cOp, a_cA, a_cB, a_cC, a_cD, a_loopHead, a_todo)) (rw := rw) hCP hN hok hrw (e := e) l 0 qp_s0 (0, a_store, qb_bl a_storeRows 0 (List.replicate 12 0), qb_bl a_headOf 0 (List.replicate 96 (-1)), a_tailOf, a_link, a_result) a_reg a_cursor a_loopKey a_met 0 hP hq ?_ hsz (by omega) ?_
      · exact this 100001 rfl
      · refine ⟨fun n hn => ?_, rfl, fun y hy => absurd hy (List.not_mem_nil), fun e c he => absurd he (Nat.not_lt_zero _)⟩
        have est : qm_st g qp_s0 n = [] := by unfold qm_st; split <;> rfl
        unfold qm_rep1
        rw [est]
        refine ⟨?_, fun _ => ⟨fun y hy => absurd hy (List.not_mem_nil), fun e c he => absurd he (Nat.not_lt_zero _)⟩, fun _ => ⟨fun h hh => ?_, fun e he => absurd he (Nat.not_lt_zero _), fun h hh => Or.inl (fun y hy => absurd hy (List.not_mem_nil))⟩⟩
        · have := qb_bl_in (f := a_storeRows) (b := 0) (xs := List.replicate 12 0) (i := n) (by rw [List.length_replicate]; omega)
          rw [Nat.zero_add, qm_repl (by omega)] at this
          exact this
        · have := qb_bl_in (f := a_headOf) (b := 0) (xs := List.replicate 96 (-1)) (i := n * 8 + h) (by rw [List.length_replicate]; omega)
          rw [Nat.zero_add, qm_repl (by omega)] at this
          exact this
      · intro t' G' reg' cu' ky' mt' hr hb
        obtain ⟨f_resRows, a_store, a_storeRows, a_headOf, a_tailOf, a_link, a_result⟩ := G'
        intro F hF
        have hmu := qm_mu_sz hsz
        have h0 : qm_mu qp_s0.1 = 0 := rfl
        have tb : t' < 100000 := by omega
        obtain ⟨F, rfl⟩ : ∃ F', F = F' + 1 := ⟨F - 1, by omega⟩
        refine br_f (nI_ge (a := t') (b := 100000) tb (by decide)) ⟨vp_in_nI he (by decide), br_t ?_ ?_⟩
        · rw [nI_clamp (by omega)]; exact hE
        · exact K _ _ _ _ _ _ _ _ _ _ _ hr
    · intro f c hc K'
      refine br_f (nI_ge (a := c) (b := 96) hc (by decide)) ⟨vp_in_nI hc (by decide), ?_⟩
      rw [nI_clamp (by omega)]
      rw [qm_repl hc, Nat.zero_add] at K'
      exact nm_e (nm_r (nI_1 c) K')
  · intro f c hc K'
    refine br_f (nI_ge (a := c) (b := 12) hc (by decide)) ⟨vp_in_nI hc (by decide), ?_⟩
    rw [nI_clamp (by omega)]
    rw [qm_repl hc, Nat.zero_add] at K'
    exact nm_e (nm_r (nI_1 c) K')
end
end
section
/-! counting: registers, loops, code length, visits -/
def qc_inr (g : qp_PL) (n : Nat) : Prop := qp_kd g n = 5 ∧ ¬ (qp_p g n = 1 ∨ qp_p g n = 2)
def qc_inb (g : qp_PL) (n : Nat) : Bool := decide (qp_kd g n = 5) && !(decide (qp_p g n = 1) || decide (qp_p g n = 2))
theorem qc_inb_t {g : qp_PL} {n : Nat} (h : qc_inr g n) : qc_inb g n = true := by
  unfold qc_inb
  rw [decide_eq_true h.1, decide_eq_false (fun e => h.2 (Or.inl e)), decide_eq_false (fun e => h.2 (Or.inr e))]; rfl
theorem qc_inb_f {g : qp_PL} {n : Nat} (h : ¬ qc_inr g n) : qc_inb g n = false := by
  unfold qc_inb
  by_cases h5 : qp_kd g n = 5
  · by_cases h1 : qp_p g n = 1
    · rw [decide_eq_true h1]; simp
    · by_cases h2 : qp_p g n = 2
      · rw [decide_eq_true h2]; simp
      · exact absurd ⟨h5, fun e => e.elim h1 h2⟩ h
  · rw [decide_eq_false h5]; rfl
theorem qc_inb_5 {g : qp_PL} {n : Nat} (h : qp_kd g n ≠ 5) : qc_inb g n = false := qc_inb_f (fun e => h e.1)
def qc_rg (g : qp_PL) : List Nat → Nat
  | [] => 0
  | n :: ns => (if qc_inb g n = true then qp_wd g (qp_rt g n) else if qp_kd g n = 3 then 1 else 0) + qc_rg g ns
def qc_jn (g : qp_PL) : List Nat → Nat
  | [] => 0
  | n :: ns => (if qc_inb g n = true then 1 else 0) + qc_jn g ns
def qc_ln (g : qp_PL) : List Nat → Nat
  | [] => 0
  | n :: ns => (if qc_inb g n = true then 3 else if qp_kd g n = 4 ∨ qp_kd g n = 6 then 0 else 1) + qc_ln g ns
section
variable {g : qp_PL} {pa : Nat → Nat} {N rw k : Nat}
theorem qc_ln_le : ∀ ns : List Nat, qc_ln g ns ≤ 3 * ns.length := by
  intro ns
  induction ns with
  | nil => exact Nat.le_refl _
  | cons n ns ih =>
    show (if qc_inb g n = true then 3 else if qp_kd g n = 4 ∨ qp_kd g n = 6 then 0 else 1) + qc_ln g ns ≤ 3 * (ns.length + 1)
    split
    · omega
    · split <;> omega
theorem qc_jn_le : ∀ ns : List Nat, qc_jn g ns ≤ ns.length := by
  intro ns
  induction ns with
  | nil => exact Nat.le_refl _
  | cons n ns ih =>
    show (if qc_inb g n = true then 1 else 0) + qc_jn g ns ≤ ns.length + 1
    split <;> omega
theorem qc_inb_w (hok : ∀ n, n < N → qp_ok g pa n) {n : Nat} (hn : n < N) (h : qc_inr g n) : qp_wd g (qp_lf g n) + qp_wd g (qp_rt g n) = qp_wd g n ∧ qp_wd g (qp_rt g n) ≤ 5 := by
  obtain ⟨p1, _, _, p4⟩ := (hok n hn).2.2.2.2.2.2.2.2.2.2.1 h.1
  have hl := ((hok n hn).2.2.2.1 (by rw [h.1]; omega)).1
  have w1 := (hok _ (show qp_lf g n < N by omega)).2.1
  have w6 := (hok n hn).2.2.1
  have e : qp_p g n = 0 ∨ qp_p g n = 3 := by
    obtain ⟨a, ha, ea⟩ := p1
    have h2 := h.2
    rw [ea] at h2 ⊢
    match a, ha with
    | 0, _ => exact Or.inl rfl
    | 1, _ => exact absurd (Or.inl rfl) h2
    | 2, _ => exact absurd (Or.inr rfl) h2
    | 3, _ => exact Or.inr rfl
  rw [if_pos e] at p4
  omega
theorem qc_rg_le (hok : ∀ n, n < N → qp_ok g pa n) : ∀ (ns : List Nat) (c : Nat), qm_pth g N k rw c ns → qc_rg g ns ≤ 4 * qc_jn g ns + ns.length := by
  intro ns
  induction ns with
  | nil => intro c _; exact Nat.le_refl _
  | cons n ns ih =>
    intro c hp
    have h := ih n hp.2.2.2.2
    show (if qc_inb g n = true then qp_wd g (qp_rt g n) else if qp_kd g n = 3 then 1 else 0) + qc_rg g ns ≤ 4 * ((if qc_inb g n = true then 1 else 0) + qc_jn g ns) + (ns.length + 1)
    by_cases e : qc_inr g n
    · have := (qc_inb_w hok hp.2.1 e).2
      rw [qc_inb_t e, if_pos rfl, if_pos rfl]; omega
    · rw [qc_inb_f e, if_neg (show ¬ (false = true) by decide), if_neg (show ¬ (false = true) by decide)]
      split <;> omega
theorem qc_child (hok : ∀ n, n < N → qp_ok g pa n) {c n : Nat} (hn : n < N) (hs : ¬ qp_so g n) (hc : c = qp_lf g n ∨ (qp_kd g n = 6 ∧ c = qp_rt g n)) : c < n ∧ pa c = n := by
  rcases hc with e | ⟨e, e2⟩
  · rw [e]; exact (hok n hn).2.2.2.1 (qp_so0 hs)
  · rw [e2]; have := (hok n hn).2.2.2.2.1 (Or.inr e); exact ⟨this.1, this.2.1⟩
/-- the nodes of a path and the right children of its joins are different nodes -/
theorem qc_count (hok : ∀ n, n < N → qp_ok g pa n) (hN : N ≤ 12) : ∀ (ns : List Nat) (c : Nat) (L : List Nat), qm_pth g N k rw c ns → L.Nodup → (∀ x ∈ L, x ≤ c) → (∀ x ∈ L, x = c ∨ pa x ≤ c) → L.length + ns.length + qc_jn g ns ≤ 12 := by
  intro ns
  induction ns with
  | nil =>
    intro c L hp hn hl _
    have := qb_nodup_lt (n := 12) hn (fun x hx => by have := hl x hx; have := hp.1; omega)
    show L.length + 0 + 0 ≤ 12
    omega
  | cons n ns ih =>
    intro c L hp hn hl hpa
    obtain ⟨hcN, hnN, hso, hch, hp'⟩ := hp
    obtain ⟨hcn, epa⟩ := qc_child hok hnN hso hch
    have nL : n ∉ L := fun e => by have := hl n e; omega
    have lm : (n :: ns).length = ns.length + 1 := rfl
    by_cases e : qc_inr g n
    · obtain ⟨hr, pr, hne⟩ := (hok n hnN).2.2.2.2.1 (Or.inl e.1)
      have hc : c = qp_lf g n := hch.resolve_right (fun z => by have := z.1; have := e.1; omega)
      have rL : qp_rt g n ∉ L := fun z => by
        rcases hpa _ z with z2 | z2
        · exact hne (z2.trans hc)
        · omega
      have h := ih n (qp_rt g n :: n :: L) hp' (List.nodup_cons.2 ⟨fun z => by
          rcases List.mem_cons.1 z with z | z
          · omega
          · exact rL z, List.nodup_cons.2 ⟨nL, hn⟩⟩) (fun x hx => by
          rcases List.mem_cons.1 hx with z | z
          · omega
          · rcases List.mem_cons.1 z with z | z
            · omega
            · have := hl x z; omega) (fun x hx => by
          rcases List.mem_cons.1 hx with z | z
          · right; rw [z, pr]; exact Nat.le_refl _
          · rcases List.mem_cons.1 z with z | z
            · exact Or.inl z
            · right
              rcases hpa x z with z2 | z2
              · rw [z2, epa]; exact Nat.le_refl _
              · omega)
      show L.length + (ns.length + 1) + ((if qc_inb g n = true then 1 else 0) + qc_jn g ns) ≤ 12
      rw [qc_inb_t e, if_pos rfl]
      simp only [List.length_cons] at h
      omega
    · have h := ih n (n :: L) hp' (List.nodup_cons.2 ⟨nL, hn⟩) (fun x hx => by
          rcases List.mem_cons.1 hx with z | z
          · omega
          · have := hl x z; omega) (fun x hx => by
          rcases List.mem_cons.1 hx with z | z
          · exact Or.inl z
          · right
            rcases hpa x z with z2 | z2
            · rw [z2, epa]; exact Nat.le_refl _
            · omega)
      show L.length + (ns.length + 1) + ((if qc_inb g n = true then 1 else 0) + qc_jn g ns) ≤ 12
      rw [qc_inb_f e, if_neg (by decide)]
      simp only [List.length_cons] at h
      omega
theorem qc_path (hok : ∀ n, n < N → qp_ok g pa n) (hN : N ≤ 12) {ns : List Nat} {c : Nat} (hp : qm_pth g N k rw c ns) (hcN : c < N) : ns.length ≤ 11 ∧ qc_jn g ns ≤ 5 ∧ qp_wd g c + qc_rg g ns ≤ 32 := by
  have h1 := qc_count hok hN ns c [c] hp (List.nodup_cons.2 ⟨List.not_mem_nil, List.nodup_nil⟩) (fun x hx => by rw [List.mem_singleton.1 hx]; exact Nat.le_refl _) (fun x hx => Or.inl (List.mem_singleton.1 hx))
  have h2 := qc_rg_le hok ns c hp
  have h3 := qc_jn_le (g := g) ns
  have w := (hok c hcN).2.2.1
  have : [c].length = 1 := rfl
  refine ⟨by omega, by omega, by omega⟩
/-! the pipelines of a group: their paths -/
theorem qc_src_pth (hok : ∀ n, n < N → qp_ok g pa n) : ∀ (f n : Nat) (ctx : List Nat), n < f → n < N → qm_pth g N k rw n ctx → ∀ q ∈ qp_src g k f n ctx, q.1 = k ∧ qm_pth g N k rw q.2.1 q.2.2 ∧ q.2.1 < N ∧ qp_so g q.2.1 := by
  intro f
  induction f with
  | zero => intro n ctx h; exact absurd h (Nat.not_lt_zero _)
  | succ f ih =>
    intro n ctx hf hN hp q hq
    rcases qp_so_dec g n with hs | hs
    · rw [qp_src_so hs] at hq
      rw [List.mem_singleton.1 hq]; exact ⟨rfl, hp, hN, hs⟩
    · have hl := ((hok n hN).2.2.2.1 (qp_so0 hs)).1
      by_cases h6 : qp_kd g n = 6
      · have hr := ((hok n hN).2.2.2.2.1 (Or.inr h6)).1
        rw [qp_src_6 hs h6] at hq
        rcases List.mem_append.1 hq with e | e
        · exact ih _ (n :: ctx) (by omega) (by omega) ⟨by omega, hN, hs, Or.inl rfl, hp⟩ q e
        · exact ih _ (n :: ctx) (by omega) (by omega) ⟨by omega, hN, hs, Or.inr ⟨h6, rfl⟩, hp⟩ q e
      · rw [qp_src_o hs h6] at hq
        exact ih _ (n :: ctx) (by omega) (by omega) ⟨by omega, hN, hs, Or.inl rfl, hp⟩ q hq
theorem qc_src_gn : ∀ (f n : Nat) (ctx : List Nat), ∀ q ∈ qp_src g k f n ctx, q.2.1 ∈ qp_gn g f n := by
  intro f
  induction f with
  | zero => intro n ctx q hq; exact absurd hq (List.not_mem_nil)
  | succ f ih =>
    intro n ctx q hq
    rcases qp_so_dec g n with hs | hs
    · rw [qp_src_so hs] at hq
      rw [qp_gn_so hs, List.mem_singleton.1 hq]; exact List.mem_cons_self ..
    · by_cases h6 : qp_kd g n = 6
      · rw [qp_src_6 hs h6] at hq
        rw [qp_gn_6 hs h6]
        rcases List.mem_append.1 hq with e | e
        · exact List.mem_cons_of_mem _ (List.mem_append_left _ (ih _ _ q e))
        · exact List.mem_cons_of_mem _ (List.mem_append_right _ (ih _ _ q e))
      · rw [qp_src_o hs h6] at hq
        rw [qp_gn_o hs h6]
        exact List.mem_cons_of_mem _ (ih _ _ q hq)
theorem qc_nodup_app {a b : List Nat} (ha : a.Nodup) (hb : b.Nodup) (h : ∀ x, x ∈ a → x ∈ b → False) : (a ++ b).Nodup := by
  rw [List.nodup_append]
  exact ⟨ha, hb, fun x hx y hy e => h x hx (e ▸ hy)⟩
theorem qc_src_nd (hok : ∀ n, n < N → qp_ok g pa n) : ∀ (f n : Nat) (ctx : List Nat), n < f → n < N → ((qp_src g k f n ctx).map (fun q => q.2.1)).Nodup := by
  intro f
  induction f with
  | zero => intro n ctx h; exact absurd h (Nat.not_lt_zero _)
  | succ f ih =>
    intro n ctx hf hN
    rcases qp_so_dec g n with hs | hs
    · rw [qp_src_so hs]
      exact List.nodup_cons.2 ⟨List.not_mem_nil, List.nodup_nil⟩
    · have hl := ((hok n hN).2.2.2.1 (qp_so0 hs)).1
      by_cases h6 : qp_kd g n = 6
      · have hr := ((hok n hN).2.2.2.2.1 (Or.inr h6)).1
        rw [qp_src_6 hs h6, List.map_append]
        refine qc_nodup_app (ih _ _ (by omega) (by omega)) (ih _ _ (by omega) (by omega)) (fun x h1 h2 => ?_)
        obtain ⟨q1, m1, e1⟩ := List.mem_map.1 h1
        obtain ⟨q2, m2, e2⟩ := List.mem_map.1 h2
        have g1 := qc_src_gn f _ _ q1 m1
        have g2 := qc_src_gn f _ _ q2 m2
        rw [e1] at g1
        rw [e2] at g2
        exact qp_gn_disj hok hf hN h6 x g1 g2
      · rw [qp_src_o hs h6]
        exact ih _ _ (by omega) (by omega)
theorem qc_gn_nd (hok : ∀ n, n < N → qp_ok g pa n) : ∀ (f n : Nat), n < f → n < N → (qp_gn g f n).Nodup := by
  intro f
  induction f with
  | zero => intro n h; exact absurd h (Nat.not_lt_zero _)
  | succ f ih =>
    intro n hf hN
    rcases qp_so_dec g n with hs | hs
    · rw [qp_gn_so hs]
      exact List.nodup_cons.2 ⟨List.not_mem_nil, List.nodup_nil⟩
    · have hl := ((hok n hN).2.2.2.1 (qp_so0 hs)).1
      have gl := qp_gn_le hok f (qp_lf g n) (by omega) (by omega)
      by_cases h6 : qp_kd g n = 6
      · have hr := ((hok n hN).2.2.2.2.1 (Or.inr h6)).1
        have gr := qp_gn_le hok f (qp_rt g n) (by omega) (by omega)
        rw [qp_gn_6 hs h6]
        refine List.nodup_cons.2 ⟨fun z => ?_, qc_nodup_app (ih _ (by omega) (by omega)) (ih _ (by omega) (by omega)) (fun x h1 h2 => qp_gn_disj hok hf hN h6 x h1 h2)⟩
        rcases List.mem_append.1 z with z | z
        · have := gl n z; omega
        · have := gr n z; omega
      · rw [qp_gn_o hs h6]
        exact List.nodup_cons.2 ⟨fun z => by have := gl n z; omega, ih _ (by omega) (by omega)⟩
theorem qc_gn_12 (hok : ∀ n, n < N → qp_ok g pa n) (hN : N ≤ 12) {n : Nat} (hn : n < N) : (qp_gn g 13 n).length ≤ 12 :=
  qb_nodup_lt (qc_gn_nd hok 13 n (by omega) hn) (fun x hx => by have := qp_gn_le hok 13 n (by omega) hn x hx; omega)
end
end
section
/-! the length of the whole program -/
def qc_sum (g : qp_PL) : List (Nat × Nat × List Nat) → Nat
  | [] => 0
  | q :: l => (4 + qc_ln g q.2.2) + qc_sum g l
theorem qc_sum_app (g : qp_PL) : ∀ a b : List (Nat × Nat × List Nat), qc_sum g (a ++ b) = qc_sum g a + qc_sum g b := by
  intro a b
  induction a with
  | nil => show qc_sum g b = 0 + qc_sum g b; omega
  | cons q a ih => show (4 + qc_ln g q.2.2) + qc_sum g (a ++ b) = (4 + qc_ln g q.2.2) + qc_sum g a + qc_sum g b; omega
theorem qc_sum_le (g : qp_PL) (m : Nat) : ∀ l : List (Nat × Nat × List Nat), (∀ q ∈ l, q.2.2.length ≤ m) → qc_sum g l ≤ l.length * (4 + 3 * m) := by
  intro l
  induction l with
  | nil => intro _; exact Nat.zero_le _
  | cons q l ih =>
    intro h
    have h1 := ih (fun z hz => h z (List.mem_cons_of_mem _ hz))
    have h2 := h q (List.mem_cons_self ..)
    have h3 := qc_ln_le (g := g) q.2.2
    show (4 + qc_ln g q.2.2) + qc_sum g l ≤ (l.length + 1) * (4 + 3 * m)
    rw [Nat.add_mul]
    omega
theorem qc_num : ∀ k, k ≤ 12 → ∀ m, m + k ≤ 12 → k * (4 + 3 * m) ≤ 190 := by
  intro k hk m hm
  have h : ∀ k, k < 13 → ∀ m, m < 13 → m + k ≤ 12 → k * (4 + 3 * m) ≤ 190 := by decide +kernel
  exact h k (by omega) m (by omega) hm
section
variable {g : qp_PL} {pa : Nat → Nat} {N : Nat} {w : Nat → Bool} {root : Nat}
theorem qc_top_pth (hok : ∀ n, n < N → qp_ok g pa n) {i : Nat} (hi : i < N) (hb : qp_brk g i = true) {rw : Nat} : qm_pth g N i rw (qp_top g i) [] := by
  obtain ⟨t1, t2, t3⟩ := qp_top_ok hok hi hb
  refine ⟨by omega, Or.inr ⟨hi, ?_⟩⟩
  have hb' : qp_kd g i = 5 ∨ qp_kd g i = 7 ∨ qp_kd g i = 10 := by
    unfold qp_brk at hb; simpa [or_assoc] using hb
  unfold qp_top
  by_cases h5 : qp_kd g i = 5
  · rw [if_pos h5]; exact Or.inl ⟨h5, rfl⟩
  · rw [if_neg h5]; exact Or.inr ⟨hb'.resolve_left h5, rfl⟩
theorem qc_grp_ok (hok : ∀ n, n < N → qp_ok g pa n) (hN : N ≤ 12) {i : Nat} (hi : i < N) {rw : Nat} : ∀ q ∈ qp_grp g w i, q.1 = i ∧ qm_pth g N q.1 rw q.2.1 q.2.2 ∧ q.2.1 < N ∧ qp_so g q.2.1 ∧ q.2.1 ∈ qp_gn g 13 (qp_top g i) ∧ qp_brk g i = true := by
  intro q hq
  unfold qp_grp at hq
  by_cases ha : (w i && qp_brk g i) = true
  · rw [if_pos ha] at hq
    have hb : qp_brk g i = true := by
      cases h : qp_brk g i with
      | true => rfl
      | false => rw [h, Bool.and_false] at ha; exact absurd ha (by decide)
    obtain ⟨t1, t2, t3⟩ := qp_top_ok hok hi hb
    obtain ⟨a1, a2, a3, a4⟩ := qc_src_pth hok (rw := rw) 13 (qp_top g i) [] (by omega) (by omega) (qc_top_pth hok hi hb) q hq
    exact ⟨a1, by rw [a1]; exact a2, a3, a4, qc_src_gn 13 _ _ q hq, hb⟩
  · rw [if_neg ha] at hq
    exact absurd hq (List.not_mem_nil)
theorem qc_prog_ok (hok : ∀ n, n < N → qp_ok g pa n) (hN : N ≤ 12) {rw : Nat} : ∀ i, i ≤ N → ∀ q ∈ qp_prog g w i, qm_pth g N q.1 rw q.2.1 q.2.2 ∧ q.2.1 < N ∧ qp_so g q.2.1 ∧ ∃ j, j < i ∧ qp_brk g j = true ∧ q.2.1 ∈ qp_gn g 13 (qp_top g j) := by
  intro i
  induction i with
  | zero => intro _ q hq; exact absurd hq (List.not_mem_nil)
  | succ i ih =>
    intro hi q hq
    rcases List.mem_append.1 hq with e | e
    · obtain ⟨a1, a2, a3, j, a4, a5⟩ := ih (by omega) q e
      exact ⟨a1, a2, a3, j, by omega, a5⟩
    · obtain ⟨a0, a1, a2, a3, a4, a5⟩ := qc_grp_ok hok hN (rw := rw) (show i < N by omega) q e
      exact ⟨a1, a2, a3, i, by omega, a5, a4⟩
theorem qc_prog_nd (hok : ∀ n, n < N → qp_ok g pa n) (hN : N ≤ 12) : ∀ i, i ≤ N → ((qp_prog g w i).map (fun q => q.2.1)).Nodup := by
  intro i
  induction i with
  | zero => intro _; exact List.nodup_nil
  | succ i ih =>
    intro hi
    show ((qp_prog g w i ++ qp_grp g w i).map (fun q => q.2.1)).Nodup
    rw [List.map_append]
    refine qc_nodup_app (ih (by omega)) ?_ ?_
    · unfold qp_grp
      by_cases ha : (w i && qp_brk g i) = true
      · rw [if_pos ha]
        have hb : qp_brk g i = true := by
          cases h : qp_brk g i with
          | true => rfl
          | false => rw [h, Bool.and_false] at ha; exact absurd ha (by decide)
        obtain ⟨t1, t2, t3⟩ := qp_top_ok hok (show i < N by omega) hb
        exact qc_src_nd hok 13 _ _ (by omega) (by omega)
      · rw [if_neg ha]; exact List.nodup_nil
    · intro x h1 h2
      obtain ⟨q1, m1, e1⟩ := List.mem_map.1 h1
      obtain ⟨q2, m2, e2⟩ := List.mem_map.1 h2
      obtain ⟨_, _, _, j, j1, j2, j3⟩ := qc_prog_ok hok hN (rw := 0) i (by omega) q1 m1
      obtain ⟨_, _, _, _, g2, g3⟩ := qc_grp_ok hok hN (rw := 0) (show i < N by omega) q2 m2
      rw [e1] at j3
      rw [e2] at g2
      exact qp_tops hok hN (show i < N by omega) j1 g3 j2 x g2 j3
theorem qc_full_ok (hok : ∀ n, n < N → qp_ok g pa n) (hN : N ≤ 12) (hr : root < N) : ∀ q ∈ qp_full g w root, qm_pth g N q.1 (qp_wd g root) q.2.1 q.2.2 ∧ q.2.1 < N ∧ qp_so g q.2.1 ∧ q.2.2.length ≤ 12 := by
  intro q hq
  rcases List.mem_append.1 hq with e | e
  · obtain ⟨a1, a2, a3, _⟩ := qc_prog_ok hok hN (rw := qp_wd g root) (root + 1) (by omega) q e
    exact ⟨a1, a2, a3, by have := (qc_path hok hN a1 a2).1; omega⟩
  · obtain ⟨a1, a2, a3, a4⟩ := qc_src_pth hok (k := 12) (rw := qp_wd g root) 13 root [] (by omega) hr ⟨hr, Or.inl ⟨rfl, rfl⟩⟩ q e
    exact ⟨by rw [a1]; exact a2, a3, a4, by have := (qc_path hok hN a2 a3).1; omega⟩
theorem qc_full_nd (hok : ∀ n, n < N → qp_ok g pa n) (hN : N ≤ 12) (hr : root < N) : ((qp_full g w root).map (fun q => q.2.1)).Nodup := by
  unfold qp_full
  rw [List.map_append]
  refine qc_nodup_app (qc_prog_nd hok hN (root + 1) (by omega)) (qc_src_nd hok 13 root [] (by omega) hr) ?_
  intro x h1 h2
  obtain ⟨q1, m1, e1⟩ := List.mem_map.1 h1
  obtain ⟨q2, m2, e2⟩ := List.mem_map.1 h2
  obtain ⟨_, _, _, j, j1, j2, j3⟩ := qc_prog_ok hok hN (rw := 0) (root + 1) (by omega) q1 m1
  have g2 := qc_src_gn 13 root [] q2 m2
  rw [e1] at j3
  rw [e2] at g2
  exact qp_tops_root hok hN hr (by omega) j2 x g2 j3
theorem qc_pth_nd (hok : ∀ n, n < N → qp_ok g pa n) {k rw : Nat} : ∀ (ns : List Nat) (c : Nat), qm_pth g N k rw c ns → ns.Nodup ∧ (∀ m ∈ ns, c < m ∧ m < N ∧ ¬ qp_so g m) := by
  intro ns
  induction ns with
  | nil => intro c _; exact ⟨List.nodup_nil, fun m hm => absurd hm (List.not_mem_nil)⟩
  | cons n ns ih =>
    intro c hp
    obtain ⟨h1, h2⟩ := ih n hp.2.2.2.2
    have hc := (qc_child hok hp.2.1 hp.2.2.1 hp.2.2.2.1).1
    refine ⟨List.nodup_cons.2 ⟨fun z => by have := (h2 n z).1; omega, h1⟩, fun m hm => ?_⟩
    rcases List.mem_cons.1 hm with e | e
    · rw [e]; exact ⟨hc, hp.2.1, hp.2.2.1⟩
    · have := h2 m e; exact ⟨by omega, this.2⟩
theorem qc_full_len (hok : ∀ n, n < N → qp_ok g pa n) (hN : N ≤ 12) (hr : root < N) : qc_sum g (qp_full g w root) ≤ 190 ∧ (qp_full g w root).length ≤ 12 := by
  let so := (List.range N).filter (fun n => qp_sob g n)
  let no := (List.range N).filter (fun n => !qp_sob g n)
  have hlen : so.length + no.length = N := by
    have : ∀ l : List Nat, (l.filter (fun n => qp_sob g n)).length + (l.filter (fun n => !qp_sob g n)).length = l.length := by
      intro l
      induction l with
      | nil => rfl
      | cons x l ih =>
        cases h : qp_sob g x with
        | true => simp [List.filter_cons, h] at ih ⊢; omega
        | false => simp [List.filter_cons, h] at ih ⊢; omega
    have h2 := this (List.range N)
    rwa [List.length_range] at h2
  have h1 : ((qp_full g w root).map (fun q => q.2.1)).length ≤ so.length := by
    refine qb_nodup_len _ _ (qc_full_nd hok hN hr) (fun x hx => ?_)
    obtain ⟨q, m, e⟩ := List.mem_map.1 hx
    obtain ⟨_, a2, a3, _⟩ := qc_full_ok hok hN hr q m
    rw [← e]
    exact List.mem_filter.2 ⟨List.mem_range.2 a2, qp_sob_t.2 a3⟩
  rw [List.length_map] at h1
  have h2 : ∀ q ∈ qp_full g w root, q.2.2.length ≤ no.length := by
    intro q hq
    obtain ⟨a1, _⟩ := qc_full_ok hok hN hr q hq
    obtain ⟨b1, b2⟩ := qc_pth_nd hok _ _ a1
    refine qb_nodup_len _ _ b1 (fun x hx => ?_)
    obtain ⟨c1, c2, c3⟩ := b2 x hx
    refine List.mem_filter.2 ⟨List.mem_range.2 c2, ?_⟩
    cases h : qp_sob g x with
    | true => exact absurd (qp_sob_t.1 h) c3
    | false => rfl
  have h3 := qc_sum_le g no.length (qp_full g w root) h2
  have h4 : (qp_full g w root).length * (4 + 3 * no.length) ≤ so.length * (4 + 3 * no.length) := Nat.mul_le_mul_right _ h1
  have h5 := qc_num so.length (by omega) no.length (by omega)
  exact ⟨by omega, by omega⟩
end
end
section
/-! the compiler's small methods -/
theorem qc_col (x : Int32) (i : Nat) : (x >>> ((3 * nI i) &&& 31)) &&& 7 = nI (qp_col x i) ∧ qp_col x i < 8 := by
  obtain ⟨j, hj, e⟩ := pk_andE (x >>> ((3 * nI i) &&& 31)) (m := 7) 3 (by decide)
  have : qp_col x i = j := by unfold qp_col; rw [e, nI_clamp (by omega)]
  rw [this, e]; exact ⟨rfl, hj⟩
section
variable {f_tables f_nodes f_codeLen f_rowMap f_rowWidth f_nextReg f_loops f_resRows f_resWidth : Int32} {a_tabWidth a_tabRows a_tab a_kind a_left a_right a_parent a_p a_q a_r a_nodeWidth a_bound a_wanted a_cOp a_cA a_cB a_cC a_cD a_loopHead a_todo a_reg a_cursor a_loopKey a_met a_store a_storeRows a_headOf a_tailOf a_link a_result : Nat → Int32}
/-- where a failing test goes: the innermost head -/
def qc_dv (lp : Int32) (lh : Nat → Int32) (dv : Int32) : Prop := (lp = 0 ∧ dv = 0) ∨ ∃ l : Nat, l < 8 ∧ lp = nI (l + 1) ∧ lh l = dv
theorem qc_put {post : SX → Prop} {pos : Nat} {o a b c dv : Int32} (hpos : pos < 192) (hd : qc_dv f_loops a_loopHead dv)
    (K : post (f_tables, f_nodes, nI (pos + 1), f_rowMap, f_rowWidth, f_nextReg, f_loops, f_resRows, f_resWidth, a_tabWidth, a_tabRows, a_tab, a_kind, a_left, a_right, a_parent, a_p, a_q, a_r, a_nodeWidth, a_bound, a_wanted, upd a_cOp pos o, upd a_cA pos a, upd a_cB pos b, upd a_cC pos c, upd a_cD pos dv, a_loopHead, a_todo, a_reg, a_cursor, a_loopKey, a_met, a_store, a_storeRows, a_headOf, a_tailOf, a_link, a_result)) : wpX_put post (f_tables, f_nodes, nI pos, f_rowMap, f_rowWidth, f_nextReg, f_loops, f_resRows, f_resWidth, a_tabWidth, a_tabRows, a_tab, a_kind, a_left, a_right, a_parent, a_p, a_q, a_r, a_nodeWidth, a_bound, a_wanted, a_cOp, a_cA, a_cB, a_cC, a_cD, a_loopHead, a_todo, a_reg, a_cursor, a_loopKey, a_met, a_store, a_storeRows, a_headOf, a_tailOf, a_link, a_result) o a b c := by
  refine ⟨vp_in_nI hpos (by decide), ?_⟩
  rw [nI_clamp (n := pos) (by omega)]
  refine nm_e ⟨vp_in_nI hpos (by decide), nm_e ⟨vp_in_nI hpos (by decide), nm_e ⟨vp_in_nI hpos (by decide), nm_e ?_⟩⟩⟩
  rcases hd with ⟨e1, e2⟩ | ⟨l, hl, e1, e2⟩
  · subst e1 e2
    refine br_t (by decide) ?_
    unfold wX_put_71
    rw [nI_clamp (n := pos) (by omega)]
    exact ⟨vp_in_nI hpos (by decide), nm_e (nm_r (nI_1 pos) K)⟩
  · subst e1
    refine br_f (nI_nle (by omega) (by omega)) ?_
    rw [nI_pred, nI_clamp (n := l) (by omega), e2]
    refine ⟨vp_in_nI hl (by decide), ?_⟩
    unfold wX_put_71
    rw [nI_clamp (n := pos) (by omega)]
    exact ⟨vp_in_nI hpos (by decide), nm_e (nm_r (nI_1 pos) K)⟩
theorem qc_rg_app (b w : Nat) : List.range' b (w + 1) = List.range' b w ++ [b + w] := by
  rw [List.range'_concat, Nat.one_mul]
theorem qc_append {post : SX → Prop} {ms : List Nat} {nr w : Nat} (hm : ∀ m ∈ ms, m < 32) (hl : ms.length + w ≤ 6) (hr : nr + w ≤ 32)
    (K : post (f_tables, f_nodes, f_codeLen, nI (qb_enc (ms ++ List.range' nr w)), nI (ms.length + w), nI (nr + w), f_loops, f_resRows, f_resWidth, a_tabWidth, a_tabRows, a_tab, a_kind, a_left, a_right, a_parent, a_p, a_q, a_r, a_nodeWidth, a_bound, a_wanted, a_cOp, a_cA, a_cB, a_cC, a_cD, a_loopHead, a_todo, a_reg, a_cursor, a_loopKey, a_met, a_store, a_storeRows, a_headOf, a_tailOf, a_link, a_result)) :
    wpX_appendColumns post (f_tables, f_nodes, f_codeLen, nI (qb_enc ms), nI ms.length, nI nr, f_loops, f_resRows, f_resWidth, a_tabWidth, a_tabRows, a_tab, a_kind, a_left, a_right, a_parent, a_p, a_q, a_r, a_nodeWidth, a_bound, a_wanted, a_cOp, a_cA, a_cB, a_cC, a_cD, a_loopHead, a_todo, a_reg, a_cursor, a_loopKey, a_met, a_store, a_storeRows, a_headOf, a_tailOf, a_link, a_result) (nI w) := by
  have L : ∀ d c f, c + d = w → d < f → wX_appendColumns_2 post (nI w) f_tables f_nodes f_codeLen f_loops f_resRows f_resWidth a_tabWidth a_tabRows a_tab a_kind a_left a_right a_parent a_p a_q a_r a_nodeWidth a_bound a_wanted a_cOp a_cA a_cB a_cC a_cD a_loopHead a_todo a_reg a_cursor a_loopKey a_met a_store a_storeRows a_headOf a_tailOf a_link a_result f (nI c) (nI (qb_enc (ms ++ List.range' nr c))) (nI (ms.length + c)) (nI (nr + c)) := by
    intro d
    induction d with
    | zero =>
      intro c f hc hf
      obtain ⟨f, rfl⟩ : ∃ f', f = f' + 1 := ⟨f - 1, by omega⟩
      have : c = w := by omega
      subst this
      exact br_t (nI_le (Nat.le_refl _) (by omega)) K
    | succ d ih =>
      intro c f hc hf
      obtain ⟨f, rfl⟩ : ∃ f', f = f' + 1 := ⟨f - 1, by omega⟩
      have hm' : ∀ m ∈ ms ++ List.range' nr c, m < 32 := fun m h => by
        rcases List.mem_append.1 h with e | e
        · exact hm m e
        · rw [List.mem_range'_1] at e; omega
      have hll : (ms ++ List.range' nr c).length = ms.length + c := by rw [List.length_append, List.length_range']
      have epush := qb_push (ms := ms ++ List.range' nr c) (x := nr + c) hm' (by omega) (by omega)
      rw [hll, List.append_assoc, ← qc_rg_app] at epush
      have step : ∀ z0, z0 = nI (nr + c) → wX_appendColumns_25 post (wX_appendColumns_2 post (nI w) f_tables f_nodes f_codeLen f_loops f_resRows f_resWidth a_tabWidth a_tabRows a_tab a_kind a_left a_right a_parent a_p a_q a_r a_nodeWidth a_bound a_wanted a_cOp a_cA a_cB a_cC a_cD a_loopHead a_todo a_reg a_cursor a_loopKey a_met a_store a_storeRows a_headOf a_tailOf a_link a_result f) (nI w) (nI c) z0 f_tables f_nodes f_codeLen (nI (qb_enc (ms ++ List.range' nr c))) (nI (ms.length + c)) (nI (nr + c)) f_loops f_resRows f_resWidth a_tabWidth a_tabRows a_tab a_kind a_left a_right a_parent a_p a_q a_r a_nodeWidth a_bound a_wanted a_cOp a_cA a_cB a_cC a_cD a_loopHead a_todo a_reg a_cursor a_loopKey a_met a_store a_storeRows a_headOf a_tailOf a_link a_result := by
        intro z0 e
        subst e
        exact nm_r (nI_1 _) (nm_r epush (nm_r (nI_1 _) (nm_r (nI_1 _) (ih (c + 1) f (by omega) (by omega)))))
      refine br_f (nI_ge (by omega) (by omega)) (br_c (fun h => step _ ?_) (fun _ => step _ rfl))
      have : nr + c = 31 := by
        have h31 : nI 31 ≤ nI (nr + c) := h
        rw [nI_leI (by omega) (by omega)] at h31
        omega
      rw [this]; rfl
  have := L w 0 (w + 1) (by omega) (by omega)
  rw [List.range'_zero, List.append_nil] at this
  exact ⟨w + 1, this⟩
theorem qc_open {post : SX → Prop} {pos l : Nat} (hl : l < 8) (K : post (f_tables, f_nodes, nI pos, f_rowMap, f_rowWidth, f_nextReg, nI (l + 1), f_resRows, f_resWidth, a_tabWidth, a_tabRows, a_tab, a_kind, a_left, a_right, a_parent, a_p, a_q, a_r, a_nodeWidth, a_bound, a_wanted, a_cOp, a_cA, a_cB, a_cC, a_cD, upd a_loopHead l (nI pos), a_todo, a_reg, a_cursor, a_loopKey, a_met, a_store, a_storeRows, a_headOf, a_tailOf, a_link, a_result)) : wpX_openLoop post (f_tables, f_nodes, nI pos, f_rowMap, f_rowWidth, f_nextReg, nI l, f_resRows, f_resWidth, a_tabWidth, a_tabRows, a_tab, a_kind, a_left, a_right, a_parent, a_p, a_q, a_r, a_nodeWidth, a_bound, a_wanted, a_cOp, a_cA, a_cB, a_cC, a_cD, a_loopHead, a_todo, a_reg, a_cursor, a_loopKey, a_met, a_store, a_storeRows, a_headOf, a_tailOf, a_link, a_result) := by
  refine ⟨vp_in_nI hl (by decide), ?_⟩
  rw [nI_clamp (by omega)]
  exact nm_e (nm_r (nI_1 l) K)
theorem qc_regOf {post : Int32 → Prop} {ms : List Nat} {c : Nat} (hm : ∀ m ∈ ms, m < 32) (hl : ms.length ≤ 6) (hc : c < ms.length) (K : post (nI (ms.getD c 0))) : wpX_regOf post (f_tables, f_nodes, f_codeLen, nI (qb_enc ms), f_rowWidth, f_nextReg, f_loops, f_resRows, f_resWidth, a_tabWidth, a_tabRows, a_tab, a_kind, a_left, a_right, a_parent, a_p, a_q, a_r, a_nodeWidth, a_bound, a_wanted, a_cOp, a_cA, a_cB, a_cC, a_cD, a_loopHead, a_todo, a_reg, a_cursor, a_loopKey, a_met, a_store, a_storeRows, a_headOf, a_tailOf, a_link, a_result) (nI c) := by
  unfold wpX_regOf
  dsimp only
  rw [qb_get hm hl hc]; exact K
theorem qc_choose {post : SX → Prop} {ms : List Nat} {cols : Int32} {w : Nat} (hm : ∀ m ∈ ms, m < 32) (hl : ms.length ≤ 6) (hw : w ≤ 6) (hc : ∀ i, i < w → qp_col cols i < ms.length)
    (K : post (f_tables, f_nodes, f_codeLen, nI (qb_enc ((List.range w).map (fun i => ms.getD (qp_col cols i) 0))), nI w, f_nextReg, f_loops, f_resRows, f_resWidth, a_tabWidth, a_tabRows, a_tab, a_kind, a_left, a_right, a_parent, a_p, a_q, a_r, a_nodeWidth, a_bound, a_wanted, a_cOp, a_cA, a_cB, a_cC, a_cD, a_loopHead, a_todo, a_reg, a_cursor, a_loopKey, a_met, a_store, a_storeRows, a_headOf, a_tailOf, a_link, a_result)) : wpX_chooseColumns post (f_tables, f_nodes, f_codeLen, nI (qb_enc ms), f_rowWidth, f_nextReg, f_loops, f_resRows, f_resWidth, a_tabWidth, a_tabRows, a_tab, a_kind, a_left, a_right, a_parent, a_p, a_q, a_r, a_nodeWidth, a_bound, a_wanted, a_cOp, a_cA, a_cB, a_cC, a_cD, a_loopHead, a_todo, a_reg, a_cursor, a_loopKey, a_met, a_store, a_storeRows, a_headOf, a_tailOf, a_link, a_result) cols (nI w) := by
  have L : ∀ d i f, i + d = w → d < f → wX_chooseColumns_5 post cols (nI w) f_tables f_nodes f_codeLen (nI (qb_enc ms)) f_rowWidth f_nextReg f_loops f_resRows f_resWidth a_tabWidth a_tabRows a_tab a_kind a_left a_right a_parent a_p a_q a_r a_nodeWidth a_bound a_wanted a_cOp a_cA a_cB a_cC a_cD a_loopHead a_todo a_reg a_cursor a_loopKey a_met a_store a_storeRows a_headOf a_tailOf a_link a_result f (nI (qb_enc ((List.range i).map (fun i => ms.getD (qp_col cols i) 0)))) (nI i) := by
    intro d
    induction d with
    | zero =>
      intro i f hi hf
      obtain ⟨f, rfl⟩ : ∃ f', f = f' + 1 := ⟨f - 1, by omega⟩
      have : i = w := by omega
      subst this
      exact br_t (nI_le (Nat.le_refl _) (by omega)) K
    | succ d ih =>
      intro i f hi hf
      obtain ⟨f, rfl⟩ : ∃ f', f = f' + 1 := ⟨f - 1, by omega⟩
      refine br_f (nI_ge (by omega) (by omega)) ?_
      rw [(qc_col cols i).1]
      refine qc_regOf hm hl (hc i (by omega)) ?_
      have hm' : ∀ m ∈ (List.range i).map (fun i => ms.getD (qp_col cols i) 0), m < 32 := fun m h => by
        obtain ⟨j, hj, e⟩ := List.mem_map.1 h
        rw [List.mem_range] at hj
        rw [← e]; exact qm_m32 hm (hc j (by omega))
      have hll : ((List.range i).map (fun i => ms.getD (qp_col cols i) 0)).length = i := by rw [List.length_map, List.length_range]
      have epush := qb_push (ms := (List.range i).map (fun i => ms.getD (qp_col cols i) 0)) (x := ms.getD (qp_col cols i) 0) hm' (by omega) (qm_m32 hm (hc i (by omega)))
      have er : (List.range i).map (fun i => ms.getD (qp_col cols i) 0) ++ [ms.getD (qp_col cols i) 0] = (List.range (i + 1)).map (fun i => ms.getD (qp_col cols i) 0) := by
        rw [List.range_succ, List.map_append]; rfl
      rw [hll, er] at epush
      exact nm_r epush (nm_r (nI_1 i) (ih (i + 1) f (by omega) (by omega)))
  exact ⟨w + 1, L w 0 _ (by omega) (by omega)⟩
theorem qc_close {post : SX → Prop} {pos i h : Nat} {dv : Int32} (hpos : pos < 192) (hi : i < 8) (hh : h < 192) (hlh : a_loopHead i = nI h) (hd : qc_dv f_loops a_loopHead dv)
    (K : post (f_tables, f_nodes, nI (pos + 1), f_rowMap, f_rowWidth, f_nextReg, f_loops, f_resRows, f_resWidth, a_tabWidth, a_tabRows, a_tab, a_kind, a_left, a_right, a_parent, a_p, a_q, a_r, a_nodeWidth, a_bound, a_wanted, upd a_cOp pos 15, upd a_cA pos 0, upd a_cB pos 0, upd a_cC pos 0, upd (upd (upd a_cD pos dv) pos (nI h)) h (nI (pos + 1)), a_loopHead, a_todo, a_reg, a_cursor, a_loopKey, a_met, a_store, a_storeRows, a_headOf, a_tailOf, a_link, a_result)) : wpX_closeLoop post (f_tables, f_nodes, nI pos, f_rowMap, f_rowWidth, f_nextReg, f_loops, f_resRows, f_resWidth, a_tabWidth, a_tabRows, a_tab, a_kind, a_left, a_right, a_parent, a_p, a_q, a_r, a_nodeWidth, a_bound, a_wanted, a_cOp, a_cA, a_cB, a_cC, a_cD, a_loopHead, a_todo, a_reg, a_cursor, a_loopKey, a_met, a_store, a_storeRows, a_headOf, a_tailOf, a_link, a_result) (nI i) := by
  refine ⟨vp_in_nI hi (by decide), ?_⟩
  rw [nI_clamp (n := i) (by omega)]
  refine nm_r hlh (qc_put hpos hd ?_)
  dsimp only
  rw [nI_pred, nI_clamp (n := pos) (by omega), nI_clamp (n := h) (by omega)]
  exact ⟨vp_in_nI hpos (by decide), nm_e ⟨vp_in_nI hh (by decide), nm_e K⟩⟩
end
end
section
/-! one operator -/
abbrev qc_K : Type := (Nat → Int32) × (Nat → Int32) × (Nat → Int32) × (Nat → Int32) × (Nat → Int32)
def qc_w (W : qc_K) (pos : Nat) (o a b c d : Int32) : qc_K := (upd W.1 pos o, upd W.2.1 pos a, upd W.2.2.1 pos b, upd W.2.2.2.1 pos c, upd W.2.2.2.2 pos d)
section
variable {f_tables f_nodes f_codeLen f_rowMap f_rowWidth f_nextReg f_loops f_resRows f_resWidth : Int32} {a_tabWidth a_tabRows a_tab a_kind a_left a_right a_parent a_p a_q a_r a_nodeWidth a_bound a_wanted a_loopHead a_todo a_reg a_cursor a_loopKey a_met a_store a_storeRows a_headOf a_tailOf a_link a_result : Nat → Int32} {W : qc_K}
theorem qc_putW {post : SX → Prop} {pos : Nat} {o a b c dv : Int32} (hpos : pos < 192) (hd : qc_dv f_loops a_loopHead dv) (K : post (f_tables, f_nodes, nI (pos + 1), f_rowMap, f_rowWidth, f_nextReg, f_loops, f_resRows, f_resWidth, a_tabWidth, a_tabRows, a_tab, a_kind, a_left, a_right, a_parent, a_p, a_q, a_r, a_nodeWidth, a_bound, a_wanted, (qc_w W pos o a b c dv).1, (qc_w W pos o a b c dv).2.1, (qc_w W pos o a b c dv).2.2.1, (qc_w W pos o a b c dv).2.2.2.1, (qc_w W pos o a b c dv).2.2.2.2, a_loopHead, a_todo, a_reg, a_cursor, a_loopKey, a_met, a_store, a_storeRows, a_headOf, a_tailOf, a_link, a_result)) : wpX_put post (f_tables, f_nodes, nI pos, f_rowMap, f_rowWidth, f_nextReg, f_loops, f_resRows, f_resWidth, a_tabWidth, a_tabRows, a_tab, a_kind, a_left, a_right, a_parent, a_p, a_q, a_r, a_nodeWidth, a_bound, a_wanted, W.1, W.2.1, W.2.2.1, W.2.2.2.1, W.2.2.2.2, a_loopHead, a_todo, a_reg, a_cursor, a_loopKey, a_met, a_store, a_storeRows, a_headOf, a_tailOf, a_link, a_result) o a b c := qc_put hpos hd K
theorem qc_o1 {post : SX → Prop} {pos n pc : Nat} {ms : List Nat} {dv : Int32} (hpos : pos < 192) (hd : qc_dv f_loops a_loopHead dv) (hn : n < 12) (hk : a_kind n = 1) (hm : ∀ m ∈ ms, m < 32) (hl : ms.length ≤ 6) (hp : a_p n = nI pc) (hpc : pc < ms.length)
    (K : post (f_tables, f_nodes, nI (pos + 1), nI (qb_enc ms), f_rowWidth, f_nextReg, f_loops, f_resRows, f_resWidth, a_tabWidth, a_tabRows, a_tab, a_kind, a_left, a_right, a_parent, a_p, a_q, a_r, a_nodeWidth, a_bound, a_wanted, (qc_w W pos 3 (nI (ms.getD pc 0)) (a_q n) (a_r n) dv).1, (qc_w W pos 3 (nI (ms.getD pc 0)) (a_q n) (a_r n) dv).2.1, (qc_w W pos 3 (nI (ms.getD pc 0)) (a_q n) (a_r n) dv).2.2.1, (qc_w W pos 3 (nI (ms.getD pc 0)) (a_q n) (a_r n) dv).2.2.2.1, (qc_w W pos 3 (nI (ms.getD pc 0)) (a_q n) (a_r n) dv).2.2.2.2, a_loopHead, a_todo, a_reg, a_cursor, a_loopKey, a_met, a_store, a_storeRows, a_headOf, a_tailOf, a_link, a_result)) : wpX_operator post (f_tables, f_nodes, nI pos, nI (qb_enc ms), f_rowWidth, f_nextReg, f_loops, f_resRows, f_resWidth, a_tabWidth, a_tabRows, a_tab, a_kind, a_left, a_right, a_parent, a_p, a_q, a_r, a_nodeWidth, a_bound, a_wanted, W.1, W.2.1, W.2.2.1, W.2.2.2.1, W.2.2.2.2, a_loopHead, a_todo, a_reg, a_cursor, a_loopKey, a_met, a_store, a_storeRows, a_headOf, a_tailOf, a_link, a_result) (nI n) := by
  refine ⟨vp_in_nI hn (by decide), ?_⟩
  rw [nI_clamp (n := n) (by omega)]
  refine nm_r hk (br_f (by decide) (br_f (by decide) (br_t rfl ⟨vp_in_nI hn (by decide), ?_⟩)))
  rw [hp]
  exact qc_regOf hm hl hpc ⟨vp_in_nI hn (by decide), vp_in_nI hn (by decide), qc_putW hpos hd K⟩
theorem qc_o2 {post : SX → Prop} {pos n pc rc : Nat} {ms : List Nat} {dv : Int32} (hpos : pos < 192) (hd : qc_dv f_loops a_loopHead dv) (hn : n < 12) (hk : a_kind n = 2) (hm : ∀ m ∈ ms, m < 32) (hl : ms.length ≤ 6) (hp : a_p n = nI pc) (hpc : pc < ms.length) (hr : a_r n = nI rc) (hrc : rc < ms.length)
    (K : post (f_tables, f_nodes, nI (pos + 1), nI (qb_enc ms), f_rowWidth, f_nextReg, f_loops, f_resRows, f_resWidth, a_tabWidth, a_tabRows, a_tab, a_kind, a_left, a_right, a_parent, a_p, a_q, a_r, a_nodeWidth, a_bound, a_wanted, (qc_w W pos 4 (nI (ms.getD pc 0)) (a_q n) (nI (ms.getD rc 0)) dv).1, (qc_w W pos 4 (nI (ms.getD pc 0)) (a_q n) (nI (ms.getD rc 0)) dv).2.1, (qc_w W pos 4 (nI (ms.getD pc 0)) (a_q n) (nI (ms.getD rc 0)) dv).2.2.1, (qc_w W pos 4 (nI (ms.getD pc 0)) (a_q n) (nI (ms.getD rc 0)) dv).2.2.2.1, (qc_w W pos 4 (nI (ms.getD pc 0)) (a_q n) (nI (ms.getD rc 0)) dv).2.2.2.2, a_loopHead, a_todo, a_reg, a_cursor, a_loopKey, a_met, a_store, a_storeRows, a_headOf, a_tailOf, a_link, a_result)) : wpX_operator post (f_tables, f_nodes, nI pos, nI (qb_enc ms), f_rowWidth, f_nextReg, f_loops, f_resRows, f_resWidth, a_tabWidth, a_tabRows, a_tab, a_kind, a_left, a_right, a_parent, a_p, a_q, a_r, a_nodeWidth, a_bound, a_wanted, W.1, W.2.1, W.2.2.1, W.2.2.2.1, W.2.2.2.2, a_loopHead, a_todo, a_reg, a_cursor, a_loopKey, a_met, a_store, a_storeRows, a_headOf, a_tailOf, a_link, a_result) (nI n) := by
  refine ⟨vp_in_nI hn (by decide), ?_⟩
  rw [nI_clamp (n := n) (by omega)]
  refine nm_r hk (br_f (by decide) (br_f (by decide) (br_f (by decide) (br_t rfl ⟨vp_in_nI hn (by decide), ?_⟩))))
  rw [hp, hr]
  exact qc_regOf hm hl hpc ⟨vp_in_nI hn (by decide), qc_regOf hm hl hrc ⟨vp_in_nI hn (by decide), qc_putW hpos hd K⟩⟩
theorem qc_o3 {post : SX → Prop} {pos n qc rc nr : Nat} {ms : List Nat} {dv : Int32} (hpos : pos < 192) (hd : qc_dv f_loops a_loopHead dv) (hn : n < 12) (hk : a_kind n = 3) (hm : ∀ m ∈ ms, m < 32) (hl : ms.length + 1 ≤ 6) (hnr : nr + 1 ≤ 32) (hq : a_q n = nI qc) (hqc : qc < ms.length) (hr : a_r n = nI rc) (hrc : rc < ms.length)
    (K : post (f_tables, f_nodes, nI (pos + 1), nI (qb_enc (ms ++ [nr])), nI (ms.length + 1), nI (nr + 1), f_loops, f_resRows, f_resWidth, a_tabWidth, a_tabRows, a_tab, a_kind, a_left, a_right, a_parent, a_p, a_q, a_r, a_nodeWidth, a_bound, a_wanted, (qc_w W pos 5 (a_p n) (nI (ms.getD qc 0 + 32 * ms.getD rc 0)) (nI nr) dv).1, (qc_w W pos 5 (a_p n) (nI (ms.getD qc 0 + 32 * ms.getD rc 0)) (nI nr) dv).2.1, (qc_w W pos 5 (a_p n) (nI (ms.getD qc 0 + 32 * ms.getD rc 0)) (nI nr) dv).2.2.1, (qc_w W pos 5 (a_p n) (nI (ms.getD qc 0 + 32 * ms.getD rc 0)) (nI nr) dv).2.2.2.1, (qc_w W pos 5 (a_p n) (nI (ms.getD qc 0 + 32 * ms.getD rc 0)) (nI nr) dv).2.2.2.2, a_loopHead, a_todo, a_reg, a_cursor, a_loopKey, a_met, a_store, a_storeRows, a_headOf, a_tailOf, a_link, a_result)) : wpX_operator post (f_tables, f_nodes, nI pos, nI (qb_enc ms), nI ms.length, nI nr, f_loops, f_resRows, f_resWidth, a_tabWidth, a_tabRows, a_tab, a_kind, a_left, a_right, a_parent, a_p, a_q, a_r, a_nodeWidth, a_bound, a_wanted, W.1, W.2.1, W.2.2.1, W.2.2.2.1, W.2.2.2.2, a_loopHead, a_todo, a_reg, a_cursor, a_loopKey, a_met, a_store, a_storeRows, a_headOf, a_tailOf, a_link, a_result) (nI n) := by
  refine ⟨vp_in_nI hn (by decide), ?_⟩
  rw [nI_clamp (n := n) (by omega)]
  refine nm_r hk (br_f (by decide) (br_f (by decide) (br_f (by decide) (br_f (by decide) (br_t rfl ⟨vp_in_nI hn (by decide), ?_⟩)))))
  rw [hq, hr]
  refine qc_regOf hm (by omega) hqc ⟨vp_in_nI hn (by decide), qc_regOf hm (by omega) hrc ?_⟩
  refine qc_append (w := 1) hm hl hnr ?_
  refine ⟨vp_in_nI hn (by decide), ?_⟩
  have e1 : nI (ms.getD qc 0) + 32 * nI (ms.getD rc 0) = nI (ms.getD qc 0 + 32 * ms.getD rc 0) := by
    rw [show (32 : Int32) = nI 32 from rfl, pk_mul, nI_add]
  rw [e1, nI_pred]
  exact qc_putW hpos hd K
theorem qc_o4 {post : SX → Prop} {n w : Nat} {ms : List Nat} (hn : n < 12) (hk : a_kind n = 4) (hm : ∀ m ∈ ms, m < 32) (hl : ms.length ≤ 6) (hw : w ≤ 6) (hq : a_q n = nI w) (hc : ∀ i, i < w → qp_col (a_p n) i < ms.length)
    (K : post (f_tables, f_nodes, f_codeLen, nI (qb_enc ((List.range w).map (fun i => ms.getD (qp_col (a_p n) i) 0))), nI w, f_nextReg, f_loops, f_resRows, f_resWidth, a_tabWidth, a_tabRows, a_tab, a_kind, a_left, a_right, a_parent, a_p, a_q, a_r, a_nodeWidth, a_bound, a_wanted, W.1, W.2.1, W.2.2.1, W.2.2.2.1, W.2.2.2.2, a_loopHead, a_todo, a_reg, a_cursor, a_loopKey, a_met, a_store, a_storeRows, a_headOf, a_tailOf, a_link, a_result)) : wpX_operator post (f_tables, f_nodes, f_codeLen, nI (qb_enc ms), f_rowWidth, f_nextReg, f_loops, f_resRows, f_resWidth, a_tabWidth, a_tabRows, a_tab, a_kind, a_left, a_right, a_parent, a_p, a_q, a_r, a_nodeWidth, a_bound, a_wanted, W.1, W.2.1, W.2.2.1, W.2.2.2.1, W.2.2.2.2, a_loopHead, a_todo, a_reg, a_cursor, a_loopKey, a_met, a_store, a_storeRows, a_headOf, a_tailOf, a_link, a_result) (nI n) := by
  refine ⟨vp_in_nI hn (by decide), ?_⟩
  rw [nI_clamp (n := n) (by omega)]
  refine nm_r hk (br_f (by decide) (br_f (by decide) (br_f (by decide) (br_f (by decide) (br_f (by decide) (br_t rfl ⟨vp_in_nI hn (by decide), vp_in_nI hn (by decide), ?_⟩))))))
  rw [hq]
  exact qc_choose hm hl hw hc K
theorem qc_o5s {post : SX → Prop} {pos n qc : Nat} {ms : List Nat} {dv : Int32} (hpos : pos < 192) (hd : qc_dv f_loops a_loopHead dv) (hn : n < 12) (hk : a_kind n = 5) (hm : ∀ m ∈ ms, m < 32) (hl : ms.length ≤ 6) (hq : a_q n = nI qc) (hqc : qc < ms.length) (hp : a_p n = 1 ∨ a_p n = 2)
    (K : post (f_tables, f_nodes, nI (pos + 1), nI (qb_enc ms), f_rowWidth, f_nextReg, f_loops, f_resRows, f_resWidth, a_tabWidth, a_tabRows, a_tab, a_kind, a_left, a_right, a_parent, a_p, a_q, a_r, a_nodeWidth, a_bound, a_wanted, (qc_w W pos 8 (nI n) (nI (ms.getD qc 0)) (if decide (a_p n = 1) = true then 1 else 0) dv).1, (qc_w W pos 8 (nI n) (nI (ms.getD qc 0)) (if decide (a_p n = 1) = true then 1 else 0) dv).2.1, (qc_w W pos 8 (nI n) (nI (ms.getD qc 0)) (if decide (a_p n = 1) = true then 1 else 0) dv).2.2.1, (qc_w W pos 8 (nI n) (nI (ms.getD qc 0)) (if decide (a_p n = 1) = true then 1 else 0) dv).2.2.2.1, (qc_w W pos 8 (nI n) (nI (ms.getD qc 0)) (if decide (a_p n = 1) = true then 1 else 0) dv).2.2.2.2, a_loopHead, a_todo, a_reg, a_cursor, a_loopKey, a_met, a_store, a_storeRows, a_headOf, a_tailOf, a_link, a_result)) : wpX_operator post (f_tables, f_nodes, nI pos, nI (qb_enc ms), f_rowWidth, f_nextReg, f_loops, f_resRows, f_resWidth, a_tabWidth, a_tabRows, a_tab, a_kind, a_left, a_right, a_parent, a_p, a_q, a_r, a_nodeWidth, a_bound, a_wanted, W.1, W.2.1, W.2.2.1, W.2.2.2.1, W.2.2.2.2, a_loopHead, a_todo, a_reg, a_cursor, a_loopKey, a_met, a_store, a_storeRows, a_headOf, a_tailOf, a_link, a_result) (nI n) := by
  refine ⟨vp_in_nI hn (by decide), ?_⟩
  rw [nI_clamp (n := n) (by omega)]
  refine nm_r hk (br_f (by decide) (br_f (by decide) (br_f (by decide) (br_f (by decide) (br_f (by decide) (br_f (by decide) (br_t rfl ?_)))))))
  refine ⟨vp_in_nI hn (by decide), ?_⟩
  rw [nI_clamp (n := n) (by omega), hq]
  refine qc_regOf hm hl hqc ⟨vp_in_nI hn (by decide), ?_⟩
  have J : wX_joinCode_31 (fun u => post u) (nI n) (nI (ms.getD qc 0)) f_tables f_nodes (nI pos) (nI (qb_enc ms)) f_rowWidth f_nextReg f_loops f_resRows f_resWidth a_tabWidth a_tabRows a_tab a_kind a_left a_right a_parent a_p a_q a_r a_nodeWidth a_bound a_wanted W.1 W.2.1 W.2.2.1 W.2.2.2.1 W.2.2.2.2 a_loopHead a_todo a_reg a_cursor a_loopKey a_met a_store a_storeRows a_headOf a_tailOf a_link a_result := by
    refine ⟨vp_in_nI hn (by decide), ?_⟩
    rw [nI_clamp (n := n) (by omega)]
    by_cases e : a_p n = 1
    · rw [decide_eq_true e, if_pos rfl] at K
      exact br_t e (qc_putW hpos hd K)
    · rw [decide_eq_false e, if_neg (by decide)] at K
      exact br_f e (qc_putW hpos hd K)
  by_cases e : a_p n = 1
  · exact br_t e J
  · exact br_f e ⟨vp_in_nI hn (by decide), br_t (hp.resolve_left e) J⟩
theorem qc_o5i {post : SX → Prop} {pos n qc nr w rr l : Nat} {ms : List Nat} {dv : Int32} (hpos : pos + 1 < 192) (hl8 : l < 8) (hlp : f_loops = nI l) (hd : qc_dv f_loops a_loopHead dv) (hn : n < 12) (hk : a_kind n = 5) (hm : ∀ m ∈ ms, m < 32) (hl : ms.length + w ≤ 6) (hw : 1 ≤ w) (hnr : nr + w ≤ 32) (hq : a_q n = nI qc) (hqc : qc < ms.length) (hp1 : ¬ a_p n = 1) (hp2 : ¬ a_p n = 2)
    (hrr : rr < 12) (hrt : a_right n = nI rr) (hnw : a_nodeWidth rr = nI w)
    (K : post (f_tables, f_nodes, nI (pos + 2), nI (qb_enc (ms ++ List.range' nr w)), nI (ms.length + w), nI (nr + w), nI (l + 1), f_resRows, f_resWidth, a_tabWidth, a_tabRows, a_tab, a_kind, a_left, a_right, a_parent, a_p, a_q, a_r, a_nodeWidth, a_bound, a_wanted, (qc_w (qc_w W pos 6 (nI l) (nI n) (nI (ms.getD qc 0)) dv) (pos + 1) 7 (nI l) (nI n) (nI (qb_enc (List.range' nr w))) (nI (pos + 1))).1, (qc_w (qc_w W pos 6 (nI l) (nI n) (nI (ms.getD qc 0)) dv) (pos + 1) 7 (nI l) (nI n) (nI (qb_enc (List.range' nr w))) (nI (pos + 1))).2.1, (qc_w (qc_w W pos 6 (nI l) (nI n) (nI (ms.getD qc 0)) dv) (pos + 1) 7 (nI l) (nI n) (nI (qb_enc (List.range' nr w))) (nI (pos + 1))).2.2.1, (qc_w (qc_w W pos 6 (nI l) (nI n) (nI (ms.getD qc 0)) dv) (pos + 1) 7 (nI l) (nI n) (nI (qb_enc (List.range' nr w))) (nI (pos + 1))).2.2.2.1, (qc_w (qc_w W pos 6 (nI l) (nI n) (nI (ms.getD qc 0)) dv) (pos + 1) 7 (nI l) (nI n) (nI (qb_enc (List.range' nr w))) (nI (pos + 1))).2.2.2.2, upd a_loopHead l (nI (pos + 1)), a_todo, a_reg, a_cursor, a_loopKey, a_met, a_store, a_storeRows, a_headOf, a_tailOf, a_link, a_result)) :
    wpX_operator post (f_tables, f_nodes, nI pos, nI (qb_enc ms), nI ms.length, nI nr, f_loops, f_resRows, f_resWidth, a_tabWidth, a_tabRows, a_tab, a_kind, a_left, a_right, a_parent, a_p, a_q, a_r, a_nodeWidth, a_bound, a_wanted, W.1, W.2.1, W.2.2.1, W.2.2.2.1, W.2.2.2.2, a_loopHead, a_todo, a_reg, a_cursor, a_loopKey, a_met, a_store, a_storeRows, a_headOf, a_tailOf, a_link, a_result) (nI n) := by
  refine ⟨vp_in_nI hn (by decide), ?_⟩
  rw [nI_clamp (n := n) (by omega)]
  refine nm_r hk (br_f (by decide) (br_f (by decide) (br_f (by decide) (br_f (by decide) (br_f (by decide) (br_f (by decide) (br_t rfl ?_)))))))
  refine ⟨vp_in_nI hn (by decide), ?_⟩
  rw [nI_clamp (n := n) (by omega), hq]
  refine qc_regOf hm (by omega) hqc ⟨vp_in_nI hn (by decide), br_f hp1 ⟨vp_in_nI hn (by decide), br_f hp2 ?_⟩⟩
  refine qc_putW (by omega) hd ?_
  refine ⟨vp_in_nI hn (by decide), ?_⟩
  rw [hrt, nI_clamp (n := rr) (by omega), hnw, hlp]
  refine ⟨vp_in_nI hrr (by decide), ?_⟩
  refine qc_append hm hl hnr ?_
  refine qc_open hl8 ?_
  dsimp only
  have hall : ∀ m ∈ ms ++ List.range' nr w, m < 32 := fun m h => by
    rcases List.mem_append.1 h with e | e
    · exact hm m e
    · rw [List.mem_range'_1] at e; omega
  rw [qb_shr hall (by rw [List.length_append, List.length_range']; omega) (by omega), List.drop_left]
  exact qc_putW (W := qc_w W pos 6 (nI l) (nI n) (nI (ms.getD qc 0)) dv) (by omega) (Or.inr ⟨l, hl8, rfl, pk_us⟩) K
theorem qc_o6 {post : SX → Prop} {n : Nat} (hn : n < 12) (hk : a_kind n = 6) (K : post (f_tables, f_nodes, f_codeLen, f_rowMap, f_rowWidth, f_nextReg, f_loops, f_resRows, f_resWidth, a_tabWidth, a_tabRows, a_tab, a_kind, a_left, a_right, a_parent, a_p, a_q, a_r, a_nodeWidth, a_bound, a_wanted, W.1, W.2.1, W.2.2.1, W.2.2.2.1, W.2.2.2.2, a_loopHead, a_todo, a_reg, a_cursor, a_loopKey, a_met, a_store, a_storeRows, a_headOf, a_tailOf, a_link, a_result)) : wpX_operator post (f_tables, f_nodes, f_codeLen, f_rowMap, f_rowWidth, f_nextReg, f_loops, f_resRows, f_resWidth, a_tabWidth, a_tabRows, a_tab, a_kind, a_left, a_right, a_parent, a_p, a_q, a_r, a_nodeWidth, a_bound, a_wanted, W.1, W.2.1, W.2.2.1, W.2.2.2.1, W.2.2.2.2, a_loopHead, a_todo, a_reg, a_cursor, a_loopKey, a_met, a_store, a_storeRows, a_headOf, a_tailOf, a_link, a_result) (nI n) := by
  refine ⟨vp_in_nI hn (by decide), ?_⟩
  rw [nI_clamp (n := n) (by omega)]
  exact nm_r hk (br_f (by decide) (br_f (by decide) (br_f (by decide) (br_f (by decide) (br_f (by decide) (br_f (by decide) (br_f (by decide) (br_t rfl K))))))))
theorem qc_o8 {post : SX → Prop} {pos n : Nat} {dv : Int32} (hpos : pos < 192) (hd : qc_dv f_loops a_loopHead dv) (hn : n < 12) (hk : a_kind n = 8)
    (K : post (f_tables, f_nodes, nI (pos + 1), f_rowMap, f_rowWidth, f_nextReg, f_loops, f_resRows, f_resWidth, a_tabWidth, a_tabRows, a_tab, a_kind, a_left, a_right, a_parent, a_p, a_q, a_r, a_nodeWidth, a_bound, a_wanted, (qc_w W pos 9 (nI n) f_rowWidth f_rowMap dv).1, (qc_w W pos 9 (nI n) f_rowWidth f_rowMap dv).2.1, (qc_w W pos 9 (nI n) f_rowWidth f_rowMap dv).2.2.1, (qc_w W pos 9 (nI n) f_rowWidth f_rowMap dv).2.2.2.1, (qc_w W pos 9 (nI n) f_rowWidth f_rowMap dv).2.2.2.2, a_loopHead, a_todo, a_reg, a_cursor, a_loopKey, a_met, a_store, a_storeRows, a_headOf, a_tailOf, a_link, a_result)) : wpX_operator post (f_tables, f_nodes, nI pos, f_rowMap, f_rowWidth, f_nextReg, f_loops, f_resRows, f_resWidth, a_tabWidth, a_tabRows, a_tab, a_kind, a_left, a_right, a_parent, a_p, a_q, a_r, a_nodeWidth, a_bound, a_wanted, W.1, W.2.1, W.2.2.1, W.2.2.2.1, W.2.2.2.2, a_loopHead, a_todo, a_reg, a_cursor, a_loopKey, a_met, a_store, a_storeRows, a_headOf, a_tailOf, a_link, a_result) (nI n) := by
  refine ⟨vp_in_nI hn (by decide), ?_⟩
  rw [nI_clamp (n := n) (by omega)]
  exact nm_r hk (br_f (by decide) (br_f (by decide) (br_f (by decide) (br_f (by decide) (br_f (by decide) (br_f (by decide) (br_f (by decide) (br_f (by decide) (br_f (by decide) (br_t rfl (qc_putW hpos hd K)))))))))))
theorem qc_o9 {post : SX → Prop} {pos n : Nat} {dv : Int32} (hpos : pos < 192) (hd : qc_dv f_loops a_loopHead dv) (hn : n < 12) (hk : a_kind n = 9)
    (K : post (f_tables, f_nodes, nI (pos + 1), f_rowMap, f_rowWidth, f_nextReg, f_loops, f_resRows, f_resWidth, a_tabWidth, a_tabRows, a_tab, a_kind, a_left, a_right, a_parent, a_p, a_q, a_r, a_nodeWidth, a_bound, a_wanted, (qc_w W pos 10 (nI n) 0 0 dv).1, (qc_w W pos 10 (nI n) 0 0 dv).2.1, (qc_w W pos 10 (nI n) 0 0 dv).2.2.1, (qc_w W pos 10 (nI n) 0 0 dv).2.2.2.1, (qc_w W pos 10 (nI n) 0 0 dv).2.2.2.2, a_loopHead, a_todo, a_reg, a_cursor, a_loopKey, a_met, a_store, a_storeRows, a_headOf, a_tailOf, a_link, a_result)) : wpX_operator post (f_tables, f_nodes, nI pos, f_rowMap, f_rowWidth, f_nextReg, f_loops, f_resRows, f_resWidth, a_tabWidth, a_tabRows, a_tab, a_kind, a_left, a_right, a_parent, a_p, a_q, a_r, a_nodeWidth, a_bound, a_wanted, W.1, W.2.1, W.2.2.1, W.2.2.2.1, W.2.2.2.2, a_loopHead, a_todo, a_reg, a_cursor, a_loopKey, a_met, a_store, a_storeRows, a_headOf, a_tailOf, a_link, a_result) (nI n) := by
  refine ⟨vp_in_nI hn (by decide), ?_⟩
  rw [nI_clamp (n := n) (by omega)]
  exact nm_r hk (br_f (by decide) (br_f (by decide) (br_f (by decide) (br_f (by decide) (br_f (by decide) (br_f (by decide) (br_f (by decide) (br_f (by decide) (br_f (by decide) (br_f (by decide) (br_t rfl (qc_putW hpos hd K))))))))))))
/-- the sink's instruction -/
theorem qc_sink {post : SX → Prop} {g : qp_PL} {k pos : Nat} {ms : List Nat} {dv : Int32} (hpos : pos < 192) (hd : qc_dv f_loops a_loopHead dv) (hm : ∀ m ∈ ms, m < 32) (hl : ms.length ≤ 6)
    (hk : k = 12 ∨ (k < 12 ∧ ((a_kind k = 5 ∧ qp_kd g k = 5) ∨ (a_kind k = 10 ∧ qp_kd g k = 10) ∨ (a_kind k = 7 ∧ qp_kd g k = 7 ∧ (∃ a, a < ms.length ∧ a_p k = nI a ∧ qp_p g k = nI a) ∧ (∃ a, a < ms.length ∧ a_r k = nI a ∧ qp_r g k = nI a)))))
    (K : ∀ o a b c, (k = 12 → o = 14 ∧ a = 0 ∧ b = nI ms.length ∧ c = nI (qb_enc ms)) → (k ≠ 12 → (qp_kd g k = 5 → o = 11 ∧ a = nI k ∧ b = nI ms.length ∧ c = nI (qb_enc ms)) ∧ (qp_kd g k = 10 → o = 13 ∧ a = nI k ∧ b = nI ms.length ∧ c = nI (qb_enc ms)) ∧ (qp_kd g k = 7 → o = 12 ∧ a = nI k ∧ b = nI (ms.getD (qp_p g k).toNatClampNeg 0) ∧ c = nI (ms.getD (qp_r g k).toNatClampNeg 0))) →
      post (f_tables, f_nodes, nI (pos + 1), nI (qb_enc ms), nI ms.length, f_nextReg, f_loops, f_resRows, f_resWidth, a_tabWidth, a_tabRows, a_tab, a_kind, a_left, a_right, a_parent, a_p, a_q, a_r, a_nodeWidth, a_bound, a_wanted, (qc_w W pos o a b c dv).1, (qc_w W pos o a b c dv).2.1, (qc_w W pos o a b c dv).2.2.1, (qc_w W pos o a b c dv).2.2.2.1, (qc_w W pos o a b c dv).2.2.2.2, a_loopHead, a_todo, a_reg, a_cursor, a_loopKey, a_met, a_store, a_storeRows, a_headOf, a_tailOf, a_link, a_result)) :
    wpX_sinkCode post (f_tables, f_nodes, nI pos, nI (qb_enc ms), nI ms.length, f_nextReg, f_loops, f_resRows, f_resWidth, a_tabWidth, a_tabRows, a_tab, a_kind, a_left, a_right, a_parent, a_p, a_q, a_r, a_nodeWidth, a_bound, a_wanted, W.1, W.2.1, W.2.2.1, W.2.2.2.1, W.2.2.2.2, a_loopHead, a_todo, a_reg, a_cursor, a_loopKey, a_met, a_store, a_storeRows, a_headOf, a_tailOf, a_link, a_result) (if k = 12 then -1 else nI k) := by
  rcases hk with e | ⟨h12, hk⟩
  · rw [if_pos e]
    exact br_f (by decide) (qc_putW hpos hd (K _ _ _ _ (fun _ => ⟨rfl, rfl, rfl, rfl⟩) (fun z => absurd e z)))
  · rw [if_neg (by omega)]
    refine br_t (nI_pos' (by omega)) ⟨vp_in_nI h12 (by decide), ?_⟩
    rw [nI_clamp (n := k) (by omega)]
    rcases hk with ⟨e, ek⟩ | ⟨e, ek⟩ | ⟨e, ek, ⟨a, ha, ea, ea'⟩, ⟨b, hb, eb, eb'⟩⟩
    · exact br_t e (qc_putW hpos hd (K _ _ _ _ (fun z => by omega) (fun _ => ⟨fun _ => ⟨rfl, rfl, rfl, rfl⟩, fun z => by omega, fun z => by omega⟩)))
    · refine br_f (by rw [e]; decide) ⟨vp_in_nI h12 (by decide), br_t e (qc_putW hpos hd (K _ _ _ _ (fun z => by omega) (fun _ => ⟨fun z => by omega, fun _ => ⟨rfl, rfl, rfl, rfl⟩, fun z => by omega⟩)))⟩
    · refine br_f (by rw [e]; decide) ⟨vp_in_nI h12 (by decide), br_f (by rw [e]; decide) ⟨vp_in_nI h12 (by decide), ?_⟩⟩
      rw [ea, eb]
      refine qc_regOf hm hl ha ⟨vp_in_nI h12 (by decide), qc_regOf hm hl hb (qc_putW hpos hd (K _ _ _ _ (fun z => by omega) (fun _ => ⟨fun z => by omega, fun z => by omega, fun _ => ⟨rfl, rfl, ?_, ?_⟩⟩)))⟩
      · rw [ea', nI_clamp (by omega)]
      · rw [eb', nI_clamp (by omega)]
end
end
section
/-! closing the loops; the operators of a path; a pipeline -/
def qc_C (W : qc_K) : qm_C := (0, 0, 0, 0, 0, 0, 0, 0, (fun _ => 0), (fun _ => 0), (fun _ => 0), (fun _ => 0), (fun _ => 0), (fun _ => 0), (fun _ => 0), (fun _ => 0), (fun _ => 0), (fun _ => 0), (fun _ => 0), (fun _ => 0), (fun _ => 0), W.1, W.2.1, W.2.2.1, W.2.2.2.1, W.2.2.2.2, (fun _ => 0), (fun _ => 0))
/-- W' keeps what W holds below pos, but for where the heads go -/
def qc_ag (pos : Nat) (hs : List Nat) (W W' : qc_K) : Prop := ∀ i, i < pos → W'.1 i = W.1 i ∧ W'.2.1 i = W.2.1 i ∧ W'.2.2.1 i = W.2.2.1 i ∧ W'.2.2.2.1 i = W.2.2.2.1 i ∧ (i ∉ hs → W'.2.2.2.2 i = W.2.2.2.2 i)
def qc_lh (lh : Nat → Int32) : List Nat → Prop
  | [] => True
  | h :: hs => lh hs.length = nI h ∧ qc_lh lh hs
def qc_hd : Nat → List Nat → Prop
  | _, [] => True
  | pos, h :: hs => h < pos ∧ qc_hd h hs
theorem qc_hd_lt : ∀ (hs : List Nat) (pos m : Nat), qc_hd pos hs → m ∈ hs → m < pos := by
  intro hs
  induction hs with
  | nil => intro pos m _ h; exact absurd h (List.not_mem_nil)
  | cons h hs ih =>
    intro pos m hh hm
    rcases List.mem_cons.1 hm with e | e
    · rw [e]; exact hh.1
    · have := ih h m hh.2 e; have := hh.1; omega
theorem qc_hd_mono {hs : List Nat} {pos pos' : Nat} (h : pos ≤ pos') (hh : qc_hd pos hs) : qc_hd pos' hs := by
  cases hs with
  | nil => trivial
  | cons a hs => exact ⟨by have := hh.1; omega, hh.2⟩
theorem qc_lh_fr {lh lh' : Nat → Int32} : ∀ (hs : List Nat), (∀ i, i < hs.length → lh' i = lh i) → qc_lh lh hs → qc_lh lh' hs := by
  intro hs
  induction hs with
  | nil => intro _ _; trivial
  | cons h hs ih =>
    intro e H
    exact ⟨by rw [e _ (by show hs.length < hs.length + 1; omega)]; exact H.1, ih (fun i hi => e i (by show i < hs.length + 1; omega)) H.2⟩
theorem qc_ag_w {pos pos' : Nat} {hs hs' : List Nat} {W W' : qc_K} {o a b c d : Int32} (h : qc_ag pos' hs' (qc_w W pos o a b c d) W') (hp : pos ≤ pos') (hh : ∀ m, m ∈ hs' → m ∈ hs ∨ pos ≤ m) : qc_ag pos hs W W' := by
  intro i hi
  obtain ⟨a1, a2, a3, a4, a5⟩ := h i (by omega)
  have e : i ≠ pos := by omega
  unfold qc_w at a1 a2 a3 a4 a5
  dsimp only at a1 a2 a3 a4 a5
  rw [pk_un e] at a1 a2 a3 a4 a5
  refine ⟨a1, a2, a3, a4, fun hn => a5 (fun hm => ?_)⟩
  rcases hh i hm with z | z
  · exact hn z
  · omega
theorem qc_ag_in {pos pos' : Nat} {hs' : List Nat} {W W' : qc_K} {o a b c d : Int32} (h : qc_ag pos' hs' (qc_w W pos o a b c d) W') (hp : pos < pos') : qm_In (qc_C W') pos o a b c ∧ (∀ d', d = nI d' → pos ∉ hs' → qm_Dt (qc_C W') pos d') := by
  obtain ⟨a1, a2, a3, a4, a5⟩ := h pos hp
  unfold qc_w at a1 a2 a3 a4 a5
  dsimp only at a1 a2 a3 a4 a5
  rw [pk_us] at a1 a2 a3 a4 a5
  exact ⟨⟨a1, a2, a3, a4⟩, fun d' e hn => by
    have := a5 hn
    rw [e] at this
    exact this⟩
section
variable {f_tables f_nodes f_codeLen f_rowMap f_rowWidth f_nextReg f_loops f_resRows f_resWidth : Int32} {a_tabWidth a_tabRows a_tab a_kind a_left a_right a_parent a_p a_q a_r a_nodeWidth a_bound a_wanted a_loopHead a_todo a_reg a_cursor a_loopKey a_met a_store a_storeRows a_headOf a_tailOf a_link a_result : Nat → Int32}
theorem qc_closes {post : SX → Prop} {dv : Int32} (hd : qc_dv f_loops a_loopHead dv) : ∀ (hs : List Nat) (pos : Nat) (W : qc_K) (fuel : Nat), hs.length < fuel → qc_hd pos hs → qc_lh a_loopHead hs → hs.length ≤ 8 → pos + hs.length ≤ 192 →
    (∀ W', qc_ag pos hs W W' → qm_Cls (qc_C W') hs pos → post (f_tables, f_nodes, nI (pos + hs.length), f_rowMap, f_rowWidth, f_nextReg, 0, f_resRows, f_resWidth, a_tabWidth, a_tabRows, a_tab, a_kind, a_left, a_right, a_parent, a_p, a_q, a_r, a_nodeWidth, a_bound, a_wanted, W'.1, W'.2.1, W'.2.2.1, W'.2.2.2.1, W'.2.2.2.2, a_loopHead, a_todo, a_reg, a_cursor, a_loopKey, a_met, a_store, a_storeRows, a_headOf, a_tailOf, a_link, a_result)) → wX_pipeline_106 post fuel (nI hs.length - 1) f_tables f_nodes (nI pos) f_rowMap f_rowWidth f_nextReg f_loops f_resRows f_resWidth a_tabWidth a_tabRows a_tab a_kind a_left a_right a_parent a_p a_q a_r a_nodeWidth a_bound a_wanted W.1 W.2.1 W.2.2.1 W.2.2.2.1 W.2.2.2.2 a_loopHead a_todo a_reg a_cursor a_loopKey a_met a_store a_storeRows a_headOf a_tailOf a_link a_result := by
  intro hs
  induction hs with
  | nil =>
    intro pos W fuel hf _ _ _ _ K
    obtain ⟨f, rfl⟩ : ∃ f', fuel = f' + 1 := ⟨fuel - 1, by omega⟩
    exact br_t (by decide) (K W (fun i _ => ⟨rfl, rfl, rfl, rfl, fun _ => rfl⟩) trivial)
  | cons h t ih =>
    intro pos W fuel hf hh hl h8 h192 K
    obtain ⟨f, rfl⟩ : ∃ f', fuel = f' + 1 := ⟨fuel - 1, by omega⟩
    have hlen : (h :: t).length = t.length + 1 := rfl
    rw [hlen] at hf h8 h192 K ⊢
    have hhp := hh.1
    rw [nI_pred]
    refine br_f (nI_pos (by omega)) ?_
    refine qc_close (a_cOp := W.1) (by omega) (by omega) (by omega) hl.1 hd ?_
    refine nm_r (e' := nI t.length - 1) (by rw [Int32.sub_eq_add_neg]) ?_
    refine ih (pos + 1) (upd W.1 pos 15, upd W.2.1 pos 0, upd W.2.2.1 pos 0, upd W.2.2.2.1 pos 0, upd (upd (upd W.2.2.2.2 pos dv) pos (nI h)) h (nI (pos + 1))) f (by omega) (qc_hd_mono (by omega) hh.2) hl.2 (by omega) (by omega) ?_
    intro W' hag hcl
    have e : pos + 1 + t.length = pos + (t.length + 1) := by omega
    rw [e]
    have tl : ∀ m, m ∈ t → m < h := fun m hm => qc_hd_lt t h m hh.2 hm
    refine K W' ?_ ⟨?_, ?_, ?_, by omega, hcl⟩
    · intro i hi
      obtain ⟨a1, a2, a3, a4, a5⟩ := hag i (by omega)
      dsimp only at a1 a2 a3 a4 a5
      rw [pk_un (by omega)] at a1 a2 a3 a4
      refine ⟨a1, a2, a3, a4, fun hn => ?_⟩
      have ne : i ≠ h := fun e => hn (by rw [e]; exact List.mem_cons_self ..)
      rw [a5 (fun hm => hn (List.mem_cons_of_mem _ hm)), pk_un ne, pk_un (by omega), pk_un (by omega)]
    · obtain ⟨a1, a2, a3, a4, a5⟩ := hag pos (by omega)
      dsimp only at a1 a2 a3 a4
      rw [pk_us] at a1 a2 a3 a4
      exact ⟨a1, a2, a3, a4⟩
    · obtain ⟨_, _, _, _, a5⟩ := hag pos (by omega)
      have := a5 (fun hm => by have := tl pos hm; omega)
      dsimp only at this
      rw [pk_un (by omega), pk_us] at this
      exact this
    · obtain ⟨_, _, _, _, a5⟩ := hag h (by omega)
      have := a5 (fun hm => by have := tl h hm; omega)
      dsimp only at this
      rw [pk_us] at this
      exact this
/-- the sink and the closing jumps -/
theorem qc_93 {post : SX → Prop} {g : qp_PL} {k pos : Nat} {ms : List Nat} {nr h : Nat} {hs : List Nat} {W : qc_K} (hm : ∀ m ∈ ms, m < 32) (hl : ms.length ≤ 6) (hh : qc_hd pos (h :: hs)) (hlh : qc_lh a_loopHead (h :: hs)) (h8 : hs.length < 8) (h192 : pos + 1 + (hs.length + 1) ≤ 192)
    (hk : k = 12 ∨ (k < 12 ∧ ((a_kind k = 5 ∧ qp_kd g k = 5) ∨ (a_kind k = 10 ∧ qp_kd g k = 10) ∨ (a_kind k = 7 ∧ qp_kd g k = 7 ∧ (∃ a, a < ms.length ∧ a_p k = nI a ∧ qp_p g k = nI a) ∧ (∃ a, a < ms.length ∧ a_r k = nI a ∧ qp_r g k = nI a)))))
    (K : ∀ W', qc_ag pos (h :: hs) W W' → qm_Seg (qc_C W') g k [] ms nr (h :: hs) pos (pos + 1 + (hs.length + 1)) → post (f_tables, f_nodes, nI (pos + 1 + (hs.length + 1)), nI (qb_enc ms), nI ms.length, nI nr, 0, f_resRows, f_resWidth, a_tabWidth, a_tabRows, a_tab, a_kind, a_left, a_right, a_parent, a_p, a_q, a_r, a_nodeWidth, a_bound, a_wanted, W'.1, W'.2.1, W'.2.2.1, W'.2.2.2.1, W'.2.2.2.2, a_loopHead, a_todo, a_reg, a_cursor, a_loopKey, a_met, a_store, a_storeRows, a_headOf, a_tailOf, a_link, a_result)) :
    wX_pipeline_93 post (if k = 12 then -1 else nI k) f_tables f_nodes (nI pos) (nI (qb_enc ms)) (nI ms.length) (nI nr) (nI (hs.length + 1)) f_resRows f_resWidth a_tabWidth a_tabRows a_tab a_kind a_left a_right a_parent a_p a_q a_r a_nodeWidth a_bound a_wanted W.1 W.2.1 W.2.2.1 W.2.2.2.1 W.2.2.2.2 a_loopHead a_todo a_reg a_cursor a_loopKey a_met a_store a_storeRows a_headOf a_tailOf a_link a_result := by
  have hd : qc_dv (nI (hs.length + 1)) a_loopHead (nI h) := Or.inr ⟨hs.length, h8, rfl, hlh.1⟩
  refine qc_sink (g := g) (by omega) hd hm hl hk (fun o a b c h12 hn12 => ?_)
  refine nm_e ⟨hs.length + 2, ?_⟩
  refine qc_closes hd (h :: hs) (pos + 1) (qc_w W pos o a b c (nI h)) (hs.length + 2) (by show hs.length + 1 < _; omega) (qc_hd_mono (by omega) hh) hlh (by show hs.length + 1 ≤ 8; omega) (by show pos + 1 + (hs.length + 1) ≤ 192; omega) ?_
  intro W' hag hcl
  refine K W' (qc_ag_w hag (by omega) (fun m hm => Or.inl hm)) ⟨?_, by omega, hcl, rfl⟩
  have hin := (qc_ag_in hag (by omega)).1
  refine ⟨fun e => ?_, fun e => ⟨fun e5 => ?_, fun e10 => ?_, fun e7 => ?_⟩⟩
  · obtain ⟨r1, r2, r3, r4⟩ := h12 e
    rw [r1, r2, r3, r4] at hin; exact hin
  · obtain ⟨r1, r2, r3, r4⟩ := (hn12 e).1 e5
    rw [r1, r2, r3, r4] at hin; exact hin
  · obtain ⟨r1, r2, r3, r4⟩ := (hn12 e).2.1 e10
    rw [r1, r2, r3, r4] at hin; exact hin
  · obtain ⟨r1, r2, r3, r4⟩ := (hn12 e).2.2 e7
    rw [r1, r2, r3, r4] at hin; exact hin
end
end
section
/-! the operators of a path -/
def qc_pl (g : qp_PL) (n : Nat) (a_kind a_left a_right a_parent a_p a_q a_r a_nodeWidth : Nat → Int32) : Prop :=
  a_kind n = nI (qp_kd g n) ∧ a_nodeWidth n = nI (qp_wd g n) ∧ a_p n = qp_p g n ∧ a_q n = qp_q g n ∧ a_r n = qp_r g n ∧
  (qp_kd g n = 0 → a_left n = -1) ∧ (qp_kd g n ≠ 0 → a_left n = nI (qp_lf g n) ∧ a_parent (qp_lf g n) = nI n) ∧
  (qp_kd g n = 5 ∨ qp_kd g n = 6 → a_right n = nI (qp_rt g n) ∧ a_parent (qp_rt g n) = nI n) ∧ (¬ (qp_kd g n = 5 ∨ qp_kd g n = 6) → a_right n = -1)
def qc_lst : Nat → List Nat → Nat
  | c, [] => c
  | _, n :: ns => qc_lst n ns
section
variable {g : qp_PL} {pa : Nat → Nat} {N rw k : Nat}
theorem qc_lst_le (hok : ∀ n, n < N → qp_ok g pa n) : ∀ (ns : List Nat) (c : Nat), qm_pth g N k rw c ns → c ≤ qc_lst c ns ∧ (ns ≠ [] → c < qc_lst c ns) := by
  intro ns
  induction ns with
  | nil => intro c _; exact ⟨Nat.le_refl _, fun h => absurd rfl h⟩
  | cons n ns ih =>
    intro c hp
    have h1 := (ih n hp.2.2.2.2).1
    have h2 := (qc_child hok hp.2.1 hp.2.2.1 hp.2.2.2.1).1
    exact ⟨by show c ≤ qc_lst n ns; omega, fun _ => by show c < qc_lst n ns; omega⟩
theorem qc_cons_o {n : Nat} {ns : List Nat} (h : ¬ qc_inr g n) : qc_rg g (n :: ns) = (if qp_kd g n = 3 then 1 else 0) + qc_rg g ns ∧ qc_jn g (n :: ns) = qc_jn g ns ∧ qc_ln g (n :: ns) = (if qp_kd g n = 4 ∨ qp_kd g n = 6 then 0 else 1) + qc_ln g ns := by
  refine ⟨?_, ?_, ?_⟩
  · show (if qc_inb g n = true then _ else _) + _ = _
    rw [qc_inb_f h]; rfl
  · show (if qc_inb g n = true then _ else _) + _ = _
    rw [qc_inb_f h]; show 0 + _ = _; omega
  · show (if qc_inb g n = true then _ else _) + _ = _
    rw [qc_inb_f h]; rfl
theorem qc_cons_i {n : Nat} {ns : List Nat} (h : qc_inr g n) : qc_rg g (n :: ns) = qp_wd g (qp_rt g n) + qc_rg g ns ∧ qc_jn g (n :: ns) = 1 + qc_jn g ns ∧ qc_ln g (n :: ns) = 3 + qc_ln g ns := by
  refine ⟨?_, ?_, ?_⟩
  · show (if qc_inb g n = true then _ else _) + _ = _
    rw [qc_inb_t h]; rfl
  · show (if qc_inb g n = true then _ else _) + _ = _
    rw [qc_inb_t h]; rfl
  · show (if qc_inb g n = true then _ else _) + _ = _
    rw [qc_inb_t h]; rfl
theorem qc_seg_1 {C : qm_C} {n : Nat} {ns ms : List Nat} {nr : Nat} {hs : List Nat} {pos e : Nat} (z : qp_kd g n = 1) (h : qm_In C pos 3 (nI (ms.getD (qp_p g n).toNatClampNeg 0)) (qp_q g n) (qp_r g n) ∧ qm_Dt C pos (hs.headD 0) ∧ pos < 192 ∧ qm_Seg C g k ns ms nr hs (pos + 1) e) : qm_Seg C g k (n :: ns) ms nr hs pos e :=
  ⟨fun _ => h, fun y => by omega, fun y => by omega, fun y => by omega, fun y => by omega, fun y => by omega, fun y => by omega, fun y => by omega⟩
theorem qc_seg_2 {C : qm_C} {n : Nat} {ns ms : List Nat} {nr : Nat} {hs : List Nat} {pos e : Nat} (z : qp_kd g n = 2) (h : qm_In C pos 4 (nI (ms.getD (qp_p g n).toNatClampNeg 0)) (qp_q g n) (nI (ms.getD (qp_r g n).toNatClampNeg 0)) ∧ qm_Dt C pos (hs.headD 0) ∧ pos < 192 ∧ qm_Seg C g k ns ms nr hs (pos + 1) e) : qm_Seg C g k (n :: ns) ms nr hs pos e :=
  ⟨fun y => by omega, fun _ => h, fun y => by omega, fun y => by omega, fun y => by omega, fun y => by omega, fun y => by omega, fun y => by omega⟩
theorem qc_seg_3 {C : qm_C} {n : Nat} {ns ms : List Nat} {nr : Nat} {hs : List Nat} {pos e : Nat} (z : qp_kd g n = 3) (h : qm_In C pos 5 (qp_p g n) (nI (ms.getD (qp_q g n).toNatClampNeg 0 + 32 * ms.getD (qp_r g n).toNatClampNeg 0)) (nI nr) ∧ nr < 32 ∧ pos < 192 ∧ qm_Seg C g k ns (ms ++ [nr]) (nr + 1) hs (pos + 1) e) : qm_Seg C g k (n :: ns) ms nr hs pos e :=
  ⟨fun y => by omega, fun y => by omega, fun _ => h, fun y => by omega, fun y => by omega, fun y => by omega, fun y => by omega, fun y => by omega⟩
theorem qc_seg_4 {C : qm_C} {n : Nat} {ns ms : List Nat} {nr : Nat} {hs : List Nat} {pos e : Nat} (z : qp_kd g n = 4) (h : qm_Seg C g k ns (qm_pj g n ms) nr hs pos e) : qm_Seg C g k (n :: ns) ms nr hs pos e :=
  ⟨fun y => by omega, fun y => by omega, fun y => by omega, fun _ => h, fun y => by omega, fun y => by omega, fun y => by omega, fun y => by omega⟩
theorem qc_seg_5s {C : qm_C} {n : Nat} {ns ms : List Nat} {nr : Nat} {hs : List Nat} {pos e : Nat} (z : qp_kd g n = 5) (hj : qp_p g n = 1 ∨ qp_p g n = 2) (h : qm_In C pos 8 (nI n) (nI (ms.getD (qp_q g n).toNatClampNeg 0)) (if decide (qp_p g n = 1) = true then 1 else 0) ∧ qm_Dt C pos (hs.headD 0) ∧ pos < 192 ∧ qm_Seg C g k ns ms nr hs (pos + 1) e) : qm_Seg C g k (n :: ns) ms nr hs pos e :=
  ⟨fun y => by omega, fun y => by omega, fun y => by omega, fun y => by omega, fun _ => ⟨fun _ => h, fun y => absurd hj y⟩, fun y => by omega, fun y => by omega, fun y => by omega⟩
theorem qc_seg_5i {C : qm_C} {n : Nat} {ns ms : List Nat} {nr : Nat} {hs : List Nat} {pos e : Nat} (z : qp_kd g n = 5) (hj : ¬ (qp_p g n = 1 ∨ qp_p g n = 2)) (h : qm_In C pos 6 (nI hs.length) (nI n) (nI (ms.getD (qp_q g n).toNatClampNeg 0)) ∧ qm_In C (pos + 1) 7 (nI hs.length) (nI n) (nI (qb_enc (List.range' nr (qp_wd g (qp_rt g n))))) ∧ nr + qp_wd g (qp_rt g n) ≤ 32 ∧ hs.length < 8 ∧ pos + 1 < 192 ∧
        qm_Seg C g k ns (ms ++ List.range' nr (qp_wd g (qp_rt g n))) (nr + qp_wd g (qp_rt g n)) ((pos + 1) :: hs) (pos + 2) e) : qm_Seg C g k (n :: ns) ms nr hs pos e :=
  ⟨fun y => by omega, fun y => by omega, fun y => by omega, fun y => by omega, fun _ => ⟨fun y => absurd y hj, fun _ => h⟩, fun y => by omega, fun y => by omega, fun y => by omega⟩
theorem qc_seg_6 {C : qm_C} {n : Nat} {ns ms : List Nat} {nr : Nat} {hs : List Nat} {pos e : Nat} (z : qp_kd g n = 6) (h : qm_Seg C g k ns ms nr hs pos e) : qm_Seg C g k (n :: ns) ms nr hs pos e :=
  ⟨fun y => by omega, fun y => by omega, fun y => by omega, fun y => by omega, fun y => by omega, fun _ => h, fun y => by omega, fun y => by omega⟩
theorem qc_seg_8 {C : qm_C} {n : Nat} {ns ms : List Nat} {nr : Nat} {hs : List Nat} {pos e : Nat} (z : qp_kd g n = 8) (h : qm_In C pos 9 (nI n) (nI ms.length) (nI (qb_enc ms)) ∧ qm_Dt C pos (hs.headD 0) ∧ pos < 192 ∧ qm_Seg C g k ns ms nr hs (pos + 1) e) : qm_Seg C g k (n :: ns) ms nr hs pos e :=
  ⟨fun y => by omega, fun y => by omega, fun y => by omega, fun y => by omega, fun y => by omega, fun y => by omega, fun _ => h, fun y => by omega⟩
theorem qc_seg_9 {C : qm_C} {n : Nat} {ns ms : List Nat} {nr : Nat} {hs : List Nat} {pos e : Nat} (z : qp_kd g n = 9) (h : qm_In C pos 10 (nI n) 0 0 ∧ qm_Dt C pos (hs.headD 0) ∧ pos < 192 ∧ qm_Seg C g k ns ms nr hs (pos + 1) e) : qm_Seg C g k (n :: ns) ms nr hs pos e :=
  ⟨fun y => by omega, fun y => by omega, fun y => by omega, fun y => by omega, fun y => by omega, fun y => by omega, fun y => by omega, fun _ => h⟩
end
section
variable {f_tables f_nodes f_codeLen f_resRows f_resWidth : Int32} {a_tabWidth a_tabRows a_tab a_kind a_left a_right a_parent a_p a_q a_r a_nodeWidth a_bound a_wanted a_todo a_reg a_cursor a_loopKey a_met a_store a_storeRows a_headOf a_tailOf a_link a_result : Nat → Int32}
variable {g : qp_PL} {pa : Nat → Nat} {N rw k top : Nat} {post : SX → Prop}
theorem qc_ops (hpl : ∀ n, n < N → qc_pl g n a_kind a_left a_right a_parent a_p a_q a_r a_nodeWidth) (hok : ∀ n, n < N → qp_ok g pa n) (hN : N ≤ 12) :
    ∀ (ns : List Nat) (c guard : Nat) (ms : List Nat) (nr h : Nat) (hs : List Nat) (pos : Nat) (W : qc_K) (lh : Nat → Int32) (fuel : Nat),
    qm_pth g N k rw c ns → qc_lst c ns = top → ms.length = qp_wd g c → (∀ m ∈ ms, m < nr) → nr + qc_rg g ns ≤ 32 → hs.length + qc_jn g ns < 8 → pos + qc_ln g ns + 1 + (hs.length + 1) ≤ 192 → qc_hd pos (h :: hs) → qc_lh lh (h :: hs) → guard + ns.length ≤ 12 → ns.length < fuel →
    (∀ (W' : qc_K) (rm rwd nx : Int32) (lh' : Nat → Int32), qc_ag pos (h :: hs) W W' → qm_Seg (qc_C W') g k ns ms nr (h :: hs) pos (pos + qc_ln g ns + 1 + (hs.length + 1)) → post (f_tables, f_nodes, nI (pos + qc_ln g ns + 1 + (hs.length + 1)), rm, rwd, nx, 0, f_resRows, f_resWidth, a_tabWidth, a_tabRows, a_tab, a_kind, a_left, a_right, a_parent, a_p, a_q, a_r, a_nodeWidth, a_bound, a_wanted, W'.1, W'.2.1, W'.2.2.1, W'.2.2.2.1, W'.2.2.2.2, lh', a_todo, a_reg, a_cursor, a_loopKey, a_met, a_store, a_storeRows, a_headOf, a_tailOf, a_link, a_result)) →
    wX_pipeline_59 post (nI top) (if k = 12 then -1 else nI k) fuel (nI c) (nI guard) f_tables f_nodes (nI pos) (nI (qb_enc ms)) (nI ms.length) (nI nr) (nI (hs.length + 1)) f_resRows f_resWidth a_tabWidth a_tabRows a_tab a_kind a_left a_right a_parent a_p a_q a_r a_nodeWidth a_bound a_wanted W.1 W.2.1 W.2.2.1 W.2.2.2.1 W.2.2.2.2 lh a_todo a_reg a_cursor a_loopKey a_met a_store a_storeRows a_headOf a_tailOf a_link a_result := by
  intro ns
  induction ns with
  | nil =>
    intro c guard ms nr h hs pos W lh fuel hp hlst hml hm hnr hj hpos hh hlh hg hf K
    obtain ⟨f, rfl⟩ : ∃ f', fuel = f' + 1 := ⟨fuel - 1, by omega⟩
    have e0 : qc_ln g [] = 0 := rfl
    have e1 : qc_rg g [] = 0 := rfl
    have e2 : qc_jn g [] = 0 := rfl
    rw [e0] at hpos K
    rw [e1] at hnr
    rw [e2] at hj
    have w6 := (hok c hp.1).2.2.1
    have m32 : ∀ m ∈ ms, m < 32 := fun m hm' => by have := hm m hm'; omega
    have fin : wX_pipeline_93 post (if k = 12 then -1 else nI k) f_tables f_nodes (nI pos) (nI (qb_enc ms)) (nI ms.length) (nI nr) (nI (hs.length + 1)) f_resRows f_resWidth a_tabWidth a_tabRows a_tab a_kind a_left a_right a_parent a_p a_q a_r a_nodeWidth a_bound a_wanted W.1 W.2.1 W.2.2.1 W.2.2.2.1 W.2.2.2.2 lh a_todo a_reg a_cursor a_loopKey a_met a_store a_storeRows a_headOf a_tailOf a_link a_result := by
      refine qc_93 (g := g) (nr := nr) m32 (by omega) hh hlh (by omega) (by omega) ?_ ?_
      · rcases hp.2 with ⟨e, _⟩ | ⟨e, e2⟩
        · exact Or.inl e
        · right
          have P := hpl k e
          refine ⟨by omega, ?_⟩
          rcases e2 with ⟨e2, e3⟩ | ⟨e2, e3⟩
          · exact Or.inl ⟨by rw [P.1, e2]; rfl, e2⟩
          · rcases e2 with e2 | e2
            · right; right
              obtain ⟨p1, _, p3, _⟩ := (hok k e).2.2.2.2.2.2.2.2.2.2.2.2.1 e2
              obtain ⟨a, ha, ea⟩ := p1
              obtain ⟨b, hb, eb⟩ := p3
              rw [e3, ← hml] at ha hb
              exact ⟨by rw [P.1, e2]; rfl, e2, ⟨a, ha, P.2.2.1.trans ea, ea⟩, ⟨b, hb, P.2.2.2.2.1.trans eb, eb⟩⟩
            · right; left
              exact ⟨by rw [P.1, e2]; rfl, e2⟩
      · intro W' hag hS
        exact K W' _ _ _ _ hag hS
    refine br_c (fun _ => fin) (fun _ => br_t ?_ fin)
    rw [← hlst]; rfl
  | cons n ns ih =>
    intro c guard ms nr h hs pos W lh fuel hp hlst hml hm hnr hj hpos hh hlh hg hf K
    obtain ⟨f, rfl⟩ : ∃ f', fuel = f' + 1 := ⟨fuel - 1, by omega⟩
    have hlen : (n :: ns).length = ns.length + 1 := rfl
    have hlt := (qc_lst_le hok (n :: ns) c hp).2 (by simp)
    have topN : top < N := by
      have : ∀ (ns : List Nat) (c : Nat), qm_pth g N k rw c ns → qc_lst c ns < N := by
        intro ns
        induction ns with
        | nil => intro c h; exact h.1
        | cons n ns ih => intro c h; exact ih n h.2.2.2.2
      rw [← hlst]; exact this _ _ hp
    obtain ⟨hcN, hn, hso, hch, hp'⟩ := hp
    have P := hpl n hn
    have n12 : n < 12 := by omega
    have hcw := qm_cw hok hn hch
    rw [hcw] at hml
    have hlN : qp_lf g n < N := by have := ((hok n hn).2.2.2.1 (qp_so0 hso)).1; omega
    have W6 : qp_wd g (qp_lf g n) ≤ 6 := (hok _ hlN).2.2.1
    have Wn6 : qp_wd g n ≤ 6 := (hok n hn).2.2.1
    have m32 : ∀ m ∈ ms, m < 32 := fun m hm' => by have := hm m hm'; omega
    have hpar : a_parent c = nI n := by
      rcases hch with e | ⟨e, e2⟩
      · rw [e]; exact (P.2.2.2.2.2.2.1 (qp_so0 hso)).2
      · rw [e2]; exact (P.2.2.2.2.2.2.2.1 (Or.inr e)).2
    have hd : qc_dv (nI (hs.length + 1)) lh (nI h) := Or.inr ⟨hs.length, by omega, rfl, hlh.1⟩
    have PR := (hok n hn).2.2.2.2.2
    have hph : pos ∉ h :: hs := fun z => by have := qc_hd_lt _ pos pos hh z; omega
    refine br_f (nI_ge (a := guard) (b := 12) (by omega) (by decide)) (br_f (by rw [nI_eq (by omega) (by omega)]; omega) ⟨vp_in_nI (by omega) (by decide), ?_⟩)
    rw [nI_clamp (n := c) (by omega)]
    refine nm_r hpar ?_
    -- an operator with one instruction that keeps the columns
    have one : ∀ (o a b cc : Int32), ¬ qc_inr g n → qp_kd g n ≠ 3 → ¬ (qp_kd g n = 4 ∨ qp_kd g n = 6) → qp_wd g n = qp_wd g (qp_lf g n) → (∀ W' e, qm_In (qc_C W') pos o a b cc → qm_Dt (qc_C W') pos h → qm_Seg (qc_C W') g k ns ms nr (h :: hs) (pos + 1) e → qm_Seg (qc_C W') g k (n :: ns) ms nr (h :: hs) pos e) →
        wX_pipeline_59 post (nI top) (if k = 12 then -1 else nI k) f (nI n) (nI (guard + 1)) f_tables f_nodes (nI (pos + 1)) (nI (qb_enc ms)) (nI ms.length) (nI nr) (nI (hs.length + 1)) f_resRows f_resWidth a_tabWidth a_tabRows a_tab a_kind a_left a_right a_parent a_p a_q a_r a_nodeWidth a_bound a_wanted ((qc_w W pos o a b cc (nI h)).1) ((qc_w W pos o a b cc (nI h)).2.1) ((qc_w W pos o a b cc (nI h)).2.2.1) ((qc_w W pos o a b cc (nI h)).2.2.2.1) ((qc_w W pos o a b cc (nI h)).2.2.2.2) lh a_todo a_reg a_cursor a_loopKey a_met a_store a_storeRows a_headOf a_tailOf a_link a_result := by
      intro o a b cc hi h3 h46 hw hseg
      obtain ⟨r1, r2, r3⟩ := qc_cons_o (ns := ns) hi
      rw [if_neg h3] at r1
      rw [if_neg h46] at r3
      rw [r1] at hnr
      rw [r2] at hj
      rw [r3] at hpos K
      refine ih n (guard + 1) ms nr h hs (pos + 1) _ lh f hp' hlst (by omega) hm (by omega) (by omega) (by omega) (qc_hd_mono (by omega) hh) hlh (by omega) (by omega) ?_
      intro W' rm rwd nx lh' hag hS
      obtain ⟨a1, a2⟩ := qc_ag_in hag (by omega)
      have e : pos + (1 + qc_ln g ns) + 1 + (hs.length + 1) = pos + 1 + qc_ln g ns + 1 + (hs.length + 1) := by omega
      rw [e] at K
      exact K W' rm rwd nx lh' (qc_ag_w hag (by omega) (fun m hm => Or.inl hm)) (hseg W' _ a1 (a2 h rfl hph) hS)
    rcases qm_op_kd hok hn hso with z | z | z | z | z | z | z | z
    · obtain ⟨p1, p2, p3⟩ := PR.2.1 z
      obtain ⟨a, ha, ea⟩ := p1
      have ec : (qp_p g n).toNatClampNeg = a := qb_tn (by omega) ea
      refine qc_o1 (pc := a) (by omega) hd n12 (by rw [P.1, z]; rfl) m32 (by omega) (P.2.2.1.trans ea) (by omega) (nm_r (nI_1 guard) ?_)
      refine one _ _ _ _ (fun y => by have := y.1; omega) (by omega) (by omega) p3 (fun W' e i1 i2 i3 => qc_seg_1 z ⟨?_, i2, by omega, i3⟩)
      rw [P.2.2.2.1, P.2.2.2.2.1] at i1
      rw [ec]; exact i1
    · obtain ⟨p1, p2, p3, p4⟩ := PR.2.2.1 z
      obtain ⟨a, ha, ea⟩ := p1
      obtain ⟨b, hb, eb⟩ := p3
      have ec : (qp_p g n).toNatClampNeg = a := qb_tn (by omega) ea
      have ec' : (qp_r g n).toNatClampNeg = b := qb_tn (by omega) eb
      refine qc_o2 (pc := a) (rc := b) (by omega) hd n12 (by rw [P.1, z]; rfl) m32 (by omega) (P.2.2.1.trans ea) (by omega) (P.2.2.2.2.1.trans eb) (by omega) (nm_r (nI_1 guard) ?_)
      refine one _ _ _ _ (fun y => by have := y.1; omega) (by omega) (by omega) p4 (fun W' e i1 i2 i3 => qc_seg_2 z ⟨?_, i2, by omega, i3⟩)
      rw [P.2.2.2.1] at i1
      rw [ec, ec']; exact i1
    · -- map
      obtain ⟨p1, p2, p3, p4⟩ := PR.2.2.2.1 z
      obtain ⟨a, ha, ea⟩ := p2
      obtain ⟨b, hb, eb⟩ := p3
      have ec : (qp_q g n).toNatClampNeg = a := qb_tn (by omega) ea
      have ec' : (qp_r g n).toNatClampNeg = b := qb_tn (by omega) eb
      obtain ⟨r1, r2, r3⟩ := qc_cons_o (ns := ns) (fun y : qc_inr g n => by have := y.1; omega)
      rw [if_pos z] at r1
      rw [if_neg (by omega)] at r3
      rw [r1] at hnr
      rw [r2] at hj
      rw [r3] at hpos K
      refine qc_o3 (qc := a) (rc := b) (by omega) hd n12 (by rw [P.1, z]; rfl) m32 (by omega) (by omega) (P.2.2.2.1.trans ea) (by omega) (P.2.2.2.2.1.trans eb) (by omega) (nm_r (nI_1 guard) ?_)
      have hll : (ms ++ [nr]).length = ms.length + 1 := by rw [List.length_append]; rfl
      rw [← hll]
      refine ih n (guard + 1) (ms ++ [nr]) (nr + 1) h hs (pos + 1) _ lh f hp' hlst (by omega) ?_ (by omega) (by omega) (by omega) (qc_hd_mono (by omega) hh) hlh (by omega) (by omega) ?_
      · intro m hm'
        rcases List.mem_append.1 hm' with e | e
        · have := hm m e; omega
        · rw [List.mem_singleton.1 e]; omega
      · intro W' rm rwd nx lh' hag hS
        obtain ⟨a1, a2⟩ := qc_ag_in hag (by omega)
        have e : pos + (1 + qc_ln g ns) + 1 + (hs.length + 1) = pos + 1 + qc_ln g ns + 1 + (hs.length + 1) := by omega
        rw [e] at K
        rw [P.2.2.1] at a1
        exact K W' rm rwd nx lh' (qc_ag_w hag (by omega) (fun m hm => Or.inl hm)) (qc_seg_3 z ⟨by rw [ec, ec']; exact a1, by omega, by omega, hS⟩)
    · -- project
      obtain ⟨p1, p2⟩ := PR.2.2.2.2.1 z
      obtain ⟨r1, r2, r3⟩ := qc_cons_o (ns := ns) (fun y : qc_inr g n => by have := y.1; omega)
      rw [if_neg (by omega)] at r1
      rw [if_pos (by omega)] at r3
      rw [r1] at hnr
      rw [r2] at hj
      rw [r3] at hpos K
      refine qc_o4 (w := qp_wd g n) n12 (by rw [P.1, z]; rfl) m32 (by omega) Wn6 (P.2.2.2.1.trans p1) (fun i hi => by rw [P.2.2.1, hml]; exact p2 i hi) (nm_r (nI_1 guard) ?_)
      have epj : (List.range (qp_wd g n)).map (fun i => ms.getD (qp_col (a_p n) i) 0) = qm_pj g n ms := by unfold qm_pj; rw [P.2.2.1]
      have hll : (qm_pj g n ms).length = qp_wd g n := by unfold qm_pj; rw [List.length_map, List.length_range]
      rw [epj]
      have := ih n (guard + 1) (qm_pj g n ms) nr h hs pos W lh f hp' hlst hll ?_ (by omega) (by omega) (by omega) hh hlh (by omega) (by omega) ?_
      · rw [hll] at this; exact this
      · intro m hm'
        unfold qm_pj at hm'
        obtain ⟨i, hi, ei⟩ := List.mem_map.1 hm'
        rw [List.mem_range] at hi
        have hc := p2 i hi
        rw [← ei, List.getD_eq_getElem?_getD, List.getElem?_eq_getElem (by omega)]
        exact hm _ (List.getElem_mem _)
      · intro W' rm rwd nx lh' hag hS
        have e : pos + (0 + qc_ln g ns) + 1 + (hs.length + 1) = pos + qc_ln g ns + 1 + (hs.length + 1) := by omega
        rw [e] at K
        exact K W' rm rwd nx lh' hag (qc_seg_4 z hS)
    · -- join
      obtain ⟨p1, p2, p3, p4⟩ := PR.2.2.2.2.2.1 z
      obtain ⟨a, ha, ea⟩ := p2
      have ec : (qp_q g n).toNatClampNeg = a := qb_tn (by omega) ea
      by_cases hjj : qp_p g n = 1 ∨ qp_p g n = 2
      · have wn : qp_wd g n = qp_wd g (qp_lf g n) := by
          rw [p4, if_neg]
          rcases hjj with e | e <;> rw [e] <;> decide
        refine qc_o5s (qc := a) (by omega) hd n12 (by rw [P.1, z]; rfl) m32 (by omega) (P.2.2.2.1.trans ea) (by omega) (by rw [P.2.2.1]; exact hjj) (nm_r (nI_1 guard) ?_)
        refine one _ _ _ _ (fun y => y.2 hjj) (by omega) (by omega) wn (fun W' e i1 i2 i3 => qc_seg_5s z hjj ⟨?_, i2, by omega, i3⟩)
        rw [P.2.2.1] at i1
        rw [ec]; exact i1
      · have hi : qc_inr g n := ⟨z, hjj⟩
        obtain ⟨r1, r2, r3⟩ := qc_cons_i (ns := ns) hi
        obtain ⟨v1, v2⟩ := qc_inb_w hok hn hi
        obtain ⟨hr, pr, hne⟩ := (hok n hn).2.2.2.2.1 (Or.inl z)
        have wr := (hok _ (show qp_rt g n < N by omega)).2.1
        rw [r1] at hnr
        rw [r2] at hj
        rw [r3] at hpos K
        refine qc_o5i (qc := a) (rr := qp_rt g n) (w := qp_wd g (qp_rt g n)) (l := hs.length + 1) (by omega) (by omega) rfl hd n12 (by rw [P.1, z]; rfl) m32 (by omega) wr (by omega) (P.2.2.2.1.trans ea) (by omega) (by rw [P.2.2.1]; exact fun e => hjj (Or.inl e)) (by rw [P.2.2.1]; exact fun e => hjj (Or.inr e)) (by omega) (P.2.2.2.2.2.2.2.1 (Or.inl z)).1 (hpl _ (by omega)).2.1 (nm_r (nI_1 guard) ?_)
        have hll : (ms ++ List.range' nr (qp_wd g (qp_rt g n))).length = ms.length + qp_wd g (qp_rt g n) := by rw [List.length_append, List.length_range']
        rw [← hll]
        have hls : (h :: hs).length = hs.length + 1 := rfl
        refine ih n (guard + 1) (ms ++ List.range' nr (qp_wd g (qp_rt g n))) (nr + qp_wd g (qp_rt g n)) (pos + 1) (h :: hs) (pos + 2) _ _ f hp' hlst (by omega) ?_ (by omega) (by omega) (by omega) ⟨by omega, qc_hd_mono (by omega) hh⟩ ⟨by rw [hls]; exact pk_us, qc_lh_fr _ (fun i hi => pk_un (by omega)) hlh⟩ (by omega) (by omega) ?_
        · intro m hm'
          rcases List.mem_append.1 hm' with e | e
          · have := hm m e; omega
          · rw [List.mem_range'_1] at e; omega
        · intro W' rm rwd nx lh' hag hS
          obtain ⟨a1, a2⟩ := qc_ag_in hag (by omega)
          have hag1 : qc_ag (pos + 1) (h :: hs) (qc_w W pos 6 (nI (hs.length + 1)) (nI n) (nI (ms.getD a 0)) (nI h)) W' := qc_ag_w hag (by omega) (fun m hm => by
            rcases List.mem_cons.1 hm with e | e
            · exact Or.inr (by omega)
            · exact Or.inl e)
          obtain ⟨b1, b2⟩ := qc_ag_in hag1 (by omega)
          have e : pos + (3 + qc_ln g ns) + 1 + (hs.length + 1) = pos + 2 + qc_ln g ns + 1 + ((h :: hs).length + 1) := by rw [hls]; omega
          rw [e] at K
          refine K W' rm rwd nx lh' (qc_ag_w hag1 (by omega) (fun m hm => Or.inl hm)) (qc_seg_5i z hjj ⟨?_, ?_, by omega, by omega, by omega, hS⟩)
          · rw [ec]; exact b1
          · exact a1
    · -- union
      obtain ⟨p1, p2⟩ := PR.2.2.2.2.2.2.1 z
      obtain ⟨r1, r2, r3⟩ := qc_cons_o (ns := ns) (fun y : qc_inr g n => by have := y.1; omega)
      rw [if_neg (by omega)] at r1
      rw [if_pos (by omega)] at r3
      rw [r1] at hnr
      rw [r2] at hj
      rw [r3] at hpos K
      refine qc_o6 n12 (by rw [P.1, z]; rfl) (nm_r (nI_1 guard) ?_)
      refine ih n (guard + 1) ms nr h hs pos W lh f hp' hlst (by omega) hm (by omega) (by omega) (by omega) hh hlh (by omega) (by omega) ?_
      intro W' rm rwd nx lh' hag hS
      have e : pos + (0 + qc_ln g ns) + 1 + (hs.length + 1) = pos + qc_ln g ns + 1 + (hs.length + 1) := by omega
      rw [e] at K
      exact K W' rm rwd nx lh' hag (qc_seg_6 z hS)
    · have p1 := PR.2.2.2.2.2.2.2.2.1 z
      refine qc_o8 (by omega) hd n12 (by rw [P.1, z]; rfl) (nm_r (nI_1 guard) ?_)
      exact one _ _ _ _ (fun y => by have := y.1; omega) (by omega) (by omega) p1 (fun W' e i1 i2 i3 => qc_seg_8 z ⟨i1, i2, by omega, i3⟩)
    · obtain ⟨p1, p2⟩ := PR.2.2.2.2.2.2.2.2.2.1 z
      refine qc_o9 (by omega) hd n12 (by rw [P.1, z]; rfl) (nm_r (nI_1 guard) ?_)
      exact one _ _ _ _ (fun y => by have := y.1; omega) (by omega) (by omega) p2 (fun W' e i1 i2 i3 => qc_seg_9 z ⟨i1, i2, by omega, i3⟩)
end
end
section
/-! a pipeline; the code stays when more is written behind it -/
section
variable {g : qp_PL} {pa : Nat → Nat} {N rw k : Nat} {C C' : qm_C}
theorem qc_cls_tr {e : Nat} (hI : ∀ i o a b c, i < e → qm_In C i o a b c → qm_In C' i o a b c) (hD : ∀ i d, i < e → qm_Dt C i d → qm_Dt C' i d) : ∀ (hs : List Nat) (p : Nat), (∀ m ∈ hs, m < e) → p + hs.length ≤ e → qm_Cls C hs p → qm_Cls C' hs p := by
  intro hs
  induction hs with
  | nil => intro p _ _ _; trivial
  | cons h hs ih =>
    intro p hm hp H
    have hl : (h :: hs).length = hs.length + 1 := rfl
    obtain ⟨a1, a2, a3, a4, a5⟩ := H
    exact ⟨hI _ _ _ _ _ (by omega) a1, hD _ _ (by omega) a2, hD _ _ (hm h (List.mem_cons_self ..)) a3, a4, ih (p + 1) (fun m h' => hm m (List.mem_cons_of_mem _ h')) (by omega) a5⟩
theorem qc_seg_pos (hok : ∀ n, n < N → qp_ok g pa n) : ∀ (ns : List Nat) (c : Nat) (ms : List Nat) (nr : Nat) (hs : List Nat) (pos e : Nat), qm_pth g N k rw c ns → qm_Seg C g k ns ms nr hs pos e → pos + 1 + hs.length ≤ e := by
  intro ns
  induction ns with
  | nil => intro c ms nr hs pos e _ h; have := h.2.2.2; omega
  | cons n ns ih =>
    intro c ms nr hs pos e hp h
    rcases qm_op_kd hok hp.2.1 hp.2.2.1 with z | z | z | z | z | z | z | z
    · have := ih n _ _ _ _ _ hp.2.2.2.2 (h.1 z).2.2.2; omega
    · have := ih n _ _ _ _ _ hp.2.2.2.2 (h.2.1 z).2.2.2; omega
    · have := ih n _ _ _ _ _ hp.2.2.2.2 (h.2.2.1 z).2.2.2; omega
    · have := ih n _ _ _ _ _ hp.2.2.2.2 (h.2.2.2.1 z); omega
    · by_cases hj : qp_p g n = 1 ∨ qp_p g n = 2
      · have := ih n _ _ _ _ _ hp.2.2.2.2 ((h.2.2.2.2.1 z).1 hj).2.2.2; omega
      · have := ih n _ _ _ _ _ hp.2.2.2.2 ((h.2.2.2.2.1 z).2 hj).2.2.2.2.2
        rw [List.length_cons] at this; omega
    · have := ih n _ _ _ _ _ hp.2.2.2.2 (h.2.2.2.2.2.1 z); omega
    · have := ih n _ _ _ _ _ hp.2.2.2.2 (h.2.2.2.2.2.2.1 z).2.2.2; omega
    · have := ih n _ _ _ _ _ hp.2.2.2.2 (h.2.2.2.2.2.2.2 z).2.2.2; omega
theorem qc_seg_tr (hok : ∀ n, n < N → qp_ok g pa n) {e : Nat} (hI : ∀ i o a b c, i < e → qm_In C i o a b c → qm_In C' i o a b c) (hD : ∀ i d, i < e → qm_Dt C i d → qm_Dt C' i d) :
    ∀ (ns : List Nat) (c : Nat) (ms : List Nat) (nr : Nat) (hs : List Nat) (pos : Nat), qm_pth g N k rw c ns → (∀ m ∈ hs, m < pos) → qm_Seg C g k ns ms nr hs pos e → qm_Seg C' g k ns ms nr hs pos e := by
  intro ns
  induction ns with
  | nil =>
    intro c ms nr hs pos hp hh h
    obtain ⟨h1, h2, h3, h4⟩ := h
    refine ⟨⟨fun e => hI _ _ _ _ _ (by omega) (h1.1 e), fun e => ⟨fun e2 => hI _ _ _ _ _ (by omega) ((h1.2 e).1 e2), fun e2 => hI _ _ _ _ _ (by omega) ((h1.2 e).2.1 e2), fun e2 => hI _ _ _ _ _ (by omega) ((h1.2 e).2.2 e2)⟩⟩, h2, ?_, h4⟩
    exact qc_cls_tr hI hD hs (pos + 1) (fun m hm => by have := hh m hm; omega) (by omega) h3
  | cons n ns ih =>
    intro c ms nr hs pos hp hh h
    have hp' := hp.2.2.2.2
    have hhs : ∀ m ∈ hs, m < pos + 1 := fun m hm => by have := hh m hm; omega
    rcases qm_op_kd hok hp.2.1 hp.2.2.1 with z | z | z | z | z | z | z | z
    · obtain ⟨i1, i2, i3, i4⟩ := h.1 z
      have := qc_seg_pos hok ns n _ _ _ _ _ hp' i4
      exact qc_seg_1 z ⟨hI _ _ _ _ _ (by omega) i1, hD _ _ (by omega) i2, i3, ih n _ _ _ _ hp' hhs i4⟩
    · obtain ⟨i1, i2, i3, i4⟩ := h.2.1 z
      have := qc_seg_pos hok ns n _ _ _ _ _ hp' i4
      exact qc_seg_2 z ⟨hI _ _ _ _ _ (by omega) i1, hD _ _ (by omega) i2, i3, ih n _ _ _ _ hp' hhs i4⟩
    · obtain ⟨i1, i2, i3, i4⟩ := h.2.2.1 z
      have := qc_seg_pos hok ns n _ _ _ _ _ hp' i4
      exact qc_seg_3 z ⟨hI _ _ _ _ _ (by omega) i1, i2, i3, ih n _ _ _ _ hp' hhs i4⟩
    · exact qc_seg_4 z (ih n _ _ _ _ hp' hh (h.2.2.2.1 z))
    · by_cases hj : qp_p g n = 1 ∨ qp_p g n = 2
      · obtain ⟨i1, i2, i3, i4⟩ := (h.2.2.2.2.1 z).1 hj
        have := qc_seg_pos hok ns n _ _ _ _ _ hp' i4
        exact qc_seg_5s z hj ⟨hI _ _ _ _ _ (by omega) i1, hD _ _ (by omega) i2, i3, ih n _ _ _ _ hp' hhs i4⟩
      · obtain ⟨i1, i2, i3, i4, i5, i6⟩ := (h.2.2.2.2.1 z).2 hj
        have := qc_seg_pos hok ns n _ _ _ _ _ hp' i6
        exact qc_seg_5i z hj ⟨hI _ _ _ _ _ (by omega) i1, hI _ _ _ _ _ (by omega) i2, i3, i4, i5, ih n _ _ _ _ hp' (fun m hm => by
          rcases List.mem_cons.1 hm with e | e
          · omega
          · have := hh m e; omega) i6⟩
    · exact qc_seg_6 z (ih n _ _ _ _ hp' hh (h.2.2.2.2.2.1 z))
    · obtain ⟨i1, i2, i3, i4⟩ := h.2.2.2.2.2.2.1 z
      have := qc_seg_pos hok ns n _ _ _ _ _ hp' i4
      exact qc_seg_8 z ⟨hI _ _ _ _ _ (by omega) i1, hD _ _ (by omega) i2, i3, ih n _ _ _ _ hp' hhs i4⟩
    · obtain ⟨i1, i2, i3, i4⟩ := h.2.2.2.2.2.2.2 z
      have := qc_seg_pos hok ns n _ _ _ _ _ hp' i4
      exact qc_seg_9 z ⟨hI _ _ _ _ _ (by omega) i1, hD _ _ (by omega) i2, i3, ih n _ _ _ _ hp' hhs i4⟩
theorem qc_pipe_tr (hok : ∀ n, n < N → qp_ok g pa n) {e E pos c : Nat} {ns : List Nat} (hE : e ≤ E) (hI : ∀ i o a b c, i < E → qm_In C i o a b c → qm_In C' i o a b c) (hD : ∀ i d, i < E → qm_Dt C i d → qm_Dt C' i d) (hp : qm_pth g N k rw c ns) (h : qm_Pipe C g k c ns pos e) : qm_Pipe C' g k c ns pos e ∧ pos < e := by
  obtain ⟨h1, h2, h3, h4⟩ := h
  have := qc_seg_pos hok ns c _ _ _ _ _ hp h4
  refine ⟨⟨hI _ _ _ _ _ (by omega) h1, h2, hI _ _ _ _ _ (by omega) h3, ?_⟩, by omega⟩
  exact qc_seg_tr hok (fun i o a b c hi => hI i o a b c (by omega)) (fun i d hi => hD i d (by omega)) ns c _ _ _ _ hp (fun m hm => by rw [List.mem_singleton.1 hm]; omega) h4
theorem qc_prog_le (hok : ∀ n, n < N → qp_ok g pa n) {rw : Nat} : ∀ (l : List (Nat × Nat × List Nat)) (pos e : Nat), (∀ q ∈ l, qm_pth g N q.1 rw q.2.1 q.2.2) → qm_Prog C g l pos e → pos ≤ e := by
  intro l
  induction l with
  | nil => intro pos e _ h; have : e = pos := h; omega
  | cons q l ih =>
    intro pos e hq h
    obtain ⟨m, h1, h2⟩ := h
    have a := ih m e (fun z hz => hq z (List.mem_cons_of_mem _ hz)) h2
    have b := (qc_pipe_tr (C' := C) hok (Nat.le_refl m) (fun _ _ _ _ _ _ h => h) (fun _ _ _ h => h) (hq q (List.mem_cons_self ..)) h1).2
    omega
theorem qc_prog_tr (hok : ∀ n, n < N → qp_ok g pa n) {E rw : Nat} (hI : ∀ i o a b c, i < E → qm_In C i o a b c → qm_In C' i o a b c) (hD : ∀ i d, i < E → qm_Dt C i d → qm_Dt C' i d) : ∀ (l : List (Nat × Nat × List Nat)) (pos e : Nat), e ≤ E → (∀ q ∈ l, qm_pth g N q.1 rw q.2.1 q.2.2) → qm_Prog C g l pos e → qm_Prog C' g l pos e := by
  intro l
  induction l with
  | nil => intro pos e _ _ h; exact h
  | cons q l ih =>
    intro pos e hE hq h
    obtain ⟨m, h1, h2⟩ := h
    have a := qc_prog_le hok l m e (fun z hz => hq z (List.mem_cons_of_mem _ hz)) h2
    exact ⟨m, (qc_pipe_tr hok (Nat.le_trans a hE) hI hD (hq q (List.mem_cons_self ..)) h1).1, ih m e hE (fun z hz => hq z (List.mem_cons_of_mem _ hz)) h2⟩
theorem qc_prog_app : ∀ (l l' : List (Nat × Nat × List Nat)) (pos m e : Nat), qm_Prog C g l pos m → qm_Prog C g l' m e → qm_Prog C g (l ++ l') pos e := by
  intro l
  induction l with
  | nil => intro l' pos m e h h'; have : m = pos := h
           rw [this] at h'; exact h'
  | cons q l ih =>
    intro l' pos m e h h'
    obtain ⟨x, h1, h2⟩ := h
    exact ⟨x, h1, ih l' x m e h2 h'⟩
end
theorem qc_ag_I {W W' : qc_K} {e : Nat} (h : qc_ag e [] W W') : ∀ i o a b c, i < e → qm_In (qc_C W) i o a b c → qm_In (qc_C W') i o a b c := by
  intro i o a b c hi H
  obtain ⟨a1, a2, a3, a4, _⟩ := h i hi
  obtain ⟨b1, b2, b3, b4⟩ := H
  exact ⟨a1.trans b1, a2.trans b2, a3.trans b3, a4.trans b4⟩
theorem qc_ag_D {W W' : qc_K} {e : Nat} (h : qc_ag e [] W W') : ∀ i d, i < e → qm_Dt (qc_C W) i d → qm_Dt (qc_C W') i d := by
  intro i d hi H
  obtain ⟨_, _, _, _, a5⟩ := h i hi
  exact (a5 (List.not_mem_nil)).trans H
theorem qc_ag_trans {W W' W'' : qc_K} {e e' : Nat} (h : qc_ag e [] W W') (h' : qc_ag e' [] W' W'') (he : e ≤ e') : qc_ag e [] W W'' := by
  intro i hi
  obtain ⟨a1, a2, a3, a4, a5⟩ := h i hi
  obtain ⟨b1, b2, b3, b4, b5⟩ := h' i (by omega)
  exact ⟨b1.trans a1, b2.trans a2, b3.trans a3, b4.trans a4, fun hn => (b5 hn).trans (a5 hn)⟩
section
variable {f_tables f_nodes f_codeLen f_rowMap f_rowWidth f_nextReg f_loops f_resRows f_resWidth : Int32} {a_tabWidth a_tabRows a_tab a_kind a_left a_right a_parent a_p a_q a_r a_nodeWidth a_bound a_wanted a_loopHead a_todo a_reg a_cursor a_loopKey a_met a_store a_storeRows a_headOf a_tailOf a_link a_result : Nat → Int32}
variable {g : qp_PL} {pa : Nat → Nat} {N rw k top : Nat} {post : SX → Prop}
theorem qc_pipe (hpl : ∀ n, n < N → qc_pl g n a_kind a_left a_right a_parent a_p a_q a_r a_nodeWidth) (hok : ∀ n, n < N → qp_ok g pa n) (hN : N ≤ 12) {c pos : Nat} {ns : List Nat} {W : qc_K} (hp : qm_pth g N k rw c ns) (hcN : c < N) (hlst : qc_lst c ns = top) (hpos : pos + 4 + qc_ln g ns ≤ 192)
    (K : ∀ (W' : qc_K) (rm rwd nx : Int32) (lh' : Nat → Int32), qc_ag pos [] W W' → qm_Pipe (qc_C W') g k c ns pos (pos + 4 + qc_ln g ns) → post (f_tables, f_nodes, nI (pos + 4 + qc_ln g ns), rm, rwd, nx, 0, f_resRows, f_resWidth, a_tabWidth, a_tabRows, a_tab, a_kind, a_left, a_right, a_parent, a_p, a_q, a_r, a_nodeWidth, a_bound, a_wanted, W'.1, W'.2.1, W'.2.2.1, W'.2.2.2.1, W'.2.2.2.2, lh', a_todo, a_reg, a_cursor, a_loopKey, a_met, a_store, a_storeRows, a_headOf, a_tailOf, a_link, a_result)) :
    wpX_pipeline post (f_tables, f_nodes, nI pos, f_rowMap, f_rowWidth, f_nextReg, f_loops, f_resRows, f_resWidth, a_tabWidth, a_tabRows, a_tab, a_kind, a_left, a_right, a_parent, a_p, a_q, a_r, a_nodeWidth, a_bound, a_wanted, W.1, W.2.1, W.2.2.1, W.2.2.2.1, W.2.2.2.2, a_loopHead, a_todo, a_reg, a_cursor, a_loopKey, a_met, a_store, a_storeRows, a_headOf, a_tailOf, a_link, a_result) (nI c) (nI top) (if k = 12 then -1 else nI k) := by
  obtain ⟨q1, q2, q3⟩ := qc_path hok hN hp hcN
  have w6 := (hok c hcN).2.2.1
  unfold wpX_pipeline
  refine qc_putW (W := W) (dv := 0) (by omega) (Or.inl ⟨rfl, rfl⟩) ?_
  refine ⟨vp_in_nI (by omega) (by decide), ?_⟩
  rw [nI_clamp (n := c) (by omega), (hpl c hcN).2.1]
  refine qc_append (ms := []) (nr := 0) (w := qp_wd g c) (fun m hm => absurd hm (List.not_mem_nil)) (by show 0 + _ ≤ 6; omega) (by omega) ?_
  refine qc_open (l := 0) (by omega) ?_
  have e0 : ([] : List Nat) ++ List.range' 0 (qp_wd g c) = List.range' 0 (qp_wd g c) := rfl
  have e1 : ([] : List Nat).length + qp_wd g c = (List.range' 0 (qp_wd g c)).length := by rw [List.length_range']; show 0 + _ = _; omega
  have e2 : 0 + qp_wd g c = qp_wd g c := Nat.zero_add _
  rw [e0, e1, e2]
  refine qc_putW (W := qc_w W pos 1 0 0 0 0) (dv := nI (pos + 1)) (by omega) (Or.inr ⟨0, by omega, rfl, pk_us⟩) ?_
  refine ⟨ns.length + 1, ?_⟩
  refine qc_ops hpl hok hN ns c 0 (List.range' 0 (qp_wd g c)) (qp_wd g c) (pos + 1) [] (pos + 2) (qc_w (qc_w W pos 1 0 0 0 0) (pos + 1) 2 0 (nI c) (nI (qb_enc (List.range' 0 (qp_wd g c)))) (nI (pos + 1))) _ (ns.length + 1) hp hlst List.length_range' (fun m hm => by rw [List.mem_range'_1] at hm; omega) q3 (by show 0 + _ < 8; omega) (by show pos + 2 + _ + 1 + (0 + 1) ≤ 192; omega) ⟨by omega, trivial⟩ ⟨pk_us, trivial⟩ (by omega) (by omega) ?_
  intro W' rm rwd nx lh' hag hS
  have e : pos + 2 + qc_ln g ns + 1 + (([] : List Nat).length + 1) = pos + 4 + qc_ln g ns := by show pos + 2 + _ + 1 + (0 + 1) = _; omega
  rw [e] at hS ⊢
  obtain ⟨a1, a2⟩ := qc_ag_in hag (by omega)
  have hag1 : qc_ag (pos + 1) [] (qc_w W pos 1 0 0 0 0) W' := qc_ag_w hag (by omega) (fun m hm => Or.inr (by rw [List.mem_singleton.1 hm]; exact Nat.le_refl _))
  obtain ⟨b1, b2⟩ := qc_ag_in hag1 (by omega)
  exact K W' rm rwd nx lh' (qc_ag_w hag1 (by omega) (fun m hm => absurd hm (List.not_mem_nil))) ⟨b1, by omega, a1, hS⟩
end
end
section
/-! compileInto -/
def qc_td (td : Nat → Int32) : List (Nat × Nat × List Nat) → Prop
  | [] => True
  | q :: t => td t.length = nI q.2.1 ∧ qc_td td t
def qc_pp (g : qp_PL) (k : Nat) : List (Nat × Nat × List Nat) → List (Nat × Nat × List Nat)
  | [] => []
  | q :: t => qp_src g k q.1 q.2.1 q.2.2 ++ qc_pp g k t
def qc_vs (g : qp_PL) : List (Nat × Nat × List Nat) → Nat
  | [] => 0
  | q :: t => (qp_gn g q.1 q.2.1).length + qc_vs g t
theorem qc_td_fr {td td' : Nat → Int32} : ∀ (st : List (Nat × Nat × List Nat)), (∀ i, i < st.length → td' i = td i) → qc_td td st → qc_td td' st := by
  intro st
  induction st with
  | nil => intro _ _; trivial
  | cons h hs ih =>
    intro e H
    exact ⟨by rw [e _ (by show hs.length < hs.length + 1; omega)]; exact H.1, ih (fun i hi => e i (by show i < hs.length + 1; omega)) H.2⟩
section
variable {f_tables f_nodes f_codeLen f_rowMap f_rowWidth f_nextReg f_loops f_resRows f_resWidth : Int32} {a_tabWidth a_tabRows a_tab a_kind a_left a_right a_parent a_p a_q a_r a_nodeWidth a_bound a_wanted a_loopHead a_todo a_reg a_cursor a_loopKey a_met a_store a_storeRows a_headOf a_tailOf a_link a_result : Nat → Int32}
variable {g : qp_PL} {pa : Nat → Nat} {N rw k top : Nat}
theorem qc_isSource {post : Int32 → Prop} {n : Nat} {W : qc_K} (hn : n < 12) (hk : a_kind n = nI (qp_kd g n)) (hk10 : qp_kd g n ≤ 10) (K1 : qp_so g n → post 1) (K0 : ¬ qp_so g n → post 0) : wpX_isSource post (f_tables, f_nodes, f_codeLen, f_rowMap, f_rowWidth, f_nextReg, f_loops, f_resRows, f_resWidth, a_tabWidth, a_tabRows, a_tab, a_kind, a_left, a_right, a_parent, a_p, a_q, a_r, a_nodeWidth, a_bound, a_wanted, W.1, W.2.1, W.2.2.1, W.2.2.2.1, W.2.2.2.2, a_loopHead, a_todo, a_reg, a_cursor, a_loopKey, a_met, a_store, a_storeRows, a_headOf, a_tailOf, a_link, a_result) (nI n) := by
  refine ⟨vp_in_nI hn (by decide), ?_⟩
  rw [nI_clamp (n := n) (by omega), hk]
  refine pk_eq (qp_kd g n) 0 (fun e => K1 (Or.inl e)) (fun e0 => ⟨vp_in_nI hn (by decide), ?_⟩)
  refine pk_eq (qp_kd g n) 7 (fun e => K1 (Or.inr (Or.inl e))) (fun e7 => ⟨vp_in_nI hn (by decide), ?_⟩)
  exact pk_eq (qp_kd g n) 10 (fun e => K1 (Or.inr (Or.inr e))) (fun e10 => K0 (fun h => by rcases h with h | h | h <;> omega))
theorem qc_into_l {post : SX → Prop} (hpl : ∀ n, n < N → qc_pl g n a_kind a_left a_right a_parent a_p a_q a_r a_nodeWidth) (hok : ∀ n, n < N → qp_ok g pa n) (hN : N ≤ 12) :
    ∀ (v : Nat) (st : List (Nat × Nat × List Nat)) (guard pos : Nat) (W : qc_K) (td : Nat → Int32) (rm rwd nx : Int32) (lh : Nat → Int32) (fuel : Nat), qc_vs g st = v → v < fuel →
      (∀ q ∈ st, q.2.1 < q.1 ∧ q.2.1 < N ∧ qm_pth g N k rw q.2.1 q.2.2 ∧ qc_lst q.2.1 q.2.2 = top) → qc_td td st → guard + v ≤ 12 → pos + qc_sum g (qc_pp g k st) ≤ 191 →
      (∀ (W' : qc_K) (rm rwd nx : Int32) (lh td : Nat → Int32), qc_ag pos [] W W' → qm_Prog (qc_C W') g (qc_pp g k st) pos (pos + qc_sum g (qc_pp g k st)) → post (f_tables, f_nodes, nI (pos + qc_sum g (qc_pp g k st)), rm, rwd, nx, 0, f_resRows, f_resWidth, a_tabWidth, a_tabRows, a_tab, a_kind, a_left, a_right, a_parent, a_p, a_q, a_r, a_nodeWidth, a_bound, a_wanted, W'.1, W'.2.1, W'.2.2.1, W'.2.2.2.1, W'.2.2.2.2, lh, td, a_reg, a_cursor, a_loopKey, a_met, a_store, a_storeRows, a_headOf, a_tailOf, a_link, a_result)) →
      wX_compileInto_12 post (if k = 12 then -1 else nI k) (nI top) fuel (nI st.length) (nI guard) f_tables f_nodes (nI pos) rm rwd nx 0 f_resRows f_resWidth a_tabWidth a_tabRows a_tab a_kind a_left a_right a_parent a_p a_q a_r a_nodeWidth a_bound a_wanted W.1 W.2.1 W.2.2.1 W.2.2.2.1 W.2.2.2.2 lh td a_reg a_cursor a_loopKey a_met a_store a_storeRows a_headOf a_tailOf a_link a_result := by
  have pos1 : ∀ (st : List (Nat × Nat × List Nat)), (∀ q ∈ st, q.2.1 < q.1) → st.length ≤ qc_vs g st := by
    intro st
    induction st with
    | nil => intro _; exact Nat.le_refl _
    | cons q t ih =>
      intro h
      have h1 := ih (fun z hz => h z (List.mem_cons_of_mem _ hz))
      have h2 : 0 < (qp_gn g q.1 q.2.1).length := List.length_pos_of_mem (qp_gn_self (h q (List.mem_cons_self ..)))
      show t.length + 1 ≤ (qp_gn g q.1 q.2.1).length + qc_vs g t
      omega
  intro v
  induction v with
  | zero =>
    intro st guard pos W td rm rwd nx lh fuel hv hf hq htd hg hs K
    obtain ⟨f, rfl⟩ : ∃ f', fuel = f' + 1 := ⟨fuel - 1, by omega⟩
    have hl := pos1 st (fun q hq' => (hq q hq').1)
    have : st = [] := List.eq_nil_of_length_eq_zero (by omega)
    subst this
    have fin := K W rm rwd nx lh td (fun i _ => ⟨rfl, rfl, rfl, rfl, fun _ => rfl⟩) rfl
    exact br_c (fun _ => fin) (fun _ => br_t (by decide) fin)
  | succ v ih =>
    intro st guard pos W td rm rwd nx lh fuel hv hf hq htd hg hs K
    obtain ⟨f, rfl⟩ : ∃ f', fuel = f' + 1 := ⟨fuel - 1, by omega⟩
    cases st with
    | nil => exact absurd hv (by show ¬ 0 = v + 1; omega)
    | cons q t =>
      obtain ⟨qf, n, ctx⟩ := q
      obtain ⟨q1, q2, q3, q4⟩ := hq (qf, n, ctx) (List.mem_cons_self ..)
      dsimp only at q1 q2 q3 q4
      obtain ⟨qf, rfl⟩ : ∃ f', qf = f' + 1 := ⟨qf - 1, by omega⟩
      have hl := pos1 _ (fun q hq' => (hq q hq').1)
      have hlen : ((qf + 1, n, ctx) :: t).length = t.length + 1 := rfl
      rw [hlen] at hl ⊢
      have hvs : qc_vs g ((qf + 1, n, ctx) :: t) = (qp_gn g (qf + 1) n).length + qc_vs g t := rfl
      have hpp : qc_pp g k ((qf + 1, n, ctx) :: t) = qp_src g k (qf + 1) n ctx ++ qc_pp g k t := rfl
      have htd1 : td t.length = nI n := htd.1
      have P := hpl n q2
      have n12 : n < 12 := by omega
      have hqt : ∀ q ∈ t, q.2.1 < q.1 ∧ q.2.1 < N ∧ qm_pth g N k rw q.2.1 q.2.2 ∧ qc_lst q.2.1 q.2.2 = top := fun z hz => hq z (List.mem_cons_of_mem _ hz)
      refine br_f (nI_ge (a := guard) (b := 24) (by omega) (by decide)) (br_f (nI_nle (by omega) (by omega)) (nm_r (pk_m1 t.length) ⟨vp_in_nI (by omega) (by decide), ?_⟩))
      rw [nI_clamp (n := t.length) (by omega)]
      refine nm_r htd1 ?_
      refine qc_isSource (g := g) n12 P.1 (hok n q2).1 (fun hso => br_f (by decide) ?_) (fun hso => br_t rfl ⟨vp_in_nI n12 (by decide), ?_⟩)
      · -- a source
        have eg : (qp_gn g (qf + 1) n).length = 1 := by rw [qp_gn_so hso]; rfl
        rw [qp_src_so hso] at hpp
        have hpp' : qc_pp g k ((qf + 1, n, ctx) :: t) = (k, n, ctx) :: qc_pp g k t := hpp
        rw [hpp'] at hs K
        have hsum : qc_sum g ((k, n, ctx) :: qc_pp g k t) = (4 + qc_ln g ctx) + qc_sum g (qc_pp g k t) := rfl
        rw [hsum] at hs K
        refine qc_pipe hpl hok hN q3 q2 q4 (by omega) ?_
        intro W' rm' rwd' nx' lh' hag hP
        refine nm_r (nI_1 guard) ?_
        refine ih t (guard + 1) (pos + 4 + qc_ln g ctx) W' td rm' rwd' nx' lh' f (by omega) (by omega) hqt htd.2 (by omega) (by omega) ?_
        intro W2 rm2 rwd2 nx2 lh2 td2 hag2 hP2
        have e : pos + (4 + qc_ln g ctx + qc_sum g (qc_pp g k t)) = pos + 4 + qc_ln g ctx + qc_sum g (qc_pp g k t) := by omega
        rw [e] at K
        exact K W2 rm2 rwd2 nx2 lh2 td2 (qc_ag_trans hag hag2 (by omega)) ⟨_, (qc_pipe_tr hok (Nat.le_refl _) (qc_ag_I hag2) (qc_ag_D hag2) q3 hP).1, hP2⟩
      · rw [nI_clamp (n := n) (by omega), P.1]
        obtain ⟨hlf, plf⟩ := (hok n q2).2.2.2.1 (qp_so0 hso)
        have al := (P.2.2.2.2.2.2.1 (qp_so0 hso)).1
        by_cases h6 : qp_kd g n = 6
        · obtain ⟨hrt, prt, hne⟩ := (hok n q2).2.2.2.2.1 (Or.inr h6)
          have ar := (P.2.2.2.2.2.2.2.1 (Or.inr h6)).1
          rw [qp_gn_6 hso h6] at hvs
          rw [qp_src_6 hso h6] at hpp
          have eg : ∀ (a b : List Nat), (n :: (a ++ b)).length = a.length + b.length + 1 := fun a b => by simp
          rw [eg] at hvs
          refine br_t (by rw [h6]; rfl) ⟨vp_in_nI n12 (by decide), vp_in_nI (by omega) (by decide), ?_⟩
          rw [ar]
          refine nm_e (nm_r (nI_1 t.length) ?_)
          unfold wX_compileInto_82
          refine ⟨vp_in_nI n12 (by decide), vp_in_nI (by omega) (by decide), ?_⟩
          rw [nI_clamp (n := n) (by omega), nI_clamp (n := t.length + 1) (by omega), al]
          refine nm_e (nm_r (nI_1 (t.length + 1)) (nm_r (nI_1 guard) ?_))
          have epp : qc_pp g k ((qf, qp_lf g n, n :: ctx) :: (qf, qp_rt g n, n :: ctx) :: t) = qc_pp g k ((qf + 1, n, ctx) :: t) := by
            rw [hpp, List.append_assoc]; rfl
          have key := ih ((qf, qp_lf g n, n :: ctx) :: (qf, qp_rt g n, n :: ctx) :: t) (guard + 1) pos W (upd (upd td t.length (nI (qp_rt g n))) (t.length + 1) (nI (qp_lf g n))) rm rwd nx lh f (by
              show (qp_gn g qf (qp_lf g n)).length + ((qp_gn g qf (qp_rt g n)).length + qc_vs g t) = v
              omega) (by omega) (fun q hq' => by
              rcases List.mem_cons.1 hq' with e | e
              · rw [e]; exact ⟨by dsimp only; omega, by dsimp only; omega, ⟨by dsimp only; omega, q2, hso, Or.inl rfl, q3⟩, q4⟩
              · rcases List.mem_cons.1 e with e | e
                · rw [e]; exact ⟨by dsimp only; omega, by dsimp only; omega, ⟨by dsimp only; omega, q2, hso, Or.inr ⟨h6, rfl⟩, q3⟩, q4⟩
                · exact hqt q e) ⟨pk_us, by show upd _ (t.length + 1) _ t.length = _; rw [pk_un (by omega)]; exact pk_us, qc_td_fr t (fun i hi => by rw [pk_un (by omega), pk_un (by omega)]) htd.2⟩ (by omega)
          rw [epp] at key
          exact key hs K
        · rw [qp_gn_o hso h6] at hvs
          rw [qp_src_o hso h6] at hpp
          have eg : ∀ (a : List Nat), (n :: a).length = a.length + 1 := fun a => rfl
          rw [eg] at hvs
          have k10 := (hok n q2).1
          refine br_f (by rw [show (6 : Int32) = nI 6 from rfl, nI_eq (by omega) (by omega)]; exact h6) ?_
          unfold wX_compileInto_82
          refine ⟨vp_in_nI n12 (by decide), vp_in_nI (by omega) (by decide), ?_⟩
          rw [nI_clamp (n := n) (by omega), nI_clamp (n := t.length) (by omega), al]
          refine nm_e (nm_r (nI_1 t.length) (nm_r (nI_1 guard) ?_))
          have epp : qc_pp g k ((qf, qp_lf g n, n :: ctx) :: t) = qc_pp g k ((qf + 1, n, ctx) :: t) := by
            rw [hpp]; rfl
          have key := ih ((qf, qp_lf g n, n :: ctx) :: t) (guard + 1) pos W (upd td t.length (nI (qp_lf g n))) rm rwd nx lh f (by
              show (qp_gn g qf (qp_lf g n)).length + qc_vs g t = v
              omega) (by omega) (fun q hq' => by
              rcases List.mem_cons.1 hq' with e | e
              · rw [e]; exact ⟨by dsimp only; omega, by dsimp only; omega, ⟨by dsimp only; omega, q2, hso, Or.inl rfl, q3⟩, q4⟩
              · exact hqt q e) ⟨pk_us, qc_td_fr t (fun i hi => by rw [pk_un (by omega)]) htd.2⟩ (by omega)
          rw [epp] at key
          exact key hs K
theorem qc_into {post : SX → Prop} (hpl : ∀ n, n < N → qc_pl g n a_kind a_left a_right a_parent a_p a_q a_r a_nodeWidth) (hok : ∀ n, n < N → qp_ok g pa n) (hN : N ≤ 12) {pos : Nat} {W : qc_K} (htop : top < N) (hp : qm_pth g N k rw top []) (hpos : pos + qc_sum g (qp_src g k 13 top []) ≤ 191)
    (K : ∀ (W' : qc_K) (rm rwd nx : Int32) (lh td : Nat → Int32), qc_ag pos [] W W' → qm_Prog (qc_C W') g (qp_src g k 13 top []) pos (pos + qc_sum g (qp_src g k 13 top [])) → post (f_tables, f_nodes, nI (pos + qc_sum g (qp_src g k 13 top [])), rm, rwd, nx, 0, f_resRows, f_resWidth, a_tabWidth, a_tabRows, a_tab, a_kind, a_left, a_right, a_parent, a_p, a_q, a_r, a_nodeWidth, a_bound, a_wanted, W'.1, W'.2.1, W'.2.2.1, W'.2.2.2.1, W'.2.2.2.2, lh, td, a_reg, a_cursor, a_loopKey, a_met, a_store, a_storeRows, a_headOf, a_tailOf, a_link, a_result)) :
    wpX_compileInto post (f_tables, f_nodes, nI pos, f_rowMap, f_rowWidth, f_nextReg, 0, f_resRows, f_resWidth, a_tabWidth, a_tabRows, a_tab, a_kind, a_left, a_right, a_parent, a_p, a_q, a_r, a_nodeWidth, a_bound, a_wanted, W.1, W.2.1, W.2.2.1, W.2.2.2.1, W.2.2.2.2, a_loopHead, a_todo, a_reg, a_cursor, a_loopKey, a_met, a_store, a_storeRows, a_headOf, a_tailOf, a_link, a_result) (if k = 12 then -1 else nI k) (nI top) := by
  refine nm_e ⟨14, ?_⟩
  have h12 := qc_gn_12 hok hN htop
  have epp : qc_pp g k [(13, top, [])] = qp_src g k 13 top [] := List.append_nil _
  have key := qc_into_l (post := post) (k := k) (rw := rw) (top := top) (a_tabWidth := a_tabWidth) (a_tabRows := a_tabRows) (a_tab := a_tab) (a_bound := a_bound) (a_wanted := a_wanted) (a_reg := a_reg) (a_cursor := a_cursor) (a_loopKey := a_loopKey) (a_met := a_met) (a_store := a_store) (a_storeRows := a_storeRows) (a_headOf := a_headOf) (a_tailOf := a_tailOf) (a_link := a_link) (a_result := a_result) (f_tables := f_tables) (f_nodes := f_nodes) (f_resRows := f_resRows) (f_resWidth := f_resWidth) hpl hok hN (qp_gn g 13 top).length [(13, top, [])] 0 pos W (upd a_todo 0 (nI top)) f_rowMap f_rowWidth f_nextReg a_loopHead 14 (by show (qp_gn g 13 top).length + 0 = _; omega) (by omega) (fun q hq => by
    rw [List.mem_singleton.1 hq]; exact ⟨by dsimp only; omega, htop, hp, rfl⟩) ⟨pk_us, trivial⟩ (by omega)
  rw [epp] at key
  exact key hpos K
end
end
section
/-! compile -/
def qc_b (b : Bool) : Int32 := if b = true then 1 else 0
section
variable {f_tables f_codeLen f_rowMap f_rowWidth f_nextReg f_loops f_resRows f_resWidth : Int32} {a_tabWidth a_tabRows a_tab a_kind a_left a_right a_parent a_p a_q a_r a_nodeWidth a_bound a_wanted a_loopHead a_todo a_reg a_cursor a_loopKey a_met a_store a_storeRows a_headOf a_tailOf a_link a_result : Nat → Int32} {W : qc_K}
variable {g : qp_PL} {pa : Nat → Nat} {N root : Nat} {post : SX → Prop}
theorem qc_init (hN : N ≤ 12) (hr : root < N) (K : ∀ wa : Nat → Int32, (∀ j, j < N → wa j = qc_b (decide (j = root))) → ∃ n, wX_compile_44 post (nI root) f_tables (nI N) f_codeLen f_rowMap f_rowWidth f_nextReg f_loops f_resRows f_resWidth n (nI root) a_tabWidth a_tabRows a_tab a_kind a_left a_right a_parent a_p a_q a_r a_nodeWidth a_bound wa W.1 W.2.1 W.2.2.1 W.2.2.2.1 W.2.2.2.2 a_loopHead a_todo a_reg a_cursor a_loopKey a_met a_store a_storeRows a_headOf a_tailOf a_link a_result) :
    ∀ (d i : Nat) (wa : Nat → Int32) (fuel : Nat), i + d = N → d < fuel → (∀ j, j < i → wa j = qc_b (decide (j = root))) → wX_compile_12 post (nI root) f_tables (nI N) f_codeLen f_rowMap f_rowWidth f_nextReg f_loops f_resRows f_resWidth fuel (nI i) a_tabWidth a_tabRows a_tab a_kind a_left a_right a_parent a_p a_q a_r a_nodeWidth a_bound wa W.1 W.2.1 W.2.2.1 W.2.2.2.1 W.2.2.2.2 a_loopHead a_todo a_reg a_cursor a_loopKey a_met a_store a_storeRows a_headOf a_tailOf a_link a_result := by
  intro d
  induction d with
  | zero =>
    intro i wa fuel hi hf h
    obtain ⟨f, rfl⟩ : ∃ f', fuel = f' + 1 := ⟨fuel - 1, by omega⟩
    have : i = N := by omega
    subst this
    exact br_t (nI_le (Nat.le_refl _) (by omega)) (K wa h)
  | succ d ih =>
    intro i wa fuel hi hf h
    obtain ⟨f, rfl⟩ : ∃ f', fuel = f' + 1 := ⟨fuel - 1, by omega⟩
    have nx : ∀ v, v = qc_b (decide (i = root)) → ∀ j, j < i + 1 → upd wa i v j = qc_b (decide (j = root)) := fun v hv j hj => by
      by_cases e : j = i
      · rw [e, pk_us]; exact hv
      · rw [pk_un e]; exact h j (by omega)
    refine br_f (nI_ge (by omega) (by omega)) ?_
    rw [nI_clamp (n := i) (by omega)]
    refine pk_eq i root (fun e => ⟨vp_in_nI (by omega) (by decide), nm_e (nm_r (nI_1 i) (ih (i + 1) _ f (by omega) (by omega) (nx _ ?_)))⟩) (fun e => ⟨vp_in_nI (by omega) (by decide), nm_e (nm_r (nI_1 i) (ih (i + 1) _ f (by omega) (by omega) (nx _ ?_)))⟩)
    · rw [qb_b1, decide_eq_true e]; rfl
    · rw [qb_b0, decide_eq_false e]; rfl
theorem qc_b0 {b : Bool} (h : b = false) : qc_b b = 0 := by rw [h]; rfl
theorem qc_b1 {b : Bool} (h : b = true) : ¬ qc_b b = 0 := by rw [h]; decide
theorem qc_mark (hpl : ∀ n, n < N → qc_pl g n a_kind a_left a_right a_parent a_p a_q a_r a_nodeWidth) (hok : ∀ n, n < N → qp_ok g pa n) (hN : N ≤ 12) (hr : root < N) {Q : Nat → Prop} (hQ : ∀ n, n ≤ root → Q n → (qp_kd g n ≠ 0 → Q (qp_lf g n)) ∧ (qp_kd g n = 5 ∨ qp_kd g n = 6 → Q (qp_rt g n)))
    (K : ∀ (wa : Nat → Int32) (w : Nat → Bool), (∀ j, j < N → wa j = qc_b (w j)) → qp_wcl g w root → (∀ j, j < N → w j = true → Q j) → ∃ n, wX_compile_116 post (nI root) n 0 f_tables (nI N) f_codeLen f_rowMap f_rowWidth f_nextReg f_loops f_resRows f_resWidth a_tabWidth a_tabRows a_tab a_kind a_left a_right a_parent a_p a_q a_r a_nodeWidth a_bound wa W.1 W.2.1 W.2.2.1 W.2.2.2.1 W.2.2.2.2 a_loopHead a_todo a_reg a_cursor a_loopKey a_met a_store a_storeRows a_headOf a_tailOf a_link a_result) :
    ∀ (m : Nat) (wa : Nat → Int32) (w : Nat → Bool) (fuel : Nat), m ≤ root + 1 → m < fuel → (∀ j, j < N → wa j = qc_b (w j)) → w root = true → (∀ j, m ≤ j → j ≤ root → w j = true → (qp_kd g j ≠ 0 → w (qp_lf g j) = true) ∧ (qp_kd g j = 5 ∨ qp_kd g j = 6 → w (qp_rt g j) = true)) → (∀ j, j < N → w j = true → Q j) →
      wX_compile_44 post (nI root) f_tables (nI N) f_codeLen f_rowMap f_rowWidth f_nextReg f_loops f_resRows f_resWidth fuel (nI m - 1) a_tabWidth a_tabRows a_tab a_kind a_left a_right a_parent a_p a_q a_r a_nodeWidth a_bound wa W.1 W.2.1 W.2.2.1 W.2.2.2.1 W.2.2.2.2 a_loopHead a_todo a_reg a_cursor a_loopKey a_met a_store a_storeRows a_headOf a_tailOf a_link a_result := by
  intro m
  induction m with
  | zero =>
    intro wa w fuel hm hf hw hwr hcl hq
    obtain ⟨f, rfl⟩ : ∃ f', fuel = f' + 1 := ⟨fuel - 1, by omega⟩
    exact br_t (by decide) (K wa w hw ⟨hwr, fun n hn hwn => hcl n (Nat.zero_le _) hn hwn⟩ hq)
  | succ m ih =>
    intro wa w fuel hm hf hw hwr hcl hq
    obtain ⟨f, rfl⟩ : ∃ f', fuel = f' + 1 := ⟨fuel - 1, by omega⟩
    have m12 : m < 12 := by omega
    have P := hpl m (by omega)
    have dn : nI m + (-1) = nI m - 1 := by rw [Int32.sub_eq_add_neg]
    rw [nI_pred]
    refine br_f (nI_pos (by omega)) ⟨vp_in_nI m12 (by decide), ?_⟩
    rw [nI_clamp (n := m) (by omega)]
    -- what the rest asks: the marks of m's children are set
    by_cases hwm : w m = true
    · have e1 : ¬ wa m = 0 := by rw [hw m (by omega)]; exact qc_b1 hwm
      refine br_f e1 ⟨vp_in_nI m12 (by decide), ?_⟩
      by_cases h0 : qp_kd g m = 0
      · rw [P.2.2.2.2.2.1 h0]
        refine br_t (by decide) ?_
        unfold wX_compile_78
        refine ⟨vp_in_nI m12 (by decide), ?_⟩
        rw [nI_clamp (n := m) (by omega), P.2.2.2.2.2.2.2.2 (by omega)]
        refine br_f e1 ⟨vp_in_nI m12 (by decide), br_t (by decide) (nm_r dn ?_)⟩
        refine ih wa w f (by omega) (by omega) hw hwr (fun j h1 h2 h3 => ?_) hq
        by_cases e : j = m
        · subst e; exact ⟨fun h => absurd h0 h, fun h => by omega⟩
        · exact hcl j (by omega) h2 h3
      · obtain ⟨hlf, _⟩ := (hok m (by omega)).2.2.2.1 h0
        have al := (P.2.2.2.2.2.2.1 h0).1
        have QL := (hQ m (by omega) (hq m (by omega) hwm)).1 h0
        rw [al]
        refine br_f (nI_pos (by omega)) ⟨vp_in_nI m12 (by decide), vp_in_nI (by omega) (by decide), ?_⟩
        rw [nI_clamp (n := qp_lf g m) (by omega), qb_b1]
        refine nm_e ?_
        unfold wX_compile_78
        refine ⟨vp_in_nI m12 (by decide), ?_⟩
        rw [nI_clamp (n := m) (by omega), pk_un (show m ≠ qp_lf g m by omega)]
        refine br_f e1 ⟨vp_in_nI m12 (by decide), ?_⟩
        have hw1 : ∀ j, j < N → upd wa (qp_lf g m) 1 j = qc_b (w j || decide (j = qp_lf g m)) := fun j hj => by
          by_cases e : j = qp_lf g m
          · rw [e, pk_us, decide_eq_true rfl, Bool.or_true]; rfl
          · rw [pk_un e, decide_eq_false e, Bool.or_false]; exact hw j hj
        by_cases h56 : qp_kd g m = 5 ∨ qp_kd g m = 6
        · obtain ⟨hrt, _, _⟩ := (hok m (by omega)).2.2.2.2.1 h56
          have ar := (P.2.2.2.2.2.2.2.1 h56).1
          have QR := (hQ m (by omega) (hq m (by omega) hwm)).2 h56
          rw [ar]
          refine br_f (nI_pos (by omega)) ⟨vp_in_nI m12 (by decide), vp_in_nI (by omega) (by decide), ?_⟩
          rw [nI_clamp (n := qp_rt g m) (by omega), qb_b1]
          refine nm_e (nm_r dn ?_)
          refine ih _ (fun j => (w j || decide (j = qp_lf g m)) || decide (j = qp_rt g m)) f (by omega) (by omega) (fun j hj => ?_) (by rw [hwr]; rfl) (fun j h1 h2 h3 => ?_) (fun j hj h => ?_)
          · by_cases e : j = qp_rt g m
            · rw [e, pk_us, decide_eq_true rfl, Bool.or_true]; rfl
            · rw [pk_un e, decide_eq_false e, Bool.or_false]; exact hw1 j hj
          · by_cases e : j = m
            · subst e
              exact ⟨fun _ => by rw [decide_eq_true rfl, Bool.or_true]; rfl, fun _ => by rw [decide_eq_true rfl, Bool.or_true]⟩
            · rw [decide_eq_false (show ¬ j = qp_lf g m by omega), decide_eq_false (show ¬ j = qp_rt g m by omega), Bool.or_false, Bool.or_false] at h3
              obtain ⟨c1, c2⟩ := hcl j (by omega) h2 h3
              exact ⟨fun h => by rw [c1 h]; rfl, fun h => by rw [c2 h]; rfl⟩
          · by_cases e : j = qp_rt g m
            · rw [e]; exact QR
            · rw [decide_eq_false e, Bool.or_false] at h
              by_cases e' : j = qp_lf g m
              · rw [e']; exact QL
              · rw [decide_eq_false e', Bool.or_false] at h
                exact hq j hj h
        · rw [P.2.2.2.2.2.2.2.2 h56]
          refine br_t (by decide) (nm_r dn ?_)
          refine ih _ (fun j => w j || decide (j = qp_lf g m)) f (by omega) (by omega) hw1 (by rw [hwr]; rfl) (fun j h1 h2 h3 => ?_) (fun j hj h => ?_)
          · by_cases e : j = m
            · subst e
              exact ⟨fun _ => by rw [decide_eq_true rfl, Bool.or_true], fun h => absurd h h56⟩
            · rw [decide_eq_false (show ¬ j = qp_lf g m by omega), Bool.or_false] at h3
              obtain ⟨c1, c2⟩ := hcl j (by omega) h2 h3
              exact ⟨fun h => by rw [c1 h]; rfl, fun h => by rw [c2 h]; rfl⟩
          · by_cases e' : j = qp_lf g m
            · rw [e']; exact QL
            · rw [decide_eq_false e', Bool.or_false] at h
              exact hq j hj h
    · have hwf : w m = false := by cases h : w m with
        | true => exact absurd h hwm
        | false => rfl
      have e0 : wa m = 0 := by rw [hw m (by omega)]; exact qc_b0 hwf
      refine br_t e0 ?_
      unfold wX_compile_78
      refine ⟨vp_in_nI m12 (by decide), ?_⟩
      rw [nI_clamp (n := m) (by omega)]
      refine br_t e0 (nm_r dn ?_)
      refine ih wa w f (by omega) (by omega) hw hwr (fun j h1 h2 h3 => ?_) hq
      by_cases e : j = m
      · subst e; rw [hwf] at h3; exact absurd h3 (by decide)
      · exact hcl j (by omega) h2 h3
theorem qc_sum_mono {w : Nat → Bool} : ∀ d i, qc_sum g (qp_prog g w i) ≤ qc_sum g (qp_prog g w (i + d)) := by
  intro d
  induction d with
  | zero => intro i; exact Nat.le_refl _
  | succ d ih =>
    intro i
    have h := ih i
    have e : qp_prog g w (i + (d + 1)) = qp_prog g w (i + d) ++ qp_grp g w (i + d) := rfl
    rw [e, qc_sum_app]; omega
theorem qc_main (hpl : ∀ n, n < N → qc_pl g n a_kind a_left a_right a_parent a_p a_q a_r a_nodeWidth) (hok : ∀ n, n < N → qp_ok g pa n) (hN : N ≤ 12) (hr : root < N) {wa : Nat → Int32} {w : Nat → Bool} (hw : ∀ j, j < N → wa j = qc_b (w j))
    (K : ∀ (W' : qc_K) (cl rm rwd nx : Int32) (lh td : Nat → Int32) (e : Nat), e < 192 → qm_Prog (qc_C W') g (qp_full g w root) 0 e → W'.1 e = 0 → post (f_tables, nI N, cl, rm, rwd, nx, 0, f_resRows, f_resWidth, a_tabWidth, a_tabRows, a_tab, a_kind, a_left, a_right, a_parent, a_p, a_q, a_r, a_nodeWidth, a_bound, wa, W'.1, W'.2.1, W'.2.2.1, W'.2.2.2.1, W'.2.2.2.2, lh, td, a_reg, a_cursor, a_loopKey, a_met, a_store, a_storeRows, a_headOf, a_tailOf, a_link, a_result)) :
    ∀ (d i pos : Nat) (W : qc_K) (rm rwd nx : Int32) (lh td : Nat → Int32) (fuel : Nat), i + d = root + 1 → d < fuel → pos = qc_sum g (qp_prog g w i) → qm_Prog (qc_C W) g (qp_prog g w i) 0 pos →
      wX_compile_116 post (nI root) fuel (nI i) f_tables (nI N) (nI pos) rm rwd nx 0 f_resRows f_resWidth a_tabWidth a_tabRows a_tab a_kind a_left a_right a_parent a_p a_q a_r a_nodeWidth a_bound wa W.1 W.2.1 W.2.2.1 W.2.2.2.1 W.2.2.2.2 lh td a_reg a_cursor a_loopKey a_met a_store a_storeRows a_headOf a_tailOf a_link a_result := by
  obtain ⟨tot, _⟩ := qc_full_len (w := w) hok hN hr
  unfold qp_full at tot
  rw [qc_sum_app] at tot
  intro d
  induction d with
  | zero =>
    intro i pos W rm rwd nx lh td fuel hi hf hpos hP
    obtain ⟨f, rfl⟩ : ∃ f', fuel = f' + 1 := ⟨fuel - 1, by omega⟩
    have hi' : i = root + 1 := by omega
    subst hi'
    refine br_t (nI_lt (by omega) (by omega)) ?_
    refine qc_into (k := 12) (rw := qp_wd g root) (top := root) hpl hok hN hr ⟨hr, Or.inl ⟨rfl, rfl⟩⟩ (by omega) ?_
    intro W' rm' rwd' nx' lh' td' hag hP'
    refine qc_putW (W := W') (dv := 0) (by omega) (Or.inl ⟨rfl, rfl⟩) ?_
    have hle := qc_prog_ok hok hN (w := w) (rw := qp_wd g root) (root + 1) (by omega)
    have h1 := qc_prog_tr hok (C' := qc_C W') (E := pos) (rw := qp_wd g root) (qc_ag_I hag) (qc_ag_D hag) (qp_prog g w (root + 1)) 0 pos (Nat.le_refl _) (fun q hq => (hle q hq).1) hP
    have h2 := qc_prog_app _ _ _ _ _ h1 hP'
    have hag2 : qc_ag (pos + qc_sum g (qp_src g 12 13 root [])) [] W' (qc_w W' (pos + qc_sum g (qp_src g 12 13 root [])) 0 0 0 0 0) := by
      intro i hi
      unfold qc_w
      dsimp only
      have ne : i ≠ pos + qc_sum g (qp_src g 12 13 root []) := by omega
      rw [pk_un ne, pk_un ne, pk_un ne, pk_un ne, pk_un ne]
      exact ⟨rfl, rfl, rfl, rfl, fun _ => rfl⟩
    have h3 := qc_prog_tr hok (C' := qc_C _) (rw := qp_wd g root) (qc_ag_I hag2) (qc_ag_D hag2) (qp_prog g w (root + 1) ++ qp_src g 12 13 root []) 0 _ (Nat.le_refl _) (fun q hq => (qc_full_ok (w := w) hok hN hr q hq).1) h2
    exact K _ _ rm' rwd' nx' lh' td' (pos + qc_sum g (qp_src g 12 13 root [])) (by omega) h3 pk_us
  | succ d ih =>
    intro i pos W rm rwd nx lh td fuel hi hf hpos hP
    obtain ⟨f, rfl⟩ : ∃ f', fuel = f' + 1 := ⟨fuel - 1, by omega⟩
    have i12 : i < 12 := by omega
    have P := hpl i (by omega)
    have k10 := (hok i (by omega)).1
    have mono := qc_sum_mono (g := g) (w := w) (root + 1 - (i + 1)) (i + 1)
    rw [show i + 1 + (root + 1 - (i + 1)) = root + 1 by omega] at mono
    have eprog : qp_prog g w (i + 1) = qp_prog g w i ++ qp_grp g w i := rfl
    rw [eprog, qc_sum_app, ← hpos] at mono
    -- on with the next i, with or without code
    have skip : qp_grp g w i = [] → wX_compile_116 post (nI root) f (nI (i + 1)) f_tables (nI N) (nI pos) rm rwd nx 0 f_resRows f_resWidth a_tabWidth a_tabRows a_tab a_kind a_left a_right a_parent a_p a_q a_r a_nodeWidth a_bound wa W.1 W.2.1 W.2.2.1 W.2.2.2.1 W.2.2.2.2 lh td a_reg a_cursor a_loopKey a_met a_store a_storeRows a_headOf a_tailOf a_link a_result := by
      intro e
      refine ih (i + 1) pos W rm rwd nx lh td f (by omega) (by omega) ?_ ?_
      · rw [eprog, e, List.append_nil]; exact hpos
      · rw [eprog, e, List.append_nil]; exact hP
    have hle := qc_prog_ok hok hN (w := w) (rw := qp_wd g root) i (by omega)
    have did : ∀ (W' : qc_K) (rm rwd nx : Int32) (lh td : Nat → Int32), qp_grp g w i = qp_src g i 13 (qp_top g i) [] → qc_ag pos [] W W' → qm_Prog (qc_C W') g (qp_src g i 13 (qp_top g i) []) pos (pos + qc_sum g (qp_src g i 13 (qp_top g i) [])) →
        wX_compile_116 post (nI root) f (nI (i + 1)) f_tables (nI N) (nI (pos + qc_sum g (qp_src g i 13 (qp_top g i) []))) rm rwd nx 0 f_resRows f_resWidth a_tabWidth a_tabRows a_tab a_kind a_left a_right a_parent a_p a_q a_r a_nodeWidth a_bound wa W'.1 W'.2.1 W'.2.2.1 W'.2.2.2.1 W'.2.2.2.2 lh td a_reg a_cursor a_loopKey a_met a_store a_storeRows a_headOf a_tailOf a_link a_result := by
      intro W' rm rwd nx lh td e hag hP'
      refine ih (i + 1) _ W' rm rwd nx lh td f (by omega) (by omega) ?_ ?_
      · rw [eprog, e, qc_sum_app, ← hpos]
      · rw [eprog, e]
        have h1 := qc_prog_tr hok (C' := qc_C W') (E := pos) (rw := qp_wd g root) (qc_ag_I hag) (qc_ag_D hag) (qp_prog g w i) 0 pos (Nat.le_refl _) (fun q hq => (hle q hq).1) hP
        exact qc_prog_app _ _ _ _ _ h1 hP'
    refine br_f (nI_nlt (by omega) (by omega)) ⟨vp_in_nI i12 (by decide), ?_⟩
    rw [nI_clamp (n := i) (by omega)]
    by_cases hwi : w i = true
    · refine br_f (by rw [hw i (by omega)]; exact qc_b1 hwi) ⟨vp_in_nI i12 (by decide), ?_⟩
      rw [P.1]
      have hk12 : (if i = 12 then (-1 : Int32) else nI i) = nI i := if_neg (by omega)
      by_cases h5 : qp_kd g i = 5
      · have hb : qp_brk g i = true := by unfold qp_brk; rw [h5]; rfl
        have eg : qp_grp g w i = qp_src g i 13 (qp_top g i) [] := by unfold qp_grp; rw [hwi, hb]; rfl
        obtain ⟨t1, _, _⟩ := qp_top_ok hok (show i < N by omega) hb
        have et : qp_top g i = qp_rt g i := if_pos h5
        rw [eg] at mono
        refine br_t (by rw [h5]; rfl) ⟨vp_in_nI i12 (by decide), ?_⟩
        rw [(P.2.2.2.2.2.2.2.1 (Or.inl h5)).1, ← et]
        have key := qc_into (post := fun u => match u with | (f_tables, f_nodes, f_codeLen, f_rowMap, f_rowWidth, f_nextReg, f_loops, f_resRows, f_resWidth, a_tabWidth, a_tabRows, a_tab, a_kind, a_left, a_right, a_parent, a_p, a_q, a_r, a_nodeWidth, a_bound, a_wanted, a_cOp, a_cA, a_cB, a_cC, a_cD, a_loopHead, a_todo, a_reg, a_cursor, a_loopKey, a_met, a_store, a_storeRows, a_headOf, a_tailOf, a_link, a_result) => wX_compile_154 post (wX_compile_116 post (nI root) f) (nI root) (nI i) f_tables f_nodes f_codeLen f_rowMap f_rowWidth f_nextReg f_loops f_resRows f_resWidth a_tabWidth a_tabRows a_tab a_kind a_left a_right a_parent a_p a_q a_r a_nodeWidth a_bound a_wanted a_cOp a_cA a_cB a_cC a_cD a_loopHead a_todo a_reg a_cursor a_loopKey a_met a_store a_storeRows a_headOf a_tailOf a_link a_result) (k := i) (rw := qp_wd g root) (top := qp_top g i) (a_todo := td) (a_loopHead := lh) (f_rowMap := rm) (f_rowWidth := rwd) (f_nextReg := nx) (a_tabWidth := a_tabWidth) (a_tabRows := a_tabRows) (a_tab := a_tab) (a_bound := a_bound) (a_wanted := wa) (a_reg := a_reg) (a_cursor := a_cursor) (a_loopKey := a_loopKey) (a_met := a_met) (a_store := a_store) (a_storeRows := a_storeRows) (a_headOf := a_headOf) (a_tailOf := a_tailOf) (a_link := a_link) (a_result := a_result) (f_tables := f_tables) (f_nodes := nI N) (f_resRows := f_resRows) (f_resWidth := f_resWidth) (W := W) (pos := pos) hpl hok hN (by omega) (qc_top_pth hok (by omega) hb) (by omega) ?_
        · rw [hk12] at key; exact key
        · intro W' rm' rwd' nx' lh' td' hag hP'
          unfold wX_compile_154
          refine ⟨vp_in_nI i12 (by decide), ?_⟩
          rw [nI_clamp (n := i) (by omega), P.1, h5]
          refine br_f (by decide) ⟨vp_in_nI i12 (by decide), br_f (by decide) (nm_r (nI_1 i) (did W' rm' rwd' nx' lh' td' eg hag hP'))⟩
      · refine br_f (by rw [show (5 : Int32) = nI 5 from rfl, nI_eq (by omega) (by omega)]; exact h5) ?_
        unfold wX_compile_154
        refine ⟨vp_in_nI i12 (by decide), ?_⟩
        rw [nI_clamp (n := i) (by omega), P.1]
        have grp7 : qp_kd g i = 7 ∨ qp_kd g i = 10 → wX_compile_176 post (wX_compile_116 post (nI root) f) (nI root) (nI i) f_tables (nI N) (nI pos) rm rwd nx 0 f_resRows f_resWidth a_tabWidth a_tabRows a_tab a_kind a_left a_right a_parent a_p a_q a_r a_nodeWidth a_bound wa W.1 W.2.1 W.2.2.1 W.2.2.2.1 W.2.2.2.2 lh td a_reg a_cursor a_loopKey a_met a_store a_storeRows a_headOf a_tailOf a_link a_result := by
          intro h7
          have hb : qp_brk g i = true := by unfold qp_brk; rcases h7 with e | e <;> rw [e] <;> rfl
          have eg : qp_grp g w i = qp_src g i 13 (qp_top g i) [] := by unfold qp_grp; rw [hwi, hb]; rfl
          obtain ⟨t1, _, _⟩ := qp_top_ok hok (show i < N by omega) hb
          have et : qp_top g i = qp_lf g i := if_neg h5
          rw [eg] at mono
          refine ⟨vp_in_nI i12 (by decide), ?_⟩
          rw [nI_clamp (n := i) (by omega), (P.2.2.2.2.2.2.1 (by omega)).1, ← et]
          have key := qc_into (post := fun u => match u with | (f_tables, f_nodes, f_codeLen, f_rowMap, f_rowWidth, f_nextReg, f_loops, f_resRows, f_resWidth, a_tabWidth, a_tabRows, a_tab, a_kind, a_left, a_right, a_parent, a_p, a_q, a_r, a_nodeWidth, a_bound, a_wanted, a_cOp, a_cA, a_cB, a_cC, a_cD, a_loopHead, a_todo, a_reg, a_cursor, a_loopKey, a_met, a_store, a_storeRows, a_headOf, a_tailOf, a_link, a_result) => ∀ x2 : Int32, x2 = nI i + 1 → wX_compile_116 post (nI root) f x2 f_tables f_nodes f_codeLen f_rowMap f_rowWidth f_nextReg f_loops f_resRows f_resWidth a_tabWidth a_tabRows a_tab a_kind a_left a_right a_parent a_p a_q a_r a_nodeWidth a_bound a_wanted a_cOp a_cA a_cB a_cC a_cD a_loopHead a_todo a_reg a_cursor a_loopKey a_met a_store a_storeRows a_headOf a_tailOf a_link a_result) (k := i) (rw := qp_wd g root) (top := qp_top g i) (a_todo := td) (a_loopHead := lh) (f_rowMap := rm) (f_rowWidth := rwd) (f_nextReg := nx) (a_tabWidth := a_tabWidth) (a_tabRows := a_tabRows) (a_tab := a_tab) (a_bound := a_bound) (a_wanted := wa) (a_reg := a_reg) (a_cursor := a_cursor) (a_loopKey := a_loopKey) (a_met := a_met) (a_store := a_store) (a_storeRows := a_storeRows) (a_headOf := a_headOf) (a_tailOf := a_tailOf) (a_link := a_link) (a_result := a_result) (f_tables := f_tables) (f_nodes := nI N) (f_resRows := f_resRows) (f_resWidth := f_resWidth) (W := W) (pos := pos) hpl hok hN (by omega) (qc_top_pth hok (by omega) hb) (by omega) ?_
          · rw [hk12] at key; exact key
          · intro W' rm' rwd' nx' lh' td' hag hP'
            exact nm_r (nI_1 i) (did W' rm' rwd' nx' lh' td' eg hag hP')
        refine pk_eq (qp_kd g i) 7 (fun e => grp7 (Or.inl e)) (fun e7 => ⟨vp_in_nI i12 (by decide), pk_eq (qp_kd g i) 10 (fun e => grp7 (Or.inr e)) (fun e10 => nm_r (nI_1 i) (skip ?_))⟩)
        unfold qp_grp qp_brk
        rw [decide_eq_false h5, decide_eq_false e7, decide_eq_false e10]
        simp
    · have hwf : w i = false := by cases h : w i with
        | true => exact absurd h hwi
        | false => rfl
      refine br_t (by rw [hw i (by omega)]; exact qc_b0 hwf) (nm_r (nI_1 i) (skip ?_))
      unfold qp_grp; rw [hwf]; rfl
theorem qc_compile (hpl : ∀ n, n < N → qc_pl g n a_kind a_left a_right a_parent a_p a_q a_r a_nodeWidth) (hok : ∀ n, n < N → qp_ok g pa n) (hN : N ≤ 12) (hr : root < N) {Q : Nat → Prop} (hQr : Q root) (hQ : ∀ n, n ≤ root → Q n → (qp_kd g n ≠ 0 → Q (qp_lf g n)) ∧ (qp_kd g n = 5 ∨ qp_kd g n = 6 → Q (qp_rt g n)))
    (K : ∀ (w : Nat → Bool) (W' : qc_K) (cl rm rwd nx : Int32) (lh td wa : Nat → Int32) (e : Nat), qp_wcl g w root → (∀ j, j < N → w j = true → Q j) → e < 192 → qm_Prog (qc_C W') g (qp_full g w root) 0 e → W'.1 e = 0 → post (f_tables, nI N, cl, rm, rwd, nx, 0, f_resRows, f_resWidth, a_tabWidth, a_tabRows, a_tab, a_kind, a_left, a_right, a_parent, a_p, a_q, a_r, a_nodeWidth, a_bound, wa, W'.1, W'.2.1, W'.2.2.1, W'.2.2.2.1, W'.2.2.2.2, lh, td, a_reg, a_cursor, a_loopKey, a_met, a_store, a_storeRows, a_headOf, a_tailOf, a_link, a_result)) :
    wpX_compile post (f_tables, nI N, f_codeLen, f_rowMap, f_rowWidth, f_nextReg, f_loops, f_resRows, f_resWidth, a_tabWidth, a_tabRows, a_tab, a_kind, a_left, a_right, a_parent, a_p, a_q, a_r, a_nodeWidth, a_bound, a_wanted, W.1, W.2.1, W.2.2.1, W.2.2.2.1, W.2.2.2.2, a_loopHead, a_todo, a_reg, a_cursor, a_loopKey, a_met, a_store, a_storeRows, a_headOf, a_tailOf, a_link, a_result) (nI root) := by
  refine ⟨N + 1, ?_⟩
  refine qc_init (W := W) hN hr ?_ N 0 a_wanted (N + 1) (by omega) (by omega) (fun j hj => absurd hj (Nat.not_lt_zero _))
  intro wa hwa
  refine ⟨root + 2, ?_⟩
  have key := qc_mark (W := W) (post := post) (a_todo := a_todo) (a_loopHead := a_loopHead) (f_rowMap := f_rowMap) (f_rowWidth := f_rowWidth) (f_nextReg := f_nextReg) (f_codeLen := 0) (f_loops := 0) (a_tabWidth := a_tabWidth) (a_tabRows := a_tabRows) (a_tab := a_tab) (a_bound := a_bound) (a_reg := a_reg) (a_cursor := a_cursor) (a_loopKey := a_loopKey) (a_met := a_met) (a_store := a_store) (a_storeRows := a_storeRows) (a_headOf := a_headOf) (a_tailOf := a_tailOf) (a_link := a_link) (a_result := a_result) (f_tables := f_tables) (f_resRows := f_resRows) (f_resWidth := f_resWidth) hpl hok hN hr hQ ?_ (root + 1) wa (fun j => decide (j = root)) (root + 2) (Nat.le_refl _) (by omega) hwa (decide_eq_true rfl) (fun j h1 h2 => by omega) (fun j hj h => by rw [of_decide_eq_true h]; exact hQr)
  · rw [nI_pred] at key; exact key
  · intro wa' w hw hwc hq
    refine ⟨root + 2, ?_⟩
    refine qc_main hpl hok hN hr hw ?_ (root + 1) 0 0 W f_rowMap f_rowWidth f_nextReg a_loopHead a_todo (root + 2) (by omega) (by omega) rfl rfl
    intro W' cl rm rwd nx lh td e he hP hE
    exact K w W' cl rm rwd nx lh td wa' e hwc hq he hP hE
end
end
section
/-! bounds, purely -/
def qp_bw (g : qp_PL) (n a c : Nat) : Nat :=
  if qp_kd g n = 6 then a + c else if qp_kd g n = 5 ∧ qp_p g n = 0 then a * c else if qp_kd g n = 5 ∧ qp_p g n = 3 then (if c = 0 then a else a * c) else if qp_kd g n = 9 ∧ (qp_p g n).toNatClampNeg < a then (qp_p g n).toNatClampNeg else a
def qp_bc (g : qp_PL) (B : Nat → Nat) (n : Nat) : Nat := if qp_kd g n = 5 ∨ qp_kd g n = 6 then B (qp_rt g n) else 0
def qp_bv (g : qp_PL) (B : Nat → Nat) (n : Nat) : Nat :=
  if qp_kd g n = 0 then (qp_tb g n).length
  else if 24 < B (qp_lf g n) ∨ 24 < qp_bc g B n then 25
  else if 24 < qp_bw g n (B (qp_lf g n)) (qp_bc g B n) then 25 else qp_bw g n (B (qp_lf g n)) (qp_bc g B n)
def qp_BT (g : qp_PL) : Nat → Nat → Nat
  | 0 => fun _ => 0
  | k + 1 => fun m => if m = k then qp_bv g (qp_BT g k) k else qp_BT g k m
def qp_B (g : qp_PL) (n : Nat) : Nat := qp_BT g (n + 1) n
theorem qp_BT_B (g : qp_PL) : ∀ k m, m < k → qp_BT g k m = qp_B g m := by
  intro k
  induction k with
  | zero => intro m h; exact absurd h (Nat.not_lt_zero _)
  | succ k ih =>
    intro m h
    by_cases e : m = k
    · subst e; rfl
    · show (if m = k then _ else qp_BT g k m) = _
      rw [if_neg e]; exact ih m (by omega)
theorem qp_B_eq {g : qp_PL} {n : Nat} (h : qp_Low g n) : qp_B g n = qp_bv g (qp_B g) n := by
  have e0 : qp_B g n = qp_bv g (qp_BT g n) n := by
    show (if n = n then _ else _) = _
    rw [if_pos rfl]
  rw [e0]
  unfold qp_bv
  by_cases h0 : qp_kd g n = 0
  · rw [if_pos h0, if_pos h0]
  · have ec : qp_bc g (qp_BT g n) n = qp_bc g (qp_B g) n := by
      unfold qp_bc
      by_cases h5 : qp_kd g n = 5 ∨ qp_kd g n = 6
      · rw [if_pos h5, if_pos h5, qp_BT_B g n _ (h.2 h5)]
      · rw [if_neg h5, if_neg h5]
    rw [if_neg h0, if_neg h0, qp_BT_B g n _ (h.1 h0), ec]
theorem qp_B_child {g : qp_PL} {n : Nat} (h : qp_Low g n) (hb : qp_B g n ≤ 24) : (qp_kd g n ≠ 0 → qp_B g (qp_lf g n) ≤ 24) ∧ (qp_kd g n = 5 ∨ qp_kd g n = 6 → qp_B g (qp_rt g n) ≤ 24) := by
  rw [qp_B_eq h] at hb
  unfold qp_bv at hb
  by_cases h0 : qp_kd g n = 0
  · exact ⟨fun z => absurd h0 z, fun z => by omega⟩
  · rw [if_neg h0] at hb
    by_cases h1 : 24 < qp_B g (qp_lf g n) ∨ 24 < qp_bc g (qp_B g) n
    · rw [if_pos h1] at hb; omega
    · refine ⟨fun _ => by omega, fun z => ?_⟩
      unfold qp_bc at h1
      rw [if_pos z] at h1; omega
/-! the length of a fold -/
theorem qp_fold_len {g : qp_PL} {n : Nat} {Sn : qp_W} {m : Nat} (h : ∀ D x, (qp_out g n Sn D x).length ≤ m) (A : qp_W) : (qp_fold g n Sn A).length ≤ A.length * m := by
  unfold qp_fold
  have : ∀ (A D : qp_W), (A.foldl (fun D x => D ++ qp_out g n Sn D x) D).length ≤ D.length + A.length * m := by
    intro A
    induction A with
    | nil => intro D; show D.length ≤ D.length + 0 * m; omega
    | cons x A ih =>
      intro D
      have h1 := ih (D ++ qp_out g n Sn D x)
      have h2 := h D x
      rw [List.length_append] at h1
      show (A.foldl _ (D ++ qp_out g n Sn D x)).length ≤ D.length + (A.length + 1) * m
      rw [Nat.add_mul]
      omega
  have h1 := this A []
  have e : ([] : qp_W).length = 0 := rfl
  omega
theorem qp_fold_lim {g : qp_PL} {n : Nat} {Sn : qp_W} (h : qp_kd g n = 9) (A : qp_W) : (qp_fold g n Sn A).length = min (qp_p g n).toNatClampNeg A.length := by
  unfold qp_fold
  have : ∀ (A D : qp_W), D.length ≤ (qp_p g n).toNatClampNeg → (A.foldl (fun D x => D ++ qp_out g n Sn D x) D).length = min (qp_p g n).toNatClampNeg (D.length + A.length) := by
    intro A
    induction A with
    | nil => intro D hD; show D.length = min _ (D.length + 0); omega
    | cons x A ih =>
      intro D hD
      show (A.foldl _ (D ++ qp_out g n Sn D x)).length = min _ (D.length + (A.length + 1))
      rw [qp_out9 h]
      by_cases c : D.length < (qp_p g n).toNatClampNeg
      · rw [if_pos c, ih _ (by rw [List.length_append]; show D.length + 1 ≤ _; omega), List.length_append]
        show min _ (D.length + 1 + A.length) = _
        rw [show D.length + 1 + A.length = D.length + (A.length + 1) by omega]
      · rw [if_neg c, List.append_nil, ih D hD]
        omega
  have h1 := this A [] (Nat.zero_le _)
  rw [h1]
  have e : ([] : qp_W).length = 0 := rfl
  rw [e, Nat.zero_add]
theorem qp_snk_fold_len (g : qp_PL) (k : Nat) : ∀ (A T : qp_W), (A.foldl (qp_snk g k) T).length ≤ T.length + A.length := by
  intro A
  induction A with
  | nil => intro T; exact Nat.le_refl _
  | cons x A ih =>
    intro T
    have h1 := ih (qp_snk g k T x)
    have h2 := (qp_snk_len g k T x).2
    show (A.foldl _ (qp_snk g k T x)).length ≤ T.length + (A.length + 1)
    omega
theorem qp_hit_len (key col : Int32) (T : qp_W) : (qp_hit key col T).length ≤ T.length := List.length_filter_le _ _
section
variable {g : qp_PL} {pa : Nat → Nat} {N : Nat}
theorem qp_len (hok : ∀ n, n < N → qp_ok g pa n) : ∀ n, n < N → qp_B g n ≤ 24 → (qp_V g n).length ≤ qp_B g n := by
  intro n
  induction n using Nat.strongRecOn with
  | ind n ih =>
    intro hn hb
    have hlow := qp_ok_low (hok n hn)
    obtain ⟨c1, c2⟩ := qp_B_child hlow hb
    have eB := qp_B_eq hlow
    unfold qp_bv at eB
    by_cases h0 : qp_kd g n = 0
    · rw [if_pos h0] at eB
      rw [eB, qp_V_0 h0]; exact Nat.le_refl _
    · rw [if_neg h0] at eB
      have hl := ((hok n hn).2.2.2.1 h0).1
      have bl := c1 h0
      have il := ih _ hl (by omega) bl
      have hc : ¬ (24 < qp_B g (qp_lf g n) ∨ 24 < qp_bc g (qp_B g) n) := by
        intro z
        rw [if_pos z] at eB; omega
      rw [if_neg hc] at eB
      have hc2 : ¬ 24 < qp_bw g n (qp_B g (qp_lf g n)) (qp_bc g (qp_B g) n) := by
        intro z
        rw [if_pos z] at eB; omega
      rw [if_neg hc2] at eB
      rw [eB]
      unfold qp_bw
      by_cases h6 : qp_kd g n = 6
      · rw [if_pos h6, qp_V_6 hlow h6, List.length_append]
        have hr := ((hok n hn).2.2.2.2.1 (Or.inr h6)).1
        have ir := ih _ hr (by omega) (c2 (Or.inr h6))
        have : qp_bc g (qp_B g) n = qp_B g (qp_rt g n) := if_pos (Or.inr h6)
        omega
      · rw [if_neg h6]
        rcases qp_so_dec g n with hs | hs
        · have h7 : qp_kd g n = 7 ∨ qp_kd g n = 10 := hs.resolve_left h0
          rw [if_neg (by omega), if_neg (by omega), if_neg (by omega), qp_V_s hlow h7]
          have := qp_snk_fold_len g n (qp_V g (qp_lf g n)) []
          have e : ([] : qp_W).length = 0 := rfl
          omega
        · rw [qp_V_o hlow hs h6]
          by_cases h5 : qp_kd g n = 5
          · have hr := ((hok n hn).2.2.2.2.1 (Or.inl h5)).1
            have ir := ih _ hr (by omega) (c2 (Or.inl h5))
            have ec : qp_bc g (qp_B g) n = qp_B g (qp_rt g n) := if_pos (Or.inl h5)
            rw [ec]
            by_cases p0 : qp_p g n = 0
            · rw [if_pos ⟨h5, p0⟩]
              have h := qp_fold_len (g := g) (n := n) (Sn := qp_V g (qp_rt g n)) (m := qp_B g (qp_rt g n)) (fun D x => by
                rw [qp_out5 h5]
                unfold qp_join
                rw [if_neg (by rw [p0]; decide), if_neg (by rw [p0]; decide), if_neg (by rw [p0]; exact fun z => absurd z.1 (by decide)), List.length_map]
                exact Nat.le_trans (qp_hit_len ..) ir) (qp_V g (qp_lf g n))
              exact Nat.le_trans h (Nat.mul_le_mul_right _ il)
            · rw [if_neg (fun z => p0 z.2)]
              by_cases p3 : qp_p g n = 3
              · rw [if_pos ⟨h5, p3⟩]
                by_cases b0 : qp_B g (qp_rt g n) = 0
                · rw [if_pos b0]
                  have h := qp_fold_len (g := g) (n := n) (Sn := qp_V g (qp_rt g n)) (m := 1) (fun D x => by
                    rw [qp_out5 h5]
                    unfold qp_join
                    have hh : qp_hit (qp_at x (qp_q g n)) (qp_r g n) (qp_V g (qp_rt g n)) = [] := List.eq_nil_of_length_eq_zero (by have := qp_hit_len (qp_at x (qp_q g n)) (qp_r g n) (qp_V g (qp_rt g n)); omega)
                    rw [if_neg (by rw [p3]; decide), if_neg (by rw [p3]; decide), if_pos ⟨p3, hh⟩]; exact Nat.le_refl _) (qp_V g (qp_lf g n))
                  omega
                · rw [if_neg b0]
                  have h := qp_fold_len (g := g) (n := n) (Sn := qp_V g (qp_rt g n)) (m := qp_B g (qp_rt g n)) (fun D x => by
                    rw [qp_out5 h5]
                    unfold qp_join
                    rw [if_neg (by rw [p3]; decide), if_neg (by rw [p3]; decide)]
                    split
                    · show 1 ≤ _; omega
                    · rw [List.length_map]; exact Nat.le_trans (qp_hit_len ..) ir) (qp_V g (qp_lf g n))
                  exact Nat.le_trans h (Nat.mul_le_mul_right _ il)
              · rw [if_neg (fun z => p3 z.2), if_neg (by omega)]
                have h := qp_fold_len (g := g) (n := n) (Sn := qp_V g (qp_rt g n)) (m := 1) (fun D x => by
                  rw [qp_out5 h5]
                  unfold qp_join
                  have hj : qp_p g n = 1 ∨ qp_p g n = 2 := by
                    obtain ⟨a, ha, ea⟩ := ((hok n hn).2.2.2.2.2.2.2.2.2.2.1 h5).1
                    rw [ea] at p0 p3 ⊢
                    match a, ha with
                    | 0, _ => exact absurd rfl p0
                    | 1, _ => exact Or.inl rfl
                    | 2, _ => exact Or.inr rfl
                    | 3, _ => exact absurd rfl p3
                  rcases hj with e | e
                  · rw [if_pos e]; split <;> simp
                  · rw [if_neg (by rw [e]; decide), if_pos e]; split <;> simp) (qp_V g (qp_lf g n))
                omega
          · rw [if_neg (fun z => h5 z.1), if_neg (fun z => h5 z.1)]
            by_cases h9 : qp_kd g n = 9
            · rw [qp_fold_lim h9]
              by_cases hp : qp_kd g n = 9 ∧ (qp_p g n).toNatClampNeg < qp_B g (qp_lf g n)
              · rw [if_pos hp]; omega
              · rw [if_neg hp]; omega
            · rw [if_neg (fun z => h9 z.1)]
              have h := qp_fold_len (g := g) (n := n) (Sn := qp_V g (qp_rt g n)) (m := 1) (fun D x => by
                rcases qm_op_kd hok hn hs with z | z | z | z | z | z | z | z
                · rw [qp_out1 z]; split <;> simp
                · rw [qp_out2 z]; split <;> simp
                · rw [qp_out3 z]; simp
                · rw [qp_out4 z]; simp
                · exact absurd z h5
                · exact absurd z h6
                · rw [qp_out8 z]; split <;> simp
                · exact absurd z h9) (qp_V g (qp_lf g n))
              omega
end
end
section
/-! the component's run -/
def qx_b (b : Nat) : Int32 := if 24 < b then -1 else nI b
theorem qp_B25 {g : qp_PL} {pa : Nat → Nat} {n : Nat} (h : qp_ok g pa n) : qp_B g n ≤ 25 := by
  rw [qp_B_eq (qp_ok_low h)]
  unfold qp_bv
  by_cases h0 : qp_kd g n = 0
  · rw [if_pos h0]
    have := (h.2.2.2.2.2.1 h0).2.1; omega
  · rw [if_neg h0]
    split
    · exact Nat.le_refl _
    · split <;> omega
section
variable {f_tables f_codeLen f_rowMap f_rowWidth f_nextReg f_loops f_resRows f_resWidth : Int32} {a_tabWidth a_tabRows a_tab a_kind a_left a_right a_parent a_p a_q a_r a_nodeWidth a_bound a_wanted a_loopHead a_todo a_reg a_cursor a_loopKey a_met a_store a_storeRows a_headOf a_tailOf a_link a_result a_cOp a_cA a_cB a_cC a_cD : Nat → Int32} {W : qc_K}
variable {g : qp_PL} {pa : Nat → Nat} {N root : Nat}
theorem qx_170 {post : Int32 → Prop} {f_nodes : Int32} {b : Nat} (hb : b < 2 ^ 31) (K : post (qx_b (if 24 < b then 25 else b))) : wX_boundOf_170 post (nI b) f_tables f_nodes f_codeLen f_rowMap f_rowWidth f_nextReg f_loops f_resRows f_resWidth a_tabWidth a_tabRows a_tab a_kind a_left a_right a_parent a_p a_q a_r a_nodeWidth a_bound a_wanted a_cOp a_cA a_cB a_cC a_cD a_loopHead a_todo a_reg a_cursor a_loopKey a_met a_store a_storeRows a_headOf a_tailOf a_link a_result := by
  refine pk_le b 24 (fun h => ?_) (fun h => ?_)
  · rw [if_neg (by omega)] at K
    unfold qx_b at K
    rw [if_neg (by omega)] at K; exact K
  · rw [if_pos (by omega)] at K
    exact K
theorem qx_boundOf {post : Int32 → Prop} (hm : ∀ n, n < N → qm_pln g n a_tabRows a_tab a_kind a_right a_p a_q a_r a_nodeWidth) (hpl : ∀ n, n < N → qc_pl g n a_kind a_left a_right a_parent a_p a_q a_r a_nodeWidth) (hok : ∀ n, n < N → qp_ok g pa n) (hN : N ≤ 12) {f_nodes : Int32} {n : Nat} (hn : n < N)
    (hb : ∀ m, m < n → a_bound m = qx_b (qp_B g m)) (K : post (qx_b (qp_B g n))) : wpX_boundOf post (f_tables, f_nodes, f_codeLen, f_rowMap, f_rowWidth, f_nextReg, f_loops, f_resRows, f_resWidth, a_tabWidth, a_tabRows, a_tab, a_kind, a_left, a_right, a_parent, a_p, a_q, a_r, a_nodeWidth, a_bound, a_wanted, a_cOp, a_cA, a_cB, a_cC, a_cD, a_loopHead, a_todo, a_reg, a_cursor, a_loopKey, a_met, a_store, a_storeRows, a_headOf, a_tailOf, a_link, a_result) (nI n) := by
  have P := hpl n hn
  have n12 : n < 12 := by omega
  have k10 := (hok n hn).1
  have eB := qp_B_eq (qp_ok_low (hok n hn))
  unfold qp_bv at eB
  refine ⟨vp_in_nI n12 (by decide), ?_⟩
  rw [nI_clamp (n := n) (by omega), P.1]
  refine pk_eq (qp_kd g n) 0 (fun h0 => ⟨vp_in_nI n12 (by decide), ?_⟩) (fun h0 => ⟨vp_in_nI n12 (by decide), ?_⟩)
  · obtain ⟨t, ht, ep, er, _⟩ := (hm n hn).2.2.2.2.2.2 h0
    rw [ep, nI_clamp (by omega), er]
    rw [if_pos h0] at eB
    have := ((hok n hn).2.2.2.2.2.1 h0).2.1
    rw [eB] at K
    unfold qx_b at K
    rw [if_neg (by omega)] at K
    exact ⟨vp_in_nI ht (by decide), K⟩
  · have hl := ((hok n hn).2.2.2.1 h0).1
    have BL := qp_B25 (hok (qp_lf g n) (by omega))
    rw [if_neg h0] at eB
    rw [(P.2.2.2.2.2.2.1 h0).1]
    refine ⟨vp_in_nI (by omega) (by decide), ?_⟩
    rw [nI_clamp (n := qp_lf g n) (by omega), hb _ hl]
    refine nm_e ?_
    by_cases c1 : 24 < qp_B g (qp_lf g n)
    · rw [if_pos (Or.inl c1)] at eB
      rw [eB] at K
      unfold qx_b
      rw [if_pos c1]
      exact br_f (by decide) K
    · have ea : qx_b (qp_B g (qp_lf g n)) = nI (qp_B g (qp_lf g n)) := if_neg c1
      rw [ea]
      refine br_t (nI_pos' (by omega)) ⟨vp_in_nI n12 (by decide), ?_⟩
      -- union and join
      have uj : qp_kd g n = 5 ∨ qp_kd g n = 6 → wX_boundOf_62 post (nI n) (nI (qp_B g (qp_lf g n))) (nI (qp_B g (qp_lf g n))) f_tables f_nodes f_codeLen f_rowMap f_rowWidth f_nextReg f_loops f_resRows f_resWidth a_tabWidth a_tabRows a_tab a_kind a_left a_right a_parent a_p a_q a_r a_nodeWidth a_bound a_wanted a_cOp a_cA a_cB a_cC a_cD a_loopHead a_todo a_reg a_cursor a_loopKey a_met a_store a_storeRows a_headOf a_tailOf a_link a_result := by
        intro h56
        have hr := ((hok n hn).2.2.2.2.1 h56).1
        have BR := qp_B25 (hok (qp_rt g n) (by omega))
        have ec : qp_bc g (qp_B g) n = qp_B g (qp_rt g n) := if_pos h56
        rw [ec] at eB
        unfold wX_boundOf_62
        refine ⟨vp_in_nI n12 (by decide), ?_⟩
        rw [nI_clamp (n := n) (by omega), (P.2.2.2.2.2.2.2.1 h56).1]
        refine ⟨vp_in_nI (by omega) (by decide), ?_⟩
        rw [nI_clamp (n := qp_rt g n) (by omega), hb _ hr]
        refine nm_e ?_
        by_cases c2 : 24 < qp_B g (qp_rt g n)
        · rw [if_pos (Or.inr c2)] at eB
          rw [eB] at K
          unfold qx_b
          rw [if_pos c2]
          exact br_f (by decide) K
        · have ec2 : qx_b (qp_B g (qp_rt g n)) = nI (qp_B g (qp_rt g n)) := if_neg c2
          rw [ec2]
          rw [if_neg (by omega)] at eB
          have mm : qp_B g (qp_lf g n) * qp_B g (qp_rt g n) ≤ 24 * 24 := Nat.mul_le_mul (by omega) (by omega)
          have fin : ∀ b, b < 2 ^ 31 → qp_bw g n (qp_B g (qp_lf g n)) (qp_B g (qp_rt g n)) = b → wX_boundOf_139 post (nI b) f_tables f_nodes f_codeLen f_rowMap f_rowWidth f_nextReg f_loops f_resRows f_resWidth a_tabWidth a_tabRows a_tab a_kind a_left a_right a_parent a_p a_q a_r a_nodeWidth a_bound a_wanted a_cOp a_cA a_cB a_cC a_cD a_loopHead a_todo a_reg a_cursor a_loopKey a_met a_store a_storeRows a_headOf a_tailOf a_link a_result := by
            intro b hb' e
            rw [e] at eB
            rw [eB] at K
            exact qx_170 hb' K
          refine br_t (nI_pos' (by omega)) ⟨vp_in_nI n12 (by decide), ?_⟩
          rw [P.1, P.2.2.1]
          refine pk_eq (qp_kd g n) 6 (fun h6 => nm_r (nI_add _ _) (fin _ (by omega) ?_)) (fun h6 => ⟨vp_in_nI n12 (by decide), ?_⟩)
          · unfold qp_bw; rw [if_pos h6]
          · have h5 := h56.resolve_right h6
            refine br_c (fun p0 => nm_r (pk_mul _ _) (fin _ (by omega) ?_)) (fun p0 => ⟨vp_in_nI n12 (by decide), br_c (fun p3 => ?_) (fun p3 => fin _ (by omega) ?_)⟩)
            · unfold qp_bw; rw [if_neg h6, if_pos ⟨h5, p0⟩]
            · refine pk_le (qp_B g (qp_rt g n)) 1 (fun h1 => fin _ (by omega) ?_) (fun h1 => nm_r (pk_mul _ _) (fin _ (by omega) ?_))
              · unfold qp_bw
                rw [if_neg h6, if_neg (fun z => p0 z.2), if_pos ⟨h5, p3⟩]
                split
                · rfl
                · rw [show qp_B g (qp_rt g n) = 1 by omega, Nat.mul_one]
              · unfold qp_bw
                rw [if_neg h6, if_neg (fun z => p0 z.2), if_pos ⟨h5, p3⟩, if_neg (by omega)]
            · unfold qp_bw
              rw [if_neg h6, if_neg (fun z => p0 z.2), if_neg (fun z => p3 z.2), if_neg (by omega)]
      refine pk_eq (qp_kd g n) 6 (fun h6 => uj (Or.inr h6)) (fun h6 => ⟨vp_in_nI n12 (by decide), pk_eq (qp_kd g n) 5 (fun h5 => uj (Or.inl h5)) (fun h5 => ⟨vp_in_nI n12 (by decide), ?_⟩)⟩)
      have ec : qp_bc g (qp_B g) n = 0 := if_neg (by omega)
      rw [ec, if_neg (by omega)] at eB
      have fin : ∀ b, b < 2 ^ 31 → qp_bw g n (qp_B g (qp_lf g n)) 0 = b → wX_boundOf_170 post (nI b) f_tables f_nodes f_codeLen f_rowMap f_rowWidth f_nextReg f_loops f_resRows f_resWidth a_tabWidth a_tabRows a_tab a_kind a_left a_right a_parent a_p a_q a_r a_nodeWidth a_bound a_wanted a_cOp a_cA a_cB a_cC a_cD a_loopHead a_todo a_reg a_cursor a_loopKey a_met a_store a_storeRows a_headOf a_tailOf a_link a_result := by
        intro b hb' e
        rw [e] at eB
        rw [eB] at K
        exact qx_170 hb' K
      refine pk_eq (qp_kd g n) 9 (fun h9 => ⟨vp_in_nI n12 (by decide), ?_⟩) (fun h9 => fin _ (by omega) ?_)
      · obtain ⟨k, hk, ek⟩ := ((hok n hn).2.2.2.2.2.2.2.2.2.2.2.2.2.2.1 h9).1
        have ekn : (qp_p g n).toNatClampNeg = k := qb_tn hk ek
        rw [P.2.2.1, ek]
        refine pk_le (qp_B g (qp_lf g n)) k (fun h => fin _ (by omega) ?_) (fun h => ⟨vp_in_nI n12 (by decide), nm_e (fin _ (by omega) ?_)⟩) (hb := hk)
        · unfold qp_bw
          rw [if_neg h6, if_neg (fun z => h5 z.1), if_neg (fun z => h5 z.1), ekn, if_neg (fun z => by omega)]
        · unfold qp_bw
          rw [if_neg h6, if_neg (fun z => h5 z.1), if_neg (fun z => h5 z.1), ekn, if_pos ⟨h9, h⟩]
      · unfold qp_bw
        rw [if_neg h6, if_neg (fun z => h5 z.1), if_neg (fun z => h5 z.1), if_neg (fun z => h9 z.1)]
theorem qx_run {post : Int32 → SX → Prop} (hm : ∀ n, n < N → qm_pln g n a_tabRows a_tab a_kind a_right a_p a_q a_r a_nodeWidth) (hpl : ∀ n, n < N → qc_pl g n a_kind a_left a_right a_parent a_p a_q a_r a_nodeWidth) (hok : ∀ n, n < N → qp_ok g pa n) (hN : N ≤ 12) (hr : root < N)
    (K1 : 24 < qp_B g root → ∀ a_bound : Nat → Int32, post (-10) (f_tables, nI N, f_codeLen, f_rowMap, f_rowWidth, f_nextReg, f_loops, f_resRows, f_resWidth, a_tabWidth, a_tabRows, a_tab, a_kind, a_left, a_right, a_parent, a_p, a_q, a_r, a_nodeWidth, a_bound, a_wanted, a_cOp, a_cA, a_cB, a_cC, a_cD, a_loopHead, a_todo, a_reg, a_cursor, a_loopKey, a_met, a_store, a_storeRows, a_headOf, a_tailOf, a_link, a_result))
    (K2 : qp_B g root ≤ 24 → ∀ (f_codeLen f_rowMap f_rowWidth f_nextReg f_loops : Int32) (a_bound a_wanted a_cOp a_cA a_cB a_cC a_cD a_loopHead a_todo a_reg a_cursor a_loopKey a_met a_store a_storeRows a_headOf a_tailOf a_link a_result : Nat → Int32), (∀ y ∈ qp_V g root, y.length = qp_wd g root) →
      (∀ e c, e < (qp_V g root).length → c < qp_wd g root → a_result (e * 6 + c) = ((qp_V g root).getD e []).getD c 0) → post (nI (qp_V g root).length) (f_tables, nI N, f_codeLen, f_rowMap, f_rowWidth, f_nextReg, f_loops, nI (qp_V g root).length, nI (qp_wd g root), a_tabWidth, a_tabRows, a_tab, a_kind, a_left, a_right, a_parent, a_p, a_q, a_r, a_nodeWidth, a_bound, a_wanted, a_cOp, a_cA, a_cB, a_cC, a_cD, a_loopHead, a_todo, a_reg, a_cursor, a_loopKey, a_met, a_store, a_storeRows, a_headOf, a_tailOf, a_link, a_result)) :
    wpX_run post (f_tables, nI N, f_codeLen, f_rowMap, f_rowWidth, f_nextReg, f_loops, f_resRows, f_resWidth, a_tabWidth, a_tabRows, a_tab, a_kind, a_left, a_right, a_parent, a_p, a_q, a_r, a_nodeWidth, a_bound, a_wanted, a_cOp, a_cA, a_cB, a_cC, a_cD, a_loopHead, a_todo, a_reg, a_cursor, a_loopKey, a_met, a_store, a_storeRows, a_headOf, a_tailOf, a_link, a_result) (nI root) := by
  have r12 : root < 12 := by omega
  unfold wpX_run
  refine br_f (nI_pos (by omega)) (br_t (nI_lt hr (by omega)) (br_t rfl ?_))
  have L : ∀ (d i : Nat) (bd : Nat → Int32) (fuel : Nat), i + d = root + 1 → d < fuel → (∀ m, m < i → bd m = qx_b (qp_B g m)) → wX_run_13 post (nI root) f_tables (nI N) f_codeLen f_rowMap f_rowWidth f_nextReg f_loops f_resRows f_resWidth fuel (nI i) a_tabWidth a_tabRows a_tab a_kind a_left a_right a_parent a_p a_q a_r a_nodeWidth bd a_wanted a_cOp a_cA a_cB a_cC a_cD a_loopHead a_todo a_reg a_cursor a_loopKey a_met a_store a_storeRows a_headOf a_tailOf a_link a_result := by
    intro d
    induction d with
    | zero =>
      intro i bd fuel hi hf hb
      obtain ⟨f, rfl⟩ : ∃ f', fuel = f' + 1 := ⟨fuel - 1, by omega⟩
      have hi' : i = root + 1 := by omega
      subst hi'
      refine br_t (nI_lt (by omega) (by omega)) ⟨vp_in_nI r12 (by decide), ?_⟩
      rw [nI_clamp (n := root) (by omega), hb root (by omega)]
      by_cases hB : 24 < qp_B g root
      · unfold qx_b
        rw [if_pos hB]
        exact br_f (by decide) (K1 hB bd)
      · have e1 : qx_b (qp_B g root) = nI (qp_B g root) := if_neg hB
        rw [e1]
        refine br_t (nI_pos' (by omega)) ?_
        have hQ : ∀ n, n ≤ root → qp_B g n ≤ 24 → (qp_kd g n ≠ 0 → qp_B g (qp_lf g n) ≤ 24) ∧ (qp_kd g n = 5 ∨ qp_kd g n = 6 → qp_B g (qp_rt g n) ≤ 24) := fun n hn h => qp_B_child (qp_ok_low (hok n (by omega))) h
        refine qc_compile (W := (a_cOp, a_cA, a_cB, a_cC, a_cD)) (Q := fun n => qp_B g n ≤ 24) hpl hok hN hr (by omega) hQ ?_
        intro w W' cl rm rwd nx lh td wa e hwc hq he hP hE
        have hV : ∀ m, m ≤ root → w m = true → (qp_V g m).length ≤ 24 := fun m hm' hwm => by
          have h1 := hq m (by omega) hwm
          have h2 := qp_len hok m (by omega) h1
          omega
        obtain ⟨m1, m2⟩ := qp_main hok hN hr hwc hV
        obtain ⟨_, len⟩ := qc_full_len (w := w) hok hN hr
        refine qm_execute (g := g) (N := N) (rw := qp_wd g root) (e := e) (l := qp_full g w root) hm hN hok (hok root hr).2.2.1 ?_ he hE (qc_full_ok hok hN hr) (by omega) m2 ?_
        · refine qc_prog_tr (C := qc_C W') (C' := (f_tables, nI N, cl, rm, rwd, nx, 0, f_resWidth, a_tabWidth, a_tabRows, a_tab, a_kind, a_left, a_right, a_parent, a_p, a_q, a_r, a_nodeWidth, bd, wa, W'.1, W'.2.1, W'.2.2.1, W'.2.2.2.1, W'.2.2.2.2, lh, td)) (E := e) hok (rw := qp_wd g root) (fun i o a b c _ h => h) (fun i d _ h => h) (qp_full g w root) 0 e (Nat.le_refl _) (fun q hq' => (qc_full_ok hok hN hr q hq').1) hP
        · intro rr sto sr hd tl lk res reg cu ky mt hrep
          obtain ⟨q1, q2, q3⟩ := hrep.2
          rw [m1] at q1 q2 q3
          refine ⟨vp_in_nI r12 (by decide), ?_⟩
          have q1' : rr = nI (qp_V g root).length := q1
          rw [(hpl root hr).2.1, q1']
          exact nm_e (K2 (by omega) _ _ _ _ _ _ _ _ _ _ _ _ _ _ _ _ _ _ _ _ _ _ _ _ q2 q3)
    | succ d ih =>
      intro i bd fuel hi hf hb
      obtain ⟨f, rfl⟩ : ∃ f', fuel = f' + 1 := ⟨fuel - 1, by omega⟩
      refine br_f (nI_nlt (by omega) (by omega)) ?_
      refine qx_boundOf hm hpl hok hN (show i < N by omega) hb ⟨vp_in_nI (by omega) (by decide), ?_⟩
      rw [nI_clamp (n := i) (by omega)]
      refine nm_e (nm_r (nI_1 i) (ih (i + 1) _ f (by omega) (by omega) (fun m hm' => ?_)))
      by_cases e : m = i
      · rw [e, pk_us]
      · rw [pk_un e]; exact hb m (by omega)
  exact ⟨root + 2, L (root + 1) 0 a_bound (root + 2) (by omega) (by omega) (fun m hm' => absurd hm' (Nat.not_lt_zero _))⟩
end
end
section
/-! the reference's small methods -/
theorem qp_fold_take {g : qp_PL} {n : Nat} {Sn A : qp_W} {i : Nat} (h : i < A.length) : qp_fold g n Sn (A.take (i + 1)) = qp_fold g n Sn (A.take i) ++ qp_out g n Sn (qp_fold g n Sn (A.take i)) (A.getD i []) := by
  have e : A.take (i + 1) = A.take i ++ [A.getD i []] := by
    rw [List.take_succ, List.getElem?_eq_getElem h, List.getD_eq_getElem?_getD, List.getElem?_eq_getElem h]; rfl
  rw [e]
  unfold qp_fold
  rw [List.foldl_append]; rfl
theorem qp_fold_mono {g : qp_PL} {n : Nat} {Sn A : qp_W} {i : Nat} : (qp_fold g n Sn (A.take i)).length ≤ (qp_fold g n Sn A).length := by
  have e : A = A.take i ++ A.drop i := (List.take_append_drop i A).symm
  have h : ∀ (B D : qp_W), D.length ≤ (B.foldl (fun D x => D ++ qp_out g n Sn D x) D).length := by
    intro B
    induction B with
    | nil => intro D; exact Nat.le_refl _
    | cons x B ih =>
      intro D
      have := ih (D ++ qp_out g n Sn D x)
      rw [List.length_append] at this
      show D.length ≤ (B.foldl _ (D ++ qp_out g n Sn D x)).length
      omega
  have h2 := h (A.drop i) (qp_fold g n Sn (A.take i))
  have e2 : (A.drop i).foldl (fun D x => D ++ qp_out g n Sn D x) (qp_fold g n Sn (A.take i)) = qp_fold g n Sn (A.take i ++ A.drop i) := by
    unfold qp_fold; rw [List.foldl_append]
  rw [e2, ← e] at h2
  exact h2
/-- node n's list in val and count -/
def qy_rep (val cnt : Nat → Int32) (n : Nat) (T : qp_W) (w : Nat) : Prop := cnt n = nI T.length ∧ ∀ e c, e < T.length → c < w → val (n * 144 + e * 6 + c) = (T.getD e []).getD c 0
/-- only node n's list changes -/
def qy_fr (n : Nat) (val cnt val' cnt' : Nat → Int32) : Prop := (∀ j, j < n * 144 ∨ n * 144 + 144 ≤ j → val' j = val j) ∧ ∀ m, m ≠ n → cnt' m = cnt m
theorem qy_fr_rfl {n : Nat} {val cnt : Nat → Int32} : qy_fr n val cnt val cnt := ⟨fun _ _ => rfl, fun _ _ => rfl⟩
theorem qy_fr_trans {n : Nat} {v c v' c' v'' c'' : Nat → Int32} (h : qy_fr n v c v' c') (h' : qy_fr n v' c' v'' c'') : qy_fr n v c v'' c'' := ⟨fun j hj => (h'.1 j hj).trans (h.1 j hj), fun m hm => (h'.2 m hm).trans (h.2 m hm)⟩
theorem qy_rep_fr {n m : Nat} {v c v' c' : Nat → Int32} {T : qp_W} {w : Nat} (h : qy_fr n v c v' c') (hm : m ≠ n) (hT : T.length ≤ 24) (hw : w ≤ 6) (H : qy_rep v c m T w) : qy_rep v' c' m T w :=
  ⟨(h.2 m hm).trans H.1, fun e x he hx => by rw [h.1 _ (by omega)]; exact H.2 e x he hx⟩
section
variable {f_tables f_nodes f_resRows f_resWidth : Int32} {a_tab a_tabRows a_tabWidth a_form a_left a_right a_p1 a_p2 a_p3 a_wide a_used a_bound a_count a_val a_res : Nat → Int32}
theorem qy_holds {post : Int32 → Prop} {k x y : Int32} (hk : qp_c 6 k) (K : post (if qp_cmp k x y = true then 1 else 0)) : wpY_holds post (f_tables, f_nodes, f_resRows, f_resWidth, a_tab, a_tabRows, a_tabWidth, a_form, a_left, a_right, a_p1, a_p2, a_p3, a_wide, a_used, a_bound, a_count, a_val, a_res) x k y := by
  have T : ∀ {c : Prop} [Decidable c], qp_cmp k x y = decide c → (c → post 1) ∧ (¬ c → post 0) := fun e => ⟨fun h => by rw [e, if_pos (decide_eq_true h)] at K; exact K, fun h => by rw [e, if_neg (fun z => h (of_decide_eq_true z))] at K; exact K⟩
  have F : ∀ {c : Prop} [Decidable c], qp_cmp k x y = decide (¬ c) → (c → post 0) ∧ (¬ c → post 1) := fun e => ⟨fun h => by rw [e, decide_eq_false (fun z => z h)] at K; exact K, fun h => by rw [e, decide_eq_true h] at K; exact K⟩
  obtain ⟨j, hj, rfl⟩ := hk
  match j, hj with
  | 0, _ => exact br_t rfl (T rfl)
  | 1, _ => exact br_f (by decide) (br_t rfl (F rfl))
  | 2, _ => exact br_f (by decide) (br_f (by decide) (br_t rfl (F rfl)))
  | 3, _ => exact br_f (by decide) (br_f (by decide) (br_f (by decide) (br_t rfl (F rfl))))
  | 4, _ => exact br_f (by decide) (br_f (by decide) (br_f (by decide) (br_f (by decide) (br_t rfl (F rfl)))))
  | 5, _ => exact br_f (by decide) (br_f (by decide) (br_f (by decide) (br_f (by decide) (br_f (by decide) (F rfl)))))
theorem qy_comp {post : Int32 → Prop} {k x y : Int32} (hk : qp_c 5 k) (K : post (qp_calc k x y)) : wpY_computed post (f_tables, f_nodes, f_resRows, f_resWidth, a_tab, a_tabRows, a_tabWidth, a_form, a_left, a_right, a_p1, a_p2, a_p3, a_wide, a_used, a_bound, a_count, a_val, a_res) k x y := by
  obtain ⟨j, hj, rfl⟩ := hk
  match j, hj with
  | 0, _ => exact br_t rfl K
  | 1, _ => exact br_f (by decide) (br_t rfl K)
  | 2, _ => exact br_f (by decide) (br_f (by decide) (br_t rfl K))
  | 3, _ =>
    have K' : post (if y ≤ x then y else x) := K
    exact br_f (by decide) (br_f (by decide) (br_f (by decide) (br_t rfl (br_c (fun h => by rw [if_pos h] at K'; exact K') (fun h => by rw [if_neg h] at K'; exact K')))))
  | 4, _ =>
    have K' : post (if x ≤ y then y else x) := K
    exact br_f (by decide) (br_f (by decide) (br_f (by decide) (br_f (by decide) (br_c (fun h => by rw [if_pos h] at K'; exact K') (fun h => by rw [if_neg h] at K'; exact K')))))
theorem qy_get {post : Int32 → Prop} {n e c : Nat} (hn : n < 12) (he : e < 24) (hc : c < 6) (K : post (a_val (n * 144 + e * 6 + c))) : wpY_get post (f_tables, f_nodes, f_resRows, f_resWidth, a_tab, a_tabRows, a_tabWidth, a_form, a_left, a_right, a_p1, a_p2, a_p3, a_wide, a_used, a_bound, a_count, a_val, a_res) (nI n) (nI e) (nI c) := by
  unfold wpY_get
  dsimp only
  rw [qb_ix3, nI_clamp (by omega)]
  exact ⟨vp_in_nI (by omega) (by decide), K⟩
/-- one row of f to the end of n's list -/
theorem qy_copy {post : SY → Prop} {n f i d w : Nat} {x : qp_R} (hn : n < 12) (hf : f < 12) (hnf : n ≠ f) (hi : i < 24) (hd : d < 24) (hcn : a_count n = nI d) (hw : a_wide f = nI w) (hw6 : w ≤ 6) (hx : x.length = w) (hc : ∀ c, c < w → a_val (f * 144 + i * 6 + c) = x.getD c 0)
    (K : post (f_tables, f_nodes, f_resRows, f_resWidth, a_tab, a_tabRows, a_tabWidth, a_form, a_left, a_right, a_p1, a_p2, a_p3, a_wide, a_used, a_bound, upd a_count n (nI (d + 1)), qb_bl a_val (n * 144 + d * 6) x, a_res)) : wpY_copy post (f_tables, f_nodes, f_resRows, f_resWidth, a_tab, a_tabRows, a_tabWidth, a_form, a_left, a_right, a_p1, a_p2, a_p3, a_wide, a_used, a_bound, a_count, a_val, a_res) (nI n) (nI f) (nI i) := by
  refine ⟨vp_in_nI hn (by decide), ?_⟩
  rw [nI_clamp (n := n) (by omega)]
  refine nm_r hcn (br_f (nI_ge (a := d) (b := 24) hd (by decide)) ?_)
  refine qb_loop (fun fu c s => wY_copy_18 post (nI n) (nI f) (nI i) (nI d) f_tables f_nodes f_resRows f_resWidth fu (nI c) a_tab a_tabRows a_tabWidth a_form a_left a_right a_p1 a_p2 a_p3 a_wide a_used a_bound a_count s a_res) a_val (n * 144 + d * 6) x w hx ?_ ?_
  · intro fu
    refine ⟨vp_in_nI hf (by decide), ?_⟩
    rw [nI_clamp (n := f) (by omega), hw, nI_clamp (n := n) (by omega), nI_1]
    exact br_t (nI_le (Nat.le_refl _) (by omega)) ⟨vp_in_nI hn (by decide), nm_e K⟩
  · intro fu c hc' K'
    refine ⟨vp_in_nI hf (by decide), ?_⟩
    rw [nI_clamp (n := f) (by omega), hw]
    refine br_f (nI_ge hc' (by omega)) ?_
    rw [qb_ix3, qb_ix3, nI_clamp (n := f * 144 + i * 6 + c) (by omega), nI_clamp (n := n * 144 + d * 6 + c) (by omega)]
    refine ⟨vp_in_nI (by omega) (by decide), vp_in_nI (by omega) (by decide), nm_r ?_ (nm_r (nI_1 c) K')⟩
    rw [qb_bl_out (j := f * 144 + i * 6 + c) (by rw [List.length_take]; omega), hc c hc']
theorem qy_behind {post : SY → Prop} {n q d wl w l : Nat} {y : qp_R} {ri : Int32} (hn : n < 12) (hq : q < 12) (hnq : n ≠ q) (hd : d < 24) (hl : l < 12) (hlf : a_left n = nI l) (hcn : a_count n = nI (d + 1)) (hwl : a_wide l = nI wl) (hw : a_wide q = nI w) (hsum : wl + w ≤ 6) (hy : y.length = w)
    (hr : (ri = -1 ∧ y = List.replicate w 0) ∨ ∃ i, i < 24 ∧ ri = nI i ∧ ∀ c, c < w → a_val (q * 144 + i * 6 + c) = y.getD c 0)
    (K : post (f_tables, f_nodes, f_resRows, f_resWidth, a_tab, a_tabRows, a_tabWidth, a_form, a_left, a_right, a_p1, a_p2, a_p3, a_wide, a_used, a_bound, a_count, qb_bl a_val (n * 144 + d * 6 + wl) y, a_res)) : wpY_behind post (f_tables, f_nodes, f_resRows, f_resWidth, a_tab, a_tabRows, a_tabWidth, a_form, a_left, a_right, a_p1, a_p2, a_p3, a_wide, a_used, a_bound, a_count, a_val, a_res) (nI n) (nI q) ri := by
  refine ⟨vp_in_nI hn (by decide), vp_in_nI hn (by decide), ?_⟩
  rw [nI_clamp (n := n) (by omega), hlf]
  refine ⟨vp_in_nI hl (by decide), ?_⟩
  rw [nI_clamp (n := l) (by omega), hwl, hcn, nI_pred]
  refine nm_r (qb_ix3 n d wl) ?_
  refine qb_loop (fun fu c s => wY_behind_34 post (nI q) ri (nI (n * 144 + d * 6 + wl)) f_tables f_nodes f_resRows f_resWidth fu (nI c) a_tab a_tabRows a_tabWidth a_form a_left a_right a_p1 a_p2 a_p3 a_wide a_used a_bound a_count s a_res) a_val (n * 144 + d * 6 + wl) y w hy ?_ ?_
  · intro fu
    refine ⟨vp_in_nI hq (by decide), ?_⟩
    rw [nI_clamp (n := q) (by omega), hw]
    exact br_t (nI_le (Nat.le_refl _) (by omega)) K
  · intro fu c hc' K'
    refine ⟨vp_in_nI hq (by decide), ?_⟩
    rw [nI_clamp (n := q) (by omega), hw]
    refine br_f (nI_ge hc' (by omega)) ?_
    rw [nI_add, nI_clamp (n := n * 144 + d * 6 + wl + c) (by omega)]
    rcases hr with ⟨e1, e2⟩ | ⟨i, hi, e1, e2⟩
    · subst e1
      rw [e2, qm_rep0, ← e2] at K'
      exact br_f (by decide) ⟨vp_in_nI (by omega) (by decide), nm_e (nm_r (nI_1 c) K')⟩
    · subst e1
      refine br_t (nI_pos' (by omega)) ?_
      rw [qb_ix3, nI_clamp (n := q * 144 + i * 6 + c) (by omega)]
      refine ⟨vp_in_nI (by omega) (by decide), vp_in_nI (by omega) (by decide), nm_r ?_ (nm_r (nI_1 c) K')⟩
      rw [qb_bl_out (j := q * 144 + i * 6 + c) (by rw [List.length_take]; omega), e2 c hc']
end
/-- a row more -/
theorem qy_app {val cnt : Nat → Int32} {n w : Nat} {D : qp_W} {x : qp_R} (hw6 : w ≤ 6) (hx : x.length = w) (hD : D.length < 24) (H : qy_rep val cnt n D w) : qy_rep (qb_bl val (n * 144 + D.length * 6) x) (upd cnt n (nI (D.length + 1))) n (D ++ [x]) w ∧ qy_fr n val cnt (qb_bl val (n * 144 + D.length * 6) x) (upd cnt n (nI (D.length + 1))) := by
  refine ⟨⟨by rw [pk_us, List.length_append]; rfl, qm_cell_app (b := n * 144) hx hw6 H.2⟩, fun j hj => qb_bl_out (by omega), fun m hm => pk_un hm⟩
theorem qy_nil {val cnt : Nat → Int32} {n w : Nat} (h : cnt n = 0) : qy_rep val cnt n [] w := ⟨h, fun e c he => absurd he (Nat.not_lt_zero _)⟩
end
section
/-! the reference's lists: table, filter, map, project, limit, union -/
def qy_pl (g : qp_PL) (n : Nat) (a_tab a_tabRows a_form a_left a_right a_p1 a_p2 a_p3 a_wide : Nat → Int32) : Prop :=
  a_form n = nI (qp_kd g n) ∧ a_wide n = nI (qp_wd g n) ∧ (qp_kd g n ≠ 0 → a_left n = nI (qp_lf g n)) ∧ (qp_kd g n = 5 ∨ qp_kd g n = 6 → a_right n = nI (qp_rt g n)) ∧ (¬ (qp_kd g n = 5 ∨ qp_kd g n = 6) → a_right n = -1) ∧
  (qp_kd g n ≠ 5 → qp_kd g n ≠ 6 → qp_kd g n ≠ 8 → a_p1 n = qp_p g n ∧ a_p2 n = qp_q g n ∧ a_p3 n = qp_r g n) ∧ (qp_kd g n = 5 → a_p3 n = qp_p g n ∧ a_p1 n = qp_q g n ∧ a_p2 n = qp_r g n) ∧
  (qp_kd g n = 0 → ∃ t, t < 4 ∧ a_p1 n = nI t ∧ a_tabRows t = nI (qp_tb g n).length ∧ ∀ e c, e < (qp_tb g n).length → c < qp_wd g n → a_tab (t * 30 + e * 3 + c) = ((qp_tb g n).getD e []).getD c 0)
theorem qp_take_all (A : qp_W) : A.take A.length = A := List.take_length
section
variable {f_tables f_nodes f_resRows f_resWidth : Int32} {a_tab a_tabRows a_tabWidth a_form a_left a_right a_p1 a_p2 a_p3 a_wide a_used a_bound a_count a_val a_res : Nat → Int32}
variable {g : qp_PL} {pa : Nat → Nat} {N n : Nat} {post : SY → Prop}
theorem qy_filter (hpl : qy_pl g n a_tab a_tabRows a_form a_left a_right a_p1 a_p2 a_p3 a_wide) (hwl : a_wide (qp_lf g n) = nI (qp_wd g (qp_lf g n))) (hok : ∀ m, m < N → qp_ok g pa m) (hN : N ≤ 12) (hn : n < N) (hk : qp_kd g n = 1 ∨ qp_kd g n = 2) {A : qp_W} (hA : A.length ≤ 24) (hrow : ∀ y ∈ A, y.length = qp_wd g (qp_lf g n)) (hrep : qy_rep a_val a_count (qp_lf g n) A (qp_wd g (qp_lf g n))) (h0 : a_count n = 0) (hsz : (qp_fold g n [] A).length ≤ 24)
    (K : ∀ val cnt : Nat → Int32, qy_rep val cnt n (qp_fold g n [] A) (qp_wd g n) → qy_fr n a_val a_count val cnt → post (f_tables, f_nodes, f_resRows, f_resWidth, a_tab, a_tabRows, a_tabWidth, a_form, a_left, a_right, a_p1, a_p2, a_p3, a_wide, a_used, a_bound, cnt, val, a_res)) : wpY_filterList post (f_tables, f_nodes, f_resRows, f_resWidth, a_tab, a_tabRows, a_tabWidth, a_form, a_left, a_right, a_p1, a_p2, a_p3, a_wide, a_used, a_bound, a_count, a_val, a_res) (nI n) := by
  have n12 : n < 12 := by omega
  obtain ⟨hl, _⟩ := (hok n hn).2.2.2.1 (by omega)
  have w6 := (hok _ (show qp_lf g n < N by omega)).2.2.1
  obtain ⟨e1, e2, e3⟩ := hpl.2.2.2.2.2.1 (by omega) (by omega) (by omega)
  have PR := (hok n hn).2.2.2.2.2
  have hw : qp_wd g n = qp_wd g (qp_lf g n) := by
    rcases hk with z | z
    · exact (PR.2.1 z).2.2
    · exact (PR.2.2.1 z).2.2.2
  have hp1 : qp_c (qp_wd g (qp_lf g n)) (qp_p g n) := by
    rcases hk with z | z
    · exact (PR.2.1 z).1
    · exact (PR.2.2.1 z).1
  have hp2 : qp_c 6 (qp_q g n) := by
    rcases hk with z | z
    · exact (PR.2.1 z).2.1
    · exact (PR.2.2.1 z).2.1
  obtain ⟨pc, hpc, epc⟩ := hp1
  refine ⟨vp_in_nI n12 (by decide), ?_⟩
  rw [nI_clamp (n := n) (by omega)]
  refine nm_r (hpl.2.2.1 (by omega)) ⟨A.length + 1, ?_⟩
  have L : ∀ (d i : Nat) (val cnt : Nat → Int32) (fuel : Nat), i + d = A.length → d < fuel → qy_rep val cnt n (qp_fold g n [] (A.take i)) (qp_wd g n) → qy_fr n a_val a_count val cnt → wY_filterList_9 post (nI n) (nI (qp_lf g n)) fuel (nI i) f_tables f_nodes f_resRows f_resWidth a_tab a_tabRows a_tabWidth a_form a_left a_right a_p1 a_p2 a_p3 a_wide a_used a_bound cnt val a_res := by
    intro d
    induction d with
    | zero =>
      intro i val cnt fuel hi hf hr hfr
      obtain ⟨f, rfl⟩ : ∃ f', fuel = f' + 1 := ⟨fuel - 1, by omega⟩
      have hi' : i = A.length := by omega
      subst hi'
      rw [qp_take_all] at hr
      have hc := qy_rep_fr hfr (show qp_lf g n ≠ n by omega) hA w6 hrep
      refine ⟨vp_in_nI (by omega) (by decide), ?_⟩
      rw [nI_clamp (n := qp_lf g n) (by omega), hc.1]
      exact br_t (nI_le (Nat.le_refl _) (by omega)) (K val cnt hr hfr)
    | succ d ih =>
      intro i val cnt fuel hi hf hr hfr
      obtain ⟨f, rfl⟩ : ∃ f', fuel = f' + 1 := ⟨fuel - 1, by omega⟩
      have hi' : i < A.length := by omega
      have hc := qy_rep_fr hfr (show qp_lf g n ≠ n by omega) hA w6 hrep
      have ft := qp_fold_take (g := g) (n := n) (Sn := []) hi'
      have mono := qp_fold_mono (g := g) (n := n) (Sn := []) (A := A) (i := i + 1)
      have hxl := hrow _ (qm_getD_mem hi')
      refine ⟨vp_in_nI (by omega) (by decide), ?_⟩
      rw [nI_clamp (n := qp_lf g n) (by omega), hc.1]
      refine br_f (nI_ge hi' (by omega)) ⟨vp_in_nI n12 (by decide), ?_⟩
      rw [nI_clamp (n := n) (by omega), e1, epc]
      refine qy_get (by omega) (by omega) (by omega) ⟨vp_in_nI n12 (by decide), nm_r e3 ⟨vp_in_nI n12 (by decide), ?_⟩⟩
      rw [hc.2 i pc hi' hpc, hpl.1]
      have eat : qp_at (A.getD i []) (qp_p g n) = (A.getD i []).getD pc 0 := by unfold qp_at; rw [epc, nI_clamp (by omega)]
      -- both kinds: a test against b
      have fin : ∀ b, qp_out g n [] (qp_fold g n [] (A.take i)) (A.getD i []) = (if qp_cmp (qp_q g n) ((A.getD i []).getD pc 0) b = true then [A.getD i []] else []) →
          wY_filterList_65 post (wY_filterList_9 post (nI n) (nI (qp_lf g n)) f) (nI n) (nI (qp_lf g n)) (nI i) ((A.getD i []).getD pc 0) b f_tables f_nodes f_resRows f_resWidth a_tab a_tabRows a_tabWidth a_form a_left a_right a_p1 a_p2 a_p3 a_wide a_used a_bound cnt val a_res := by
        intro b ho
        unfold wY_filterList_65
        refine ⟨vp_in_nI n12 (by decide), ?_⟩
        rw [nI_clamp (n := n) (by omega), e2]
        refine qy_holds hp2 ?_
        rw [ho] at ft
        by_cases hb : qp_cmp (qp_q g n) ((A.getD i []).getD pc 0) b = true
        · rw [if_pos hb] at ft ⊢
          rw [ft, List.length_append] at mono
          have lt : (qp_fold g n [] (A.take i)).length < 24 := by have : ([A.getD i []] : qp_W).length = 1 := rfl; omega
          obtain ⟨a1, a2⟩ := qy_app (by omega) (hxl.trans hw.symm) lt hr
          refine br_f (by decide) (qy_copy n12 (by omega) (by omega) (by omega) lt hr.1 hwl w6 hxl (fun c hc' => hc.2 i c hi' hc') (nm_r (nI_1 i) ?_))
          refine ih (i + 1) _ _ f (by omega) (by omega) ?_ (qy_fr_trans hfr a2)
          rw [ft]; exact a1
        · rw [if_neg hb] at ft ⊢
          refine br_t rfl (nm_r (nI_1 i) (ih (i + 1) val cnt f (by omega) (by omega) ?_ hfr))
          rw [ft, List.append_nil]; exact hr
      by_cases z : qp_kd g n = 2
      · refine br_t (by rw [z]; rfl) ⟨vp_in_nI n12 (by decide), ?_⟩
        obtain ⟨rc, hrc, erc⟩ := (PR.2.2.1 z).2.2.1
        rw [e3, erc]
        refine qy_get (by omega) (by omega) (by omega) ?_
        rw [hc.2 i rc hi' hrc]
        refine fin _ ?_
        have eat2 : qp_at (A.getD i []) (qp_r g n) = (A.getD i []).getD rc 0 := by unfold qp_at; rw [erc, nI_clamp (by omega)]
        rw [qp_out2 z, eat, eat2]
      · have z1 : qp_kd g n = 1 := hk.resolve_right z
        refine br_f (by rw [z1]; decide) (fin _ ?_)
        rw [qp_out1 z1, eat]
  exact L A.length 0 a_val a_count _ (by omega) (by omega) (by rw [List.take_zero]; exact qy_nil h0) qy_fr_rfl
theorem qy_map (hpl : qy_pl g n a_tab a_tabRows a_form a_left a_right a_p1 a_p2 a_p3 a_wide) (hwl : a_wide (qp_lf g n) = nI (qp_wd g (qp_lf g n))) (hok : ∀ m, m < N → qp_ok g pa m) (hN : N ≤ 12) (hn : n < N) (hk : qp_kd g n = 3) {A : qp_W} (hA : A.length ≤ 24) (hrow : ∀ y ∈ A, y.length = qp_wd g (qp_lf g n)) (hrep : qy_rep a_val a_count (qp_lf g n) A (qp_wd g (qp_lf g n))) (h0 : a_count n = 0)
    (K : ∀ val cnt : Nat → Int32, qy_rep val cnt n (qp_fold g n [] A) (qp_wd g n) → qy_fr n a_val a_count val cnt → post (f_tables, f_nodes, f_resRows, f_resWidth, a_tab, a_tabRows, a_tabWidth, a_form, a_left, a_right, a_p1, a_p2, a_p3, a_wide, a_used, a_bound, cnt, val, a_res)) : wpY_mapList post (f_tables, f_nodes, f_resRows, f_resWidth, a_tab, a_tabRows, a_tabWidth, a_form, a_left, a_right, a_p1, a_p2, a_p3, a_wide, a_used, a_bound, a_count, a_val, a_res) (nI n) := by
  have n12 : n < 12 := by omega
  obtain ⟨hl, _⟩ := (hok n hn).2.2.2.1 (by omega)
  have w6 := (hok _ (show qp_lf g n < N by omega)).2.2.1
  have wn6 := (hok n hn).2.2.1
  obtain ⟨e1, e2, e3⟩ := hpl.2.2.2.2.2.1 (by omega) (by omega) (by omega)
  obtain ⟨p1, p2, p3, hw⟩ := (hok n hn).2.2.2.2.2.2.2.2.1 hk
  obtain ⟨qc, hqc, eqc⟩ := p2
  obtain ⟨rc, hrc, erc⟩ := p3
  have flen : ∀ i, i ≤ A.length → (qp_fold g n [] (A.take i)).length = i := by
    intro i
    induction i with
    | zero => intro _; rw [List.take_zero]; rfl
    | succ i ih =>
      intro hi
      rw [qp_fold_take (by omega), List.length_append, ih (by omega), qp_out3 hk]; rfl
  refine ⟨vp_in_nI n12 (by decide), ?_⟩
  rw [nI_clamp (n := n) (by omega)]
  refine nm_r (hpl.2.2.1 (by omega)) ⟨A.length + 1, ?_⟩
  have L : ∀ (d i : Nat) (val cnt : Nat → Int32) (fuel : Nat), i + d = A.length → d < fuel → qy_rep val cnt n (qp_fold g n [] (A.take i)) (qp_wd g n) → qy_fr n a_val a_count val cnt → wY_mapList_9 post (nI n) (nI (qp_lf g n)) fuel (nI i) f_tables f_nodes f_resRows f_resWidth a_tab a_tabRows a_tabWidth a_form a_left a_right a_p1 a_p2 a_p3 a_wide a_used a_bound cnt val a_res := by
    intro d
    induction d with
    | zero =>
      intro i val cnt fuel hi hf hr hfr
      obtain ⟨f, rfl⟩ : ∃ f', fuel = f' + 1 := ⟨fuel - 1, by omega⟩
      have hi' : i = A.length := by omega
      subst hi'
      rw [qp_take_all] at hr
      have hc := qy_rep_fr hfr (show qp_lf g n ≠ n by omega) hA w6 hrep
      refine ⟨vp_in_nI (by omega) (by decide), ?_⟩
      rw [nI_clamp (n := qp_lf g n) (by omega), hc.1]
      exact br_t (nI_le (Nat.le_refl _) (by omega)) (K val cnt hr hfr)
    | succ d ih =>
      intro i val cnt fuel hi hf hr hfr
      obtain ⟨f, rfl⟩ : ∃ f', fuel = f' + 1 := ⟨fuel - 1, by omega⟩
      have hi' : i < A.length := by omega
      have hc := qy_rep_fr hfr (show qp_lf g n ≠ n by omega) hA w6 hrep
      have ft := qp_fold_take (g := g) (n := n) (Sn := []) hi'
      have fl := flen i (by omega)
      have hxl := hrow _ (qm_getD_mem hi')
      have hr1 : cnt n = nI i := by rw [hr.1, fl]
      refine ⟨vp_in_nI (by omega) (by decide), ?_⟩
      rw [nI_clamp (n := qp_lf g n) (by omega), hc.1]
      refine br_f (nI_ge hi' (by omega)) ?_
      refine qy_copy n12 (by omega) (by omega) (by omega) (by omega) hr1 hwl w6 hxl (fun c hc' => hc.2 i c hi' hc') ⟨vp_in_nI n12 (by decide), ?_⟩
      have out : ∀ c, c < qp_wd g (qp_lf g n) → qb_bl val (n * 144 + i * 6) (A.getD i []) (qp_lf g n * 144 + i * 6 + c) = (A.getD i []).getD c 0 := fun c hc' => by
        rw [qb_bl_out (by omega)]; exact hc.2 i c hi' hc'
      rw [nI_clamp (n := n) (by omega), e2, eqc]
      refine qy_get (by omega) (by omega) (by omega) ⟨vp_in_nI n12 (by decide), ?_⟩
      rw [e3, erc]
      refine qy_get (by omega) (by omega) (by omega) ⟨vp_in_nI (by omega) (by decide), vp_in_nI n12 (by decide), ?_⟩
      rw [e1, out qc hqc, out rc hrc]
      refine qy_comp p1 ?_
      rw [hwl, qb_ix3, nI_clamp (n := n * 144 + i * 6 + qp_wd g (qp_lf g n)) (by omega)]
      refine ⟨vp_in_nI (by omega) (by decide), nm_e (nm_r (nI_1 i) ?_)⟩
      have eat : qp_at (A.getD i []) (qp_q g n) = (A.getD i []).getD qc 0 := by unfold qp_at; rw [eqc, nI_clamp (by omega)]
      have eat2 : qp_at (A.getD i []) (qp_r g n) = (A.getD i []).getD rc 0 := by unfold qp_at; rw [erc, nI_clamp (by omega)]
      rw [qp_out3 hk, eat, eat2] at ft
      have ebl : upd (qb_bl val (n * 144 + i * 6) (A.getD i [])) (n * 144 + i * 6 + qp_wd g (qp_lf g n)) (qp_calc (qp_p g n) ((A.getD i []).getD qc 0) ((A.getD i []).getD rc 0)) = qb_bl val (n * 144 + i * 6) (A.getD i [] ++ [qp_calc (qp_p g n) ((A.getD i []).getD qc 0) ((A.getD i []).getD rc 0)]) := by
        have hs := qb_bl_step (f := val) (b := n * 144 + i * 6) (xs := A.getD i [] ++ [qp_calc (qp_p g n) ((A.getD i []).getD qc 0) ((A.getD i []).getD rc 0)]) (c := qp_wd g (qp_lf g n)) (by rw [List.length_append, hxl]; show _ < _ + 1; omega)
        have t1 : (A.getD i [] ++ [qp_calc (qp_p g n) ((A.getD i []).getD qc 0) ((A.getD i []).getD rc 0)]).take (qp_wd g (qp_lf g n)) = A.getD i [] := by rw [← hxl]; exact List.take_left
        have t2 : (A.getD i [] ++ [qp_calc (qp_p g n) ((A.getD i []).getD qc 0) ((A.getD i []).getD rc 0)]).take (qp_wd g (qp_lf g n) + 1) = A.getD i [] ++ [qp_calc (qp_p g n) ((A.getD i []).getD qc 0) ((A.getD i []).getD rc 0)] := List.take_of_length_le (by rw [List.length_append, hxl]; exact Nat.le_refl _)
        have t3 : (A.getD i [] ++ [qp_calc (qp_p g n) ((A.getD i []).getD qc 0) ((A.getD i []).getD rc 0)]).getD (qp_wd g (qp_lf g n)) 0 = qp_calc (qp_p g n) ((A.getD i []).getD qc 0) ((A.getD i []).getD rc 0) := by
          rw [List.getD_eq_getElem?_getD, List.getElem?_append_right (by omega), hxl, Nat.sub_self]; rfl
        rw [t1, t2, t3] at hs
        exact hs
      rw [ebl]
      have lt : (qp_fold g n [] (A.take i)).length < 24 := by omega
      obtain ⟨a1, a2⟩ := qy_app (x := A.getD i [] ++ [qp_calc (qp_p g n) ((A.getD i []).getD qc 0) ((A.getD i []).getD rc 0)]) wn6 (by rw [List.length_append, hxl, hw]; rfl) lt hr
      rw [fl] at a1 a2
      refine ih (i + 1) _ _ f (by omega) (by omega) ?_ (qy_fr_trans hfr a2)
      rw [ft]; exact a1
  exact L A.length 0 a_val a_count _ (by omega) (by omega) (by rw [List.take_zero]; exact qy_nil h0) qy_fr_rfl
end
end
section
/-! table, project, union, limit, distinct -/
theorem qp_mem_fold8 {g : qp_PL} {n : Nat} {Sn : qp_W} (h : qp_kd g n = 8) (x : qp_R) : ∀ A : qp_W, ∀ D : qp_W, x ∈ A.foldl (fun D x => D ++ qp_out g n Sn D x) D ↔ x ∈ D ∨ x ∈ A := by
  intro A
  induction A with
  | nil => intro D; simp
  | cons y A ih =>
    intro D
    show x ∈ A.foldl _ (D ++ qp_out g n Sn D y) ↔ _
    rw [ih, qp_out8 h]
    by_cases hy : y ∈ D
    · rw [if_pos hy, List.append_nil]
      constructor
      · rintro (e | e)
        · exact Or.inl e
        · exact Or.inr (List.mem_cons_of_mem _ e)
      · rintro (e | e)
        · exact Or.inl e
        · rcases List.mem_cons.1 e with e | e
          · exact Or.inl (e ▸ hy)
          · exact Or.inr e
    · rw [if_neg hy]
      constructor
      · rintro (e | e)
        · rcases List.mem_append.1 e with e | e
          · exact Or.inl e
          · exact Or.inr (by rw [List.mem_singleton.1 e]; exact List.mem_cons_self ..)
        · exact Or.inr (List.mem_cons_of_mem _ e)
      · rintro (e | e)
        · exact Or.inl (List.mem_append_left _ e)
        · rcases List.mem_cons.1 e with e | e
          · exact Or.inl (List.mem_append_right _ (by rw [e]; exact List.mem_cons_self ..))
          · exact Or.inr e
theorem qp_mem_take {A : qp_W} {i : Nat} (hi : i ≤ A.length) {x : qp_R} : x ∈ A.take i ↔ ∃ j, j < i ∧ A.getD j [] = x := by
  constructor
  · intro h
    obtain ⟨j, hj, e⟩ := qm_mem_getD h
    rw [List.length_take] at hj
    refine ⟨j, by omega, ?_⟩
    rw [← e, List.getD_eq_getElem?_getD, List.getD_eq_getElem?_getD, List.getElem?_take_of_lt (by omega)]
  · rintro ⟨j, hj, e⟩
    have h := qm_getD_mem (T := A.take i) (i := j) (by rw [List.length_take]; omega)
    rw [List.getD_eq_getElem?_getD, List.getElem?_take_of_lt hj, ← List.getD_eq_getElem?_getD, e] at h
    exact h
section
variable {f_tables f_nodes f_resRows f_resWidth : Int32} {a_tab a_tabRows a_tabWidth a_form a_left a_right a_p1 a_p2 a_p3 a_wide a_used a_bound a_count a_val a_res : Nat → Int32}
variable {g : qp_PL} {pa : Nat → Nat} {N n : Nat} {post : SY → Prop}
theorem qy_cells_next {val : Nat → Int32} {T : qp_W} {i w : Nat} (hw6 : w ≤ 6) (hx : (T.getD i []).length = w) (h : ∀ e c, e < i → c < w → val (n * 144 + e * 6 + c) = (T.getD e []).getD c 0) : ∀ e c, e < i + 1 → c < w → qb_bl val (n * 144 + i * 6) (T.getD i []) (n * 144 + e * 6 + c) = (T.getD e []).getD c 0 := by
  intro e c he hc
  by_cases e1 : e = i
  · rw [e1, qb_bl_in (by omega)]
  · rw [qb_bl_out (by omega)]; exact h e c (by omega) hc
theorem qy_table (hpl : qy_pl g n a_tab a_tabRows a_form a_left a_right a_p1 a_p2 a_p3 a_wide) (hok : ∀ m, m < N → qp_ok g pa m) (hN : N ≤ 12) (hn : n < N) (hk : qp_kd g n = 0)
    (K : ∀ val cnt : Nat → Int32, qy_rep val cnt n (qp_tb g n) (qp_wd g n) → qy_fr n a_val a_count val cnt → post (f_tables, f_nodes, f_resRows, f_resWidth, a_tab, a_tabRows, a_tabWidth, a_form, a_left, a_right, a_p1, a_p2, a_p3, a_wide, a_used, a_bound, cnt, val, a_res)) : wpY_tableList post (f_tables, f_nodes, f_resRows, f_resWidth, a_tab, a_tabRows, a_tabWidth, a_form, a_left, a_right, a_p1, a_p2, a_p3, a_wide, a_used, a_bound, a_count, a_val, a_res) (nI n) := by
  have n12 : n < 12 := by omega
  obtain ⟨w3, l10, hrow⟩ := (hok n hn).2.2.2.2.2.1 hk
  obtain ⟨t, ht, ep, er, hcell⟩ := hpl.2.2.2.2.2.2.2 hk
  refine ⟨vp_in_nI n12 (by decide), ?_⟩
  rw [nI_clamp (n := n) (by omega)]
  refine nm_r ep ⟨(qp_tb g n).length + 1, ?_⟩
  have L : ∀ (d i : Nat) (val : Nat → Int32) (fuel : Nat), i + d = (qp_tb g n).length → d < fuel → (∀ e c, e < i → c < qp_wd g n → val (n * 144 + e * 6 + c) = ((qp_tb g n).getD e []).getD c 0) → (∀ j, j < n * 144 ∨ n * 144 + 144 ≤ j → val j = a_val j) → wY_tableList_9 post (nI n) (nI t) f_tables f_nodes f_resRows f_resWidth fuel (nI i) a_tab a_tabRows a_tabWidth a_form a_left a_right a_p1 a_p2 a_p3 a_wide a_used a_bound a_count val a_res := by
    intro d
    induction d with
    | zero =>
      intro i val fuel hi hf hr hfr
      obtain ⟨f, rfl⟩ : ∃ f', fuel = f' + 1 := ⟨fuel - 1, by omega⟩
      have hi' : i = (qp_tb g n).length := by omega
      subst hi'
      refine ⟨vp_in_nI ht (by decide), ?_⟩
      rw [nI_clamp (n := t) (by omega), er, nI_clamp (n := n) (by omega)]
      exact br_t (nI_le (Nat.le_refl _) (by omega)) ⟨vp_in_nI ht (by decide), vp_in_nI n12 (by decide), nm_e (K val _ ⟨pk_us, hr⟩ ⟨hfr, fun m hm => pk_un hm⟩)⟩
    | succ d ih =>
      intro i val fuel hi hf hr hfr
      obtain ⟨f, rfl⟩ : ∃ f', fuel = f' + 1 := ⟨fuel - 1, by omega⟩
      have hi' : i < (qp_tb g n).length := by omega
      have hxl := hrow _ (qm_getD_mem hi')
      refine ⟨vp_in_nI ht (by decide), ?_⟩
      rw [nI_clamp (n := t) (by omega), er]
      refine br_f (nI_ge hi' (by omega)) ?_
      refine qb_loop (fun fu c s => wY_tableList_22 post (wY_tableList_9 post (nI n) (nI t) f_tables f_nodes f_resRows f_resWidth f) (nI n) (nI t) (nI i) f_tables f_nodes f_resRows f_resWidth fu (nI c) a_tab a_tabRows a_tabWidth a_form a_left a_right a_p1 a_p2 a_p3 a_wide a_used a_bound a_count s a_res) val (n * 144 + i * 6) ((qp_tb g n).getD i []) (qp_wd g n) hxl ?_ ?_
      · intro fu
        refine ⟨vp_in_nI n12 (by decide), ?_⟩
        rw [nI_clamp (n := n) (by omega), hpl.2.1]
        refine br_t (nI_le (Nat.le_refl _) (by omega)) (nm_r (nI_1 i) (ih (i + 1) _ f (by omega) (by omega) (qy_cells_next (by omega) hxl hr) (fun j hj => ?_)))
        rw [qb_bl_out (by omega)]; exact hfr j hj
      · intro fu c hc K'
        refine ⟨vp_in_nI n12 (by decide), ?_⟩
        rw [nI_clamp (n := n) (by omega), hpl.2.1]
        refine br_f (nI_ge hc (by omega)) ?_
        rw [qb_ix30, qb_ix3, nI_clamp (n := t * 30 + i * 3 + c) (by omega), nI_clamp (n := n * 144 + i * 6 + c) (by omega), hcell i c hi' hc]
        exact ⟨vp_in_nI (by omega) (by decide), vp_in_nI (by omega) (by decide), nm_e (nm_r (nI_1 c) K')⟩
  exact L (qp_tb g n).length 0 a_val _ (by omega) (by omega) (fun e c he => absurd he (Nat.not_lt_zero _)) (fun j _ => rfl)
theorem qp_fold4 {Sn : qp_W} (h : qp_kd g n = 4) : ∀ A : qp_W, qp_fold g n Sn A = A.map (qp_prj (qp_p g n) (qp_q g n).toNatClampNeg) := by
  intro A
  unfold qp_fold
  have : ∀ (A D : qp_W), A.foldl (fun D x => D ++ qp_out g n Sn D x) D = D ++ A.map (qp_prj (qp_p g n) (qp_q g n).toNatClampNeg) := by
    intro A
    induction A with
    | nil => intro D; exact (List.append_nil _).symm
    | cons x A ih =>
      intro D
      show A.foldl _ (D ++ qp_out g n Sn D x) = _
      rw [ih, qp_out4 h, List.append_assoc]; rfl
  rw [this]; rfl
theorem qy_project (hpl : qy_pl g n a_tab a_tabRows a_form a_left a_right a_p1 a_p2 a_p3 a_wide) (hok : ∀ m, m < N → qp_ok g pa m) (hN : N ≤ 12) (hn : n < N) (hk : qp_kd g n = 4) {A : qp_W} (hA : A.length ≤ 24) (hrep : qy_rep a_val a_count (qp_lf g n) A (qp_wd g (qp_lf g n)))
    (K : ∀ val cnt : Nat → Int32, qy_rep val cnt n (qp_fold g n [] A) (qp_wd g n) → qy_fr n a_val a_count val cnt → post (f_tables, f_nodes, f_resRows, f_resWidth, a_tab, a_tabRows, a_tabWidth, a_form, a_left, a_right, a_p1, a_p2, a_p3, a_wide, a_used, a_bound, cnt, val, a_res)) : wpY_projectList post (f_tables, f_nodes, f_resRows, f_resWidth, a_tab, a_tabRows, a_tabWidth, a_form, a_left, a_right, a_p1, a_p2, a_p3, a_wide, a_used, a_bound, a_count, a_val, a_res) (nI n) := by
  have n12 : n < 12 := by omega
  obtain ⟨hl, _⟩ := (hok n hn).2.2.2.1 (by omega)
  have w6 := (hok _ (show qp_lf g n < N by omega)).2.2.1
  have wn6 := (hok n hn).2.2.1
  obtain ⟨e1, e2, e3⟩ := hpl.2.2.2.2.2.1 (by omega) (by omega) (by omega)
  obtain ⟨p1, p2⟩ := (hok n hn).2.2.2.2.2.2.2.2.2.1 hk
  have eq : (qp_q g n).toNatClampNeg = qp_wd g n := qb_tn (by omega) p1
  rw [qp_fold4 hk, eq] at K
  have hll : (A.map (qp_prj (qp_p g n) (qp_wd g n))).length = A.length := List.length_map ..
  have hgd : ∀ i, i < A.length → (A.map (qp_prj (qp_p g n) (qp_wd g n))).getD i [] = qp_prj (qp_p g n) (qp_wd g n) (A.getD i []) := fun i hi => by
    rw [List.getD_eq_getElem?_getD, List.getElem?_map, List.getElem?_eq_getElem hi, List.getD_eq_getElem?_getD, List.getElem?_eq_getElem hi]; rfl
  have hpl' : ∀ x : qp_R, (qp_prj (qp_p g n) (qp_wd g n) x).length = qp_wd g n := fun x => by unfold qp_prj; rw [List.length_map, List.length_range]
  have hpc : ∀ (x : qp_R) c, c < qp_wd g n → (qp_prj (qp_p g n) (qp_wd g n) x).getD c 0 = x.getD (qp_col (qp_p g n) c) 0 := fun x c hc => by
    unfold qp_prj
    rw [List.getD_eq_getElem?_getD, List.getElem?_map, List.getElem?_eq_getElem (by rw [List.length_range]; exact hc), List.getElem_range]; rfl
  refine ⟨vp_in_nI n12 (by decide), ?_⟩
  rw [nI_clamp (n := n) (by omega)]
  refine nm_r (hpl.2.2.1 (by omega)) ⟨A.length + 1, ?_⟩
  have L : ∀ (d i : Nat) (val : Nat → Int32) (fuel : Nat), i + d = A.length → d < fuel → (∀ e c, e < i → c < qp_wd g n → val (n * 144 + e * 6 + c) = ((A.map (qp_prj (qp_p g n) (qp_wd g n))).getD e []).getD c 0) → (∀ j, j < n * 144 ∨ n * 144 + 144 ≤ j → val j = a_val j) → wY_projectList_9 post (nI n) (nI (qp_lf g n)) f_tables f_nodes f_resRows f_resWidth fuel (nI i) a_tab a_tabRows a_tabWidth a_form a_left a_right a_p1 a_p2 a_p3 a_wide a_used a_bound a_count val a_res := by
    intro d
    induction d with
    | zero =>
      intro i val fuel hi hf hr hfr
      obtain ⟨f, rfl⟩ : ∃ f', fuel = f' + 1 := ⟨fuel - 1, by omega⟩
      have hi' : i = A.length := by omega
      subst hi'
      refine ⟨vp_in_nI (by omega) (by decide), ?_⟩
      rw [nI_clamp (n := qp_lf g n) (by omega), hrep.1, nI_clamp (n := n) (by omega)]
      exact br_t (nI_le (Nat.le_refl _) (by omega)) ⟨vp_in_nI (by omega) (by decide), vp_in_nI n12 (by decide), nm_e (K val _ ⟨by rw [pk_us, hll], by rw [hll]; exact hr⟩ ⟨hfr, fun m hm => pk_un hm⟩)⟩
    | succ d ih =>
      intro i val fuel hi hf hr hfr
      obtain ⟨f, rfl⟩ : ∃ f', fuel = f' + 1 := ⟨fuel - 1, by omega⟩
      have hi' : i < A.length := by omega
      have hxl : ((A.map (qp_prj (qp_p g n) (qp_wd g n))).getD i []).length = qp_wd g n := by rw [hgd i hi']; exact hpl' _
      refine ⟨vp_in_nI (by omega) (by decide), ?_⟩
      rw [nI_clamp (n := qp_lf g n) (by omega), hrep.1]
      refine br_f (nI_ge hi' (by omega)) ?_
      refine qb_loop (fun fu c s => wY_projectList_22 post (wY_projectList_9 post (nI n) (nI (qp_lf g n)) f_tables f_nodes f_resRows f_resWidth f) (nI n) (nI (qp_lf g n)) (nI i) f_tables f_nodes f_resRows f_resWidth fu (nI c) a_tab a_tabRows a_tabWidth a_form a_left a_right a_p1 a_p2 a_p3 a_wide a_used a_bound a_count s a_res) val (n * 144 + i * 6) ((A.map (qp_prj (qp_p g n) (qp_wd g n))).getD i []) (qp_wd g n) hxl ?_ ?_
      · intro fu
        refine ⟨vp_in_nI n12 (by decide), ?_⟩
        rw [nI_clamp (n := n) (by omega), hpl.2.1]
        refine br_t (nI_le (Nat.le_refl _) (by omega)) (nm_r (nI_1 i) (ih (i + 1) _ f (by omega) (by omega) (qy_cells_next wn6 hxl hr) (fun j hj => ?_)))
        rw [qb_bl_out (by omega)]; exact hfr j hj
      · intro fu c hc K'
        have hcol := p2 c hc
        refine ⟨vp_in_nI n12 (by decide), ?_⟩
        rw [nI_clamp (n := n) (by omega), hpl.2.1]
        refine br_f (nI_ge hc (by omega)) ⟨vp_in_nI n12 (by decide), ?_⟩
        rw [e1, (qc_col (qp_p g n) c).1, qb_ix3, qb_ix3, nI_clamp (n := qp_lf g n * 144 + i * 6 + qp_col (qp_p g n) c) (by omega), nI_clamp (n := n * 144 + i * 6 + c) (by omega)]
        refine ⟨vp_in_nI (by omega) (by decide), vp_in_nI (by omega) (by decide), nm_r ?_ (nm_r (nI_1 c) K')⟩
        rw [hgd i hi', hpc _ c hc, qb_bl_out (j := qp_lf g n * 144 + i * 6 + qp_col (qp_p g n) c) (by rw [List.length_take, hpl']; omega), hfr _ (by omega), hrep.2 i _ hi' hcol]
  exact L A.length 0 a_val _ (by omega) (by omega) (fun e c he => absurd he (Nat.not_lt_zero _)) (fun j _ => rfl)
theorem qy_limit (hpl : qy_pl g n a_tab a_tabRows a_form a_left a_right a_p1 a_p2 a_p3 a_wide) (hwl : a_wide (qp_lf g n) = nI (qp_wd g (qp_lf g n))) (hok : ∀ m, m < N → qp_ok g pa m) (hN : N ≤ 12) (hn : n < N) (hk : qp_kd g n = 9) {A : qp_W} (hA : A.length ≤ 24) (hrow : ∀ y ∈ A, y.length = qp_wd g (qp_lf g n)) (hrep : qy_rep a_val a_count (qp_lf g n) A (qp_wd g (qp_lf g n))) (h0 : a_count n = 0)
    (K : ∀ val cnt : Nat → Int32, qy_rep val cnt n (qp_fold g n [] A) (qp_wd g n) → qy_fr n a_val a_count val cnt → post (f_tables, f_nodes, f_resRows, f_resWidth, a_tab, a_tabRows, a_tabWidth, a_form, a_left, a_right, a_p1, a_p2, a_p3, a_wide, a_used, a_bound, cnt, val, a_res)) : wpY_limitList post (f_tables, f_nodes, f_resRows, f_resWidth, a_tab, a_tabRows, a_tabWidth, a_form, a_left, a_right, a_p1, a_p2, a_p3, a_wide, a_used, a_bound, a_count, a_val, a_res) (nI n) := by
  have n12 : n < 12 := by omega
  obtain ⟨hl, _⟩ := (hok n hn).2.2.2.1 (by omega)
  have w6 := (hok _ (show qp_lf g n < N by omega)).2.2.1
  obtain ⟨e1, e2, e3⟩ := hpl.2.2.2.2.2.1 (by omega) (by omega) (by omega)
  obtain ⟨⟨k, hk31, ek⟩, hw⟩ := (hok n hn).2.2.2.2.2.2.2.2.2.2.2.2.2.2.1 hk
  have ekn : (qp_p g n).toNatClampNeg = k := qb_tn hk31 ek
  refine ⟨vp_in_nI n12 (by decide), ?_⟩
  rw [nI_clamp (n := n) (by omega)]
  refine nm_r (hpl.2.2.1 (by omega)) ⟨A.length + 1, ?_⟩
  have L : ∀ (d i : Nat) (val cnt : Nat → Int32) (fuel : Nat), i + d = A.length → d < fuel → qy_rep val cnt n (qp_fold g n [] (A.take i)) (qp_wd g n) → qy_fr n a_val a_count val cnt → wY_limitList_9 post (nI n) (nI (qp_lf g n)) fuel (nI i) f_tables f_nodes f_resRows f_resWidth a_tab a_tabRows a_tabWidth a_form a_left a_right a_p1 a_p2 a_p3 a_wide a_used a_bound cnt val a_res := by
    intro d
    induction d with
    | zero =>
      intro i val cnt fuel hi hf hr hfr
      obtain ⟨f, rfl⟩ : ∃ f', fuel = f' + 1 := ⟨fuel - 1, by omega⟩
      have hi' : i = A.length := by omega
      subst hi'
      rw [qp_take_all] at hr
      have hc := qy_rep_fr hfr (show qp_lf g n ≠ n by omega) hA w6 hrep
      refine ⟨vp_in_nI (by omega) (by decide), ?_⟩
      rw [nI_clamp (n := qp_lf g n) (by omega), hc.1]
      exact br_t (nI_le (Nat.le_refl _) (by omega)) (K val cnt hr hfr)
    | succ d ih =>
      intro i val cnt fuel hi hf hr hfr
      obtain ⟨f, rfl⟩ : ∃ f', fuel = f' + 1 := ⟨fuel - 1, by omega⟩
      have hi' : i < A.length := by omega
      have hc := qy_rep_fr hfr (show qp_lf g n ≠ n by omega) hA w6 hrep
      have ft := qp_fold_take (g := g) (n := n) (Sn := []) hi'
      have fl := qp_fold_lim (Sn := []) hk (A.take i)
      rw [List.length_take, ekn] at fl
      rw [qp_out9 hk, ekn] at ft
      have hxl := hrow _ (qm_getD_mem hi')
      refine ⟨vp_in_nI (by omega) (by decide), ?_⟩
      rw [nI_clamp (n := qp_lf g n) (by omega), hc.1]
      refine br_f (nI_ge hi' (by omega)) ⟨vp_in_nI n12 (by decide), ?_⟩
      rw [nI_clamp (n := n) (by omega), e1, ek]
      refine pk_le k i (fun hki => nm_r (nI_1 i) (ih (i + 1) val cnt f (by omega) (by omega) ?_ hfr)) (fun hki => ?_) (ha := hk31)
      · rw [if_neg (by omega), List.append_nil] at ft
        rw [ft]; exact hr
      · rw [if_pos (by omega)] at ft
        have lt : (qp_fold g n [] (A.take i)).length < 24 := by omega
        obtain ⟨a1, a2⟩ := qy_app (by omega) (hxl.trans hw.symm) lt hr
        refine qy_copy n12 (by omega) (by omega) (by omega) lt hr.1 hwl w6 hxl (fun c hc' => hc.2 i c hi' hc') (nm_r (nI_1 i) ?_)
        refine ih (i + 1) _ _ f (by omega) (by omega) ?_ (qy_fr_trans hfr a2)
        rw [ft]; exact a1
  exact L A.length 0 a_val a_count _ (by omega) (by omega) (by rw [List.take_zero]; exact qy_nil h0) qy_fr_rfl
theorem qy_equal {post : Int32 → Prop} {f i j w : Nat} {x y : qp_R} (hf : f < 12) (hi : i < 24) (hj : j < 24) (hw6 : w ≤ 6) (hw : a_wide f = nI w) (hx : x.length = w) (hy : y.length = w) (hcx : ∀ c, c < w → a_val (f * 144 + i * 6 + c) = x.getD c 0) (hcy : ∀ c, c < w → a_val (f * 144 + j * 6 + c) = y.getD c 0)
    (K1 : x = y → post 1) (K0 : x ≠ y → post 0) : wpY_equalRows post (f_tables, f_nodes, f_resRows, f_resWidth, a_tab, a_tabRows, a_tabWidth, a_form, a_left, a_right, a_p1, a_p2, a_p3, a_wide, a_used, a_bound, a_count, a_val, a_res) (nI f) (nI i) (nI j) := by
  have L : ∀ d c fu, c + d = w → d < fu → (∀ e, e < c → x.getD e 0 = y.getD e 0) → wY_equalRows_3 post (nI f) (nI i) (nI j) f_tables f_nodes f_resRows f_resWidth a_tab a_tabRows a_tabWidth a_form a_left a_right a_p1 a_p2 a_p3 a_wide a_used a_bound a_count a_val a_res fu (nI c) := by
    intro d
    induction d with
    | zero =>
      intro c fu hc hf' h
      obtain ⟨fu, rfl⟩ : ∃ f', fu = f' + 1 := ⟨fu - 1, by omega⟩
      refine ⟨vp_in_nI hf (by decide), ?_⟩
      rw [nI_clamp (n := f) (by omega), hw]
      exact br_t (nI_le (by omega) (by omega)) (K1 (qm_ext (hx.trans hy.symm) (fun e he => h e (by omega))))
    | succ d ih =>
      intro c fu hc hf' h
      obtain ⟨fu, rfl⟩ : ∃ f', fu = f' + 1 := ⟨fu - 1, by omega⟩
      refine ⟨vp_in_nI hf (by decide), ?_⟩
      rw [nI_clamp (n := f) (by omega), hw]
      refine br_f (nI_ge (by omega) (by omega)) ?_
      rw [qb_ix3, qb_ix3, nI_clamp (n := f * 144 + i * 6 + c) (by omega), nI_clamp (n := f * 144 + j * 6 + c) (by omega), hcx c (by omega), hcy c (by omega)]
      refine ⟨vp_in_nI (by omega) (by decide), vp_in_nI (by omega) (by decide), br_c (fun z => nm_r (nI_1 c) (ih (c + 1) fu (by omega) (by omega) ?_)) (fun z => K0 (fun e => z (by rw [e])))⟩
      intro e he
      by_cases ee : e = c
      · rw [ee]; exact z
      · exact h e (by omega)
  exact ⟨w + 1, L w 0 _ (by omega) (by omega) (fun e he => absurd he (Nat.not_lt_zero _))⟩
theorem qy_distinct (hpl : qy_pl g n a_tab a_tabRows a_form a_left a_right a_p1 a_p2 a_p3 a_wide) (hwl : a_wide (qp_lf g n) = nI (qp_wd g (qp_lf g n))) (hok : ∀ m, m < N → qp_ok g pa m) (hN : N ≤ 12) (hn : n < N) (hk : qp_kd g n = 8) {A : qp_W} (hA : A.length ≤ 24) (hrow : ∀ y ∈ A, y.length = qp_wd g (qp_lf g n)) (hrep : qy_rep a_val a_count (qp_lf g n) A (qp_wd g (qp_lf g n))) (h0 : a_count n = 0) (hsz : (qp_fold g n [] A).length ≤ 24)
    (K : ∀ val cnt : Nat → Int32, qy_rep val cnt n (qp_fold g n [] A) (qp_wd g n) → qy_fr n a_val a_count val cnt → post (f_tables, f_nodes, f_resRows, f_resWidth, a_tab, a_tabRows, a_tabWidth, a_form, a_left, a_right, a_p1, a_p2, a_p3, a_wide, a_used, a_bound, cnt, val, a_res)) : wpY_distinctList post (f_tables, f_nodes, f_resRows, f_resWidth, a_tab, a_tabRows, a_tabWidth, a_form, a_left, a_right, a_p1, a_p2, a_p3, a_wide, a_used, a_bound, a_count, a_val, a_res) (nI n) := by
  have n12 : n < 12 := by omega
  obtain ⟨hl, _⟩ := (hok n hn).2.2.2.1 (by omega)
  have w6 := (hok _ (show qp_lf g n < N by omega)).2.2.1
  have hw := (hok n hn).2.2.2.2.2.2.2.2.2.2.2.2.2.1 hk
  refine ⟨vp_in_nI n12 (by decide), ?_⟩
  rw [nI_clamp (n := n) (by omega)]
  refine nm_r (hpl.2.2.1 (by omega)) ⟨A.length + 1, ?_⟩
  have L : ∀ (d i : Nat) (val cnt : Nat → Int32) (fuel : Nat), i + d = A.length → d < fuel → qy_rep val cnt n (qp_fold g n [] (A.take i)) (qp_wd g n) → qy_fr n a_val a_count val cnt → wY_distinctList_9 post (nI n) (nI (qp_lf g n)) fuel (nI i) f_tables f_nodes f_resRows f_resWidth a_tab a_tabRows a_tabWidth a_form a_left a_right a_p1 a_p2 a_p3 a_wide a_used a_bound cnt val a_res := by
    intro d
    induction d with
    | zero =>
      intro i val cnt fuel hi hf hr hfr
      obtain ⟨f, rfl⟩ : ∃ f', fuel = f' + 1 := ⟨fuel - 1, by omega⟩
      have hi' : i = A.length := by omega
      subst hi'
      rw [qp_take_all] at hr
      have hc := qy_rep_fr hfr (show qp_lf g n ≠ n by omega) hA w6 hrep
      refine ⟨vp_in_nI (by omega) (by decide), ?_⟩
      rw [nI_clamp (n := qp_lf g n) (by omega), hc.1]
      exact br_t (nI_le (Nat.le_refl _) (by omega)) (K val cnt hr hfr)
    | succ d ih =>
      intro i val cnt fuel hi hf hr hfr
      obtain ⟨f, rfl⟩ : ∃ f', fuel = f' + 1 := ⟨fuel - 1, by omega⟩
      have hi' : i < A.length := by omega
      have hc := qy_rep_fr hfr (show qp_lf g n ≠ n by omega) hA w6 hrep
      have ft := qp_fold_take (g := g) (n := n) (Sn := []) hi'
      have mono := qp_fold_mono (g := g) (n := n) (Sn := []) (A := A) (i := i + 1)
      rw [qp_out8 hk] at ft
      have hxl := hrow _ (qm_getD_mem hi')
      have hmem : A.getD i [] ∈ qp_fold g n [] (A.take i) ↔ ∃ j, j < i ∧ A.getD j [] = A.getD i [] := by
        unfold qp_fold
        rw [qp_mem_fold8 hk, qp_mem_take (by omega)]
        constructor
        · rintro (e | e)
          · exact absurd e (List.not_mem_nil)
          · exact e
        · exact Or.inr
      refine ⟨vp_in_nI (by omega) (by decide), ?_⟩
      rw [nI_clamp (n := qp_lf g n) (by omega), hc.1]
      refine br_f (nI_ge hi' (by omega)) ⟨i + 1, ?_⟩
      have I : ∀ (d2 j : Nat) (b : Bool) (fu : Nat), j + d2 = i → d2 < fu → (b = true ↔ ∀ e, e < j → A.getD e [] ≠ A.getD i []) → wY_distinctList_25 post (wY_distinctList_9 post (nI n) (nI (qp_lf g n)) f) (nI n) (nI (qp_lf g n)) (nI i) f_tables f_nodes f_resRows f_resWidth a_tab a_tabRows a_tabWidth a_form a_left a_right a_p1 a_p2 a_p3 a_wide a_used a_bound cnt val a_res fu (if b = true then 1 else 0) (nI j) := by
        intro d2
        induction d2 with
        | zero =>
          intro j b fu hj hf' hb
          obtain ⟨fu, rfl⟩ : ∃ f', fu = f' + 1 := ⟨fu - 1, by omega⟩
          have hj' : j = i := by omega
          subst hj'
          refine br_t (nI_le (Nat.le_refl _) (by omega)) ?_
          by_cases hbt : b = true
          · rw [if_pos hbt]
            have hni : A.getD j [] ∉ qp_fold g n [] (A.take j) := fun z => by
              obtain ⟨e, he, ee⟩ := hmem.1 z
              exact hb.1 hbt e he ee
            rw [if_neg hni] at ft
            rw [ft, List.length_append] at mono
            have lt : (qp_fold g n [] (A.take j)).length < 24 := by have : ([A.getD j []] : qp_W).length = 1 := rfl; omega
            obtain ⟨a1, a2⟩ := qy_app (by omega) (hxl.trans hw.symm) lt hr
            refine br_f (by decide) (qy_copy n12 (by omega) (by omega) (by omega) lt hr.1 hwl w6 hxl (fun c hc' => hc.2 j c hi' hc') (nm_r (nI_1 j) ?_))
            refine ih (j + 1) _ _ f (by omega) (by omega) ?_ (qy_fr_trans hfr a2)
            rw [ft]; exact a1
          · rw [if_neg hbt]
            have hin : A.getD j [] ∈ qp_fold g n [] (A.take j) := by
              refine hmem.2 (Classical.byContradiction (fun z => hbt (hb.2 (fun e he ee => z ⟨e, he, ee⟩))))
            rw [if_pos hin, List.append_nil] at ft
            refine br_t rfl (nm_r (nI_1 j) (ih (j + 1) val cnt f (by omega) (by omega) ?_ hfr))
            rw [ft]; exact hr
        | succ d2 ih2 =>
          intro j b fu hj hf' hb
          obtain ⟨fu, rfl⟩ : ∃ f', fu = f' + 1 := ⟨fu - 1, by omega⟩
          refine br_f (nI_ge (by omega) (by omega)) ?_
          refine qy_equal (x := A.getD i []) (y := A.getD j []) (by omega) (by omega) (by omega) w6 hwl hxl (hrow _ (qm_getD_mem (by omega))) (fun c hc' => hc.2 i c hi' hc') (fun c hc' => hc.2 j c (by omega) hc') (fun z => ?_) (fun z => ?_)
          · refine br_f (by decide) (nm_r (nI_1 j) ?_)
            have := ih2 (j + 1) false fu (by omega) (by omega) ⟨fun h => absurd h (by decide), fun h => absurd z.symm (h j (by omega))⟩
            exact this
          · refine br_t rfl (nm_r (nI_1 j) (ih2 (j + 1) b fu (by omega) (by omega) ⟨fun h e he => ?_, fun h => hb.2 (fun e he => h e (by omega))⟩))
            by_cases ee : e = j
            · rw [ee]; exact Ne.symm z
            · exact hb.1 h e (by omega)
      exact I i 0 true (i + 1) (by omega) (by omega) ⟨fun _ e he => absurd he (Nat.not_lt_zero _), fun _ => rfl⟩
  exact L A.length 0 a_val a_count _ (by omega) (by omega) (by rw [List.take_zero]; exact qy_nil h0) qy_fr_rfl
theorem qp_take_s {A : qp_W} {i : Nat} (h : i < A.length) : A.take (i + 1) = A.take i ++ [A.getD i []] := by
  rw [List.take_succ, List.getElem?_eq_getElem h, List.getD_eq_getElem?_getD, List.getElem?_eq_getElem h]; rfl
theorem qy_union (hpl : qy_pl g n a_tab a_tabRows a_form a_left a_right a_p1 a_p2 a_p3 a_wide) (hwl : a_wide (qp_lf g n) = nI (qp_wd g (qp_lf g n))) (hwr : a_wide (qp_rt g n) = nI (qp_wd g (qp_rt g n))) (hok : ∀ m, m < N → qp_ok g pa m) (hN : N ≤ 12) (hn : n < N) (hk : qp_kd g n = 6) {A B : qp_W} (hAB : (A ++ B).length ≤ 24) (hrow : ∀ y ∈ A, y.length = qp_wd g (qp_lf g n)) (hrowB : ∀ y ∈ B, y.length = qp_wd g (qp_rt g n)) (hrep : qy_rep a_val a_count (qp_lf g n) A (qp_wd g (qp_lf g n))) (hrepB : qy_rep a_val a_count (qp_rt g n) B (qp_wd g (qp_rt g n))) (h0 : a_count n = 0)
    (K : ∀ val cnt : Nat → Int32, qy_rep val cnt n (A ++ B) (qp_wd g n) → qy_fr n a_val a_count val cnt → post (f_tables, f_nodes, f_resRows, f_resWidth, a_tab, a_tabRows, a_tabWidth, a_form, a_left, a_right, a_p1, a_p2, a_p3, a_wide, a_used, a_bound, cnt, val, a_res)) : wpY_unionList post (f_tables, f_nodes, f_resRows, f_resWidth, a_tab, a_tabRows, a_tabWidth, a_form, a_left, a_right, a_p1, a_p2, a_p3, a_wide, a_used, a_bound, a_count, a_val, a_res) (nI n) := by
  have n12 : n < 12 := by omega
  obtain ⟨hl, _⟩ := (hok n hn).2.2.2.1 (by omega)
  obtain ⟨hr', _, _⟩ := (hok n hn).2.2.2.2.1 (Or.inr hk)
  have w6 := (hok _ (show qp_lf g n < N by omega)).2.2.1
  have w6r := (hok _ (show qp_rt g n < N by omega)).2.2.1
  obtain ⟨hw1, hw2⟩ := (hok n hn).2.2.2.2.2.2.2.2.2.2.2.1 hk
  have al := hpl.2.2.1 (by omega)
  have ar := hpl.2.2.2.1 (Or.inr hk)
  rw [List.length_append] at hAB
  have LB : ∀ (d i : Nat) (val cnt : Nat → Int32) (fuel : Nat), i + d = B.length → d < fuel → qy_rep val cnt n (A ++ B.take i) (qp_wd g n) → qy_fr n a_val a_count val cnt → wY_unionList_37 post (nI n) fuel (nI i) f_tables f_nodes f_resRows f_resWidth a_tab a_tabRows a_tabWidth a_form a_left a_right a_p1 a_p2 a_p3 a_wide a_used a_bound cnt val a_res := by
    intro d
    induction d with
    | zero =>
      intro i val cnt fuel hi hf hr hfr
      obtain ⟨f, rfl⟩ : ∃ f', fuel = f' + 1 := ⟨fuel - 1, by omega⟩
      have hi' : i = B.length := by omega
      subst hi'
      rw [List.take_length] at hr
      have hc := qy_rep_fr hfr (show qp_rt g n ≠ n by omega) (by omega) w6r hrepB
      refine ⟨vp_in_nI n12 (by decide), ?_⟩
      rw [nI_clamp (n := n) (by omega), ar]
      refine ⟨vp_in_nI (by omega) (by decide), ?_⟩
      rw [nI_clamp (n := qp_rt g n) (by omega), hc.1]
      exact br_t (nI_le (Nat.le_refl _) (by omega)) (K val cnt hr hfr)
    | succ d ih =>
      intro i val cnt fuel hi hf hr hfr
      obtain ⟨f, rfl⟩ : ∃ f', fuel = f' + 1 := ⟨fuel - 1, by omega⟩
      have hi' : i < B.length := by omega
      have hc := qy_rep_fr hfr (show qp_rt g n ≠ n by omega) (by omega) w6r hrepB
      have hxl := hrowB _ (qm_getD_mem hi')
      have ll : (A ++ B.take i).length = A.length + i := by rw [List.length_append, List.length_take]; omega
      refine ⟨vp_in_nI n12 (by decide), ?_⟩
      rw [nI_clamp (n := n) (by omega), ar]
      refine ⟨vp_in_nI (by omega) (by decide), ?_⟩
      rw [nI_clamp (n := qp_rt g n) (by omega), hc.1]
      refine br_f (nI_ge hi' (by omega)) ⟨vp_in_nI n12 (by decide), ?_⟩
      obtain ⟨a1, a2⟩ := qy_app (x := B.getD i []) (by omega) (by omega) (by omega) hr
      refine qy_copy n12 (by omega) (by omega) (by omega) (by omega) hr.1 hwr w6r hxl (fun c hc' => hc.2 i c hi' hc') (nm_r (nI_1 i) ?_)
      refine ih (i + 1) _ _ f (by omega) (by omega) ?_ (qy_fr_trans hfr a2)
      rw [qp_take_s hi', ← List.append_assoc]; exact a1
  have L : ∀ (d i : Nat) (val cnt : Nat → Int32) (fuel : Nat), i + d = A.length → d < fuel → qy_rep val cnt n (A.take i) (qp_wd g n) → qy_fr n a_val a_count val cnt → wY_unionList_2 post (nI n) fuel (nI i) f_tables f_nodes f_resRows f_resWidth a_tab a_tabRows a_tabWidth a_form a_left a_right a_p1 a_p2 a_p3 a_wide a_used a_bound cnt val a_res := by
    intro d
    induction d with
    | zero =>
      intro i val cnt fuel hi hf hr hfr
      obtain ⟨f, rfl⟩ : ∃ f', fuel = f' + 1 := ⟨fuel - 1, by omega⟩
      have hi' : i = A.length := by omega
      subst hi'
      rw [qp_take_all] at hr
      have hc := qy_rep_fr hfr (show qp_lf g n ≠ n by omega) (by omega) w6 hrep
      refine ⟨vp_in_nI n12 (by decide), ?_⟩
      rw [nI_clamp (n := n) (by omega), al]
      refine ⟨vp_in_nI (by omega) (by decide), ?_⟩
      rw [nI_clamp (n := qp_lf g n) (by omega), hc.1]
      exact br_t (nI_le (Nat.le_refl _) (by omega)) ⟨B.length + 1, LB B.length 0 val cnt _ (by omega) (by omega) (by rw [List.take_zero, List.append_nil]; exact hr) hfr⟩
    | succ d ih =>
      intro i val cnt fuel hi hf hr hfr
      obtain ⟨f, rfl⟩ : ∃ f', fuel = f' + 1 := ⟨fuel - 1, by omega⟩
      have hi' : i < A.length := by omega
      have hc := qy_rep_fr hfr (show qp_lf g n ≠ n by omega) (by omega) w6 hrep
      have hxl := hrow _ (qm_getD_mem hi')
      have ll : (A.take i).length = i := by rw [List.length_take]; omega
      refine ⟨vp_in_nI n12 (by decide), ?_⟩
      rw [nI_clamp (n := n) (by omega), al]
      refine ⟨vp_in_nI (by omega) (by decide), ?_⟩
      rw [nI_clamp (n := qp_lf g n) (by omega), hc.1]
      refine br_f (nI_ge hi' (by omega)) ⟨vp_in_nI n12 (by decide), ?_⟩
      obtain ⟨a1, a2⟩ := qy_app (x := A.getD i []) (by omega) (by omega) (by omega) hr
      refine qy_copy n12 (by omega) (by omega) (by omega) (by omega) hr.1 hwl w6 hxl (fun c hc' => hc.2 i c hi' hc') (nm_r (nI_1 i) ?_)
      refine ih (i + 1) _ _ f (by omega) (by omega) ?_ (qy_fr_trans hfr a2)
      rw [qp_take_s hi']; exact a1
  exact ⟨A.length + 1, L A.length 0 a_val a_count _ (by omega) (by omega) (by rw [List.take_zero]; exact qy_nil h0) qy_fr_rfl⟩
end
end
section
/-! the reference's join -/
theorem qb_bl_bl {f : Nat → Int32} {b : Nat} {x y : List Int32} : qb_bl (qb_bl f b x) (b + x.length) y = qb_bl f b (x ++ y) := by
  funext j
  have l : (x ++ y).length = x.length + y.length := List.length_append
  by_cases h1 : b ≤ j ∧ j < b + x.length
  · obtain ⟨i, rfl⟩ : ∃ i, j = b + i := ⟨j - b, by omega⟩
    rw [qb_bl_out (by omega), qb_bl_in (by omega), qb_bl_in (by omega), List.getD_eq_getElem?_getD, List.getD_eq_getElem?_getD, List.getElem?_append_left (by omega)]
  · by_cases h2 : b + x.length ≤ j ∧ j < b + x.length + y.length
    · obtain ⟨i, rfl⟩ : ∃ i, j = b + x.length + i := ⟨j - (b + x.length), by omega⟩
      rw [qb_bl_in (by omega), Nat.add_assoc, qb_bl_in (by omega), List.getD_eq_getElem?_getD, List.getD_eq_getElem?_getD, List.getElem?_append_right (by omega), Nat.add_sub_cancel_left]
    · rw [qb_bl_out (by omega), qb_bl_out (by omega), qb_bl_out (by omega)]
theorem qp_hit_s {key col : Int32} {B : qp_W} {j : Nat} (h : j < B.length) : qp_hit key col (B.take (j + 1)) = qp_hit key col (B.take j) ++ (if qp_at (B.getD j []) col = key then [B.getD j []] else []) := by
  rw [qp_take_s h]
  unfold qp_hit
  rw [List.filter_append]
  congr 1
  by_cases e : qp_at (B.getD j []) col = key
  · rw [if_pos e, List.filter_cons_of_pos (by exact decide_eq_true e)]; rfl
  · rw [if_neg e, List.filter_cons_of_neg (by exact fun z => e (of_decide_eq_true z))]; rfl
theorem qp_hit_le {key col : Int32} {B : qp_W} {j : Nat} : (qp_hit key col (B.take j)).length ≤ (qp_hit key col B).length := by
  have e : B = B.take j ++ B.drop j := (List.take_append_drop j B).symm
  have : qp_hit key col B = qp_hit key col (B.take j) ++ qp_hit key col (B.drop j) := by
    have h2 : qp_hit key col (B.take j ++ B.drop j) = qp_hit key col (B.take j) ++ qp_hit key col (B.drop j) := List.filter_append ..
    rw [← e] at h2; exact h2
  rw [this, List.length_append]; omega
section
variable {f_tables f_nodes f_resRows f_resWidth : Int32} {a_tab a_tabRows a_tabWidth a_form a_left a_right a_p1 a_p2 a_p3 a_wide a_used a_bound a_count a_val a_res : Nat → Int32}
variable {g : qp_PL} {pa : Nat → Nat} {N n : Nat} {post : SY → Prop}
theorem qy_join (hpl : qy_pl g n a_tab a_tabRows a_form a_left a_right a_p1 a_p2 a_p3 a_wide) (hwl : a_wide (qp_lf g n) = nI (qp_wd g (qp_lf g n))) (hwr : a_wide (qp_rt g n) = nI (qp_wd g (qp_rt g n))) (hok : ∀ m, m < N → qp_ok g pa m) (hN : N ≤ 12) (hn : n < N) (hk : qp_kd g n = 5) {A B : qp_W} (hA : A.length ≤ 24) (hB : B.length ≤ 24) (hrow : ∀ y ∈ A, y.length = qp_wd g (qp_lf g n)) (hrowB : ∀ y ∈ B, y.length = qp_wd g (qp_rt g n)) (hrep : qy_rep a_val a_count (qp_lf g n) A (qp_wd g (qp_lf g n))) (hrepB : qy_rep a_val a_count (qp_rt g n) B (qp_wd g (qp_rt g n))) (h0 : a_count n = 0) (hsz : (qp_fold g n B A).length ≤ 24)
    (K : ∀ val cnt : Nat → Int32, qy_rep val cnt n (qp_fold g n B A) (qp_wd g n) → qy_fr n a_val a_count val cnt → post (f_tables, f_nodes, f_resRows, f_resWidth, a_tab, a_tabRows, a_tabWidth, a_form, a_left, a_right, a_p1, a_p2, a_p3, a_wide, a_used, a_bound, cnt, val, a_res)) : wpY_joinList post (f_tables, f_nodes, f_resRows, f_resWidth, a_tab, a_tabRows, a_tabWidth, a_form, a_left, a_right, a_p1, a_p2, a_p3, a_wide, a_used, a_bound, a_count, a_val, a_res) (nI n) := by
  have n12 : n < 12 := by omega
  obtain ⟨hl, _⟩ := (hok n hn).2.2.2.1 (by omega)
  obtain ⟨hr', _, _⟩ := (hok n hn).2.2.2.2.1 (Or.inl hk)
  have w6 := (hok _ (show qp_lf g n < N by omega)).2.2.1
  have w6r := (hok _ (show qp_rt g n < N by omega)).2.2.1
  have wn6 := (hok n hn).2.2.1
  obtain ⟨p1, p2, p3, p4⟩ := (hok n hn).2.2.2.2.2.2.2.2.2.2.1 hk
  obtain ⟨e3, e1, e2⟩ := hpl.2.2.2.2.2.2.1 hk
  obtain ⟨qc, hqc, eqc⟩ := p2
  obtain ⟨rc, hrc, erc⟩ := p3
  have al := hpl.2.2.1 (by omega)
  have ar := hpl.2.2.2.1 (Or.inl hk)
  have eatr : ∀ y : qp_R, qp_at y (qp_r g n) = y.getD rc 0 := fun y => by unfold qp_at; rw [erc, nI_clamp (by omega)]
  have eatq : ∀ y : qp_R, qp_at y (qp_q g n) = y.getD qc 0 := fun y => by unfold qp_at; rw [eqc, nI_clamp (by omega)]
  have inner_w : qp_p g n = 0 ∨ qp_p g n = 3 → qp_wd g (qp_lf g n) + qp_wd g (qp_rt g n) = qp_wd g n := fun h => by rw [p4, if_pos h]
  have semi_w : qp_p g n = 1 ∨ qp_p g n = 2 → qp_wd g n = qp_wd g (qp_lf g n) := fun h => by
    rw [p4, if_neg]
    rcases h with e | e <;> rw [e] <;> decide
  refine ⟨vp_in_nI n12 (by decide), ?_⟩
  rw [nI_clamp (n := n) (by omega)]
  refine nm_r al ⟨vp_in_nI n12 (by decide), nm_r ar ⟨A.length + 1, ?_⟩⟩
  have L : ∀ (d i : Nat) (val cnt : Nat → Int32) (fuel : Nat), i + d = A.length → d < fuel → qy_rep val cnt n (qp_fold g n B (A.take i)) (qp_wd g n) → qy_fr n a_val a_count val cnt → wY_joinList_17 post (nI n) (nI (qp_lf g n)) (nI (qp_rt g n)) fuel (nI i) f_tables f_nodes f_resRows f_resWidth a_tab a_tabRows a_tabWidth a_form a_left a_right a_p1 a_p2 a_p3 a_wide a_used a_bound cnt val a_res := by
    intro d
    induction d with
    | zero =>
      intro i val cnt fuel hi hf hr hfr
      obtain ⟨f, rfl⟩ : ∃ f', fuel = f' + 1 := ⟨fuel - 1, by omega⟩
      have hi' : i = A.length := by omega
      subst hi'
      rw [qp_take_all] at hr
      have hc := qy_rep_fr hfr (show qp_lf g n ≠ n by omega) hA w6 hrep
      refine ⟨vp_in_nI (by omega) (by decide), ?_⟩
      rw [nI_clamp (n := qp_lf g n) (by omega), hc.1]
      exact br_t (nI_le (Nat.le_refl _) (by omega)) (K val cnt hr hfr)
    | succ d ih =>
      intro i val cnt fuel hi hf hr hfr
      obtain ⟨f, rfl⟩ : ∃ f', fuel = f' + 1 := ⟨fuel - 1, by omega⟩
      have hi' : i < A.length := by omega
      have hc := qy_rep_fr hfr (show qp_lf g n ≠ n by omega) hA w6 hrep
      have ft := qp_fold_take (g := g) (n := n) (Sn := B) hi'
      have mono := qp_fold_mono (g := g) (n := n) (Sn := B) (A := A) (i := i + 1)
      rw [qp_out5 hk, eatq] at ft
      have hxl := hrow _ (qm_getD_mem hi')
      generalize hD : qp_fold g n B (A.take i) = D at hr ft
      generalize hx : A.getD i [] = x at hxl ft
      generalize hkey : x.getD qc 0 = key at ft
      have hcx : ∀ c, c < qp_wd g (qp_lf g n) → val (qp_lf g n * 144 + i * 6 + c) = x.getD c 0 := fun c hc' => by rw [← hx]; exact hc.2 i c hi' hc'
      -- the end of the row: on with i + 1
      have nxt : ∀ (val' cnt' : Nat → Int32), qy_rep val' cnt' n (D ++ qp_join (qp_p g n) key (qp_r g n) (qp_wd g (qp_rt g n)) B x) (qp_wd g n) → qy_fr n val cnt val' cnt' → wY_joinList_17 post (nI n) (nI (qp_lf g n)) (nI (qp_rt g n)) f (nI (i + 1)) f_tables f_nodes f_resRows f_resWidth a_tab a_tabRows a_tabWidth a_form a_left a_right a_p1 a_p2 a_p3 a_wide a_used a_bound cnt' val' a_res := by
        intro val' cnt' h1 h2
        refine ih (i + 1) val' cnt' f (by omega) (by omega) ?_ (qy_fr_trans hfr h2)
        rw [ft]; exact h1
      have sz : (D ++ qp_join (qp_p g n) key (qp_r g n) (qp_wd g (qp_rt g n)) B x).length ≤ 24 := by rw [← ft]; omega
      rw [List.length_append] at sz
      refine ⟨vp_in_nI (by omega) (by decide), ?_⟩
      rw [nI_clamp (n := qp_lf g n) (by omega), hc.1]
      refine br_f (nI_ge hi' (by omega)) ⟨B.length + 1, ?_⟩
      -- the three closing questions
      have c184 : ∀ (val' cnt' : Nat → Int32) (h : Nat), h = (qp_hit key (qp_r g n) B).length → qy_fr n val cnt val' cnt' →
          (qp_p g n = 3 ∧ h = 0 → qy_rep val' cnt' n D (qp_wd g n)) → (¬ (qp_p g n = 3 ∧ h = 0) → qy_rep val' cnt' n (D ++ qp_join (qp_p g n) key (qp_r g n) (qp_wd g (qp_rt g n)) B x) (qp_wd g n)) →
          wY_joinList_184 post (wY_joinList_17 post (nI n) (nI (qp_lf g n)) (nI (qp_rt g n)) f) (nI n) (nI (qp_lf g n)) (nI (qp_rt g n)) (nI i) (nI h) f_tables f_nodes f_resRows f_resWidth a_tab a_tabRows a_tabWidth a_form a_left a_right a_p1 a_p2 a_p3 a_wide a_used a_bound cnt' val' a_res := by
        intro val' cnt' h hh hfr' hy hno
        have h24 : h ≤ 24 := by rw [hh]; exact Nat.le_trans (qp_hit_len ..) hB
        unfold wY_joinList_184
        refine ⟨vp_in_nI n12 (by decide), ?_⟩
        rw [nI_clamp (n := n) (by omega), e3]
        refine br_c (fun z3 => ?_) (fun z3 => nm_r (nI_1 i) (nxt val' cnt' (hno (fun z => z3 z.1)) hfr'))
        refine pk_eq h 0 (fun hz => ?_) (fun hz => nm_r (nI_1 i) (nxt val' cnt' (hno (fun z => hz z.2)) hfr'))
        have rD := hy ⟨z3, hz⟩
        have hnil : qp_hit key (qp_r g n) B = [] := List.eq_nil_of_length_eq_zero (by omega)
        have ej : qp_join (qp_p g n) key (qp_r g n) (qp_wd g (qp_rt g n)) B x = [x ++ List.replicate (qp_wd g (qp_rt g n)) 0] := by
          unfold qp_join
          rw [if_neg (by rw [z3]; decide), if_neg (by rw [z3]; decide), if_pos ⟨z3, hnil⟩]
        rw [ej] at nxt sz
        have lt : D.length < 24 := by have : ([x ++ List.replicate (qp_wd g (qp_rt g n)) 0] : qp_W).length = 1 := rfl; omega
        have wsum := inner_w (Or.inr z3)
        refine qy_copy n12 (by omega) (by omega) (by omega) lt rD.1 hwl w6 hxl (fun c hc' => by rw [hfr'.1 _ (by omega)]; exact hcx c hc') ?_
        refine qy_behind (d := D.length) (l := qp_lf g n) (y := List.replicate (qp_wd g (qp_rt g n)) 0) n12 (by omega) (by omega) lt (by omega) al pk_us hwl hwr (by omega) (List.length_replicate ..) (Or.inl ⟨rfl, rfl⟩) (nm_r (nI_1 i) ?_)
        rw [← hxl, qb_bl_bl]
        obtain ⟨a1, a2⟩ := qy_app (x := x ++ List.replicate (qp_wd g (qp_rt g n)) 0) wn6 (by rw [List.length_append, List.length_replicate]; omega) lt rD
        exact nxt _ _ a1 (qy_fr_trans hfr' a2)
      have c161 : ∀ (val' cnt' : Nat → Int32) (h : Nat), h = (qp_hit key (qp_r g n) B).length → qy_fr n val cnt val' cnt' →
          ((qp_p g n = 3 ∧ h = 0) ∨ (qp_p g n = 2 ∧ h = 0) → qy_rep val' cnt' n D (qp_wd g n)) → (¬ ((qp_p g n = 3 ∧ h = 0) ∨ (qp_p g n = 2 ∧ h = 0)) → qy_rep val' cnt' n (D ++ qp_join (qp_p g n) key (qp_r g n) (qp_wd g (qp_rt g n)) B x) (qp_wd g n)) →
          wY_joinList_161 post (wY_joinList_17 post (nI n) (nI (qp_lf g n)) (nI (qp_rt g n)) f) (nI n) (nI (qp_lf g n)) (nI (qp_rt g n)) (nI i) (nI h) f_tables f_nodes f_resRows f_resWidth a_tab a_tabRows a_tabWidth a_form a_left a_right a_p1 a_p2 a_p3 a_wide a_used a_bound cnt' val' a_res := by
        intro val' cnt' h hh hfr' hy hno
        have h24 : h ≤ 24 := by rw [hh]; exact Nat.le_trans (qp_hit_len ..) hB
        unfold wY_joinList_161
        refine ⟨vp_in_nI n12 (by decide), ?_⟩
        rw [nI_clamp (n := n) (by omega), e3]
        refine br_c (fun z2 => ?_) (fun z2 => c184 val' cnt' h hh hfr' (fun z => hy (Or.inl z)) (fun z => hno (fun y => by
          rcases y with y | y
          · exact z y
          · exact z2 y.1)))
        have n3 : ¬ qp_p g n = 3 := by rw [z2]; decide
        refine pk_eq h 0 (fun hz => ?_) (fun hz => c184 val' cnt' h hh hfr' (fun z => absurd z.1 n3) (fun _ => hno (fun y => by
          rcases y with y | y
          · exact n3 y.1
          · exact hz y.2)))
        have rD := hy (Or.inr ⟨z2, hz⟩)
        have hnil : qp_hit key (qp_r g n) B = [] := List.eq_nil_of_length_eq_zero (by omega)
        have ej : qp_join (qp_p g n) key (qp_r g n) (qp_wd g (qp_rt g n)) B x = [x] := by
          unfold qp_join
          rw [if_neg (by rw [z2]; decide), if_pos z2, if_pos hnil]
        rw [ej] at sz
        have lt : D.length < 24 := by have : ([x] : qp_W).length = 1 := rfl; omega
        refine qy_copy n12 (by omega) (by omega) (by omega) lt rD.1 hwl w6 hxl (fun c hc' => by rw [hfr'.1 _ (by omega)]; exact hcx c hc') ?_
        obtain ⟨a1, a2⟩ := qy_app (x := x) wn6 (by rw [semi_w (Or.inr z2)]; exact hxl) lt rD
        exact c184 _ _ h hh (qy_fr_trans hfr' a2) (fun z => absurd z.1 n3) (fun _ => by rw [ej]; exact a1)
      -- the loop over the right rows
      have J : ∀ (d2 j : Nat) (val' cnt' : Nat → Int32) (fu : Nat), j + d2 = B.length → d2 < fu → qy_fr n val cnt val' cnt' →
          qy_rep val' cnt' n (D ++ (if qp_p g n = 0 ∨ qp_p g n = 3 then (qp_hit key (qp_r g n) (B.take j)).map (fun y => x ++ y) else [])) (qp_wd g n) →
          wY_joinList_34 post (wY_joinList_17 post (nI n) (nI (qp_lf g n)) (nI (qp_rt g n)) f) (nI n) (nI (qp_lf g n)) (nI (qp_rt g n)) (nI i) fu (nI (qp_hit key (qp_r g n) (B.take j)).length) (nI j) f_tables f_nodes f_resRows f_resWidth a_tab a_tabRows a_tabWidth a_form a_left a_right a_p1 a_p2 a_p3 a_wide a_used a_bound cnt' val' a_res := by
        intro d2
        induction d2 with
        | zero =>
          intro j val' cnt' fu hj hf' hfr' hr2
          obtain ⟨fu, rfl⟩ : ∃ f', fu = f' + 1 := ⟨fu - 1, by omega⟩
          have hj' : j = B.length := by omega
          subst hj'
          rw [List.take_length] at hr2 ⊢
          have hcB := qy_rep_fr (qy_fr_trans hfr hfr') (show qp_rt g n ≠ n by omega) hB w6r hrepB
          have h24 : (qp_hit key (qp_r g n) B).length ≤ 24 := Nat.le_trans (qp_hit_len ..) hB
          refine ⟨vp_in_nI (by omega) (by decide), ?_⟩
          rw [nI_clamp (n := qp_rt g n) (by omega), hcB.1]
          refine br_t (nI_le (Nat.le_refl _) (by omega)) ⟨vp_in_nI n12 (by decide), ?_⟩
          rw [nI_clamp (n := n) (by omega), e3]
          -- what join gives in each case
          obtain ⟨a, ha, ea⟩ := p1
          have cases4 : qp_p g n = 0 ∨ qp_p g n = 1 ∨ qp_p g n = 2 ∨ qp_p g n = 3 := by
            rw [ea]
            match a, ha with
            | 0, _ => exact Or.inl rfl
            | 1, _ => exact Or.inr (Or.inl rfl)
            | 2, _ => exact Or.inr (Or.inr (Or.inl rfl))
            | 3, _ => exact Or.inr (Or.inr (Or.inr rfl))
          by_cases z1 : qp_p g n = 1
          · have ni : ¬ (qp_p g n = 0 ∨ qp_p g n = 3) := by rw [z1]; decide
            have n2 : ¬ qp_p g n = 2 := by rw [z1]; decide
            have n3 : ¬ qp_p g n = 3 := by rw [z1]; decide
            rw [if_neg ni, List.append_nil] at hr2
            have ej : qp_join (qp_p g n) key (qp_r g n) (qp_wd g (qp_rt g n)) B x = (if qp_hit key (qp_r g n) B = [] then [] else [x]) := by
              unfold qp_join; rw [if_pos z1]
            refine br_t z1 (pk_le (qp_hit key (qp_r g n) B).length 0 (fun hz => ?_) (fun hz => ?_))
            · have hnil : qp_hit key (qp_r g n) B = [] := List.eq_nil_of_length_eq_zero (by omega)
              rw [if_pos hnil] at ej
              exact c161 val' cnt' _ rfl hfr' (fun y => by rcases y with y | y; exact absurd y.1 n3; exact absurd y.1 n2) (fun _ => by rw [ej, List.append_nil]; exact hr2)
            · have hnn : ¬ qp_hit key (qp_r g n) B = [] := fun z => by rw [z] at hz; exact absurd hz (by decide)
              rw [if_neg hnn] at ej
              rw [ej] at sz
              have lt : D.length < 24 := by have : ([x] : qp_W).length = 1 := rfl; omega
              refine qy_copy n12 (by omega) (by omega) (by omega) lt hr2.1 hwl w6 hxl (fun c hc' => by rw [hfr'.1 _ (by omega)]; exact hcx c hc') ?_
              obtain ⟨a1, a2⟩ := qy_app (x := x) wn6 (by rw [semi_w (Or.inl z1)]; exact hxl) lt hr2
              exact c161 _ _ _ rfl (qy_fr_trans hfr' a2) (fun y => by rcases y with y | y; exact absurd y.1 n3; exact absurd y.1 n2) (fun _ => by rw [ej]; exact a1)
          · refine br_f z1 ?_
            by_cases z2 : qp_p g n = 2
            · have ni : ¬ (qp_p g n = 0 ∨ qp_p g n = 3) := by rw [z2]; decide
              rw [if_neg ni, List.append_nil] at hr2
              refine c161 val' cnt' _ rfl hfr' (fun _ => hr2) (fun y => ?_)
              have hnn : ¬ qp_hit key (qp_r g n) B = [] := fun z => y (Or.inr ⟨z2, by rw [z]; rfl⟩)
              have ej : qp_join (qp_p g n) key (qp_r g n) (qp_wd g (qp_rt g n)) B x = [] := by
                unfold qp_join; rw [if_neg z1, if_pos z2, if_neg hnn]
              rw [ej, List.append_nil]; exact hr2
            · have yi : qp_p g n = 0 ∨ qp_p g n = 3 := by
                rcases cases4 with z | z | z | z
                · exact Or.inl z
                · exact absurd z z1
                · exact absurd z z2
                · exact Or.inr z
              rw [if_pos yi] at hr2
              refine c161 val' cnt' _ rfl hfr' (fun y => ?_) (fun y => ?_)
              · have hnil : qp_hit key (qp_r g n) B = [] := by
                  rcases y with y | y
                  · exact List.eq_nil_of_length_eq_zero y.2
                  · exact absurd y.1 z2
                rw [hnil] at hr2
                have e : D ++ List.map (fun y => x ++ y) ([] : qp_W) = D := List.append_nil _
                rw [e] at hr2; exact hr2
              · have ej : qp_join (qp_p g n) key (qp_r g n) (qp_wd g (qp_rt g n)) B x = (qp_hit key (qp_r g n) B).map (fun y => x ++ y) := by
                  unfold qp_join
                  rw [if_neg z1, if_neg z2, if_neg]
                  rintro ⟨y1, y2⟩
                  exact y (Or.inl ⟨y1, by rw [y2]; rfl⟩)
                rw [ej]; exact hr2
        | succ d2 ih2 =>
          intro j val' cnt' fu hj hf' hfr' hr2
          obtain ⟨fu, rfl⟩ : ∃ f', fu = f' + 1 := ⟨fu - 1, by omega⟩
          have hj' : j < B.length := by omega
          have hcB := qy_rep_fr (qy_fr_trans hfr hfr') (show qp_rt g n ≠ n by omega) hB w6r hrepB
          have hs := qp_hit_s (key := key) (col := qp_r g n) hj'
          rw [eatr] at hs
          have hyl := hrowB _ (qm_getD_mem hj')
          refine ⟨vp_in_nI (by omega) (by decide), ?_⟩
          rw [nI_clamp (n := qp_rt g n) (by omega), hcB.1]
          refine br_f (nI_ge hj' (by omega)) ⟨vp_in_nI n12 (by decide), ?_⟩
          rw [nI_clamp (n := n) (by omega), e1.trans eqc, e2.trans erc, e3, qb_ix3, qb_ix3, nI_clamp (n := qp_lf g n * 144 + i * 6 + qc) (by omega), nI_clamp (n := qp_rt g n * 144 + j * 6 + rc) (by omega), hfr'.1 (qp_lf g n * 144 + i * 6 + qc) (by omega), hcx qc hqc, hcB.2 j rc hj' hrc, hkey]
          refine ⟨vp_in_nI (by omega) (by decide), vp_in_nI n12 (by decide), vp_in_nI (by omega) (by decide), br_c (fun z => nm_r (nI_1 _) ⟨vp_in_nI n12 (by decide), ?_⟩) (fun z => nm_r (nI_1 j) ?_)⟩
          · rw [if_pos z.symm] at hs
            have hl1 : (qp_hit key (qp_r g n) (B.take (j + 1))).length = (qp_hit key (qp_r g n) (B.take j)).length + 1 := by rw [hs, List.length_append]; rfl
            have put : (qp_p g n = 0 ∨ qp_p g n = 3) → wY_joinList_116 post (wY_joinList_17 post (nI n) (nI (qp_lf g n)) (nI (qp_rt g n)) f) (wY_joinList_34 post (wY_joinList_17 post (nI n) (nI (qp_lf g n)) (nI (qp_rt g n)) f) (nI n) (nI (qp_lf g n)) (nI (qp_rt g n)) (nI i) fu) (nI n) (nI (qp_lf g n)) (nI (qp_rt g n)) (nI i) (nI ((qp_hit key (qp_r g n) (B.take j)).length + 1)) (nI j) f_tables f_nodes f_resRows f_resWidth a_tab a_tabRows a_tabWidth a_form a_left a_right a_p1 a_p2 a_p3 a_wide a_used a_bound cnt' val' a_res := by
              intro yi
              have wsum := inner_w yi
              rw [if_pos yi] at hr2
              have le1 := qp_hit_le (key := key) (col := qp_r g n) (B := B) (j := j + 1)
              have ej : (qp_join (qp_p g n) key (qp_r g n) (qp_wd g (qp_rt g n)) B x).length = (qp_hit key (qp_r g n) B).length := by
                unfold qp_join
                rw [if_neg (by rcases yi with e | e <;> rw [e] <;> decide), if_neg (by rcases yi with e | e <;> rw [e] <;> decide), if_neg, List.length_map]
                rintro ⟨_, y2⟩
                rw [y2] at le1
                have : ([] : qp_W).length = 0 := rfl
                omega
              have lt : (D ++ List.map (fun y => x ++ y) (qp_hit key (qp_r g n) (B.take j))).length < 24 := by
                rw [List.length_append, List.length_map]; omega
              unfold wY_joinList_116
              refine qy_copy n12 (by omega) (by omega) (by omega) lt hr2.1 hwl w6 hxl (fun c hc' => by rw [hfr'.1 _ (by omega)]; exact hcx c hc') ?_
              refine qy_behind (d := (D ++ List.map (fun y => x ++ y) (qp_hit key (qp_r g n) (B.take j))).length) (l := qp_lf g n) (y := B.getD j []) n12 (by omega) (by omega) lt (by omega) al pk_us hwl hwr (by omega) hyl (Or.inr ⟨j, by omega, rfl, fun c hc' => by rw [qb_bl_out (by omega)]; exact hcB.2 j c hj' hc'⟩) (nm_r (nI_1 j) ?_)
              rw [← hxl, qb_bl_bl]
              obtain ⟨a1, a2⟩ := qy_app (x := x ++ B.getD j []) wn6 (by rw [List.length_append]; omega) lt hr2
              rw [← hl1]
              refine ih2 (j + 1) _ _ fu (by omega) (by omega) (qy_fr_trans hfr' a2) ?_
              rw [if_pos yi, hs, List.map_append, ← List.append_assoc]
              exact a1
            refine br_c (fun y0 => put (Or.inl y0)) (fun y0 => ⟨vp_in_nI n12 (by decide), br_c (fun y3 => put (Or.inr y3)) (fun y3 => nm_r (nI_1 j) ?_)⟩)
            rw [← hl1]
            have ni : ¬ (qp_p g n = 0 ∨ qp_p g n = 3) := fun y => y.elim y0 y3
            refine ih2 (j + 1) val' cnt' fu (by omega) (by omega) hfr' ?_
            rw [if_neg ni] at hr2 ⊢
            exact hr2
          · rw [if_neg (fun y => z y.symm), List.append_nil] at hs
            rw [← hs]
            refine ih2 (j + 1) val' cnt' fu (by omega) (by omega) hfr' ?_
            rw [hs]; exact hr2
      have start := J B.length 0 val cnt (B.length + 1) (by omega) (by omega) qy_fr_rfl (by
        rw [List.take_zero]
        have e : (if qp_p g n = 0 ∨ qp_p g n = 3 then (qp_hit key (qp_r g n) []).map (fun y => x ++ y) else []) = ([] : qp_W) := by split <;> rfl
        rw [e, List.append_nil]; exact hr)
      rw [List.take_zero] at start
      exact start
  exact L A.length 0 a_val a_count _ (by omega) (by omega) (by rw [List.take_zero]; exact qy_nil h0) qy_fr_rfl
end
end
section
/-! groups: the fold against keys in first order, each with its aggregate -/
def qg_fs (col : Int32) (A : qp_W) : List Int32 := A.foldl (fun L y => if qp_at y col ∈ L then L else L ++ [qp_at y col]) []
def qg_vs (key col vcol : Int32) (A : qp_W) : List Int32 := (A.filter (fun y => decide (qp_at y col = key))).map (fun y => qp_at y vcol)
def qg_av (agg : Int32) : List Int32 → Int32
  | [] => 0
  | v :: vs => vs.foldl (qp_cmb agg) (if agg = 0 then 1 else v)
theorem qg_av_s {agg v : Int32} {vs : List Int32} (h : vs ≠ []) : qg_av agg (vs ++ [v]) = qp_cmb agg (qg_av agg vs) v := by
  cases vs with
  | nil => exact absurd rfl h
  | cons a vs =>
    show (vs ++ [v]).foldl _ _ = _
    rw [List.foldl_append]; rfl
theorem qg_fs_s {col : Int32} {A : qp_W} {i : Nat} (h : i < A.length) : qg_fs col (A.take (i + 1)) = (if qp_at (A.getD i []) col ∈ qg_fs col (A.take i) then qg_fs col (A.take i) else qg_fs col (A.take i) ++ [qp_at (A.getD i []) col]) := by
  rw [qp_take_s h]; unfold qg_fs; rw [List.foldl_append]; rfl
theorem qg_vs_s {key col vcol : Int32} {A : qp_W} {i : Nat} (h : i < A.length) : qg_vs key col vcol (A.take (i + 1)) = qg_vs key col vcol (A.take i) ++ (if qp_at (A.getD i []) col = key then [qp_at (A.getD i []) vcol] else []) := by
  rw [qp_take_s h]; unfold qg_vs; rw [List.filter_append, List.map_append]
  congr 1
  by_cases e : qp_at (A.getD i []) col = key
  · rw [if_pos e, List.filter_cons_of_pos (by exact decide_eq_true e)]; rfl
  · rw [if_neg e, List.filter_cons_of_neg (by exact fun z => e (of_decide_eq_true z))]; rfl
theorem qg_fs_mem {col : Int32} {A : qp_W} : ∀ i, i ≤ A.length → ∀ k, k ∈ qg_fs col (A.take i) ↔ ∃ j, j < i ∧ qp_at (A.getD j []) col = k := by
  intro i
  induction i with
  | zero => intro _ k; rw [List.take_zero]; exact ⟨fun h => absurd h (List.not_mem_nil), fun ⟨j, hj, _⟩ => absurd hj (Nat.not_lt_zero _)⟩
  | succ i ih =>
    intro hi k
    rw [qg_fs_s (by omega)]
    have h := ih (by omega) k
    by_cases e : qp_at (A.getD i []) col ∈ qg_fs col (A.take i)
    · rw [if_pos e, h]
      constructor
      · rintro ⟨j, hj, ej⟩; exact ⟨j, by omega, ej⟩
      · rintro ⟨j, hj, ej⟩
        by_cases e2 : j = i
        · rw [e2] at ej
          rw [ej] at e
          exact h.1 e
        · exact ⟨j, by omega, ej⟩
    · rw [if_neg e, List.mem_append, h]
      constructor
      · rintro (⟨j, hj, ej⟩ | e2)
        · exact ⟨j, by omega, ej⟩
        · exact ⟨i, by omega, (List.mem_singleton.1 e2).symm⟩
      · rintro ⟨j, hj, ej⟩
        by_cases e2 : j = i
        · right; rw [← ej, e2]; exact List.mem_singleton.2 rfl
        · left; exact ⟨j, by omega, ej⟩
theorem qg_fs_nd {col : Int32} {A : qp_W} : ∀ i, i ≤ A.length → (qg_fs col (A.take i)).Nodup := by
  intro i
  induction i with
  | zero => intro _; rw [List.take_zero]; exact List.nodup_nil
  | succ i ih =>
    intro hi
    rw [qg_fs_s (by omega)]
    by_cases e : qp_at (A.getD i []) col ∈ qg_fs col (A.take i)
    · rw [if_pos e]; exact ih (by omega)
    · rw [if_neg e, List.nodup_append]
      exact ⟨ih (by omega), List.nodup_cons.2 ⟨List.not_mem_nil, List.nodup_nil⟩, fun a ha b hb e2 => e (by rw [List.mem_singleton.1 hb] at e2; rw [← e2]; exact ha)⟩
theorem qg_vs_ne {key col vcol : Int32} {A : qp_W} {i : Nat} (hi : i ≤ A.length) : qg_vs key col vcol (A.take i) ≠ [] ↔ ∃ j, j < i ∧ qp_at (A.getD j []) col = key := by
  unfold qg_vs
  constructor
  · intro h
    have h2 : (A.take i).filter (fun y => decide (qp_at y col = key)) ≠ [] := fun e => h (by rw [e]; rfl)
    obtain ⟨y, hy⟩ := List.exists_mem_of_ne_nil _ h2
    obtain ⟨h3, h4⟩ := List.mem_filter.1 hy
    obtain ⟨j, hj, ej⟩ := (qp_mem_take hi).1 h3
    exact ⟨j, hj, by rw [ej]; exact of_decide_eq_true h4⟩
  · rintro ⟨j, hj, ej⟩ e
    have h3 : A.getD j [] ∈ (A.take i).filter (fun y => decide (qp_at y col = key)) := List.mem_filter.2 ⟨(qp_mem_take hi).2 ⟨j, hj, rfl⟩, decide_eq_true ej⟩
    have h4 : (A.take i).filter (fun y => decide (qp_at y col = key)) = [] := List.map_eq_nil_iff.1 e
    rw [h4] at h3; exact absurd h3 (List.not_mem_nil)
theorem qg_gs_map {agg key v : Int32} {a : Int32 → Int32} : ∀ L : List Int32, key ∈ L → L.Nodup → qp_gs agg key v (L.map (fun k => [k, a k])) = L.map (fun k => [k, if k = key then qp_cmb agg (a k) v else a k]) := by
  intro L
  induction L with
  | nil => intro h; exact absurd h (List.not_mem_nil)
  | cons k L ih =>
    intro hk hn
    rw [List.nodup_cons] at hn
    show qp_gs agg key v ([k, a k] :: L.map (fun k => [k, a k])) = _
    unfold qp_gs
    by_cases e : k = key
    · rw [if_pos (by exact e)]
      have : L.map (fun k => [k, if k = key then qp_cmb agg (a k) v else a k]) = L.map (fun k => [k, a k]) := List.map_congr_left (fun z hz => by
        rw [if_neg (fun e2 => hn.1 (by rw [e, ← e2]; exact hz))])
      show [k, qp_cmb agg (a k) v] :: _ = [k, if k = key then qp_cmb agg (a k) v else a k] :: L.map (fun k => [k, if k = key then qp_cmb agg (a k) v else a k])
      rw [this, if_pos e]
    · rw [if_neg (by exact e), ih ((List.mem_cons.1 hk).resolve_left (fun h => e h.symm)) hn.2]
      show _ = [k, if k = key then qp_cmb agg (a k) v else a k] :: _
      rw [if_neg e]
theorem qg_main {g : qp_PL} {n : Nat} (hk : qp_kd g n = 7) (hn : n ≠ 12) (A : qp_W) : ∀ i, i ≤ A.length → (A.take i).foldl (qp_snk g n) [] = (qg_fs (qp_p g n) (A.take i)).map (fun k => [k, qg_av (qp_q g n) (qg_vs k (qp_p g n) (qp_r g n) (A.take i))]) := by
  intro i
  induction i with
  | zero => intro _; rw [List.take_zero]; rfl
  | succ i ih =>
    intro hi
    have hi' : i < A.length := by omega
    have h1 : (A.take (i + 1)).foldl (qp_snk g n) [] = qp_snk g n ((A.take i).foldl (qp_snk g n) []) (A.getD i []) := by
      rw [qp_take_s hi', List.foldl_append]; rfl
    rw [h1, ih (by omega)]
    have es : ∀ T, qp_snk g n T (A.getD i []) = qp_gs (qp_q g n) (qp_at (A.getD i []) (qp_p g n)) (qp_at (A.getD i []) (qp_r g n)) T := fun T => by
      unfold qp_snk; rw [if_neg hn, if_pos hk]
    rw [es, qg_fs_s hi']
    by_cases e : qp_at (A.getD i []) (qp_p g n) ∈ qg_fs (qp_p g n) (A.take i)
    · rw [if_pos e, qg_gs_map _ e (qg_fs_nd i (by omega))]
      apply List.map_congr_left
      intro k hkm
      rw [qg_vs_s hi']
      by_cases ek : k = qp_at (A.getD i []) (qp_p g n)
      · rw [if_pos ek, if_pos ek.symm, qg_av_s]
        exact (qg_vs_ne (by omega)).2 ((qg_fs_mem i (by omega) k).1 hkm)
      · rw [if_neg ek, if_neg (fun z => ek z.symm), List.append_nil]
    · rw [if_neg e, qp_gs_miss, List.map_append]
      · congr 1
        · apply List.map_congr_left
          intro k hkm
          rw [qg_vs_s hi', if_neg (fun z => e (by rw [z]; exact hkm)), List.append_nil]
        · show [[_, _]] = [[_, _]]
          rw [qg_vs_s hi', if_pos rfl]
          have hnil : qg_vs (qp_at (A.getD i []) (qp_p g n)) (qp_p g n) (qp_r g n) (A.take i) = [] := Classical.byContradiction (fun z => e ((qg_fs_mem i (by omega) _).2 ((qg_vs_ne (by omega)).1 z)))
          rw [hnil]; rfl
      · intro y hy
        obtain ⟨k, hkm, ek⟩ := List.mem_map.1 hy
        rw [← ek]
        intro z
        have z' : k = qp_at (A.getD i []) (qp_p g n) := z
        exact e (by rw [← z']; exact hkm)
theorem qg_vs_first {key col vcol : Int32} {A : qp_W} {i : Nat} (hi : i < A.length) (hk : qp_at (A.getD i []) col = key) (hf : ∀ j, j < i → ¬ qp_at (A.getD j []) col = key) : ∃ vs, qg_vs key col vcol A = qp_at (A.getD i []) vcol :: vs := by
  have h0 : qg_vs key col vcol (A.take i) = [] := Classical.byContradiction (fun z => by
    obtain ⟨j, hj, ej⟩ := (qg_vs_ne (by omega)).1 z
    exact hf j hj ej)
  have h1 := qg_vs_s (key := key) (col := col) (vcol := vcol) hi
  rw [h0, if_pos hk] at h1
  have e : A = A.take (i + 1) ++ A.drop (i + 1) := (List.take_append_drop (i + 1) A).symm
  have h2 : qg_vs key col vcol (A.take (i + 1) ++ A.drop (i + 1)) = qg_vs key col vcol (A.take (i + 1)) ++ qg_vs key col vcol (A.drop (i + 1)) := by
    unfold qg_vs; rw [List.filter_append, List.map_append]
  rw [← e, h1] at h2
  exact ⟨_, h2⟩
section
variable {f_tables f_nodes f_resRows f_resWidth : Int32} {a_tab a_tabRows a_tabWidth a_form a_left a_right a_p1 a_p2 a_p3 a_wide a_used a_bound a_count a_val a_res : Nat → Int32}
variable {g : qp_PL} {pa : Nat → Nat} {N n : Nat}
theorem qy_aggregate {post : Int32 → Prop} (hpl : qy_pl g n a_tab a_tabRows a_form a_left a_right a_p1 a_p2 a_p3 a_wide) (hok : ∀ m, m < N → qp_ok g pa m) (hN : N ≤ 12) (hn : n < N) (hk : qp_kd g n = 7) {A : qp_W} {i : Nat} (hA : A.length ≤ 24) (hi : i < A.length) (hrep : qy_rep a_val a_count (qp_lf g n) A (qp_wd g (qp_lf g n))) (hf : ∀ j, j < i → ¬ qp_at (A.getD j []) (qp_p g n) = qp_at (A.getD i []) (qp_p g n))
    (K : post (qg_av (qp_q g n) (qg_vs (qp_at (A.getD i []) (qp_p g n)) (qp_p g n) (qp_r g n) A))) : wpY_aggregate post (f_tables, f_nodes, f_resRows, f_resWidth, a_tab, a_tabRows, a_tabWidth, a_form, a_left, a_right, a_p1, a_p2, a_p3, a_wide, a_used, a_bound, a_count, a_val, a_res) (nI n) (nI i) := by
  have n12 : n < 12 := by omega
  obtain ⟨hl, _⟩ := (hok n hn).2.2.2.1 (by omega)
  have w6 := (hok _ (show qp_lf g n < N by omega)).2.2.1
  obtain ⟨e1, e2, e3⟩ := hpl.2.2.2.2.2.1 (by omega) (by omega) (by omega)
  obtain ⟨⟨pc, hpc, epc⟩, ⟨ag, hag, eag⟩, ⟨rc, hrc, erc⟩, _⟩ := (hok n hn).2.2.2.2.2.2.2.2.2.2.2.2.1 hk
  have atp : ∀ y : qp_R, qp_at y (qp_p g n) = y.getD pc 0 := fun y => by unfold qp_at; rw [epc, nI_clamp (by omega)]
  have atr : ∀ y : qp_R, qp_at y (qp_r g n) = y.getD rc 0 := fun y => by unfold qp_at; rw [erc, nI_clamp (by omega)]
  obtain ⟨rest, hrest⟩ := qg_vs_first (vcol := qp_r g n) hi rfl hf
  generalize hkey : qp_at (A.getD i []) (qp_p g n) = key at K hf hrest
  generalize hv0 : qp_at (A.getD i []) (qp_r g n) = v0 at hrest
  have t1 := hpl.2.2.1 (by omega)
  refine ⟨vp_in_nI n12 (by decide), ?_⟩
  rw [nI_clamp (n := n) (by omega)]
  refine nm_r t1 ⟨vp_in_nI n12 (by decide), ?_⟩
  rw [e1.trans epc]
  refine qy_get (by omega) (by omega) (by omega) ⟨vp_in_nI n12 (by decide), ?_⟩
  rw [e3.trans erc]
  refine qy_get (by omega) (by omega) (by omega) ⟨A.length + 1, ?_⟩
  rw [hrep.2 i pc hi hpc, hrep.2 i rc hi hrc, ← atp, ← atr, hkey, hv0]
  have L : ∀ (d j fuel : Nat), j + d = A.length → d < fuel → wY_aggregate_48 post (nI n) (nI (qp_lf g n)) key f_tables f_nodes f_resRows f_resWidth a_tab a_tabRows a_tabWidth a_form a_left a_right a_p1 a_p2 a_p3 a_wide a_used a_bound a_count a_val a_res fuel ((qg_vs key (qp_p g n) (qp_r g n) (A.take j)).foldl (qp_cmb 0) 0) ((qg_vs key (qp_p g n) (qp_r g n) (A.take j)).foldl (qp_cmb 1) 0) ((qg_vs key (qp_p g n) (qp_r g n) (A.take j)).foldl (qp_cmb 2) v0) ((qg_vs key (qp_p g n) (qp_r g n) (A.take j)).foldl (qp_cmb 3) v0) (nI j) := by
    intro d
    induction d with
    | zero =>
      intro j fuel hj hf'
      obtain ⟨f, rfl⟩ : ∃ f', fuel = f' + 1 := ⟨fuel - 1, by omega⟩
      have hj' : j = A.length := by omega
      subst hj'
      rw [qp_take_all, hrest]
      rw [hrest] at K
      refine ⟨vp_in_nI (by omega) (by decide), ?_⟩
      rw [nI_clamp (n := qp_lf g n) (by omega), hrep.1]
      refine br_t (nI_le (Nat.le_refl _) (by omega)) ⟨vp_in_nI n12 (by decide), ?_⟩
      rw [nI_clamp (n := n) (by omega), e2, eag]
      rw [eag] at K
      match ag, hag with
      | 0, _ => exact br_t rfl K
      | 1, _ =>
        refine br_f (by decide) ⟨vp_in_nI n12 (by decide), br_t rfl ?_⟩
        have e : (v0 :: rest).foldl (qp_cmb 1) 0 = rest.foldl (qp_cmb 1) v0 := by
          show rest.foldl (qp_cmb 1) (0 + v0) = _
          rw [Int32.zero_add]
        rw [e]; exact K
      | 2, _ =>
        refine br_f (by decide) ⟨vp_in_nI n12 (by decide), br_f (by decide) ⟨vp_in_nI n12 (by decide), br_t rfl ?_⟩⟩
        have e : (v0 :: rest).foldl (qp_cmb 2) v0 = rest.foldl (qp_cmb 2) v0 := by
          show rest.foldl (qp_cmb 2) (if v0 ≤ v0 then v0 else v0) = _
          rw [ite_self]
        rw [e]; exact K
      | 3, _ =>
        refine br_f (by decide) ⟨vp_in_nI n12 (by decide), br_f (by decide) ⟨vp_in_nI n12 (by decide), br_f (by decide) ?_⟩⟩
        have e : (v0 :: rest).foldl (qp_cmb 3) v0 = rest.foldl (qp_cmb 3) v0 := by
          show rest.foldl (qp_cmb 3) (if v0 ≤ v0 then v0 else v0) = _
          rw [ite_self]
        rw [e]; exact K
    | succ d ih =>
      intro j fuel hj hf'
      obtain ⟨f, rfl⟩ : ∃ f', fuel = f' + 1 := ⟨fuel - 1, by omega⟩
      have hj' : j < A.length := by omega
      have hs := qg_vs_s (key := key) (col := qp_p g n) (vcol := qp_r g n) hj'
      have nx := ih (j + 1) f (by omega) (by omega)
      refine ⟨vp_in_nI (by omega) (by decide), ?_⟩
      rw [nI_clamp (n := qp_lf g n) (by omega), hrep.1]
      refine br_f (nI_ge hj' (by omega)) ⟨vp_in_nI n12 (by decide), ?_⟩
      rw [nI_clamp (n := n) (by omega), e1.trans epc, e3.trans erc, qb_ix3, qb_ix3, nI_clamp (n := qp_lf g n * 144 + j * 6 + pc) (by omega), nI_clamp (n := qp_lf g n * 144 + j * 6 + rc) (by omega), hrep.2 j pc hj' hpc, hrep.2 j rc hj' hrc]
      rw [atp, atr] at hs
      refine ⟨vp_in_nI (by omega) (by decide), br_c (fun z => ⟨vp_in_nI n12 (by decide), vp_in_nI (by omega) (by decide), nm_e (nm_e (nm_e ?_))⟩) (fun z => nm_r (nI_1 j) ?_)⟩
      · rw [if_pos z] at hs
        rw [hs] at nx
        rw [List.foldl_append, List.foldl_append, List.foldl_append, List.foldl_append] at nx
        generalize (qg_vs key (qp_p g n) (qp_r g n) (A.take j)).foldl (qp_cmb 0) 0 = c0 at nx ⊢
        generalize (qg_vs key (qp_p g n) (qp_r g n) (A.take j)).foldl (qp_cmb 1) 0 = c1 at nx ⊢
        generalize (qg_vs key (qp_p g n) (qp_r g n) (A.take j)).foldl (qp_cmb 2) v0 = c2 at nx ⊢
        generalize (qg_vs key (qp_p g n) (qp_r g n) (A.take j)).foldl (qp_cmb 3) v0 = c3 at nx ⊢
        generalize (A.getD j []).getD rc 0 = v at nx ⊢
        have nx' : wY_aggregate_48 post (nI n) (nI (qp_lf g n)) key f_tables f_nodes f_resRows f_resWidth a_tab a_tabRows a_tabWidth a_form a_left a_right a_p1 a_p2 a_p3 a_wide a_used a_bound a_count a_val a_res f (c0 + 1) (c1 + v) (if c2 ≤ v then c2 else v) (if v ≤ c3 then c3 else v) (nI (j + 1)) := nx
        refine br_c (fun y => ?_) (fun y => ?_)
        · rw [if_pos y] at nx'
          refine br_c (fun y2 => nm_r (nI_1 j) ?_) (fun y2 => nm_r (nI_1 j) ?_)
          · rw [if_pos y2] at nx'; exact nx'
          · rw [if_neg y2] at nx'; exact nx'
        · rw [if_neg y] at nx'
          refine br_c (fun y2 => nm_r (nI_1 j) ?_) (fun y2 => nm_r (nI_1 j) ?_)
          · rw [if_pos y2] at nx'; exact nx'
          · rw [if_neg y2] at nx'; exact nx'
      · rw [if_neg z, List.append_nil] at hs
        rw [hs] at nx
        exact nx
  have := L A.length 0 (A.length + 1) (by omega) (by omega)
  rw [List.take_zero] at this
  exact this
theorem qy_group {post : SY → Prop} (hpl : qy_pl g n a_tab a_tabRows a_form a_left a_right a_p1 a_p2 a_p3 a_wide) (hok : ∀ m, m < N → qp_ok g pa m) (hN : N ≤ 12) (hn : n < N) (hk : qp_kd g n = 7) {A : qp_W} (hA : A.length ≤ 24) (hrep : qy_rep a_val a_count (qp_lf g n) A (qp_wd g (qp_lf g n))) (h0 : a_count n = 0)
    (K : ∀ val cnt : Nat → Int32, qy_rep val cnt n (A.foldl (qp_snk g n) []) (qp_wd g n) → qy_fr n a_val a_count val cnt → post (f_tables, f_nodes, f_resRows, f_resWidth, a_tab, a_tabRows, a_tabWidth, a_form, a_left, a_right, a_p1, a_p2, a_p3, a_wide, a_used, a_bound, cnt, val, a_res)) : wpY_groupList post (f_tables, f_nodes, f_resRows, f_resWidth, a_tab, a_tabRows, a_tabWidth, a_form, a_left, a_right, a_p1, a_p2, a_p3, a_wide, a_used, a_bound, a_count, a_val, a_res) (nI n) := by
  have n12 : n < 12 := by omega
  obtain ⟨hl, _⟩ := (hok n hn).2.2.2.1 (by omega)
  have w6 := (hok _ (show qp_lf g n < N by omega)).2.2.1
  obtain ⟨e1, e2, e3⟩ := hpl.2.2.2.2.2.1 (by omega) (by omega) (by omega)
  obtain ⟨⟨pc, hpc, epc⟩, ⟨ag, hag, eag⟩, ⟨rc, hrc, erc⟩, wn2⟩ := (hok n hn).2.2.2.2.2.2.2.2.2.2.2.2.1 hk
  have atp : ∀ y : qp_R, qp_at y (qp_p g n) = y.getD pc 0 := fun y => by unfold qp_at; rw [epc, nI_clamp (by omega)]
  have gm := qg_main hk (show n ≠ 12 by omega) A A.length (Nat.le_refl _)
  rw [qp_take_all] at gm
  rw [gm, wn2] at K
  have fsle : ∀ i, i ≤ A.length → (qg_fs (qp_p g n) (A.take i)).length ≤ i := by
    intro i
    induction i with
    | zero => intro _; rw [List.take_zero]; exact Nat.le_refl _
    | succ i ih =>
      intro hi
      have := ih (by omega)
      rw [qg_fs_s (by omega)]
      split
      · omega
      · rw [List.length_append]; show _ + 1 ≤ _; omega
  refine ⟨vp_in_nI n12 (by decide), ?_⟩
  rw [nI_clamp (n := n) (by omega)]
  refine nm_r (hpl.2.2.1 (by omega)) ⟨A.length + 1, ?_⟩
  have L : ∀ (d i : Nat) (val cnt : Nat → Int32) (fuel : Nat), i + d = A.length → d < fuel → qy_rep val cnt n ((qg_fs (qp_p g n) (A.take i)).map (fun k => [k, qg_av (qp_q g n) (qg_vs k (qp_p g n) (qp_r g n) A)])) 2 → qy_fr n a_val a_count val cnt → wY_groupList_9 post (nI n) (nI (qp_lf g n)) f_tables f_nodes f_resRows f_resWidth fuel (nI i) a_tab a_tabRows a_tabWidth a_form a_left a_right a_p1 a_p2 a_p3 a_wide a_used a_bound cnt val a_res := by
    intro d
    induction d with
    | zero =>
      intro i val cnt fuel hi hf hr hfr
      obtain ⟨f, rfl⟩ : ∃ f', fuel = f' + 1 := ⟨fuel - 1, by omega⟩
      have hi' : i = A.length := by omega
      subst hi'
      rw [qp_take_all] at hr
      have hc := qy_rep_fr hfr (show qp_lf g n ≠ n by omega) hA w6 hrep
      refine ⟨vp_in_nI (by omega) (by decide), ?_⟩
      rw [nI_clamp (n := qp_lf g n) (by omega), hc.1]
      exact br_t (nI_le (Nat.le_refl _) (by omega)) (K val cnt hr hfr)
    | succ d ih =>
      intro i val cnt fuel hi hf hr hfr
      obtain ⟨f, rfl⟩ : ∃ f', fuel = f' + 1 := ⟨fuel - 1, by omega⟩
      have hi' : i < A.length := by omega
      have hc := qy_rep_fr hfr (show qp_lf g n ≠ n by omega) hA w6 hrep
      have fss := qg_fs_s (col := qp_p g n) hi'
      have fsm := qg_fs_mem (col := qp_p g n) (A := A) i (by omega) (qp_at (A.getD i []) (qp_p g n))
      have fl := fsle i (by omega)
      refine ⟨vp_in_nI (by omega) (by decide), ?_⟩
      rw [nI_clamp (n := qp_lf g n) (by omega), hc.1]
      refine br_f (nI_ge hi' (by omega)) ⟨vp_in_nI n12 (by decide), ?_⟩
      rw [nI_clamp (n := n) (by omega), e1.trans epc]
      refine qy_get (by omega) (by omega) (by omega) ⟨i + 1, ?_⟩
      rw [hc.2 i pc hi' hpc, ← atp]
      have I : ∀ (d2 j : Nat) (b : Bool) (fu : Nat), j + d2 = i → d2 < fu → (b = true ↔ ∀ e, e < j → ¬ qp_at (A.getD e []) (qp_p g n) = qp_at (A.getD i []) (qp_p g n)) → wY_groupList_39 post (wY_groupList_9 post (nI n) (nI (qp_lf g n)) f_tables f_nodes f_resRows f_resWidth f) (nI n) (nI (qp_lf g n)) (nI i) (qp_at (A.getD i []) (qp_p g n)) f_tables f_nodes f_resRows f_resWidth a_tab a_tabRows a_tabWidth a_form a_left a_right a_p1 a_p2 a_p3 a_wide a_used a_bound cnt val a_res fu (if b = true then 1 else 0) (nI j) := by
        intro d2
        induction d2 with
        | zero =>
          intro j b fu hj hf' hb
          obtain ⟨fu, rfl⟩ : ∃ f', fu = f' + 1 := ⟨fu - 1, by omega⟩
          have hj' : j = i := by omega
          subst hj'
          refine br_t (nI_le (Nat.le_refl _) (by omega)) ?_
          by_cases hbt : b = true
          · rw [if_pos hbt]
            have hni : qp_at (A.getD j []) (qp_p g n) ∉ qg_fs (qp_p g n) (A.take j) := fun z => by
              obtain ⟨e, he, ee⟩ := fsm.1 z
              exact hb.1 hbt e he ee
            rw [if_neg hni] at fss
            have hrl := hr.1
            rw [List.length_map] at hrl
            have lt : (qg_fs (qp_p g n) (A.take j)).length < 24 := by omega
            refine br_f (by decide) ⟨vp_in_nI n12 (by decide), ?_⟩
            rw [nI_clamp (n := n) (by omega), hrl]
            refine br_f (nI_ge (a := (qg_fs (qp_p g n) (A.take j)).length) (b := 24) lt (by decide)) ?_
            refine qy_aggregate hpl hok hN hn hk hA hi' hc (hb.1 hbt) ⟨vp_in_nI n12 (by decide), ?_⟩
            rw [qb_ix2, nI_1, nI_1, nI_clamp (n := n * 144 + (qg_fs (qp_p g n) (A.take j)).length * 6) (by omega), nI_clamp (n := n * 144 + (qg_fs (qp_p g n) (A.take j)).length * 6 + 1) (by omega)]
            refine ⟨vp_in_nI (by omega) (by decide), nm_e ⟨vp_in_nI n12 (by decide), vp_in_nI (by omega) (by decide), nm_e ⟨vp_in_nI n12 (by decide), vp_in_nI n12 (by decide), nm_e (nm_r (nI_1 j) ?_)⟩⟩⟩
            have hll : ((qg_fs (qp_p g n) (A.take j)).map (fun k => [k, qg_av (qp_q g n) (qg_vs k (qp_p g n) (qp_r g n) A)])).length = (qg_fs (qp_p g n) (A.take j)).length := List.length_map ..
            obtain ⟨a1, a2⟩ := qy_app (w := 2) (x := [qp_at (A.getD j []) (qp_p g n), qg_av (qp_q g n) (qg_vs (qp_at (A.getD j []) (qp_p g n)) (qp_p g n) (qp_r g n) A)]) (by omega) rfl (by omega) hr
            rw [hll] at a1 a2
            have ebl : upd (upd val (n * 144 + (qg_fs (qp_p g n) (A.take j)).length * 6) (qp_at (A.getD j []) (qp_p g n))) (n * 144 + (qg_fs (qp_p g n) (A.take j)).length * 6 + 1) (qg_av (qp_q g n) (qg_vs (qp_at (A.getD j []) (qp_p g n)) (qp_p g n) (qp_r g n) A)) = qb_bl val (n * 144 + (qg_fs (qp_p g n) (A.take j)).length * 6) [qp_at (A.getD j []) (qp_p g n), qg_av (qp_q g n) (qg_vs (qp_at (A.getD j []) (qp_p g n)) (qp_p g n) (qp_r g n) A)] := by
              have s0 := qb_bl_step (f := val) (b := n * 144 + (qg_fs (qp_p g n) (A.take j)).length * 6) (xs := [qp_at (A.getD j []) (qp_p g n), qg_av (qp_q g n) (qg_vs (qp_at (A.getD j []) (qp_p g n)) (qp_p g n) (qp_r g n) A)]) (c := 0) (by show 0 < 2; omega)
              have s1 := qb_bl_step (f := val) (b := n * 144 + (qg_fs (qp_p g n) (A.take j)).length * 6) (xs := [qp_at (A.getD j []) (qp_p g n), qg_av (qp_q g n) (qg_vs (qp_at (A.getD j []) (qp_p g n)) (qp_p g n) (qp_r g n) A)]) (c := 1) (by show 1 < 2; omega)
              rw [List.take_zero, qb_bl_nil] at s0
              rw [← s0] at s1
              exact s1
            rw [ebl]
            refine ih (j + 1) _ _ f (by omega) (by omega) ?_ (qy_fr_trans hfr a2)
            rw [fss, List.map_append]; exact a1
          · rw [if_neg hbt]
            have hin : qp_at (A.getD j []) (qp_p g n) ∈ qg_fs (qp_p g n) (A.take j) := by
              refine fsm.2 (Classical.byContradiction (fun z => hbt (hb.2 (fun e he ee => z ⟨e, he, ee⟩))))
            rw [if_pos hin] at fss
            refine br_t rfl (nm_r (nI_1 j) (ih (j + 1) val cnt f (by omega) (by omega) ?_ hfr))
            rw [fss]; exact hr
        | succ d2 ih2 =>
          intro j b fu hj hf' hb
          obtain ⟨fu, rfl⟩ : ∃ f', fu = f' + 1 := ⟨fu - 1, by omega⟩
          refine br_f (nI_ge (by omega) (by omega)) ⟨vp_in_nI n12 (by decide), ?_⟩
          rw [nI_clamp (n := n) (by omega), e1.trans epc, qb_ix3, nI_clamp (n := qp_lf g n * 144 + j * 6 + pc) (by omega), hc.2 j pc (by omega) hpc, ← atp]
          refine ⟨vp_in_nI (by omega) (by decide), br_c (fun z => nm_r (nI_1 j) ?_) (fun z => nm_r (nI_1 j) (ih2 (j + 1) b fu (by omega) (by omega) ⟨fun h e he => ?_, fun h => hb.2 (fun e he => h e (by omega))⟩))⟩
          · exact ih2 (j + 1) false fu (by omega) (by omega) ⟨fun h => absurd h (by decide), fun h => absurd z (h j (by omega))⟩
          · by_cases ee : e = j
            · rw [ee]; exact z
            · exact hb.1 h e (by omega)
      exact I i 0 true (i + 1) (by omega) (by omega) ⟨fun _ e he => absurd he (Nat.not_lt_zero _), fun _ => rfl⟩
  exact L A.length 0 a_val a_count _ (by omega) (by omega) (by rw [List.take_zero]; exact qy_nil h0) qy_fr_rfl
end
end
section
/-! sorting: insertion against places -/
theorem qs_bef {d a b : Int32} : qp_bef d a b = true ↔ (if d = 1 then b.toInt < a.toInt else a.toInt < b.toInt) := by
  unfold qp_bef
  by_cases h : d = 1
  · rw [if_pos h, if_pos h, decide_eq_true_iff, Int32.le_iff_toInt_le]; omega
  · rw [if_neg h, if_neg h, decide_eq_true_iff, Int32.le_iff_toInt_le]; omega
theorem qs_irr {d a b : Int32} (h : qp_bef d a b = true) : a ≠ b := by
  rw [qs_bef] at h
  intro e
  subst e
  split at h <;> omega
theorem qs_asym {d a b : Int32} (h : qp_bef d a b = true) : ¬ qp_bef d b a = true := by
  rw [qs_bef] at h ⊢
  by_cases e : d = 1
  · rw [if_pos e] at h ⊢; omega
  · rw [if_neg e] at h ⊢; omega
/-- a before b, b not after c -/
theorem qs_tr {d a b c : Int32} (h : qp_bef d a b = true) (h' : ¬ qp_bef d c b = true) : qp_bef d a c = true := by
  rw [qs_bef] at h h' ⊢
  by_cases e : d = 1
  · rw [if_pos e] at h h' ⊢; omega
  · rw [if_neg e] at h h' ⊢; omega
theorem qs_tri {d a b : Int32} (h : ¬ qp_bef d a b = true) (h' : ¬ qp_bef d b a = true) : a = b := by
  rw [qs_bef] at h h'
  apply Int32.toInt_inj.1
  by_cases e : d = 1
  · rw [if_pos e] at h h'; omega
  · rw [if_neg e] at h h'; omega
theorem qs_ash {d a b c : Int32} (h : qp_bef d a c = true) (h' : ¬ qp_bef d a b = true) : qp_bef d b c = true := by
  rw [qs_bef] at h h' ⊢
  by_cases e : d = 1
  · rw [if_pos e] at h h' ⊢; omega
  · rw [if_neg e] at h h' ⊢; omega
def qs_so (d col : Int32) (T : qp_W) : Prop := T.Pairwise (fun y z => ¬ qp_bef d (qp_at z col) (qp_at y col) = true)
def qs_eq (col v : Int32) (T : qp_W) : qp_W := T.filter (fun y => decide (qp_at y col = v))
def qs_lo (d col v : Int32) (T : qp_W) : qp_W := T.filter (fun y => qp_bef d (qp_at y col) v)
theorem qs_ins_mem {d col key : Int32} {x z : qp_R} : ∀ T : qp_W, z ∈ qp_ins d col key x T → z = x ∨ z ∈ T := by
  intro T
  induction T with
  | nil => intro h; exact Or.inl (List.mem_singleton.1 h)
  | cons y ys ih =>
    intro h
    unfold qp_ins at h
    split at h
    · exact List.mem_cons.1 h
    · rcases List.mem_cons.1 h with e | e
      · exact Or.inr (by rw [e]; exact List.mem_cons_self ..)
      · rcases ih e with e | e
        · exact Or.inl e
        · exact Or.inr (List.mem_cons_of_mem _ e)
theorem qs_ins_so {d col : Int32} {x : qp_R} : ∀ T : qp_W, qs_so d col T → qs_so d col (qp_ins d col (qp_at x col) x T) := by
  intro T
  induction T with
  | nil => intro _; exact List.pairwise_singleton ..
  | cons y ys ih =>
    intro h
    unfold qs_so at h ih ⊢
    rw [List.pairwise_cons] at h
    unfold qp_ins
    by_cases c : (y :: ys).all (fun z => qp_bef d (qp_at x col) (qp_at z col)) = true
    · rw [if_pos c, List.pairwise_cons]
      rw [List.all_eq_true] at c
      exact ⟨fun z hz => qs_asym (c z hz), List.pairwise_cons.2 h⟩
    · rw [if_neg c, List.pairwise_cons]
      refine ⟨fun z hz => ?_, ih h.2⟩
      rcases qs_ins_mem ys hz with e | e
      · rw [e]
        intro hb
        apply c
        rw [List.all_eq_true]
        intro w hw
        rcases List.mem_cons.1 hw with e2 | e2
        · rw [e2]; exact hb
        · exact qs_tr hb (h.1 w e2)
      · exact h.1 z e
theorem qs_ins_eq {d col v : Int32} {x : qp_R} : ∀ T : qp_W, qs_eq col v (qp_ins d col (qp_at x col) x T) = qs_eq col v T ++ (if qp_at x col = v then [x] else []) := by
  intro T
  induction T with
  | nil =>
    show qs_eq col v [x] = _
    unfold qs_eq
    by_cases e : qp_at x col = v
    · rw [if_pos e, List.filter_cons_of_pos (by exact decide_eq_true e)]; rfl
    · rw [if_neg e, List.filter_cons_of_neg (by exact fun z => e (of_decide_eq_true z))]; rfl
  | cons y ys ih =>
    unfold qp_ins
    by_cases c : (y :: ys).all (fun z => qp_bef d (qp_at x col) (qp_at z col)) = true
    · rw [if_pos c]
      rw [List.all_eq_true] at c
      by_cases e : qp_at x col = v
      · have hnil : qs_eq col v (y :: ys) = [] := by
          unfold qs_eq
          rw [List.filter_eq_nil_iff]
          intro z hz hz2
          exact qs_irr (c z hz) (e.trans (of_decide_eq_true hz2).symm)
        rw [if_pos e, hnil]
        show List.filter _ (x :: y :: ys) = _
        rw [List.filter_cons_of_pos (by exact decide_eq_true e)]
        have : List.filter (fun y => decide (qp_at y col = v)) (y :: ys) = [] := hnil
        rw [this]; rfl
      · rw [if_neg e, List.append_nil]
        show List.filter _ (x :: y :: ys) = _
        rw [List.filter_cons_of_neg (by exact fun z => e (of_decide_eq_true z))]; rfl
    · rw [if_neg c]
      unfold qs_eq at ih ⊢
      by_cases e2 : qp_at y col = v
      · rw [List.filter_cons_of_pos (by exact decide_eq_true e2), List.filter_cons_of_pos (by exact decide_eq_true e2), ih]; rfl
      · rw [List.filter_cons_of_neg (by exact fun z => e2 (of_decide_eq_true z)), List.filter_cons_of_neg (by exact fun z => e2 (of_decide_eq_true z)), ih]
theorem qs_ins_lo {d col v key : Int32} {x : qp_R} : ∀ T : qp_W, (qs_lo d col v (qp_ins d col key x T)).length = (qs_lo d col v T).length + (if qp_bef d (qp_at x col) v = true then 1 else 0) := by
  intro T
  have one : ∀ L : qp_W, (qs_lo d col v (x :: L)).length = (qs_lo d col v L).length + (if qp_bef d (qp_at x col) v = true then 1 else 0) := by
    intro L
    unfold qs_lo
    by_cases e : qp_bef d (qp_at x col) v = true
    · rw [if_pos e, List.filter_cons_of_pos (by exact e)]; rfl
    · rw [if_neg e, List.filter_cons_of_neg (by exact e)]; rfl
  induction T with
  | nil => exact one []
  | cons y ys ih =>
    unfold qp_ins
    by_cases c : (y :: ys).all (fun z => qp_bef d key (qp_at z col)) = true
    · rw [if_pos c]; exact one _
    · rw [if_neg c]
      unfold qs_lo at ih ⊢
      by_cases e : qp_bef d (qp_at y col) v = true
      · rw [List.filter_cons_of_pos (by exact e), List.filter_cons_of_pos (by exact e)]
        simp only [List.length_cons]
        omega
      · rw [List.filter_cons_of_neg (by exact e), List.filter_cons_of_neg (by exact e)]
        exact ih
/-- in ordered rows those with key v stand behind those before v -/
theorem qs_seg {d col v : Int32} : ∀ T : qp_W, qs_so d col T → ∃ R, T = qs_lo d col v T ++ (qs_eq col v T ++ R) := by
  intro T
  induction T with
  | nil => intro _; exact ⟨[], rfl⟩
  | cons y ys ih =>
    intro h
    unfold qs_so at h
    rw [List.pairwise_cons] at h
    obtain ⟨R, hR⟩ := ih h.2
    by_cases e : qp_bef d (qp_at y col) v = true
    · refine ⟨R, ?_⟩
      unfold qs_lo qs_eq at hR ⊢
      rw [List.filter_cons_of_pos (by exact e), List.filter_cons_of_neg (by exact fun z => qs_irr e (of_decide_eq_true z))]
      exact congrArg (y :: ·) hR
    · have lo : qs_lo d col v (y :: ys) = [] := by
        unfold qs_lo
        rw [List.filter_eq_nil_iff]
        intro z hz hb
        rcases List.mem_cons.1 hz with e2 | e2
        · rw [e2] at hb; exact e hb
        · exact e (qs_ash hb (h.1 z e2))
      by_cases e3 : qp_at y col = v
      · refine ⟨R, ?_⟩
        have lo2 : qs_lo d col v ys = [] := by
          have : qs_lo d col v (y :: ys) = qs_lo d col v ys := by
            unfold qs_lo; rw [List.filter_cons_of_neg (by exact e)]
          rw [← this]; exact lo
        rw [lo2] at hR
        rw [lo]
        unfold qs_eq at hR ⊢
        rw [List.filter_cons_of_pos (by exact decide_eq_true e3)]
        exact congrArg (y :: ·) hR
      · refine ⟨y :: ys, ?_⟩
        have eq0 : qs_eq col v (y :: ys) = [] := by
          unfold qs_eq
          rw [List.filter_eq_nil_iff]
          intro z hz hz2
          have zv := of_decide_eq_true hz2
          rcases List.mem_cons.1 hz with e2 | e2
          · rw [e2] at zv; exact e3 zv
          · have h1 := h.1 z e2
            rw [zv] at h1
            exact e3 (qs_tri e h1)
        rw [lo, eq0]; rfl
/-- the place of row i among the first j rows -/
def qs_pl (d col : Int32) (A : qp_W) (i : Nat) : Nat → Nat
  | 0 => 0
  | j + 1 => qs_pl d col A i j + (if qp_bef d (qp_at (A.getD j []) col) (qp_at (A.getD i []) col) = true ∨ (qp_at (A.getD j []) col = qp_at (A.getD i []) col ∧ j < i) then 1 else 0)
theorem qs_pl_eq {d col : Int32} {A : qp_W} {i : Nat} : ∀ j, j ≤ A.length → qs_pl d col A i j = (qs_lo d col (qp_at (A.getD i []) col) (A.take j)).length + (qs_eq col (qp_at (A.getD i []) col) (A.take (min i j))).length := by
  intro j
  induction j with
  | zero => intro _; rw [Nat.min_zero, List.take_zero]; rfl
  | succ j ih =>
    intro hj
    have hj' : j < A.length := by omega
    have h := ih (by omega)
    show qs_pl d col A i j + _ = _
    rw [h, qp_take_s hj']
    generalize hv : qp_at (A.getD i []) col = v
    have lo : (qs_lo d col v (A.take j ++ [A.getD j []])).length = (qs_lo d col v (A.take j)).length + (if qp_bef d (qp_at (A.getD j []) col) v = true then 1 else 0) := by
      unfold qs_lo
      rw [List.filter_append, List.length_append]
      congr 1
      by_cases e : qp_bef d (qp_at (A.getD j []) col) v = true
      · rw [if_pos e, List.filter_cons_of_pos (by exact e)]; rfl
      · rw [if_neg e, List.filter_cons_of_neg (by exact e)]; rfl
    rw [lo]
    by_cases hji : j < i
    · rw [show min i (j + 1) = j + 1 by omega, show min i j = j by omega, qp_take_s hj']
      have eq : (qs_eq col v (A.take j ++ [A.getD j []])).length = (qs_eq col v (A.take j)).length + (if qp_at (A.getD j []) col = v then 1 else 0) := by
        unfold qs_eq
        rw [List.filter_append, List.length_append]
        congr 1
        by_cases e : qp_at (A.getD j []) col = v
        · rw [if_pos e, List.filter_cons_of_pos (by exact decide_eq_true e)]; rfl
        · rw [if_neg e, List.filter_cons_of_neg (by exact fun z => e (of_decide_eq_true z))]; rfl
      rw [eq]
      by_cases b : qp_bef d (qp_at (A.getD j []) col) v = true
      · rw [if_pos (Or.inl b), if_pos b, if_neg (qs_irr b)]; omega
      · by_cases e : qp_at (A.getD j []) col = v
        · rw [if_pos (Or.inr ⟨e, hji⟩), if_neg b, if_pos e]; omega
        · rw [if_neg (fun z => z.elim b (fun y => e y.1)), if_neg b, if_neg e]; omega
    · rw [show min i (j + 1) = i by omega, show min i j = i by omega]
      by_cases b : qp_bef d (qp_at (A.getD j []) col) v = true
      · rw [if_pos (Or.inl b), if_pos b]; omega
      · rw [if_neg (fun z => z.elim b (fun y => hji y.2)), if_neg b]; omega
section
variable {d col : Int32} {A : qp_W}
/-- insertion of all rows -/
def qs_all (d col : Int32) (A : qp_W) : qp_W := A.foldl (fun T x => qp_ins d col (qp_at x col) x T) []
theorem qs_all_s {i : Nat} (h : i < A.length) : qs_all d col (A.take (i + 1)) = qp_ins d col (qp_at (A.getD i []) col) (A.getD i []) (qs_all d col (A.take i)) := by
  rw [qp_take_s h]; unfold qs_all; rw [List.foldl_append]; rfl
theorem qs_all_f : ∀ i, i ≤ A.length → qs_so d col (qs_all d col (A.take i)) ∧ (∀ v, qs_eq col v (qs_all d col (A.take i)) = qs_eq col v (A.take i)) ∧ (∀ v, (qs_lo d col v (qs_all d col (A.take i))).length = (qs_lo d col v (A.take i)).length) ∧ (qs_all d col (A.take i)).length = i := by
  intro i
  induction i with
  | zero => intro _; rw [List.take_zero]; exact ⟨List.Pairwise.nil, fun _ => rfl, fun _ => rfl, rfl⟩
  | succ i ih =>
    intro hi
    have hi' : i < A.length := by omega
    obtain ⟨h1, h2, h3, h4⟩ := ih (by omega)
    rw [qs_all_s hi']
    refine ⟨qs_ins_so _ h1, fun v => ?_, fun v => ?_, ?_⟩
    · rw [qs_ins_eq, h2 v, qp_take_s hi']
      unfold qs_eq
      rw [List.filter_append]
      congr 1
      by_cases e : qp_at (A.getD i []) col = v
      · rw [if_pos e, List.filter_cons_of_pos (by exact decide_eq_true e)]; rfl
      · rw [if_neg e, List.filter_cons_of_neg (by exact fun z => e (of_decide_eq_true z))]; rfl
    · rw [qs_ins_lo, h3 v, qp_take_s hi']
      unfold qs_lo
      rw [List.filter_append, List.length_append]
      congr 1
      by_cases e : qp_bef d (qp_at (A.getD i []) col) v = true
      · rw [if_pos e, List.filter_cons_of_pos (by exact e)]; rfl
      · rw [if_neg e, List.filter_cons_of_neg (by exact e)]; rfl
    · rw [qp_ins_len, h4]
theorem qs_eq_s {v : Int32} {i : Nat} (h : i < A.length) (e : qp_at (A.getD i []) col = v) : qs_eq col v (A.take (i + 1)) = qs_eq col v (A.take i) ++ [A.getD i []] := by
  rw [qp_take_s h]
  unfold qs_eq
  rw [List.filter_append, List.filter_cons_of_pos (by exact decide_eq_true e)]; rfl
theorem qs_eq_pre {v : Int32} {i : Nat} : ∃ R, qs_eq col v A = qs_eq col v (A.take i) ++ R := by
  refine ⟨qs_eq col v (A.drop i), ?_⟩
  have h : qs_eq col v (A.take i ++ A.drop i) = qs_eq col v (A.take i) ++ qs_eq col v (A.drop i) := List.filter_append ..
  rw [List.take_append_drop] at h; exact h
/-- row i stands at its place -/
theorem qs_at {i : Nat} (hi : i < A.length) : qs_pl d col A i A.length < A.length ∧ (qs_all d col A).getD (qs_pl d col A i A.length) [] = A.getD i [] := by
  obtain ⟨h1, h2, h3, h4⟩ := qs_all_f (d := d) (col := col) (A := A) A.length (Nat.le_refl _)
  rw [qp_take_all] at h1 h2 h3 h4
  have hp := qs_pl_eq (d := d) (col := col) (A := A) (i := i) A.length (Nat.le_refl _)
  rw [qp_take_all, show min i A.length = i by omega] at hp
  generalize hv : qp_at (A.getD i []) col = v at hp
  obtain ⟨R, hR⟩ := qs_seg (v := v) (qs_all d col A) h1
  obtain ⟨S, hS⟩ := qs_eq_pre (col := col) (A := A) (v := v) (i := i + 1)
  rw [qs_eq_s hi hv] at hS
  rw [h2 v, hS, List.append_assoc, List.append_assoc] at hR
  have e : (qs_all d col A).getD (qs_pl d col A i A.length) [] = A.getD i [] := by
    rw [hp, ← h3 v]
    have : ∀ (X Y Z : qp_W) (x : qp_R), (X ++ (Y ++ ([x] ++ Z))).getD (X.length + Y.length) [] = x := by
      intro X Y Z x
      rw [List.getD_eq_getElem?_getD, List.getElem?_append_right (by omega), Nat.add_sub_cancel_left, List.getElem?_append_right (Nat.le_refl _), Nat.sub_self]; rfl
    have h5 := this (qs_lo d col v (qs_all d col A)) (qs_eq col v (A.take i)) (S ++ R) (A.getD i [])
    rw [← hR] at h5
    exact h5
  refine ⟨?_, e⟩
  have hl := congrArg List.length hR
  rw [List.length_append, List.length_append, List.length_append, h4, h3 v] at hl
  rw [hp]
  have : ([A.getD i []] : qp_W).length = 1 := rfl
  omega
theorem qs_inj {i i' : Nat} (hi : i < A.length) (hi' : i' < A.length) (h : qs_pl d col A i A.length = qs_pl d col A i' A.length) : i = i' := by
  have e1 := (qs_at (d := d) (col := col) hi).2
  have e2 := (qs_at (d := d) (col := col) hi').2
  rw [h, e2] at e1
  have p1 := qs_pl_eq (d := d) (col := col) (A := A) (i := i) A.length (Nat.le_refl _)
  have p2 := qs_pl_eq (d := d) (col := col) (A := A) (i := i') A.length (Nat.le_refl _)
  rw [qp_take_all, show min i A.length = i by omega] at p1
  rw [qp_take_all, show min i' A.length = i' by omega, e1] at p2
  have lt : ∀ a b, a < b → b < A.length → qp_at (A.getD a []) col = qp_at (A.getD i []) col → (qs_eq col (qp_at (A.getD i []) col) (A.take a)).length < (qs_eq col (qp_at (A.getD i []) col) (A.take b)).length := by
    intro a b hab hb hk
    obtain ⟨R, hR⟩ := qs_eq_pre (col := col) (A := A.take b) (v := qp_at (A.getD i []) col) (i := a + 1)
    rw [List.take_take, show min (a + 1) b = a + 1 by omega, qs_eq_s (by omega) hk] at hR
    rw [hR, List.length_append, List.length_append]
    show _ < _ + 1 + _
    omega
  rcases Nat.lt_trichotomy i i' with c | c | c
  · have := lt i i' c hi' rfl; omega
  · exact c
  · have := lt i' i c hi (by rw [e1]); omega
theorem qs_surj {k : Nat} (hk : k < A.length) : ∃ i, i < A.length ∧ qs_pl d col A i A.length = k := by
  apply Classical.byContradiction
  intro hn
  have nd : ((List.range A.length).map (fun i => qs_pl d col A i A.length)).Nodup := by
    have : ∀ m, m ≤ A.length → ((List.range m).map (fun i => qs_pl d col A i A.length)).Nodup := by
      intro m
      induction m with
      | zero => intro _; exact List.nodup_nil
      | succ m ih =>
        intro hm
        rw [List.range_succ, List.map_append]
        refine qc_nodup_app (ih (by omega)) (List.nodup_cons.2 ⟨List.not_mem_nil, List.nodup_nil⟩) (fun x h1 h2 => ?_)
        obtain ⟨a, ha, ea⟩ := List.mem_map.1 h1
        rw [List.mem_range] at ha
        rw [List.map_cons, List.map_nil, List.mem_singleton] at h2
        have := qs_inj (d := d) (col := col) (show a < A.length by omega) (show m < A.length by omega) (ea.trans h2)
        omega
    exact this _ (Nat.le_refl _)
  have nd2 : (k :: (List.range A.length).map (fun i => qs_pl d col A i A.length)).Nodup := List.nodup_cons.2 ⟨fun h => by
    obtain ⟨a, ha, ea⟩ := List.mem_map.1 h
    rw [List.mem_range] at ha
    exact hn ⟨a, ha, ea⟩, nd⟩
  have := qb_nodup_lt nd2 (n := A.length) (fun x hx => by
    rcases List.mem_cons.1 hx with e | e
    · omega
    · obtain ⟨a, ha, ea⟩ := List.mem_map.1 e
      rw [List.mem_range] at ha
      rw [← ea]; exact (qs_at ha).1)
  rw [List.length_cons, List.length_map, List.length_range] at this
  omega
end
end
section
/-! the reference's place and sort; the widths of rows -/
theorem qs_snk {g : qp_PL} {n : Nat} (hk : qp_kd g n = 10) (hn : n ≠ 12) (A : qp_W) : A.foldl (qp_snk g n) [] = qs_all (qp_q g n) (qp_p g n) A := by
  unfold qs_all
  have : qp_snk g n = fun T x => qp_ins (qp_q g n) (qp_p g n) (qp_at x (qp_p g n)) x T := by
    funext T x
    unfold qp_snk
    rw [if_neg hn, if_neg (by omega), if_pos hk]
  rw [this]
section
variable {f_tables f_nodes f_resRows f_resWidth : Int32} {a_tab a_tabRows a_tabWidth a_form a_left a_right a_p1 a_p2 a_p3 a_wide a_used a_bound a_count a_val a_res : Nat → Int32}
variable {g : qp_PL} {pa : Nat → Nat} {N n : Nat}
theorem qy_place {post : Int32 → Prop} (hpl : qy_pl g n a_tab a_tabRows a_form a_left a_right a_p1 a_p2 a_p3 a_wide) (hok : ∀ m, m < N → qp_ok g pa m) (hN : N ≤ 12) (hn : n < N) (hk : qp_kd g n = 10) {A : qp_W} {i : Nat} (hA : A.length ≤ 24) (hi : i < A.length) (hrep : qy_rep a_val a_count (qp_lf g n) A (qp_wd g (qp_lf g n)))
    (K : post (nI (qs_pl (qp_q g n) (qp_p g n) A i A.length))) : wpY_place post (f_tables, f_nodes, f_resRows, f_resWidth, a_tab, a_tabRows, a_tabWidth, a_form, a_left, a_right, a_p1, a_p2, a_p3, a_wide, a_used, a_bound, a_count, a_val, a_res) (nI n) (nI i) := by
  have n12 : n < 12 := by omega
  obtain ⟨hl, _⟩ := (hok n hn).2.2.2.1 (by omega)
  have w6 := (hok _ (show qp_lf g n < N by omega)).2.2.1
  obtain ⟨e1, e2, e3⟩ := hpl.2.2.2.2.2.1 (by omega) (by omega) (by omega)
  obtain ⟨⟨pc, hpc, epc⟩, _, _⟩ := (hok n hn).2.2.2.2.2.2.2.2.2.2.2.2.2.2.2 hk
  have atp : ∀ y : qp_R, qp_at y (qp_p g n) = y.getD pc 0 := fun y => by unfold qp_at; rw [epc, nI_clamp (by omega)]
  have ple : ∀ j, qs_pl (qp_q g n) (qp_p g n) A i j ≤ j := by
    intro j
    induction j with
    | zero => exact Nat.le_refl _
    | succ j ih =>
      show qs_pl (qp_q g n) (qp_p g n) A i j + _ ≤ j + 1
      split <;> omega
  refine ⟨vp_in_nI n12 (by decide), ?_⟩
  rw [nI_clamp (n := n) (by omega)]
  refine nm_r (hpl.2.2.1 (by omega)) ⟨vp_in_nI n12 (by decide), ?_⟩
  rw [e1.trans epc]
  refine qy_get (by omega) (by omega) (by omega) ⟨A.length + 1, ?_⟩
  rw [hrep.2 i pc hi hpc, ← atp]
  have L : ∀ (d j fuel : Nat), j + d = A.length → d < fuel → wY_place_27 post (nI n) (nI i) (nI (qp_lf g n)) (qp_at (A.getD i []) (qp_p g n)) f_tables f_nodes f_resRows f_resWidth a_tab a_tabRows a_tabWidth a_form a_left a_right a_p1 a_p2 a_p3 a_wide a_used a_bound a_count a_val a_res fuel (nI (qs_pl (qp_q g n) (qp_p g n) A i j)) (nI j) := by
    intro d
    induction d with
    | zero =>
      intro j fuel hj hf'
      obtain ⟨f, rfl⟩ : ∃ f', fuel = f' + 1 := ⟨fuel - 1, by omega⟩
      have hj' : j = A.length := by omega
      subst hj'
      refine ⟨vp_in_nI (by omega) (by decide), ?_⟩
      rw [nI_clamp (n := qp_lf g n) (by omega), hrep.1]
      exact br_t (nI_le (Nat.le_refl _) (by omega)) K
    | succ d ih =>
      intro j fuel hj hf'
      obtain ⟨f, rfl⟩ : ∃ f', fuel = f' + 1 := ⟨fuel - 1, by omega⟩
      have hj' : j < A.length := by omega
      have nx := ih (j + 1) f (by omega) (by omega)
      have es : qs_pl (qp_q g n) (qp_p g n) A i (j + 1) = qs_pl (qp_q g n) (qp_p g n) A i j + (if qp_bef (qp_q g n) (qp_at (A.getD j []) (qp_p g n)) (qp_at (A.getD i []) (qp_p g n)) = true ∨ (qp_at (A.getD j []) (qp_p g n) = qp_at (A.getD i []) (qp_p g n) ∧ j < i) then 1 else 0) := rfl
      rw [es] at nx
      have pj := ple j
      refine ⟨vp_in_nI (by omega) (by decide), ?_⟩
      rw [nI_clamp (n := qp_lf g n) (by omega), hrep.1]
      refine br_f (nI_ge hj' (by omega)) ⟨vp_in_nI n12 (by decide), ?_⟩
      rw [nI_clamp (n := n) (by omega), e1.trans epc, e2, qb_ix3, nI_clamp (n := qp_lf g n * 144 + j * 6 + pc) (by omega), hrep.2 j pc hj' hpc, ← atp]
      generalize hwj : qp_at (A.getD j []) (qp_p g n) = wj at nx ⊢
      generalize hvi : qp_at (A.getD i []) (qp_p g n) = vi at nx ⊢
      -- the two endings
      have E0 : ¬ qp_bef (qp_q g n) wj vi = true → wY_place_100 post (wY_place_27 post (nI n) (nI i) (nI (qp_lf g n)) vi f_tables f_nodes f_resRows f_resWidth a_tab a_tabRows a_tabWidth a_form a_left a_right a_p1 a_p2 a_p3 a_wide a_used a_bound a_count a_val a_res f) (nI n) (nI i) (nI (qp_lf g n)) vi (nI (qs_pl (qp_q g n) (qp_p g n) A i j)) (nI j) wj 0 f_tables f_nodes f_resRows f_resWidth a_tab a_tabRows a_tabWidth a_form a_left a_right a_p1 a_p2 a_p3 a_wide a_used a_bound a_count a_val a_res := by
        intro hb
        refine br_t rfl (br_c (fun z => ?_) (fun z => nm_r (nI_1 j) ?_))
        · refine pk_le i j (fun h => nm_r (nI_1 j) ?_) (fun h => nm_r (nI_1 _) (nm_r (nI_1 j) ?_))
          · rw [if_neg (fun y => y.elim hb (fun y => by omega))] at nx
            exact nx
          · rw [if_pos (Or.inr ⟨z, h⟩)] at nx
            exact nx
        · rw [if_neg (fun y => y.elim hb (fun y => z y.1))] at nx
          exact nx
      have E1 : qp_bef (qp_q g n) wj vi = true → wY_place_100 post (wY_place_27 post (nI n) (nI i) (nI (qp_lf g n)) vi f_tables f_nodes f_resRows f_resWidth a_tab a_tabRows a_tabWidth a_form a_left a_right a_p1 a_p2 a_p3 a_wide a_used a_bound a_count a_val a_res f) (nI n) (nI i) (nI (qp_lf g n)) vi (nI (qs_pl (qp_q g n) (qp_p g n) A i j)) (nI j) wj 1 f_tables f_nodes f_resRows f_resWidth a_tab a_tabRows a_tabWidth a_form a_left a_right a_p1 a_p2 a_p3 a_wide a_used a_bound a_count a_val a_res := by
        intro hb
        rw [if_pos (Or.inl hb)] at nx
        exact br_f (by decide) (nm_r (nI_1 _) (nm_r (nI_1 j) nx))
      refine ⟨vp_in_nI (by omega) (by decide), nm_e ⟨vp_in_nI n12 (by decide), ?_⟩⟩
      unfold qp_bef at E0 E1
      by_cases hd : qp_q g n = 1
      · rw [if_pos hd] at E0 E1
        exact br_t hd (br_c (fun y => E0 (fun z => of_decide_eq_true z y)) (fun y => E1 (decide_eq_true y)))
      · rw [if_neg hd] at E0 E1
        exact br_f hd (br_c (fun y => E0 (fun z => of_decide_eq_true z y)) (fun y => E1 (decide_eq_true y)))
  exact L A.length 0 _ (by omega) (by omega)
theorem qy_sort {post : SY → Prop} (hpl : qy_pl g n a_tab a_tabRows a_form a_left a_right a_p1 a_p2 a_p3 a_wide) (hwl : a_wide (qp_lf g n) = nI (qp_wd g (qp_lf g n))) (hok : ∀ m, m < N → qp_ok g pa m) (hN : N ≤ 12) (hn : n < N) (hk : qp_kd g n = 10) {A : qp_W} (hA : A.length ≤ 24) (hrow : ∀ y ∈ A, y.length = qp_wd g (qp_lf g n)) (hrep : qy_rep a_val a_count (qp_lf g n) A (qp_wd g (qp_lf g n))) (h0 : a_count n = 0)
    (K : ∀ val cnt : Nat → Int32, qy_rep val cnt n (A.foldl (qp_snk g n) []) (qp_wd g n) → qy_fr n a_val a_count val cnt → post (f_tables, f_nodes, f_resRows, f_resWidth, a_tab, a_tabRows, a_tabWidth, a_form, a_left, a_right, a_p1, a_p2, a_p3, a_wide, a_used, a_bound, cnt, val, a_res)) : wpY_sortList post (f_tables, f_nodes, f_resRows, f_resWidth, a_tab, a_tabRows, a_tabWidth, a_form, a_left, a_right, a_p1, a_p2, a_p3, a_wide, a_used, a_bound, a_count, a_val, a_res) (nI n) := by
  have n12 : n < 12 := by omega
  obtain ⟨hl, _⟩ := (hok n hn).2.2.2.1 (by omega)
  have w6 := (hok _ (show qp_lf g n < N by omega)).2.2.1
  have hw := ((hok n hn).2.2.2.2.2.2.2.2.2.2.2.2.2.2.2 hk).2.2
  rw [qs_snk hk (by omega)] at K
  have hlen : (qs_all (qp_q g n) (qp_p g n) A).length = A.length := by
    have := (qs_all_f (d := qp_q g n) (col := qp_p g n) (A := A) A.length (Nat.le_refl _)).2.2.2
    rwa [qp_take_all] at this
  generalize hT : qs_all (qp_q g n) (qp_p g n) A = T at K hlen
  have hat : ∀ i, i < A.length → qs_pl (qp_q g n) (qp_p g n) A i A.length < A.length ∧ T.getD (qs_pl (qp_q g n) (qp_p g n) A i A.length) [] = A.getD i [] := fun i hi => by rw [← hT]; exact qs_at hi
  refine ⟨vp_in_nI n12 (by decide), ?_⟩
  rw [nI_clamp (n := n) (by omega)]
  refine nm_r (hpl.2.2.1 (by omega)) ⟨A.length + 1, ?_⟩
  have L : ∀ (d k : Nat) (val cnt : Nat → Int32) (fuel : Nat), k + d = A.length → d < fuel → qy_rep val cnt n (T.take k) (qp_wd g n) → qy_fr n a_val a_count val cnt → wY_sortList_9 post (nI n) (nI (qp_lf g n)) fuel (nI k) f_tables f_nodes f_resRows f_resWidth a_tab a_tabRows a_tabWidth a_form a_left a_right a_p1 a_p2 a_p3 a_wide a_used a_bound cnt val a_res := by
    intro d
    induction d with
    | zero =>
      intro k val cnt fuel hi hf hr hfr
      obtain ⟨f, rfl⟩ : ∃ f', fuel = f' + 1 := ⟨fuel - 1, by omega⟩
      have hi' : k = A.length := by omega
      subst hi'
      rw [← hlen, qp_take_all] at hr
      have hc := qy_rep_fr hfr (show qp_lf g n ≠ n by omega) hA w6 hrep
      refine ⟨vp_in_nI (by omega) (by decide), ?_⟩
      rw [nI_clamp (n := qp_lf g n) (by omega), hc.1]
      exact br_t (nI_le (Nat.le_refl _) (by omega)) (K val cnt hr hfr)
    | succ d ih =>
      intro k val cnt fuel hi hf hr hfr
      obtain ⟨f, rfl⟩ : ∃ f', fuel = f' + 1 := ⟨fuel - 1, by omega⟩
      have hk' : k < A.length := by omega
      have hc := qy_rep_fr hfr (show qp_lf g n ≠ n by omega) hA w6 hrep
      refine ⟨vp_in_nI (by omega) (by decide), ?_⟩
      rw [nI_clamp (n := qp_lf g n) (by omega), hc.1]
      refine br_f (nI_ge hk' (by omega)) ⟨A.length + 1, ?_⟩
      have I : ∀ (d2 i : Nat) (val' cnt' : Nat → Int32) (fu : Nat), i + d2 = A.length → d2 < fu → qy_fr n val cnt val' cnt' →
          ((∀ j, j < i → qs_pl (qp_q g n) (qp_p g n) A j A.length ≠ k) → qy_rep val' cnt' n (T.take k) (qp_wd g n)) → (¬ (∀ j, j < i → qs_pl (qp_q g n) (qp_p g n) A j A.length ≠ k) → qy_rep val' cnt' n (T.take (k + 1)) (qp_wd g n)) →
          wY_sortList_22 post (wY_sortList_9 post (nI n) (nI (qp_lf g n)) f) (nI n) (nI (qp_lf g n)) (nI k) fu (nI i) f_tables f_nodes f_resRows f_resWidth a_tab a_tabRows a_tabWidth a_form a_left a_right a_p1 a_p2 a_p3 a_wide a_used a_bound cnt' val' a_res := by
        intro d2
        induction d2 with
        | zero =>
          intro i val' cnt' fu hi2 hf' hfr' h1 h2
          obtain ⟨fu, rfl⟩ : ∃ f', fu = f' + 1 := ⟨fu - 1, by omega⟩
          have hi' : i = A.length := by omega
          subst hi'
          have hc' := qy_rep_fr (qy_fr_trans hfr hfr') (show qp_lf g n ≠ n by omega) hA w6 hrep
          have hyes : ¬ (∀ j, j < A.length → qs_pl (qp_q g n) (qp_p g n) A j A.length ≠ k) := fun z => by
            obtain ⟨j, hj, ej⟩ := qs_surj (d := qp_q g n) (col := qp_p g n) hk'
            exact z j hj ej
          refine ⟨vp_in_nI (by omega) (by decide), ?_⟩
          rw [nI_clamp (n := qp_lf g n) (by omega), hc'.1]
          exact br_t (nI_le (Nat.le_refl _) (by omega)) (nm_r (nI_1 k) (ih (k + 1) val' cnt' f (by omega) (by omega) (h2 hyes) (qy_fr_trans hfr hfr')))
        | succ d2 ih2 =>
          intro i val' cnt' fu hi2 hf' hfr' h1 h2
          obtain ⟨fu, rfl⟩ : ∃ f', fu = f' + 1 := ⟨fu - 1, by omega⟩
          have hi' : i < A.length := by omega
          have hc' := qy_rep_fr (qy_fr_trans hfr hfr') (show qp_lf g n ≠ n by omega) hA w6 hrep
          obtain ⟨pl1, pl2⟩ := hat i hi'
          refine ⟨vp_in_nI (by omega) (by decide), ?_⟩
          rw [nI_clamp (n := qp_lf g n) (by omega), hc'.1]
          refine br_f (nI_ge hi' (by omega)) (qy_place hpl hok hN hn hk hA hi' hc' ?_)
          refine pk_eq (qs_pl (qp_q g n) (qp_p g n) A i A.length) k (fun z => ?_) (fun z => nm_r (nI_1 i) ?_)
          · have fresh : ∀ j, j < i → qs_pl (qp_q g n) (qp_p g n) A j A.length ≠ k := fun j hj e => by
              have := qs_inj (d := qp_q g n) (col := qp_p g n) (show j < A.length by omega) hi' (e.trans z.symm)
              omega
            have rD := h1 fresh
            have hxl := hrow _ (qm_getD_mem hi')
            have ll : (T.take k).length = k := by rw [List.length_take]; omega
            obtain ⟨a1, a2⟩ := qy_app (x := A.getD i []) (by omega) (hxl.trans hw.symm) (by omega) rD
            refine qy_copy n12 (by omega) (by omega) (by omega) (by omega) rD.1 hwl w6 hxl (fun c hc2 => hc'.2 i c hi' hc2) (nm_r (nI_1 i) ?_)
            refine ih2 (i + 1) _ _ fu (by omega) (by omega) (qy_fr_trans hfr' a2) (fun y => absurd z (y i (by omega))) (fun _ => ?_)
            have e : T.take (k + 1) = T.take k ++ [A.getD i []] := by
              rw [qp_take_s (by omega), ← pl2, z]
            rw [e]; exact a1
          · refine ih2 (i + 1) val' cnt' fu (by omega) (by omega) hfr' (fun y => h1 (fun j hj => y j (by omega))) (fun y => h2 (fun y2 => y (fun j hj => ?_)))
            by_cases ee : j = i
            · rw [ee]; exact z
            · exact y2 j (by omega)
      exact I A.length 0 val cnt _ (by omega) (by omega) qy_fr_rfl (fun _ => hr) (fun y => absurd (fun j hj => absurd hj (Nat.not_lt_zero _)) y)
  exact L A.length 0 a_val a_count _ (by omega) (by omega) (by rw [List.take_zero]; exact qy_nil h0) qy_fr_rfl
end
section
variable {g : qp_PL} {pa : Nat → Nat} {N : Nat}
theorem qp_fold_row {n w : Nat} {Sn : qp_W} {A : qp_W} {wl : Nat} (h : ∀ D x, x.length = wl → (∀ y ∈ D, y.length = w) → ∀ y ∈ qp_out g n Sn D x, y.length = w) (hA : ∀ y ∈ A, y.length = wl) : ∀ y ∈ qp_fold g n Sn A, y.length = w := by
  unfold qp_fold
  have : ∀ (A D : qp_W), (∀ y ∈ A, y.length = wl) → (∀ y ∈ D, y.length = w) → ∀ y ∈ A.foldl (fun D x => D ++ qp_out g n Sn D x) D, y.length = w := by
    intro A
    induction A with
    | nil => intro D _ hD; exact hD
    | cons x A ih =>
      intro D hA hD
      refine ih _ (fun y hy => hA y (List.mem_cons_of_mem _ hy)) (fun y hy => ?_)
      rcases List.mem_append.1 hy with e | e
      · exact hD y e
      · exact h D x (hA x (List.mem_cons_self ..)) hD y e
  exact this A [] hA (fun y hy => absurd hy (List.not_mem_nil))
theorem qp_row (hok : ∀ n, n < N → qp_ok g pa n) (hN : N ≤ 12) : ∀ n, n < N → ∀ y ∈ qp_V g n, y.length = qp_wd g n := by
  intro n
  induction n using Nat.strongRecOn with
  | ind n ih =>
    intro hn
    have hlow := qp_ok_low (hok n hn)
    have PR := (hok n hn).2.2.2.2.2
    by_cases h0 : qp_kd g n = 0
    · rw [qp_V_0 h0]; exact (PR.1 h0).2.2
    · have hl := ((hok n hn).2.2.2.1 h0).1
      have IL := ih _ hl (by omega)
      by_cases h6 : qp_kd g n = 6
      · have hr := ((hok n hn).2.2.2.2.1 (Or.inr h6)).1
        have IR := ih _ hr (by omega)
        obtain ⟨w1, w2⟩ := PR.2.2.2.2.2.2.1 h6
        rw [qp_V_6 hlow h6]
        intro y hy
        rcases List.mem_append.1 hy with e | e
        · rw [IL y e, w1]
        · rw [IR y e, w2, w1]
      · rcases qp_so_dec g n with hs | hs
        · have h7 : qp_kd g n = 7 ∨ qp_kd g n = 10 := hs.resolve_left h0
          rw [qp_V_s hlow h7]
          rcases h7 with z | z
          · have gm := qg_main z (show n ≠ 12 by omega) (qp_V g (qp_lf g n)) _ (Nat.le_refl _)
            rw [qp_take_all] at gm
            rw [gm]
            intro y hy
            obtain ⟨k, _, e⟩ := List.mem_map.1 hy
            rw [← e, (PR.2.2.2.2.2.2.2.1 z).2.2.2]; rfl
          · rw [qs_snk z (by omega)]
            have w := (PR.2.2.2.2.2.2.2.2.2.2 z).2.2
            have : ∀ (A T : qp_W), (∀ y ∈ A, y.length = qp_wd g n) → (∀ y ∈ T, y.length = qp_wd g n) → ∀ y ∈ A.foldl (fun T x => qp_ins (qp_q g n) (qp_p g n) (qp_at x (qp_p g n)) x T) T, y.length = qp_wd g n := by
              intro A
              induction A with
              | nil => intro T _ hT; exact hT
              | cons x A ihA =>
                intro T hA hT
                refine ihA _ (fun y hy => hA y (List.mem_cons_of_mem _ hy)) (fun y hy => ?_)
                rcases qs_ins_mem T hy with e | e
                · rw [e]; exact hA x (List.mem_cons_self ..)
                · exact hT y e
            exact this _ [] (fun y hy => by rw [IL y hy, w]) (fun y hy => absurd hy (List.not_mem_nil))
        · rw [qp_V_o hlow hs h6]
          refine qp_fold_row (wl := qp_wd g (qp_lf g n)) (fun D x hx hD y hy => ?_) IL
          rcases qm_op_kd hok hn hs with z | z | z | z | z | z | z | z
          · rw [qp_out1 z] at hy
            split at hy
            · rw [List.mem_singleton.1 hy, hx, (PR.2.1 z).2.2]
            · exact absurd hy (List.not_mem_nil)
          · rw [qp_out2 z] at hy
            split at hy
            · rw [List.mem_singleton.1 hy, hx, (PR.2.2.1 z).2.2.2]
            · exact absurd hy (List.not_mem_nil)
          · rw [qp_out3 z] at hy
            rw [List.mem_singleton.1 hy, List.length_append, hx, (PR.2.2.2.1 z).2.2.2]; rfl
          · rw [qp_out4 z] at hy
            rw [List.mem_singleton.1 hy]
            unfold qp_prj
            rw [List.length_map, List.length_range, qb_tn (by have := (hok n hn).2.2.1; omega) (PR.2.2.2.2.1 z).1]
          · rw [qp_out5 z] at hy
            have hr := ((hok n hn).2.2.2.2.1 (Or.inl z)).1
            have IR := ih _ hr (by omega)
            have p4 := (PR.2.2.2.2.2.1 z).2.2.2
            obtain ⟨a, ha, ea⟩ := (PR.2.2.2.2.2.1 z).1
            unfold qp_join at hy
            by_cases z1 : qp_p g n = 1
            · rw [if_pos z1] at hy
              rw [if_neg (by rw [z1]; decide)] at p4
              split at hy
              · exact absurd hy (List.not_mem_nil)
              · rw [List.mem_singleton.1 hy, hx, p4]
            · rw [if_neg z1] at hy
              by_cases z2 : qp_p g n = 2
              · rw [if_pos z2] at hy
                rw [if_neg (by rw [z2]; decide)] at p4
                split at hy
                · rw [List.mem_singleton.1 hy, hx, p4]
                · exact absurd hy (List.not_mem_nil)
              · rw [if_neg z2] at hy
                have yi : qp_p g n = 0 ∨ qp_p g n = 3 := by
                  rw [ea] at z1 z2 ⊢
                  match a, ha with
                  | 0, _ => exact Or.inl rfl
                  | 1, _ => exact absurd rfl z1
                  | 2, _ => exact absurd rfl z2
                  | 3, _ => exact Or.inr rfl
                rw [if_pos yi] at p4
                split at hy
                · rw [List.mem_singleton.1 hy, List.length_append, List.length_replicate, hx, p4]
                · obtain ⟨r, hr2, er⟩ := List.mem_map.1 hy
                  rw [← er, List.length_append, hx, IR r (List.mem_filter.1 hr2).1, p4]
          · exact absurd z h6
          · rw [qp_out8 z] at hy
            split at hy
            · exact absurd hy (List.not_mem_nil)
            · rw [List.mem_singleton.1 hy, hx, PR.2.2.2.2.2.2.2.2.1 z]
          · rw [qp_out9 z] at hy
            split at hy
            · rw [List.mem_singleton.1 hy, hx, (PR.2.2.2.2.2.2.2.2.2.1 z).2]
            · exact absurd hy (List.not_mem_nil)
end
end
section
/-! the reference's bounds, work and run -/
section
variable {f_tables f_nodes f_resRows f_resWidth : Int32} {a_tab a_tabRows a_tabWidth a_form a_left a_right a_p1 a_p2 a_p3 a_wide a_used a_bound a_count a_val a_res : Nat → Int32}
variable {g : qp_PL} {pa : Nat → Nat} {N n root : Nat}
theorem qy_176 {post : Int32 → Prop} {b : Nat} (hb : b < 2 ^ 31) (K : post (nI (if 24 < b then 25 else b))) : wY_boundOf_176 post (nI b) f_tables f_nodes f_resRows f_resWidth a_tab a_tabRows a_tabWidth a_form a_left a_right a_p1 a_p2 a_p3 a_wide a_used a_bound a_count a_val a_res := by
  refine pk_le b 24 (fun h => ?_) (fun h => ?_)
  · rw [if_neg (by omega)] at K; exact K
  · rw [if_pos (by omega)] at K; exact K
theorem qy_boundOf {post : Int32 → Prop} (hpl : ∀ n, n < N → qy_pl g n a_tab a_tabRows a_form a_left a_right a_p1 a_p2 a_p3 a_wide) (hok : ∀ n, n < N → qp_ok g pa n) (hN : N ≤ 12) (hn : n < N)
    (hb : ∀ m, m < n → a_bound m = nI (qp_B g m)) (K : post (nI (qp_B g n))) : wpY_boundOf post (f_tables, f_nodes, f_resRows, f_resWidth, a_tab, a_tabRows, a_tabWidth, a_form, a_left, a_right, a_p1, a_p2, a_p3, a_wide, a_used, a_bound, a_count, a_val, a_res) (nI n) := by
  have P := hpl n hn
  have n12 : n < 12 := by omega
  have k10 := (hok n hn).1
  have eB := qp_B_eq (qp_ok_low (hok n hn))
  unfold qp_bv at eB
  refine ⟨vp_in_nI n12 (by decide), ?_⟩
  rw [nI_clamp (n := n) (by omega), P.1]
  refine pk_eq (qp_kd g n) 0 (fun h0 => ⟨vp_in_nI n12 (by decide), ?_⟩) (fun h0 => ⟨vp_in_nI n12 (by decide), ?_⟩)
  · obtain ⟨t, ht, ep, er, _⟩ := P.2.2.2.2.2.2.2 h0
    rw [ep, nI_clamp (by omega), er]
    rw [if_pos h0] at eB
    rw [eB] at K
    exact ⟨vp_in_nI ht (by decide), K⟩
  · have hl := ((hok n hn).2.2.2.1 h0).1
    have BL := qp_B25 (hok (qp_lf g n) (by omega))
    rw [if_neg h0] at eB
    rw [P.2.2.1 h0]
    refine ⟨vp_in_nI (by omega) (by decide), ?_⟩
    rw [nI_clamp (n := qp_lf g n) (by omega), hb _ hl]
    refine nm_e ⟨vp_in_nI n12 (by decide), ?_⟩
    -- what stands for the right bound
    have main : ∀ c, c ≤ 25 → qp_bc g (qp_B g) n = c → wY_boundOf_56 post (nI n) (nI (qp_B g (qp_lf g n))) (nI c) f_tables f_nodes f_resRows f_resWidth a_tab a_tabRows a_tabWidth a_form a_left a_right a_p1 a_p2 a_p3 a_wide a_used a_bound a_count a_val a_res := by
      intro c hc ec
      rw [ec] at eB
      refine pk_lt 24 (qp_B g (qp_lf g n)) (fun h => ?_) (fun h => pk_le c 24 (fun h2 => ?_) (fun h2 => ?_))
      · rw [if_pos (Or.inl (by omega))] at eB
        rw [eB] at K; exact K
      · rw [if_neg (by omega)] at eB
        have mm : qp_B g (qp_lf g n) * c ≤ 24 * 24 := Nat.mul_le_mul (by omega) (by omega)
        have fin : ∀ b, b < 2 ^ 31 → qp_bw g n (qp_B g (qp_lf g n)) c = b → wY_boundOf_176 post (nI b) f_tables f_nodes f_resRows f_resWidth a_tab a_tabRows a_tabWidth a_form a_left a_right a_p1 a_p2 a_p3 a_wide a_used a_bound a_count a_val a_res := by
          intro b hb' e
          rw [e] at eB
          rw [eB] at K
          exact qy_176 hb' K
        have f147 : ∀ b, b < 2 ^ 31 → (qp_kd g n ≠ 9 → qp_bw g n (qp_B g (qp_lf g n)) c = b) → (qp_kd g n = 9 → b = qp_B g (qp_lf g n)) → wY_boundOf_147 post (nI n) (nI (qp_B g (qp_lf g n))) (nI b) f_tables f_nodes f_resRows f_resWidth a_tab a_tabRows a_tabWidth a_form a_left a_right a_p1 a_p2 a_p3 a_wide a_used a_bound a_count a_val a_res := by
          intro b hb' e1 e2
          unfold wY_boundOf_147
          refine ⟨vp_in_nI n12 (by decide), ?_⟩
          rw [nI_clamp (n := n) (by omega), P.1]
          refine pk_eq (qp_kd g n) 9 (fun h9 => ⟨vp_in_nI n12 (by decide), ?_⟩) (fun h9 => fin b hb' (e1 h9))
          obtain ⟨kk, hk, ek⟩ := ((hok n hn).2.2.2.2.2.2.2.2.2.2.2.2.2.2.1 h9).1
          have ekn : (qp_p g n).toNatClampNeg = kk := qb_tn hk ek
          rw [(P.2.2.2.2.2.1 (by omega) (by omega) (by omega)).1, ek]
          have bw9 : qp_bw g n (qp_B g (qp_lf g n)) c = (if qp_kd g n = 9 ∧ kk < qp_B g (qp_lf g n) then kk else qp_B g (qp_lf g n)) := by
            unfold qp_bw
            rw [if_neg (by omega), if_neg (fun z => by omega), if_neg (fun z => by omega), ekn]
          refine pk_le (qp_B g (qp_lf g n)) kk (fun h => fin b hb' ?_) (fun h => ⟨vp_in_nI n12 (by decide), nm_e (fin kk hk ?_)⟩) (hb := hk)
          · rw [bw9, if_neg (fun z => by omega)]; exact (e2 h9).symm
          · rw [bw9, if_pos ⟨h9, h⟩]
        have f131 : ∀ b, b < 2 ^ 31 → (qp_kd g n ≠ 9 → qp_kd g n ≠ 6 → qp_bw g n (qp_B g (qp_lf g n)) c = b) → (qp_kd g n = 9 → b = qp_B g (qp_lf g n)) → wY_boundOf_131 post (nI n) (nI (qp_B g (qp_lf g n))) (nI c) (nI b) f_tables f_nodes f_resRows f_resWidth a_tab a_tabRows a_tabWidth a_form a_left a_right a_p1 a_p2 a_p3 a_wide a_used a_bound a_count a_val a_res := by
          intro b hb' e1 e2
          unfold wY_boundOf_131
          refine ⟨vp_in_nI n12 (by decide), ?_⟩
          rw [nI_clamp (n := n) (by omega), P.1]
          refine pk_eq (qp_kd g n) 6 (fun h6 => nm_r (nI_add _ _) (f147 _ (by omega) (fun _ => ?_) (fun h9 => by omega))) (fun h6 => f147 b hb' (fun h9 => e1 h9 h6) e2)
          unfold qp_bw; rw [if_pos h6]
        have f98 : ∀ b, b < 2 ^ 31 → (qp_kd g n = 5 → qp_p g n = 0 → b = qp_B g (qp_lf g n) * c) → (¬ (qp_kd g n = 5 ∧ qp_p g n = 0) → b = qp_B g (qp_lf g n)) → wY_boundOf_98 post (nI n) (nI (qp_B g (qp_lf g n))) (nI c) (nI b) f_tables f_nodes f_resRows f_resWidth a_tab a_tabRows a_tabWidth a_form a_left a_right a_p1 a_p2 a_p3 a_wide a_used a_bound a_count a_val a_res := by
          intro b hb' e1 e2
          unfold wY_boundOf_98
          refine ⟨vp_in_nI n12 (by decide), ?_⟩
          rw [nI_clamp (n := n) (by omega), P.1]
          refine pk_eq (qp_kd g n) 5 (fun h5 => ⟨vp_in_nI n12 (by decide), ?_⟩) (fun h5 => f131 b hb' (fun h9 h6 => ?_) (fun h9 => e2 (fun z => h5 z.1)))
          · rw [(P.2.2.2.2.2.2.1 h5).1]
            refine br_c (fun p3 => ?_) (fun p3 => f131 b hb' (fun h9 h6 => ?_) (fun h9 => by omega))
            · have np0 : ¬ qp_p g n = 0 := by rw [p3]; decide
              have bw : qp_bw g n (qp_B g (qp_lf g n)) c = (if c = 0 then qp_B g (qp_lf g n) else qp_B g (qp_lf g n) * c) := by
                unfold qp_bw
                rw [if_neg (by omega), if_neg (fun z => np0 z.2), if_pos ⟨h5, p3⟩]
              refine pk_eq c 0 (fun h => f131 _ (by omega) (fun _ _ => by rw [bw, if_pos h]) (fun h9 => by omega)) (fun h => ?_)
              rw [pk_mul]
              exact f131 _ (by omega) (fun _ _ => by rw [bw, if_neg h]) (fun h9 => by omega)
            · unfold qp_bw
              rw [if_neg (by omega)]
              by_cases p0 : qp_p g n = 0
              · rw [if_pos ⟨h5, p0⟩]; exact (e1 h5 p0).symm
              · rw [if_neg (fun z => p0 z.2), if_neg (fun z => p3 z.2), if_neg (fun z => by omega)]; exact (e2 (fun z => p0 z.2)).symm
          · unfold qp_bw
            rw [if_neg (by omega), if_neg (fun z => h5 z.1), if_neg (fun z => h5 z.1), if_neg (fun z => h9 z.1)]; exact (e2 (fun z => h5 z.1)).symm
        refine ⟨vp_in_nI n12 (by decide), ?_⟩
        rw [nI_clamp (n := n) (by omega), P.1]
        refine pk_eq (qp_kd g n) 5 (fun h5 => ⟨vp_in_nI n12 (by decide), ?_⟩) (fun h5 => f98 _ (by omega) (fun z => absurd z h5) (fun _ => rfl))
        rw [(P.2.2.2.2.2.2.1 h5).1]
        exact br_c (fun p0 => nm_r (pk_mul _ _) (f98 _ (by omega) (fun _ _ => rfl) (fun z => absurd ⟨h5, p0⟩ z))) (fun p0 => f98 _ (by omega) (fun _ z => absurd z p0) (fun _ => rfl))
      · rw [if_pos (Or.inr (by omega))] at eB
        rw [eB] at K; exact K
    by_cases h56 : qp_kd g n = 5 ∨ qp_kd g n = 6
    · have hr := ((hok n hn).2.2.2.2.1 h56).1
      have BR := qp_B25 (hok (qp_rt g n) (by omega))
      rw [P.2.2.2.1 h56]
      refine br_f (nI_pos (by omega)) ⟨vp_in_nI n12 (by decide), vp_in_nI (by omega) (by decide), ?_⟩
      rw [nI_clamp (n := qp_rt g n) (by omega), hb _ hr]
      exact nm_e (main _ BR (if_pos h56))
    · rw [P.2.2.2.2.1 h56]
      exact br_t (by decide) (main 0 (by omega) (if_neg h56))
theorem qy_work {post : SY → Prop} (hpl : ∀ n, n < N → qy_pl g n a_tab a_tabRows a_form a_left a_right a_p1 a_p2 a_p3 a_wide) (hok : ∀ n, n < N → qp_ok g pa n) (hN : N ≤ 12) (hn : n < N) (hB : qp_B g n ≤ 24) (hrep : ∀ m, m < n → qp_B g m ≤ 24 → qy_rep a_val a_count m (qp_V g m) (qp_wd g m))
    (K : ∀ val cnt : Nat → Int32, qy_rep val cnt n (qp_V g n) (qp_wd g n) → qy_fr n a_val a_count val cnt → post (f_tables, f_nodes, f_resRows, f_resWidth, a_tab, a_tabRows, a_tabWidth, a_form, a_left, a_right, a_p1, a_p2, a_p3, a_wide, a_used, a_bound, cnt, val, a_res)) : wpY_work post (f_tables, f_nodes, f_resRows, f_resWidth, a_tab, a_tabRows, a_tabWidth, a_form, a_left, a_right, a_p1, a_p2, a_p3, a_wide, a_used, a_bound, a_count, a_val, a_res) (nI n) := by
  have n12 : n < 12 := by omega
  have P := hpl n hn
  have k10 := (hok n hn).1
  have hlow := qp_ok_low (hok n hn)
  have len := qp_len hok n hn hB
  obtain ⟨cl, cr⟩ := qp_B_child hlow hB
  refine ⟨vp_in_nI n12 (by decide), ?_⟩
  rw [nI_clamp (n := n) (by omega), P.1]
  refine nm_e ⟨vp_in_nI n12 (by decide), ?_⟩
  have z0 : upd a_count n 0 n = 0 := pk_us
  have K' : ∀ val cnt : Nat → Int32, qy_rep val cnt n (qp_V g n) (qp_wd g n) → qy_fr n a_val (upd a_count n 0) val cnt → post (f_tables, f_nodes, f_resRows, f_resWidth, a_tab, a_tabRows, a_tabWidth, a_form, a_left, a_right, a_p1, a_p2, a_p3, a_wide, a_used, a_bound, cnt, val, a_res) := fun val cnt h1 h2 => K val cnt h1 ⟨h2.1, fun m hm => (h2.2 m hm).trans (pk_un hm)⟩
  -- the children
  have child : ∀ m, m < n → qp_B g m ≤ 24 → qy_rep a_val (upd a_count n 0) m (qp_V g m) (qp_wd g m) ∧ (qp_V g m).length ≤ 24 ∧ (∀ y ∈ qp_V g m, y.length = qp_wd g m) ∧ a_wide m = nI (qp_wd g m) := fun m hm hb => by
    have h := hrep m hm hb
    have l := qp_len hok m (by omega) hb
    exact ⟨⟨(pk_un (by omega)).trans h.1, h.2⟩, by omega, qp_row hok hN m (by omega), (hpl m (by omega)).2.1⟩
  refine pk_eq (qp_kd g n) 0 (fun h0 => ?_) (fun h0 => ⟨vp_in_nI n12 (by decide), ?_⟩)
  · rw [qp_V_0 h0] at K'
    exact qy_table P hok hN hn h0 K'
  · have hl := ((hok n hn).2.2.2.1 h0).1
    obtain ⟨c1, c2, c3, c4⟩ := child _ hl (cl h0)
    have fo : ∀ (hs : ¬ qp_so g n) (h6 : ¬ qp_kd g n = 6) (h5 : qp_kd g n ≠ 5), qp_V g n = qp_fold g n [] (qp_V g (qp_lf g n)) := fun hs h6 h5 => by
      rw [qp_V_o hlow hs h6, qp_fold_S (S2 := []) h5]
    refine pk_lt 2 (qp_kd g n) (fun h2 => ⟨vp_in_nI n12 (by decide), ?_⟩) (fun h2 => ?_)
    · refine pk_eq (qp_kd g n) 3 (fun h3 => ?_) (fun h3 => ⟨vp_in_nI n12 (by decide), ?_⟩)
      · rw [fo (fun z => by rcases z with z | z | z <;> omega) (by omega) (by omega)] at K'
        exact qy_map P c4 hok hN hn h3 c2 c3 c1 z0 K'
      · refine pk_eq (qp_kd g n) 4 (fun h4 => ?_) (fun h4 => ⟨vp_in_nI n12 (by decide), ?_⟩)
        · rw [fo (fun z => by rcases z with z | z | z <;> omega) (by omega) (by omega)] at K'
          exact qy_project P hok hN hn h4 c2 c1 K'
        · refine pk_eq (qp_kd g n) 5 (fun h5 => ?_) (fun h5 => ⟨vp_in_nI n12 (by decide), ?_⟩)
          · have hr := ((hok n hn).2.2.2.2.1 (Or.inl h5)).1
            obtain ⟨d1, d2, d3, d4⟩ := child _ hr (cr (Or.inl h5))
            have ev := qp_V_o hlow (fun z => by rcases z with z | z | z <;> omega) (show ¬ qp_kd g n = 6 by omega)
            rw [ev] at K' len
            exact qy_join P c4 d4 hok hN hn h5 c2 d2 c3 d3 c1 d1 z0 (by omega) K'
          · refine pk_eq (qp_kd g n) 6 (fun h6 => ?_) (fun h6 => ⟨vp_in_nI n12 (by decide), ?_⟩)
            · have hr := ((hok n hn).2.2.2.2.1 (Or.inr h6)).1
              obtain ⟨d1, d2, d3, d4⟩ := child _ hr (cr (Or.inr h6))
              rw [qp_V_6 hlow h6] at K' len
              exact qy_union P c4 d4 hok hN hn h6 (by omega) c3 d3 c1 d1 z0 K'
            · refine pk_eq (qp_kd g n) 7 (fun h7 => ?_) (fun h7 => ⟨vp_in_nI n12 (by decide), ?_⟩)
              · rw [qp_V_s hlow (Or.inl h7)] at K'
                exact qy_group P hok hN hn h7 c2 c1 z0 K'
              · refine pk_eq (qp_kd g n) 8 (fun h8 => ?_) (fun h8 => ⟨vp_in_nI n12 (by decide), ?_⟩)
                · have ev := fo (fun z => by rcases z with z | z | z <;> omega) (by omega) (by omega)
                  rw [ev] at K' len
                  exact qy_distinct P c4 hok hN hn h8 c2 c3 c1 z0 (by omega) K'
                · refine pk_eq (qp_kd g n) 9 (fun h9 => ?_) (fun h9 => ?_)
                  · rw [fo (fun z => by rcases z with z | z | z <;> omega) (by omega) (by omega)] at K'
                    exact qy_limit P c4 hok hN hn h9 c2 c3 c1 z0 K'
                  · have h10 : qp_kd g n = 10 := by omega
                    rw [qp_V_s hlow (Or.inr h10)] at K'
                    exact qy_sort P c4 hok hN hn h10 c2 c3 c1 z0 K'
    · have ev := fo (fun z => by rcases z with z | z | z <;> omega) (by omega) (by omega)
      rw [ev] at K' len
      exact qy_filter P c4 hok hN hn (by omega) c2 c3 c1 z0 (by omega) K'
theorem qy_run {post : Int32 → SY → Prop} (hpl : ∀ n, n < N → qy_pl g n a_tab a_tabRows a_form a_left a_right a_p1 a_p2 a_p3 a_wide) (hok : ∀ n, n < N → qp_ok g pa n) (hN : N ≤ 12) (hr : root < N)
    (K1 : 24 < qp_B g root → ∀ a_bound a_count a_val : Nat → Int32, post (-10) (f_tables, nI N, f_resRows, f_resWidth, a_tab, a_tabRows, a_tabWidth, a_form, a_left, a_right, a_p1, a_p2, a_p3, a_wide, a_used, a_bound, a_count, a_val, a_res))
    (K2 : qp_B g root ≤ 24 → ∀ a_bound a_count a_val a_res : Nat → Int32, (∀ e c, e < (qp_V g root).length → c < qp_wd g root → a_res (e * 6 + c) = ((qp_V g root).getD e []).getD c 0) → post (nI (qp_V g root).length) (f_tables, nI N, nI (qp_V g root).length, nI (qp_wd g root), a_tab, a_tabRows, a_tabWidth, a_form, a_left, a_right, a_p1, a_p2, a_p3, a_wide, a_used, a_bound, a_count, a_val, a_res)) :
    wpY_run post (f_tables, nI N, f_resRows, f_resWidth, a_tab, a_tabRows, a_tabWidth, a_form, a_left, a_right, a_p1, a_p2, a_p3, a_wide, a_used, a_bound, a_count, a_val, a_res) (nI root) := by
  have r12 : root < 12 := by omega
  unfold wpY_run
  refine br_f (nI_pos (by omega)) (br_t (nI_lt hr (by omega)) (br_t rfl ?_))
  have L : ∀ (d i : Nat) (bd cnt val : Nat → Int32) (fuel : Nat), i + d = root + 1 → d < fuel → (∀ m, m < i → bd m = nI (qp_B g m)) → (∀ m, m < i → qp_B g m ≤ 24 → qy_rep val cnt m (qp_V g m) (qp_wd g m)) → wY_run_13 post (nI root) fuel (nI i) f_tables (nI N) f_resRows f_resWidth a_tab a_tabRows a_tabWidth a_form a_left a_right a_p1 a_p2 a_p3 a_wide a_used bd cnt val a_res := by
    intro d
    induction d with
    | zero =>
      intro i bd cnt val fuel hi hf hb hrep
      obtain ⟨f, rfl⟩ : ∃ f', fuel = f' + 1 := ⟨fuel - 1, by omega⟩
      have hi' : i = root + 1 := by omega
      subst hi'
      have b25 := qp_B25 (hok root hr)
      refine br_t (nI_lt (by omega) (by omega)) ⟨vp_in_nI r12 (by decide), ?_⟩
      rw [nI_clamp (n := root) (by omega), hb root (by omega)]
      refine pk_le (qp_B g root) 24 (fun hB => ?_) (fun hB => K1 hB bd cnt val)
      have R := hrep root (by omega) hB
      have len := qp_len hok root hr hB
      have w6 := (hok root hr).2.2.1
      refine qb_loop (fun fu c s => wY_run_67 post (nI root) f_tables (nI N) f_resRows f_resWidth fu (nI c) a_tab a_tabRows a_tabWidth a_form a_left a_right a_p1 a_p2 a_p3 a_wide a_used bd cnt val s) a_res 0 ((List.range 144).map (fun c => val (root * 144 + c))) 144 (by rw [List.length_map, List.length_range]) ?_ ?_
      · intro fu
        refine br_t (nI_le (a := 144) (b := 144) (Nat.le_refl _) (by decide)) ⟨vp_in_nI r12 (by decide), ?_⟩
        rw [nI_clamp (n := root) (by omega), R.1, (hpl root hr).2.1]
        refine nm_e ⟨vp_in_nI r12 (by decide), nm_e (K2 hB bd cnt val _ (fun e c he hc => ?_))⟩
        have h := qb_bl_in (f := a_res) (b := 0) (xs := (List.range 144).map (fun c => val (root * 144 + c))) (i := e * 6 + c) (by rw [List.length_map, List.length_range]; omega)
        rw [Nat.zero_add, qm_cells (b := root * 144) (show e * 6 + c < 144 by omega)] at h
        rw [h, ← Nat.add_assoc]; exact R.2 e c he hc
      · intro fu c hc K'
        refine br_f (nI_ge (a := c) (b := 144) hc (by decide)) ?_
        rw [qb_ix144, nI_clamp (n := root * 144 + c) (by omega), nI_clamp (n := c) (by omega)]
        rw [qm_cells (b := root * 144) hc, Nat.zero_add] at K'
        exact ⟨vp_in_nI (by omega) (by decide), vp_in_nI hc (by decide), nm_e (nm_r (nI_1 c) K')⟩
    | succ d ih =>
      intro i bd cnt val fuel hi hf hb hrep
      obtain ⟨f, rfl⟩ : ∃ f', fuel = f' + 1 := ⟨fuel - 1, by omega⟩
      have hiN : i < N := by omega
      have b25 := qp_B25 (hok i hiN)
      refine br_f (nI_nlt (by omega) (by omega)) ?_
      refine qy_boundOf hpl hok hN hiN hb ⟨vp_in_nI (by omega) (by decide), ?_⟩
      rw [nI_clamp (n := i) (by omega)]
      refine nm_e ⟨vp_in_nI (by omega) (by decide), ?_⟩
      rw [pk_us]
      have hb' : ∀ m, m < i + 1 → upd bd i (nI (qp_B g i)) m = nI (qp_B g m) := fun m hm => by
        by_cases e : m = i
        · rw [e, pk_us]
        · rw [pk_un e]; exact hb m (by omega)
      refine pk_lt 24 (qp_B g i) (fun hB => nm_r (nI_1 i) (ih (i + 1) _ cnt val f (by omega) (by omega) hb' (fun m hm hBm => ?_))) (fun hB => ?_)
      · by_cases e : m = i
        · rw [e] at hBm; omega
        · exact hrep m (by omega) hBm
      · refine qy_work hpl hok hN hiN hB hrep (fun val' cnt' h1 h2 => nm_r (nI_1 i) (ih (i + 1) _ cnt' val' f (by omega) (by omega) hb' (fun m hm hBm => ?_)))
        by_cases e : m = i
        · rw [e]; exact h1
        · have l := qp_len hok m (by omega) hBm
          exact qy_rep_fr h2 e (by omega) (hok m (by omega)).2.2.1 (hrep m (by omega) hBm)
  exact ⟨root + 2, L (root + 1) 0 a_bound a_count a_val (root + 2) (by omega) (by omega) (fun m hm' => absurd hm' (Nat.not_lt_zero _)) (fun m hm' => absurd hm' (Nat.not_lt_zero _))⟩
end
end
section
/-! the relation -/
def qr_par (kd w wl wr : Nat) (p q r p1 p2 p3 : Int32) : Prop :=
  (kd = 0 → w ≤ 3 ∧ ∃ t, t < 4 ∧ p = nI t) ∧
  (kd = 1 → qp_c wl p ∧ qp_c 6 q ∧ w = wl) ∧
  (kd = 2 → qp_c wl p ∧ qp_c 6 q ∧ qp_c wl r ∧ w = wl) ∧
  (kd = 3 → qp_c 5 p ∧ qp_c wl q ∧ qp_c wl r ∧ w = wl + 1) ∧
  (kd = 4 → q = nI w ∧ ∀ i, i < w → qp_col p i < wl) ∧
  (kd = 5 → qp_c 4 p ∧ qp_c wl q ∧ qp_c wr r ∧ w = (if p = 0 ∨ p = 3 then wl + wr else wl)) ∧
  (kd = 6 → w = wl ∧ wr = wl) ∧
  (kd = 7 → qp_c wl p ∧ qp_c 4 q ∧ qp_c wl r ∧ w = 2) ∧
  (kd = 8 → w = wl) ∧
  (kd = 9 → qp_c (2 ^ 31) p ∧ w = wl) ∧
  (kd = 10 → qp_c wl p ∧ qp_c 2 q ∧ w = wl) ∧
  (kd ≠ 5 → kd ≠ 6 → kd ≠ 8 → p1 = p ∧ p2 = q ∧ p3 = r) ∧ (kd = 5 → p3 = p ∧ p1 = q ∧ p2 = r)
def qr_node (n : Nat) (kind left right parent p q r nodeWidth p1 p2 p3 : Nat → Int32) : Prop :=
  ∃ kd l rt w wl wr : Nat, kd ≤ 10 ∧ 1 ≤ w ∧ w ≤ 6 ∧ kind n = nI kd ∧ nodeWidth n = nI w ∧ (kd = 0 → left n = -1) ∧
    (kd ≠ 0 → l < n ∧ left n = nI l ∧ parent l = nI n ∧ nodeWidth l = nI wl ∧ wl ≤ 6) ∧
    (kd = 5 ∨ kd = 6 → rt < n ∧ rt ≠ l ∧ right n = nI rt ∧ parent rt = nI n ∧ nodeWidth rt = nI wr ∧ wr ≤ 6) ∧ (¬ (kd = 5 ∨ kd = 6) → right n = -1) ∧
    qr_par kd w wl wr (p n) (q n) (r n) (p1 n) (p2 n) (p3 n)
def qr_tab (tabWidth tabRows tab tabY : Nat → Int32) (t : Nat) : Prop := ∃ w m : Nat, 1 ≤ w ∧ w ≤ 3 ∧ m ≤ 10 ∧ tabWidth t = nI w ∧ tabRows t = nI m ∧ ∀ i, i < m * 3 → tabY (t * 30 + i) = tab (t * 30 + i)
def qr_use (N : Nat) (parent used : Nat → Int32) (i : Nat) : Prop := (used i = 0 ∧ parent i = -1) ∨ (used i = 1 ∧ ∃ m, m < N ∧ parent i = nI m)
def qr_R (tables nodes resRows resWidth : Int32) (tabWidth tabRows tab kind left right parent p q r nodeWidth result tabY p1 p2 p3 used res : Nat → Int32) : Prop :=
  ∃ T N rr rw : Nat, 1 ≤ T ∧ T ≤ 4 ∧ tables = nI T ∧ N ≤ 12 ∧ nodes = nI N ∧ rr ≤ 24 ∧ resRows = nI rr ∧ rw ≤ 6 ∧ resWidth = nI rw ∧ (∀ e c, e < rr → c < rw → res (e * 6 + c) = result (e * 6 + c)) ∧
    (∀ t, t < 4 → qr_tab tabWidth tabRows tab tabY t) ∧ (∀ i, i < N → qr_use N parent used i) ∧ (∀ i, i < N → qr_node i kind left right parent p q r nodeWidth p1 p2 p3)
def i_Rel (_ : Nat) (u : SX) (v : SY) : Prop := match u, v with
  | (f_tables, f_nodes, f_codeLen, f_rowMap, f_rowWidth, f_nextReg, f_loops, f_resRows, f_resWidth, a_tabWidth, a_tabRows, a_tab, a_kind, a_left, a_right, a_parent, a_p, a_q, a_r, a_nodeWidth, a_bound, a_wanted, a_cOp, a_cA, a_cB, a_cC, a_cD, a_loopHead, a_todo, a_reg, a_cursor, a_loopKey, a_met, a_store, a_storeRows, a_headOf, a_tailOf, a_link, a_result), (bf_tables, bf_nodes, bf_resRows, bf_resWidth, ba_tab, ba_tabRows, ba_tabWidth, ba_form, ba_left, ba_right, ba_p1, ba_p2, ba_p3, ba_wide, ba_used, ba_bound, ba_count, ba_val, ba_res) => bf_tables = f_tables ∧ bf_nodes = f_nodes ∧ bf_resRows = f_resRows ∧ bf_resWidth = f_resWidth ∧ ba_tabRows = a_tabRows ∧ ba_tabWidth = a_tabWidth ∧ ba_form = a_kind ∧ ba_left = a_left ∧ ba_right = a_right ∧ ba_wide = a_nodeWidth ∧
      qr_R f_tables f_nodes f_resRows f_resWidth a_tabWidth a_tabRows a_tab a_kind a_left a_right a_parent a_p a_q a_r a_nodeWidth a_result ba_tab ba_p1 ba_p2 ba_p3 ba_used ba_res
theorem i_up {k : Nat} {u : SX} {v : SY} (h : i_Rel k u v) : i_Rel (k + 5) u v := h
/-- opening the relation: the shared names once -/
theorem qr_el {k : Nat} {P : SX → SY → Prop} (h : ∀ (f_tables f_nodes f_codeLen f_rowMap f_rowWidth f_nextReg f_loops f_resRows f_resWidth : Int32) (a_tabWidth a_tabRows a_tab a_kind a_left a_right a_parent a_p a_q a_r a_nodeWidth a_bound a_wanted a_cOp a_cA a_cB a_cC a_cD a_loopHead a_todo a_reg a_cursor a_loopKey a_met a_store a_storeRows a_headOf a_tailOf a_link a_result ba_tab ba_p1 ba_p2 ba_p3 ba_used ba_bound ba_count ba_val ba_res : Nat → Int32),
      qr_R f_tables f_nodes f_resRows f_resWidth a_tabWidth a_tabRows a_tab a_kind a_left a_right a_parent a_p a_q a_r a_nodeWidth a_result ba_tab ba_p1 ba_p2 ba_p3 ba_used ba_res →
      P (f_tables, f_nodes, f_codeLen, f_rowMap, f_rowWidth, f_nextReg, f_loops, f_resRows, f_resWidth, a_tabWidth, a_tabRows, a_tab, a_kind, a_left, a_right, a_parent, a_p, a_q, a_r, a_nodeWidth, a_bound, a_wanted, a_cOp, a_cA, a_cB, a_cC, a_cD, a_loopHead, a_todo, a_reg, a_cursor, a_loopKey, a_met, a_store, a_storeRows, a_headOf, a_tailOf, a_link, a_result) (f_tables, f_nodes, f_resRows, f_resWidth, ba_tab, a_tabRows, a_tabWidth, a_kind, a_left, a_right, ba_p1, ba_p2, ba_p3, a_nodeWidth, ba_used, ba_bound, ba_count, ba_val, ba_res)) {u : SX} {v : SY} (I : i_Rel k u v) : P u v := by
  obtain ⟨f_tables, f_nodes, f_codeLen, f_rowMap, f_rowWidth, f_nextReg, f_loops, f_resRows, f_resWidth, a_tabWidth, a_tabRows, a_tab, a_kind, a_left, a_right, a_parent, a_p, a_q, a_r, a_nodeWidth, a_bound, a_wanted, a_cOp, a_cA, a_cB, a_cC, a_cD, a_loopHead, a_todo, a_reg, a_cursor, a_loopKey, a_met, a_store, a_storeRows, a_headOf, a_tailOf, a_link, a_result⟩ := u
  obtain ⟨bf_tables, bf_nodes, bf_resRows, bf_resWidth, ba_tab, ba_tabRows, ba_tabWidth, ba_form, ba_left, ba_right, ba_p1, ba_p2, ba_p3, ba_wide, ba_used, ba_bound, ba_count, ba_val, ba_res⟩ := v
  obtain ⟨e1, e2, e3, e4, e5, e6, e7, e8, e9, e10, R⟩ := I
  subst e1 e2 e3 e4 e5 e6 e7 e8 e9 e10
  exact h _ _ _ _ _ _ _ _ _ _ _ _ _ _ _ _ _ _ _ _ _ _ _ _ _ _ _ _ _ _ _ _ _ _ _ _ _ _ _ _ _ _ _ _ _ _ _ _ R
/-- the plan that the arrays hold -/
def qr_rows (tab : Nat → Int32) (t m w : Nat) : qp_W := (List.range m).map (fun e => (List.range w).map (fun c => tab (t * 30 + e * 3 + c)))
def qr_g (tabRows tab kind left right p q r nodeWidth : Nat → Int32) : qp_PL :=
  (fun n => (kind n).toNatClampNeg, fun n => (left n).toNatClampNeg, fun n => (right n).toNatClampNeg, fun n => (nodeWidth n).toNatClampNeg, p, q, r, fun n => qr_rows tab (p n).toNatClampNeg (tabRows (p n).toNatClampNeg).toNatClampNeg (nodeWidth n).toNatClampNeg)
theorem qr_rows_l {tab : Nat → Int32} {t m w : Nat} : (qr_rows tab t m w).length = m := by unfold qr_rows; rw [List.length_map, List.length_range]
theorem qr_rows_w {tab : Nat → Int32} {t m w : Nat} : ∀ y ∈ qr_rows tab t m w, y.length = w := by
  intro y hy
  unfold qr_rows at hy
  obtain ⟨e, _, ee⟩ := List.mem_map.1 hy
  rw [← ee, List.length_map, List.length_range]
theorem qr_rows_c {tab : Nat → Int32} {t m w e c : Nat} (he : e < m) (hc : c < w) : ((qr_rows tab t m w).getD e []).getD c 0 = tab (t * 30 + e * 3 + c) := by
  have h1 : (qr_rows tab t m w).getD e [] = (List.range w).map (fun c => tab (t * 30 + e * 3 + c)) := by
    unfold qr_rows
    rw [List.getD_eq_getElem?_getD, List.getElem?_map, List.getElem?_eq_getElem (by rw [List.length_range]; exact he), List.getElem_range]; rfl
  rw [h1]
  exact qm_cells (f := tab) (b := t * 30 + e * 3) hc
section
variable {tabWidth tabRows tab kind left right parent p q r nodeWidth tabY p1 p2 p3 : Nat → Int32} {N : Nat}
theorem qr_ok (hN : N ≤ 12) (hT : ∀ t, t < 4 → qr_tab tabWidth tabRows tab tabY t) (hn : ∀ i, i < N → qr_node i kind left right parent p q r nodeWidth p1 p2 p3) {n : Nat} (h : n < N) :
    qp_ok (qr_g tabRows tab kind left right p q r nodeWidth) (fun m => (parent m).toNatClampNeg) n ∧ qm_pln (qr_g tabRows tab kind left right p q r nodeWidth) n tabRows tab kind right p q r nodeWidth ∧
    qc_pl (qr_g tabRows tab kind left right p q r nodeWidth) n kind left right parent p q r nodeWidth ∧ qy_pl (qr_g tabRows tab kind left right p q r nodeWidth) n tabY tabRows kind left right p1 p2 p3 nodeWidth := by
  obtain ⟨kd, l, rt, w, wl, wr, k10, w1, w6, ek, ew, hl0, hl, hr, hr0, P⟩ := hn n h
  have Ek : qp_kd (qr_g tabRows tab kind left right p q r nodeWidth) n = kd := qb_tn (by omega) ek
  have Ew : qp_wd (qr_g tabRows tab kind left right p q r nodeWidth) n = w := qb_tn (by omega) ew
  have El : kd ≠ 0 → qp_lf (qr_g tabRows tab kind left right p q r nodeWidth) n = l := fun z => qb_tn (by have := (hl z).1; omega) (hl z).2.1
  have Er : kd = 5 ∨ kd = 6 → qp_rt (qr_g tabRows tab kind left right p q r nodeWidth) n = rt := fun z => qb_tn (by have := (hr z).1; omega) (hr z).2.2.1
  have Ewl : kd ≠ 0 → qp_wd (qr_g tabRows tab kind left right p q r nodeWidth) l = wl := fun z => qb_tn (by have := (hl z).2.2.2.2; omega) (hl z).2.2.2.1
  have Ewr : kd = 5 ∨ kd = 6 → qp_wd (qr_g tabRows tab kind left right p q r nodeWidth) rt = wr := fun z => qb_tn (by have := (hr z).2.2.2.2.2; omega) (hr z).2.2.2.2.1
  obtain ⟨q0, q1, q2, q3, q4, q5, q6, q7, q8, q9, q10, qs, qj⟩ := P
  have Etb : kd = 0 → ∃ t m, t < 4 ∧ m ≤ 10 ∧ w ≤ 3 ∧ p n = nI t ∧ tabRows t = nI m ∧ qp_tb (qr_g tabRows tab kind left right p q r nodeWidth) n = qr_rows tab t m w ∧ ∀ i, i < m * 3 → tabY (t * 30 + i) = tab (t * 30 + i) := fun z => by
    obtain ⟨w3, t, ht, ep⟩ := q0 z
    obtain ⟨w', m, _, _, m10, _, em, hc⟩ := hT t ht
    refine ⟨t, m, ht, m10, w3, ep, em, ?_, hc⟩
    show qr_rows tab (p n).toNatClampNeg (tabRows (p n).toNatClampNeg).toNatClampNeg (nodeWidth n).toNatClampNeg = _
    rw [ep, nI_clamp (by omega), em, nI_clamp (by omega), ew, nI_clamp (by omega)]
  have cells : ∀ (z : kd = 0), ∃ t, t < 4 ∧ p n = nI t ∧ tabRows t = nI (qp_tb (qr_g tabRows tab kind left right p q r nodeWidth) n).length ∧ (∀ e c, e < (qp_tb (qr_g tabRows tab kind left right p q r nodeWidth) n).length → c < w → tab (t * 30 + e * 3 + c) = ((qp_tb (qr_g tabRows tab kind left right p q r nodeWidth) n).getD e []).getD c 0 ∧ tabY (t * 30 + e * 3 + c) = ((qp_tb (qr_g tabRows tab kind left right p q r nodeWidth) n).getD e []).getD c 0) := fun z => by
    obtain ⟨t, m, ht, m10, w3, ep, em, etb, hc⟩ := Etb z
    refine ⟨t, ht, ep, by rw [etb, qr_rows_l]; exact em, fun e c he hcw => ?_⟩
    rw [etb, qr_rows_l] at he
    rw [etb, qr_rows_c he hcw]
    exact ⟨rfl, by rw [Nat.add_assoc]; exact hc _ (by omega)⟩
  refine ⟨⟨?_, ?_, ?_, ?_, ?_, ?_⟩, ⟨?_, ?_, rfl, rfl, rfl, ?_, ?_⟩, ⟨?_, ?_, rfl, rfl, rfl, ?_, ?_, ?_, ?_⟩, ⟨?_, ?_, ?_, ?_, ?_, ?_, ?_, ?_⟩⟩
  · rw [Ek]; exact k10
  · rw [Ew]; exact w1
  · rw [Ew]; exact w6
  · intro z
    rw [Ek] at z
    rw [El z]
    exact ⟨(hl z).1, qb_tn (by omega) (hl z).2.2.1⟩
  · intro z
    rw [Ek] at z
    rw [Er z, El (by omega)]
    exact ⟨(hr z).1, qb_tn (by omega) (hr z).2.2.2.1, (hr z).2.1⟩
  · -- the parameters
    have pw : kd ≠ 0 → qp_wd (qr_g tabRows tab kind left right p q r nodeWidth) (qp_lf (qr_g tabRows tab kind left right p q r nodeWidth) n) = wl := fun z => by rw [El z]; exact Ewl z
    have pr : kd = 5 ∨ kd = 6 → qp_wd (qr_g tabRows tab kind left right p q r nodeWidth) (qp_rt (qr_g tabRows tab kind left right p q r nodeWidth) n) = wr := fun z => by rw [Er z]; exact Ewr z
    unfold qp_prm
    rw [Ek, Ew]
    refine ⟨fun z => ?_, fun z => ?_, fun z => ?_, fun z => ?_, fun z => ?_, fun z => ?_, fun z => ?_, fun z => ?_, fun z => ?_, fun z => ?_, fun z => ?_⟩
    · obtain ⟨t, m, ht, m10, w3, ep, em, etb, hc⟩ := Etb z
      rw [etb]
      exact ⟨w3, by rw [qr_rows_l]; exact m10, qr_rows_w⟩
    · rw [pw (by omega)]; exact q1 z
    · rw [pw (by omega)]; exact q2 z
    · rw [pw (by omega)]; exact q3 z
    · rw [pw (by omega)]; exact q4 z
    · rw [pw (by omega), pr (Or.inl z)]; exact q5 z
    · rw [pw (by omega), pr (Or.inr z)]; exact q6 z
    · rw [pw (by omega)]; exact q7 z
    · rw [pw (by omega)]; exact q8 z
    · rw [pw (by omega)]; exact q9 z
    · rw [pw (by omega)]; exact q10 z
  · rw [Ek]; exact ek
  · rw [Ew]; exact ew
  · intro z
    rw [Ek] at z
    rw [Er (Or.inl z)]; exact (hr (Or.inl z)).2.2.1
  · intro z
    rw [Ek] at z
    rw [Ew]
    obtain ⟨t, ht, ep, em, hc⟩ := cells z
    exact ⟨t, ht, ep, em, fun e c he hcw => (hc e c he hcw).1⟩
  · rw [Ek]; exact ek
  · rw [Ew]; exact ew
  · rw [Ek]; exact hl0
  · intro z
    rw [Ek] at z
    rw [El z]; exact ⟨(hl z).2.1, (hl z).2.2.1⟩
  · intro z
    rw [Ek] at z
    rw [Er z]; exact ⟨(hr z).2.2.1, (hr z).2.2.2.1⟩
  · rw [Ek]; exact hr0
  · rw [Ek]; exact ek
  · rw [Ew]; exact ew
  · intro z
    rw [Ek] at z
    rw [El z]; exact (hl z).2.1
  · intro z
    rw [Ek] at z
    rw [Er z]; exact (hr z).2.2.1
  · rw [Ek]; exact hr0
  · rw [Ek]; exact qs
  · rw [Ek]; exact qj
  · intro z
    rw [Ek] at z
    rw [Ew]
    obtain ⟨t, ht, ep, em, hc⟩ := cells z
    exact ⟨t, ht, by rw [(qs (by omega) (by omega) (by omega)).1]; exact ep, em, fun e c he hcw => (hc e c he hcw).2⟩
end
end
section
/-! run -/
section
variable {f_tables f_nodes f_codeLen f_rowMap f_rowWidth f_nextReg f_loops f_resRows f_resWidth : Int32} {a_tabWidth a_tabRows a_tab a_kind a_left a_right a_parent a_p a_q a_r a_nodeWidth a_bound a_wanted a_cOp a_cA a_cB a_cC a_cD a_loopHead a_todo a_reg a_cursor a_loopKey a_met a_store a_storeRows a_headOf a_tailOf a_link a_result ba_tab ba_p1 ba_p2 ba_p3 ba_used ba_bound ba_count ba_val ba_res : Nat → Int32}
theorem qr_mk {k : Nat} (R : qr_R f_tables f_nodes f_resRows f_resWidth a_tabWidth a_tabRows a_tab a_kind a_left a_right a_parent a_p a_q a_r a_nodeWidth a_result ba_tab ba_p1 ba_p2 ba_p3 ba_used ba_res) : i_Rel k (f_tables, f_nodes, f_codeLen, f_rowMap, f_rowWidth, f_nextReg, f_loops, f_resRows, f_resWidth, a_tabWidth, a_tabRows, a_tab, a_kind, a_left, a_right, a_parent, a_p, a_q, a_r, a_nodeWidth, a_bound, a_wanted, a_cOp, a_cA, a_cB, a_cC, a_cD, a_loopHead, a_todo, a_reg, a_cursor, a_loopKey, a_met, a_store, a_storeRows, a_headOf, a_tailOf, a_link, a_result) (f_tables, f_nodes, f_resRows, f_resWidth, ba_tab, a_tabRows, a_tabWidth, a_kind, a_left, a_right, ba_p1, ba_p2, ba_p3, a_nodeWidth, ba_used, ba_bound, ba_count, ba_val, ba_res) :=
  ⟨rfl, rfl, rfl, rfl, rfl, rfl, rfl, rfl, rfl, rfl, R⟩
end
theorem i_vc_run {k : Nat} {u : SX} {v : SY} (I : i_Rel k u v) (hk : k + 5 ≤ 2561) (v1 : Int32) : wpX_run (fun r u' => wpY_run (fun r' v' => r' = r ∧ i_Rel (k + 5) u' v') v v1) u v1 := by
  refine qr_el (P := fun u v => wpX_run (fun r u' => wpY_run (fun r' v' => r' = r ∧ i_Rel (k + 5) u' v') v v1) u v1) ?_ I
  intro f_tables f_nodes f_codeLen f_rowMap f_rowWidth f_nextReg f_loops f_resRows f_resWidth a_tabWidth a_tabRows a_tab a_kind a_left a_right a_parent a_p a_q a_r a_nodeWidth a_bound a_wanted a_cOp a_cA a_cB a_cC a_cD a_loopHead a_todo a_reg a_cursor a_loopKey a_met a_store a_storeRows a_headOf a_tailOf a_link a_result ba_tab ba_p1 ba_p2 ba_p3 ba_used ba_bound ba_count ba_val ba_res R
  obtain ⟨T, N, rr, rw, hT1, hT4, eT, hN, eN, hrr, err, hrw, erw, hres, hT, hU, hn⟩ := R
  subst eT eN err erw
  have R : qr_R (nI T) (nI N) (nI rr) (nI rw) a_tabWidth a_tabRows a_tab a_kind a_left a_right a_parent a_p a_q a_r a_nodeWidth a_result ba_tab ba_p1 ba_p2 ba_p3 ba_used ba_res := ⟨T, N, rr, rw, hT1, hT4, rfl, hN, rfl, hrr, rfl, hrw, rfl, hres, hT, hU, hn⟩
  have ok := fun n (h : n < N) => qr_ok hN hT hn h
  rcases pk_ix v1 (n := N) (by omega) with h | h | ⟨root, hr, rfl⟩
  · unfold wpX_run
    refine br_t h (br_f (by decide) ?_)
    unfold wpY_run
    exact br_t h (br_f (by decide) ⟨rfl, qr_mk R⟩)
  · have h0 : ¬ v1 < 0 := fun z => by
      have h2 : nI N < 0 := Int32.lt_of_le_of_lt h z
      exact nI_pos (by omega) h2
    have h1 : ¬ v1 < nI N := Int32.not_lt.2 h
    unfold wpX_run
    refine br_f h0 (br_f h1 (br_f (by decide) ?_))
    unfold wpY_run
    exact br_f h0 (br_f h1 (br_f (by decide) ⟨rfl, qr_mk R⟩))
  · refine qx_run (g := qr_g a_tabRows a_tab a_kind a_left a_right a_p a_q a_r a_nodeWidth) (pa := fun m => (a_parent m).toNatClampNeg) (N := N) (fun n h => (ok n h).2.1) (fun n h => (ok n h).2.2.1) (fun n h => (ok n h).1) hN hr ?_ ?_
    · intro hB bd
      refine qy_run (g := qr_g a_tabRows a_tab a_kind a_left a_right a_p a_q a_r a_nodeWidth) (pa := fun m => (a_parent m).toNatClampNeg) (N := N) (fun n h => (ok n h).2.2.2) (fun n h => (ok n h).1) hN hr ?_ ?_
      · intro _ bd2 cnt val
        exact ⟨rfl, qr_mk R⟩
      · intro hB2; omega
    · intro hB
      intro f_codeLen f_rowMap f_rowWidth f_nextReg f_loops a_bound a_wanted a_cOp a_cA a_cB a_cC a_cD a_loopHead a_todo a_reg a_cursor a_loopKey a_met a_store a_storeRows a_headOf a_tailOf a_link a_result' hw hcell
      refine qy_run (g := qr_g a_tabRows a_tab a_kind a_left a_right a_p a_q a_r a_nodeWidth) (pa := fun m => (a_parent m).toNatClampNeg) (N := N) (fun n h => (ok n h).2.2.2) (fun n h => (ok n h).1) hN hr ?_ ?_
      · intro hB2; omega
      · intro _ bd2 cnt val res hcell2
        have len := qp_len (N := N) (fun n h => (ok n h).1) root hr hB
        have w6 := (ok root hr).1.2.2.1
        refine ⟨rfl, qr_mk ⟨T, N, _, _, hT1, hT4, rfl, hN, rfl, by omega, rfl, w6, rfl, fun e c he hc => ?_, hT, hU, hn⟩⟩
        rw [hcell2 e c he hc, hcell e c he hc]
end
section
/-! the constructors, the tables, the results -/
section
variable {f_tables f_nodes f_codeLen f_rowMap f_rowWidth f_nextReg f_loops f_resRows f_resWidth : Int32} {a_tabWidth a_tabRows a_tab a_kind a_left a_right a_parent a_p a_q a_r a_nodeWidth a_bound a_wanted a_cOp a_cA a_cB a_cC a_cD a_loopHead a_todo a_reg a_cursor a_loopKey a_met a_store a_storeRows a_headOf a_tailOf a_link a_result ba_tab ba_p1 ba_p2 ba_p3 ba_used ba_bound ba_count ba_val ba_res : Nat → Int32}
theorem qr_big {N : Nat} {x : Int32} (hN : N < 2 ^ 31) (h : nI N ≤ x) : ¬ x < 0 ∧ ¬ x < nI N := ⟨fun z => nI_pos hN (Int32.lt_of_le_of_lt h z), Int32.not_lt.2 h⟩
theorem qx_noTable {post : Int32 → Prop} {T : Nat} {x : Int32} (hT : T ≤ 4) (K1 : ∀ t, t < T → x = nI t → post 0) (K0 : (∀ t, t < T → x ≠ nI t) → post 1) : wpX_noTable post (nI T, f_nodes, f_codeLen, f_rowMap, f_rowWidth, f_nextReg, f_loops, f_resRows, f_resWidth, a_tabWidth, a_tabRows, a_tab, a_kind, a_left, a_right, a_parent, a_p, a_q, a_r, a_nodeWidth, a_bound, a_wanted, a_cOp, a_cA, a_cB, a_cC, a_cD, a_loopHead, a_todo, a_reg, a_cursor, a_loopKey, a_met, a_store, a_storeRows, a_headOf, a_tailOf, a_link, a_result) x := by
  rcases pk_ix x (n := T) (by omega) with h | h | ⟨t, ht, rfl⟩
  · exact br_t h (K0 (fun t ht e => nI_pos (n := t) (by omega) (e ▸ h)))
  · obtain ⟨h0, h1⟩ := qr_big (by omega) h
    exact br_f h0 (br_f h1 (K0 (fun t ht e => h1 (by rw [e]; exact nI_lt ht (by omega)))))
  · exact br_f (nI_pos (by omega)) (br_t (nI_lt ht (by omega)) (K1 t ht rfl))
theorem qy_noTable {post : Int32 → Prop} {T : Nat} {x : Int32} (hT : T ≤ 4) (K1 : ∀ t, t < T → x = nI t → post 0) (K0 : (∀ t, t < T → x ≠ nI t) → post 1) : wpY_noTable post (nI T, f_nodes, f_resRows, f_resWidth, ba_tab, a_tabRows, a_tabWidth, a_kind, a_left, a_right, ba_p1, ba_p2, ba_p3, a_nodeWidth, ba_used, ba_bound, ba_count, ba_val, ba_res) x := by
  rcases pk_ix x (n := T) (by omega) with h | h | ⟨t, ht, rfl⟩
  · exact br_t h (K0 (fun t ht e => nI_pos (n := t) (by omega) (e ▸ h)))
  · obtain ⟨h0, h1⟩ := qr_big (by omega) h
    exact br_f h0 (br_f h1 (K0 (fun t ht e => h1 (by rw [e]; exact nI_lt ht (by omega)))))
  · exact br_f (nI_pos (by omega)) (br_t (nI_lt ht (by omega)) (K1 t ht rfl))
theorem qx_noNode {post : Int32 → Prop} {N : Nat} {x : Int32} (hN : N ≤ 12) (K1 : ∀ t, t < N → x = nI t → post 0) (K0 : (∀ t, t < N → x ≠ nI t) → post 1) : wpX_noNode post (f_tables, nI N, f_codeLen, f_rowMap, f_rowWidth, f_nextReg, f_loops, f_resRows, f_resWidth, a_tabWidth, a_tabRows, a_tab, a_kind, a_left, a_right, a_parent, a_p, a_q, a_r, a_nodeWidth, a_bound, a_wanted, a_cOp, a_cA, a_cB, a_cC, a_cD, a_loopHead, a_todo, a_reg, a_cursor, a_loopKey, a_met, a_store, a_storeRows, a_headOf, a_tailOf, a_link, a_result) x := by
  rcases pk_ix x (n := N) (by omega) with h | h | ⟨t, ht, rfl⟩
  · exact br_t h (K0 (fun t ht e => nI_pos (n := t) (by omega) (e ▸ h)))
  · obtain ⟨h0, h1⟩ := qr_big (by omega) h
    exact br_f h0 (br_f h1 (K0 (fun t ht e => h1 (by rw [e]; exact nI_lt ht (by omega)))))
  · exact br_f (nI_pos (by omega)) (br_t (nI_lt ht (by omega)) (K1 t ht rfl))
theorem qy_noNode {post : Int32 → Prop} {N : Nat} {x : Int32} (hN : N ≤ 12) (K1 : ∀ t, t < N → x = nI t → post 0) (K0 : (∀ t, t < N → x ≠ nI t) → post 1) : wpY_noNode post (f_tables, nI N, f_resRows, f_resWidth, ba_tab, a_tabRows, a_tabWidth, a_kind, a_left, a_right, ba_p1, ba_p2, ba_p3, a_nodeWidth, ba_used, ba_bound, ba_count, ba_val, ba_res) x := by
  rcases pk_ix x (n := N) (by omega) with h | h | ⟨t, ht, rfl⟩
  · exact br_t h (K0 (fun t ht e => nI_pos (n := t) (by omega) (e ▸ h)))
  · obtain ⟨h0, h1⟩ := qr_big (by omega) h
    exact br_f h0 (br_f h1 (K0 (fun t ht e => h1 (by rw [e]; exact nI_lt ht (by omega)))))
  · exact br_f (nI_pos (by omega)) (br_t (nI_lt ht (by omega)) (K1 t ht rfl))
theorem qr_ne {N t : Nat} (hN : N ≤ 12) (h : t < N) (K : ∀ s, s < N → nI t ≠ nI s) : False := K t h rfl
end
theorem qr_init {T : Nat} (h1 : 1 ≤ T) (h4 : T ≤ 4) : (∃ n, wX_init_273 (fun u => ∃ n, wY_init_147 (fun v => i_Rel 1 u v) (nI T) 0 0 0 n 0 (fun _ => 0) (fun _ => 0) (fun _ => 0) (fun _ => 0) (fun _ => 0) (fun _ => 0) (fun _ => 0) (fun _ => 0) (fun _ => 0) (fun _ => 0) (fun _ => 0) (fun _ => 0) (fun _ => 0) (fun _ => 0) (fun _ => 0)) (nI T) 0 0 0 0 0 0 0 0 n 0 (fun _ => 0) (fun _ => 0) (fun _ => 0) (fun _ => 0) (fun _ => 0) (fun _ => 0) (fun _ => 0) (fun _ => 0) (fun _ => 0) (fun _ => 0) (fun _ => 0) (fun _ => 0) (fun _ => 0) (fun _ => 0) (fun _ => 0) (fun _ => 0) (fun _ => 0) (fun _ => 0) (fun _ => 0) (fun _ => 0) (fun _ => 0) (fun _ => 0) (fun _ => 0) (fun _ => 0) (fun _ => 0) (fun _ => 0) (fun _ => 0) (fun _ => 0) (fun _ => 0) (fun _ => 0)) := by
  refine qb_loop (fun f c s => wX_init_273 _ (nI T) 0 0 0 0 0 0 0 0 f (nI c) s (fun _ => 0) (fun _ => 0) (fun _ => 0) (fun _ => 0) (fun _ => 0) (fun _ => 0) (fun _ => 0) (fun _ => 0) (fun _ => 0) (fun _ => 0) (fun _ => 0) (fun _ => 0) (fun _ => 0) (fun _ => 0) (fun _ => 0) (fun _ => 0) (fun _ => 0) (fun _ => 0) (fun _ => 0) (fun _ => 0) (fun _ => 0) (fun _ => 0) (fun _ => 0) (fun _ => 0) (fun _ => 0) (fun _ => 0) (fun _ => 0) (fun _ => 0) (fun _ => 0)) (fun _ => 0) 0 (List.replicate 4 2) 4 (List.length_replicate ..) ?_ ?_
  · intro f
    refine br_t (nI_le (a := 4) (b := 4) (Nat.le_refl _) (by decide)) ?_
    refine qb_loop (fun f c s => wY_init_147 _ (nI T) 0 0 0 f (nI c) (fun _ => 0) (fun _ => 0) s (fun _ => 0) (fun _ => 0) (fun _ => 0) (fun _ => 0) (fun _ => 0) (fun _ => 0) (fun _ => 0) (fun _ => 0) (fun _ => 0) (fun _ => 0) (fun _ => 0) (fun _ => 0)) (fun _ => 0) 0 (List.replicate 4 2) 4 (List.length_replicate ..) ?_ ?_
    · intro f
      refine br_t (nI_le (a := 4) (b := 4) (Nat.le_refl _) (by decide)) (qr_mk ?_)
      refine ⟨T, 0, 0, 0, h1, h4, rfl, by omega, rfl, by omega, rfl, by omega, rfl, fun e c he => absurd he (Nat.not_lt_zero _), fun t ht => ⟨2, 0, by omega, by omega, by omega, ?_, rfl, fun i hi => by omega⟩, fun i hi => absurd hi (Nat.not_lt_zero _), fun i hi => absurd hi (Nat.not_lt_zero _)⟩
      have h := qb_bl_in (f := fun _ => 0) (b := 0) (xs := List.replicate 4 2) (i := t) (by rw [List.length_replicate]; exact ht)
      rw [Nat.zero_add, qm_repl ht] at h
      exact h
    · intro f c hc K'
      refine br_f (nI_ge (a := c) (b := 4) hc (by decide)) ⟨vp_in_nI hc (by decide), ?_⟩
      rw [nI_clamp (by omega)]
      rw [qm_repl hc, Nat.zero_add] at K'
      exact nm_e (nm_r (nI_1 c) K')
  · intro f c hc K'
    refine br_f (nI_ge (a := c) (b := 4) hc (by decide)) ⟨vp_in_nI hc (by decide), ?_⟩
    rw [nI_clamp (by omega)]
    rw [qm_repl hc, Nat.zero_add] at K'
    exact nm_e (nm_r (nI_1 c) K')
theorem i_vc0 (k0 : Int32) : wpX_init (fun u => wpY_init (fun v => i_Rel 1 u v) k0) k0 := by
  unfold wpX_init wpY_init
  by_cases h1 : 1 ≤ k0
  · have h0 : ¬ k0 < 0 := fun z => absurd (Int32.lt_of_le_of_lt h1 z) (by decide)
    obtain ⟨T, hT, rfl⟩ := nI_of h0
    have hT1 : 1 ≤ T := by
      have : nI 1 ≤ nI T := h1
      rwa [nI_leI (by omega) hT] at this
    refine br_t h1 ?_
    by_cases h4 : T ≤ 4
    · have h4' : nI T ≤ 4 := nI_le (b := 4) h4 (by decide)
      refine br_t h4' ?_
      obtain ⟨n, hn⟩ := qr_init hT1 h4
      refine ⟨n, ?_⟩
      have e : (fun u => (1 ≤ nI T → wY_init_133 (fun v => i_Rel 1 u v) (nI T) 0 0 0 0 (fun _ => 0) (fun _ => 0) (fun _ => 0) (fun _ => 0) (fun _ => 0) (fun _ => 0) (fun _ => 0) (fun _ => 0) (fun _ => 0) (fun _ => 0) (fun _ => 0) (fun _ => 0) (fun _ => 0) (fun _ => 0) (fun _ => 0)) ∧ (¬ 1 ≤ nI T → wY_init_133 (fun v => i_Rel 1 u v) 1 0 0 0 0 (fun _ => 0) (fun _ => 0) (fun _ => 0) (fun _ => 0) (fun _ => 0) (fun _ => 0) (fun _ => 0) (fun _ => 0) (fun _ => 0) (fun _ => 0) (fun _ => 0) (fun _ => 0) (fun _ => 0) (fun _ => 0) (fun _ => 0))) = (fun u => ∃ n, wY_init_147 (fun v => i_Rel 1 u v) (nI T) 0 0 0 n 0 (fun _ => 0) (fun _ => 0) (fun _ => 0) (fun _ => 0) (fun _ => 0) (fun _ => 0) (fun _ => 0) (fun _ => 0) (fun _ => 0) (fun _ => 0) (fun _ => 0) (fun _ => 0) (fun _ => 0) (fun _ => 0) (fun _ => 0)) := by
        funext u
        exact propext ⟨fun h => (h.1 h1).1 h4', fun h => br_t h1 (br_t h4' h)⟩
      rw [e]; exact hn
    · have h4' : ¬ nI T ≤ 4 := nI_ge (a := 4) (b := T) (by omega) hT
      refine br_f h4' ?_
      obtain ⟨n, hn⟩ := qr_init (T := 4) (by omega) (by omega)
      refine ⟨n, ?_⟩
      have e : (fun u => (1 ≤ nI T → wY_init_133 (fun v => i_Rel 1 u v) (nI T) 0 0 0 0 (fun _ => 0) (fun _ => 0) (fun _ => 0) (fun _ => 0) (fun _ => 0) (fun _ => 0) (fun _ => 0) (fun _ => 0) (fun _ => 0) (fun _ => 0) (fun _ => 0) (fun _ => 0) (fun _ => 0) (fun _ => 0) (fun _ => 0)) ∧ (¬ 1 ≤ nI T → wY_init_133 (fun v => i_Rel 1 u v) 1 0 0 0 0 (fun _ => 0) (fun _ => 0) (fun _ => 0) (fun _ => 0) (fun _ => 0) (fun _ => 0) (fun _ => 0) (fun _ => 0) (fun _ => 0) (fun _ => 0) (fun _ => 0) (fun _ => 0) (fun _ => 0) (fun _ => 0) (fun _ => 0))) = (fun u => ∃ n, wY_init_147 (fun v => i_Rel 1 u v) (nI 4) 0 0 0 n 0 (fun _ => 0) (fun _ => 0) (fun _ => 0) (fun _ => 0) (fun _ => 0) (fun _ => 0) (fun _ => 0) (fun _ => 0) (fun _ => 0) (fun _ => 0) (fun _ => 0) (fun _ => 0) (fun _ => 0) (fun _ => 0) (fun _ => 0)) := by
        funext u
        exact propext ⟨fun h => (h.1 h1).2 h4', fun h => br_t h1 (br_f h4' h)⟩
      rw [e]; exact hn
  · refine br_f h1 (br_t (by decide) ?_)
    obtain ⟨n, hn⟩ := qr_init (T := 1) (by omega) (by omega)
    refine ⟨n, ?_⟩
    have e : (fun u => (1 ≤ k0 → wY_init_133 (fun v => i_Rel 1 u v) k0 0 0 0 0 (fun _ => 0) (fun _ => 0) (fun _ => 0) (fun _ => 0) (fun _ => 0) (fun _ => 0) (fun _ => 0) (fun _ => 0) (fun _ => 0) (fun _ => 0) (fun _ => 0) (fun _ => 0) (fun _ => 0) (fun _ => 0) (fun _ => 0)) ∧ (¬ 1 ≤ k0 → wY_init_133 (fun v => i_Rel 1 u v) 1 0 0 0 0 (fun _ => 0) (fun _ => 0) (fun _ => 0) (fun _ => 0) (fun _ => 0) (fun _ => 0) (fun _ => 0) (fun _ => 0) (fun _ => 0) (fun _ => 0) (fun _ => 0) (fun _ => 0) (fun _ => 0) (fun _ => 0) (fun _ => 0))) = (fun u => ∃ n, wY_init_147 (fun v => i_Rel 1 u v) (nI 1) 0 0 0 n 0 (fun _ => 0) (fun _ => 0) (fun _ => 0) (fun _ => 0) (fun _ => 0) (fun _ => 0) (fun _ => 0) (fun _ => 0) (fun _ => 0) (fun _ => 0) (fun _ => 0) (fun _ => 0) (fun _ => 0) (fun _ => 0) (fun _ => 0)) := by
      funext u
      exact propext ⟨fun h => (h.2 h1).1 (by decide), fun h => br_f h1 (br_t (by decide) h)⟩
    rw [e]; exact hn
end
section
/-! tables and results -/
theorem i_vc_resultRows {k : Nat} {u : SX} {v : SY} (I : i_Rel k u v) (hk : k + 5 ≤ 2561) : wpX_resultRows (fun r => wpY_resultRows (fun r' => r' = r ∧ i_Rel (k + 5) u v) v) u := by
  refine qr_el (P := fun u v => wpX_resultRows (fun r => wpY_resultRows (fun r' => r' = r ∧ i_Rel (k + 5) u v) v) u) ?_ I
  intro f_tables f_nodes f_codeLen f_rowMap f_rowWidth f_nextReg f_loops f_resRows f_resWidth a_tabWidth a_tabRows a_tab a_kind a_left a_right a_parent a_p a_q a_r a_nodeWidth a_bound a_wanted a_cOp a_cA a_cB a_cC a_cD a_loopHead a_todo a_reg a_cursor a_loopKey a_met a_store a_storeRows a_headOf a_tailOf a_link a_result ba_tab ba_p1 ba_p2 ba_p3 ba_used ba_bound ba_count ba_val ba_res R
  exact ⟨rfl, qr_mk R⟩
theorem i_vc_resultWidth {k : Nat} {u : SX} {v : SY} (I : i_Rel k u v) (hk : k + 5 ≤ 2561) : wpX_resultWidth (fun r => wpY_resultWidth (fun r' => r' = r ∧ i_Rel (k + 5) u v) v) u := by
  refine qr_el (P := fun u v => wpX_resultWidth (fun r => wpY_resultWidth (fun r' => r' = r ∧ i_Rel (k + 5) u v) v) u) ?_ I
  intro f_tables f_nodes f_codeLen f_rowMap f_rowWidth f_nextReg f_loops f_resRows f_resWidth a_tabWidth a_tabRows a_tab a_kind a_left a_right a_parent a_p a_q a_r a_nodeWidth a_bound a_wanted a_cOp a_cA a_cB a_cC a_cD a_loopHead a_todo a_reg a_cursor a_loopKey a_met a_store a_storeRows a_headOf a_tailOf a_link a_result ba_tab ba_p1 ba_p2 ba_p3 ba_used ba_bound ba_count ba_val ba_res R
  exact ⟨rfl, qr_mk R⟩
theorem i_vc_cell {k : Nat} {u : SX} {v : SY} (I : i_Rel k u v) (hk : k + 5 ≤ 2561) (v1 : Int32) (v2 : Int32) : wpX_cell (fun r => wpY_cell (fun r' => r' = r ∧ i_Rel (k + 5) u v) v v1 v2) u v1 v2 := by
  refine qr_el (P := fun u v => wpX_cell (fun r => wpY_cell (fun r' => r' = r ∧ i_Rel (k + 5) u v) v v1 v2) u v1 v2) ?_ I
  intro f_tables f_nodes f_codeLen f_rowMap f_rowWidth f_nextReg f_loops f_resRows f_resWidth a_tabWidth a_tabRows a_tab a_kind a_left a_right a_parent a_p a_q a_r a_nodeWidth a_bound a_wanted a_cOp a_cA a_cB a_cC a_cD a_loopHead a_todo a_reg a_cursor a_loopKey a_met a_store a_storeRows a_headOf a_tailOf a_link a_result ba_tab ba_p1 ba_p2 ba_p3 ba_used ba_bound ba_count ba_val ba_res R
  have R0 := R
  obtain ⟨T, N, rr, rw, hT1, hT4, eT, hN, eN, hrr, err, hrw, erw, hres, hT, hU, hn⟩ := R
  subst err erw
  by_cases h1 : v1 < 0
  · exact br_t h1 (br_t h1 ⟨rfl, qr_mk R0⟩)
  · by_cases h2 : nI rr ≤ v1
    · exact br_f h1 (br_t h2 (br_f h1 (br_t h2 ⟨rfl, qr_mk R0⟩)))
    · by_cases h3 : v2 < 0
      · exact br_f h1 (br_f h2 (br_t h3 (br_f h1 (br_f h2 (br_t h3 ⟨rfl, qr_mk R0⟩)))))
      · by_cases h4 : v2 < nI rw
        · obtain ⟨e, he, rfl⟩ := nI_of h1
          obtain ⟨c, hc, rfl⟩ := nI_of h3
          have he' : e < rr := by
            rw [nI_leI (by omega) he] at h2; omega
          have hc' : c < rw := by
            rwa [nI_ltI hc (by omega)] at h4
          have ix : nI e * 6 + nI c = nI (e * 6 + c) := qb_ix6 e c
          refine br_f h1 (br_f h2 (br_f h3 (br_t h4 ?_)))
          rw [ix, nI_clamp (by omega)]
          refine ⟨vp_in_nI (by omega) (by decide), br_f h1 (br_f h2 (br_f h3 (br_t h4 ?_)))⟩
          rw [ix, nI_clamp (by omega)]
          exact ⟨vp_in_nI (by omega) (by decide), hres e c he' hc', qr_mk R0⟩
        · exact br_f h1 (br_f h2 (br_f h3 (br_f h4 (br_f h1 (br_f h2 (br_f h3 (br_f h4 ⟨rfl, qr_mk R0⟩)))))))
theorem i_vc_width {k : Nat} {u : SX} {v : SY} (I : i_Rel k u v) (hk : k + 5 ≤ 2561) (v1 : Int32) : wpX_width (fun r => wpY_width (fun r' => r' = r ∧ i_Rel (k + 5) u v) v v1) u v1 := by
  refine qr_el (P := fun u v => wpX_width (fun r => wpY_width (fun r' => r' = r ∧ i_Rel (k + 5) u v) v v1) u v1) ?_ I
  intro f_tables f_nodes f_codeLen f_rowMap f_rowWidth f_nextReg f_loops f_resRows f_resWidth a_tabWidth a_tabRows a_tab a_kind a_left a_right a_parent a_p a_q a_r a_nodeWidth a_bound a_wanted a_cOp a_cA a_cB a_cC a_cD a_loopHead a_todo a_reg a_cursor a_loopKey a_met a_store a_storeRows a_headOf a_tailOf a_link a_result ba_tab ba_p1 ba_p2 ba_p3 ba_used ba_bound ba_count ba_val ba_res R
  have R0 := R
  obtain ⟨T, N, rr, rw, hT1, hT4, eT, hN, eN, hrr, err, hrw, erw, hres, hT, hU, hn⟩ := R
  subst eN
  unfold wpX_width
  refine qx_noNode hN (fun t ht e => br_t rfl ?_) (fun h => br_f (by decide) ?_)
  · subst e
    refine ⟨vp_in_nI (by omega) (by decide), ?_⟩
    unfold wpY_width
    refine qy_noNode hN (fun t' ht' e' => br_t rfl ⟨vp_in_nI (by omega) (by decide), rfl, qr_mk R0⟩) (fun h => absurd rfl (h t ht))
  · unfold wpY_width
    exact qy_noNode hN (fun t' ht' e' => absurd e' (h t' ht')) (fun _ => br_f (by decide) ⟨rfl, qr_mk R0⟩)
theorem i_vc_tableRows {k : Nat} {u : SX} {v : SY} (I : i_Rel k u v) (hk : k + 5 ≤ 2561) (v1 : Int32) : wpX_tableRows (fun r => wpY_tableRows (fun r' => r' = r ∧ i_Rel (k + 5) u v) v v1) u v1 := by
  refine qr_el (P := fun u v => wpX_tableRows (fun r => wpY_tableRows (fun r' => r' = r ∧ i_Rel (k + 5) u v) v v1) u v1) ?_ I
  intro f_tables f_nodes f_codeLen f_rowMap f_rowWidth f_nextReg f_loops f_resRows f_resWidth a_tabWidth a_tabRows a_tab a_kind a_left a_right a_parent a_p a_q a_r a_nodeWidth a_bound a_wanted a_cOp a_cA a_cB a_cC a_cD a_loopHead a_todo a_reg a_cursor a_loopKey a_met a_store a_storeRows a_headOf a_tailOf a_link a_result ba_tab ba_p1 ba_p2 ba_p3 ba_used ba_bound ba_count ba_val ba_res R
  have R0 := R
  obtain ⟨T, N, rr, rw, hT1, hT4, eT, hN, eN, hrr, err, hrw, erw, hres, hT, hU, hn⟩ := R
  subst eT
  unfold wpX_tableRows
  refine qx_noTable hT4 (fun t ht e => br_t rfl ?_) (fun h => br_f (by decide) ?_)
  · subst e
    refine ⟨vp_in_nI (by omega) (by decide), ?_⟩
    unfold wpY_tableRows
    exact qy_noTable hT4 (fun t' ht' e' => br_t rfl ⟨vp_in_nI (by omega) (by decide), rfl, qr_mk R0⟩) (fun h => absurd rfl (h t ht))
  · unfold wpY_tableRows
    exact qy_noTable hT4 (fun t' ht' e' => absurd e' (h t' ht')) (fun _ => br_f (by decide) ⟨rfl, qr_mk R0⟩)
theorem i_vc_clearPlan {k : Nat} {u : SX} {v : SY} (I : i_Rel k u v) (hk : k + 5 ≤ 2561) : wpX_clearPlan (fun u' => wpY_clearPlan (fun v' => i_Rel (k + 5) u' v') v) u := by
  refine qr_el (P := fun u v => wpX_clearPlan (fun u' => wpY_clearPlan (fun v' => i_Rel (k + 5) u' v') v) u) ?_ I
  intro f_tables f_nodes f_codeLen f_rowMap f_rowWidth f_nextReg f_loops f_resRows f_resWidth a_tabWidth a_tabRows a_tab a_kind a_left a_right a_parent a_p a_q a_r a_nodeWidth a_bound a_wanted a_cOp a_cA a_cB a_cC a_cD a_loopHead a_todo a_reg a_cursor a_loopKey a_met a_store a_storeRows a_headOf a_tailOf a_link a_result ba_tab ba_p1 ba_p2 ba_p3 ba_used ba_bound ba_count ba_val ba_res R
  obtain ⟨T, N, rr, rw, hT1, hT4, eT, hN, eN, hrr, err, hrw, erw, hres, hT, hU, hn⟩ := R
  subst eT eN err erw
  unfold wpX_clearPlan wpY_clearPlan
  have key : ∀ used : Nat → Int32, i_Rel (k + 5) (nI T, 0, f_codeLen, f_rowMap, f_rowWidth, f_nextReg, f_loops, nI rr, nI rw, a_tabWidth, a_tabRows, a_tab, a_kind, a_left, a_right, a_parent, a_p, a_q, a_r, a_nodeWidth, a_bound, a_wanted, a_cOp, a_cA, a_cB, a_cC, a_cD, a_loopHead, a_todo, a_reg, a_cursor, a_loopKey, a_met, a_store, a_storeRows, a_headOf, a_tailOf, a_link, a_result) (nI T, 0, nI rr, nI rw, ba_tab, a_tabRows, a_tabWidth, a_kind, a_left, a_right, ba_p1, ba_p2, ba_p3, a_nodeWidth, used, ba_bound, ba_count, ba_val, ba_res) := fun used =>
    qr_mk (f_nodes := 0) ⟨T, 0, rr, rw, hT1, hT4, rfl, by omega, rfl, hrr, rfl, hrw, rfl, hres, hT, fun i hi => absurd hi (Nat.not_lt_zero _), fun i hi => absurd hi (Nat.not_lt_zero _)⟩
  refine loop_0 (fun n i s => wY_clearPlan_2 (fun v' => i_Rel (k + 5) (nI T, 0, f_codeLen, f_rowMap, f_rowWidth, f_nextReg, f_loops, nI rr, nI rw, a_tabWidth, a_tabRows, a_tab, a_kind, a_left, a_right, a_parent, a_p, a_q, a_r, a_nodeWidth, a_bound, a_wanted, a_cOp, a_cA, a_cB, a_cC, a_cD, a_loopHead, a_todo, a_reg, a_cursor, a_loopKey, a_met, a_store, a_storeRows, a_headOf, a_tailOf, a_link, a_result) v') (nI T) (nI N) (nI rr) (nI rw) n (nI i) ba_tab a_tabRows a_tabWidth a_kind a_left a_right ba_p1 ba_p2 ba_p3 a_nodeWidth s ba_bound ba_count ba_val ba_res) (fun _ _ => True) 12 ba_used trivial ?_ ?_
  · intro n s _
    exact br_t (nI_le (a := 12) (b := 12) (Nat.le_refl _) (by decide)) (key s)
  · intro n i s hi _ K
    refine br_f (nI_ge (a := i) (b := 12) hi (by decide)) ⟨vp_in_nI hi (by decide), nm_e (nm_r (nI_1 i) (K _ trivial))⟩
theorem i_vc_addRow {k : Nat} {u : SX} {v : SY} (I : i_Rel k u v) (hk : k + 5 ≤ 2561) (v1 : Int32) (v2 : Int32) (v3 : Int32) (v4 : Int32) : wpX_addRow (fun r u' => wpY_addRow (fun r' v' => r' = r ∧ i_Rel (k + 5) u' v') v v1 v2 v3 v4) u v1 v2 v3 v4 := by
  refine qr_el (P := fun u v => wpX_addRow (fun r u' => wpY_addRow (fun r' v' => r' = r ∧ i_Rel (k + 5) u' v') v v1 v2 v3 v4) u v1 v2 v3 v4) ?_ I
  intro f_tables f_nodes f_codeLen f_rowMap f_rowWidth f_nextReg f_loops f_resRows f_resWidth a_tabWidth a_tabRows a_tab a_kind a_left a_right a_parent a_p a_q a_r a_nodeWidth a_bound a_wanted a_cOp a_cA a_cB a_cC a_cD a_loopHead a_todo a_reg a_cursor a_loopKey a_met a_store a_storeRows a_headOf a_tailOf a_link a_result ba_tab ba_p1 ba_p2 ba_p3 ba_used ba_bound ba_count ba_val ba_res R
  have R0 := R
  obtain ⟨T, N, rr, rw, hT1, hT4, eT, hN, eN, hrr, err, hrw, erw, hres, hT, hU, hn⟩ := R
  subst eT
  unfold wpX_addRow
  refine qx_noTable hT4 (fun t ht e => br_t rfl ?_) (fun h => br_f (by decide) ?_)
  · subst e
    obtain ⟨w, m, w1, w3, m10, ew, em, hc⟩ := hT t (by omega)
    have ix0 : nI t * 30 + nI m * 3 = nI (t * 30 + m * 3) := qb_ix303 t m
    have ix2 : nI (t * 30 + m * 3) + 2 = nI (t * 30 + m * 3 + 2) := by rw [show (2 : Int32) = nI 2 from rfl, nI_add]
    refine ⟨vp_in_nI (by omega) (by decide), ?_⟩
    rw [nI_clamp (n := t) (by omega)]
    refine nm_r em ?_
    by_cases h10 : m < 10
    · refine br_t (nI_lt (b := 10) h10 (by decide)) (nm_r ix0 ?_)
      rw [nI_1, ix2, nI_1, nI_clamp (n := t * 30 + m * 3) (by omega), nI_clamp (n := t * 30 + m * 3 + 1) (by omega), nI_clamp (n := t * 30 + m * 3 + 2) (by omega)]
      refine ⟨vp_in_nI (by omega) (by decide), nm_e ⟨vp_in_nI (by omega) (by decide), nm_e ⟨vp_in_nI (by omega) (by decide), nm_e ⟨vp_in_nI (by omega) (by decide), nm_e ?_⟩⟩⟩⟩
      unfold wpY_addRow
      refine qy_noTable hT4 (fun t' ht' e' => br_t rfl ?_) (fun h => absurd rfl (h t ht))
      refine ⟨vp_in_nI (by omega) (by decide), ?_⟩
      rw [nI_clamp (n := t) (by omega)]
      refine nm_r em (br_t (nI_lt (b := 10) h10 (by decide)) ?_)
      rw [ix0, nI_1, ix2, nI_1, nI_clamp (n := t * 30 + m * 3) (by omega), nI_clamp (n := t * 30 + m * 3 + 1) (by omega), nI_clamp (n := t * 30 + m * 3 + 2) (by omega)]
      refine ⟨vp_in_nI (by omega) (by decide), nm_e ⟨vp_in_nI (by omega) (by decide), nm_e ⟨vp_in_nI (by omega) (by decide), nm_e ⟨vp_in_nI (by omega) (by decide), nm_e ⟨rfl, qr_mk ?_⟩⟩⟩⟩⟩
      refine ⟨T, N, rr, rw, hT1, hT4, rfl, hN, eN, hrr, err, hrw, erw, hres, fun s hs => ?_, hU, hn⟩
      by_cases es : s = t
      · subst es
        refine ⟨w, m + 1, w1, w3, by omega, ew, pk_us, fun i hi => ?_⟩
        by_cases i2 : i = m * 3 + 2
        · subst i2; rw [← Nat.add_assoc, pk_us, pk_us]
        · rw [pk_un (by omega), pk_un (j := s * 30 + i) (k := s * 30 + m * 3 + 2) (by omega)]
          by_cases i1 : i = m * 3 + 1
          · subst i1; rw [← Nat.add_assoc, pk_us, pk_us]
          · rw [pk_un (by omega), pk_un (j := s * 30 + i) (k := s * 30 + m * 3 + 1) (by omega)]
            by_cases i0 : i = m * 3
            · subst i0; rw [pk_us, pk_us]
            · rw [pk_un (by omega), pk_un (by omega)]; exact hc i (by omega)
      · obtain ⟨w', m', w1', w3', m10', ew', em', hc'⟩ := hT s hs
        refine ⟨w', m', w1', w3', m10', ew', by rw [pk_un es]; exact em', fun i hi => ?_⟩
        rw [pk_un (by omega), pk_un (by omega), pk_un (by omega), pk_un (by omega), pk_un (by omega), pk_un (by omega)]; exact hc' i hi
    · have h10' : ¬ nI m < 10 := nI_nlt (b := 10) (by omega) (by omega)
      refine br_f h10' ?_
      unfold wpY_addRow
      refine qy_noTable hT4 (fun t' ht' e' => br_t rfl ?_) (fun h => absurd rfl (h t ht))
      refine ⟨vp_in_nI (by omega) (by decide), ?_⟩
      rw [nI_clamp (n := t) (by omega)]
      exact nm_r em (br_f h10' ⟨rfl, qr_mk R0⟩)
  · unfold wpY_addRow
    exact qy_noTable hT4 (fun t' ht' e' => absurd e' (h t' ht')) (fun _ => br_f (by decide) ⟨rfl, qr_mk R0⟩)
theorem i_vc_setCell {k : Nat} {u : SX} {v : SY} (I : i_Rel k u v) (hk : k + 5 ≤ 2561) (v1 : Int32) (v2 : Int32) (v3 : Int32) (v4 : Int32) : wpX_setCell (fun r u' => wpY_setCell (fun r' v' => r' = r ∧ i_Rel (k + 5) u' v') v v1 v2 v3 v4) u v1 v2 v3 v4 := by
  refine qr_el (P := fun u v => wpX_setCell (fun r u' => wpY_setCell (fun r' v' => r' = r ∧ i_Rel (k + 5) u' v') v v1 v2 v3 v4) u v1 v2 v3 v4) ?_ I
  intro f_tables f_nodes f_codeLen f_rowMap f_rowWidth f_nextReg f_loops f_resRows f_resWidth a_tabWidth a_tabRows a_tab a_kind a_left a_right a_parent a_p a_q a_r a_nodeWidth a_bound a_wanted a_cOp a_cA a_cB a_cC a_cD a_loopHead a_todo a_reg a_cursor a_loopKey a_met a_store a_storeRows a_headOf a_tailOf a_link a_result ba_tab ba_p1 ba_p2 ba_p3 ba_used ba_bound ba_count ba_val ba_res R
  have R0 := R
  obtain ⟨T, N, rr, rw, hT1, hT4, eT, hN, eN, hrr, err, hrw, erw, hres, hT, hU, hn⟩ := R
  subst eT
  unfold wpX_setCell
  refine qx_noTable hT4 (fun t ht e => br_t rfl ?_) (fun h => br_f (by decide) ?_)
  · subst e
    obtain ⟨w, m, w1, w3, m10, ew, em, hc⟩ := hT t (by omega)
    have Y : ∀ (r : Int32) (u' : SX), (v2 < 0 → r = -12 ∧ i_Rel (k + 5) u' (nI T, f_nodes, f_resRows, f_resWidth, ba_tab, a_tabRows, a_tabWidth, a_kind, a_left, a_right, ba_p1, ba_p2, ba_p3, a_nodeWidth, ba_used, ba_bound, ba_count, ba_val, ba_res)) → (¬ v2 < 0 → (v2 < nI m → (v3 < 0 → r = -3 ∧ i_Rel (k + 5) u' (nI T, f_nodes, f_resRows, f_resWidth, ba_tab, a_tabRows, a_tabWidth, a_kind, a_left, a_right, ba_p1, ba_p2, ba_p3, a_nodeWidth, ba_used, ba_bound, ba_count, ba_val, ba_res)) ∧ (¬ v3 < 0 → (v3 < nI w → ∀ e c, v2 = nI e → v3 = nI c → e < m → c < w → r = 0 ∧ i_Rel (k + 5) u' (nI T, f_nodes, f_resRows, f_resWidth, upd ba_tab (t * 30 + e * 3 + c) v4, a_tabRows, a_tabWidth, a_kind, a_left, a_right, ba_p1, ba_p2, ba_p3, a_nodeWidth, ba_used, ba_bound, ba_count, ba_val, ba_res)) ∧ (¬ v3 < nI w → r = -3 ∧ i_Rel (k + 5) u' (nI T, f_nodes, f_resRows, f_resWidth, ba_tab, a_tabRows, a_tabWidth, a_kind, a_left, a_right, ba_p1, ba_p2, ba_p3, a_nodeWidth, ba_used, ba_bound, ba_count, ba_val, ba_res)))) ∧ (¬ v2 < nI m → r = -12 ∧ i_Rel (k + 5) u' (nI T, f_nodes, f_resRows, f_resWidth, ba_tab, a_tabRows, a_tabWidth, a_kind, a_left, a_right, ba_p1, ba_p2, ba_p3, a_nodeWidth, ba_used, ba_bound, ba_count, ba_val, ba_res))) →
        wpY_setCell (fun r' v' => r' = r ∧ i_Rel (k + 5) u' v') (nI T, f_nodes, f_resRows, f_resWidth, ba_tab, a_tabRows, a_tabWidth, a_kind, a_left, a_right, ba_p1, ba_p2, ba_p3, a_nodeWidth, ba_used, ba_bound, ba_count, ba_val, ba_res) (nI t) v2 v3 v4 := by
      intro r u' h1 h2
      unfold wpY_setCell
      refine qy_noTable hT4 (fun t' ht' e' => br_t rfl ?_) (fun h => absurd rfl (h t ht))
      refine br_c (fun z => ⟨(h1 z).1.symm, (h1 z).2⟩) (fun z => ⟨vp_in_nI (by omega) (by decide), ?_⟩)
      rw [nI_clamp (n := t) (by omega), em, ew]
      obtain ⟨h3, h4⟩ := h2 z
      refine br_c (fun z2 => ?_) (fun z2 => ⟨(h4 z2).1.symm, (h4 z2).2⟩)
      obtain ⟨h5, h6⟩ := h3 z2
      refine br_c (fun z3 => ⟨(h5 z3).1.symm, (h5 z3).2⟩) (fun z3 => ⟨vp_in_nI (by omega) (by decide), ?_⟩)
      obtain ⟨h7, h8⟩ := h6 z3
      refine br_c (fun z4 => ?_) (fun z4 => ⟨(h8 z4).1.symm, (h8 z4).2⟩)
      obtain ⟨e, he, rfl⟩ := nI_of z
      obtain ⟨c, hcc, rfl⟩ := nI_of z3
      have he' : e < m := by rwa [nI_ltI he (by omega)] at z2
      have hc' : c < w := by rwa [nI_ltI hcc (by omega)] at z4
      rw [qb_ix30, nI_clamp (n := t * 30 + e * 3 + c) (by omega)]
      obtain ⟨h9, h10⟩ := h7 z4 e c rfl rfl he' hc'
      exact ⟨vp_in_nI (by omega) (by decide), nm_e ⟨h9.symm, h10⟩⟩
    refine br_c (fun z => Y _ _ (fun _ => ⟨rfl, qr_mk R0⟩) (fun y => absurd z y)) (fun z => ⟨vp_in_nI (by omega) (by decide), ?_⟩)
    rw [nI_clamp (n := t) (by omega), em, ew]
    refine br_c (fun z2 => ?_) (fun z2 => Y _ _ (fun y => absurd y z) (fun _ => ⟨fun y => absurd y z2, fun _ => ⟨rfl, qr_mk R0⟩⟩))
    refine br_c (fun z3 => Y _ _ (fun y => absurd y z) (fun _ => ⟨fun _ => ⟨fun _ => ⟨rfl, qr_mk R0⟩, fun y => absurd z3 y⟩, fun y => absurd z2 y⟩)) (fun z3 => ⟨vp_in_nI (by omega) (by decide), ?_⟩)
    refine br_c (fun z4 => ?_) (fun z4 => Y _ _ (fun y => absurd y z) (fun _ => ⟨fun _ => ⟨fun y => absurd y z3, fun _ => ⟨fun y => absurd y z4, fun _ => ⟨rfl, qr_mk R0⟩⟩⟩, fun y => absurd z2 y⟩))
    obtain ⟨e, he, rfl⟩ := nI_of z
    obtain ⟨c, hcc, rfl⟩ := nI_of z3
    have he' : e < m := by rwa [nI_ltI he (by omega)] at z2
    have hc' : c < w := by rwa [nI_ltI hcc (by omega)] at z4
    rw [qb_ix30, nI_clamp (n := t * 30 + e * 3 + c) (by omega)]
    refine ⟨vp_in_nI (by omega) (by decide), nm_e (Y _ _ (fun y => absurd y z) (fun _ => ⟨fun _ => ⟨fun y => absurd y z3, fun _ => ⟨fun _ e2 c2 ee ec he2 hc2 => ?_, fun y => absurd z4 y⟩⟩, fun y => absurd z2 y⟩))⟩
    have e1 : e = e2 := qb_inj he (by omega) ee
    have e3 : c = c2 := qb_inj hcc (by omega) ec
    subst e1 e3
    refine ⟨rfl, qr_mk ⟨T, N, rr, rw, hT1, hT4, rfl, hN, eN, hrr, err, hrw, erw, hres, fun s hs => ?_, hU, hn⟩⟩
    obtain ⟨w', m', w1', w3', m10', ew', em', hc'⟩ := hT s hs
    refine ⟨w', m', w1', w3', m10', ew', em', fun i hi => ?_⟩
    by_cases q : s * 30 + i = t * 30 + e * 3 + c
    · rw [q, pk_us, pk_us]
    · rw [pk_un q, pk_un q]; exact hc' i hi
  · unfold wpY_setCell
    exact qy_noTable hT4 (fun t' ht' e' => absurd e' (h t' ht')) (fun _ => br_f (by decide) ⟨rfl, qr_mk R0⟩)
end
section
/-! dropRow, defineTable -/
/-- the rows from lo on moved up by one, as far as i -/
def qr_sh (f : Nat → Int32) (b lo i : Nat) : Nat → Int32 := fun j => if b + lo ≤ j ∧ j < b + i then f (j + 3) else f j
theorem qr_sh0 {f : Nat → Int32} {b lo : Nat} : qr_sh f b lo lo = f := by
  funext j
  exact if_neg (by omega)
theorem qr_sh_s {f : Nat → Int32} {b lo i : Nat} (h : lo ≤ i) : upd (qr_sh f b lo i) (b + i) (qr_sh f b lo i (b + i + 3)) = qr_sh f b lo (i + 1) := by
  have e1 : qr_sh f b lo i (b + i + 3) = f (b + i + 3) := if_neg (by omega)
  rw [e1]
  funext j
  by_cases e : j = b + i
  · subst e
    rw [pk_us]
    exact (if_pos (by omega)).symm
  · rw [pk_un e]
    by_cases c : b + lo ≤ j ∧ j < b + i
    · exact (if_pos c).trans (if_pos (by omega)).symm
    · exact (if_neg c).trans (if_neg (by omega)).symm
theorem qr_30 (t i : Nat) : nI t * 30 + nI i = nI (t * 30 + i) := by rw [show (30 : Int32) = nI 30 from rfl, pk_mul, nI_add]
theorem qr_p3 (t : Nat) : nI t + 3 = nI (t + 3) := by rw [show (3 : Int32) = nI 3 from rfl, nI_add]
theorem qr_m3 (t : Nat) : nI t * 3 = nI (t * 3) := by rw [show (3 : Int32) = nI 3 from rfl, pk_mul]
theorem i_vc_dropRow {k : Nat} {u : SX} {v : SY} (I : i_Rel k u v) (hk : k + 5 ≤ 2561) (v1 : Int32) (v2 : Int32) : wpX_dropRow (fun r u' => wpY_dropRow (fun r' v' => r' = r ∧ i_Rel (k + 5) u' v') v v1 v2) u v1 v2 := by
  refine qr_el (P := fun u v => wpX_dropRow (fun r u' => wpY_dropRow (fun r' v' => r' = r ∧ i_Rel (k + 5) u' v') v v1 v2) u v1 v2) ?_ I
  intro f_tables f_nodes f_codeLen f_rowMap f_rowWidth f_nextReg f_loops f_resRows f_resWidth a_tabWidth a_tabRows a_tab a_kind a_left a_right a_parent a_p a_q a_r a_nodeWidth a_bound a_wanted a_cOp a_cA a_cB a_cC a_cD a_loopHead a_todo a_reg a_cursor a_loopKey a_met a_store a_storeRows a_headOf a_tailOf a_link a_result ba_tab ba_p1 ba_p2 ba_p3 ba_used ba_bound ba_count ba_val ba_res R
  have R0 := R
  obtain ⟨T, N, rr, rw, hT1, hT4, eT, hN, eN, hrr, err, hrw, erw, hres, hT, hU, hn⟩ := R
  subst eT
  unfold wpX_dropRow
  refine qx_noTable hT4 (fun t ht e => br_t rfl ?_) (fun h => br_f (by decide) ?_)
  · subst e
    obtain ⟨w, m, w1, w3, m10, ew, em, hc⟩ := hT t (by omega)
    refine ⟨vp_in_nI (by omega) (by decide), ?_⟩
    rw [nI_clamp (n := t) (by omega)]
    refine nm_r em ?_
    by_cases h0 : v2 < 0
    · refine br_t h0 ?_
      unfold wpY_dropRow
      exact qy_noTable hT4 (fun t' ht' e' => br_t rfl (br_t h0 ⟨rfl, qr_mk R0⟩)) (fun h => absurd rfl (h t ht))
    · by_cases h1 : v2 < nI m
      · obtain ⟨row, hrow, rfl⟩ := nI_of h0
        have hr' : row < m := by rwa [nI_ltI hrow (by omega)] at h1
        obtain ⟨m', rfl⟩ : ∃ m', m = m' + 1 := ⟨m - 1, by omega⟩
        have eb : nI t * 30 = nI (t * 30) := by rw [show (30 : Int32) = nI 30 from rfl, pk_mul]
        have elim : nI (m' + 1) * 3 - 3 = nI (m' * 3) := by
          rw [qr_m3, show (3 : Int32) = nI 3 from rfl, pk_sub (by omega)]
          exact congrArg nI (by omega)
        -- the reference, once the component has ended
        have Y : ∀ u', (∀ tabY' : Nat → Int32, tabY' = qr_sh ba_tab (t * 30) (row * 3) 27 → i_Rel (k + 5) u' (nI T, f_nodes, f_resRows, f_resWidth, tabY', upd a_tabRows t (nI m'), a_tabWidth, a_kind, a_left, a_right, ba_p1, ba_p2, ba_p3, a_nodeWidth, ba_used, ba_bound, ba_count, ba_val, ba_res)) → wpY_dropRow (fun r' v' => r' = nI m' ∧ i_Rel (k + 5) u' v') (nI T, f_nodes, f_resRows, f_resWidth, ba_tab, a_tabRows, a_tabWidth, a_kind, a_left, a_right, ba_p1, ba_p2, ba_p3, a_nodeWidth, ba_used, ba_bound, ba_count, ba_val, ba_res) (nI t) (nI row) := by
          intro u' K
          unfold wpY_dropRow
          refine qy_noTable hT4 (fun t' ht' e' => br_t rfl (br_f h0 ⟨vp_in_nI (by omega) (by decide), ?_⟩)) (fun h => absurd rfl (h t ht))
          rw [nI_clamp (n := t) (by omega), em]
          refine br_t h1 (nm_r (qr_m3 row) ?_)
          have L : ∀ d i fu, i + d = 27 → row * 3 ≤ i → d < fu → wY_dropRow_31 (fun r' v' => r' = nI m' ∧ i_Rel (k + 5) u' v') (nI t) (nI T) f_nodes f_resRows f_resWidth fu (nI i) (qr_sh ba_tab (t * 30) (row * 3) i) a_tabRows a_tabWidth a_kind a_left a_right ba_p1 ba_p2 ba_p3 a_nodeWidth ba_used ba_bound ba_count ba_val ba_res := by
            intro d
            induction d with
            | zero =>
              intro i fu hi hlo hf
              obtain ⟨fu, rfl⟩ : ∃ f', fu = f' + 1 := ⟨fu - 1, by omega⟩
              have : i = 27 := by omega
              subst this
              refine br_t (nI_le (a := 27) (b := 27) (Nat.le_refl _) (by decide)) ⟨vp_in_nI (by omega) (by decide), vp_in_nI (by omega) (by decide), ?_⟩
              rw [nI_clamp (n := t) (by omega), em, nI_pred]
              exact nm_e ⟨vp_in_nI (by omega) (by decide), pk_us, K _ rfl⟩
            | succ d ih =>
              intro i fu hi hlo hf
              obtain ⟨fu, rfl⟩ : ∃ f', fu = f' + 1 := ⟨fu - 1, by omega⟩
              refine br_f (nI_ge (a := i) (b := 27) (by omega) (by decide)) ?_
              rw [qr_30, qr_p3, nI_clamp (n := t * 30 + i + 3) (by omega), nI_clamp (n := t * 30 + i) (by omega)]
              exact ⟨vp_in_nI (by omega) (by decide), vp_in_nI (by omega) (by decide), nm_r (qr_sh_s hlo) (nm_r (nI_1 i) (ih (i + 1) fu (by omega) (by omega) (by omega)))⟩
          have := L (27 - row * 3) (row * 3) 28 (by omega) (Nat.le_refl _) (by omega)
          rw [qr_sh0] at this
          exact ⟨28, this⟩
        refine br_f h0 (br_t h1 (nm_r eb (nm_r (qr_m3 row) ⟨30, ?_⟩)))
        have L : ∀ d i fu, i + d = m' * 3 → row * 3 ≤ i → d < fu → wX_dropRow_40 (fun r u' => wpY_dropRow (fun r' v' => r' = r ∧ i_Rel (k + 5) u' v') (nI T, f_nodes, f_resRows, f_resWidth, ba_tab, a_tabRows, a_tabWidth, a_kind, a_left, a_right, ba_p1, ba_p2, ba_p3, a_nodeWidth, ba_used, ba_bound, ba_count, ba_val, ba_res) (nI t) (nI row)) (nI t) (nI (m' + 1)) (nI (t * 30)) (nI T) f_nodes f_codeLen f_rowMap f_rowWidth f_nextReg f_loops f_resRows f_resWidth fu (nI i) a_tabWidth a_tabRows (qr_sh a_tab (t * 30) (row * 3) i) a_kind a_left a_right a_parent a_p a_q a_r a_nodeWidth a_bound a_wanted a_cOp a_cA a_cB a_cC a_cD a_loopHead a_todo a_reg a_cursor a_loopKey a_met a_store a_storeRows a_headOf a_tailOf a_link a_result := by
          intro d
          induction d with
          | zero =>
            intro i fu hi hlo hf
            obtain ⟨fu, rfl⟩ : ∃ f', fu = f' + 1 := ⟨fu - 1, by omega⟩
            have : i = m' * 3 := by omega
            subst this
            refine br_t (by rw [elim]; exact nI_le (Nat.le_refl _) (by omega)) ⟨vp_in_nI (by omega) (by decide), ?_⟩
            rw [nI_clamp (n := t) (by omega), nI_pred]
            refine nm_e (Y _ (fun tabY' e => ?_))
            subst e
            refine qr_mk ⟨T, N, rr, rw, hT1, hT4, rfl, hN, eN, hrr, err, hrw, erw, hres, fun s hs => ?_, hU, hn⟩
            by_cases es : s = t
            · subst es
              refine ⟨w, m', w1, w3, by omega, ew, pk_us, fun i hi => ?_⟩
              unfold qr_sh
              by_cases c : row * 3 ≤ i
              · rw [if_pos (by omega), if_pos (by omega), Nat.add_assoc]; exact hc _ (by omega)
              · rw [if_neg (by omega), if_neg (by omega)]; exact hc _ (by omega)
            · obtain ⟨w', m2, w1', w3', m10', ew', em', hc'⟩ := hT s hs
              refine ⟨w', m2, w1', w3', m10', ew', by rw [pk_un es]; exact em', fun i hi => ?_⟩
              unfold qr_sh
              rw [if_neg (by omega), if_neg (by omega)]; exact hc' i hi
          | succ d ih =>
            intro i fu hi hlo hf
            obtain ⟨fu, rfl⟩ : ∃ f', fu = f' + 1 := ⟨fu - 1, by omega⟩
            refine br_f (by rw [elim]; exact nI_ge (by omega) (by omega)) ?_
            rw [nI_add, qr_p3, nI_clamp (n := t * 30 + i + 3) (by omega), nI_clamp (n := t * 30 + i) (by omega)]
            exact ⟨vp_in_nI (by omega) (by decide), vp_in_nI (by omega) (by decide), nm_r (qr_sh_s hlo) (nm_r (nI_1 i) (ih (i + 1) fu (by omega) (by omega) (by omega)))⟩
        have := L (m' * 3 - row * 3) (row * 3) 30 (by omega) (Nat.le_refl _) (by omega)
        rw [qr_sh0] at this
        exact this
      · refine br_f h0 (br_f h1 ?_)
        unfold wpY_dropRow
        refine qy_noTable hT4 (fun t' ht' e' => br_t rfl (br_f h0 ⟨vp_in_nI (by omega) (by decide), ?_⟩)) (fun h => absurd rfl (h t ht))
        rw [nI_clamp (n := t) (by omega), em]
        exact br_f h1 ⟨rfl, qr_mk R0⟩
  · unfold wpY_dropRow
    exact qy_noTable hT4 (fun t' ht' e' => absurd e' (h t' ht')) (fun _ => br_f (by decide) ⟨rfl, qr_mk R0⟩)
theorem i_vc_defineTable {k : Nat} {u : SX} {v : SY} (I : i_Rel k u v) (hk : k + 5 ≤ 2561) (v1 : Int32) (v2 : Int32) : wpX_defineTable (fun r u' => wpY_defineTable (fun r' v' => r' = r ∧ i_Rel (k + 5) u' v') v v1 v2) u v1 v2 := by
  refine qr_el (P := fun u v => wpX_defineTable (fun r u' => wpY_defineTable (fun r' v' => r' = r ∧ i_Rel (k + 5) u' v') v v1 v2) u v1 v2) ?_ I
  intro f_tables f_nodes f_codeLen f_rowMap f_rowWidth f_nextReg f_loops f_resRows f_resWidth a_tabWidth a_tabRows a_tab a_kind a_left a_right a_parent a_p a_q a_r a_nodeWidth a_bound a_wanted a_cOp a_cA a_cB a_cC a_cD a_loopHead a_todo a_reg a_cursor a_loopKey a_met a_store a_storeRows a_headOf a_tailOf a_link a_result ba_tab ba_p1 ba_p2 ba_p3 ba_used ba_bound ba_count ba_val ba_res R
  have R0 := R
  obtain ⟨T, N, rr, rw, hT1, hT4, eT, hN, eN, hrr, err, hrw, erw, hres, hT, hU, hn⟩ := R
  subst eT eN
  unfold wpX_defineTable
  refine qx_noTable hT4 (fun t ht e => br_t rfl ?_) (fun h => br_f (by decide) ?_)
  · subst e
    by_cases h1 : v2 < 1
    · refine br_t h1 ?_
      unfold wpY_defineTable
      exact qy_noTable hT4 (fun t' ht' e' => br_t rfl (br_t h1 ⟨rfl, qr_mk R0⟩)) (fun h => absurd rfl (h t ht))
    · by_cases h3 : v2 ≤ 3
      · obtain ⟨w, hw, rfl⟩ := nI_of (x := v2) (fun z => h1 (Int32.lt_of_lt_of_le z (by decide)))
        have w3 : w ≤ 3 := by
          have : nI w ≤ nI 3 := h3
          rwa [nI_leI hw (by omega)] at this
        have w1 : 1 ≤ w := by
          have : ¬ nI w < nI 1 := h1
          rw [nI_ltI hw (by omega)] at this; omega
        -- a scan's table is the same number on both sides
        have same : ∀ i, i < N → a_kind i = 0 → ba_p1 i = a_p i := fun i hi z => by
          obtain ⟨kd, l, rt, w', wl, wr, k10, _, _, ek, _, _, _, _, _, P⟩ := hn i hi
          have : kd = 0 := by
            rw [ek, ← nI_0] at z
            exact qb_inj (by omega) (by omega) z
          exact (P.2.2.2.2.2.2.2.2.2.2.2.1 (by omega) (by omega) (by omega)).1
        have Y : ∀ (r : Int32) (u' : SX), ((∃ j, j < N ∧ a_kind j = 0 ∧ a_p j = nI t) → r = -11 ∧ i_Rel (k + 5) u' (nI T, nI N, f_resRows, f_resWidth, ba_tab, a_tabRows, a_tabWidth, a_kind, a_left, a_right, ba_p1, ba_p2, ba_p3, a_nodeWidth, ba_used, ba_bound, ba_count, ba_val, ba_res)) → ((∀ j, j < N → ¬ (a_kind j = 0 ∧ a_p j = nI t)) → r = 0 ∧ i_Rel (k + 5) u' (nI T, nI N, f_resRows, f_resWidth, ba_tab, upd a_tabRows t 0, upd a_tabWidth t (nI w), a_kind, a_left, a_right, ba_p1, ba_p2, ba_p3, a_nodeWidth, ba_used, ba_bound, ba_count, ba_val, ba_res)) →
            wpY_defineTable (fun r' v' => r' = r ∧ i_Rel (k + 5) u' v') (nI T, nI N, f_resRows, f_resWidth, ba_tab, a_tabRows, a_tabWidth, a_kind, a_left, a_right, ba_p1, ba_p2, ba_p3, a_nodeWidth, ba_used, ba_bound, ba_count, ba_val, ba_res) (nI t) (nI w) := by
          intro r u' K1 K0
          unfold wpY_defineTable
          refine qy_noTable hT4 (fun t' ht' e' => br_t rfl (br_f h1 (br_t h3 ⟨N + 1, ?_⟩))) (fun h => absurd rfl (h t ht))
          have L : ∀ d i fu, i + d = N → d < fu → (∀ j, j < i → ¬ (a_kind j = 0 ∧ a_p j = nI t)) → wY_defineTable_25 (fun r' v' => r' = r ∧ i_Rel (k + 5) u' v') (nI t) (nI w) (nI T) (nI N) f_resRows f_resWidth ba_tab a_tabRows a_tabWidth a_kind a_left a_right ba_p1 ba_p2 ba_p3 a_nodeWidth ba_used ba_bound ba_count ba_val ba_res fu (nI i) := by
            intro d
            induction d with
            | zero =>
              intro i fu hi hf hj
              obtain ⟨fu, rfl⟩ : ∃ f', fu = f' + 1 := ⟨fu - 1, by omega⟩
              have : i = N := by omega
              subst this
              refine br_t (nI_le (Nat.le_refl _) (by omega)) ⟨vp_in_nI (by omega) (by decide), ?_⟩
              rw [nI_clamp (n := t) (by omega)]
              obtain ⟨k1, k2⟩ := K0 hj
              exact nm_e ⟨vp_in_nI (by omega) (by decide), nm_e ⟨k1.symm, k2⟩⟩
            | succ d ih =>
              intro i fu hi hf hj
              obtain ⟨fu, rfl⟩ : ∃ f', fu = f' + 1 := ⟨fu - 1, by omega⟩
              have nx : ¬ (a_kind i = 0 ∧ a_p i = nI t) → ∀ j, j < i + 1 → ¬ (a_kind j = 0 ∧ a_p j = nI t) := fun z j hj' => by
                by_cases e : j = i
                · rw [e]; exact z
                · exact hj j (by omega)
              refine br_f (nI_ge (by omega) (by omega)) ⟨vp_in_nI (by omega) (by decide), ?_⟩
              rw [nI_clamp (n := i) (by omega)]
              refine br_c (fun z => ⟨vp_in_nI (by omega) (by decide), ?_⟩) (fun z => nm_r (nI_1 i) (ih (i + 1) fu (by omega) (by omega) (nx (fun y => z y.1))))
              rw [same i (by omega) z]
              refine br_c (fun z2 => ?_) (fun z2 => nm_r (nI_1 i) (ih (i + 1) fu (by omega) (by omega) (nx (fun y => z2 y.2))))
              obtain ⟨k1, k2⟩ := K1 ⟨i, by omega, z, z2⟩
              exact ⟨k1.symm, k2⟩
          exact L N 0 _ (by omega) (by omega) (fun j hj => absurd hj (Nat.not_lt_zero _))
        refine br_f h1 (br_t h3 ⟨N + 1, ?_⟩)
        have L : ∀ d i fu, i + d = N → d < fu → (∀ j, j < i → ¬ (a_kind j = 0 ∧ a_p j = nI t)) → wX_defineTable_25 (fun r u' => wpY_defineTable (fun r' v' => r' = r ∧ i_Rel (k + 5) u' v') (nI T, nI N, f_resRows, f_resWidth, ba_tab, a_tabRows, a_tabWidth, a_kind, a_left, a_right, ba_p1, ba_p2, ba_p3, a_nodeWidth, ba_used, ba_bound, ba_count, ba_val, ba_res) (nI t) (nI w)) (nI t) (nI w) (nI T) (nI N) f_codeLen f_rowMap f_rowWidth f_nextReg f_loops f_resRows f_resWidth a_tabWidth a_tabRows a_tab a_kind a_left a_right a_parent a_p a_q a_r a_nodeWidth a_bound a_wanted a_cOp a_cA a_cB a_cC a_cD a_loopHead a_todo a_reg a_cursor a_loopKey a_met a_store a_storeRows a_headOf a_tailOf a_link a_result fu (nI i) := by
          intro d
          induction d with
          | zero =>
            intro i fu hi hf hj
            obtain ⟨fu, rfl⟩ : ∃ f', fu = f' + 1 := ⟨fu - 1, by omega⟩
            have : i = N := by omega
            subst this
            refine br_t (nI_le (Nat.le_refl _) (by omega)) ⟨vp_in_nI (by omega) (by decide), ?_⟩
            rw [nI_clamp (n := t) (by omega)]
            refine nm_e ⟨vp_in_nI (by omega) (by decide), nm_e (Y _ _ (fun ⟨j, j1, j2⟩ => absurd j2 (hj j j1)) (fun _ => ⟨rfl, qr_mk ⟨T, i, rr, rw, hT1, hT4, rfl, hN, rfl, hrr, err, hrw, erw, hres, fun s hs => ?_, hU, hn⟩⟩))⟩
            by_cases es : s = t
            · subst es
              exact ⟨w, 0, w1, w3, by omega, pk_us, by rw [pk_us]; rfl, fun i hi => by omega⟩
            · obtain ⟨w', m', w1', w3', m10', ew', em', hc'⟩ := hT s hs
              exact ⟨w', m', w1', w3', m10', by rw [pk_un es]; exact ew', by rw [pk_un es]; exact em', hc'⟩
          | succ d ih =>
            intro i fu hi hf hj
            obtain ⟨fu, rfl⟩ : ∃ f', fu = f' + 1 := ⟨fu - 1, by omega⟩
            have nx : ¬ (a_kind i = 0 ∧ a_p i = nI t) → ∀ j, j < i + 1 → ¬ (a_kind j = 0 ∧ a_p j = nI t) := fun z j hj' => by
              by_cases e : j = i
              · rw [e]; exact z
              · exact hj j (by omega)
            refine br_f (nI_ge (by omega) (by omega)) ⟨vp_in_nI (by omega) (by decide), ?_⟩
            rw [nI_clamp (n := i) (by omega)]
            refine br_c (fun z => ⟨vp_in_nI (by omega) (by decide), ?_⟩) (fun z => nm_r (nI_1 i) (ih (i + 1) fu (by omega) (by omega) (nx (fun y => z y.1))))
            exact br_c (fun z2 => Y _ _ (fun _ => ⟨rfl, qr_mk R0⟩) (fun y => absurd ⟨z, z2⟩ (y i (by omega)))) (fun z2 => nm_r (nI_1 i) (ih (i + 1) fu (by omega) (by omega) (nx (fun y => z2 y.2))))
        exact L N 0 _ (by omega) (by omega) (fun j hj => absurd hj (Nat.not_lt_zero _))
      · refine br_f h1 (br_f h3 ?_)
        unfold wpY_defineTable
        exact qy_noTable hT4 (fun t' ht' e' => br_t rfl (br_f h1 (br_f h3 ⟨rfl, qr_mk R0⟩))) (fun h => absurd rfl (h t ht))
  · unfold wpY_defineTable
    exact qy_noTable hT4 (fun t' ht' e' => absurd e' (h t' ht')) (fun _ => br_f (by decide) ⟨rfl, qr_mk R0⟩)
end
section
/-! building plans: the shared refusals, a new node -/
section
variable {f_tables f_nodes f_codeLen f_rowMap f_rowWidth f_nextReg f_loops f_resRows f_resWidth : Int32} {a_tabWidth a_tabRows a_tab a_kind a_left a_right a_parent a_p a_q a_r a_nodeWidth a_bound a_wanted a_cOp a_cA a_cB a_cC a_cD a_loopHead a_todo a_reg a_cursor a_loopKey a_met a_store a_storeRows a_headOf a_tailOf a_link a_result ba_tab ba_p1 ba_p2 ba_p3 ba_used ba_bound ba_count ba_val ba_res : Nat → Int32}
variable {N : Nat}
theorem qr_child (hN : N ≤ 12) (hU : ∀ i, i < N → qr_use N a_parent ba_used i) (c : Int32) : ∃ r : Int32, (r = 0 → N < 12 ∧ ∃ l, l < N ∧ c = nI l ∧ a_parent l = -1 ∧ ba_used l = 0) ∧
    (∀ post : Int32 → Prop, post r → wpX_childFault post (f_tables, nI N, f_codeLen, f_rowMap, f_rowWidth, f_nextReg, f_loops, f_resRows, f_resWidth, a_tabWidth, a_tabRows, a_tab, a_kind, a_left, a_right, a_parent, a_p, a_q, a_r, a_nodeWidth, a_bound, a_wanted, a_cOp, a_cA, a_cB, a_cC, a_cD, a_loopHead, a_todo, a_reg, a_cursor, a_loopKey, a_met, a_store, a_storeRows, a_headOf, a_tailOf, a_link, a_result) c) ∧ (∀ post : Int32 → Prop, post r → wpY_oneChild post (f_tables, nI N, f_resRows, f_resWidth, ba_tab, a_tabRows, a_tabWidth, a_kind, a_left, a_right, ba_p1, ba_p2, ba_p3, a_nodeWidth, ba_used, ba_bound, ba_count, ba_val, ba_res) c) := by
  by_cases h12 : N < 12
  · have h12' : nI N < 12 := nI_lt (b := 12) h12 (by decide)
    by_cases hc : ∃ l, l < N ∧ c = nI l
    · obtain ⟨l, hl, rfl⟩ := hc
      have q : ∀ t, t < N → nI l = nI t → t = l := fun t ht e => (qb_inj (by omega) (by omega) e).symm
      rcases hU l hl with ⟨hu, hp⟩ | ⟨hu, m, hm, hp⟩
      · refine ⟨0, fun _ => ⟨h12, l, hl, rfl, hp, hu⟩, fun post K => br_t h12' (qx_noNode hN (fun t ht e => br_t rfl ⟨vp_in_nI (by omega) (by decide), ?_⟩) (fun h => absurd rfl (h l hl))), fun post K => br_t h12' (qy_noNode hN (fun t ht e => br_t rfl ⟨vp_in_nI (by omega) (by decide), ?_⟩) (fun h => absurd rfl (h l hl)))⟩
        · rw [nI_clamp (by omega), hp]; exact br_t (by decide) K
        · rw [nI_clamp (by omega), hu]; exact br_t rfl K
      · refine ⟨-5, fun z => absurd z (by decide), fun post K => br_t h12' (qx_noNode hN (fun t ht e => br_t rfl ⟨vp_in_nI (by omega) (by decide), ?_⟩) (fun h => absurd rfl (h l hl))), fun post K => br_t h12' (qy_noNode hN (fun t ht e => br_t rfl ⟨vp_in_nI (by omega) (by decide), ?_⟩) (fun h => absurd rfl (h l hl)))⟩
        · rw [nI_clamp (by omega), hp]; exact br_f (nI_pos (by omega)) K
        · rw [nI_clamp (by omega), hu]; exact br_f (by decide) K
    · exact ⟨-4, fun z => absurd z (by decide), fun post K => br_t h12' (qx_noNode hN (fun t ht e => absurd ⟨t, ht, e⟩ hc) (fun _ => br_f (by decide) K)), fun post K => br_t h12' (qy_noNode hN (fun t ht e => absurd ⟨t, ht, e⟩ hc) (fun _ => br_f (by decide) K))⟩
  · have h12' : ¬ nI N < 12 := nI_nlt (b := 12) (by omega) (by omega)
    exact ⟨-8, fun z => absurd z (by decide), fun post K => br_f h12' K, fun post K => br_f h12' K⟩
theorem qr_pair (hN : N ≤ 12) (hU : ∀ i, i < N → qr_use N a_parent ba_used i) (a b : Int32) : ∃ r : Int32, (r = 0 → N < 12 ∧ ∃ l m, l < N ∧ m < N ∧ l ≠ m ∧ a = nI l ∧ b = nI m ∧ a_parent l = -1 ∧ ba_used l = 0 ∧ a_parent m = -1 ∧ ba_used m = 0) ∧
    (∀ post : Int32 → Prop, post r → wpX_pairFault post (f_tables, nI N, f_codeLen, f_rowMap, f_rowWidth, f_nextReg, f_loops, f_resRows, f_resWidth, a_tabWidth, a_tabRows, a_tab, a_kind, a_left, a_right, a_parent, a_p, a_q, a_r, a_nodeWidth, a_bound, a_wanted, a_cOp, a_cA, a_cB, a_cC, a_cD, a_loopHead, a_todo, a_reg, a_cursor, a_loopKey, a_met, a_store, a_storeRows, a_headOf, a_tailOf, a_link, a_result) a b) ∧ (∀ post : Int32 → Prop, post r → wpY_twoChildren post (f_tables, nI N, f_resRows, f_resWidth, ba_tab, a_tabRows, a_tabWidth, a_kind, a_left, a_right, ba_p1, ba_p2, ba_p3, a_nodeWidth, ba_used, ba_bound, ba_count, ba_val, ba_res) a b) := by
  by_cases h12 : N < 12
  · have h12' : nI N < 12 := nI_lt (b := 12) h12 (by decide)
    by_cases hc : ∃ l, l < N ∧ a = nI l
    · obtain ⟨l, hl, rfl⟩ := hc
      by_cases hd : ∃ m, m < N ∧ b = nI m
      · obtain ⟨m, hm, rfl⟩ := hd
        -- both are nodes
        have X : ∀ post : Int32 → Prop, ((0 ≤ a_parent l → post (-5)) ∧ (¬ 0 ≤ a_parent l → ((0 ≤ a_parent m → post (-5)) ∧ (¬ 0 ≤ a_parent m → ((nI l = nI m → post (-5)) ∧ (¬ nI l = nI m → post 0)))))) → wpX_pairFault post (f_tables, nI N, f_codeLen, f_rowMap, f_rowWidth, f_nextReg, f_loops, f_resRows, f_resWidth, a_tabWidth, a_tabRows, a_tab, a_kind, a_left, a_right, a_parent, a_p, a_q, a_r, a_nodeWidth, a_bound, a_wanted, a_cOp, a_cA, a_cB, a_cC, a_cD, a_loopHead, a_todo, a_reg, a_cursor, a_loopKey, a_met, a_store, a_storeRows, a_headOf, a_tailOf, a_link, a_result) (nI l) (nI m) := by
          intro post K
          refine br_t h12' (qx_noNode hN (fun t ht e => br_t rfl (qx_noNode hN (fun t ht e => br_t rfl ⟨vp_in_nI (by omega) (by decide), ?_⟩) (fun h => absurd rfl (h m hm)))) (fun h => absurd rfl (h l hl)))
          rw [nI_clamp (n := l) (by omega)]
          refine br_c K.1 (fun z => ⟨vp_in_nI (by omega) (by decide), ?_⟩)
          rw [nI_clamp (n := m) (by omega)]
          exact K.2 z
        have Y : ∀ post : Int32 → Prop, ((ba_used l = 0 → ((ba_used m = 0 → ((nI l = nI m → post (-5)) ∧ (¬ nI l = nI m → post 0))) ∧ (¬ ba_used m = 0 → post (-5)))) ∧ (¬ ba_used l = 0 → post (-5))) → wpY_twoChildren post (f_tables, nI N, f_resRows, f_resWidth, ba_tab, a_tabRows, a_tabWidth, a_kind, a_left, a_right, ba_p1, ba_p2, ba_p3, a_nodeWidth, ba_used, ba_bound, ba_count, ba_val, ba_res) (nI l) (nI m) := by
          intro post K
          refine br_t h12' (qy_noNode hN (fun t ht e => br_t rfl (qy_noNode hN (fun t ht e => br_t rfl ⟨vp_in_nI (by omega) (by decide), ?_⟩) (fun h => absurd rfl (h m hm)))) (fun h => absurd rfl (h l hl)))
          rw [nI_clamp (n := l) (by omega)]
          refine br_c (fun z => ⟨vp_in_nI (by omega) (by decide), ?_⟩) K.2
          rw [nI_clamp (n := m) (by omega)]
          exact K.1 z
        rcases hU l hl with ⟨hu, hp⟩ | ⟨hu, m1, hm1, hp⟩
        · rcases hU m hm with ⟨hu2, hp2⟩ | ⟨hu2, m2, hm2, hp2⟩
          · by_cases e : l = m
            · refine ⟨-5, fun z => absurd z (by decide), fun post K => X post (br_f (by rw [hp]; decide) (br_f (by rw [hp2]; decide) (br_t (by rw [e]) K))), fun post K => Y post (br_t hu (br_t hu2 (br_t (by rw [e]) K)))⟩
            · have ne : ¬ nI l = nI m := fun z => e (qb_inj (by omega) (by omega) z)
              refine ⟨0, fun _ => ⟨h12, l, m, hl, hm, e, rfl, rfl, hp, hu, hp2, hu2⟩, fun post K => X post (br_f (by rw [hp]; decide) (br_f (by rw [hp2]; decide) (br_f ne K))), fun post K => Y post (br_t hu (br_t hu2 (br_f ne K)))⟩
          · refine ⟨-5, fun z => absurd z (by decide), fun post K => X post (br_f (by rw [hp]; decide) (br_t (by rw [hp2]; exact nI_pos' (by omega)) K)), fun post K => Y post (br_t hu (br_f (by rw [hu2]; decide) K))⟩
        · refine ⟨-5, fun z => absurd z (by decide), fun post K => X post (br_t (by rw [hp]; exact nI_pos' (by omega)) K), fun post K => Y post (br_f (by rw [hu]; decide) K)⟩
      · refine ⟨-4, fun z => absurd z (by decide), fun post K => br_t h12' (qx_noNode hN (fun t ht e => br_t rfl (qx_noNode hN (fun t ht e => absurd ⟨t, ht, e⟩ hd) (fun _ => br_f (by decide) K))) (fun h => absurd rfl (h l hl))), fun post K => br_t h12' (qy_noNode hN (fun t ht e => br_t rfl (qy_noNode hN (fun t ht e => absurd ⟨t, ht, e⟩ hd) (fun _ => br_f (by decide) K))) (fun h => absurd rfl (h l hl)))⟩
    · exact ⟨-4, fun z => absurd z (by decide), fun post K => br_t h12' (qx_noNode hN (fun t ht e => absurd ⟨t, ht, e⟩ hc) (fun _ => br_f (by decide) K)), fun post K => br_t h12' (qy_noNode hN (fun t ht e => absurd ⟨t, ht, e⟩ hc) (fun _ => br_f (by decide) K))⟩
  · have h12' : ¬ nI N < 12 := nI_nlt (b := 12) (by omega) (by omega)
    exact ⟨-8, fun z => absurd z (by decide), fun post K => br_f h12' K, fun post K => br_f h12' K⟩
theorem qr_col {l w : Nat} (hl : l < 12) (hw : w ≤ 6) (ew : a_nodeWidth l = nI w) (c : Int32) : ∃ r : Int32, (r = 0 → qp_c w c) ∧
    (∀ post : Int32 → Prop, post r → wpX_noColumn post (f_tables, f_nodes, f_codeLen, f_rowMap, f_rowWidth, f_nextReg, f_loops, f_resRows, f_resWidth, a_tabWidth, a_tabRows, a_tab, a_kind, a_left, a_right, a_parent, a_p, a_q, a_r, a_nodeWidth, a_bound, a_wanted, a_cOp, a_cA, a_cB, a_cC, a_cD, a_loopHead, a_todo, a_reg, a_cursor, a_loopKey, a_met, a_store, a_storeRows, a_headOf, a_tailOf, a_link, a_result) (nI l) c) ∧ (∀ post : Int32 → Prop, post r → wpY_noColumn post (f_tables, f_nodes, f_resRows, f_resWidth, ba_tab, a_tabRows, a_tabWidth, a_kind, a_left, a_right, ba_p1, ba_p2, ba_p3, a_nodeWidth, ba_used, ba_bound, ba_count, ba_val, ba_res) (nI l) c) := by
  by_cases h0 : c < 0
  · exact ⟨1, fun z => absurd z (by decide), fun post K => br_t h0 K, fun post K => br_t h0 K⟩
  · by_cases h1 : c < nI w
    · refine ⟨0, fun _ => ?_, fun post K => br_f h0 ⟨vp_in_nI hl (by decide), ?_⟩, fun post K => br_f h0 ⟨vp_in_nI hl (by decide), ?_⟩⟩
      · obtain ⟨a, ha, rfl⟩ := nI_of h0
        exact ⟨a, by rwa [nI_ltI ha (by omega)] at h1, rfl⟩
      · rw [nI_clamp (by omega), ew]; exact br_t h1 K
      · rw [nI_clamp (by omega), ew]; exact br_t h1 K
    · refine ⟨1, fun z => absurd z (by decide), fun post K => br_f h0 ⟨vp_in_nI hl (by decide), ?_⟩, fun post K => br_f h0 ⟨vp_in_nI hl (by decide), ?_⟩⟩
      · rw [nI_clamp (by omega), ew]; exact br_f h1 K
      · rw [nI_clamp (by omega), ew]; exact br_f h1 K
theorem qx_add0 {post : Int32 → SX → Prop} {what w : Int32} (hN : N < 12) (K : post (nI N) (f_tables, nI (N + 1), f_codeLen, f_rowMap, f_rowWidth, f_nextReg, f_loops, f_resRows, f_resWidth, a_tabWidth, a_tabRows, a_tab, upd a_kind N what, upd a_left N (-1), upd a_right N (-1), upd a_parent N (-1), a_p, a_q, a_r, upd a_nodeWidth N w, a_bound, a_wanted, a_cOp, a_cA, a_cB, a_cC, a_cD, a_loopHead, a_todo, a_reg, a_cursor, a_loopKey, a_met, a_store, a_storeRows, a_headOf, a_tailOf, a_link, a_result)) : wpX_add post (f_tables, nI N, f_codeLen, f_rowMap, f_rowWidth, f_nextReg, f_loops, f_resRows, f_resWidth, a_tabWidth, a_tabRows, a_tab, a_kind, a_left, a_right, a_parent, a_p, a_q, a_r, a_nodeWidth, a_bound, a_wanted, a_cOp, a_cA, a_cB, a_cC, a_cD, a_loopHead, a_todo, a_reg, a_cursor, a_loopKey, a_met, a_store, a_storeRows, a_headOf, a_tailOf, a_link, a_result) what (-1) (-1) w := by
  refine ⟨vp_in_nI hN (by decide), ?_⟩
  rw [nI_clamp (n := N) (by omega)]
  exact nm_e ⟨vp_in_nI hN (by decide), nm_e ⟨vp_in_nI hN (by decide), nm_e ⟨vp_in_nI hN (by decide), nm_e ⟨vp_in_nI hN (by decide), nm_e (br_t (by decide) (br_t (by decide) (nm_r (nI_1 N) K)))⟩⟩⟩⟩
theorem qx_add1 {post : Int32 → SX → Prop} {what w : Int32} {l : Nat} (hN : N < 12) (hl : l < 12) (K : post (nI N) (f_tables, nI (N + 1), f_codeLen, f_rowMap, f_rowWidth, f_nextReg, f_loops, f_resRows, f_resWidth, a_tabWidth, a_tabRows, a_tab, upd a_kind N what, upd a_left N (nI l), upd a_right N (-1), upd (upd a_parent N (-1)) l (nI N), a_p, a_q, a_r, upd a_nodeWidth N w, a_bound, a_wanted, a_cOp, a_cA, a_cB, a_cC, a_cD, a_loopHead, a_todo, a_reg, a_cursor, a_loopKey, a_met, a_store, a_storeRows, a_headOf, a_tailOf, a_link, a_result)) : wpX_add post (f_tables, nI N, f_codeLen, f_rowMap, f_rowWidth, f_nextReg, f_loops, f_resRows, f_resWidth, a_tabWidth, a_tabRows, a_tab, a_kind, a_left, a_right, a_parent, a_p, a_q, a_r, a_nodeWidth, a_bound, a_wanted, a_cOp, a_cA, a_cB, a_cC, a_cD, a_loopHead, a_todo, a_reg, a_cursor, a_loopKey, a_met, a_store, a_storeRows, a_headOf, a_tailOf, a_link, a_result) what (nI l) (-1) w := by
  refine ⟨vp_in_nI hN (by decide), ?_⟩
  rw [nI_clamp (n := N) (by omega), nI_clamp (n := l) (by omega)]
  exact nm_e ⟨vp_in_nI hN (by decide), nm_e ⟨vp_in_nI hN (by decide), nm_e ⟨vp_in_nI hN (by decide), nm_e ⟨vp_in_nI hN (by decide), nm_e (br_f (nI_pos (by omega)) ⟨vp_in_nI hl (by decide), nm_e (br_t (by decide) (nm_r (nI_1 N) K))⟩)⟩⟩⟩⟩
theorem qx_add2 {post : Int32 → SX → Prop} {what w : Int32} {l m : Nat} (hN : N < 12) (hl : l < 12) (hm : m < 12) (K : post (nI N) (f_tables, nI (N + 1), f_codeLen, f_rowMap, f_rowWidth, f_nextReg, f_loops, f_resRows, f_resWidth, a_tabWidth, a_tabRows, a_tab, upd a_kind N what, upd a_left N (nI l), upd a_right N (nI m), upd (upd (upd a_parent N (-1)) l (nI N)) m (nI N), a_p, a_q, a_r, upd a_nodeWidth N w, a_bound, a_wanted, a_cOp, a_cA, a_cB, a_cC, a_cD, a_loopHead, a_todo, a_reg, a_cursor, a_loopKey, a_met, a_store, a_storeRows, a_headOf, a_tailOf, a_link, a_result)) : wpX_add post (f_tables, nI N, f_codeLen, f_rowMap, f_rowWidth, f_nextReg, f_loops, f_resRows, f_resWidth, a_tabWidth, a_tabRows, a_tab, a_kind, a_left, a_right, a_parent, a_p, a_q, a_r, a_nodeWidth, a_bound, a_wanted, a_cOp, a_cA, a_cB, a_cC, a_cD, a_loopHead, a_todo, a_reg, a_cursor, a_loopKey, a_met, a_store, a_storeRows, a_headOf, a_tailOf, a_link, a_result) what (nI l) (nI m) w := by
  refine ⟨vp_in_nI hN (by decide), ?_⟩
  rw [nI_clamp (n := N) (by omega), nI_clamp (n := l) (by omega)]
  refine nm_e ⟨vp_in_nI hN (by decide), nm_e ⟨vp_in_nI hN (by decide), nm_e ⟨vp_in_nI hN (by decide), nm_e ⟨vp_in_nI hN (by decide), nm_e (br_f (nI_pos (by omega)) ⟨vp_in_nI hl (by decide), nm_e (br_f (nI_pos (by omega)) ⟨vp_in_nI hm (by decide), ?_⟩)⟩)⟩⟩⟩⟩
  rw [nI_clamp (n := m) (by omega)]
  exact nm_e (nm_r (nI_1 N) K)
theorem qx_params {post : SX → Prop} {x y z : Int32} {n : Nat} (hn : n < 12) (K : post (f_tables, f_nodes, f_codeLen, f_rowMap, f_rowWidth, f_nextReg, f_loops, f_resRows, f_resWidth, a_tabWidth, a_tabRows, a_tab, a_kind, a_left, a_right, a_parent, upd a_p n x, upd a_q n y, upd a_r n z, a_nodeWidth, a_bound, a_wanted, a_cOp, a_cA, a_cB, a_cC, a_cD, a_loopHead, a_todo, a_reg, a_cursor, a_loopKey, a_met, a_store, a_storeRows, a_headOf, a_tailOf, a_link, a_result)) : wpX_params post (f_tables, f_nodes, f_codeLen, f_rowMap, f_rowWidth, f_nextReg, f_loops, f_resRows, f_resWidth, a_tabWidth, a_tabRows, a_tab, a_kind, a_left, a_right, a_parent, a_p, a_q, a_r, a_nodeWidth, a_bound, a_wanted, a_cOp, a_cA, a_cB, a_cC, a_cD, a_loopHead, a_todo, a_reg, a_cursor, a_loopKey, a_met, a_store, a_storeRows, a_headOf, a_tailOf, a_link, a_result) (nI n) x y z := by
  refine ⟨vp_in_nI hn (by decide), ?_⟩
  rw [nI_clamp (by omega)]
  exact nm_e ⟨vp_in_nI hn (by decide), nm_e ⟨vp_in_nI hn (by decide), nm_e K⟩⟩
theorem qy_node0 {post : Int32 → SY → Prop} {what w : Int32} (hN : N < 12) (K : post (nI N) (f_tables, nI (N + 1), f_resRows, f_resWidth, ba_tab, a_tabRows, a_tabWidth, upd a_kind N what, upd a_left N (-1), upd a_right N (-1), ba_p1, ba_p2, ba_p3, upd a_nodeWidth N w, upd ba_used N 0, ba_bound, ba_count, ba_val, ba_res)) : wpY_node post (f_tables, nI N, f_resRows, f_resWidth, ba_tab, a_tabRows, a_tabWidth, a_kind, a_left, a_right, ba_p1, ba_p2, ba_p3, a_nodeWidth, ba_used, ba_bound, ba_count, ba_val, ba_res) what (-1) (-1) w := by
  refine ⟨vp_in_nI hN (by decide), ?_⟩
  rw [nI_clamp (n := N) (by omega)]
  exact nm_e ⟨vp_in_nI hN (by decide), nm_e ⟨vp_in_nI hN (by decide), nm_e ⟨vp_in_nI hN (by decide), nm_e ⟨vp_in_nI hN (by decide), nm_e (br_t (by decide) (br_t (by decide) (nm_r (nI_1 N) K)))⟩⟩⟩⟩
theorem qy_node1 {post : Int32 → SY → Prop} {what w : Int32} {l : Nat} (hN : N < 12) (hl : l < 12) (K : post (nI N) (f_tables, nI (N + 1), f_resRows, f_resWidth, ba_tab, a_tabRows, a_tabWidth, upd a_kind N what, upd a_left N (nI l), upd a_right N (-1), ba_p1, ba_p2, ba_p3, upd a_nodeWidth N w, upd (upd ba_used N 0) l 1, ba_bound, ba_count, ba_val, ba_res)) : wpY_node post (f_tables, nI N, f_resRows, f_resWidth, ba_tab, a_tabRows, a_tabWidth, a_kind, a_left, a_right, ba_p1, ba_p2, ba_p3, a_nodeWidth, ba_used, ba_bound, ba_count, ba_val, ba_res) what (nI l) (-1) w := by
  refine ⟨vp_in_nI hN (by decide), ?_⟩
  rw [nI_clamp (n := N) (by omega), nI_clamp (n := l) (by omega)]
  exact nm_e ⟨vp_in_nI hN (by decide), nm_e ⟨vp_in_nI hN (by decide), nm_e ⟨vp_in_nI hN (by decide), nm_e ⟨vp_in_nI hN (by decide), nm_e (br_f (nI_pos (by omega)) ⟨vp_in_nI hl (by decide), nm_e (br_t (by decide) (nm_r (nI_1 N) K))⟩)⟩⟩⟩⟩
theorem qy_node2 {post : Int32 → SY → Prop} {what w : Int32} {l m : Nat} (hN : N < 12) (hl : l < 12) (hm : m < 12) (K : post (nI N) (f_tables, nI (N + 1), f_resRows, f_resWidth, ba_tab, a_tabRows, a_tabWidth, upd a_kind N what, upd a_left N (nI l), upd a_right N (nI m), ba_p1, ba_p2, ba_p3, upd a_nodeWidth N w, upd (upd (upd ba_used N 0) l 1) m 1, ba_bound, ba_count, ba_val, ba_res)) : wpY_node post (f_tables, nI N, f_resRows, f_resWidth, ba_tab, a_tabRows, a_tabWidth, a_kind, a_left, a_right, ba_p1, ba_p2, ba_p3, a_nodeWidth, ba_used, ba_bound, ba_count, ba_val, ba_res) what (nI l) (nI m) w := by
  refine ⟨vp_in_nI hN (by decide), ?_⟩
  rw [nI_clamp (n := N) (by omega), nI_clamp (n := l) (by omega)]
  refine nm_e ⟨vp_in_nI hN (by decide), nm_e ⟨vp_in_nI hN (by decide), nm_e ⟨vp_in_nI hN (by decide), nm_e ⟨vp_in_nI hN (by decide), nm_e (br_f (nI_pos (by omega)) ⟨vp_in_nI hl (by decide), nm_e (br_f (nI_pos (by omega)) ⟨vp_in_nI hm (by decide), ?_⟩)⟩)⟩⟩⟩⟩
  rw [nI_clamp (n := m) (by omega)]
  exact nm_e (nm_r (nI_1 N) K)
theorem qy_numbers {post : SY → Prop} {x y z : Int32} {n : Nat} (hn : n < 12) (K : post (f_tables, f_nodes, f_resRows, f_resWidth, ba_tab, a_tabRows, a_tabWidth, a_kind, a_left, a_right, upd ba_p1 n x, upd ba_p2 n y, upd ba_p3 n z, a_nodeWidth, ba_used, ba_bound, ba_count, ba_val, ba_res)) : wpY_numbers post (f_tables, f_nodes, f_resRows, f_resWidth, ba_tab, a_tabRows, a_tabWidth, a_kind, a_left, a_right, ba_p1, ba_p2, ba_p3, a_nodeWidth, ba_used, ba_bound, ba_count, ba_val, ba_res) (nI n) x y z := by
  refine ⟨vp_in_nI hn (by decide), ?_⟩
  rw [nI_clamp (by omega)]
  exact nm_e ⟨vp_in_nI hn (by decide), nm_e ⟨vp_in_nI hn (by decide), nm_e K⟩⟩
end
/-- old nodes stay what they are -/
theorem qr_keep {N : Nat} {kind left right parent p q r nodeWidth p1 p2 p3 kind' left' right' parent' p' q' r' nodeWidth' p1' p2' p3' : Nat → Int32}
    (ha : ∀ i, i < N → kind' i = kind i ∧ left' i = left i ∧ right' i = right i ∧ nodeWidth' i = nodeWidth i) (hb : ∀ i, i < N → p' i = p i ∧ q' i = q i ∧ r' i = r i) (hc : ∀ i, i < N → p1' i = p1 i ∧ p2' i = p2 i ∧ p3' i = p3 i)
    (hp : ∀ i, i < N → ¬ parent i = -1 → parent' i = parent i) (hN : N ≤ 12) {n : Nat} (hn : n < N) (H : qr_node n kind left right parent p q r nodeWidth p1 p2 p3) : qr_node n kind' left' right' parent' p' q' r' nodeWidth' p1' p2' p3' := by
  obtain ⟨kd, l, rt, w, wl, wr, k10, w1, w6, ek, ew, hl0, hl, hr, hr0, P⟩ := H
  obtain ⟨a1, a2, a3, a4⟩ := ha n hn
  obtain ⟨b1, b2, b3⟩ := hb n hn
  obtain ⟨c1, c2, c3⟩ := hc n hn
  have nn : ∀ x : Int32, x = nI n → ¬ x = -1 := fun x e z => by
    have h := nI_pos (n := n) (by omega)
    rw [← e, z] at h
    exact h (by decide)
  refine ⟨kd, l, rt, w, wl, wr, k10, w1, w6, a1.trans ek, a4.trans ew, fun z => a2.trans (hl0 z), fun z => ?_, fun z => ?_, fun z => a3.trans (hr0 z), ?_⟩
  · obtain ⟨h1, h2, h3, h4, h5⟩ := hl z
    exact ⟨h1, a2.trans h2, (hp l (by omega) (nn _ h3)).trans h3, (ha l (by omega)).2.2.2.trans h4, h5⟩
  · obtain ⟨h1, h2, h3, h4, h5, h6⟩ := hr z
    exact ⟨h1, h2, a3.trans h3, (hp rt (by omega) (nn _ h4)).trans h4, (ha rt (by omega)).2.2.2.trans h5, h6⟩
  · rw [b1, b2, b3, c1, c2, c3]; exact P
end
section
/-! the relation with a node more -/
section
variable {tables resRows resWidth : Int32} {tabWidth tabRows tab kind left right parent p q r nodeWidth result tabY p1 p2 p3 used res : Nat → Int32} {p' q' r' p1' p2' p3' : Nat → Int32} {N : Nat}
theorem qr_useN {i : Nat} (h : qr_use N parent used i) : qr_use (N + 1) parent used i := by
  rcases h with h | ⟨h1, m, h2, h3⟩
  · exact Or.inl h
  · exact Or.inr ⟨h1, m, by omega, h3⟩
theorem qr_new0 (R : qr_R tables (nI N) resRows resWidth tabWidth tabRows tab kind left right parent p q r nodeWidth result tabY p1 p2 p3 used res) (h12 : N < 12) {w t : Nat} (hw1 : 1 ≤ w) (hw3 : w ≤ 3) (ht : t < 4) :
    qr_R tables (nI (N + 1)) resRows resWidth tabWidth tabRows tab (upd kind N 0) (upd left N (-1)) (upd right N (-1)) (upd parent N (-1)) (upd p N (nI t)) (upd q N 0) (upd r N 0) (upd nodeWidth N (nI w)) result tabY (upd p1 N (nI t)) (upd p2 N 0) (upd p3 N 0) (upd used N 0) res := by
  obtain ⟨T, N', rr, rw, hT1, hT4, eT, hN, eN, hrr, err, hrw, erw, hres, hT, hU, hn⟩ := R
  have : N = N' := qb_inj (by omega) (by omega) eN
  subst this
  refine ⟨T, N + 1, rr, rw, hT1, hT4, eT, by omega, rfl, hrr, err, hrw, erw, hres, hT, fun i hi => ?_, fun i hi => ?_⟩
  · by_cases e : i = N
    · rw [e]; exact Or.inl ⟨pk_us, pk_us⟩
    · have := qr_useN (hU i (by omega))
      unfold qr_use at this ⊢
      rw [pk_un e, pk_un e]; exact this
  · by_cases e : i = N
    · rw [e]
      refine ⟨0, 0, 0, w, 0, 0, by omega, hw1, by omega, pk_us, pk_us, fun _ => pk_us, fun z => absurd rfl z, fun z => by omega, fun _ => pk_us, ?_⟩
      rw [pk_us, pk_us, pk_us, pk_us, pk_us, pk_us]
      exact ⟨fun _ => ⟨hw3, t, ht, rfl⟩, fun z => by omega, fun z => by omega, fun z => by omega, fun z => by omega, fun z => by omega, fun z => by omega, fun z => by omega, fun z => by omega, fun z => by omega, fun z => by omega, fun _ _ _ => ⟨rfl, rfl, rfl⟩, fun z => by omega⟩
    · refine qr_keep (N := N) (fun j hj => ?_) (fun j hj => ?_) (fun j hj => ?_) (fun j hj _ => pk_un (by omega)) hN (show i < N by omega) (hn i (by omega))
      · exact ⟨pk_un (by omega), pk_un (by omega), pk_un (by omega), pk_un (by omega)⟩
      · exact ⟨pk_un (by omega), pk_un (by omega), pk_un (by omega)⟩
      · exact ⟨pk_un (by omega), pk_un (by omega), pk_un (by omega)⟩
theorem qr_new1 (R : qr_R tables (nI N) resRows resWidth tabWidth tabRows tab kind left right parent p q r nodeWidth result tabY p1 p2 p3 used res) (h12 : N < 12) {kd l w wl : Nat} (hk : kd ≤ 10) (hk0 : kd ≠ 0) (hk5 : ¬ (kd = 5 ∨ kd = 6)) (hw1 : 1 ≤ w) (hw6 : w ≤ 6) (hl : l < N) (hpl : parent l = -1) (hwl : nodeWidth l = nI wl) (hwl6 : wl ≤ 6)
    (hb : ∀ i, i < N → p' i = p i ∧ q' i = q i ∧ r' i = r i) (hc : ∀ i, i < N → p1' i = p1 i ∧ p2' i = p2 i ∧ p3' i = p3 i) (P : qr_par kd w wl 0 (p' N) (q' N) (r' N) (p1' N) (p2' N) (p3' N)) :
    qr_R tables (nI (N + 1)) resRows resWidth tabWidth tabRows tab (upd kind N (nI kd)) (upd left N (nI l)) (upd right N (-1)) (upd (upd parent N (-1)) l (nI N)) p' q' r' (upd nodeWidth N (nI w)) result tabY p1' p2' p3' (upd (upd used N 0) l 1) res := by
  obtain ⟨T, N', rr, rw, hT1, hT4, eT, hN, eN, hrr, err, hrw, erw, hres, hT, hU, hn⟩ := R
  have : N = N' := qb_inj (by omega) (by omega) eN
  subst this
  refine ⟨T, N + 1, rr, rw, hT1, hT4, eT, by omega, rfl, hrr, err, hrw, erw, hres, hT, fun i hi => ?_, fun i hi => ?_⟩
  · by_cases el : i = l
    · rw [el]; exact Or.inr ⟨pk_us, N, by omega, pk_us⟩
    · by_cases e : i = N
      · rw [e]; exact Or.inl ⟨by rw [pk_un (by omega), pk_us], by rw [pk_un (by omega), pk_us]⟩
      · have := qr_useN (hU i (by omega))
        unfold qr_use at this ⊢
        rw [pk_un el, pk_un e, pk_un el, pk_un e]; exact this
  · by_cases e : i = N
    · rw [e]
      exact ⟨kd, l, 0, w, wl, 0, hk, hw1, hw6, pk_us, pk_us, fun z => absurd z hk0, fun _ => ⟨hl, pk_us, pk_us, by rw [pk_un (by omega)]; exact hwl, hwl6⟩, fun z => absurd z hk5, fun _ => pk_us, P⟩
    · refine qr_keep (N := N) (fun j hj => ⟨pk_un (by omega), pk_un (by omega), pk_un (by omega), pk_un (by omega)⟩) hb hc (fun j hj hne => ?_) hN (show i < N by omega) (hn i (by omega))
      rw [pk_un (fun z => hne (by rw [z]; exact hpl)), pk_un (by omega)]
theorem qr_new2 (R : qr_R tables (nI N) resRows resWidth tabWidth tabRows tab kind left right parent p q r nodeWidth result tabY p1 p2 p3 used res) (h12 : N < 12) {kd l m w wl wr : Nat} (hk5 : kd = 5 ∨ kd = 6) (hw1 : 1 ≤ w) (hw6 : w ≤ 6) (hl : l < N) (hm : m < N) (hlm : l ≠ m) (hpl : parent l = -1) (hpm : parent m = -1) (hwl : nodeWidth l = nI wl) (hwl6 : wl ≤ 6) (hwr : nodeWidth m = nI wr) (hwr6 : wr ≤ 6)
    (hb : ∀ i, i < N → p' i = p i ∧ q' i = q i ∧ r' i = r i) (hc : ∀ i, i < N → p1' i = p1 i ∧ p2' i = p2 i ∧ p3' i = p3 i) (P : qr_par kd w wl wr (p' N) (q' N) (r' N) (p1' N) (p2' N) (p3' N)) :
    qr_R tables (nI (N + 1)) resRows resWidth tabWidth tabRows tab (upd kind N (nI kd)) (upd left N (nI l)) (upd right N (nI m)) (upd (upd (upd parent N (-1)) l (nI N)) m (nI N)) p' q' r' (upd nodeWidth N (nI w)) result tabY p1' p2' p3' (upd (upd (upd used N 0) l 1) m 1) res := by
  obtain ⟨T, N', rr, rw, hT1, hT4, eT, hN, eN, hrr, err, hrw, erw, hres, hT, hU, hn⟩ := R
  have : N = N' := qb_inj (by omega) (by omega) eN
  subst this
  refine ⟨T, N + 1, rr, rw, hT1, hT4, eT, by omega, rfl, hrr, err, hrw, erw, hres, hT, fun i hi => ?_, fun i hi => ?_⟩
  · by_cases em : i = m
    · rw [em]; exact Or.inr ⟨pk_us, N, by omega, pk_us⟩
    · by_cases el : i = l
      · rw [el]; exact Or.inr ⟨by rw [pk_un hlm, pk_us], N, by omega, by rw [pk_un hlm, pk_us]⟩
      · by_cases e : i = N
        · rw [e]; exact Or.inl ⟨by rw [pk_un (by omega), pk_un (by omega), pk_us], by rw [pk_un (by omega), pk_un (by omega), pk_us]⟩
        · have := qr_useN (hU i (by omega))
          unfold qr_use at this ⊢
          rw [pk_un em, pk_un el, pk_un e, pk_un em, pk_un el, pk_un e]; exact this
  · by_cases e : i = N
    · rw [e]
      exact ⟨kd, l, m, w, wl, wr, by omega, hw1, hw6, pk_us, pk_us, fun z => by omega, fun _ => ⟨hl, pk_us, by rw [pk_un hlm, pk_us], by rw [pk_un (by omega)]; exact hwl, hwl6⟩, fun _ => ⟨hm, Ne.symm hlm, pk_us, pk_us, by rw [pk_un (by omega)]; exact hwr, hwr6⟩, fun z => absurd hk5 z, P⟩
    · refine qr_keep (N := N) (fun j hj => ⟨pk_un (by omega), pk_un (by omega), pk_un (by omega), pk_un (by omega)⟩) hb hc (fun j hj hne => ?_) hN (show i < N by omega) (hn i (by omega))
      rw [pk_un (fun z => hne (by rw [z]; exact hpm)), pk_un (fun z => hne (by rw [z]; exact hpl)), pk_un (by omega)]
theorem qr_upd {f : Nat → Int32} {x : Int32} (i : Nat) (h : i < N) : upd f N x i = f i := pk_un (by omega)
end
theorem qr_cmp {x : Int32} {n : Nat} {M : Int32} (hM : M.toInt = n) (h0 : ¬ x < 0) (h1 : x ≤ M) : qp_c (n + 1) x := by
  obtain ⟨j, hj, e⟩ := nI_of2 hM h0 h1
  exact ⟨j, by omega, e⟩
theorem i_vc_scan {k : Nat} {u : SX} {v : SY} (I : i_Rel k u v) (hk : k + 5 ≤ 2561) (v1 : Int32) : wpX_scan (fun r u' => wpY_scan (fun r' v' => r' = r ∧ i_Rel (k + 5) u' v') v v1) u v1 := by
  refine qr_el (P := fun u v => wpX_scan (fun r u' => wpY_scan (fun r' v' => r' = r ∧ i_Rel (k + 5) u' v') v v1) u v1) ?_ I
  intro f_tables f_nodes f_codeLen f_rowMap f_rowWidth f_nextReg f_loops f_resRows f_resWidth a_tabWidth a_tabRows a_tab a_kind a_left a_right a_parent a_p a_q a_r a_nodeWidth a_bound a_wanted a_cOp a_cA a_cB a_cC a_cD a_loopHead a_todo a_reg a_cursor a_loopKey a_met a_store a_storeRows a_headOf a_tailOf a_link a_result ba_tab ba_p1 ba_p2 ba_p3 ba_used ba_bound ba_count ba_val ba_res R
  have R0 := R
  obtain ⟨T, N, rr, rw, hT1, hT4, eT, hN, eN, hrr, err, hrw, erw, hres, hT, hU, hn⟩ := R
  subst eT eN
  by_cases h12 : N < 12
  · have h12' : nI N < 12 := nI_lt (b := 12) h12 (by decide)
    refine br_t h12' (qx_noTable hT4 (fun t ht e => br_t rfl ?_) (fun h => br_f (by decide) ?_))
    · subst e
      obtain ⟨w, m, w1, w3, m10, ew, em, hc⟩ := hT t (by omega)
      refine ⟨vp_in_nI (by omega) (by decide), ?_⟩
      rw [nI_clamp (n := t) (by omega), ew]
      refine qx_add0 h12 (qx_params h12 ?_)
      refine br_t h12' (qy_noTable hT4 (fun t' ht' e' => br_t rfl ?_) (fun h => absurd rfl (h t ht)))
      refine ⟨vp_in_nI (by omega) (by decide), ?_⟩
      rw [nI_clamp (n := t) (by omega), ew]
      exact qy_node0 h12 (qy_numbers h12 ⟨rfl, qr_mk (qr_new0 R0 h12 w1 w3 (by omega))⟩)
    · exact br_t h12' (qy_noTable hT4 (fun t' ht' e' => absurd e' (h t' ht')) (fun _ => br_f (by decide) ⟨rfl, qr_mk R0⟩))
  · have h12' : ¬ nI N < 12 := nI_nlt (b := 12) (by omega) (by omega)
    exact br_f h12' (br_f h12' ⟨rfl, qr_mk R0⟩)
theorem i_vc_filter {k : Nat} {u : SX} {v : SY} (I : i_Rel k u v) (hk : k + 5 ≤ 2561) (v1 : Int32) (v2 : Int32) (v3 : Int32) (v4 : Int32) : wpX_filter (fun r u' => wpY_filter (fun r' v' => r' = r ∧ i_Rel (k + 5) u' v') v v1 v2 v3 v4) u v1 v2 v3 v4 := by
  refine qr_el (P := fun u v => wpX_filter (fun r u' => wpY_filter (fun r' v' => r' = r ∧ i_Rel (k + 5) u' v') v v1 v2 v3 v4) u v1 v2 v3 v4) ?_ I
  intro f_tables f_nodes f_codeLen f_rowMap f_rowWidth f_nextReg f_loops f_resRows f_resWidth a_tabWidth a_tabRows a_tab a_kind a_left a_right a_parent a_p a_q a_r a_nodeWidth a_bound a_wanted a_cOp a_cA a_cB a_cC a_cD a_loopHead a_todo a_reg a_cursor a_loopKey a_met a_store a_storeRows a_headOf a_tailOf a_link a_result ba_tab ba_p1 ba_p2 ba_p3 ba_used ba_bound ba_count ba_val ba_res R
  have R0 := R
  obtain ⟨T, N, rr, rw, hT1, hT4, eT, hN, eN, hrr, err, hrw, erw, hres, hT, hU, hn⟩ := R
  subst eN
  obtain ⟨r0, hr0, hX, hY⟩ := qr_child (f_tables := f_tables) (f_codeLen := f_codeLen) (f_rowMap := f_rowMap) (f_rowWidth := f_rowWidth) (f_nextReg := f_nextReg) (f_loops := f_loops) (f_resRows := f_resRows) (f_resWidth := f_resWidth) (a_tabWidth := a_tabWidth) (a_tabRows := a_tabRows) (a_tab := a_tab) (a_kind := a_kind) (a_left := a_left) (a_right := a_right) (a_p := a_p) (a_q := a_q) (a_r := a_r) (a_nodeWidth := a_nodeWidth) (a_bound := a_bound) (a_wanted := a_wanted) (a_cOp := a_cOp) (a_cA := a_cA) (a_cB := a_cB) (a_cC := a_cC) (a_cD := a_cD) (a_loopHead := a_loopHead) (a_todo := a_todo) (a_reg := a_reg) (a_cursor := a_cursor) (a_loopKey := a_loopKey) (a_met := a_met) (a_store := a_store) (a_storeRows := a_storeRows) (a_headOf := a_headOf) (a_tailOf := a_tailOf) (a_link := a_link) (a_result := a_result) (ba_tab := ba_tab) (ba_p1 := ba_p1) (ba_p2 := ba_p2) (ba_p3 := ba_p3) (ba_bound := ba_bound) (ba_count := ba_count) (ba_val := ba_val) (ba_res := ba_res) hN hU v1
  unfold wpX_filter
  refine hX _ (br_c (fun z => ?_) (fun z => by unfold wpY_filter; exact hY _ (br_f z ⟨rfl, qr_mk R0⟩)))
  obtain ⟨h12, l, hl, rfl, hp, hu⟩ := hr0 z
  obtain ⟨kd, _, _, wl, _, _, _, w1, w6, _, ew, _⟩ := hn l hl
  obtain ⟨r1, hr1, cX, cY⟩ := qr_col (f_tables := f_tables) (f_codeLen := f_codeLen) (f_rowMap := f_rowMap) (f_rowWidth := f_rowWidth) (f_nextReg := f_nextReg) (f_loops := f_loops) (f_resRows := f_resRows) (f_resWidth := f_resWidth) (a_tabWidth := a_tabWidth) (a_tabRows := a_tabRows) (a_tab := a_tab) (a_kind := a_kind) (a_left := a_left) (a_right := a_right) (a_parent := a_parent) (a_p := a_p) (a_q := a_q) (a_r := a_r) (a_bound := a_bound) (a_wanted := a_wanted) (a_cOp := a_cOp) (a_cA := a_cA) (a_cB := a_cB) (a_cC := a_cC) (a_cD := a_cD) (a_loopHead := a_loopHead) (a_todo := a_todo) (a_reg := a_reg) (a_cursor := a_cursor) (a_loopKey := a_loopKey) (a_met := a_met) (a_store := a_store) (a_storeRows := a_storeRows) (a_headOf := a_headOf) (a_tailOf := a_tailOf) (a_link := a_link) (a_result := a_result) (ba_tab := ba_tab) (ba_p1 := ba_p1) (ba_p2 := ba_p2) (ba_p3 := ba_p3) (ba_used := ba_used) (ba_bound := ba_bound) (ba_count := ba_count) (ba_val := ba_val) (ba_res := ba_res) (show l < 12 by omega) w6 ew v2
  refine cX _ (br_c (fun z2 => ?_) (fun z2 => by unfold wpY_filter; exact hY _ (br_t z (cY _ (br_f z2 ⟨rfl, qr_mk R0⟩)))))
  refine br_c (fun z3 => by unfold wpY_filter; exact hY _ (br_t z (cY _ (br_t z2 (br_t z3 ⟨rfl, qr_mk R0⟩))))) (fun z3 => ?_)
  refine br_c (fun z4 => ⟨vp_in_nI (by omega) (by decide), ?_⟩) (fun z4 => by unfold wpY_filter; exact hY _ (br_t z (cY _ (br_t z2 (br_f z3 (br_f z4 ⟨rfl, qr_mk R0⟩))))))
  rw [nI_clamp (n := l) (by omega), ew]
  refine qx_add1 h12 (by omega) (qx_params h12 ?_)
  unfold wpY_filter
  refine hY _ (br_t z (cY _ (br_t z2 (br_f z3 (br_t z4 ⟨vp_in_nI (by omega) (by decide), ?_⟩)))))
  rw [nI_clamp (n := l) (by omega), ew]
  refine qy_node1 h12 (by omega) (qy_numbers h12 ⟨rfl, qr_mk (qr_new1 (kd := 1) R0 h12 (by omega) (by omega) (by omega) w1 w6 hl hp ew w6 (fun i hi => ⟨qr_upd i hi, qr_upd i hi, qr_upd i hi⟩) (fun i hi => ⟨qr_upd i hi, qr_upd i hi, qr_upd i hi⟩) ?_)⟩)
  rw [pk_us, pk_us, pk_us, pk_us, pk_us, pk_us]
  exact ⟨fun z => by omega, fun _ => ⟨hr1 z2, qr_cmp (by decide) z3 z4, rfl⟩, fun z => by omega, fun z => by omega, fun z => by omega, fun z => by omega, fun z => by omega, fun z => by omega, fun z => by omega, fun z => by omega, fun z => by omega, fun _ _ _ => ⟨rfl, rfl, rfl⟩, fun z => by omega⟩
end
section
/-! the other plan builders -/
theorem i_vc_filterCols {k : Nat} {u : SX} {v : SY} (I : i_Rel k u v) (hk : k + 5 ≤ 2561) (v1 : Int32) (v2 : Int32) (v3 : Int32) (v4 : Int32) : wpX_filterCols (fun r u' => wpY_filterCols (fun r' v' => r' = r ∧ i_Rel (k + 5) u' v') v v1 v2 v3 v4) u v1 v2 v3 v4 := by
  refine qr_el (P := fun u v => wpX_filterCols (fun r u' => wpY_filterCols (fun r' v' => r' = r ∧ i_Rel (k + 5) u' v') v v1 v2 v3 v4) u v1 v2 v3 v4) ?_ I
  intro f_tables f_nodes f_codeLen f_rowMap f_rowWidth f_nextReg f_loops f_resRows f_resWidth a_tabWidth a_tabRows a_tab a_kind a_left a_right a_parent a_p a_q a_r a_nodeWidth a_bound a_wanted a_cOp a_cA a_cB a_cC a_cD a_loopHead a_todo a_reg a_cursor a_loopKey a_met a_store a_storeRows a_headOf a_tailOf a_link a_result ba_tab ba_p1 ba_p2 ba_p3 ba_used ba_bound ba_count ba_val ba_res R
  have R0 := R
  obtain ⟨T, N, rr, rw, hT1, hT4, eT, hN, eN, hrr, err, hrw, erw, hres, hT, hU, hn⟩ := R
  subst eN
  obtain ⟨r0, hr0, hX, hY⟩ := qr_child (f_tables := f_tables) (f_codeLen := f_codeLen) (f_rowMap := f_rowMap) (f_rowWidth := f_rowWidth) (f_nextReg := f_nextReg) (f_loops := f_loops) (f_resRows := f_resRows) (f_resWidth := f_resWidth) (a_tabWidth := a_tabWidth) (a_tabRows := a_tabRows) (a_tab := a_tab) (a_kind := a_kind) (a_left := a_left) (a_right := a_right) (a_p := a_p) (a_q := a_q) (a_r := a_r) (a_nodeWidth := a_nodeWidth) (a_bound := a_bound) (a_wanted := a_wanted) (a_cOp := a_cOp) (a_cA := a_cA) (a_cB := a_cB) (a_cC := a_cC) (a_cD := a_cD) (a_loopHead := a_loopHead) (a_todo := a_todo) (a_reg := a_reg) (a_cursor := a_cursor) (a_loopKey := a_loopKey) (a_met := a_met) (a_store := a_store) (a_storeRows := a_storeRows) (a_headOf := a_headOf) (a_tailOf := a_tailOf) (a_link := a_link) (a_result := a_result) (ba_tab := ba_tab) (ba_p1 := ba_p1) (ba_p2 := ba_p2) (ba_p3 := ba_p3) (ba_bound := ba_bound) (ba_count := ba_count) (ba_val := ba_val) (ba_res := ba_res) hN hU v1
  unfold wpX_filterCols
  refine hX _ (br_c (fun z => ?_) (fun z => by unfold wpY_filterCols; exact hY _ (br_f z ⟨rfl, qr_mk R0⟩)))
  obtain ⟨h12, l, hl, rfl, hp, hu⟩ := hr0 z
  obtain ⟨kd, _, _, wl, _, _, _, w1, w6, _, ew, _⟩ := hn l hl
  obtain ⟨r1, hr1, cX, cY⟩ := qr_col (f_tables := f_tables) (f_codeLen := f_codeLen) (f_rowMap := f_rowMap) (f_rowWidth := f_rowWidth) (f_nextReg := f_nextReg) (f_loops := f_loops) (f_resRows := f_resRows) (f_resWidth := f_resWidth) (a_tabWidth := a_tabWidth) (a_tabRows := a_tabRows) (a_tab := a_tab) (a_kind := a_kind) (a_left := a_left) (a_right := a_right) (a_parent := a_parent) (a_p := a_p) (a_q := a_q) (a_r := a_r) (a_bound := a_bound) (a_wanted := a_wanted) (a_cOp := a_cOp) (a_cA := a_cA) (a_cB := a_cB) (a_cC := a_cC) (a_cD := a_cD) (a_loopHead := a_loopHead) (a_todo := a_todo) (a_reg := a_reg) (a_cursor := a_cursor) (a_loopKey := a_loopKey) (a_met := a_met) (a_store := a_store) (a_storeRows := a_storeRows) (a_headOf := a_headOf) (a_tailOf := a_tailOf) (a_link := a_link) (a_result := a_result) (ba_tab := ba_tab) (ba_p1 := ba_p1) (ba_p2 := ba_p2) (ba_p3 := ba_p3) (ba_used := ba_used) (ba_bound := ba_bound) (ba_count := ba_count) (ba_val := ba_val) (ba_res := ba_res) (show l < 12 by omega) w6 ew v2
  obtain ⟨r2, hr2, dX, dY⟩ := qr_col (f_tables := f_tables) (f_codeLen := f_codeLen) (f_rowMap := f_rowMap) (f_rowWidth := f_rowWidth) (f_nextReg := f_nextReg) (f_loops := f_loops) (f_resRows := f_resRows) (f_resWidth := f_resWidth) (a_tabWidth := a_tabWidth) (a_tabRows := a_tabRows) (a_tab := a_tab) (a_kind := a_kind) (a_left := a_left) (a_right := a_right) (a_parent := a_parent) (a_p := a_p) (a_q := a_q) (a_r := a_r) (a_bound := a_bound) (a_wanted := a_wanted) (a_cOp := a_cOp) (a_cA := a_cA) (a_cB := a_cB) (a_cC := a_cC) (a_cD := a_cD) (a_loopHead := a_loopHead) (a_todo := a_todo) (a_reg := a_reg) (a_cursor := a_cursor) (a_loopKey := a_loopKey) (a_met := a_met) (a_store := a_store) (a_storeRows := a_storeRows) (a_headOf := a_headOf) (a_tailOf := a_tailOf) (a_link := a_link) (a_result := a_result) (ba_tab := ba_tab) (ba_p1 := ba_p1) (ba_p2 := ba_p2) (ba_p3 := ba_p3) (ba_used := ba_used) (ba_bound := ba_bound) (ba_count := ba_count) (ba_val := ba_val) (ba_res := ba_res) (show l < 12 by omega) w6 ew v4
  refine cX _ (br_c (fun z2 => ?_) (fun z2 => by unfold wpY_filterCols; exact hY _ (br_t z (cY _ (br_f z2 ⟨rfl, qr_mk R0⟩)))))
  refine dX _ (br_c (fun z5 => ?_) (fun z5 => by unfold wpY_filterCols; exact hY _ (br_t z (cY _ (br_t z2 (dY _ (br_f z5 ⟨rfl, qr_mk R0⟩)))))))
  refine br_c (fun z3 => by unfold wpY_filterCols; exact hY _ (br_t z (cY _ (br_t z2 (dY _ (br_t z5 (br_t z3 ⟨rfl, qr_mk R0⟩))))))) (fun z3 => ?_)
  refine br_c (fun z4 => ⟨vp_in_nI (by omega) (by decide), ?_⟩) (fun z4 => by unfold wpY_filterCols; exact hY _ (br_t z (cY _ (br_t z2 (dY _ (br_t z5 (br_f z3 (br_f z4 ⟨rfl, qr_mk R0⟩))))))))
  rw [nI_clamp (n := l) (by omega), ew]
  refine qx_add1 h12 (by omega) (qx_params h12 ?_)
  unfold wpY_filterCols
  refine hY _ (br_t z (cY _ (br_t z2 (dY _ (br_t z5 (br_f z3 (br_t z4 ⟨vp_in_nI (by omega) (by decide), ?_⟩)))))))
  rw [nI_clamp (n := l) (by omega), ew]
  refine qy_node1 h12 (by omega) (qy_numbers h12 ⟨rfl, qr_mk (qr_new1 (kd := 2) (w := wl) R0 h12 (by omega) (by omega) (by omega) w1 w6 hl hp ew w6 (fun i hi => ⟨qr_upd i hi, qr_upd i hi, qr_upd i hi⟩) (fun i hi => ⟨qr_upd i hi, qr_upd i hi, qr_upd i hi⟩) ?_)⟩)
  rw [pk_us, pk_us, pk_us, pk_us, pk_us, pk_us]
  exact ⟨fun z => by omega, fun z => by omega, fun _ => ⟨hr1 z2, qr_cmp (by decide) z3 z4, hr2 z5, rfl⟩, fun z => by omega, fun z => by omega, fun z => by omega, fun z => by omega, fun z => by omega, fun z => by omega, fun z => by omega, fun z => by omega, fun _ _ _ => ⟨rfl, rfl, rfl⟩, fun z => by omega⟩

theorem i_vc_map {k : Nat} {u : SX} {v : SY} (I : i_Rel k u v) (hk : k + 5 ≤ 2561) (v1 : Int32) (v2 : Int32) (v3 : Int32) (v4 : Int32) : wpX_map (fun r u' => wpY_map (fun r' v' => r' = r ∧ i_Rel (k + 5) u' v') v v1 v2 v3 v4) u v1 v2 v3 v4 := by
  refine qr_el (P := fun u v => wpX_map (fun r u' => wpY_map (fun r' v' => r' = r ∧ i_Rel (k + 5) u' v') v v1 v2 v3 v4) u v1 v2 v3 v4) ?_ I
  intro f_tables f_nodes f_codeLen f_rowMap f_rowWidth f_nextReg f_loops f_resRows f_resWidth a_tabWidth a_tabRows a_tab a_kind a_left a_right a_parent a_p a_q a_r a_nodeWidth a_bound a_wanted a_cOp a_cA a_cB a_cC a_cD a_loopHead a_todo a_reg a_cursor a_loopKey a_met a_store a_storeRows a_headOf a_tailOf a_link a_result ba_tab ba_p1 ba_p2 ba_p3 ba_used ba_bound ba_count ba_val ba_res R
  have R0 := R
  obtain ⟨T, N, rr, rw, hT1, hT4, eT, hN, eN, hrr, err, hrw, erw, hres, hT, hU, hn⟩ := R
  subst eN
  obtain ⟨r0, hr0, hX, hY⟩ := qr_child (f_tables := f_tables) (f_codeLen := f_codeLen) (f_rowMap := f_rowMap) (f_rowWidth := f_rowWidth) (f_nextReg := f_nextReg) (f_loops := f_loops) (f_resRows := f_resRows) (f_resWidth := f_resWidth) (a_tabWidth := a_tabWidth) (a_tabRows := a_tabRows) (a_tab := a_tab) (a_kind := a_kind) (a_left := a_left) (a_right := a_right) (a_p := a_p) (a_q := a_q) (a_r := a_r) (a_nodeWidth := a_nodeWidth) (a_bound := a_bound) (a_wanted := a_wanted) (a_cOp := a_cOp) (a_cA := a_cA) (a_cB := a_cB) (a_cC := a_cC) (a_cD := a_cD) (a_loopHead := a_loopHead) (a_todo := a_todo) (a_reg := a_reg) (a_cursor := a_cursor) (a_loopKey := a_loopKey) (a_met := a_met) (a_store := a_store) (a_storeRows := a_storeRows) (a_headOf := a_headOf) (a_tailOf := a_tailOf) (a_link := a_link) (a_result := a_result) (ba_tab := ba_tab) (ba_p1 := ba_p1) (ba_p2 := ba_p2) (ba_p3 := ba_p3) (ba_bound := ba_bound) (ba_count := ba_count) (ba_val := ba_val) (ba_res := ba_res) hN hU v1
  unfold wpX_map
  refine hX _ (br_c (fun z => ?_) (fun z => by unfold wpY_map; exact hY _ (br_f z ⟨rfl, qr_mk R0⟩)))
  obtain ⟨h12, l, hl, rfl, hp, hu⟩ := hr0 z
  obtain ⟨kd, _, _, wl, _, _, _, w1, w6, _, ew, _⟩ := hn l hl
  obtain ⟨r1, hr1, cX, cY⟩ := qr_col (f_tables := f_tables) (f_codeLen := f_codeLen) (f_rowMap := f_rowMap) (f_rowWidth := f_rowWidth) (f_nextReg := f_nextReg) (f_loops := f_loops) (f_resRows := f_resRows) (f_resWidth := f_resWidth) (a_tabWidth := a_tabWidth) (a_tabRows := a_tabRows) (a_tab := a_tab) (a_kind := a_kind) (a_left := a_left) (a_right := a_right) (a_parent := a_parent) (a_p := a_p) (a_q := a_q) (a_r := a_r) (a_bound := a_bound) (a_wanted := a_wanted) (a_cOp := a_cOp) (a_cA := a_cA) (a_cB := a_cB) (a_cC := a_cC) (a_cD := a_cD) (a_loopHead := a_loopHead) (a_todo := a_todo) (a_reg := a_reg) (a_cursor := a_cursor) (a_loopKey := a_loopKey) (a_met := a_met) (a_store := a_store) (a_storeRows := a_storeRows) (a_headOf := a_headOf) (a_tailOf := a_tailOf) (a_link := a_link) (a_result := a_result) (ba_tab := ba_tab) (ba_p1 := ba_p1) (ba_p2 := ba_p2) (ba_p3 := ba_p3) (ba_used := ba_used) (ba_bound := ba_bound) (ba_count := ba_count) (ba_val := ba_val) (ba_res := ba_res) (show l < 12 by omega) w6 ew v3
  obtain ⟨r2, hr2, dX, dY⟩ := qr_col (f_tables := f_tables) (f_codeLen := f_codeLen) (f_rowMap := f_rowMap) (f_rowWidth := f_rowWidth) (f_nextReg := f_nextReg) (f_loops := f_loops) (f_resRows := f_resRows) (f_resWidth := f_resWidth) (a_tabWidth := a_tabWidth) (a_tabRows := a_tabRows) (a_tab := a_tab) (a_kind := a_kind) (a_left := a_left) (a_right := a_right) (a_parent := a_parent) (a_p := a_p) (a_q := a_q) (a_r := a_r) (a_bound := a_bound) (a_wanted := a_wanted) (a_cOp := a_cOp) (a_cA := a_cA) (a_cB := a_cB) (a_cC := a_cC) (a_cD := a_cD) (a_loopHead := a_loopHead) (a_todo := a_todo) (a_reg := a_reg) (a_cursor := a_cursor) (a_loopKey := a_loopKey) (a_met := a_met) (a_store := a_store) (a_storeRows := a_storeRows) (a_headOf := a_headOf) (a_tailOf := a_tailOf) (a_link := a_link) (a_result := a_result) (ba_tab := ba_tab) (ba_p1 := ba_p1) (ba_p2 := ba_p2) (ba_p3 := ba_p3) (ba_used := ba_used) (ba_bound := ba_bound) (ba_count := ba_count) (ba_val := ba_val) (ba_res := ba_res) (show l < 12 by omega) w6 ew v4
  refine br_c (fun z3 => by unfold wpY_map; exact hY _ (br_t z (br_t z3 ⟨rfl, qr_mk R0⟩))) (fun z3 => ?_)
  refine br_c (fun z4 => ?_) (fun z4 => by unfold wpY_map; exact hY _ (br_t z (br_f z3 (br_f z4 ⟨rfl, qr_mk R0⟩))))
  refine cX _ (br_c (fun z2 => ?_) (fun z2 => by unfold wpY_map; exact hY _ (br_t z (br_f z3 (br_t z4 (cY _ (br_f z2 ⟨rfl, qr_mk R0⟩)))))))
  refine dX _ (br_c (fun z5 => ⟨vp_in_nI (by omega) (by decide), ?_⟩) (fun z5 => by unfold wpY_map; exact hY _ (br_t z (br_f z3 (br_t z4 (cY _ (br_t z2 (dY _ (br_f z5 ⟨rfl, qr_mk R0⟩)))))))))
  rw [nI_clamp (n := l) (by omega), ew]
  by_cases h6 : wl < 6
  · have h6' : nI wl < 6 := nI_lt (b := 6) h6 (by decide)
    refine br_t h6' ⟨vp_in_nI (by omega) (by decide), ?_⟩
    rw [nI_1]
    refine qx_add1 h12 (by omega) (qx_params h12 ?_)
    unfold wpY_map
    refine hY _ (br_t z (br_f z3 (br_t z4 (cY _ (br_t z2 (dY _ (br_t z5 ⟨vp_in_nI (by omega) (by decide), ?_⟩)))))))
    rw [nI_clamp (n := l) (by omega), ew]
    refine br_t h6' ⟨vp_in_nI (by omega) (by decide), ?_⟩
    rw [nI_1]
    refine qy_node1 h12 (by omega) (qy_numbers h12 ⟨rfl, qr_mk (qr_new1 (kd := 3) (w := wl + 1) R0 h12 (by omega) (by omega) (by omega) (by omega) (by omega) hl hp ew w6 (fun i hi => ⟨qr_upd i hi, qr_upd i hi, qr_upd i hi⟩) (fun i hi => ⟨qr_upd i hi, qr_upd i hi, qr_upd i hi⟩) ?_)⟩)
    rw [pk_us, pk_us, pk_us, pk_us, pk_us, pk_us]
    exact ⟨fun z => by omega, fun z => by omega, fun z => by omega, fun _ => ⟨qr_cmp (by decide) z3 z4, hr1 z2, hr2 z5, rfl⟩, fun z => by omega, fun z => by omega, fun z => by omega, fun z => by omega, fun z => by omega, fun z => by omega, fun z => by omega, fun _ _ _ => ⟨rfl, rfl, rfl⟩, fun z => by omega⟩
  · have h6' : ¬ nI wl < 6 := nI_nlt (b := 6) (by omega) (by omega)
    refine br_f h6' ?_
    unfold wpY_map
    refine hY _ (br_t z (br_f z3 (br_t z4 (cY _ (br_t z2 (dY _ (br_t z5 ⟨vp_in_nI (by omega) (by decide), ?_⟩)))))))
    rw [nI_clamp (n := l) (by omega), ew]
    exact br_f h6' ⟨rfl, qr_mk R0⟩

theorem i_vc_group {k : Nat} {u : SX} {v : SY} (I : i_Rel k u v) (hk : k + 5 ≤ 2561) (v1 : Int32) (v2 : Int32) (v3 : Int32) (v4 : Int32) : wpX_group (fun r u' => wpY_group (fun r' v' => r' = r ∧ i_Rel (k + 5) u' v') v v1 v2 v3 v4) u v1 v2 v3 v4 := by
  refine qr_el (P := fun u v => wpX_group (fun r u' => wpY_group (fun r' v' => r' = r ∧ i_Rel (k + 5) u' v') v v1 v2 v3 v4) u v1 v2 v3 v4) ?_ I
  intro f_tables f_nodes f_codeLen f_rowMap f_rowWidth f_nextReg f_loops f_resRows f_resWidth a_tabWidth a_tabRows a_tab a_kind a_left a_right a_parent a_p a_q a_r a_nodeWidth a_bound a_wanted a_cOp a_cA a_cB a_cC a_cD a_loopHead a_todo a_reg a_cursor a_loopKey a_met a_store a_storeRows a_headOf a_tailOf a_link a_result ba_tab ba_p1 ba_p2 ba_p3 ba_used ba_bound ba_count ba_val ba_res R
  have R0 := R
  obtain ⟨T, N, rr, rw, hT1, hT4, eT, hN, eN, hrr, err, hrw, erw, hres, hT, hU, hn⟩ := R
  subst eN
  obtain ⟨r0, hr0, hX, hY⟩ := qr_child (f_tables := f_tables) (f_codeLen := f_codeLen) (f_rowMap := f_rowMap) (f_rowWidth := f_rowWidth) (f_nextReg := f_nextReg) (f_loops := f_loops) (f_resRows := f_resRows) (f_resWidth := f_resWidth) (a_tabWidth := a_tabWidth) (a_tabRows := a_tabRows) (a_tab := a_tab) (a_kind := a_kind) (a_left := a_left) (a_right := a_right) (a_p := a_p) (a_q := a_q) (a_r := a_r) (a_nodeWidth := a_nodeWidth) (a_bound := a_bound) (a_wanted := a_wanted) (a_cOp := a_cOp) (a_cA := a_cA) (a_cB := a_cB) (a_cC := a_cC) (a_cD := a_cD) (a_loopHead := a_loopHead) (a_todo := a_todo) (a_reg := a_reg) (a_cursor := a_cursor) (a_loopKey := a_loopKey) (a_met := a_met) (a_store := a_store) (a_storeRows := a_storeRows) (a_headOf := a_headOf) (a_tailOf := a_tailOf) (a_link := a_link) (a_result := a_result) (ba_tab := ba_tab) (ba_p1 := ba_p1) (ba_p2 := ba_p2) (ba_p3 := ba_p3) (ba_bound := ba_bound) (ba_count := ba_count) (ba_val := ba_val) (ba_res := ba_res) hN hU v1
  unfold wpX_group
  refine hX _ (br_c (fun z => ?_) (fun z => by unfold wpY_group; exact hY _ (br_f z ⟨rfl, qr_mk R0⟩)))
  obtain ⟨h12, l, hl, rfl, hp, hu⟩ := hr0 z
  obtain ⟨kd, _, _, wl, _, _, _, w1, w6, _, ew, _⟩ := hn l hl
  obtain ⟨r1, hr1, cX, cY⟩ := qr_col (f_tables := f_tables) (f_codeLen := f_codeLen) (f_rowMap := f_rowMap) (f_rowWidth := f_rowWidth) (f_nextReg := f_nextReg) (f_loops := f_loops) (f_resRows := f_resRows) (f_resWidth := f_resWidth) (a_tabWidth := a_tabWidth) (a_tabRows := a_tabRows) (a_tab := a_tab) (a_kind := a_kind) (a_left := a_left) (a_right := a_right) (a_parent := a_parent) (a_p := a_p) (a_q := a_q) (a_r := a_r) (a_bound := a_bound) (a_wanted := a_wanted) (a_cOp := a_cOp) (a_cA := a_cA) (a_cB := a_cB) (a_cC := a_cC) (a_cD := a_cD) (a_loopHead := a_loopHead) (a_todo := a_todo) (a_reg := a_reg) (a_cursor := a_cursor) (a_loopKey := a_loopKey) (a_met := a_met) (a_store := a_store) (a_storeRows := a_storeRows) (a_headOf := a_headOf) (a_tailOf := a_tailOf) (a_link := a_link) (a_result := a_result) (ba_tab := ba_tab) (ba_p1 := ba_p1) (ba_p2 := ba_p2) (ba_p3 := ba_p3) (ba_used := ba_used) (ba_bound := ba_bound) (ba_count := ba_count) (ba_val := ba_val) (ba_res := ba_res) (show l < 12 by omega) w6 ew v2
  obtain ⟨r2, hr2, dX, dY⟩ := qr_col (f_tables := f_tables) (f_codeLen := f_codeLen) (f_rowMap := f_rowMap) (f_rowWidth := f_rowWidth) (f_nextReg := f_nextReg) (f_loops := f_loops) (f_resRows := f_resRows) (f_resWidth := f_resWidth) (a_tabWidth := a_tabWidth) (a_tabRows := a_tabRows) (a_tab := a_tab) (a_kind := a_kind) (a_left := a_left) (a_right := a_right) (a_parent := a_parent) (a_p := a_p) (a_q := a_q) (a_r := a_r) (a_bound := a_bound) (a_wanted := a_wanted) (a_cOp := a_cOp) (a_cA := a_cA) (a_cB := a_cB) (a_cC := a_cC) (a_cD := a_cD) (a_loopHead := a_loopHead) (a_todo := a_todo) (a_reg := a_reg) (a_cursor := a_cursor) (a_loopKey := a_loopKey) (a_met := a_met) (a_store := a_store) (a_storeRows := a_storeRows) (a_headOf := a_headOf) (a_tailOf := a_tailOf) (a_link := a_link) (a_result := a_result) (ba_tab := ba_tab) (ba_p1 := ba_p1) (ba_p2 := ba_p2) (ba_p3 := ba_p3) (ba_used := ba_used) (ba_bound := ba_bound) (ba_count := ba_count) (ba_val := ba_val) (ba_res := ba_res) (show l < 12 by omega) w6 ew v4
  refine cX _ (br_c (fun z2 => ?_) (fun z2 => by unfold wpY_group; exact hY _ (br_t z (cY _ (br_f z2 ⟨rfl, qr_mk R0⟩)))))
  refine dX _ (br_c (fun z5 => ?_) (fun z5 => by unfold wpY_group; exact hY _ (br_t z (cY _ (br_t z2 (dY _ (br_f z5 ⟨rfl, qr_mk R0⟩)))))))
  refine br_c (fun z3 => by unfold wpY_group; exact hY _ (br_t z (cY _ (br_t z2 (dY _ (br_t z5 (br_t z3 ⟨rfl, qr_mk R0⟩))))))) (fun z3 => ?_)
  refine br_c (fun z4 => ?_) (fun z4 => by unfold wpY_group; exact hY _ (br_t z (cY _ (br_t z2 (dY _ (br_t z5 (br_f z3 (br_f z4 ⟨rfl, qr_mk R0⟩))))))))
  refine qx_add1 h12 (by omega) (qx_params h12 ?_)
  unfold wpY_group
  refine hY _ (br_t z (cY _ (br_t z2 (dY _ (br_t z5 (br_f z3 (br_t z4 ?_)))))))
  refine qy_node1 h12 (by omega) (qy_numbers h12 ⟨rfl, qr_mk (qr_new1 (kd := 7) (w := 2) R0 h12 (by omega) (by omega) (by omega) (by omega) (by omega) hl hp ew w6 (fun i hi => ⟨qr_upd i hi, qr_upd i hi, qr_upd i hi⟩) (fun i hi => ⟨qr_upd i hi, qr_upd i hi, qr_upd i hi⟩) ?_)⟩)
  rw [pk_us, pk_us, pk_us, pk_us, pk_us, pk_us]
  exact ⟨fun z => by omega, fun z => by omega, fun z => by omega, fun z => by omega, fun z => by omega, fun z => by omega, fun z => by omega, fun _ => ⟨hr1 z2, qr_cmp (by decide) z3 z4, hr2 z5, rfl⟩, fun z => by omega, fun z => by omega, fun z => by omega, fun _ _ _ => ⟨rfl, rfl, rfl⟩, fun z => by omega⟩

theorem i_vc_distinct {k : Nat} {u : SX} {v : SY} (I : i_Rel k u v) (hk : k + 5 ≤ 2561) (v1 : Int32) : wpX_distinct (fun r u' => wpY_distinct (fun r' v' => r' = r ∧ i_Rel (k + 5) u' v') v v1) u v1 := by
  refine qr_el (P := fun u v => wpX_distinct (fun r u' => wpY_distinct (fun r' v' => r' = r ∧ i_Rel (k + 5) u' v') v v1) u v1) ?_ I
  intro f_tables f_nodes f_codeLen f_rowMap f_rowWidth f_nextReg f_loops f_resRows f_resWidth a_tabWidth a_tabRows a_tab a_kind a_left a_right a_parent a_p a_q a_r a_nodeWidth a_bound a_wanted a_cOp a_cA a_cB a_cC a_cD a_loopHead a_todo a_reg a_cursor a_loopKey a_met a_store a_storeRows a_headOf a_tailOf a_link a_result ba_tab ba_p1 ba_p2 ba_p3 ba_used ba_bound ba_count ba_val ba_res R
  have R0 := R
  obtain ⟨T, N, rr, rw, hT1, hT4, eT, hN, eN, hrr, err, hrw, erw, hres, hT, hU, hn⟩ := R
  subst eN
  obtain ⟨r0, hr0, hX, hY⟩ := qr_child (f_tables := f_tables) (f_codeLen := f_codeLen) (f_rowMap := f_rowMap) (f_rowWidth := f_rowWidth) (f_nextReg := f_nextReg) (f_loops := f_loops) (f_resRows := f_resRows) (f_resWidth := f_resWidth) (a_tabWidth := a_tabWidth) (a_tabRows := a_tabRows) (a_tab := a_tab) (a_kind := a_kind) (a_left := a_left) (a_right := a_right) (a_p := a_p) (a_q := a_q) (a_r := a_r) (a_nodeWidth := a_nodeWidth) (a_bound := a_bound) (a_wanted := a_wanted) (a_cOp := a_cOp) (a_cA := a_cA) (a_cB := a_cB) (a_cC := a_cC) (a_cD := a_cD) (a_loopHead := a_loopHead) (a_todo := a_todo) (a_reg := a_reg) (a_cursor := a_cursor) (a_loopKey := a_loopKey) (a_met := a_met) (a_store := a_store) (a_storeRows := a_storeRows) (a_headOf := a_headOf) (a_tailOf := a_tailOf) (a_link := a_link) (a_result := a_result) (ba_tab := ba_tab) (ba_p1 := ba_p1) (ba_p2 := ba_p2) (ba_p3 := ba_p3) (ba_bound := ba_bound) (ba_count := ba_count) (ba_val := ba_val) (ba_res := ba_res) hN hU v1
  unfold wpX_distinct
  refine hX _ (br_c (fun z => ?_) (fun z => by unfold wpY_distinct; exact hY _ (br_f z ⟨rfl, qr_mk R0⟩)))
  obtain ⟨h12, l, hl, rfl, hp, hu⟩ := hr0 z
  obtain ⟨kd, _, _, wl, _, _, _, w1, w6, _, ew, _⟩ := hn l hl
  refine ⟨vp_in_nI (by omega) (by decide), ?_⟩
  rw [nI_clamp (n := l) (by omega), ew]
  refine qx_add1 h12 (by omega) ?_
  unfold wpY_distinct
  refine hY _ (br_t z ⟨vp_in_nI (by omega) (by decide), ?_⟩)
  rw [nI_clamp (n := l) (by omega), ew]
  refine qy_node1 h12 (by omega) ⟨rfl, qr_mk (qr_new1 (kd := 8) (w := wl) R0 h12 (by omega) (by omega) (by omega) w1 w6 hl hp ew w6 (fun i hi => ⟨rfl, rfl, rfl⟩) (fun i hi => ⟨rfl, rfl, rfl⟩) ?_)⟩
  exact ⟨fun z => by omega, fun z => by omega, fun z => by omega, fun z => by omega, fun z => by omega, fun z => by omega, fun z => by omega, fun z => by omega, fun _ => rfl, fun z => by omega, fun z => by omega, fun y1 y2 y3 => by omega, fun z => by omega⟩

theorem i_vc_limit {k : Nat} {u : SX} {v : SY} (I : i_Rel k u v) (hk : k + 5 ≤ 2561) (v1 : Int32) (v2 : Int32) : wpX_limit (fun r u' => wpY_limit (fun r' v' => r' = r ∧ i_Rel (k + 5) u' v') v v1 v2) u v1 v2 := by
  refine qr_el (P := fun u v => wpX_limit (fun r u' => wpY_limit (fun r' v' => r' = r ∧ i_Rel (k + 5) u' v') v v1 v2) u v1 v2) ?_ I
  intro f_tables f_nodes f_codeLen f_rowMap f_rowWidth f_nextReg f_loops f_resRows f_resWidth a_tabWidth a_tabRows a_tab a_kind a_left a_right a_parent a_p a_q a_r a_nodeWidth a_bound a_wanted a_cOp a_cA a_cB a_cC a_cD a_loopHead a_todo a_reg a_cursor a_loopKey a_met a_store a_storeRows a_headOf a_tailOf a_link a_result ba_tab ba_p1 ba_p2 ba_p3 ba_used ba_bound ba_count ba_val ba_res R
  have R0 := R
  obtain ⟨T, N, rr, rw, hT1, hT4, eT, hN, eN, hrr, err, hrw, erw, hres, hT, hU, hn⟩ := R
  subst eN
  obtain ⟨r0, hr0, hX, hY⟩ := qr_child (f_tables := f_tables) (f_codeLen := f_codeLen) (f_rowMap := f_rowMap) (f_rowWidth := f_rowWidth) (f_nextReg := f_nextReg) (f_loops := f_loops) (f_resRows := f_resRows) (f_resWidth := f_resWidth) (a_tabWidth := a_tabWidth) (a_tabRows := a_tabRows) (a_tab := a_tab) (a_kind := a_kind) (a_left := a_left) (a_right := a_right) (a_p := a_p) (a_q := a_q) (a_r := a_r) (a_nodeWidth := a_nodeWidth) (a_bound := a_bound) (a_wanted := a_wanted) (a_cOp := a_cOp) (a_cA := a_cA) (a_cB := a_cB) (a_cC := a_cC) (a_cD := a_cD) (a_loopHead := a_loopHead) (a_todo := a_todo) (a_reg := a_reg) (a_cursor := a_cursor) (a_loopKey := a_loopKey) (a_met := a_met) (a_store := a_store) (a_storeRows := a_storeRows) (a_headOf := a_headOf) (a_tailOf := a_tailOf) (a_link := a_link) (a_result := a_result) (ba_tab := ba_tab) (ba_p1 := ba_p1) (ba_p2 := ba_p2) (ba_p3 := ba_p3) (ba_bound := ba_bound) (ba_count := ba_count) (ba_val := ba_val) (ba_res := ba_res) hN hU v1
  unfold wpX_limit
  refine hX _ (br_c (fun z => ?_) (fun z => by unfold wpY_limit; exact hY _ (br_f z ⟨rfl, qr_mk R0⟩)))
  obtain ⟨h12, l, hl, rfl, hp, hu⟩ := hr0 z
  obtain ⟨kd, _, _, wl, _, _, _, w1, w6, _, ew, _⟩ := hn l hl
  refine ⟨vp_in_nI (by omega) (by decide), ?_⟩
  rw [nI_clamp (n := l) (by omega), ew]
  refine qx_add1 h12 (by omega) ?_
  have Y : ∀ (u' : SX), (∀ x : Int32, (0 ≤ v2 → x = v2) → (¬ 0 ≤ v2 → x = 0) → i_Rel (k + 5) u' (f_tables, nI (N + 1), f_resRows, f_resWidth, ba_tab, a_tabRows, a_tabWidth, upd a_kind N 9, upd a_left N (nI l), upd a_right N (-1), upd ba_p1 N x, upd ba_p2 N 0, upd ba_p3 N 0, upd a_nodeWidth N (nI wl), upd (upd ba_used N 0) l 1, ba_bound, ba_count, ba_val, ba_res)) → wpY_limit (fun r' v' => r' = nI N ∧ i_Rel (k + 5) u' v') (f_tables, nI N, f_resRows, f_resWidth, ba_tab, a_tabRows, a_tabWidth, a_kind, a_left, a_right, ba_p1, ba_p2, ba_p3, a_nodeWidth, ba_used, ba_bound, ba_count, ba_val, ba_res) (nI l) v2 := by
    intro u' K
    unfold wpY_limit
    refine hY _ (br_t z ⟨vp_in_nI (by omega) (by decide), ?_⟩)
    rw [nI_clamp (n := l) (by omega), ew]
    refine qy_node1 h12 (by omega) (br_c (fun y => qy_numbers h12 ⟨rfl, K _ (fun _ => rfl) (fun y2 => absurd y y2)⟩) (fun y => qy_numbers h12 ⟨rfl, K _ (fun y2 => absurd y2 y) (fun _ => rfl)⟩))
  have fin : ∀ x : Int32, (0 ≤ v2 → x = v2) → (¬ 0 ≤ v2 → x = 0) → wX_limit_40 (fun r u' => wpY_limit (fun r' v' => r' = r ∧ i_Rel (k + 5) u' v') (f_tables, nI N, f_resRows, f_resWidth, ba_tab, a_tabRows, a_tabWidth, a_kind, a_left, a_right, ba_p1, ba_p2, ba_p3, a_nodeWidth, ba_used, ba_bound, ba_count, ba_val, ba_res) (nI l) v2) (nI N) x (nI N) f_tables (nI (N + 1)) f_codeLen f_rowMap f_rowWidth f_nextReg f_loops f_resRows f_resWidth a_tabWidth a_tabRows a_tab (upd a_kind N 9) (upd a_left N (nI l)) (upd a_right N (-1)) (upd (upd a_parent N (-1)) l (nI N)) a_p a_q a_r (upd a_nodeWidth N (nI wl)) a_bound a_wanted a_cOp a_cA a_cB a_cC a_cD a_loopHead a_todo a_reg a_cursor a_loopKey a_met a_store a_storeRows a_headOf a_tailOf a_link a_result := by
    intro x hx1 hx2
    refine qx_params h12 (Y _ (fun x' h1 h2 => ?_))
    have ex : x' = x := by
      by_cases y : 0 ≤ v2
      · rw [h1 y, hx1 y]
      · rw [h2 y, hx2 y]
    subst ex
    refine qr_mk (qr_new1 (kd := 9) (w := wl) R0 h12 (by omega) (by omega) (by omega) w1 w6 hl hp ew w6 (fun i hi => ⟨qr_upd i hi, qr_upd i hi, qr_upd i hi⟩) (fun i hi => ⟨qr_upd i hi, qr_upd i hi, qr_upd i hi⟩) ?_)
    rw [pk_us, pk_us, pk_us, pk_us, pk_us, pk_us]
    have hx : qp_c (2 ^ 31) x' := by
      by_cases y : 0 ≤ v2
      · rw [h1 y]
        obtain ⟨a, ha, e⟩ := nI_of (x := v2) (Int32.not_lt.2 y)
        exact ⟨a, ha, e⟩
      · rw [h2 y]; exact ⟨0, by decide, rfl⟩
    exact ⟨fun z => by omega, fun z => by omega, fun z => by omega, fun z => by omega, fun z => by omega, fun z => by omega, fun z => by omega, fun z => by omega, fun z => by omega, fun _ => ⟨hx, rfl⟩, fun z => by omega, fun _ _ _ => ⟨rfl, rfl, rfl⟩, fun z => by omega⟩
  exact br_c (fun y => fin _ (fun _ => rfl) (fun y2 => absurd y y2)) (fun y => fin _ (fun y2 => absurd y2 y) (fun _ => rfl))

theorem i_vc_sort {k : Nat} {u : SX} {v : SY} (I : i_Rel k u v) (hk : k + 5 ≤ 2561) (v1 : Int32) (v2 : Int32) (v3 : Int32) : wpX_sort (fun r u' => wpY_sort (fun r' v' => r' = r ∧ i_Rel (k + 5) u' v') v v1 v2 (lw_bz v3)) u v1 v2 (lw_bz v3) := by
  refine qr_el (P := fun u v => wpX_sort (fun r u' => wpY_sort (fun r' v' => r' = r ∧ i_Rel (k + 5) u' v') v v1 v2 (lw_bz v3)) u v1 v2 (lw_bz v3)) ?_ I
  intro f_tables f_nodes f_codeLen f_rowMap f_rowWidth f_nextReg f_loops f_resRows f_resWidth a_tabWidth a_tabRows a_tab a_kind a_left a_right a_parent a_p a_q a_r a_nodeWidth a_bound a_wanted a_cOp a_cA a_cB a_cC a_cD a_loopHead a_todo a_reg a_cursor a_loopKey a_met a_store a_storeRows a_headOf a_tailOf a_link a_result ba_tab ba_p1 ba_p2 ba_p3 ba_used ba_bound ba_count ba_val ba_res R
  have R0 := R
  obtain ⟨T, N, rr, rw, hT1, hT4, eT, hN, eN, hrr, err, hrw, erw, hres, hT, hU, hn⟩ := R
  subst eN
  obtain ⟨r0, hr0, hX, hY⟩ := qr_child (f_tables := f_tables) (f_codeLen := f_codeLen) (f_rowMap := f_rowMap) (f_rowWidth := f_rowWidth) (f_nextReg := f_nextReg) (f_loops := f_loops) (f_resRows := f_resRows) (f_resWidth := f_resWidth) (a_tabWidth := a_tabWidth) (a_tabRows := a_tabRows) (a_tab := a_tab) (a_kind := a_kind) (a_left := a_left) (a_right := a_right) (a_p := a_p) (a_q := a_q) (a_r := a_r) (a_nodeWidth := a_nodeWidth) (a_bound := a_bound) (a_wanted := a_wanted) (a_cOp := a_cOp) (a_cA := a_cA) (a_cB := a_cB) (a_cC := a_cC) (a_cD := a_cD) (a_loopHead := a_loopHead) (a_todo := a_todo) (a_reg := a_reg) (a_cursor := a_cursor) (a_loopKey := a_loopKey) (a_met := a_met) (a_store := a_store) (a_storeRows := a_storeRows) (a_headOf := a_headOf) (a_tailOf := a_tailOf) (a_link := a_link) (a_result := a_result) (ba_tab := ba_tab) (ba_p1 := ba_p1) (ba_p2 := ba_p2) (ba_p3 := ba_p3) (ba_bound := ba_bound) (ba_count := ba_count) (ba_val := ba_val) (ba_res := ba_res) hN hU v1
  unfold wpX_sort
  refine hX _ (br_c (fun z => ?_) (fun z => by unfold wpY_sort; exact hY _ (br_f z ⟨rfl, qr_mk R0⟩)))
  obtain ⟨h12, l, hl, rfl, hp, hu⟩ := hr0 z
  obtain ⟨kd, _, _, wl, _, _, _, w1, w6, _, ew, _⟩ := hn l hl
  obtain ⟨r1, hr1, cX, cY⟩ := qr_col (f_tables := f_tables) (f_codeLen := f_codeLen) (f_rowMap := f_rowMap) (f_rowWidth := f_rowWidth) (f_nextReg := f_nextReg) (f_loops := f_loops) (f_resRows := f_resRows) (f_resWidth := f_resWidth) (a_tabWidth := a_tabWidth) (a_tabRows := a_tabRows) (a_tab := a_tab) (a_kind := a_kind) (a_left := a_left) (a_right := a_right) (a_parent := a_parent) (a_p := a_p) (a_q := a_q) (a_r := a_r) (a_bound := a_bound) (a_wanted := a_wanted) (a_cOp := a_cOp) (a_cA := a_cA) (a_cB := a_cB) (a_cC := a_cC) (a_cD := a_cD) (a_loopHead := a_loopHead) (a_todo := a_todo) (a_reg := a_reg) (a_cursor := a_cursor) (a_loopKey := a_loopKey) (a_met := a_met) (a_store := a_store) (a_storeRows := a_storeRows) (a_headOf := a_headOf) (a_tailOf := a_tailOf) (a_link := a_link) (a_result := a_result) (ba_tab := ba_tab) (ba_p1 := ba_p1) (ba_p2 := ba_p2) (ba_p3 := ba_p3) (ba_used := ba_used) (ba_bound := ba_bound) (ba_count := ba_count) (ba_val := ba_val) (ba_res := ba_res) (show l < 12 by omega) w6 ew v2
  refine cX _ (br_c (fun z2 => ⟨vp_in_nI (by omega) (by decide), ?_⟩) (fun z2 => by unfold wpY_sort; exact hY _ (br_t z (cY _ (br_f z2 ⟨rfl, qr_mk R0⟩)))))
  rw [nI_clamp (n := l) (by omega), ew]
  refine qx_add1 h12 (by omega) ?_
  generalize lw_bz v3 = b
  have Y : ∀ (u' : SX), (∀ x : Int32, (b = 0 → x = 0) → (¬ b = 0 → x = 1) → i_Rel (k + 5) u' (f_tables, nI (N + 1), f_resRows, f_resWidth, ba_tab, a_tabRows, a_tabWidth, upd a_kind N 10, upd a_left N (nI l), upd a_right N (-1), upd ba_p1 N v2, upd ba_p2 N x, upd ba_p3 N 0, upd a_nodeWidth N (nI wl), upd (upd ba_used N 0) l 1, ba_bound, ba_count, ba_val, ba_res)) → wpY_sort (fun r' v' => r' = nI N ∧ i_Rel (k + 5) u' v') (f_tables, nI N, f_resRows, f_resWidth, ba_tab, a_tabRows, a_tabWidth, a_kind, a_left, a_right, ba_p1, ba_p2, ba_p3, a_nodeWidth, ba_used, ba_bound, ba_count, ba_val, ba_res) (nI l) v2 b := by
    intro u' K
    unfold wpY_sort
    refine hY _ (br_t z (cY _ (br_t z2 ⟨vp_in_nI (by omega) (by decide), ?_⟩)))
    rw [nI_clamp (n := l) (by omega), ew]
    refine qy_node1 h12 (by omega) (br_c (fun y => qy_numbers h12 ⟨rfl, K _ (fun _ => rfl) (fun y2 => absurd y y2)⟩) (fun y => qy_numbers h12 ⟨rfl, K _ (fun y2 => absurd y2 y) (fun _ => rfl)⟩))
  have fin : ∀ x : Int32, (b = 0 → x = 0) → (¬ b = 0 → x = 1) → wX_sort_56 (fun r u' => wpY_sort (fun r' v' => r' = r ∧ i_Rel (k + 5) u' v') (f_tables, nI N, f_resRows, f_resWidth, ba_tab, a_tabRows, a_tabWidth, a_kind, a_left, a_right, ba_p1, ba_p2, ba_p3, a_nodeWidth, ba_used, ba_bound, ba_count, ba_val, ba_res) (nI l) v2 b) (nI N) x v2 (nI N) f_tables (nI (N + 1)) f_codeLen f_rowMap f_rowWidth f_nextReg f_loops f_resRows f_resWidth a_tabWidth a_tabRows a_tab (upd a_kind N 10) (upd a_left N (nI l)) (upd a_right N (-1)) (upd (upd a_parent N (-1)) l (nI N)) a_p a_q a_r (upd a_nodeWidth N (nI wl)) a_bound a_wanted a_cOp a_cA a_cB a_cC a_cD a_loopHead a_todo a_reg a_cursor a_loopKey a_met a_store a_storeRows a_headOf a_tailOf a_link a_result := by
    intro x hx1 hx2
    refine qx_params h12 (Y _ (fun x' h1 h2 => ?_))
    have ex : x' = x := by
      by_cases y : b = 0
      · rw [h1 y, hx1 y]
      · rw [h2 y, hx2 y]
    subst ex
    refine qr_mk (qr_new1 (kd := 10) (w := wl) R0 h12 (by omega) (by omega) (by omega) w1 w6 hl hp ew w6 (fun i hi => ⟨qr_upd i hi, qr_upd i hi, qr_upd i hi⟩) (fun i hi => ⟨qr_upd i hi, qr_upd i hi, qr_upd i hi⟩) ?_)
    rw [pk_us, pk_us, pk_us, pk_us, pk_us, pk_us]
    have hx : qp_c 2 x' := by
      by_cases y : b = 0
      · rw [h1 y]; exact ⟨0, by decide, rfl⟩
      · rw [h2 y]; exact ⟨1, by decide, rfl⟩
    exact ⟨fun z => by omega, fun z => by omega, fun z => by omega, fun z => by omega, fun z => by omega, fun z => by omega, fun z => by omega, fun z => by omega, fun z => by omega, fun z => by omega, fun _ => ⟨hr1 z2, hx, rfl⟩, fun _ _ _ => ⟨rfl, rfl, rfl⟩, fun z => by omega⟩
  exact br_c (fun y => fin _ (fun _ => rfl) (fun y2 => absurd y y2)) (fun y => fin _ (fun y2 => absurd y2 y) (fun _ => rfl))
end
section
/-! project, union, join -/
theorem i_vc_project {k : Nat} {u : SX} {v : SY} (I : i_Rel k u v) (hk : k + 5 ≤ 2561) (v1 : Int32) (v2 : Int32) (v3 : Int32) : wpX_project (fun r u' => wpY_project (fun r' v' => r' = r ∧ i_Rel (k + 5) u' v') v v1 v2 v3) u v1 v2 v3 := by
  refine qr_el (P := fun u v => wpX_project (fun r u' => wpY_project (fun r' v' => r' = r ∧ i_Rel (k + 5) u' v') v v1 v2 v3) u v1 v2 v3) ?_ I
  intro f_tables f_nodes f_codeLen f_rowMap f_rowWidth f_nextReg f_loops f_resRows f_resWidth a_tabWidth a_tabRows a_tab a_kind a_left a_right a_parent a_p a_q a_r a_nodeWidth a_bound a_wanted a_cOp a_cA a_cB a_cC a_cD a_loopHead a_todo a_reg a_cursor a_loopKey a_met a_store a_storeRows a_headOf a_tailOf a_link a_result ba_tab ba_p1 ba_p2 ba_p3 ba_used ba_bound ba_count ba_val ba_res R
  have R0 := R
  obtain ⟨T, N, rr, rw, hT1, hT4, eT, hN, eN, hrr, err, hrw, erw, hres, hT, hU, hn⟩ := R
  subst eN
  obtain ⟨r0, hr0, hX, hY⟩ := qr_child (f_tables := f_tables) (f_codeLen := f_codeLen) (f_rowMap := f_rowMap) (f_rowWidth := f_rowWidth) (f_nextReg := f_nextReg) (f_loops := f_loops) (f_resRows := f_resRows) (f_resWidth := f_resWidth) (a_tabWidth := a_tabWidth) (a_tabRows := a_tabRows) (a_tab := a_tab) (a_kind := a_kind) (a_left := a_left) (a_right := a_right) (a_p := a_p) (a_q := a_q) (a_r := a_r) (a_nodeWidth := a_nodeWidth) (a_bound := a_bound) (a_wanted := a_wanted) (a_cOp := a_cOp) (a_cA := a_cA) (a_cB := a_cB) (a_cC := a_cC) (a_cD := a_cD) (a_loopHead := a_loopHead) (a_todo := a_todo) (a_reg := a_reg) (a_cursor := a_cursor) (a_loopKey := a_loopKey) (a_met := a_met) (a_store := a_store) (a_storeRows := a_storeRows) (a_headOf := a_headOf) (a_tailOf := a_tailOf) (a_link := a_link) (a_result := a_result) (ba_tab := ba_tab) (ba_p1 := ba_p1) (ba_p2 := ba_p2) (ba_p3 := ba_p3) (ba_bound := ba_bound) (ba_count := ba_count) (ba_val := ba_val) (ba_res := ba_res) hN hU v1
  unfold wpX_project
  refine hX _ (br_c (fun z => ?_) (fun z => by unfold wpY_project; exact hY _ (br_f z ⟨rfl, qr_mk R0⟩)))
  obtain ⟨h12, l, hl, rfl, hp, hu⟩ := hr0 z
  obtain ⟨kd, _, _, wl, _, _, _, w1, w6, _, ew, _⟩ := hn l hl
  refine br_c (fun z1 => by unfold wpY_project; exact hY _ (br_t z (br_t z1 ⟨rfl, qr_mk R0⟩))) (fun z1 => ?_)
  refine br_c (fun z6 => ?_) (fun z6 => by unfold wpY_project; exact hY _ (br_t z (br_f z1 (br_f z6 ⟨rfl, qr_mk R0⟩))))
  obtain ⟨w, hw, rfl⟩ := nI_of (x := v3) (fun y => z1 (Int32.lt_of_lt_of_le y (by decide)))
  have w6' : w ≤ 6 := by
    have : nI w ≤ nI 6 := z6
    rwa [nI_leI hw (by omega)] at this
  have w1' : 1 ≤ w := by
    have : ¬ nI w < nI 1 := z1
    rw [nI_ltI hw (by omega)] at this; omega
  have Xc : ∀ (post : Int32 → Prop) (c : Nat), c < 8 → (c < wl → post 0) → (¬ c < wl → post 1) → wpX_noColumn post (f_tables, nI N, f_codeLen, f_rowMap, f_rowWidth, f_nextReg, f_loops, f_resRows, f_resWidth, a_tabWidth, a_tabRows, a_tab, a_kind, a_left, a_right, a_parent, a_p, a_q, a_r, a_nodeWidth, a_bound, a_wanted, a_cOp, a_cA, a_cB, a_cC, a_cD, a_loopHead, a_todo, a_reg, a_cursor, a_loopKey, a_met, a_store, a_storeRows, a_headOf, a_tailOf, a_link, a_result) (nI l) (nI c) := by
    intro post c hc k0 k1
    refine br_f (nI_pos (by omega)) ⟨vp_in_nI (by omega) (by decide), ?_⟩
    rw [nI_clamp (n := l) (by omega), ew]
    exact pk_lt c wl k0 (fun h => k1 (by omega))
  have Yc : ∀ (post : Int32 → Prop) (c : Nat), c < 8 → (c < wl → post 0) → (¬ c < wl → post 1) → wpY_noColumn post (f_tables, nI N, f_resRows, f_resWidth, ba_tab, a_tabRows, a_tabWidth, a_kind, a_left, a_right, ba_p1, ba_p2, ba_p3, a_nodeWidth, ba_used, ba_bound, ba_count, ba_val, ba_res) (nI l) (nI c) := by
    intro post c hc k0 k1
    refine br_f (nI_pos (by omega)) ⟨vp_in_nI (by omega) (by decide), ?_⟩
    rw [nI_clamp (n := l) (by omega), ew]
    exact pk_lt c wl k0 (fun h => k1 (by omega))
  have Y : ∀ (r : Int32) (u' : SX), ((∃ j, j < w ∧ ¬ qp_col v2 j < wl) → r = -3 ∧ i_Rel (k + 5) u' (f_tables, nI N, f_resRows, f_resWidth, ba_tab, a_tabRows, a_tabWidth, a_kind, a_left, a_right, ba_p1, ba_p2, ba_p3, a_nodeWidth, ba_used, ba_bound, ba_count, ba_val, ba_res)) → ((∀ j, j < w → qp_col v2 j < wl) → r = nI N ∧ i_Rel (k + 5) u' (f_tables, nI (N + 1), f_resRows, f_resWidth, ba_tab, a_tabRows, a_tabWidth, upd a_kind N 4, upd a_left N (nI l), upd a_right N (-1), upd ba_p1 N v2, upd ba_p2 N (nI w), upd ba_p3 N 0, upd a_nodeWidth N (nI w), upd (upd ba_used N 0) l 1, ba_bound, ba_count, ba_val, ba_res)) →
      wpY_project (fun r' v' => r' = r ∧ i_Rel (k + 5) u' v') (f_tables, nI N, f_resRows, f_resWidth, ba_tab, a_tabRows, a_tabWidth, a_kind, a_left, a_right, ba_p1, ba_p2, ba_p3, a_nodeWidth, ba_used, ba_bound, ba_count, ba_val, ba_res) (nI l) v2 (nI w) := by
    intro r u' K1 K0
    unfold wpY_project
    refine hY _ (br_t z (br_f z1 (br_t z6 ⟨w + 1, ?_⟩)))
    have L : ∀ d i fu, i + d = w → d < fu → (∀ j, j < i → qp_col v2 j < wl) → wY_project_32 (fun r' v' => r' = r ∧ i_Rel (k + 5) u' v') (nI l) v2 (nI w) f_tables (nI N) f_resRows f_resWidth ba_tab a_tabRows a_tabWidth a_kind a_left a_right ba_p1 ba_p2 ba_p3 a_nodeWidth ba_used ba_bound ba_count ba_val ba_res fu (nI i) := by
      intro d
      induction d with
      | zero =>
        intro i fu hi hf hj
        obtain ⟨fu, rfl⟩ : ∃ f', fu = f' + 1 := ⟨fu - 1, by omega⟩
        have : i = w := by omega
        subst this
        obtain ⟨k1, k2⟩ := K0 hj
        exact br_t (nI_le (Nat.le_refl _) (by omega)) (qy_node1 h12 (by omega) (qy_numbers h12 ⟨k1.symm, k2⟩))
      | succ d ih =>
        intro i fu hi hf hj
        obtain ⟨fu, rfl⟩ : ∃ f', fu = f' + 1 := ⟨fu - 1, by omega⟩
        refine br_f (nI_ge (by omega) (by omega)) ?_
        rw [(qc_col v2 i).1]
        refine Yc _ _ (qc_col v2 i).2 (fun hc => br_t rfl (nm_r (nI_1 i) (ih (i + 1) fu (by omega) (by omega) (fun j hj' => ?_)))) (fun hc => br_f (by decide) ?_)
        · by_cases e : j = i
          · rw [e]; exact hc
          · exact hj j (by omega)
        · obtain ⟨k1, k2⟩ := K1 ⟨i, by omega, hc⟩
          exact ⟨k1.symm, k2⟩
    exact L w 0 _ (by omega) (by omega) (fun j hj => absurd hj (Nat.not_lt_zero _))
  refine ⟨w + 1, ?_⟩
  have L : ∀ d i fu, i + d = w → d < fu → (∀ j, j < i → qp_col v2 j < wl) → wX_project_32 (fun r u' => wpY_project (fun r' v' => r' = r ∧ i_Rel (k + 5) u' v') (f_tables, nI N, f_resRows, f_resWidth, ba_tab, a_tabRows, a_tabWidth, a_kind, a_left, a_right, ba_p1, ba_p2, ba_p3, a_nodeWidth, ba_used, ba_bound, ba_count, ba_val, ba_res) (nI l) v2 (nI w)) (nI l) v2 (nI w) f_tables (nI N) f_codeLen f_rowMap f_rowWidth f_nextReg f_loops f_resRows f_resWidth a_tabWidth a_tabRows a_tab a_kind a_left a_right a_parent a_p a_q a_r a_nodeWidth a_bound a_wanted a_cOp a_cA a_cB a_cC a_cD a_loopHead a_todo a_reg a_cursor a_loopKey a_met a_store a_storeRows a_headOf a_tailOf a_link a_result fu (nI i) := by
    intro d
    induction d with
    | zero =>
      intro i fu hi hf hj
      obtain ⟨fu, rfl⟩ : ∃ f', fu = f' + 1 := ⟨fu - 1, by omega⟩
      have : i = w := by omega
      subst this
      refine br_t (nI_le (Nat.le_refl _) (by omega)) (qx_add1 h12 (by omega) (qx_params h12 (Y _ _ (fun ⟨j, j1, j2⟩ => absurd (hj j j1) j2) (fun _ => ⟨rfl, ?_⟩))))
      refine qr_mk (qr_new1 (kd := 4) (w := i) R0 h12 (by omega) (by omega) (by omega) w1' w6' hl hp ew w6 (fun i hi => ⟨qr_upd i hi, qr_upd i hi, qr_upd i hi⟩) (fun i hi => ⟨qr_upd i hi, qr_upd i hi, qr_upd i hi⟩) ?_)
      rw [pk_us, pk_us, pk_us, pk_us, pk_us, pk_us]
      exact ⟨fun z => by omega, fun z => by omega, fun z => by omega, fun z => by omega, fun _ => ⟨rfl, hj⟩, fun z => by omega, fun z => by omega, fun z => by omega, fun z => by omega, fun z => by omega, fun z => by omega, fun _ _ _ => ⟨rfl, rfl, rfl⟩, fun z => by omega⟩
    | succ d ih =>
      intro i fu hi hf hj
      obtain ⟨fu, rfl⟩ : ∃ f', fu = f' + 1 := ⟨fu - 1, by omega⟩
      refine br_f (nI_ge (by omega) (by omega)) (nm_r (qc_col v2 i).1 ?_)
      refine Xc _ _ (qc_col v2 i).2 (fun hc => br_t rfl (nm_r (nI_1 i) (ih (i + 1) fu (by omega) (by omega) (fun j hj' => ?_)))) (fun hc => br_f (by decide) (Y _ _ (fun _ => ⟨rfl, qr_mk R0⟩) (fun y => absurd (y i (by omega)) hc)))
      by_cases e : j = i
      · rw [e]; exact hc
      · exact hj j (by omega)
  exact L w 0 _ (by omega) (by omega) (fun j hj => absurd hj (Nat.not_lt_zero _))

theorem i_vc_union {k : Nat} {u : SX} {v : SY} (I : i_Rel k u v) (hk : k + 5 ≤ 2561) (v1 : Int32) (v2 : Int32) : wpX_union (fun r u' => wpY_union (fun r' v' => r' = r ∧ i_Rel (k + 5) u' v') v v1 v2) u v1 v2 := by
  refine qr_el (P := fun u v => wpX_union (fun r u' => wpY_union (fun r' v' => r' = r ∧ i_Rel (k + 5) u' v') v v1 v2) u v1 v2) ?_ I
  intro f_tables f_nodes f_codeLen f_rowMap f_rowWidth f_nextReg f_loops f_resRows f_resWidth a_tabWidth a_tabRows a_tab a_kind a_left a_right a_parent a_p a_q a_r a_nodeWidth a_bound a_wanted a_cOp a_cA a_cB a_cC a_cD a_loopHead a_todo a_reg a_cursor a_loopKey a_met a_store a_storeRows a_headOf a_tailOf a_link a_result ba_tab ba_p1 ba_p2 ba_p3 ba_used ba_bound ba_count ba_val ba_res R
  have R0 := R
  obtain ⟨T, N, rr, rw, hT1, hT4, eT, hN, eN, hrr, err, hrw, erw, hres, hT, hU, hn⟩ := R
  subst eN
  obtain ⟨r0, hr0, hX, hY⟩ := qr_pair (f_tables := f_tables) (f_codeLen := f_codeLen) (f_rowMap := f_rowMap) (f_rowWidth := f_rowWidth) (f_nextReg := f_nextReg) (f_loops := f_loops) (f_resRows := f_resRows) (f_resWidth := f_resWidth) (a_tabWidth := a_tabWidth) (a_tabRows := a_tabRows) (a_tab := a_tab) (a_kind := a_kind) (a_left := a_left) (a_right := a_right) (a_p := a_p) (a_q := a_q) (a_r := a_r) (a_nodeWidth := a_nodeWidth) (a_bound := a_bound) (a_wanted := a_wanted) (a_cOp := a_cOp) (a_cA := a_cA) (a_cB := a_cB) (a_cC := a_cC) (a_cD := a_cD) (a_loopHead := a_loopHead) (a_todo := a_todo) (a_reg := a_reg) (a_cursor := a_cursor) (a_loopKey := a_loopKey) (a_met := a_met) (a_store := a_store) (a_storeRows := a_storeRows) (a_headOf := a_headOf) (a_tailOf := a_tailOf) (a_link := a_link) (a_result := a_result) (ba_tab := ba_tab) (ba_p1 := ba_p1) (ba_p2 := ba_p2) (ba_p3 := ba_p3) (ba_bound := ba_bound) (ba_count := ba_count) (ba_val := ba_val) (ba_res := ba_res) hN hU v1 v2
  unfold wpX_union
  refine hX _ (br_c (fun z => ?_) (fun z => by unfold wpY_union; exact hY _ (br_f z ⟨rfl, qr_mk R0⟩)))
  obtain ⟨h12, l, m, hl, hm, hlm, rfl, rfl, hp, hu, hp2, hu2⟩ := hr0 z
  obtain ⟨_, _, _, wl, _, _, _, w1, w6, _, ew, _⟩ := hn l hl
  obtain ⟨_, _, _, wr, _, _, _, w1r, w6r, _, ewr, _⟩ := hn m hm
  refine ⟨vp_in_nI (by omega) (by decide), vp_in_nI (by omega) (by decide), ?_⟩
  rw [nI_clamp (n := l) (by omega), nI_clamp (n := m) (by omega), ew, ewr]
  have Y : ∀ (r : Int32) (u' : SX), (wl = wr → r = nI N ∧ i_Rel (k + 5) u' (f_tables, nI (N + 1), f_resRows, f_resWidth, ba_tab, a_tabRows, a_tabWidth, upd a_kind N 6, upd a_left N (nI l), upd a_right N (nI m), ba_p1, ba_p2, ba_p3, upd a_nodeWidth N (nI wl), upd (upd (upd ba_used N 0) l 1) m 1, ba_bound, ba_count, ba_val, ba_res)) → (wl ≠ wr → r = -2 ∧ i_Rel (k + 5) u' (f_tables, nI N, f_resRows, f_resWidth, ba_tab, a_tabRows, a_tabWidth, a_kind, a_left, a_right, ba_p1, ba_p2, ba_p3, a_nodeWidth, ba_used, ba_bound, ba_count, ba_val, ba_res)) → wpY_union (fun r' v' => r' = r ∧ i_Rel (k + 5) u' v') (f_tables, nI N, f_resRows, f_resWidth, ba_tab, a_tabRows, a_tabWidth, a_kind, a_left, a_right, ba_p1, ba_p2, ba_p3, a_nodeWidth, ba_used, ba_bound, ba_count, ba_val, ba_res) (nI l) (nI m) := by
    intro r u' K1 K0
    unfold wpY_union
    refine hY _ (br_t z ⟨vp_in_nI (by omega) (by decide), vp_in_nI (by omega) (by decide), ?_⟩)
    rw [nI_clamp (n := l) (by omega), nI_clamp (n := m) (by omega), ew, ewr]
    refine pk_eq wl wr (fun e => ⟨vp_in_nI (by omega) (by decide), ?_⟩) (fun e => ⟨(K0 e).1.symm, (K0 e).2⟩)
    exact qy_node2 h12 (by omega) (by omega) ⟨(K1 e).1.symm, (K1 e).2⟩
  refine pk_eq wl wr (fun e => ⟨vp_in_nI (by omega) (by decide), ?_⟩) (fun e => Y _ _ (fun e2 => absurd e2 e) (fun _ => ⟨rfl, qr_mk R0⟩))
  refine qx_add2 h12 (by omega) (by omega) (qx_params h12 (Y _ _ (fun _ => ⟨rfl, ?_⟩) (fun e2 => absurd e e2)))
  refine qr_mk (qr_new2 (kd := 6) (w := wl) (wr := wr) R0 h12 (by omega) w1 w6 hl hm hlm hp hp2 ew w6 ewr w6r (fun i hi => ⟨qr_upd i hi, qr_upd i hi, qr_upd i hi⟩) (fun i hi => ⟨rfl, rfl, rfl⟩) ?_)
  exact ⟨fun z => by omega, fun z => by omega, fun z => by omega, fun z => by omega, fun z => by omega, fun z => by omega, fun _ => ⟨rfl, e.symm⟩, fun z => by omega, fun z => by omega, fun z => by omega, fun z => by omega, fun y1 y2 y3 => by omega, fun z => by omega⟩

theorem i_vc_join {k : Nat} {u : SX} {v : SY} (I : i_Rel k u v) (hk : k + 5 ≤ 2561) (v1 : Int32) (v2 : Int32) (v3 : Int32) (v4 : Int32) : wpX_join (fun r u' => wpY_join (fun r' v' => r' = r ∧ i_Rel (k + 5) u' v') v v1 v2 v3 v4) u v1 v2 v3 v4 := by
  refine qr_el (P := fun u v => wpX_join (fun r u' => wpY_join (fun r' v' => r' = r ∧ i_Rel (k + 5) u' v') v v1 v2 v3 v4) u v1 v2 v3 v4) ?_ I
  intro f_tables f_nodes f_codeLen f_rowMap f_rowWidth f_nextReg f_loops f_resRows f_resWidth a_tabWidth a_tabRows a_tab a_kind a_left a_right a_parent a_p a_q a_r a_nodeWidth a_bound a_wanted a_cOp a_cA a_cB a_cC a_cD a_loopHead a_todo a_reg a_cursor a_loopKey a_met a_store a_storeRows a_headOf a_tailOf a_link a_result ba_tab ba_p1 ba_p2 ba_p3 ba_used ba_bound ba_count ba_val ba_res R
  have R0 := R
  obtain ⟨T, N, rr, rw, hT1, hT4, eT, hN, eN, hrr, err, hrw, erw, hres, hT, hU, hn⟩ := R
  subst eN
  obtain ⟨r0, hr0, hX, hY⟩ := qr_pair (f_tables := f_tables) (f_codeLen := f_codeLen) (f_rowMap := f_rowMap) (f_rowWidth := f_rowWidth) (f_nextReg := f_nextReg) (f_loops := f_loops) (f_resRows := f_resRows) (f_resWidth := f_resWidth) (a_tabWidth := a_tabWidth) (a_tabRows := a_tabRows) (a_tab := a_tab) (a_kind := a_kind) (a_left := a_left) (a_right := a_right) (a_p := a_p) (a_q := a_q) (a_r := a_r) (a_nodeWidth := a_nodeWidth) (a_bound := a_bound) (a_wanted := a_wanted) (a_cOp := a_cOp) (a_cA := a_cA) (a_cB := a_cB) (a_cC := a_cC) (a_cD := a_cD) (a_loopHead := a_loopHead) (a_todo := a_todo) (a_reg := a_reg) (a_cursor := a_cursor) (a_loopKey := a_loopKey) (a_met := a_met) (a_store := a_store) (a_storeRows := a_storeRows) (a_headOf := a_headOf) (a_tailOf := a_tailOf) (a_link := a_link) (a_result := a_result) (ba_tab := ba_tab) (ba_p1 := ba_p1) (ba_p2 := ba_p2) (ba_p3 := ba_p3) (ba_bound := ba_bound) (ba_count := ba_count) (ba_val := ba_val) (ba_res := ba_res) hN hU v1 v2
  unfold wpX_join
  refine hX _ (br_c (fun z => ?_) (fun z => by unfold wpY_join; exact hY _ (br_f z ⟨rfl, qr_mk R0⟩)))
  obtain ⟨h12, l, m, hl, hm, hlm, rfl, rfl, hp, hu, hp2, hu2⟩ := hr0 z
  obtain ⟨_, _, _, wl, _, _, _, w1, w6, _, ew, _⟩ := hn l hl
  obtain ⟨_, _, _, wr, _, _, _, w1r, w6r, _, ewr, _⟩ := hn m hm
  obtain ⟨r1, hr1, cX, cY⟩ := qr_col (f_tables := f_tables) (f_codeLen := f_codeLen) (f_rowMap := f_rowMap) (f_rowWidth := f_rowWidth) (f_nextReg := f_nextReg) (f_loops := f_loops) (f_resRows := f_resRows) (f_resWidth := f_resWidth) (a_tabWidth := a_tabWidth) (a_tabRows := a_tabRows) (a_tab := a_tab) (a_kind := a_kind) (a_left := a_left) (a_right := a_right) (a_parent := a_parent) (a_p := a_p) (a_q := a_q) (a_r := a_r) (a_bound := a_bound) (a_wanted := a_wanted) (a_cOp := a_cOp) (a_cA := a_cA) (a_cB := a_cB) (a_cC := a_cC) (a_cD := a_cD) (a_loopHead := a_loopHead) (a_todo := a_todo) (a_reg := a_reg) (a_cursor := a_cursor) (a_loopKey := a_loopKey) (a_met := a_met) (a_store := a_store) (a_storeRows := a_storeRows) (a_headOf := a_headOf) (a_tailOf := a_tailOf) (a_link := a_link) (a_result := a_result) (ba_tab := ba_tab) (ba_p1 := ba_p1) (ba_p2 := ba_p2) (ba_p3 := ba_p3) (ba_used := ba_used) (ba_bound := ba_bound) (ba_count := ba_count) (ba_val := ba_val) (ba_res := ba_res) (show l < 12 by omega) w6 ew (v3 &&& 7)
  obtain ⟨r2, hr2, dX, dY⟩ := qr_col (f_tables := f_tables) (f_codeLen := f_codeLen) (f_rowMap := f_rowMap) (f_rowWidth := f_rowWidth) (f_nextReg := f_nextReg) (f_loops := f_loops) (f_resRows := f_resRows) (f_resWidth := f_resWidth) (a_tabWidth := a_tabWidth) (a_tabRows := a_tabRows) (a_tab := a_tab) (a_kind := a_kind) (a_left := a_left) (a_right := a_right) (a_parent := a_parent) (a_p := a_p) (a_q := a_q) (a_r := a_r) (a_bound := a_bound) (a_wanted := a_wanted) (a_cOp := a_cOp) (a_cA := a_cA) (a_cB := a_cB) (a_cC := a_cC) (a_cD := a_cD) (a_loopHead := a_loopHead) (a_todo := a_todo) (a_reg := a_reg) (a_cursor := a_cursor) (a_loopKey := a_loopKey) (a_met := a_met) (a_store := a_store) (a_storeRows := a_storeRows) (a_headOf := a_headOf) (a_tailOf := a_tailOf) (a_link := a_link) (a_result := a_result) (ba_tab := ba_tab) (ba_p1 := ba_p1) (ba_p2 := ba_p2) (ba_p3 := ba_p3) (ba_used := ba_used) (ba_bound := ba_bound) (ba_count := ba_count) (ba_val := ba_val) (ba_res := ba_res) (show m < 12 by omega) w6r ewr ((v3 >>> ((3 : Int32) &&& 31)) &&& 7)
  refine br_c (fun z3 => by unfold wpY_join; exact hY _ (br_t z (br_t z3 ⟨rfl, qr_mk R0⟩))) (fun z3 => ?_)
  refine br_c (fun z4 => nm_e (nm_e ?_)) (fun z4 => by unfold wpY_join; exact hY _ (br_t z (br_f z3 (br_f z4 ⟨rfl, qr_mk R0⟩))))
  refine cX _ (br_c (fun z2 => ?_) (fun z2 => by unfold wpY_join; exact hY _ (br_t z (br_f z3 (br_t z4 (cY _ (br_f z2 ⟨rfl, qr_mk R0⟩)))))))
  refine dX _ (br_c (fun z5 => ⟨vp_in_nI (by omega) (by decide), ?_⟩) (fun z5 => by unfold wpY_join; exact hY _ (br_t z (br_f z3 (br_t z4 (cY _ (br_t z2 (dY _ (br_f z5 ⟨rfl, qr_mk R0⟩)))))))))
  rw [nI_clamp (n := l) (by omega)]
  refine nm_r ew ?_
  have hk4 := qr_cmp (n := 3) (by decide) z3 z4
  -- the width of the join
  have Y : ∀ (r : Int32) (u' : SX), ((if v4 = 0 ∨ v4 = 3 then wl + wr else wl) ≤ 6 → r = nI N ∧ i_Rel (k + 5) u' (f_tables, nI (N + 1), f_resRows, f_resWidth, ba_tab, a_tabRows, a_tabWidth, upd a_kind N 5, upd a_left N (nI l), upd a_right N (nI m), upd ba_p1 N (v3 &&& 7), upd ba_p2 N ((v3 >>> ((3 : Int32) &&& 31)) &&& 7), upd ba_p3 N v4, upd a_nodeWidth N (nI (if v4 = 0 ∨ v4 = 3 then wl + wr else wl)), upd (upd (upd ba_used N 0) l 1) m 1, ba_bound, ba_count, ba_val, ba_res)) → (¬ (if v4 = 0 ∨ v4 = 3 then wl + wr else wl) ≤ 6 → r = -7 ∧ i_Rel (k + 5) u' (f_tables, nI N, f_resRows, f_resWidth, ba_tab, a_tabRows, a_tabWidth, a_kind, a_left, a_right, ba_p1, ba_p2, ba_p3, a_nodeWidth, ba_used, ba_bound, ba_count, ba_val, ba_res)) →
      wpY_join (fun r' v' => r' = r ∧ i_Rel (k + 5) u' v') (f_tables, nI N, f_resRows, f_resWidth, ba_tab, a_tabRows, a_tabWidth, a_kind, a_left, a_right, ba_p1, ba_p2, ba_p3, a_nodeWidth, ba_used, ba_bound, ba_count, ba_val, ba_res) (nI l) (nI m) v3 v4 := by
    intro r u' K1 K0
    unfold wpY_join
    refine hY _ (br_t z (br_f z3 (br_t z4 (cY _ (br_t z2 (dY _ (br_t z5 ⟨vp_in_nI (by omega) (by decide), ?_⟩)))))))
    rw [nI_clamp (n := l) (by omega)]
    refine nm_r ew ?_
    have f89 : ∀ w, (if v4 = 0 ∨ v4 = 3 then wl + wr else wl) = w → w ≤ 12 → wY_join_89 (fun r' v' => r' = r ∧ i_Rel (k + 5) u' v') (nI l) (nI m) v3 v4 (nI w) f_tables (nI N) f_resRows f_resWidth ba_tab a_tabRows a_tabWidth a_kind a_left a_right ba_p1 ba_p2 ba_p3 a_nodeWidth ba_used ba_bound ba_count ba_val ba_res := by
      intro w e hw
      rw [e] at K1 K0
      unfold wY_join_89
      refine pk_le w 6 (fun h => qy_node2 h12 (by omega) (by omega) (qy_numbers h12 ⟨(K1 h).1.symm, (K1 h).2⟩)) (fun h => ⟨(K0 (by omega)).1.symm, (K0 (by omega)).2⟩)
    have f78 : v4 = 0 ∨ v4 = 3 → wY_join_78 (fun r' v' => r' = r ∧ i_Rel (k + 5) u' v') (nI l) (nI m) v3 v4 (nI wl) f_tables (nI N) f_resRows f_resWidth ba_tab a_tabRows a_tabWidth a_kind a_left a_right ba_p1 ba_p2 ba_p3 a_nodeWidth ba_used ba_bound ba_count ba_val ba_res := by
      intro h
      unfold wY_join_78
      refine ⟨vp_in_nI (by omega) (by decide), ?_⟩
      rw [nI_clamp (n := m) (by omega), ewr]
      exact nm_r (nI_add _ _) (f89 _ (if_pos h) (by omega))
    exact br_c (fun y0 => f78 (Or.inl y0)) (fun y0 => br_c (fun y3 => f78 (Or.inr y3)) (fun y3 => f89 _ (if_neg (fun y => y.elim y0 y3)) (by omega)))
  have f97 : ∀ w, (if v4 = 0 ∨ v4 = 3 then wl + wr else wl) = w → w ≤ 12 → 1 ≤ w → wX_join_97 (fun r u' => wpY_join (fun r' v' => r' = r ∧ i_Rel (k + 5) u' v') (f_tables, nI N, f_resRows, f_resWidth, ba_tab, a_tabRows, a_tabWidth, a_kind, a_left, a_right, ba_p1, ba_p2, ba_p3, a_nodeWidth, ba_used, ba_bound, ba_count, ba_val, ba_res) (nI l) (nI m) v3 v4) (nI l) (nI m) v4 (v3 &&& 7) ((v3 >>> ((3 : Int32) &&& 31)) &&& 7) (nI w) f_tables (nI N) f_codeLen f_rowMap f_rowWidth f_nextReg f_loops f_resRows f_resWidth a_tabWidth a_tabRows a_tab a_kind a_left a_right a_parent a_p a_q a_r a_nodeWidth a_bound a_wanted a_cOp a_cA a_cB a_cC a_cD a_loopHead a_todo a_reg a_cursor a_loopKey a_met a_store a_storeRows a_headOf a_tailOf a_link a_result := by
    intro w e hw hw1
    rw [e] at Y
    unfold wX_join_97
    refine pk_le w 6 (fun h => qx_add2 h12 (by omega) (by omega) (qx_params h12 (Y _ _ (fun _ => ⟨rfl, ?_⟩) (fun y => absurd h y)))) (fun h => Y _ _ (fun y => by omega) (fun _ => ⟨rfl, qr_mk R0⟩))
    refine qr_mk (qr_new2 (kd := 5) (w := w) (wr := wr) R0 h12 (by omega) hw1 h hl hm hlm hp hp2 ew w6 ewr w6r (fun i hi => ⟨qr_upd i hi, qr_upd i hi, qr_upd i hi⟩) (fun i hi => ⟨qr_upd i hi, qr_upd i hi, qr_upd i hi⟩) ?_)
    rw [pk_us, pk_us, pk_us, pk_us, pk_us, pk_us]
    exact ⟨fun z => by omega, fun z => by omega, fun z => by omega, fun z => by omega, fun z => by omega, fun _ => ⟨hk4, hr1 z2, hr2 z5, e.symm⟩, fun z => by omega, fun z => by omega, fun z => by omega, fun z => by omega, fun z => by omega, fun y => absurd rfl y, fun _ => ⟨rfl, rfl, rfl⟩⟩
  have f86 : v4 = 0 ∨ v4 = 3 → wX_join_86 (fun r u' => wpY_join (fun r' v' => r' = r ∧ i_Rel (k + 5) u' v') (f_tables, nI N, f_resRows, f_resWidth, ba_tab, a_tabRows, a_tabWidth, a_kind, a_left, a_right, ba_p1, ba_p2, ba_p3, a_nodeWidth, ba_used, ba_bound, ba_count, ba_val, ba_res) (nI l) (nI m) v3 v4) (nI l) (nI m) v4 (v3 &&& 7) ((v3 >>> ((3 : Int32) &&& 31)) &&& 7) (nI wl) f_tables (nI N) f_codeLen f_rowMap f_rowWidth f_nextReg f_loops f_resRows f_resWidth a_tabWidth a_tabRows a_tab a_kind a_left a_right a_parent a_p a_q a_r a_nodeWidth a_bound a_wanted a_cOp a_cA a_cB a_cC a_cD a_loopHead a_todo a_reg a_cursor a_loopKey a_met a_store a_storeRows a_headOf a_tailOf a_link a_result := by
    intro h
    unfold wX_join_86
    refine ⟨vp_in_nI (by omega) (by decide), ?_⟩
    rw [nI_clamp (n := m) (by omega), ewr]
    exact nm_r (nI_add _ _) (f97 _ (if_pos h) (by omega) (by omega))
  exact br_c (fun y0 => f86 (Or.inl y0)) (fun y0 => br_c (fun y3 => f86 (Or.inr y3)) (fun y3 => f97 _ (if_neg (fun y => y.elim y0 y3)) (by omega) w1))
end
