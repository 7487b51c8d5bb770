section
/-! pure rows to paste: stores, nI and lN arithmetic, masks, shifts, narrowing, branches by naturals (pk_le, pk_lt, pk_eq), loops (lp1 .. lp16: the measure of the state; rp1 ..: recursion), negatives. Take what you need -/
theorem pk_us {f : Nat → Int32} {k : Nat} {x : Int32} : upd f k x k = x := if_pos rfl
theorem pk_un {f : Nat → Int32} {k j : Nat} {x : Int32} (h : j ≠ k) : upd f k x j = f j := if_neg h
theorem pk_uLs {f : Nat → Int64} {k : Nat} {x : Int64} : vp_updL f k x k = x := if_pos rfl
theorem pk_uLn {f : Nat → Int64} {k j : Nat} {x : Int64} (h : j ≠ k) : vp_updL f k x j = f j := if_neg h
theorem pk_sub {a b : Nat} (h : b ≤ a) : nI a - nI b = nI (a - b) := by
  obtain ⟨c, rfl⟩ : ∃ c, a = c + b := ⟨a - b, by omega⟩
  rw [← nI_add, Int32.add_sub_cancel, Nat.add_sub_cancel]
theorem pk_m1 (n : Nat) : nI (n + 1) + (-1) = nI n := by
  rw [← nI_1, Int32.add_assoc, show (1 : Int32) + (-1) = 0 from rfl, Int32.add_zero]
theorem pk_mul (a b : Nat) : nI a * nI b = nI (a * b) := (Int32.ofNat_mul a b).symm
theorem pk_div {a d : Nat} (ha : a < 2 ^ 31) (h0 : 0 < d) (hd : d < 2 ^ 31) : nI a / nI d = nI (a / d) := by
  apply Int32.toInt_inj.mp
  rw [lg_idiv_nonneg (by rw [nI_toInt ha]; omega) (by rw [nI_toInt hd]; omega), nI_toInt ha, nI_toInt hd, nI_toInt (Nat.lt_of_le_of_lt (Nat.div_le_self a d) ha)]
  first | rfl | exact (Int.natCast_ediv _ _).symm
theorem pk_rem {a d : Nat} (ha : a < 2 ^ 31) (h0 : 0 < d) (hd : d < 2 ^ 31) : nI a - nI a / nI d * nI d = nI (a % d) := by
  rw [pk_div ha h0 hd, pk_mul, pk_sub (Nat.div_mul_le_self a d)]
  exact congrArg nI (by have := Nat.div_add_mod' a d; omega)
theorem pk_sub_toInt {a b : Nat} (ha : a < 2 ^ 30) (hb : b < 2 ^ 30) : (nI a - nI b).toInt = (a : Int) - b := by
  rw [Int32.toInt_sub, nI_toInt (by omega), nI_toInt (by omega)]
  exact Int.bmod_eq_of_le (by omega) (by omega)
theorem pk_sneg {a b : Nat} (hb : b < 2 ^ 30) (h : a < b) : nI a - nI b < 0 := by
  rw [Int32.lt_iff_toInt_lt, pk_sub_toInt (by omega) hb, show (0 : Int32).toInt = 0 from by decide]
  omega
theorem pk_ix (x : Int32) {n : Nat} (hn : n < 2 ^ 31) : x < 0 ∨ nI n ≤ x ∨ ∃ j : Nat, j < n ∧ x = nI j := by
  by_cases h : x < 0
  · exact Or.inl h
  · obtain ⟨j, hj, rfl⟩ := nI_of h
    by_cases h2 : j < n
    · exact Or.inr (Or.inr ⟨j, h2, rfl⟩)
    · exact Or.inr (Or.inl (nI_le (by omega) hj))
theorem pk_le {x y : Int32} {A B : Prop} (a b : Nat) (f : a ≤ b → A) (g : b < a → B) (hx : x = nI a := by rfl) (hy : y = nI b := by rfl) (ha : a < 2 ^ 31 := by omega) (hb : b < 2 ^ 31 := by omega) : (x ≤ y → A) ∧ (¬ x ≤ y → B) := by
  subst hx hy
  rw [nI_leI ha hb]
  exact ⟨f, fun z => g (by omega)⟩
theorem pk_lt {x y : Int32} {A B : Prop} (a b : Nat) (f : a < b → A) (g : b ≤ a → B) (hx : x = nI a := by rfl) (hy : y = nI b := by rfl) (ha : a < 2 ^ 31 := by omega) (hb : b < 2 ^ 31 := by omega) : (x < y → A) ∧ (¬ x < y → B) := by
  subst hx hy
  rw [nI_ltI ha hb]
  exact ⟨f, fun z => g (by omega)⟩
theorem pk_eq {x y : Int32} {A B : Prop} (a b : Nat) (f : a = b → A) (g : a ≠ b → B) (hx : x = nI a := by rfl) (hy : y = nI b := by rfl) (ha : a < 2 ^ 31 := by omega) (hb : b < 2 ^ 31 := by omega) : (x = y → A) ∧ (¬ x = y → B) := by
  subst hx hy
  rw [nI_eq ha hb]
  exact ⟨f, g⟩
theorem pk_in {x : Int32} (n N : Nat) (h : n < N) (hx : x = nI n := by rfl) (hN : N < 2 ^ 31 := by omega) : vp_in x N := by
  subst hx
  exact vp_in_nI h hN
theorem pk_cl {x : Int32} (n : Nat) (hx : x = nI n := by rfl) (h : n < 2 ^ 31 := by omega) : x.toNatClampNeg = n := by
  subst hx
  exact nI_clamp h
theorem pk_tn {n : Nat} (h : n < 2 ^ 32) : (nI n).toBitVec.toNat = n := Nat.mod_eq_of_lt h
theorem pk_and (x : Int32) {m : Int32} (k : Nat) (hm : m.toBitVec.toNat = 2 ^ k - 1) : x &&& m = nI (x.toBitVec.toNat % 2 ^ k) := by
  apply Int32.toBitVec_inj.mp
  apply BitVec.eq_of_toNat_eq
  rw [Int32.toBitVec_and, BitVec.toNat_and, hm, Nat.and_two_pow_sub_one_eq_mod]
  show _ = (BitVec.ofNat 32 _).toNat
  rw [BitVec.toNat_ofNat]
  exact (Nat.mod_eq_of_lt (Nat.lt_of_le_of_lt (Nat.mod_le _ _) x.toBitVec.isLt)).symm
theorem pk_andN {n : Nat} (h : n < 2 ^ 32) {m : Int32} (k : Nat) (hm : m.toBitVec.toNat = 2 ^ k - 1) : nI n &&& m = nI (n % 2 ^ k) := by
  rw [pk_and _ k hm, pk_tn h]
theorem pk_andE (x : Int32) {m : Int32} (k : Nat) (hm : m.toBitVec.toNat = 2 ^ k - 1) : ∃ j : Nat, j < 2 ^ k ∧ x &&& m = nI j := ⟨_, Nat.mod_lt _ (Nat.two_pow_pos k), pk_and x k hm⟩
theorem pk_andIn (x : Int32) {m : Int32} (k : Nat) (hm : m.toBitVec.toNat = 2 ^ k - 1) (hk : k ≤ 30) : vp_in (x &&& m) (2 ^ k) := by
  obtain ⟨j, hj, e⟩ := pk_andE x k hm
  rw [e]
  exact vp_in_nI hj (Nat.lt_of_le_of_lt (Nat.pow_le_pow_right (by decide) hk) (by decide))
theorem pk_shl (a s : Int32) (k : Nat) (hs : (s.toBitVec.smod 32).toNat = k) : (a <<< s).toBitVec.toNat = a.toBitVec.toNat * 2 ^ k % 2 ^ 32 := by
  show (a.toBitVec <<< (s.toBitVec.smod 32).toNat).toNat = _
  rw [hs, BitVec.toNat_shiftLeft, Nat.shiftLeft_eq]
theorem pk_shlN {n : Nat} (s : Int32) (k : Nat) (hs : (s.toBitVec.smod 32).toNat = k) (h : n * 2 ^ k < 2 ^ 32) : nI n <<< s = nI (n * 2 ^ k) := by
  apply Int32.toBitVec_inj.mp
  apply BitVec.eq_of_toNat_eq
  have hn : n < 2 ^ 32 := Nat.lt_of_le_of_lt (Nat.le_mul_of_pos_right n (Nat.two_pow_pos k)) h
  rw [pk_shl _ _ k hs, pk_tn hn, pk_tn h, Nat.mod_eq_of_lt h]
theorem pk_shr (a s : Int32) (k : Nat) (hs : (s.toBitVec.smod 32).toNat = k) : (a >>> s).toInt = a.toInt >>> k := by
  show (a.toBitVec.sshiftRight (s.toBitVec.smod 32).toNat).toInt = _
  rw [hs, BitVec.toInt_sshiftRight]
  rfl
theorem pk_shrN {n : Nat} (h : n < 2 ^ 31) (s : Int32) (k : Nat) (hs : (s.toBitVec.smod 32).toNat = k) : nI n >>> s = nI (n / 2 ^ k) := by
  apply Int32.toInt_inj.mp
  have h2 : n / 2 ^ k ≤ n := Nat.div_le_self _ _
  rw [pk_shr _ _ k hs, nI_toInt h, nI_toInt (by omega), Int.shiftRight_eq_div_pow]
  rfl
theorem pk_ushr (x s : Int32) (k : Nat) (hs : ((s.toUInt32 &&& Int32.toUInt32 31).toBitVec % 32).toNat = k) : (x.toUInt32 >>> (s.toUInt32 &&& Int32.toUInt32 31)).toInt32.toBitVec.toNat = x.toBitVec.toNat / 2 ^ k := by
  have e : (x.toUInt32 >>> (s.toUInt32 &&& Int32.toUInt32 31)).toInt32.toBitVec = x.toBitVec >>> k := by
    rw [← hs]
    exact UInt32.toBitVec_shiftRight _ _
  rw [e, BitVec.toNat_ushiftRight, Nat.shiftRight_eq_div_pow]
theorem pk_ushrN {n : Nat} (hn : n < 2 ^ 32) (s : Int32) (k : Nat) (hs : ((s.toUInt32 &&& Int32.toUInt32 31).toBitVec % 32).toNat = k) : ((nI n).toUInt32 >>> (s.toUInt32 &&& Int32.toUInt32 31)).toInt32 = nI (n / 2 ^ k) := by
  apply Int32.toBitVec_inj.mp
  apply BitVec.eq_of_toNat_eq
  rw [pk_ushr _ s k hs, pk_tn hn, pk_tn (Nat.lt_of_le_of_lt (Nat.div_le_self _ _) hn)]
theorem pk_nb (z : Int32) : narrow .byte (.int z.toInt8.toInt32) = .int z.toInt8.toInt32 := congrArg Value.int (by simp)
theorem pk_ns (z : Int32) : narrow .short (.int z.toInt16.toInt32) = .int z.toInt16.toInt32 := congrArg Value.int (by simp)
theorem pk_fb (r : Int32) : fits .byte (.int r.toInt8.toInt32) = true := by
  have ⟨a, b⟩ := lg_i2b_range r
  have h1 : (-128 : Int32).toInt = -128 := by decide
  have h2 : (127 : Int32).toInt = 127 := by decide
  simp only [fits, Bool.and_eq_true, decide_eq_true_eq, Int32.le_iff_toInt_le, h1, h2]
  omega
theorem pk_fs (r : Int32) : fits .short (.int r.toInt16.toInt32) = true := by
  have ⟨a, b⟩ := lg_i2s_range r
  have h1 : (-32768 : Int32).toInt = -32768 := by decide
  have h2 : (32767 : Int32).toInt = 32767 := by decide
  simp only [fits, Bool.and_eq_true, decide_eq_true_eq, Int32.le_iff_toInt_le, h1, h2]
  omega
theorem pk_charN {q : Nat} (hq : q < 65536) : narrow .char (.int (nI q)) = .int (nI q) ∧ fits .char (.int (nI q)) = true := by
  constructor
  · have e : (nI q).toUInt32.toUInt16.toUInt32.toInt32 = nI q := by
      apply Int32.toBitVec_inj.mp
      apply BitVec.eq_of_toNat_eq
      show (nI q).toUInt32.toUInt16.toUInt32.toNat = q % 2 ^ 32
      rw [UInt16.toNat_toUInt32, UInt32.toNat_toUInt16, show (nI q).toUInt32.toNat = q % 2 ^ 32 from rfl]
      omega
    exact congrArg Value.int e
  · have a : (0 : Int32) ≤ nI q := nI_pos' (by omega)
    have b : nI q ≤ 65535 := nI_le (b := 65535) (by omega) (by decide)
    show (decide ((0 : Int32) ≤ nI q) && decide (nI q ≤ 65535)) = true
    rw [decide_eq_true a, decide_eq_true b]
    rfl
theorem pk_char (x : Int32) : (x.toUInt32 % 65536).toInt32 = nI (x.toBitVec.toNat % 65536) := by
  apply Int32.toBitVec_inj.mp
  apply BitVec.eq_of_toNat_eq
  rw [pk_tn (by omega)]
  show (x.toUInt32 % 65536).toNat = _
  rw [UInt32.toNat_mod]
  rfl
theorem pk_nc (x : Int32) : narrow .char (.int (x.toUInt32 % 65536).toInt32) = .int (x.toUInt32 % 65536).toInt32 := by
  rw [pk_char]
  exact (pk_charN (Nat.mod_lt _ (by decide))).1
theorem pk_fc (x : Int32) : fits .char (.int (x.toUInt32 % 65536).toInt32) = true := by
  rw [pk_char]
  exact (pk_charN (Nat.mod_lt _ (by decide))).2
theorem pk_vb (z : Int32) : vp_nar .byte z.toInt8.toInt32 = z.toInt8.toInt32 := by rw [vp_nar_byte]; simp
theorem pk_vs (z : Int32) : vp_nar .short z.toInt16.toInt32 = z.toInt16.toInt32 := by rw [vp_nar_short]; simp
theorem pk_vc (z : Int32) : vp_nar .char (z.toUInt32 % 65536).toInt32 = (z.toUInt32 % 65536).toInt32 := Value.int.inj (pk_nc z)
theorem pk_lT {n : Nat} (h : n < 2 ^ 63) : (lN n).toInt = (n : Int) := lg_ofNat_toInt h
theorem pk_lLT {a b : Nat} (ha : a < 2 ^ 63) (hb : b < 2 ^ 63) : lN a < lN b ↔ a < b := by
  rw [Int64.lt_iff_toInt_lt, pk_lT ha, pk_lT hb]; omega
theorem pk_lLE {a b : Nat} (ha : a < 2 ^ 63) (hb : b < 2 ^ 63) : lN a ≤ lN b ↔ a ≤ b := by
  rw [Int64.le_iff_toInt_le, pk_lT ha, pk_lT hb]; omega
theorem pk_lEQ {a b : Nat} (ha : a < 2 ^ 63) (hb : b < 2 ^ 63) : lN a = lN b ↔ a = b := by
  rw [← Int64.toInt_inj, pk_lT ha, pk_lT hb]; omega
theorem pk_lOf {x : Int64} (h : ¬ x < 0) : ∃ k : Nat, k < 2 ^ 63 ∧ x = lN k := by
  rw [Int64.lt_iff_toInt_lt] at h
  have h0 : (0 : Int64).toInt = 0 := by decide
  have hx := Int64.toInt_lt x
  refine ⟨x.toInt.toNat, by omega, Int64.toInt_inj.mp ?_⟩
  rw [pk_lT (by omega)]
  omega
theorem pk_lDiv {a b : Nat} (ha : a < 2 ^ 63) (h0 : 0 < b) (hb : b < 2 ^ 63) : lN a / lN b = lN (a / b) := by
  apply Int64.toInt_inj.mp
  rw [lg_ldiv_nonneg (by rw [pk_lT ha]; omega) (by rw [pk_lT hb]; omega), pk_lT ha, pk_lT hb, pk_lT (Nat.lt_of_le_of_lt (Nat.div_le_self a b) ha)]
  rfl
theorem pk_lRem {a b : Nat} (ha : a < 2 ^ 63) (h0 : 0 < b) (hb : b < 2 ^ 63) : lN a - lN a / lN b * lN b = lN (a % b) := by
  rw [pk_lDiv ha h0 hb, lN_mul, lN_sub (Nat.div_mul_le_self a b)]
  exact congrArg lN (by have := Nat.div_add_mod' a b; omega)
theorem pk_loop {σ : Type} (W : Nat → Nat → σ → Prop) (I : Nat → σ → Prop) (e i0 : Nat) (s : σ) (hi : i0 ≤ e) (h0 : I i0 s) (hx : ∀ n s, I e s → W (n + 1) e s)
    (hs : ∀ n i s, i < e → I i s → (∀ s', I (i + 1) s' → W n (i + 1) s') → W (n + 1) i s) : ∃ n, W n i0 s :=
  ⟨e + 1, loop_i W I e hx hs (e + 1) i0 s hi (by omega) h0⟩
theorem pk_loopD {σ : Type} (W : Nat → Nat → σ → Prop) (I : Nat → σ → Prop) (hx : ∀ n s, I 0 s → W (n + 1) 0 s)
    (hs : ∀ n i s, I (i + 1) s → (∀ s', I i s' → W n i s') → W (n + 1) (i + 1) s) : ∀ (e : Nat) (s : σ), I e s → W (e + 1) e s := by
  intro e
  induction e with
  | zero => exact fun s h => hx 0 s h
  | succ e ih => exact fun s h => hs (e + 1) e s h (fun s' h' => ih s' h')
theorem lp1 {A1 : Type} (W : Nat → A1 → Prop) (I : A1 → Prop) (μ : A1 → Nat) (hs : ∀ (n : Nat) (a1 : A1), I a1 → (∀ (b1 : A1), I b1 → μ b1 < μ a1 → W n b1) → W (n + 1) a1) (a1 : A1) (h : I a1) : ∃ n, W n a1 :=
  loop_m (σ := A1) (fun n s => W n s) (fun s => I s) (fun s => μ s) (fun n s hI hk => hs n s hI (fun b1 h9 hm => hk b1 h9 hm)) a1 h
theorem lp2 {A1 A2 : Type} (W : Nat → A1 → A2 → Prop) (I : A1 → A2 → Prop) (μ : A1 → A2 → Nat) (hs : ∀ (n : Nat) (a1 : A1) (a2 : A2), I a1 a2 → (∀ (b1 : A1) (b2 : A2), I b1 b2 → μ b1 b2 < μ a1 a2 → W n b1 b2) → W (n + 1) a1 a2) (a1 : A1) (a2 : A2) (h : I a1 a2) : ∃ n, W n a1 a2 :=
  loop_m (σ := A1 × A2) (fun n s => W n s.1 s.2) (fun s => I s.1 s.2) (fun s => μ s.1 s.2) (fun n s hI hk => hs n s.1 s.2 hI (fun b1 b2 h9 hm => hk (b1, b2) h9 hm)) (a1, a2) h
theorem lp3 {A1 A2 A3 : Type} (W : Nat → A1 → A2 → A3 → Prop) (I : A1 → A2 → A3 → Prop) (μ : A1 → A2 → A3 → Nat) (hs : ∀ (n : Nat) (a1 : A1) (a2 : A2) (a3 : A3), I a1 a2 a3 → (∀ (b1 : A1) (b2 : A2) (b3 : A3), I b1 b2 b3 → μ b1 b2 b3 < μ a1 a2 a3 → W n b1 b2 b3) → W (n + 1) a1 a2 a3) (a1 : A1) (a2 : A2) (a3 : A3) (h : I a1 a2 a3) : ∃ n, W n a1 a2 a3 :=
  loop_m (σ := A1 × A2 × A3) (fun n s => W n s.1 s.2.1 s.2.2) (fun s => I s.1 s.2.1 s.2.2) (fun s => μ s.1 s.2.1 s.2.2) (fun n s hI hk => hs n s.1 s.2.1 s.2.2 hI (fun b1 b2 b3 h9 hm => hk (b1, b2, b3) h9 hm)) (a1, a2, a3) h
theorem lp4 {A1 A2 A3 A4 : Type} (W : Nat → A1 → A2 → A3 → A4 → Prop) (I : A1 → A2 → A3 → A4 → Prop) (μ : A1 → A2 → A3 → A4 → Nat) (hs : ∀ (n : Nat) (a1 : A1) (a2 : A2) (a3 : A3) (a4 : A4), I a1 a2 a3 a4 → (∀ (b1 : A1) (b2 : A2) (b3 : A3) (b4 : A4), I b1 b2 b3 b4 → μ b1 b2 b3 b4 < μ a1 a2 a3 a4 → W n b1 b2 b3 b4) → W (n + 1) a1 a2 a3 a4) (a1 : A1) (a2 : A2) (a3 : A3) (a4 : A4) (h : I a1 a2 a3 a4) : ∃ n, W n a1 a2 a3 a4 :=
  loop_m (σ := A1 × A2 × A3 × A4) (fun n s => W n s.1 s.2.1 s.2.2.1 s.2.2.2) (fun s => I s.1 s.2.1 s.2.2.1 s.2.2.2) (fun s => μ s.1 s.2.1 s.2.2.1 s.2.2.2) (fun n s hI hk => hs n s.1 s.2.1 s.2.2.1 s.2.2.2 hI (fun b1 b2 b3 b4 h9 hm => hk (b1, b2, b3, b4) h9 hm)) (a1, a2, a3, a4) h
theorem lp5 {A1 A2 A3 A4 A5 : Type} (W : Nat → A1 → A2 → A3 → A4 → A5 → Prop) (I : A1 → A2 → A3 → A4 → A5 → Prop) (μ : A1 → A2 → A3 → A4 → A5 → Nat) (hs : ∀ (n : Nat) (a1 : A1) (a2 : A2) (a3 : A3) (a4 : A4) (a5 : A5), I a1 a2 a3 a4 a5 → (∀ (b1 : A1) (b2 : A2) (b3 : A3) (b4 : A4) (b5 : A5), I b1 b2 b3 b4 b5 → μ b1 b2 b3 b4 b5 < μ a1 a2 a3 a4 a5 → W n b1 b2 b3 b4 b5) → W (n + 1) a1 a2 a3 a4 a5) (a1 : A1) (a2 : A2) (a3 : A3) (a4 : A4) (a5 : A5) (h : I a1 a2 a3 a4 a5) : ∃ n, W n a1 a2 a3 a4 a5 :=
  loop_m (σ := A1 × A2 × A3 × A4 × A5) (fun n s => W n s.1 s.2.1 s.2.2.1 s.2.2.2.1 s.2.2.2.2) (fun s => I s.1 s.2.1 s.2.2.1 s.2.2.2.1 s.2.2.2.2) (fun s => μ s.1 s.2.1 s.2.2.1 s.2.2.2.1 s.2.2.2.2) (fun n s hI hk => hs n s.1 s.2.1 s.2.2.1 s.2.2.2.1 s.2.2.2.2 hI (fun b1 b2 b3 b4 b5 h9 hm => hk (b1, b2, b3, b4, b5) h9 hm)) (a1, a2, a3, a4, a5) h
theorem lp6 {A1 A2 A3 A4 A5 A6 : Type} (W : Nat → A1 → A2 → A3 → A4 → A5 → A6 → Prop) (I : A1 → A2 → A3 → A4 → A5 → A6 → Prop) (μ : A1 → A2 → A3 → A4 → A5 → A6 → Nat) (hs : ∀ (n : Nat) (a1 : A1) (a2 : A2) (a3 : A3) (a4 : A4) (a5 : A5) (a6 : A6), I a1 a2 a3 a4 a5 a6 → (∀ (b1 : A1) (b2 : A2) (b3 : A3) (b4 : A4) (b5 : A5) (b6 : A6), I b1 b2 b3 b4 b5 b6 → μ b1 b2 b3 b4 b5 b6 < μ a1 a2 a3 a4 a5 a6 → W n b1 b2 b3 b4 b5 b6) → W (n + 1) a1 a2 a3 a4 a5 a6) (a1 : A1) (a2 : A2) (a3 : A3) (a4 : A4) (a5 : A5) (a6 : A6) (h : I a1 a2 a3 a4 a5 a6) : ∃ n, W n a1 a2 a3 a4 a5 a6 :=
  loop_m (σ := A1 × A2 × A3 × A4 × A5 × A6) (fun n s => W n s.1 s.2.1 s.2.2.1 s.2.2.2.1 s.2.2.2.2.1 s.2.2.2.2.2) (fun s => I s.1 s.2.1 s.2.2.1 s.2.2.2.1 s.2.2.2.2.1 s.2.2.2.2.2) (fun s => μ s.1 s.2.1 s.2.2.1 s.2.2.2.1 s.2.2.2.2.1 s.2.2.2.2.2) (fun n s hI hk => hs n s.1 s.2.1 s.2.2.1 s.2.2.2.1 s.2.2.2.2.1 s.2.2.2.2.2 hI (fun b1 b2 b3 b4 b5 b6 h9 hm => hk (b1, b2, b3, b4, b5, b6) h9 hm)) (a1, a2, a3, a4, a5, a6) h
theorem lp7 {A1 A2 A3 A4 A5 A6 A7 : Type} (W : Nat → A1 → A2 → A3 → A4 → A5 → A6 → A7 → Prop) (I : A1 → A2 → A3 → A4 → A5 → A6 → A7 → Prop) (μ : A1 → A2 → A3 → A4 → A5 → A6 → A7 → Nat) (hs : ∀ (n : Nat) (a1 : A1) (a2 : A2) (a3 : A3) (a4 : A4) (a5 : A5) (a6 : A6) (a7 : A7), I a1 a2 a3 a4 a5 a6 a7 → (∀ (b1 : A1) (b2 : A2) (b3 : A3) (b4 : A4) (b5 : A5) (b6 : A6) (b7 : A7), I b1 b2 b3 b4 b5 b6 b7 → μ b1 b2 b3 b4 b5 b6 b7 < μ a1 a2 a3 a4 a5 a6 a7 → W n b1 b2 b3 b4 b5 b6 b7) → W (n + 1) a1 a2 a3 a4 a5 a6 a7) (a1 : A1) (a2 : A2) (a3 : A3) (a4 : A4) (a5 : A5) (a6 : A6) (a7 : A7) (h : I a1 a2 a3 a4 a5 a6 a7) : ∃ n, W n a1 a2 a3 a4 a5 a6 a7 :=
  loop_m (σ := A1 × A2 × A3 × A4 × A5 × A6 × A7) (fun n s => W n s.1 s.2.1 s.2.2.1 s.2.2.2.1 s.2.2.2.2.1 s.2.2.2.2.2.1 s.2.2.2.2.2.2) (fun s => I s.1 s.2.1 s.2.2.1 s.2.2.2.1 s.2.2.2.2.1 s.2.2.2.2.2.1 s.2.2.2.2.2.2) (fun s => μ s.1 s.2.1 s.2.2.1 s.2.2.2.1 s.2.2.2.2.1 s.2.2.2.2.2.1 s.2.2.2.2.2.2) (fun n s hI hk => hs n s.1 s.2.1 s.2.2.1 s.2.2.2.1 s.2.2.2.2.1 s.2.2.2.2.2.1 s.2.2.2.2.2.2 hI (fun b1 b2 b3 b4 b5 b6 b7 h9 hm => hk (b1, b2, b3, b4, b5, b6, b7) h9 hm)) (a1, a2, a3, a4, a5, a6, a7) h
theorem lp8 {A1 A2 A3 A4 A5 A6 A7 A8 : Type} (W : Nat → A1 → A2 → A3 → A4 → A5 → A6 → A7 → A8 → Prop) (I : A1 → A2 → A3 → A4 → A5 → A6 → A7 → A8 → Prop) (μ : A1 → A2 → A3 → A4 → A5 → A6 → A7 → A8 → Nat) (hs : ∀ (n : Nat) (a1 : A1) (a2 : A2) (a3 : A3) (a4 : A4) (a5 : A5) (a6 : A6) (a7 : A7) (a8 : A8), I a1 a2 a3 a4 a5 a6 a7 a8 → (∀ (b1 : A1) (b2 : A2) (b3 : A3) (b4 : A4) (b5 : A5) (b6 : A6) (b7 : A7) (b8 : A8), I b1 b2 b3 b4 b5 b6 b7 b8 → μ b1 b2 b3 b4 b5 b6 b7 b8 < μ a1 a2 a3 a4 a5 a6 a7 a8 → W n b1 b2 b3 b4 b5 b6 b7 b8) → W (n + 1) a1 a2 a3 a4 a5 a6 a7 a8) (a1 : A1) (a2 : A2) (a3 : A3) (a4 : A4) (a5 : A5) (a6 : A6) (a7 : A7) (a8 : A8) (h : I a1 a2 a3 a4 a5 a6 a7 a8) : ∃ n, W n a1 a2 a3 a4 a5 a6 a7 a8 :=
  loop_m (σ := A1 × A2 × A3 × A4 × A5 × A6 × A7 × A8) (fun n s => W n s.1 s.2.1 s.2.2.1 s.2.2.2.1 s.2.2.2.2.1 s.2.2.2.2.2.1 s.2.2.2.2.2.2.1 s.2.2.2.2.2.2.2) (fun s => I s.1 s.2.1 s.2.2.1 s.2.2.2.1 s.2.2.2.2.1 s.2.2.2.2.2.1 s.2.2.2.2.2.2.1 s.2.2.2.2.2.2.2) (fun s => μ s.1 s.2.1 s.2.2.1 s.2.2.2.1 s.2.2.2.2.1 s.2.2.2.2.2.1 s.2.2.2.2.2.2.1 s.2.2.2.2.2.2.2) (fun n s hI hk => hs n s.1 s.2.1 s.2.2.1 s.2.2.2.1 s.2.2.2.2.1 s.2.2.2.2.2.1 s.2.2.2.2.2.2.1 s.2.2.2.2.2.2.2 hI (fun b1 b2 b3 b4 b5 b6 b7 b8 h9 hm => hk (b1, b2, b3, b4, b5, b6, b7, b8) h9 hm)) (a1, a2, a3, a4, a5, a6, a7, a8) h
theorem lp9 {A1 A2 A3 A4 A5 A6 A7 A8 A9 : Type} (W : Nat → A1 → A2 → A3 → A4 → A5 → A6 → A7 → A8 → A9 → Prop) (I : A1 → A2 → A3 → A4 → A5 → A6 → A7 → A8 → A9 → Prop) (μ : A1 → A2 → A3 → A4 → A5 → A6 → A7 → A8 → A9 → Nat) (hs : ∀ (n : Nat) (a1 : A1) (a2 : A2) (a3 : A3) (a4 : A4) (a5 : A5) (a6 : A6) (a7 : A7) (a8 : A8) (a9 : A9), I a1 a2 a3 a4 a5 a6 a7 a8 a9 → (∀ (b1 : A1) (b2 : A2) (b3 : A3) (b4 : A4) (b5 : A5) (b6 : A6) (b7 : A7) (b8 : A8) (b9 : A9), I b1 b2 b3 b4 b5 b6 b7 b8 b9 → μ b1 b2 b3 b4 b5 b6 b7 b8 b9 < μ a1 a2 a3 a4 a5 a6 a7 a8 a9 → W n b1 b2 b3 b4 b5 b6 b7 b8 b9) → W (n + 1) a1 a2 a3 a4 a5 a6 a7 a8 a9) (a1 : A1) (a2 : A2) (a3 : A3) (a4 : A4) (a5 : A5) (a6 : A6) (a7 : A7) (a8 : A8) (a9 : A9) (h : I a1 a2 a3 a4 a5 a6 a7 a8 a9) : ∃ n, W n a1 a2 a3 a4 a5 a6 a7 a8 a9 :=
  loop_m (σ := A1 × A2 × A3 × A4 × A5 × A6 × A7 × A8 × A9) (fun n s => W n s.1 s.2.1 s.2.2.1 s.2.2.2.1 s.2.2.2.2.1 s.2.2.2.2.2.1 s.2.2.2.2.2.2.1 s.2.2.2.2.2.2.2.1 s.2.2.2.2.2.2.2.2) (fun s => I s.1 s.2.1 s.2.2.1 s.2.2.2.1 s.2.2.2.2.1 s.2.2.2.2.2.1 s.2.2.2.2.2.2.1 s.2.2.2.2.2.2.2.1 s.2.2.2.2.2.2.2.2) (fun s => μ s.1 s.2.1 s.2.2.1 s.2.2.2.1 s.2.2.2.2.1 s.2.2.2.2.2.1 s.2.2.2.2.2.2.1 s.2.2.2.2.2.2.2.1 s.2.2.2.2.2.2.2.2) (fun n s hI hk => hs n s.1 s.2.1 s.2.2.1 s.2.2.2.1 s.2.2.2.2.1 s.2.2.2.2.2.1 s.2.2.2.2.2.2.1 s.2.2.2.2.2.2.2.1 s.2.2.2.2.2.2.2.2 hI (fun b1 b2 b3 b4 b5 b6 b7 b8 b9 h9 hm => hk (b1, b2, b3, b4, b5, b6, b7, b8, b9) h9 hm)) (a1, a2, a3, a4, a5, a6, a7, a8, a9) h
theorem lp10 {A1 A2 A3 A4 A5 A6 A7 A8 A9 A10 : Type} (W : Nat → A1 → A2 → A3 → A4 → A5 → A6 → A7 → A8 → A9 → A10 → Prop) (I : A1 → A2 → A3 → A4 → A5 → A6 → A7 → A8 → A9 → A10 → Prop) (μ : A1 → A2 → A3 → A4 → A5 → A6 → A7 → A8 → A9 → A10 → Nat) (hs : ∀ (n : Nat) (a1 : A1) (a2 : A2) (a3 : A3) (a4 : A4) (a5 : A5) (a6 : A6) (a7 : A7) (a8 : A8) (a9 : A9) (a10 : A10), I a1 a2 a3 a4 a5 a6 a7 a8 a9 a10 → (∀ (b1 : A1) (b2 : A2) (b3 : A3) (b4 : A4) (b5 : A5) (b6 : A6) (b7 : A7) (b8 : A8) (b9 : A9) (b10 : A10), I b1 b2 b3 b4 b5 b6 b7 b8 b9 b10 → μ b1 b2 b3 b4 b5 b6 b7 b8 b9 b10 < μ a1 a2 a3 a4 a5 a6 a7 a8 a9 a10 → W n b1 b2 b3 b4 b5 b6 b7 b8 b9 b10) → W (n + 1) a1 a2 a3 a4 a5 a6 a7 a8 a9 a10) (a1 : A1) (a2 : A2) (a3 : A3) (a4 : A4) (a5 : A5) (a6 : A6) (a7 : A7) (a8 : A8) (a9 : A9) (a10 : A10) (h : I a1 a2 a3 a4 a5 a6 a7 a8 a9 a10) : ∃ n, W n a1 a2 a3 a4 a5 a6 a7 a8 a9 a10 :=
  loop_m (σ := A1 × A2 × A3 × A4 × A5 × A6 × A7 × A8 × A9 × A10) (fun n s => W n s.1 s.2.1 s.2.2.1 s.2.2.2.1 s.2.2.2.2.1 s.2.2.2.2.2.1 s.2.2.2.2.2.2.1 s.2.2.2.2.2.2.2.1 s.2.2.2.2.2.2.2.2.1 s.2.2.2.2.2.2.2.2.2) (fun s => I s.1 s.2.1 s.2.2.1 s.2.2.2.1 s.2.2.2.2.1 s.2.2.2.2.2.1 s.2.2.2.2.2.2.1 s.2.2.2.2.2.2.2.1 s.2.2.2.2.2.2.2.2.1 s.2.2.2.2.2.2.2.2.2) (fun s => μ s.1 s.2.1 s.2.2.1 s.2.2.2.1 s.2.2.2.2.1 s.2.2.2.2.2.1 s.2.2.2.2.2.2.1 s.2.2.2.2.2.2.2.1 s.2.2.2.2.2.2.2.2.1 s.2.2.2.2.2.2.2.2.2) (fun n s hI hk => hs n s.1 s.2.1 s.2.2.1 s.2.2.2.1 s.2.2.2.2.1 s.2.2.2.2.2.1 s.2.2.2.2.2.2.1 s.2.2.2.2.2.2.2.1 s.2.2.2.2.2.2.2.2.1 s.2.2.2.2.2.2.2.2.2 hI (fun b1 b2 b3 b4 b5 b6 b7 b8 b9 b10 h9 hm => hk (b1, b2, b3, b4, b5, b6, b7, b8, b9, b10) h9 hm)) (a1, a2, a3, a4, a5, a6, a7, a8, a9, a10) h
theorem lp11 {A1 A2 A3 A4 A5 A6 A7 A8 A9 A10 A11 : Type} (W : Nat → A1 → A2 → A3 → A4 → A5 → A6 → A7 → A8 → A9 → A10 → A11 → Prop) (I : A1 → A2 → A3 → A4 → A5 → A6 → A7 → A8 → A9 → A10 → A11 → Prop) (μ : A1 → A2 → A3 → A4 → A5 → A6 → A7 → A8 → A9 → A10 → A11 → Nat) (hs : ∀ (n : Nat) (a1 : A1) (a2 : A2) (a3 : A3) (a4 : A4) (a5 : A5) (a6 : A6) (a7 : A7) (a8 : A8) (a9 : A9) (a10 : A10) (a11 : A11), I a1 a2 a3 a4 a5 a6 a7 a8 a9 a10 a11 → (∀ (b1 : A1) (b2 : A2) (b3 : A3) (b4 : A4) (b5 : A5) (b6 : A6) (b7 : A7) (b8 : A8) (b9 : A9) (b10 : A10) (b11 : A11), I b1 b2 b3 b4 b5 b6 b7 b8 b9 b10 b11 → μ b1 b2 b3 b4 b5 b6 b7 b8 b9 b10 b11 < μ a1 a2 a3 a4 a5 a6 a7 a8 a9 a10 a11 → W n b1 b2 b3 b4 b5 b6 b7 b8 b9 b10 b11) → W (n + 1) a1 a2 a3 a4 a5 a6 a7 a8 a9 a10 a11) (a1 : A1) (a2 : A2) (a3 : A3) (a4 : A4) (a5 : A5) (a6 : A6) (a7 : A7) (a8 : A8) (a9 : A9) (a10 : A10) (a11 : A11) (h : I a1 a2 a3 a4 a5 a6 a7 a8 a9 a10 a11) : ∃ n, W n a1 a2 a3 a4 a5 a6 a7 a8 a9 a10 a11 :=
  loop_m (σ := A1 × A2 × A3 × A4 × A5 × A6 × A7 × A8 × A9 × A10 × A11) (fun n s => W n s.1 s.2.1 s.2.2.1 s.2.2.2.1 s.2.2.2.2.1 s.2.2.2.2.2.1 s.2.2.2.2.2.2.1 s.2.2.2.2.2.2.2.1 s.2.2.2.2.2.2.2.2.1 s.2.2.2.2.2.2.2.2.2.1 s.2.2.2.2.2.2.2.2.2.2) (fun s => I s.1 s.2.1 s.2.2.1 s.2.2.2.1 s.2.2.2.2.1 s.2.2.2.2.2.1 s.2.2.2.2.2.2.1 s.2.2.2.2.2.2.2.1 s.2.2.2.2.2.2.2.2.1 s.2.2.2.2.2.2.2.2.2.1 s.2.2.2.2.2.2.2.2.2.2) (fun s => μ s.1 s.2.1 s.2.2.1 s.2.2.2.1 s.2.2.2.2.1 s.2.2.2.2.2.1 s.2.2.2.2.2.2.1 s.2.2.2.2.2.2.2.1 s.2.2.2.2.2.2.2.2.1 s.2.2.2.2.2.2.2.2.2.1 s.2.2.2.2.2.2.2.2.2.2) (fun n s hI hk => hs n s.1 s.2.1 s.2.2.1 s.2.2.2.1 s.2.2.2.2.1 s.2.2.2.2.2.1 s.2.2.2.2.2.2.1 s.2.2.2.2.2.2.2.1 s.2.2.2.2.2.2.2.2.1 s.2.2.2.2.2.2.2.2.2.1 s.2.2.2.2.2.2.2.2.2.2 hI (fun b1 b2 b3 b4 b5 b6 b7 b8 b9 b10 b11 h9 hm => hk (b1, b2, b3, b4, b5, b6, b7, b8, b9, b10, b11) h9 hm)) (a1, a2, a3, a4, a5, a6, a7, a8, a9, a10, a11) h
theorem lp12 {A1 A2 A3 A4 A5 A6 A7 A8 A9 A10 A11 A12 : Type} (W : Nat → A1 → A2 → A3 → A4 → A5 → A6 → A7 → A8 → A9 → A10 → A11 → A12 → Prop) (I : A1 → A2 → A3 → A4 → A5 → A6 → A7 → A8 → A9 → A10 → A11 → A12 → Prop) (μ : A1 → A2 → A3 → A4 → A5 → A6 → A7 → A8 → A9 → A10 → A11 → A12 → Nat) (hs : ∀ (n : Nat) (a1 : A1) (a2 : A2) (a3 : A3) (a4 : A4) (a5 : A5) (a6 : A6) (a7 : A7) (a8 : A8) (a9 : A9) (a10 : A10) (a11 : A11) (a12 : A12), I a1 a2 a3 a4 a5 a6 a7 a8 a9 a10 a11 a12 → (∀ (b1 : A1) (b2 : A2) (b3 : A3) (b4 : A4) (b5 : A5) (b6 : A6) (b7 : A7) (b8 : A8) (b9 : A9) (b10 : A10) (b11 : A11) (b12 : A12), I b1 b2 b3 b4 b5 b6 b7 b8 b9 b10 b11 b12 → μ b1 b2 b3 b4 b5 b6 b7 b8 b9 b10 b11 b12 < μ a1 a2 a3 a4 a5 a6 a7 a8 a9 a10 a11 a12 → W n b1 b2 b3 b4 b5 b6 b7 b8 b9 b10 b11 b12) → W (n + 1) a1 a2 a3 a4 a5 a6 a7 a8 a9 a10 a11 a12) (a1 : A1) (a2 : A2) (a3 : A3) (a4 : A4) (a5 : A5) (a6 : A6) (a7 : A7) (a8 : A8) (a9 : A9) (a10 : A10) (a11 : A11) (a12 : A12) (h : I a1 a2 a3 a4 a5 a6 a7 a8 a9 a10 a11 a12) : ∃ n, W n a1 a2 a3 a4 a5 a6 a7 a8 a9 a10 a11 a12 :=
  loop_m (σ := A1 × A2 × A3 × A4 × A5 × A6 × A7 × A8 × A9 × A10 × A11 × A12) (fun n s => W n s.1 s.2.1 s.2.2.1 s.2.2.2.1 s.2.2.2.2.1 s.2.2.2.2.2.1 s.2.2.2.2.2.2.1 s.2.2.2.2.2.2.2.1 s.2.2.2.2.2.2.2.2.1 s.2.2.2.2.2.2.2.2.2.1 s.2.2.2.2.2.2.2.2.2.2.1 s.2.2.2.2.2.2.2.2.2.2.2) (fun s => I s.1 s.2.1 s.2.2.1 s.2.2.2.1 s.2.2.2.2.1 s.2.2.2.2.2.1 s.2.2.2.2.2.2.1 s.2.2.2.2.2.2.2.1 s.2.2.2.2.2.2.2.2.1 s.2.2.2.2.2.2.2.2.2.1 s.2.2.2.2.2.2.2.2.2.2.1 s.2.2.2.2.2.2.2.2.2.2.2) (fun s => μ s.1 s.2.1 s.2.2.1 s.2.2.2.1 s.2.2.2.2.1 s.2.2.2.2.2.1 s.2.2.2.2.2.2.1 s.2.2.2.2.2.2.2.1 s.2.2.2.2.2.2.2.2.1 s.2.2.2.2.2.2.2.2.2.1 s.2.2.2.2.2.2.2.2.2.2.1 s.2.2.2.2.2.2.2.2.2.2.2) (fun n s hI hk => hs n s.1 s.2.1 s.2.2.1 s.2.2.2.1 s.2.2.2.2.1 s.2.2.2.2.2.1 s.2.2.2.2.2.2.1 s.2.2.2.2.2.2.2.1 s.2.2.2.2.2.2.2.2.1 s.2.2.2.2.2.2.2.2.2.1 s.2.2.2.2.2.2.2.2.2.2.1 s.2.2.2.2.2.2.2.2.2.2.2 hI (fun b1 b2 b3 b4 b5 b6 b7 b8 b9 b10 b11 b12 h9 hm => hk (b1, b2, b3, b4, b5, b6, b7, b8, b9, b10, b11, b12) h9 hm)) (a1, a2, a3, a4, a5, a6, a7, a8, a9, a10, a11, a12) h
theorem lp13 {A1 A2 A3 A4 A5 A6 A7 A8 A9 A10 A11 A12 A13 : Type} (W : Nat → A1 → A2 → A3 → A4 → A5 → A6 → A7 → A8 → A9 → A10 → A11 → A12 → A13 → Prop) (I : A1 → A2 → A3 → A4 → A5 → A6 → A7 → A8 → A9 → A10 → A11 → A12 → A13 → Prop) (μ : A1 → A2 → A3 → A4 → A5 → A6 → A7 → A8 → A9 → A10 → A11 → A12 → A13 → Nat) (hs : ∀ (n : Nat) (a1 : A1) (a2 : A2) (a3 : A3) (a4 : A4) (a5 : A5) (a6 : A6) (a7 : A7) (a8 : A8) (a9 : A9) (a10 : A10) (a11 : A11) (a12 : A12) (a13 : A13), I a1 a2 a3 a4 a5 a6 a7 a8 a9 a10 a11 a12 a13 → (∀ (b1 : A1) (b2 : A2) (b3 : A3) (b4 : A4) (b5 : A5) (b6 : A6) (b7 : A7) (b8 : A8) (b9 : A9) (b10 : A10) (b11 : A11) (b12 : A12) (b13 : A13), I b1 b2 b3 b4 b5 b6 b7 b8 b9 b10 b11 b12 b13 → μ b1 b2 b3 b4 b5 b6 b7 b8 b9 b10 b11 b12 b13 < μ a1 a2 a3 a4 a5 a6 a7 a8 a9 a10 a11 a12 a13 → W n b1 b2 b3 b4 b5 b6 b7 b8 b9 b10 b11 b12 b13) → W (n + 1) a1 a2 a3 a4 a5 a6 a7 a8 a9 a10 a11 a12 a13) (a1 : A1) (a2 : A2) (a3 : A3) (a4 : A4) (a5 : A5) (a6 : A6) (a7 : A7) (a8 : A8) (a9 : A9) (a10 : A10) (a11 : A11) (a12 : A12) (a13 : A13) (h : I a1 a2 a3 a4 a5 a6 a7 a8 a9 a10 a11 a12 a13) : ∃ n, W n a1 a2 a3 a4 a5 a6 a7 a8 a9 a10 a11 a12 a13 :=
  loop_m (σ := A1 × A2 × A3 × A4 × A5 × A6 × A7 × A8 × A9 × A10 × A11 × A12 × A13) (fun n s => W n s.1 s.2.1 s.2.2.1 s.2.2.2.1 s.2.2.2.2.1 s.2.2.2.2.2.1 s.2.2.2.2.2.2.1 s.2.2.2.2.2.2.2.1 s.2.2.2.2.2.2.2.2.1 s.2.2.2.2.2.2.2.2.2.1 s.2.2.2.2.2.2.2.2.2.2.1 s.2.2.2.2.2.2.2.2.2.2.2.1 s.2.2.2.2.2.2.2.2.2.2.2.2) (fun s => I s.1 s.2.1 s.2.2.1 s.2.2.2.1 s.2.2.2.2.1 s.2.2.2.2.2.1 s.2.2.2.2.2.2.1 s.2.2.2.2.2.2.2.1 s.2.2.2.2.2.2.2.2.1 s.2.2.2.2.2.2.2.2.2.1 s.2.2.2.2.2.2.2.2.2.2.1 s.2.2.2.2.2.2.2.2.2.2.2.1 s.2.2.2.2.2.2.2.2.2.2.2.2) (fun s => μ s.1 s.2.1 s.2.2.1 s.2.2.2.1 s.2.2.2.2.1 s.2.2.2.2.2.1 s.2.2.2.2.2.2.1 s.2.2.2.2.2.2.2.1 s.2.2.2.2.2.2.2.2.1 s.2.2.2.2.2.2.2.2.2.1 s.2.2.2.2.2.2.2.2.2.2.1 s.2.2.2.2.2.2.2.2.2.2.2.1 s.2.2.2.2.2.2.2.2.2.2.2.2) (fun n s hI hk => hs n s.1 s.2.1 s.2.2.1 s.2.2.2.1 s.2.2.2.2.1 s.2.2.2.2.2.1 s.2.2.2.2.2.2.1 s.2.2.2.2.2.2.2.1 s.2.2.2.2.2.2.2.2.1 s.2.2.2.2.2.2.2.2.2.1 s.2.2.2.2.2.2.2.2.2.2.1 s.2.2.2.2.2.2.2.2.2.2.2.1 s.2.2.2.2.2.2.2.2.2.2.2.2 hI (fun b1 b2 b3 b4 b5 b6 b7 b8 b9 b10 b11 b12 b13 h9 hm => hk (b1, b2, b3, b4, b5, b6, b7, b8, b9, b10, b11, b12, b13) h9 hm)) (a1, a2, a3, a4, a5, a6, a7, a8, a9, a10, a11, a12, a13) h
theorem lp14 {A1 A2 A3 A4 A5 A6 A7 A8 A9 A10 A11 A12 A13 A14 : Type} (W : Nat → A1 → A2 → A3 → A4 → A5 → A6 → A7 → A8 → A9 → A10 → A11 → A12 → A13 → A14 → Prop) (I : A1 → A2 → A3 → A4 → A5 → A6 → A7 → A8 → A9 → A10 → A11 → A12 → A13 → A14 → Prop) (μ : A1 → A2 → A3 → A4 → A5 → A6 → A7 → A8 → A9 → A10 → A11 → A12 → A13 → A14 → Nat) (hs : ∀ (n : Nat) (a1 : A1) (a2 : A2) (a3 : A3) (a4 : A4) (a5 : A5) (a6 : A6) (a7 : A7) (a8 : A8) (a9 : A9) (a10 : A10) (a11 : A11) (a12 : A12) (a13 : A13) (a14 : A14), I a1 a2 a3 a4 a5 a6 a7 a8 a9 a10 a11 a12 a13 a14 → (∀ (b1 : A1) (b2 : A2) (b3 : A3) (b4 : A4) (b5 : A5) (b6 : A6) (b7 : A7) (b8 : A8) (b9 : A9) (b10 : A10) (b11 : A11) (b12 : A12) (b13 : A13) (b14 : A14), I b1 b2 b3 b4 b5 b6 b7 b8 b9 b10 b11 b12 b13 b14 → μ b1 b2 b3 b4 b5 b6 b7 b8 b9 b10 b11 b12 b13 b14 < μ a1 a2 a3 a4 a5 a6 a7 a8 a9 a10 a11 a12 a13 a14 → W n b1 b2 b3 b4 b5 b6 b7 b8 b9 b10 b11 b12 b13 b14) → W (n + 1) a1 a2 a3 a4 a5 a6 a7 a8 a9 a10 a11 a12 a13 a14) (a1 : A1) (a2 : A2) (a3 : A3) (a4 : A4) (a5 : A5) (a6 : A6) (a7 : A7) (a8 : A8) (a9 : A9) (a10 : A10) (a11 : A11) (a12 : A12) (a13 : A13) (a14 : A14) (h : I a1 a2 a3 a4 a5 a6 a7 a8 a9 a10 a11 a12 a13 a14) : ∃ n, W n a1 a2 a3 a4 a5 a6 a7 a8 a9 a10 a11 a12 a13 a14 :=
  loop_m (σ := A1 × A2 × A3 × A4 × A5 × A6 × A7 × A8 × A9 × A10 × A11 × A12 × A13 × A14) (fun n s => W n s.1 s.2.1 s.2.2.1 s.2.2.2.1 s.2.2.2.2.1 s.2.2.2.2.2.1 s.2.2.2.2.2.2.1 s.2.2.2.2.2.2.2.1 s.2.2.2.2.2.2.2.2.1 s.2.2.2.2.2.2.2.2.2.1 s.2.2.2.2.2.2.2.2.2.2.1 s.2.2.2.2.2.2.2.2.2.2.2.1 s.2.2.2.2.2.2.2.2.2.2.2.2.1 s.2.2.2.2.2.2.2.2.2.2.2.2.2) (fun s => I s.1 s.2.1 s.2.2.1 s.2.2.2.1 s.2.2.2.2.1 s.2.2.2.2.2.1 s.2.2.2.2.2.2.1 s.2.2.2.2.2.2.2.1 s.2.2.2.2.2.2.2.2.1 s.2.2.2.2.2.2.2.2.2.1 s.2.2.2.2.2.2.2.2.2.2.1 s.2.2.2.2.2.2.2.2.2.2.2.1 s.2.2.2.2.2.2.2.2.2.2.2.2.1 s.2.2.2.2.2.2.2.2.2.2.2.2.2) (fun s => μ s.1 s.2.1 s.2.2.1 s.2.2.2.1 s.2.2.2.2.1 s.2.2.2.2.2.1 s.2.2.2.2.2.2.1 s.2.2.2.2.2.2.2.1 s.2.2.2.2.2.2.2.2.1 s.2.2.2.2.2.2.2.2.2.1 s.2.2.2.2.2.2.2.2.2.2.1 s.2.2.2.2.2.2.2.2.2.2.2.1 s.2.2.2.2.2.2.2.2.2.2.2.2.1 s.2.2.2.2.2.2.2.2.2.2.2.2.2) (fun n s hI hk => hs n s.1 s.2.1 s.2.2.1 s.2.2.2.1 s.2.2.2.2.1 s.2.2.2.2.2.1 s.2.2.2.2.2.2.1 s.2.2.2.2.2.2.2.1 s.2.2.2.2.2.2.2.2.1 s.2.2.2.2.2.2.2.2.2.1 s.2.2.2.2.2.2.2.2.2.2.1 s.2.2.2.2.2.2.2.2.2.2.2.1 s.2.2.2.2.2.2.2.2.2.2.2.2.1 s.2.2.2.2.2.2.2.2.2.2.2.2.2 hI (fun b1 b2 b3 b4 b5 b6 b7 b8 b9 b10 b11 b12 b13 b14 h9 hm => hk (b1, b2, b3, b4, b5, b6, b7, b8, b9, b10, b11, b12, b13, b14) h9 hm)) (a1, a2, a3, a4, a5, a6, a7, a8, a9, a10, a11, a12, a13, a14) h
theorem lp15 {A1 A2 A3 A4 A5 A6 A7 A8 A9 A10 A11 A12 A13 A14 A15 : Type} (W : Nat → A1 → A2 → A3 → A4 → A5 → A6 → A7 → A8 → A9 → A10 → A11 → A12 → A13 → A14 → A15 → Prop) (I : A1 → A2 → A3 → A4 → A5 → A6 → A7 → A8 → A9 → A10 → A11 → A12 → A13 → A14 → A15 → Prop) (μ : A1 → A2 → A3 → A4 → A5 → A6 → A7 → A8 → A9 → A10 → A11 → A12 → A13 → A14 → A15 → Nat) (hs : ∀ (n : Nat) (a1 : A1) (a2 : A2) (a3 : A3) (a4 : A4) (a5 : A5) (a6 : A6) (a7 : A7) (a8 : A8) (a9 : A9) (a10 : A10) (a11 : A11) (a12 : A12) (a13 : A13) (a14 : A14) (a15 : A15), I a1 a2 a3 a4 a5 a6 a7 a8 a9 a10 a11 a12 a13 a14 a15 → (∀ (b1 : A1) (b2 : A2) (b3 : A3) (b4 : A4) (b5 : A5) (b6 : A6) (b7 : A7) (b8 : A8) (b9 : A9) (b10 : A10) (b11 : A11) (b12 : A12) (b13 : A13) (b14 : A14) (b15 : A15), I b1 b2 b3 b4 b5 b6 b7 b8 b9 b10 b11 b12 b13 b14 b15 → μ b1 b2 b3 b4 b5 b6 b7 b8 b9 b10 b11 b12 b13 b14 b15 < μ a1 a2 a3 a4 a5 a6 a7 a8 a9 a10 a11 a12 a13 a14 a15 → W n b1 b2 b3 b4 b5 b6 b7 b8 b9 b10 b11 b12 b13 b14 b15) → W (n + 1) a1 a2 a3 a4 a5 a6 a7 a8 a9 a10 a11 a12 a13 a14 a15) (a1 : A1) (a2 : A2) (a3 : A3) (a4 : A4) (a5 : A5) (a6 : A6) (a7 : A7) (a8 : A8) (a9 : A9) (a10 : A10) (a11 : A11) (a12 : A12) (a13 : A13) (a14 : A14) (a15 : A15) (h : I a1 a2 a3 a4 a5 a6 a7 a8 a9 a10 a11 a12 a13 a14 a15) : ∃ n, W n a1 a2 a3 a4 a5 a6 a7 a8 a9 a10 a11 a12 a13 a14 a15 :=
  loop_m (σ := A1 × A2 × A3 × A4 × A5 × A6 × A7 × A8 × A9 × A10 × A11 × A12 × A13 × A14 × A15) (fun n s => W n s.1 s.2.1 s.2.2.1 s.2.2.2.1 s.2.2.2.2.1 s.2.2.2.2.2.1 s.2.2.2.2.2.2.1 s.2.2.2.2.2.2.2.1 s.2.2.2.2.2.2.2.2.1 s.2.2.2.2.2.2.2.2.2.1 s.2.2.2.2.2.2.2.2.2.2.1 s.2.2.2.2.2.2.2.2.2.2.2.1 s.2.2.2.2.2.2.2.2.2.2.2.2.1 s.2.2.2.2.2.2.2.2.2.2.2.2.2.1 s.2.2.2.2.2.2.2.2.2.2.2.2.2.2) (fun s => I s.1 s.2.1 s.2.2.1 s.2.2.2.1 s.2.2.2.2.1 s.2.2.2.2.2.1 s.2.2.2.2.2.2.1 s.2.2.2.2.2.2.2.1 s.2.2.2.2.2.2.2.2.1 s.2.2.2.2.2.2.2.2.2.1 s.2.2.2.2.2.2.2.2.2.2.1 s.2.2.2.2.2.2.2.2.2.2.2.1 s.2.2.2.2.2.2.2.2.2.2.2.2.1 s.2.2.2.2.2.2.2.2.2.2.2.2.2.1 s.2.2.2.2.2.2.2.2.2.2.2.2.2.2) (fun s => μ s.1 s.2.1 s.2.2.1 s.2.2.2.1 s.2.2.2.2.1 s.2.2.2.2.2.1 s.2.2.2.2.2.2.1 s.2.2.2.2.2.2.2.1 s.2.2.2.2.2.2.2.2.1 s.2.2.2.2.2.2.2.2.2.1 s.2.2.2.2.2.2.2.2.2.2.1 s.2.2.2.2.2.2.2.2.2.2.2.1 s.2.2.2.2.2.2.2.2.2.2.2.2.1 s.2.2.2.2.2.2.2.2.2.2.2.2.2.1 s.2.2.2.2.2.2.2.2.2.2.2.2.2.2) (fun n s hI hk => hs n s.1 s.2.1 s.2.2.1 s.2.2.2.1 s.2.2.2.2.1 s.2.2.2.2.2.1 s.2.2.2.2.2.2.1 s.2.2.2.2.2.2.2.1 s.2.2.2.2.2.2.2.2.1 s.2.2.2.2.2.2.2.2.2.1 s.2.2.2.2.2.2.2.2.2.2.1 s.2.2.2.2.2.2.2.2.2.2.2.1 s.2.2.2.2.2.2.2.2.2.2.2.2.1 s.2.2.2.2.2.2.2.2.2.2.2.2.2.1 s.2.2.2.2.2.2.2.2.2.2.2.2.2.2 hI (fun b1 b2 b3 b4 b5 b6 b7 b8 b9 b10 b11 b12 b13 b14 b15 h9 hm => hk (b1, b2, b3, b4, b5, b6, b7, b8, b9, b10, b11, b12, b13, b14, b15) h9 hm)) (a1, a2, a3, a4, a5, a6, a7, a8, a9, a10, a11, a12, a13, a14, a15) h
theorem lp16 {A1 A2 A3 A4 A5 A6 A7 A8 A9 A10 A11 A12 A13 A14 A15 A16 : Type} (W : Nat → A1 → A2 → A3 → A4 → A5 → A6 → A7 → A8 → A9 → A10 → A11 → A12 → A13 → A14 → A15 → A16 → Prop) (I : A1 → A2 → A3 → A4 → A5 → A6 → A7 → A8 → A9 → A10 → A11 → A12 → A13 → A14 → A15 → A16 → Prop) (μ : A1 → A2 → A3 → A4 → A5 → A6 → A7 → A8 → A9 → A10 → A11 → A12 → A13 → A14 → A15 → A16 → Nat) (hs : ∀ (n : Nat) (a1 : A1) (a2 : A2) (a3 : A3) (a4 : A4) (a5 : A5) (a6 : A6) (a7 : A7) (a8 : A8) (a9 : A9) (a10 : A10) (a11 : A11) (a12 : A12) (a13 : A13) (a14 : A14) (a15 : A15) (a16 : A16), I a1 a2 a3 a4 a5 a6 a7 a8 a9 a10 a11 a12 a13 a14 a15 a16 → (∀ (b1 : A1) (b2 : A2) (b3 : A3) (b4 : A4) (b5 : A5) (b6 : A6) (b7 : A7) (b8 : A8) (b9 : A9) (b10 : A10) (b11 : A11) (b12 : A12) (b13 : A13) (b14 : A14) (b15 : A15) (b16 : A16), I b1 b2 b3 b4 b5 b6 b7 b8 b9 b10 b11 b12 b13 b14 b15 b16 → μ b1 b2 b3 b4 b5 b6 b7 b8 b9 b10 b11 b12 b13 b14 b15 b16 < μ a1 a2 a3 a4 a5 a6 a7 a8 a9 a10 a11 a12 a13 a14 a15 a16 → W n b1 b2 b3 b4 b5 b6 b7 b8 b9 b10 b11 b12 b13 b14 b15 b16) → W (n + 1) a1 a2 a3 a4 a5 a6 a7 a8 a9 a10 a11 a12 a13 a14 a15 a16) (a1 : A1) (a2 : A2) (a3 : A3) (a4 : A4) (a5 : A5) (a6 : A6) (a7 : A7) (a8 : A8) (a9 : A9) (a10 : A10) (a11 : A11) (a12 : A12) (a13 : A13) (a14 : A14) (a15 : A15) (a16 : A16) (h : I a1 a2 a3 a4 a5 a6 a7 a8 a9 a10 a11 a12 a13 a14 a15 a16) : ∃ n, W n a1 a2 a3 a4 a5 a6 a7 a8 a9 a10 a11 a12 a13 a14 a15 a16 :=
  loop_m (σ := A1 × A2 × A3 × A4 × A5 × A6 × A7 × A8 × A9 × A10 × A11 × A12 × A13 × A14 × A15 × A16) (fun n s => W n s.1 s.2.1 s.2.2.1 s.2.2.2.1 s.2.2.2.2.1 s.2.2.2.2.2.1 s.2.2.2.2.2.2.1 s.2.2.2.2.2.2.2.1 s.2.2.2.2.2.2.2.2.1 s.2.2.2.2.2.2.2.2.2.1 s.2.2.2.2.2.2.2.2.2.2.1 s.2.2.2.2.2.2.2.2.2.2.2.1 s.2.2.2.2.2.2.2.2.2.2.2.2.1 s.2.2.2.2.2.2.2.2.2.2.2.2.2.1 s.2.2.2.2.2.2.2.2.2.2.2.2.2.2.1 s.2.2.2.2.2.2.2.2.2.2.2.2.2.2.2) (fun s => I s.1 s.2.1 s.2.2.1 s.2.2.2.1 s.2.2.2.2.1 s.2.2.2.2.2.1 s.2.2.2.2.2.2.1 s.2.2.2.2.2.2.2.1 s.2.2.2.2.2.2.2.2.1 s.2.2.2.2.2.2.2.2.2.1 s.2.2.2.2.2.2.2.2.2.2.1 s.2.2.2.2.2.2.2.2.2.2.2.1 s.2.2.2.2.2.2.2.2.2.2.2.2.1 s.2.2.2.2.2.2.2.2.2.2.2.2.2.1 s.2.2.2.2.2.2.2.2.2.2.2.2.2.2.1 s.2.2.2.2.2.2.2.2.2.2.2.2.2.2.2) (fun s => μ s.1 s.2.1 s.2.2.1 s.2.2.2.1 s.2.2.2.2.1 s.2.2.2.2.2.1 s.2.2.2.2.2.2.1 s.2.2.2.2.2.2.2.1 s.2.2.2.2.2.2.2.2.1 s.2.2.2.2.2.2.2.2.2.1 s.2.2.2.2.2.2.2.2.2.2.1 s.2.2.2.2.2.2.2.2.2.2.2.1 s.2.2.2.2.2.2.2.2.2.2.2.2.1 s.2.2.2.2.2.2.2.2.2.2.2.2.2.1 s.2.2.2.2.2.2.2.2.2.2.2.2.2.2.1 s.2.2.2.2.2.2.2.2.2.2.2.2.2.2.2) (fun n s hI hk => hs n s.1 s.2.1 s.2.2.1 s.2.2.2.1 s.2.2.2.2.1 s.2.2.2.2.2.1 s.2.2.2.2.2.2.1 s.2.2.2.2.2.2.2.1 s.2.2.2.2.2.2.2.2.1 s.2.2.2.2.2.2.2.2.2.1 s.2.2.2.2.2.2.2.2.2.2.1 s.2.2.2.2.2.2.2.2.2.2.2.1 s.2.2.2.2.2.2.2.2.2.2.2.2.1 s.2.2.2.2.2.2.2.2.2.2.2.2.2.1 s.2.2.2.2.2.2.2.2.2.2.2.2.2.2.1 s.2.2.2.2.2.2.2.2.2.2.2.2.2.2.2 hI (fun b1 b2 b3 b4 b5 b6 b7 b8 b9 b10 b11 b12 b13 b14 b15 b16 h9 hm => hk (b1, b2, b3, b4, b5, b6, b7, b8, b9, b10, b11, b12, b13, b14, b15, b16) h9 hm)) (a1, a2, a3, a4, a5, a6, a7, a8, a9, a10, a11, a12, a13, a14, a15, a16) h
theorem pk_least (P : Nat → Prop) (h : ∃ k, P k) : ∃ k, P k ∧ ∀ j, j < k → ¬ P j := by
  obtain ⟨k, hk⟩ := h
  induction k using Nat.strongRecOn with
  | ind k ih =>
    by_cases e : ∃ j, j < k ∧ P j
    · obtain ⟨j, hj, pj⟩ := e
      exact ih j hj pj
    · exact ⟨k, hk, fun j hj pj => e ⟨j, hj, pj⟩⟩
theorem rp1 {ρ A1 : Type} (W : Nat → (ρ → Prop) → A1 → Prop) (ok : A1 → Prop) (μ : A1 → Nat) (val : A1 → ρ)
    (hs : ∀ (d : Nat) (post : ρ → Prop) (a1 : A1), ok a1 → post (val a1) → (∀ (post' : ρ → Prop) (b1 : A1), ok b1 → μ b1 < μ a1 → post' (val b1) → W d post' b1) → W (d + 1) post a1) :
    ∀ (d : Nat) (post : ρ → Prop) (a1 : A1), ok a1 → μ a1 < d → post (val a1) → W d post a1 := by
  intro d
  induction d with
  | zero => intro post a1 _ h; omega
  | succ d ih =>
    intro post a1 ho hm hp
    exact hs d post a1 ho hp (fun post' b1 ho' hm' hp' => ih post' b1 ho' (by omega) hp')
theorem rp2 {ρ A1 A2 : Type} (W : Nat → (ρ → Prop) → A1 → A2 → Prop) (ok : A1 → A2 → Prop) (μ : A1 → A2 → Nat) (val : A1 → A2 → ρ)
    (hs : ∀ (d : Nat) (post : ρ → Prop) (a1 : A1) (a2 : A2), ok a1 a2 → post (val a1 a2) → (∀ (post' : ρ → Prop) (b1 : A1) (b2 : A2), ok b1 b2 → μ b1 b2 < μ a1 a2 → post' (val b1 b2) → W d post' b1 b2) → W (d + 1) post a1 a2) :
    ∀ (d : Nat) (post : ρ → Prop) (a1 : A1) (a2 : A2), ok a1 a2 → μ a1 a2 < d → post (val a1 a2) → W d post a1 a2 := by
  intro d
  induction d with
  | zero => intro post a1 a2 _ h; omega
  | succ d ih =>
    intro post a1 a2 ho hm hp
    exact hs d post a1 a2 ho hp (fun post' b1 b2 ho' hm' hp' => ih post' b1 b2 ho' (by omega) hp')
theorem rp3 {ρ A1 A2 A3 : Type} (W : Nat → (ρ → Prop) → A1 → A2 → A3 → Prop) (ok : A1 → A2 → A3 → Prop) (μ : A1 → A2 → A3 → Nat) (val : A1 → A2 → A3 → ρ)
    (hs : ∀ (d : Nat) (post : ρ → Prop) (a1 : A1) (a2 : A2) (a3 : A3), ok a1 a2 a3 → post (val a1 a2 a3) → (∀ (post' : ρ → Prop) (b1 : A1) (b2 : A2) (b3 : A3), ok b1 b2 b3 → μ b1 b2 b3 < μ a1 a2 a3 → post' (val b1 b2 b3) → W d post' b1 b2 b3) → W (d + 1) post a1 a2 a3) :
    ∀ (d : Nat) (post : ρ → Prop) (a1 : A1) (a2 : A2) (a3 : A3), ok a1 a2 a3 → μ a1 a2 a3 < d → post (val a1 a2 a3) → W d post a1 a2 a3 := by
  intro d
  induction d with
  | zero => intro post a1 a2 a3 _ h; omega
  | succ d ih =>
    intro post a1 a2 a3 ho hm hp
    exact hs d post a1 a2 a3 ho hp (fun post' b1 b2 b3 ho' hm' hp' => ih post' b1 b2 b3 ho' (by omega) hp')
theorem rp4 {ρ A1 A2 A3 A4 : Type} (W : Nat → (ρ → Prop) → A1 → A2 → A3 → A4 → Prop) (ok : A1 → A2 → A3 → A4 → Prop) (μ : A1 → A2 → A3 → A4 → Nat) (val : A1 → A2 → A3 → A4 → ρ)
    (hs : ∀ (d : Nat) (post : ρ → Prop) (a1 : A1) (a2 : A2) (a3 : A3) (a4 : A4), ok a1 a2 a3 a4 → post (val a1 a2 a3 a4) → (∀ (post' : ρ → Prop) (b1 : A1) (b2 : A2) (b3 : A3) (b4 : A4), ok b1 b2 b3 b4 → μ b1 b2 b3 b4 < μ a1 a2 a3 a4 → post' (val b1 b2 b3 b4) → W d post' b1 b2 b3 b4) → W (d + 1) post a1 a2 a3 a4) :
    ∀ (d : Nat) (post : ρ → Prop) (a1 : A1) (a2 : A2) (a3 : A3) (a4 : A4), ok a1 a2 a3 a4 → μ a1 a2 a3 a4 < d → post (val a1 a2 a3 a4) → W d post a1 a2 a3 a4 := by
  intro d
  induction d with
  | zero => intro post a1 a2 a3 a4 _ h; omega
  | succ d ih =>
    intro post a1 a2 a3 a4 ho hm hp
    exact hs d post a1 a2 a3 a4 ho hp (fun post' b1 b2 b3 b4 ho' hm' hp' => ih post' b1 b2 b3 b4 ho' (by omega) hp')
theorem rp5 {ρ A1 A2 A3 A4 A5 : Type} (W : Nat → (ρ → Prop) → A1 → A2 → A3 → A4 → A5 → Prop) (ok : A1 → A2 → A3 → A4 → A5 → Prop) (μ : A1 → A2 → A3 → A4 → A5 → Nat) (val : A1 → A2 → A3 → A4 → A5 → ρ)
    (hs : ∀ (d : Nat) (post : ρ → Prop) (a1 : A1) (a2 : A2) (a3 : A3) (a4 : A4) (a5 : A5), ok a1 a2 a3 a4 a5 → post (val a1 a2 a3 a4 a5) → (∀ (post' : ρ → Prop) (b1 : A1) (b2 : A2) (b3 : A3) (b4 : A4) (b5 : A5), ok b1 b2 b3 b4 b5 → μ b1 b2 b3 b4 b5 < μ a1 a2 a3 a4 a5 → post' (val b1 b2 b3 b4 b5) → W d post' b1 b2 b3 b4 b5) → W (d + 1) post a1 a2 a3 a4 a5) :
    ∀ (d : Nat) (post : ρ → Prop) (a1 : A1) (a2 : A2) (a3 : A3) (a4 : A4) (a5 : A5), ok a1 a2 a3 a4 a5 → μ a1 a2 a3 a4 a5 < d → post (val a1 a2 a3 a4 a5) → W d post a1 a2 a3 a4 a5 := by
  intro d
  induction d with
  | zero => intro post a1 a2 a3 a4 a5 _ h; omega
  | succ d ih =>
    intro post a1 a2 a3 a4 a5 ho hm hp
    exact hs d post a1 a2 a3 a4 a5 ho hp (fun post' b1 b2 b3 b4 b5 ho' hm' hp' => ih post' b1 b2 b3 b4 b5 ho' (by omega) hp')
theorem rp6 {ρ A1 A2 A3 A4 A5 A6 : Type} (W : Nat → (ρ → Prop) → A1 → A2 → A3 → A4 → A5 → A6 → Prop) (ok : A1 → A2 → A3 → A4 → A5 → A6 → Prop) (μ : A1 → A2 → A3 → A4 → A5 → A6 → Nat) (val : A1 → A2 → A3 → A4 → A5 → A6 → ρ)
    (hs : ∀ (d : Nat) (post : ρ → Prop) (a1 : A1) (a2 : A2) (a3 : A3) (a4 : A4) (a5 : A5) (a6 : A6), ok a1 a2 a3 a4 a5 a6 → post (val a1 a2 a3 a4 a5 a6) → (∀ (post' : ρ → Prop) (b1 : A1) (b2 : A2) (b3 : A3) (b4 : A4) (b5 : A5) (b6 : A6), ok b1 b2 b3 b4 b5 b6 → μ b1 b2 b3 b4 b5 b6 < μ a1 a2 a3 a4 a5 a6 → post' (val b1 b2 b3 b4 b5 b6) → W d post' b1 b2 b3 b4 b5 b6) → W (d + 1) post a1 a2 a3 a4 a5 a6) :
    ∀ (d : Nat) (post : ρ → Prop) (a1 : A1) (a2 : A2) (a3 : A3) (a4 : A4) (a5 : A5) (a6 : A6), ok a1 a2 a3 a4 a5 a6 → μ a1 a2 a3 a4 a5 a6 < d → post (val a1 a2 a3 a4 a5 a6) → W d post a1 a2 a3 a4 a5 a6 := by
  intro d
  induction d with
  | zero => intro post a1 a2 a3 a4 a5 a6 _ h; omega
  | succ d ih =>
    intro post a1 a2 a3 a4 a5 a6 ho hm hp
    exact hs d post a1 a2 a3 a4 a5 a6 ho hp (fun post' b1 b2 b3 b4 b5 b6 ho' hm' hp' => ih post' b1 b2 b3 b4 b5 b6 ho' (by omega) hp')
theorem rec_p {σ ρ : Type} (W : Nat → (ρ → Prop) → σ → Prop) (ok : σ → Prop) (μ : σ → Nat) (val : σ → ρ)
    (hs : ∀ d s post, ok s → post (val s) → (∀ s' post', ok s' → μ s' < μ s → post' (val s') → W d post' s') → W (d + 1) post s) :
    ∀ d s post, ok s → μ s < d → post (val s) → W d post s := by
  intro d
  induction d with
  | zero => intro s post _ h; omega
  | succ d ih =>
    intro s post ho hm hp
    exact hs d s post ho hp (fun s' post' ho' hm' hp' => ih s' post' ho' (by omega) hp')
theorem rec_q {σ ρ : Type} (W : Nat → (ρ → Prop) → σ → Prop) (ok : σ → Prop) (μ : σ → Nat) (Q : σ → ρ → Prop)
    (hs : ∀ d s post, ok s → (∀ r, Q s r → post r) → (∀ s' post', ok s' → μ s' < μ s → (∀ r, Q s' r → post' r) → W d post' s') → W (d + 1) post s) :
    ∀ d s post, ok s → μ s < d → (∀ r, Q s r → post r) → W d post s := by
  intro d
  induction d with
  | zero => intro s post _ h; omega
  | succ d ih =>
    intro s post ho hm hp
    exact hs d s post ho hp (fun s' post' ho' hm' hp' => ih s' post' ho' (by omega) hp')
def bx_sum (f : Nat → Int32) : Nat → Int32
  | 0 => 0
  | n + 1 => bx_sum f n + f n
theorem ek_u {A : Prop} {B : Nat → Prop} {k N : Nat} (hk : k < N) (h : B k) : (some k = none → A) ∧ (∀ y : Nat, some k = some y → (y < N ∧ B y)) :=
  ⟨fun z => absurd z (Option.some_ne_none k), fun _ e => (by cases e; exact ⟨hk, h⟩)⟩
theorem ek_nu {A : Prop} {B : Nat → Prop} (h : A) : ((none : Option Nat) = none → A) ∧ (∀ y : Nat, (none : Option Nat) = some y → B y) :=
  ⟨fun _ => h, fun _ e => (by cases e)⟩
theorem ek_if {c d A B : Prop} (e : c ↔ d) (f : d → A) (g : ¬ d → B) : (c → A) ∧ (¬ c → B) :=
  ⟨fun z => f (e.mp z), fun z => g (fun y => z (e.mpr y))⟩
theorem ek_v {α : Sort _} {P : α → Prop} {a b : α} (e : a = b) (h : P b) : P a := e ▸ h
theorem co_some {x : Option Nat} {A : Prop} {B : Nat → Prop} (i : Nat) (h : B i) (hx : x = some i := by rfl) : (x = none → A) ∧ (∀ y : Nat, x = some y → B y) := by
  subst hx
  exact ⟨fun e => (nomatch e), fun y e => Option.some.inj e ▸ h⟩
theorem co_none {x : Option Nat} {A : Prop} {B : Nat → Prop} (h : A) (hx : x = none := by rfl) : (x = none → A) ∧ (∀ y : Nat, x = some y → B y) := by
  subst hx
  exact ⟨fun _ => h, fun y e => (nomatch e)⟩
theorem co_any {x : Option Nat} {A : Prop} {B : Nat → Prop} (hn : x = none → A) (hs : ∀ i : Nat, x = some i → B i) : (x = none → A) ∧ (∀ y : Nat, x = some y → B y) := ⟨hn, hs⟩
theorem co_2 {P : Nat → Prop} (h0 : P 0) (h1 : P 1) {i : Nat} (hi : i < 2) : P i :=
  match i, hi with
  | 0, _ => h0
  | 1, _ => h1
theorem co_3 {P : Nat → Prop} (h0 : P 0) (h1 : P 1) (h2 : P 2) {i : Nat} (hi : i < 3) : P i :=
  match i, hi with
  | 0, _ => h0
  | 1, _ => h1
  | 2, _ => h2
theorem co_4 {P : Nat → Prop} (h0 : P 0) (h1 : P 1) (h2 : P 2) (h3 : P 3) {i : Nat} (hi : i < 4) : P i :=
  match i, hi with
  | 0, _ => h0
  | 1, _ => h1
  | 2, _ => h2
  | 3, _ => h3
theorem co_dec {N : Nat} {P : Nat → Prop} [DecidablePred P] (h : (List.range N).all (fun i => decide (P i)) = true) {i : Nat} (hi : i < N) : P i := by
  have := List.all_eq_true.mp h i (List.mem_range.mpr hi)
  exact of_decide_eq_true this
theorem co_tab {α : Type} {l : List α} {d : α} {P : α → Prop} (h : ∀ a, a ∈ l → P a) {i : Nat} (hi : i < l.length) : P (l.getD i d) := by
  rw [List.getD_eq_getElem?_getD, List.getElem?_eq_getElem hi]
  exact h _ (List.getElem_mem hi)
theorem pk_mu {x : Int32} {L : Nat} (h0 : ¬ x < 0) (h : ¬ nI L ≤ x) (hL : L < 2 ^ 31) : ∃ j : Nat, j < L ∧ x = nI j ∧ x + 1 = nI (j + 1) ∧ x.toNatClampNeg = j ∧ L - (x + 1).toNatClampNeg < L - x.toNatClampNeg := by
  obtain ⟨j, hj, rfl⟩ := nI_of h0
  have hl : j < L := Nat.not_le.mp fun q => h (nI_le q hj)
  refine ⟨j, hl, rfl, nI_1 j, nI_clamp hj, ?_⟩
  rw [nI_1, nI_clamp (by omega), nI_clamp hj]
  omega
theorem op_s {α : Type} {r : Option α} {A : Prop} {B : α → Prop} {y : α} (h : r = some y) (b : B y) : (r = none → A) ∧ ∀ z, r = some z → B z :=
  ⟨fun e => (by rw [h] at e; cases e), fun z e => (by rw [h] at e; cases e; exact b)⟩
def l_holds {α : Type} (a : Nat → Option Nat) (LP : List Nat) (p : Nat → α) (c : Nat) (b : Nat → α) : Prop :=
  ∀ j, j < c → ∃ y, a j = some y ∧ y ∈ LP ∧ p y = b j
theorem l_holds_0 {α : Type} {a : Nat → Option Nat} {LP : List Nat} {p b : Nat → α} : l_holds a LP p 0 b := fun j h => absurd h (Nat.not_lt_zero j)
theorem l_in_new (LP : List Nat) (q : Nat) : q ∈ LP ++ [q] := List.mem_append.mpr (Or.inr (List.mem_singleton.mpr rfl))
def l_sum (b : Nat → Int32) : Nat → Int32
  | 0 => 0
  | k + 1 => l_sum b k + b k
theorem sb_shr0 (x : Int32) : x >>> ((0 : Int32) &&& 31) = x := by
  rw [show ((0 : Int32) &&& 31) = 0 by decide]
  simp
theorem sb_shl0 (x : Int32) : x <<< ((0 : Int32) &&& 31) = x := by
  rw [show ((0 : Int32) &&& 31) = 0 by decide]
  simp
theorem sb_cl0 : (0 : Int32).toNatClampNeg = 0 := by decide
theorem sb_m1 {p : Nat} (h : 0 < p) : nI p + (-1) = nI (p - 1) := by
  obtain ⟨q, rfl⟩ : ∃ q, p = q + 1 := ⟨p - 1, by omega⟩
  exact pk_m1 q
def sb_b (c : Nat) : Int32 := (nI c).toInt8.toInt32
theorem sb_byte : ∀ c, c < 256 → sb_b c &&& 255 = nI c ∧ ((nI c).toUInt32 % 65536).toInt32 = nI c ∧ nI c ≤ 255 := by decide +kernel
def sb_Fit (a : Nat → Int32) : Prop := ∀ j, fits .byte (.int (a j)) = true
def sb_Lat (t : Nat → Nat) (n : Nat) (a : Nat → Int32) : Prop := ∀ j, j < n → t j < 256 ∧ a j = sb_b (t j)
theorem sb_fitB (c : Nat) : fits .byte (.int (sb_b c)) = true := pk_fb _
theorem sb_fit0 : sb_Fit (fun _ => 0) := fun _ => by
  show fits .byte (.int 0) = true
  decide
theorem sb_fitU {a : Nat → Int32} {k : Nat} {x : Int32} (h : sb_Fit a) (hx : fits .byte (.int x) = true) : sb_Fit (upd a k x) := by
  intro j
  by_cases e : j = k
  · subst e
    rw [pk_us]
    exact hx
  · rw [pk_un e]
    exact h j
def sb_cat (t : Nat → Nat) (n : Nat) (s : Nat → Nat) : Nat → Nat := fun j => if j < n then t j else s (j - n)
theorem sb_cat_lo {t s : Nat → Nat} {n j : Nat} (h : j < n) : sb_cat t n s j = t j := if_pos h
theorem sb_cat_hi {t s : Nat → Nat} {n j : Nat} : sb_cat t n s (n + j) = s j := by
  show (if n + j < n then t (n + j) else s (n + j - n)) = s j
  rw [if_neg (by omega), Nat.add_sub_cancel_left]
theorem sb_latPut {t s : Nat → Nat} {n w : Nat} {a a' : Nat → Int32} (h : sb_Lat t n a) (hk : ∀ j, j < n → a' j = a j) (hs : ∀ i, i < w → s i < 256 ∧ a' (n + i) = sb_b (s i)) : sb_Lat (sb_cat t n s) (n + w) a' := by
  intro j hj
  by_cases e : j < n
  · rw [sb_cat_lo e, hk j e]
    exact h j e
  · obtain ⟨i, rfl⟩ : ∃ i, j = n + i := ⟨j - n, by omega⟩
    rw [sb_cat_hi]
    exact hs i (by omega)
theorem sb_latKeep {t : Nat → Nat} {n : Nat} {a a' : Nat → Int32} (h : sb_Lat t n a) (hk : ∀ j, j < n → a' j = a j) : sb_Lat t n a' := fun j hj => by
  rw [hk j hj]
  exact h j hj
def sb_cap (q m : Nat) : Nat := if q ≤ m then m else if 2 * m + 2 < q then q else 2 * m + 2
def sb_Room (q m mc ms : Nat) : Prop := q ≤ m ∨ (1 ≤ mc ∧ sb_cap q m ≤ ms ∧ sb_cap q m ≤ 65536)
theorem sb_cap_ge (q m : Nat) : q ≤ sb_cap q m := by
  unfold sb_cap
  split
  · omega
  · split <;> omega
theorem sb_cap_gem (q m : Nat) : m ≤ sb_cap q m := by
  unfold sb_cap
  split
  · omega
  · split <;> omega
theorem sb_cap_le {q m mc ms : Nat} (hm : m ≤ 65536) (hr : sb_Room q m mc ms) : sb_cap q m ≤ 65536 := by
  rcases hr with h | h
  · rw [sb_cap, if_pos h]
    exact hm
  · exact h.2.2
theorem sb_at {P : Int32 → Prop} {x y : Int32} (e : x = y) (h : P y) : P x := e ▸ h
def sb_dg (w : Nat) : Nat := if w < 10 then 1 else if w < 100 then 2 else if w < 1000 then 3 else if w < 10000 then 4 else if w < 100000 then 5 else if w < 1000000 then 6 else if w < 10000000 then 7 else if w < 100000000 then 8 else if w < 1000000000 then 9 else 10
def sb_dec (v : Nat) : Nat → Nat := fun i => 48 + v / 10 ^ (sb_dg v - 1 - i) % 10
theorem sb_dg_in (w : Nat) : 1 ≤ sb_dg w ∧ sb_dg w ≤ 10 := by
  unfold sb_dg
  constructor <;> (repeat' split) <;> omega
theorem sb_dg100 {w : Nat} (h : 100 ≤ w) (hw : w < 2 ^ 31) : sb_dg w = sb_dg (w / 100) + 2 := by
  rw [sb_dg, sb_dg, if_neg (show ¬ w < 10 by omega), if_neg (show ¬ w < 100 by omega)]
  by_cases h3 : w < 1000
  · rw [if_pos h3, if_pos (show w / 100 < 10 by omega)]
  rw [if_neg h3, if_neg (show ¬ w / 100 < 10 by omega)]
  by_cases h4 : w < 10000
  · rw [if_pos h4, if_pos (show w / 100 < 100 by omega)]
  rw [if_neg h4, if_neg (show ¬ w / 100 < 100 by omega)]
  by_cases h5 : w < 100000
  · rw [if_pos h5, if_pos (show w / 100 < 1000 by omega)]
  rw [if_neg h5, if_neg (show ¬ w / 100 < 1000 by omega)]
  by_cases h6 : w < 1000000
  · rw [if_pos h6, if_pos (show w / 100 < 10000 by omega)]
  rw [if_neg h6, if_neg (show ¬ w / 100 < 10000 by omega)]
  by_cases h7 : w < 10000000
  · rw [if_pos h7, if_pos (show w / 100 < 100000 by omega)]
  rw [if_neg h7, if_neg (show ¬ w / 100 < 100000 by omega)]
  by_cases h8 : w < 100000000
  · rw [if_pos h8, if_pos (show w / 100 < 1000000 by omega)]
  rw [if_neg h8, if_neg (show ¬ w / 100 < 1000000 by omega)]
  by_cases h9 : w < 1000000000
  · rw [if_pos h9, if_pos (show w / 100 < 10000000 by omega)]
  rw [if_neg h9, if_neg (show ¬ w / 100 < 10000000 by omega)]
  rw [if_pos (show w / 100 < 100000000 by omega)]
theorem sb_negT {w : Nat} (h : w < 2 ^ 31) : (-nI w).toInt = -(w : Int) := by
  rw [Int32.toInt_neg, nI_toInt h]
  exact Int.bmod_eq_of_le (by omega) (by omega)
theorem sb_nle {a b : Nat} (ha : a < 2 ^ 31) (hb : b < 2 ^ 31) : -nI a ≤ -nI b ↔ b ≤ a := by
  rw [Int32.le_iff_toInt_le, sb_negT ha, sb_negT hb]
  omega
theorem sb_nlt {a b : Nat} (ha : a < 2 ^ 31) (hb : b < 2 ^ 31) : -nI a < -nI b ↔ b < a := by
  rw [Int32.lt_iff_toInt_lt, sb_negT ha, sb_negT hb]
  omega
theorem sb_cmp {A B : Prop} {x : Int32} (v c : Nat) (f : c ≤ v → A) (g : v < c → B) (hv : v < 2 ^ 31) (hx : x = -nI c := by rfl) (hc : c < 2 ^ 31 := by omega) : (-nI v ≤ x → A) ∧ (¬ -nI v ≤ x → B) := by
  subst hx
  rw [sb_nle hv hc]
  exact ⟨f, fun z => g (by omega)⟩
theorem sb_ndiv {w : Nat} (hw : w < 2 ^ 31) : (-nI w) / 100 = -nI (w / 100) := by
  apply Int32.toInt_inj.mp
  have h100 : (100 : Int32).toInt = 100 := by decide
  rw [Int32.toInt_div, sb_negT hw, h100, sb_negT (by omega), Int.neg_tdiv, Int.tdiv_eq_ediv_of_nonneg (by omega), Int.bmod_eq_of_le (by omega) (by omega)]
  omega
theorem sb_nrem {w : Nat} (hw : w < 2 ^ 31) : (-nI (w / 100)) * 100 - (-nI w) = nI (w % 100) := by
  have h := pk_rem (a := w) (d := 100) hw (by decide) (by decide)
  rw [pk_div hw (by decide) (by decide)] at h
  rw [← h]
  show (-nI (w / 100)) * nI 100 - (-nI w) = nI w - nI (w / 100) * nI 100
  rw [Int32.neg_mul, Int32.sub_neg, Int32.add_comm, ← Int32.sub_eq_add_neg]
end
section
/-! rows on bits, shifts and unsigned numbers, to paste: each family out of a closed proof of our own, whole with what it rests on; each by itself clean at Lean in its own claim (generation 39, form 5). Take a family whole -/
/-! ===== Int32 by its bits: bt x i ===== -/
def bt (x : Int32) (i : Nat) : Bool := x.toBitVec.getLsbD i
theorem b_ext {x y : Int32} (h : ∀ i, i < 32 → bt x i = bt y i) : x = y := Int32.toBitVec_inj.mp (BitVec.eq_of_getLsbD_eq (fun i hi => h i hi))
theorem b_or (x y : Int32) (i : Nat) : bt (x ||| y) i = (bt x i || bt y i) := by unfold bt; rw [Int32.toBitVec_or, BitVec.getLsbD_or]
theorem b_and (x y : Int32) (i : Nat) : bt (x &&& y) i = (bt x i && bt y i) := by unfold bt; rw [Int32.toBitVec_and, BitVec.getLsbD_and]
theorem b_xor (x y : Int32) (i : Nat) : bt (x ^^^ y) i = (bt x i ^^ bt y i) := by unfold bt; rw [Int32.toBitVec_xor, BitVec.getLsbD_xor]
theorem b_big {x : Int32} {i : Nat} (h : 32 ≤ i) : bt x i = false := BitVec.getLsbD_of_ge _ _ h
theorem b_255 (i : Nat) : bt 255 i = decide (i < 8) := by
  rcases Nat.lt_or_ge i 32 with h | h
  · exact (by decide +kernel : ∀ i, i < 32 → bt 255 i = decide (i < 8)) i h
  · rw [b_big h, decide_eq_false (by omega)]
theorem b_65535 (i : Nat) : bt 65535 i = decide (i < 16) := by
  rcases Nat.lt_or_ge i 32 with h | h
  · exact (by decide +kernel : ∀ i, i < 32 → bt 65535 i = decide (i < 16)) i h
  · rw [b_big h, decide_eq_false (by omega)]
theorem b_m1 : ∀ i, i < 32 → bt (-1) i = true := by decide +kernel
theorem b_0 (i : Nat) : bt 0 i = false := BitVec.getLsbD_zero
theorem s_l : ∀ n, n < 32 → ((nI n &&& 31).toBitVec.smod 32).toNat = n := by decide +kernel
theorem s_u : ∀ n, n < 32 → (((nI n).toUInt32 &&& Int32.toUInt32 31).toBitVec % 32).toNat = n := by decide +kernel
theorem b_shl (n : Nat) (hn : n < 32) (x : Int32) {i : Nat} (hi : i < 32) : bt (x <<< (nI n &&& 31)) i = (decide (n ≤ i) && bt x (i - n)) := by
  unfold bt
  rw [Int32.toBitVec_shiftLeft]
  show (x.toBitVec <<< ((nI n &&& 31).toBitVec.smod 32).toNat).getLsbD i = _
  rw [s_l n hn, BitVec.getLsbD_shiftLeft]
  rcases Nat.lt_or_ge i n with h | h
  · simp [h, Nat.not_le.mpr h]
  · simp [hi, h, Nat.not_lt.mpr h]
theorem b_ushr (n : Nat) (hn : n < 32) (x : Int32) (i : Nat) : bt ((x.toUInt32 >>> ((nI n).toUInt32 &&& Int32.toUInt32 31)).toInt32) i = bt x (n + i) := by
  show (x.toUInt32 >>> ((nI n).toUInt32 &&& Int32.toUInt32 31)).toBitVec.getLsbD i = x.toUInt32.toBitVec.getLsbD (n + i)
  rw [UInt32.toBitVec_shiftRight]
  show (x.toUInt32.toBitVec >>> (((nI n).toUInt32 &&& Int32.toUInt32 31).toBitVec % 32).toNat).getLsbD i = _
  rw [s_u n hn, BitVec.getLsbD_ushiftRight]
theorem b_sshr (n : Nat) (hn : n < 32) (x : Int32) {i : Nat} (hi : i < 32) : bt (x >>> (nI n &&& 31)) i = if n + i < 32 then bt x (n + i) else bt x 31 := by
  unfold bt
  rw [Int32.toBitVec_shiftRight]
  show (x.toBitVec.sshiftRight ((nI n &&& 31).toBitVec.smod 32).toNat).getLsbD i = _
  rw [s_l n hn, BitVec.getLsbD_sshiftRight, BitVec.msb_eq_getLsbD_last]
  simp [hi]
theorem b_shl8 (x : Int32) {i : Nat} (hi : i < 32) : bt (x <<< ((8 : Int32) &&& 31)) i = (decide (8 ≤ i) && bt x (i - 8)) := b_shl 8 (by omega) x hi
theorem b_shl16 (x : Int32) {i : Nat} (hi : i < 32) : bt (x <<< ((16 : Int32) &&& 31)) i = (decide (16 ≤ i) && bt x (i - 16)) := b_shl 16 (by omega) x hi
theorem b_shl24 (x : Int32) {i : Nat} (hi : i < 32) : bt (x <<< ((24 : Int32) &&& 31)) i = (decide (24 ≤ i) && bt x (i - 24)) := b_shl 24 (by omega) x hi
theorem b_sshr8 (x : Int32) {i : Nat} (hi : i < 32) : bt (x >>> ((8 : Int32) &&& 31)) i = if 8 + i < 32 then bt x (8 + i) else bt x 31 := b_sshr 8 (by omega) x hi
/-! ===== nI under and, xor, >>>, one bit, 65535 ===== -/
theorem nx_and (a b : Nat) : nI a &&& nI b = nI (a &&& b) := by
  apply Int32.toBitVec_inj.1
  show BitVec.ofNat 32 a &&& BitVec.ofNat 32 b = BitVec.ofNat 32 (a &&& b)
  apply BitVec.eq_of_getLsbD_eq
  intro i hi
  simp [hi]
theorem nx_xor (a b : Nat) : nI a ^^^ nI b = nI (a ^^^ b) := by
  apply Int32.toBitVec_inj.1
  show BitVec.ofNat 32 a ^^^ BitVec.ofNat 32 b = BitVec.ofNat 32 (a ^^^ b)
  apply BitVec.eq_of_getLsbD_eq
  intro i hi
  simp [hi]
theorem nx_cnt : ∀ j : Fin 32, (UInt32.ofNat j.val &&& Int32.toUInt32 31).toNat % 32 = j.val := by decide +kernel
theorem nx_ush {k j : Nat} (hk : k < 65536) (hj : j < 32) : ((nI k).toUInt32 >>> ((nI j).toUInt32 &&& Int32.toUInt32 31)).toInt32 = nI (k >>> j) := by
  have hs : k >>> j ≤ k := by
    rw [Nat.shiftRight_eq_div_pow]
    exact Nat.div_le_self _ _
  have e2 : UInt32.ofNat k >>> (UInt32.ofNat j &&& Int32.toUInt32 31) = UInt32.ofNat (k >>> j) := by
    apply UInt32.toNat_inj.1
    have h1 : (UInt32.ofNat k).toNat = k := Nat.mod_eq_of_lt (by omega)
    have h2 : (UInt32.ofNat (k >>> j)).toNat = k >>> j := Nat.mod_eq_of_lt (by omega)
    rw [UInt32.toNat_shiftRight, nx_cnt ⟨j, hj⟩, h1, h2]
  show (UInt32.ofNat k >>> (UInt32.ofNat j &&& Int32.toUInt32 31)).toInt32 = _
  rw [e2]
  rfl
theorem nx_bit {k j : Nat} (hk : k < 65536) (hj : j < 16) : (((nI k).toUInt32 >>> ((nI j).toUInt32 &&& Int32.toUInt32 31)).toInt32 &&& 1) = 0 ↔ k.testBit j = false := by
  rw [nx_ush hk (by omega)]
  show nI (k >>> j) &&& nI 1 = 0 ↔ _
  rw [nx_and, Nat.and_one_is_mod, ← nI_0, nI_eq (by omega) (by omega), Nat.testBit_eq_decide_div_mod_eq, Nat.shiftRight_eq_div_pow, decide_eq_false_iff_not]
  generalize k / 2 ^ j = z
  omega
theorem nx_mod (k : Nat) : nI k &&& 65535 = nI (k % 65536) := by
  show nI k &&& nI 65535 = _
  rw [nx_and, show (65535 : Nat) = 2 ^ 16 - 1 from rfl, Nat.and_two_pow_sub_one_eq_mod]
theorem nx_m16 {k : Nat} (h : k < 65536) : nI k &&& 65535 = nI k := by rw [nx_mod, Nat.mod_eq_of_lt h]
theorem nx_mask (x : Int32) : ∃ k, k < 65536 ∧ x &&& 65535 = nI k := by
  have e : x = nI x.toBitVec.toNat := by
    apply Int32.toBitVec_inj.1
    show x.toBitVec = BitVec.ofNat 32 x.toBitVec.toNat
    simp
  refine ⟨x.toBitVec.toNat % 65536, Nat.mod_lt _ (by omega), ?_⟩
  rw [← nx_mod, ← e]
/-! ===== Int32 as a set of bits: test, set ===== -/
def nf_M (m : Int32) : Nat := 4294967296 - m.toBitVec.toNat
theorem nf_sh : ∀ l, l < 32 → ((1 : Int32) <<< (nI l &&& 31)).toBitVec = BitVec.twoPow 32 l := by decide +kernel
theorem nf_sl : ∀ l, l < 32 → (((nI l).toUInt32 &&& Int32.toUInt32 31).toBitVec % 32).toNat = l := by decide +kernel
theorem nf_tp : ∀ l, l < 32 → BitVec.twoPow 32 l ≠ 0#32 := by decide +kernel
theorem nf_bit (m : Int32) (l : Nat) (hl : l < 32) : ((m.toUInt32 >>> ((nI l).toUInt32 &&& Int32.toUInt32 31)).toInt32 &&& 1) = 0 ↔ (m &&& ((1 : Int32) <<< (nI l &&& 31))) = 0 := by
  have e : ((m.toUInt32 >>> ((nI l).toUInt32 &&& Int32.toUInt32 31)).toInt32).toBitVec = m.toBitVec >>> l := by
    show m.toBitVec >>> (((nI l).toUInt32 &&& Int32.toUInt32 31).toBitVec % 32) = m.toBitVec >>> l
    rw [BitVec.ushiftRight_eq', nf_sl l hl]
  rw [← Int32.toBitVec_inj, ← Int32.toBitVec_inj, Int32.toBitVec_and, Int32.toBitVec_and, nf_sh l hl, e, BitVec.and_twoPow]
  show (m.toBitVec >>> l &&& 1#32) = 0#32 ↔ _ = 0#32
  rw [BitVec.and_one_eq_setWidth_ofBool_getLsbD, BitVec.getLsbD_ushiftRight, Nat.add_zero]
  cases hb : m.toBitVec.getLsbD l
  · exact ⟨fun _ => by simp, fun _ => by decide⟩
  · exact ⟨fun z => absurd z (by decide), fun z => absurd ((if_pos rfl).symm.trans z) (nf_tp l hl)⟩
theorem nf_gr (m k : Int32) (h : m &&& k = 0) (hk : k ≠ 0) : nf_M (m ||| k) < nf_M m := by
  have hm := m.toBitVec.isLt
  have hm' := (m ||| k).toBitVec.isLt
  have h1 : m.toBitVec.toNat ≤ (m ||| k).toBitVec.toNat := by
    rw [Int32.toBitVec_or, BitVec.toNat_or]
    exact Nat.left_le_or
  have h2 : m.toBitVec.toNat ≠ (m ||| k).toBitVec.toNat := by
    intro e
    have e2 : m = m ||| k := Int32.toBitVec_inj.mp (BitVec.eq_of_toNat_eq e)
    apply hk
    apply Int32.toBitVec_inj.mp
    show k.toBitVec = 0#32
    apply BitVec.eq_of_getLsbD_eq
    intro i hi
    have a : m.toBitVec.getLsbD i = (m.toBitVec.getLsbD i || k.toBitVec.getLsbD i) := by rw [← BitVec.getLsbD_or, ← Int32.toBitVec_or, ← e2]
    have b : (m.toBitVec.getLsbD i && k.toBitVec.getLsbD i) = false := by
      rw [← BitVec.getLsbD_and, ← Int32.toBitVec_and, h]
      exact BitVec.getLsbD_zero
    rw [BitVec.getLsbD_zero]
    revert a b
    cases m.toBitVec.getLsbD i <;> cases k.toBitVec.getLsbD i <;> simp
  unfold nf_M
  omega
/-! ===== a byte read unsigned ===== -/
theorem bp_b (x : Int32) : x.toInt8.toInt32 &&& 255 = x &&& 255 := by
  apply Int32.toBitVec_inj.mp
  rw [Int32.toBitVec_and, Int32.toBitVec_and, Int8.toBitVec_toInt32, Int32.toBitVec_toInt8]
  apply BitVec.eq_of_getLsbD_eq
  intro i hi
  rw [BitVec.getLsbD_and, BitVec.getLsbD_and]
  have hm : ∀ i < 32, 8 ≤ i → (255 : Int32).toBitVec.getLsbD i = false := by decide
  rcases Nat.lt_or_ge i 8 with z | z
  · rw [BitVec.getLsbD_signExtend, BitVec.getLsbD_signExtend, if_pos z, if_pos hi]
    simp only [z, hi, decide_true, Bool.true_and]
  · rw [hm i hi z]; simp
/-! ===== the char cast and 65535 ===== -/
theorem em_w (v : Int32) : ∃ w : Nat, w < 65536 ∧ (v.toUInt32 % 65536).toInt32 = nI w ∧ v &&& 65535 = nI w := by
  have hr := lw_u16_r v
  have h0 : (0 : Int32).toInt = 0 := by decide
  obtain ⟨w, h1, h2⟩ := nI_of (x := lw_u16 v) (by rw [Int32.lt_iff_toInt_lt]; omega)
  have h3 : (v.toUInt32 % 65536).toInt32 = nI w := h2
  rw [h2, nI_toInt h1] at hr
  exact ⟨w, by omega, h3, by rw [← lg_i2c_mask, ← lg_i2c_nf, h3]⟩
/-! ===== Int64 as a set of bits: test, set, clear ===== -/
theorem ts_nf {x : Bool} (h : ¬ x = false) : x = true := by cases x <;> first | rfl | exact absurd rfl h
theorem ts_nt {x : Bool} (h : ¬ x = true) : x = false := by cases x <;> first | rfl | exact absurd rfl h
theorem ts_bit {w : Int64} {s : UInt64} {j : Nat} (hj : j < 64) (hs : s.toNat = j) : ((w.toUInt64 >>> s).toInt64 &&& 1) = 0 ↔ w.toBitVec.getLsbD j = false := by
  have e : (w.toUInt64 >>> s).toInt64.toBitVec = w.toBitVec >>> j := by
    apply BitVec.eq_of_toNat_eq
    show (w.toUInt64 >>> s).toNat = _
    rw [UInt64.toNat_shiftRight, hs, Nat.mod_eq_of_lt hj, BitVec.toNat_ushiftRight]
    rfl
  rw [← Int64.toBitVec_inj, Int64.toBitVec_and, e]
  show w.toBitVec >>> j &&& 1#64 = 0#64 ↔ _
  constructor
  · intro h
    have t := congrArg (fun x => x.getLsbD 0) h
    simpa using t
  · intro h
    apply BitVec.eq_of_getLsbD_eq
    intro i hi
    cases i with
    | zero => simp [h]
    | succ i => simp
theorem ts_or {w m : Int64} {j : Nat} (hj : j < 64) (hm : m.toBitVec = BitVec.twoPow 64 j) : (w ||| m) = w ↔ w.toBitVec.getLsbD j = true := by
  rw [← Int64.toBitVec_inj, Int64.toBitVec_or, hm]
  constructor
  · intro h
    have t := congrArg (fun x => x.getLsbD j) h
    simp only [BitVec.getLsbD_or, BitVec.getLsbD_twoPow] at t
    simpa [hj] using t.symm
  · intro h
    apply BitVec.eq_of_getLsbD_eq
    intro i hi
    rw [BitVec.getLsbD_or, BitVec.getLsbD_twoPow]
    by_cases e : j = i
    · subst e; rw [h, Bool.true_or]
    · simp [e]
theorem ts_and {w m : Int64} {j : Nat} (hj : j < 64) (hm : m.toBitVec = BitVec.twoPow 64 j) : (w &&& (m ^^^ (-1))) = w ↔ w.toBitVec.getLsbD j = false := by
  have ha : (-1 : Int64).toBitVec = BitVec.allOnes 64 := by decide
  rw [← Int64.toBitVec_inj, Int64.toBitVec_and, Int64.toBitVec_xor, hm, ha]
  constructor
  · intro h
    have t := congrArg (fun x => x.getLsbD j) h
    simp only [BitVec.getLsbD_and, BitVec.getLsbD_xor, BitVec.getLsbD_twoPow, BitVec.getLsbD_allOnes] at t
    simpa [hj] using t.symm
  · intro h
    apply BitVec.eq_of_getLsbD_eq
    intro i hi
    rw [BitVec.getLsbD_and, BitVec.getLsbD_xor, BitVec.getLsbD_twoPow, BitVec.getLsbD_allOnes]
    by_cases e : j = i
    · subst e; rw [h, Bool.false_and]
    · simp [e, hi]
/-! ===== lN n to 2^64: shifts, and, or, masks, one bit ===== -/
theorem wb_tb (n : Nat) : (lN n).toBitVec = BitVec.ofNat 64 n := rfl
theorem wb_inj {a b : Int64} (h : a.toBitVec = b.toBitVec) : a = b := Int64.toBitVec_inj.mp h
theorem wb_tn {n : Nat} (h : n < 2 ^ 64) : (lN n).toBitVec.toNat = n := by rw [wb_tb, BitVec.toNat_ofNat, Nat.mod_eq_of_lt h]
theorem wb_of (x : Int64) : ∃ n, n < 2 ^ 64 ∧ x = lN n := ⟨x.toBitVec.toNat, x.toBitVec.isLt, wb_inj (by rw [wb_tb]; simp)⟩
theorem wb_of32 (x : Int32) : ∃ n, n < 2 ^ 32 ∧ x = nI n := ⟨x.toBitVec.toNat, x.toBitVec.isLt, Int32.toBitVec_inj.mp (by show _ = BitVec.ofNat 32 _; simp)⟩
theorem wb_c : ∀ k, k < 64 → ((nI k).toInt64 &&& 63) = lN k := by decide +kernel
theorem wb_cu : ∀ k, k < 64 → ((nI k).toInt64.toUInt64 &&& Int64.toUInt64 63) = UInt64.ofNat k := by decide +kernel
theorem wb_sm : ∀ k, k < 64 → (BitVec.ofNat 64 k).smod 64 = BitVec.ofNat 64 k := by decide +kernel
theorem wb_pw {a b : Nat} (h : a ≤ b) : 2 ^ b = 2 ^ a * 2 ^ (b - a) := by rw [← Nat.pow_add]; congr 1; omega
theorem wb_lt2 {a b : Nat} (h : a < b) : 2 ^ a < 2 ^ b := Nat.pow_lt_pow_right (by decide) h
theorem wb_mod (n : Nat) : lN n = lN (n % 2 ^ 64) := wb_inj (by rw [wb_tb, wb_tb]; apply BitVec.eq_of_toNat_eq; rw [BitVec.toNat_ofNat, BitVec.toNat_ofNat, Nat.mod_mod])
theorem wb_shr {n k : Nat} (hn : n < 2 ^ 64) (hk : k < 64) : ((lN n).toUInt64 >>> ((nI k).toInt64.toUInt64 &&& Int64.toUInt64 63)).toInt64 = lN (n / 2 ^ k) := by
  rw [wb_cu k hk]
  apply wb_inj
  apply BitVec.eq_of_toNat_eq
  show ((lN n).toUInt64 >>> UInt64.ofNat k).toNat = (BitVec.ofNat 64 _).toNat
  have h1 : (UInt64.ofNat k).toNat = k := by
    show (BitVec.ofNat 64 k).toNat = k
    rw [BitVec.toNat_ofNat, Nat.mod_eq_of_lt (by omega)]
  have h2 : (lN n).toUInt64.toNat = n := wb_tn hn
  rw [UInt64.toNat_shiftRight, h1, h2, Nat.mod_eq_of_lt hk, Nat.shiftRight_eq_div_pow, BitVec.toNat_ofNat, Nat.mod_eq_of_lt (Nat.lt_of_le_of_lt (Nat.div_le_self _ _) hn)]
theorem wb_shl (n : Nat) {k : Nat} (hk : k < 64) : lN n <<< ((nI k).toInt64 &&& 63) = lN (n * 2 ^ k) := by
  rw [wb_c k hk]
  apply wb_inj
  rw [Int64.toBitVec_shiftLeft, wb_tb, wb_tb, wb_tb, wb_sm k hk]
  apply BitVec.eq_of_toNat_eq
  rw [BitVec.shiftLeft_eq', BitVec.toNat_shiftLeft, BitVec.toNat_ofNat, BitVec.toNat_ofNat, BitVec.toNat_ofNat, Nat.mod_eq_of_lt (show k < 2 ^ 64 by omega), Nat.shiftLeft_eq, Nat.mul_mod, Nat.mod_mod, ← Nat.mul_mod]
theorem wb_and {a b : Nat} (ha : a < 2 ^ 64) (hb : b < 2 ^ 64) : lN a &&& lN b = lN (a &&& b) := by
  apply wb_inj
  rw [Int64.toBitVec_and, wb_tb, wb_tb, wb_tb]
  apply BitVec.eq_of_toNat_eq
  rw [BitVec.toNat_and, BitVec.toNat_ofNat, BitVec.toNat_ofNat, BitVec.toNat_ofNat, Nat.mod_eq_of_lt ha, Nat.mod_eq_of_lt hb, Nat.mod_eq_of_lt (Nat.and_lt_two_pow _ hb)]
theorem wb_or {a b : Nat} (ha : a < 2 ^ 64) (hb : b < 2 ^ 64) : lN a ||| lN b = lN (a ||| b) := by
  apply wb_inj
  rw [Int64.toBitVec_or, wb_tb, wb_tb, wb_tb]
  apply BitVec.eq_of_toNat_eq
  rw [BitVec.toNat_or, BitVec.toNat_ofNat, BitVec.toNat_ofNat, BitVec.toNat_ofNat, Nat.mod_eq_of_lt ha, Nat.mod_eq_of_lt hb, Nat.mod_eq_of_lt (Nat.or_lt_two_pow ha hb)]
theorem wb_mask {n k : Nat} (hn : n < 2 ^ 64) (hk : k < 64) : lN n &&& lN (2 ^ k - 1) = lN (n % 2 ^ k) := by
  rw [wb_and hn (by have := wb_lt2 hk; omega), Nat.and_two_pow_sub_one_eq_mod]
theorem wb_a1 {n : Nat} (hn : n < 2 ^ 64) : lN n &&& 1 = lN (n % 2) := wb_mask (k := 1) hn (by decide)
theorem wb_bit {n k : Nat} (hn : n < 2 ^ 64) (hk : k < 64) : ((lN n).toUInt64 >>> ((nI k).toInt64.toUInt64 &&& Int64.toUInt64 63)).toInt64 &&& 1 = lN (n / 2 ^ k % 2) := by
  rw [wb_shr hn hk, wb_a1 (Nat.lt_of_le_of_lt (Nat.div_le_self _ _) hn)]
theorem wb_xor {q k : Nat} (hk : k < 63) (h : 2 ^ k ≤ q) (h2 : q < 2 ^ (k + 1)) : lN q ^^^ lN (2 ^ k) = lN (q - 2 ^ k) := by
  obtain ⟨r, rfl⟩ : ∃ r, q = 2 ^ k + r := ⟨q - 2 ^ k, by omega⟩
  have hr : r < 2 ^ k := by rw [Nat.pow_succ] at h2; omega
  have hx : (2 ^ k + r) ^^^ 2 ^ k = r := by
    apply Nat.eq_of_testBit_eq
    intro i
    rw [Nat.testBit_xor, Nat.testBit_two_pow]
    rcases Nat.lt_trichotomy i k with h | h | h
    · rw [Nat.testBit_two_pow_add_gt h]
      simp [show ¬ k = i by omega]
    · subst h
      rw [Nat.testBit_two_pow_add_eq]
      simp
    · have a1 : 2 ^ (k + 1) ≤ 2 ^ i := Nat.pow_le_pow_right (by decide) h
      rw [Nat.testBit_lt_two_pow (show 2 ^ k + r < 2 ^ i by omega), Nat.testBit_lt_two_pow (show r < 2 ^ i by omega)]
      simp [show ¬ k = i by omega]
  have b1 := wb_lt2 (show k + 1 < 64 by omega)
  have b2 := wb_lt2 (show k < 64 by omega)
  apply wb_inj
  rw [Int64.toBitVec_xor, wb_tb, wb_tb, wb_tb]
  apply BitVec.eq_of_toNat_eq
  rw [BitVec.toNat_xor, BitVec.toNat_ofNat, BitVec.toNat_ofNat, BitVec.toNat_ofNat, Nat.mod_eq_of_lt (by omega : 2 ^ k + r < 2 ^ 64), Nat.mod_eq_of_lt b2, hx, Nat.add_sub_cancel_left, Nat.mod_eq_of_lt (by omega)]
/-! ===== lN: masks, 'or' of parts that don't overlap is a sum ===== -/
theorem u_tn {n : Nat} (h : n < 2 ^ 64) : (UInt64.ofNat n).toNat = n := Nat.mod_eq_of_lt h
theorem g_and {a b c : Nat} (ha : a < 2 ^ 64) (hb : b < 2 ^ 64) (hc : a &&& b = c) : lN a &&& lN b = lN c := by
  subst hc
  have h : UInt64.ofNat a &&& UInt64.ofNat b = UInt64.ofNat (a &&& b) := UInt64.toNat_inj.mp (by rw [UInt64.toNat_and, u_tn ha, u_tn hb, u_tn (Nat.and_lt_two_pow a hb)])
  have h2 := congrArg UInt64.toInt64 h
  exact h2
theorem g_and1 {a : Nat} (ha : a < 2 ^ 64) : lN a &&& 1 = lN (a % 2) := g_and (b := 1) ha (by decide) (Nat.and_two_pow_sub_one_eq_mod a 1)
theorem g_mask {a s p : Nat} (hp : 2 ^ s = p) (hs : s < 64) (ha : a < 2 ^ 64) : lN a &&& lN (p - 1) = lN (a % p) := by
  subst hp
  have := Nat.pow_lt_pow_right (show 1 < 2 by decide) hs
  exact g_and ha (by omega) (Nat.and_two_pow_sub_one_eq_mod a s)
theorem g_or {k p a b : Nat} (hp : 2 ^ k = p) (ha : a < p) (h : b * p + a < 2 ^ 64) : lN (b * p) ||| lN a = lN (b * p + a) := by
  subst hp
  have h1 : b * 2 ^ k ||| a = b * 2 ^ k + a := by rw [← Nat.shiftLeft_eq, Nat.shiftLeft_add_eq_or_of_lt ha]
  have h3 : UInt64.ofNat (b * 2 ^ k) ||| UInt64.ofNat a = UInt64.ofNat (b * 2 ^ k + a) := UInt64.toNat_inj.mp (by rw [UInt64.toNat_or, u_tn (by omega), u_tn (by omega), u_tn h, h1])
  have h2 := congrArg UInt64.toInt64 h3
  exact h2
theorem g_or' {k p a b : Nat} (hp : 2 ^ k = p) (ha : a < p) (h : a + b * p < 2 ^ 64) : lN a ||| lN (b * p) = lN (a + b * p) := by
  rw [Int64.or_comm, g_or hp ha (by omega), Nat.add_comm]
theorem g_ushr {a k p : Nat} {y : UInt64} (hy : y = UInt64.ofNat k) (hk : k < 64) (hp : 2 ^ k = p) (ha : a < 2 ^ 64) : ((lN a).toUInt64 >>> y).toInt64 = lN (a / p) := by
  subst hy hp
  have h : UInt64.ofNat a >>> UInt64.ofNat k = UInt64.ofNat (a / 2 ^ k) := UInt64.toNat_inj.mp (by rw [UInt64.toNat_shiftRight, u_tn ha, u_tn (by omega), u_tn (Nat.lt_of_le_of_lt (Nat.div_le_self _ _) ha), Nat.mod_eq_of_lt hk, Nat.shiftRight_eq_div_pow])
  have h2 := congrArg UInt64.toInt64 h
  exact h2
theorem g_shl {a k p : Nat} {y : Int64} (hy : y.toBitVec.smod 64 = BitVec.ofNat 64 k) (hk : k < 64) (hp : 2 ^ k = p) (ha : a < 2 ^ 64) : lN a <<< y = lN (a * p) := by
  subst hp
  apply Int64.toBitVec_inj.mp
  rw [Int64.toBitVec_shiftLeft, hy]
  apply BitVec.eq_of_toNat_eq
  have hb : (lN a).toBitVec.toNat = a := Nat.mod_eq_of_lt ha
  have hk' : (BitVec.ofNat 64 k).toNat = k := Nat.mod_eq_of_lt (by omega)
  have h : ((lN a).toBitVec <<< BitVec.ofNat 64 k).toNat = (a * 2 ^ k) % 2 ^ 64 := by simp only [BitVec.shiftLeft_eq', BitVec.toNat_shiftLeft, hb, hk', Nat.shiftLeft_eq]
  exact h
/-! ===== lN to 2^62 under >> and >>> ===== -/
theorem pf_lI {a : Nat} (h : a < 2 ^ 63) : (lN a).toInt = (a : Int) := lg_ofNat_toInt h
theorem pf_shr {a d : Nat} {D : Int64} (hD : (D.toBitVec.smod 64).toNat = d) (h : a < 2 ^ 62) : lN a >>> D = lN (a / 2 ^ d) := by
  have hd : a / 2 ^ d ≤ a := Nat.div_le_self _ _
  apply Int64.toInt_inj.mp
  have e : (lN a >>> D).toInt = (lN a).toInt >>> d := by
    rw [← hD]
    exact BitVec.toInt_sshiftRight ..
  rw [e, Int.shiftRight_eq_div_pow, pf_lI (by omega), pf_lI (by omega)]
  rfl
theorem pf_ushr {a d : Nat} {D : UInt64} (hD : D.toNat % 64 = d) (h : a < 2 ^ 62) : ((lN a).toUInt64 >>> D).toInt64 = lN (a / 2 ^ d) := by
  have hd : a / 2 ^ d ≤ a := Nat.div_le_self _ _
  have e : (lN a).toUInt64 >>> D = UInt64.ofNat (a / 2 ^ d) := UInt64.toNat_inj.mp (by
    rw [UInt64.toNat_shiftRight, hD, Nat.shiftRight_eq_div_pow, UInt64.toNat_ofNat']
    show (UInt64.ofNat a).toNat / 2 ^ d = _
    rw [UInt64.toNat_ofNat', Nat.mod_eq_of_lt (by omega), Nat.mod_eq_of_lt (by omega)])
  rw [e]
  rfl
theorem pf_andw (x : Int64) : ∃ m, m < 2 ^ 32 ∧ x &&& 4294967295 = lN m := ⟨x.toBitVec.toNat % 2 ^ 32, Nat.mod_lt _ (by decide), Int64.toBitVec_inj.mp (BitVec.eq_of_toNat_eq (by
  show (x.toBitVec &&& 4294967295#64).toNat = (BitVec.ofNat 64 (x.toBitVec.toNat % 2 ^ 32)).toNat
  rw [BitVec.toNat_and, show (4294967295#64).toNat = 2 ^ 32 - 1 from by decide, Nat.and_two_pow_sub_one_eq_mod, BitVec.toNat_ofNat]
  omega))⟩
/-! ===== Int64 as an unsigned number: uN x ===== -/
def uN (x : Int64) : Nat := x.toUInt64.toNat
theorem uN_lt (x : Int64) : uN x < 18446744073709551616 := x.toUInt64.toNat_lt
theorem uN_inj {x y : Int64} (h : uN x = uN y) : x = y := congrArg UInt64.toInt64 (UInt64.toNat_inj.mp h)
theorem uN_add (x y : Int64) : uN (x + y) = (uN x + uN y) % 18446744073709551616 := by
  show (x.toUInt64 + y.toUInt64).toNat = _
  exact UInt64.toNat_add _ _
theorem uN_mul (x y : Int64) : uN (x * y) = (uN x * uN y) % 18446744073709551616 := by
  show (x.toUInt64 * y.toUInt64).toNat = _
  exact UInt64.toNat_mul _ _
theorem uN_shl (x : Int64) : uN (x <<< ((1 : Int32).toInt64 &&& 63)) = (2 * uN x) % 18446744073709551616 := by
  have h : (((1 : Int32).toInt64 &&& 63).toBitVec.smod 64).toNat = 1 := by decide
  show (x.toBitVec <<< (((1 : Int32).toInt64 &&& 63).toBitVec.smod 64).toNat).toNat = _
  rw [h, BitVec.toNat_shiftLeft, Nat.shiftLeft_eq, Nat.mul_comm]
  rfl
theorem uN_shr (x : Int64) (s : UInt64) : uN (x.toUInt64 >>> s).toInt64 = uN x / 2 ^ (s.toNat % 64) := by
  show (x.toUInt64 >>> s).toNat = _
  rw [UInt64.toNat_shiftRight, Nat.shiftRight_eq_div_pow]
  rfl
theorem uN_s32 (x : Int64) : uN (x.toUInt64 >>> ((32 : Int32).toInt64.toUInt64 &&& Int64.toUInt64 63)).toInt64 = uN x / 4294967296 := by
  have h : ((32 : Int32).toInt64.toUInt64 &&& Int64.toUInt64 63).toNat % 64 = 32 := by decide
  rw [uN_shr, h]
theorem uN_s63 (x : Int64) : uN (x.toUInt64 >>> ((63 : Int32).toInt64.toUInt64 &&& Int64.toUInt64 63)).toInt64 = uN x / 9223372036854775808 := by
  have h : ((63 : Int32).toInt64.toUInt64 &&& Int64.toUInt64 63).toNat % 64 = 63 := by decide
  rw [uN_shr, h]
theorem uN_lo (x : Int64) : uN (x &&& 4294967295) = uN x % 4294967296 := by
  show (x.toUInt64 &&& Int64.toUInt64 4294967295).toNat = _
  rw [UInt64.toNat_and]
  exact Nat.and_two_pow_sub_one_eq_mod _ 32
theorem uN_bit (x : Int64) : (x &&& 1) = 0 ↔ uN x % 2 = 0 := by
  have h : uN (x &&& 1) = uN x % 2 := by
    show (x.toUInt64 &&& Int64.toUInt64 1).toNat = _
    rw [UInt64.toNat_and]
    exact Nat.and_two_pow_sub_one_eq_mod _ 1
  rw [← h]
  exact ⟨fun z => by rw [z]; rfl, fun z => uN_inj (z.trans rfl)⟩
theorem uN_or {x y : Int64} (hy : uN y < 2) : uN ((x <<< ((1 : Int32).toInt64 &&& 63)) ||| y) = (2 * uN x) % 18446744073709551616 + uN y := by
  have h1 : uN ((x <<< ((1 : Int32).toInt64 &&& 63)) ||| y) = uN (x <<< ((1 : Int32).toInt64 &&& 63)) ||| uN y := UInt64.toNat_or _ _
  have h2 : (2 * uN x) % 18446744073709551616 = 2 ^ 1 * (uN x % 9223372036854775808) := by omega
  rw [h1, uN_shl, h2]
  exact (Nat.two_pow_add_eq_or_of_lt (i := 1) hy _).symm
theorem nat_xor {a : Nat} (h : a < 18446744073709551616) : a ^^^ 2 ^ 63 = (a + 9223372036854775808) % 18446744073709551616 := by
  have h1 : (a ^^^ 2 ^ 63) % 2 ^ 63 = a % 2 ^ 63 := by rw [Nat.xor_mod_two_pow, Nat.mod_self, Nat.xor_zero]
  have h2 : (a ^^^ 2 ^ 63) / 2 ^ 63 = (a / 2 ^ 63) ^^^ 1 := by rw [Nat.xor_div_two_pow, Nat.div_self (Nat.two_pow_pos 63)]
  have h3 : a / 2 ^ 63 = 0 ∨ a / 2 ^ 63 = 1 := by omega
  generalize a ^^^ 2 ^ 63 = t at h1 h2
  rcases h3 with h3 | h3
  · rw [h3] at h2
    have h2 : t / 2 ^ 63 = 1 := h2
    omega
  · rw [h3] at h2
    have h2 : t / 2 ^ 63 = 0 := h2
    omega
theorem uN_xor (x : Int64) : uN (x ^^^ (-9223372036854775808)) = (uN x + 9223372036854775808) % 18446744073709551616 := by
  rw [← nat_xor (uN_lt x)]
  exact UInt64.toNat_xor _ _
theorem uN_int (x : Int64) : x.toInt = if 2 * uN x < 18446744073709551616 then (uN x : Int) else (uN x : Int) - 18446744073709551616 := BitVec.toInt_eq_toNat_cond _
theorem uN_le (x y : Int64) : (x ^^^ (-9223372036854775808)) ≤ (y ^^^ (-9223372036854775808)) ↔ uN x ≤ uN y := by
  have hx := uN_lt x
  have hy := uN_lt y
  rw [Int64.le_iff_toInt_le, uN_int, uN_int, uN_xor, uN_xor]
  omega
theorem uN_sk (x : Int64) {k : Nat} (hk : k < 64) : uN (x.toUInt64 >>> ((nI k).toInt64.toUInt64 &&& Int64.toUInt64 63)).toInt64 = uN x / 2 ^ k := by
  have h : ((nI k).toInt64.toUInt64 &&& Int64.toUInt64 63).toNat % 64 = k := by
    rw [nI_l (by omega), UInt64.toNat_and]
    have e : (lN k).toUInt64.toNat = k % 2 ^ 64 := rfl
    have e2 : (Int64.toUInt64 63).toNat = 2 ^ 6 - 1 := by decide
    rw [e, e2, Nat.and_two_pow_sub_one_eq_mod]
    omega
  rw [uN_shr, h]
/-! ===== unsigned comparison by xor with the least ===== -/
theorem lN_bv (n : Nat) : (lN n).toBitVec = BitVec.ofNat 64 n := rfl
theorem lN_nat {n : Nat} (h : n < 2 ^ 64) : (lN n).toBitVec.toNat = n := by rw [lN_bv, BitVec.toNat_ofNat]; exact Nat.mod_eq_of_lt h
theorem lN_xor (a b : Nat) : lN a ^^^ lN b = lN (a ^^^ b) := by
  apply Int64.toBitVec_inj.mp; rw [Int64.toBitVec_xor, lN_bv, lN_bv, lN_bv]; apply BitVec.eq_of_getLsbD_eq; intro i hi; simp [BitVec.getLsbD_ofNat, Nat.testBit_xor, hi]
theorem lN_ti {m : Nat} (h : m < 2 ^ 64) : (lN m).toInt = if m < 2 ^ 63 then (m : Int) else (m : Int) - 2 ^ 64 := by
  have c := BitVec.toInt_eq_toNat_cond (lN m).toBitVec
  rw [lN_nat h] at c
  show (lN m).toBitVec.toInt = _
  rw [c]
  split <;> split <;> omega
theorem xor63 {x : Nat} (h : x < 2 ^ 63) : x ^^^ 2 ^ 63 = 2 ^ 63 + x := by
  apply Nat.eq_of_testBit_eq
  intro i
  rw [Nat.testBit_xor, Nat.testBit_two_pow]
  rcases Nat.lt_trichotomy i 63 with z | z | z
  · rw [Nat.testBit_two_pow_add_gt z, decide_eq_false (by omega)]; simp
  · subst z; rw [Nat.testBit_two_pow_add_eq]; simp
  · have hp : 2 ^ 64 ≤ 2 ^ i := Nat.pow_le_pow_right (by decide) z
    rw [Nat.testBit_lt_two_pow (show x < 2 ^ i by omega), Nat.testBit_lt_two_pow (show 2 ^ 63 + x < 2 ^ i by omega), decide_eq_false (by omega)]; rfl
theorem xorS {a : Nat} (h : a < 2 ^ 64) : (lN a ^^^ (-9223372036854775808)).toInt = (a : Int) - 2 ^ 63 := by
  rw [show (-9223372036854775808 : Int64) = lN (2 ^ 63) from by decide +kernel, lN_xor]
  rcases Nat.lt_or_ge a (2 ^ 63) with z | z
  · rw [xor63 z, lN_ti (by omega), if_neg (by omega)]; omega
  · obtain ⟨x, rfl⟩ : ∃ x, a = 2 ^ 63 + x := ⟨a - 2 ^ 63, by omega⟩
    rw [← xor63 (by omega), Nat.xor_assoc, Nat.xor_self, Nat.xor_zero, lN_ti (by omega), if_pos (by omega), xor63 (by omega)]; omega
theorem ultL {a b : Nat} (ha : a < 2 ^ 64) (hb : b < 2 ^ 64) : ((lN b ^^^ (-9223372036854775808)) ≤ (lN a ^^^ (-9223372036854775808))) ↔ b ≤ a := by
  rw [Int64.le_iff_toInt_le, xorS ha, xorS hb]; omega
/-! ===== Int64 masks of n low bits ===== -/
theorem cr_bits (W U M : BitVec 64) : ((W &&& U) &&& (U &&& (M ^^^ BitVec.allOnes 64))) = 0#64 ↔ (W &&& U) &&& M = W &&& U := by
  constructor
  · intro h
    apply BitVec.eq_of_getLsbD_eq
    intro i hi
    have e := congrArg (fun x => BitVec.getLsbD x i) h
    simp only [BitVec.getLsbD_and, BitVec.getLsbD_xor, BitVec.getLsbD_allOnes, BitVec.getLsbD_zero, hi, decide_true] at e ⊢
    revert e
    cases W.getLsbD i <;> cases U.getLsbD i <;> cases M.getLsbD i <;> decide
  · intro h
    apply BitVec.eq_of_getLsbD_eq
    intro i hi
    have e := congrArg (fun x => BitVec.getLsbD x i) h
    simp only [BitVec.getLsbD_and, BitVec.getLsbD_xor, BitVec.getLsbD_allOnes, BitVec.getLsbD_zero, hi, decide_true] at e ⊢
    revert e
    cases W.getLsbD i <;> cases U.getLsbD i <;> cases M.getLsbD i <;> decide
theorem cr_mask (w U m : Int64) (n : Nat) (hm : m.toBitVec.toNat = 2 ^ n - 1) : ((w &&& U) &&& (U &&& (m ^^^ (-1)))) = 0 ↔ (w &&& U).toBitVec.toNat < 2 ^ n := by
  have e0 : (-1 : Int64).toBitVec = BitVec.allOnes 64 := by decide
  have z0 : (0 : Int64).toBitVec = 0#64 := by decide
  rw [← Int64.toBitVec_inj, z0, Int64.toBitVec_and, Int64.toBitVec_and, Int64.toBitVec_and, Int64.toBitVec_xor, e0, cr_bits]
  generalize w.toBitVec &&& U.toBitVec = T
  rw [← BitVec.toNat_inj, BitVec.toNat_and, hm, Nat.and_two_pow_sub_one_eq_mod]
  constructor
  · intro h
    have t := Nat.mod_lt T.toNat (Nat.two_pow_pos n)
    rw [h] at t
    exact t
  · exact Nat.mod_eq_of_lt
theorem cr_shr (t : Int64) (x : UInt64) (n : Nat) (hx : x.toNat % 64 = n) : (t.toUInt64 >>> x).toInt64 = 0 ↔ t.toBitVec.toNat < 2 ^ n := by
  rw [← Int64.toBitVec_inj, ← BitVec.toNat_inj]
  show (t.toUInt64 >>> x).toNat = 0 ↔ t.toUInt64.toNat < 2 ^ n
  rw [UInt64.toNat_shiftRight, hx, Nat.shiftRight_eq_div_pow]
  constructor
  · intro h
    have d : t.toUInt64.toNat / 2 ^ n < 1 := by
      rw [h]
      decide
    have e := (Nat.div_lt_iff_lt_mul (Nat.two_pow_pos n)).mp d
    rw [Nat.one_mul] at e
    exact e
  · exact Nat.div_eq_of_lt
theorem cr_amt (s : Int64) : ∃ n, n < 64 ∧ s &&& 63 = lN n ∧ (s.toUInt64 &&& Int64.toUInt64 63).toNat % 64 = n := by
  have e : (s.toUInt64 &&& Int64.toUInt64 63).toNat = s.toUInt64.toNat % 2 ^ 6 := by
    rw [UInt64.toNat_and, show (Int64.toUInt64 63).toNat = 2 ^ 6 - 1 from by decide, Nat.and_two_pow_sub_one_eq_mod]
  refine ⟨s.toUInt64.toNat % 2 ^ 6, by omega, ?_, by omega⟩
  rw [← Int64.toBitVec_inj, ← BitVec.toNat_inj]
  show (s.toUInt64 &&& Int64.toUInt64 63).toNat = (BitVec.ofNat 64 (s.toUInt64.toNat % 2 ^ 6)).toNat
  rw [e, BitVec.toNat_ofNat]
  omega
end
section
section YT
theorem ya_tab : ∀ v, v < 5 → ∀ e, e < 4 → ∀ t, t < 1024 → (nI t &&& (((3 : Int32) <<< ((2 * nI v) &&& 31)) ^^^ (-1))) ||| (nI e <<< ((2 * nI v) &&& 31)) = nI (t - t / 4 ^ v % 4 * 4 ^ v + e * 4 ^ v) := by decide +kernel
end YT
end
section
section OT_base
/-! numbers, arrays of numbers, arrays of numbers or none -/
def ot_n (h : Nat → Nat) : Nat → Int32 := fun i => nI (h i)
def ot_i (x : Option Nat) : Int32 := match x with
  | none => -1
  | some y => nI y
theorem ot_is (y : Nat) : ot_i (some y) = nI y := rfl
theorem ot_in : ot_i none = -1 := rfl
def ot_o (h : Nat → Option Nat) : Nat → Int32 := fun i => ot_i (h i)
def ot_u {α : Type} (f : Nat → α) (k : Nat) (x : α) : Nat → α := fun j => if j = k then x else f j
def ot_pw (V D : Nat) : Nat → Nat := fun v => if v < V then D ^ v else 0
theorem ot_us {α : Type} {f : Nat → α} {k : Nat} {x : α} : ot_u f k x k = x := if_pos rfl
theorem ot_un {α : Type} {f : Nat → α} {k j : Nat} {x : α} (h : j ≠ k) : ot_u f k x j = f j := if_neg h
theorem ot_upd (h : Nat → Nat) (k x : Nat) : upd (ot_n h) k (nI x) = ot_n (ot_u h k x) := by
  funext j
  unfold upd ot_n ot_u
  split <;> rfl
theorem ot_updo (h : Nat → Option Nat) (k : Nat) (x : Option Nat) : upd (ot_o h) k (ot_i x) = ot_o (ot_u h k x) := by
  funext j
  unfold upd ot_o ot_u
  split <;> rfl
theorem ot_upd' (h : Nat → Nat) {k x : Nat} {y : Int32} {z : Nat} (hz : z = k) (hy : y = nI x) : upd (ot_n h) z y = ot_n (ot_u h k x) := by
  rw [hz, hy, ot_upd]
theorem ot_updo' (h : Nat → Option Nat) {k : Nat} {x : Option Nat} {y : Int32} {z : Nat} (hz : z = k) (hy : y = ot_i x) : upd (ot_o h) z y = ot_o (ot_u h k x) := by
  rw [hz, hy, ot_updo]
theorem ot_r (h : Nat → Nat) {i : Nat} (hi : i < 2 ^ 31) : ot_n h (nI i).toNatClampNeg = nI (h i) := by
  rw [nI_clamp hi]; rfl
theorem ot_ro (h : Nat → Option Nat) {i : Nat} (hi : i < 2 ^ 31) : ot_o h (nI i).toNatClampNeg = ot_i (h i) := by
  rw [nI_clamp hi]; rfl
theorem ot_z : (fun _ => 0 : Nat → Int32) = ot_n (fun _ => 0) := rfl
theorem ot_zo : (fun _ => 0 : Nat → Int32) = ot_o (fun _ => some 0) := rfl
theorem ot_m2 (a : Nat) : (2 : Int32) * nI a = nI (2 * a) := pk_mul 2 a
theorem ot_m4 (a : Nat) : (4 : Int32) * nI a = nI (4 * a) := pk_mul 4 a
theorem ot_m5 (a : Nat) : (5 : Int32) * nI a = nI (5 * a) := pk_mul 5 a
theorem ot_m10 (a : Nat) : (10 : Int32) * nI a = nI (10 * a) := pk_mul 10 a
theorem ot_m20 (a : Nat) : (20 : Int32) * nI a = nI (20 * a) := pk_mul 20 a
theorem ot_ix4 (a x : Nat) : (4 : Int32) * nI a + nI x = nI (4 * a + x) := by rw [ot_m4, nI_add]
theorem ot_ix5 (a x : Nat) : (5 : Int32) * nI a + nI x = nI (5 * a + x) := by rw [ot_m5, nI_add]
theorem ot_ix10 (a x : Nat) : (10 : Int32) * nI a + nI x = nI (10 * a + x) := by rw [ot_m10, nI_add]
theorem ot_ix20 (a x : Nat) : (20 : Int32) * nI a + nI x = nI (20 * a + x) := by rw [ot_m20, nI_add]
theorem ot_d4 {a : Nat} (h : a < 2 ^ 31) : nI a / 4 = nI (a / 4) := pk_div (d := 4) h (by omega) (by omega)
theorem ot_r4 {a : Nat} (h : a < 2 ^ 31) : nI a - nI a / 4 * 4 = nI (a % 4) := pk_rem (d := 4) h (by omega) (by omega)
theorem ot_d10 {a : Nat} (h : a < 2 ^ 31) : nI a / 10 = nI (a / 10) := pk_div (d := 10) h (by omega) (by omega)
theorem ot_r10 {a : Nat} (h : a < 2 ^ 31) : nI a - nI a / 10 * 10 = nI (a % 10) := pk_rem (d := 10) h (by omega) (by omega)
theorem ot_d20 {a : Nat} (h : a < 2 ^ 31) : nI a / 20 = nI (a / 20) := pk_div (d := 20) h (by omega) (by omega)
theorem ot_r20 {a : Nat} (h : a < 2 ^ 31) : nI a - nI a / 20 * 20 = nI (a % 20) := pk_rem (d := 20) h (by omega) (by omega)
theorem ot_n4 : ¬ (4 : Int32) = 0 := by decide
theorem ot_n2 : ¬ (2 : Int32) = 0 := by decide
theorem ot_n10 : ¬ (10 : Int32) = 0 := by decide
theorem ot_n20 : ¬ (20 : Int32) = 0 := by decide
theorem ot_ne1 {a : Nat} (h : a < 2 ^ 31) : ¬ nI a = -1 := by
  intro e
  have h1 := nI_pos (n := a) h
  rw [e] at h1
  exact h1 (by decide)
theorem ot_vb0 : vp_nar .boolean 0 = 0 := by decide
theorem ot_vb1 : vp_nar .boolean 1 = 1 := by decide
theorem ot_10 : ¬ (1 : Int32) = 0 := by decide
theorem ot_e01 {x : Int32} {A B : Prop} (p : Prop) (hx0 : ¬ p → x = 0) (hx1 : p → x = 1) (f : ¬ p → A) (g : p → B) : (x = 0 → A) ∧ (¬ x = 0 → B) := by
  refine ⟨fun e => f (fun h => ?_), fun e => g (Classical.byContradiction fun h => e (hx0 h))⟩
  rw [hx1 h] at e
  exact ot_10 e
/-- an 'if' over any statement -/
noncomputable def ot_if {α : Type} (p : Prop) (a b : α) : α := @ite α p (Classical.propDecidable p) a b
theorem ot_ift {α : Type} {p : Prop} {a b : α} (h : p) : ot_if p a b = a := by
  unfold ot_if; exact if_pos h
theorem ot_iff {α : Type} {p : Prop} {a b : α} (h : ¬ p) : ot_if p a b = b := by
  unfold ot_if; exact if_neg h
/-- branch on an option's code against -1 -/
theorem ot_bo {A B : Prop} (x : Option Nat) (hx : ∀ y, x = some y → y < 2 ^ 31) (f : x = none → A) (g : ∀ y, x = some y → B) : (ot_i x = -1 → A) ∧ (¬ ot_i x = -1 → B) := by
  cases x with
  | none => exact ⟨fun _ => f rfl, fun h => absurd rfl h⟩
  | some y => exact ⟨fun h => absurd h (ot_ne1 (hx y rfl)), fun _ => g y rfl⟩
/-- branch on an option's code against 0 -/
theorem ot_bl {A B : Prop} (x : Option Nat) (hx : ∀ y, x = some y → y < 2 ^ 31) (f : x = none → A) (g : ∀ y, x = some y → B) : (ot_i x < 0 → A) ∧ (¬ ot_i x < 0 → B) := by
  cases x with
  | none => exact ⟨fun _ => f rfl, fun h => absurd (show (-1 : Int32) < 0 by decide) h⟩
  | some y => exact ⟨fun h => absurd h (nI_pos (hx y rfl)), fun _ => g y rfl⟩
theorem ot_b0 {A B : Prop} (x : Option Nat) (hx : ∀ y, x = some y → y < 2 ^ 31) (f : x = none → A) (g : ∀ y, x = some y → B) : (0 ≤ ot_i x → B) ∧ (¬ 0 ≤ ot_i x → A) := by
  cases x with
  | none => exact ⟨fun h => absurd h (show ¬ (0 : Int32) ≤ -1 by decide), fun _ => f rfl⟩
  | some y => exact ⟨fun _ => g y rfl, fun h => absurd (nI_pos' (hx y rfl)) h⟩
theorem ot_iinj {x y : Option Nat} (hx : ∀ z, x = some z → z < 2 ^ 31) (hy : ∀ z, y = some z → z < 2 ^ 31) : ot_i x = ot_i y ↔ x = y := by
  cases x with
  | none =>
    cases y with
    | none => exact ⟨fun _ => rfl, fun _ => rfl⟩
    | some b => exact ⟨fun h => absurd h.symm (ot_ne1 (hy b rfl)), (fun h => nomatch h)⟩
  | some a =>
    cases y with
    | none => exact ⟨fun h => absurd h (ot_ne1 (hx a rfl)), (fun h => nomatch h)⟩
    | some b => exact ⟨fun h => congrArg some ((nI_eq (hx a rfl) (hy b rfl)).mp h), fun h => by rw [h]⟩
end OT_base
section CT
/-! counts below a number -/
def ct_n (p : Nat → Bool) : Nat → Nat
  | 0 => 0
  | n + 1 => ct_n p n + (if p n = true then 1 else 0)
theorem ct_s (p : Nat → Bool) (n : Nat) : ct_n p (n + 1) = ct_n p n + (if p n = true then 1 else 0) := rfl
theorem ct_le (p : Nat → Bool) : ∀ n, ct_n p n ≤ n := by
  intro n
  induction n with
  | zero => exact Nat.le_refl 0
  | succ n ih => rw [ct_s]; split <;> omega
theorem ct_mono {p q : Nat → Bool} : ∀ n, (∀ t, t < n → p t = true → q t = true) → ct_n p n ≤ ct_n q n := by
  intro n
  induction n with
  | zero => intro _; exact Nat.le_refl 0
  | succ n ih =>
    intro h
    have h1 := ih (fun t ht => h t (by omega))
    rw [ct_s, ct_s]
    by_cases e : p n = true
    · rw [if_pos e, if_pos (h n (by omega) e)]; omega
    · rw [if_neg e]; omega
theorem ct_ext {p q : Nat → Bool} {n : Nat} (h : ∀ t, t < n → p t = q t) : ct_n p n = ct_n q n :=
  Nat.le_antisymm (ct_mono n fun t ht e => by rw [← h t ht]; exact e) (ct_mono n fun t ht e => by rw [h t ht]; exact e)
theorem ct_lt {p q : Nat → Bool} : ∀ n, (∀ t, t < n → p t = true → q t = true) → ∀ k, k < n → p k = false → q k = true → ct_n p n < ct_n q n := by
  intro n
  induction n with
  | zero => intro _ k hk; omega
  | succ n ih =>
    intro h k hk hp hq
    rw [ct_s, ct_s]
    by_cases e : k = n
    · subst e
      have h1 := ct_mono k (fun t ht => h t (by omega))
      rw [hp, if_neg (by decide), if_pos hq]; omega
    · have h1 := ih (fun t ht => h t (by omega)) k (by omega) hp hq
      by_cases e2 : p n = true
      · rw [if_pos e2, if_pos (h n (by omega) e2)]; omega
      · rw [if_neg e2]; omega
theorem ct_full : ∀ n, ct_n (fun _ => true) n = n := by
  intro n
  induction n with
  | zero => rfl
  | succ n ih => rw [ct_s, ih, if_pos rfl]
theorem ct_ltn {p : Nat → Bool} {n k : Nat} (hk : k < n) (hp : p k = false) : ct_n p n < n := by
  have h := ct_lt (p := p) (q := fun _ => true) n (fun _ _ _ => rfl) k hk hp rfl
  rw [ct_full] at h; exact h
theorem ct_add {p q : Nat → Bool} : ∀ n k, k < n → p k = false → q k = true → (∀ t, t < n → t ≠ k → q t = p t) → ct_n q n = ct_n p n + 1 := by
  intro n
  induction n with
  | zero => intro k hk; omega
  | succ n ih =>
    intro k hk hp hq h
    rw [ct_s, ct_s]
    by_cases e : k = n
    · subst e
      have h1 := ct_ext (n := k) (fun t ht => h t (by omega) (by omega))
      rw [hp, hq, if_pos rfl, if_neg (by decide), h1]
    · have h1 := ih k (by omega) hp hq (fun t ht => h t (by omega))
      rw [h1, h n (by omega) (fun h => e h.symm)]; omega
theorem ct_zero {p : Nat → Bool} {n : Nat} (h : ∀ t, t < n → p t = false) : ct_n p n = 0 := by
  have h1 := ct_ext (p := p) (q := fun _ => false) h
  rw [h1]
  clear h1 h
  induction n with
  | zero => rfl
  | succ n ih => rw [ct_s, ih, if_neg (by decide)]
theorem ct_tail {p : Nat → Bool} {m : Nat} : ∀ n, m ≤ n → (∀ t, m ≤ t → t < n → p t = false) → ct_n p n = ct_n p m := by
  intro n
  induction n with
  | zero => intro h _; have : m = 0 := by omega
            rw [this]
  | succ n ih =>
    intro h h2
    by_cases e : m = n + 1
    · rw [e]
    · rw [ct_s, h2 n (by omega) (by omega), if_neg (by decide), ih (by omega) (fun t a b => h2 t a (by omega))]; rfl
/-- a count through a rising map that meets all that is counted -/
theorem ct_map {p : Nat → Bool} {e : Nat → Nat} : ∀ (M T : Nat), (∀ a b, a < b → b < M → e a < e b) → (∀ a, a < M → e a < T) → (∀ t, t < T → p t = true → ∃ a, a < M ∧ t = e a) → ct_n p T = ct_n (fun a => p (e a)) M := by
  intro M
  induction M with
  | zero =>
    intro T _ _ h
    refine ct_zero (fun t ht => ?_)
    cases h1 : p t with
    | false => rfl
    | true =>
      obtain ⟨a, ha, _⟩ := h t ht h1
      omega
  | succ M ih =>
    intro T hm hl h
    have h1 : ct_n p T = ct_n p (e M + 1) := by
      refine ct_tail T (hl M (by omega)) (fun t a b => ?_)
      cases h1 : p t with
      | false => rfl
      | true =>
        obtain ⟨x, hx, ex⟩ := h t b h1
        by_cases c : x = M
        · subst c; omega
        · have := hm x M (by omega) (by omega)
          omega
    rw [h1, ct_s, ct_s, ih (e M) (fun a b x y => hm a b x (by omega)) (fun a ha => hm a M ha (by omega)) (fun t ht hp => ?_)]
    obtain ⟨x, hx, ex⟩ := h t (by have := hl M (by omega); omega) hp
    refine ⟨x, ?_, ex⟩
    by_cases c : x = M
    · subst c; omega
    · omega
end CT
end
section
section CD
/-! numbers by their digits -/
def cd_c (B : Nat) (f : Nat → Nat) : Nat → Nat
  | 0 => 0
  | V + 1 => cd_c B f V + f V * B ^ V
def cd_d (B s v : Nat) : Nat := s / B ^ v % B
theorem cd_s (B : Nat) (f : Nat → Nat) (V : Nat) : cd_c B f (V + 1) = cd_c B f V + f V * B ^ V := rfl
theorem cd_lt {B : Nat} {f : Nat → Nat} : ∀ V, (∀ v, v < V → f v < B) → cd_c B f V < B ^ V := by
  intro V
  induction V with
  | zero => intro _; exact Nat.lt_of_lt_of_eq Nat.one_pos (Nat.pow_zero B).symm
  | succ V ih =>
    intro h
    have h1 := ih (fun v hv => h v (by omega))
    have h2 := h V (by omega)
    rw [cd_s, Nat.pow_succ, Nat.mul_comm (B ^ V) B]
    have h3 : (f V + 1) * B ^ V ≤ B * B ^ V := Nat.mul_le_mul_right _ h2
    rw [Nat.add_mul, Nat.one_mul] at h3
    omega
theorem cd_ext {B : Nat} {f g : Nat → Nat} : ∀ V, (∀ v, v < V → f v = g v) → cd_c B f V = cd_c B g V := by
  intro V
  induction V with
  | zero => intro _; rfl
  | succ V ih =>
    intro h
    rw [cd_s, cd_s, ih (fun v hv => h v (by omega)), h V (by omega)]
theorem cd_dg {B : Nat} (hB : 0 < B) {f : Nat → Nat} : ∀ V, (∀ v, v < V → f v < B) → ∀ v, v < V → cd_d B (cd_c B f V) v = f v := by
  intro V
  induction V with
  | zero => intro _ v hv; omega
  | succ V ih =>
    intro h v hv
    have hp : 0 < B ^ v := Nat.pow_pos hB
    unfold cd_d
    rw [cd_s]
    by_cases e : v = V
    · subst e
      rw [Nat.add_mul_div_right _ _ hp, Nat.div_eq_of_lt (cd_lt v (fun w hw => h w (by omega))), Nat.zero_add, Nat.mod_eq_of_lt (h v (by omega))]
    · obtain ⟨k, rfl⟩ : ∃ k, V = v + 1 + k := ⟨V - v - 1, by omega⟩
      have e2 : f (v + 1 + k) * B ^ (v + 1 + k) = (f (v + 1 + k) * B ^ k * B) * B ^ v := by
        rw [Nat.pow_add, Nat.pow_succ]; ac_rfl
      rw [e2, Nat.add_mul_div_right _ _ hp, Nat.add_mul_mod_self_right]
      exact ih (fun w hw => h w (by omega)) v (by omega)
theorem cd_of (B s : Nat) : ∀ V, cd_c B (cd_d B s) V = s % B ^ V := by
  intro V
  induction V with
  | zero => rw [Nat.pow_zero, Nat.mod_one]; rfl
  | succ V ih =>
    rw [cd_s, ih, Nat.mod_pow_succ, Nat.mul_comm (B ^ V)]; rfl
theorem cd_of' {B s V : Nat} (h : s < B ^ V) : cd_c B (cd_d B s) V = s := by
  rw [cd_of, Nat.mod_eq_of_lt h]
theorem cd_dl {B : Nat} (hB : 0 < B) (s v : Nat) : cd_d B s v < B := Nat.mod_lt _ hB
theorem cd_inj {B s t V : Nat} (hs : s < B ^ V) (ht : t < B ^ V) (h : ∀ v, v < V → cd_d B s v = cd_d B t v) : s = t := by
  rw [← cd_of' hs, ← cd_of' ht]; exact cd_ext V h
theorem cd_upd {B : Nat} {f : Nat → Nat} {v e : Nat} : ∀ V, v < V → cd_c B (ot_u f v e) V + f v * B ^ v = cd_c B f V + e * B ^ v := by
  intro V
  induction V with
  | zero => intro h; omega
  | succ V ih =>
    intro h
    rw [cd_s, cd_s]
    by_cases c : v = V
    · subst c
      rw [ot_us, cd_ext (f := ot_u f v e) (g := f) v (fun w hw => ot_un (by omega))]
      omega
    · rw [ot_un (fun h => c h.symm)]
      have := ih (by omega)
      omega
theorem cd_add {B : Nat} {f g : Nat → Nat} : ∀ V, cd_c B f V + cd_c B g V = cd_c B (fun v => f v + g v) V := by
  intro V
  induction V with
  | zero => rfl
  | succ V ih => rw [cd_s, cd_s, cd_s, ← ih, Nat.add_mul]; omega
theorem cd_mono {B C : Nat} {f g : Nat → Nat} : ∀ V, (∀ v, v < V → f v < B) → (∀ v, v < V → g v < B) → (∀ v, v < V → f v < C) → cd_c B f V < cd_c B g V → cd_c C f V < cd_c C g V := by
  intro V
  induction V with
  | zero => intro _ _ _ h; exact absurd h (Nat.lt_irrefl 0)
  | succ V ih =>
    intro hf hg hC h
    rw [cd_s, cd_s] at h ⊢
    have l1 := cd_lt (B := B) (f := f) V (fun v hv => hf v (by omega))
    have l2 := cd_lt (B := B) (f := g) V (fun v hv => hg v (by omega))
    have l3 := cd_lt (B := C) (f := f) V (fun v hv => hC v (by omega))
    rcases Nat.lt_trichotomy (f V) (g V) with a | a | a
    · have h3 : (f V + 1) * C ^ V ≤ g V * C ^ V := Nat.mul_le_mul_right _ a
      rw [Nat.add_mul, Nat.one_mul] at h3
      omega
    · rw [a] at h ⊢
      have := ih (fun v hv => hf v (by omega)) (fun v hv => hg v (by omega)) (fun v hv => hC v (by omega)) (by omega)
      omega
    · have h3 : (g V + 1) * B ^ V ≤ f V * B ^ V := Nat.mul_le_mul_right _ a
      rw [Nat.add_mul, Nat.one_mul] at h3
      omega
end CD
section GR
/-! states of X (base D), their codes of Y (base 4), steps, goals -/
def gr_e (V D s : Nat) : Nat := cd_c 4 (cd_d D s) V
theorem gr_el {V D s : Nat} (hD : 2 ≤ D) (hD4 : D ≤ 4) : gr_e V D s < 4 ^ V :=
  cd_lt V (fun v _ => Nat.lt_of_lt_of_le (cd_dl (by omega) s v) hD4)
theorem gr_ed {V D s v : Nat} (hD : 2 ≤ D) (hD4 : D ≤ 4) (hv : v < V) : cd_d 4 (gr_e V D s) v = cd_d D s v :=
  cd_dg (by omega) V (fun w _ => Nat.lt_of_lt_of_le (cd_dl (by omega) s w) hD4) v hv
theorem gr_em {V D : Nat} (hD : 2 ≤ D) (hD4 : D ≤ 4) (a b : Nat) (h : a < b) (hb : b < D ^ V) : gr_e V D a < gr_e V D b := by
  refine cd_mono (B := D) (C := 4) V (fun v _ => cd_dl (by omega) a v) (fun v _ => cd_dl (by omega) b v) (fun v _ => Nat.lt_of_lt_of_le (cd_dl (by omega) a v) hD4) ?_
  rw [cd_of' hb, cd_of' (by omega)]; exact h
theorem gr_ei {V D : Nat} (hD : 2 ≤ D) (hD4 : D ≤ 4) {a b : Nat} (ha : a < D ^ V) (hb : b < D ^ V) (h : gr_e V D a = gr_e V D b) : a = b := by
  rcases Nat.lt_trichotomy a b with c | c | c
  · have := gr_em hD hD4 a b c hb; omega
  · exact c
  · have := gr_em hD hD4 b a c ha; omega
theorem gr_eo {V D t : Nat} (hD : 2 ≤ D) (ht : t < 4 ^ V) (h : ∀ v, v < V → cd_d 4 t v < D) : ∃ s, s < D ^ V ∧ t = gr_e V D s := by
  refine ⟨cd_c D (cd_d 4 t) V, cd_lt V h, ?_⟩
  unfold gr_e
  rw [cd_ext (g := cd_d 4 t) V (fun v hv => cd_dg (by omega) V h v hv), cd_of' ht]
def gr_ok (V D : Nat) (ne : Nat → Option Nat) (s o : Nat) : Prop := ∀ v, v < V → ∀ x, ne (5 * o + v) = some x → x = cd_d D s v
def gr_t (V D : Nat) (ef : Nat → Option Nat) (s o : Nat) : Nat := cd_c D (fun v => (ef (5 * o + v)).getD (cd_d D s v)) V
noncomputable def gr_s (V D : Nat) (ne ef : Nat → Option Nat) (s o : Nat) : Option Nat := ot_if (gr_ok V D ne s o) (some (gr_t V D ef s o)) none
def gr_g (V D : Nat) (g : Nat → Option Nat) (s : Nat) : Prop := ∀ v, v < V → ∀ x, g v = some x → x = cd_d D s v
/-- the task is well formed -/
def gr_T (V D N : Nat) (c b : Nat → Nat) (ne ef g : Nat → Option Nat) : Prop :=
  (1 ≤ V ∧ V ≤ 5) ∧ (2 ≤ D ∧ D ≤ 4) ∧ N ≤ 10 ∧ (∀ o, o < N → c o ≤ 9) ∧ (∀ v, v < V → b v < D) ∧
  (∀ o, o < N → ∀ v, v < V → ∀ x, ne (5 * o + v) = some x → x < D) ∧
  (∀ o, o < N → ∀ v, v < V → ∀ x, ef (5 * o + v) = some x → x < D) ∧
  (∀ v, v < V → ∀ x, g v = some x → x < D)
theorem gr_st {V D : Nat} {ne ef : Nat → Option Nat} {s o : Nat} (h : gr_ok V D ne s o) : gr_s V D ne ef s o = some (gr_t V D ef s o) := ot_ift h
theorem gr_sf {V D : Nat} {ne ef : Nat → Option Nat} {s o : Nat} (h : ¬ gr_ok V D ne s o) : gr_s V D ne ef s o = none := ot_iff h
theorem gr_si {V D : Nat} {ne ef : Nat → Option Nat} {s o p : Nat} (h : gr_s V D ne ef s o = some p) : gr_ok V D ne s o ∧ p = gr_t V D ef s o := by
  by_cases k : gr_ok V D ne s o
  · rw [gr_st k] at h
    exact ⟨k, (Option.some.inj h).symm⟩
  · rw [gr_sf k] at h
    exact nomatch h
theorem gr_td {V D : Nat} {ef : Nat → Option Nat} {s o : Nat} (hD : 2 ≤ D) (hef : ∀ v, v < V → ∀ x, ef (5 * o + v) = some x → x < D) (v : Nat) (hv : v < V) : (ef (5 * o + v)).getD (cd_d D s v) < D := by
  cases h : ef (5 * o + v) with
  | none => exact cd_dl (by omega) s v
  | some x => exact hef v hv x h
theorem gr_tl {V D : Nat} {ef : Nat → Option Nat} {s o : Nat} (hD : 2 ≤ D) (hef : ∀ v, v < V → ∀ x, ef (5 * o + v) = some x → x < D) : gr_t V D ef s o < D ^ V :=
  cd_lt V (gr_td hD hef)
theorem gr_M {V D : Nat} (hV : V ≤ 5) (hD : D ≤ 4) : D ^ V ≤ 1024 :=
  Nat.le_trans (Nat.pow_le_pow_left hD V) (Nat.pow_le_pow_right (n := 4) (by omega) hV)
theorem gr_M4 {V : Nat} (hV : V ≤ 5) : 4 ^ V ≤ 1024 := Nat.pow_le_pow_right (n := 4) (by omega) hV
end GR
end
section
section LB
/-! labels: key = cost * 2048 + steps; 2048000000: far -/
variable {M N : Nat} {stp : Nat → Nat → Option Nat} {c : Nat → Nat} {gl : Nat → Prop} {L L1 L2 : Nat → Nat}
def lb_P (M N : Nat) (stp : Nat → Nat → Option Nat) (c : Nat → Nat) (L : Nat → Nat) (s k : Nat) : Prop := ∃ o p, o < N ∧ p < M ∧ stp s o = some p ∧ L p + (c o * 2048 + 1) ≤ k
def lb_A (M N : Nat) (stp : Nat → Nat → Option Nat) (c : Nat → Nat) (gl : Nat → Prop) (L : Nat → Nat) (s : Nat) : Prop :=
  ((gl s ∧ L s = 0) ∨ lb_P M N stp c L s (L s)) ∧ L s % 2048 ≤ ct_n (fun t => decide (L t < L s)) M ∧ L s / 2048 ≤ 9 * (L s % 2048)
def lb_I (M N : Nat) (stp : Nat → Nat → Option Nat) (c : Nat → Nat) (gl : Nat → Prop) (L : Nat → Nat) : Prop :=
  ∀ s, s < M → L s ≤ 2048000000 ∧ (L s < 2048000000 → lb_A M N stp c gl L s)
def lb_C (M N : Nat) (stp : Nat → Nat → Option Nat) (c : Nat → Nat) (gl : Nat → Prop) (L : Nat → Nat) : Prop :=
  ∀ s, s < M → (gl s → L s = 0) ∧ ∀ o, o < N → ∀ p, stp s o = some p → L p < 2048000000 → L s ≤ L p + (c o * 2048 + 1)
theorem lb_st (hM : M ≤ 1024) (hI : lb_I M N stp c gl L) {s : Nat} (hs : s < M) (hf : L s < 2048000000) : L s % 2048 < 1024 := by
  have h1 := ((hI s hs).2 hf).2.1
  have h2 : ct_n (fun t => decide (L t < L s)) M < M := ct_ltn hs (decide_eq_false (Nat.lt_irrefl _))
  omega
theorem lb_le (hM : M ≤ 1024) (hI : lb_I M N stp c gl L) {s : Nat} (hs : s < M) (hf : L s < 2048000000) : L s ≤ 18857983 := by
  have h1 := lb_st hM hI hs hf
  have h2 := ((hI s hs).2 hf).2.2
  omega
theorem lb_upd (hM : M ≤ 1024) (hI : lb_I M N stp c gl L) {s o p : Nat} (hs : s < M) (ho : o < N) (hp : p < M) (hc : c o ≤ 9) (he : stp s o = some p) (hf : L p < 2048000000) (hb : L p + (c o * 2048 + 1) < L s) : lb_I M N stp c gl (ot_u L s (L p + (c o * 2048 + 1))) := by
  have hst := lb_st hM hI hp hf
  have hpa := (hI p hp).2 hf
  have hns : p ≠ s := fun e => by rw [e] at hb; omega
  have hls := (hI s hs).1
  have hle : ∀ t, ot_u L s (L p + (c o * 2048 + 1)) t ≤ L t := fun t => by
    by_cases e : t = s
    · rw [e, ot_us]; omega
    · rw [ot_un e]; exact Nat.le_refl _
  intro u hu
  by_cases e : u = s
  · subst e
    rw [ot_us]
    refine ⟨by omega, fun _ => ?_⟩
    unfold lb_A
    rw [ot_us]
    refine ⟨Or.inr ⟨o, p, ho, hp, he, ?_⟩, ?_, ?_⟩
    · rw [ot_un hns]; exact Nat.le_refl _
    · have h1 : ct_n (fun t => decide (L t < L p)) M < ct_n (fun t => decide (ot_u L u (L p + (c o * 2048 + 1)) t < L p + (c o * 2048 + 1))) M := by
        refine ct_lt M (fun t ht h => ?_) p hp (decide_eq_false (Nat.lt_irrefl _)) ?_
        · have h2 := of_decide_eq_true h
          have h3 := hle t
          exact decide_eq_true (by omega)
        · rw [ot_un hns]; exact decide_eq_true (by omega)
      have h2 := hpa.2.1
      omega
    · have h2 := hpa.2.2
      have e1 : (L p + (c o * 2048 + 1)) / 2048 = L p / 2048 + c o := by omega
      have e2 : (L p + (c o * 2048 + 1)) % 2048 = L p % 2048 + 1 := by omega
      rw [e1, e2]
      omega
  · rw [ot_un e]
    refine ⟨(hI u hu).1, fun hf2 => ?_⟩
    have ha := (hI u hu).2 hf2
    unfold lb_A
    rw [ot_un e]
    refine ⟨?_, ?_, ha.2.2⟩
    · rcases ha.1 with g | ⟨o2, p2, a1, a2, a3, a4⟩
      · exact Or.inl g
      · exact Or.inr ⟨o2, p2, a1, a2, a3, Nat.le_trans (Nat.add_le_add_right (hle p2) _) a4⟩
    · refine Nat.le_trans ha.2.1 (ct_mono M (fun t ht h => ?_))
      have h2 := of_decide_eq_true h
      have h3 := hle t
      exact decide_eq_true (by omega)
theorem lb_upd0 (hI : lb_I M N stp c gl L) {s : Nat} (hs : s < M) (hg : gl s) : lb_I M N stp c gl (ot_u L s 0) := by
  have hle : ∀ t, ot_u L s 0 t ≤ L t := fun t => by
    by_cases e : t = s
    · rw [e, ot_us]; omega
    · rw [ot_un e]; exact Nat.le_refl _
  intro u hu
  by_cases e : u = s
  · subst e
    rw [ot_us]
    refine ⟨by omega, fun _ => ?_⟩
    unfold lb_A
    rw [ot_us]
    exact ⟨Or.inl ⟨hg, rfl⟩, Nat.zero_le _, Nat.zero_le _⟩
  · rw [ot_un e]
    refine ⟨(hI u hu).1, fun hf2 => ?_⟩
    have ha := (hI u hu).2 hf2
    unfold lb_A
    rw [ot_un e]
    refine ⟨?_, ?_, ha.2.2⟩
    · rcases ha.1 with g | ⟨o2, p2, a1, a2, a3, a4⟩
      · exact Or.inl g
      · exact Or.inr ⟨o2, p2, a1, a2, a3, Nat.le_trans (Nat.add_le_add_right (hle p2) _) a4⟩
    · refine Nat.le_trans ha.2.1 (ct_mono M (fun t ht h => ?_))
      have h2 := of_decide_eq_true h
      have h3 := hle t
      exact decide_eq_true (by omega)
theorem lb_far (h : ∀ s, s < M → L s = 2048000000) : lb_I M N stp c gl L := fun s hs => by
  rw [h s hs]
  exact ⟨Nat.le_refl _, fun h2 => absurd h2 (Nat.lt_irrefl _)⟩
/-- labels of goals and of no others -/
theorem lb_ini (h : ∀ s, s < M → (gl s ∧ L s = 0) ∨ L s = 2048000000) : lb_I M N stp c gl L := fun s hs => by
  rcases h s hs with ⟨hg, e⟩ | e
  · refine ⟨by rw [e]; omega, fun _ => ?_⟩
    unfold lb_A
    refine ⟨Or.inl ⟨hg, e⟩, by rw [e]; exact Nat.zero_le _, by rw [e]; exact Nat.zero_le _⟩
  · rw [e]
    exact ⟨Nat.le_refl _, fun h2 => absurd h2 (Nat.lt_irrefl _)⟩
theorem lb_cmp (hI : lb_I M N stp c gl L1) (hI2 : lb_I M N stp c gl L2) (hC : lb_C M N stp c gl L2) : ∀ n s, s < M → L1 s = n → L2 s ≤ L1 s := by
  intro n
  induction n using Nat.strongRecOn with
  | ind n ih =>
    intro s hs e
    by_cases hf : L1 s < 2048000000
    · rcases ((hI s hs).2 hf).1 with ⟨hg, _⟩ | ⟨o, p, ho, hp, he, hl⟩
      · rw [(hC s hs).1 hg]; exact Nat.zero_le _
      · have h1 := ih (L1 p) (by omega) p hp rfl
        have h2 := (hC s hs).2 o ho p he (by omega)
        omega
    · have := (hI2 s hs).1
      omega
theorem lb_uni (hI : lb_I M N stp c gl L1) (hC : lb_C M N stp c gl L1) (hI2 : lb_I M N stp c gl L2) (hC2 : lb_C M N stp c gl L2) {s : Nat} (hs : s < M) : L1 s = L2 s :=
  Nat.le_antisymm (lb_cmp hI2 hI hC _ s hs rfl) (lb_cmp hI hI2 hC2 _ s hs rfl)
/-- a state with steps to go has an operator that leads nearer by all that it costs -/
theorem lb_nx (hI : lb_I M N stp c gl L) (hC : lb_C M N stp c gl L) {s : Nat} (hs : s < M) (hf : L s < 2048000000) (h0 : 0 < L s % 2048) : ∃ o p, o < N ∧ p < M ∧ stp s o = some p ∧ L p + (c o * 2048 + 1) = L s := by
  rcases ((hI s hs).2 hf).1 with ⟨_, e⟩ | ⟨o, p, ho, hp, he, hl⟩
  · rw [e] at h0; exact absurd h0 (Nat.lt_irrefl _)
  · exact ⟨o, p, ho, hp, he, Nat.le_antisymm hl ((hC s hs).2 o ho p he (by omega))⟩
end LB
section RC
/-! what is reached; what comes back -/
variable {M N : Nat} {stp : Nat → Nat → Option Nat} {c : Nat → Nat} {gl : Nat → Prop} {L : Nat → Nat} {sk : Option Nat} {ok : Nat → Prop} {s0 : Nat}
def rc_R (N : Nat) (stp : Nat → Nat → Option Nat) (sk : Option Nat) (ok : Nat → Prop) (s0 t : Nat) : Prop :=
  ∀ S : Nat → Prop, (ok s0 → S s0) → (∀ a o p, S a → o < N → sk ≠ some o → stp a o = some p → ok p → S p) → S t
theorem rc_0 (h : ok s0) : rc_R N stp sk ok s0 s0 := fun _ h1 _ => h1 h
theorem rc_s {a o p : Nat} (h : rc_R N stp sk ok s0 a) (ho : o < N) (hk : sk ≠ some o) (e : stp a o = some p) (hp : ok p) : rc_R N stp sk ok s0 p :=
  fun S h1 h2 => h2 a o p (h S h1 h2) ho hk e hp
theorem rc_lt (hst : ∀ a o p, a < M → o < N → stp a o = some p → p < M) (h0 : s0 < M) {t : Nat} (h : rc_R N stp sk ok s0 t) : t < M :=
  h (fun t => t < M) (fun _ => h0) (fun a o p ha ho _ e _ => hst a o p ha ho e)
/-- a finite label says that a goal is reached, and the other way round -/
theorem rc_fin (hM : M ≤ 1024) (hst : ∀ a o p, a < M → o < N → stp a o = some p → p < M) (hc : ∀ o, o < N → c o ≤ 9) (hI : lb_I M N stp c gl L) (hC : lb_C M N stp c gl L) (h0 : s0 < M) : L s0 < 2048000000 ↔ ∃ t, t < M ∧ rc_R N stp none (fun _ => True) s0 t ∧ gl t := by
  constructor
  · intro hf
    have key : ∀ n s, s < M → L s = n → L s < 2048000000 → rc_R N stp none (fun _ => True) s0 s → ∃ t, t < M ∧ rc_R N stp none (fun _ => True) s0 t ∧ gl t := by
      intro n
      induction n using Nat.strongRecOn with
      | ind n ih =>
        intro s hs e hf hr
        rcases ((hI s hs).2 hf).1 with ⟨hg, _⟩ | ⟨o, p, ho, hp, he, hl⟩
        · exact ⟨s, hs, hr, hg⟩
        · exact ih (L p) (by omega) p hp rfl (by omega) (rc_s hr ho (fun h => nomatch h) he trivial)
    exact key _ s0 h0 rfl hf (rc_0 trivial)
  · intro ⟨t, ht, hr, hg⟩
    refine Classical.byContradiction fun hn => ?_
    have h1 : t < M ∧ ¬ L t < 2048000000 := hr (fun t => t < M ∧ ¬ L t < 2048000000) (fun _ => ⟨h0, hn⟩) (fun a o p ha ho _ e _ => by
      refine ⟨hst a o p ha.1 ho e, fun hlt => ha.2 ?_⟩
      have h1 := (hC a ha.1).2 o ho p e hlt
      have h2 := lb_le hM hI (hst a o p ha.1 ho e) hlt
      have h3 := hc o ho
      omega)
    have h2 := (hC t ht).1 hg
    omega
/-- what comes back to s0 among what is reached -/
def rc_B (N : Nat) (stp : Nat → Nat → Option Nat) (R : Nat → Prop) (s0 t : Nat) : Prop :=
  ∀ S : Nat → Prop, S s0 → (∀ a o p, R a → o < N → stp a o = some p → S p → S a) → S t
theorem rc_b0 {R : Nat → Prop} : rc_B N stp R s0 s0 := fun _ h1 _ => h1
theorem rc_bs {R : Nat → Prop} {a o p : Nat} (hr : R a) (ho : o < N) (e : stp a o = some p) (h : rc_B N stp R s0 p) : rc_B N stp R s0 a :=
  fun S h1 h2 => h2 a o p hr ho e (h S h1 h2)
theorem rc_br {R : Nat → Prop} (h0 : R s0) {t : Nat} (h : rc_B N stp R s0 t) : R t := h R h0 (fun _ _ _ hr _ _ _ => hr)
end RC
section GF
/-! bounds: a system of rules (target, cost, premises); the greatest closed table -/
variable {K : Nat} {R : Nat → Nat → (Nat → Prop) → Prop} {h k G : Nat → Nat}
def gf_C (K : Nat) (R : Nat → Nat → (Nat → Prop) → Prop) (h : Nat → Nat) : Prop :=
  ∀ i, i < K → h i ≤ 1000000 ∧ ∀ c P, R i c P → ∀ m, (∀ j, j < K → P j → h j ≤ m) → h i ≤ c + m
def gf_F (K : Nat) (R : Nat → Nat → (Nat → Prop) → Prop) (h : Nat → Nat) : Prop :=
  gf_C K R h ∧ ∀ k, gf_C K R k → ∀ i, i < K → k i ≤ h i
theorem gf_uni (h1 : gf_F K R h) (h2 : gf_F K R k) {i : Nat} (hi : i < K) : h i = k i :=
  Nat.le_antisymm (h2.2 h h1.1 i hi) (h1.2 k h2.1 i hi)
theorem gf_max (Q : Nat → Prop) : ∀ n, (∃ x, x ≤ n ∧ Q x) → ∃ x, x ≤ n ∧ Q x ∧ ∀ y, y ≤ n → Q y → y ≤ x := by
  intro n
  induction n with
  | zero => intro ⟨x, hx, q⟩; exact ⟨x, hx, q, fun y hy _ => by omega⟩
  | succ n ih =>
    intro ⟨x, hx, q⟩
    by_cases e : Q (n + 1)
    · exact ⟨n + 1, Nat.le_refl _, e, fun y hy _ => hy⟩
    · have : x ≠ n + 1 := fun h => e (h ▸ q)
      obtain ⟨z, hz, qz, hm⟩ := ih ⟨x, by omega, q⟩
      refine ⟨z, by omega, qz, fun y hy qy => ?_⟩
      have : y ≠ n + 1 := fun h => e (h ▸ qy)
      exact hm y (by omega) qy
theorem gf_ex (K : Nat) (R : Nat → Nat → (Nat → Prop) → Prop) : ∃ G, gf_F K R G := by
  have h0 : gf_C K R (fun _ => 0) := fun i hi => ⟨Nat.zero_le _, fun c P _ m _ => Nat.zero_le _⟩
  have hx : ∀ i, i < K → ∃ x, x ≤ 1000000 ∧ (∃ k, gf_C K R k ∧ k i = x) ∧ ∀ y, y ≤ 1000000 → (∃ k, gf_C K R k ∧ k i = y) → y ≤ x :=
    fun i hi => gf_max _ 1000000 ⟨0, Nat.zero_le _, fun _ => 0, h0, rfl⟩
  have hy : ∀ i, ∃ x, i < K → x ≤ 1000000 ∧ (∃ k, gf_C K R k ∧ k i = x) ∧ ∀ y, y ≤ 1000000 → (∃ k, gf_C K R k ∧ k i = y) → y ≤ x := fun i => by
    by_cases hi : i < K
    · obtain ⟨x, h⟩ := hx i hi
      exact ⟨x, fun _ => h⟩
    · exact ⟨0, fun h => absurd h hi⟩
  have hG : ∀ k, gf_C K R k → ∀ i, i < K → k i ≤ (hy i).choose := fun k hk i hi =>
    ((hy i).choose_spec hi).2.2 (k i) (hk i hi).1 ⟨k, hk, rfl⟩
  refine ⟨fun i => (hy i).choose, fun i hi => ⟨((hy i).choose_spec hi).1, fun c P hR m hm => ?_⟩, hG⟩
  obtain ⟨k, hk, e⟩ := ((hy i).choose_spec hi).2.1
  show (hy i).choose ≤ c + m
  rw [← e]
  exact (hk i hi).2 c P hR m (fun j hj hP => Nat.le_trans (hG k hk j hj) (hm j hj hP))
/-- as long as the table is not the greatest closed one, some entry is mended at once -/
theorem gf_kn (hG : gf_F K R G) (hlo : ∀ i, i < K → G i ≤ h i) (hhi : ∀ i, i < K → h i ≤ 1000000) {i0 : Nat} (hi0 : i0 < K) (hb : G i0 < h i0) :
    ∃ i, i < K ∧ G i < h i ∧ ∀ v, (∀ c P, R i c P → ∀ m, (∀ j, j < K → P j → h j ≤ m) → v ≤ c + m) → v ≤ G i := by
  refine Classical.byContradiction fun hn => ?_
  have hv : ∀ i, i < K → G i < h i → ∀ c P, R i c P → ∀ m, (∀ j, j < K → P j → h j ≤ m) → G i + 1 ≤ c + m := by
    intro i hi hg
    refine Classical.byContradiction fun hq => hn ⟨i, hi, hg, fun v hv => ?_⟩
    refine Classical.byContradiction fun hlt => hq (fun c P hR m hm => ?_)
    have := hv c P hR m hm
    omega
  obtain ⟨m, ⟨i1, hi1, hb1, e1⟩, hmin⟩ := pk_least (fun x => ∃ i, i < K ∧ G i < h i ∧ G i = x) ⟨_, i0, hi0, hb, rfl⟩
  have hmin' : ∀ j, j < K → G j < h j → m ≤ G j := fun j hj hbj => by
    refine Classical.byContradiction fun hlt => hmin (G j) (by omega) ⟨j, hj, hbj, rfl⟩
  have hk : gf_C K R (fun j => ot_if (G j < h j ∧ G j = m) (m + 1) (G j)) := by
    have hge : ∀ j, G j ≤ ot_if (G j < h j ∧ G j = m) (m + 1) (G j) := fun j => by
      by_cases e : G j < h j ∧ G j = m
      · rw [ot_ift e]; omega
      · rw [ot_iff e]; exact Nat.le_refl _
    intro i hi
    show ot_if (G i < h i ∧ G i = m) (m + 1) (G i) ≤ 1000000 ∧ _
    refine ⟨?_, fun c P hR m2 hm2 => ?_⟩
    · by_cases e : G i < h i ∧ G i = m
      · rw [ot_ift e]; have := hhi i hi; omega
      · rw [ot_iff e]; exact (hG.1 i hi).1
    · have hm3 : ∀ j, j < K → P j → ot_if (G j < h j ∧ G j = m) (m + 1) (G j) ≤ m2 := hm2
      show ot_if (G i < h i ∧ G i = m) (m + 1) (G i) ≤ c + m2
      by_cases e : G i < h i ∧ G i = m
      · rw [ot_ift e]
        by_cases ha : ∃ j, j < K ∧ P j ∧ G j < h j
        · obtain ⟨j, hj, hP, hbj⟩ := ha
          have h1 := hmin' j hj hbj
          have h2 := hm3 j hj hP
          by_cases e2 : G j = m
          · rw [ot_ift ⟨hbj, e2⟩] at h2; omega
          · rw [ot_iff (fun x => e2 x.2)] at h2; omega
        · have := hv i hi e.1 c P hR m2 (fun j hj hP => by
            have h1 : ¬ G j < h j := fun hbj => ha ⟨j, hj, hP, hbj⟩
            have h2 := hm3 j hj hP
            rw [ot_iff (fun x => h1 x.1)] at h2
            have := hlo j hj
            omega)
          omega
      · rw [ot_iff e]
        exact (hG.1 i hi).2 c P hR m2 (fun j hj hP => Nat.le_trans (hge j) (hm3 j hj hP))
  have h1 := hG.2 _ hk i1 hi1
  have h2 : ot_if (G i1 < h i1 ∧ G i1 = m) (m + 1) (G i1) ≤ G i1 := h1
  rw [ot_ift ⟨hb1, e1⟩] at h2
  omega
/-- what one sweep does -/
def gf_S (K : Nat) (R : Nat → Nat → (Nat → Prop) → Prop) (G h0 h1 : Nat → Nat) : Prop :=
  (∀ i, i < K → G i ≤ h1 i) ∧ (∀ i, i < K → h1 i ≤ h0 i) ∧ ∀ i, i < K → ∀ c P, R i c P → ∀ m, (∀ j, j < K → P j → h0 j ≤ m) → h1 i ≤ c + m
/-- a sweep over a table that is not yet right makes one more entry right -/
theorem gf_up {h0 h1 : Nat → Nat} (hG : gf_F K R G) (hlo : ∀ i, i < K → G i ≤ h0 i) (hhi : ∀ i, i < K → h0 i ≤ 1000000) (hS : gf_S K R G h0 h1) {i0 : Nat} (hi0 : i0 < K) (hb : h1 i0 < h0 i0) :
    ct_n (fun i => decide (h0 i = G i)) K < ct_n (fun i => decide (h1 i = G i)) K := by
  obtain ⟨i, hi, hgi, hv⟩ := gf_kn hG hlo hhi hi0 (Nat.lt_of_le_of_lt (hS.1 i0 hi0) hb)
  refine ct_lt K (fun t ht h => ?_) i hi (decide_eq_false (by omega)) (decide_eq_true ?_)
  · have h1 := of_decide_eq_true h
    have h2 := hS.1 t ht
    have h3 := hS.2.1 t ht
    exact decide_eq_true (by omega)
  · exact Nat.le_antisymm (hv (h1 i) (hS.2.2 i hi)) (hS.1 i hi)
/-- a sweep that changed nothing: the table is right -/
theorem gf_fin {h0 h1 : Nat → Nat} (hG : gf_F K R G) (hhi : ∀ i, i < K → h0 i ≤ 1000000) (hS : gf_S K R G h0 h1) (he : ∀ i, i < K → h1 i = h0 i) : gf_F K R h0 := by
  have hc : gf_C K R h0 := fun i hi => ⟨hhi i hi, fun c P hR m hm => by
    rw [← he i hi]; exact hS.2.2 i hi c P hR m hm⟩
  refine ⟨hc, fun k hk i hi => ?_⟩
  have h1 := hG.2 k hk i hi
  have h2 := hS.1 i hi
  rw [he i hi] at h2
  omega
end GF
end
section
section MK
/-! sets of facts as bits -/
theorem mk_1 : ∀ i, i < 32 → bt 1 i = decide (i = 0) := by decide +kernel
theorem mk_15 : ∀ i, i < 32 → bt 15 i = decide (i < 4) := by decide +kernel
theorem mk_one {l i : Nat} (hl : l < 32) (hi : i < 32) : bt ((1 : Int32) <<< (nI l &&& 31)) i = decide (i = l) := by
  rw [b_shl l hl 1 hi]
  by_cases h : l ≤ i
  · rw [mk_1 (i - l) (by omega), decide_eq_true h, Bool.true_and]
    exact decide_eq_decide.mpr (by omega)
  · rw [decide_eq_false h, Bool.false_and, decide_eq_false (by omega)]
theorem mk_and1 (y : Int32) {i : Nat} (hi : i < 32) : bt (y &&& 1) i = (decide (i = 0) && bt y 0) := by
  rw [b_and, mk_1 i hi]
  by_cases h : i = 0
  · subst h; rw [decide_eq_true rfl, Bool.and_true, Bool.true_and]
  · rw [decide_eq_false h, Bool.and_false, Bool.false_and]
theorem mk_a1 (y : Int32) : (y &&& 1 = 1 ↔ bt y 0 = true) ∧ (y &&& 1 = 0 ↔ bt y 0 = false) := by
  cases h : bt y 0 with
  | false =>
    have e : y &&& 1 = 0 := b_ext (fun i hi => by rw [mk_and1 y hi, h, Bool.and_false, b_0])
    rw [e]
    exact ⟨⟨fun h => absurd h (by decide), (fun h => nomatch h)⟩, ⟨fun _ => rfl, fun _ => rfl⟩⟩
  | true =>
    have e : y &&& 1 = 1 := b_ext (fun i hi => by rw [mk_and1 y hi, h, Bool.and_true, mk_1 i hi])
    rw [e]
    exact ⟨⟨fun _ => rfl, fun _ => rfl⟩, ⟨fun h => absurd h (by decide), (fun h => nomatch h)⟩⟩
theorem mk_s0 {x : Int32} {f : Nat} (hf : f < 32) : bt (x >>> (nI f &&& 31)) 0 = bt x f := by
  rw [b_sshr f hf x (by omega), if_pos (by omega)]; rfl
theorem mk_b1 {x : Int32} {f : Nat} (hf : f < 32) : ((x >>> (nI f &&& 31)) &&& 1) = 1 ↔ bt x f = true := by
  rw [(mk_a1 _).1, mk_s0 hf]
theorem mk_b0 {x : Int32} {f : Nat} (hf : f < 32) : ((x >>> (nI f &&& 31)) &&& 1) = 0 ↔ bt x f = false := by
  rw [(mk_a1 _).2, mk_s0 hf]
/-- all of x is in y -/
def mk_le (x y : Int32) : Prop := ∀ i, i < 32 → bt x i = true → bt y i = true
theorem mk_eq0 (x : Int32) : x = 0 ↔ ∀ i, i < 32 → bt x i = false := by
  constructor
  · intro h i _; rw [h, b_0]
  · intro h; exact b_ext (fun i hi => by rw [h i hi, b_0])
theorem mk_sub (x y : Int32) : x &&& (y ^^^ (-1)) = 0 ↔ mk_le x y := by
  rw [mk_eq0]
  constructor
  · intro h i hi hx
    have h1 := h i hi
    rw [b_and, b_xor, b_m1 i hi, hx, Bool.true_and] at h1
    cases e : bt y i with
    | true => rfl
    | false => rw [e] at h1; exact absurd h1 (by decide)
  · intro h i hi
    rw [b_and, b_xor, b_m1 i hi]
    cases e : bt x i with
    | false => rfl
    | true => rw [h i hi e]; rfl
theorem mk_lr (x : Int32) : mk_le x x := fun _ _ h => h
theorem mk_lt {x y z : Int32} (h : mk_le x y) (h2 : mk_le y z) : mk_le x z := fun i hi e => h2 i hi (h i hi e)
theorem mk_ol {x y : Int32} : mk_le x (x ||| y) := fun i _ e => by rw [b_or, e, Bool.true_or]
theorem mk_or {x y : Int32} : mk_le y (x ||| y) := fun i _ e => by rw [b_or, e, Bool.or_true]
theorem mk_oo {x y z : Int32} (h : mk_le x z) (h2 : mk_le y z) : mk_le (x ||| y) z := fun i hi e => by
  rw [b_or] at e
  cases h3 : bt x i with
  | true => exact h i hi h3
  | false => rw [h3, Bool.false_or] at e; exact h2 i hi e
/-- one fact a variable -/
def mk_m (g : Nat → Option Nat) : Nat → Int32
  | 0 => 0
  | v + 1 => match g v with
    | none => mk_m g v
    | some x => mk_m g v ||| ((1 : Int32) <<< (nI (4 * v + x) &&& 31))
theorem mk_mn {g : Nat → Option Nat} {v : Nat} (h : g v = none) : mk_m g (v + 1) = mk_m g v := by
  show (match g v with | none => mk_m g v | some x => mk_m g v ||| ((1 : Int32) <<< (nI (4 * v + x) &&& 31))) = _
  rw [h]
theorem mk_ms {g : Nat → Option Nat} {v x : Nat} (h : g v = some x) : mk_m g (v + 1) = mk_m g v ||| ((1 : Int32) <<< (nI (4 * v + x) &&& 31)) := by
  show (match g v with | none => mk_m g v | some x => mk_m g v ||| ((1 : Int32) <<< (nI (4 * v + x) &&& 31))) = _
  rw [h]
theorem mk_mt {g : Nat → Option Nat} : ∀ V, V ≤ 5 → (∀ v, v < V → ∀ x, g v = some x → x < 4) → ∀ i, i < 32 → (bt (mk_m g V) i = true ↔ i / 4 < V ∧ g (i / 4) = some (i % 4)) := by
  intro V
  induction V with
  | zero =>
    intro _ _ i hi
    show bt 0 i = true ↔ _
    rw [b_0]
    exact ⟨(fun h => nomatch h), fun h => by omega⟩
  | succ V ih =>
    intro hV h i hi
    have h1 := ih (by omega) (fun v hv => h v (by omega)) i hi
    cases e : g V with
    | none =>
      rw [mk_mn e, h1]
      constructor
      · intro ⟨a, b⟩; exact ⟨by omega, b⟩
      · intro ⟨a, b⟩
        refine ⟨?_, b⟩
        by_cases c : i / 4 = V
        · rw [c, e] at b; exact nomatch b
        · omega
    | some x =>
      have hx := h V (by omega) x e
      rw [mk_ms e, b_or, mk_one (by omega) hi, Bool.or_eq_true, h1, decide_eq_true_eq]
      constructor
      · intro a
        rcases a with ⟨a, b⟩ | a
        · exact ⟨by omega, b⟩
        · have c : i / 4 = V := by omega
          refine ⟨by omega, ?_⟩
          rw [c, e]; congr 1; omega
      · intro ⟨a, b⟩
        by_cases c : i / 4 = V
        · rw [c, e] at b
          have := Option.some.inj b
          exact Or.inr (by omega)
        · exact Or.inl ⟨by omega, b⟩
theorem mk_me {g g2 : Nat → Option Nat} : ∀ V, (∀ v, v < V → g v = g2 v) → mk_m g V = mk_m g2 V := by
  intro V
  induction V with
  | zero => intro _; rfl
  | succ V ih =>
    intro h
    have h1 := ih (fun v hv => h v (by omega))
    have h2 := h V (by omega)
    cases e : g V with
    | none => rw [mk_mn e, mk_mn (h2 ▸ e), h1]
    | some x => rw [mk_ms e, mk_ms (h2 ▸ e), h1]
def mk_w (x : Option Nat) : Int32 := match x with
  | none => 0
  | some y => (1 : Int32) <<< (nI y &&& 31)
theorem mk_wb {x : Option Nat} (hx : ∀ y, x = some y → y < 4) {i : Nat} (hi : i < 32) : bt (mk_w x) i = true ↔ x = some i := by
  cases x with
  | none =>
    show bt 0 i = true ↔ _
    rw [b_0]
    exact ⟨(fun h => nomatch h), (fun h => nomatch h)⟩
  | some y =>
    have := hx y rfl
    show bt ((1 : Int32) <<< (nI y &&& 31)) i = true ↔ _
    rw [mk_one (by omega) hi, decide_eq_true_eq]
    exact ⟨fun h => by rw [h], fun h => (Option.some.inj h).symm⟩
theorem mk_wi {x y : Option Nat} (hx : ∀ z, x = some z → z < 4) (hy : ∀ z, y = some z → z < 4) : mk_w x = mk_w y ↔ x = y := by
  constructor
  · intro h
    cases x with
    | none =>
      cases y with
      | none => rfl
      | some b =>
        have hb := hy b rfl
        have h1 := (mk_wb hy (i := b) (by omega)).mpr rfl
        rw [← h, mk_wb hx (by omega)] at h1
        exact h1
    | some a =>
      have ha := hx a rfl
      have h1 := (mk_wb hx (i := a) (by omega)).mpr rfl
      rw [h, mk_wb hy (by omega)] at h1
      exact h1.symm
  · intro h; rw [h]
theorem mk_w0 {x : Option Nat} (hx : ∀ z, x = some z → z < 4) : mk_w x = 0 ↔ x = none := mk_wi (y := none) hx (fun _ h => nomatch h)
theorem mk_nb {g : Nat → Option Nat} {V v : Nat} (hV : V ≤ 5) (h : ∀ v, v < V → ∀ x, g v = some x → x < 4) (hv : v < V) : ((mk_m g V) >>> (nI (4 * v) &&& 31)) &&& 15 = mk_w (g v) := by
  refine b_ext (fun i hi => ?_)
  rw [b_and, mk_15 i hi, b_sshr (4 * v) (by omega) _ hi]
  by_cases h4 : i < 4
  · rw [if_pos (by omega), decide_eq_true h4, Bool.and_true]
    have h1 := mk_mt V hV h (4 * v + i) (by omega)
    have h2 := mk_wb (h v hv) hi
    rw [show (4 * v + i) / 4 = v from by omega, show (4 * v + i) % 4 = i from by omega] at h1
    rw [Bool.eq_iff_iff, h1, h2]
    exact ⟨fun a => a.2, fun a => ⟨hv, a⟩⟩
  · rw [decide_eq_false h4, Bool.and_false]
    have h2 := mk_wb (h v hv) hi
    cases e : bt (mk_w (g v)) i with
    | false => rfl
    | true => rw [e] at h2; exact absurd (h v hv i (h2.mp rfl)) h4
/-- two facts as one choice a variable -/
def mk_2 (f g v : Nat) : Option Nat := if v = f / 4 then some (f % 4) else if v = g / 4 then some (g % 4) else none
theorem mk_24 {f g v x : Nat} (h : mk_2 f g v = some x) : x < 4 := by
  unfold mk_2 at h
  split at h
  · have := Option.some.inj h; omega
  · split at h
    · have := Option.some.inj h; omega
    · exact nomatch h
theorem mk_2s {f g : Nat} (hf : f < 20) (hg : g < 20) (hi : f = g ∨ f / 4 ≠ g / 4) : ((1 : Int32) <<< (nI f &&& 31)) ||| ((1 : Int32) <<< (nI g &&& 31)) = mk_m (mk_2 f g) 5 := by
  refine b_ext (fun i hj => ?_)
  rw [Bool.eq_iff_iff, mk_mt 5 (by omega) (fun v _ x h => mk_24 h) i hj, b_or, mk_one (by omega) hj, mk_one (by omega) hj, Bool.or_eq_true, decide_eq_true_eq, decide_eq_true_eq]
  unfold mk_2
  constructor
  · intro h
    rcases h with h | h
    · subst h; exact ⟨by omega, if_pos rfl⟩
    · subst h
      refine ⟨by omega, ?_⟩
      rcases hi with h | h
      · subst h; exact if_pos rfl
      · rw [if_neg (fun e => h e.symm), if_pos rfl]
  · intro ⟨_, h⟩
    split at h
    · have := Option.some.inj h; exact Or.inl (by omega)
    · split at h
      · have := Option.some.inj h; exact Or.inr (by omega)
      · exact nomatch h
theorem mk_1s {f : Nat} (hf : f < 20) : ((1 : Int32) <<< (nI f &&& 31)) = mk_m (mk_2 f f) 5 := by
  rw [← mk_2s hf hf (Or.inl rfl)]
  refine b_ext (fun i hi => ?_)
  rw [b_or, Bool.or_self]
end MK
end
section
section HP
/-! the heap: entries h below n, places p -/
variable {M n : Nat} {L h p : Nat → Nat} {s i q : Nat}
def hp_H (M n : Nat) (h p : Nat → Nat) : Prop := ∀ i, i < n → h i < M ∧ p (h i) = i
def hp_in (n : Nat) (h : Nat → Nat) (s : Nat) : Prop := ∃ i, i < n ∧ h i = s
def hp_O (n : Nat) (L h : Nat → Nat) : Prop := ∀ i, 0 < i → i < n → L (h ((i - 1) / 2)) ≤ L (h i)
theorem hp_inj (H : hp_H M n h p) {a b : Nat} (ha : a < n) (hb : b < n) (e : h a = h b) : a = b := by
  have h1 := (H a ha).2
  have h2 := (H b hb).2
  rw [e] at h1; omega
theorem hp_cnt (H : hp_H M n h p) : ∀ k, k ≤ n → k ≤ ct_n (fun s => decide (p s < k ∧ h (p s) = s)) M := by
  intro k
  induction k with
  | zero => intro _; exact Nat.zero_le _
  | succ k ih =>
    intro hk
    have h1 := ih (by omega)
    have h2 := H k (by omega)
    have h3 : ct_n (fun s => decide (p s < k ∧ h (p s) = s)) M < ct_n (fun s => decide (p s < k + 1 ∧ h (p s) = s)) M := by
      refine ct_lt M (fun t ht e => ?_) (h k) h2.1 (decide_eq_false ?_) (decide_eq_true ?_)
      · have := of_decide_eq_true e
        exact decide_eq_true ⟨by omega, this.2⟩
      · rw [h2.2]; intro e; omega
      · rw [h2.2]; exact ⟨by omega, rfl⟩
    omega
theorem hp_nle (H : hp_H M n h p) : n ≤ M := Nat.le_trans (hp_cnt H n (Nat.le_refl _)) (ct_le _ M)
theorem hp_nlt (H : hp_H M n h p) (hs : s < M) (hn : ¬ hp_in n h s) : n < M := by
  refine Nat.lt_of_le_of_lt (hp_cnt H n (Nat.le_refl _)) (ct_ltn hs (decide_eq_false fun e => hn ⟨p s, e.1, e.2⟩))
theorem hp_min (O : hp_O n L h) : ∀ k, k < n → L (h 0) ≤ L (h k) := by
  intro k
  induction k using Nat.strongRecOn with
  | ind k ih =>
    intro hk
    by_cases e : k = 0
    · rw [e]; exact Nat.le_refl _
    · exact Nat.le_trans (ih ((k - 1) / 2) (by omega) (by omega)) (O k (by omega) hk)
/-- the hole moves from i to q -/
theorem hp_v (h : Nat → Nat) (i q s j : Nat) : ot_u (ot_u h i (h q)) q s j = if j = q then s else if j = i then h q else h j := rfl
theorem hp_sw (H : hp_H M n (ot_u h i s) (ot_u p s i)) (hi : i < n) (hq : q < n) (hqi : q ≠ i) : hp_H M n (ot_u (ot_u h i (h q)) q s) (ot_u (ot_u p (h q) i) s q) := by
  have his : h q ≠ s := fun e => by
    have h1 := (H q hq).2
    rw [ot_un hqi, e, ot_us] at h1
    omega
  intro j hj
  by_cases a : j = q
  · subst a
    rw [ot_us, ot_us]
    have h1 := (H i hi).1
    rw [ot_us] at h1
    exact ⟨h1, rfl⟩
  · rw [ot_un a]
    by_cases b : j = i
    · subst b
      rw [ot_us, ot_un his, ot_us]
      have h1 := (H q hq).1
      rw [ot_un hqi] at h1
      exact ⟨h1, rfl⟩
    · rw [ot_un b]
      have h1 := H j hj
      rw [ot_un b] at h1
      have e1 : h j ≠ s := fun e => by
        have h2 := h1.2
        rw [e, ot_us] at h2
        omega
      have e2 : h j ≠ h q := fun e => by
        have h2 := h1.2
        have h3 := (H q hq).2
        rw [ot_un hqi] at h3
        rw [e] at h2
        omega
      rw [ot_un e1, ot_un e2]
      have h2 := h1.2
      rw [ot_un e1] at h2
      exact ⟨h1.1, h2⟩
theorem hp_swi (hi : i < n) (hq : q < n) (hqi : q ≠ i) (t : Nat) : hp_in n (ot_u (ot_u h i (h q)) q s) t ↔ hp_in n (ot_u h i s) t := by
  constructor
  · intro ⟨j, hj, e⟩
    by_cases a : j = q
    · subst a; rw [ot_us] at e; exact ⟨i, hi, by rw [ot_us]; exact e⟩
    · rw [ot_un a] at e
      by_cases b : j = i
      · subst b; rw [ot_us] at e; exact ⟨q, hq, by rw [ot_un hqi]; exact e⟩
      · rw [ot_un b] at e; exact ⟨j, hj, by rw [ot_un b]; exact e⟩
  · intro ⟨j, hj, e⟩
    by_cases b : j = i
    · subst b; rw [ot_us] at e; exact ⟨q, hq, by rw [ot_us]; exact e⟩
    · rw [ot_un b] at e
      by_cases a : j = q
      · subst a; exact ⟨i, hi, by rw [ot_un (fun e => hqi e.symm), ot_us]; exact e⟩
      · exact ⟨j, hj, by rw [ot_un a, ot_un b]; exact e⟩
/-- ready to rise at i -/
def hp_R (n : Nat) (L h : Nat → Nat) (i : Nat) : Prop :=
  (∀ j, 0 < j → j < n → j ≠ i → L (h ((j - 1) / 2)) ≤ L (h j)) ∧ ∀ j, 0 < j → j < n → (j - 1) / 2 = i → 0 < i → L (h ((i - 1) / 2)) ≤ L (h j)
theorem hp_Rs (R : hp_R n L (ot_u h i s) i) (hi : i < n) (h0 : 0 < i) (hl : L s < L (h ((i - 1) / 2))) : hp_R n L (ot_u (ot_u h i (h ((i - 1) / 2))) ((i - 1) / 2) s) ((i - 1) / 2) := by
  obtain ⟨R1, R2⟩ := R
  have hqi : (i - 1) / 2 ≠ i := by omega
  generalize hq : (i - 1) / 2 = q at hqi hl R2 ⊢
  have hqn : q < n := by omega
  have vq : ot_u h i s q = h q := ot_un hqi
  have v0 : ∀ j, j ≠ i → j ≠ q → ot_u (ot_u h i (h q)) q s j = ot_u h i s j := fun j a b => by
    rw [ot_un b, ot_un a, ot_un a]
  have v1 : ot_u (ot_u h i (h q)) q s i = h q := by rw [ot_un (fun e => hqi e.symm), ot_us]
  have v2 : ot_u (ot_u h i (h q)) q s q = s := ot_us
  constructor
  · intro j j0 jn jq
    by_cases a : j = i
    · subst a
      rw [hq, v1, v2]; omega
    · rw [v0 j a jq]
      by_cases b : (j - 1) / 2 = i
      · rw [b, v1]
        have := R2 j j0 jn b h0
        rw [vq] at this
        exact this
      · by_cases d : (j - 1) / 2 = q
        · rw [d, v2]
          have := R1 j j0 jn a
          rw [d, vq] at this
          omega
        · rw [v0 _ b d]
          exact R1 j j0 jn a
  · intro j j0 jn e hq0
    have e1 : (q - 1) / 2 ≠ i := by omega
    have e2 : (q - 1) / 2 ≠ q := by omega
    rw [v0 _ e1 e2]
    have h1 := R1 q hq0 hqn hqi
    rw [vq] at h1
    by_cases a : j = i
    · subst a
      rw [v1]; exact h1
    · have b : j ≠ q := by omega
      rw [v0 j a b]
      have h2 := R1 j j0 jn a
      rw [e, vq] at h2
      omega
theorem hp_Rx (R : hp_R n L h i) (hx : i = 0 ∨ L (h ((i - 1) / 2)) ≤ L (h i)) : hp_O n L h := by
  intro j j0 jn
  by_cases a : j = i
  · subst a
    rcases hx with e | e
    · omega
    · exact e
  · exact R.1 j j0 jn a
/-- ready to sink at i -/
def hp_D (n : Nat) (L h : Nat → Nat) (i : Nat) : Prop :=
  (∀ j, 0 < j → j < n → (j - 1) / 2 ≠ i → L (h ((j - 1) / 2)) ≤ L (h j)) ∧ ∀ j, 0 < j → j < n → (j - 1) / 2 = i → 0 < i → L (h ((i - 1) / 2)) ≤ L (h j)
theorem hp_Ds (R : hp_D n L (ot_u h i s) i) (hi : i < n) (hqn : q < n) (hc : q = 2 * i + 1 ∨ q = 2 * i + 2) (ho : ∀ j, j < n → (j - 1) / 2 = i → 0 < j → L (h q) ≤ L (h j)) (hl : L (h q) < L s) : hp_D n L (ot_u (ot_u h i (h q)) q s) q := by
  obtain ⟨R1, R2⟩ := R
  have hqi : q ≠ i := by omega
  have hpq : (q - 1) / 2 = i := by omega
  have vq : ot_u h i s q = h q := ot_un hqi
  have v0 : ∀ j, j ≠ i → j ≠ q → ot_u (ot_u h i (h q)) q s j = ot_u h i s j := fun j a b => by
    rw [ot_un b, ot_un a, ot_un a]
  have v1 : ot_u (ot_u h i (h q)) q s i = h q := by rw [ot_un (fun e => hqi e.symm), ot_us]
  have v2 : ot_u (ot_u h i (h q)) q s q = s := ot_us
  constructor
  · intro j j0 jn jq
    by_cases a : j = q
    · subst a
      rw [hpq, v1, v2]; omega
    · by_cases b : (j - 1) / 2 = i
      · have ji : j ≠ i := by omega
        rw [b, v1, v0 j ji a, ot_un ji]
        exact ho j jn b j0
      · rw [v0 _ b jq]
        by_cases d : j = i
        · subst d
          rw [v1]
          have := R2 q (by omega) hqn hpq j0
          rw [vq] at this
          exact this
        · rw [v0 j d a]
          exact R1 j j0 jn b
  · intro j j0 jn e hq0
    have ji : j ≠ i := by omega
    have jq : j ≠ q := by omega
    rw [hpq, v1, v0 j ji jq]
    have h1 := R1 j j0 jn (by omega)
    rw [e, vq] at h1
    exact h1
theorem hp_Dx (R : hp_D n L h i) (hx : ∀ j, 0 < j → j < n → (j - 1) / 2 = i → L (h i) ≤ L (h j)) : hp_O n L h := by
  intro j j0 jn
  by_cases a : (j - 1) / 2 = i
  · rw [a]; exact hx j j0 jn a
  · exact R.1 j j0 jn a
end HP
section DJ
/-! the nearest first -/
variable {M N n : Nat} {stp : Nat → Nat → Option Nat} {c : Nat → Nat} {gl : Nat → Prop} {L h p : Nat → Nat} {dn : Nat → Bool}
def dj_I (M N : Nat) (stp : Nat → Nat → Option Nat) (c : Nat → Nat) (gl : Nat → Prop) (L : Nat → Nat) (n : Nat) (h p : Nat → Nat) (dn : Nat → Bool) : Prop :=
  hp_H M n h p ∧ hp_O n L h ∧ lb_I M N stp c gl L ∧ (∀ i, i < n → L (h i) < 2048000000) ∧ (∀ s, s < M → L s < 2048000000 → dn s = true ∨ hp_in n h s) ∧
  (∀ s, dn s = true → s < M ∧ L s < 2048000000 ∧ ¬ hp_in n h s) ∧ ∀ d i, dn d = true → i < n → L d ≤ L (h i)
/-- a state's label is made better while it waits in the heap -/
theorem dj_r1 (I : dj_I M N stp c gl L n h p dn) {i k : Nat} (hi : i < n) (hk : k < L (h i)) : hp_R n (ot_u L (h i) k) h i := by
  obtain ⟨H, O, _⟩ := I
  have hn : ∀ j, j < n → j ≠ i → h j ≠ h i := fun j hj a e => a (hp_inj H hj hi e)
  have hle : ∀ t, ot_u L (h i) k t ≤ L t := fun t => by
    by_cases e : t = h i
    · rw [e, ot_us]; omega
    · rw [ot_un e]; exact Nat.le_refl _
  constructor
  · intro j j0 jn ji
    rw [ot_un (hn j jn ji)]
    exact Nat.le_trans (hle _) (O j j0 jn)
  · intro j j0 jn e i0
    rw [ot_un (hn j jn (by omega))]
    have h1 := O j j0 jn
    have h2 := O i i0 hi
    rw [e] at h1
    exact Nat.le_trans (hle _) (Nat.le_trans h2 h1)
/-- a new state at the heap's end -/
theorem dj_r2 (I : dj_I M N stp c gl L n h p dn) {s k : Nat} (hs : ¬ hp_in n h s) : hp_R (n + 1) (ot_u L s k) (ot_u h n s) n := by
  obtain ⟨H, O, _⟩ := I
  have hn : ∀ j, j < n → h j ≠ s := fun j hj e => hs ⟨j, hj, e⟩
  constructor
  · intro j j0 jn ji
    rw [ot_un (show (j - 1) / 2 ≠ n from by omega), ot_un ji, ot_un (hn _ (by omega)), ot_un (hn _ (by omega))]
    exact O j j0 (by omega)
  · intro j j0 jn e i0
    omega
theorem dj_h2 (H : hp_H M n h p) {s : Nat} (hsM : s < M) (hs : ¬ hp_in n h s) : hp_H M (n + 1) (ot_u h n s) (ot_u p s n) := by
  intro j hj
  by_cases a : j = n
  · subst a; rw [ot_us, ot_us]; exact ⟨hsM, rfl⟩
  · rw [ot_un a, ot_un (fun e => hs ⟨j, by omega, e⟩)]
    exact H j (by omega)
/-- the state is in the heap again with its new label: all holds again -/
theorem dj_put (I : dj_I M N stp c gl L n h p dn) {s k n2 : Nat} {h2 p2 : Nat → Nat} (hs : s < M) (hk : k < L s) (hd : dn s = false) (hdk : ∀ d, dn d = true → L d ≤ k) (hI : lb_I M N stp c gl (ot_u L s k))
    (H2 : hp_H M n2 h2 p2) (O2 : hp_O n2 (ot_u L s k) h2) (hin : ∀ t, hp_in n2 h2 t ↔ t = s ∨ hp_in n h t) : dj_I M N stp c gl (ot_u L s k) n2 h2 p2 dn := by
  obtain ⟨H, O, hL, hf, hfin, hdn, hdl⟩ := I
  have hls := (hL s hs).1
  have hnd : ∀ d, dn d = true → d ≠ s := fun d e e2 => by rw [e2, hd] at e; exact nomatch e
  refine ⟨H2, O2, hI, fun i hi => ?_, fun t ht hlt => ?_, fun d e => ?_, fun d i e hi => ?_⟩
  · by_cases a : h2 i = s
    · rw [a, ot_us]; omega
    · rw [ot_un a]
      rcases (hin (h2 i)).mp ⟨i, hi, rfl⟩ with b | ⟨j, hj, b⟩
      · exact absurd b a
      · rw [← b]; exact hf j hj
  · by_cases a : t = s
    · exact Or.inr ((hin t).mpr (Or.inl a))
    · rw [ot_un a] at hlt
      rcases hfin t ht hlt with b | b
      · exact Or.inl b
      · exact Or.inr ((hin t).mpr (Or.inr b))
  · have h1 := hdn d e
    rw [ot_un (hnd d e)]
    refine ⟨h1.1, h1.2.1, fun b => ?_⟩
    rcases (hin d).mp b with b | b
    · exact hnd d e b
    · exact h1.2.2 b
  · rw [ot_un (hnd d e)]
    by_cases a : h2 i = s
    · rw [a, ot_us]; exact hdk d e
    · rw [ot_un a]
      rcases (hin (h2 i)).mp ⟨i, hi, rfl⟩ with b | ⟨j, hj, b⟩
      · exact absurd b a
      · rw [← b]; exact hdl d j e hj
/-- the last state at the root: ready to sink -/
theorem dj_k1 (O : hp_O (n + 1) L h) : hp_D n L (ot_u h 0 (h n)) 0 := by
  constructor
  · intro j j0 jn e
    rw [ot_un (show (j - 1) / 2 ≠ 0 from e), ot_un (show j ≠ 0 from by omega)]
    exact O j j0 (by omega)
  · intro j j0 jn e i0
    exact absurd i0 (Nat.lt_irrefl 0)
theorem dj_kh (H : hp_H M (n + 1) h p) (hn : 0 < n) : hp_H M n (ot_u h 0 (h n)) (ot_u p (h n) 0) := by
  intro j hj
  by_cases a : j = 0
  · subst a; rw [ot_us, ot_us]; exact ⟨(H n (by omega)).1, rfl⟩
  · rw [ot_un a, ot_un (fun e => by have := hp_inj H (a := j) (b := n) (by omega) (by omega) e; omega)]
    exact H j (by omega)
theorem dj_ki (H : hp_H M (n + 1) h p) (hn : 0 < n) (t : Nat) : hp_in n (ot_u h 0 (h n)) t ↔ hp_in (n + 1) h t ∧ t ≠ h 0 := by
  constructor
  · intro ⟨j, hj, e⟩
    by_cases a : j = 0
    · subst a
      rw [ot_us] at e
      refine ⟨⟨n, by omega, e⟩, fun b => ?_⟩
      have := hp_inj H (a := n) (b := 0) (by omega) (by omega) (e.trans b)
      omega
    · rw [ot_un a] at e
      refine ⟨⟨j, by omega, e⟩, fun b => ?_⟩
      have := hp_inj H (a := j) (b := 0) (by omega) (by omega) (e.trans b)
      omega
  · intro ⟨⟨j, hj, e⟩, b⟩
    have a : j ≠ 0 := fun x => b (by rw [← e, x])
    by_cases d : j = n
    · subst d; exact ⟨0, hn, by rw [ot_us]; exact e⟩
    · exact ⟨j, by omega, by rw [ot_un a]; exact e⟩
/-- the root is taken out and done -/
theorem dj_pop (I : dj_I M N stp c gl L (n + 1) h p dn) {h2 p2 : Nat → Nat} (H2 : hp_H M n h2 p2) (O2 : hp_O n L h2) (hin : ∀ t, hp_in n h2 t ↔ hp_in (n + 1) h t ∧ t ≠ h 0) :
    dj_I M N stp c gl L n h2 p2 (ot_u dn (h 0) true) ∧ (∀ d, ot_u dn (h 0) true d = true → L d ≤ L (h 0)) ∧ dn (h 0) = false := by
  obtain ⟨H, O, hL, hf, hfin, hdn, hdl⟩ := I
  have h0 : dn (h 0) = false := by
    cases e : dn (h 0) with
    | false => rfl
    | true => exact absurd ⟨0, by omega, rfl⟩ (hdn _ e).2.2
  refine ⟨⟨H2, O2, hL, fun i hi => ?_, fun t ht hlt => ?_, fun d e => ?_, fun d i e hi => ?_⟩, fun d e => ?_, h0⟩
  · obtain ⟨⟨j, hj, b⟩, _⟩ := (hin (h2 i)).mp ⟨i, hi, rfl⟩
    rw [← b]; exact hf j hj
  · by_cases a : t = h 0
    · exact Or.inl (by rw [a, ot_us])
    · rcases hfin t ht hlt with b | b
      · exact Or.inl (by rw [ot_un a]; exact b)
      · exact Or.inr ((hin t).mpr ⟨b, a⟩)
  · by_cases a : d = h 0
    · subst a
      exact ⟨(H 0 (by omega)).1, hf 0 (by omega), fun b => ((hin _).mp b).2 rfl⟩
    · rw [ot_un a] at e
      have h1 := hdn d e
      exact ⟨h1.1, h1.2.1, fun b => h1.2.2 ((hin d).mp b).1⟩
  · obtain ⟨⟨j, hj, b⟩, _⟩ := (hin (h2 i)).mp ⟨i, hi, rfl⟩
    rw [← b]
    by_cases a : d = h 0
    · subst a; exact hp_min O j hj
    · rw [ot_un a] at e
      exact hdl d j e hj
  · by_cases a : d = h 0
    · rw [a]; exact Nat.le_refl _
    · rw [ot_un a] at e
      exact hdl d 0 e (by omega)
end DJ
end
section
section WA
variable {V D N : Nat} {il mt iv hz ib br : Int32} {c b : Nat → Nat} {ne ef g sp : Nat → Option Nat} {im qu tg sg hp pl on tw ca ta ua : Nat → Nat} {ns es ha : Nat → Int32}
noncomputable def ot_b (p : Prop) : Int32 := ot_if p 1 0
theorem ot_bt {p : Prop} (h : p) : ot_b p = 1 := ot_ift h
theorem ot_bf {p : Prop} (h : ¬ p) : ot_b p = 0 := ot_iff h
theorem ot_bb {A B : Prop} (p : Prop) (f : ¬ p → A) (g : p → B) : (ot_b p = 0 → A) ∧ (¬ ot_b p = 0 → B) :=
  ot_e01 p (fun h => ot_bf h) (fun h => ot_bt h) f g
theorem wa_pw {post : Int32 → Prop} {v : Nat} (hT : gr_T V D N c b ne ef g) (hv : v < V) (h : post (nI (D ^ v))) : wpX_powerOf post ((nI V), (nI D), (nI (D ^ V)), (nI N), il, mt, iv, hz, ib, br, (ot_n c), (ot_o ne), (ot_o ef), (ot_n b), (ot_o g), (ot_n (ot_pw V D)), (ot_o sp), (ot_n im), (ot_n qu), (ot_n tg), (ot_n sg), (ot_n hp), (ot_n pl), (ot_n on), (ot_n tw), ns, es, ha, (ot_n ca), (ot_n ta), (ot_n ua)) (nI v) := by
  obtain ⟨⟨hV1, hV⟩, ⟨hD, hD4⟩, hN, hc, hb, hne, hef, hg⟩ := hT
  have hp : 0 < D ^ v := Nat.pow_pos (by omega)
  have hl : D ^ v ≤ 1024 := gr_M (by omega) hD4
  have e : ot_n (ot_pw V D) (nI v).toNatClampNeg = nI (D ^ v) := by
    rw [ot_r _ (by omega)]; unfold ot_pw; rw [if_pos hv]
  refine And.intro (pk_in v 6 (by omega)) ?_
  rw [e]
  exact pk_le (D ^ v) 0 (fun h => by omega) (fun _ => ⟨pk_in v 6 (by omega), h⟩)
theorem wa_dg {post : Int32 → Prop} {s v : Nat} (hT : gr_T V D N c b ne ef g) (hs : s < D ^ V) (hv : v < V) (h : post (nI (cd_d D s v))) : wpX_digit post ((nI V), (nI D), (nI (D ^ V)), (nI N), il, mt, iv, hz, ib, br, (ot_n c), (ot_o ne), (ot_o ef), (ot_n b), (ot_o g), (ot_n (ot_pw V D)), (ot_o sp), (ot_n im), (ot_n qu), (ot_n tg), (ot_n sg), (ot_n hp), (ot_n pl), (ot_n on), (ot_n tw), ns, es, ha, (ot_n ca), (ot_n ta), (ot_n ua)) (nI s) (nI v) := by
  obtain ⟨⟨hV1, hV⟩, ⟨hD, hD4⟩, hN, hc, hb, hne, hef, hg⟩ := id hT
  have hp : 0 < D ^ v := Nat.pow_pos (by omega)
  have hl : D ^ v ≤ 1024 := gr_M (by omega) hD4
  have hM : D ^ V ≤ 1024 := gr_M hV hD4
  unfold wpX_digit
  refine wa_pw hT hv ⟨nI_ne0 hp (by omega), nI_ne0 (by omega) (by omega), ?_⟩
  rw [pk_div (by omega) hp (by omega), pk_rem (Nat.lt_of_le_of_lt (Nat.div_le_self _ _) (by omega)) (by omega) (by omega)]
  exact h
theorem wa_begl {post : Int32 → Prop} (hT : gr_T V D N c b ne ef g) (h : post (nI (cd_c D b V))) : ∀ n v, v ≤ V → V - v < n → wX_begins_4 post (nI V) (nI D) (nI (D ^ V)) (nI N) il mt iv hz ib br (ot_n c) (ot_o ne) (ot_o ef) (ot_n b) (ot_o g) (ot_n (ot_pw V D)) (ot_o sp) (ot_n im) (ot_n qu) (ot_n tg) (ot_n sg) (ot_n hp) (ot_n pl) (ot_n on) (ot_n tw) ns es ha (ot_n ca) (ot_n ta) (ot_n ua) n (nI (cd_c D b v)) (nI v) := by
  obtain ⟨⟨hV1, hV⟩, ⟨hD, hD4⟩, hN, hc, hb, hne, hef, hg⟩ := id hT
  intro n
  induction n with
  | zero => intro v _ h; omega
  | succ n ih =>
    intro v hv hn
    refine pk_le V v (fun hx => ?_) (fun hx => ?_)
    · rw [show v = V from by omega]; exact h
    · refine ⟨pk_in v 6 (by omega), pk_in v 5 (by omega), nm_r (e' := nI (cd_c D b (v + 1))) ?_ (nm_r (nI_1 v) (ih (v + 1) (by omega) (by omega)))⟩
      rw [ot_r _ (by omega), ot_r _ (by omega), pk_mul, nI_add, cd_s]
      unfold ot_pw
      rw [if_pos hx, Nat.mul_comm]
theorem wa_beg {post : Int32 → Prop} (hT : gr_T V D N c b ne ef g) (h : post (nI (cd_c D b V))) : wpX_begins post ((nI V), (nI D), (nI (D ^ V)), (nI N), il, mt, iv, hz, ib, br, (ot_n c), (ot_o ne), (ot_o ef), (ot_n b), (ot_o g), (ot_n (ot_pw V D)), (ot_o sp), (ot_n im), (ot_n qu), (ot_n tg), (ot_n sg), (ot_n hp), (ot_n pl), (ot_n on), (ot_n tw), ns, es, ha, (ot_n ca), (ot_n ta), (ot_n ua)) :=
  ⟨V + 1, wa_begl hT h (V + 1) 0 (by omega) (by omega)⟩
def wa_sf (D : Nat) (ef : Nat → Option Nat) (s o v w : Nat) : Nat := if w < v then (ef (5 * o + w)).getD (cd_d D s w) else cd_d D s w
theorem wa_sf1 {s o v : Nat} (h : ef (5 * o + v) = none) : cd_c D (wa_sf D ef s o (v + 1)) V = cd_c D (wa_sf D ef s o v) V := by
  refine cd_ext V (fun w hw => ?_)
  unfold wa_sf
  by_cases a : w < v
  · rw [if_pos a, if_pos (by omega)]
  · rw [if_neg a]
    by_cases d : w < v + 1
    · rw [if_pos d, show w = v from by omega, h]; rfl
    · rw [if_neg d]
theorem wa_sf2 {s o v e : Nat} (hv : v < V) (h : ef (5 * o + v) = some e) : nI (cd_c D (wa_sf D ef s o v) V) + (nI e - nI (cd_d D s v)) * nI (D ^ v) = nI (cd_c D (wa_sf D ef s o (v + 1)) V) := by
  have h1 := cd_upd (B := D) (f := wa_sf D ef s o v) (v := v) (e := e) V hv
  have h2 : wa_sf D ef s o v v = cd_d D s v := if_neg (Nat.lt_irrefl v)
  have h3 : cd_c D (ot_u (wa_sf D ef s o v) v e) V = cd_c D (wa_sf D ef s o (v + 1)) V := by
    refine cd_ext V (fun w hw => ?_)
    by_cases a : w = v
    · subst a
      rw [ot_us]; unfold wa_sf; rw [if_pos (by omega), h]; rfl
    · rw [ot_un a]; unfold wa_sf
      by_cases d : w < v
      · rw [if_pos d, if_pos (by omega)]
      · rw [if_neg d, if_neg (by omega)]
  rw [h2, h3] at h1
  have h4 := congrArg nI h1
  rw [← nI_add, ← nI_add, ← pk_mul, ← pk_mul] at h4
  generalize nI (cd_c D (wa_sf D ef s o v) V) = A at h4 ⊢
  generalize nI (cd_c D (wa_sf D ef s o (v + 1)) V) = B at h4 ⊢
  generalize nI (cd_d D s v) = x at h4 ⊢
  generalize nI e = y at h4 ⊢
  generalize nI (D ^ v) = z at h4 ⊢
  grind
theorem wa_stl {post : Int32 → Prop} {s o : Nat} (hT : gr_T V D N c b ne ef g) (hs : s < D ^ V) (ho : o < N) (h : post (ot_i (gr_s V D ne ef s o))) : ∀ n v, v ≤ V → V - v < n → (∀ w, w < v → ∀ x, ne (5 * o + w) = some x → x = cd_d D s w) → wX_stepFrom_5 post (nI s) (nI o) (nI V) (nI D) (nI (D ^ V)) (nI N) il mt iv hz ib br (ot_n c) (ot_o ne) (ot_o ef) (ot_n b) (ot_o g) (ot_n (ot_pw V D)) (ot_o sp) (ot_n im) (ot_n qu) (ot_n tg) (ot_n sg) (ot_n hp) (ot_n pl) (ot_n on) (ot_n tw) ns es ha (ot_n ca) (ot_n ta) (ot_n ua) n (nI (cd_c D (wa_sf D ef s o v) V)) (nI v) := by
  obtain ⟨⟨hV1, hV⟩, ⟨hD, hD4⟩, hN, hc, hb, hne, hef, hg⟩ := id hT
  intro n
  induction n with
  | zero => intro v _ h; omega
  | succ n ih =>
    intro v hv hn hw
    refine pk_le V v (fun hx => ?_) (fun hx => ?_)
    · have hk : gr_ok V D ne s o := fun w hw2 => hw w (by omega)
      rw [gr_st hk] at h
      have e : cd_c D (wa_sf D ef s o v) V = gr_t V D ef s o := cd_ext V (fun w hw2 => if_pos (by omega))
      rw [e]; exact h
    · refine wa_dg hT hs hx ?_
      have hi : 5 * o + v < 50 := by omega
      rw [ot_ix5]
      refine ⟨pk_in _ 50 hi, nm_r (ot_ro _ (by omega)) ⟨pk_in _ 50 hi, nm_r (ot_ro _ (by omega)) ?_⟩⟩
      have hj : (∀ x, ne (5 * o + v) = some x → x = cd_d D s v) → wX_stepFrom_64 post (wX_stepFrom_5 post (nI s) (nI o) (nI V) (nI D) (nI (D ^ V)) (nI N) il mt iv hz ib br (ot_n c) (ot_o ne) (ot_o ef) (ot_n b) (ot_o g) (ot_n (ot_pw V D)) (ot_o sp) (ot_n im) (ot_n qu) (ot_n tg) (ot_n sg) (ot_n hp) (ot_n pl) (ot_n on) (ot_n tw) ns es ha (ot_n ca) (ot_n ta) (ot_n ua) n) (nI s) (nI o) (nI (cd_c D (wa_sf D ef s o v) V)) (nI v) (nI (cd_d D s v)) (ot_i (ef (5 * o + v))) (nI V) (nI D) (nI (D ^ V)) (nI N) il mt iv hz ib br (ot_n c) (ot_o ne) (ot_o ef) (ot_n b) (ot_o g) (ot_n (ot_pw V D)) (ot_o sp) (ot_n im) (ot_n qu) (ot_n tg) (ot_n sg) (ot_n hp) (ot_n pl) (ot_n on) (ot_n tw) ns es ha (ot_n ca) (ot_n ta) (ot_n ua) := by
        intro hk
        have hw2 : ∀ w, w < v + 1 → ∀ x, ne (5 * o + w) = some x → x = cd_d D s w := fun w a => by
          by_cases d : w = v
          · rw [d]; exact hk
          · exact hw w (by omega)
        refine ot_bo _ (fun y e => by have := hef o ho v hx y e; omega) (fun e => ?_) (fun y e => ?_)
        · refine nm_r (nI_1 v) ?_
          rw [← wa_sf1 e]
          exact ih (v + 1) (by omega) (by omega) hw2
        · rw [e]
          refine ⟨pk_in v 6 (by omega), nm_r (e' := nI (cd_c D (wa_sf D ef s o (v + 1)) V)) ?_ (nm_r (nI_1 v) (ih (v + 1) (by omega) (by omega) hw2))⟩
          rw [ot_r _ (by omega), ← wa_sf2 hx e]
          unfold ot_pw
          rw [if_pos hx]; rfl
      refine ot_bo _ (fun y e => by have := hne o ho v hx y e; omega) (fun e => ?_) (fun y e => ?_)
      · exact hj (fun x e2 => by rw [e] at e2; exact nomatch e2)
      · rw [e]
        have hy := hne o ho v hx y e
        have hd := cd_dl (B := D) (by omega) s v
        refine pk_eq y (cd_d D s v) (fun k => hj (fun x e2 => ?_)) (fun k => ?_)
        · rw [e] at e2; rw [← Option.some.inj e2]; exact k
        · have hk : ¬ gr_ok V D ne s o := fun a => k (a v hx y e)
          rw [gr_sf hk] at h
          exact h
theorem wa_st {post : Int32 → Prop} {s o : Nat} (hT : gr_T V D N c b ne ef g) (hs : s < D ^ V) (ho : o < N) (h : post (ot_i (gr_s V D ne ef s o))) : wpX_stepFrom post ((nI V), (nI D), (nI (D ^ V)), (nI N), il, mt, iv, hz, ib, br, (ot_n c), (ot_o ne), (ot_o ef), (ot_n b), (ot_o g), (ot_n (ot_pw V D)), (ot_o sp), (ot_n im), (ot_n qu), (ot_n tg), (ot_n sg), (ot_n hp), (ot_n pl), (ot_n on), (ot_n tw), ns, es, ha, (ot_n ca), (ot_n ta), (ot_n ua)) (nI s) (nI o) := by
  refine ⟨V + 1, ?_⟩
  have h1 := wa_stl (post := post) (s := s) (o := o) (il := il) (mt := mt) (iv := iv) (hz := hz) (ib := ib) (br := br) (sp := sp) (im := im) (qu := qu) (tg := tg) (sg := sg) (hp := hp) (pl := pl) (on := on) (tw := tw) (ca := ca) (ta := ta) (ua := ua) (ns := ns) (es := es) (ha := ha) hT hs ho h (V + 1) 0 (by omega) (by omega) (fun w hw => by omega)
  have e : cd_c D (wa_sf D ef s o 0) V = s := by
    rw [cd_ext (f := wa_sf D ef s o 0) (g := cd_d D s) V (fun w hw => if_neg (by omega)), cd_of' hs]
  rw [e] at h1
  exact h1
theorem wa_gol {post : Int32 → Prop} {s : Nat} (hT : gr_T V D N c b ne ef g) (hs : s < D ^ V) (h : post (ot_b (gr_g V D g s))) : ∀ n v (q : Prop), v ≤ V → V - v < n → (q ↔ ∀ w, w < v → ∀ x, g w = some x → x = cd_d D s w) → wX_isGoal_4 post (nI s) (nI V) (nI D) (nI (D ^ V)) (nI N) il mt iv hz ib br (ot_n c) (ot_o ne) (ot_o ef) (ot_n b) (ot_o g) (ot_n (ot_pw V D)) (ot_o sp) (ot_n im) (ot_n qu) (ot_n tg) (ot_n sg) (ot_n hp) (ot_n pl) (ot_n on) (ot_n tw) ns es ha (ot_n ca) (ot_n ta) (ot_n ua) n (ot_b q) (nI v) := by
  obtain ⟨⟨hV1, hV⟩, ⟨hD, hD4⟩, hN, hc, hb, hne, hef, hg⟩ := id hT
  intro n
  induction n with
  | zero => intro v q _ h; omega
  | succ n ih =>
    intro v q hv hn hq
    refine pk_le V v (fun hx => ?_) (fun hx => ?_)
    · have e : q ↔ gr_g V D g s := by rw [hq, show v = V from by omega]; exact Iff.rfl
      rw [propext e]
      refine ⟨?_, h⟩
      by_cases k : gr_g V D g s
      · rw [ot_bt k]; exact narrow_b1
      · rw [ot_bf k]; exact narrow_b0
    · refine wa_dg hT hs hx ?_
      have k1 : ∀ q2 : Prop, (q2 ↔ ∀ w, w < v + 1 → ∀ x, g w = some x → x = cd_d D s w) → ∀ z, z = ot_b q2 → ∀ x3, x3 = nI v + 1 → wX_isGoal_4 post (nI s) (nI V) (nI D) (nI (D ^ V)) (nI N) il mt iv hz ib br (ot_n c) (ot_o ne) (ot_o ef) (ot_n b) (ot_o g) (ot_n (ot_pw V D)) (ot_o sp) (ot_n im) (ot_n qu) (ot_n tg) (ot_n sg) (ot_n hp) (ot_n pl) (ot_n on) (ot_n tw) ns es ha (ot_n ca) (ot_n ta) (ot_n ua) n z x3 := fun q2 h2 z e1 x3 e2 => by
        rw [e1, e2, nI_1]; exact ih (v + 1) q2 (by omega) (by omega) h2
      have hd := cd_dl (B := D) (by omega) s v
      refine ot_bb q (fun hq0 => ?_) (fun hq1 => ?_)
      · exact k1 False ⟨fun h => h.elim, fun a => hq0 (hq.mpr (fun w hw => a w (by omega)))⟩ 0 (ot_bf id).symm
      · rw [ot_ro _ (by omega)]
        have hq2 := hq.mp hq1
        refine ⟨pk_in v 5 (by omega), ot_bo _ (fun y e => by have := hg v hx y e; omega) (fun e => ?_) (fun y e => ?_)⟩
        · refine k1 True ⟨fun _ w hw x e2 => ?_, fun _ => trivial⟩ 1 (ot_bt trivial).symm
          by_cases d : w = v
          · rw [d, e] at e2; exact nomatch e2
          · exact hq2 w (by omega) x e2
        · rw [e]
          have hy := hg v hx y e
          refine ⟨pk_in v 5 (by omega), pk_eq y (cd_d D s v) (fun k => ?_) (fun k => ?_)⟩
          · refine k1 True ⟨fun _ w hw x e2 => ?_, fun _ => trivial⟩ 1 (ot_bt trivial).symm
            by_cases d : w = v
            · rw [d, e] at e2; rw [d, ← Option.some.inj e2]; exact k
            · exact hq2 w (by omega) x e2
          · exact k1 False ⟨fun h => h.elim, fun a => k (a v (by omega) y e)⟩ 0 (ot_bf id).symm
theorem wa_go {post : Int32 → Prop} {s : Nat} (hT : gr_T V D N c b ne ef g) (hs : s < D ^ V) (h : post (ot_b (gr_g V D g s))) : wpX_isGoal post ((nI V), (nI D), (nI (D ^ V)), (nI N), il, mt, iv, hz, ib, br, (ot_n c), (ot_o ne), (ot_o ef), (ot_n b), (ot_o g), (ot_n (ot_pw V D)), (ot_o sp), (ot_n im), (ot_n qu), (ot_n tg), (ot_n sg), (ot_n hp), (ot_n pl), (ot_n on), (ot_n tw), ns, es, ha, (ot_n ca), (ot_n ta), (ot_n ua)) (nI s) := by
  refine ⟨V + 1, ?_⟩
  have h1 := wa_gol (post := post) (s := s) (il := il) (mt := mt) (iv := iv) (hz := hz) (ib := ib) (br := br) (sp := sp) (im := im) (qu := qu) (tg := tg) (sg := sg) (hp := hp) (pl := pl) (on := on) (tw := tw) (ca := ca) (ta := ta) (ua := ua) (ns := ns) (es := es) (ha := ha) hT hs h (V + 1) 0 True (by omega) (by omega) ⟨fun _ w hw => by omega, fun _ => trivial⟩
  rw [ot_bt trivial] at h1
  exact h1
end WA
end
section
section WL
variable {V D N : Nat} {il mt iv hz ib br : Int32} {c b : Nat → Nat} {ne ef g sp : Nat → Option Nat} {im qu tg sg hp pl on tw ca ta ua : Nat → Nat} {ns es ha : Nat → Int32}
theorem wl_so0 {post : Int32 → Prop} {o : Nat} (hT : gr_T V D N c b ne ef g) (ho : o < N) (h : post (mk_m (fun w => ne (5 * o + w)) V)) : ∀ n v, v ≤ V → V - v < n → wX_setOf_5 post (nI o) 0 (nI V) (nI D) (nI (D ^ V)) (nI N) il mt iv hz ib br (ot_n c) (ot_o ne) (ot_o ef) (ot_n b) (ot_o g) (ot_n (ot_pw V D)) (ot_o sp) (ot_n im) (ot_n qu) (ot_n tg) (ot_n sg) (ot_n hp) (ot_n pl) (ot_n on) (ot_n tw) ns es ha (ot_n ca) (ot_n ta) (ot_n ua) n (mk_m (fun w => ne (5 * o + w)) v) (nI v) := by
  obtain ⟨⟨hV1, hV⟩, ⟨hD, hD4⟩, hN, hc, hb, hne, hef, hg⟩ := id hT
  intro n
  induction n with
  | zero => intro v _ h; omega
  | succ n ih =>
    intro v hv hn
    refine pk_le V v (fun hx => ?_) (fun hx => br_t rfl ?_)
    · rw [show v = V from by omega]; exact h
    · have hi : 5 * o + v < 50 := by omega
      rw [ot_ix5, ot_ro _ (by omega)]
      refine ⟨pk_in _ 50 hi, ot_bo _ (fun y e => by have := hne o ho v hx y e; omega) (fun e => ?_) (fun y e => ?_)⟩
      · refine nm_r (nI_1 v) ?_
        rw [← mk_mn (g := fun w => ne (5 * o + w)) e]
        exact ih (v + 1) (by omega) (by omega)
      · rw [e]
        refine nm_r (e' := mk_m (fun w => ne (5 * o + w)) (v + 1)) ?_ (nm_r (nI_1 v) (ih (v + 1) (by omega) (by omega)))
        rw [mk_ms (g := fun w => ne (5 * o + w)) e]
        show _ ||| (1 <<< ((4 * nI v + nI y) &&& 31)) = _
        rw [ot_ix4]
theorem wl_so1 {post : Int32 → Prop} {o : Nat} (hT : gr_T V D N c b ne ef g) (ho : o < N) (h : post (mk_m (fun w => ef (5 * o + w)) V)) : ∀ n v, v ≤ V → V - v < n → wX_setOf_5 post (nI o) 1 (nI V) (nI D) (nI (D ^ V)) (nI N) il mt iv hz ib br (ot_n c) (ot_o ne) (ot_o ef) (ot_n b) (ot_o g) (ot_n (ot_pw V D)) (ot_o sp) (ot_n im) (ot_n qu) (ot_n tg) (ot_n sg) (ot_n hp) (ot_n pl) (ot_n on) (ot_n tw) ns es ha (ot_n ca) (ot_n ta) (ot_n ua) n (mk_m (fun w => ef (5 * o + w)) v) (nI v) := by
  obtain ⟨⟨hV1, hV⟩, ⟨hD, hD4⟩, hN, hc, hb, hne, hef, hg⟩ := id hT
  intro n
  induction n with
  | zero => intro v _ h; omega
  | succ n ih =>
    intro v hv hn
    refine pk_le V v (fun hx => ?_) (fun hx => br_f ot_10 ?_)
    · rw [show v = V from by omega]; exact h
    · have hi : 5 * o + v < 50 := by omega
      rw [ot_ix5, ot_ro _ (by omega)]
      refine ⟨pk_in _ 50 hi, ot_bo _ (fun y e => by have := hef o ho v hx y e; omega) (fun e => ?_) (fun y e => ?_)⟩
      · refine nm_r (nI_1 v) ?_
        rw [← mk_mn (g := fun w => ef (5 * o + w)) e]
        exact ih (v + 1) (by omega) (by omega)
      · rw [e]
        refine nm_r (e' := mk_m (fun w => ef (5 * o + w)) (v + 1)) ?_ (nm_r (nI_1 v) (ih (v + 1) (by omega) (by omega)))
        rw [mk_ms (g := fun w => ef (5 * o + w)) e]
        show _ ||| (1 <<< ((4 * nI v + nI y) &&& 31)) = _
        rw [ot_ix4]
/-- what layOut lays -/
def wl_L (V D N : Nat) (ne ef sp : Nat → Option Nat) (ns es : Nat → Int32) : Prop :=
  (∀ s, s < D ^ V → ∀ o, o < N → sp (10 * s + o) = gr_s V D ne ef s o) ∧ (∀ o, o < N → ns o = mk_m (fun w => ne (5 * o + w)) V) ∧ ∀ o, o < N → es o = mk_m (fun w => ef (5 * o + w)) V
theorem wl_59 {post : SX → Prop} (hT : gr_T V D N c b ne ef g) (hsp : ∀ s, s < D ^ V → ∀ o, o < N → sp (10 * s + o) = gr_s V D ne ef s o) (h : ∀ ns es, wl_L V D N ne ef sp ns es → post ((nI V), (nI D), (nI (D ^ V)), (nI N), 1, mt, iv, hz, ib, br, (ot_n c), (ot_o ne), (ot_o ef), (ot_n b), (ot_o g), (ot_n (ot_pw V D)), (ot_o sp), (ot_n im), (ot_n qu), (ot_n tg), (ot_n sg), (ot_n hp), (ot_n pl), (ot_n on), (ot_n tw), ns, es, ha, (ot_n ca), (ot_n ta), (ot_n ua))) : ∀ n o (ns es : Nat → Int32), o ≤ N → N - o < n → (∀ o', o' < o → ns o' = mk_m (fun w => ne (5 * o' + w)) V) → (∀ o', o' < o → es o' = mk_m (fun w => ef (5 * o' + w)) V) → wX_layOut_59 post (nI V) (nI D) (nI (D ^ V)) (nI N) il mt iv hz ib br n (nI o) (ot_n c) (ot_o ne) (ot_o ef) (ot_n b) (ot_o g) (ot_n (ot_pw V D)) (ot_o sp) (ot_n im) (ot_n qu) (ot_n tg) (ot_n sg) (ot_n hp) (ot_n pl) (ot_n on) (ot_n tw) ns es ha (ot_n ca) (ot_n ta) (ot_n ua) := by
  obtain ⟨⟨hV1, hV⟩, ⟨hD, hD4⟩, hN, hc, hb, hne, hef, hg⟩ := id hT
  intro n
  induction n with
  | zero => intro o _ _ _ h; omega
  | succ n ih =>
    intro o ns es ho hn h1 h2
    refine pk_le N o (fun hx => ?_) (fun hx => ?_)
    · exact h ns es ⟨hsp, fun o' a => h1 o' (by omega), fun o' a => h2 o' (by omega)⟩
    · refine ⟨V + 1, wl_so0 hT hx ?_ (V + 1) 0 (by omega) (by omega)⟩
      refine ⟨pk_in o 10 (by omega), nm_r (e' := upd ns o (mk_m (fun w => ne (5 * o + w)) V)) (by rw [nI_clamp (by omega)]) ?_⟩
      refine ⟨V + 1, wl_so1 hT hx ?_ (V + 1) 0 (by omega) (by omega)⟩
      refine ⟨pk_in o 10 (by omega), nm_r (e' := upd es o (mk_m (fun w => ef (5 * o + w)) V)) (by rw [nI_clamp (by omega)]) (nm_r (nI_1 o) (ih (o + 1) _ _ (by omega) (by omega) (fun o' a => ?_) (fun o' a => ?_)))⟩
      · by_cases e : o' = o
        · subst e; exact pk_us
        · rw [pk_un e]; exact h1 o' (by omega)
      · by_cases e : o' = o
        · subst e; exact pk_us
        · rw [pk_un e]; exact h2 o' (by omega)
theorem wl_20 {post : SX → Prop} {J : Int32 → (Nat → Int32) → (Nat → Int32) → (Nat → Int32) → (Nat → Int32) → (Nat → Int32) → (Nat → Int32) → (Nat → Int32) → (Nat → Int32) → (Nat → Int32) → (Nat → Int32) → (Nat → Int32) → (Nat → Int32) → (Nat → Int32) → (Nat → Int32) → (Nat → Int32) → (Nat → Int32) → (Nat → Int32) → (Nat → Int32) → (Nat → Int32) → (Nat → Int32) → (Nat → Int32) → Prop} {s : Nat} (hT : gr_T V D N c b ne ef g) (hs : s < D ^ V)
    (hJ : ∀ sp, (∀ s', s' < s + 1 → ∀ o, o < N → sp (10 * s' + o) = gr_s V D ne ef s' o) → J (nI (s + 1)) (ot_n c) (ot_o ne) (ot_o ef) (ot_n b) (ot_o g) (ot_n (ot_pw V D)) (ot_o sp) (ot_n im) (ot_n qu) (ot_n tg) (ot_n sg) (ot_n hp) (ot_n pl) (ot_n on) (ot_n tw) ns es ha (ot_n ca) (ot_n ta) (ot_n ua)) : ∀ n o (sp : Nat → Option Nat), o ≤ N → N - o < n → (∀ s', s' < s → ∀ o, o < N → sp (10 * s' + o) = gr_s V D ne ef s' o) → (∀ o', o' < o → sp (10 * s + o') = gr_s V D ne ef s o') → wX_layOut_20 post J (nI s) (nI V) (nI D) (nI (D ^ V)) (nI N) il mt iv hz ib br n (nI o) (ot_n c) (ot_o ne) (ot_o ef) (ot_n b) (ot_o g) (ot_n (ot_pw V D)) (ot_o sp) (ot_n im) (ot_n qu) (ot_n tg) (ot_n sg) (ot_n hp) (ot_n pl) (ot_n on) (ot_n tw) ns es ha (ot_n ca) (ot_n ta) (ot_n ua) := by
  obtain ⟨⟨hV1, hV⟩, ⟨hD, hD4⟩, hN, hc, hb, hne, hef, hg⟩ := id hT
  have hM : D ^ V ≤ 1024 := gr_M hV hD4
  intro n
  induction n with
  | zero => intro o _ _ h; omega
  | succ n ih =>
    intro o sp ho hn h1 h2
    refine pk_le N o (fun hx => ?_) (fun hx => ?_)
    · refine nm_r (nI_1 s) (hJ sp (fun s' a o' b' => ?_))
      by_cases e : s' = s
      · rw [e]; exact h2 o' (by omega)
      · exact h1 s' (by omega) o' b'
    · refine wa_st hT hs hx ?_
      rw [ot_ix10]
      refine ⟨vp_in_nI (N := 10240) (by omega) (by omega), nm_r (ot_updo' sp (nI_clamp (by omega)) rfl) (nm_r (nI_1 o) (ih (o + 1) _ (by omega) (by omega) (fun s' a o' b' => ?_) (fun o' a => ?_)))⟩
      · rw [ot_un (by omega)]; exact h1 s' a o' b'
      · by_cases e : o' = o
        · subst e; exact ot_us
        · rw [ot_un (by omega)]; exact h2 o' (by omega)
theorem wl_10 {post : SX → Prop} (hT : gr_T V D N c b ne ef g) (h : ∀ sp ns es, wl_L V D N ne ef sp ns es → post ((nI V), (nI D), (nI (D ^ V)), (nI N), 1, mt, iv, hz, ib, br, (ot_n c), (ot_o ne), (ot_o ef), (ot_n b), (ot_o g), (ot_n (ot_pw V D)), (ot_o sp), (ot_n im), (ot_n qu), (ot_n tg), (ot_n sg), (ot_n hp), (ot_n pl), (ot_n on), (ot_n tw), ns, es, ha, (ot_n ca), (ot_n ta), (ot_n ua))) : ∀ n s (sp : Nat → Option Nat), s ≤ D ^ V → D ^ V - s < n → (∀ s', s' < s → ∀ o, o < N → sp (10 * s' + o) = gr_s V D ne ef s' o) → wX_layOut_10 post (nI V) (nI D) (nI (D ^ V)) (nI N) il mt iv hz ib br n (nI s) (ot_n c) (ot_o ne) (ot_o ef) (ot_n b) (ot_o g) (ot_n (ot_pw V D)) (ot_o sp) (ot_n im) (ot_n qu) (ot_n tg) (ot_n sg) (ot_n hp) (ot_n pl) (ot_n on) (ot_n tw) ns es ha (ot_n ca) (ot_n ta) (ot_n ua) := by
  obtain ⟨⟨hV1, hV⟩, ⟨hD, hD4⟩, hN, hc, hb, hne, hef, hg⟩ := id hT
  have hM : D ^ V ≤ 1024 := gr_M hV hD4
  intro n
  induction n with
  | zero => intro s _ _ h; omega
  | succ n ih =>
    intro s sp hs hn h1
    refine pk_le (D ^ V) s (fun hx => ?_) (fun hx => ?_)
    · exact ⟨N + 1, wl_59 hT (fun s' a => h1 s' (by omega)) (fun ns es => h sp ns es) (N + 1) 0 ns es (by omega) (by omega) (fun o' a => by omega) (fun o' a => by omega)⟩
    · exact ⟨N + 1, wl_20 hT hx (fun sp' h2 => ih (s + 1) sp' (by omega) (by omega) h2) (N + 1) 0 sp (by omega) (by omega) h1 (fun o' a => by omega)⟩
theorem wl_lay {post : SX → Prop} (hT : gr_T V D N c b ne ef g) (hl : ¬ il = 0 → wl_L V D N ne ef sp ns es) (h : ∀ il sp ns es, ¬ il = 0 → wl_L V D N ne ef sp ns es → post ((nI V), (nI D), (nI (D ^ V)), (nI N), il, mt, iv, hz, ib, br, (ot_n c), (ot_o ne), (ot_o ef), (ot_n b), (ot_o g), (ot_n (ot_pw V D)), (ot_o sp), (ot_n im), (ot_n qu), (ot_n tg), (ot_n sg), (ot_n hp), (ot_n pl), (ot_n on), (ot_n tw), ns, es, ha, (ot_n ca), (ot_n ta), (ot_n ua))) : wpX_layOut post ((nI V), (nI D), (nI (D ^ V)), (nI N), il, mt, iv, hz, ib, br, (ot_n c), (ot_o ne), (ot_o ef), (ot_n b), (ot_o g), (ot_n (ot_pw V D)), (ot_o sp), (ot_n im), (ot_n qu), (ot_n tg), (ot_n sg), (ot_n hp), (ot_n pl), (ot_n on), (ot_n tw), ns, es, ha, (ot_n ca), (ot_n ta), (ot_n ua)) := by
  refine br_c (fun e => ?_) (fun e => h il sp ns es e (hl e))
  exact ⟨D ^ V + 1, wl_10 hT (fun sp ns es => h 1 sp ns es ot_10) (D ^ V + 1) 0 sp (by omega) (by omega) (fun s' a => by omega)⟩
/-- a state without a fact (or no fact given) -/
def wl_ok (D : Nat) (fct : Option Nat) (s : Nat) : Prop := ∀ f, fct = some f → ¬ cd_d D s (f / 4) = f % 4
theorem wl_hf {post : Int32 → Prop} {s : Nat} {fct : Option Nat} (hT : gr_T V D N c b ne ef g) (hs : s < D ^ V) (hf : ∀ f, fct = some f → f / 4 < V) (h : post (ot_b (¬ wl_ok D fct s))) : wpX_hasFact post ((nI V), (nI D), (nI (D ^ V)), (nI N), il, mt, iv, hz, ib, br, (ot_n c), (ot_o ne), (ot_o ef), (ot_n b), (ot_o g), (ot_n (ot_pw V D)), (ot_o sp), (ot_n im), (ot_n qu), (ot_n tg), (ot_n sg), (ot_n hp), (ot_n pl), (ot_n on), (ot_n tw), ns, es, ha, (ot_n ca), (ot_n ta), (ot_n ua)) (nI s) (ot_i fct) := by
  obtain ⟨⟨hV1, hV⟩, ⟨hD, hD4⟩, hN, hc, hb, hne, hef, hg⟩ := id hT
  refine ot_bo fct (fun f e => by have := hf f e; omega) (fun e => ?_) (fun f e => ?_)
  · rw [ot_bf (fun a => a (fun f e2 => by rw [e] at e2; exact nomatch e2))] at h
    exact h
  · have hf2 := hf f e
    rw [e, ot_is, ot_r4 (by omega), ot_d4 (by omega)]
    refine ⟨ot_n4, wa_dg hT hs hf2 ⟨ot_n4, ?_⟩⟩
    have hd := cd_dl (B := D) (by omega) s (f / 4)
    refine pk_eq (cd_d D s (f / 4)) (f % 4) (fun k => ?_) (fun k => ?_)
    · rw [ot_bt (fun a => a f e k)] at h; exact h
    · rw [ot_bf (fun a => a (fun f2 e2 => by rw [e] at e2; rw [← Option.some.inj e2]; exact k))] at h; exact h
end WL
end
section
section YA
variable {V D N : Nat} {rz : Int32} {c b : Nat → Nat} {ne ef g : Nat → Option Nat} {ls fw me bk bd rs : Nat → Nat}
theorem ya_or (a b : Nat) : nI a ||| nI b = nI (a ||| b) := by
  apply Int32.toBitVec_inj.1
  show BitVec.ofNat 32 a ||| BitVec.ofNat 32 b = BitVec.ofNat 32 (a ||| b)
  apply BitVec.eq_of_getLsbD_eq
  intro i hi
  simp [hi]
theorem ya_p4 (v : Nat) : 2 ^ (2 * v) = 4 ^ v := by rw [Nat.pow_mul]
theorem ya_sl {a v : Nat} (hv : v ≤ 5) (ha : a ≤ 4) : nI a <<< ((2 * nI v) &&& 31) = nI (a * 4 ^ v) := by
  have h4 : 4 ^ v ≤ 1024 := gr_M4 hv
  have h5 : a * 4 ^ v ≤ 4 * 1024 := Nat.mul_le_mul ha h4
  rw [ot_m2, pk_shlN (n := a) (nI (2 * v) &&& 31) (2 * v) (s_l (2 * v) (by omega)) (by rw [ya_p4]; omega), ya_p4]
theorem ya_vl {t v : Nat} (ht : t < 2 ^ 31) (hv : v ≤ 5) : (nI t >>> ((2 * nI v) &&& 31)) &&& 3 = nI (cd_d 4 t v) := by
  rw [ot_m2, pk_shrN ht (nI (2 * v) &&& 31) (2 * v) (s_l (2 * v) (by omega)), pk_andN (Nat.lt_of_le_of_lt (Nat.div_le_self _ _) (by omega)) 2 (by decide), ya_p4]
  rfl
theorem ya_st (hT : gr_T V D N c b ne ef g) : (1 : Int32) <<< ((2 * nI V) &&& 31) = nI (4 ^ V) := by
  have := ya_sl (a := 1) (v := V) hT.1.2 (by omega)
  rw [Nat.one_mul] at this
  exact this
theorem ya_sta {post : Int32 → Prop} (hT : gr_T V D N c b ne ef g) (h : post (nI (4 ^ V))) : wpY_states post ((nI V), (nI D), (nI N), rz, (ot_n c), (ot_o ne), (ot_o ef), (ot_n b), (ot_o g), (ot_n ls), (ot_n fw), (ot_n me), (ot_n bk), (ot_n bd), (ot_n rs)) := by
  rw [← ya_st hT] at h
  exact h
theorem ya_vi {post : Int32 → Prop} {t v : Nat} (ht : t < 2 ^ 31) (hv : v ≤ 5) (h : post (nI (cd_d 4 t v))) : wpY_valueIn post ((nI V), (nI D), (nI N), rz, (ot_n c), (ot_o ne), (ot_o ef), (ot_n b), (ot_o g), (ot_n ls), (ot_n fw), (ot_n me), (ot_n bk), (ot_n bd), (ot_n rs)) (nI t) (nI v) := by
  rw [← ya_vl ht hv] at h
  exact h
theorem ya_begl {post : Int32 → Prop} (hT : gr_T V D N c b ne ef g) (h : post (nI (cd_c 4 b V))) : ∀ n v, v ≤ V → V - v < n → wY_beginState_4 post (nI V) (nI D) (nI N) rz (ot_n c) (ot_o ne) (ot_o ef) (ot_n b) (ot_o g) (ot_n ls) (ot_n fw) (ot_n me) (ot_n bk) (ot_n bd) (ot_n rs) n (nI (cd_c 4 b v)) (nI v) := by
  obtain ⟨⟨hV1, hV⟩, ⟨hD, hD4⟩, hN, hc, hb, hne, hef, hg⟩ := id hT
  intro n
  induction n with
  | zero => intro v _ h; omega
  | succ n ih =>
    intro v hv hn
    refine pk_le V v (fun hx => ?_) (fun hx => ?_)
    · rw [show v = V from by omega]; exact h
    · have hbv := hb v hx
      refine ⟨pk_in v 5 (by omega), nm_r (e' := nI (cd_c 4 b (v + 1))) ?_ (nm_r (nI_1 v) (ih (v + 1) (by omega) (by omega)))⟩
      have hl := cd_lt (B := 4) (f := b) v (fun w hw => by have := hb w (by omega); omega)
      rw [ot_r _ (by omega), ya_sl (by omega) (by omega), ya_or, cd_s]
      have h2 := Nat.two_pow_add_eq_or_of_lt (i := 2 * v) (b := cd_c 4 b v) (by rw [ya_p4]; exact hl) (b v)
      rw [ya_p4, Nat.mul_comm] at h2
      rw [Nat.or_comm, ← h2, Nat.add_comm]
theorem ya_beg {post : Int32 → Prop} (hT : gr_T V D N c b ne ef g) (h : post (nI (gr_e V D (cd_c D b V)))) : wpY_beginState post ((nI V), (nI D), (nI N), rz, (ot_n c), (ot_o ne), (ot_o ef), (ot_n b), (ot_o g), (ot_n ls), (ot_n fw), (ot_n me), (ot_n bk), (ot_n bd), (ot_n rs)) := by
  obtain ⟨⟨hV1, hV⟩, ⟨hD, hD4⟩, hN, hc, hb, hne, hef, hg⟩ := id hT
  refine ⟨V + 1, ya_begl hT ?_ (V + 1) 0 (by omega) (by omega)⟩
  have e : cd_c 4 b V = gr_e V D (cd_c D b V) := cd_ext V (fun v hv => (cd_dg (by omega) V hb v hv).symm)
  rw [e]; exact h
theorem ya_isl {post : Int32 → Prop} {t : Nat} (hT : gr_T V D N c b ne ef g) (ht : t < 4 ^ V) (h : post (ot_b (∀ v, v < V → cd_d 4 t v < D))) : ∀ n v, v ≤ V → V - v < n → (∀ w, w < v → cd_d 4 t w < D) → wY_isState_2 post (nI t) (nI V) (nI D) (nI N) rz (ot_n c) (ot_o ne) (ot_o ef) (ot_n b) (ot_o g) (ot_n ls) (ot_n fw) (ot_n me) (ot_n bk) (ot_n bd) (ot_n rs) n (nI v) := by
  obtain ⟨⟨hV1, hV⟩, ⟨hD, hD4⟩, hN, hc, hb, hne, hef, hg⟩ := id hT
  have h4 : 4 ^ V ≤ 1024 := gr_M4 hV
  intro n
  induction n with
  | zero => intro v _ h; omega
  | succ n ih =>
    intro v hv hn hw
    refine pk_le V v (fun hx => ?_) (fun hx => ?_)
    · rw [ot_bt (fun w a => hw w (by omega))] at h; exact h
    · refine ya_vi (by omega) (by omega) ?_
      have hd := cd_dl (B := 4) (by omega) t v
      refine pk_lt (cd_d 4 t v) D (fun k => nm_r (nI_1 v) (ih (v + 1) (by omega) (by omega) (fun w a => ?_))) (fun k => ?_)
      · by_cases e : w = v
        · rw [e]; exact k
        · exact hw w (by omega)
      · rw [ot_bf (fun a => by have := a v hx; omega)] at h; exact h
theorem ya_is {post : Int32 → Prop} {t : Nat} (hT : gr_T V D N c b ne ef g) (ht : t < 4 ^ V) (h : post (ot_b (∀ v, v < V → cd_d 4 t v < D))) : wpY_isState post ((nI V), (nI D), (nI N), rz, (ot_n c), (ot_o ne), (ot_o ef), (ot_n b), (ot_o g), (ot_n ls), (ot_n fw), (ot_n me), (ot_n bk), (ot_n bd), (ot_n rs)) (nI t) :=
  ⟨V + 1, ya_isl hT ht h (V + 1) 0 (by omega) (by omega) (fun w a => by omega)⟩
theorem ya_gol {post : Int32 → Prop} {s : Nat} (hT : gr_T V D N c b ne ef g) (h : post (ot_b (gr_g V D g s))) : ∀ n v, v ≤ V → V - v < n → (∀ w, w < v → ∀ x, g w = some x → x = cd_d D s w) → wY_isGoal_2 post (nI (gr_e V D s)) (nI V) (nI D) (nI N) rz (ot_n c) (ot_o ne) (ot_o ef) (ot_n b) (ot_o g) (ot_n ls) (ot_n fw) (ot_n me) (ot_n bk) (ot_n bd) (ot_n rs) n (nI v) := by
  obtain ⟨⟨hV1, hV⟩, ⟨hD, hD4⟩, hN, hc, hb, hne, hef, hg⟩ := id hT
  have h4 : 4 ^ V ≤ 1024 := gr_M4 hV
  have hel := gr_el (V := V) (s := s) hD hD4
  intro n
  induction n with
  | zero => intro v _ h; omega
  | succ n ih =>
    intro v hv hn hw
    refine pk_le V v (fun hx => ?_) (fun hx => ?_)
    · rw [ot_bt (show gr_g V D g s from fun w a => hw w (by omega))] at h; exact h
    · rw [ot_ro _ (by omega)]
      have k1 : (∀ x, g v = some x → x = cd_d D s v) → ∀ x2, x2 = nI v + 1 → wY_isGoal_2 post (nI (gr_e V D s)) (nI V) (nI D) (nI N) rz (ot_n c) (ot_o ne) (ot_o ef) (ot_n b) (ot_o g) (ot_n ls) (ot_n fw) (ot_n me) (ot_n bk) (ot_n bd) (ot_n rs) n x2 := fun hk x2 e2 => by
        rw [e2, nI_1]
        refine ih (v + 1) (by omega) (by omega) (fun w a => ?_)
        by_cases e : w = v
        · rw [e]; exact hk
        · exact hw w (by omega)
      refine ⟨pk_in v 5 (by omega), ot_bl _ (fun y e => by have := hg v hx y e; omega) (fun e => ?_) (fun y e => ?_)⟩
      · exact k1 (fun x e2 => by rw [e] at e2; exact nomatch e2)
      · have hy := hg v hx y e
        have hd := cd_dl (B := D) (by omega) s v
        refine ⟨pk_in v 5 (by omega), ya_vi (by omega) (by omega) ?_⟩
        rw [gr_ed hD hD4 hx, e]
        refine pk_eq y (cd_d D s v) (fun k => k1 (fun x e2 => ?_)) (fun k => ?_)
        · rw [e] at e2; rw [← Option.some.inj e2]; exact k
        · rw [ot_bf (fun a => k (a v hx y e))] at h; exact h
theorem ya_go {post : Int32 → Prop} {s : Nat} (hT : gr_T V D N c b ne ef g) (h : post (ot_b (gr_g V D g s))) : wpY_isGoal post ((nI V), (nI D), (nI N), rz, (ot_n c), (ot_o ne), (ot_o ef), (ot_n b), (ot_o g), (ot_n ls), (ot_n fw), (ot_n me), (ot_n bk), (ot_n bd), (ot_n rs)) (nI (gr_e V D s)) :=
  ⟨V + 1, ya_gol hT h (V + 1) 0 (by omega) (by omega) (fun w a => by omega)⟩
theorem ya_us {s o v e : Nat} (hT : gr_T V D N c b ne ef g) (ho : o < N) (hv : v < V) (h : ef (5 * o + v) = some e) : (nI (cd_c 4 (wa_sf D ef s o v) V) &&& (((3 : Int32) <<< ((2 * nI v) &&& 31)) ^^^ (-1))) ||| (nI e <<< ((2 * nI v) &&& 31)) = nI (cd_c 4 (wa_sf D ef s o (v + 1)) V) := by
  obtain ⟨⟨hV1, hV⟩, ⟨hD, hD4⟩, hN, hc, hb, hne, hef, hg⟩ := id hT
  have he := hef o ho v hv e h
  have hl : ∀ u w, w < V → wa_sf D ef s o u w < 4 := fun u w hw => by
    unfold wa_sf
    have h1 := gr_td (s := s) hD (hef o ho) w hw
    have h2 := cd_dl (B := D) (by omega) s w
    split <;> omega
  have h4 : 4 ^ V ≤ 1024 := gr_M4 hV
  have hlt := cd_lt (B := 4) V (hl v)
  rw [ya_tab v (by omega) e (by omega) _ (by omega)]
  have h1 := cd_upd (B := 4) (f := wa_sf D ef s o v) (v := v) (e := e) V hv
  have h2 : wa_sf D ef s o v v = cd_d D s v := if_neg (Nat.lt_irrefl v)
  have h3 : cd_c 4 (ot_u (wa_sf D ef s o v) v e) V = cd_c 4 (wa_sf D ef s o (v + 1)) V := by
    refine cd_ext V (fun w hw => ?_)
    by_cases a : w = v
    · subst a
      rw [ot_us]; unfold wa_sf; rw [if_pos (by omega), h]; rfl
    · rw [ot_un a]; unfold wa_sf
      by_cases d : w < v
      · rw [if_pos d, if_pos (by omega)]
      · rw [if_neg d, if_neg (by omega)]
  have h5 : cd_c 4 (wa_sf D ef s o v) V / 4 ^ v % 4 = wa_sf D ef s o v v := cd_dg (by omega) V (hl v) v hv
  have h6 := Nat.div_mul_le_self (cd_c 4 (wa_sf D ef s o v) V) (4 ^ v)
  have h7 : cd_c 4 (wa_sf D ef s o v) V / 4 ^ v % 4 * 4 ^ v ≤ cd_c 4 (wa_sf D ef s o v) V / 4 ^ v * 4 ^ v := Nat.mul_le_mul_right _ (Nat.mod_le _ _)
  rw [h3] at h1
  rw [h5] at h7 ⊢
  congr 1
  omega
theorem ya_usl {post : Int32 → Prop} {s o : Nat} (hT : gr_T V D N c b ne ef g) (ho : o < N) (h : post (ot_i ((gr_s V D ne ef s o).map (gr_e V D)))) : ∀ n v, v ≤ V → V - v < n → (∀ w, w < v → ∀ x, ne (5 * o + w) = some x → x = cd_d D s w) → wY_use_5 post (nI o) (nI (gr_e V D s)) (nI V) (nI D) (nI N) rz (ot_n c) (ot_o ne) (ot_o ef) (ot_n b) (ot_o g) (ot_n ls) (ot_n fw) (ot_n me) (ot_n bk) (ot_n bd) (ot_n rs) n (nI (cd_c 4 (wa_sf D ef s o v) V)) (nI v) := by
  obtain ⟨⟨hV1, hV⟩, ⟨hD, hD4⟩, hN, hc, hb, hne, hef, hg⟩ := id hT
  have h4 : 4 ^ V ≤ 1024 := gr_M4 hV
  have hel := gr_el (V := V) (s := s) hD hD4
  intro n
  induction n with
  | zero => intro v _ h; omega
  | succ n ih =>
    intro v hv hn hw
    refine pk_le V v (fun hx => ?_) (fun hx => ?_)
    · have hk : gr_ok V D ne s o := fun w hw2 => hw w (by omega)
      rw [gr_st hk] at h
      have e : cd_c 4 (wa_sf D ef s o v) V = gr_e V D (gr_t V D ef s o) := cd_ext V (fun w hw2 => by
        rw [show cd_d D (gr_t V D ef s o) w = _ from cd_dg (by omega) V (gr_td hD (hef o ho)) w hw2]
        exact if_pos (by omega))
      rw [e]; exact h
    · have hi : 5 * o + v < 50 := by omega
      rw [ot_ix5]
      refine ⟨pk_in _ 50 hi, nm_r (ot_ro _ (by omega)) ⟨pk_in _ 50 hi, nm_r (ot_ro _ (by omega)) ?_⟩⟩
      have hj : (∀ x, ne (5 * o + v) = some x → x = cd_d D s v) → wY_use_59 post (wY_use_5 post (nI o) (nI (gr_e V D s)) (nI V) (nI D) (nI N) rz (ot_n c) (ot_o ne) (ot_o ef) (ot_n b) (ot_o g) (ot_n ls) (ot_n fw) (ot_n me) (ot_n bk) (ot_n bd) (ot_n rs) n) (nI o) (nI (gr_e V D s)) (nI (cd_c 4 (wa_sf D ef s o v) V)) (nI v) (ot_i (ef (5 * o + v))) (nI V) (nI D) (nI N) rz (ot_n c) (ot_o ne) (ot_o ef) (ot_n b) (ot_o g) (ot_n ls) (ot_n fw) (ot_n me) (ot_n bk) (ot_n bd) (ot_n rs) := by
        intro hk
        have hw2 : ∀ w, w < v + 1 → ∀ x, ne (5 * o + w) = some x → x = cd_d D s w := fun w a => by
          by_cases d : w = v
          · rw [d]; exact hk
          · exact hw w (by omega)
        refine ot_bl _ (fun y e => by have := hef o ho v hx y e; omega) (fun e => ?_) (fun y e => ?_)
        · refine nm_r (nI_1 v) ?_
          have e3 : cd_c 4 (wa_sf D ef s o (v + 1)) V = cd_c 4 (wa_sf D ef s o v) V := by
            refine cd_ext V (fun w hw => ?_)
            unfold wa_sf
            by_cases a : w < v
            · rw [if_pos a, if_pos (by omega)]
            · rw [if_neg a]
              by_cases d : w < v + 1
              · rw [if_pos d, show w = v from by omega, e]; rfl
              · rw [if_neg d]
          rw [← e3]
          exact ih (v + 1) (by omega) (by omega) hw2
        · rw [e]
          exact nm_r (ya_us hT ho hx e) (nm_r (nI_1 v) (ih (v + 1) (by omega) (by omega) hw2))
      refine ot_bl _ (fun y e => by have := hne o ho v hx y e; omega) (fun e => ?_) (fun y e => ?_)
      · exact hj (fun x e2 => by rw [e] at e2; exact nomatch e2)
      · have hy := hne o ho v hx y e
        have hd := cd_dl (B := D) (by omega) s v
        refine ya_vi (by omega) (by omega) ?_
        rw [gr_ed hD hD4 hx, e]
        refine pk_eq y (cd_d D s v) (fun k => hj (fun x e2 => ?_)) (fun k => ?_)
        · rw [e] at e2; rw [← Option.some.inj e2]; exact k
        · have hk : ¬ gr_ok V D ne s o := fun a => k (a v hx y e)
          rw [gr_sf hk] at h
          exact h
theorem ya_use {post : Int32 → Prop} {s o : Nat} (hT : gr_T V D N c b ne ef g) (ho : o < N) (h : post (ot_i ((gr_s V D ne ef s o).map (gr_e V D)))) : wpY_use post ((nI V), (nI D), (nI N), rz, (ot_n c), (ot_o ne), (ot_o ef), (ot_n b), (ot_o g), (ot_n ls), (ot_n fw), (ot_n me), (ot_n bk), (ot_n bd), (ot_n rs)) (nI o) (nI (gr_e V D s)) := by
  refine ⟨V + 1, ?_⟩
  have e : gr_e V D s = cd_c 4 (wa_sf D ef s o 0) V := cd_ext V (fun w hw => (if_neg (by omega)).symm)
  show wY_use_5 post (nI o) (nI (gr_e V D s)) (nI V) (nI D) (nI N) rz (ot_n c) (ot_o ne) (ot_o ef) (ot_n b) (ot_o g) (ot_n ls) (ot_n fw) (ot_n me) (ot_n bk) (ot_n bd) (ot_n rs) (V + 1) (nI (gr_e V D s)) (nI 0)
  have h1 := ya_usl (rz := rz) (ls := ls) (fw := fw) (me := me) (bk := bk) (bd := bd) (rs := rs) hT ho h (V + 1) 0 (by omega) (by omega) (fun w hw => by omega)
  rw [← e] at h1
  exact h1
end YA
end
section
section BF
variable {M N mt s0 : Nat} {stp : Nat → Nat → Option Nat} {sk : Option Nat} {ok : Nat → Prop} {im qu : Nat → Nat}
/-- states met so far, in a queue -/
def bf_I (M N : Nat) (stp : Nat → Nat → Option Nat) (sk : Option Nat) (ok : Nat → Prop) (s0 : Nat) (im qu : Nat → Nat) (mt : Nat) : Prop :=
  (∀ s, s < M → im s = 0 ∨ (im s = 1 ∧ rc_R N stp sk ok s0 s)) ∧ (∀ j, j < mt → qu j < M ∧ im (qu j) = 1) ∧ (∀ s, s < M → im s = 1 → ∃ j, j < mt ∧ qu j = s) ∧
  ∀ P : Nat → Bool, ct_n (fun j => P (qu j)) mt = ct_n (fun s => decide (im s = 1) && P s) M
def bf_c (N : Nat) (stp : Nat → Nat → Option Nat) (sk : Option Nat) (ok : Nat → Prop) (im : Nat → Nat) (a o : Nat) : Prop := o < N → sk ≠ some o → ∀ p, stp a o = some p → ok p → im p = 1
/-- all that is reached, and no more -/
def bf_F (M N : Nat) (stp : Nat → Nat → Option Nat) (sk : Option Nat) (ok : Nat → Prop) (s0 : Nat) (im qu : Nat → Nat) (mt : Nat) : Prop :=
  mt ≤ M ∧ (∀ j, j < mt → qu j < M ∧ im (qu j) = 1) ∧ (∀ s, s < M → im s = 1 → ∃ j, j < mt ∧ qu j = s) ∧ (∀ P : Nat → Bool, ct_n (fun j => P (qu j)) mt = ct_n (fun s => decide (im s = 1) && P s) M) ∧
  ∀ s, s < M → (im s = 1 ↔ rc_R N stp sk ok s0 s)
theorem bf_0 (h : ∀ s, s < M → im s = 0) : bf_I M N stp sk ok s0 im qu 0 := by
  refine ⟨fun s hs => Or.inl (h s hs), fun j hj => by omega, fun s hs e => by have := h s hs; omega, fun P => ?_⟩
  rw [ct_zero (p := fun s => decide (im s = 1) && P s) (n := M) (fun t ht => by rw [h t ht]; rfl)]; rfl
theorem bf_le (I : bf_I M N stp sk ok s0 im qu mt) : mt ≤ M := by
  have h := I.2.2.2 (fun _ => true)
  rw [ct_full] at h
  rw [h]; exact ct_le _ _
theorem bf_lt (I : bf_I M N stp sk ok s0 im qu mt) {s : Nat} (hs : s < M) (h0 : im s = 0) : mt < M := by
  have h := I.2.2.2 (fun _ => true)
  rw [ct_full] at h
  rw [h]
  exact ct_ltn hs (by rw [h0]; rfl)
theorem bf_m (I : bf_I M N stp sk ok s0 im qu mt) {s : Nat} (hs : s < M) (h0 : im s = 0) (hr : rc_R N stp sk ok s0 s) : bf_I M N stp sk ok s0 (ot_u im s 1) (ot_u qu mt s) (mt + 1) := by
  obtain ⟨I1, I2, I3, I4⟩ := I
  refine ⟨fun t ht => ?_, fun j hj => ?_, fun t ht e => ?_, fun P => ?_⟩
  · by_cases e : t = s
    · rw [e, ot_us]; exact Or.inr ⟨rfl, hr⟩
    · rw [ot_un e]; exact I1 t ht
  · by_cases e : j = mt
    · rw [e, ot_us, ot_us]; exact ⟨hs, rfl⟩
    · have h1 := I2 j (by omega)
      rw [ot_un e]
      refine ⟨h1.1, ?_⟩
      rw [ot_un (fun x => by rw [x, h0] at h1; exact absurd h1.2 (by omega))]
      exact h1.2
  · by_cases k : t = s
    · exact ⟨mt, by omega, by rw [ot_us, k]⟩
    · rw [ot_un k] at e
      obtain ⟨j, hj, x⟩ := I3 t ht e
      exact ⟨j, by omega, by rw [ot_un (by omega)]; exact x⟩
  · rw [ct_s, ot_us]
    have e1 : ct_n (fun j => P (ot_u qu mt s j)) mt = ct_n (fun j => P (qu j)) mt := ct_ext (fun j hj => by rw [ot_un (by omega)])
    rw [e1, I4 P]
    cases e : P s with
    | false =>
      rw [if_neg (by decide), Nat.add_zero]
      refine ct_ext (fun t ht => ?_)
      by_cases k : t = s
      · rw [k, e, Bool.and_false, Bool.and_false]
      · rw [ot_un k]
    | true =>
      rw [if_pos rfl]
      refine (ct_add M s hs (by rw [h0]; rfl) (by rw [ot_us, e]; rfl) (fun t ht k => by rw [ot_un k])).symm
theorem bf_mc {s a o : Nat} (h : bf_c N stp sk ok im a o) : bf_c N stp sk ok (ot_u im s 1) a o := fun ho hk p e hp => by
  by_cases k : p = s
  · rw [k, ot_us]
  · rw [ot_un k]; exact h ho hk p e hp
theorem bf_f (hst : ∀ a o p, a < M → o < N → stp a o = some p → p < M) (h0 : s0 < M) (I : bf_I M N stp sk ok s0 im qu mt) (hs : ok s0 → im s0 = 1) (hc : ∀ j, j < mt → ∀ o, bf_c N stp sk ok im (qu j) o) : bf_F M N stp sk ok s0 im qu mt := by
  refine ⟨bf_le I, I.2.1, I.2.2.1, I.2.2.2, fun s hs2 => ⟨fun e => ?_, fun hr => ?_⟩⟩
  · rcases I.1 s hs2 with k | k
    · omega
    · exact k.2
  · have := hr (fun t => t < M ∧ im t = 1) (fun k => ⟨h0, hs k⟩) (fun a o p ha ho hk e hp => by
      obtain ⟨j, hj, x⟩ := I.2.2.1 a ha.1 ha.2
      refine ⟨hst a o p ha.1 ho e, ?_⟩
      have := hc j hj o ho hk p (by rw [x]; exact e) hp
      exact this)
    exact this.2
end BF
section WS
variable {V D N : Nat} {il mt iv hz ib br : Int32} {c b : Nat → Nat} {ne ef g sp : Nat → Option Nat} {im qu tg sg hp pl on tw ca ta ua : Nat → Nat} {ns es ha : Nat → Int32}
theorem ws_st (hT : gr_T V D N c b ne ef g) : ∀ a o p, a < D ^ V → o < N → gr_s V D ne ef a o = some p → p < D ^ V := fun a o p _ ho e => by
  rw [(gr_si e).2]
  exact gr_tl hT.2.1.1 (hT.2.2.2.2.2.2.1 o ho)
theorem ws_b0 (hT : gr_T V D N c b ne ef g) : cd_c D b V < D ^ V := cd_lt V hT.2.2.2.2.1
theorem ws_me {post : SX → Prop} {k s : Nat} (hs : s < 1024) (hk : k < 1024) (h : post ((nI V), (nI D), (nI (D ^ V)), (nI N), il, (nI (k + 1)), iv, hz, ib, br, (ot_n c), (ot_o ne), (ot_o ef), (ot_n b), (ot_o g), (ot_n (ot_pw V D)), (ot_o sp), (ot_n (ot_u im s 1)), (ot_n (ot_u qu k s)), (ot_n tg), (ot_n sg), (ot_n hp), (ot_n pl), (ot_n on), (ot_n tw), ns, es, ha, (ot_n ca), (ot_n ta), (ot_n ua))) : wpX_meet post ((nI V), (nI D), (nI (D ^ V)), (nI N), il, (nI k), iv, hz, ib, br, (ot_n c), (ot_o ne), (ot_o ef), (ot_n b), (ot_o g), (ot_n (ot_pw V D)), (ot_o sp), (ot_n im), (ot_n qu), (ot_n tg), (ot_n sg), (ot_n hp), (ot_n pl), (ot_n on), (ot_n tw), ns, es, ha, (ot_n ca), (ot_n ta), (ot_n ua)) (nI s) := by
  refine And.intro (pk_in s 1024 hs) (nm_r (ot_upd' im (nI_clamp (by omega)) ot_vb1) ⟨pk_in k 1024 hk, nm_r (ot_upd' qu (nI_clamp (by omega)) rfl) (nm_r (nI_1 k) h)⟩)
theorem ws_69 {post : SX → Prop} {J : Int32 → Int32 → Int32 → Int32 → Int32 → Int32 → Int32 → Int32 → Int32 → Int32 → Int32 → (Nat → Int32) → (Nat → Int32) → (Nat → Int32) → (Nat → Int32) → (Nat → Int32) → (Nat → Int32) → (Nat → Int32) → (Nat → Int32) → (Nat → Int32) → (Nat → Int32) → (Nat → Int32) → (Nat → Int32) → (Nat → Int32) → (Nat → Int32) → (Nat → Int32) → (Nat → Int32) → (Nat → Int32) → (Nat → Int32) → (Nat → Int32) → (Nat → Int32) → (Nat → Int32) → Prop} {sk fct : Option Nat} {s0 i s : Nat} (hT : gr_T V D N c b ne ef g) (hsp : ∀ s, s < D ^ V → ∀ o, o < N → sp (10 * s + o) = gr_s V D ne ef s o) (hf : ∀ f, fct = some f → f / 4 < V) (hsk : ∀ o, sk = some o → o < 10) (hs : s < D ^ V)
    (hJ : ∀ k im qu, bf_I (D ^ V) N (gr_s V D ne ef) sk (wl_ok D fct) s0 im qu k → (wl_ok D fct s0 → im s0 = 1) → i < k → qu i = s → (∀ j, j < i + 1 → ∀ o, bf_c N (gr_s V D ne ef) sk (wl_ok D fct) im (qu j) o) → J (nI (i + 1)) (nI V) (nI D) (nI (D ^ V)) (nI N) il (nI k) iv hz ib br (ot_n c) (ot_o ne) (ot_o ef) (ot_n b) (ot_o g) (ot_n (ot_pw V D)) (ot_o sp) (ot_n im) (ot_n qu) (ot_n tg) (ot_n sg) (ot_n hp) (ot_n pl) (ot_n on) (ot_n tw) ns es ha (ot_n ca) (ot_n ta) (ot_n ua)) :
    ∀ n o k (im qu : Nat → Nat), o ≤ N → N - o < n → bf_I (D ^ V) N (gr_s V D ne ef) sk (wl_ok D fct) s0 im qu k → (wl_ok D fct s0 → im s0 = 1) → i < k → qu i = s → (∀ j, j < i → ∀ o, bf_c N (gr_s V D ne ef) sk (wl_ok D fct) im (qu j) o) → (∀ o', o' < o → bf_c N (gr_s V D ne ef) sk (wl_ok D fct) im s o') →
    wX_spread_69 post J (ot_i fct) (ot_i sk) (nI i) (nI s) n (nI o) (nI V) (nI D) (nI (D ^ V)) (nI N) il (nI k) iv hz ib br (ot_n c) (ot_o ne) (ot_o ef) (ot_n b) (ot_o g) (ot_n (ot_pw V D)) (ot_o sp) (ot_n im) (ot_n qu) (ot_n tg) (ot_n sg) (ot_n hp) (ot_n pl) (ot_n on) (ot_n tw) ns es ha (ot_n ca) (ot_n ta) (ot_n ua) := by
  obtain ⟨⟨hV1, hV⟩, ⟨hD, hD4⟩, hN, hc, hb, hne, hef, hg⟩ := id hT
  have hM : D ^ V ≤ 1024 := gr_M hV hD4
  intro n
  induction n with
  | zero => intro o k im qu _ h; omega
  | succ n ih =>
    intro o k im qu ho hn hI h0 hik hqi hc1 hc2
    have hkM := bf_le hI
    refine pk_le N o (fun hx => ?_) (fun hx => ?_)
    · refine nm_r (nI_1 i) (hJ k im qu hI h0 hik hqi (fun j hj o' => ?_))
      by_cases e : j = i
      · rw [e, hqi]
        by_cases e2 : o' < N
        · exact hc2 o' (by omega)
        · intro e3; exact absurd e3 e2
      · exact hc1 j (by omega) o'
    · have hgo : bf_c N (gr_s V D ne ef) sk (wl_ok D fct) im s o → ∀ x6, x6 = nI o + 1 → wX_spread_69 post J (ot_i fct) (ot_i sk) (nI i) (nI s) n x6 (nI V) (nI D) (nI (D ^ V)) (nI N) il (nI k) iv hz ib br (ot_n c) (ot_o ne) (ot_o ef) (ot_n b) (ot_o g) (ot_n (ot_pw V D)) (ot_o sp) (ot_n im) (ot_n qu) (ot_n tg) (ot_n sg) (ot_n hp) (ot_n pl) (ot_n on) (ot_n tw) ns es ha (ot_n ca) (ot_n ta) (ot_n ua) := fun hk x6 e => by
        rw [e, nI_1]
        refine ih (o + 1) k im qu (by omega) (by omega) hI h0 hik hqi hc1 (fun o' a => ?_)
        by_cases e2 : o' = o
        · rw [e2]; exact hk
        · exact hc2 o' (by omega)
      have hrs : rc_R N (gr_s V D ne ef) sk (wl_ok D fct) s0 s := by
        have h1 := (hI.2.1 i hik).2
        rw [hqi] at h1
        rcases hI.1 s hs with a | a
        · omega
        · exact a.2
      have h101 : ∀ z : Option Nat, (∀ p, z = some p → gr_s V D ne ef s o = some p ∧ sk ≠ some o) → (z = none → bf_c N (gr_s V D ne ef) sk (wl_ok D fct) im s o) → wX_spread_101 post J (wX_spread_69 post J (ot_i fct) (ot_i sk) (nI i) (nI s) n) (ot_i fct) (ot_i sk) (nI i) (nI s) (nI o) (ot_i z) (nI V) (nI D) (nI (D ^ V)) (nI N) il (nI k) iv hz ib br (ot_n c) (ot_o ne) (ot_o ef) (ot_n b) (ot_o g) (ot_n (ot_pw V D)) (ot_o sp) (ot_n im) (ot_n qu) (ot_n tg) (ot_n sg) (ot_n hp) (ot_n pl) (ot_n on) (ot_n tw) ns es ha (ot_n ca) (ot_n ta) (ot_n ua) := by
        intro z hz1 hz2
        have hpl : ∀ p, z = some p → p < D ^ V := fun p e => ws_st hT s o p hs hx (hz1 p e).1
        refine ot_bo z (fun p e => by have := hpl p e; omega) (fun e => hgo (hz2 e)) (fun p e => ?_)
        have hp := hpl p e
        have hz := hz1 p e
        rw [e, ot_is]
        refine ⟨pk_in p 1024 (by omega), ?_⟩
        rw [ot_r _ (by omega)]
        have him : im p ≤ 1 := by rcases hI.1 p hp with a | a <;> omega
        refine pk_eq (im p) 0 (fun k0 => ?_) (fun k1 => hgo (fun _ _ p2 e2 _ => ?_))
        · have hkm := bf_lt hI hp k0
          refine wl_hf hT hp hf (ot_bb _ (fun a => ?_) (fun a => hgo (fun _ _ p2 e2 h2 => ?_)))
          · have hok : wl_ok D fct p := Classical.not_not.mp a
            refine ws_me (by omega) (by omega) ?_
            intro x6 e6
            rw [e6, nI_1]
            refine ih (o + 1) (k + 1) (ot_u im p 1) (ot_u qu k p) (by omega) (by omega) (bf_m hI hp k0 (rc_s hrs hx hz.2 hz.1 hok)) (fun a => ?_) (by omega) ?_ (fun j hj o' => ?_) (fun o' hj => ?_)
            · by_cases e3 : s0 = p
              · rw [e3, ot_us]
              · rw [ot_un e3]; exact h0 a
            · rw [ot_un (by omega)]; exact hqi
            · rw [ot_un (by omega)]; exact bf_mc (hc1 j hj o')
            · by_cases e3 : o' = o
              · rw [e3]
                intro _ _ p2 e2 _
                rw [hz.1] at e2
                rw [← Option.some.inj e2, ot_us]
              · exact bf_mc (hc2 o' (by omega))
          · rw [hz.1] at e2
            rw [← Option.some.inj e2] at h2
            exact absurd h2 a
        · rw [hz.1] at e2
          rw [← Option.some.inj e2]; omega
      by_cases hso : sk = some o
      · refine br_t (by rw [hso, ot_is]) ?_
        exact h101 none (fun p e => nomatch e) (fun _ _ e2 => absurd hso e2)
      · refine br_f (fun e => hso ?_) ?_
        · exact ((ot_iinj (x := some o) (y := sk) (fun z e2 => by have := Option.some.inj e2; omega) (fun z e2 => by have := hsk z e2; omega)).mp e).symm
        · rw [ot_ix10, ot_ro _ (by omega), hsp s hs o hx]
          exact ⟨vp_in_nI (N := 10240) (by omega) (by omega), h101 _ (fun p e => ⟨e, hso⟩) (fun e _ _ p e2 => by rw [e] at e2; exact nomatch e2)⟩
theorem ws_48 {post : SX → Prop} {sk fct : Option Nat} {s0 : Nat} (hT : gr_T V D N c b ne ef g) (hsp : ∀ s, s < D ^ V → ∀ o, o < N → sp (10 * s + o) = gr_s V D ne ef s o) (hf : ∀ f, fct = some f → f / 4 < V) (hsk : ∀ o, sk = some o → o < 10) (hs0 : s0 < D ^ V)
    (h : ∀ k im qu, bf_F (D ^ V) N (gr_s V D ne ef) sk (wl_ok D fct) s0 im qu k → post ((nI V), (nI D), (nI (D ^ V)), (nI N), il, (nI k), iv, hz, ib, br, (ot_n c), (ot_o ne), (ot_o ef), (ot_n b), (ot_o g), (ot_n (ot_pw V D)), (ot_o sp), (ot_n im), (ot_n qu), (ot_n tg), (ot_n sg), (ot_n hp), (ot_n pl), (ot_n on), (ot_n tw), ns, es, ha, (ot_n ca), (ot_n ta), (ot_n ua))) :
    ∀ n i k (im qu : Nat → Nat), D ^ V - i < n → bf_I (D ^ V) N (gr_s V D ne ef) sk (wl_ok D fct) s0 im qu k → (wl_ok D fct s0 → im s0 = 1) → i ≤ k → (∀ j, j < i → ∀ o, bf_c N (gr_s V D ne ef) sk (wl_ok D fct) im (qu j) o) →
    wX_spread_48 post (ot_i fct) (ot_i sk) n (nI i) (nI V) (nI D) (nI (D ^ V)) (nI N) il (nI k) iv hz ib br (ot_n c) (ot_o ne) (ot_o ef) (ot_n b) (ot_o g) (ot_n (ot_pw V D)) (ot_o sp) (ot_n im) (ot_n qu) (ot_n tg) (ot_n sg) (ot_n hp) (ot_n pl) (ot_n on) (ot_n tw) ns es ha (ot_n ca) (ot_n ta) (ot_n ua) := by
  obtain ⟨⟨hV1, hV⟩, ⟨hD, hD4⟩, hN, hc, hb, hne, hef, hg⟩ := id hT
  have hM : D ^ V ≤ 1024 := gr_M hV hD4
  intro n
  induction n with
  | zero => intro i k im qu h; omega
  | succ n ih =>
    intro i k im qu hn hI h0 hik hc1
    have hkM := bf_le hI
    refine pk_le k i (fun hx => ?_) (fun hx => ?_)
    · exact h k im qu (bf_f (ws_st hT) hs0 hI h0 (fun j hj => hc1 j (by omega)))
    · have hq := hI.2.1 i hx
      refine ⟨pk_in i 1024 (by omega), nm_r (ot_r _ (by omega)) ⟨N + 1, ws_69 hT hsp hf hsk hq.1 (fun k im qu a b' d _ e => ih (i + 1) k im qu (by omega) a b' d e) (N + 1) 0 k im qu (by omega) (by omega) hI h0 hx rfl hc1 (fun o' a => by omega)⟩⟩
theorem ws_sp {post : SX → Prop} {sk fct : Option Nat} {s0 : Nat} (hT : gr_T V D N c b ne ef g) (hsp : ∀ s, s < D ^ V → ∀ o, o < N → sp (10 * s + o) = gr_s V D ne ef s o) (hf : ∀ f, fct = some f → f / 4 < V) (hsk : ∀ o, sk = some o → o < 10) (hs0 : s0 < D ^ V)
    (h : ∀ k im qu, bf_F (D ^ V) N (gr_s V D ne ef) sk (wl_ok D fct) s0 im qu k → post ((nI V), (nI D), (nI (D ^ V)), (nI N), il, (nI k), iv, hz, ib, br, (ot_n c), (ot_o ne), (ot_o ef), (ot_n b), (ot_o g), (ot_n (ot_pw V D)), (ot_o sp), (ot_n im), (ot_n qu), (ot_n tg), (ot_n sg), (ot_n hp), (ot_n pl), (ot_n on), (ot_n tw), ns, es, ha, (ot_n ca), (ot_n ta), (ot_n ua))) : wpX_spread post ((nI V), (nI D), (nI (D ^ V)), (nI N), il, mt, iv, hz, ib, br, (ot_n c), (ot_o ne), (ot_o ef), (ot_n b), (ot_o g), (ot_n (ot_pw V D)), (ot_o sp), (ot_n im), (ot_n qu), (ot_n tg), (ot_n sg), (ot_n hp), (ot_n pl), (ot_n on), (ot_n tw), ns, es, ha, (ot_n ca), (ot_n ta), (ot_n ua)) (nI s0) (ot_i fct) (ot_i sk) := by
  obtain ⟨⟨hV1, hV⟩, ⟨hD, hD4⟩, hN, hc, hb, hne, hef, hg⟩ := id hT
  have hM : D ^ V ≤ 1024 := gr_M hV hD4
  have key : ∀ n s (im : Nat → Nat), s ≤ D ^ V → D ^ V - s < n → (∀ s', s' < s → im s' = 0) → wX_spread_3 post (nI s0) (ot_i fct) (ot_i sk) (nI V) (nI D) (nI (D ^ V)) (nI N) il mt iv hz ib br n (nI s) (ot_n c) (ot_o ne) (ot_o ef) (ot_n b) (ot_o g) (ot_n (ot_pw V D)) (ot_o sp) (ot_n im) (ot_n qu) (ot_n tg) (ot_n sg) (ot_n hp) (ot_n pl) (ot_n on) (ot_n tw) ns es ha (ot_n ca) (ot_n ta) (ot_n ua) := by
    intro n
    induction n with
    | zero => intro s im _ h; omega
    | succ n ih =>
      intro s im hs hn him
      refine pk_le (D ^ V) s (fun hx => ?_) (fun hx => ?_)
      · have h0 : ∀ s', s' < D ^ V → im s' = 0 := fun s' a => him s' (by omega)
        have hI : bf_I (D ^ V) N (gr_s V D ne ef) sk (wl_ok D fct) s0 im qu 0 := bf_0 h0
        refine wl_hf hT hs0 hf (ot_bb _ (fun a => ?_) (fun a => ?_))
        · have hok : wl_ok D fct s0 := Classical.not_not.mp a
          refine ws_me (k := 0) (by omega) (by omega) ⟨D ^ V + 1, ?_⟩
          exact ws_48 hT hsp hf hsk hs0 h (D ^ V + 1) 0 1 _ _ (by omega) (bf_m hI hs0 (h0 s0 hs0) (rc_0 hok)) (fun _ => ot_us) (by omega) (fun j hj => by omega)
        · exact ⟨D ^ V + 1, ws_48 hT hsp hf hsk hs0 h (D ^ V + 1) 0 0 im qu (by omega) hI (fun b' => absurd b' a) (by omega) (fun j hj => by omega)⟩
      · refine ⟨pk_in s 1024 (by omega), nm_r (ot_upd' im (nI_clamp (by omega)) ot_vb0) (nm_r (nI_1 s) (ih (s + 1) (ot_u im s 0) (by omega) (by omega) (fun s' a => ?_)))⟩
        by_cases e : s' = s
        · rw [e, ot_us]
        · rw [ot_un e]; exact him s' (by omega)
  exact ⟨D ^ V + 1, key (D ^ V + 1) 0 im (by omega) (by omega) (fun s' a => by omega)⟩
def ws_G (V D : Nat) (g : Nat → Option Nat) (qu : Nat → Nat) (i : Nat) : Prop := ∃ j, j < i ∧ gr_g V D g (qu j)
theorem ws_mg {post : Int32 → Prop} {sk : Option Nat} {ok : Nat → Prop} {s0 k : Nat} (hT : gr_T V D N c b ne ef g) (hF : bf_F (D ^ V) N (gr_s V D ne ef) sk ok s0 im qu k) (h : post (ot_b (∃ t, t < D ^ V ∧ rc_R N (gr_s V D ne ef) sk ok s0 t ∧ gr_g V D g t))) : wpX_metGoal post ((nI V), (nI D), (nI (D ^ V)), (nI N), il, (nI k), iv, hz, ib, br, (ot_n c), (ot_o ne), (ot_o ef), (ot_n b), (ot_o g), (ot_n (ot_pw V D)), (ot_o sp), (ot_n im), (ot_n qu), (ot_n tg), (ot_n sg), (ot_n hp), (ot_n pl), (ot_n on), (ot_n tw), ns, es, ha, (ot_n ca), (ot_n ta), (ot_n ua)) := by
  obtain ⟨⟨hV1, hV⟩, ⟨hD, hD4⟩, hN, hc, hb, hne, hef, hg⟩ := id hT
  have hM : D ^ V ≤ 1024 := gr_M hV hD4
  obtain ⟨hkM, hq, hq2, _, hr⟩ := hF
  have key : ∀ n i (q : Prop), i ≤ k → k - i < n → (q ↔ ws_G V D g qu i) → wX_metGoal_4 post (nI V) (nI D) (nI (D ^ V)) (nI N) il (nI k) iv hz ib br (ot_n c) (ot_o ne) (ot_o ef) (ot_n b) (ot_o g) (ot_n (ot_pw V D)) (ot_o sp) (ot_n im) (ot_n qu) (ot_n tg) (ot_n sg) (ot_n hp) (ot_n pl) (ot_n on) (ot_n tw) ns es ha (ot_n ca) (ot_n ta) (ot_n ua) n (ot_b q) (nI i) := by
    intro n
    induction n with
    | zero => intro i q _ h; omega
    | succ n ih =>
      intro i q hi hn hqq
      have k1 : i < k → ∀ q2 : Prop, (q2 ↔ ws_G V D g qu (i + 1)) → ∀ z, z = ot_b q2 → ∀ x3, x3 = nI i + 1 → wX_metGoal_4 post (nI V) (nI D) (nI (D ^ V)) (nI N) il (nI k) iv hz ib br (ot_n c) (ot_o ne) (ot_o ef) (ot_n b) (ot_o g) (ot_n (ot_pw V D)) (ot_o sp) (ot_n im) (ot_n qu) (ot_n tg) (ot_n sg) (ot_n hp) (ot_n pl) (ot_n on) (ot_n tw) ns es ha (ot_n ca) (ot_n ta) (ot_n ua) n z x3 := fun hx q2 h2 z e1 x3 e2 => by
        rw [e1, e2, nI_1]
        exact ih (i + 1) q2 hx (by omega) h2
      refine pk_le k i (fun hx => ?_) (fun hx => ?_)
      · have e : q ↔ ∃ t, t < D ^ V ∧ rc_R N (gr_s V D ne ef) sk ok s0 t ∧ gr_g V D g t := by
          rw [hqq]
          constructor
          · intro ⟨j, hj, a⟩
            have h1 := hq j (by omega)
            exact ⟨qu j, h1.1, (hr _ h1.1).mp h1.2, a⟩
          · intro ⟨t, ht, a1, a2⟩
            obtain ⟨j, hj, e2⟩ := hq2 t ht ((hr t ht).mpr a1)
            exact ⟨j, by omega, by rw [e2]; exact a2⟩
        rw [propext e]
        refine ⟨?_, h⟩
        by_cases k2 : ∃ t, t < D ^ V ∧ rc_R N (gr_s V D ne ef) sk ok s0 t ∧ gr_g V D g t
        · rw [ot_bt k2]; exact narrow_b1
        · rw [ot_bf k2]; exact narrow_b0
      · refine ot_bb q (fun hq0 => ?_) (fun hq1 => ?_)
        · refine ⟨pk_in i 1024 (by omega), ?_⟩
          rw [ot_r _ (by omega)]
          refine wa_go hT (hq i hx).1 (ot_bb _ (fun a => ?_) (fun a => ?_))
          · exact k1 hx False ⟨fun h => h.elim, fun ⟨j, hj, a2⟩ => by
              by_cases e : j = i
              · rw [e] at a2; exact a a2
              · exact hq0 (hqq.mpr ⟨j, by omega, a2⟩)⟩ 0 (ot_bf id).symm
          · exact k1 hx True ⟨fun _ => ⟨i, by omega, a⟩, fun _ => trivial⟩ 1 (ot_bt trivial).symm
        · refine k1 hx True ⟨fun _ => ?_, fun _ => trivial⟩ 1 (ot_bt trivial).symm
          obtain ⟨j, hj, a⟩ := hqq.mp hq1
          exact ⟨j, by omega, a⟩
  refine ⟨k + 1, ?_⟩
  have h1 := key (k + 1) 0 False (by omega) (by omega) ⟨fun h => h.elim, fun ⟨j, hj, _⟩ => by omega⟩
  rw [ot_bf id] at h1
  exact h1
end WS
end
section
section BG
variable {V D N s0 : Nat} {stp : Nat → Nat → Option Nat} {sk : Option Nat} {ok : Nat → Prop} {me : Nat → Nat}
def bg_I (V D N : Nat) (stp : Nat → Nat → Option Nat) (sk : Option Nat) (ok : Nat → Prop) (s0 : Nat) (me : Nat → Nat) : Prop :=
  ∀ t, t < 4 ^ V → me t = 0 ∨ (me t = 1 ∧ ∃ s, s < D ^ V ∧ t = gr_e V D s ∧ rc_R N stp sk ok s0 s)
def bg_c (V D N : Nat) (stp : Nat → Nat → Option Nat) (sk : Option Nat) (ok : Nat → Prop) (me : Nat → Nat) (k : Nat) : Prop :=
  ∀ s o, s < D ^ V → o < 10 → 10 * gr_e V D s + o < k → me (gr_e V D s) = 1 → o < N → sk ≠ some o → ∀ p, stp s o = some p → ok p → me (gr_e V D p) = 1
def bg_F (V D N : Nat) (stp : Nat → Nat → Option Nat) (sk : Option Nat) (ok : Nat → Prop) (s0 : Nat) (me : Nat → Nat) : Prop :=
  (∀ t, t < 4 ^ V → me t = 0 ∨ (me t = 1 ∧ ∃ s, s < D ^ V ∧ t = gr_e V D s)) ∧ ∀ s, s < D ^ V → (me (gr_e V D s) = 1 ↔ rc_R N stp sk ok s0 s)
theorem bg_f (hD : 2 ≤ D) (hD4 : D ≤ 4) (hN : N ≤ 10) (hst : ∀ a o p, a < D ^ V → o < N → stp a o = some p → p < D ^ V) (h0 : s0 < D ^ V) (I : bg_I V D N stp sk ok s0 me) (hs : ok s0 → me (gr_e V D s0) = 1) (hc : bg_c V D N stp sk ok me (10 * 4 ^ V)) : bg_F V D N stp sk ok s0 me := by
  refine ⟨fun t ht => ?_, fun s hs2 => ⟨fun e => ?_, fun hr => ?_⟩⟩
  · rcases I t ht with a | ⟨a, s, b, d, _⟩
    · exact Or.inl a
    · exact Or.inr ⟨a, s, b, d⟩
  · rcases I (gr_e V D s) (gr_el hD hD4) with a | ⟨_, s2, b, d, r⟩
    · omega
    · rw [gr_ei hD hD4 hs2 b d]; exact r
  · have := hr (fun t => t < D ^ V ∧ me (gr_e V D t) = 1) (fun k => ⟨h0, hs k⟩) (fun a o p ha ho hk e hp => by
      refine ⟨hst a o p ha.1 ho e, ?_⟩
      have hl := gr_el (V := V) (s := a) hD hD4
      exact hc a o ha.1 (by omega) (by omega) ha.2 ho hk p e hp)
    exact this.2
theorem bg_m (I : bg_I V D N stp sk ok s0 me) {p : Nat} (hp : p < D ^ V) (hr : rc_R N stp sk ok s0 p) : bg_I V D N stp sk ok s0 (ot_u me (gr_e V D p) 1) := fun t ht => by
  by_cases e : t = gr_e V D p
  · rw [e, ot_us]; exact Or.inr ⟨rfl, p, hp, rfl, hr⟩
  · rw [ot_un e]; exact I t ht
theorem bg_ct (hD : 2 ≤ D) (hD4 : D ≤ 4) (F : bg_F V D N stp sk ok s0 me) (P : Nat → Bool) (Q : Nat → Bool) (hPQ : ∀ s, s < D ^ V → P (gr_e V D s) = Q s) : ct_n (fun t => decide (me t = 1) && P t) (4 ^ V) = ct_n (fun s => decide (me (gr_e V D s) = 1) && Q s) (D ^ V) := by
  rw [ct_map (D ^ V) (4 ^ V) (gr_em hD hD4) (fun a _ => gr_el hD hD4) (fun t ht e => ?_)]
  · exact ct_ext (fun s hs => by rw [hPQ s hs])
  · have e2 : me t = 1 := of_decide_eq_true ((Bool.and_eq_true _ _).mp e).1
    rcases F.1 t ht with a | ⟨_, s, b, d⟩
    · omega
    · exact ⟨s, b, d⟩
end BG
section YS
variable {V D N : Nat} {rz : Int32} {c b : Nat → Nat} {ne ef g : Nat → Option Nat} {ls fw me bk bd rs : Nat → Nat}
theorem ys_72 {post : SY → Prop} {J : Int32 → (Nat → Int32) → (Nat → Int32) → (Nat → Int32) → (Nat → Int32) → (Nat → Int32) → (Nat → Int32) → (Nat → Int32) → (Nat → Int32) → (Nat → Int32) → (Nat → Int32) → (Nat → Int32) → Prop} {sk fct : Option Nat} {s0 : Nat} {me0 : Nat → Nat} (hT : gr_T V D N c b ne ef g) (hf : ∀ f, fct = some f → f / 4 < V) (hsk : ∀ o, sk = some o → o < 10)
    (hJ : ∀ me (x : Nat), bg_I V D N (gr_s V D ne ef) sk (wl_ok D fct) s0 me → (wl_ok D fct s0 → me (gr_e V D s0) = 1) → ((x = 0 ∧ bg_c V D N (gr_s V D ne ef) sk (wl_ok D fct) me (10 * 4 ^ V)) ∨ (x = 1 ∧ ct_n (fun t => decide (me0 t = 1)) (4 ^ V) < ct_n (fun t => decide (me t = 1)) (4 ^ V))) → J (nI x) (ot_n c) (ot_o ne) (ot_o ef) (ot_n b) (ot_o g) (ot_n ls) (ot_n fw) (ot_n me) (ot_n bk) (ot_n bd) (ot_n rs)) :
    ∀ n k x (me : Nat → Nat), k ≤ 10 * 4 ^ V → 10 * 4 ^ V - k < n → bg_I V D N (gr_s V D ne ef) sk (wl_ok D fct) s0 me → (wl_ok D fct s0 → me (gr_e V D s0) = 1) → ct_n (fun t => decide (me0 t = 1)) (4 ^ V) ≤ ct_n (fun t => decide (me t = 1)) (4 ^ V) → ((x = 0 ∧ bg_c V D N (gr_s V D ne ef) sk (wl_ok D fct) me k) ∨ (x = 1 ∧ ct_n (fun t => decide (me0 t = 1)) (4 ^ V) < ct_n (fun t => decide (me t = 1)) (4 ^ V))) →
    wY_findMet_72 post J (ot_i sk) (ot_i (fct.map (fun f => f / 4))) (nI (fct.getD 0 % 4)) (nI V) (nI D) (nI N) rz n (nI x) (nI k) (ot_n c) (ot_o ne) (ot_o ef) (ot_n b) (ot_o g) (ot_n ls) (ot_n fw) (ot_n me) (ot_n bk) (ot_n bd) (ot_n rs) := by
  obtain ⟨⟨hV1, hV⟩, ⟨hD, hD4⟩, hN, hc, hb, hne, hef, hg⟩ := id hT
  have h4 : 4 ^ V ≤ 1024 := gr_M4 hV
  have h40 : 0 < 4 ^ V := Nat.pow_pos (by omega)
  have hM : D ^ V ≤ 1024 := gr_M hV hD4
  intro n
  induction n with
  | zero => intro k x me _ h; omega
  | succ n ih =>
    intro k x me hk hn hI h0 hct hx
    rw [wY_findMet_72]
    refine ya_sta hT ?_
    rw [ot_m10]
    refine pk_le (10 * 4 ^ V) k (fun hd => ?_) (fun hd => ?_)
    · rw [show k = 10 * 4 ^ V from by omega] at hx
      exact hJ me x hI h0 hx
    · have hkt : k / 10 < 4 ^ V := by omega
      -- go on with nothing new
      have hgo : (∀ s, s < D ^ V → gr_e V D s = k / 10 → me (gr_e V D s) = 1 → k % 10 < N → sk ≠ some (k % 10) → ∀ p, gr_s V D ne ef s (k % 10) = some p → wl_ok D fct p → me (gr_e V D p) = 1) → ∀ x6, x6 = nI k + 1 → wY_findMet_72 post J (ot_i sk) (ot_i (fct.map (fun f => f / 4))) (nI (fct.getD 0 % 4)) (nI V) (nI D) (nI N) rz n (nI x) x6 (ot_n c) (ot_o ne) (ot_o ef) (ot_n b) (ot_o g) (ot_n ls) (ot_n fw) (ot_n me) (ot_n bk) (ot_n bd) (ot_n rs) := fun hcl x6 e6 => by
        rw [e6, nI_1]
        refine ih (k + 1) x me (by omega) (by omega) hI h0 hct ?_
        rcases hx with ⟨a, a2⟩ | a
        · refine Or.inl ⟨a, fun s o hs ho hlt hm hoN hso p e hp => ?_⟩
          by_cases e2 : 10 * gr_e V D s + o = k
          · have e3 : k % 10 = o := by omega
            exact hcl s hs (by omega) hm (by omega) (by rw [e3]; exact hso) p (by rw [e3]; exact e) hp
          · exact a2 s o hs ho (by omega) hm hoN hso p e hp
        · exact Or.inr a
      -- the join with a next state
      have hj : ∀ z : Option Nat, (∀ p, z = some p → p < D ^ V ∧ (wl_ok D fct p → rc_R N (gr_s V D ne ef) sk (wl_ok D fct) s0 p)) → (∀ s, s < D ^ V → gr_e V D s = k / 10 → me (gr_e V D s) = 1 → k % 10 < N → sk ≠ some (k % 10) → gr_s V D ne ef s (k % 10) = z) → wY_findMet_134 post J (wY_findMet_72 post J (ot_i sk) (ot_i (fct.map (fun f => f / 4))) (nI (fct.getD 0 % 4)) (nI V) (nI D) (nI N) rz n) (ot_i sk) (ot_i (fct.map (fun f => f / 4))) (nI (fct.getD 0 % 4)) (nI x) (nI k) (ot_i (z.map (gr_e V D))) (nI V) (nI D) (nI N) rz (ot_n c) (ot_o ne) (ot_o ef) (ot_n b) (ot_o g) (ot_n ls) (ot_n fw) (ot_n me) (ot_n bk) (ot_n bd) (ot_n rs) := by
        intro z hz1 hz2
        cases z with
        | none =>
          refine br_t (show (-1 : Int32) < 0 by decide) (hgo (fun s a1 a2 a3 a4 a5 p e _ => ?_))
          rw [hz2 s a1 a2 a3 a4 a5] at e; exact nomatch e
        | some p =>
          obtain ⟨hp, hr⟩ := hz1 p rfl
          have hpl := gr_el (V := V) (s := p) hD hD4
          show wY_findMet_134 post J _ _ _ _ _ _ (nI (gr_e V D p)) (nI V) (nI D) (nI N) rz (ot_n c) (ot_o ne) (ot_o ef) (ot_n b) (ot_o g) (ot_n ls) (ot_n fw) (ot_n me) (ot_n bk) (ot_n bd) (ot_n rs)
          refine br_f (nI_pos (by omega)) ⟨vp_in_nI (N := 1024) (by omega) (by omega), ?_⟩
          rw [ot_r _ (by omega)]
          have hme : me (gr_e V D p) ≤ 1 := by rcases hI _ hpl with a | a <;> omega
          refine pk_eq (me (gr_e V D p)) 0 (fun k0 => ?_) (fun k1 => hgo (fun s a1 a2 a3 a4 a5 p2 e _ => ?_))
          · have hnew : wl_ok D fct p → wY_findMet_166 post J (wY_findMet_72 post J (ot_i sk) (ot_i (fct.map (fun f => f / 4))) (nI (fct.getD 0 % 4)) (nI V) (nI D) (nI N) rz n) (ot_i sk) (ot_i (fct.map (fun f => f / 4))) (nI (fct.getD 0 % 4)) (nI k) (nI (gr_e V D p)) (nI V) (nI D) (nI N) rz (ot_n c) (ot_o ne) (ot_o ef) (ot_n b) (ot_o g) (ot_n ls) (ot_n fw) (ot_n me) (ot_n bk) (ot_n bd) (ot_n rs) := fun hok => by
              have hlt : ct_n (fun t => decide (me t = 1)) (4 ^ V) < ct_n (fun t => decide (ot_u me (gr_e V D p) 1 t = 1)) (4 ^ V) := by
                refine ct_lt (4 ^ V) (fun t ht e => ?_) (gr_e V D p) hpl (by rw [k0]; rfl) (by rw [ot_us]; rfl)
                by_cases e2 : t = gr_e V D p
                · rw [e2, ot_us]; rfl
                · rw [ot_un e2]; exact e
              refine ⟨vp_in_nI (N := 1024) (by omega) (by omega), nm_r (ot_upd' me (nI_clamp (by omega)) ot_vb1) (nm_r (nI_1 k) (ih (k + 1) 1 (ot_u me (gr_e V D p) 1) (by omega) (by omega) (bg_m hI hp (hr hok)) (fun a => ?_) (by omega) (Or.inr ⟨rfl, by omega⟩)))⟩
              by_cases e2 : gr_e V D s0 = gr_e V D p
              · rw [e2, ot_us]
              · rw [ot_un e2]; exact h0 a
            cases hfc : fct with
            | none =>
              rw [hfc] at hnew
              exact br_t (show (-1 : Int32) < 0 by decide) (hnew (fun f e => nomatch e))
            | some f =>
              have hf4 := hf f hfc
              rw [hfc] at hnew hgo
              refine br_f (nI_pos (show f / 4 < 2 ^ 31 by omega)) (ya_vi (v := f / 4) (by omega) (by omega) ?_)
              rw [gr_ed hD hD4 hf4]
              have hd := cd_dl (B := D) (by omega) p (f / 4)
              refine pk_eq (cd_d D p (f / 4)) (f % 4) (fun k2 => hgo (fun s a1 a2 a3 a4 a5 p2 e hok => ?_)) (fun k2 => hnew (fun f2 e2 => ?_))
              · rw [hz2 s a1 a2 a3 a4 a5] at e
                rw [← Option.some.inj e] at hok
                exact absurd k2 (hok f rfl)
              · rw [← Option.some.inj e2]; exact k2
          · rw [hz2 s a1 a2 a3 a4 a5] at e
            rw [← Option.some.inj e]; omega
      have h133 : (∀ s, s < D ^ V → gr_e V D s = k / 10 → me (gr_e V D s) = 1 → k % 10 < N → sk ≠ some (k % 10) → False) → wY_findMet_133 post J (wY_findMet_72 post J (ot_i sk) (ot_i (fct.map (fun f => f / 4))) (nI (fct.getD 0 % 4)) (nI V) (nI D) (nI N) rz n) (ot_i sk) (ot_i (fct.map (fun f => f / 4))) (nI (fct.getD 0 % 4)) (nI x) (nI k) (nI V) (nI D) (nI N) rz (ot_n c) (ot_o ne) (ot_o ef) (ot_n b) (ot_o g) (ot_n ls) (ot_n fw) (ot_n me) (ot_n bk) (ot_n bd) (ot_n rs) := fun hn =>
        hj none (fun p e => nomatch e) (fun s a1 a2 a3 a4 a5 => (hn s a1 a2 a3 a4 a5).elim)
      refine ⟨ot_n10, nm_r (ot_r10 (by omega)) ⟨ot_n10, ?_⟩⟩
      rw [ot_d10 (by omega), ot_r _ (by omega)]
      have hme : me (k / 10) ≤ 1 := by rcases hI _ hkt with a | a <;> omega
      refine ⟨vp_in_nI (N := 1024) (by omega) (by omega), pk_eq (me (k / 10)) 0 (fun k0 => h133 (fun s a1 a2 a3 _ _ => by rw [a2] at a3; omega)) (fun k1 => ?_)⟩
      refine pk_le N (k % 10) (fun hd2 => h133 (fun s a1 a2 a3 a4 _ => by omega)) (fun hd2 => ?_)
      refine br_c (fun e => h133 (fun s a1 a2 a3 a4 a5 => ?_)) (fun e => ⟨ot_n10, ?_⟩)
      · exact a5 ((ot_iinj (x := some (k % 10)) (y := sk) (fun z e2 => by have := Option.some.inj e2; omega) (fun z e2 => by have := hsk z e2; omega)).mp e).symm
      · have hks : sk ≠ some (k % 10) := fun e2 => e (by rw [e2]; rfl)
        rcases hI _ hkt with a | ⟨a, s, b1, b2, b3⟩
        · omega
        · rw [b2]
          refine ya_use hT hd2 ?_
          refine hj _ (fun p e2 => ⟨ws_st hT s _ p b1 hd2 e2, fun hok => rc_s b3 hd2 hks e2 hok⟩) (fun s2 a1 a2 a3 a4 a5 => ?_)
          rw [gr_ei hD hD4 a1 b1 (a2.trans b2)]
theorem ys_61 {post : SY → Prop} {sk fct : Option Nat} {s0 : Nat} (hT : gr_T V D N c b ne ef g) (hf : ∀ f, fct = some f → f / 4 < V) (hsk : ∀ o, sk = some o → o < 10) (hs0 : s0 < D ^ V)
    (h : ∀ me, bg_F V D N (gr_s V D ne ef) sk (wl_ok D fct) s0 me → post ((nI V), (nI D), (nI N), rz, (ot_n c), (ot_o ne), (ot_o ef), (ot_n b), (ot_o g), (ot_n ls), (ot_n fw), (ot_n me), (ot_n bk), (ot_n bd), (ot_n rs))) :
    ∀ n x (me : Nat → Nat), bg_I V D N (gr_s V D ne ef) sk (wl_ok D fct) s0 me → (wl_ok D fct s0 → me (gr_e V D s0) = 1) → ((x = 0 ∧ 0 < n ∧ bg_c V D N (gr_s V D ne ef) sk (wl_ok D fct) me (10 * 4 ^ V)) ∨ (x = 1 ∧ 4 ^ V + 1 < n + ct_n (fun t => decide (me t = 1)) (4 ^ V))) →
    wY_findMet_61 post (ot_i sk) (ot_i (fct.map (fun f => f / 4))) (nI (fct.getD 0 % 4)) (nI V) (nI D) (nI N) rz n (nI x) (ot_n c) (ot_o ne) (ot_o ef) (ot_n b) (ot_o g) (ot_n ls) (ot_n fw) (ot_n me) (ot_n bk) (ot_n bd) (ot_n rs) := by
  obtain ⟨⟨hV1, hV⟩, ⟨hD, hD4⟩, hN, hc, hb, hne, hef, hg⟩ := id hT
  intro n
  induction n with
  | zero =>
    intro x me hI h0 hx
    rcases hx with a | a
    · omega
    · have := ct_le (fun t => decide (me t = 1)) (4 ^ V)
      omega
  | succ n ih =>
    intro x me hI h0 hx
    rcases hx with ⟨a, _, a2⟩ | ⟨a, a2⟩
    · rw [a]
      exact br_t rfl (h me (bg_f hD hD4 hN (ws_st hT) hs0 hI h0 a2))
    · rw [a]
      refine br_f ot_10 ⟨10 * 4 ^ V + 1, ?_⟩
      refine ys_72 (me0 := me) hT hf hsk (fun me2 x2 b1 b2 b3 => ih x2 me2 b1 b2 ?_) (10 * 4 ^ V + 1) 0 0 me (by omega) (by omega) hI h0 (Nat.le_refl _) (Or.inl ⟨rfl, fun s o _ _ h => by omega⟩)
      have hle := ct_le (fun t => decide (me2 t = 1)) (4 ^ V)
      rcases b3 with ⟨d1, d2⟩ | ⟨d1, d2⟩
      · have := ct_le (fun t => decide (me t = 1)) (4 ^ V)
        exact Or.inl ⟨d1, by omega, d2⟩
      · exact Or.inr ⟨d1, by omega⟩
theorem ys_fm {post : SY → Prop} {sk fct : Option Nat} (hT : gr_T V D N c b ne ef g) (hf : ∀ f, fct = some f → f / 4 < V) (hsk : ∀ o, sk = some o → o < 10)
    (h : ∀ me, bg_F V D N (gr_s V D ne ef) sk (wl_ok D fct) (cd_c D b V) me → post ((nI V), (nI D), (nI N), rz, (ot_n c), (ot_o ne), (ot_o ef), (ot_n b), (ot_o g), (ot_n ls), (ot_n fw), (ot_n me), (ot_n bk), (ot_n bd), (ot_n rs))) : wpY_findMet post ((nI V), (nI D), (nI N), rz, (ot_n c), (ot_o ne), (ot_o ef), (ot_n b), (ot_o g), (ot_n ls), (ot_n fw), (ot_n me), (ot_n bk), (ot_n bd), (ot_n rs)) (ot_i sk) (ot_i (fct.map (fun f => f / 4))) (nI (fct.getD 0 % 4)) := by
  obtain ⟨⟨hV1, hV⟩, ⟨hD, hD4⟩, hN, hc, hb, hne, hef, hg⟩ := id hT
  have h4 : 4 ^ V ≤ 1024 := gr_M4 hV
  have h40 : 0 < 4 ^ V := Nat.pow_pos (by omega)
  have hs0 := ws_b0 hT
  have hl := gr_el (V := V) (s := cd_c D b V) hD hD4
  refine ya_beg hT ⟨4 ^ V + 1, ?_⟩
  have key : ∀ n t (me : Nat → Nat), t ≤ 4 ^ V → 4 ^ V - t < n → (∀ t', t' < t → (t' ≠ gr_e V D (cd_c D b V) → me t' = 0) ∧ (t' = gr_e V D (cd_c D b V) → (wl_ok D fct (cd_c D b V) ∧ me t' = 1) ∨ (¬ wl_ok D fct (cd_c D b V) ∧ me t' = 0))) →
      wY_findMet_9 post (ot_i sk) (ot_i (fct.map (fun f => f / 4))) (nI (fct.getD 0 % 4)) (nI (gr_e V D (cd_c D b V))) (nI V) (nI D) (nI N) rz n (nI t) (ot_n c) (ot_o ne) (ot_o ef) (ot_n b) (ot_o g) (ot_n ls) (ot_n fw) (ot_n me) (ot_n bk) (ot_n bd) (ot_n rs) := by
    intro n
    induction n with
    | zero => intro t me _ h; omega
    | succ n ih =>
      intro t me ht hn hm
      rw [wY_findMet_9]
      refine ya_sta hT (pk_le (4 ^ V) t (fun hx => ?_) (fun hx => ?_))
      · have hm2 := hm (gr_e V D (cd_c D b V)) (by omega)
        refine ⟨4 ^ V + 2, ys_61 hT hf hsk hs0 h (4 ^ V + 2) 1 me (fun t' ht' => ?_) (fun hok => ?_) (Or.inr ⟨rfl, by omega⟩)⟩
        · by_cases e : t' = gr_e V D (cd_c D b V)
          · rcases (hm t' (by omega)).2 e with ⟨a1, a2⟩ | a
            · exact Or.inr ⟨a2, _, hs0, e, rc_0 a1⟩
            · exact Or.inl a.2
          · exact Or.inl ((hm t' (by omega)).1 e)
        · rcases hm2.2 rfl with a | a
          · exact a.2
          · exact absurd hok a.1
      · have hgo : ∀ y : Nat, (t ≠ gr_e V D (cd_c D b V) → y = 0) → (t = gr_e V D (cd_c D b V) → (wl_ok D fct (cd_c D b V) ∧ y = 1) ∨ (¬ wl_ok D fct (cd_c D b V) ∧ y = 0)) → ∀ z, vp_nar .boolean z = nI y → vp_in (nI t) 1024 ∧ ∀ m2, m2 = upd (ot_n me) (nI t).toNatClampNeg (vp_nar .boolean z) → ∀ x5, x5 = nI t + 1 → wY_findMet_9 post (ot_i sk) (ot_i (fct.map (fun f => f / 4))) (nI (fct.getD 0 % 4)) (nI (gr_e V D (cd_c D b V))) (nI V) (nI D) (nI N) rz n x5 (ot_n c) (ot_o ne) (ot_o ef) (ot_n b) (ot_o g) (ot_n ls) (ot_n fw) m2 (ot_n bk) (ot_n bd) (ot_n rs) := fun y hy1 hy2 z ez => by
          refine ⟨pk_in t 1024 (by omega), nm_r (ot_upd' me (nI_clamp (by omega)) ez) (nm_r (nI_1 t) (ih (t + 1) (ot_u me t y) (by omega) (by omega) (fun t' ht' => ?_)))⟩
          by_cases e : t' = t
          · rw [e, ot_us]; exact ⟨hy1, hy2⟩
          · rw [ot_un e]; exact hm t' (by omega)
        refine pk_eq t (gr_e V D (cd_c D b V)) (fun e => ?_) (fun e => hgo 0 (fun _ => rfl) (fun e2 => absurd e2 e) 0 ot_vb0)
        cases hfc : fct with
        | none =>
          rw [hfc] at hgo
          exact br_t (show (-1 : Int32) < 0 by decide) (hgo 1 (fun e2 => absurd e e2) (fun _ => Or.inl ⟨(fun f e => nomatch e), rfl⟩) 1 ot_vb1)
        | some f =>
          have hf4 := hf f hfc
          rw [hfc] at hgo
          refine br_f (nI_pos (show f / 4 < 2 ^ 31 by omega)) (ya_vi (v := f / 4) (by omega) (by omega) ?_)
          rw [show cd_d 4 t (f / 4) = cd_d D (cd_c D b V) (f / 4) from by rw [e, gr_ed hD hD4 hf4]]
          have hd := cd_dl (B := D) (by omega) (cd_c D b V) (f / 4)
          refine pk_eq (cd_d D (cd_c D b V) (f / 4)) (f % 4) (fun k2 => ?_) (fun k2 => ?_)
          · exact hgo 0 (fun e2 => absurd e e2) (fun _ => Or.inr ⟨fun a => a f rfl k2, rfl⟩) 0 ot_vb0
          · exact hgo 1 (fun e2 => absurd e e2) (fun _ => Or.inl ⟨fun f2 e2 => by rw [← Option.some.inj e2]; exact k2, rfl⟩) 1 ot_vb1
  exact key (4 ^ V + 1) 0 me (by omega) (by omega) (fun t' h => by omega)
theorem ys_mg {post : Int32 → Prop} {sk : Option Nat} {ok : Nat → Prop} {s0 : Nat} (hT : gr_T V D N c b ne ef g) (hF : bg_F V D N (gr_s V D ne ef) sk ok s0 me) (h : post (ot_b (∃ t, t < D ^ V ∧ rc_R N (gr_s V D ne ef) sk ok s0 t ∧ gr_g V D g t))) : wpY_meetsGoal post ((nI V), (nI D), (nI N), rz, (ot_n c), (ot_o ne), (ot_o ef), (ot_n b), (ot_o g), (ot_n ls), (ot_n fw), (ot_n me), (ot_n bk), (ot_n bd), (ot_n rs)) := by
  obtain ⟨⟨hV1, hV⟩, ⟨hD, hD4⟩, hN, hc, hb, hne, hef, hg⟩ := id hT
  have h4 : 4 ^ V ≤ 1024 := gr_M4 hV
  have h40 : 0 < 4 ^ V := Nat.pow_pos (by omega)
  have key : ∀ n t, t ≤ 4 ^ V → 4 ^ V - t < n → (∀ s, s < D ^ V → gr_e V D s < t → rc_R N (gr_s V D ne ef) sk ok s0 s → ¬ gr_g V D g s) → wY_meetsGoal_2 post (nI V) (nI D) (nI N) rz (ot_n c) (ot_o ne) (ot_o ef) (ot_n b) (ot_o g) (ot_n ls) (ot_n fw) (ot_n me) (ot_n bk) (ot_n bd) (ot_n rs) n (nI t) := by
    intro n
    induction n with
    | zero => intro t _ h; omega
    | succ n ih =>
      intro t ht hn hm
      rw [wY_meetsGoal_2]
      refine ya_sta hT (pk_le (4 ^ V) t (fun hx => ?_) (fun hx => ?_))
      · rw [ot_bf (fun ⟨s, a1, a2, a3⟩ => hm s a1 (by have := gr_el (V := V) (s := s) hD hD4; omega) a2 a3)] at h
        exact h
      · have hgo : (∀ s, s < D ^ V → gr_e V D s = t → rc_R N (gr_s V D ne ef) sk ok s0 s → ¬ gr_g V D g s) → ∀ x1, x1 = nI t + 1 → wY_meetsGoal_2 post (nI V) (nI D) (nI N) rz (ot_n c) (ot_o ne) (ot_o ef) (ot_n b) (ot_o g) (ot_n ls) (ot_n fw) (ot_n me) (ot_n bk) (ot_n bd) (ot_n rs) n x1 := fun hk x1 e => by
          rw [e, nI_1]
          refine ih (t + 1) (by omega) (by omega) (fun s a1 a2 => ?_)
          by_cases e2 : gr_e V D s = t
          · exact hk s a1 e2
          · exact hm s a1 (by omega)
        rw [ot_r _ (by omega)]
        refine ⟨pk_in t 1024 (by omega), pk_eq (me t) 0 (fun k0 => hgo (fun s a1 a2 a3 => ?_)) (fun k1 => ?_) (ha := ?_)⟩
        · have := (hF.2 s a1).mpr a3
          rw [a2] at this; omega
        · rcases hF.1 t hx with a | ⟨a, s, b1, b2⟩
          · omega
          · have hr := (hF.2 s b1).mp (by rw [← b2]; exact a)
            rw [b2]
            refine ya_go hT (ot_bb _ (fun hng => ?_) (fun hg2 => ?_))
            · rw [← b2]
              exact hgo (fun s2 a1 a2 _ => by rw [gr_ei hD hD4 a1 b1 (a2.trans b2)]; exact hng)
            · rw [ot_bt ⟨s, b1, hr, hg2⟩] at h
              exact h
        · rcases hF.1 t hx with a | a <;> omega
  exact ⟨4 ^ V + 1, key (4 ^ V + 1) 0 (by omega) (by omega) (fun s _ h => by omega)⟩
end YS
end
section
section PR
/-! the states before a state by an operator -/
variable {V D : Nat} {fr : Nat → Bool} {d : Nat → Nat}
def pr_c (D : Nat) (fr : Nat → Bool) : Nat → Nat
  | 0 => 1
  | v + 1 => if fr v = true then pr_c D fr v * D else pr_c D fr v
theorem pr_ct {v : Nat} (h : fr v = true) : pr_c D fr (v + 1) = pr_c D fr v * D := if_pos h
theorem pr_cf {v : Nat} (h : fr v = false) : pr_c D fr (v + 1) = pr_c D fr v := if_neg (by rw [h]; decide)
theorem pr_cp (hD : 0 < D) : ∀ v, 0 < pr_c D fr v := by
  intro v
  induction v with
  | zero => exact Nat.one_pos
  | succ v ih =>
    cases h : fr v with
    | true => rw [pr_ct h]; exact Nat.mul_pos ih hD
    | false => rw [pr_cf h]; exact ih
theorem pr_cl (hD : 0 < D) : ∀ v, pr_c D fr v ≤ D ^ v := by
  intro v
  induction v with
  | zero => exact Nat.le_refl 1
  | succ v ih =>
    rw [Nat.pow_succ]
    cases h : fr v with
    | true => rw [pr_ct h]; exact Nat.mul_le_mul_right _ ih
    | false => rw [pr_cf h]; exact Nat.le_trans ih (Nat.le_mul_of_pos_right _ hD)
theorem pr_cd (w : Nat) : ∀ k, ∃ m, pr_c D fr (w + k) = pr_c D fr w * m := by
  intro k
  induction k with
  | zero => exact ⟨1, (Nat.mul_one _).symm⟩
  | succ k ih =>
    obtain ⟨m, e⟩ := ih
    cases h : fr (w + k) with
    | true => exact ⟨m * D, by rw [← Nat.add_assoc, pr_ct h, e, Nat.mul_assoc]⟩
    | false => exact ⟨m, by rw [← Nat.add_assoc, pr_cf h, e]⟩
theorem pr_ex (hD : 0 < D) : ∀ V, (∀ w, w < V → d w < D) → ∃ k, k < pr_c D fr V ∧ ∀ w, w < V → fr w = true → k / pr_c D fr w % D = d w := by
  intro V
  induction V with
  | zero => intro _; exact ⟨0, Nat.one_pos, fun w h => by omega⟩
  | succ V ih =>
    intro hd
    obtain ⟨k, hk, hw⟩ := ih (fun w h => hd w (by omega))
    have hdV := hd V (by omega)
    cases h : fr V with
    | false =>
      refine ⟨k, by rw [pr_cf h]; exact hk, fun w hw2 e => ?_⟩
      by_cases e2 : w = V
      · rw [e2, h] at e; exact nomatch e
      · exact hw w (by omega) e
    | true =>
      refine ⟨k + d V * pr_c D fr V, ?_, fun w hw2 e => ?_⟩
      · rw [pr_ct h, Nat.mul_comm (pr_c D fr V) D]
        have h3 : (d V + 1) * pr_c D fr V ≤ D * pr_c D fr V := Nat.mul_le_mul_right _ hdV
        rw [Nat.add_mul, Nat.one_mul] at h3
        omega
      · by_cases e2 : w = V
        · subst e2
          rw [Nat.add_mul_div_right _ _ (pr_cp hD w), Nat.div_eq_of_lt hk, Nat.zero_add, Nat.mod_eq_of_lt hdV]
        · obtain ⟨m, em⟩ := pr_cd (D := D) (fr := fr) (w + 1) (V - (w + 1))
          rw [show w + 1 + (V - (w + 1)) = V from by omega, pr_ct e] at em
          have e3 : d V * pr_c D fr V = (d V * m * D) * pr_c D fr w := by rw [em]; ac_rfl
          rw [e3, Nat.add_mul_div_right _ _ (pr_cp hD w), Nat.add_mul_mod_self_right]
          exact hw w (by omega) e
variable {ne ef : Nat → Option Nat} {t o s : Nat}
def pr_f (ne ef : Nat → Option Nat) (o v : Nat) : Bool := (ef (5 * o + v)).isSome && (ne (5 * o + v)).isNone
def pr_0 (D : Nat) (ne ef : Nat → Option Nat) (t o w : Nat) : Nat := match ef (5 * o + w) with
  | none => cd_d D t w
  | some _ => (ne (5 * o + w)).getD 0
theorem pr_0n {w : Nat} (h : ef (5 * o + w) = none) : pr_0 D ne ef t o w = cd_d D t w := by unfold pr_0; rw [h]
theorem pr_0s {w x : Nat} (h : ef (5 * o + w) = some x) : pr_0 D ne ef t o w = (ne (5 * o + w)).getD 0 := by unfold pr_0; rw [h]
def pr_k (D : Nat) (ne ef : Nat → Option Nat) (o k w : Nat) : Nat := if pr_f ne ef o w = true then k / pr_c D (pr_f ne ef o) w % D else 0
def pr_s (V D : Nat) (ne ef : Nat → Option Nat) (t o k : Nat) : Nat := cd_c D (pr_0 D ne ef t o) V + cd_c D (pr_k D ne ef o k) V
def pr_ok (V D : Nat) (ne ef : Nat → Option Nat) (t o : Nat) : Prop := ∀ v, v < V → (∀ x, ef (5 * o + v) = some x → x = cd_d D t v) ∧ (ef (5 * o + v) = none → ∀ x, ne (5 * o + v) = some x → x = cd_d D t v)
theorem pr_ft {w x : Nat} (h : ef (5 * o + w) = some x) (h2 : ne (5 * o + w) = none) : pr_f ne ef o w = true := by unfold pr_f; rw [h, h2]; rfl
theorem pr_fn {w : Nat} (h : ef (5 * o + w) = none) : pr_f ne ef o w = false := by unfold pr_f; rw [h]; rfl
theorem pr_fs {w x : Nat} (h : ne (5 * o + w) = some x) : pr_f ne ef o w = false := by unfold pr_f; rw [h, Bool.and_comm]; rfl
/-- the digits of a state before -/
theorem pr_dg (hD : 2 ≤ D) (hne : ∀ v, v < V → ∀ x, ne (5 * o + v) = some x → x < D) (k w : Nat) (hw : w < V) :
    (ef (5 * o + w) = none → pr_0 D ne ef t o w + pr_k D ne ef o k w = cd_d D t w) ∧ (∀ x y, ef (5 * o + w) = some x → ne (5 * o + w) = some y → pr_0 D ne ef t o w + pr_k D ne ef o k w = y) ∧
    (∀ x, ef (5 * o + w) = some x → ne (5 * o + w) = none → pr_0 D ne ef t o w + pr_k D ne ef o k w = k / pr_c D (pr_f ne ef o) w % D) ∧ pr_0 D ne ef t o w + pr_k D ne ef o k w < D := by
  have a1 : ef (5 * o + w) = none → pr_0 D ne ef t o w + pr_k D ne ef o k w = cd_d D t w := fun h => by
    unfold pr_k
    rw [pr_0n h, pr_fn h, if_neg (by decide), Nat.add_zero]
  have a2 : ∀ x y, ef (5 * o + w) = some x → ne (5 * o + w) = some y → pr_0 D ne ef t o w + pr_k D ne ef o k w = y := fun x y h h2 => by
    unfold pr_k
    rw [pr_0s h, pr_fs h2, if_neg (by decide), Nat.add_zero, h2]; rfl
  have a3 : ∀ x, ef (5 * o + w) = some x → ne (5 * o + w) = none → pr_0 D ne ef t o w + pr_k D ne ef o k w = k / pr_c D (pr_f ne ef o) w % D := fun x h h2 => by
    unfold pr_k
    rw [pr_0s h, pr_ft h h2, if_pos rfl, h2]; exact Nat.zero_add _
  refine ⟨a1, a2, a3, ?_⟩
  cases h : ef (5 * o + w) with
  | none => rw [a1 h]; exact cd_dl (by omega) _ _
  | some x =>
    cases h2 : ne (5 * o + w) with
    | none => rw [a3 x h h2]; exact Nat.mod_lt _ (by omega)
    | some y => rw [a2 x y h h2]; exact hne w hw y h2
theorem pr_sd (hD : 2 ≤ D) (hne : ∀ v, v < V → ∀ x, ne (5 * o + v) = some x → x < D) (k : Nat) : pr_s V D ne ef t o k < D ^ V ∧ ∀ w, w < V → cd_d D (pr_s V D ne ef t o k) w = pr_0 D ne ef t o w + pr_k D ne ef o k w := by
  unfold pr_s
  rw [cd_add]
  exact ⟨cd_lt V (fun w hw => (pr_dg hD hne k w hw).2.2.2), fun w hw => cd_dg (by omega) V (fun w hw => (pr_dg hD hne k w hw).2.2.2) w hw⟩
theorem pr_1 (hD : 2 ≤ D) (hne : ∀ v, v < V → ∀ x, ne (5 * o + v) = some x → x < D) (ht : t < D ^ V) (hk : pr_ok V D ne ef t o) (k : Nat) : gr_s V D ne ef (pr_s V D ne ef t o k) o = some t := by
  obtain ⟨h1, h2⟩ := pr_sd (t := t) (ef := ef) hD hne k
  have hok : gr_ok V D ne (pr_s V D ne ef t o k) o := fun v hv x e => by
    rw [h2 v hv]
    obtain ⟨a1, a2, _⟩ := pr_dg (t := t) (ef := ef) hD hne k v hv
    cases h : ef (5 * o + v) with
    | none => rw [a1 h]; exact (hk v hv).2 h x e
    | some y => rw [a2 y x h e]
  rw [gr_st hok]
  refine congrArg some ?_
  have e : gr_t V D ef (pr_s V D ne ef t o k) o = cd_c D (cd_d D t) V := cd_ext V (fun v hv => by
    cases h : ef (5 * o + v) with
    | none =>
      show cd_d D (pr_s V D ne ef t o k) v = _
      rw [h2 v hv]; exact (pr_dg hD hne k v hv).1 h
    | some y => exact (hk v hv).1 y h)
  rw [e, cd_of' ht]
theorem pr_2 (hD : 2 ≤ D) (hne : ∀ v, v < V → ∀ x, ne (5 * o + v) = some x → x < D) (hef : ∀ v, v < V → ∀ x, ef (5 * o + v) = some x → x < D) (hs : s < D ^ V) (h : gr_s V D ne ef s o = some t) : pr_ok V D ne ef t o ∧ ∃ k, k < pr_c D (pr_f ne ef o) V ∧ s = pr_s V D ne ef t o k := by
  obtain ⟨hok, e⟩ := gr_si h
  have hd : ∀ v, v < V → cd_d D t v = (ef (5 * o + v)).getD (cd_d D s v) := fun v hv => by
    rw [e]; exact cd_dg (by omega) V (gr_td hD hef) v hv
  have hdn : ∀ v, v < V → ef (5 * o + v) = none → cd_d D t v = cd_d D s v := fun v hv h => by rw [hd v hv, h]; rfl
  refine ⟨fun v hv => ⟨fun x e2 => by rw [hd v hv, e2]; rfl, fun e1 x e2 => by rw [hdn v hv e1]; exact hok v hv x e2⟩, ?_⟩
  obtain ⟨k, hk, hw⟩ := pr_ex (fr := pr_f ne ef o) (d := cd_d D s) (show 0 < D by omega) V (fun w _ => cd_dl (by omega) s w)
  obtain ⟨h1, h2⟩ := pr_sd (t := t) (ef := ef) hD hne k
  refine ⟨k, hk, cd_inj hs h1 (fun v hv => ?_)⟩
  rw [h2 v hv]
  obtain ⟨a1, a2, a3, _⟩ := pr_dg (t := t) (ef := ef) hD hne k v hv
  cases h : ef (5 * o + v) with
  | none => rw [a1 h, hdn v hv h]
  | some x =>
    cases h3 : ne (5 * o + v) with
    | none => rw [a3 x h h3, hw v hv (pr_ft h h3)]
    | some y => rw [a2 x y h h3]; exact (hok v hv y h3).symm
end PR
section WF
variable {V D N : Nat} {il mt iv hz ib br : Int32} {c b : Nat → Nat} {ne ef g sp : Nat → Option Nat} {im qu tg sg hp pl on tw ca ta ua : Nat → Nat} {ns es ha : Nat → Int32}
theorem wf_fbl {post : Int32 → Prop} {t o : Nat} (hT : gr_T V D N c b ne ef g) (ht : t < D ^ V) (ho : o < N) (h : post (nI (cd_c D (pr_0 D ne ef t o) V))) : ∀ n v, v ≤ V → V - v < n → wX_firstBefore_5 post (nI t) (nI o) (nI V) (nI D) (nI (D ^ V)) (nI N) il mt iv hz ib br (ot_n c) (ot_o ne) (ot_o ef) (ot_n b) (ot_o g) (ot_n (ot_pw V D)) (ot_o sp) (ot_n im) (ot_n qu) (ot_n tg) (ot_n sg) (ot_n hp) (ot_n pl) (ot_n on) (ot_n tw) ns es ha (ot_n ca) (ot_n ta) (ot_n ua) n (nI (cd_c D (fun w => if w < v then pr_0 D ne ef t o w else cd_d D t w) V)) (nI v) := by
  obtain ⟨⟨hV1, hV⟩, ⟨hD, hD4⟩, hN, hc, hb, hne, hef, hg⟩ := id hT
  intro n
  induction n with
  | zero => intro v _ h; omega
  | succ n ih =>
    intro v hv hn
    refine pk_le V v (fun hx => ?_) (fun hx => ?_)
    · rw [cd_ext (g := pr_0 D ne ef t o) V (fun w hw => if_pos (by omega))]; exact h
    · have hi : 5 * o + v < 50 := by omega
      rw [ot_ix5, ot_ro _ (by omega)]
      refine ⟨pk_in _ 50 hi, ot_bo _ (fun y e => by have := hef o ho v hx y e; omega) (fun e => ?_) (fun y e => ⟨pk_in _ 50 hi, nm_r (ot_ro _ (by omega)) ?_⟩)⟩
      · refine nm_r (nI_1 v) ?_
        have e3 : cd_c D (fun w => if w < v then pr_0 D ne ef t o w else cd_d D t w) V = cd_c D (fun w => if w < v + 1 then pr_0 D ne ef t o w else cd_d D t w) V := by
          refine cd_ext V (fun w hw => ?_)
          by_cases a : w < v
          · rw [if_pos a, if_pos (by omega)]
          · rw [if_neg a]
            by_cases d : w < v + 1
            · rw [if_pos d, show w = v from by omega, pr_0n e]
            · rw [if_neg d]
        rw [e3]
        exact ih (v + 1) (by omega) (by omega)
      · have k1 : ∀ z : Nat, z = pr_0 D ne ef t o v → wX_firstBefore_55 post (wX_firstBefore_5 post (nI t) (nI o) (nI V) (nI D) (nI (D ^ V)) (nI N) il mt iv hz ib br (ot_n c) (ot_o ne) (ot_o ef) (ot_n b) (ot_o g) (ot_n (ot_pw V D)) (ot_o sp) (ot_n im) (ot_n qu) (ot_n tg) (ot_n sg) (ot_n hp) (ot_n pl) (ot_n on) (ot_n tw) ns es ha (ot_n ca) (ot_n ta) (ot_n ua) n) (nI t) (nI o) (nI v) (nI z) (nI (cd_c D (fun w => if w < v then pr_0 D ne ef t o w else cd_d D t w) V)) (nI V) (nI D) (nI (D ^ V)) (nI N) il mt iv hz ib br (ot_n c) (ot_o ne) (ot_o ef) (ot_n b) (ot_o g) (ot_n (ot_pw V D)) (ot_o sp) (ot_n im) (ot_n qu) (ot_n tg) (ot_n sg) (ot_n hp) (ot_n pl) (ot_n on) (ot_n tw) ns es ha (ot_n ca) (ot_n ta) (ot_n ua) := fun z ez => by
          refine wa_dg hT ht hx ⟨pk_in v 6 (by omega), nm_r (e' := nI (cd_c D (fun w => if w < v + 1 then pr_0 D ne ef t o w else cd_d D t w) V)) ?_ (nm_r (nI_1 v) (ih (v + 1) (by omega) (by omega)))⟩
          have h1 := cd_upd (B := D) (f := fun w => if w < v then pr_0 D ne ef t o w else cd_d D t w) (v := v) (e := z) V hx
          have h2 : (if v < v then pr_0 D ne ef t o v else cd_d D t v) = cd_d D t v := if_neg (Nat.lt_irrefl v)
          have h3 : cd_c D (ot_u (fun w => if w < v then pr_0 D ne ef t o w else cd_d D t w) v z) V = cd_c D (fun w => if w < v + 1 then pr_0 D ne ef t o w else cd_d D t w) V := by
            refine cd_ext V (fun w hw => ?_)
            by_cases a : w = v
            · subst a
              rw [ot_us, if_pos (by omega), ez]
            · rw [ot_un a]
              by_cases d : w < v
              · rw [if_pos d, if_pos (by omega)]
              · rw [if_neg d, if_neg (by omega)]
          rw [h2, h3] at h1
          have h4 := congrArg nI h1
          rw [← nI_add, ← nI_add, ← pk_mul, ← pk_mul] at h4
          have h5 : ot_n (ot_pw V D) (nI v).toNatClampNeg = nI (D ^ v) := by
            rw [ot_r _ (by omega)]; unfold ot_pw; rw [if_pos hx]
          rw [h5]
          generalize nI (cd_c D (fun w => if w < v then pr_0 D ne ef t o w else cd_d D t w) V) = A at h4 ⊢
          generalize nI (cd_c D (fun w => if w < v + 1 then pr_0 D ne ef t o w else cd_d D t w) V) = B at h4 ⊢
          generalize nI (cd_d D t v) = x at h4 ⊢
          generalize nI z = y at h4 ⊢
          generalize nI (D ^ v) = z at h4 ⊢
          grind
        refine ot_bo _ (fun y e => by have := hne o ho v hx y e; omega) (fun e2 => ?_) (fun y2 e2 => ?_)
        · exact k1 0 (by rw [pr_0s e, e2]; rfl)
        · rw [e2, ot_is]
          exact k1 y2 (by rw [pr_0s e, e2]; rfl)
theorem wf_fb {post : Int32 → Prop} {t o : Nat} (hT : gr_T V D N c b ne ef g) (ht : t < D ^ V) (ho : o < N) (h : post (nI (cd_c D (pr_0 D ne ef t o) V))) : wpX_firstBefore post ((nI V), (nI D), (nI (D ^ V)), (nI N), il, mt, iv, hz, ib, br, (ot_n c), (ot_o ne), (ot_o ef), (ot_n b), (ot_o g), (ot_n (ot_pw V D)), (ot_o sp), (ot_n im), (ot_n qu), (ot_n tg), (ot_n sg), (ot_n hp), (ot_n pl), (ot_n on), (ot_n tw), ns, es, ha, (ot_n ca), (ot_n ta), (ot_n ua)) (nI t) (nI o) := by
  refine ⟨V + 1, ?_⟩
  have e : t = cd_c D (fun w => if w < 0 then pr_0 D ne ef t o w else cd_d D t w) V := by
    rw [cd_ext (g := cd_d D t) V (fun w hw => if_neg (by omega)), cd_of' ht]
  have h1 := wf_fbl (post := post) (il := il) (mt := mt) (iv := iv) (hz := hz) (ib := ib) (br := br) (sp := sp) (im := im) (qu := qu) (tg := tg) (sg := sg) (hp := hp) (pl := pl) (on := on) (tw := tw) (ca := ca) (ta := ta) (ua := ua) (ns := ns) (es := es) (ha := ha) hT ht ho h (V + 1) 0 (by omega) (by omega)
  rw [← e] at h1
  exact h1
theorem wf_fr {post : Int32 → Prop} {o v : Nat} (hT : gr_T V D N c b ne ef g) (ho : o < N) (hv : v < V) (h : post (ot_b (pr_f ne ef o v = true))) : wpX_isFree post ((nI V), (nI D), (nI (D ^ V)), (nI N), il, mt, iv, hz, ib, br, (ot_n c), (ot_o ne), (ot_o ef), (ot_n b), (ot_o g), (ot_n (ot_pw V D)), (ot_o sp), (ot_n im), (ot_n qu), (ot_n tg), (ot_n sg), (ot_n hp), (ot_n pl), (ot_n on), (ot_n tw), ns, es, ha, (ot_n ca), (ot_n ta), (ot_n ua)) (nI o) (nI v) := by
  obtain ⟨⟨hV1, hV⟩, ⟨hD, hD4⟩, hN, hc, hb, hne, hef, hg⟩ := id hT
  have hi : 5 * o + v < 50 := by omega
  unfold wpX_isFree
  dsimp only
  rw [ot_ix5, ot_ro _ (by omega), ot_ro _ (by omega)]
  refine ⟨pk_in _ 50 hi, ot_bo _ (fun y e => by have := hef o ho v hv y e; omega) (fun e => ?_) (fun y e => ⟨pk_in _ 50 hi, ot_bo _ (fun y e => by have := hne o ho v hv y e; omega) (fun e2 => ?_) (fun y2 e2 => ?_)⟩)⟩
  · rw [ot_bf (by rw [pr_fn e]; decide)] at h; exact h
  · rw [ot_bt (pr_ft e e2)] at h; exact h
  · rw [ot_bf (by rw [pr_fs e2]; decide)] at h; exact h
theorem wf_cb {post : Int32 → Prop} {o : Nat} (hT : gr_T V D N c b ne ef g) (ho : o < N) (h : post (nI (pr_c D (pr_f ne ef o) V))) : wpX_countBefore post ((nI V), (nI D), (nI (D ^ V)), (nI N), il, mt, iv, hz, ib, br, (ot_n c), (ot_o ne), (ot_o ef), (ot_n b), (ot_o g), (ot_n (ot_pw V D)), (ot_o sp), (ot_n im), (ot_n qu), (ot_n tg), (ot_n sg), (ot_n hp), (ot_n pl), (ot_n on), (ot_n tw), ns, es, ha, (ot_n ca), (ot_n ta), (ot_n ua)) (nI o) := by
  obtain ⟨⟨hV1, hV⟩, ⟨hD, hD4⟩, hN, hc, hb, hne, hef, hg⟩ := id hT
  have key : ∀ n v, v ≤ V → V - v < n → wX_countBefore_4 post (nI o) (nI V) (nI D) (nI (D ^ V)) (nI N) il mt iv hz ib br (ot_n c) (ot_o ne) (ot_o ef) (ot_n b) (ot_o g) (ot_n (ot_pw V D)) (ot_o sp) (ot_n im) (ot_n qu) (ot_n tg) (ot_n sg) (ot_n hp) (ot_n pl) (ot_n on) (ot_n tw) ns es ha (ot_n ca) (ot_n ta) (ot_n ua) n (nI (pr_c D (pr_f ne ef o) v)) (nI v) := by
    intro n
    induction n with
    | zero => intro v _ h; omega
    | succ n ih =>
      intro v hv hn
      refine pk_le V v (fun hx => ?_) (fun hx => ?_)
      · rw [show v = V from by omega]; exact h
      · refine wf_fr hT ho hx (ot_bb _ (fun a => nm_r (nI_1 v) ?_) (fun a => ?_))
        · rw [← pr_cf (D := D) (ts_nt a)]; exact ih (v + 1) (by omega) (by omega)
        · exact nm_r (by rw [pk_mul, ← pr_ct a]) (nm_r (nI_1 v) (ih (v + 1) (by omega) (by omega)))
  exact ⟨V + 1, key (V + 1) 0 (by omega) (by omega)⟩
theorem wf_of {post : Int32 → Prop} {o k : Nat} (hT : gr_T V D N c b ne ef g) (ho : o < N) (hk : k < 1024) (h : post (nI (cd_c D (pr_k D ne ef o k) V))) : wpX_offset post ((nI V), (nI D), (nI (D ^ V)), (nI N), il, mt, iv, hz, ib, br, (ot_n c), (ot_o ne), (ot_o ef), (ot_n b), (ot_o g), (ot_n (ot_pw V D)), (ot_o sp), (ot_n im), (ot_n qu), (ot_n tg), (ot_n sg), (ot_n hp), (ot_n pl), (ot_n on), (ot_n tw), ns, es, ha, (ot_n ca), (ot_n ta), (ot_n ua)) (nI o) (nI k) := by
  obtain ⟨⟨hV1, hV⟩, ⟨hD, hD4⟩, hN, hc, hb, hne, hef, hg⟩ := id hT
  have key : ∀ n v, v ≤ V → V - v < n → wX_offset_8 post (nI o) (nI V) (nI D) (nI (D ^ V)) (nI N) il mt iv hz ib br (ot_n c) (ot_o ne) (ot_o ef) (ot_n b) (ot_o g) (ot_n (ot_pw V D)) (ot_o sp) (ot_n im) (ot_n qu) (ot_n tg) (ot_n sg) (ot_n hp) (ot_n pl) (ot_n on) (ot_n tw) ns es ha (ot_n ca) (ot_n ta) (ot_n ua) n (nI (k / pr_c D (pr_f ne ef o) v)) (nI (cd_c D (pr_k D ne ef o k) v)) (nI v) := by
    intro n
    induction n with
    | zero => intro v _ h; omega
    | succ n ih =>
      intro v hv hn
      refine pk_le V v (fun hx => ?_) (fun hx => ?_)
      · rw [show v = V from by omega]; exact h
      · have hkl : k / pr_c D (pr_f ne ef o) v < 2 ^ 31 := Nat.lt_of_le_of_lt (Nat.div_le_self _ _) (by omega)
        refine wf_fr hT ho hx (ot_bb _ (fun a => nm_r (nI_1 v) ?_) (fun a => ?_))
        · have e1 : cd_c D (pr_k D ne ef o k) (v + 1) = cd_c D (pr_k D ne ef o k) v := by
            rw [cd_s]; unfold pr_k; rw [if_neg a, Nat.zero_mul, Nat.add_zero]
          rw [← pr_cf (D := D) (ts_nt a), ← e1]; exact ih (v + 1) (by omega) (by omega)
        · have hD0 : ¬ nI D = 0 := nI_ne0 (by omega) (by omega)
          refine ⟨hD0, pk_in v 6 (by omega), nm_r (e' := nI (cd_c D (pr_k D ne ef o k) (v + 1))) ?_ ⟨hD0, nm_r (e' := nI (k / pr_c D (pr_f ne ef o) (v + 1))) ?_ (nm_r (nI_1 v) (ih (v + 1) (by omega) (by omega)))⟩⟩
          · rw [ot_r _ (by omega), pk_rem hkl (by omega) (by omega), pk_mul, nI_add, cd_s]
            unfold ot_pw
            rw [if_pos hx]
            congr 2
            unfold pr_k
            rw [if_pos a]
          · rw [pk_div hkl (by omega) (by omega), Nat.div_div_eq_div_mul, ← pr_ct a]
  have h1 := key (V + 1) 0 (by omega) (by omega)
  have e1 : k / pr_c D (pr_f ne ef o) 0 = k := Nat.div_one k
  rw [e1] at h1
  exact ⟨V + 1, h1⟩
end WF
end
section
section WH
variable {V D N : Nat} {il mt iv hz ib br : Int32} {c b : Nat → Nat} {ne ef g sp : Nat → Option Nat} {im qu tg sg hp pl on tw ca ta ua : Nat → Nat} {ns es ha : Nat → Int32}
def wh_K (tg sg : Nat → Nat) : Nat → Nat := fun s => tg s * 2048 + sg s
theorem wh_Ku (s a e : Nat) : wh_K (ot_u tg s a) (ot_u sg s e) = ot_u (wh_K tg sg) s (a * 2048 + e) := by
  funext t
  unfold wh_K
  by_cases h : t = s
  · subst h; rw [ot_us, ot_us, ot_us]
  · rw [ot_un h, ot_un h, ot_un h]
/-- labels within their range -/
def wh_B (M : Nat) (tg sg : Nat → Nat) : Prop := ∀ s, s < M → tg s ≤ 1000000 ∧ sg s < 2048
theorem wh_nr {post : Int32 → Prop} {M s t : Nat} (hM : M ≤ 1024) (hB : wh_B M tg sg) (hs : s < M) (ht : t < M) (h : post (ot_b (wh_K tg sg s < wh_K tg sg t))) : wpX_nearer post ((nI V), (nI D), (nI (D ^ V)), (nI N), il, mt, iv, hz, ib, br, (ot_n c), (ot_o ne), (ot_o ef), (ot_n b), (ot_o g), (ot_n (ot_pw V D)), (ot_o sp), (ot_n im), (ot_n qu), (ot_n tg), (ot_n sg), (ot_n hp), (ot_n pl), (ot_n on), (ot_n tw), ns, es, ha, (ot_n ca), (ot_n ta), (ot_n ua)) (nI s) (nI t) := by
  have h1 := hB s hs
  have h2 := hB t ht
  have hK : ∀ x, wh_K tg sg x = tg x * 2048 + sg x := fun _ => rfl
  have i1 : vp_in (nI s) 1024 := vp_in_nI (by omega) (by omega)
  have i2 : vp_in (nI t) 1024 := vp_in_nI (by omega) (by omega)
  unfold wpX_nearer
  dsimp only
  rw [ot_r tg (i := s) (by omega), ot_r tg (i := t) (by omega), ot_r sg (i := s) (by omega), ot_r sg (i := t) (by omega)]
  refine ⟨i1, i2, pk_eq (tg s) (tg t) (fun e => ⟨i1, i2, pk_le (sg t) (sg s) (fun k => ?_) (fun k => ?_)⟩) (fun e => ⟨i1, i2, pk_le (tg t) (tg s) (fun k => ?_) (fun k => ?_)⟩)⟩
  · rw [ot_bf (by rw [hK, hK]; omega)] at h; exact h
  · rw [ot_bt (by rw [hK, hK]; omega)] at h; exact h
  · rw [ot_bf (by rw [hK, hK]; omega)] at h; exact h
  · rw [ot_bt (by rw [hK, hK]; omega)] at h; exact h
theorem wh_sp {post : SX → Prop} {i s : Nat} (hi : i < 1024) (hs : s < 1024) (h : post ((nI V), (nI D), (nI (D ^ V)), (nI N), il, mt, iv, hz, ib, br, (ot_n c), (ot_o ne), (ot_o ef), (ot_n b), (ot_o g), (ot_n (ot_pw V D)), (ot_o sp), (ot_n im), (ot_n qu), (ot_n tg), (ot_n sg), (ot_n (ot_u hp i s)), (ot_n (ot_u pl s i)), (ot_n on), (ot_n tw), ns, es, ha, (ot_n ca), (ot_n ta), (ot_n ua))) : wpX_setPlace post ((nI V), (nI D), (nI (D ^ V)), (nI N), il, mt, iv, hz, ib, br, (ot_n c), (ot_o ne), (ot_o ef), (ot_n b), (ot_o g), (ot_n (ot_pw V D)), (ot_o sp), (ot_n im), (ot_n qu), (ot_n tg), (ot_n sg), (ot_n hp), (ot_n pl), (ot_n on), (ot_n tw), ns, es, ha, (ot_n ca), (ot_n ta), (ot_n ua)) (nI i) (nI s) := by
  refine And.intro (pk_in i 1024 hi) (nm_r (ot_upd' hp (nI_clamp (by omega)) rfl) ⟨pk_in s 1024 hs, nm_r (ot_upd' pl (nI_clamp (by omega)) rfl) h⟩)
theorem wh_par {i : Nat} (h : 0 < i) (hi : i < 2 ^ 31) : (nI i - 1) / 2 = nI ((i - 1) / 2) := by
  have e : nI i - 1 = nI (i - 1) := pk_sub (b := 1) h
  rw [e]
  exact pk_div (d := 2) (by omega) (by omega) (by omega)
theorem wh_r12 {post : SX → Prop} {M m s : Nat} {h0 : Nat → Nat} (hM : M ≤ 1024) (hB : wh_B M tg sg) (hs : s < M)
    (hX : ∀ h p, hp_H M m h p → hp_O m (wh_K tg sg) h → (∀ t, hp_in m h t ↔ hp_in m h0 t) → post ((nI V), (nI D), (nI (D ^ V)), (nI N), il, mt, iv, hz, ib, br, (ot_n c), (ot_o ne), (ot_o ef), (ot_n b), (ot_o g), (ot_n (ot_pw V D)), (ot_o sp), (ot_n im), (ot_n qu), (ot_n tg), (ot_n sg), (ot_n h), (ot_n p), (ot_n on), (ot_n tw), ns, es, ha, (ot_n ca), (ot_n ta), (ot_n ua))) :
    ∀ f k i (h p : Nat → Nat), 12 < f + k → k ≤ 12 → (i + 1) * 2 ^ k ≤ 1024 → i < m → hp_H M m (ot_u h i s) (ot_u p s i) → hp_R m (wh_K tg sg) (ot_u h i s) i → (∀ t, hp_in m (ot_u h i s) t ↔ hp_in m h0 t) →
    wX_rise_12 post (nI s) f (nI i) (nI k) (nI V) (nI D) (nI (D ^ V)) (nI N) il mt iv hz ib br (ot_n c) (ot_o ne) (ot_o ef) (ot_n b) (ot_o g) (ot_n (ot_pw V D)) (ot_o sp) (ot_n im) (ot_n qu) (ot_n tg) (ot_n sg) (ot_n h) (ot_n p) (ot_n on) (ot_n tw) ns es ha (ot_n ca) (ot_n ta) (ot_n ua) := by
  intro f
  induction f with
  | zero => intro k i h p a b; omega
  | succ f ih =>
    intro k i h p hf hk hik him H R hin
    have hm := hp_nle H
    have hfin : (i = 0 ∨ wh_K tg sg (ot_u h i s ((i - 1) / 2)) ≤ wh_K tg sg (ot_u h i s i)) → wX_rise_68 post (nI i) (nI s) (nI V) (nI D) (nI (D ^ V)) (nI N) il mt iv hz ib br (ot_n c) (ot_o ne) (ot_o ef) (ot_n b) (ot_o g) (ot_n (ot_pw V D)) (ot_o sp) (ot_n im) (ot_n qu) (ot_n tg) (ot_n sg) (ot_n h) (ot_n p) (ot_n on) (ot_n tw) ns es ha (ot_n ca) (ot_n ta) (ot_n ua) := fun hx => by
      refine wh_sp (by omega) (by omega) ?_
      exact hX _ _ H (hp_Rx R hx) hin
    refine pk_le 12 k (fun a => ?_) (fun a => ?_)
    · have : k = 12 := by omega
      subst this
      omega
    · refine pk_le i 0 (fun a0 => hfin (Or.inl (by omega))) (fun a0 => ?_)
      have hqi : (i - 1) / 2 ≠ i := by omega
      have hqm : (i - 1) / 2 < m := by omega
      have hq : h ((i - 1) / 2) < M := by
        have := (H _ hqm).1
        rw [ot_un hqi] at this; exact this
      rw [wh_par a0 (by omega), ot_r h (by omega)]
      refine ⟨ot_n2, vp_in_nI (by omega) (by omega), wh_nr hM hB hs hq (ot_bb _ (fun b' => hfin (Or.inr ?_)) (fun b' => ⟨ot_n2, vp_in_nI (by omega) (by omega), ?_⟩))⟩
      · rw [ot_un hqi, ot_us]; omega
      · refine wh_sp (by omega) (by omega) ⟨ot_n2, nm_e (nm_r (nI_1 k) ?_)⟩
        have h2 : ((i - 1) / 2 + 1) * 2 ^ (k + 1) ≤ 1024 := by
          have h3 : (2 * ((i - 1) / 2 + 1)) * 2 ^ k ≤ (i + 1) * 2 ^ k := Nat.mul_le_mul_right _ (by omega)
          have h4 : ((i - 1) / 2 + 1) * 2 ^ (k + 1) = (2 * ((i - 1) / 2 + 1)) * 2 ^ k := by rw [Nat.pow_succ]; ac_rfl
          omega
        exact ih (k + 1) ((i - 1) / 2) _ _ (by omega) (by omega) h2 hqm (hp_sw H him hqm hqi) (hp_Rs R him a0 b') (fun t => (hp_swi him hqm hqi t).trans (hin t))
theorem wh_ri {post : SX → Prop} {M m i : Nat} (hM : M ≤ 1024) (hB : wh_B M tg sg) (H : hp_H M m hp pl) (R : hp_R m (wh_K tg sg) hp i) (him : i < m)
    (hX : ∀ h p, hp_H M m h p → hp_O m (wh_K tg sg) h → (∀ t, hp_in m h t ↔ hp_in m hp t) → post ((nI V), (nI D), (nI (D ^ V)), (nI N), il, mt, iv, hz, ib, br, (ot_n c), (ot_o ne), (ot_o ef), (ot_n b), (ot_o g), (ot_n (ot_pw V D)), (ot_o sp), (ot_n im), (ot_n qu), (ot_n tg), (ot_n sg), (ot_n h), (ot_n p), (ot_n on), (ot_n tw), ns, es, ha, (ot_n ca), (ot_n ta), (ot_n ua))) : wpX_rise post ((nI V), (nI D), (nI (D ^ V)), (nI N), il, mt, iv, hz, ib, br, (ot_n c), (ot_o ne), (ot_o ef), (ot_n b), (ot_o g), (ot_n (ot_pw V D)), (ot_o sp), (ot_n im), (ot_n qu), (ot_n tg), (ot_n sg), (ot_n hp), (ot_n pl), (ot_n on), (ot_n tw), ns, es, ha, (ot_n ca), (ot_n ta), (ot_n ua)) (nI i) := by
  have hm := hp_nle H
  have e1 : ot_u hp i (hp i) = hp := by
    funext j
    by_cases a : j = i
    · rw [a, ot_us]
    · rw [ot_un a]
  have e2 : ot_u pl (hp i) i = pl := by
    funext j
    by_cases a : j = hp i
    · rw [a, ot_us]; exact (H i him).2.symm
    · rw [ot_un a]
  refine And.intro (vp_in_nI (by omega) (by omega)) (nm_r (ot_r hp (by omega)) ⟨13, ?_⟩)
  refine wh_r12 (h0 := hp) (m := m) hM hB (H i him).1 hX 13 0 i hp pl (by omega) (by omega) (by omega) him ?_ ?_ (fun t => ?_)
  · rw [e1, e2]; exact H
  · rw [e1]; exact R
  · rw [e1]
theorem wh_s14 {post : SX → Prop} {M m s : Nat} {h0 : Nat → Nat} (hM : M ≤ 1024) (hB : wh_B M tg sg) (hs : s < M)
    (hX : ∀ h p, hp_H M m h p → hp_O m (wh_K tg sg) h → (∀ t, hp_in m h t ↔ hp_in m h0 t) → post ((nI V), (nI D), (nI (D ^ V)), (nI N), il, mt, iv, (nI m), ib, br, (ot_n c), (ot_o ne), (ot_o ef), (ot_n b), (ot_o g), (ot_n (ot_pw V D)), (ot_o sp), (ot_n im), (ot_n qu), (ot_n tg), (ot_n sg), (ot_n h), (ot_n p), (ot_n on), (ot_n tw), ns, es, ha, (ot_n ca), (ot_n ta), (ot_n ua))) :
    ∀ f k i (h p : Nat → Nat), 12 < f + k → k ≤ 12 → 2 ^ k ≤ i + 1 → i < m → hp_H M m (ot_u h i s) (ot_u p s i) → hp_D m (wh_K tg sg) (ot_u h i s) i → (∀ t, hp_in m (ot_u h i s) t ↔ hp_in m h0 t) →
    wX_sink_14 post (nI s) f (nI i) 1 (nI k) (nI V) (nI D) (nI (D ^ V)) (nI N) il mt iv (nI m) ib br (ot_n c) (ot_o ne) (ot_o ef) (ot_n b) (ot_o g) (ot_n (ot_pw V D)) (ot_o sp) (ot_n im) (ot_n qu) (ot_n tg) (ot_n sg) (ot_n h) (ot_n p) (ot_n on) (ot_n tw) ns es ha (ot_n ca) (ot_n ta) (ot_n ua) := by
  intro f
  induction f with
  | zero => intro k i h p a b; omega
  | succ f ih =>
    intro k i h p hf hk hik him H R hin
    have hm := hp_nle H
    have hfin : (∀ j, 0 < j → j < m → (j - 1) / 2 = i → wh_K tg sg (ot_u h i s i) ≤ wh_K tg sg (ot_u h i s j)) → wX_sink_127 post (nI i) (nI s) (nI V) (nI D) (nI (D ^ V)) (nI N) il mt iv (nI m) ib br (ot_n c) (ot_o ne) (ot_o ef) (ot_n b) (ot_o g) (ot_n (ot_pw V D)) (ot_o sp) (ot_n im) (ot_n qu) (ot_n tg) (ot_n sg) (ot_n h) (ot_n p) (ot_n on) (ot_n tw) ns es ha (ot_n ca) (ot_n ta) (ot_n ua) := fun hx => by
      refine wh_sp (by omega) (by omega) ?_
      exact hX _ _ H (hp_Dx R hx) hin
    refine pk_le 12 k (fun a => ?_) (fun a => br_f ot_10 ?_)
    · have : k = 12 := by omega
      subst this
      omega
    · rw [ot_m2, nI_1]
      have hg : ∀ j, j < m → j ≠ i → h j < M := fun j hj hji => by
        have := (H j hj).1
        rw [ot_un hji] at this; exact this
      have h87 : ∀ z, z < m → (z = 2 * i + 1 ∨ z = 2 * i + 2) → (∀ j, j < m → (j - 1) / 2 = i → 0 < j → wh_K tg sg (h z) ≤ wh_K tg sg (h j)) → wX_sink_87 post (wX_sink_14 post (nI s) f) (nI i) (nI s) (nI k) (nI z) (nI V) (nI D) (nI (D ^ V)) (nI N) il mt iv (nI m) ib br (ot_n c) (ot_o ne) (ot_o ef) (ot_n b) (ot_o g) (ot_n (ot_pw V D)) (ot_o sp) (ot_n im) (ot_n qu) (ot_n tg) (ot_n sg) (ot_n h) (ot_n p) (ot_n on) (ot_n tw) ns es ha (ot_n ca) (ot_n ta) (ot_n ua) := fun z hz hzi hmin => by
        have hzi2 : z ≠ i := by omega
        unfold wX_sink_87
        rw [ot_r h (by omega)]
        refine ⟨vp_in_nI (by omega) (by omega), wh_nr hM hB (hg z hz hzi2) hs ?_⟩
        by_cases hl : wh_K tg sg (h z) < wh_K tg sg s
        · rw [ot_bt hl]
          refine br_f ot_10 ⟨vp_in_nI (by omega) (by omega), wh_sp (by omega) (by have := hg z hz hzi2; omega) (nm_r (nI_1 k) ?_)⟩
          refine ih (k + 1) z _ _ (by omega) (by omega) ?_ hz (hp_sw H him hz hzi2) (hp_Ds R him hz hzi hmin hl) (fun t => (hp_swi him hz hzi2 t).trans (hin t))
          rw [Nat.pow_succ]; omega
        · rw [ot_bf hl]
          refine br_t rfl (nm_r (nI_1 k) ?_)
          obtain ⟨f2, rfl⟩ : ∃ f2, f = f2 + 1 := ⟨f - 1, by omega⟩
          have hfin2 := hfin (fun j j0 jm je => by
            have hji : j ≠ i := by omega
            rw [ot_us, ot_un hji]
            have := hmin j jm je j0
            omega)
          exact br_c (fun _ => hfin2) (fun _ => br_t rfl hfin2)
      refine pk_le m (2 * i + 1) (fun a1 => hfin (fun j j0 jm je => by omega)) (fun a1 => nm_e ?_)
      rw [nI_1]
      refine pk_le m (2 * i + 1 + 1) (fun a2 => ?_) (fun a2 => ?_)
      · refine h87 (2 * i + 1) a1 (Or.inl rfl) (fun j jm je j0 => ?_)
        rw [show j = 2 * i + 1 from by omega]; exact Nat.le_refl _
      · rw [ot_r h (by omega), ot_r h (by omega)]
        refine ⟨vp_in_nI (by omega) (by omega), vp_in_nI (by omega) (by omega), wh_nr hM hB (hg _ a2 (by omega)) (hg _ a1 (by omega)) (ot_bb _ (fun b' => ?_) (fun b' => ?_))⟩
        · refine h87 (2 * i + 1) a1 (Or.inl rfl) (fun j jm je j0 => ?_)
          by_cases e : j = 2 * i + 1
          · rw [e]; exact Nat.le_refl _
          · rw [show j = 2 * i + 1 + 1 from by omega]; omega
        · refine h87 (2 * i + 1 + 1) a2 (Or.inr rfl) (fun j jm je j0 => ?_)
          by_cases e : j = 2 * i + 1
          · rw [e]; omega
          · rw [show j = 2 * i + 1 + 1 from by omega]; exact Nat.le_refl _
theorem wh_tn {post : Int32 → SX → Prop} {M m : Nat} (hM : M ≤ 1024) (hB : wh_B M tg sg) (H : hp_H M (m + 1) hp pl) (O : hp_O (m + 1) (wh_K tg sg) hp)
    (hX : ∀ h p, hp_H M m h p → hp_O m (wh_K tg sg) h → (∀ t, hp_in m h t ↔ hp_in (m + 1) hp t ∧ t ≠ hp 0) → post (nI (hp 0)) ((nI V), (nI D), (nI (D ^ V)), (nI N), il, mt, iv, (nI m), ib, br, (ot_n c), (ot_o ne), (ot_o ef), (ot_n b), (ot_o g), (ot_n (ot_pw V D)), (ot_o sp), (ot_n im), (ot_n qu), (ot_n tg), (ot_n sg), (ot_n h), (ot_n p), (ot_n on), (ot_n tw), ns, es, ha, (ot_n ca), (ot_n ta), (ot_n ua))) : wpX_takeNearest post ((nI V), (nI D), (nI (D ^ V)), (nI N), il, mt, iv, (nI (m + 1)), ib, br, (ot_n c), (ot_o ne), (ot_o ef), (ot_n b), (ot_o g), (ot_n (ot_pw V D)), (ot_o sp), (ot_n im), (ot_n qu), (ot_n tg), (ot_n sg), (ot_n hp), (ot_n pl), (ot_n on), (ot_n tw), ns, es, ha, (ot_n ca), (ot_n ta), (ot_n ua)) := by
  have hm := hp_nle H
  refine nm_r (e' := nI (hp 0)) rfl (nm_r (nI_pred m) (pk_le m 0 (fun a => ?_) (fun a => ?_)))
  · have e : m = 0 := by omega
    subst e
    refine hX hp pl (fun i hi => by omega) (fun i _ hi => by omega) (fun t => ⟨fun ⟨i, hi, _⟩ => by omega, fun ⟨⟨i, hi, e⟩, hne⟩ => ?_⟩)
    rw [show i = 0 from by omega] at e
    exact absurd e.symm hne
  · have hs := (H m (by omega)).1
    have e1 : ot_u (ot_u hp 0 (hp m)) 0 (hp m) = ot_u hp 0 (hp m) := by
      funext j
      by_cases a : j = 0
      · rw [a, ot_us, ot_us]
      · rw [ot_un a]
    have e2 : ot_u (ot_u pl (hp m) 0) (hp m) 0 = ot_u pl (hp m) 0 := by
      funext j
      by_cases a : j = hp m
      · rw [a, ot_us, ot_us]
      · rw [ot_un a]
    rw [ot_r hp (by omega)]
    refine ⟨vp_in_nI (by omega) (by omega), wh_sp (i := 0) (by omega) (by omega) ?_⟩
    refine nm_r (e' := nI (hp m)) (congrArg nI ot_us) ⟨13, ?_⟩
    refine wh_s14 (M := M) (h0 := ot_u hp 0 (hp m)) hM hB hs (fun h p a1 a2 a3 => hX h p a1 a2 (fun t => (a3 t).trans (dj_ki H a t))) 13 0 0 _ _ (by omega) (by omega) (by omega) a ?_ ?_ (fun t => ?_)
    · rw [e1, e2]; exact dj_kh H a
    · rw [e1]; exact dj_k1 O
    · rw [e1]
end WH
end
section
section WI
variable {V D N : Nat} {il mt iv hz ib br : Int32} {c b : Nat → Nat} {ne ef g sp : Nat → Option Nat} {im qu tg sg hp pl on tw ca ta ua : Nat → Nat} {ns es ha : Nat → Int32}
theorem wi_98 {post : SX → Prop} {M m s i : Nat} (hM : M ≤ 1024) (hs : s < M) (hB : wh_B M tg sg) (H : hp_H M m hp pl) (him : i < m) (hi : hp i = s) (R : hp_R m (wh_K tg sg) hp i)
    (hX : ∀ h p, hp_H M m h p → hp_O m (wh_K tg sg) h → (∀ t, hp_in m h t ↔ hp_in m hp t) → post ((nI V), (nI D), (nI (D ^ V)), (nI N), il, mt, iv, hz, ib, br, (ot_n c), (ot_o ne), (ot_o ef), (ot_n b), (ot_o g), (ot_n (ot_pw V D)), (ot_o sp), (ot_n im), (ot_n qu), (ot_n tg), (ot_n sg), (ot_n h), (ot_n p), (ot_n on), (ot_n tw), ns, es, ha, (ot_n ca), (ot_n ta), (ot_n ua))) : wX_improve_98 post (nI s) (nI V) (nI D) (nI (D ^ V)) (nI N) il mt iv hz ib br (ot_n c) (ot_o ne) (ot_o ef) (ot_n b) (ot_o g) (ot_n (ot_pw V D)) (ot_o sp) (ot_n im) (ot_n qu) (ot_n tg) (ot_n sg) (ot_n hp) (ot_n pl) (ot_n on) (ot_n tw) ns es ha (ot_n ca) (ot_n ta) (ot_n ua) := by
  unfold wX_improve_98
  rw [ot_r pl (by omega)]
  have e := (H i him).2
  rw [hi] at e
  rw [e]
  exact ⟨vp_in_nI (by omega) (by omega), wh_ri hM hB H R him hX⟩
theorem wi_imp {post : SX → Prop} {M m s a e : Nat} {stp : Nat → Nat → Option Nat} {gl : Nat → Prop} {dn : Nat → Bool} (hM : M ≤ 1024) (hB : wh_B M tg sg) (hs : s < M) (he : e < 2048) (hal : a ≤ 2000000) (I : dj_I M N stp c gl (wh_K tg sg) m hp pl dn)
    (hno : wh_K tg sg s ≤ a * 2048 + e → post ((nI V), (nI D), (nI (D ^ V)), (nI N), il, mt, iv, (nI m), ib, br, (ot_n c), (ot_o ne), (ot_o ef), (ot_n b), (ot_o g), (ot_n (ot_pw V D)), (ot_o sp), (ot_n im), (ot_n qu), (ot_n tg), (ot_n sg), (ot_n hp), (ot_n pl), (ot_n on), (ot_n tw), ns, es, ha, (ot_n ca), (ot_n ta), (ot_n ua)))
    (hd : a * 2048 + e < wh_K tg sg s → dn s = false ∧ (∀ d, dn d = true → wh_K tg sg d ≤ a * 2048 + e) ∧ lb_I M N stp c gl (ot_u (wh_K tg sg) s (a * 2048 + e)))
    (hyes : a * 2048 + e < wh_K tg sg s → ∀ m' h p, dj_I M N stp c gl (wh_K (ot_u tg s a) (ot_u sg s e)) m' h p dn → wh_B M (ot_u tg s a) (ot_u sg s e) → post ((nI V), (nI D), (nI (D ^ V)), (nI N), il, mt, iv, (nI m'), ib, br, (ot_n c), (ot_o ne), (ot_o ef), (ot_n b), (ot_o g), (ot_n (ot_pw V D)), (ot_o sp), (ot_n im), (ot_n qu), (ot_n (ot_u tg s a)), (ot_n (ot_u sg s e)), (ot_n h), (ot_n p), (ot_n on), (ot_n tw), ns, es, ha, (ot_n ca), (ot_n ta), (ot_n ua))) :
    wpX_improve post ((nI V), (nI D), (nI (D ^ V)), (nI N), il, mt, iv, (nI m), ib, br, (ot_n c), (ot_o ne), (ot_o ef), (ot_n b), (ot_o g), (ot_n (ot_pw V D)), (ot_o sp), (ot_n im), (ot_n qu), (ot_n tg), (ot_n sg), (ot_n hp), (ot_n pl), (ot_n on), (ot_n tw), ns, es, ha, (ot_n ca), (ot_n ta), (ot_n ua)) (nI s) (nI a) (nI e) := by
  have hb := hB s hs
  have hK : wh_K tg sg s = tg s * 2048 + sg s := rfl
  have is1 : vp_in (nI s) 1024 := vp_in_nI (by omega) (by omega)
  have hm := hp_nle I.1
  have h34 : wh_K tg sg s ≤ a * 2048 + e → wX_improve_34 post (nI s) (nI a) (nI e) (nI V) (nI D) (nI (D ^ V)) (nI N) il mt iv (nI m) ib br (ot_n c) (ot_o ne) (ot_o ef) (ot_n b) (ot_o g) (ot_n (ot_pw V D)) (ot_o sp) (ot_n im) (ot_n qu) (ot_n tg) (ot_n sg) (ot_n hp) (ot_n pl) (ot_n on) (ot_n tw) ns es ha (ot_n ca) (ot_n ta) (ot_n ua) := fun h => br_t rfl (hno h)
  have h30 : a * 2048 + e < wh_K tg sg s → wX_improve_30 post (nI s) (nI a) (nI e) (nI V) (nI D) (nI (D ^ V)) (nI N) il mt iv (nI m) ib br (ot_n c) (ot_o ne) (ot_o ef) (ot_n b) (ot_o g) (ot_n (ot_pw V D)) (ot_o sp) (ot_n im) (ot_n qu) (ot_n tg) (ot_n sg) (ot_n hp) (ot_n pl) (ot_n on) (ot_n tw) ns es ha (ot_n ca) (ot_n ta) (ot_n ua) := fun h => by
    obtain ⟨hdn, hdk, hlb⟩ := hd h
    have hls := (I.2.2.1 s hs).1
    have hB2 : wh_B M (ot_u tg s a) (ot_u sg s e) := fun t ht => by
      by_cases x : t = s
      · rw [x, ot_us, ot_us]; omega
      · rw [ot_un x, ot_un x]; exact hB t ht
    refine br_f ot_10 ⟨is1, ?_⟩
    rw [ot_r tg (by omega)]
    refine pk_eq (tg s) 1000000 (fun k => ?_) (fun k => ?_)
    · -- fresh
      have hfr : ¬ hp_in m hp s := fun ⟨j, hj, x⟩ => by
        have := I.2.2.2.1 j hj
        rw [x] at this; omega
      have hmM := hp_nlt I.1 hs hfr
      refine ⟨is1, nm_r (ot_upd' tg (nI_clamp (by omega)) rfl) ⟨is1, nm_r (ot_upd' sg (nI_clamp (by omega)) rfl) (br_f ot_10 (wh_sp (by omega) (by omega) (nm_r (nI_1 m) ?_)))⟩⟩
      have R := dj_r2 (k := a * 2048 + e) I hfr
      rw [← wh_Ku] at R
      refine wi_98 hM hs hB2 (dj_h2 I.1 hs hfr) (show m < m + 1 by omega) ot_us R (fun h' p' a1 a2 a3 => ?_)
      rw [wh_Ku] at a2
      have I2 := dj_put (k := a * 2048 + e) I hs h hdn hdk hlb a1 a2 (fun t => by
        rw [a3 t]
        constructor
        · intro ⟨j, hj, x⟩
          by_cases y : j = m
          · subst y; rw [ot_us] at x; exact Or.inl x.symm
          · rw [ot_un y] at x; exact Or.inr ⟨j, by omega, x⟩
        · intro x
          rcases x with x | ⟨j, hj, x⟩
          · exact ⟨m, by omega, by rw [ot_us, x]⟩
          · exact ⟨j, by omega, by rw [ot_un (by omega)]; exact x⟩)
      rw [← wh_Ku] at I2
      exact hyes h (m + 1) h' p' I2 hB2
    · -- it waits already
      have hin : hp_in m hp s := by
        rcases I.2.2.2.2.1 s hs (by omega) with x | x
        · rw [hdn] at x; exact nomatch x
        · exact x
      obtain ⟨j, hj, x⟩ := hin
      refine ⟨is1, nm_r (ot_upd' tg (nI_clamp (by omega)) rfl) ⟨is1, nm_r (ot_upd' sg (nI_clamp (by omega)) rfl) (br_t rfl ?_)⟩⟩
      have R := dj_r1 (k := a * 2048 + e) I hj (by rw [x]; exact h)
      rw [x, ← wh_Ku] at R
      refine wi_98 hM hs hB2 I.1 hj x R (fun h' p' a1 a2 a3 => ?_)
      rw [wh_Ku] at a2
      have I2 := dj_put (k := a * 2048 + e) I hs h hdn hdk hlb a1 a2 (fun t => by
        rw [a3 t]
        constructor
        · intro y; exact Or.inr y
        · intro y
          rcases y with y | y
          · exact ⟨j, hj, by rw [x, y]⟩
          · exact y)
      rw [← wh_Ku] at I2
      exact hyes h m h' p' I2 hB2
  unfold wpX_improve
  dsimp only
  rw [ot_r tg (by omega), ot_r sg (by omega)]
  refine ⟨is1, pk_lt a (tg s) (fun k => h30 (by omega)) (fun k => ⟨is1, pk_eq a (tg s) (fun k2 => ⟨is1, pk_le (sg s) e (fun k3 => h34 (by omega)) (fun k3 => h30 (by omega))⟩) (fun k2 => h34 (by omega))⟩)⟩
/-- while state t, taken out of the heap, is gone over -/
def wi_W (M N : Nat) (stp : Nat → Nat → Option Nat) (c : Nat → Nat) (gl : Nat → Prop) (tg sg : Nat → Nat) (m : Nat) (hp pl : Nat → Nat) (dn : Nat → Bool) (t : Nat) : Prop :=
  wh_B M tg sg ∧ dj_I M N stp c gl (wh_K tg sg) m hp pl dn ∧ dn t = true ∧ (∀ d, dn d = true → wh_K tg sg d ≤ wh_K tg sg t) ∧ (∀ s, s < M → gl s → wh_K tg sg s = 0) ∧
  ∀ d, dn d = true → d ≠ t → ∀ s o, s < M → o < N → stp s o = some d → wh_K tg sg s ≤ wh_K tg sg d + (c o * 2048 + 1)
/-- labels only got better, those of done states not at all -/
def wi_l (dn : Nat → Bool) (K K2 : Nat → Nat) : Prop := (∀ u, K2 u ≤ K u) ∧ ∀ d, dn d = true → K2 d = K d
theorem wi_lr {dn : Nat → Bool} {K : Nat → Nat} : wi_l dn K K := ⟨fun _ => Nat.le_refl _, fun _ _ => rfl⟩
theorem wi_lt {dn : Nat → Bool} {K K2 K3 : Nat → Nat} (h : wi_l dn K K2) (h2 : wi_l dn K2 K3) : wi_l dn K K3 := ⟨fun u => Nat.le_trans (h2.1 u) (h.1 u), fun d e => (h2.2 d e).trans (h.2 d e)⟩
theorem wi_st {post : SX → Prop} {M m s t o : Nat} {stp : Nat → Nat → Option Nat} {gl : Nat → Prop} {dn : Nat → Bool} (hM : M ≤ 1024) (hs : s < M) (ho : o < N) (hco : c o ≤ 9) (hst : stp s o = some t) (W : wi_W M N stp c gl tg sg m hp pl dn t)
    (hX : ∀ m' tg' sg' h p, wi_W M N stp c gl tg' sg' m' h p dn t → wi_l dn (wh_K tg sg) (wh_K tg' sg') → wh_K tg' sg' s ≤ wh_K tg' sg' t + (c o * 2048 + 1) → post ((nI V), (nI D), (nI (D ^ V)), (nI N), il, mt, iv, (nI m'), ib, br, (ot_n c), (ot_o ne), (ot_o ef), (ot_n b), (ot_o g), (ot_n (ot_pw V D)), (ot_o sp), (ot_n im), (ot_n qu), (ot_n tg'), (ot_n sg'), (ot_n h), (ot_n p), (ot_n on), (ot_n tw), ns, es, ha, (ot_n ca), (ot_n ta), (ot_n ua))) :
    wpX_improve post ((nI V), (nI D), (nI (D ^ V)), (nI N), il, mt, iv, (nI m), ib, br, (ot_n c), (ot_o ne), (ot_o ef), (ot_n b), (ot_o g), (ot_n (ot_pw V D)), (ot_o sp), (ot_n im), (ot_n qu), (ot_n tg), (ot_n sg), (ot_n hp), (ot_n pl), (ot_n on), (ot_n tw), ns, es, ha, (ot_n ca), (ot_n ta), (ot_n ua)) (nI s) (nI (tg t) + nI (c o)) (nI (sg t) + 1) := by
  obtain ⟨hB, I, hdt, hdl, hgl, hcl⟩ := id W
  obtain ⟨ht, hft, _⟩ := I.2.2.2.2.2.1 t hdt
  have hbt := hB t ht
  have hstp := lb_st hM I.2.2.1 ht hft
  have hKt : wh_K tg sg t = tg t * 2048 + sg t := rfl
  have hsg : sg t < 1024 := by omega
  have e1 : (tg t + c o) * 2048 + (sg t + 1) = wh_K tg sg t + (c o * 2048 + 1) := by omega
  rw [nI_add, nI_1]
  refine wi_imp (a := tg t + c o) (e := sg t + 1) hM hB hs (by omega) (by omega) I (fun h => ?_) (fun h => ?_) (fun h m' h' p' I2 B2 => ?_)
  · exact hX m tg sg hp pl W wi_lr (by omega)
  · rw [e1] at h ⊢
    refine ⟨?_, fun d e => ?_, lb_upd hM I.2.2.1 hs ho ht hco hst hft h⟩
    · cases x : dn s with
      | false => rfl
      | true => have := hdl s x; omega
    · have := hdl d e; omega
  · have hnd : ∀ d, dn d = true → d ≠ s := fun d e e2 => by
      rw [e2] at e
      have := hdl s e; omega
    rw [wh_Ku, e1] at I2
    have hl : wi_l dn (wh_K tg sg) (wh_K (ot_u tg s (tg t + c o)) (ot_u sg s (sg t + 1))) := by
      rw [wh_Ku, e1]
      refine ⟨fun u => ?_, fun d e => ot_un (hnd d e)⟩
      by_cases x : u = s
      · rw [x, ot_us]; omega
      · rw [ot_un x]; exact Nat.le_refl _
    refine hX m' _ _ h' p' ?_ hl ?_
    · refine ⟨B2, by rw [wh_Ku, e1]; exact I2, hdt, fun d e => ?_, fun u hu hg => ?_, fun d e hdt2 u o2 hu ho2 hst2 => ?_⟩
      · rw [hl.2 d e, hl.2 t hdt]; exact hdl d e
      · have := hl.1 u; have := hgl u hu hg; omega
      · rw [hl.2 d e]
        exact Nat.le_trans (hl.1 u) (hcl d e hdt2 u o2 hu ho2 hst2)
    · rw [hl.2 t hdt, wh_Ku, ot_us, e1]; exact Nat.le_refl _
theorem wi_into {post : SX → Prop} {m t o : Nat} {dn : Nat → Bool} (hT : gr_T V D N c b ne ef g) (ht : t < D ^ V) (ho : o < N) (W : wi_W (D ^ V) N (gr_s V D ne ef) c (gr_g V D g) tg sg m hp pl dn t)
    (hX : ∀ m' tg' sg' h p, wi_W (D ^ V) N (gr_s V D ne ef) c (gr_g V D g) tg' sg' m' h p dn t → wi_l dn (wh_K tg sg) (wh_K tg' sg') → (∀ s, s < D ^ V → gr_s V D ne ef s o = some t → wh_K tg' sg' s ≤ wh_K tg' sg' t + (c o * 2048 + 1)) → post ((nI V), (nI D), (nI (D ^ V)), (nI N), il, mt, iv, (nI m'), ib, br, (ot_n c), (ot_o ne), (ot_o ef), (ot_n b), (ot_o g), (ot_n (ot_pw V D)), (ot_o sp), (ot_n im), (ot_n qu), (ot_n tg'), (ot_n sg'), (ot_n h), (ot_n p), (ot_n on), (ot_n tw), ns, es, ha, (ot_n ca), (ot_n ta), (ot_n ua))) :
    wpX_improveInto post ((nI V), (nI D), (nI (D ^ V)), (nI N), il, mt, iv, (nI m), ib, br, (ot_n c), (ot_o ne), (ot_o ef), (ot_n b), (ot_o g), (ot_n (ot_pw V D)), (ot_o sp), (ot_n im), (ot_n qu), (ot_n tg), (ot_n sg), (ot_n hp), (ot_n pl), (ot_n on), (ot_n tw), ns, es, ha, (ot_n ca), (ot_n ta), (ot_n ua)) (nI t) (nI o) := by
  obtain ⟨⟨hV1, hV⟩, ⟨hD, hD4⟩, hN, hc, hb, hne, hef, hg⟩ := id hT
  have hM : D ^ V ≤ 1024 := gr_M hV hD4
  have hno : ¬ pr_ok V D ne ef t o → post ((nI V), (nI D), (nI (D ^ V)), (nI N), il, mt, iv, (nI m), ib, br, (ot_n c), (ot_o ne), (ot_o ef), (ot_n b), (ot_o g), (ot_n (ot_pw V D)), (ot_o sp), (ot_n im), (ot_n qu), (ot_n tg), (ot_n sg), (ot_n hp), (ot_n pl), (ot_n on), (ot_n tw), ns, es, ha, (ot_n ca), (ot_n ta), (ot_n ua)) := fun hn => hX m tg sg hp pl W wi_lr (fun s hs e => absurd (pr_2 hD (hne o ho) (hef o ho) hs e).1 hn)
  have hcV : pr_c D (pr_f ne ef o) V ≤ 1024 := Nat.le_trans (pr_cl (by omega) V) hM
  have h98 : pr_ok V D ne ef t o → ∀ f k m' (tg' sg' h p : Nat → Nat), k ≤ pr_c D (pr_f ne ef o) V → pr_c D (pr_f ne ef o) V - k < f → wi_W (D ^ V) N (gr_s V D ne ef) c (gr_g V D g) tg' sg' m' h p dn t → wi_l dn (wh_K tg sg) (wh_K tg' sg') → (∀ k', k' < k → wh_K tg' sg' (pr_s V D ne ef t o k') ≤ wh_K tg' sg' t + (c o * 2048 + 1)) →
      wX_improveInto_98 post (nI t) (nI o) (nI (cd_c D (pr_0 D ne ef t o) V)) (nI (pr_c D (pr_f ne ef o) V)) f (nI k) (nI V) (nI D) (nI (D ^ V)) (nI N) il mt iv (nI m') ib br (ot_n c) (ot_o ne) (ot_o ef) (ot_n b) (ot_o g) (ot_n (ot_pw V D)) (ot_o sp) (ot_n im) (ot_n qu) (ot_n tg') (ot_n sg') (ot_n h) (ot_n p) (ot_n on) (ot_n tw) ns es ha (ot_n ca) (ot_n ta) (ot_n ua) := by
    intro hok f
    induction f with
    | zero => intro k m' tg' sg' h p _ a; omega
    | succ f ih =>
      intro k m' tg' sg' h p hk hf W2 hl hP
      refine pk_le (pr_c D (pr_f ne ef o) V) k (fun hx => ?_) (fun hx => ?_)
      · refine hX m' tg' sg' h p W2 hl (fun s hs e => ?_)
        obtain ⟨_, k', hk', e2⟩ := pr_2 hD (hne o ho) (hef o ho) hs e
        rw [e2]; exact hP k' (by omega)
      · refine wf_of hT ho (by omega) (nm_r (nI_add _ _) ?_)
        have hps := pr_sd (t := t) (ef := ef) hD (hne o ho) k
        rw [ot_r tg' (by omega), ot_r sg' (by omega), ot_r c (by omega)]
        refine ⟨vp_in_nI (by omega) (by omega), vp_in_nI (by omega) (by omega), vp_in_nI (by omega) (by omega), ?_⟩
        refine wi_st (M := D ^ V) (s := pr_s V D ne ef t o k) hM hps.1 ho (hc o ho) (pr_1 hD (hne o ho) ht hok k) W2 (fun m2 tg2 sg2 h2 p2 W3 hl2 hP2 => nm_r (nI_1 k) ?_)
        refine ih (k + 1) m2 tg2 sg2 h2 p2 (by omega) (by omega) W3 (wi_lt hl hl2) (fun k' a => ?_)
        by_cases e : k' = k
        · rw [e]; exact hP2
        · rw [hl2.2 t W2.2.2.1]
          exact Nat.le_trans (hl2.1 _) (hP k' (by omega))
  have key : ∀ n v, v ≤ V → V - v < n → (∀ w, w < v → (∀ x, ef (5 * o + w) = some x → x = cd_d D t w) ∧ (ef (5 * o + w) = none → ∀ x, ne (5 * o + w) = some x → x = cd_d D t w)) → wX_improveInto_2 post (nI t) (nI o) (nI V) (nI D) (nI (D ^ V)) (nI N) il mt iv (nI m) ib br (ot_n c) (ot_o ne) (ot_o ef) (ot_n b) (ot_o g) (ot_n (ot_pw V D)) (ot_o sp) (ot_n im) (ot_n qu) (ot_n tg) (ot_n sg) (ot_n hp) (ot_n pl) (ot_n on) (ot_n tw) ns es ha (ot_n ca) (ot_n ta) (ot_n ua) n (nI v) := by
    intro n
    induction n with
    | zero => intro v _ h; omega
    | succ n ih =>
      intro v hv hn hw
      refine pk_le V v (fun hx => ?_) (fun hx => ?_)
      · refine wf_fb hT ht ho (wf_cb hT ho ⟨pr_c D (pr_f ne ef o) V + 1, ?_⟩)
        exact h98 (fun w a => hw w (by omega)) _ 0 m tg sg hp pl (by omega) (by omega) W wi_lr (fun k' a => by omega)
      · have hi : 5 * o + v < 50 := by omega
        rw [ot_ix5]
        refine ⟨pk_in _ 50 hi, nm_r (ot_ro _ (by omega)) (wa_dg hT ht hx ⟨pk_in _ 50 hi, nm_r (ot_ro _ (by omega)) ?_⟩)⟩
        have hd := cd_dl (B := D) (by omega) t v
        have k1 : (∀ x, ef (5 * o + v) = some x → x = cd_d D t v) → (ef (5 * o + v) = none → ∀ x, ne (5 * o + v) = some x → x = cd_d D t v) → ∀ x3, x3 = nI v + 1 → wX_improveInto_2 post (nI t) (nI o) (nI V) (nI D) (nI (D ^ V)) (nI N) il mt iv (nI m) ib br (ot_n c) (ot_o ne) (ot_o ef) (ot_n b) (ot_o g) (ot_n (ot_pw V D)) (ot_o sp) (ot_n im) (ot_n qu) (ot_n tg) (ot_n sg) (ot_n hp) (ot_n pl) (ot_n on) (ot_n tw) ns es ha (ot_n ca) (ot_n ta) (ot_n ua) n x3 := fun a1 a2 x3 e => by
          rw [e, nI_1]
          refine ih (v + 1) (by omega) (by omega) (fun w a => ?_)
          by_cases e2 : w = v
          · rw [e2]; exact ⟨a1, a2⟩
          · exact hw w (by omega)
        have k2 : (∀ x, ef (5 * o + v) = some x → x = cd_d D t v) → wX_improveInto_55 post (wX_improveInto_2 post (nI t) (nI o) (nI V) (nI D) (nI (D ^ V)) (nI N) il mt iv (nI m) ib br (ot_n c) (ot_o ne) (ot_o ef) (ot_n b) (ot_o g) (ot_n (ot_pw V D)) (ot_o sp) (ot_n im) (ot_n qu) (ot_n tg) (ot_n sg) (ot_n hp) (ot_n pl) (ot_n on) (ot_n tw) ns es ha (ot_n ca) (ot_n ta) (ot_n ua) n) (nI t) (nI o) (nI v) (ot_i (ef (5 * o + v))) (nI (cd_d D t v)) (ot_i (ne (5 * o + v))) (nI V) (nI D) (nI (D ^ V)) (nI N) il mt iv (nI m) ib br (ot_n c) (ot_o ne) (ot_o ef) (ot_n b) (ot_o g) (ot_n (ot_pw V D)) (ot_o sp) (ot_n im) (ot_n qu) (ot_n tg) (ot_n sg) (ot_n hp) (ot_n pl) (ot_n on) (ot_n tw) ns es ha (ot_n ca) (ot_n ta) (ot_n ua) := fun a1 => by
          refine ot_bo _ (fun y e => by have := hef o ho v hx y e; omega) (fun e => ?_) (fun y e => k1 a1 (fun e2 => by rw [e] at e2; exact nomatch e2))
          refine ot_bo _ (fun y e => by have := hne o ho v hx y e; omega) (fun e2 => k1 a1 (fun _ x e3 => by rw [e2] at e3; exact nomatch e3)) (fun y e2 => ?_)
          have hy := hne o ho v hx y e2
          rw [e2, ot_is]
          refine pk_eq y (cd_d D t v) (fun k => k1 a1 (fun _ x e3 => ?_)) (fun k => hno (fun a => k ((a v hx).2 e y e2)))
          rw [e2] at e3; rw [← Option.some.inj e3]; exact k
        refine ot_bo _ (fun y e => by have := hef o ho v hx y e; omega) (fun e => k2 (fun x e3 => by rw [e] at e3; exact nomatch e3)) (fun y e => ?_)
        have hy := hef o ho v hx y e
        rw [e, ot_is]
        refine pk_eq y (cd_d D t v) (fun k => ?_) (fun k => hno (fun a => k ((a v hx).1 y e)))
        rw [← ot_is y, ← e]
        exact k2 (fun x e3 => by rw [e] at e3; rw [← Option.some.inj e3]; exact k)
  exact ⟨V + 1, key (V + 1) 0 (by omega) (by omega) (fun w a => by omega)⟩
end WI
end
section
section WV
variable {V D N : Nat} {il mt iv hz ib br : Int32} {c b : Nat → Nat} {ne ef g sp : Nat → Option Nat} {im qu tg sg hp pl on tw ca ta ua : Nat → Nat} {ns es ha : Nat → Int32}
/-- the labels are right -/
def wv_F (V D N : Nat) (c : Nat → Nat) (ne ef g : Nat → Option Nat) (tg sg : Nat → Nat) : Prop :=
  wh_B (D ^ V) tg sg ∧ lb_I (D ^ V) N (gr_s V D ne ef) c (gr_g V D g) (wh_K tg sg) ∧ lb_C (D ^ V) N (gr_s V D ne ef) c (gr_g V D g) (wh_K tg sg)
/-- between two takings out of the heap -/
def wv_I (V D N : Nat) (c : Nat → Nat) (ne ef g : Nat → Option Nat) (tg sg : Nat → Nat) (m : Nat) (hp pl : Nat → Nat) (dn : Nat → Bool) : Prop :=
  wh_B (D ^ V) tg sg ∧ dj_I (D ^ V) N (gr_s V D ne ef) c (gr_g V D g) (wh_K tg sg) m hp pl dn ∧ (∀ s, s < D ^ V → gr_g V D g s → wh_K tg sg s = 0) ∧
  ∀ d, dn d = true → ∀ s o, s < D ^ V → o < N → gr_s V D ne ef s o = some d → wh_K tg sg s ≤ wh_K tg sg d + (c o * 2048 + 1)
theorem wv_102 {post : SX → Prop} {J : Int32 → Int32 → Int32 → Int32 → Int32 → Int32 → Int32 → Int32 → Int32 → Int32 → Int32 → (Nat → Int32) → (Nat → Int32) → (Nat → Int32) → (Nat → Int32) → (Nat → Int32) → (Nat → Int32) → (Nat → Int32) → (Nat → Int32) → (Nat → Int32) → (Nat → Int32) → (Nat → Int32) → (Nat → Int32) → (Nat → Int32) → (Nat → Int32) → (Nat → Int32) → (Nat → Int32) → (Nat → Int32) → (Nat → Int32) → (Nat → Int32) → (Nat → Int32) → (Nat → Int32) → Prop} {i t : Nat} {dn : Nat → Bool} (hT : gr_T V D N c b ne ef g) (ht : t < D ^ V)
    (hJ : ∀ m tg sg hp pl, wv_I V D N c ne ef g tg sg m hp pl dn → J (nI (i + 1)) (nI V) (nI D) (nI (D ^ V)) (nI N) il mt iv (nI m) ib br (ot_n c) (ot_o ne) (ot_o ef) (ot_n b) (ot_o g) (ot_n (ot_pw V D)) (ot_o sp) (ot_n im) (ot_n qu) (ot_n tg) (ot_n sg) (ot_n hp) (ot_n pl) (ot_n on) (ot_n tw) ns es ha (ot_n ca) (ot_n ta) (ot_n ua)) :
    ∀ n o m (tg sg hp pl : Nat → Nat), o ≤ N → N - o < n → wi_W (D ^ V) N (gr_s V D ne ef) c (gr_g V D g) tg sg m hp pl dn t → (∀ o', o' < o → ∀ s, s < D ^ V → gr_s V D ne ef s o' = some t → wh_K tg sg s ≤ wh_K tg sg t + (c o' * 2048 + 1)) →
    wX_solve_102 post J (nI i) (nI t) n (nI o) (nI V) (nI D) (nI (D ^ V)) (nI N) il mt iv (nI m) ib br (ot_n c) (ot_o ne) (ot_o ef) (ot_n b) (ot_o g) (ot_n (ot_pw V D)) (ot_o sp) (ot_n im) (ot_n qu) (ot_n tg) (ot_n sg) (ot_n hp) (ot_n pl) (ot_n on) (ot_n tw) ns es ha (ot_n ca) (ot_n ta) (ot_n ua) := by
  obtain ⟨⟨hV1, hV⟩, ⟨hD, hD4⟩, hN, hc, hb, hne, hef, hg⟩ := id hT
  intro n
  induction n with
  | zero => intro o m tg sg hp pl _ a; omega
  | succ n ih =>
    intro o m tg sg hp pl ho hn W hP
    refine pk_le N o (fun hx => nm_r (nI_1 i) ?_) (fun hx => ?_)
    · refine hJ m tg sg hp pl ⟨W.1, W.2.1, W.2.2.2.2.1, fun d e s o2 hs ho2 e2 => ?_⟩
      by_cases x : d = t
      · rw [x] at e2 ⊢
        exact hP o2 (by omega) s hs e2
      · exact W.2.2.2.2.2 d e x s o2 hs ho2 e2
    · refine wi_into hT ht hx W (fun m2 tg2 sg2 h2 p2 W2 hl hP2 => nm_r (nI_1 o) (ih (o + 1) m2 tg2 sg2 h2 p2 (by omega) (by omega) W2 (fun o' a s hs e => ?_)))
      by_cases x : o' = o
      · rw [x] at e ⊢
        exact hP2 s hs e
      · rw [hl.2 t W.2.2.1]
        exact Nat.le_trans (hl.1 s) (hP o' (by omega) s hs e)
theorem wv_81 {post : SX → Prop} (hT : gr_T V D N c b ne ef g)
    (hX : ∀ m tg sg hp pl, wv_F V D N c ne ef g tg sg → post ((nI V), (nI D), (nI (D ^ V)), (nI N), il, mt, 1, (nI m), ib, br, (ot_n c), (ot_o ne), (ot_o ef), (ot_n b), (ot_o g), (ot_n (ot_pw V D)), (ot_o sp), (ot_n im), (ot_n qu), (ot_n tg), (ot_n sg), (ot_n hp), (ot_n pl), (ot_n on), (ot_n tw), ns, es, ha, (ot_n ca), (ot_n ta), (ot_n ua))) :
    ∀ n i m (tg sg hp pl : Nat → Nat) (dn : Nat → Bool), 1024 < n + i → i ≤ 1024 → i ≤ ct_n dn (D ^ V) → wv_I V D N c ne ef g tg sg m hp pl dn → wX_solve_81 post n (nI i) (nI V) (nI D) (nI (D ^ V)) (nI N) il mt iv (nI m) ib br (ot_n c) (ot_o ne) (ot_o ef) (ot_n b) (ot_o g) (ot_n (ot_pw V D)) (ot_o sp) (ot_n im) (ot_n qu) (ot_n tg) (ot_n sg) (ot_n hp) (ot_n pl) (ot_n on) (ot_n tw) ns es ha (ot_n ca) (ot_n ta) (ot_n ua) := by
  obtain ⟨⟨hV1, hV⟩, ⟨hD, hD4⟩, hN, hc, hb, hne, hef, hg⟩ := id hT
  have hM : D ^ V ≤ 1024 := gr_M hV hD4
  intro n
  induction n with
  | zero => intro i m tg sg hp pl dn a b'; omega
  | succ n ih =>
    intro i m tg sg hp pl dn hn hi hct hI
    obtain ⟨hB, I, hgl, hcl⟩ := id hI
    have hm := hp_nle I.1
    have hfin : m = 0 → post ((nI V), (nI D), (nI (D ^ V)), (nI N), il, mt, 1, (nI m), ib, br, (ot_n c), (ot_o ne), (ot_o ef), (ot_n b), (ot_o g), (ot_n (ot_pw V D)), (ot_o sp), (ot_n im), (ot_n qu), (ot_n tg), (ot_n sg), (ot_n hp), (ot_n pl), (ot_n on), (ot_n tw), ns, es, ha, (ot_n ca), (ot_n ta), (ot_n ua)) := fun e => by
      refine hX m tg sg hp pl ⟨hB, I.2.2.1, fun s hs => ⟨hgl s hs, fun o ho p e2 hf => ?_⟩⟩
      have hpM := ws_st hT s o p hs ho e2
      rcases I.2.2.2.2.1 p hpM hf with x | ⟨j, hj, _⟩
      · exact hcl p x s o hs ho e2
      · omega
    refine pk_le 1024 i (fun a => hfin ?_) (fun a => pk_le m 0 (fun a2 => hfin (by omega)) (fun a2 => ?_))
    · by_cases e : m = 0
      · exact e
      · have h0 := (I.1 0 (by omega)).1
        have hd0 : dn (hp 0) = false := by
          cases x : dn (hp 0) with
          | false => rfl
          | true => exact absurd ⟨0, by omega, rfl⟩ (I.2.2.2.2.2.1 _ x).2.2
        have := ct_ltn h0 hd0
        omega
    · obtain ⟨m1, rfl⟩ : ∃ m1, m = m1 + 1 := ⟨m - 1, by omega⟩
      refine wh_tn hM hB I.1 I.2.1 (fun h p a1 b1 c1 => ?_)
      obtain ⟨I2, hdl, hd0⟩ := dj_pop I a1 b1 c1
      have ht := (I.1 0 (by omega)).1
      have hft := I.2.2.2.1 0 (by omega)
      refine ⟨N + 1, wv_102 hT ht (fun m2 tg2 sg2 h2 p2 hI2 => ih (i + 1) m2 tg2 sg2 h2 p2 (ot_u dn (hp 0) true) (by omega) (by omega) ?_ hI2) (N + 1) 0 m1 tg sg h p (by omega) (by omega) ⟨hB, I2, ot_us, hdl, hgl, fun d e x => ?_⟩ (fun o' a => by omega)⟩
      · rw [ct_add (p := dn) (D ^ V) (hp 0) ht hd0 ot_us (fun t _ x => ot_un x)]; omega
      · rw [ot_un x] at e; exact hcl d e
theorem wv_50 {post : SX → Prop} (hT : gr_T V D N c b ne ef g)
    (hX : ∀ m tg sg hp pl, wv_F V D N c ne ef g tg sg → post ((nI V), (nI D), (nI (D ^ V)), (nI N), il, mt, 1, (nI m), ib, br, (ot_n c), (ot_o ne), (ot_o ef), (ot_n b), (ot_o g), (ot_n (ot_pw V D)), (ot_o sp), (ot_n im), (ot_n qu), (ot_n tg), (ot_n sg), (ot_n hp), (ot_n pl), (ot_n on), (ot_n tw), ns, es, ha, (ot_n ca), (ot_n ta), (ot_n ua))) :
    ∀ n s m (tg sg hp pl : Nat → Nat), s ≤ D ^ V → D ^ V - s < n → wh_B (D ^ V) tg sg → dj_I (D ^ V) N (gr_s V D ne ef) c (gr_g V D g) (wh_K tg sg) m hp pl (fun _ => false) → (∀ t, t < s → gr_g V D g t → wh_K tg sg t = 0) → (∀ t, s ≤ t → t < D ^ V → wh_K tg sg t = 2048000000) → wX_solve_50 post n (nI s) (nI V) (nI D) (nI (D ^ V)) (nI N) il mt iv (nI m) ib br (ot_n c) (ot_o ne) (ot_o ef) (ot_n b) (ot_o g) (ot_n (ot_pw V D)) (ot_o sp) (ot_n im) (ot_n qu) (ot_n tg) (ot_n sg) (ot_n hp) (ot_n pl) (ot_n on) (ot_n tw) ns es ha (ot_n ca) (ot_n ta) (ot_n ua) := by
  obtain ⟨⟨hV1, hV⟩, ⟨hD, hD4⟩, hN, hc, hb, hne, hef, hg⟩ := id hT
  have hM : D ^ V ≤ 1024 := gr_M hV hD4
  intro n
  induction n with
  | zero => intro s m tg sg hp pl _ a; omega
  | succ n ih =>
    intro s m tg sg hp pl hs hn hB I hg0 hf
    refine pk_le (D ^ V) s (fun hx => ⟨1025, ?_⟩) (fun hx => ?_)
    · exact wv_81 hT hX 1025 0 m tg sg hp pl (fun _ => false) (by omega) (by omega) (by omega) ⟨hB, I, fun t ht => hg0 t (by omega), (fun d e => nomatch e)⟩
    · refine wa_go hT hx (ot_bb _ (fun a => nm_r (nI_1 s) ?_) (fun a => ?_))
      · refine ih (s + 1) m tg sg hp pl (by omega) (by omega) hB I (fun t ht hgt => ?_) (fun t a1 a2 => hf t (by omega) a2)
        by_cases e : t = s
        · rw [e] at hgt; exact absurd hgt a
        · exact hg0 t (by omega) hgt
      · have hfs := hf s (by omega) hx
        refine wi_imp (a := 0) (e := 0) hM hB hx (by omega) (by omega) I (fun k => by omega) (fun k => ⟨rfl, (fun d e => nomatch e), lb_upd0 I.2.2.1 hx a⟩) (fun k m2 h2 p2 I2 B2 => nm_r (nI_1 s) ?_)
        refine ih (s + 1) m2 _ _ h2 p2 (by omega) (by omega) B2 I2 (fun t ht hgt => ?_) (fun t a1 a2 => ?_)
        · rw [wh_Ku]
          by_cases e : t = s
          · rw [e, ot_us]
          · rw [ot_un e]; exact hg0 t (by omega) hgt
        · rw [wh_Ku, ot_un (by omega)]; exact hf t (by omega) a2
theorem wv_19 {post : SX → Prop} (hT : gr_T V D N c b ne ef g)
    (hX : ∀ m tg sg hp pl, wv_F V D N c ne ef g tg sg → post ((nI V), (nI D), (nI (D ^ V)), (nI N), il, mt, 1, (nI m), ib, br, (ot_n c), (ot_o ne), (ot_o ef), (ot_n b), (ot_o g), (ot_n (ot_pw V D)), (ot_o sp), (ot_n im), (ot_n qu), (ot_n tg), (ot_n sg), (ot_n hp), (ot_n pl), (ot_n on), (ot_n tw), ns, es, ha, (ot_n ca), (ot_n ta), (ot_n ua))) :
    ∀ n s (tg sg : Nat → Nat), s ≤ D ^ V → D ^ V - s < n → (∀ t, t < s → tg t = 1000000 ∧ sg t = 0) → wX_solve_19 post (nI V) (nI D) (nI (D ^ V)) (nI N) il mt iv 0 ib br n (nI s) (ot_n c) (ot_o ne) (ot_o ef) (ot_n b) (ot_o g) (ot_n (ot_pw V D)) (ot_o sp) (ot_n im) (ot_n qu) (ot_n tg) (ot_n sg) (ot_n hp) (ot_n pl) (ot_n on) (ot_n tw) ns es ha (ot_n ca) (ot_n ta) (ot_n ua) := by
  obtain ⟨⟨hV1, hV⟩, ⟨hD, hD4⟩, hN, hc, hb, hne, hef, hg⟩ := id hT
  have hM : D ^ V ≤ 1024 := gr_M hV hD4
  intro n
  induction n with
  | zero => intro s tg sg _ a; omega
  | succ n ih =>
    intro s tg sg hs hn hf
    refine pk_le (D ^ V) s (fun hx => ⟨D ^ V + 1, ?_⟩) (fun hx => ?_)
    · have hK : ∀ t, t < D ^ V → wh_K tg sg t = 2048000000 := fun t ht => by
        have := hf t (by omega)
        unfold wh_K
        rw [this.1, this.2]
      refine wv_50 hT hX (D ^ V + 1) 0 0 tg sg hp pl (by omega) (by omega) (fun t ht => by have := hf t (by omega); omega) ⟨fun i hi => by omega, fun i _ hi => by omega, lb_far hK, fun i hi => by omega, fun t ht hlt => ?_, (fun d e => nomatch e), (fun d i e => nomatch e)⟩ (fun t ht => by omega) (fun t _ ht => hK t ht)
      have := hK t ht
      omega
    · refine ⟨pk_in s 1024 (by omega), nm_r (ot_upd' (x := 1000000) tg (nI_clamp (by omega)) rfl) ⟨pk_in s 1024 (by omega), nm_r (ot_upd' (x := 0) sg (nI_clamp (by omega)) rfl) (nm_r (nI_1 s) (ih (s + 1) _ _ (by omega) (by omega) (fun t a => ?_)))⟩⟩
      by_cases e : t = s
      · rw [e, ot_us, ot_us]; exact ⟨rfl, rfl⟩
      · rw [ot_un e, ot_un e]; exact hf t (by omega)
theorem wv_so {post : SX → Prop} (hT : gr_T V D N c b ne ef g) (hl : ¬ il = 0 → wl_L V D N ne ef sp ns es) (hv : ¬ iv = 0 → wv_F V D N c ne ef g tg sg)
    (h : ∀ il sp ns es iv hz tg sg hp pl, ¬ il = 0 → wl_L V D N ne ef sp ns es → ¬ iv = 0 → wv_F V D N c ne ef g tg sg → post ((nI V), (nI D), (nI (D ^ V)), (nI N), il, mt, iv, hz, ib, br, (ot_n c), (ot_o ne), (ot_o ef), (ot_n b), (ot_o g), (ot_n (ot_pw V D)), (ot_o sp), (ot_n im), (ot_n qu), (ot_n tg), (ot_n sg), (ot_n hp), (ot_n pl), (ot_n on), (ot_n tw), ns, es, ha, (ot_n ca), (ot_n ta), (ot_n ua))) : wpX_solve post ((nI V), (nI D), (nI (D ^ V)), (nI N), il, mt, iv, hz, ib, br, (ot_n c), (ot_o ne), (ot_o ef), (ot_n b), (ot_o g), (ot_n (ot_pw V D)), (ot_o sp), (ot_n im), (ot_n qu), (ot_n tg), (ot_n sg), (ot_n hp), (ot_n pl), (ot_n on), (ot_n tw), ns, es, ha, (ot_n ca), (ot_n ta), (ot_n ua)) := by
  unfold wpX_solve
  refine wl_lay hT hl (fun il2 sp2 ns2 es2 hil2 hL2 => br_c (fun e => ⟨D ^ V + 1, ?_⟩) (fun e => h il2 sp2 ns2 es2 iv hz tg sg hp pl hil2 hL2 e (hv e)))
  exact wv_19 hT (fun m tg2 sg2 h2 p2 hF => h il2 sp2 ns2 es2 1 (nI m) tg2 sg2 h2 p2 hil2 hL2 ot_10 hF) (D ^ V + 1) 0 tg sg (by omega) (by omega) (fun t a => by omega)
end WV
end
section
section SM
def sm_n (f : Nat → Nat) : Nat → Nat
  | 0 => 0
  | n + 1 => sm_n f n + f n
theorem sm_s (f : Nat → Nat) (n : Nat) : sm_n f (n + 1) = sm_n f n + f n := rfl
theorem sm_le {f h : Nat → Nat} : ∀ n, (∀ i, i < n → f i ≤ h i) → sm_n f n ≤ sm_n h n := by
  intro n
  induction n with
  | zero => intro _; exact Nat.le_refl 0
  | succ n ih =>
    intro a
    have h1 := ih (fun i hi => a i (by omega))
    have h2 := a n (by omega)
    rw [sm_s, sm_s]; omega
theorem sm_lt {f h : Nat → Nat} : ∀ n, (∀ i, i < n → f i ≤ h i) → ∀ k, k < n → f k < h k → sm_n f n < sm_n h n := by
  intro n
  induction n with
  | zero => intro _ k hk; omega
  | succ n ih =>
    intro a k hk hlt
    rw [sm_s, sm_s]
    by_cases e : k = n
    · subst e
      have h1 := sm_le k (fun i hi => a i (by omega))
      omega
    · have h1 := ih (fun i hi => a i (by omega)) k (by omega) hlt
      have h2 := a n (by omega)
      omega
theorem lb_ext {M N : Nat} {stp : Nat → Nat → Option Nat} {c : Nat → Nat} {gl : Nat → Prop} {L1 L2 : Nat → Nat} (h : ∀ s, s < M → L1 s = L2 s) (I : lb_I M N stp c gl L1) : lb_I M N stp c gl L2 := by
  intro s hs
  have h1 := I s hs
  have e := h s hs
  rw [e] at h1
  refine ⟨h1.1, fun hf => ?_⟩
  obtain ⟨a1, a2, a3⟩ := h1.2 hf
  rw [e] at a1 a2 a3
  refine ⟨?_, ?_, a3⟩
  · rcases a1 with a | ⟨o, p, b1, b2, b3, b4⟩
    · exact Or.inl a
    · rw [h p b2] at b4
      exact Or.inr ⟨o, p, b1, b2, b3, b4⟩
  · rw [ct_ext (q := fun t => decide (L2 t < L2 s)) (fun t ht => by rw [h t ht])] at a2
    exact a2
end SM
section YC
variable {V D N : Nat} {rz : Int32} {c b : Nat → Nat} {ne ef g : Nat → Option Nat} {ls fw me bk bd rs : Nat → Nat}
def yc_L (V D : Nat) (ls fw : Nat → Nat) : Nat → Nat := fun s => ls (gr_e V D s) * 2048 + fw (gr_e V D s)
def yc_B (V D : Nat) (ls fw : Nat → Nat) : Prop := ∀ s, s < D ^ V → ls (gr_e V D s) ≤ 1000000 ∧ fw (gr_e V D s) < 2048
def yc_F (V D N : Nat) (c : Nat → Nat) (ne ef g : Nat → Option Nat) (ls fw : Nat → Nat) : Prop :=
  yc_B V D ls fw ∧ lb_I (D ^ V) N (gr_s V D ne ef) c (gr_g V D g) (yc_L V D ls fw) ∧ lb_C (D ^ V) N (gr_s V D ne ef) c (gr_g V D g) (yc_L V D ls fw)
def yc_I (V D N : Nat) (c : Nat → Nat) (ne ef g : Nat → Option Nat) (ls fw : Nat → Nat) : Prop :=
  yc_B V D ls fw ∧ lb_I (D ^ V) N (gr_s V D ne ef) c (gr_g V D g) (yc_L V D ls fw) ∧ ∀ s, s < D ^ V → gr_g V D g s → yc_L V D ls fw s = 0
theorem yc_Lu (hD : 2 ≤ D) (hD4 : D ≤ 4) {s u a e : Nat} (hs : s < D ^ V) (hu : u < D ^ V) : ot_u (yc_L V D ls fw) s (a * 2048 + e) u = yc_L V D (ot_u ls (gr_e V D s) a) (ot_u fw (gr_e V D s) e) u := by
  unfold yc_L
  by_cases h : u = s
  · subst h; rw [ot_us, ot_us, ot_us]
  · have h2 : gr_e V D u ≠ gr_e V D s := fun x => h (gr_ei hD hD4 hu hs x)
    rw [ot_un h, ot_un h2, ot_un h2]
theorem yc_imp {post : Int32 → SY → Prop} {s o : Nat} (hT : gr_T V D N c b ne ef g) (hs : s < D ^ V) (ho : o < N) (I : yc_I V D N c ne ef g ls fw)
    (hno : (∀ p, gr_s V D ne ef s o = some p → yc_L V D ls fw p < 2048000000 → yc_L V D ls fw s ≤ yc_L V D ls fw p + (c o * 2048 + 1)) → post 0 ((nI V), (nI D), (nI N), rz, (ot_n c), (ot_o ne), (ot_o ef), (ot_n b), (ot_o g), (ot_n ls), (ot_n fw), (ot_n me), (ot_n bk), (ot_n bd), (ot_n rs)))
    (hyes : ∀ ls' fw', yc_I V D N c ne ef g ls' fw' → (∀ u, u < D ^ V → yc_L V D ls' fw' u ≤ yc_L V D ls fw u) → yc_L V D ls' fw' s < yc_L V D ls fw s → post 1 ((nI V), (nI D), (nI N), rz, (ot_n c), (ot_o ne), (ot_o ef), (ot_n b), (ot_o g), (ot_n ls'), (ot_n fw'), (ot_n me), (ot_n bk), (ot_n bd), (ot_n rs))) : wpY_improve post ((nI V), (nI D), (nI N), rz, (ot_n c), (ot_o ne), (ot_o ef), (ot_n b), (ot_o g), (ot_n ls), (ot_n fw), (ot_n me), (ot_n bk), (ot_n bd), (ot_n rs)) (nI (gr_e V D s)) (nI o) := by
  obtain ⟨⟨hV1, hV⟩, ⟨hD, hD4⟩, hN, hc, hb, hne, hef, hg⟩ := id hT
  have hM : D ^ V ≤ 1024 := gr_M hV hD4
  have h4 : 4 ^ V ≤ 1024 := gr_M4 hV
  obtain ⟨hB, hI, hgl⟩ := id I
  have hes := gr_el (V := V) (s := s) hD hD4
  have hbs := hB s hs
  have hco := hc o ho
  have hLs : yc_L V D ls fw s = ls (gr_e V D s) * 2048 + fw (gr_e V D s) := rfl
  unfold wpY_improve
  refine ya_use hT ho ?_
  cases e : gr_s V D ne ef s o with
  | none => exact br_t (show (-1 : Int32) < 0 by decide) (hno (fun p e2 => by rw [e] at e2; exact nomatch e2))
  | some p =>
    have hpM := ws_st hT s o p hs ho e
    have hep := gr_el (V := V) (s := p) hD hD4
    have hbp := hB p hpM
    have hLp : yc_L V D ls fw p = ls (gr_e V D p) * 2048 + fw (gr_e V D p) := rfl
    have hno2 : (yc_L V D ls fw p < 2048000000 → yc_L V D ls fw s ≤ yc_L V D ls fw p + (c o * 2048 + 1)) → post 0 ((nI V), (nI D), (nI N), rz, (ot_n c), (ot_o ne), (ot_o ef), (ot_n b), (ot_o g), (ot_n ls), (ot_n fw), (ot_n me), (ot_n bk), (ot_n bd), (ot_n rs)) := fun h => hno (fun p2 e2 => by
      rw [e] at e2; rw [← Option.some.inj e2]; exact h)
    have is1 : vp_in (nI (gr_e V D s)) 1024 := vp_in_nI (by omega) (by omega)
    have ip1 : vp_in (nI (gr_e V D p)) 1024 := vp_in_nI (by omega) (by omega)
    have h84 : yc_L V D ls fw p < 2048000000 → yc_L V D ls fw p + (c o * 2048 + 1) < yc_L V D ls fw s → wY_improve_84 post (nI (gr_e V D s)) (nI (c o + ls (gr_e V D p))) (nI (fw (gr_e V D p) + 1)) (nI V) (nI D) (nI N) rz (ot_n c) (ot_o ne) (ot_o ef) (ot_n b) (ot_o g) (ot_n ls) (ot_n fw) (ot_n me) (ot_n bk) (ot_n bd) (ot_n rs) := fun hf hlt => by
      have hst := lb_st hM hI hpM hf
      have e1 : (c o + ls (gr_e V D p)) * 2048 + (fw (gr_e V D p) + 1) = yc_L V D ls fw p + (c o * 2048 + 1) := by omega
      have hu := lb_upd hM hI hs ho hpM hco e hf hlt
      rw [← e1] at hu hlt
      have hle : ∀ u, u < D ^ V → yc_L V D (ot_u ls (gr_e V D s) (c o + ls (gr_e V D p))) (ot_u fw (gr_e V D s) (fw (gr_e V D p) + 1)) u ≤ yc_L V D ls fw u := fun u hu2 => by
        rw [← yc_Lu hD hD4 hs hu2]
        by_cases x : u = s
        · rw [x, ot_us]; omega
        · rw [ot_un x]; exact Nat.le_refl _
      refine ⟨is1, nm_r (ot_upd' ls (nI_clamp (by omega)) rfl) ⟨is1, nm_r (ot_upd' fw (nI_clamp (by omega)) rfl) (hyes _ _ ⟨fun u hu2 => ?_, lb_ext (fun u hu2 => yc_Lu hD hD4 hs hu2) hu, fun u hu2 hgu => ?_⟩ hle ?_)⟩⟩
      · by_cases x : u = s
        · rw [x, ot_us, ot_us]; omega
        · have h2 : gr_e V D u ≠ gr_e V D s := fun y => x (gr_ei hD hD4 hu2 hs y)
          rw [ot_un h2, ot_un h2]; exact hB u hu2
      · have := hle u hu2; have := hgl u hu2 hgu; omega
      · rw [← yc_Lu hD hD4 hs hs, ot_us]; exact hlt
    rw [show ot_i (Option.map (gr_e V D) (some p)) = nI (gr_e V D p) from rfl]
    refine br_f (nI_pos (by omega)) ⟨ip1, ?_⟩
    rw [ot_r ls (i := gr_e V D p) (by omega), ot_r fw (i := gr_e V D p) (by omega), ot_r ls (i := gr_e V D s) (by omega), ot_r fw (i := gr_e V D s) (by omega), ot_r c (by omega)]
    refine pk_lt (ls (gr_e V D p)) 1000000 (fun k => ⟨vp_in_nI (by omega) (by omega), ip1, nm_r (nI_add _ _) ⟨ip1, nm_r (nI_1 _) ⟨is1, ?_⟩⟩⟩) (fun k => hno2 (fun h => by omega))
    refine pk_lt (ls (gr_e V D s)) (c o + ls (gr_e V D p)) (fun k2 => hno2 (fun h => by omega)) (fun k2 => ⟨is1, ?_⟩)
    have hst := lb_st hM hI hpM (by omega)
    refine pk_eq (c o + ls (gr_e V D p)) (ls (gr_e V D s)) (fun k3 => ⟨is1, pk_lt (fw (gr_e V D p) + 1) (fw (gr_e V D s)) (fun k4 => h84 (by omega) (by omega)) (fun k4 => hno2 (fun h => by omega))⟩) (fun k3 => h84 (by omega) (by omega))
def yc_c (V D N : Nat) (stp : Nat → Nat → Option Nat) (c : Nat → Nat) (L : Nat → Nat) (t o : Nat) : Prop :=
  ∀ s o', s < D ^ V → o' < N → (gr_e V D s < t ∨ (gr_e V D s = t ∧ o' < o)) → ∀ p, stp s o' = some p → L p < 2048000000 → L s ≤ L p + (c o' * 2048 + 1)
theorem yc_81 {post : SY → Prop} {J63 : Int32 → Int32 → Int32 → Int32 → Int32 → (Nat → Int32) → (Nat → Int32) → (Nat → Int32) → (Nat → Int32) → (Nat → Int32) → (Nat → Int32) → (Nat → Int32) → (Nat → Int32) → (Nat → Int32) → (Nat → Int32) → (Nat → Int32) → Prop} {J : Int32 → Int32 → Int32 → Int32 → Int32 → Int32 → (Nat → Int32) → (Nat → Int32) → (Nat → Int32) → (Nat → Int32) → (Nat → Int32) → (Nat → Int32) → (Nat → Int32) → (Nat → Int32) → (Nat → Int32) → (Nat → Int32) → (Nat → Int32) → Prop} {t : Nat} {S0 : Nat} (hT : gr_T V D N c b ne ef g) (ht : t < 4 ^ V)
    (hJ : ∀ ls fw x, yc_I V D N c ne ef g ls fw → sm_n (yc_L V D ls fw) (D ^ V) ≤ S0 → ((x = 0 ∧ yc_c V D N (gr_s V D ne ef) c (yc_L V D ls fw) (t + 1) 0) ∨ (x = 1 ∧ sm_n (yc_L V D ls fw) (D ^ V) < S0)) → J (nI x) (nI (t + 1)) (nI V) (nI D) (nI N) rz (ot_n c) (ot_o ne) (ot_o ef) (ot_n b) (ot_o g) (ot_n ls) (ot_n fw) (ot_n me) (ot_n bk) (ot_n bd) (ot_n rs)) :
    ∀ n o x (ls fw : Nat → Nat), o ≤ N → N - o < n → yc_I V D N c ne ef g ls fw → sm_n (yc_L V D ls fw) (D ^ V) ≤ S0 → ((x = 0 ∧ yc_c V D N (gr_s V D ne ef) c (yc_L V D ls fw) t o) ∨ (x = 1 ∧ sm_n (yc_L V D ls fw) (D ^ V) < S0)) → wY_findCosts_81 post J63 J (nI t) n (nI x) (nI o) (nI V) (nI D) (nI N) rz (ot_n c) (ot_o ne) (ot_o ef) (ot_n b) (ot_o g) (ot_n ls) (ot_n fw) (ot_n me) (ot_n bk) (ot_n bd) (ot_n rs) := by
  obtain ⟨⟨hV1, hV⟩, ⟨hD, hD4⟩, hN, hc, hb, hne, hef, hg⟩ := id hT
  intro n
  induction n with
  | zero => intro o x ls fw _ a; omega
  | succ n ih =>
    intro o x ls fw ho hn I hS hx
    refine pk_le N o (fun hd => nm_r (nI_1 t) (hJ ls fw x I hS ?_)) (fun hd => ya_is hT ht (ot_bb _ (fun a => nm_r (nI_1 t) (hJ ls fw x I hS ?_)) (fun a => ?_)))
    · rcases hx with ⟨a1, a2⟩ | a1
      · exact Or.inl ⟨a1, fun s o' hs ho' h => a2 s o' hs ho' (by omega)⟩
      · exact Or.inr a1
    · rcases hx with ⟨a1, a2⟩ | a1
      · refine Or.inl ⟨a1, fun s o' hs ho' h => ?_⟩
        by_cases e : gr_e V D s = t
        · refine absurd (fun v hv => ?_) a
          rw [← e, gr_ed hD hD4 hv]; exact cd_dl (by omega) s v
        · exact a2 s o' hs ho' (by omega)
      · exact Or.inr a1
    · obtain ⟨s, hs, e⟩ := gr_eo hD ht a
      have hx1 : x = 0 ∨ x = 1 := by rcases hx with a1 | a1 <;> omega
      rw [e]
      refine yc_imp hT hs hd I (fun hcl => ?_) (fun ls2 fw2 I2 hle hlt => ?_)
      · have hgo : ∀ x3, x3 = nI o + 1 → wY_findCosts_81 post J63 J (nI t) n (nI x) x3 (nI V) (nI D) (nI N) rz (ot_n c) (ot_o ne) (ot_o ef) (ot_n b) (ot_o g) (ot_n ls) (ot_n fw) (ot_n me) (ot_n bk) (ot_n bd) (ot_n rs) := fun x3 e3 => by
          rw [e3, nI_1]
          refine ih (o + 1) x ls fw (by omega) (by omega) I hS ?_
          rcases hx with ⟨a1, a2⟩ | a1
          · refine Or.inl ⟨a1, fun s2 o' hs2 ho' h p e4 hf => ?_⟩
            by_cases e5 : gr_e V D s2 = t ∧ o' = o
            · rw [gr_ei hD hD4 hs2 hs (e5.1.trans e), e5.2] at e4 ⊢
              exact hcl p e4 hf
            · exact a2 s2 o' hs2 ho' (by omega) p e4 hf
          · exact Or.inr a1
        refine br_t rfl ?_
        rw [← e]
        rcases hx1 with a1 | a1
        · rw [a1] at hgo ⊢
          exact br_t rfl hgo
        · rw [a1] at hgo ⊢
          exact br_f ot_10 hgo
      · have hl := sm_lt (D ^ V) hle s hs hlt
        refine br_f ot_10 ?_
        rw [← e]
        exact nm_r (nI_1 o) (ih (o + 1) 1 ls2 fw2 (by omega) (by omega) I2 (by omega) (Or.inr ⟨rfl, by omega⟩))
theorem yc_71 {post : SY → Prop} {J63 : Int32 → Int32 → Int32 → Int32 → Int32 → (Nat → Int32) → (Nat → Int32) → (Nat → Int32) → (Nat → Int32) → (Nat → Int32) → (Nat → Int32) → (Nat → Int32) → (Nat → Int32) → (Nat → Int32) → (Nat → Int32) → (Nat → Int32) → Prop} {S0 : Nat} (hT : gr_T V D N c b ne ef g)
    (hJ : ∀ ls fw x, yc_I V D N c ne ef g ls fw → ((x = 0 ∧ yc_c V D N (gr_s V D ne ef) c (yc_L V D ls fw) (4 ^ V) 0) ∨ (x = 1 ∧ sm_n (yc_L V D ls fw) (D ^ V) < S0)) → J63 (nI x) (nI V) (nI D) (nI N) rz (ot_n c) (ot_o ne) (ot_o ef) (ot_n b) (ot_o g) (ot_n ls) (ot_n fw) (ot_n me) (ot_n bk) (ot_n bd) (ot_n rs)) :
    ∀ n t x (ls fw : Nat → Nat), t ≤ 4 ^ V → 4 ^ V - t < n → yc_I V D N c ne ef g ls fw → sm_n (yc_L V D ls fw) (D ^ V) ≤ S0 → ((x = 0 ∧ yc_c V D N (gr_s V D ne ef) c (yc_L V D ls fw) t 0) ∨ (x = 1 ∧ sm_n (yc_L V D ls fw) (D ^ V) < S0)) → wY_findCosts_71 post J63 n (nI x) (nI t) (nI V) (nI D) (nI N) rz (ot_n c) (ot_o ne) (ot_o ef) (ot_n b) (ot_o g) (ot_n ls) (ot_n fw) (ot_n me) (ot_n bk) (ot_n bd) (ot_n rs) := by
  obtain ⟨⟨hV1, hV⟩, ⟨hD, hD4⟩, hN, hc, hb, hne, hef, hg⟩ := id hT
  have h4 : 4 ^ V ≤ 1024 := gr_M4 hV
  intro n
  induction n with
  | zero => intro t x ls fw _ a; omega
  | succ n ih =>
    intro t x ls fw ht hn I hS hx
    rw [wY_findCosts_71]
    refine ya_sta hT (pk_le (4 ^ V) t (fun hd => ?_) (fun hd => ⟨N + 1, ?_⟩))
    · rw [show t = 4 ^ V from by omega] at hx
      exact hJ ls fw x I hx
    · exact yc_81 hT hd (fun ls2 fw2 x2 a1 a2 a3 => ih (t + 1) x2 ls2 fw2 (by omega) (by omega) a1 a2 a3) (N + 1) 0 x ls fw (by omega) (by omega) I hS hx
theorem yc_63 {post : SY → Prop} (hT : gr_T V D N c b ne ef g) (hX : ∀ ls fw, yc_F V D N c ne ef g ls fw → post ((nI V), (nI D), (nI N), rz, (ot_n c), (ot_o ne), (ot_o ef), (ot_n b), (ot_o g), (ot_n ls), (ot_n fw), (ot_n me), (ot_n bk), (ot_n bd), (ot_n rs))) :
    ∀ n x (ls fw : Nat → Nat), yc_I V D N c ne ef g ls fw → ((x = 0 ∧ 0 < n ∧ yc_c V D N (gr_s V D ne ef) c (yc_L V D ls fw) (4 ^ V) 0) ∨ (x = 1 ∧ sm_n (yc_L V D ls fw) (D ^ V) + 1 < n)) → wY_findCosts_63 post n (nI x) (nI V) (nI D) (nI N) rz (ot_n c) (ot_o ne) (ot_o ef) (ot_n b) (ot_o g) (ot_n ls) (ot_n fw) (ot_n me) (ot_n bk) (ot_n bd) (ot_n rs) := by
  obtain ⟨⟨hV1, hV⟩, ⟨hD, hD4⟩, hN, hc, hb, hne, hef, hg⟩ := id hT
  intro n
  induction n with
  | zero => intro x ls fw _ a; omega
  | succ n ih =>
    intro x ls fw I hx
    rcases hx with ⟨a1, _, a2⟩ | ⟨a1, a2⟩
    · rw [a1]
      refine br_t rfl (hX ls fw ⟨I.1, I.2.1, fun s hs => ⟨I.2.2 s hs, fun o ho p e hf => a2 s o hs ho (Or.inl (gr_el hD hD4)) p e hf⟩⟩)
    · rw [a1]
      refine br_f ot_10 ⟨4 ^ V + 1, ?_⟩
      refine yc_71 (S0 := sm_n (yc_L V D ls fw) (D ^ V)) hT (fun ls2 fw2 x2 b1 b2 => ih x2 ls2 fw2 b1 ?_) (4 ^ V + 1) 0 0 ls fw (Nat.zero_le _) (Nat.lt_succ_self _) I (Nat.le_refl _) (Or.inl ⟨rfl, fun s o' _ _ h => by omega⟩)
      rcases b2 with ⟨d1, d2⟩ | ⟨d1, d2⟩
      · exact Or.inl ⟨d1, by omega, d2⟩
      · exact Or.inr ⟨d1, by omega⟩
theorem yc_fc {post : SY → Prop} (hT : gr_T V D N c b ne ef g) (hX : ∀ ls fw, yc_F V D N c ne ef g ls fw → post ((nI V), (nI D), (nI N), rz, (ot_n c), (ot_o ne), (ot_o ef), (ot_n b), (ot_o g), (ot_n ls), (ot_n fw), (ot_n me), (ot_n bk), (ot_n bd), (ot_n rs))) : wpY_findCosts post ((nI V), (nI D), (nI N), rz, (ot_n c), (ot_o ne), (ot_o ef), (ot_n b), (ot_o g), (ot_n ls), (ot_n fw), (ot_n me), (ot_n bk), (ot_n bd), (ot_n rs)) := by
  obtain ⟨⟨hV1, hV⟩, ⟨hD, hD4⟩, hN, hc, hb, hne, hef, hg⟩ := id hT
  have h4 : 4 ^ V ≤ 1024 := gr_M4 hV
  have h40 : 0 < 4 ^ V := Nat.pow_pos (by omega)
  have key : ∀ n t (ls fw : Nat → Nat), t ≤ 4 ^ V → 4 ^ V - t < n → (∀ s, s < D ^ V → gr_e V D s < t → fw (gr_e V D s) = 0 ∧ ((gr_g V D g s ∧ ls (gr_e V D s) = 0) ∨ (¬ gr_g V D g s ∧ ls (gr_e V D s) = 1000000))) → wY_findCosts_2 post (nI V) (nI D) (nI N) rz n (nI t) (ot_n c) (ot_o ne) (ot_o ef) (ot_n b) (ot_o g) (ot_n ls) (ot_n fw) (ot_n me) (ot_n bk) (ot_n bd) (ot_n rs) := by
    intro n
    induction n with
    | zero => intro t ls fw _ a; omega
    | succ n ih =>
      intro t ls fw ht hn hm
      rw [wY_findCosts_2]
      refine ya_sta hT (pk_le (4 ^ V) t (fun hx => ?_) (fun hx => ?_))
      · have hm2 : ∀ s, s < D ^ V → fw (gr_e V D s) = 0 ∧ ((gr_g V D g s ∧ ls (gr_e V D s) = 0) ∨ (¬ gr_g V D g s ∧ ls (gr_e V D s) = 1000000)) := fun s hs => hm s hs (by have := gr_el (V := V) (s := s) hD hD4; omega)
        refine ⟨sm_n (yc_L V D ls fw) (D ^ V) + 2, yc_63 hT hX _ 1 ls fw ⟨fun s hs => ?_, lb_ini (fun s hs => ?_), fun s hs hgs => ?_⟩ (Or.inr ⟨rfl, by omega⟩)⟩
        · have := hm2 s hs
          omega
        · have h1 := hm2 s hs
          unfold yc_L
          rcases h1.2 with a | a
          · exact Or.inl ⟨a.1, by omega⟩
          · exact Or.inr (by omega)
        · have h1 := hm2 s hs
          unfold yc_L
          rcases h1.2 with a | a
          · omega
          · exact absurd hgs a.1
      · have h47 : ∀ z : Nat, (∀ s, s < D ^ V → gr_e V D s = t → (gr_g V D g s ∧ z = 0) ∨ (¬ gr_g V D g s ∧ z = 1000000)) → wY_findCosts_47 post (wY_findCosts_2 post (nI V) (nI D) (nI N) rz n) (nI t) (nI z) (nI t) (nI V) (nI D) (nI N) rz (ot_n c) (ot_o ne) (ot_o ef) (ot_n b) (ot_o g) (ot_n ls) (ot_n fw) (ot_n me) (ot_n bk) (ot_n bd) (ot_n rs) := fun z hz => by
          refine ⟨vp_in_nI (by omega) (by omega), nm_r (ot_upd' ls (nI_clamp (by omega)) rfl) ⟨vp_in_nI (by omega) (by omega), nm_r (ot_upd' (x := 0) fw (nI_clamp (by omega)) rfl) (nm_r (nI_1 t) (ih (t + 1) _ _ (by omega) (by omega) (fun s hs hlt => ?_)))⟩⟩
          by_cases e : gr_e V D s = t
          · rw [e, ot_us, ot_us]; exact ⟨rfl, hz s hs e⟩
          · rw [ot_un e, ot_un e]; exact hm s hs (by omega)
        have h30 : (∀ s, s < D ^ V → gr_e V D s = t → ¬ gr_g V D g s) → wY_findCosts_30 post (wY_findCosts_2 post (nI V) (nI D) (nI N) rz n) (nI t) (nI V) (nI D) (nI N) rz (ot_n c) (ot_o ne) (ot_o ef) (ot_n b) (ot_o g) (ot_n ls) (ot_n fw) (ot_n me) (ot_n bk) (ot_n bd) (ot_n rs) := fun h => br_t rfl (h47 1000000 (fun s hs e => Or.inr ⟨h s hs e, rfl⟩))
        refine ya_is hT hx (ot_bb _ (fun a => h30 (fun s hs e _ => a (fun v hv => ?_))) (fun a => ?_))
        · rw [← e, gr_ed hD hD4 hv]; exact cd_dl (by omega) s v
        · obtain ⟨s, hs, e⟩ := gr_eo hD hx a
          rw [e] at h30 h47 ⊢
          refine ya_go hT (ot_bb _ (fun a2 => h30 (fun s2 hs2 e2 => ?_)) (fun a2 => br_f ot_10 (h47 0 (fun s2 hs2 e2 => ?_))))
          · rw [gr_ei hD hD4 hs2 hs e2]; exact a2
          · rw [gr_ei hD hD4 hs2 hs e2]; exact Or.inl ⟨a2, rfl⟩
  exact ⟨4 ^ V + 1, key (4 ^ V + 1) 0 ls fw (by omega) (by omega) (fun s _ h => by omega)⟩
end YC
end
section
section BO
/-! the rules of the bounds: single facts; pairs of facts at 20 f + h -/
def bo_F (V D f : Nat) : Prop := f / 4 < V ∧ f % 4 < D
def bo_b (b : Nat → Nat) (f : Nat) : Prop := b (f / 4) = f % 4
def bo_n (V : Nat) (ne : Nat → Option Nat) (o a : Nat) : Prop := a / 4 < V ∧ ne (5 * o + a / 4) = some (a % 4)
def bo_1 (V D N : Nat) (c b : Nat → Nat) (ne ef : Nat → Option Nat) (f k : Nat) (P : Nat → Prop) : Prop :=
  bo_F V D f ∧ ((bo_b b f ∧ k = 0 ∧ P = fun _ => False) ∨ ∃ o, o < N ∧ ef (5 * o + f / 4) = some (f % 4) ∧ k = c o ∧ P = bo_n V ne o)
/-- the operator brings one of the two facts about and takes none away -/
def bo_s (ef : Nat → Option Nat) (o f h : Nat) : Prop :=
  (ef (5 * o + f / 4) = some (f % 4) ∨ ef (5 * o + h / 4) = some (h % 4)) ∧ (∀ x, ef (5 * o + f / 4) = some x → x = f % 4) ∧ ∀ x, ef (5 * o + h / 4) = some x → x = h % 4
/-- what must hold before -/
def bo_r (V : Nat) (ne ef : Nat → Option Nat) (o f h a : Nat) : Prop :=
  bo_n V ne o a ∨ (a = f ∧ ef (5 * o + f / 4) = none) ∨ (a = h ∧ ef (5 * o + h / 4) = none)
def bo_q (V : Nat) (ne ef : Nat → Option Nat) (o f h j : Nat) : Prop := ∃ x y, x < 20 ∧ y < 20 ∧ j = 20 * x + y ∧ bo_r V ne ef o f h x ∧ bo_r V ne ef o f h y
/-- the pair may be asked for -/
def bo_w (V D f h : Nat) : Prop := bo_F V D f ∧ bo_F V D h ∧ (f = h ∨ f / 4 ≠ h / 4)
def bo_2 (V D N : Nat) (c b : Nat → Nat) (ne ef : Nat → Option Nat) (i k : Nat) (P : Nat → Prop) : Prop :=
  bo_w V D (i / 20) (i % 20) ∧ ((bo_b b (i / 20) ∧ bo_b b (i % 20) ∧ k = 0 ∧ P = fun _ => False) ∨ ∃ o, o < N ∧ bo_s ef o (i / 20) (i % 20) ∧ k = c o ∧ P = bo_q V ne ef o (i / 20) (i % 20))
end BO
end
section
section RE
variable {V D N : Nat} {il mt iv hz ib br : Int32} {c b : Nat → Nat} {ne ef g sp : Nat → Option Nat} {im qu tg sg hp pl on tw ca ta ua : Nat → Nat} {ns es ha : Nat → Int32}
variable {rz : Int32} {ls fw me bk bd rs : Nat → Nat}
/-- what links the two states: one task, and what X has laid out, solved and bounded is right -/
def re_F (V D N : Nat) (il iv ib : Int32) (c b : Nat → Nat) (ne ef g sp : Nat → Option Nat) (tg sg on tw : Nat → Nat) (ns es : Nat → Int32) : Prop :=
  gr_T V D N c b ne ef g ∧ (¬ il = 0 → wl_L V D N ne ef sp ns es) ∧ (¬ iv = 0 → wv_F V D N c ne ef g tg sg) ∧ (¬ ib = 0 → gf_F 20 (bo_1 V D N c b ne ef) on ∧ gf_F 400 (bo_2 V D N c b ne ef) tw)
/-- the relation at the head of a turn -/
def i_Rel (k : Nat) (u : SX) (v : SY) : Prop :=
  ∀ P : SX → SY → Prop, (∀ (V D N : Nat) (il mt iv hz ib br : Int32) (c b : Nat → Nat) (ne ef g sp : Nat → Option Nat) (im qu tg sg hp pl on tw ca ta ua : Nat → Nat) (ns es ha : Nat → Int32) (rz : Int32) (ls fw me bk bd rs : Nat → Nat),
    re_F V D N il iv ib c b ne ef g sp tg sg on tw ns es → P ((nI V), (nI D), (nI (D ^ V)), (nI N), il, mt, iv, hz, ib, br, (ot_n c), (ot_o ne), (ot_o ef), (ot_n b), (ot_o g), (ot_n (ot_pw V D)), (ot_o sp), (ot_n im), (ot_n qu), (ot_n tg), (ot_n sg), (ot_n hp), (ot_n pl), (ot_n on), (ot_n tw), ns, es, ha, (ot_n ca), (ot_n ta), (ot_n ua)) ((nI V), (nI D), (nI N), rz, (ot_n c), (ot_o ne), (ot_o ef), (ot_n b), (ot_o g), (ot_n ls), (ot_n fw), (ot_n me), (ot_n bk), (ot_n bd), (ot_n rs))) → P u v
theorem i_up {k : Nat} {u : SX} {v : SY} (h : i_Rel k u v) : i_Rel (k + 5) u v := h
theorem re_mk {k : Nat} (F : re_F V D N il iv ib c b ne ef g sp tg sg on tw ns es) : i_Rel k ((nI V), (nI D), (nI (D ^ V)), (nI N), il, mt, iv, hz, ib, br, (ot_n c), (ot_o ne), (ot_o ef), (ot_n b), (ot_o g), (ot_n (ot_pw V D)), (ot_o sp), (ot_n im), (ot_n qu), (ot_n tg), (ot_n sg), (ot_n hp), (ot_n pl), (ot_n on), (ot_n tw), ns, es, ha, (ot_n ca), (ot_n ta), (ot_n ua)) ((nI V), (nI D), (nI N), rz, (ot_n c), (ot_o ne), (ot_o ef), (ot_n b), (ot_o g), (ot_n ls), (ot_n fw), (ot_n me), (ot_n bk), (ot_n bd), (ot_n rs)) :=
  fun _ h => h V D N il mt iv hz ib br c b ne ef g sp im qu tg sg hp pl on tw ca ta ua ns es ha rz ls fw me bk bd rs F
/-- a task just changed: nothing is laid out, solved, bounded -/
theorem re_ch (hT : gr_T V D N c b ne ef g) : re_F V D N 0 0 0 c b ne ef g sp tg sg on tw ns es :=
  ⟨hT, fun h => absurd rfl h, fun h => absurd rfl h, fun h => absurd rfl h⟩
end RE
end
section
section IN
def in_V (k : Int32) : Nat := if 1 ≤ k then (if k ≤ 5 then k.toNatClampNeg else 5) else 1
def in_D (k : Int32) : Nat := if 2 ≤ k then (if k ≤ 4 then k.toNatClampNeg else 4) else 2
theorem in_Vr (k : Int32) : 1 ≤ in_V k ∧ in_V k ≤ 5 := by
  unfold in_V
  by_cases h1 : 1 ≤ k
  · rw [if_pos h1]
    by_cases h2 : k ≤ 5
    · rw [if_pos h2]
      obtain ⟨j, hj, e⟩ := nI_of2 (M := 5) (n := 5) rfl (Int32.not_lt.mpr (Int32.le_trans (by decide) h1)) h2
      subst e
      rw [nI_clamp (by omega)]
      have h3 : nI 1 ≤ nI j := h1
      rw [nI_leI (by omega) (by omega)] at h3
      omega
    · rw [if_neg h2]; omega
  · rw [if_neg h1]; omega
theorem in_Dr (k : Int32) : 2 ≤ in_D k ∧ in_D k ≤ 4 := by
  unfold in_D
  by_cases h1 : 2 ≤ k
  · rw [if_pos h1]
    by_cases h2 : k ≤ 4
    · rw [if_pos h2]
      obtain ⟨j, hj, e⟩ := nI_of2 (M := 4) (n := 4) rfl (Int32.not_lt.mpr (Int32.le_trans (by decide) h1)) h2
      subst e
      rw [nI_clamp (by omega)]
      have h3 : nI 2 ≤ nI j := h1
      rw [nI_leI (by omega) (by omega)] at h3
      omega
    · rw [if_neg h2]; omega
  · rw [if_neg h1]; omega
theorem in_Ve {A B C : Prop} (k : Int32) (a : k = nI (in_V k) → A) (b : 5 = nI (in_V k) → B) (d : 1 = nI (in_V k) → C) : (1 ≤ k → ((k ≤ 5 → A) ∧ (¬ k ≤ 5 → B))) ∧ (¬ 1 ≤ k → C) := by
  refine ⟨fun h1 => ⟨fun h2 => a ?_, fun h2 => b ?_⟩, fun h1 => d ?_⟩
  · unfold in_V
    rw [if_pos h1, if_pos h2]
    obtain ⟨j, hj, e⟩ := nI_of2 (M := 5) (n := 5) rfl (Int32.not_lt.mpr (Int32.le_trans (by decide) h1)) h2
    subst e
    rw [nI_clamp (by omega)]
  · unfold in_V
    rw [if_pos h1, if_neg h2]; rfl
  · unfold in_V
    rw [if_neg h1]; rfl
theorem in_De {A B C : Prop} (k : Int32) (a : k = nI (in_D k) → A) (b : 4 = nI (in_D k) → B) (d : 2 = nI (in_D k) → C) : (2 ≤ k → ((k ≤ 4 → A) ∧ (¬ k ≤ 4 → B))) ∧ (¬ 2 ≤ k → C) := by
  refine ⟨fun h1 => ⟨fun h2 => a ?_, fun h2 => b ?_⟩, fun h1 => d ?_⟩
  · unfold in_D
    rw [if_pos h1, if_pos h2]
    obtain ⟨j, hj, e⟩ := nI_of2 (M := 4) (n := 4) rfl (Int32.not_lt.mpr (Int32.le_trans (by decide) h1)) h2
    subst e
    rw [nI_clamp (by omega)]
  · unfold in_D
    rw [if_pos h1, if_neg h2]; rfl
  · unfold in_D
    rw [if_neg h1]; rfl
def in_g (v : Nat) : Nat → Option Nat := fun w => if w < v then none else some 0
def in_p (D v : Nat) : Nat → Nat := fun w => if w < v then D ^ w else 0
theorem in_gu (v : Nat) : ot_u (in_g v) v none = in_g (v + 1) := by
  funext w
  unfold in_g
  by_cases e : w = v
  · rw [e, ot_us, if_pos (by omega)]
  · rw [ot_un e]
    by_cases h : w < v
    · rw [if_pos h, if_pos (by omega)]
    · rw [if_neg h, if_neg (by omega)]
theorem in_pu (D v : Nat) : ot_u (in_p D v) v (D ^ v) = in_p D (v + 1) := by
  funext w
  unfold in_p
  by_cases e : w = v
  · rw [e, ot_us, if_pos (by omega)]
  · rw [ot_un e]
    by_cases h : w < v
    · rw [if_pos h, if_pos (by omega)]
    · rw [if_neg h, if_neg (by omega)]
variable {V D N : Nat} {il mt iv hz ib br : Int32} {c b : Nat → Nat} {ne ef g sp : Nat → Option Nat} {im qu tg sg hp pl on tw ca ta ua : Nat → Nat} {ns es ha : Nat → Int32}
variable {rz : Int32} {ls fw me bk bd rs : Nat → Nat}
theorem in_x267 {post : SX → Prop} (h : post ((nI V), (nI D), (nI (D ^ V)), (nI N), il, mt, iv, hz, ib, br, (ot_n c), (ot_o ne), (ot_o ef), (ot_n b), (ot_o (in_g 5)), (ot_n (ot_pw V D)), (ot_o sp), (ot_n im), (ot_n qu), (ot_n tg), (ot_n sg), (ot_n hp), (ot_n pl), (ot_n on), (ot_n tw), ns, es, ha, (ot_n ca), (ot_n ta), (ot_n ua))) : ∀ n v, v ≤ 5 → 5 - v < n → wX_init_267 post (nI V) (nI D) (nI (D ^ V)) (nI N) il mt iv hz ib br n (nI v) (ot_n c) (ot_o ne) (ot_o ef) (ot_n b) (ot_o (in_g v)) (ot_n (ot_pw V D)) (ot_o sp) (ot_n im) (ot_n qu) (ot_n tg) (ot_n sg) (ot_n hp) (ot_n pl) (ot_n on) (ot_n tw) ns es ha (ot_n ca) (ot_n ta) (ot_n ua) := by
  intro n
  induction n with
  | zero => intro v _ a; omega
  | succ n ih =>
    intro v hv hn
    refine pk_le 5 v (fun hx => ?_) (fun hx => ?_)
    · rw [show v = 5 from by omega]; exact h
    · refine ⟨pk_in v 5 hx, nm_r (e' := ot_o (in_g (v + 1))) ?_ (nm_r (nI_1 v) (ih (v + 1) (by omega) (by omega)))⟩
      rw [← in_gu]
      exact ot_updo' (x := none) _ (nI_clamp (by omega)) rfl
theorem in_x229 {post : SX → Prop} (hV : V ≤ 5) (h : post ((nI V), (nI D), (nI (D ^ V)), (nI N), il, mt, iv, hz, ib, br, (ot_n c), (ot_o ne), (ot_o ef), (ot_n b), (ot_o (in_g 5)), (ot_n (ot_pw V D)), (ot_o sp), (ot_n im), (ot_n qu), (ot_n tg), (ot_n sg), (ot_n hp), (ot_n pl), (ot_n on), (ot_n tw), ns, es, ha, (ot_n ca), (ot_n ta), (ot_n ua))) : ∀ n v, v ≤ V → V - v < n → wX_init_229 post (nI V) (nI D) 0 (nI N) il mt iv hz ib br n (nI (D ^ v)) (nI v) (ot_n c) (ot_o ne) (ot_o ef) (ot_n b) (ot_o (in_g 0)) (ot_n (in_p D v)) (ot_o sp) (ot_n im) (ot_n qu) (ot_n tg) (ot_n sg) (ot_n hp) (ot_n pl) (ot_n on) (ot_n tw) ns es ha (ot_n ca) (ot_n ta) (ot_n ua) := by
  intro n
  induction n with
  | zero => intro v _ a; omega
  | succ n ih =>
    intro v hv hn
    refine pk_le V v (fun hx => ?_) (fun hx => ?_)
    · rw [show v = V from by omega]
      exact ⟨6, in_x267 h 6 0 (by omega) (by omega)⟩
    · refine ⟨pk_in v 6 (by omega), nm_r (e' := ot_n (in_p D (v + 1))) ?_ (nm_r (e' := nI (D ^ (v + 1))) ?_ (nm_r (nI_1 v) (ih (v + 1) (by omega) (by omega))))⟩
      · rw [← in_pu]
        exact ot_upd' _ (nI_clamp (by omega)) rfl
      · rw [pk_mul, Nat.pow_succ]
theorem in_g0 : ot_o (in_g 0) = fun _ => 0 := by
  funext w
  show ot_i (if w < 0 then none else some 0) = 0
  rw [if_neg (by omega)]; rfl
theorem in_p0 (D : Nat) : ot_n (in_p D 0) = fun _ => 0 := by
  funext w
  show nI (if w < 0 then D ^ w else 0) = 0
  rw [if_neg (by omega)]; rfl
theorem in_x198 {post : SX → Prop} {z : Int32} {V : Nat} (p1 : Int32) (hV : V ≤ 5) (hz : z = nI V) (h : ∀ D, D = in_D p1 → post ((nI V), (nI D), (nI (D ^ V)), 0, 0, 0, 0, 0, 0, 0, (ot_n (fun _ => 0)), (ot_o (fun _ => some 0)), (ot_o (fun _ => some 0)), (ot_n (fun _ => 0)), (ot_o (in_g 5)), (ot_n (ot_pw V D)), (ot_o (fun _ => some 0)), (ot_n (fun _ => 0)), (ot_n (fun _ => 0)), (ot_n (fun _ => 0)), (ot_n (fun _ => 0)), (ot_n (fun _ => 0)), (ot_n (fun _ => 0)), (ot_n (fun _ => 0)), (ot_n (fun _ => 0)), (fun _ => 0), (fun _ => 0), (fun _ => 0), (ot_n (fun _ => 0)), (ot_n (fun _ => 0)), (ot_n (fun _ => 0)))) :
    wX_init_198 post p1 z 0 0 0 0 0 0 0 0 0 0 (fun _ => 0) (fun _ => 0) (fun _ => 0) (fun _ => 0) (fun _ => 0) (fun _ => 0) (fun _ => 0) (fun _ => 0) (fun _ => 0) (fun _ => 0) (fun _ => 0) (fun _ => 0) (fun _ => 0) (fun _ => 0) (fun _ => 0) (fun _ => 0) (fun _ => 0) (fun _ => 0) (fun _ => 0) (fun _ => 0) (fun _ => 0) := by
  have key : ∀ D, D = in_D p1 → wX_init_229 post (nI V) (nI D) 0 0 0 0 0 0 0 0 (V + 1) 1 0 (fun _ => 0) (fun _ => 0) (fun _ => 0) (fun _ => 0) (fun _ => 0) (fun _ => 0) (fun _ => 0) (fun _ => 0) (fun _ => 0) (fun _ => 0) (fun _ => 0) (fun _ => 0) (fun _ => 0) (fun _ => 0) (fun _ => 0) (fun _ => 0) (fun _ => 0) (fun _ => 0) (fun _ => 0) (fun _ => 0) (fun _ => 0) := fun D hD => by
    have h1 := in_x229 (post := post) (V := V) (D := D) hV (h D hD) (V + 1) 0 (by omega) (by omega)
    rw [in_g0, in_p0] at h1
    exact h1
  rw [hz]
  refine in_De p1 (fun e => ?_) (fun e => ?_) (fun e => ?_)
  · rw [e]; exact ⟨V + 1, key _ rfl⟩
  · rw [e]; exact ⟨V + 1, key _ rfl⟩
  · rw [e]; exact ⟨V + 1, key _ rfl⟩
theorem in_y143 {post : SY → Prop} (h : post ((nI V), (nI D), (nI N), rz, (ot_n c), (ot_o ne), (ot_o ef), (ot_n b), (ot_o (in_g 5)), (ot_n ls), (ot_n fw), (ot_n me), (ot_n bk), (ot_n bd), (ot_n rs))) : ∀ n v, v ≤ 5 → 5 - v < n → wY_init_143 post (nI V) (nI D) (nI N) rz n (nI v) (ot_n c) (ot_o ne) (ot_o ef) (ot_n b) (ot_o (in_g v)) (ot_n ls) (ot_n fw) (ot_n me) (ot_n bk) (ot_n bd) (ot_n rs) := by
  intro n
  induction n with
  | zero => intro v _ a; omega
  | succ n ih =>
    intro v hv hn
    refine pk_le 5 v (fun hx => ?_) (fun hx => ?_)
    · rw [show v = 5 from by omega]; exact h
    · refine ⟨pk_in v 5 hx, nm_r (e' := ot_o (in_g (v + 1))) ?_ (nm_r (nI_1 v) (ih (v + 1) (by omega) (by omega)))⟩
      rw [← in_gu]
      exact ot_updo' (x := none) _ (nI_clamp (by omega)) rfl
theorem in_y115 {post : SY → Prop} {z : Int32} {V : Nat} (p1 : Int32) (hz : z = nI V) (h : ∀ D, D = in_D p1 → post ((nI V), (nI D), 0, 0, (ot_n (fun _ => 0)), (ot_o (fun _ => some 0)), (ot_o (fun _ => some 0)), (ot_n (fun _ => 0)), (ot_o (in_g 5)), (ot_n (fun _ => 0)), (ot_n (fun _ => 0)), (ot_n (fun _ => 0)), (ot_n (fun _ => 0)), (ot_n (fun _ => 0)), (ot_n (fun _ => 0)))) :
    wY_init_115 post p1 z 0 0 0 0 (fun _ => 0) (fun _ => 0) (fun _ => 0) (fun _ => 0) (fun _ => 0) (fun _ => 0) (fun _ => 0) (fun _ => 0) (fun _ => 0) (fun _ => 0) (fun _ => 0) := by
  have key : ∀ D, D = in_D p1 → wY_init_143 post (nI V) (nI D) 0 0 6 0 (fun _ => 0) (fun _ => 0) (fun _ => 0) (fun _ => 0) (fun _ => 0) (fun _ => 0) (fun _ => 0) (fun _ => 0) (fun _ => 0) (fun _ => 0) (fun _ => 0) := fun D hD => by
    have h1 := in_y143 (post := post) (V := V) (D := D) (h D hD) 6 0 (by omega) (by omega)
    rw [in_g0] at h1
    exact h1
  rw [hz]
  refine in_De p1 (fun e => ?_) (fun e => ?_) (fun e => ?_)
  · rw [e]; exact ⟨6, key _ rfl⟩
  · rw [e]; exact ⟨6, key _ rfl⟩
  · rw [e]; exact ⟨6, key _ rfl⟩
theorem i_vc0 (k0 : Int32) (k1 : Int32) : wpX_init (fun u => wpY_init (fun v => i_Rel 2 u v) k0 k1) k0 k1 := by
  have hV := in_Vr k0
  have hD := in_Dr k1
  have hy : ∀ D, D = in_D k1 → wpY_init (fun v => i_Rel 2 ((nI (in_V k0)), (nI D), (nI (D ^ in_V k0)), 0, 0, 0, 0, 0, 0, 0, (ot_n (fun _ => 0)), (ot_o (fun _ => some 0)), (ot_o (fun _ => some 0)), (ot_n (fun _ => 0)), (ot_o (in_g 5)), (ot_n (ot_pw (in_V k0) D)), (ot_o (fun _ => some 0)), (ot_n (fun _ => 0)), (ot_n (fun _ => 0)), (ot_n (fun _ => 0)), (ot_n (fun _ => 0)), (ot_n (fun _ => 0)), (ot_n (fun _ => 0)), (ot_n (fun _ => 0)), (ot_n (fun _ => 0)), (fun _ => 0), (fun _ => 0), (fun _ => 0), (ot_n (fun _ => 0)), (ot_n (fun _ => 0)), (ot_n (fun _ => 0))) v) k0 k1 := by
    intro D eD
    have hr : ∀ D', D' = in_D k1 → i_Rel 2 ((nI (in_V k0)), (nI D), (nI (D ^ in_V k0)), 0, 0, 0, 0, 0, 0, 0, (ot_n (fun _ => 0)), (ot_o (fun _ => some 0)), (ot_o (fun _ => some 0)), (ot_n (fun _ => 0)), (ot_o (in_g 5)), (ot_n (ot_pw (in_V k0) D)), (ot_o (fun _ => some 0)), (ot_n (fun _ => 0)), (ot_n (fun _ => 0)), (ot_n (fun _ => 0)), (ot_n (fun _ => 0)), (ot_n (fun _ => 0)), (ot_n (fun _ => 0)), (ot_n (fun _ => 0)), (ot_n (fun _ => 0)), (fun _ => 0), (fun _ => 0), (fun _ => 0), (ot_n (fun _ => 0)), (ot_n (fun _ => 0)), (ot_n (fun _ => 0))) ((nI (in_V k0)), (nI D'), 0, 0, (ot_n (fun _ => 0)), (ot_o (fun _ => some 0)), (ot_o (fun _ => some 0)), (ot_n (fun _ => 0)), (ot_o (in_g 5)), (ot_n (fun _ => 0)), (ot_n (fun _ => 0)), (ot_n (fun _ => 0)), (ot_n (fun _ => 0)), (ot_n (fun _ => 0)), (ot_n (fun _ => 0))) := by
      intro D' eD'
      rw [eD', ← eD]
      rw [← eD] at hD
      refine re_mk (N := 0) (re_ch ⟨hV, hD, by omega, fun o h => by omega, fun v h => Nat.lt_of_lt_of_le (Nat.zero_lt_succ 1) hD.1, fun o h => by omega, fun o h => by omega, fun v h x e => ?_⟩)
      have e2 : in_g 5 v = none := if_pos (by omega)
      rw [e2] at e
      exact nomatch e
    refine in_Ve k0 (fun e => ?_) (fun e => ?_) (fun e => ?_)
    · exact in_y115 k1 e hr
    · exact in_y115 k1 e hr
    · exact in_y115 k1 e hr
  refine in_Ve k0 (fun e => ?_) (fun e => ?_) (fun e => ?_)
  · exact in_x198 k1 hV.2 e hy
  · exact in_x198 k1 hV.2 e hy
  · exact in_x198 k1 hV.2 e hy
end IN
end
section
section SE
theorem se_ix (x : Int32) {n : Nat} (hn : n < 2 ^ 31) : (x < 0 ∨ nI n ≤ x) ∨ ∃ j : Nat, j < n ∧ x = nI j := by
  rcases pk_ix x hn with h | h | h
  · exact Or.inl (Or.inl h)
  · exact Or.inl (Or.inr h)
  · exact Or.inr h
theorem se_t {A B : Prop} {j n : Nat} (h : j < n) (hn : n < 2 ^ 31) (b : B) : (nI j < 0 → A) ∧ (¬ nI j < 0 → ((nI j < nI n → B) ∧ (¬ nI j < nI n → A))) :=
  br_f (nI_pos (by omega)) (br_t (nI_lt h hn) b)
theorem se_f {A B : Prop} {x : Int32} {n : Nat} (h : x < 0 ∨ nI n ≤ x) (a : A) : (x < 0 → A) ∧ (¬ x < 0 → ((x < nI n → B) ∧ (¬ x < nI n → A))) := by
  rcases h with h | h
  · exact br_t h a
  · exact br_c (fun _ => a) (fun _ => br_f (Int32.not_lt.mpr h) a)
theorem se_yt {A B : Prop} {j n : Nat} (h : j < n) (hn : n < 2 ^ 31) (b : B) : (nI j < 0 → A) ∧ (¬ nI j < 0 → ((nI n ≤ nI j → A) ∧ (¬ nI n ≤ nI j → B))) :=
  br_f (nI_pos (by omega)) (br_f (nI_ge h hn) b)
theorem se_yf {A B : Prop} {x : Int32} {n : Nat} (h : x < 0 ∨ nI n ≤ x) (a : A) : (x < 0 → A) ∧ (¬ x < 0 → ((nI n ≤ x → A) ∧ (¬ nI n ≤ x → B))) := by
  rcases h with h | h
  · exact br_t h a
  · exact br_c (fun _ => a) (fun _ => br_t h a)
/-- an argument that may be -1: none, some value, or bad -/
theorem se_ox (x : Int32) {n : Nat} (hn : n < 2 ^ 31) : (∃ y : Option Nat, (∀ z, y = some z → z < n) ∧ x = ot_i y) ∨ (¬ x = -1 ∧ (x < 0 ∨ nI n ≤ x)) := by
  by_cases h : x = -1
  · exact Or.inl ⟨none, (fun z e => nomatch e), h⟩
  · rcases se_ix x hn with k | ⟨j, hj, e⟩
    · exact Or.inr ⟨h, k⟩
    · exact Or.inl ⟨some j, fun z e2 => by rw [← Option.some.inj e2]; exact hj, e⟩
variable {V D N : Nat} {il mt iv hz ib br : Int32} {c b : Nat → Nat} {ne ef g sp : Nat → Option Nat} {im qu tg sg hp pl on tw ca ta ua : Nat → Nat} {ns es ha : Nat → Int32}
variable {rz : Int32} {ls fw me bk bd rs : Nat → Nat}
theorem se_T1 (hT : gr_T V D N c b ne ef g) {o v : Nat} {y : Option Nat} (hy : ∀ z, y = some z → z < D) : gr_T V D N c b (ot_u ne (5 * o + v) y) ef g := by
  obtain ⟨a1, a2, a3, a4, a5, a6, a7, a8⟩ := hT
  refine ⟨a1, a2, a3, a4, a5, fun o' ho w hw x e => ?_, a7, a8⟩
  by_cases h : 5 * o' + w = 5 * o + v
  · rw [h, ot_us] at e; exact hy x e
  · rw [ot_un h] at e; exact a6 o' ho w hw x e
theorem se_T2 (hT : gr_T V D N c b ne ef g) {o v : Nat} {y : Option Nat} (hy : ∀ z, y = some z → z < D) : gr_T V D N c b ne (ot_u ef (5 * o + v) y) g := by
  obtain ⟨a1, a2, a3, a4, a5, a6, a7, a8⟩ := hT
  refine ⟨a1, a2, a3, a4, a5, a6, fun o' ho w hw x e => ?_, a8⟩
  by_cases h : 5 * o' + w = 5 * o + v
  · rw [h, ot_us] at e; exact hy x e
  · rw [ot_un h] at e; exact a7 o' ho w hw x e
theorem se_T3 (hT : gr_T V D N c b ne ef g) {v y : Nat} (hy : y < D) : gr_T V D N c (ot_u b v y) ne ef g := by
  obtain ⟨a1, a2, a3, a4, a5, a6, a7, a8⟩ := hT
  refine ⟨a1, a2, a3, a4, fun w hw => ?_, a6, a7, a8⟩
  by_cases h : w = v
  · rw [h, ot_us]; exact hy
  · rw [ot_un h]; exact a5 w hw
theorem se_T4 (hT : gr_T V D N c b ne ef g) {v : Nat} {y : Option Nat} (hy : ∀ z, y = some z → z < D) : gr_T V D N c b ne ef (ot_u g v y) := by
  obtain ⟨a1, a2, a3, a4, a5, a6, a7, a8⟩ := hT
  refine ⟨a1, a2, a3, a4, a5, a6, a7, fun w hw x e => ?_⟩
  by_cases h : w = v
  · rw [h, ot_us] at e; exact hy x e
  · rw [ot_un h] at e; exact a8 w hw x e
theorem i_vc_need {k : Nat} {u : SX} {v : SY} (I : i_Rel k u v) (hk : k + 5 ≤ 2562) (v1 : Int32) (v2 : Int32) (v3 : Int32) : wpX_need (fun r u' => wpY_need (fun r' v' => r' = r ∧ i_Rel (k + 5) u' v') v v1 v2 v3) u v1 v2 v3 := by
  refine I (fun u v => wpX_need (fun r u' => wpY_need (fun r' v' => r' = r ∧ i_Rel (k + 5) u' v') v v1 v2 v3) u v1 v2 v3) ?_
  intro V D N il mt iv hz ib br c b ne ef g sp im qu tg sg hp pl on tw ca ta ua ns es ha rz ls fw me bk bd rs F
  have hT := F.1
  obtain ⟨⟨hV1, hV⟩, ⟨hD, hD4⟩, hN, _⟩ := id hT
  unfold wpX_need wpY_need
  rcases se_ix v1 (n := N) (by omega) with h1 | ⟨o, ho, rfl⟩
  · exact se_f h1 (br_f ot_10 (se_yf h1 (br_t rfl ⟨rfl, re_mk F⟩)))
  · refine se_t ho (by omega) (br_t rfl ?_)
    rcases se_ix v2 (n := V) (by omega) with h2 | ⟨w, hw, rfl⟩
    · exact se_f h2 (br_f ot_10 (se_yt ho (by omega) (br_f ot_10 (se_yf h2 (br_t rfl ⟨rfl, re_mk F⟩)))))
    · refine se_t hw (by omega) (br_t rfl ?_)
      rcases se_ox v3 (n := D) (by omega) with ⟨y, hy, rfl⟩ | ⟨h3, h4⟩
      · have hi : 5 * o + w < 50 := by omega
        have hYg : wY_need_31 (fun r' v' => r' = ot_i (ne (5 * o + w)) ∧ i_Rel (k + 5) ((nI V), (nI D), (nI (D ^ V)), (nI N), 0, mt, 0, hz, 0, br, (ot_n c), (ot_o (ot_u ne (5 * o + w) y)), (ot_o ef), (ot_n b), (ot_o g), (ot_n (ot_pw V D)), (ot_o sp), (ot_n im), (ot_n qu), (ot_n tg), (ot_n sg), (ot_n hp), (ot_n pl), (ot_n on), (ot_n tw), ns, es, ha, (ot_n ca), (ot_n ta), (ot_n ua)) v') (nI o) (nI w) (ot_i y) (nI V) (nI D) (nI N) rz (ot_n c) (ot_o ne) (ot_o ef) (ot_n b) (ot_o g) (ot_n ls) (ot_n fw) (ot_n me) (ot_n bk) (ot_n bd) (ot_n rs) := by
          unfold wY_need_31
          rw [ot_ix5]
          exact ⟨pk_in _ 50 hi, nm_r (ot_ro _ (by omega)) ⟨pk_in _ 50 hi, nm_r (ot_updo' ne (nI_clamp (by omega)) rfl) ⟨rfl, re_mk (re_ch (se_T1 hT hy))⟩⟩⟩
        have hXg : ∀ post : Int32 → SX → Prop, post (ot_i (ne (5 * o + w))) ((nI V), (nI D), (nI (D ^ V)), (nI N), 0, mt, 0, hz, 0, br, (ot_n c), (ot_o (ot_u ne (5 * o + w) y)), (ot_o ef), (ot_n b), (ot_o g), (ot_n (ot_pw V D)), (ot_o sp), (ot_n im), (ot_n qu), (ot_n tg), (ot_n sg), (ot_n hp), (ot_n pl), (ot_n on), (ot_n tw), ns, es, ha, (ot_n ca), (ot_n ta), (ot_n ua)) → wX_need_31 post (nI o) (nI w) (ot_i y) (nI V) (nI D) (nI (D ^ V)) (nI N) il mt iv hz ib br (ot_n c) (ot_o ne) (ot_o ef) (ot_n b) (ot_o g) (ot_n (ot_pw V D)) (ot_o sp) (ot_n im) (ot_n qu) (ot_n tg) (ot_n sg) (ot_n hp) (ot_n pl) (ot_n on) (ot_n tw) ns es ha (ot_n ca) (ot_n ta) (ot_n ua) := fun post h => by
          unfold wX_need_31
          rw [ot_ix5]
          exact ⟨pk_in _ 50 hi, nm_r (ot_ro _ (by omega)) ⟨pk_in _ 50 hi, nm_r (ot_updo' ne (nI_clamp (by omega)) rfl) h⟩⟩
        cases y with
        | none => exact br_t rfl (hXg _ (se_yt ho (by omega) (br_f ot_10 (se_yt hw (by omega) (br_f ot_10 (br_t rfl hYg))))))
        | some z =>
          have hz2 := hy z rfl
          have hm1 := ot_ne1 (a := z) (by omega)
          exact br_f hm1 (se_t hz2 (by omega) (br_t rfl (hXg _ (se_yt ho (by omega) (br_f ot_10 (se_yt hw (by omega) (br_f ot_10 (br_f hm1 (se_yt hz2 (by omega) (br_f ot_10 hYg))))))))))
      · exact br_f h3 (se_f h4 (br_f ot_10 (se_yt ho (by omega) (br_f ot_10 (se_yt hw (by omega) (br_f ot_10 (br_f h3 (se_yf h4 (br_t rfl ⟨rfl, re_mk F⟩)))))))))
theorem i_vc_effect {k : Nat} {u : SX} {v : SY} (I : i_Rel k u v) (hk : k + 5 ≤ 2562) (v1 : Int32) (v2 : Int32) (v3 : Int32) : wpX_effect (fun r u' => wpY_effect (fun r' v' => r' = r ∧ i_Rel (k + 5) u' v') v v1 v2 v3) u v1 v2 v3 := by
  refine I (fun u v => wpX_effect (fun r u' => wpY_effect (fun r' v' => r' = r ∧ i_Rel (k + 5) u' v') v v1 v2 v3) u v1 v2 v3) ?_
  intro V D N il mt iv hz ib br c b ne ef g sp im qu tg sg hp pl on tw ca ta ua ns es ha rz ls fw me bk bd rs F
  have hT := F.1
  obtain ⟨⟨hV1, hV⟩, ⟨hD, hD4⟩, hN, _⟩ := id hT
  unfold wpX_effect wpY_effect
  rcases se_ix v1 (n := N) (by omega) with h1 | ⟨o, ho, rfl⟩
  · exact se_f h1 (br_f ot_10 (se_yf h1 (br_t rfl ⟨rfl, re_mk F⟩)))
  · refine se_t ho (by omega) (br_t rfl ?_)
    rcases se_ix v2 (n := V) (by omega) with h2 | ⟨w, hw, rfl⟩
    · exact se_f h2 (br_f ot_10 (se_yt ho (by omega) (br_f ot_10 (se_yf h2 (br_t rfl ⟨rfl, re_mk F⟩)))))
    · refine se_t hw (by omega) (br_t rfl ?_)
      rcases se_ox v3 (n := D) (by omega) with ⟨y, hy, rfl⟩ | ⟨h3, h4⟩
      · have hi : 5 * o + w < 50 := by omega
        have hYg : wY_effect_31 (fun r' v' => r' = ot_i (ef (5 * o + w)) ∧ i_Rel (k + 5) ((nI V), (nI D), (nI (D ^ V)), (nI N), 0, mt, 0, hz, 0, br, (ot_n c), (ot_o ne), (ot_o (ot_u ef (5 * o + w) y)), (ot_n b), (ot_o g), (ot_n (ot_pw V D)), (ot_o sp), (ot_n im), (ot_n qu), (ot_n tg), (ot_n sg), (ot_n hp), (ot_n pl), (ot_n on), (ot_n tw), ns, es, ha, (ot_n ca), (ot_n ta), (ot_n ua)) v') (nI o) (nI w) (ot_i y) (nI V) (nI D) (nI N) rz (ot_n c) (ot_o ne) (ot_o ef) (ot_n b) (ot_o g) (ot_n ls) (ot_n fw) (ot_n me) (ot_n bk) (ot_n bd) (ot_n rs) := by
          unfold wY_effect_31
          rw [ot_ix5]
          exact ⟨pk_in _ 50 hi, nm_r (ot_ro _ (by omega)) ⟨pk_in _ 50 hi, nm_r (ot_updo' ef (nI_clamp (by omega)) rfl) ⟨rfl, re_mk (re_ch (se_T2 hT hy))⟩⟩⟩
        have hXg : ∀ post : Int32 → SX → Prop, post (ot_i (ef (5 * o + w))) ((nI V), (nI D), (nI (D ^ V)), (nI N), 0, mt, 0, hz, 0, br, (ot_n c), (ot_o ne), (ot_o (ot_u ef (5 * o + w) y)), (ot_n b), (ot_o g), (ot_n (ot_pw V D)), (ot_o sp), (ot_n im), (ot_n qu), (ot_n tg), (ot_n sg), (ot_n hp), (ot_n pl), (ot_n on), (ot_n tw), ns, es, ha, (ot_n ca), (ot_n ta), (ot_n ua)) → wX_effect_31 post (nI o) (nI w) (ot_i y) (nI V) (nI D) (nI (D ^ V)) (nI N) il mt iv hz ib br (ot_n c) (ot_o ne) (ot_o ef) (ot_n b) (ot_o g) (ot_n (ot_pw V D)) (ot_o sp) (ot_n im) (ot_n qu) (ot_n tg) (ot_n sg) (ot_n hp) (ot_n pl) (ot_n on) (ot_n tw) ns es ha (ot_n ca) (ot_n ta) (ot_n ua) := fun post h => by
          unfold wX_effect_31
          rw [ot_ix5]
          exact ⟨pk_in _ 50 hi, nm_r (ot_ro _ (by omega)) ⟨pk_in _ 50 hi, nm_r (ot_updo' ef (nI_clamp (by omega)) rfl) h⟩⟩
        cases y with
        | none => exact br_t rfl (hXg _ (se_yt ho (by omega) (br_f ot_10 (se_yt hw (by omega) (br_f ot_10 (br_t rfl hYg))))))
        | some z =>
          have hz2 := hy z rfl
          have hm1 := ot_ne1 (a := z) (by omega)
          exact br_f hm1 (se_t hz2 (by omega) (br_t rfl (hXg _ (se_yt ho (by omega) (br_f ot_10 (se_yt hw (by omega) (br_f ot_10 (br_f hm1 (se_yt hz2 (by omega) (br_f ot_10 hYg))))))))))
      · exact br_f h3 (se_f h4 (br_f ot_10 (se_yt ho (by omega) (br_f ot_10 (se_yt hw (by omega) (br_f ot_10 (br_f h3 (se_yf h4 (br_t rfl ⟨rfl, re_mk F⟩)))))))))
theorem i_vc_begin {k : Nat} {u : SX} {v : SY} (I : i_Rel k u v) (hk : k + 5 ≤ 2562) (v1 : Int32) (v2 : Int32) : wpX_begin (fun r u' => wpY_begin (fun r' v' => r' = r ∧ i_Rel (k + 5) u' v') v v1 v2) u v1 v2 := by
  refine I (fun u v => wpX_begin (fun r u' => wpY_begin (fun r' v' => r' = r ∧ i_Rel (k + 5) u' v') v v1 v2) u v1 v2) ?_
  intro V D N il mt iv hz ib br c b ne ef g sp im qu tg sg hp pl on tw ca ta ua ns es ha rz ls fw me bk bd rs F
  have hT := F.1
  obtain ⟨⟨hV1, hV⟩, ⟨hD, hD4⟩, hN, _⟩ := id hT
  unfold wpX_begin wpY_begin
  rcases se_ix v1 (n := V) (by omega) with h1 | ⟨w, hw, rfl⟩
  · exact se_f h1 (br_f ot_10 (se_yf h1 (br_t rfl ⟨rfl, re_mk F⟩)))
  · refine se_t hw (by omega) (br_t rfl ?_)
    rcases se_ix v2 (n := D) (by omega) with h2 | ⟨y, hy, rfl⟩
    · exact se_f h2 (br_f ot_10 (se_yt hw (by omega) (br_f ot_10 (se_yf h2 (br_t rfl ⟨rfl, re_mk F⟩)))))
    · have hi : w < 5 := by omega
      refine se_t hy (by omega) (br_t rfl ⟨pk_in _ 5 hi, nm_r (ot_r b (by omega)) ⟨pk_in _ 5 hi, nm_r (ot_upd' b (nI_clamp (by omega)) rfl) ?_⟩⟩)
      exact se_yt hw (by omega) (br_f ot_10 (se_yt hy (by omega) (br_f ot_10 ⟨pk_in _ 5 hi, nm_r (ot_r b (by omega)) ⟨pk_in _ 5 hi, nm_r (ot_upd' b (nI_clamp (by omega)) rfl) ⟨rfl, re_mk (re_ch (se_T3 hT hy))⟩⟩⟩)))
theorem i_vc_goal {k : Nat} {u : SX} {v : SY} (I : i_Rel k u v) (hk : k + 5 ≤ 2562) (v1 : Int32) (v2 : Int32) : wpX_goal (fun r u' => wpY_goal (fun r' v' => r' = r ∧ i_Rel (k + 5) u' v') v v1 v2) u v1 v2 := by
  refine I (fun u v => wpX_goal (fun r u' => wpY_goal (fun r' v' => r' = r ∧ i_Rel (k + 5) u' v') v v1 v2) u v1 v2) ?_
  intro V D N il mt iv hz ib br c b ne ef g sp im qu tg sg hp pl on tw ca ta ua ns es ha rz ls fw me bk bd rs F
  have hT := F.1
  obtain ⟨⟨hV1, hV⟩, ⟨hD, hD4⟩, hN, _⟩ := id hT
  unfold wpX_goal wpY_goal
  rcases se_ix v1 (n := V) (by omega) with h1 | ⟨w, hw, rfl⟩
  · exact se_f h1 (br_f ot_10 (se_yf h1 (br_t rfl ⟨rfl, re_mk F⟩)))
  · refine se_t hw (by omega) (br_t rfl ?_)
    rcases se_ox v2 (n := D) (by omega) with ⟨y, hy, rfl⟩ | ⟨h3, h4⟩
    · have hi : w < 5 := by omega
      have hYg : wY_goal_23 (fun r' v' => r' = ot_i (g w) ∧ i_Rel (k + 5) ((nI V), (nI D), (nI (D ^ V)), (nI N), 0, mt, 0, hz, 0, br, (ot_n c), (ot_o ne), (ot_o ef), (ot_n b), (ot_o (ot_u g w y)), (ot_n (ot_pw V D)), (ot_o sp), (ot_n im), (ot_n qu), (ot_n tg), (ot_n sg), (ot_n hp), (ot_n pl), (ot_n on), (ot_n tw), ns, es, ha, (ot_n ca), (ot_n ta), (ot_n ua)) v') (nI w) (ot_i y) (nI V) (nI D) (nI N) rz (ot_n c) (ot_o ne) (ot_o ef) (ot_n b) (ot_o g) (ot_n ls) (ot_n fw) (ot_n me) (ot_n bk) (ot_n bd) (ot_n rs) := by
        exact ⟨pk_in _ 5 hi, nm_r (ot_ro _ (by omega)) ⟨pk_in _ 5 hi, nm_r (ot_updo' g (nI_clamp (by omega)) rfl) ⟨rfl, re_mk (re_ch (se_T4 hT hy))⟩⟩⟩
      have hXg : ∀ post : Int32 → SX → Prop, post (ot_i (g w)) ((nI V), (nI D), (nI (D ^ V)), (nI N), 0, mt, 0, hz, 0, br, (ot_n c), (ot_o ne), (ot_o ef), (ot_n b), (ot_o (ot_u g w y)), (ot_n (ot_pw V D)), (ot_o sp), (ot_n im), (ot_n qu), (ot_n tg), (ot_n sg), (ot_n hp), (ot_n pl), (ot_n on), (ot_n tw), ns, es, ha, (ot_n ca), (ot_n ta), (ot_n ua)) → wX_goal_23 post (nI w) (ot_i y) (nI V) (nI D) (nI (D ^ V)) (nI N) il mt iv hz ib br (ot_n c) (ot_o ne) (ot_o ef) (ot_n b) (ot_o g) (ot_n (ot_pw V D)) (ot_o sp) (ot_n im) (ot_n qu) (ot_n tg) (ot_n sg) (ot_n hp) (ot_n pl) (ot_n on) (ot_n tw) ns es ha (ot_n ca) (ot_n ta) (ot_n ua) := fun post h => by
        exact ⟨pk_in _ 5 hi, nm_r (ot_ro _ (by omega)) ⟨pk_in _ 5 hi, nm_r (ot_updo' g (nI_clamp (by omega)) rfl) h⟩⟩
      cases y with
      | none => exact br_t rfl (hXg _ (se_yt hw (by omega) (br_f ot_10 (br_t rfl hYg))))
      | some z =>
        have hz2 := hy z rfl
        have hm1 := ot_ne1 (a := z) (by omega)
        exact br_f hm1 (se_t hz2 (by omega) (br_t rfl (hXg _ (se_yt hw (by omega) (br_f ot_10 (br_f hm1 (se_yt hz2 (by omega) (br_f ot_10 hYg))))))))
    · exact br_f h3 (se_f h4 (br_f ot_10 (se_yt hw (by omega) (br_f ot_10 (br_f h3 (se_yf h4 (br_t rfl ⟨rfl, re_mk F⟩)))))))
def se_c (N v : Nat) (f : Nat → Option Nat) : Nat → Option Nat := fun j => if 5 * N ≤ j ∧ j < 5 * N + v then none else f j
theorem se_cu (N v : Nat) (f : Nat → Option Nat) : ot_u (se_c N v f) (5 * N + v) none = se_c N (v + 1) f := by
  funext j
  unfold se_c
  by_cases e : j = 5 * N + v
  · rw [e, ot_us, if_pos (by omega)]
  · rw [ot_un e]
    by_cases h : 5 * N ≤ j ∧ j < 5 * N + v
    · rw [if_pos h, if_pos (by omega)]
    · rw [if_neg h, if_neg (by omega)]
theorem se_c0 (N : Nat) (f : Nat → Option Nat) : se_c N 0 f = f := by
  funext j
  unfold se_c
  rw [if_neg (by omega)]
theorem se_x36 {post : Int32 → SX → Prop} (hN : N < 10) (h : post (nI N) ((nI V), (nI D), (nI (D ^ V)), (nI (N + 1)), 0, mt, 0, hz, 0, br, (ot_n c), (ot_o (se_c N 5 ne)), (ot_o (se_c N 5 ef)), (ot_n b), (ot_o g), (ot_n (ot_pw V D)), (ot_o sp), (ot_n im), (ot_n qu), (ot_n tg), (ot_n sg), (ot_n hp), (ot_n pl), (ot_n on), (ot_n tw), ns, es, ha, (ot_n ca), (ot_n ta), (ot_n ua))) : ∀ n v, v ≤ 5 → 5 - v < n → wX_operator_36 post (nI V) (nI D) (nI (D ^ V)) (nI N) il mt iv hz ib br n (nI v) (ot_n c) (ot_o (se_c N v ne)) (ot_o (se_c N v ef)) (ot_n b) (ot_o g) (ot_n (ot_pw V D)) (ot_o sp) (ot_n im) (ot_n qu) (ot_n tg) (ot_n sg) (ot_n hp) (ot_n pl) (ot_n on) (ot_n tw) ns es ha (ot_n ca) (ot_n ta) (ot_n ua) := by
  intro n
  induction n with
  | zero => intro v _ a; omega
  | succ n ih =>
    intro v hv hn
    refine pk_le 5 v (fun hx => nm_r (nI_1 N) ?_) (fun hx => ?_)
    · rw [show v = 5 from by omega]
      show post (nI (N + 1) - 1) _
      rw [nI_pred]; exact h
    · have hi : 5 * N + v < 50 := by omega
      rw [ot_ix5]
      refine ⟨pk_in _ 50 hi, nm_r (e' := ot_o (se_c N (v + 1) ne)) ?_ ⟨pk_in _ 50 hi, nm_r (e' := ot_o (se_c N (v + 1) ef)) ?_ (nm_r (nI_1 v) (ih (v + 1) (by omega) (by omega)))⟩⟩
      · rw [← se_cu]; exact ot_updo' (x := none) _ (nI_clamp (by omega)) rfl
      · rw [← se_cu]; exact ot_updo' (x := none) _ (nI_clamp (by omega)) rfl
theorem se_y36 {post : Int32 → SY → Prop} (hN : N < 10) (h : post (nI N) ((nI V), (nI D), (nI (N + 1)), rz, (ot_n c), (ot_o (se_c N 5 ne)), (ot_o (se_c N 5 ef)), (ot_n b), (ot_o g), (ot_n ls), (ot_n fw), (ot_n me), (ot_n bk), (ot_n bd), (ot_n rs))) : ∀ n v, v ≤ 5 → 5 - v < n → wY_operator_36 post (nI V) (nI D) (nI N) rz n (nI v) (ot_n c) (ot_o (se_c N v ne)) (ot_o (se_c N v ef)) (ot_n b) (ot_o g) (ot_n ls) (ot_n fw) (ot_n me) (ot_n bk) (ot_n bd) (ot_n rs) := by
  intro n
  induction n with
  | zero => intro v _ a; omega
  | succ n ih =>
    intro v hv hn
    refine pk_le 5 v (fun hx => nm_r (nI_1 N) ?_) (fun hx => ?_)
    · rw [show v = 5 from by omega, nI_pred]; exact h
    · have hi : 5 * N + v < 50 := by omega
      rw [ot_ix5]
      refine ⟨pk_in _ 50 hi, nm_r (e' := ot_o (se_c N (v + 1) ne)) ?_ ⟨pk_in _ 50 hi, nm_r (e' := ot_o (se_c N (v + 1) ef)) ?_ (nm_r (nI_1 v) (ih (v + 1) (by omega) (by omega)))⟩⟩
      · rw [← se_cu]; exact ot_updo' (x := none) _ (nI_clamp (by omega)) rfl
      · rw [← se_cu]; exact ot_updo' (x := none) _ (nI_clamp (by omega)) rfl
theorem se_T5 (hT : gr_T V D N c b ne ef g) {y : Nat} (hN : N < 10) (hy : y ≤ 9) : gr_T V D (N + 1) (ot_u c N y) b (se_c N 5 ne) (se_c N 5 ef) g := by
  obtain ⟨a1, a2, a3, a4, a5, a6, a7, a8⟩ := hT
  have hh : ∀ f : Nat → Option Nat, (∀ o, o < N → ∀ v, v < V → ∀ x, f (5 * o + v) = some x → x < D) → ∀ o, o < N + 1 → ∀ v, v < V → ∀ x, se_c N 5 f (5 * o + v) = some x → x < D := fun f hf o ho v hv x e => by
    unfold se_c at e
    by_cases h : o = N
    · rw [if_pos (by omega)] at e; exact nomatch e
    · rw [if_neg (by omega)] at e; exact hf o (by omega) v hv x e
  refine ⟨a1, a2, by omega, fun o ho => ?_, a5, hh ne a6, hh ef a7, a8⟩
  by_cases h : o = N
  · rw [h, ot_us]; exact hy
  · rw [ot_un h]; exact a4 o (by omega)
theorem i_vc_operator {k : Nat} {u : SX} {v : SY} (I : i_Rel k u v) (hk : k + 5 ≤ 2562) (v1 : Int32) : wpX_operator (fun r u' => wpY_operator (fun r' v' => r' = r ∧ i_Rel (k + 5) u' v') v v1) u v1 := by
  refine I (fun u v => wpX_operator (fun r u' => wpY_operator (fun r' v' => r' = r ∧ i_Rel (k + 5) u' v') v v1) u v1) ?_
  intro V D N il mt iv hz ib br c b ne ef g sp im qu tg sg hp pl on tw ca ta ua ns es ha rz ls fw me bk bd rs F
  have hT := F.1
  obtain ⟨⟨hV1, hV⟩, ⟨hD, hD4⟩, hN, _⟩ := id hT
  by_cases h0 : v1 < 0
  · exact br_t h0 (br_t h0 ⟨rfl, re_mk F⟩)
  · by_cases h9 : v1 ≤ 9
    · obtain ⟨y, hy, rfl⟩ := nI_of2 (M := 9) (n := 9) rfl h0 h9
      by_cases hN10 : N = 10
      · subst hN10
        exact br_f h0 (br_t h9 (br_t rfl (br_f h0 (br_t h9 (br_t rfl ⟨rfl, re_mk F⟩)))))
      · have hN9 : N < 10 := by omega
        have hn : ¬ nI N = 10 := fun e => hN10 ((nI_eq (a := N) (b := 10) (by omega) (by omega)).mp e)
        refine br_f h0 (br_t h9 (br_f hn ⟨pk_in N 10 hN9, nm_r (ot_upd' c (nI_clamp (by omega)) rfl) ⟨6, ?_⟩⟩))
        have h1 := fun (post : Int32 → SX → Prop) h => se_x36 (V := V) (D := D) (N := N) (il := il) (mt := mt) (iv := iv) (hz := hz) (ib := ib) (br := br) (c := ot_u c N y) (b := b) (ne := ne) (ef := ef) (g := g) (sp := sp) (im := im) (qu := qu) (tg := tg) (sg := sg) (hp := hp) (pl := pl) (on := on) (tw := tw) (ca := ca) (ta := ta) (ua := ua) (ns := ns) (es := es) (ha := ha) (post := post) hN9 h 6 0 (by omega) (by omega)
        rw [se_c0, se_c0] at h1
        refine h1 _ ?_
        refine br_f h0 (br_t h9 (br_f hn ⟨pk_in N 10 hN9, nm_r (ot_upd' c (nI_clamp (by omega)) rfl) ⟨6, ?_⟩⟩))
        have h2 := fun (post : Int32 → SY → Prop) h => se_y36 (V := V) (D := D) (N := N) (rz := rz) (c := ot_u c N y) (b := b) (ne := ne) (ef := ef) (g := g) (ls := ls) (fw := fw) (me := me) (bk := bk) (bd := bd) (rs := rs) (post := post) hN9 h 6 0 (by omega) (by omega)
        rw [se_c0, se_c0] at h2
        refine h2 _ ⟨rfl, re_mk (re_ch (se_T5 hT hN9 hy))⟩
    · exact br_f h0 (br_f h9 (br_f h0 (br_f h9 ⟨rfl, re_mk F⟩)))
end SE
end
section
section QC
variable {V D N : Nat} {il mt iv hz ib br : Int32} {c b : Nat → Nat} {ne ef g sp : Nat → Option Nat} {im qu tg sg hp pl on tw ca ta ua : Nat → Nat} {ns es ha : Nat → Int32}
variable {rz : Int32} {ls fw me bk bd rs : Nat → Nat}
theorem qc_eq (hX : wv_F V D N c ne ef g tg sg) (hY : yc_F V D N c ne ef g ls fw) {s : Nat} (hs : s < D ^ V) : ls (gr_e V D s) = tg s ∧ fw (gr_e V D s) = sg s := by
  have h := lb_uni hX.2.1 hX.2.2 hY.2.1 hY.2.2 hs
  have h1 := hX.1 s hs
  have h2 := hY.1 s hs
  unfold wh_K yc_L at h
  omega
def qc_a (x y : Nat) : Int32 := if x = 1000000 then -3 else nI y
theorem qc_x {post : Int32 → SX → Prop} (F : re_F V D N il iv ib c b ne ef g sp tg sg on tw ns es)
    (h : ∀ il sp ns es iv hz tg sg hp pl, ¬ il = 0 → wl_L V D N ne ef sp ns es → re_F V D N il iv ib c b ne ef g sp tg sg on tw ns es → wv_F V D N c ne ef g tg sg → post (qc_a (tg (cd_c D b V)) (tg (cd_c D b V))) ((nI V), (nI D), (nI (D ^ V)), (nI N), il, mt, iv, hz, ib, br, (ot_n c), (ot_o ne), (ot_o ef), (ot_n b), (ot_o g), (ot_n (ot_pw V D)), (ot_o sp), (ot_n im), (ot_n qu), (ot_n tg), (ot_n sg), (ot_n hp), (ot_n pl), (ot_n on), (ot_n tw), ns, es, ha, (ot_n ca), (ot_n ta), (ot_n ua))) : wpX_cost post ((nI V), (nI D), (nI (D ^ V)), (nI N), il, mt, iv, hz, ib, br, (ot_n c), (ot_o ne), (ot_o ef), (ot_n b), (ot_o g), (ot_n (ot_pw V D)), (ot_o sp), (ot_n im), (ot_n qu), (ot_n tg), (ot_n sg), (ot_n hp), (ot_n pl), (ot_n on), (ot_n tw), ns, es, ha, (ot_n ca), (ot_n ta), (ot_n ua)) := by
  obtain ⟨hT, hl, hv, hbd⟩ := F
  obtain ⟨⟨hV1, hV⟩, ⟨hD, hD4⟩, hN, hc, hb, hne, hef, hg⟩ := id hT
  have hM : D ^ V ≤ 1024 := gr_M hV hD4
  have hs0 := ws_b0 hT
  unfold wpX_cost
  refine wv_so hT hl hv (fun il sp ns es iv hz tg sg hp pl hil hL hiv hF => wa_beg hT ?_)
  have h0 := h il sp ns es iv hz tg sg hp pl hil hL ⟨hT, fun _ => hL, fun _ => hF, hbd⟩ hF
  have hB := hF.1 _ hs0
  have i1 : vp_in (nI (cd_c D b V)) 1024 := vp_in_nI (by omega) (by omega)
  rw [ot_r tg (by omega)]
  refine ⟨i1, pk_eq (tg (cd_c D b V)) 1000000 (fun k => ?_) (fun k => ⟨i1, ?_⟩)⟩
  · rw [qc_a, if_pos k] at h0; exact h0
  · rw [qc_a, if_neg k] at h0; exact h0
theorem i_vc_cost {k : Nat} {u : SX} {v : SY} (I : i_Rel k u v) (hk : k + 5 ≤ 2562) : wpX_cost (fun r u' => wpY_cost (fun r' v' => r' = r ∧ i_Rel (k + 5) u' v') v) u := by
  refine I (fun u v => wpX_cost (fun r u' => wpY_cost (fun r' v' => r' = r ∧ i_Rel (k + 5) u' v') v) u) ?_
  intro V D N il mt iv hz ib br c b ne ef g sp im qu tg sg hp pl on tw ca ta ua ns es ha rz ls fw me bk bd rs F
  refine qc_x F (fun il sp ns es iv hz tg sg hp pl hil hL F2 hF => ?_)
  have hT := F2.1
  obtain ⟨⟨hV1, hV⟩, ⟨hD, hD4⟩, hN, hc, hb, hne, hef, hg⟩ := id hT
  have h4 : 4 ^ V ≤ 1024 := gr_M4 hV
  have hs0 := ws_b0 hT
  have hes := gr_el (V := V) (s := cd_c D b V) hD hD4
  unfold wpY_cost
  refine yc_fc hT (fun ls fw hY => ya_beg hT ?_)
  obtain ⟨e1, e2⟩ := qc_eq hF hY hs0
  have hB := hF.1 _ hs0
  refine ⟨vp_in_nI (by omega) (by omega), nm_r (ot_r ls (by omega)) ?_⟩
  rw [e1]
  refine pk_lt (tg (cd_c D b V)) 1000000 (fun a => ⟨?_, re_mk F2⟩) (fun a => ⟨?_, re_mk F2⟩)
  · rw [qc_a, if_neg (by omega)]
  · rw [qc_a, if_pos (by omega)]
theorem i_vc_length {k : Nat} {u : SX} {v : SY} (I : i_Rel k u v) (hk : k + 5 ≤ 2562) : wpX_length (fun r u' => wpY_length (fun r' v' => r' = r ∧ i_Rel (k + 5) u' v') v) u := by
  refine I (fun u v => wpX_length (fun r u' => wpY_length (fun r' v' => r' = r ∧ i_Rel (k + 5) u' v') v) u) ?_
  intro V D N il mt iv hz ib br c b ne ef g sp im qu tg sg hp pl on tw ca ta ua ns es ha rz ls fw me bk bd rs F
  obtain ⟨hT, hl, hv, hbd⟩ := F
  obtain ⟨⟨hV1, hV⟩, ⟨hD, hD4⟩, hN, hc, hb, hne, hef, hg⟩ := id hT
  have hM : D ^ V ≤ 1024 := gr_M hV hD4
  have h4 : 4 ^ V ≤ 1024 := gr_M4 hV
  have hs0 := ws_b0 hT
  have hes := gr_el (V := V) (s := cd_c D b V) hD hD4
  unfold wpX_length
  refine wv_so hT hl hv (fun il sp ns es iv hz tg sg hp pl hil hL hiv hF => wa_beg hT ?_)
  have F2 : re_F V D N il iv ib c b ne ef g sp tg sg on tw ns es := ⟨hT, fun _ => hL, fun _ => hF, hbd⟩
  have hB := hF.1 _ hs0
  have i1 : vp_in (nI (cd_c D b V)) 1024 := vp_in_nI (by omega) (by omega)
  have hy : wpY_length (fun r' v' => r' = qc_a (tg (cd_c D b V)) (sg (cd_c D b V)) ∧ i_Rel (k + 5) ((nI V), (nI D), (nI (D ^ V)), (nI N), il, mt, iv, hz, ib, br, (ot_n c), (ot_o ne), (ot_o ef), (ot_n b), (ot_o g), (ot_n (ot_pw V D)), (ot_o sp), (ot_n im), (ot_n qu), (ot_n tg), (ot_n sg), (ot_n hp), (ot_n pl), (ot_n on), (ot_n tw), ns, es, ha, (ot_n ca), (ot_n ta), (ot_n ua)) v') ((nI V), (nI D), (nI N), rz, (ot_n c), (ot_o ne), (ot_o ef), (ot_n b), (ot_o g), (ot_n ls), (ot_n fw), (ot_n me), (ot_n bk), (ot_n bd), (ot_n rs)) := by
    unfold wpY_length
    refine yc_fc hT (fun ls fw hY => ya_beg hT ?_)
    obtain ⟨e1, e2⟩ := qc_eq hF hY hs0
    have i2 : vp_in (nI (gr_e V D (cd_c D b V))) 1024 := vp_in_nI (by omega) (by omega)
    rw [ot_r ls (by omega), ot_r fw (by omega), e1, e2]
    refine ⟨i2, pk_lt (tg (cd_c D b V)) 1000000 (fun a => ⟨i2, ?_, re_mk F2⟩) (fun a => ⟨?_, re_mk F2⟩)⟩
    · rw [qc_a, if_neg (by omega)]
    · rw [qc_a, if_pos (by omega)]
  rw [ot_r tg (by omega), ot_r sg (by omega)]
  refine ⟨i1, pk_eq (tg (cd_c D b V)) 1000000 (fun a => ?_) (fun a => ⟨i1, ?_⟩)⟩
  · rw [qc_a, if_pos a] at hy; exact hy
  · rw [qc_a, if_neg a] at hy; exact hy
/-- an operator that leads on along a best plan -/
def qc_P (V D : Nat) (ne ef : Nat → Option Nat) (c tg sg : Nat → Nat) (s o : Nat) : Prop := ∃ p, gr_s V D ne ef s o = some p ∧ tg p + c o = tg s ∧ sg p + 1 = sg s
theorem qc_bs {post : Int32 → Prop} {s o : Nat} (hT : gr_T V D N c b ne ef g) (hL : wl_L V D N ne ef sp ns es) (hB : wh_B (D ^ V) tg sg) (hs : s < D ^ V) (ho : o < N) (hP : qc_P V D ne ef c tg sg s o) (hl : ∀ o', o' < o → ¬ qc_P V D ne ef c tg sg s o') (h : post (nI o)) : wpX_bestStep post ((nI V), (nI D), (nI (D ^ V)), (nI N), il, mt, iv, hz, ib, br, (ot_n c), (ot_o ne), (ot_o ef), (ot_n b), (ot_o g), (ot_n (ot_pw V D)), (ot_o sp), (ot_n im), (ot_n qu), (ot_n tg), (ot_n sg), (ot_n hp), (ot_n pl), (ot_n on), (ot_n tw), ns, es, ha, (ot_n ca), (ot_n ta), (ot_n ua)) (nI s) := by
  obtain ⟨⟨hV1, hV⟩, ⟨hD, hD4⟩, hN, hc, hb, hne, hef, hg⟩ := id hT
  have hM : D ^ V ≤ 1024 := gr_M hV hD4
  have i1 : vp_in (nI s) 1024 := vp_in_nI (by omega) (by omega)
  have key : ∀ n o', o' ≤ o → o - o' < n → wX_bestStep_2 post (nI s) (nI V) (nI D) (nI (D ^ V)) (nI N) il mt iv hz ib br (ot_n c) (ot_o ne) (ot_o ef) (ot_n b) (ot_o g) (ot_n (ot_pw V D)) (ot_o sp) (ot_n im) (ot_n qu) (ot_n tg) (ot_n sg) (ot_n hp) (ot_n pl) (ot_n on) (ot_n tw) ns es ha (ot_n ca) (ot_n ta) (ot_n ua) n (nI o') := by
    intro n
    induction n with
    | zero => intro o' _ a; omega
    | succ n ih =>
      intro o' ho' hn
      refine br_f (nI_ge (show o' < N by omega) (by omega)) ?_
      rw [ot_ix10]
      refine ⟨vp_in_nI (by omega) (by omega), nm_r (e' := ot_i (gr_s V D ne ef s o')) (by rw [ot_ro sp (by omega), hL.1 s hs o' (by omega)]) ?_⟩
      have hgo : ¬ qc_P V D ne ef c tg sg s o' → ∀ x2, x2 = nI o' + 1 → wX_bestStep_2 post (nI s) (nI V) (nI D) (nI (D ^ V)) (nI N) il mt iv hz ib br (ot_n c) (ot_o ne) (ot_o ef) (ot_n b) (ot_o g) (ot_n (ot_pw V D)) (ot_o sp) (ot_n im) (ot_n qu) (ot_n tg) (ot_n sg) (ot_n hp) (ot_n pl) (ot_n on) (ot_n tw) ns es ha (ot_n ca) (ot_n ta) (ot_n ua) n x2 := fun hn2 x2 e => by
        rw [e, nI_1]
        have : o' ≠ o := fun e2 => hn2 (e2 ▸ hP)
        exact ih (o' + 1) (by omega) (by omega)
      refine ot_bo _ (fun p e => by have := ws_st hT s o' p hs (by omega) e; omega) (fun e => hgo (fun ⟨p, e2, _⟩ => by rw [e] at e2; exact nomatch e2)) (fun p e => ?_)
      have hpM := ws_st hT s o' p hs (by omega) e
      have ip : vp_in (nI p) 1024 := vp_in_nI (by omega) (by omega)
      have hbp := hB p hpM
      have hbs := hB s hs
      have hco := hc o' (by omega)
      have hgo2 : ¬ (tg p + c o' = tg s ∧ sg p + 1 = sg s) → ∀ x2, x2 = nI o' + 1 → wX_bestStep_2 post (nI s) (nI V) (nI D) (nI (D ^ V)) (nI N) il mt iv hz ib br (ot_n c) (ot_o ne) (ot_o ef) (ot_n b) (ot_o g) (ot_n (ot_pw V D)) (ot_o sp) (ot_n im) (ot_n qu) (ot_n tg) (ot_n sg) (ot_n hp) (ot_n pl) (ot_n on) (ot_n tw) ns es ha (ot_n ca) (ot_n ta) (ot_n ua) n x2 := fun hn2 => hgo (fun ⟨p2, e2, e3⟩ => by
        rw [e] at e2
        rw [← Option.some.inj e2] at e3
        exact hn2 e3)
      rw [e, ot_is, ot_r tg (i := p) (by omega), ot_r tg (i := s) (by omega), ot_r sg (i := p) (by omega), ot_r sg (i := s) (by omega), ot_r c (by omega), nI_add, nI_1]
      refine ⟨ip, vp_in_nI (by omega) (by omega), i1, pk_eq (tg p + c o') (tg s) (fun a => ⟨ip, i1, pk_eq (sg p + 1) (sg s) (fun a2 => ?_) (fun a2 => hgo2 (fun a3 => a2 a3.2))⟩) (fun a => hgo2 (fun a3 => a a3.1))⟩
      have : ¬ o' < o := fun hlt => hl o' hlt ⟨p, e, a, a2⟩
      rw [show o' = o from by omega]; exact h
  exact ⟨o + 1, key (o + 1) 0 (by omega) (by omega)⟩
theorem qc_fb {post : Int32 → Prop} {s o : Nat} (hT : gr_T V D N c b ne ef g) (hB : wh_B (D ^ V) tg sg) (he : ∀ s, s < D ^ V → ls (gr_e V D s) = tg s ∧ fw (gr_e V D s) = sg s) (hs : s < D ^ V) (ho : o < N) (hP : qc_P V D ne ef c tg sg s o) (hl : ∀ o', o' < o → ¬ qc_P V D ne ef c tg sg s o') (h : post (nI o)) : wpY_firstBest post ((nI V), (nI D), (nI N), rz, (ot_n c), (ot_o ne), (ot_o ef), (ot_n b), (ot_o g), (ot_n ls), (ot_n fw), (ot_n me), (ot_n bk), (ot_n bd), (ot_n rs)) (nI (gr_e V D s)) := by
  obtain ⟨⟨hV1, hV⟩, ⟨hD, hD4⟩, hN, hc, hb, hne, hef, hg⟩ := id hT
  have h4 : 4 ^ V ≤ 1024 := gr_M4 hV
  have hes := gr_el (V := V) (s := s) hD hD4
  have i1 : vp_in (nI (gr_e V D s)) 1024 := vp_in_nI (by omega) (by omega)
  have key : ∀ n o', o' ≤ o → o - o' < n → wY_firstBest_2 post (nI (gr_e V D s)) (nI V) (nI D) (nI N) rz (ot_n c) (ot_o ne) (ot_o ef) (ot_n b) (ot_o g) (ot_n ls) (ot_n fw) (ot_n me) (ot_n bk) (ot_n bd) (ot_n rs) n (nI o') := by
    intro n
    induction n with
    | zero => intro o' _ a; omega
    | succ n ih =>
      intro o' ho' hn
      have hgo : ¬ qc_P V D ne ef c tg sg s o' → ∀ x2, x2 = nI o' + 1 → wY_firstBest_2 post (nI (gr_e V D s)) (nI V) (nI D) (nI N) rz (ot_n c) (ot_o ne) (ot_o ef) (ot_n b) (ot_o g) (ot_n ls) (ot_n fw) (ot_n me) (ot_n bk) (ot_n bd) (ot_n rs) n x2 := fun hn2 x2 e => by
        rw [e, nI_1]
        have : o' ≠ o := fun e2 => hn2 (e2 ▸ hP)
        exact ih (o' + 1) (by omega) (by omega)
      refine br_f (nI_ge (show o' < N by omega) (by omega)) (ya_use hT (by omega) ?_)
      cases e : gr_s V D ne ef s o' with
      | none => exact br_t (show (-1 : Int32) < 0 by decide) (hgo (fun ⟨p, e2, _⟩ => by rw [e] at e2; exact nomatch e2))
      | some p =>
        have hpM := ws_st hT s o' p hs (by omega) e
        have hep := gr_el (V := V) (s := p) hD hD4
        have ip : vp_in (nI (gr_e V D p)) 1024 := vp_in_nI (by omega) (by omega)
        have hbp := hB p hpM
        have hbs := hB s hs
        have hco := hc o' (by omega)
        have hgo2 : ¬ (tg p + c o' = tg s ∧ sg p + 1 = sg s) → ∀ x2, x2 = nI o' + 1 → wY_firstBest_2 post (nI (gr_e V D s)) (nI V) (nI D) (nI N) rz (ot_n c) (ot_o ne) (ot_o ef) (ot_n b) (ot_o g) (ot_n ls) (ot_n fw) (ot_n me) (ot_n bk) (ot_n bd) (ot_n rs) n x2 := fun hn2 => hgo (fun ⟨p2, e2, e3⟩ => by
          rw [e] at e2
          rw [← Option.some.inj e2] at e3
          exact hn2 e3)
        rw [show ot_i (Option.map (gr_e V D) (some p)) = nI (gr_e V D p) from rfl, ot_r ls (i := gr_e V D p) (by omega), ot_r ls (i := gr_e V D s) (by omega), ot_r fw (i := gr_e V D p) (by omega), ot_r fw (i := gr_e V D s) (by omega), ot_r c (by omega), nI_add, (he p hpM).1, (he p hpM).2, (he s hs).1, (he s hs).2, nI_1 (sg p)]
        refine br_f (nI_pos (by omega)) ⟨vp_in_nI (by omega) (by omega), ip, i1, pk_eq (c o' + tg p) (tg s) (fun a => ⟨ip, i1, pk_eq (sg p + 1) (sg s) (fun a2 => ?_) (fun a2 => hgo2 (fun a3 => a2 a3.2))⟩) (fun a => hgo2 (fun a3 => a (by omega)))⟩
        have : ¬ o' < o := fun hlt => hl o' hlt ⟨p, e, by omega, a2⟩
        rw [show o' = o from by omega]; exact h
  exact ⟨o + 1, key (o + 1) 0 (by omega) (by omega)⟩
theorem qc_ex (hT : gr_T V D N c b ne ef g) (hF : wv_F V D N c ne ef g tg sg) {s : Nat} (hs : s < D ^ V) (hf : tg s < 1000000) (h0 : 0 < sg s) :
    ∃ o p, o < N ∧ p < D ^ V ∧ gr_s V D ne ef s o = some p ∧ qc_P V D ne ef c tg sg s o ∧ (∀ o', o' < o → ¬ qc_P V D ne ef c tg sg s o') ∧ tg p < 1000000 ∧ sg p + 1 = sg s := by
  obtain ⟨⟨hV1, hV⟩, ⟨hD, hD4⟩, hN, hc, _⟩ := id hT
  have hM : D ^ V ≤ 1024 := gr_M hV hD4
  obtain ⟨hB, hI, hC⟩ := hF
  have hbs := hB s hs
  have hKs : wh_K tg sg s = tg s * 2048 + sg s := rfl
  obtain ⟨o, p, ho, hp, e, hk⟩ := lb_nx hI hC hs (by omega) (by omega)
  have hKp : wh_K tg sg p = tg p * 2048 + sg p := rfl
  have hbp := hB p hp
  have hstp := lb_st hM hI hp (by omega)
  obtain ⟨o1, ⟨ho1, hP1⟩, hmin⟩ := pk_least (fun o => o < N ∧ qc_P V D ne ef c tg sg s o) ⟨o, ho, p, e, by omega, by omega⟩
  obtain ⟨p1, e1, e2, e3⟩ := id hP1
  exact ⟨o1, p1, ho1, ws_st hT s o1 p1 hs ho1 e1, e1, hP1, fun o' hlt hP => hmin o' hlt ⟨by omega, hP⟩, by omega, e3⟩
theorem qc_ls {i : Nat} (hT : gr_T V D N c b ne ef g) (hL : wl_L V D N ne ef sp ns es) (hF : wv_F V D N c ne ef g tg sg) (hi : i < 2048) :
    ∀ d k s o p, k + d = i → s < D ^ V → tg s < 1000000 → d < sg s → o < N → gr_s V D ne ef s o = some p → qc_P V D ne ef c tg sg s o → (∀ o', o' < o → ¬ qc_P V D ne ef c tg sg s o') → tg p < 1000000 → sg p + 1 = sg s →
    ∃ r : Int32, (∀ post : Int32 → SX → Prop, post r ((nI V), (nI D), (nI (D ^ V)), (nI N), il, mt, iv, hz, ib, br, (ot_n c), (ot_o ne), (ot_o ef), (ot_n b), (ot_o g), (ot_n (ot_pw V D)), (ot_o sp), (ot_n im), (ot_n qu), (ot_n tg), (ot_n sg), (ot_n hp), (ot_n pl), (ot_n on), (ot_n tw), ns, es, ha, (ot_n ca), (ot_n ta), (ot_n ua)) → wX_step_46 post (nI i) (nI V) (nI D) (nI (D ^ V)) (nI N) il mt iv hz ib br (ot_n c) (ot_o ne) (ot_o ef) (ot_n b) (ot_o g) (ot_n (ot_pw V D)) (ot_o sp) (ot_n im) (ot_n qu) (ot_n tg) (ot_n sg) (ot_n hp) (ot_n pl) (ot_n on) (ot_n tw) ns es ha (ot_n ca) (ot_n ta) (ot_n ua) (d + 1) (nI s) (nI o) (nI k)) ∧ (∀ ls fw : Nat → Nat, (∀ s, s < D ^ V → ls (gr_e V D s) = tg s ∧ fw (gr_e V D s) = sg s) → ∀ post : Int32 → SY → Prop, post r ((nI V), (nI D), (nI N), rz, (ot_n c), (ot_o ne), (ot_o ef), (ot_n b), (ot_o g), (ot_n ls), (ot_n fw), (ot_n me), (ot_n bk), (ot_n bd), (ot_n rs)) → wY_step_39 post (nI i) (nI V) (nI D) (nI N) rz (ot_n c) (ot_o ne) (ot_o ef) (ot_n b) (ot_o g) (ot_n ls) (ot_n fw) (ot_n me) (ot_n bk) (ot_n bd) (ot_n rs) (d + 1) (nI (gr_e V D s)) (nI k)) := by
  obtain ⟨⟨hV1, hV⟩, ⟨hD, hD4⟩, hN, hc, hb, hne, hef, hg⟩ := id hT
  have hM : D ^ V ≤ 1024 := gr_M hV hD4
  intro d
  induction d with
  | zero =>
    intro k s o p hk hs hf hd ho e hP hl hfp hsp
    exact ⟨nI o, fun post h => br_t (nI_le (by omega) (by omega)) h, fun ls fw he post h => br_t (nI_le (by omega) (by omega)) (qc_fb hT hF.1 he hs ho hP hl h)⟩
  | succ d ih =>
    intro k s o p hk hs hf hd ho e hP hl hfp hsp
    have hpM := ws_st hT s o p hs ho e
    obtain ⟨o1, p1, a1, a2, a3, a4, a5, a6, a7⟩ := qc_ex hT hF hpM hfp (by omega)
    obtain ⟨r, hx, hy⟩ := ih (k + 1) p o1 p1 (by omega) hpM hfp (by omega) a1 a3 a4 a5 a6 a7
    refine ⟨r, fun post h => br_f (nI_ge (by omega) (by omega)) ?_, fun ls fw he post h => br_f (nI_ge (by omega) (by omega)) (qc_fb hT hF.1 he hs ho hP hl (ya_use hT ho ?_))⟩
    · rw [ot_ix10]
      refine ⟨vp_in_nI (by omega) (by omega), nm_r (e' := nI p) (by rw [ot_ro sp (by omega), hL.1 s hs o ho, e]; rfl) (qc_bs hT hL hF.1 hpM a1 a4 a5 (nm_r (nI_1 k) (hx post h)))⟩
    · rw [e]
      exact nm_r (nI_1 k) (hy ls fw he post h)
theorem i_vc_step {k : Nat} {u : SX} {v : SY} (I : i_Rel k u v) (hk : k + 5 ≤ 2562) (v1 : Int32) : wpX_step (fun r u' => wpY_step (fun r' v' => r' = r ∧ i_Rel (k + 5) u' v') v v1) u v1 := by
  refine I (fun u v => wpX_step (fun r u' => wpY_step (fun r' v' => r' = r ∧ i_Rel (k + 5) u' v') v v1) u v1) ?_
  intro V D N il mt iv hz ib br c b ne ef g sp im qu tg sg hp pl on tw ca ta ua ns es ha rz ls fw me bk bd rs F
  obtain ⟨hT, hl, hv, hbd⟩ := F
  obtain ⟨⟨hV1, hV⟩, ⟨hD, hD4⟩, hN, hc, hb, hne, hef, hg⟩ := id hT
  have hM : D ^ V ≤ 1024 := gr_M hV hD4
  have h4 : 4 ^ V ≤ 1024 := gr_M4 hV
  have hs0 := ws_b0 hT
  have hes := gr_el (V := V) (s := cd_c D b V) hD hD4
  unfold wpX_step
  refine wv_so hT hl hv (fun il sp ns es iv hz tg sg hp pl hil hL hiv hF => wa_beg hT ?_)
  have F2 : re_F V D N il iv ib c b ne ef g sp tg sg on tw ns es := ⟨hT, fun _ => hL, fun _ => hF, hbd⟩
  have hB := hF.1 _ hs0
  have i1 : vp_in (nI (cd_c D b V)) 1024 := vp_in_nI (by omega) (by omega)
  have i2 : vp_in (nI (gr_e V D (cd_c D b V))) 1024 := vp_in_nI (by omega) (by omega)
  have hy : ∀ post : Int32 → SY → Prop, (∀ ls fw, yc_F V D N c ne ef g ls fw → (1000000 ≤ nI (tg (cd_c D b V)) → post (-3) ((nI V), (nI D), (nI N), rz, (ot_n c), (ot_o ne), (ot_o ef), (ot_n b), (ot_o g), (ot_n ls), (ot_n fw), (ot_n me), (ot_n bk), (ot_n bd), (ot_n rs))) ∧ (¬ 1000000 ≤ nI (tg (cd_c D b V)) → ((v1 < 0 → post (-3) ((nI V), (nI D), (nI N), rz, (ot_n c), (ot_o ne), (ot_o ef), (ot_n b), (ot_o g), (ot_n ls), (ot_n fw), (ot_n me), (ot_n bk), (ot_n bd), (ot_n rs))) ∧ (¬ v1 < 0 → ((v1 < nI (sg (cd_c D b V)) → ∃ n, wY_step_39 post v1 (nI V) (nI D) (nI N) rz (ot_n c) (ot_o ne) (ot_o ef) (ot_n b) (ot_o g) (ot_n ls) (ot_n fw) (ot_n me) (ot_n bk) (ot_n bd) (ot_n rs) n (nI (gr_e V D (cd_c D b V))) 0) ∧ (¬ v1 < nI (sg (cd_c D b V)) → post (-3) ((nI V), (nI D), (nI N), rz, (ot_n c), (ot_o ne), (ot_o ef), (ot_n b), (ot_o g), (ot_n ls), (ot_n fw), (ot_n me), (ot_n bk), (ot_n bd), (ot_n rs)))))))) → wpY_step post ((nI V), (nI D), (nI N), rz, (ot_n c), (ot_o ne), (ot_o ef), (ot_n b), (ot_o g), (ot_n ls), (ot_n fw), (ot_n me), (ot_n bk), (ot_n bd), (ot_n rs)) v1 := fun post h => by
    unfold wpY_step
    refine yc_fc hT (fun ls fw hY => ya_beg hT ?_)
    obtain ⟨e1, e2⟩ := qc_eq hF hY hs0
    rw [ot_r ls (by omega), ot_r fw (by omega), e1, e2]
    obtain ⟨q1, q2⟩ := h ls fw hY
    exact ⟨i2, q1, fun a => ⟨(q2 a).1, fun a2 => ⟨i2, (q2 a).2 a2⟩⟩⟩
  rw [ot_r tg (by omega), ot_r sg (by omega)]
  refine ⟨i1, pk_eq (tg (cd_c D b V)) 1000000 (fun a => ?_) (fun a => br_c (fun a2 => ?_) (fun a2 => ⟨i1, br_c (fun a3 => ?_) (fun a3 => ?_)⟩))⟩
  · exact hy _ (fun ls fw hY => br_t (nI_le (a := 1000000) (by omega) (by omega)) ⟨rfl, re_mk F2⟩)
  · exact hy _ (fun ls fw hY => br_f (nI_ge (b := 1000000) (by omega) (by omega)) (br_t a2 ⟨rfl, re_mk F2⟩))
  · obtain ⟨i, hi, rfl⟩ := nI_of a2
    rw [nI_ltI hi (by omega)] at a3
    obtain ⟨o, p, b1, b2, b3, b4, b5, b6, b7⟩ := qc_ex hT hF hs0 (by omega) (by omega)
    refine qc_bs hT hL hF.1 hs0 b1 b4 b5 ⟨i + 1, ?_⟩
    obtain ⟨r, hx, hyy⟩ := qc_ls (mt := mt) (iv := iv) (hz := hz) (ib := ib) (br := br) (il := il) (im := im) (qu := qu) (hp := hp) (pl := pl) (on := on) (tw := tw) (ca := ca) (ta := ta) (ua := ua) (ha := ha) (rz := rz) (me := me) (bk := bk) (bd := bd) (rs := rs) hT hL hF (show i < 2048 by omega) i 0 (cd_c D b V) o p (by omega) hs0 (by omega) (by omega) b1 b3 b4 b5 b6 b7
    refine hx _ ?_
    refine hy _ (fun ls fw hY => br_f (nI_ge (b := 1000000) (by omega) (by omega)) (br_f a2 (br_t (nI_lt a3 (by omega)) ⟨i + 1, ?_⟩)))
    exact hyy ls fw (fun s hs => qc_eq hF hY hs) _ ⟨rfl, re_mk F2⟩
  · exact hy _ (fun ls fw hY => br_f (nI_ge (b := 1000000) (by omega) (by omega)) (br_f a2 (br_f a3 ⟨rfl, re_mk F2⟩)))
end QC
end
section
section QR
variable {V D N : Nat} {il mt iv hz ib br : Int32} {c b : Nat → Nat} {ne ef g sp : Nat → Option Nat} {im qu tg sg hp pl on tw ca ta ua : Nat → Nat} {ns es ha : Nat → Int32}
variable {rz : Int32} {ls fw me bk bd rs : Nat → Nat}
theorem qr_ok (D : Nat) : wl_ok D none = fun _ => True := by
  funext s
  exact propext ⟨fun _ => trivial, fun _ f e => nomatch e⟩
theorem qr_md {sk : Option Nat} {ok : Nat → Prop} {s0 mt : Nat} (hX : bf_F (D ^ V) N (gr_s V D ne ef) sk ok s0 im qu mt) (hY : bg_F V D N (gr_s V D ne ef) sk ok s0 me) {s : Nat} (hs : s < D ^ V) : decide (me (gr_e V D s) = 1) = decide (im s = 1) := by
  rw [Bool.eq_iff_iff, decide_eq_true_eq, decide_eq_true_eq, hY.2 s hs, hX.2.2.2.2 s hs]
theorem i_vc_reached {k : Nat} {u : SX} {v : SY} (I : i_Rel k u v) (hk : k + 5 ≤ 2562) : wpX_reached (fun r u' => wpY_reached (fun r' v' => r' = r ∧ i_Rel (k + 5) u' v') v) u := by
  refine I (fun u v => wpX_reached (fun r u' => wpY_reached (fun r' v' => r' = r ∧ i_Rel (k + 5) u' v') v) u) ?_
  intro V D N il mt iv hz ib br c b ne ef g sp im qu tg sg hp pl on tw ca ta ua ns es ha rz ls fw me bk bd rs F
  obtain ⟨hT, hl, hv, hbd⟩ := F
  obtain ⟨⟨hV1, hV⟩, ⟨hD, hD4⟩, hN, hc, hb, hne, hef, hg⟩ := id hT
  have h4 : 4 ^ V ≤ 1024 := gr_M4 hV
  have h40 : 0 < 4 ^ V := Nat.pow_pos (by omega)
  unfold wpX_reached
  refine wl_lay hT hl (fun il sp ns es hil hL => wa_beg hT ?_)
  refine ws_sp (fct := none) (sk := none) hT hL.1 (fun f e => nomatch e) (fun o e => nomatch e) (ws_b0 hT) (fun mt im qu hX => ?_)
  unfold wpY_reached
  refine ys_fm (fct := none) (sk := none) hT (fun f e => nomatch e) (fun o e => nomatch e) (fun me hY => ?_)
  have F2 : re_F V D N il iv ib c b ne ef g sp tg sg on tw ns es := ⟨hT, fun _ => hL, hv, hbd⟩
  have hcnt : ct_n (fun t => decide (me t = 1)) (4 ^ V) = mt := by
    have h1 := bg_ct hD hD4 hY (fun _ => true) (fun _ => true) (fun _ _ => rfl)
    have h2 := hX.2.2.2.1 (fun _ => true)
    rw [ct_full] at h2
    rw [h2, ct_ext (q := fun t => decide (me t = 1) && true) (fun t _ => (Bool.and_true _).symm), h1]
    exact ct_ext (fun s hs => by rw [qr_md hX hY hs])
  have key : ∀ n t, t ≤ 4 ^ V → 4 ^ V - t < n → wY_reached_11 (fun r' v' => r' = nI mt ∧ i_Rel (k + 5) ((nI V), (nI D), (nI (D ^ V)), (nI N), il, (nI mt), iv, hz, ib, br, (ot_n c), (ot_o ne), (ot_o ef), (ot_n b), (ot_o g), (ot_n (ot_pw V D)), (ot_o sp), (ot_n im), (ot_n qu), (ot_n tg), (ot_n sg), (ot_n hp), (ot_n pl), (ot_n on), (ot_n tw), ns, es, ha, (ot_n ca), (ot_n ta), (ot_n ua)) v') (nI V) (nI D) (nI N) rz (ot_n c) (ot_o ne) (ot_o ef) (ot_n b) (ot_o g) (ot_n ls) (ot_n fw) (ot_n me) (ot_n bk) (ot_n bd) (ot_n rs) n (nI (ct_n (fun t => decide (me t = 1)) t)) (nI t) := by
    intro n
    induction n with
    | zero => intro t _ a; omega
    | succ n ih =>
      intro t ht hn
      rw [wY_reached_11]
      refine ya_sta hT (pk_le (4 ^ V) t (fun hx => ⟨?_, re_mk F2⟩) (fun hx => ?_))
      · rw [show t = 4 ^ V from by omega, hcnt]
      · have hm := hY.1 t hx
        rw [ot_r me (by omega)]
        refine ⟨vp_in_nI (by omega) (by omega), pk_eq (me t) 0 (fun a => nm_r (nI_1 t) ?_) (fun a => ?_) (ha := by rcases hm with x | x <;> omega)⟩
        · have h1 := ih (t + 1) (by omega) (by omega)
          rw [ct_s, if_neg (by rw [a]; decide), Nat.add_zero] at h1
          exact h1
        · have h1 := ih (t + 1) (by omega) (by omega)
          rw [ct_s, if_pos (by rcases hm with x | x <;> simp [x] at a ⊢)] at h1
          exact nm_r (nI_1 _) (nm_r (nI_1 t) h1)
  exact ⟨4 ^ V + 1, key (4 ^ V + 1) 0 (by omega) (by omega)⟩
theorem i_vc_dead {k : Nat} {u : SX} {v : SY} (I : i_Rel k u v) (hk : k + 5 ≤ 2562) : wpX_dead (fun r u' => wpY_dead (fun r' v' => r' = r ∧ i_Rel (k + 5) u' v') v) u := by
  refine I (fun u v => wpX_dead (fun r u' => wpY_dead (fun r' v' => r' = r ∧ i_Rel (k + 5) u' v') v) u) ?_
  intro V D N il mt iv hz ib br c b ne ef g sp im qu tg sg hp pl on tw ca ta ua ns es ha rz ls fw me bk bd rs F
  obtain ⟨hT, hl, hv, hbd⟩ := F
  obtain ⟨⟨hV1, hV⟩, ⟨hD, hD4⟩, hN, hc, hb, hne, hef, hg⟩ := id hT
  have hM : D ^ V ≤ 1024 := gr_M hV hD4
  have h4 : 4 ^ V ≤ 1024 := gr_M4 hV
  have h40 : 0 < 4 ^ V := Nat.pow_pos (by omega)
  unfold wpX_dead
  refine wv_so hT hl hv (fun il sp ns es iv hz tg sg hp pl hil hL hiv hF => wa_beg hT ?_)
  refine ws_sp (fct := none) (sk := none) hT hL.1 (fun f e => nomatch e) (fun o e => nomatch e) (ws_b0 hT) (fun mt im qu hX => ?_)
  have F2 : re_F V D N il iv ib c b ne ef g sp tg sg on tw ns es := ⟨hT, fun _ => hL, fun _ => hF, hbd⟩
  have hy : wpY_dead (fun r' v' => r' = nI (ct_n (fun j => decide (tg (qu j) = 1000000)) mt) ∧ i_Rel (k + 5) ((nI V), (nI D), (nI (D ^ V)), (nI N), il, (nI mt), iv, hz, ib, br, (ot_n c), (ot_o ne), (ot_o ef), (ot_n b), (ot_o g), (ot_n (ot_pw V D)), (ot_o sp), (ot_n im), (ot_n qu), (ot_n tg), (ot_n sg), (ot_n hp), (ot_n pl), (ot_n on), (ot_n tw), ns, es, ha, (ot_n ca), (ot_n ta), (ot_n ua)) v') ((nI V), (nI D), (nI N), rz, (ot_n c), (ot_o ne), (ot_o ef), (ot_n b), (ot_o g), (ot_n ls), (ot_n fw), (ot_n me), (ot_n bk), (ot_n bd), (ot_n rs)) := by
    unfold wpY_dead
    refine ys_fm (fct := none) (sk := none) hT (fun f e => nomatch e) (fun o e => nomatch e) (fun me hY => yc_fc hT (fun ls fw hYc => ?_))
    have hcnt : ct_n (fun t => decide (me t = 1) && decide (ls t = 1000000)) (4 ^ V) = ct_n (fun j => decide (tg (qu j) = 1000000)) mt := by
      have h1 := bg_ct hD hD4 hY (fun t => decide (ls t = 1000000)) (fun s => decide (tg s = 1000000)) (fun s hs => by rw [(qc_eq hF hYc hs).1])
      have h2 := hX.2.2.2.1 (fun s => decide (tg s = 1000000))
      rw [h1, h2]
      exact ct_ext (fun s hs => by rw [qr_md hX hY hs])
    have key : ∀ n t, t ≤ 4 ^ V → 4 ^ V - t < n → wY_dead_15 (fun r' v' => r' = nI (ct_n (fun j => decide (tg (qu j) = 1000000)) mt) ∧ i_Rel (k + 5) ((nI V), (nI D), (nI (D ^ V)), (nI N), il, (nI mt), iv, hz, ib, br, (ot_n c), (ot_o ne), (ot_o ef), (ot_n b), (ot_o g), (ot_n (ot_pw V D)), (ot_o sp), (ot_n im), (ot_n qu), (ot_n tg), (ot_n sg), (ot_n hp), (ot_n pl), (ot_n on), (ot_n tw), ns, es, ha, (ot_n ca), (ot_n ta), (ot_n ua)) v') (nI V) (nI D) (nI N) rz (ot_n c) (ot_o ne) (ot_o ef) (ot_n b) (ot_o g) (ot_n ls) (ot_n fw) (ot_n me) (ot_n bk) (ot_n bd) (ot_n rs) n (nI (ct_n (fun t => decide (me t = 1) && decide (ls t = 1000000)) t)) (nI t) := by
      intro n
      induction n with
      | zero => intro t _ a; omega
      | succ n ih =>
        intro t ht hn
        rw [wY_dead_15]
        refine ya_sta hT (pk_le (4 ^ V) t (fun hx => ⟨?_, re_mk F2⟩) (fun hx => ?_))
        · rw [show t = 4 ^ V from by omega, hcnt]
        · have hm := hY.1 t hx
          have h1 := ih (t + 1) (by omega) (by omega)
          rw [ot_r me (by omega), ot_r ls (by omega)]
          refine ⟨vp_in_nI (by omega) (by omega), pk_eq (me t) 0 (fun a => nm_r (nI_1 t) ?_) (fun a => ?_) (ha := by rcases hm with x | x <;> omega)⟩
          · rw [ct_s, if_neg (by rw [a]; simp), Nat.add_zero] at h1
            exact h1
          · rcases hm with x | ⟨x, s, hs, e⟩
            · omega
            · have hB := hYc.1 s hs
              rw [← e] at hB
              refine ⟨vp_in_nI (by omega) (by omega), pk_lt (ls t) 1000000 (fun a2 => nm_r (nI_1 t) ?_) (fun a2 => nm_r (nI_1 _) (nm_r (nI_1 t) ?_))⟩
              · rw [ct_s, if_neg (by simp; omega), Nat.add_zero] at h1
                exact h1
              · rw [ct_s, if_pos (by simp; omega)] at h1
                exact h1
    exact ⟨4 ^ V + 1, key (4 ^ V + 1) 0 (by omega) (by omega)⟩
  have key : ∀ (post : Int32 → SX → Prop), post (nI (ct_n (fun j => decide (tg (qu j) = 1000000)) mt)) ((nI V), (nI D), (nI (D ^ V)), (nI N), il, (nI mt), iv, hz, ib, br, (ot_n c), (ot_o ne), (ot_o ef), (ot_n b), (ot_o g), (ot_n (ot_pw V D)), (ot_o sp), (ot_n im), (ot_n qu), (ot_n tg), (ot_n sg), (ot_n hp), (ot_n pl), (ot_n on), (ot_n tw), ns, es, ha, (ot_n ca), (ot_n ta), (ot_n ua)) → ∀ n i, i ≤ mt → mt - i < n → wX_dead_18 post (nI V) (nI D) (nI (D ^ V)) (nI N) il (nI mt) iv hz ib br (ot_n c) (ot_o ne) (ot_o ef) (ot_n b) (ot_o g) (ot_n (ot_pw V D)) (ot_o sp) (ot_n im) (ot_n qu) (ot_n tg) (ot_n sg) (ot_n hp) (ot_n pl) (ot_n on) (ot_n tw) ns es ha (ot_n ca) (ot_n ta) (ot_n ua) n (nI (ct_n (fun j => decide (tg (qu j) = 1000000)) i)) (nI i) := by
    intro post hpost n
    induction n with
    | zero => intro i _ a; omega
    | succ n ih =>
      intro i hi hn
      have hmM := hX.1
      refine pk_le mt i (fun hx => ?_) (fun hx => ?_)
      · rw [show i = mt from by omega]; exact hpost
      · have hq := hX.2.1 i hx
        have hB := hF.1 _ hq.1
        have h1 := ih (i + 1) (by omega) (by omega)
        rw [ot_r qu (by omega), ot_r tg (by omega)]
        refine ⟨vp_in_nI (by omega) (by omega), vp_in_nI (by omega) (by omega), pk_eq (tg (qu i)) 1000000 (fun a => nm_r (nI_1 _) (nm_r (nI_1 i) ?_)) (fun a => nm_r (nI_1 i) ?_)⟩
        · rw [ct_s, if_pos (by simp; omega)] at h1; exact h1
        · rw [ct_s, if_neg (by simp; omega), Nat.add_zero] at h1; exact h1
  exact ⟨mt + 1, key _ hy (mt + 1) 0 (by omega) (by omega)⟩
end QR
end
section
section QA
variable {V D N : Nat} {il mt iv hz ib br : Int32} {c b : Nat → Nat} {ne ef g sp : Nat → Option Nat} {im qu tg sg hp pl on tw ca ta ua : Nat → Nat} {ns es ha : Nat → Int32}
variable {rz : Int32} {ls fw me bk bd rs : Nat → Nat}
def qa_E (Q : Nat → Prop) (qu : Nat → Nat) (i : Nat) : Prop := ∃ j, j < i ∧ Q (qu j)
def qa_R (M N : Nat) (stp : Nat → Nat → Option Nat) (s0 : Nat) (Q : Nat → Prop) : Prop := ∃ s, s < M ∧ rc_R N stp none (wl_ok 0 none) s0 s ∧ Q s
theorem qa_ok (D : Nat) : wl_ok D none = wl_ok 0 none := by rw [qr_ok, qr_ok]
theorem qa_x {post : Int32 → SX → Prop} {s0 m v x w y : Nat} (hT : gr_T V D N c b ne ef g) (hX : bf_F (D ^ V) N (gr_s V D ne ef) none (wl_ok D none) s0 im qu m) (hv : v < V) (hx : x < D) (hw : w < V) (hy : y < D)
    (h : post (ot_b (¬ qa_R (D ^ V) N (gr_s V D ne ef) s0 (fun s => cd_d D s v = x ∧ cd_d D s w = y))) ((nI V), (nI D), (nI (D ^ V)), (nI N), il, (nI m), iv, hz, ib, br, (ot_n c), (ot_o ne), (ot_o ef), (ot_n b), (ot_o g), (ot_n (ot_pw V D)), (ot_o sp), (ot_n im), (ot_n qu), (ot_n tg), (ot_n sg), (ot_n hp), (ot_n pl), (ot_n on), (ot_n tw), ns, es, ha, (ot_n ca), (ot_n ta), (ot_n ua))) : ∃ n, wX_apart_55 post (nI v) (nI x) (nI w) (nI y) (nI V) (nI D) (nI (D ^ V)) (nI N) il (nI m) iv hz ib br (ot_n c) (ot_o ne) (ot_o ef) (ot_n b) (ot_o g) (ot_n (ot_pw V D)) (ot_o sp) (ot_n im) (ot_n qu) (ot_n tg) (ot_n sg) (ot_n hp) (ot_n pl) (ot_n on) (ot_n tw) ns es ha (ot_n ca) (ot_n ta) (ot_n ua) n 0 0 := by
  obtain ⟨⟨hV1, hV⟩, ⟨hD, hD4⟩, hN, hc, hb, hne, hef, hg⟩ := id hT
  have hM : D ^ V ≤ 1024 := gr_M hV hD4
  obtain ⟨hmM, hq, hq2, _, hr⟩ := hX
  have key : ∀ n i (q : Prop), i ≤ m → m - i < n → (q ↔ qa_E (fun s => cd_d D s v = x ∧ cd_d D s w = y) qu i) → wX_apart_55 post (nI v) (nI x) (nI w) (nI y) (nI V) (nI D) (nI (D ^ V)) (nI N) il (nI m) iv hz ib br (ot_n c) (ot_o ne) (ot_o ef) (ot_n b) (ot_o g) (ot_n (ot_pw V D)) (ot_o sp) (ot_n im) (ot_n qu) (ot_n tg) (ot_n sg) (ot_n hp) (ot_n pl) (ot_n on) (ot_n tw) ns es ha (ot_n ca) (ot_n ta) (ot_n ua) n (ot_b q) (nI i) := by
    intro n
    induction n with
    | zero => intro i q _ a; omega
    | succ n ih =>
      intro i q hi hn hqq
      have k1 : i < m → ∀ q2 : Prop, (q2 ↔ qa_E (fun s => cd_d D s v = x ∧ cd_d D s w = y) qu (i + 1)) → ∀ z, z = ot_b q2 → ∀ x6, x6 = nI i + 1 → wX_apart_55 post (nI v) (nI x) (nI w) (nI y) (nI V) (nI D) (nI (D ^ V)) (nI N) il (nI m) iv hz ib br (ot_n c) (ot_o ne) (ot_o ef) (ot_n b) (ot_o g) (ot_n (ot_pw V D)) (ot_o sp) (ot_n im) (ot_n qu) (ot_n tg) (ot_n sg) (ot_n hp) (ot_n pl) (ot_n on) (ot_n tw) ns es ha (ot_n ca) (ot_n ta) (ot_n ua) n z x6 := fun hx2 q2 h2 z e1 x6 e2 => by
        rw [e1, e2, nI_1]
        exact ih (i + 1) q2 hx2 (by omega) h2
      refine pk_le m i (fun hx2 => ?_) (fun hx2 => ?_)
      · have e : q ↔ qa_R (D ^ V) N (gr_s V D ne ef) s0 (fun s => cd_d D s v = x ∧ cd_d D s w = y) := by
          rw [hqq]
          constructor
          · intro ⟨j, hj, a⟩
            have h1 := hq j (by omega)
            refine ⟨qu j, h1.1, ?_, a⟩
            rw [← qa_ok D]; exact (hr _ h1.1).mp h1.2
          · intro ⟨t, ht, a1, a2⟩
            rw [← qa_ok D] at a1
            obtain ⟨j, hj, e2⟩ := hq2 t ht ((hr t ht).mpr a1)
            exact ⟨j, by omega, by rw [e2]; exact a2⟩
        refine ot_bb q (fun a => ?_) (fun a => ?_)
        · rw [ot_bt (fun b' => a (e.mpr b'))] at h; exact h
        · rw [ot_bf (fun b' => b' (e.mp a))] at h; exact h
      · refine ot_bb q (fun hq0 => ?_) (fun hq1 => ?_)
        · have hqi := (hq i hx2).1
          have hno : ¬ (cd_d D (qu i) v = x ∧ cd_d D (qu i) w = y) → ∀ x6, x6 = nI i + 1 → wX_apart_55 post (nI v) (nI x) (nI w) (nI y) (nI V) (nI D) (nI (D ^ V)) (nI N) il (nI m) iv hz ib br (ot_n c) (ot_o ne) (ot_o ef) (ot_n b) (ot_o g) (ot_n (ot_pw V D)) (ot_o sp) (ot_n im) (ot_n qu) (ot_n tg) (ot_n sg) (ot_n hp) (ot_n pl) (ot_n on) (ot_n tw) ns es ha (ot_n ca) (ot_n ta) (ot_n ua) n 0 x6 := fun hn2 => k1 hx2 False ⟨fun h => h.elim, fun ⟨j, hj, a2⟩ => by
            by_cases e : j = i
            · rw [e] at a2; exact hn2 a2
            · exact hq0 (hqq.mpr ⟨j, by omega, a2⟩)⟩ 0 (ot_bf id).symm
          have hd1 := cd_dl (B := D) (by omega) (qu i) v
          have hd2 := cd_dl (B := D) (by omega) (qu i) w
          rw [ot_r qu (by omega)]
          refine ⟨vp_in_nI (by omega) (by omega), wa_dg hT hqi hv (pk_eq (cd_d D (qu i) v) x (fun a => ⟨vp_in_nI (by omega) (by omega), wa_dg hT hqi hw (pk_eq (cd_d D (qu i) w) y (fun a2 => ?_) (fun a2 => hno (fun a3 => a2 a3.2)))⟩) (fun a => hno (fun a3 => a a3.1)))⟩
          exact k1 hx2 True ⟨fun _ => ⟨i, by omega, a, a2⟩, fun _ => trivial⟩ 1 (ot_bt trivial).symm
        · refine k1 hx2 True ⟨fun _ => ?_, fun _ => trivial⟩ 1 (ot_bt trivial).symm
          obtain ⟨j, hj, a⟩ := hqq.mp hq1
          exact ⟨j, by omega, a⟩
  have h1 := key (m + 1) 0 False (by omega) (by omega) ⟨fun h => h.elim, fun ⟨j, hj, _⟩ => by omega⟩
  rw [ot_bf id] at h1
  exact ⟨m + 1, h1⟩
theorem qa_y {post : Int32 → SY → Prop} {s0 v x w y : Nat} (hT : gr_T V D N c b ne ef g) (hY : bg_F V D N (gr_s V D ne ef) none (wl_ok D none) s0 me) (hv : v < V) (hx : x < D) (hw : w < V) (hy : y < D)
    (h : post (ot_b (¬ qa_R (D ^ V) N (gr_s V D ne ef) s0 (fun s => cd_d D s v = x ∧ cd_d D s w = y))) ((nI V), (nI D), (nI N), rz, (ot_n c), (ot_o ne), (ot_o ef), (ot_n b), (ot_o g), (ot_n ls), (ot_n fw), (ot_n me), (ot_n bk), (ot_n bd), (ot_n rs))) : ∃ n, wY_apart_45 post (nI v) (nI x) (nI w) (nI y) (nI V) (nI D) (nI N) rz (ot_n c) (ot_o ne) (ot_o ef) (ot_n b) (ot_o g) (ot_n ls) (ot_n fw) (ot_n me) (ot_n bk) (ot_n bd) (ot_n rs) n 0 := by
  obtain ⟨⟨hV1, hV⟩, ⟨hD, hD4⟩, hN, hc, hb, hne, hef, hg⟩ := id hT
  have h4 : 4 ^ V ≤ 1024 := gr_M4 hV
  have h40 : 0 < 4 ^ V := Nat.pow_pos (by omega)
  have key : ∀ n t, t ≤ 4 ^ V → 4 ^ V - t < n → (∀ s, s < D ^ V → gr_e V D s < t → rc_R N (gr_s V D ne ef) none (wl_ok D none) s0 s → ¬ (cd_d D s v = x ∧ cd_d D s w = y)) → wY_apart_45 post (nI v) (nI x) (nI w) (nI y) (nI V) (nI D) (nI N) rz (ot_n c) (ot_o ne) (ot_o ef) (ot_n b) (ot_o g) (ot_n ls) (ot_n fw) (ot_n me) (ot_n bk) (ot_n bd) (ot_n rs) n (nI t) := by
    intro n
    induction n with
    | zero => intro t _ a; omega
    | succ n ih =>
      intro t ht hn hm
      rw [wY_apart_45]
      refine ya_sta hT (pk_le (4 ^ V) t (fun hx2 => ?_) (fun hx2 => ?_))
      · rw [ot_bt (fun ⟨s, a1, a2, a3⟩ => hm s a1 (by have := gr_el (V := V) (s := s) hD hD4; omega) (by rw [qa_ok D]; exact a2) a3)] at h
        exact h
      · have hgo : (∀ s, s < D ^ V → gr_e V D s = t → rc_R N (gr_s V D ne ef) none (wl_ok D none) s0 s → ¬ (cd_d D s v = x ∧ cd_d D s w = y)) → ∀ x5, x5 = nI t + 1 → wY_apart_45 post (nI v) (nI x) (nI w) (nI y) (nI V) (nI D) (nI N) rz (ot_n c) (ot_o ne) (ot_o ef) (ot_n b) (ot_o g) (ot_n ls) (ot_n fw) (ot_n me) (ot_n bk) (ot_n bd) (ot_n rs) n x5 := fun hk x5 e => by
          rw [e, nI_1]
          refine ih (t + 1) (by omega) (by omega) (fun s a1 a2 => ?_)
          by_cases e2 : gr_e V D s = t
          · exact hk s a1 e2
          · exact hm s a1 (by omega)
        rw [ot_r _ (by omega)]
        refine ⟨vp_in_nI (by omega) (by omega), pk_eq (me t) 0 (fun k0 => hgo (fun s a1 a2 a3 => ?_)) (fun k1 => ?_) (ha := by rcases hY.1 t hx2 with a | a <;> omega)⟩
        · have := (hY.2 s a1).mpr a3
          rw [a2] at this; omega
        · rcases hY.1 t hx2 with a | ⟨a, s, b1, b2⟩
          · omega
          · have hr := (hY.2 s b1).mp (by rw [← b2]; exact a)
            have hno : ¬ (cd_d D s v = x ∧ cd_d D s w = y) → ∀ x5, x5 = nI t + 1 → wY_apart_45 post (nI v) (nI x) (nI w) (nI y) (nI V) (nI D) (nI N) rz (ot_n c) (ot_o ne) (ot_o ef) (ot_n b) (ot_o g) (ot_n ls) (ot_n fw) (ot_n me) (ot_n bk) (ot_n bd) (ot_n rs) n x5 := fun hn2 => hgo (fun s2 a1 a2 _ => by rw [gr_ei hD hD4 a1 b1 (a2.trans b2)]; exact hn2)
            have hd1 := cd_dl (B := D) (by omega) s v
            have hd2 := cd_dl (B := D) (by omega) s w
            have e1 : cd_d 4 t v = cd_d D s v := by rw [b2, gr_ed hD hD4 hv]
            have e2 : cd_d 4 t w = cd_d D s w := by rw [b2, gr_ed hD hD4 hw]
            refine ya_vi (by omega) (by omega) ?_
            rw [e1]
            refine pk_eq (cd_d D s v) x (fun a1 => ya_vi (by omega) (by omega) ?_) (fun a1 => hno (fun a3 => a1 a3.1))
            rw [e2]
            refine pk_eq (cd_d D s w) y (fun a2 => ?_) (fun a2 => hno (fun a3 => a2 a3.2))
            rw [ot_bf (fun b' => b' ⟨s, b1, by rw [← qa_ok D]; exact hr, a1, a2⟩)] at h
            exact h
  exact ⟨4 ^ V + 1, key (4 ^ V + 1) 0 (by omega) (by omega) (fun s _ h => by omega)⟩
theorem i_vc_apart {k : Nat} {u : SX} {v : SY} (I : i_Rel k u v) (hk : k + 5 ≤ 2562) (v1 : Int32) (v2 : Int32) (v3 : Int32) (v4 : Int32) : wpX_apart (fun r u' => wpY_apart (fun r' v' => r' = r ∧ i_Rel (k + 5) u' v') v v1 v2 v3 v4) u v1 v2 v3 v4 := by
  refine I (fun u v => wpX_apart (fun r u' => wpY_apart (fun r' v' => r' = r ∧ i_Rel (k + 5) u' v') v v1 v2 v3 v4) u v1 v2 v3 v4) ?_
  intro V D N il mt iv hz ib br c b ne ef g sp im qu tg sg hp pl on tw ca ta ua ns es ha rz ls fw me bk bd rs F
  obtain ⟨hT, hl, hv, hbd⟩ := id F
  obtain ⟨⟨hV1, hV⟩, ⟨hD, hD4⟩, hN, hc, hb, hne, hef, hg⟩ := id hT
  unfold wpX_apart wpY_apart
  rcases se_ix v1 (n := V) (by omega) with h1 | ⟨v, hv1, rfl⟩
  · exact se_f h1 (br_f ot_10 (se_yf h1 (br_t rfl ⟨rfl, re_mk F⟩)))
  refine se_t hv1 (by omega) (br_t rfl ?_)
  rcases se_ix v3 (n := V) (by omega) with h3 | ⟨w, hw1, rfl⟩
  · exact se_f h3 (br_f ot_10 (se_yt hv1 (by omega) (br_f ot_10 (se_yf h3 (br_t rfl ⟨rfl, re_mk F⟩)))))
  refine se_t hw1 (by omega) (br_t rfl ?_)
  rcases se_ix v2 (n := D) (by omega) with h2 | ⟨x, hx1, rfl⟩
  · exact se_f h2 (br_f ot_10 (se_yt hv1 (by omega) (br_f ot_10 (se_yt hw1 (by omega) (br_f ot_10 (se_yf h2 (br_t rfl ⟨rfl, re_mk F⟩)))))))
  refine se_t hx1 (by omega) (br_t rfl ?_)
  rcases se_ix v4 (n := D) (by omega) with h5 | ⟨y, hy1, rfl⟩
  · exact se_f h5 (br_f ot_10 (se_yt hv1 (by omega) (br_f ot_10 (se_yt hw1 (by omega) (br_f ot_10 (se_yt hx1 (by omega) (br_f ot_10 (se_yf h5 (br_t rfl ⟨rfl, re_mk F⟩)))))))))
  refine se_t hy1 (by omega) (br_t rfl ?_)
  refine wl_lay hT hl (fun il sp ns es hil hL => wa_beg hT ?_)
  refine ws_sp (fct := none) (sk := none) hT hL.1 (fun f e => nomatch e) (fun o e => nomatch e) (ws_b0 hT) (fun mt im qu hX => ?_)
  have F2 : re_F V D N il iv ib c b ne ef g sp tg sg on tw ns es := ⟨hT, fun _ => hL, hv, hbd⟩
  refine qa_x hT hX hv1 hx1 hw1 hy1 ?_
  refine se_yt hv1 (by omega) (br_f ot_10 (se_yt hw1 (by omega) (br_f ot_10 (se_yt hx1 (by omega) (br_f ot_10 (se_yt hy1 (by omega) (br_f ot_10 ?_)))))))
  refine ys_fm (fct := none) (sk := none) hT (fun f e => nomatch e) (fun o e => nomatch e) (fun me hY => qa_y hT hY hv1 hx1 hw1 hy1 ⟨rfl, re_mk F2⟩)
/-- a plan there is: cost says so, and so does what is reached -/
theorem qa_pl (hT : gr_T V D N c b ne ef g) (hF : wv_F V D N c ne ef g tg sg) : qc_a (tg (cd_c D b V)) (tg (cd_c D b V)) = -3 ↔ ¬ ∃ t, t < D ^ V ∧ rc_R N (gr_s V D ne ef) none (wl_ok D none) (cd_c D b V) t ∧ gr_g V D g t := by
  obtain ⟨⟨hV1, hV⟩, ⟨hD, hD4⟩, hN, hc, hb, hne, hef, hg⟩ := id hT
  have hM : D ^ V ≤ 1024 := gr_M hV hD4
  have hs0 := ws_b0 hT
  have h := rc_fin hM (ws_st hT) hc hF.2.1 hF.2.2 hs0
  have hB := hF.1 _ hs0
  rw [qr_ok, ← h]
  have hK : wh_K tg sg (cd_c D b V) = tg (cd_c D b V) * 2048 + sg (cd_c D b V) := rfl
  by_cases a : tg (cd_c D b V) = 1000000
  · rw [qc_a, if_pos a]
    exact ⟨fun _ => by omega, fun _ => rfl⟩
  · rw [qc_a, if_neg a]
    refine ⟨fun e => ?_, fun b' => by omega⟩
    have h1 := nI_pos (n := tg (cd_c D b V)) (by omega)
    rw [e] at h1
    exact absurd (show (-3 : Int32) < 0 by decide) h1
theorem i_vc_needed {k : Nat} {u : SX} {v : SY} (I : i_Rel k u v) (hk : k + 5 ≤ 2562) (v1 : Int32) : wpX_needed (fun r u' => wpY_needed (fun r' v' => r' = r ∧ i_Rel (k + 5) u' v') v v1) u v1 := by
  refine I (fun u v => wpX_needed (fun r u' => wpY_needed (fun r' v' => r' = r ∧ i_Rel (k + 5) u' v') v v1) u v1) ?_
  intro V D N il mt iv hz ib br c b ne ef g sp im qu tg sg hp pl on tw ca ta ua ns es ha rz ls fw me bk bd rs F
  have hT := F.1
  obtain ⟨⟨hV1, hV⟩, ⟨hD, hD4⟩, hN, hc, hb, hne, hef, hg⟩ := id hT
  unfold wpX_needed
  rcases se_ix v1 (n := N) (by omega) with h1 | ⟨o, ho, rfl⟩
  · exact se_f h1 (br_f ot_10 (se_yf h1 (br_t rfl ⟨rfl, re_mk F⟩)))
  refine se_t ho (by omega) (br_t rfl ?_)
  refine qc_x F (fun il sp ns es iv hz tg sg hp pl hil hL F2 hF => ?_)
  have hpl := qa_pl hT hF
  have hyn : ∀ (post : Int32 → SY → Prop), (∀ me, bg_F V D N (gr_s V D ne ef) none (wl_ok D none) (cd_c D b V) me → wpY_meetsGoal (fun r_34 => ((r_34 = 0 → post 0 ((nI V), (nI D), (nI N), rz, (ot_n c), (ot_o ne), (ot_o ef), (ot_n b), (ot_o g), (ot_n ls), (ot_n fw), (ot_n me), (ot_n bk), (ot_n bd), (ot_n rs))) ∧ (¬ r_34 = 0 → wpY_findMet (fun u => match u with | (f_variables, f_values, f_operators, f_restSize, a_costs, a_needs, a_effects, a_begins, a_goals, a_least, a_fewest, a_met, a_back, a_bounds, a_rest) => wpY_meetsGoal (fun r_67 => ((r_67 = 0 → post 1 (f_variables, f_values, f_operators, f_restSize, a_costs, a_needs, a_effects, a_begins, a_goals, a_least, a_fewest, a_met, a_back, a_bounds, a_rest)) ∧ (¬ r_67 = 0 → post 0 (f_variables, f_values, f_operators, f_restSize, a_costs, a_needs, a_effects, a_begins, a_goals, a_least, a_fewest, a_met, a_back, a_bounds, a_rest)))) (f_variables, f_values, f_operators, f_restSize, a_costs, a_needs, a_effects, a_begins, a_goals, a_least, a_fewest, a_met, a_back, a_bounds, a_rest)) ((nI V), (nI D), (nI N), rz, (ot_n c), (ot_o ne), (ot_o ef), (ot_n b), (ot_o g), (ot_n ls), (ot_n fw), (ot_n me), (ot_n bk), (ot_n bd), (ot_n rs)) (nI o) (-1) 0))) ((nI V), (nI D), (nI N), rz, (ot_n c), (ot_o ne), (ot_o ef), (ot_n b), (ot_o g), (ot_n ls), (ot_n fw), (ot_n me), (ot_n bk), (ot_n bd), (ot_n rs))) → wpY_needed post ((nI V), (nI D), (nI N), rz, (ot_n c), (ot_o ne), (ot_o ef), (ot_n b), (ot_o g), (ot_n ls), (ot_n fw), (ot_n me), (ot_n bk), (ot_n bd), (ot_n rs)) (nI o) := fun post h => by
    unfold wpY_needed
    exact se_yt ho (by omega) (br_f ot_10 (ys_fm (fct := none) (sk := none) hT (fun f e => nomatch e) (fun o e => nomatch e) h))
  refine br_c (fun e => br_t rfl ?_) (fun e => br_f ot_10 ?_)
  · have hno := hpl.mp e
    refine hyn _ (fun me hY => ys_mg hT hY ?_)
    rw [ot_bf hno]
    exact br_t rfl ⟨rfl, re_mk F2⟩
  · have hyes := Classical.not_not.mp (fun h => e (hpl.mpr h))
    refine wa_beg hT (ws_sp (fct := none) (sk := some o) hT hL.1 (fun f e => nomatch e) (fun o2 e2 => by rw [← Option.some.inj e2]; omega) (ws_b0 hT) (fun mt im qu hX => ws_mg hT hX ?_))
    have hy2 : ∀ r, (ot_b (∃ t, t < D ^ V ∧ rc_R N (gr_s V D ne ef) (some o) (wl_ok D none) (cd_c D b V) t ∧ gr_g V D g t) = 0 → r = 1) → (¬ ot_b (∃ t, t < D ^ V ∧ rc_R N (gr_s V D ne ef) (some o) (wl_ok D none) (cd_c D b V) t ∧ gr_g V D g t) = 0 → r = 0) → wpY_needed (fun r' v' => r' = r ∧ i_Rel (k + 5) ((nI V), (nI D), (nI (D ^ V)), (nI N), il, (nI mt), iv, hz, ib, br, (ot_n c), (ot_o ne), (ot_o ef), (ot_n b), (ot_o g), (ot_n (ot_pw V D)), (ot_o sp), (ot_n im), (ot_n qu), (ot_n tg), (ot_n sg), (ot_n hp), (ot_n pl), (ot_n on), (ot_n tw), ns, es, ha, (ot_n ca), (ot_n ta), (ot_n ua)) v') ((nI V), (nI D), (nI N), rz, (ot_n c), (ot_o ne), (ot_o ef), (ot_n b), (ot_o g), (ot_n ls), (ot_n fw), (ot_n me), (ot_n bk), (ot_n bd), (ot_n rs)) (nI o) := fun r hr1 hr0 => by
      refine hyn _ (fun me hY => ys_mg hT hY ?_)
      rw [ot_bt hyes]
      refine br_f ot_10 (ys_fm (fct := none) (sk := some o) hT (fun f e => nomatch e) (fun o2 e2 => by rw [← Option.some.inj e2]; omega) (fun me2 hY2 => ys_mg hT hY2 ?_))
      exact br_c (fun a => ⟨(hr1 a).symm, re_mk F2⟩) (fun a => ⟨(hr0 a).symm, re_mk F2⟩)
    exact br_c (fun a => hy2 1 (fun _ => rfl) (fun a2 => absurd a a2)) (fun a => hy2 0 (fun a2 => absurd a2 a) (fun _ => rfl))
theorem i_vc_passes {k : Nat} {u : SX} {v : SY} (I : i_Rel k u v) (hk : k + 5 ≤ 2562) (v1 : Int32) (v2 : Int32) : wpX_passes (fun r u' => wpY_passes (fun r' v' => r' = r ∧ i_Rel (k + 5) u' v') v v1 v2) u v1 v2 := by
  refine I (fun u v => wpX_passes (fun r u' => wpY_passes (fun r' v' => r' = r ∧ i_Rel (k + 5) u' v') v v1 v2) u v1 v2) ?_
  intro V D N il mt iv hz ib br c b ne ef g sp im qu tg sg hp pl on tw ca ta ua ns es ha rz ls fw me bk bd rs F
  have hT := F.1
  obtain ⟨⟨hV1, hV⟩, ⟨hD, hD4⟩, hN, hc, hb, hne, hef, hg⟩ := id hT
  unfold wpX_passes
  rcases se_ix v1 (n := V) (by omega) with h1 | ⟨v, hv, rfl⟩
  · exact se_f h1 (br_f ot_10 (se_yf h1 (br_t rfl ⟨rfl, re_mk F⟩)))
  refine se_t hv (by omega) (br_t rfl ?_)
  rcases se_ix v2 (n := D) (by omega) with h2 | ⟨x, hx, rfl⟩
  · exact se_f h2 (br_f ot_10 (se_yt hv (by omega) (br_f ot_10 (se_yf h2 (br_t rfl ⟨rfl, re_mk F⟩)))))
  refine se_t hx (by omega) (br_t rfl ?_)
  have ed : (4 * v + x) / 4 = v := by omega
  have em : (4 * v + x) % 4 = x := by omega
  refine qc_x F (fun il sp ns es iv hz tg sg hp pl hil hL F2 hF => ?_)
  have hpl := qa_pl hT hF
  have hyn : ∀ (post : Int32 → SY → Prop), (∀ me, bg_F V D N (gr_s V D ne ef) none (wl_ok D none) (cd_c D b V) me → wpY_meetsGoal (fun r_34 => ((r_34 = 0 → post 0 ((nI V), (nI D), (nI N), rz, (ot_n c), (ot_o ne), (ot_o ef), (ot_n b), (ot_o g), (ot_n ls), (ot_n fw), (ot_n me), (ot_n bk), (ot_n bd), (ot_n rs))) ∧ (¬ r_34 = 0 → wpY_findMet (fun u => match u with | (f_variables, f_values, f_operators, f_restSize, a_costs, a_needs, a_effects, a_begins, a_goals, a_least, a_fewest, a_met, a_back, a_bounds, a_rest) => wpY_meetsGoal (fun r_67 => ((r_67 = 0 → post 1 (f_variables, f_values, f_operators, f_restSize, a_costs, a_needs, a_effects, a_begins, a_goals, a_least, a_fewest, a_met, a_back, a_bounds, a_rest)) ∧ (¬ r_67 = 0 → post 0 (f_variables, f_values, f_operators, f_restSize, a_costs, a_needs, a_effects, a_begins, a_goals, a_least, a_fewest, a_met, a_back, a_bounds, a_rest)))) (f_variables, f_values, f_operators, f_restSize, a_costs, a_needs, a_effects, a_begins, a_goals, a_least, a_fewest, a_met, a_back, a_bounds, a_rest)) ((nI V), (nI D), (nI N), rz, (ot_n c), (ot_o ne), (ot_o ef), (ot_n b), (ot_o g), (ot_n ls), (ot_n fw), (ot_n me), (ot_n bk), (ot_n bd), (ot_n rs)) (-1) (nI v) (nI x)))) ((nI V), (nI D), (nI N), rz, (ot_n c), (ot_o ne), (ot_o ef), (ot_n b), (ot_o g), (ot_n ls), (ot_n fw), (ot_n me), (ot_n bk), (ot_n bd), (ot_n rs))) → wpY_passes post ((nI V), (nI D), (nI N), rz, (ot_n c), (ot_o ne), (ot_o ef), (ot_n b), (ot_o g), (ot_n ls), (ot_n fw), (ot_n me), (ot_n bk), (ot_n bd), (ot_n rs)) (nI v) (nI x) := fun post h => by
    unfold wpY_passes
    exact se_yt hv (by omega) (br_f ot_10 (se_yt hx (by omega) (br_f ot_10 (ys_fm (fct := none) (sk := none) hT (fun f e => nomatch e) (fun o e => nomatch e) h))))
  refine br_c (fun e => br_t rfl ?_) (fun e => br_f ot_10 ?_)
  · have hno := hpl.mp e
    refine hyn _ (fun me hY => ys_mg hT hY ?_)
    rw [ot_bf hno]
    exact br_t rfl ⟨rfl, re_mk F2⟩
  · have hyes := Classical.not_not.mp (fun h => e (hpl.mpr h))
    rw [ot_ix4]
    refine wa_beg hT (ws_sp (fct := some (4 * v + x)) (sk := none) hT hL.1 (fun f e2 => by rw [← Option.some.inj e2]; omega) (fun o e => nomatch e) (ws_b0 hT) (fun mt im qu hX => ws_mg hT hX ?_))
    have hy2 : ∀ r, (ot_b (∃ t, t < D ^ V ∧ rc_R N (gr_s V D ne ef) none (wl_ok D (some (4 * v + x))) (cd_c D b V) t ∧ gr_g V D g t) = 0 → r = 1) → (¬ ot_b (∃ t, t < D ^ V ∧ rc_R N (gr_s V D ne ef) none (wl_ok D (some (4 * v + x))) (cd_c D b V) t ∧ gr_g V D g t) = 0 → r = 0) → wpY_passes (fun r' v' => r' = r ∧ i_Rel (k + 5) ((nI V), (nI D), (nI (D ^ V)), (nI N), il, (nI mt), iv, hz, ib, br, (ot_n c), (ot_o ne), (ot_o ef), (ot_n b), (ot_o g), (ot_n (ot_pw V D)), (ot_o sp), (ot_n im), (ot_n qu), (ot_n tg), (ot_n sg), (ot_n hp), (ot_n pl), (ot_n on), (ot_n tw), ns, es, ha, (ot_n ca), (ot_n ta), (ot_n ua)) v') ((nI V), (nI D), (nI N), rz, (ot_n c), (ot_o ne), (ot_o ef), (ot_n b), (ot_o g), (ot_n ls), (ot_n fw), (ot_n me), (ot_n bk), (ot_n bd), (ot_n rs)) (nI v) (nI x) := fun r hr1 hr0 => by
      refine hyn _ (fun me hY => ys_mg hT hY ?_)
      rw [ot_bt hyes]
      have hfm := fun post h => ys_fm (post := post) (rz := rz) (ls := ls) (fw := fw) (me := me) (bk := bk) (bd := bd) (rs := rs) (fct := some (4 * v + x)) (sk := none) hT (fun f e2 => by rw [← Option.some.inj e2]; omega) (fun o e => nomatch e) h
      rw [show ot_i (Option.map (fun f => f / 4) (some (4 * v + x))) = nI v from congrArg nI ed, show nI ((some (4 * v + x)).getD 0 % 4) = nI x from congrArg nI em] at hfm
      refine br_f ot_10 (hfm _ (fun me2 hY2 => ys_mg hT hY2 ?_))
      exact br_c (fun a => ⟨(hr1 a).symm, re_mk F2⟩) (fun a => ⟨(hr0 a).symm, re_mk F2⟩)
    exact br_c (fun a => hy2 1 (fun _ => rfl) (fun a2 => absurd a a2)) (fun a => hy2 0 (fun a2 => absurd a2 a) (fun _ => rfl))
end QA
end
section
section RB
variable {V D N : Nat} {il mt iv hz ib br : Int32} {c b : Nat → Nat} {ne ef g sp : Nat → Option Nat} {im qu tg sg hp pl on tw ca ta ua : Nat → Nat} {ns es ha : Nat → Int32}
/-- what is marked comes back -/
def rb_I (M N : Nat) (stp : Nat → Nat → Option Nat) (R : Nat → Prop) (s0 : Nat) (pl : Nat → Nat) : Prop := (∀ s, s < M → pl s = 0 ∨ (pl s = 1 ∧ rc_B N stp R s0 s)) ∧ pl s0 = 1
def rb_c (N : Nat) (stp : Nat → Nat → Option Nat) (pl : Nat → Nat) (a : Nat) : Prop := ∀ o, o < N → ∀ p, stp a o = some p → pl p = 1 → pl a = 1
def rb_A (N : Nat) (stp : Nat → Nat → Option Nat) (pl : Nat → Nat) (a k : Nat) : Prop := ∃ o, o < k ∧ o < N ∧ ∃ p, stp a o = some p ∧ pl p = 1
theorem rb_cb {post : Int32 → SX → Prop} {s : Nat} (hT : gr_T V D N c b ne ef g) (hL : wl_L V D N ne ef sp ns es) (hs : s < D ^ V) (hp01 : ∀ s, s < D ^ V → pl s = 0 ∨ pl s = 1)
    (h0 : rb_c N (gr_s V D ne ef) pl s → post 0 ((nI V), (nI D), (nI (D ^ V)), (nI N), il, mt, iv, hz, ib, br, (ot_n c), (ot_o ne), (ot_o ef), (ot_n b), (ot_o g), (ot_n (ot_pw V D)), (ot_o sp), (ot_n im), (ot_n qu), (ot_n tg), (ot_n sg), (ot_n hp), (ot_n pl), (ot_n on), (ot_n tw), ns, es, ha, (ot_n ca), (ot_n ta), (ot_n ua))) (h1 : ∀ o p, pl s = 0 → o < N → gr_s V D ne ef s o = some p → pl p = 1 → post 1 ((nI V), (nI D), (nI (D ^ V)), (nI N), il, mt, iv, hz, ib, br, (ot_n c), (ot_o ne), (ot_o ef), (ot_n b), (ot_o g), (ot_n (ot_pw V D)), (ot_o sp), (ot_n im), (ot_n qu), (ot_n tg), (ot_n sg), (ot_n hp), (ot_n (ot_u pl s 1)), (ot_n on), (ot_n tw), ns, es, ha, (ot_n ca), (ot_n ta), (ot_n ua))) : wpX_comesBack post ((nI V), (nI D), (nI (D ^ V)), (nI N), il, mt, iv, hz, ib, br, (ot_n c), (ot_o ne), (ot_o ef), (ot_n b), (ot_o g), (ot_n (ot_pw V D)), (ot_o sp), (ot_n im), (ot_n qu), (ot_n tg), (ot_n sg), (ot_n hp), (ot_n pl), (ot_n on), (ot_n tw), ns, es, ha, (ot_n ca), (ot_n ta), (ot_n ua)) (nI s) := by
  obtain ⟨⟨hV1, hV⟩, ⟨hD, hD4⟩, hN, hc, hb, hne, hef, hg⟩ := id hT
  have hM : D ^ V ≤ 1024 := gr_M hV hD4
  have i1 : vp_in (nI s) 1024 := vp_in_nI (by omega) (by omega)
  have hps := hp01 s hs
  unfold wpX_comesBack
  dsimp only
  rw [ot_r pl (by omega)]
  refine ⟨i1, pk_eq (pl s) 1 (fun e => h0 (fun o ho p e2 e3 => e)) (fun e => ⟨N + 1, ?_⟩)⟩
  have e0 : pl s = 0 := by omega
  have key : ∀ n o (q : Prop), o ≤ N → N - o < n → (q ↔ rb_A N (gr_s V D ne ef) pl s o) → wX_comesBack_16 post (nI s) (nI V) (nI D) (nI (D ^ V)) (nI N) il mt iv hz ib br (ot_n c) (ot_o ne) (ot_o ef) (ot_n b) (ot_o g) (ot_n (ot_pw V D)) (ot_o sp) (ot_n im) (ot_n qu) (ot_n tg) (ot_n sg) (ot_n hp) (ot_n pl) (ot_n on) (ot_n tw) ns es ha (ot_n ca) (ot_n ta) (ot_n ua) n (ot_b q) (nI o) := by
    intro n
    induction n with
    | zero => intro o q _ a; omega
    | succ n ih =>
      intro o q ho hn hq
      have k1 : o < N → ∀ q2 : Prop, (q2 ↔ rb_A N (gr_s V D ne ef) pl s (o + 1)) → ∀ z, z = ot_b q2 → ∀ x3, x3 = nI o + 1 → wX_comesBack_16 post (nI s) (nI V) (nI D) (nI (D ^ V)) (nI N) il mt iv hz ib br (ot_n c) (ot_o ne) (ot_o ef) (ot_n b) (ot_o g) (ot_n (ot_pw V D)) (ot_o sp) (ot_n im) (ot_n qu) (ot_n tg) (ot_n sg) (ot_n hp) (ot_n pl) (ot_n on) (ot_n tw) ns es ha (ot_n ca) (ot_n ta) (ot_n ua) n z x3 := fun hx q2 h2 z e1 x3 e2 => by
        rw [e1, e2, nI_1]
        exact ih (o + 1) q2 hx (by omega) h2
      refine pk_le N o (fun hx => ?_) (fun hx => ?_)
      · by_cases hqq : q
        · rw [ot_bt hqq]
          obtain ⟨o1, _, a2, p, a3, a4⟩ := hq.mp hqq
          exact br_f ot_10 ⟨i1, nm_r (ot_upd' (x := 1) pl (nI_clamp (by omega)) rfl) ⟨narrow_b1, h1 o1 p e0 a2 a3 a4⟩⟩
        · rw [ot_bf hqq]
          refine br_t rfl ⟨i1, nm_r (e' := ot_n pl) ?_ ⟨narrow_b0, h0 (fun o1 ho1 p a3 a4 => absurd (hq.mpr ⟨o1, by omega, ho1, p, a3, a4⟩) hqq)⟩⟩
          refine (ot_upd' (k := s) (x := 0) pl (nI_clamp (by omega)) rfl).trans (congrArg ot_n ?_)
          funext j
          by_cases ej : j = s
          · rw [ej, ot_us, e0]
          · rw [ot_un ej]
      · rw [ot_ix10]
        refine ⟨vp_in_nI (by omega) (by omega), nm_r (e' := ot_i (gr_s V D ne ef s o)) (by rw [ot_ro sp (by omega), hL.1 s hs o hx]) ?_⟩
        refine ot_bb q (fun hq0 => ?_) (fun hq1 => ?_)
        · have hno : (∀ p, gr_s V D ne ef s o = some p → ¬ pl p = 1) → ∀ x3, x3 = nI o + 1 → wX_comesBack_16 post (nI s) (nI V) (nI D) (nI (D ^ V)) (nI N) il mt iv hz ib br (ot_n c) (ot_o ne) (ot_o ef) (ot_n b) (ot_o g) (ot_n (ot_pw V D)) (ot_o sp) (ot_n im) (ot_n qu) (ot_n tg) (ot_n sg) (ot_n hp) (ot_n pl) (ot_n on) (ot_n tw) ns es ha (ot_n ca) (ot_n ta) (ot_n ua) n 0 x3 := fun hn2 => k1 hx False ⟨fun h => h.elim, fun ⟨o1, a1, a2, p, a3, a4⟩ => by
            by_cases e1 : o1 = o
            · rw [e1] at a3; exact hn2 p a3 a4
            · exact hq0 (hq.mpr ⟨o1, by omega, a2, p, a3, a4⟩)⟩ 0 (ot_bf id).symm
          refine ot_bo _ (fun p e => by have := ws_st hT s o p hs hx e; omega) (fun e => hno (fun p e2 => by rw [e] at e2; exact nomatch e2)) (fun p e => ?_)
          have hpM := ws_st hT s o p hs hx e
          have hpp := hp01 p hpM
          rw [e, ot_is, ot_r pl (by omega)]
          refine ⟨vp_in_nI (by omega) (by omega), pk_eq (pl p) 1 (fun a => ?_) (fun a => hno (fun p2 e2 => by rw [e] at e2; rw [← Option.some.inj e2]; exact a))⟩
          exact k1 hx True ⟨fun _ => ⟨o, by omega, hx, p, e, a⟩, fun _ => trivial⟩ 1 (ot_bt trivial).symm
        · refine k1 hx True ⟨fun _ => ?_, fun _ => trivial⟩ 1 (ot_bt trivial).symm
          obtain ⟨o1, a1, a2, a3⟩ := hq.mp hq1
          exact ⟨o1, by omega, a2, a3⟩
  have h2 := key (N + 1) 0 False (by omega) (by omega) ⟨fun h => h.elim, fun ⟨o, a, _⟩ => by omega⟩
  rw [ot_bf id] at h2
  exact h2
theorem rb_83 {post : Int32 → SX → Prop} {J : Int32 → Int32 → Int32 → Int32 → Int32 → Int32 → Int32 → Int32 → Int32 → Int32 → Int32 → Int32 → Int32 → (Nat → Int32) → (Nat → Int32) → (Nat → Int32) → (Nat → Int32) → (Nat → Int32) → (Nat → Int32) → (Nat → Int32) → (Nat → Int32) → (Nat → Int32) → (Nat → Int32) → (Nat → Int32) → (Nat → Int32) → (Nat → Int32) → (Nat → Int32) → (Nat → Int32) → (Nat → Int32) → (Nat → Int32) → (Nat → Int32) → (Nat → Int32) → (Nat → Int32) → (Nat → Int32) → Prop} {s0 m r q : Nat} {R : Nat → Prop} (hT : gr_T V D N c b ne ef g) (hL : wl_L V D N ne ef sp ns es) (hm : m ≤ D ^ V) (hR : ∀ j, j < m → qu j < D ^ V ∧ R (qu j))
    (hJ : ∀ pl x y, rb_I (D ^ V) N (gr_s V D ne ef) R s0 pl → y = ct_n (fun s => decide (pl s = 1)) (D ^ V) → ((x = 0 ∧ ∀ j, j < m → rb_c N (gr_s V D ne ef) pl (qu j)) ∨ (x = 1 ∧ q < y)) → J (nI y) (nI x) (nI (r + 1)) (nI V) (nI D) (nI (D ^ V)) (nI N) il (nI m) iv hz ib br (ot_n c) (ot_o ne) (ot_o ef) (ot_n b) (ot_o g) (ot_n (ot_pw V D)) (ot_o sp) (ot_n im) (ot_n qu) (ot_n tg) (ot_n sg) (ot_n hp) (ot_n pl) (ot_n on) (ot_n tw) ns es ha (ot_n ca) (ot_n ta) (ot_n ua)) :
    ∀ n i y (pl : Nat → Nat), i ≤ m → i < n → rb_I (D ^ V) N (gr_s V D ne ef) R s0 pl → y = ct_n (fun s => decide (pl s = 1)) (D ^ V) → ((y = q ∧ ∀ j, i ≤ j → j < m → rb_c N (gr_s V D ne ef) pl (qu j)) ∨ q < y) → wX_returning_83 post J (nI r) (nI q) n (nI y) (nI i + (-1)) (nI V) (nI D) (nI (D ^ V)) (nI N) il (nI m) iv hz ib br (ot_n c) (ot_o ne) (ot_o ef) (ot_n b) (ot_o g) (ot_n (ot_pw V D)) (ot_o sp) (ot_n im) (ot_n qu) (ot_n tg) (ot_n sg) (ot_n hp) (ot_n pl) (ot_n on) (ot_n tw) ns es ha (ot_n ca) (ot_n ta) (ot_n ua) := by
  obtain ⟨⟨hV1, hV⟩, ⟨hD, hD4⟩, hN, hc, hb, hne, hef, hg⟩ := id hT
  have hM : D ^ V ≤ 1024 := gr_M hV hD4
  intro n
  induction n with
  | zero => intro i y pl _ a; omega
  | succ n ih =>
    intro i y pl hi hn hI hy hx
    have hyM : y ≤ D ^ V := by rw [hy]; exact ct_le _ _
    cases i with
    | zero =>
      refine br_t (show nI 0 + (-1) < 0 by decide) (pk_le y q (fun a => nm_r (nI_1 r) (hJ pl 0 y hI hy (Or.inl ⟨rfl, fun j hj => ?_⟩))) (fun a => nm_r (nI_1 r) (hJ pl 1 y hI hy (Or.inr ⟨rfl, a⟩))) (hb := ?_))
      · rcases hx with ⟨_, a2⟩ | a2
        · exact a2 j (by omega) hj
        · omega
      · rcases hx with a2 | a2 <;> omega
    | succ i =>
      rw [pk_m1]
      have hq := hR i (by omega)
      refine br_f (nI_pos (by omega)) ?_
      rw [ot_r qu (by omega)]
      refine ⟨vp_in_nI (by omega) (by omega), rb_cb hT hL hq.1 (fun s hs => by rcases hI.1 s hs with a | a <;> omega) (fun hcl => br_t rfl (nm_e ?_)) (fun o p a0 a1 a2 a3 => br_f ot_10 (nm_r (nI_1 y) (nm_e ?_)))⟩
      · refine ih i y pl (by omega) (by omega) hI hy ?_
        rcases hx with ⟨b1, b2⟩ | b1
        · refine Or.inl ⟨b1, fun j hj hjm => ?_⟩
          by_cases e : j = i
          · rw [e]; exact hcl
          · exact b2 j (by omega) hjm
        · exact Or.inr b1
      · have hpM := ws_st hT _ o p hq.1 a1 a2
        refine ih i (y + 1) (ot_u pl (qu i) 1) (by omega) (by omega) ⟨fun s hs => ?_, ?_⟩ ?_ (Or.inr ?_)
        · by_cases e : s = qu i
          · rw [e, ot_us]
            refine Or.inr ⟨rfl, rc_bs hq.2 a1 a2 ?_⟩
            rcases hI.1 p hpM with a | a
            · omega
            · exact a.2
          · rw [ot_un e]; exact hI.1 s hs
        · by_cases e : s0 = qu i
          · rw [e, ot_us]
          · rw [ot_un e]; exact hI.2
        · rw [hy]
          exact (ct_add (D ^ V) (qu i) hq.1 (by rw [a0]; rfl) (by rw [ot_us]; rfl) (fun t _ e => by rw [ot_un e])).symm
        · rcases hx with a | a <;> omega
theorem rb_60 {post : Int32 → SX → Prop} {s0 m : Nat} {R : Nat → Prop} (hT : gr_T V D N c b ne ef g) (hL : wl_L V D N ne ef sp ns es) (hm : m ≤ D ^ V) (hR : ∀ j, j < m → qu j < D ^ V ∧ R (qu j)) (hR2 : ∀ s, R s → s < D ^ V ∧ ∃ j, j < m ∧ qu j = s) (hs0 : s0 < D ^ V) (hm0 : 0 < m)
    (hX : ∀ pl, (∀ s, s < D ^ V → (pl s = 1 ↔ rc_B N (gr_s V D ne ef) R s0 s)) → post (nI (ct_n (fun s => decide (pl s = 1)) (D ^ V))) ((nI V), (nI D), (nI (D ^ V)), (nI N), il, (nI m), iv, hz, ib, br, (ot_n c), (ot_o ne), (ot_o ef), (ot_n b), (ot_o g), (ot_n (ot_pw V D)), (ot_o sp), (ot_n im), (ot_n qu), (ot_n tg), (ot_n sg), (ot_n hp), (ot_n pl), (ot_n on), (ot_n tw), ns, es, ha, (ot_n ca), (ot_n ta), (ot_n ua))) :
    ∀ n r x y (pl : Nat → Nat), 1024 < n + r → r ≤ 1024 → rb_I (D ^ V) N (gr_s V D ne ef) R s0 pl → y = ct_n (fun s => decide (pl s = 1)) (D ^ V) → ((x = 0 ∧ ∀ j, j < m → rb_c N (gr_s V D ne ef) pl (qu j)) ∨ (x = 1 ∧ r < y)) → wX_returning_60 post n (nI y) (nI x) (nI r) (nI V) (nI D) (nI (D ^ V)) (nI N) il (nI m) iv hz ib br (ot_n c) (ot_o ne) (ot_o ef) (ot_n b) (ot_o g) (ot_n (ot_pw V D)) (ot_o sp) (ot_n im) (ot_n qu) (ot_n tg) (ot_n sg) (ot_n hp) (ot_n pl) (ot_n on) (ot_n tw) ns es ha (ot_n ca) (ot_n ta) (ot_n ua) := by
  obtain ⟨⟨hV1, hV⟩, ⟨hD, hD4⟩, hN, hc, hb, hne, hef, hg⟩ := id hT
  have hM : D ^ V ≤ 1024 := gr_M hV hD4
  intro n
  induction n with
  | zero => intro r x y pl a b'; omega
  | succ n ih =>
    intro r x y pl hn hr hI hy hx
    have hyM : y ≤ D ^ V := by rw [hy]; exact ct_le _ _
    have hfin : (∀ j, j < m → rb_c N (gr_s V D ne ef) pl (qu j)) → post (nI y) ((nI V), (nI D), (nI (D ^ V)), (nI N), il, (nI m), iv, hz, ib, br, (ot_n c), (ot_o ne), (ot_o ef), (ot_n b), (ot_o g), (ot_n (ot_pw V D)), (ot_o sp), (ot_n im), (ot_n qu), (ot_n tg), (ot_n sg), (ot_n hp), (ot_n pl), (ot_n on), (ot_n tw), ns, es, ha, (ot_n ca), (ot_n ta), (ot_n ua)) := fun hcl => by
      rw [hy]
      refine hX pl (fun s hs => ⟨fun e => ?_, fun hB => ?_⟩)
      · rcases hI.1 s hs with a | a
        · omega
        · exact a.2
      · exact hB (fun t => pl t = 1) hI.2 (fun a o p ha ho e hp => by
          obtain ⟨_, j, hj, e2⟩ := hR2 a ha
          have := hcl j hj o ho p (by rw [e2]; exact e) hp
          rw [e2] at this; exact this)
    refine pk_le 1024 r (fun a => ?_) (fun a => ?_)
    · rcases hx with ⟨_, a2⟩ | a2
      · exact hfin a2
      · omega
    · rcases hx with ⟨a1, a2⟩ | ⟨a1, a2⟩
      · rw [a1]; exact br_t rfl (hfin a2)
      · rw [a1]
        obtain ⟨m1, em⟩ : ∃ m1, m = m1 + 1 := ⟨m - 1, by omega⟩
        refine br_f ot_10 (nm_r (e' := nI m + (-1)) (by rw [em, nI_pred, pk_m1]) ⟨m + 1, ?_⟩)
        refine rb_83 (q := y) hT hL hm hR (fun pl2 x2 y2 b1 b2 b3 => ih (r + 1) x2 y2 pl2 (by omega) (by omega) b1 b2 ?_) (m + 1) m y pl (by omega) (by omega) hI hy (Or.inl ⟨rfl, fun j hj hj2 => by omega⟩)
        rcases b3 with b4 | b4
        · exact Or.inl b4
        · exact Or.inr ⟨b4.1, by omega⟩
theorem rb_18 {post : Int32 → SX → Prop} {s0 : Nat} (hT : gr_T V D N c b ne ef g) (hs0 : s0 < D ^ V)
    (hX : ∀ pl, (∀ s, s < D ^ V → pl s = if s = s0 then 1 else 0) → ∃ n, wX_returning_60 post n 1 1 0 (nI V) (nI D) (nI (D ^ V)) (nI N) il mt 0 hz ib br (ot_n c) (ot_o ne) (ot_o ef) (ot_n b) (ot_o g) (ot_n (ot_pw V D)) (ot_o sp) (ot_n im) (ot_n qu) (ot_n tg) (ot_n sg) (ot_n hp) (ot_n pl) (ot_n on) (ot_n tw) ns es ha (ot_n ca) (ot_n ta) (ot_n ua)) : ∀ n s (pl : Nat → Nat), s ≤ D ^ V → D ^ V - s < n → (∀ t, t < s → pl t = if t = s0 then 1 else 0) → wX_returning_18 post (nI s0) (nI V) (nI D) (nI (D ^ V)) (nI N) il mt iv hz ib br n (nI s) (ot_n c) (ot_o ne) (ot_o ef) (ot_n b) (ot_o g) (ot_n (ot_pw V D)) (ot_o sp) (ot_n im) (ot_n qu) (ot_n tg) (ot_n sg) (ot_n hp) (ot_n pl) (ot_n on) (ot_n tw) ns es ha (ot_n ca) (ot_n ta) (ot_n ua) := by
  obtain ⟨⟨hV1, hV⟩, ⟨hD, hD4⟩, hN, hc, hb, hne, hef, hg⟩ := id hT
  have hM : D ^ V ≤ 1024 := gr_M hV hD4
  intro n
  induction n with
  | zero => intro s pl _ a; omega
  | succ n ih =>
    intro s pl hs hn hp2
    refine pk_le (D ^ V) s (fun hx => hX pl (fun t ht => hp2 t (by omega))) (fun hx => ?_)
    have hgo : ∀ y : Nat, y = (if s = s0 then 1 else 0) → ∀ t, t < s + 1 → ot_u pl s y t = if t = s0 then 1 else 0 := fun y hy t ht => by
      by_cases e : t = s
      · rw [e, ot_us, hy]
      · rw [ot_un e]; exact hp2 t (by omega)
    refine pk_eq s s0 (fun e => ⟨vp_in_nI (by omega) (by omega), nm_r (ot_upd' (x := 1) pl (nI_clamp (by omega)) rfl) (nm_r (nI_1 s) (ih (s + 1) _ (by omega) (by omega) (hgo 1 (by rw [if_pos e]))))⟩) (fun e => ⟨vp_in_nI (by omega) (by omega), nm_r (ot_upd' (x := 0) pl (nI_clamp (by omega)) rfl) (nm_r (nI_1 s) (ih (s + 1) _ (by omega) (by omega) (hgo 0 (by rw [if_neg e]))))⟩)
end RB
section YB
variable {V D N : Nat} {rz : Int32} {c b : Nat → Nat} {ne ef g : Nat → Option Nat} {ls fw me bk bd rs : Nat → Nat}
def yb_I (V D N : Nat) (stp : Nat → Nat → Option Nat) (R : Nat → Prop) (s0 : Nat) (bk : Nat → Nat) : Prop :=
  (∀ t, t < 4 ^ V → bk t = 0 ∨ (bk t = 1 ∧ ∃ s, s < D ^ V ∧ t = gr_e V D s ∧ rc_B N stp R s0 s)) ∧ bk (gr_e V D s0) = 1
def yb_c (V D N : Nat) (stp : Nat → Nat → Option Nat) (R : Nat → Prop) (bk : Nat → Nat) (k : Nat) : Prop :=
  ∀ s o, s < D ^ V → o < 10 → 10 * gr_e V D s + o < k → R s → o < N → ∀ p, stp s o = some p → bk (gr_e V D p) = 1 → bk (gr_e V D s) = 1
theorem yb_54 {post : Int32 → SY → Prop} {J : Int32 → (Nat → Int32) → (Nat → Int32) → (Nat → Int32) → (Nat → Int32) → (Nat → Int32) → (Nat → Int32) → (Nat → Int32) → (Nat → Int32) → (Nat → Int32) → (Nat → Int32) → (Nat → Int32) → Prop} {s0 : Nat} {R : Nat → Prop} {bk0 : Nat → Nat} (hT : gr_T V D N c b ne ef g) (hme : ∀ t, t < 4 ^ V → me t = 0 ∨ (me t = 1 ∧ ∃ s, s < D ^ V ∧ t = gr_e V D s)) (hR : ∀ s, s < D ^ V → (me (gr_e V D s) = 1 ↔ R s))
    (hJ : ∀ bk (x : Nat), yb_I V D N (gr_s V D ne ef) R s0 bk → ((x = 0 ∧ yb_c V D N (gr_s V D ne ef) R bk (10 * 4 ^ V)) ∨ (x = 1 ∧ ct_n (fun t => decide (bk0 t = 1)) (4 ^ V) < ct_n (fun t => decide (bk t = 1)) (4 ^ V))) → J (nI x) (ot_n c) (ot_o ne) (ot_o ef) (ot_n b) (ot_o g) (ot_n ls) (ot_n fw) (ot_n me) (ot_n bk) (ot_n bd) (ot_n rs)) :
    ∀ n k x (bk : Nat → Nat), k ≤ 10 * 4 ^ V → 10 * 4 ^ V - k < n → yb_I V D N (gr_s V D ne ef) R s0 bk → ct_n (fun t => decide (bk0 t = 1)) (4 ^ V) ≤ ct_n (fun t => decide (bk t = 1)) (4 ^ V) → ((x = 0 ∧ yb_c V D N (gr_s V D ne ef) R bk k) ∨ (x = 1 ∧ ct_n (fun t => decide (bk0 t = 1)) (4 ^ V) < ct_n (fun t => decide (bk t = 1)) (4 ^ V))) →
    wY_returning_54 post J (nI V) (nI D) (nI N) rz n (nI x) (nI k) (ot_n c) (ot_o ne) (ot_o ef) (ot_n b) (ot_o g) (ot_n ls) (ot_n fw) (ot_n me) (ot_n bk) (ot_n bd) (ot_n rs) := by
  obtain ⟨⟨hV1, hV⟩, ⟨hD, hD4⟩, hN, hc, hb, hne, hef, hg⟩ := id hT
  have h4 : 4 ^ V ≤ 1024 := gr_M4 hV
  have h40 : 0 < 4 ^ V := Nat.pow_pos (by omega)
  have hM : D ^ V ≤ 1024 := gr_M hV hD4
  intro n
  induction n with
  | zero => intro k x bk _ h; omega
  | succ n ih =>
    intro k x bk hk hn hI hct hx
    rw [wY_returning_54]
    refine ya_sta hT ?_
    rw [ot_m10]
    refine pk_le (10 * 4 ^ V) k (fun hd => ?_) (fun hd => ?_)
    · rw [show k = 10 * 4 ^ V from by omega] at hx
      exact hJ bk x hI hx
    · have hkt : k / 10 < 4 ^ V := by omega
      have hgo : (∀ s, s < D ^ V → gr_e V D s = k / 10 → R s → k % 10 < N → ∀ p, gr_s V D ne ef s (k % 10) = some p → bk (gr_e V D p) = 1 → bk (gr_e V D s) = 1) → ∀ x6, x6 = nI k + 1 → wY_returning_54 post J (nI V) (nI D) (nI N) rz n (nI x) x6 (ot_n c) (ot_o ne) (ot_o ef) (ot_n b) (ot_o g) (ot_n ls) (ot_n fw) (ot_n me) (ot_n bk) (ot_n bd) (ot_n rs) := fun hcl x6 e6 => by
        rw [e6, nI_1]
        refine ih (k + 1) x bk (by omega) (by omega) hI hct ?_
        rcases hx with ⟨a, a2⟩ | a
        · refine Or.inl ⟨a, fun s o hs ho hlt hm hoN p e hp => ?_⟩
          by_cases e2 : 10 * gr_e V D s + o = k
          · have e3 : k % 10 = o := by omega
            exact hcl s hs (by omega) hm (by omega) p (by rw [e3]; exact e) hp
          · exact a2 s o hs ho (by omega) hm hoN p e hp
        · exact Or.inr a
      have h117 : (∀ s, s < D ^ V → gr_e V D s = k / 10 → R s → k % 10 < N → ∀ p, gr_s V D ne ef s (k % 10) = some p → bk (gr_e V D p) = 1 → bk (gr_e V D s) = 1) → wY_returning_117 post J (wY_returning_54 post J (nI V) (nI D) (nI N) rz n) (nI x) (nI k) (nI V) (nI D) (nI N) rz (ot_n c) (ot_o ne) (ot_o ef) (ot_n b) (ot_o g) (ot_n ls) (ot_n fw) (ot_n me) (ot_n bk) (ot_n bd) (ot_n rs) := fun hcl =>
        br_t (show (-1 : Int32) < 0 by decide) (hgo hcl)
      refine ⟨ot_n10, nm_r (ot_r10 (by omega)) ⟨ot_n10, ?_⟩⟩
      rw [ot_d10 (by omega), ot_r me (by omega), ot_r bk (by omega)]
      refine ⟨vp_in_nI (by omega) (by omega), pk_eq (me (k / 10)) 0 (fun k0 => h117 (fun s a1 a2 a3 => ?_)) (fun k1 => ⟨ot_n10, vp_in_nI (by omega) (by omega), ?_⟩) (ha := by rcases hme _ hkt with a | a <;> omega)⟩
      · have := (hR s a1).mpr a3
        rw [a2] at this; omega
      · refine pk_eq (bk (k / 10)) 0 (fun k2 => pk_le N (k % 10) (fun hd2 => h117 (fun s a1 a2 a3 a4 => by omega)) (fun hd2 => ⟨ot_n10, ?_⟩)) (fun k2 => h117 (fun s a1 a2 a3 a4 p e hp => ?_)) (ha := by rcases hI.1 _ hkt with a | a <;> omega)
        · rcases hme _ hkt with a | ⟨a, s, b1, b2⟩
          · omega
          · have hRs : R s := (hR s b1).mp (by rw [← b2]; exact a)
            have hes : s < D ^ V → True := fun _ => trivial
            have hu := fun (post2 : Int32 → Prop) h => ya_use (rz := rz) (ls := ls) (fw := fw) (me := me) (bk := bk) (bd := bd) (rs := rs) (post := post2) hT (s := s) hd2 h
            rw [← b2] at hu
            refine hu _ ?_
            cases e : gr_s V D ne ef s (k % 10) with
            | none =>
              refine br_t (show (-1 : Int32) < 0 by decide) (hgo (fun s2 a1 a2 a3 a4 p e2 => ?_))
              rw [gr_ei hD hD4 a1 b1 (a2.trans b2), e] at e2; exact nomatch e2
            | some p =>
              have hpM := ws_st hT s _ p b1 hd2 e
              have hep := gr_el (V := V) (s := p) hD hD4
              show wY_returning_118 post J _ _ _ (nI (gr_e V D p)) (nI V) (nI D) (nI N) rz (ot_n c) (ot_o ne) (ot_o ef) (ot_n b) (ot_o g) (ot_n ls) (ot_n fw) (ot_n me) (ot_n bk) (ot_n bd) (ot_n rs)
              unfold wY_returning_118
              rw [ot_r bk (by omega), ot_d10 (by omega)]
              refine br_f (nI_pos (by omega)) ⟨vp_in_nI (by omega) (by omega), pk_eq (bk (gr_e V D p)) 0 (fun k3 => hgo (fun s2 a1 a2 a3 a4 p2 e2 hp => ?_)) (fun k3 => ⟨ot_n10, vp_in_nI (by omega) (by omega), nm_r (ot_upd' bk (nI_clamp (by omega)) ot_vb1) (nm_r (nI_1 k) ?_)⟩) (ha := by rcases hI.1 _ hep with a | a <;> omega)⟩
              · rw [gr_ei hD hD4 a1 b1 (a2.trans b2), e] at e2
                rw [← Option.some.inj e2] at hp; omega
              · have hlt : ct_n (fun t => decide (bk t = 1)) (4 ^ V) < ct_n (fun t => decide (ot_u bk (k / 10) 1 t = 1)) (4 ^ V) := by
                  refine ct_lt (4 ^ V) (fun t ht e => ?_) (k / 10) hkt (by rw [k2]; rfl) (by rw [ot_us]; rfl)
                  by_cases e2 : t = k / 10
                  · rw [e2, ot_us]; rfl
                  · rw [ot_un e2]; exact e
                refine ih (k + 1) 1 (ot_u bk (k / 10) 1) (by omega) (by omega) ⟨fun t ht => ?_, ?_⟩ (by omega) (Or.inr ⟨rfl, by omega⟩)
                · by_cases e2 : t = k / 10
                  · rw [e2, ot_us]
                    refine Or.inr ⟨rfl, s, b1, b2, rc_bs hRs hd2 e ?_⟩
                    rcases hI.1 _ hep with a | ⟨_, s2, c1, c2, c3⟩
                    · omega
                    · rw [gr_ei hD hD4 hpM c1 c2]; exact c3
                  · rw [ot_un e2]; exact hI.1 t ht
                · by_cases e2 : gr_e V D s0 = k / 10
                  · rw [e2, ot_us]
                  · rw [ot_un e2]; exact hI.2
        · rw [a2]
          rcases hI.1 _ hkt with a | a <;> omega
theorem yb_46 {post : Int32 → SY → Prop} {s0 : Nat} {R : Nat → Prop} (hT : gr_T V D N c b ne ef g) (hme : ∀ t, t < 4 ^ V → me t = 0 ∨ (me t = 1 ∧ ∃ s, s < D ^ V ∧ t = gr_e V D s)) (hR : ∀ s, s < D ^ V → (me (gr_e V D s) = 1 ↔ R s)) (hRl : ∀ s, R s → s < D ^ V)
    (hX : ∀ bk, (∀ t, t < 4 ^ V → bk t = 0 ∨ bk t = 1) → (∀ s, s < D ^ V → (bk (gr_e V D s) = 1 ↔ rc_B N (gr_s V D ne ef) R s0 s)) → ∃ n, wY_returning_161 post (nI V) (nI D) (nI N) rz (ot_n c) (ot_o ne) (ot_o ef) (ot_n b) (ot_o g) (ot_n ls) (ot_n fw) (ot_n me) (ot_n bk) (ot_n bd) (ot_n rs) n 0 0) :
    ∀ n x (bk : Nat → Nat), yb_I V D N (gr_s V D ne ef) R s0 bk → ((x = 0 ∧ 0 < n ∧ yb_c V D N (gr_s V D ne ef) R bk (10 * 4 ^ V)) ∨ (x = 1 ∧ 4 ^ V + 1 < n + ct_n (fun t => decide (bk t = 1)) (4 ^ V))) → wY_returning_46 post (nI V) (nI D) (nI N) rz n (nI x) (ot_n c) (ot_o ne) (ot_o ef) (ot_n b) (ot_o g) (ot_n ls) (ot_n fw) (ot_n me) (ot_n bk) (ot_n bd) (ot_n rs) := by
  obtain ⟨⟨hV1, hV⟩, ⟨hD, hD4⟩, hN, hc, hb, hne, hef, hg⟩ := id hT
  have h40 : 0 < 4 ^ V := Nat.pow_pos (by omega)
  intro n
  induction n with
  | zero =>
    intro x bk hI hx
    rcases hx with a | a
    · omega
    · have := ct_le (fun t => decide (bk t = 1)) (4 ^ V)
      omega
  | succ n ih =>
    intro x bk hI hx
    rcases hx with ⟨a, _, a2⟩ | ⟨a, a2⟩
    · rw [a]
      refine br_t rfl (hX bk (fun t ht => by rcases hI.1 t ht with y | y <;> omega) (fun s hs => ⟨fun e => ?_, fun hB => ?_⟩))
      · rcases hI.1 (gr_e V D s) (gr_el hD hD4) with y | ⟨_, s2, c1, c2, c3⟩
        · omega
        · rw [gr_ei hD hD4 hs c1 c2]; exact c3
      · exact hB (fun t => bk (gr_e V D t) = 1) hI.2 (fun a o p ha ho e hp => by
          have hl := gr_el (V := V) (s := a) hD hD4
          exact a2 a o (hRl a ha) (by omega) (by omega) ha ho p e hp)
    · rw [a]
      refine br_f ot_10 ⟨10 * 4 ^ V + 1, ?_⟩
      refine yb_54 (bk0 := bk) hT hme hR (fun bk2 x2 b1 b3 => ih x2 bk2 b1 ?_) (10 * 4 ^ V + 1) 0 0 bk (by omega) (by omega) hI (Nat.le_refl _) (Or.inl ⟨rfl, fun s o _ _ h => by omega⟩)
      have hle := ct_le (fun t => decide (bk2 t = 1)) (4 ^ V)
      rcases b3 with ⟨d1, d2⟩ | ⟨d1, d2⟩
      · have := ct_le (fun t => decide (bk t = 1)) (4 ^ V)
        exact Or.inl ⟨d1, by omega, d2⟩
      · exact Or.inr ⟨d1, by omega⟩
end YB
section QB
theorem i_vc_returning {k : Nat} {u : SX} {v : SY} (I : i_Rel k u v) (hk : k + 5 ≤ 2562) : wpX_returning (fun r u' => wpY_returning (fun r' v' => r' = r ∧ i_Rel (k + 5) u' v') v) u := by
  refine I (fun u v => wpX_returning (fun r u' => wpY_returning (fun r' v' => r' = r ∧ i_Rel (k + 5) u' v') v) u) ?_
  intro V D N il mt iv hz ib br c b ne ef g sp im qu tg sg hp pl on tw ca ta ua ns es ha rz ls fw me bk bd rs F
  obtain ⟨hT, hl, hv, hbd⟩ := F
  obtain ⟨⟨hV1, hV⟩, ⟨hD, hD4⟩, hN, hc, hb, hne, hef, hg⟩ := id hT
  have hM : D ^ V ≤ 1024 := gr_M hV hD4
  have h4 : 4 ^ V ≤ 1024 := gr_M4 hV
  have h40 : 0 < 4 ^ V := Nat.pow_pos (by omega)
  have hs0 := ws_b0 hT
  have hes := gr_el (V := V) (s := cd_c D b V) hD hD4
  unfold wpX_returning
  refine wl_lay hT hl (fun il sp ns es hil hL => wa_beg hT ?_)
  refine ws_sp (fct := none) (sk := none) hT hL.1 (fun f e => nomatch e) (fun o e => nomatch e) hs0 (fun mt im qu hX => ?_)
  have F2 : re_F V D N il 0 ib c b ne ef g sp tg sg on tw ns es := ⟨hT, fun _ => hL, fun h => absurd rfl h, hbd⟩
  have hok0 : rc_R N (gr_s V D ne ef) none (wl_ok D none) (cd_c D b V) (cd_c D b V) := rc_0 (fun f e => nomatch e)
  have hRl : ∀ s, rc_R N (gr_s V D ne ef) none (wl_ok D none) (cd_c D b V) s → s < D ^ V := fun s h => rc_lt (ws_st hT) hs0 h
  have hm0 : 0 < mt := by
    obtain ⟨j, hj, _⟩ := hX.2.2.1 _ hs0 ((hX.2.2.2.2 _ hs0).mpr hok0)
    omega
  refine ⟨D ^ V + 1, rb_18 hT hs0 (fun pl hpl => ⟨1025, ?_⟩) (D ^ V + 1) 0 pl (by omega) (by omega) (fun t a => by omega)⟩
  have hct1 : 1 = ct_n (fun s => decide (pl s = 1)) (D ^ V) := by
    have h1 := ct_add (p := fun _ => false) (q := fun s => decide (pl s = 1)) (D ^ V) (cd_c D b V) hs0 rfl (by rw [hpl _ hs0, if_pos rfl]; rfl) (fun t ht e => by rw [hpl t ht, if_neg e]; rfl)
    rw [ct_zero (fun _ _ => rfl)] at h1
    exact h1.symm
  refine rb_60 (R := rc_R N (gr_s V D ne ef) none (wl_ok D none) (cd_c D b V)) hT hL hX.1 (fun j hj => ⟨(hX.2.1 j hj).1, (hX.2.2.2.2 _ (hX.2.1 j hj).1).mp (hX.2.1 j hj).2⟩) (fun s hR => ⟨hRl s hR, hX.2.2.1 s (hRl s hR) ((hX.2.2.2.2 s (hRl s hR)).mpr hR)⟩) hs0 hm0 (fun pl hplB => ?_) 1025 0 1 1 pl (by omega) (by omega) ⟨fun s hs => ?_, ?_⟩ hct1 (Or.inr ⟨rfl, by omega⟩)
  · unfold wpY_returning
    refine ys_fm (fct := none) (sk := none) hT (fun f e => nomatch e) (fun o e => nomatch e) (fun me hY => ya_beg hT ⟨4 ^ V + 1, ?_⟩)
    have hfin : ∀ bk, (∀ t, t < 4 ^ V → bk t = 0 ∨ bk t = 1) → (∀ s, s < D ^ V → (bk (gr_e V D s) = 1 ↔ rc_B N (gr_s V D ne ef) (rc_R N (gr_s V D ne ef) none (wl_ok D none) (cd_c D b V)) (cd_c D b V) s)) → ∃ n, wY_returning_161 (fun r' v' => r' = nI (ct_n (fun s => decide (pl s = 1)) (D ^ V)) ∧ i_Rel (k + 5) ((nI V), (nI D), (nI (D ^ V)), (nI N), il, (nI mt), 0, hz, ib, br, (ot_n c), (ot_o ne), (ot_o ef), (ot_n b), (ot_o g), (ot_n (ot_pw V D)), (ot_o sp), (ot_n im), (ot_n qu), (ot_n tg), (ot_n sg), (ot_n hp), (ot_n pl), (ot_n on), (ot_n tw), ns, es, ha, (ot_n ca), (ot_n ta), (ot_n ua)) v') (nI V) (nI D) (nI N) rz (ot_n c) (ot_o ne) (ot_o ef) (ot_n b) (ot_o g) (ot_n ls) (ot_n fw) (ot_n me) (ot_n bk) (ot_n bd) (ot_n rs) n 0 0 := fun bk hbk01 hbk => by
      have hcnt : ct_n (fun t => decide (me t = 1) && decide (bk t = 1)) (4 ^ V) = ct_n (fun s => decide (pl s = 1)) (D ^ V) := by
        have h1 := bg_ct hD hD4 hY (fun t => decide (bk t = 1)) (fun s => decide (bk (gr_e V D s) = 1)) (fun s hs => rfl)
        rw [h1]
        refine ct_ext (fun s hs => ?_)
        rw [Bool.eq_iff_iff, Bool.and_eq_true, decide_eq_true_eq, decide_eq_true_eq, decide_eq_true_eq, hbk s hs, hplB s hs, hY.2 s hs]
        exact ⟨fun a => a.2, fun a => ⟨rc_br hok0 a, a⟩⟩
      have key : ∀ n t, t ≤ 4 ^ V → 4 ^ V - t < n → wY_returning_161 (fun r' v' => r' = nI (ct_n (fun s => decide (pl s = 1)) (D ^ V)) ∧ i_Rel (k + 5) ((nI V), (nI D), (nI (D ^ V)), (nI N), il, (nI mt), 0, hz, ib, br, (ot_n c), (ot_o ne), (ot_o ef), (ot_n b), (ot_o g), (ot_n (ot_pw V D)), (ot_o sp), (ot_n im), (ot_n qu), (ot_n tg), (ot_n sg), (ot_n hp), (ot_n pl), (ot_n on), (ot_n tw), ns, es, ha, (ot_n ca), (ot_n ta), (ot_n ua)) v') (nI V) (nI D) (nI N) rz (ot_n c) (ot_o ne) (ot_o ef) (ot_n b) (ot_o g) (ot_n ls) (ot_n fw) (ot_n me) (ot_n bk) (ot_n bd) (ot_n rs) n (nI (ct_n (fun t => decide (me t = 1) && decide (bk t = 1)) t)) (nI t) := by
        intro n
        induction n with
        | zero => intro t _ a; omega
        | succ n ih =>
          intro t ht hn
          rw [wY_returning_161]
          refine ya_sta hT (pk_le (4 ^ V) t (fun hx => ⟨?_, re_mk F2⟩) (fun hx => ?_))
          · rw [show t = 4 ^ V from by omega, hcnt]
          · have h1 := ih (t + 1) (by omega) (by omega)
            have hm2 := hbk01 t hx
            have hmt : me t = 0 ∨ me t = 1 := by rcases hY.1 t hx with x | x <;> omega
            rw [ot_r me (by omega), ot_r bk (by omega)]
            refine ⟨vp_in_nI (by omega) (by omega), pk_eq (me t) 0 (fun a => nm_r (nI_1 t) ?_) (fun a => ⟨vp_in_nI (by omega) (by omega), pk_eq (bk t) 0 (fun a2 => nm_r (nI_1 t) ?_) (fun a2 => nm_r (nI_1 _) (nm_r (nI_1 t) ?_))⟩)⟩
            · rw [ct_s, if_neg (by simp; omega), Nat.add_zero] at h1
              exact h1
            · rw [ct_s, if_neg (by simp; omega), Nat.add_zero] at h1
              exact h1
            · rw [ct_s, if_pos (by simp; omega)] at h1
              exact h1
      exact ⟨4 ^ V + 1, key (4 ^ V + 1) 0 (by omega) (by omega)⟩
    have key : ∀ n t (bk : Nat → Nat), t ≤ 4 ^ V → 4 ^ V - t < n → (∀ t', t' < t → bk t' = if t' = gr_e V D (cd_c D b V) then 1 else 0) → wY_returning_14 (fun r' v' => r' = nI (ct_n (fun s => decide (pl s = 1)) (D ^ V)) ∧ i_Rel (k + 5) ((nI V), (nI D), (nI (D ^ V)), (nI N), il, (nI mt), 0, hz, ib, br, (ot_n c), (ot_o ne), (ot_o ef), (ot_n b), (ot_o g), (ot_n (ot_pw V D)), (ot_o sp), (ot_n im), (ot_n qu), (ot_n tg), (ot_n sg), (ot_n hp), (ot_n pl), (ot_n on), (ot_n tw), ns, es, ha, (ot_n ca), (ot_n ta), (ot_n ua)) v') (nI (gr_e V D (cd_c D b V))) (nI V) (nI D) (nI N) rz n (nI t) (ot_n c) (ot_o ne) (ot_o ef) (ot_n b) (ot_o g) (ot_n ls) (ot_n fw) (ot_n me) (ot_n bk) (ot_n bd) (ot_n rs) := by
      intro n
      induction n with
      | zero => intro t bk _ a; omega
      | succ n ih =>
        intro t bk ht hn hbk
        rw [wY_returning_14]
        refine ya_sta hT (pk_le (4 ^ V) t (fun hx => ⟨4 ^ V + 2, ?_⟩) (fun hx => ?_))
        · refine yb_46 (R := rc_R N (gr_s V D ne ef) none (wl_ok D none) (cd_c D b V)) hT hY.1 hY.2 hRl hfin (4 ^ V + 2) 1 bk ⟨fun t' ht' => ?_, ?_⟩ (Or.inr ⟨rfl, by omega⟩)
          · by_cases e : t' = gr_e V D (cd_c D b V)
            · rw [hbk t' (by omega), if_pos e]; exact Or.inr ⟨rfl, _, hs0, e, rc_b0⟩
            · rw [hbk t' (by omega), if_neg e]; exact Or.inl rfl
          · rw [hbk _ (by omega), if_pos rfl]
        · have hgo : ∀ y : Nat, y = (if t = gr_e V D (cd_c D b V) then 1 else 0) → ∀ t', t' < t + 1 → ot_u bk t y t' = if t' = gr_e V D (cd_c D b V) then 1 else 0 := fun y hy t' ht' => by
            by_cases e : t' = t
            · rw [e, ot_us, hy]
            · rw [ot_un e]; exact hbk t' (by omega)
          refine pk_eq t (gr_e V D (cd_c D b V)) (fun e => ⟨vp_in_nI (by omega) (by omega), nm_r (ot_upd' (x := 1) bk (nI_clamp (by omega)) ot_vb1) (nm_r (nI_1 t) (ih (t + 1) _ (by omega) (by omega) (hgo 1 (by rw [if_pos e]))))⟩) (fun e => ⟨vp_in_nI (by omega) (by omega), nm_r (ot_upd' (x := 0) bk (nI_clamp (by omega)) ot_vb0) (nm_r (nI_1 t) (ih (t + 1) _ (by omega) (by omega) (hgo 0 (by rw [if_neg e]))))⟩)
    exact key (4 ^ V + 1) 0 bk (by omega) (by omega) (fun t' a => by omega)
  · by_cases e : s = cd_c D b V
    · rw [hpl s hs, if_pos e, e]; exact Or.inr ⟨rfl, rc_b0⟩
    · rw [hpl s hs, if_neg e]; exact Or.inl rfl
  · rw [hpl _ hs0, if_pos rfl]
end QB
end
section
section BX
/-! the greatest of some entries -/
variable {S S' : Nat → Prop} {h : Nat → Nat} {r j0 : Nat}
def bx_M (S : Nat → Prop) (h : Nat → Nat) (r : Nat) : Prop := (∀ j, S j → h j ≤ r) ∧ ∀ m, (∀ j, S j → h j ≤ m) → r ≤ m
theorem bx_0 (e : ∀ j, ¬ S j) : bx_M S h 0 := ⟨fun j a => absurd a (e j), fun m _ => Nat.zero_le _⟩
theorem bx_e (M : bx_M S h r) (e : ∀ j, S' j ↔ S j) : bx_M S' h r := ⟨fun j a => M.1 j ((e j).mp a), fun m a => M.2 m (fun j b => a j ((e j).mpr b))⟩
theorem bx_1 (M : bx_M S h r) (e : ∀ j, S' j ↔ S j ∨ j = j0) (hl : h j0 ≤ r) : bx_M S' h r :=
  ⟨fun j a => by
    rcases (e j).mp a with x | x
    · exact M.1 j x
    · rw [x]; exact hl, fun m a => M.2 m (fun j b => a j ((e j).mpr (Or.inl b)))⟩
theorem bx_2 (M : bx_M S h r) (e : ∀ j, S' j ↔ S j ∨ j = j0) (hl : r < h j0) : bx_M S' h (h j0) :=
  ⟨fun j a => by
    rcases (e j).mp a with x | x
    · have := M.1 j x; omega
    · rw [x]; exact Nat.le_refl _, fun m a => a j0 ((e j0).mpr (Or.inr rfl))⟩
theorem bx_l (M : bx_M S h r) {K : Nat} (hb : ∀ j, S j → h j ≤ K) : r ≤ K := M.2 K hb
end BX
section XB
variable {V D N : Nat} {il mt iv hz ib br : Int32} {c b : Nat → Nat} {ne ef g sp : Nat → Option Nat} {im qu tg sg hp pl on tw ca ta ua : Nat → Nat} {ns es ha : Nat → Int32}
theorem xb_if {post : Int32 → Prop} {f : Nat} (hT : gr_T V D N c b ne ef g) (hf : f < 20) (h : post (ot_b (bo_F V D f))) : wpX_isFact post ((nI V), (nI D), (nI (D ^ V)), (nI N), il, mt, iv, hz, ib, br, (ot_n c), (ot_o ne), (ot_o ef), (ot_n b), (ot_o g), (ot_n (ot_pw V D)), (ot_o sp), (ot_n im), (ot_n qu), (ot_n tg), (ot_n sg), (ot_n hp), (ot_n pl), (ot_n on), (ot_n tw), ns, es, ha, (ot_n ca), (ot_n ta), (ot_n ua)) (nI f) := by
  obtain ⟨⟨hV1, hV⟩, ⟨hD, hD4⟩, hN, hc, hb, hne, hef, hg⟩ := id hT
  unfold wpX_isFact
  dsimp only
  rw [ot_r4 (by omega), ot_d4 (by omega)]
  refine ⟨ot_n4, pk_le V (f / 4) (fun a => ?_) (fun a => ⟨ot_n4, pk_le D (f % 4) (fun a2 => ?_) (fun a2 => ?_)⟩)⟩
  · rw [ot_bf (fun x => by have := x.1; omega)] at h; exact h
  · rw [ot_bf (fun x => by have := x.2; omega)] at h; exact h
  · rw [ot_bt ⟨a, a2⟩] at h; exact h
theorem xb_ab {post : Int32 → Prop} {f : Nat} (hT : gr_T V D N c b ne ef g) (hf : f < 20) (hF : bo_F V D f) (h : post (ot_b (bo_b b f))) : wpX_atBegin post ((nI V), (nI D), (nI (D ^ V)), (nI N), il, mt, iv, hz, ib, br, (ot_n c), (ot_o ne), (ot_o ef), (ot_n b), (ot_o g), (ot_n (ot_pw V D)), (ot_o sp), (ot_n im), (ot_n qu), (ot_n tg), (ot_n sg), (ot_n hp), (ot_n pl), (ot_n on), (ot_n tw), ns, es, ha, (ot_n ca), (ot_n ta), (ot_n ua)) (nI f) := by
  obtain ⟨⟨hV1, hV⟩, ⟨hD, hD4⟩, hN, hc, hb, hne, hef, hg⟩ := id hT
  have hbf := hb _ hF.1
  unfold wpX_atBegin
  dsimp only
  rw [ot_r4 (by omega), ot_d4 (by omega), ot_r b (by omega)]
  refine ⟨ot_n4, vp_in_nI (by omega) (by omega), ot_n4, pk_eq (b (f / 4)) (f % 4) (fun a => ?_) (fun a => ?_)⟩
  · rw [ot_bt (show bo_b b f from a)] at h; exact h
  · rw [ot_bf (show ¬ bo_b b f from a)] at h; exact h
theorem xb_im {post : Int32 → Prop} {f h : Nat} (hf : f < 20) (hh : h < 20) (hp2 : post (ot_b (¬ (f = h ∨ f / 4 ≠ h / 4)))) : wpX_impossible post ((nI V), (nI D), (nI (D ^ V)), (nI N), il, mt, iv, hz, ib, br, (ot_n c), (ot_o ne), (ot_o ef), (ot_n b), (ot_o g), (ot_n (ot_pw V D)), (ot_o sp), (ot_n im), (ot_n qu), (ot_n tg), (ot_n sg), (ot_n hp), (ot_n pl), (ot_n on), (ot_n tw), ns, es, ha, (ot_n ca), (ot_n ta), (ot_n ua)) (nI f) (nI h) := by
  unfold wpX_impossible
  dsimp only
  rw [ot_d4 (by omega), ot_d4 (by omega)]
  refine pk_eq f h (fun a => ?_) (fun a => ⟨ot_n4, ot_n4, pk_eq (f / 4) (h / 4) (fun a2 => ?_) (fun a2 => ?_)⟩)
  · rw [ot_bf (fun x => x (Or.inl a))] at hp2; exact hp2
  · rw [ot_bt (fun x => by rcases x with y | y; exact a y; exact y a2)] at hp2; exact hp2
  · rw [ot_bf (fun x => x (Or.inr a2))] at hp2; exact hp2
theorem xb_g1 {post : Int32 → Prop} {G : Nat → Option Nat} {W : Nat} (hW : W ≤ 5) (hG : ∀ v, v < W → ∀ x, G v = some x → x < 4) (hon : ∀ f, f < 20 → on f ≤ 1000000)
    (h : ∀ r, r ≤ 1000000 → bx_M (fun f => f < 20 ∧ f / 4 < W ∧ G (f / 4) = some (f % 4)) on r → post (nI r)) : wpX_greatestOne post ((nI V), (nI D), (nI (D ^ V)), (nI N), il, mt, iv, hz, ib, br, (ot_n c), (ot_o ne), (ot_o ef), (ot_n b), (ot_o g), (ot_n (ot_pw V D)), (ot_o sp), (ot_n im), (ot_n qu), (ot_n tg), (ot_n sg), (ot_n hp), (ot_n pl), (ot_n on), (ot_n tw), ns, es, ha, (ot_n ca), (ot_n ta), (ot_n ua)) (mk_m G W) := by
  have key : ∀ n f r, f ≤ 20 → 20 - f < n → r ≤ 1000000 → bx_M (fun j => j < f ∧ j / 4 < W ∧ G (j / 4) = some (j % 4)) on r → wX_greatestOne_4 post (mk_m G W) (nI V) (nI D) (nI (D ^ V)) (nI N) il mt iv hz ib br (ot_n c) (ot_o ne) (ot_o ef) (ot_n b) (ot_o g) (ot_n (ot_pw V D)) (ot_o sp) (ot_n im) (ot_n qu) (ot_n tg) (ot_n sg) (ot_n hp) (ot_n pl) (ot_n on) (ot_n tw) ns es ha (ot_n ca) (ot_n ta) (ot_n ua) n (nI r) (nI f) := by
    intro n
    induction n with
    | zero => intro f r _ a; omega
    | succ n ih =>
      intro f r hf hn hr hM
      refine pk_le 20 f (fun hx => ?_) (fun hx => ?_)
      · rw [show f = 20 from by omega] at hM
        exact h r hr hM
      · have hbt := mk_mt W hW hG f (by omega)
        refine br_c (fun e => ?_) (fun e => nm_r (nI_1 f) (ih (f + 1) r (by omega) (by omega) hr (bx_e hM (fun j => ?_))))
        · have hF := hbt.mp ((mk_b1 (by omega)).mp e)
          have hnib : ∀ z : Nat, wX_greatestOne_39 post (wX_greatestOne_4 post (mk_m G W) (nI V) (nI D) (nI (D ^ V)) (nI N) il mt iv hz ib br (ot_n c) (ot_o ne) (ot_o ef) (ot_n b) (ot_o g) (ot_n (ot_pw V D)) (ot_o sp) (ot_n im) (ot_n qu) (ot_n tg) (ot_n sg) (ot_n hp) (ot_n pl) (ot_n on) (ot_n tw) ns es ha (ot_n ca) (ot_n ta) (ot_n ua) n) (mk_m G W) (nI f) (nI z) (nI V) (nI D) (nI (D ^ V)) (nI N) il mt iv hz ib br (ot_n c) (ot_o ne) (ot_o ef) (ot_n b) (ot_o g) (ot_n (ot_pw V D)) (ot_o sp) (ot_n im) (ot_n qu) (ot_n tg) (ot_n sg) (ot_n hp) (ot_n pl) (ot_n on) (ot_n tw) ns es ha (ot_n ca) (ot_n ta) (ot_n ua) ↔ wX_greatestOne_4 post (mk_m G W) (nI V) (nI D) (nI (D ^ V)) (nI N) il mt iv hz ib br (ot_n c) (ot_o ne) (ot_o ef) (ot_n b) (ot_o g) (ot_n (ot_pw V D)) (ot_o sp) (ot_n im) (ot_n qu) (ot_n tg) (ot_n sg) (ot_n hp) (ot_n pl) (ot_n on) (ot_n tw) ns es ha (ot_n ca) (ot_n ta) (ot_n ua) n (nI z) (nI (f + 1)) := fun z => by
            have e1 : ((mk_m G W) >>> (nI (f / 4) * 4 &&& 31)) &&& 15 = (1 : Int32) <<< (nI (f % 4) &&& 31) := by
              have := mk_nb hW hG hF.1
              rw [hF.2] at this
              rw [show nI (f / 4) * 4 = nI (4 * (f / 4)) from by rw [Nat.mul_comm]; exact pk_mul (f / 4) 4]
              exact this
            unfold wX_greatestOne_39
            rw [ot_r4 (by omega), ot_d4 (by omega)]
            constructor
            · intro x
              exact x.2.2.1 e1 _ (nI_1 f).symm
            · intro x
              exact ⟨ot_n4, ot_n4, br_t e1 (nm_r (nI_1 f) x)⟩
          have hof := hon f hx
          rw [ot_r on (by omega)]
          have hS : ∀ j, (j < f + 1 ∧ j / 4 < W ∧ G (j / 4) = some (j % 4)) ↔ (j < f ∧ j / 4 < W ∧ G (j / 4) = some (j % 4)) ∨ j = f := fun j => by
            constructor
            · intro ⟨a1, a2⟩
              by_cases ej : j = f
              · exact Or.inr ej
              · exact Or.inl ⟨by omega, a2⟩
            · intro a
              rcases a with ⟨a1, a2⟩ | a
              · exact ⟨by omega, a2⟩
              · rw [a]; exact ⟨by omega, hF⟩
          refine ⟨vp_in_nI (by omega) (by omega), pk_le (on f) r (fun a => (hnib r).mpr (ih (f + 1) r (by omega) (by omega) hr (bx_1 hM hS a))) (fun a => ⟨vp_in_nI (by omega) (by omega), (hnib (on f)).mpr (ih (f + 1) (on f) (by omega) (by omega) hof (bx_2 hM hS a))⟩)⟩
        · have hnF : ¬ (f / 4 < W ∧ G (f / 4) = some (f % 4)) := fun a => e ((mk_b1 (by omega)).mpr (hbt.mpr a))
          constructor
          · intro ⟨a1, a2⟩
            by_cases ej : j = f
            · rw [ej] at a2; exact absurd a2 hnF
            · exact ⟨by omega, a2⟩
          · intro ⟨a1, a2⟩
            exact ⟨by omega, a2⟩
  exact ⟨21, key 21 0 0 (by omega) (by omega) (by omega) (bx_0 (fun j a => by omega))⟩
/-- pairs of a set that come before (f, h) -/
def xb_P (x : Int32) (f h j : Nat) : Prop := bt x (j / 20) = true ∧ bt x (j % 20) = true ∧ j / 20 < 20 ∧ j / 20 ≤ j % 20 ∧ (j / 20 < f ∨ (j / 20 = f ∧ j % 20 < h))
theorem xb_g2 {post : Int32 → Prop} {x : Int32} (htw : ∀ j, j < 400 → tw j ≤ 1000000)
    (h : ∀ r, r ≤ 1000000 → bx_M (fun j => bt x (j / 20) = true ∧ bt x (j % 20) = true ∧ j < 400 ∧ j / 20 ≤ j % 20) tw r → post (nI r)) : wpX_greatestTwo post ((nI V), (nI D), (nI (D ^ V)), (nI N), il, mt, iv, hz, ib, br, (ot_n c), (ot_o ne), (ot_o ef), (ot_n b), (ot_o g), (ot_n (ot_pw V D)), (ot_o sp), (ot_n im), (ot_n qu), (ot_n tg), (ot_n sg), (ot_n hp), (ot_n pl), (ot_n on), (ot_n tw), ns, es, ha, (ot_n ca), (ot_n ta), (ot_n ua)) x := by
  have k13 : ∀ (J : Int32 → Int32 → Prop) f, f < 20 → (∀ r, r ≤ 1000000 → bx_M (xb_P x (f + 1) (f + 1)) tw r → J (nI r) (nI (f + 1))) → ∀ n q r, f ≤ q → q ≤ 20 → 20 - q < n → r ≤ 1000000 → bx_M (xb_P x f q) tw r → wX_greatestTwo_13 post J x (nI f) (nI V) (nI D) (nI (D ^ V)) (nI N) il mt iv hz ib br (ot_n c) (ot_o ne) (ot_o ef) (ot_n b) (ot_o g) (ot_n (ot_pw V D)) (ot_o sp) (ot_n im) (ot_n qu) (ot_n tg) (ot_n sg) (ot_n hp) (ot_n pl) (ot_n on) (ot_n tw) ns es ha (ot_n ca) (ot_n ta) (ot_n ua) n (nI r) (nI q) := by
    intro J f hf hJ n
    induction n with
    | zero => intro q r _ _ a; omega
    | succ n ih =>
      intro q r hfq hq hn hr hM
      refine pk_le 20 q (fun hx => nm_r (nI_1 f) (hJ r hr (bx_e hM (fun j => ?_)))) (fun hx => ?_)
      · unfold xb_P
        have : j % 20 < 20 := Nat.mod_lt _ (by omega)
        constructor
        · intro ⟨a1, a2, a3, a4, a5⟩; exact ⟨a1, a2, a3, a4, by omega⟩
        · intro ⟨a1, a2, a3, a4, a5⟩; exact ⟨a1, a2, a3, a4, by omega⟩
      · have hno : ¬ (bt x f = true ∧ bt x q = true) → wX_greatestTwo_43 post J (wX_greatestTwo_13 post J x (nI f) (nI V) (nI D) (nI (D ^ V)) (nI N) il mt iv hz ib br (ot_n c) (ot_o ne) (ot_o ef) (ot_n b) (ot_o g) (ot_n (ot_pw V D)) (ot_o sp) (ot_n im) (ot_n qu) (ot_n tg) (ot_n sg) (ot_n hp) (ot_n pl) (ot_n on) (ot_n tw) ns es ha (ot_n ca) (ot_n ta) (ot_n ua) n) x (nI r) (nI f) (nI q) (nI V) (nI D) (nI (D ^ V)) (nI N) il mt iv hz ib br (ot_n c) (ot_o ne) (ot_o ef) (ot_n b) (ot_o g) (ot_n (ot_pw V D)) (ot_o sp) (ot_n im) (ot_n qu) (ot_n tg) (ot_n sg) (ot_n hp) (ot_n pl) (ot_n on) (ot_n tw) ns es ha (ot_n ca) (ot_n ta) (ot_n ua) := fun hnb => by
          refine br_t rfl (nm_r (nI_1 q) (ih (q + 1) r (by omega) (by omega) (by omega) hr (bx_e hM (fun j => ?_))))
          unfold xb_P
          constructor
          · intro ⟨a1, a2, a3, a4, a5⟩
            refine ⟨a1, a2, a3, a4, ?_⟩
            by_cases e : j / 20 = f ∧ j % 20 = q
            · rw [e.1] at a1; rw [e.2] at a2; exact absurd ⟨a1, a2⟩ hnb
            · omega
          · intro ⟨a1, a2, a3, a4, a5⟩; exact ⟨a1, a2, a3, a4, by omega⟩
        refine br_c (fun e1 => ?_) (fun e1 => hno (fun a => e1 ((mk_b1 (by omega)).mpr a.1)))
        refine br_c (fun e2 => ?_) (fun e2 => hno (fun a => e2 ((mk_b1 (by omega)).mpr a.2)))
        have b1 := (mk_b1 (by omega)).mp e1
        have b2 := (mk_b1 (by omega)).mp e2
        unfold wX_greatestTwo_44
        have hjl : 20 * f + q < 400 := by omega
        have htwj := htw _ hjl
        have hS : ∀ j, xb_P x f (q + 1) j ↔ xb_P x f q j ∨ j = 20 * f + q := fun j => by
          unfold xb_P
          constructor
          · intro ⟨a1, a2, a3, a4, a5⟩
            by_cases e : j = 20 * f + q
            · exact Or.inr e
            · exact Or.inl ⟨a1, a2, a3, a4, by omega⟩
          · intro a
            rcases a with ⟨a1, a2, a3, a4, a5⟩ | a
            · exact ⟨a1, a2, a3, a4, by omega⟩
            · rw [a, show (20 * f + q) / 20 = f from by omega, show (20 * f + q) % 20 = q from by omega]
              exact ⟨b1, b2, hf, hfq, by omega⟩
        rw [ot_ix20, ot_r tw (by omega)]
        refine br_f ot_10 ⟨vp_in_nI (by omega) (by omega), pk_le (tw (20 * f + q)) r (fun a => nm_r (nI_1 q) (ih (q + 1) r (by omega) (by omega) (by omega) hr (bx_1 hM hS a))) (fun a => ⟨vp_in_nI (by omega) (by omega), nm_e (nm_r (nI_1 q) (ih (q + 1) (tw (20 * f + q)) (by omega) (by omega) (by omega) htwj (bx_2 hM hS a)))⟩)⟩
  have k4 : ∀ n f r, f ≤ 20 → 20 - f < n → r ≤ 1000000 → bx_M (xb_P x f f) tw r → wX_greatestTwo_4 post x (nI V) (nI D) (nI (D ^ V)) (nI N) il mt iv hz ib br (ot_n c) (ot_o ne) (ot_o ef) (ot_n b) (ot_o g) (ot_n (ot_pw V D)) (ot_o sp) (ot_n im) (ot_n qu) (ot_n tg) (ot_n sg) (ot_n hp) (ot_n pl) (ot_n on) (ot_n tw) ns es ha (ot_n ca) (ot_n ta) (ot_n ua) n (nI r) (nI f) := by
    intro n
    induction n with
    | zero => intro f r _ a; omega
    | succ n ih =>
      intro f r hf hn hr hM
      refine pk_le 20 f (fun hx => h r hr (bx_e hM (fun j => ?_))) (fun hx => ⟨21, k13 _ f hx (fun r2 hr2 hM2 => ih (f + 1) r2 (by omega) (by omega) hr2 hM2) 21 f r (by omega) (by omega) (by omega) hr hM⟩)
      unfold xb_P
      constructor
      · intro ⟨a1, a2, a3, a4⟩; exact ⟨a1, a2, by omega, a4, by omega⟩
      · intro ⟨a1, a2, a3, a4, a5⟩; exact ⟨a1, a2, by omega, a4⟩
  exact ⟨21, k4 21 0 0 (by omega) (by omega) (by omega) (bx_0 (fun j a => by unfold xb_P at a; omega))⟩
theorem xb_sv {post : Int32 → Prop} {o f h : Nat} (hT : gr_T V D N c b ne ef g) (hes : ∀ o, o < N → es o = mk_m (fun w => ef (5 * o + w)) V) (ho : o < N) (hf : f < 20) (hh : h < 20) (hfV : f / 4 < V) (hhV : h / 4 < V) (hw : f = h ∨ f / 4 ≠ h / 4)
    (hp2 : post (ot_b (bo_s ef o f h))) : wpX_serves post ((nI V), (nI D), (nI (D ^ V)), (nI N), il, mt, iv, hz, ib, br, (ot_n c), (ot_o ne), (ot_o ef), (ot_n b), (ot_o g), (ot_n (ot_pw V D)), (ot_o sp), (ot_n im), (ot_n qu), (ot_n tg), (ot_n sg), (ot_n hp), (ot_n pl), (ot_n on), (ot_n tw), ns, es, ha, (ot_n ca), (ot_n ta), (ot_n ua)) (nI o) (mk_m (mk_2 f h) 5) := by
  obtain ⟨⟨hV1, hV⟩, ⟨hD, hD4⟩, hN, hc, hb, hne, hef, hg⟩ := id hT
  have hE4 : ∀ v, v < V → ∀ x, ef (5 * o + v) = some x → x < 4 := fun v hv x e => by have := hef o ho v hv x e; omega
  have m2f : mk_2 f h (f / 4) = some (f % 4) := if_pos rfl
  have m2h : mk_2 f h (h / 4) = some (h % 4) := by
    unfold mk_2
    rcases hw with e | e
    · rw [e, if_pos rfl]
    · rw [if_neg (fun x => e x.symm), if_pos rfl]
  have m2n : ∀ v, v ≠ f / 4 → v ≠ h / 4 → mk_2 f h v = none := fun v a a2 => by
    unfold mk_2
    rw [if_neg a, if_neg a2]
  have hso : ∀ w, ∀ x, mk_2 f h w = some x → x < 4 := fun w x e => mk_24 e
  -- a common fact
  have hcom : (es o) &&& (mk_m (mk_2 f h) 5) = 0 ↔ ¬ (ef (5 * o + f / 4) = some (f % 4) ∨ ef (5 * o + h / 4) = some (h % 4)) := by
    rw [hes o ho, mk_eq0]
    constructor
    · intro a x
      rcases x with x | x
      · have h1 := a f (by omega)
        rw [b_and, (mk_mt V hV hE4 f (by omega)).mpr ⟨hfV, x⟩, (mk_mt (g := mk_2 f h) 5 (by omega) (fun v _ x e => mk_24 e) f (by omega)).mpr ⟨by omega, m2f⟩] at h1
        exact nomatch h1
      · have h1 := a h (by omega)
        rw [b_and, (mk_mt V hV hE4 h (by omega)).mpr ⟨hhV, x⟩, (mk_mt (g := mk_2 f h) 5 (by omega) (fun v _ x e => mk_24 e) h (by omega)).mpr ⟨by omega, m2h⟩] at h1
        exact nomatch h1
    · intro a i hi
      rw [b_and]
      cases e1 : bt (mk_m (fun w => ef (5 * o + w)) V) i with
      | false => rfl
      | true =>
        cases e2 : bt (mk_m (mk_2 f h) 5) i with
        | false => rfl
        | true =>
          obtain ⟨x1, x2⟩ := (mk_mt V hV hE4 i hi).mp e1
          obtain ⟨y1, y2⟩ := (mk_mt 5 (by omega) (fun v _ x e => mk_24 e) i hi).mp e2
          by_cases z1 : i / 4 = f / 4
          · rw [z1, m2f] at y2
            rw [z1, ← y2] at x2
            exact absurd (Or.inl x2) a
          · by_cases z2 : i / 4 = h / 4
            · rw [z2, m2h] at y2
              rw [z2, ← y2] at x2
              exact absurd (Or.inr x2) a
            · rw [m2n _ z1 z2] at y2; exact nomatch y2
  unfold wpX_serves
  dsimp only
  rw [nI_clamp (by omega)]
  refine ⟨pk_in o 10 (by omega), br_c (fun e => ?_) (fun e => ⟨V + 1, ?_⟩)⟩
  · rw [ot_bf (fun a => hcom.mp e a.1)] at hp2; exact hp2
  · have hc1 : ef (5 * o + f / 4) = some (f % 4) ∨ ef (5 * o + h / 4) = some (h % 4) := Classical.not_not.mp (fun a => e (hcom.mpr a))
    have key : ∀ n v (q : Prop), v ≤ V → V - v < n → (q ↔ ∀ w, w < v → (ef (5 * o + w) = none ∨ mk_2 f h w = none ∨ ef (5 * o + w) = mk_2 f h w)) → wX_serves_18 post (nI o) (mk_m (mk_2 f h) 5) (nI V) (nI D) (nI (D ^ V)) (nI N) il mt iv hz ib br (ot_n c) (ot_o ne) (ot_o ef) (ot_n b) (ot_o g) (ot_n (ot_pw V D)) (ot_o sp) (ot_n im) (ot_n qu) (ot_n tg) (ot_n sg) (ot_n hp) (ot_n pl) (ot_n on) (ot_n tw) ns es ha (ot_n ca) (ot_n ta) (ot_n ua) n (ot_b q) (nI v) := by
      intro n
      induction n with
      | zero => intro v q _ a; omega
      | succ n ih =>
        intro v q hv hn hq
        refine pk_le V v (fun hx => ?_) (fun hx => ?_)
        · have e2 : q ↔ bo_s ef o f h := by
            rw [hq]
            constructor
            · intro a
              refine ⟨hc1, fun x e3 => ?_, fun x e3 => ?_⟩
              · rcases a (f / 4) (by omega) with z | z | z
                · rw [z] at e3; exact nomatch e3
                · rw [m2f] at z; exact nomatch z
                · rw [e3, m2f] at z; exact Option.some.inj z
              · rcases a (h / 4) (by omega) with z | z | z
                · rw [z] at e3; exact nomatch e3
                · rw [m2h] at z; exact nomatch z
                · rw [e3, m2h] at z; exact Option.some.inj z
            · intro ⟨_, a1, a2⟩ w _
              cases e3 : ef (5 * o + w) with
              | none => exact Or.inl rfl
              | some x =>
                by_cases z1 : w = f / 4
                · rw [z1] at e3 ⊢
                  rw [m2f, a1 x e3]; exact Or.inr (Or.inr rfl)
                · by_cases z2 : w = h / 4
                  · rw [z2] at e3 ⊢
                    rw [m2h, a2 x e3]; exact Or.inr (Or.inr rfl)
                  · rw [m2n w z1 z2]; exact Or.inr (Or.inl rfl)
          rw [propext e2]
          refine ⟨?_, hp2⟩
          by_cases k2 : bo_s ef o f h
          · rw [ot_bt k2]; exact narrow_b1
          · rw [ot_bf k2]; exact narrow_b0
        · have k1 : ∀ q2 : Prop, (q2 ↔ ∀ w, w < v + 1 → (ef (5 * o + w) = none ∨ mk_2 f h w = none ∨ ef (5 * o + w) = mk_2 f h w)) → ∀ z, z = ot_b q2 → ∀ x4, x4 = nI v + 1 → wX_serves_18 post (nI o) (mk_m (mk_2 f h) 5) (nI V) (nI D) (nI (D ^ V)) (nI N) il mt iv hz ib br (ot_n c) (ot_o ne) (ot_o ef) (ot_n b) (ot_o g) (ot_n (ot_pw V D)) (ot_o sp) (ot_n im) (ot_n qu) (ot_n tg) (ot_n sg) (ot_n hp) (ot_n pl) (ot_n on) (ot_n tw) ns es ha (ot_n ca) (ot_n ta) (ot_n ua) n z x4 := fun q2 h2 z e1 x4 e2 => by
            rw [e1, e2, nI_1]
            exact ih (v + 1) q2 (by omega) (by omega) h2
          have kt : q → (ef (5 * o + v) = none ∨ mk_2 f h v = none ∨ ef (5 * o + v) = mk_2 f h v) → ∀ x4, x4 = nI v + 1 → wX_serves_18 post (nI o) (mk_m (mk_2 f h) 5) (nI V) (nI D) (nI (D ^ V)) (nI N) il mt iv hz ib br (ot_n c) (ot_o ne) (ot_o ef) (ot_n b) (ot_o g) (ot_n (ot_pw V D)) (ot_o sp) (ot_n im) (ot_n qu) (ot_n tg) (ot_n sg) (ot_n hp) (ot_n pl) (ot_n on) (ot_n tw) ns es ha (ot_n ca) (ot_n ta) (ot_n ua) n 1 x4 := fun hq1 a => k1 True ⟨fun _ w hw2 => by
            by_cases ew : w = v
            · rw [ew]; exact a
            · exact hq.mp hq1 w (by omega), fun _ => trivial⟩ 1 (ot_bt trivial).symm
          refine ⟨pk_in o 10 (by omega), nm_r (e' := mk_w (ef (5 * o + v))) ?_ (nm_r (e' := mk_w (mk_2 f h v)) ?_ ?_)⟩
          · rw [nI_clamp (by omega), hes o ho, ot_m4]
            exact mk_nb hV hE4 hx
          · rw [ot_m4]
            exact mk_nb (by omega) (fun v _ x e => mk_24 e) (by omega)
          · refine ot_bb q (fun hq0 => ?_) (fun hq1 => ?_)
            · exact k1 False ⟨fun a => a.elim, fun a => hq0 (hq.mpr (fun w hw2 => a w (by omega)))⟩ 0 (ot_bf id).symm
            · refine br_c (fun e1 => kt hq1 (Or.inl ((mk_w0 (hE4 v hx)).mp e1))) (fun e1 => br_c (fun e2 => kt hq1 (Or.inr (Or.inl ((mk_w0 (hso v)).mp e2)))) (fun e2 => br_c (fun e3 => kt hq1 (Or.inr (Or.inr ((mk_wi (hE4 v hx) (hso v)).mp e3)))) (fun e3 => ?_)))
              refine k1 False ⟨fun a => a.elim, fun a => ?_⟩ 0 (ot_bf id).symm
              rcases a v (by omega) with z | z | z
              · exact e1 ((mk_w0 (hE4 v hx)).mpr z)
              · exact e2 ((mk_w0 (hso v)).mpr z)
              · exact e3 ((mk_wi (hE4 v hx) (hso v)).mpr z)
    have h1 := key (V + 1) 0 True (by omega) (by omega) ⟨fun _ w a => by omega, fun _ => trivial⟩
    rw [ot_bt trivial] at h1
    exact h1
end XB
end
section
section XL
variable {V D N : Nat} {il mt iv hz ib br : Int32} {c b : Nat → Nat} {ne ef g sp : Nat → Option Nat} {im qu tg sg hp pl on tw ca ta ua : Nat → Nat} {ns es ha : Nat → Int32}
/-- the least of a start and of the sums by all operators that serve -/
def xl_M (N : Nat) (c : Nat → Nat) (sv : Nat → Prop) (P : Nat → Nat → Prop) (h : Nat → Nat) (x0 k r : Nat) : Prop :=
  r ≤ x0 ∧ (∀ o, o < k → o < N → sv o → ∀ m, (∀ j, P o j → h j ≤ m) → r ≤ c o + m) ∧ ∀ x, x ≤ x0 → (∀ o, o < k → o < N → sv o → ∀ m, (∀ j, P o j → h j ≤ m) → x ≤ c o + m) → x ≤ r
theorem xl_0 {sv : Nat → Prop} {P : Nat → Nat → Prop} {h : Nat → Nat} {x0 : Nat} : xl_M N c sv P h x0 0 x0 := ⟨Nat.le_refl _, fun o a => by omega, fun x a _ => a⟩
theorem xl_n {sv : Nat → Prop} {P : Nat → Nat → Prop} {h : Nat → Nat} {x0 k r : Nat} (M : xl_M N c sv P h x0 k r) (hn : ¬ sv k) : xl_M N c sv P h x0 (k + 1) r := by
  obtain ⟨a1, a2, a3⟩ := M
  refine ⟨a1, fun o b1 b2 b3 => ?_, fun x b1 b2 => a3 x b1 (fun o b3 => b2 o (by omega))⟩
  by_cases e : o = k
  · rw [e] at b3; exact absurd b3 hn
  · exact a2 o (by omega) b2 b3
theorem xl_1 {sv : Nat → Prop} {P : Nat → Nat → Prop} {h : Nat → Nat} {x0 k r m : Nat} (M : xl_M N c sv P h x0 k r) (hm : bx_M (P k) h m) (hl : r ≤ m + c k) : xl_M N c sv P h x0 (k + 1) r := by
  obtain ⟨a1, a2, a3⟩ := M
  refine ⟨a1, fun o b1 b2 b3 m2 b4 => ?_, fun x b1 b2 => a3 x b1 (fun o b3 => b2 o (by omega))⟩
  by_cases e : o = k
  · rw [e] at b4 ⊢
    have := hm.2 m2 b4
    omega
  · exact a2 o (by omega) b2 b3 m2 b4
theorem xl_2 {sv : Nat → Prop} {P : Nat → Nat → Prop} {h : Nat → Nat} {x0 k r m : Nat} (M : xl_M N c sv P h x0 k r) (hk : k < N) (hs : sv k) (hm : bx_M (P k) h m) (hl : m + c k < r) : xl_M N c sv P h x0 (k + 1) (m + c k) := by
  obtain ⟨a1, a2, a3⟩ := M
  refine ⟨by omega, fun o b1 b2 b3 m2 b4 => ?_, fun x b1 b2 => ?_⟩
  · by_cases e : o = k
    · rw [e] at b4 ⊢
      have := hm.2 m2 b4
      omega
    · have := a2 o (by omega) b2 b3 m2 b4
      omega
  · have := b2 k (by omega) hk hs m hm.1
    omega
theorem xl_one {post : Int32 → Prop} {f : Nat} (hT : gr_T V D N c b ne ef g) (hL : wl_L V D N ne ef sp ns es) (hon : ∀ f, f < 20 → on f ≤ 1000000) (hf : f < 20) (hF : bo_F V D f)
    (h : ∀ r, xl_M N c (fun o => ef (5 * o + f / 4) = some (f % 4)) (fun o j => j < 20 ∧ bo_n V ne o j) on (on f) N r → post (nI r)) : wpX_lowerOne post ((nI V), (nI D), (nI (D ^ V)), (nI N), il, mt, iv, hz, ib, br, (ot_n c), (ot_o ne), (ot_o ef), (ot_n b), (ot_o g), (ot_n (ot_pw V D)), (ot_o sp), (ot_n im), (ot_n qu), (ot_n tg), (ot_n sg), (ot_n hp), (ot_n pl), (ot_n on), (ot_n tw), ns, es, ha, (ot_n ca), (ot_n ta), (ot_n ua)) (nI f) := by
  obtain ⟨⟨hV1, hV⟩, ⟨hD, hD4⟩, hN, hc, hb, hne, hef, hg⟩ := id hT
  have hof := hon f hf
  have key : ∀ n o r, o ≤ N → N - o < n → xl_M N c (fun o => ef (5 * o + f / 4) = some (f % 4)) (fun o j => j < 20 ∧ bo_n V ne o j) on (on f) o r → wX_lowerOne_9 post (nI f) (nI V) (nI D) (nI (D ^ V)) (nI N) il mt iv hz ib br (ot_n c) (ot_o ne) (ot_o ef) (ot_n b) (ot_o g) (ot_n (ot_pw V D)) (ot_o sp) (ot_n im) (ot_n qu) (ot_n tg) (ot_n sg) (ot_n hp) (ot_n pl) (ot_n on) (ot_n tw) ns es ha (ot_n ca) (ot_n ta) (ot_n ua) n (nI r) (nI o) := by
    intro n
    induction n with
    | zero => intro o r _ a; omega
    | succ n ih =>
      intro o r ho hn hM
      have hr := hM.1
      refine pk_le N o (fun hx => ?_) (fun hx => ?_)
      · rw [show o = N from by omega] at hM
        exact h r hM
      · rw [mk_1s hf]
        have hco := hc o hx
        refine xb_sv hT hL.2.2 hx hf hf hF.1 hF.1 (Or.inl rfl) (ot_bb _ (fun a => nm_r (nI_1 o) (ih (o + 1) r (by omega) (by omega) (xl_n hM (fun x => a ⟨Or.inl x, fun y e => ?_, fun y e => ?_⟩)))) (fun a => ⟨pk_in o 10 (by omega), ?_⟩))
        · have x2 : ef (5 * o + f / 4) = some (f % 4) := x
          rw [x2] at e; exact (Option.some.inj e).symm
        · have x2 : ef (5 * o + f / 4) = some (f % 4) := x
          rw [x2] at e; exact (Option.some.inj e).symm
        · have hs : ef (5 * o + f / 4) = some (f % 4) := by rcases a.1 with x | x <;> exact x
          rw [nI_clamp (by omega), hL.2.1 o hx]
          refine xb_g1 hV (fun v hv x e => by have := hne o hx v hv x e; omega) hon (fun m hm1 hm => ?_)
          rw [show ot_n c o = nI (c o) from rfl, nI_add]
          refine ⟨pk_in o 10 (by omega), pk_le r (m + c o) (fun b1 => nm_r (nI_1 o) (ih (o + 1) r (by omega) (by omega) (xl_1 hM hm b1))) (fun b1 => ⟨pk_in o 10 (by omega), nm_e (nm_r (nI_1 o) (ih (o + 1) (m + c o) (by omega) (by omega) (xl_2 hM hx hs hm b1)))⟩)⟩
  exact ⟨pk_in f 20 hf, nm_r (ot_r on (by omega)) ⟨N + 1, key (N + 1) 0 (on f) (by omega) (by omega) xl_0⟩⟩
/-- the rest's bits -/
theorem xl_rb {o f h i : Nat} (hT : gr_T V D N c b ne ef g) (ho : o < N) (hf : f < 20) (hh : h < 20) (hfV : f / 4 < V) (hhV : h / 4 < V) (hw : f = h ∨ f / 4 ≠ h / 4) (hs : bo_s ef o f h) (hi : i < 20) :
    bt ((mk_m (fun w => ne (5 * o + w)) V) ||| ((mk_m (mk_2 f h) 5) &&& ((mk_m (fun w => ef (5 * o + w)) V) ^^^ (-1)))) i = true ↔ bo_r V ne ef o f h i := by
  obtain ⟨⟨hV1, hV⟩, ⟨hD, hD4⟩, hN, hc, hb, hne, hef, hg⟩ := id hT
  have hE := mk_mt (g := fun w => ef (5 * o + w)) V hV (fun v hv x e => by have := hef o ho v hv x e; omega) i (by omega)
  have hNe := mk_mt (g := fun w => ne (5 * o + w)) V hV (fun v hv x e => by have := hne o ho v hv x e; omega) i (by omega)
  have h2 : bt (mk_m (mk_2 f h) 5) i = true ↔ i = f ∨ i = h := by
    rw [← mk_2s hf hh hw, b_or, mk_one (by omega) (by omega), mk_one (by omega) (by omega), Bool.or_eq_true, decide_eq_true_eq, decide_eq_true_eq]
  rw [b_or, b_and, b_xor, b_m1 i (by omega), Bool.or_eq_true, hNe, Bool.and_eq_true, h2]
  unfold bo_r bo_n
  constructor
  · intro a
    rcases a with a | ⟨a1, a2⟩
    · exact Or.inl a
    · have hnE : ¬ (i / 4 < V ∧ ef (5 * o + i / 4) = some (i % 4)) := fun x => by
        rw [hE.mpr x] at a2; exact nomatch a2
      rcases a1 with e | e
      · rw [e] at hnE
        refine Or.inr (Or.inl ⟨e, ?_⟩)
        cases e2 : ef (5 * o + f / 4) with
        | none => rfl
        | some x => exact absurd ⟨hfV, by rw [e2, hs.2.1 x e2]⟩ hnE
      · rw [e] at hnE
        refine Or.inr (Or.inr ⟨e, ?_⟩)
        cases e2 : ef (5 * o + h / 4) with
        | none => rfl
        | some x => exact absurd ⟨hhV, by rw [e2, hs.2.2 x e2]⟩ hnE
  · intro a
    rcases a with a | ⟨a1, a2⟩ | ⟨a1, a2⟩
    · exact Or.inl a
    · refine Or.inr ⟨Or.inl a1, ?_⟩
      cases e2 : bt (mk_m (fun w => ef (5 * o + w)) V) i with
      | false => rfl
      | true =>
        have := (hE.mp e2).2
        rw [a1, a2] at this; exact nomatch this
    · refine Or.inr ⟨Or.inr a1, ?_⟩
      cases e2 : bt (mk_m (fun w => ef (5 * o + w)) V) i with
      | false => rfl
      | true =>
        have := (hE.mp e2).2
        rw [a1, a2] at this; exact nomatch this
def xl_S (h : Nat → Nat) : Prop := ∀ x y, x < 20 → y < 20 → h (20 * x + y) = h (20 * y + x)
theorem xl_two {post : Int32 → Prop} {f h : Nat} (hT : gr_T V D N c b ne ef g) (hL : wl_L V D N ne ef sp ns es) (htw : ∀ j, j < 400 → tw j ≤ 1000000) (hsy : xl_S tw) (hf : f < 20) (hh : h < 20) (hw : bo_w V D f h)
    (hp2 : ∀ r, xl_M N c (fun o => bo_s ef o f h) (bo_q V ne ef · f h) tw (tw (20 * f + h)) N r → post (nI r)) : wpX_lowerTwo post ((nI V), (nI D), (nI (D ^ V)), (nI N), il, mt, iv, hz, ib, br, (ot_n c), (ot_o ne), (ot_o ef), (ot_n b), (ot_o g), (ot_n (ot_pw V D)), (ot_o sp), (ot_n im), (ot_n qu), (ot_n tg), (ot_n sg), (ot_n hp), (ot_n pl), (ot_n on), (ot_n tw), ns, es, ha, (ot_n ca), (ot_n ta), (ot_n ua)) (nI f) (nI h) := by
  obtain ⟨⟨hV1, hV⟩, ⟨hD, hD4⟩, hN, hc, hb, hne, hef, hg⟩ := id hT
  have hof := htw (20 * f + h) (by omega)
  have key : ∀ n o r, o ≤ N → N - o < n → xl_M N c (fun o => bo_s ef o f h) (bo_q V ne ef · f h) tw (tw (20 * f + h)) o r → wX_lowerTwo_24 post (mk_m (mk_2 f h) 5) (nI V) (nI D) (nI (D ^ V)) (nI N) il mt iv hz ib br (ot_n c) (ot_o ne) (ot_o ef) (ot_n b) (ot_o g) (ot_n (ot_pw V D)) (ot_o sp) (ot_n im) (ot_n qu) (ot_n tg) (ot_n sg) (ot_n hp) (ot_n pl) (ot_n on) (ot_n tw) ns es ha (ot_n ca) (ot_n ta) (ot_n ua) n (nI r) (nI o) := by
    intro n
    induction n with
    | zero => intro o r _ a; omega
    | succ n ih =>
      intro o r ho hn hM
      have hr := hM.1
      refine pk_le N o (fun hx => ?_) (fun hx => ?_)
      · rw [show o = N from by omega] at hM
        exact hp2 r hM
      · have hco := hc o hx
        refine xb_sv hT hL.2.2 hx hf hh hw.1.1 hw.2.1.1 hw.2.2 (ot_bb _ (fun a => nm_r (nI_1 o) (ih (o + 1) r (by omega) (by omega) (xl_n hM a))) (fun a => ⟨pk_in o 10 (by omega), pk_in o 10 (by omega), ?_⟩))
        rw [nI_clamp (by omega), hL.2.1 o hx, hL.2.2 o hx]
        refine xb_g2 htw (fun m hm1 hm0 => ?_)
        have hrb := fun i (hi : i < 20) => xl_rb hT hx hf hh hw.1.1 hw.2.1.1 hw.2.2 a hi
        have hm : bx_M (bo_q V ne ef o f h) tw m := by
          refine ⟨fun j ⟨x, y, hx2, hy2, ej, r1, r2⟩ => ?_, fun m2 hm2 => hm0.2 m2 (fun j ⟨a1, a2, a3, a4⟩ => ?_)⟩
          · have b1 := (hrb x hx2).mpr r1
            have b2 := (hrb y hy2).mpr r2
            rw [ej]
            by_cases le : x ≤ y
            · refine hm0.1 _ ?_
              dsimp only
              rw [show (20 * x + y) / 20 = x from by omega, show (20 * x + y) % 20 = y from by omega]
              exact ⟨b1, b2, by omega, le⟩
            · rw [hsy x y hx2 hy2]
              refine hm0.1 _ ?_
              dsimp only
              rw [show (20 * y + x) / 20 = y from by omega, show (20 * y + x) % 20 = x from by omega]
              exact ⟨b2, b1, by omega, by omega⟩
          · exact hm2 j ⟨j / 20, j % 20, by omega, by omega, by omega, (hrb _ (by omega)).mp a1, (hrb _ (by omega)).mp a2⟩
        rw [show ot_n c o = nI (c o) from rfl, nI_add]
        refine ⟨pk_in o 10 (by omega), pk_le r (m + c o) (fun b1 => nm_r (nI_1 o) (ih (o + 1) r (by omega) (by omega) (xl_1 hM hm b1))) (fun b1 => ⟨pk_in o 10 (by omega), nm_e (nm_r (nI_1 o) (ih (o + 1) (m + c o) (by omega) (by omega) (xl_2 hM hx a hm b1)))⟩)⟩
  unfold wpX_lowerTwo
  dsimp only
  rw [ot_ix20, mk_2s hf hh hw.2.2]
  exact nm_e ⟨vp_in_nI (by omega) (by omega), nm_r (ot_r tw (by omega)) ⟨N + 1, key (N + 1) 0 _ (by omega) (by omega) xl_0⟩⟩
end XL
end
section
section XS
/-! one sweep -/
variable {K : Nat} {R : Nat → Nat → (Nat → Prop) → Prop} {G h0 h : Nat → Nat} {vis vis2 : Nat → Prop} {x : Nat}
def xs_E (K : Nat) (h h0 : Nat → Nat) : Prop := ∃ i, i < K ∧ h i < h0 i
def xs_R (K : Nat) (R : Nat → Nat → (Nat → Prop) → Prop) (h0 : Nat → Nat) (i r : Nat) : Prop := ∀ c P, R i c P → ∀ m, (∀ j, j < K → P j → h0 j ≤ m) → r ≤ c + m
def xs_I (K : Nat) (R : Nat → Nat → (Nat → Prop) → Prop) (G h0 h : Nat → Nat) (vis : Nat → Prop) (x : Nat) : Prop :=
  (∀ i, i < K → G i ≤ h i) ∧ (∀ i, i < K → h i ≤ h0 i) ∧ (∀ i, i < K → vis i → xs_R K R h0 i (h i)) ∧ ((x = 0 ∧ ∀ i, i < K → h i = h0 i) ∨ (x = 1 ∧ xs_E K h h0))
theorem xs_0 (hG : ∀ i, i < K → G i ≤ h0 i) (hv : ∀ i, ¬ vis i) : xs_I K R G h0 h0 vis 0 :=
  ⟨hG, fun _ _ => Nat.le_refl _, fun i _ a => absurd a (hv i), Or.inl ⟨rfl, fun _ _ => rfl⟩⟩
theorem xs_st (I : xs_I K R G h0 h vis x) {i0 r : Nat} (hi : i0 < K) (hr : r ≤ h i0) (hGr : G i0 ≤ r) (hR : xs_R K R h0 i0 r) (hv : ∀ i, i < K → vis2 i → vis i ∨ i = i0) {x2 : Nat} (hx2 : (x2 = 0 ∧ x = 0 ∧ r = h i0) ∨ (x2 = 1 ∧ (x = 1 ∨ r < h i0))) : xs_I K R G h0 (ot_u h i0 r) vis2 x2 := by
  obtain ⟨a1, a2, a3, a4⟩ := I
  have hle : ∀ i, ot_u h i0 r i ≤ h i := fun i => by
    by_cases e : i = i0
    · rw [e, ot_us]; exact hr
    · rw [ot_un e]; exact Nat.le_refl _
  refine ⟨fun i b1 => ?_, fun i b1 => Nat.le_trans (hle i) (a2 i b1), fun i b1 b2 => ?_, ?_⟩
  · by_cases e : i = i0
    · rw [e, ot_us]; exact hGr
    · rw [ot_un e]; exact a1 i b1
  · by_cases e : i = i0
    · rw [e, ot_us]; exact hR
    · rw [ot_un e]
      rcases hv i b1 b2 with b3 | b3
      · exact a3 i b1 b3
      · exact absurd b3 e
  · rcases hx2 with ⟨b1, b2, b3⟩ | ⟨b1, b2⟩
    · rcases a4 with ⟨c1, c2⟩ | ⟨c1, c2⟩
      · refine Or.inl ⟨b1, fun i hi2 => ?_⟩
        by_cases e : i = i0
        · rw [e, ot_us, b3]; exact c2 i0 hi
        · rw [ot_un e]; exact c2 i hi2
      · omega
    · refine Or.inr ⟨b1, ?_⟩
      rcases b2 with b2 | b2
      · rcases a4 with ⟨c1, c2⟩ | ⟨c1, ⟨i, c2, c3⟩⟩
        · omega
        · exact ⟨i, c2, Nat.lt_of_le_of_lt (hle i) c3⟩
      · exact ⟨i0, hi, by rw [ot_us]; exact Nat.lt_of_lt_of_le b2 (a2 i0 hi)⟩
variable {V D N : Nat} {il mt iv hz ib br : Int32} {c b : Nat → Nat} {ne ef g sp : Nat → Option Nat} {im qu tg sg hp pl on tw ca ta ua : Nat → Nat} {ns es ha : Nat → Int32}
theorem xs_61 {post : Int32 → SX → Prop} {J : Int32 → Int32 → (Nat → Int32) → (Nat → Int32) → (Nat → Int32) → (Nat → Int32) → (Nat → Int32) → (Nat → Int32) → (Nat → Int32) → (Nat → Int32) → (Nat → Int32) → (Nat → Int32) → (Nat → Int32) → (Nat → Int32) → (Nat → Int32) → (Nat → Int32) → (Nat → Int32) → (Nat → Int32) → (Nat → Int32) → (Nat → Int32) → (Nat → Int32) → (Nat → Int32) → (Nat → Int32) → Prop} {f x r : Nat} (hf : f < 20) (hof : on f < 2 ^ 31) (hr : r < 2 ^ 31) (hx : x = 0 ∨ x = 1)
    (hJ : ∀ x2 : Nat, ((x2 = 0 ∧ x = 0 ∧ on f ≤ r) ∨ (x2 = 1 ∧ (x = 1 ∨ r < on f))) → J (nI x2) (nI (f + 1)) (ot_n c) (ot_o ne) (ot_o ef) (ot_n b) (ot_o g) (ot_n (ot_pw V D)) (ot_o sp) (ot_n im) (ot_n qu) (ot_n tg) (ot_n sg) (ot_n hp) (ot_n pl) (ot_n (ot_u on f r)) (ot_n tw) ns es ha (ot_n ca) (ot_n ta) (ot_n ua)) : wX_lowerOnes_41 post J (nI x) (nI f) (nI r) (nI V) (nI D) (nI (D ^ V)) (nI N) il mt iv hz ib br (ot_n c) (ot_o ne) (ot_o ef) (ot_n b) (ot_o g) (ot_n (ot_pw V D)) (ot_o sp) (ot_n im) (ot_n qu) (ot_n tg) (ot_n sg) (ot_n hp) (ot_n pl) (ot_n on) (ot_n tw) ns es ha (ot_n ca) (ot_n ta) (ot_n ua) := by
  have h61 : ∀ x2 : Nat, ((x2 = 0 ∧ x = 0 ∧ on f ≤ r) ∨ (x2 = 1 ∧ (x = 1 ∨ r < on f))) → wX_lowerOnes_61 post J (nI f) (nI r) (nI x2) (nI V) (nI D) (nI (D ^ V)) (nI N) il mt iv hz ib br (ot_n c) (ot_o ne) (ot_o ef) (ot_n b) (ot_o g) (ot_n (ot_pw V D)) (ot_o sp) (ot_n im) (ot_n qu) (ot_n tg) (ot_n sg) (ot_n hp) (ot_n pl) (ot_n on) (ot_n tw) ns es ha (ot_n ca) (ot_n ta) (ot_n ua) := fun x2 h2 =>
    ⟨pk_in f 20 hf, nm_r (ot_upd' on (nI_clamp (by omega)) rfl) (nm_r (nI_1 f) (hJ x2 h2))⟩
  unfold wX_lowerOnes_41
  rw [ot_r on (by omega)]
  rcases hx with e | e
  · rw [e]
    refine br_t rfl ⟨pk_in f 20 hf, pk_le (on f) r (fun a => h61 0 (Or.inl ⟨rfl, e, a⟩)) (fun a => h61 1 (Or.inr ⟨rfl, Or.inr a⟩))⟩
  · rw [e]
    exact br_f ot_10 (h61 1 (Or.inr ⟨rfl, Or.inl e⟩))
theorem xs_ones {post : Int32 → SX → Prop} {G : Nat → Nat} (hT : gr_T V D N c b ne ef g) (hL : wl_L V D N ne ef sp ns es) (hG : gf_C 20 (bo_1 V D N c b ne ef) G) (hlo : ∀ f, f < 20 → G f ≤ on f) (hon : ∀ f, f < 20 → on f ≤ 1000000) (hbg : ∀ f, f < 20 → bo_F V D f → bo_b b f → on f = 0)
    (h : ∀ on1 x, gf_S 20 (bo_1 V D N c b ne ef) G on on1 → ((x = 0 ∧ ∀ i, i < 20 → on1 i = on i) ∨ (x = 1 ∧ xs_E 20 on1 on)) → post (nI x) ((nI V), (nI D), (nI (D ^ V)), (nI N), il, mt, iv, hz, ib, br, (ot_n c), (ot_o ne), (ot_o ef), (ot_n b), (ot_o g), (ot_n (ot_pw V D)), (ot_o sp), (ot_n im), (ot_n qu), (ot_n tg), (ot_n sg), (ot_n hp), (ot_n pl), (ot_n on1), (ot_n tw), ns, es, ha, (ot_n ca), (ot_n ta), (ot_n ua))) : wpX_lowerOnes post ((nI V), (nI D), (nI (D ^ V)), (nI N), il, mt, iv, hz, ib, br, (ot_n c), (ot_o ne), (ot_o ef), (ot_n b), (ot_o g), (ot_n (ot_pw V D)), (ot_o sp), (ot_n im), (ot_n qu), (ot_n tg), (ot_n sg), (ot_n hp), (ot_n pl), (ot_n on), (ot_n tw), ns, es, ha, (ot_n ca), (ot_n ta), (ot_n ua)) := by
  obtain ⟨⟨hV1, hV⟩, ⟨hD, hD4⟩, hN, hc, hb, hne, hef, hg⟩ := id hT
  have key : ∀ n f x (on1 : Nat → Nat), f ≤ 20 → 20 - f < n → xs_I 20 (bo_1 V D N c b ne ef) G on on1 (fun i => i < f) x → wX_lowerOnes_4 post (nI V) (nI D) (nI (D ^ V)) (nI N) il mt iv hz ib br n (nI x) (nI f) (ot_n c) (ot_o ne) (ot_o ef) (ot_n b) (ot_o g) (ot_n (ot_pw V D)) (ot_o sp) (ot_n im) (ot_n qu) (ot_n tg) (ot_n sg) (ot_n hp) (ot_n pl) (ot_n on1) (ot_n tw) ns es ha (ot_n ca) (ot_n ta) (ot_n ua) := by
    intro n
    induction n with
    | zero => intro f x on1 _ a; omega
    | succ n ih =>
      intro f x on1 hf hn hI
      have hx01 : x = 0 ∨ x = 1 := by rcases hI.2.2.2 with a | a <;> omega
      refine pk_le 20 f (fun hx => ⟨?_, ?_⟩) (fun hx => ?_)
      · rcases hx01 with e | e
        · rw [e]; exact narrow_b0
        · rw [e]; exact narrow_b1
      · exact h on1 x ⟨hI.1, hI.2.1, fun i hi => hI.2.2.1 i hi (by omega)⟩ hI.2.2.2
      · have hon1 : ∀ i, i < 20 → on1 i ≤ 1000000 := fun i hi => Nat.le_trans (hI.2.1 i hi) (hon i hi)
        have hof := hon1 f hx
        have hnext : ∀ r : Nat, r ≤ on1 f → G f ≤ r → xs_R 20 (bo_1 V D N c b ne ef) on f r → wX_lowerOnes_41 post (wX_lowerOnes_4 post (nI V) (nI D) (nI (D ^ V)) (nI N) il mt iv hz ib br n) (nI x) (nI f) (nI r) (nI V) (nI D) (nI (D ^ V)) (nI N) il mt iv hz ib br (ot_n c) (ot_o ne) (ot_o ef) (ot_n b) (ot_o g) (ot_n (ot_pw V D)) (ot_o sp) (ot_n im) (ot_n qu) (ot_n tg) (ot_n sg) (ot_n hp) (ot_n pl) (ot_n on1) (ot_n tw) ns es ha (ot_n ca) (ot_n ta) (ot_n ua) := fun r b1 b2 b3 => by
          refine xs_61 hx (by omega) (by omega) hx01 (fun x2 h2 => ih (f + 1) x2 _ (by omega) (by omega) (xs_st hI hx b1 b2 b3 (fun i _ a => by omega) (by omega)))
        have h35 : xs_R 20 (bo_1 V D N c b ne ef) on f (on1 f) → wX_lowerOnes_35 post (wX_lowerOnes_4 post (nI V) (nI D) (nI (D ^ V)) (nI N) il mt iv hz ib br n) (nI x) (nI f) (nI V) (nI D) (nI (D ^ V)) (nI N) il mt iv hz ib br (ot_n c) (ot_o ne) (ot_o ef) (ot_n b) (ot_o g) (ot_n (ot_pw V D)) (ot_o sp) (ot_n im) (ot_n qu) (ot_n tg) (ot_n sg) (ot_n hp) (ot_n pl) (ot_n on1) (ot_n tw) ns es ha (ot_n ca) (ot_n ta) (ot_n ua) := fun b3 => by
          unfold wX_lowerOnes_35
          rw [ot_r on1 (by omega)]
          exact ⟨pk_in f 20 hx, hnext (on1 f) (Nat.le_refl _) (hI.1 f hx) b3⟩
        refine xb_if hT hx (ot_bb _ (fun a => h35 (fun c P hR => absurd hR.1 a)) (fun a => ?_))
        rw [ot_r on1 (by omega)]
        refine ⟨pk_in f 20 hx, pk_le (on1 f) 0 (fun a2 => h35 (fun c P hR m _ => by omega)) (fun a2 => ?_)⟩
        refine xl_one hT hL hon1 hx a (fun r hM => hnext r hM.1 ?_ ?_)
        · refine hM.2.2 (G f) (hI.1 f hx) (fun o b1 b2 b3 m hm => (hG f hx).2 (c o) (bo_n V ne o) ⟨a, Or.inr ⟨o, b2, b3, rfl, rfl⟩⟩ m (fun j hj hP => Nat.le_trans (hI.1 j hj) (hm j ⟨hj, hP⟩)))
        · intro c2 P hR m hm
          rcases hR.2 with ⟨b1, b2, b3⟩ | ⟨o, b1, b2, b3, b4⟩
          · have := hbg f hx a b1
            have := hI.2.1 f hx
            omega
          · rw [b3]
            refine hM.2.1 o b1 b1 b2 m (fun j hj => Nat.le_trans (hI.2.1 j hj.1) (hm j hj.1 ?_))
            rw [b4]; exact hj.2
  exact ⟨21, key 21 0 0 on (by omega) (by omega) (xs_0 hlo (fun i => by omega))⟩
theorem xs_116 {post : Int32 → SX → Prop} {J4 : Int32 → Int32 → (Nat → Int32) → (Nat → Int32) → (Nat → Int32) → (Nat → Int32) → (Nat → Int32) → (Nat → Int32) → (Nat → Int32) → (Nat → Int32) → (Nat → Int32) → (Nat → Int32) → (Nat → Int32) → (Nat → Int32) → (Nat → Int32) → (Nat → Int32) → (Nat → Int32) → (Nat → Int32) → (Nat → Int32) → (Nat → Int32) → (Nat → Int32) → (Nat → Int32) → (Nat → Int32) → Prop} {J : Int32 → Int32 → (Nat → Int32) → (Nat → Int32) → (Nat → Int32) → (Nat → Int32) → (Nat → Int32) → (Nat → Int32) → (Nat → Int32) → (Nat → Int32) → (Nat → Int32) → (Nat → Int32) → (Nat → Int32) → (Nat → Int32) → (Nat → Int32) → (Nat → Int32) → (Nat → Int32) → (Nat → Int32) → (Nat → Int32) → (Nat → Int32) → (Nat → Int32) → (Nat → Int32) → (Nat → Int32) → Prop} {f q x r : Nat} (hf : f < 20) (hq : q < 20) (hof : tw (20 * f + q) < 2 ^ 31) (hr : r < 2 ^ 31) (hx : x = 0 ∨ x = 1)
    (hJ : ∀ x2 : Nat, ((x2 = 0 ∧ x = 0 ∧ tw (20 * f + q) ≤ r) ∨ (x2 = 1 ∧ (x = 1 ∨ r < tw (20 * f + q)))) → J (nI x2) (nI (q + 1)) (ot_n c) (ot_o ne) (ot_o ef) (ot_n b) (ot_o g) (ot_n (ot_pw V D)) (ot_o sp) (ot_n im) (ot_n qu) (ot_n tg) (ot_n sg) (ot_n hp) (ot_n pl) (ot_n on) (ot_n (ot_u (ot_u tw (20 * f + q) r) (20 * q + f) r)) ns es ha (ot_n ca) (ot_n ta) (ot_n ua)) : wX_lowerTwos_89 post J4 J (nI x) (nI f) (nI q) (nI r) (nI V) (nI D) (nI (D ^ V)) (nI N) il mt iv hz ib br (ot_n c) (ot_o ne) (ot_o ef) (ot_n b) (ot_o g) (ot_n (ot_pw V D)) (ot_o sp) (ot_n im) (ot_n qu) (ot_n tg) (ot_n sg) (ot_n hp) (ot_n pl) (ot_n on) (ot_n tw) ns es ha (ot_n ca) (ot_n ta) (ot_n ua) := by
  have h116 : ∀ x2 : Nat, ((x2 = 0 ∧ x = 0 ∧ tw (20 * f + q) ≤ r) ∨ (x2 = 1 ∧ (x = 1 ∨ r < tw (20 * f + q)))) → wX_lowerTwos_116 post J4 J (nI f) (nI q) (nI r) (nI x2) (nI V) (nI D) (nI (D ^ V)) (nI N) il mt iv hz ib br (ot_n c) (ot_o ne) (ot_o ef) (ot_n b) (ot_o g) (ot_n (ot_pw V D)) (ot_o sp) (ot_n im) (ot_n qu) (ot_n tg) (ot_n sg) (ot_n hp) (ot_n pl) (ot_n on) (ot_n tw) ns es ha (ot_n ca) (ot_n ta) (ot_n ua) := fun x2 h2 => by
    unfold wX_lowerTwos_116
    rw [ot_ix20, ot_ix20]
    exact ⟨vp_in_nI (by omega) (by omega), nm_r (ot_upd' tw (nI_clamp (by omega)) rfl) ⟨vp_in_nI (by omega) (by omega), nm_r (ot_upd' _ (nI_clamp (by omega)) rfl) (nm_r (nI_1 q) (hJ x2 h2))⟩⟩
  unfold wX_lowerTwos_89
  rw [ot_ix20, ot_r tw (by omega)]
  rcases hx with e | e
  · rw [e]
    refine br_t rfl ⟨vp_in_nI (by omega) (by omega), pk_le (tw (20 * f + q)) r (fun a => h116 0 (Or.inl ⟨rfl, e, a⟩)) (fun a => h116 1 (Or.inr ⟨rfl, Or.inr a⟩))⟩
  · rw [e]
    exact br_f ot_10 (h116 1 (Or.inr ⟨rfl, Or.inl e⟩))
/-- the pairs of X's sweep before (f, q), either way round -/
def xs_v (f q i : Nat) : Prop := i / 20 < f ∨ i % 20 < f ∨ (i / 20 = f ∧ i % 20 < q) ∨ (i % 20 = f ∧ i / 20 < q)
theorem bo_rs {o f h a : Nat} : bo_r V ne ef o f h a ↔ bo_r V ne ef o h f a := by
  unfold bo_r
  constructor
  · intro x
    rcases x with x | x | x
    · exact Or.inl x
    · exact Or.inr (Or.inr x)
    · exact Or.inr (Or.inl x)
  · intro x
    rcases x with x | x | x
    · exact Or.inl x
    · exact Or.inr (Or.inr x)
    · exact Or.inr (Or.inl x)
theorem bo_qs {o f h j : Nat} (hj : j < 400) : bo_q V ne ef o f h j ↔ bo_q V ne ef o h f (20 * (j % 20) + j / 20) := by
  unfold bo_q
  constructor
  · intro ⟨x, y, a1, a2, a3, a4, a5⟩
    exact ⟨y, x, a2, a1, by omega, bo_rs.mp a5, bo_rs.mp a4⟩
  · intro ⟨x, y, a1, a2, a3, a4, a5⟩
    exact ⟨y, x, a2, a1, by omega, bo_rs.mp a5, bo_rs.mp a4⟩
theorem bo_ss {o f h : Nat} (a : bo_s ef o f h) : bo_s ef o h f := ⟨a.1.symm, a.2.2, a.2.1⟩
theorem bo_ws {f h : Nat} (a : bo_w V D f h) : bo_w V D h f := ⟨a.2.1, a.1, by rcases a.2.2 with x | x; exact Or.inl x.symm; exact Or.inr (fun y => x y.symm)⟩
/-- a rule has its mirror -/
theorem bo_2s {i k : Nat} {P : Nat → Prop} (hi : i < 400) (a : bo_2 V D N c b ne ef i k P) : ∃ P2, bo_2 V D N c b ne ef (20 * (i % 20) + i / 20) k P2 ∧ ∀ j, j < 400 → P2 j → P (20 * (j % 20) + j / 20) := by
  obtain ⟨a1, a2⟩ := a
  have e1 : (20 * (i % 20) + i / 20) / 20 = i % 20 := by omega
  have e2 : (20 * (i % 20) + i / 20) % 20 = i / 20 := by omega
  rcases a2 with ⟨b1, b2, b3, b4⟩ | ⟨o, b1, b2, b3, b4⟩
  · refine ⟨fun _ => False, ⟨?_, Or.inl ⟨?_, ?_, b3, rfl⟩⟩, fun j _ x => x.elim⟩
    · rw [e1, e2]; exact bo_ws a1
    · rw [e1]; exact b2
    · rw [e2]; exact b1
  · refine ⟨bo_q V ne ef o (i % 20) (i / 20), ⟨?_, Or.inr ⟨o, b1, ?_, b3, ?_⟩⟩, fun j hj x => ?_⟩
    · rw [e1, e2]; exact bo_ws a1
    · rw [e1, e2]; exact bo_ss b2
    · rw [e1, e2]
    · rw [b4]; exact (bo_qs hj).mp x
theorem bo_Gs {G : Nat → Nat} (hG : gf_F 400 (bo_2 V D N c b ne ef) G) : xl_S G := by
  have hk : gf_C 400 (bo_2 V D N c b ne ef) (fun i => G (20 * (i % 20) + i / 20)) := by
    intro i hi
    refine ⟨(hG.1 _ (by omega)).1, fun k P hR m hm => ?_⟩
    obtain ⟨P2, h1, h2⟩ := bo_2s hi hR
    refine (hG.1 _ (by omega)).2 k P2 h1 m (fun j hj hP => ?_)
    have := hm (20 * (j % 20) + j / 20) (by omega) (h2 j hj hP)
    dsimp only at this
    rw [show 20 * ((20 * (j % 20) + j / 20) % 20) + (20 * (j % 20) + j / 20) / 20 = j from by omega] at this
    exact this
  have hle := hG.2 _ hk
  intro x y hx hy
  have h1 := hle (20 * x + y) (by omega)
  have h2 := hle (20 * y + x) (by omega)
  rw [show 20 * ((20 * x + y) % 20) + (20 * x + y) / 20 = 20 * y + x from by omega] at h1
  rw [show 20 * ((20 * y + x) % 20) + (20 * y + x) / 20 = 20 * x + y from by omega] at h2
  omega
theorem xs_twos {post : Int32 → SX → Prop} {G : Nat → Nat} (hT : gr_T V D N c b ne ef g) (hL : wl_L V D N ne ef sp ns es) (hG : gf_F 400 (bo_2 V D N c b ne ef) G) (hlo : ∀ i, i < 400 → G i ≤ tw i) (htw : ∀ i, i < 400 → tw i ≤ 1000000) (hsy : xl_S tw) (hbg : ∀ i, i < 400 → bo_F V D (i / 20) → bo_F V D (i % 20) → bo_b b (i / 20) → bo_b b (i % 20) → tw i = 0)
    (h : ∀ tw1 x, gf_S 400 (bo_2 V D N c b ne ef) G tw tw1 → xl_S tw1 → ((x = 0 ∧ ∀ i, i < 400 → tw1 i = tw i) ∨ (x = 1 ∧ xs_E 400 tw1 tw)) → post (nI x) ((nI V), (nI D), (nI (D ^ V)), (nI N), il, mt, iv, hz, ib, br, (ot_n c), (ot_o ne), (ot_o ef), (ot_n b), (ot_o g), (ot_n (ot_pw V D)), (ot_o sp), (ot_n im), (ot_n qu), (ot_n tg), (ot_n sg), (ot_n hp), (ot_n pl), (ot_n on), (ot_n tw1), ns, es, ha, (ot_n ca), (ot_n ta), (ot_n ua))) : wpX_lowerTwos post ((nI V), (nI D), (nI (D ^ V)), (nI N), il, mt, iv, hz, ib, br, (ot_n c), (ot_o ne), (ot_o ef), (ot_n b), (ot_o g), (ot_n (ot_pw V D)), (ot_o sp), (ot_n im), (ot_n qu), (ot_n tg), (ot_n sg), (ot_n hp), (ot_n pl), (ot_n on), (ot_n tw), ns, es, ha, (ot_n ca), (ot_n ta), (ot_n ua)) := by
  obtain ⟨⟨hV1, hV⟩, ⟨hD, hD4⟩, hN, hc, hb, hne, hef, hg⟩ := id hT
  have hGs := bo_Gs hG
  have k12 : ∀ (J4 : Int32 → Int32 → (Nat → Int32) → (Nat → Int32) → (Nat → Int32) → (Nat → Int32) → (Nat → Int32) → (Nat → Int32) → (Nat → Int32) → (Nat → Int32) → (Nat → Int32) → (Nat → Int32) → (Nat → Int32) → (Nat → Int32) → (Nat → Int32) → (Nat → Int32) → (Nat → Int32) → (Nat → Int32) → (Nat → Int32) → (Nat → Int32) → (Nat → Int32) → (Nat → Int32) → (Nat → Int32) → Prop) f, f < 20 → (∀ x tw1, xs_I 400 (bo_2 V D N c b ne ef) G tw tw1 (xs_v (f + 1) (f + 1)) x → xl_S tw1 → J4 (nI x) (nI (f + 1)) (ot_n c) (ot_o ne) (ot_o ef) (ot_n b) (ot_o g) (ot_n (ot_pw V D)) (ot_o sp) (ot_n im) (ot_n qu) (ot_n tg) (ot_n sg) (ot_n hp) (ot_n pl) (ot_n on) (ot_n tw1) ns es ha (ot_n ca) (ot_n ta) (ot_n ua)) → ∀ n q x (tw1 : Nat → Nat), f ≤ q → q ≤ 20 → 20 - q < n → xs_I 400 (bo_2 V D N c b ne ef) G tw tw1 (xs_v f q) x → xl_S tw1 → wX_lowerTwos_12 post J4 (nI f) (nI V) (nI D) (nI (D ^ V)) (nI N) il mt iv hz ib br n (nI x) (nI q) (ot_n c) (ot_o ne) (ot_o ef) (ot_n b) (ot_o g) (ot_n (ot_pw V D)) (ot_o sp) (ot_n im) (ot_n qu) (ot_n tg) (ot_n sg) (ot_n hp) (ot_n pl) (ot_n on) (ot_n tw1) ns es ha (ot_n ca) (ot_n ta) (ot_n ua) := by
    intro J4 f hf hJ n
    induction n with
    | zero => intro q x tw1 _ _ a; omega
    | succ n ih =>
      intro q x tw1 hfq hq hn hI hs1
      have hx01 : x = 0 ∨ x = 1 := by rcases hI.2.2.2 with a | a <;> omega
      refine pk_le 20 q (fun hx => nm_r (nI_1 f) (hJ x tw1 ⟨hI.1, hI.2.1, fun i hi a => hI.2.2.1 i hi ?_, hI.2.2.2⟩ hs1)) (fun hx => ?_)
      · unfold xs_v at a ⊢
        omega
      · have htw1 : ∀ i, i < 400 → tw1 i ≤ 1000000 := fun i hi => Nat.le_trans (hI.2.1 i hi) (htw i hi)
        have hi1 : 20 * f + q < 400 := by omega
        have hi2 : 20 * q + f < 400 := by omega
        have hof := htw1 _ hi1
        have e1 : (20 * f + q) / 20 = f := by omega
        have e2 : (20 * f + q) % 20 = q := by omega
        have e3 : (20 * q + f) / 20 = q := by omega
        have e4 : (20 * q + f) % 20 = f := by omega
        have hnext : ∀ r : Nat, r ≤ tw1 (20 * f + q) → G (20 * f + q) ≤ r → xs_R 400 (bo_2 V D N c b ne ef) tw (20 * f + q) r → wX_lowerTwos_89 post J4 (wX_lowerTwos_12 post J4 (nI f) (nI V) (nI D) (nI (D ^ V)) (nI N) il mt iv hz ib br n) (nI x) (nI f) (nI q) (nI r) (nI V) (nI D) (nI (D ^ V)) (nI N) il mt iv hz ib br (ot_n c) (ot_o ne) (ot_o ef) (ot_n b) (ot_o g) (ot_n (ot_pw V D)) (ot_o sp) (ot_n im) (ot_n qu) (ot_n tg) (ot_n sg) (ot_n hp) (ot_n pl) (ot_n on) (ot_n tw1) ns es ha (ot_n ca) (ot_n ta) (ot_n ua) := fun r b1 b2 b3 => by
          refine xs_116 hf hx (by omega) (by omega) hx01 (fun x2 h2 => ih (q + 1) x2 _ (by omega) (by omega) (by omega) ?_ ?_)
          · have I1 := xs_st (vis2 := fun i => xs_v f q i ∨ i = 20 * f + q) hI hi1 b1 b2 b3 (fun i _ a => a) (x2 := x2) (by omega)
            have hr2 : ot_u tw1 (20 * f + q) r (20 * q + f) = if f = q then r else tw1 (20 * f + q) := by
              by_cases e : f = q
              · rw [if_pos e, e, ot_us]
              · rw [if_neg e, ot_un (by omega)]; exact hs1 q f hx hf
            refine xs_st I1 hi2 ?_ ?_ ?_ (fun i hi a => ?_) (x2 := x2) ?_
            · rw [hr2]; split <;> omega
            · rw [hGs q f hx hf]; exact b2
            · intro k P hR m hm
              obtain ⟨P2, c1, c2⟩ := bo_2s hi2 hR
              rw [e3, e4] at c1
              refine b3 k P2 c1 m (fun j hj hP => ?_)
              have h3 := hm _ (show 20 * (j % 20) + j / 20 < 400 by omega) (c2 j hj hP)
              have h4 := hsy (j / 20) (j % 20) (by omega) (by omega)
              rw [show 20 * (j / 20) + j % 20 = j from by omega] at h4
              omega
            · unfold xs_v at a ⊢
              omega
            · rw [hr2]
              rcases h2 with ⟨d1, d2, d3⟩ | ⟨d1, d2⟩
              · exact Or.inl ⟨d1, d1, by split <;> omega⟩
              · exact Or.inr ⟨d1, Or.inl d1⟩
          · intro y z hy hz
            by_cases c1 : y = f ∧ z = q
            · rw [c1.1, c1.2]
              rw [ot_us]
              by_cases c2 : f = q
              · rw [c2, ot_us]
              · rw [ot_un (by omega), ot_us]
            · by_cases c2 : y = q ∧ z = f
              · rw [c2.1, c2.2]
                rw [ot_us]
                by_cases c3 : f = q
                · rw [c3, ot_us]
                · rw [ot_un (by omega), ot_us]
              · rw [ot_un (by omega), ot_un (by omega), ot_un (by omega), ot_un (by omega)]
                exact hs1 y z hy hz
        have h61 : xs_R 400 (bo_2 V D N c b ne ef) tw (20 * f + q) (tw1 (20 * f + q)) → wX_lowerTwos_61 post J4 (wX_lowerTwos_12 post J4 (nI f) (nI V) (nI D) (nI (D ^ V)) (nI N) il mt iv hz ib br n) (nI x) (nI f) (nI q) (nI V) (nI D) (nI (D ^ V)) (nI N) il mt iv hz ib br (ot_n c) (ot_o ne) (ot_o ef) (ot_n b) (ot_o g) (ot_n (ot_pw V D)) (ot_o sp) (ot_n im) (ot_n qu) (ot_n tg) (ot_n sg) (ot_n hp) (ot_n pl) (ot_n on) (ot_n tw1) ns es ha (ot_n ca) (ot_n ta) (ot_n ua) := fun b3 => by
          unfold wX_lowerTwos_61 wX_lowerTwos_62
          rw [ot_ix20, ot_r tw1 (by omega)]
          exact br_t rfl ⟨vp_in_nI (by omega) (by omega), hnext _ (Nat.le_refl _) (hI.1 _ hi1) b3⟩
        have hnw : ¬ bo_w V D f q → xs_R 400 (bo_2 V D N c b ne ef) tw (20 * f + q) (tw1 (20 * f + q)) := fun a k P hR => by
          have h1 := hR.1
          rw [e1, e2] at h1
          exact absurd h1 a
        refine xb_if hT hf (ot_bb _ (fun a => h61 (hnw (fun y => a y.1))) (fun a => ?_))
        refine xb_if hT hx (ot_bb _ (fun a2 => h61 (hnw (fun y => a2 y.2.1))) (fun a2 => ?_))
        refine xb_im hf hx (ot_bb _ (fun a3 => ?_) (fun a3 => h61 (hnw (fun y => a3 y.2.2))))
        have hw : bo_w V D f q := ⟨a, a2, Classical.not_not.mp a3⟩
        rw [ot_ix20, ot_r tw1 (by omega)]
        refine ⟨vp_in_nI (by omega) (by omega), pk_le (tw1 (20 * f + q)) 0 (fun a4 => h61 (fun k P hR m _ => by omega)) (fun a4 => br_f ot_10 ?_)⟩
        refine xl_two hT hL htw1 hs1 hf hx hw (fun r hM => hnext r hM.1 ?_ ?_)
        · refine hM.2.2 _ (hI.1 _ hi1) (fun o b1 b2 b3 m hm => (hG.1 _ hi1).2 (c o) (bo_q V ne ef o f q) ?_ m (fun j hj hP => Nat.le_trans (hI.1 j hj) (hm j hP)))
          refine ⟨by rw [e1, e2]; exact hw, Or.inr ⟨o, b2, by rw [e1, e2]; exact b3, rfl, by rw [e1, e2]⟩⟩
        · intro k P hR m hm
          have hR2 := hR.2
          rw [e1, e2] at hR2
          rcases hR2 with ⟨b1, b2, b3, b4⟩ | ⟨o, b1, b2, b3, b4⟩
          · have h1 := hbg _ hi1 (by rw [e1]; exact a) (by rw [e2]; exact a2) (by rw [e1]; exact b1) (by rw [e2]; exact b2)
            have h2 := hI.2.1 _ hi1
            omega
          · rw [b3]
            refine hM.2.1 o b1 b1 b2 m (fun j hj => ?_)
            have hj4 : j < 400 := by
              obtain ⟨y, z, d1, d2, d3, _⟩ := hj
              omega
            exact Nat.le_trans (hI.2.1 j hj4) (hm j hj4 (by rw [b4]; exact hj))
  have k4 : ∀ n f x (tw1 : Nat → Nat), f ≤ 20 → 20 - f < n → xs_I 400 (bo_2 V D N c b ne ef) G tw tw1 (xs_v f f) x → xl_S tw1 → wX_lowerTwos_4 post (nI V) (nI D) (nI (D ^ V)) (nI N) il mt iv hz ib br n (nI x) (nI f) (ot_n c) (ot_o ne) (ot_o ef) (ot_n b) (ot_o g) (ot_n (ot_pw V D)) (ot_o sp) (ot_n im) (ot_n qu) (ot_n tg) (ot_n sg) (ot_n hp) (ot_n pl) (ot_n on) (ot_n tw1) ns es ha (ot_n ca) (ot_n ta) (ot_n ua) := by
    intro n
    induction n with
    | zero => intro f x tw1 _ a; omega
    | succ n ih =>
      intro f x tw1 hf hn hI hs1
      have hx01 : x = 0 ∨ x = 1 := by rcases hI.2.2.2 with a | a <;> omega
      refine pk_le 20 f (fun hx => ⟨?_, ?_⟩) (fun hx => ⟨21, k12 _ f hx (fun x2 tw2 h1 h2 => ih (f + 1) x2 tw2 (by omega) (by omega) h1 h2) 21 f x tw1 (by omega) (by omega) (by omega) hI hs1⟩)
      · rcases hx01 with e | e
        · rw [e]; exact narrow_b0
        · rw [e]; exact narrow_b1
      · exact h tw1 x ⟨hI.1, hI.2.1, fun i hi => hI.2.2.1 i hi (by unfold xs_v; omega)⟩ hs1 hI.2.2.2
  exact ⟨21, k4 21 0 0 tw (by omega) (by omega) (xs_0 hlo (fun i a => by unfold xs_v at a; omega)) hsy⟩
end XS
end
section
section XF
variable {V D N : Nat} {il mt iv hz ib br : Int32} {c b : Nat → Nat} {ne ef g sp : Nat → Option Nat} {im qu tg sg hp pl on tw ca ta ua : Nat → Nat} {ns es ha : Nat → Int32}
theorem xf_145 {post : SX → Prop} {G : Nat → Nat} (hT : gr_T V D N c b ne ef g) (hL : wl_L V D N ne ef sp ns es) (hG : gf_F 400 (bo_2 V D N c b ne ef) G)
    (h : ∀ tw, gf_F 400 (bo_2 V D N c b ne ef) tw → post ((nI V), (nI D), (nI (D ^ V)), (nI N), il, mt, iv, hz, 1, br, (ot_n c), (ot_o ne), (ot_o ef), (ot_n b), (ot_o g), (ot_n (ot_pw V D)), (ot_o sp), (ot_n im), (ot_n qu), (ot_n tg), (ot_n sg), (ot_n hp), (ot_n pl), (ot_n on), (ot_n tw), ns, es, ha, (ot_n ca), (ot_n ta), (ot_n ua))) :
    ∀ n r x (tw : Nat → Nat), 4000 < n + r → r ≤ 4000 → (∀ i, i < 400 → G i ≤ tw i) → (∀ i, i < 400 → tw i ≤ 1000000) → xl_S tw → (∀ i, i < 400 → bo_F V D (i / 20) → bo_F V D (i % 20) → bo_b b (i / 20) → bo_b b (i % 20) → tw i = 0) → ((x = 0 ∧ gf_F 400 (bo_2 V D N c b ne ef) tw) ∨ (x = 1 ∧ r ≤ ct_n (fun i => decide (tw i = G i)) 400)) → wX_findBounds_145 post n (nI x) (nI r) (nI V) (nI D) (nI (D ^ V)) (nI N) il mt iv hz ib br (ot_n c) (ot_o ne) (ot_o ef) (ot_n b) (ot_o g) (ot_n (ot_pw V D)) (ot_o sp) (ot_n im) (ot_n qu) (ot_n tg) (ot_n sg) (ot_n hp) (ot_n pl) (ot_n on) (ot_n tw) ns es ha (ot_n ca) (ot_n ta) (ot_n ua) := by
  intro n
  induction n with
  | zero => intro r x tw a b'; omega
  | succ n ih =>
    intro r x tw hn hr hlo htw hsy hbg hx
    refine pk_le 4000 r (fun a => ?_) (fun a => ?_)
    · rcases hx with ⟨_, a2⟩ | ⟨_, a2⟩
      · exact h tw a2
      · have := ct_le (fun i => decide (tw i = G i)) 400
        omega
    · rcases hx with ⟨a1, a2⟩ | ⟨a1, a2⟩
      · rw [a1]; exact br_t rfl (h tw a2)
      · rw [a1]
        refine br_f ot_10 (xs_twos hT hL hG hlo htw hsy hbg (fun tw1 x1 hS hs1 hx1 => nm_r (nI_1 r) ?_))
        refine ih (r + 1) x1 tw1 (by omega) (by omega) hS.1 (fun i hi => Nat.le_trans (hS.2.1 i hi) (htw i hi)) hs1 (fun i hi c1 c2 c3 c4 => ?_) ?_
        · have h1 := hbg i hi c1 c2 c3 c4
          have h2 := hS.2.1 i hi
          omega
        · rcases hx1 with ⟨b1, b2⟩ | ⟨b1, i0, b2, b3⟩
          · refine Or.inl ⟨b1, ?_⟩
            have hF := gf_fin hG htw hS b2
            refine ⟨fun i hi => ⟨by rw [b2 i hi]; exact htw i hi, fun k P hR m hm => ?_⟩, fun k hk i hi => by rw [b2 i hi]; exact hF.2 k hk i hi⟩
            rw [b2 i hi]
            exact (hF.1 i hi).2 k P hR m (fun j hj hP => by rw [← b2 j hj]; exact hm j hj hP)
          · have := gf_up hG hlo htw hS b2 b3
            exact Or.inr ⟨b1, by omega⟩
theorem xf_119 {post : SX → Prop} {G : Nat → Nat} (hT : gr_T V D N c b ne ef g) (hL : wl_L V D N ne ef sp ns es) (hG : gf_F 20 (bo_1 V D N c b ne ef) G)
    (h : ∀ on, gf_F 20 (bo_1 V D N c b ne ef) on → ∃ n, wX_findBounds_145 post n 1 0 (nI V) (nI D) (nI (D ^ V)) (nI N) il mt iv hz ib br (ot_n c) (ot_o ne) (ot_o ef) (ot_n b) (ot_o g) (ot_n (ot_pw V D)) (ot_o sp) (ot_n im) (ot_n qu) (ot_n tg) (ot_n sg) (ot_n hp) (ot_n pl) (ot_n on) (ot_n tw) ns es ha (ot_n ca) (ot_n ta) (ot_n ua)) :
    ∀ n r x (on : Nat → Nat), 2000 < n + r → r ≤ 2000 → (∀ i, i < 20 → G i ≤ on i) → (∀ i, i < 20 → on i ≤ 1000000) → (∀ i, i < 20 → bo_F V D i → bo_b b i → on i = 0) → ((x = 0 ∧ gf_F 20 (bo_1 V D N c b ne ef) on) ∨ (x = 1 ∧ r ≤ ct_n (fun i => decide (on i = G i)) 20)) → wX_findBounds_119 post n (nI x) (nI r) (nI V) (nI D) (nI (D ^ V)) (nI N) il mt iv hz ib br (ot_n c) (ot_o ne) (ot_o ef) (ot_n b) (ot_o g) (ot_n (ot_pw V D)) (ot_o sp) (ot_n im) (ot_n qu) (ot_n tg) (ot_n sg) (ot_n hp) (ot_n pl) (ot_n on) (ot_n tw) ns es ha (ot_n ca) (ot_n ta) (ot_n ua) := by
  intro n
  induction n with
  | zero => intro r x on a b'; omega
  | succ n ih =>
    intro r x on hn hr hlo hon hbg hx
    refine pk_le 2000 r (fun a => ?_) (fun a => ?_)
    · rcases hx with ⟨_, a2⟩ | ⟨_, a2⟩
      · exact h on a2
      · have := ct_le (fun i => decide (on i = G i)) 20
        omega
    · rcases hx with ⟨a1, a2⟩ | ⟨a1, a2⟩
      · rw [a1]; exact br_t rfl (h on a2)
      · rw [a1]
        refine br_f ot_10 (xs_ones hT hL hG.1 hlo hon hbg (fun on1 x1 hS hx1 => nm_r (nI_1 r) ?_))
        refine ih (r + 1) x1 on1 (by omega) (by omega) hS.1 (fun i hi => Nat.le_trans (hS.2.1 i hi) (hon i hi)) (fun i hi c1 c2 => ?_) ?_
        · have h1 := hbg i hi c1 c2
          have h2 := hS.2.1 i hi
          omega
        · rcases hx1 with ⟨b1, b2⟩ | ⟨b1, i0, b2, b3⟩
          · refine Or.inl ⟨b1, ?_⟩
            have hF := gf_fin hG hon hS b2
            refine ⟨fun i hi => ⟨by rw [b2 i hi]; exact hon i hi, fun k P hR m hm => ?_⟩, fun k hk i hi => by rw [b2 i hi]; exact hF.2 k hk i hi⟩
            rw [b2 i hi]
            exact (hF.1 i hi).2 k P hR m (fun j hj hP => by rw [← b2 j hj]; exact hm j hj hP)
          · have := gf_up hG hlo hon hS b2 b3
            exact Or.inr ⟨b1, by omega⟩
def xf_b (V D : Nat) (b : Nat → Nat) (f : Nat) : Prop := bo_F V D f ∧ bo_b b f
/-- the entry that a begin sets -/
def xf_e (p : Prop) (x : Nat) : Prop := (p ∧ x = 0) ∨ (¬ p ∧ x = 1000000)
theorem xf_60 {post : SX → Prop} {J : Int32 → (Nat → Int32) → (Nat → Int32) → (Nat → Int32) → (Nat → Int32) → (Nat → Int32) → (Nat → Int32) → (Nat → Int32) → (Nat → Int32) → (Nat → Int32) → (Nat → Int32) → (Nat → Int32) → (Nat → Int32) → (Nat → Int32) → (Nat → Int32) → (Nat → Int32) → (Nat → Int32) → (Nat → Int32) → (Nat → Int32) → (Nat → Int32) → (Nat → Int32) → (Nat → Int32) → Prop} {f : Nat} {p : Prop} (hT : gr_T V D N c b ne ef g) (hf : f < 20)
    (hJ : ∀ tw, (∀ f', f' < f → ∀ q, q < 20 → xf_e (xf_b V D b f' ∧ xf_b V D b q) (tw (20 * f' + q))) → (∀ q, q < 20 → xf_e (p ∧ xf_b V D b q) (tw (20 * f + q))) → J (nI (f + 1)) (ot_n c) (ot_o ne) (ot_o ef) (ot_n b) (ot_o g) (ot_n (ot_pw V D)) (ot_o sp) (ot_n im) (ot_n qu) (ot_n tg) (ot_n sg) (ot_n hp) (ot_n pl) (ot_n on) (ot_n tw) ns es ha (ot_n ca) (ot_n ta) (ot_n ua)) :
    ∀ n q (tw : Nat → Nat), q ≤ 20 → 20 - q < n → (∀ f', f' < f → ∀ q, q < 20 → xf_e (xf_b V D b f' ∧ xf_b V D b q) (tw (20 * f' + q))) → (∀ q', q' < q → xf_e (p ∧ xf_b V D b q') (tw (20 * f + q'))) → wX_findBounds_60 post J (nI f) (ot_b p) (nI V) (nI D) (nI (D ^ V)) (nI N) il mt iv hz ib br n (nI q) (ot_n c) (ot_o ne) (ot_o ef) (ot_n b) (ot_o g) (ot_n (ot_pw V D)) (ot_o sp) (ot_n im) (ot_n qu) (ot_n tg) (ot_n sg) (ot_n hp) (ot_n pl) (ot_n on) (ot_n tw) ns es ha (ot_n ca) (ot_n ta) (ot_n ua) := by
  intro n
  induction n with
  | zero => intro q tw _ a; omega
  | succ n ih =>
    intro q tw hq hn h1 h2
    refine pk_le 20 q (fun hx => nm_r (nI_1 f) (hJ tw h1 (fun q' a => h2 q' (by omega)))) (fun hx => ?_)
    rw [ot_ix20]
    have hgo : ∀ y : Nat, xf_e (p ∧ xf_b V D b q) y → vp_in (nI (20 * f + q)) 400 ∧ ∀ t2, t2 = upd (ot_n tw) (nI (20 * f + q)).toNatClampNeg (nI y) → ∀ x3, x3 = nI q + 1 → wX_findBounds_60 post J (nI f) (ot_b p) (nI V) (nI D) (nI (D ^ V)) (nI N) il mt iv hz ib br n x3 (ot_n c) (ot_o ne) (ot_o ef) (ot_n b) (ot_o g) (ot_n (ot_pw V D)) (ot_o sp) (ot_n im) (ot_n qu) (ot_n tg) (ot_n sg) (ot_n hp) (ot_n pl) (ot_n on) t2 ns es ha (ot_n ca) (ot_n ta) (ot_n ua) := fun y hy => by
      refine ⟨vp_in_nI (by omega) (by omega), nm_r (ot_upd' tw (nI_clamp (by omega)) rfl) (nm_r (nI_1 q) (ih (q + 1) _ (by omega) (by omega) (fun f' a q' a2 => ?_) (fun q' a => ?_)))⟩
      · rw [ot_un (by omega)]; exact h1 f' a q' a2
      · by_cases e : q' = q
        · rw [e, ot_us]; exact hy
        · rw [ot_un (by omega)]; exact h2 q' (by omega)
    refine ot_bb p (fun a => hgo 1000000 (Or.inr ⟨fun x => a x.1, rfl⟩)) (fun a => ?_)
    refine xb_if hT hx (ot_bb _ (fun a2 => hgo 1000000 (Or.inr ⟨fun x => a2 x.2.1, rfl⟩)) (fun a2 => ?_))
    refine xb_ab hT hx a2 (ot_bb _ (fun a3 => hgo 1000000 (Or.inr ⟨fun x => a3 x.2.2, rfl⟩)) (fun a3 => hgo 0 (Or.inl ⟨⟨a, a2, a3⟩, rfl⟩)))
theorem xf_fb {post : SX → Prop} (hT : gr_T V D N c b ne ef g) (hl : ¬ il = 0 → wl_L V D N ne ef sp ns es) (hbd : ¬ ib = 0 → gf_F 20 (bo_1 V D N c b ne ef) on ∧ gf_F 400 (bo_2 V D N c b ne ef) tw)
    (h : ∀ il sp ns es ib on tw, ¬ il = 0 → wl_L V D N ne ef sp ns es → ¬ ib = 0 → gf_F 20 (bo_1 V D N c b ne ef) on → gf_F 400 (bo_2 V D N c b ne ef) tw → post ((nI V), (nI D), (nI (D ^ V)), (nI N), il, mt, iv, hz, ib, br, (ot_n c), (ot_o ne), (ot_o ef), (ot_n b), (ot_o g), (ot_n (ot_pw V D)), (ot_o sp), (ot_n im), (ot_n qu), (ot_n tg), (ot_n sg), (ot_n hp), (ot_n pl), (ot_n on), (ot_n tw), ns, es, ha, (ot_n ca), (ot_n ta), (ot_n ua))) : wpX_findBounds post ((nI V), (nI D), (nI (D ^ V)), (nI N), il, mt, iv, hz, ib, br, (ot_n c), (ot_o ne), (ot_o ef), (ot_n b), (ot_o g), (ot_n (ot_pw V D)), (ot_o sp), (ot_n im), (ot_n qu), (ot_n tg), (ot_n sg), (ot_n hp), (ot_n pl), (ot_n on), (ot_n tw), ns, es, ha, (ot_n ca), (ot_n ta), (ot_n ua)) := by
  unfold wpX_findBounds
  refine wl_lay hT hl (fun il sp ns es hil hL => br_c (fun e => ⟨21, ?_⟩) (fun e => h il sp ns es ib on tw hil hL e (hbd e).1 (hbd e).2))
  obtain ⟨G1, hG1⟩ := gf_ex 20 (bo_1 V D N c b ne ef)
  obtain ⟨G2, hG2⟩ := gf_ex 400 (bo_2 V D N c b ne ef)
  have key : ∀ n f (on tw : Nat → Nat), f ≤ 20 → 20 - f < n → (∀ f', f' < f → xf_e (xf_b V D b f') (on f')) → (∀ f', f' < f → ∀ q, q < 20 → xf_e (xf_b V D b f' ∧ xf_b V D b q) (tw (20 * f' + q))) → wX_findBounds_14 post (nI V) (nI D) (nI (D ^ V)) (nI N) il mt iv hz ib br n (nI f) (ot_n c) (ot_o ne) (ot_o ef) (ot_n b) (ot_o g) (ot_n (ot_pw V D)) (ot_o sp) (ot_n im) (ot_n qu) (ot_n tg) (ot_n sg) (ot_n hp) (ot_n pl) (ot_n on) (ot_n tw) ns es ha (ot_n ca) (ot_n ta) (ot_n ua) := by
    intro n
    induction n with
    | zero => intro f on tw _ a; omega
    | succ n ih =>
      intro f on tw hf hn h1 h2
      refine pk_le 20 f (fun hx => ⟨2001, ?_⟩) (fun hx => ?_)
      · have h1' : ∀ i, i < 20 → xf_e (xf_b V D b i) (on i) := fun i hi => h1 i (by omega)
        have h2' : ∀ i, i < 400 → xf_e (xf_b V D b (i / 20) ∧ xf_b V D b (i % 20)) (tw i) := fun i hi => by
          have := h2 (i / 20) (by omega) (i % 20) (by omega)
          rw [show 20 * (i / 20) + i % 20 = i from by omega] at this
          exact this
        refine xf_119 hT hL hG1 (fun on2 hF1 => ⟨4001, ?_⟩) 2001 0 1 on (by omega) (by omega) (fun i hi => ?_) (fun i hi => ?_) (fun i hi c1 c2 => ?_) (Or.inr ⟨rfl, by omega⟩)
        · refine xf_145 hT hL hG2 (fun tw2 hF2 => h il sp ns es 1 on2 tw2 hil hL ot_10 hF1 hF2) 4001 0 1 tw (by omega) (by omega) (fun i hi => ?_) (fun i hi => ?_) (fun x y hx2 hy2 => ?_) (fun i hi c1 c2 c3 c4 => ?_) (Or.inr ⟨rfl, by omega⟩)
          · rcases h2' i hi with ⟨a1, a2⟩ | ⟨a1, a2⟩
            · have h3 := (hG2.1 i hi).2 0 (fun _ => False) ⟨⟨a1.1.1, a1.2.1, ?_⟩, Or.inl ⟨a1.1.2, a1.2.2, rfl, rfl⟩⟩ 0 (fun j _ x => x.elim)
              · omega
              · have d1 := a1.1.2
                have d2 := a1.2.2
                unfold bo_b at d1 d2
                by_cases e5 : (i / 20) / 4 = (i % 20) / 4
                · rw [e5] at d1
                  exact Or.inl (by omega)
                · exact Or.inr e5
            · rw [a2]; exact (hG2.1 i hi).1
          · rcases h2' i hi with ⟨a1, a2⟩ | ⟨a1, a2⟩ <;> omega
          · have g1 := h2 x (by omega) y hy2
            have g2 := h2 y (by omega) x hx2
            rcases g1 with ⟨a1, a2⟩ | ⟨a1, a2⟩
            · rcases g2 with ⟨b1, b2⟩ | ⟨b1, b2⟩
              · omega
              · exact absurd ⟨a1.2, a1.1⟩ b1
            · rcases g2 with ⟨b1, b2⟩ | ⟨b1, b2⟩
              · exact absurd ⟨b1.2, b1.1⟩ a1
              · omega
          · rcases h2' i hi with ⟨a1, a2⟩ | ⟨a1, a2⟩
            · exact a2
            · exact absurd ⟨⟨c1, c3⟩, ⟨c2, c4⟩⟩ a1
        · rcases h1' i hi with ⟨a1, a2⟩ | ⟨a1, a2⟩
          · have h3 := (hG1.1 i hi).2 0 (fun _ => False) ⟨a1.1, Or.inl ⟨a1.2, rfl, rfl⟩⟩ 0 (fun j _ x => x.elim)
            omega
          · rw [a2]; exact (hG1.1 i hi).1
        · rcases h1' i hi with ⟨a1, a2⟩ | ⟨a1, a2⟩ <;> omega
        · rcases h1' i hi with ⟨a1, a2⟩ | ⟨a1, a2⟩
          · exact a2
          · exact absurd ⟨c1, c2⟩ a1
      · have hon : ∀ y : Nat, xf_e (xf_b V D b f) y → ∀ f', f' < f + 1 → xf_e (xf_b V D b f') (ot_u on f y f') := fun y hy f' a => by
          by_cases e : f' = f
          · rw [e, ot_us]; exact hy
          · rw [ot_un e]; exact h1 f' (by omega)
        have h41 : ∀ z, z = ot_b (xf_b V D b f) → wX_findBounds_41 post (wX_findBounds_14 post (nI V) (nI D) (nI (D ^ V)) (nI N) il mt iv hz ib br n) (nI f) z (nI V) (nI D) (nI (D ^ V)) (nI N) il mt iv hz ib br (ot_n c) (ot_o ne) (ot_o ef) (ot_n b) (ot_o g) (ot_n (ot_pw V D)) (ot_o sp) (ot_n im) (ot_n qu) (ot_n tg) (ot_n sg) (ot_n hp) (ot_n pl) (ot_n on) (ot_n tw) ns es ha (ot_n ca) (ot_n ta) (ot_n ua) := fun z ez => by
          rw [ez]
          have hcont : ∀ y : Nat, xf_e (xf_b V D b f) y → vp_in (nI f) 20 ∧ ∀ o2, o2 = upd (ot_n on) (nI f).toNatClampNeg (nI y) → ∃ n60, wX_findBounds_60 post (wX_findBounds_14 post (nI V) (nI D) (nI (D ^ V)) (nI N) il mt iv hz ib br n) (nI f) (ot_b (xf_b V D b f)) (nI V) (nI D) (nI (D ^ V)) (nI N) il mt iv hz ib br n60 0 (ot_n c) (ot_o ne) (ot_o ef) (ot_n b) (ot_o g) (ot_n (ot_pw V D)) (ot_o sp) (ot_n im) (ot_n qu) (ot_n tg) (ot_n sg) (ot_n hp) (ot_n pl) o2 (ot_n tw) ns es ha (ot_n ca) (ot_n ta) (ot_n ua) := fun y hy => by
            refine ⟨pk_in f 20 hx, nm_r (ot_upd' on (nI_clamp (by omega)) rfl) ⟨21, ?_⟩⟩
            refine xf_60 hT hx (fun tw2 c1 c2 => ih (f + 1) _ tw2 (by omega) (by omega) (hon y hy) (fun f' a q a2 => ?_)) 21 0 tw (by omega) (by omega) h2 (fun q' a => by omega)
            by_cases e : f' = f
            · rw [e]; exact c2 q a2
            · exact c1 f' (by omega) q a2
          refine ot_bb (xf_b V D b f) (fun a => hcont 1000000 (Or.inr ⟨a, rfl⟩)) (fun a => hcont 0 (Or.inl ⟨a, rfl⟩))
        refine xb_if hT hx (ot_bb _ (fun a => h41 0 (ot_bf (fun x => a x.1)).symm) (fun a => ?_))
        exact xb_ab hT hx a (ot_bb _ (fun a2 => h41 0 (ot_bf (fun x => a2 x.2)).symm) (fun a2 => h41 1 (ot_bt ⟨a, a2⟩).symm))
  exact key 21 0 on tw (by omega) (by omega) (fun f' a => by omega) (fun f' a => by omega)
end XF
end
section
section YR
variable {V D N : Nat} {rz : Int32} {c b : Nat → Nat} {ne ef g : Nat → Option Nat} {ls fw me bk bd rs : Nat → Nat}
theorem yr_ib {post : Int32 → Prop} {f : Nat} (hT : gr_T V D N c b ne ef g) (hf : f < 20) (hF : bo_F V D f) (h : post (ot_b (bo_b b f))) : wpY_isBegin post ((nI V), (nI D), (nI N), rz, (ot_n c), (ot_o ne), (ot_o ef), (ot_n b), (ot_o g), (ot_n ls), (ot_n fw), (ot_n me), (ot_n bk), (ot_n bd), (ot_n rs)) (nI f) := by
  obtain ⟨⟨hV1, hV⟩, ⟨hD, hD4⟩, hN, hc, hb, hne, hef, hg⟩ := id hT
  have hbf := hb _ hF.1
  unfold wpY_isBegin
  dsimp only
  rw [ot_r4 (by omega), ot_d4 (by omega), ot_r b (by omega)]
  refine ⟨ot_n4, vp_in_nI (by omega) (by omega), ot_n4, pk_eq (b (f / 4)) (f % 4) (fun a => ?_) (fun a => ?_)⟩
  · rw [ot_bt (show bo_b b f from a)] at h; exact h
  · rw [ot_bf (show ¬ bo_b b f from a)] at h; exact h
theorem yr_it {post : Int32 → Prop} {f : Nat} (hT : gr_T V D N c b ne ef g) (hf : f < 20) (h : post (ot_b (bo_F V D f))) : wpY_isThere post ((nI V), (nI D), (nI N), rz, (ot_n c), (ot_o ne), (ot_o ef), (ot_n b), (ot_o g), (ot_n ls), (ot_n fw), (ot_n me), (ot_n bk), (ot_n bd), (ot_n rs)) (nI f) := by
  obtain ⟨⟨hV1, hV⟩, ⟨hD, hD4⟩, hN, hc, hb, hne, hef, hg⟩ := id hT
  unfold wpY_isThere
  dsimp only
  rw [ot_r4 (by omega), ot_d4 (by omega)]
  refine ⟨ot_n4, pk_le V (f / 4) (fun a => ?_) (fun a => ⟨ot_n4, pk_le D (f % 4) (fun a2 => ?_) (fun a2 => ?_)⟩)⟩
  · rw [ot_bf (fun x => by have := x.1; omega)] at h; exact h
  · rw [ot_bf (fun x => by have := x.2; omega)] at h; exact h
  · rw [ot_bt ⟨a, a2⟩] at h; exact h
/-- what an operator does to a fact: none, this value, another -/
theorem yr_to {post : Int32 → Prop} {o f : Nat} (hT : gr_T V D N c b ne ef g) (ho : o < N) (hf : f < 20) (hfV : f / 4 < V) (h0 : ef (5 * o + f / 4) = none → post 0) (h1 : ef (5 * o + f / 4) = some (f % 4) → post 1) (h2 : ∀ x, ef (5 * o + f / 4) = some x → x ≠ f % 4 → post (-1)) : wpY_touches post ((nI V), (nI D), (nI N), rz, (ot_n c), (ot_o ne), (ot_o ef), (ot_n b), (ot_o g), (ot_n ls), (ot_n fw), (ot_n me), (ot_n bk), (ot_n bd), (ot_n rs)) (nI o) (nI f) := by
  obtain ⟨⟨hV1, hV⟩, ⟨hD, hD4⟩, hN, hc, hb, hne, hef, hg⟩ := id hT
  have hi : 5 * o + f / 4 < 50 := by omega
  unfold wpY_touches
  dsimp only
  rw [ot_r4 (by omega), ot_d4 (by omega), ot_ix5]
  refine ⟨ot_n4, pk_in _ 50 hi, nm_r (ot_ro ef (by omega)) (ot_b0 _ (fun y e => by have := hef o ho _ hfV y e; omega) (fun e => h0 e) (fun y e => ⟨ot_n4, ?_⟩))⟩
  have hy := hef o ho _ hfV y e
  rw [e, ot_is]
  refine pk_eq y (f % 4) (fun a => h1 (by rw [e, a])) (fun a => h2 y e a)
def yr_in (k : Nat) (rs : Nat → Nat) (a : Nat) : Prop := ∃ i, i < k ∧ rs i = a
/-- facts in the rest, each once -/
def yr_W (k : Nat) (rs : Nat → Nat) : Prop := (∀ i, i < k → rs i < 20) ∧ ∀ i j, i < k → j < k → rs i = rs j → i = j
theorem yr_ad {post : SY → Prop} {k f : Nat} (hk : k < 10) (hf : f < 20) (hW : yr_W k rs) (h : ∀ k2 rs2, k2 ≤ k + 1 → yr_W k2 rs2 → (∀ a, yr_in k2 rs2 a ↔ yr_in k rs a ∨ a = f) → post ((nI V), (nI D), (nI N), (nI k2), (ot_n c), (ot_o ne), (ot_o ef), (ot_n b), (ot_o g), (ot_n ls), (ot_n fw), (ot_n me), (ot_n bk), (ot_n bd), (ot_n rs2))) : wpY_addRest post ((nI V), (nI D), (nI N), (nI k), (ot_n c), (ot_o ne), (ot_o ef), (ot_n b), (ot_o g), (ot_n ls), (ot_n fw), (ot_n me), (ot_n bk), (ot_n bd), (ot_n rs)) (nI f) := by
  have key : ∀ n i, i ≤ k → k - i < n → (∀ j, j < i → rs j ≠ f) → wY_addRest_2 post (nI f) (nI V) (nI D) (nI N) (nI k) (ot_n c) (ot_o ne) (ot_o ef) (ot_n b) (ot_o g) (ot_n ls) (ot_n fw) (ot_n me) (ot_n bk) (ot_n bd) (ot_n rs) n (nI i) := by
    intro n
    induction n with
    | zero => intro i _ a; omega
    | succ n ih =>
      intro i hi hn hno
      refine pk_le k i (fun hx => ⟨vp_in_nI (by omega) (by omega), nm_r (ot_upd' rs (nI_clamp (by omega)) rfl) (nm_r (nI_1 k) (h (k + 1) _ (by omega) ⟨fun j hj => ?_, fun j1 j2 h1 h2 e => ?_⟩ (fun a => ?_)))⟩) (fun hx => ?_)
      · by_cases e : j = k
        · rw [e, ot_us]; exact hf
        · rw [ot_un e]; exact hW.1 j (by omega)
      · by_cases e1 : j1 = k
        · by_cases e2 : j2 = k
          · omega
          · rw [e1, ot_us, ot_un e2] at e
            exact absurd e.symm (hno j2 (by omega))
        · by_cases e2 : j2 = k
          · rw [e2, ot_us, ot_un e1] at e
            exact absurd e (hno j1 (by omega))
          · rw [ot_un e1, ot_un e2] at e
            exact hW.2 j1 j2 (by omega) (by omega) e
      · constructor
        · intro ⟨j, hj, e⟩
          by_cases e1 : j = k
          · rw [e1, ot_us] at e; exact Or.inr e.symm
          · rw [ot_un e1] at e; exact Or.inl ⟨j, by omega, e⟩
        · intro x
          rcases x with ⟨j, hj, e⟩ | e
          · exact ⟨j, by omega, by rw [ot_un (by omega)]; exact e⟩
          · exact ⟨k, by omega, by rw [ot_us, e]⟩
      · have hri := hW.1 i hx
        rw [ot_r rs (by omega)]
        refine ⟨vp_in_nI (by omega) (by omega), pk_eq (rs i) f (fun e => h k rs (by omega) hW (fun a => ⟨fun x => Or.inl x, fun x => ?_⟩)) (fun e => nm_r (nI_1 i) (ih (i + 1) hx (by omega) (fun j hj => ?_)))⟩
        · rcases x with x | x
          · exact x
          · exact ⟨i, hx, by rw [x]; exact e⟩
        · by_cases e2 : j = i
          · rw [e2]; exact e
          · exact hno j (by omega)
  exact ⟨k + 1, key (k + 1) 0 (by omega) (by omega) (fun j hj => by omega)⟩
/-- two facts of one variable in the rest -/
def yr_C (S : Nat → Prop) : Prop := ∃ x y, S x ∧ S y ∧ x ≠ y ∧ x / 4 = y / 4
theorem yr_118 {post : Int32 → SY → Prop} {k : Nat} (hk : k ≤ 10) (hW : yr_W k rs) (h0 : yr_C (yr_in k rs) → post 0 ((nI V), (nI D), (nI N), (nI k), (ot_n c), (ot_o ne), (ot_o ef), (ot_n b), (ot_o g), (ot_n ls), (ot_n fw), (ot_n me), (ot_n bk), (ot_n bd), (ot_n rs))) (h1 : ¬ yr_C (yr_in k rs) → post 1 ((nI V), (nI D), (nI N), (nI k), (ot_n c), (ot_o ne), (ot_o ef), (ot_n b), (ot_o g), (ot_n ls), (ot_n fw), (ot_n me), (ot_n bk), (ot_n bd), (ot_n rs))) : ∃ n, wY_findRest_118 post (nI V) (nI D) (nI N) (nI k) (ot_n c) (ot_o ne) (ot_o ef) (ot_n b) (ot_o g) (ot_n ls) (ot_n fw) (ot_n me) (ot_n bk) (ot_n bd) (ot_n rs) n 0 := by
  have k130 : ∀ (J : Int32 → Prop) i, i < k → ((∀ j, j < i → rs j / 4 ≠ rs i / 4) → J (nI (i + 1))) → ∀ n j, j ≤ i → i - j < n → (∀ j', j' < j → rs j' / 4 ≠ rs i / 4) → wY_findRest_130 post J (nI i) (nI V) (nI D) (nI N) (nI k) (ot_n c) (ot_o ne) (ot_o ef) (ot_n b) (ot_o g) (ot_n ls) (ot_n fw) (ot_n me) (ot_n bk) (ot_n bd) (ot_n rs) n (nI j) := by
    intro J i hi hJ n
    induction n with
    | zero => intro j _ a; omega
    | succ n ih =>
      intro j hj hn hno
      refine pk_le i j (fun hx => nm_r (nI_1 i) (hJ (fun j' a => hno j' (by omega)))) (fun hx => ?_)
      have hri := hW.1 i hi
      have hrj := hW.1 j (by omega)
      rw [ot_r rs (i := i) (by omega), ot_r rs (i := j) (by omega), ot_d4 (by omega), ot_d4 (by omega)]
      refine ⟨vp_in_nI (by omega) (by omega), ot_n4, vp_in_nI (by omega) (by omega), ot_n4, pk_eq (rs i / 4) (rs j / 4) (fun e => h0 ⟨rs i, rs j, ⟨i, hi, rfl⟩, ⟨j, by omega, rfl⟩, fun e2 => ?_, e⟩) (fun e => nm_r (nI_1 j) (ih (j + 1) hx (by omega) (fun j' a => ?_)))⟩
      · have := hW.2 i j hi (by omega) e2
        omega
      · by_cases e2 : j' = j
        · rw [e2]; exact fun x => e x.symm
        · exact hno j' (by omega)
  have k118 : ∀ n i, i ≤ k → k - i < n → (∀ i', i' < i → ∀ j, j < i' → rs j / 4 ≠ rs i' / 4) → wY_findRest_118 post (nI V) (nI D) (nI N) (nI k) (ot_n c) (ot_o ne) (ot_o ef) (ot_n b) (ot_o g) (ot_n ls) (ot_n fw) (ot_n me) (ot_n bk) (ot_n bd) (ot_n rs) n (nI i) := by
    intro n
    induction n with
    | zero => intro i _ a; omega
    | succ n ih =>
      intro i hi hn hno
      refine pk_le k i (fun hx => h1 ?_) (fun hx => ⟨i + 1, k130 _ i hx (fun hc => ih (i + 1) hx (by omega) (fun i' a => ?_)) (i + 1) 0 (by omega) (by omega) (fun j' a => by omega)⟩)
      · intro ⟨x, y, ⟨i1, a1, a2⟩, ⟨i2, b1, b2⟩, c1, c2⟩
        rcases Nat.lt_trichotomy i1 i2 with l | l | l
        · exact hno i2 (by omega) i1 l (by rw [a2, b2]; exact c2)
        · rw [l] at a2; exact c1 (a2.symm.trans b2)
        · exact hno i1 (by omega) i2 l (by rw [a2, b2]; exact c2.symm)
      · by_cases e : i' = i
        · rw [e]; exact hc
        · exact hno i' (by omega)
  exact ⟨k + 1, k118 (k + 1) 0 (by omega) (by omega) (fun i' a => by omega)⟩
theorem yr_fr {post : Int32 → SY → Prop} {o f h : Nat} (hT : gr_T V D N c b ne ef g) (ho : o < N) (hf : f < 20) (hh : h < 20) (hfV : f / 4 < V) (hhV : h / 4 < V)
    (h0 : ¬ (bo_s ef o f h ∧ ¬ yr_C (bo_r V ne ef o f h)) → ∀ rz rs, post 0 ((nI V), (nI D), (nI N), rz, (ot_n c), (ot_o ne), (ot_o ef), (ot_n b), (ot_o g), (ot_n ls), (ot_n fw), (ot_n me), (ot_n bk), (ot_n bd), (ot_n rs)))
    (h1 : bo_s ef o f h → ¬ yr_C (bo_r V ne ef o f h) → ∀ k rs, k ≤ 10 → yr_W k rs → (∀ a, yr_in k rs a ↔ bo_r V ne ef o f h a) → post 1 ((nI V), (nI D), (nI N), (nI k), (ot_n c), (ot_o ne), (ot_o ef), (ot_n b), (ot_o g), (ot_n ls), (ot_n fw), (ot_n me), (ot_n bk), (ot_n bd), (ot_n rs))) : wpY_findRest post ((nI V), (nI D), (nI N), rz, (ot_n c), (ot_o ne), (ot_o ef), (ot_n b), (ot_o g), (ot_n ls), (ot_n fw), (ot_n me), (ot_n bk), (ot_n bd), (ot_n rs)) (nI o) (nI f) (nI h) := by
  obtain ⟨⟨hV1, hV⟩, ⟨hD, hD4⟩, hN, hc, hb, hne, hef, hg⟩ := id hT
  have hend : bo_s ef o f h → ∀ k rs, k ≤ 10 → yr_W k rs → (∀ a, yr_in k rs a ↔ bo_r V ne ef o f h a) → ∃ n, wY_findRest_118 post (nI V) (nI D) (nI N) (nI k) (ot_n c) (ot_o ne) (ot_o ef) (ot_n b) (ot_o g) (ot_n ls) (ot_n fw) (ot_n me) (ot_n bk) (ot_n bd) (ot_n rs) n 0 := fun hs k rs hk hW hin => by
    have e : yr_C (yr_in k rs) ↔ yr_C (bo_r V ne ef o f h) := by
      constructor
      · intro ⟨x, y, a1, a2, a3⟩; exact ⟨x, y, (hin x).mp a1, (hin y).mp a2, a3⟩
      · intro ⟨x, y, a1, a2, a3⟩; exact ⟨x, y, (hin x).mpr a1, (hin y).mpr a2, a3⟩
    exact yr_118 hk hW (fun a => h0 (fun x => x.2 (e.mp a)) _ _) (fun a => h1 hs (fun x => a (e.mpr x)) k rs hk hW hin)
  -- both touches, as numbers
  have h46 : bo_s ef o f h → ∀ t1 t2 : Nat, ((t1 = 0 ∧ ef (5 * o + f / 4) = none) ∨ (t1 = 1 ∧ ef (5 * o + f / 4) ≠ none)) → ((t2 = 0 ∧ ef (5 * o + h / 4) = none) ∨ (t2 = 1 ∧ ef (5 * o + h / 4) ≠ none)) → ∃ n, wY_findRest_46 post (nI o) (nI f) (nI h) (nI t1) (nI t2) n 0 (nI V) (nI D) (nI N) 0 (ot_n c) (ot_o ne) (ot_o ef) (ot_n b) (ot_o g) (ot_n ls) (ot_n fw) (ot_n me) (ot_n bk) (ot_n bd) (ot_n rs) := fun hs t1 t2 ht1 ht2 => by
    have h105 : ∀ k rs, k ≤ 9 → yr_W k rs → (∀ a, yr_in k rs a ↔ bo_n V ne o a ∨ (a = f ∧ ef (5 * o + f / 4) = none)) → wY_findRest_105 post (nI h) (nI t2) (nI V) (nI D) (nI N) (nI k) (ot_n c) (ot_o ne) (ot_o ef) (ot_n b) (ot_o g) (ot_n ls) (ot_n fw) (ot_n me) (ot_n bk) (ot_n bd) (ot_n rs) := fun k rs hk hW hin => by
      rcases ht2 with ⟨e, e2⟩ | ⟨e, e2⟩
      · rw [e]
        refine br_t rfl (yr_ad (by omega) hh hW (fun k2 rs2 hk2 hW2 hin2 => hend hs k2 rs2 (by omega) hW2 (fun a => ?_)))
        rw [hin2, hin]
        unfold bo_r
        constructor
        · intro x
          rcases x with (x | x) | x
          · exact Or.inl x
          · exact Or.inr (Or.inl x)
          · exact Or.inr (Or.inr ⟨x, e2⟩)
        · intro x
          rcases x with x | x | x
          · exact Or.inl (Or.inl x)
          · exact Or.inl (Or.inr x)
          · exact Or.inr x.1
      · rw [e]
        refine br_f ot_10 (hend hs k rs (by omega) hW (fun a => ?_))
        rw [hin]
        unfold bo_r
        constructor
        · intro x
          rcases x with x | x
          · exact Or.inl x
          · exact Or.inr (Or.inl x)
        · intro x
          rcases x with x | x | x
          · exact Or.inl x
          · exact Or.inr x
          · exact absurd x.2 e2
    have key : ∀ n v k (rs : Nat → Nat), v ≤ V → V - v < n → k ≤ v → yr_W k rs → (∀ a, yr_in k rs a ↔ a / 4 < v ∧ ne (5 * o + a / 4) = some (a % 4)) → wY_findRest_46 post (nI o) (nI f) (nI h) (nI t1) (nI t2) n (nI v) (nI V) (nI D) (nI N) (nI k) (ot_n c) (ot_o ne) (ot_o ef) (ot_n b) (ot_o g) (ot_n ls) (ot_n fw) (ot_n me) (ot_n bk) (ot_n bd) (ot_n rs) := by
      intro n
      induction n with
      | zero => intro v k rs _ a; omega
      | succ n ih =>
        intro v k rs hv hn hk hW hin
        refine pk_le V v (fun hx => ?_) (fun hx => ?_)
        · have hin2 : ∀ a, yr_in k rs a ↔ bo_n V ne o a := fun a => by rw [hin, show v = V from by omega]; exact Iff.rfl
          rcases ht1 with ⟨e, e2⟩ | ⟨e, e2⟩
          · rw [e]
            refine br_t rfl (yr_ad (by omega) hf hW (fun k2 rs2 hk2 hW2 hin3 => h105 k2 rs2 (by omega) hW2 (fun a => ?_)))
            rw [hin3, hin2]
            exact ⟨fun x => by rcases x with x | x; exact Or.inl x; exact Or.inr ⟨x, e2⟩, fun x => by rcases x with x | x; exact Or.inl x; exact Or.inr x.1⟩
          · rw [e]
            refine br_f ot_10 (h105 k rs (by omega) hW (fun a => ?_))
            rw [hin2]
            exact ⟨fun x => Or.inl x, fun x => by rcases x with x | x; exact x; exact absurd x.2 e2⟩
        · have hi : 5 * o + v < 50 := by omega
          rw [ot_ix5, ot_ro ne (by omega)]
          refine ⟨pk_in _ 50 hi, ot_bl _ (fun y e => by have := hne o ho v hx y e; omega) (fun e => nm_r (nI_1 v) (ih (v + 1) k rs (by omega) (by omega) (by omega) hW (fun a => ?_))) (fun y e => ⟨pk_in _ 50 hi, ?_⟩)⟩
          · rw [hin]
            constructor
            · intro ⟨a1, a2⟩; exact ⟨by omega, a2⟩
            · intro ⟨a1, a2⟩
              refine ⟨?_, a2⟩
              by_cases ea : a / 4 = v
              · rw [ea, e] at a2; exact nomatch a2
              · omega
          · have hy := hne o ho v hx y e
            rw [e, ot_is, ot_ix4]
            refine yr_ad (by omega) (by omega) hW (fun k2 rs2 hk2 hW2 hin2 => nm_r (nI_1 v) (ih (v + 1) k2 rs2 (by omega) (by omega) (by omega) hW2 (fun a => ?_)))
            rw [hin2, hin]
            constructor
            · intro x
              rcases x with ⟨a1, a2⟩ | x
              · exact ⟨by omega, a2⟩
              · rw [x, show (4 * v + y) / 4 = v from by omega, show (4 * v + y) % 4 = y from by omega]
                exact ⟨by omega, e⟩
            · intro ⟨a1, a2⟩
              by_cases ea : a / 4 = v
              · rw [ea, e] at a2
                have := Option.some.inj a2
                exact Or.inr (by omega)
              · exact Or.inl ⟨by omega, a2⟩
    exact ⟨V + 1, key (V + 1) 0 0 rs (by omega) (by omega) (by omega) ⟨fun i a => by omega, fun i j a => by omega⟩ (fun a => ⟨fun ⟨i, hi, _⟩ => by omega, fun x => by omega⟩)⟩
  have hbad : ¬ bo_s ef o f h → post 0 ((nI V), (nI D), (nI N), rz, (ot_n c), (ot_o ne), (ot_o ef), (ot_n b), (ot_o g), (ot_n ls), (ot_n fw), (ot_n me), (ot_n bk), (ot_n bd), (ot_n rs)) := fun hn => h0 (fun x => hn x.1) rz rs
  unfold wpY_findRest
  have m1 : (-1 : Int32) < 0 := by decide
  have z0 : ¬ (0 : Int32) < 0 := by decide
  have o0 : ¬ (1 : Int32) < 0 := by decide
  refine yr_to hT ho hf hfV (fun a => ?_) (fun a => ?_) (fun x a ax => ?_)
  · refine yr_to hT ho hh hhV (fun a2 => ?_) (fun a2 => ?_) (fun x2 a2 ax2 => ?_)
    · refine br_f z0 (br_f z0 (br_t rfl (br_t rfl (hbad (fun hs => ?_)))))
      rcases hs.1 with y | y
      · rw [a] at y; exact nomatch y
      · rw [a2] at y; exact nomatch y
    · refine br_f z0 (br_f o0 (br_t rfl (br_f ot_10 (h46 ⟨Or.inr a2, fun y e => ?_, fun y e => ?_⟩ 0 1 (Or.inl ⟨rfl, a⟩) (Or.inr ⟨rfl, fun z => ?_⟩)))))
      · rw [a] at e; exact nomatch e
      · rw [a2] at e; exact (Option.some.inj e).symm
      · rw [a2] at z; exact nomatch z
    · exact br_f z0 (br_t m1 (hbad (fun hs => ax2 (hs.2.2 x2 a2))))
  · refine yr_to hT ho hh hhV (fun a2 => ?_) (fun a2 => ?_) (fun x2 a2 ax2 => ?_)
    · refine br_f o0 (br_f z0 (br_f ot_10 (h46 ⟨Or.inl a, fun y e => ?_, fun y e => ?_⟩ 1 0 (Or.inr ⟨rfl, fun z => ?_⟩) (Or.inl ⟨rfl, a2⟩))))
      · rw [a] at e; exact (Option.some.inj e).symm
      · rw [a2] at e; exact nomatch e
      · rw [a] at z; exact nomatch z
    · refine br_f o0 (br_f o0 (br_f ot_10 (h46 ⟨Or.inl a, fun y e => ?_, fun y e => ?_⟩ 1 1 (Or.inr ⟨rfl, fun z => ?_⟩) (Or.inr ⟨rfl, fun z => ?_⟩))))
      · rw [a] at e; exact (Option.some.inj e).symm
      · rw [a2] at e; exact (Option.some.inj e).symm
      · rw [a] at z; exact nomatch z
      · rw [a2] at z; exact nomatch z
    · exact br_f o0 (br_t m1 (hbad (fun hs => ax2 (hs.2.2 x2 a2))))
  · have hn : ¬ bo_s ef o f h := fun hs => ax (hs.2.1 x a)
    exact yr_to hT ho hh hhV (fun a2 => br_t m1 (hbad hn)) (fun a2 => br_t m1 (hbad hn)) (fun x2 a2 ax2 => br_t m1 (hbad hn))
/-- the pairs that greatestOfRest goes over -/
def yr_G (p k : Nat) (rs : Nat → Nat) (j : Nat) : Prop := ∃ i i', i < k ∧ i' ≤ i ∧ (p = 1 ∨ i' = i) ∧ j = 20 * rs i + rs i'
def yr_g (p : Nat) (rs : Nat → Nat) (i q j : Nat) : Prop := ∃ i1 i', (i1 < i ∧ i' ≤ i1 ∧ (p = 1 ∨ i' = i1) ∨ (i1 = i ∧ i' < q ∧ (p = 1 ∨ i' = i))) ∧ j = 20 * rs i1 + rs i'
theorem yr_gr {post : Int32 → Prop} {p k : Nat} (hp01 : p = 0 ∨ p = 1) (hk : k ≤ 10) (hW : yr_W k rs) (hbd : ∀ j, j < 400 → bd j ≤ 1000000) (h : ∀ r, r ≤ 1000000 → bx_M (yr_G p k rs) bd r → post (nI r)) : wpY_greatestOfRest post ((nI V), (nI D), (nI N), (nI k), (ot_n c), (ot_o ne), (ot_o ef), (ot_n b), (ot_o g), (ot_n ls), (ot_n fw), (ot_n me), (ot_n bk), (ot_n bd), (ot_n rs)) (nI p) := by
  have k23 : ∀ (J : Int32 → Int32 → Prop) i, i < k → (∀ r, r ≤ 1000000 → bx_M (yr_g p rs i (i + 1)) bd r → J (nI r) (nI (i + 1))) → ∀ n q r, q ≤ i + 1 → (p = 0 → i ≤ q) → i + 1 - q < n → r ≤ 1000000 → bx_M (yr_g p rs i q) bd r → wY_greatestOfRest_23 post J (nI p) (nI i) (nI V) (nI D) (nI N) (nI k) (ot_n c) (ot_o ne) (ot_o ef) (ot_n b) (ot_o g) (ot_n ls) (ot_n fw) (ot_n me) (ot_n bk) (ot_n bd) (ot_n rs) n (nI r) (nI q) := by
    intro J i hi hJ n
    induction n with
    | zero => intro q r _ _ a; omega
    | succ n ih =>
      intro q r hq hp0 hn hr hM
      refine pk_lt i q (fun hx => nm_r (nI_1 i) (hJ r hr ?_)) (fun hx => ?_)
      · rw [show q = i + 1 from by omega] at hM; exact hM
      · have hri := hW.1 i hi
        have hrq := hW.1 q (by omega)
        have hjl : 20 * rs i + rs q < 400 := by omega
        have hbj := hbd _ hjl
        have hS : ∀ j, yr_g p rs i (q + 1) j ↔ yr_g p rs i q j ∨ j = 20 * rs i + rs q := fun j => by
          constructor
          · intro ⟨i1, i', a1, a2⟩
            rcases a1 with a1 | ⟨a1, a3, a4⟩
            · exact Or.inl ⟨i1, i', Or.inl a1, a2⟩
            · by_cases e : i' = q
              · rw [a1, e] at a2; exact Or.inr a2
              · exact Or.inl ⟨i1, i', Or.inr ⟨a1, by omega, a4⟩, a2⟩
          · intro x
            rcases x with ⟨i1, i', a1, a2⟩ | x
            · rcases a1 with a1 | ⟨a1, a3, a4⟩
              · exact ⟨i1, i', Or.inl a1, a2⟩
              · exact ⟨i1, i', Or.inr ⟨a1, by omega, a4⟩, a2⟩
            · exact ⟨i, q, Or.inr ⟨rfl, by omega, by omega⟩, x⟩
        rw [ot_r rs (i := i) (by omega), ot_r rs (i := q) (by omega), ot_ix20]
        refine ⟨vp_in_nI (by omega) (by omega), vp_in_nI (by omega) (by omega), vp_in_nI (by omega) (by omega), nm_r (ot_r bd (by omega)) ?_⟩
        refine pk_le (bd (20 * rs i + rs q)) r (fun a => nm_r (nI_1 q) (ih (q + 1) r (by omega) (by omega) (by omega) hr (bx_1 hM hS a))) (fun a => nm_r (nI_1 q) (ih (q + 1) _ (by omega) (by omega) (by omega) hbj (bx_2 hM hS a)))
  have k4 : ∀ n i r, i ≤ k → k - i < n → r ≤ 1000000 → bx_M (yr_g p rs i 0) bd r → wY_greatestOfRest_4 post (nI p) (nI V) (nI D) (nI N) (nI k) (ot_n c) (ot_o ne) (ot_o ef) (ot_n b) (ot_o g) (ot_n ls) (ot_n fw) (ot_n me) (ot_n bk) (ot_n bd) (ot_n rs) n (nI r) (nI i) := by
    intro n
    induction n with
    | zero => intro i r _ a; omega
    | succ n ih =>
      intro i r hi hn hr hM
      refine pk_le k i (fun hx => h r hr (bx_e hM (fun j => ?_))) (fun hx => ?_)
      · constructor
        · intro ⟨i1, i', a1, a2, a3, a4⟩
          exact ⟨i1, i', Or.inl ⟨by omega, a2, a3⟩, a4⟩
        · intro ⟨i1, i', a1, a2⟩
          rcases a1 with ⟨a1, a3, a4⟩ | a1
          · exact ⟨i1, i', by omega, a3, a4, a2⟩
          · omega
      · have hJ : ∀ r2, r2 ≤ 1000000 → bx_M (yr_g p rs i (i + 1)) bd r2 → wY_greatestOfRest_4 post (nI p) (nI V) (nI D) (nI N) (nI k) (ot_n c) (ot_o ne) (ot_o ef) (ot_n b) (ot_o g) (ot_n ls) (ot_n fw) (ot_n me) (ot_n bk) (ot_n bd) (ot_n rs) n (nI r2) (nI (i + 1)) := fun r2 hr2 hM2 => ih (i + 1) r2 (by omega) (by omega) hr2 (bx_e hM2 (fun j => by
          constructor
          · intro ⟨i1, i', a1, a2⟩
            refine ⟨i1, i', ?_, a2⟩
            rcases a1 with ⟨a1, a3, a4⟩ | a1
            · by_cases e : i1 = i
              · exact Or.inr ⟨e, by omega, by omega⟩
              · exact Or.inl ⟨by omega, a3, a4⟩
            · omega
          · intro ⟨i1, i', a1, a2⟩
            refine ⟨i1, i', ?_, a2⟩
            rcases a1 with ⟨a1, a3, a4⟩ | ⟨a1, a3, a4⟩
            · exact Or.inl ⟨by omega, a3, a4⟩
            · exact Or.inl ⟨by omega, by omega, by omega⟩))
        rcases hp01 with e | e
        · rw [e] at hJ hM ⊢
          rw [e] at k23
          refine br_t rfl ⟨2, k23 _ i hx hJ 2 i r (by omega) (fun _ => Nat.le_refl _) (by omega) hr (bx_e hM (fun j => ?_))⟩
          constructor
          · intro ⟨i1, i', a1, a2⟩
            refine ⟨i1, i', ?_, a2⟩
            omega
          · intro ⟨i1, i', a1, a2⟩
            refine ⟨i1, i', ?_, a2⟩
            omega
        · rw [e] at hJ hM ⊢
          rw [e] at k23
          exact br_f ot_10 ⟨i + 2, k23 _ i hx hJ (i + 2) 0 r (by omega) (fun z => by omega) (by omega) hr hM⟩
  exact ⟨k + 1, k4 (k + 1) 0 0 (by omega) (by omega) (by omega) (bx_0 (fun j ⟨i1, i', a1, a2⟩ => by omega))⟩
end YR
end
section
section YD
variable {V D N : Nat} {rz : Int32} {c b : Nat → Nat} {ne ef g : Nat → Option Nat} {ls fw me bk bd rs : Nat → Nat}
theorem gf_top {K : Nat} {R : Nat → Nat → (Nat → Prop) → Prop} {G : Nat → Nat} (hG : gf_F K R G) {i : Nat} (hi : i < K) (hn : ∀ k P, ¬ R i k P) : G i = 1000000 := by
  have hk : gf_C K R (ot_u G i 1000000) := by
    intro j hj
    by_cases e : j = i
    · rw [e, ot_us]
      exact ⟨Nat.le_refl _, fun k P hR => absurd hR (hn k P)⟩
    · rw [ot_un e]
      refine ⟨(hG.1 j hj).1, fun k P hR m hm => (hG.1 j hj).2 k P hR m (fun l hl hP => ?_)⟩
      have h1 := hm l hl hP
      by_cases e2 : l = i
      · rw [e2, ot_us] at h1
        have := (hG.1 l hl).1
        omega
      · rw [ot_un e2] at h1; exact h1
  have h1 := hG.2 _ hk i hi
  rw [ot_us] at h1
  have := (hG.1 i hi).1
  omega
theorem yd_42 {post : Int32 → SY → Prop} {Inv : Nat → Nat → Prop} {f h p : Nat} (hT : gr_T V D N c b ne ef g) (hp01 : p = 0 ∨ p = 1) (hf : f < 20) (hh : h < 20) (hfV : f / 4 < V) (hhV : h / 4 < V) (hbd : ∀ j, j < 400 → bd j ≤ 1000000)
    (hskip : ∀ o r, o < N → ¬ (bo_s ef o f h ∧ ¬ yr_C (bo_r V ne ef o f h)) → Inv o r → Inv (o + 1) r)
    (huse : ∀ o r k rs m, o < N → bo_s ef o f h → (∀ a, yr_in k rs a ↔ bo_r V ne ef o f h a) → bx_M (yr_G p k rs) bd m → Inv o r → (r ≤ c o + m → Inv (o + 1) r) ∧ (c o + m < r → Inv (o + 1) (c o + m)))
    (hend : ∀ r rz rs, r ≤ 1000000 → Inv N r → post (nI r) ((nI V), (nI D), (nI N), rz, (ot_n c), (ot_o ne), (ot_o ef), (ot_n b), (ot_o g), (ot_n ls), (ot_n fw), (ot_n me), (ot_n bk), (ot_n bd), (ot_n rs))) :
    ∀ n o r (rz : Int32) (rs : Nat → Nat), o ≤ N → N - o < n → r ≤ 1000000 → Inv o r → wY_boundOf_42 post (nI f) (nI h) (nI p) n (nI r) (nI o) (nI V) (nI D) (nI N) rz (ot_n c) (ot_o ne) (ot_o ef) (ot_n b) (ot_o g) (ot_n ls) (ot_n fw) (ot_n me) (ot_n bk) (ot_n bd) (ot_n rs) := by
  obtain ⟨⟨hV1, hV⟩, ⟨hD, hD4⟩, hN, hc, hb, hne, hef, hg⟩ := id hT
  intro n
  induction n with
  | zero => intro o r rz rs _ a; omega
  | succ n ih =>
    intro o r rz rs ho hn hr hI
    refine pk_le N o (fun hx => ?_) (fun hx => ?_)
    · rw [show o = N from by omega] at hI
      exact hend r rz rs hr hI
    · have hco := hc o hx
      refine yr_fr hT hx hf hh hfV hhV (fun a rz2 rs2 => br_t rfl (nm_r (nI_1 o) (ih (o + 1) r rz2 rs2 (by omega) (by omega) hr (hskip o r hx a hI)))) (fun a1 a2 k rs2 hk hW hin => br_f ot_10 ⟨pk_in o 10 (by omega), ?_⟩)
      refine yr_gr hp01 hk hW hbd (fun m hm1 hm => ?_)
      rw [nI_clamp (by omega), show ot_n c o = nI (c o) from rfl]
      obtain ⟨u1, u2⟩ := huse o r k rs2 m hx a1 hin hm hI
      refine nm_r (nI_add _ _) (pk_le r (c o + m) (fun b1 => nm_r (nI_1 o) (ih (o + 1) r _ rs2 (by omega) (by omega) hr (u1 b1))) (fun b1 => nm_r (nI_1 o) (ih (o + 1) (c o + m) _ rs2 (by omega) (by omega) (by omega) (u2 b1))))
theorem yd_rl {o f h a : Nat} (hV : V ≤ 5) (hf : f < 20) (hh : h < 20) (hr : bo_r V ne ef o f h a) : a < 20 := by
  rcases hr with x | x | x
  · have := x.1; omega
  · have := x.1; omega
  · have := x.1; omega
theorem yd_b2 {post : Int32 → SY → Prop} {G : Nat → Nat} {f h : Nat} (hT : gr_T V D N c b ne ef g) (hG : gf_F 400 (bo_2 V D N c b ne ef) G) (hlo : ∀ i, i < 400 → G i ≤ bd i) (hbd : ∀ i, i < 400 → bd i ≤ 1000000) (hf : f < 20) (hh : h < 20) (hF1 : bo_F V D f) (hF2 : bo_F V D h)
    (hp2 : ∀ r rz rs, r ≤ 1000000 → G (20 * f + h) ≤ r → xs_R 400 (bo_2 V D N c b ne ef) bd (20 * f + h) r → post (nI r) ((nI V), (nI D), (nI N), rz, (ot_n c), (ot_o ne), (ot_o ef), (ot_n b), (ot_o g), (ot_n ls), (ot_n fw), (ot_n me), (ot_n bk), (ot_n bd), (ot_n rs))) : wpY_boundOf post ((nI V), (nI D), (nI N), rz, (ot_n c), (ot_o ne), (ot_o ef), (ot_n b), (ot_o g), (ot_n ls), (ot_n fw), (ot_n me), (ot_n bk), (ot_n bd), (ot_n rs)) (nI f) (nI h) (nI 1) := by
  obtain ⟨⟨hV1, hV⟩, ⟨hD, hD4⟩, hN, hc, hb, hne, hef, hg⟩ := id hT
  have hGs := bo_Gs hG
  have hi : 20 * f + h < 400 := by omega
  have e1 : (20 * f + h) / 20 = f := by omega
  have e2 : (20 * f + h) % 20 = h := by omega
  have hmain : (f = h ∨ f / 4 ≠ h / 4) → wY_boundOf_17 post (nI f) (nI h) (nI 1) (nI V) (nI D) (nI N) rz (ot_n c) (ot_o ne) (ot_o ef) (ot_n b) (ot_o g) (ot_n ls) (ot_n fw) (ot_n me) (ot_n bk) (ot_n bd) (ot_n rs) := fun hw2 => by
    have hw : bo_w V D f h := ⟨hF1, hF2, hw2⟩
    have hloop : ¬ (bo_b b f ∧ bo_b b h) → ∃ n, wY_boundOf_42 post (nI f) (nI h) (nI 1) n 1000000 0 (nI V) (nI D) (nI N) rz (ot_n c) (ot_o ne) (ot_o ef) (ot_n b) (ot_o g) (ot_n ls) (ot_n fw) (ot_n me) (ot_n bk) (ot_n bd) (ot_n rs) := fun hnb => by
      refine ⟨N + 1, yd_42 (Inv := fun o r => r ≤ 1000000 ∧ G (20 * f + h) ≤ r ∧ ∀ o', o' < o → bo_s ef o' f h → ∀ m, (∀ j, j < 400 → bo_q V ne ef o' f h j → bd j ≤ m) → r ≤ c o' + m) hT (Or.inr rfl) hf hh hF1.1 hF2.1 hbd (fun o r ho hno hI => ⟨hI.1, hI.2.1, fun o' a1 a2 m hm => ?_⟩) (fun o r k rs2 m ho hs hin hm hI => ?_) (fun r rz2 rs2 hr hI => hp2 r rz2 rs2 hr hI.2.1 (fun k P hR m hm => ?_)) (N + 1) 0 1000000 rz rs (by omega) (by omega) (by omega) ⟨Nat.le_refl _, (hG.1 _ hi).1, fun o' a => by omega⟩⟩
      · by_cases eo : o' = o
        · rw [eo] at a2 hm ⊢
          have hC : yr_C (bo_r V ne ef o f h) := Classical.not_not.mp (fun x => hno ⟨a2, x⟩)
          obtain ⟨x, y, r1, r2, hne2, hsv⟩ := hC
          have hx := yd_rl hV hf hh r1
          have hy := yd_rl hV hf hh r2
          have hj : 20 * x + y < 400 := by omega
          have h1 := hm _ hj ⟨x, y, hx, hy, rfl, r1, r2⟩
          have h2 := hlo _ hj
          have h3 : G (20 * x + y) = 1000000 := gf_top hG hj (fun k P hR => by
            have h4 := hR.1.2.2
            rw [show (20 * x + y) / 20 = x from by omega, show (20 * x + y) % 20 = y from by omega] at h4
            rcases h4 with z | z
            · exact hne2 z
            · exact z hsv)
          have := hI.1
          omega
        · exact hI.2.2 o' (by omega) a2 m hm
      · have hub : ∀ m2, (∀ j, j < 400 → bo_q V ne ef o f h j → bd j ≤ m2) → m ≤ m2 := fun m2 hm2 => hm.2 m2 (fun j ⟨i, i', a1, a2, _, a4⟩ => by
          have r1 := (hin (rs2 i)).mp ⟨i, a1, rfl⟩
          have r2 := (hin (rs2 i')).mp ⟨i', by omega, rfl⟩
          have hx := yd_rl hV hf hh r1
          have hy := yd_rl hV hf hh r2
          exact hm2 j (by omega) ⟨rs2 i, rs2 i', hx, hy, a4, r1, r2⟩)
        refine ⟨fun b1 => ⟨hI.1, hI.2.1, fun o' a1 a2 m2 hm2 => ?_⟩, fun b1 => ⟨by have := hI.1; omega, ?_, fun o' a1 a2 m2 hm2 => ?_⟩⟩
        · by_cases eo : o' = o
          · rw [eo] at hm2 ⊢
            have := hub m2 hm2
            omega
          · exact hI.2.2 o' (by omega) a2 m2 hm2
        · refine (hG.1 _ hi).2 (c o) (bo_q V ne ef o f h) ⟨by rw [e1, e2]; exact hw, Or.inr ⟨o, ho, by rw [e1, e2]; exact hs, rfl, by rw [e1, e2]⟩⟩ m (fun j hj ⟨x, y, hx, hy, ej, r1, r2⟩ => ?_)
          obtain ⟨i, a1, a2⟩ := (hin x).mpr r1
          obtain ⟨i', b2, b3⟩ := (hin y).mpr r2
          rw [ej]
          by_cases le : i' ≤ i
          · have h1 := hm.1 (20 * x + y) ⟨i, i', a1, le, Or.inl rfl, by rw [a2, b3]⟩
            have h2 := hlo (20 * x + y) (by omega)
            omega
          · have h1 := hm.1 (20 * y + x) ⟨i', i, b2, by omega, Or.inl rfl, by rw [a2, b3]⟩
            have h2 := hlo (20 * y + x) (by omega)
            rw [hGs x y hx hy]
            omega
        · by_cases eo : o' = o
          · rw [eo] at hm2 ⊢
            have := hub m2 hm2
            omega
          · have := hI.2.2 o' (by omega) a2 m2 hm2
            omega
      · have hR2 := hR.2
        rw [e1, e2] at hR2
        rcases hR2 with ⟨b1, b2, _⟩ | ⟨o, b1, b2, b3, b4⟩
        · exact absurd ⟨b1, b2⟩ hnb
        · rw [b3]
          exact hI.2.2 o b1 b2 m (fun j hj hq => hm j hj (by rw [b4]; exact hq))
    refine yr_ib hT hf hF1 (ot_bb _ (fun a => hloop (fun x => a x.1)) (fun a => ?_))
    refine yr_ib hT hh hF2 (ot_bb _ (fun a2 => hloop (fun x => a2 x.2)) (fun a2 => ?_))
    refine hp2 0 rz rs (by omega) ?_ (fun k P hR m _ => by omega)
    exact (hG.1 _ hi).2 0 (fun _ => False) ⟨by rw [e1, e2]; exact hw, Or.inl ⟨by rw [e1]; exact a, by rw [e2]; exact a2, rfl, rfl⟩⟩ 0 (fun j _ x => x.elim)
  unfold wpY_boundOf
  dsimp only
  rw [ot_d4 (by omega), ot_d4 (by omega)]
  refine pk_eq f h (fun a => hmain (Or.inl a)) (fun a => ⟨ot_n4, ot_n4, pk_eq (f / 4) (h / 4) (fun a2 => ?_) (fun a2 => hmain (Or.inr a2))⟩)
  refine hp2 1000000 rz rs (by omega) (hG.1 _ hi).1 (fun k P hR => ?_)
  have h4 := hR.1.2.2
  rw [e1, e2] at h4
  rcases h4 with z | z
  · exact absurd z a
  · exact absurd a2 z
/-- the rules of single facts on Y's table -/
def yd_1 (V D N : Nat) (c b : Nat → Nat) (ne ef : Nat → Option Nat) (i k : Nat) (P : Nat → Prop) : Prop :=
  i % 21 = 0 ∧ ∃ Q, bo_1 V D N c b ne ef (i / 21) k Q ∧ P = fun j => j % 21 = 0 ∧ Q (j / 21)
theorem yd_b1 {post : Int32 → SY → Prop} {G : Nat → Nat} {f : Nat} (hT : gr_T V D N c b ne ef g) (hG : gf_F 400 (yd_1 V D N c b ne ef) G) (hlo : ∀ i, i < 400 → G i ≤ bd i) (hbd : ∀ i, i < 400 → bd i ≤ 1000000) (hf : f < 20) (hF1 : bo_F V D f)
    (hp2 : ∀ r rz rs, r ≤ 1000000 → G (20 * f + f) ≤ r → xs_R 400 (yd_1 V D N c b ne ef) bd (20 * f + f) r → post (nI r) ((nI V), (nI D), (nI N), rz, (ot_n c), (ot_o ne), (ot_o ef), (ot_n b), (ot_o g), (ot_n ls), (ot_n fw), (ot_n me), (ot_n bk), (ot_n bd), (ot_n rs))) : wpY_boundOf post ((nI V), (nI D), (nI N), rz, (ot_n c), (ot_o ne), (ot_o ef), (ot_n b), (ot_o g), (ot_n ls), (ot_n fw), (ot_n me), (ot_n bk), (ot_n bd), (ot_n rs)) (nI f) (nI f) (nI 0) := by
  obtain ⟨⟨hV1, hV⟩, ⟨hD, hD4⟩, hN, hc, hb, hne, hef, hg⟩ := id hT
  have hi : 20 * f + f < 400 := by omega
  have e0 : (20 * f + f) % 21 = 0 := by omega
  have e1 : (20 * f + f) / 21 = f := by omega
  have hbs : ∀ o, bo_s ef o f f ↔ ef (5 * o + f / 4) = some (f % 4) := fun o => by
    constructor
    · intro x; rcases x.1 with y | y <;> exact y
    · intro x
      exact ⟨Or.inl x, fun y e => by rw [x] at e; exact (Option.some.inj e).symm, fun y e => by rw [x] at e; exact (Option.some.inj e).symm⟩
  have hbr : ∀ o, bo_s ef o f f → ∀ a, bo_r V ne ef o f f a ↔ bo_n V ne o a := fun o hs a => by
    have h1 := (hbs o).mp hs
    constructor
    · intro x
      rcases x with x | x | x
      · exact x
      · rw [h1] at x; exact nomatch x.2
      · rw [h1] at x; exact nomatch x.2
    · intro x; exact Or.inl x
  have hnc : ∀ o, bo_s ef o f f → ¬ yr_C (bo_r V ne ef o f f) := fun o hs ⟨x, y, r1, r2, hn2, hsv⟩ => by
    have q1 := (hbr o hs x).mp r1
    have q2 := (hbr o hs y).mp r2
    have q3 := q1.2
    rw [hsv, q2.2] at q3
    have := Option.some.inj q3
    omega
  have hmain : wY_boundOf_17 post (nI f) (nI f) (nI 0) (nI V) (nI D) (nI N) rz (ot_n c) (ot_o ne) (ot_o ef) (ot_n b) (ot_o g) (ot_n ls) (ot_n fw) (ot_n me) (ot_n bk) (ot_n bd) (ot_n rs) := by
    have hloop : ¬ bo_b b f → ∃ n, wY_boundOf_42 post (nI f) (nI f) (nI 0) n 1000000 0 (nI V) (nI D) (nI N) rz (ot_n c) (ot_o ne) (ot_o ef) (ot_n b) (ot_o g) (ot_n ls) (ot_n fw) (ot_n me) (ot_n bk) (ot_n bd) (ot_n rs) := fun hnb => by
      refine ⟨N + 1, yd_42 (Inv := fun o r => r ≤ 1000000 ∧ G (20 * f + f) ≤ r ∧ ∀ o', o' < o → bo_s ef o' f f → ∀ m, (∀ j, j < 400 → j % 21 = 0 → bo_n V ne o' (j / 21) → bd j ≤ m) → r ≤ c o' + m) hT (Or.inl rfl) hf hf hF1.1 hF1.1 hbd (fun o r ho hno hI => ⟨hI.1, hI.2.1, fun o' a1 a2 m hm => ?_⟩) (fun o r k rs2 m ho hs hin hm hI => ?_) (fun r rz2 rs2 hr hI => hp2 r rz2 rs2 hr hI.2.1 (fun k P hR m hm => ?_)) (N + 1) 0 1000000 rz rs (by omega) (by omega) (by omega) ⟨Nat.le_refl _, (hG.1 _ hi).1, fun o' a => by omega⟩⟩
      · by_cases eo : o' = o
        · rw [eo] at a2
          exact absurd ⟨a2, hnc o a2⟩ hno
        · exact hI.2.2 o' (by omega) a2 m hm
      · have hub : ∀ m2, (∀ j, j < 400 → j % 21 = 0 → bo_n V ne o (j / 21) → bd j ≤ m2) → m ≤ m2 := fun m2 hm2 => hm.2 m2 (fun j ⟨i, i', a1, a2, a3, a4⟩ => by
          have r1 := (hin (rs2 i)).mp ⟨i, a1, rfl⟩
          have hx := yd_rl hV hf hf r1
          have ei : i' = i := by omega
          rw [ei] at a4
          refine hm2 j (by omega) (by omega) ?_
          rw [show j / 21 = rs2 i from by omega]
          exact (hbr o hs _).mp r1)
        refine ⟨fun b1 => ⟨hI.1, hI.2.1, fun o' a1 a2 m2 hm2 => ?_⟩, fun b1 => ⟨by have := hI.1; omega, ?_, fun o' a1 a2 m2 hm2 => ?_⟩⟩
        · by_cases eo : o' = o
          · rw [eo] at hm2 ⊢
            have := hub m2 hm2
            omega
          · exact hI.2.2 o' (by omega) a2 m2 hm2
        · refine (hG.1 _ hi).2 (c o) (fun j => j % 21 = 0 ∧ bo_n V ne o (j / 21)) ⟨e0, bo_n V ne o, ⟨by rw [e1]; exact hF1, Or.inr ⟨o, ho, by rw [e1]; exact (hbs o).mp hs, rfl, rfl⟩⟩, rfl⟩ m (fun j hj hq => ?_)
          obtain ⟨i, a1, a2⟩ := (hin (j / 21)).mpr ((hbr o hs _).mpr hq.2)
          have h1 := hm.1 j ⟨i, i, a1, Nat.le_refl _, Or.inr rfl, by rw [a2]; omega⟩
          have h2 := hlo j hj
          omega
        · by_cases eo : o' = o
          · rw [eo] at hm2 ⊢
            have := hub m2 hm2
            omega
          · have := hI.2.2 o' (by omega) a2 m2 hm2
            omega
      · obtain ⟨_, Q, hQ, hP⟩ := hR
        rw [e1] at hQ
        rcases hQ.2 with ⟨b1, _⟩ | ⟨o, b1, b2, b3, b4⟩
        · exact absurd b1 hnb
        · rw [b3]
          exact hI.2.2 o b1 ((hbs o).mpr b2) m (fun j hj hq hq2 => hm j hj (by rw [hP, b4]; exact ⟨hq, hq2⟩))
    refine yr_ib hT hf hF1 (ot_bb _ (fun a => hloop a) (fun a => ?_))
    refine yr_ib hT hf hF1 (ot_bb _ (fun a2 => hloop a2) (fun a2 => ?_))
    refine hp2 0 rz rs (by omega) ?_ (fun k P hR m _ => by omega)
    exact (hG.1 _ hi).2 0 (fun j => j % 21 = 0 ∧ False) ⟨e0, fun _ => False, ⟨by rw [e1]; exact hF1, Or.inl ⟨by rw [e1]; exact a, rfl, rfl⟩⟩, rfl⟩ 0 (fun j _ x => x.2.elim)
  unfold wpY_boundOf
  dsimp only
  exact br_t rfl hmain
/-- both systems at once: what a visit of entry i needs -/
def yd_V (V D N : Nat) (c b : Nat → Nat) (ne ef : Nat → Option Nat) (g : Nat → Option Nat) (ls fw me bk : Nat → Nat) (p : Nat) (R : Nat → Nat → (Nat → Prop) → Prop) (G : Nat → Nat) : Prop :=
  ∀ i, i < 400 → (¬ (bo_F V D (i / 20) ∧ bo_F V D (i % 20) ∧ (p = 1 ∨ i / 20 = i % 20)) → ∀ k P, ¬ R i k P) ∧
    ∀ (bd : Nat → Nat) (rz : Int32) (rs : Nat → Nat) (post : Int32 → SY → Prop), (∀ i, i < 400 → G i ≤ bd i) → (∀ i, i < 400 → bd i ≤ 1000000) → bo_F V D (i / 20) → bo_F V D (i % 20) → (p = 1 ∨ i / 20 = i % 20) →
      (∀ r rz rs, r ≤ 1000000 → G i ≤ r → xs_R 400 R bd i r → post (nI r) ((nI V), (nI D), (nI N), rz, (ot_n c), (ot_o ne), (ot_o ef), (ot_n b), (ot_o g), (ot_n ls), (ot_n fw), (ot_n me), (ot_n bk), (ot_n bd), (ot_n rs))) → wpY_boundOf post ((nI V), (nI D), (nI N), rz, (ot_n c), (ot_o ne), (ot_o ef), (ot_n b), (ot_o g), (ot_n ls), (ot_n fw), (ot_n me), (ot_n bk), (ot_n bd), (ot_n rs)) (nI (i / 20)) (nI (i % 20)) (nI p)
theorem yd_V2 {G : Nat → Nat} (hT : gr_T V D N c b ne ef g) (hG : gf_F 400 (bo_2 V D N c b ne ef) G) : yd_V V D N c b ne ef g ls fw me bk 1 (bo_2 V D N c b ne ef) G := by
  intro i hi
  refine ⟨fun a k P hR => a ⟨hR.1.1, hR.1.2.1, Or.inl rfl⟩, fun bd rz rs post hlo hbd h1 h2 _ hp => ?_⟩
  have e : 20 * (i / 20) + i % 20 = i := by omega
  refine yd_b2 hT hG hlo hbd (by omega) (by omega) h1 h2 (fun r rz2 rs2 a1 a2 a3 => hp r rz2 rs2 a1 ?_ ?_)
  · rw [e] at a2; exact a2
  · rw [e] at a3; exact a3
theorem yd_V1 {G : Nat → Nat} (hT : gr_T V D N c b ne ef g) (hG : gf_F 400 (yd_1 V D N c b ne ef) G) : yd_V V D N c b ne ef g ls fw me bk 0 (yd_1 V D N c b ne ef) G := by
  intro i hi
  refine ⟨fun a k P hR => a ?_, fun bd rz rs post hlo hbd h1 h2 h3 hp => ?_⟩
  · obtain ⟨h0, Q, hQ, _⟩ := hR
    have e1 : i / 20 = i / 21 := by omega
    have e2 : i % 20 = i / 21 := by omega
    rw [e1, e2]
    exact ⟨hQ.1, hQ.1, Or.inr rfl⟩
  · have e3 : i / 20 = i % 20 := by omega
    have e : 20 * (i / 20) + i / 20 = i := by omega
    rw [← e3]
    refine yd_b1 hT hG hlo hbd (by omega) h1 (fun r rz2 rs2 a1 a2 a3 => hp r rz2 rs2 a1 ?_ ?_)
    · rw [e] at a2; exact a2
    · rw [e] at a3; exact a3
theorem yd_33 {post : SY → Prop} {J : Int32 → Int32 → Int32 → Int32 → Int32 → (Nat → Int32) → (Nat → Int32) → (Nat → Int32) → (Nat → Int32) → (Nat → Int32) → (Nat → Int32) → (Nat → Int32) → (Nat → Int32) → (Nat → Int32) → (Nat → Int32) → (Nat → Int32) → Prop} {p : Nat} {R : Nat → Nat → (Nat → Prop) → Prop} {G bd0 : Nat → Nat} (hT : gr_T V D N c b ne ef g) (hp01 : p = 0 ∨ p = 1) (hG : gf_F 400 R G) (hVis : yd_V V D N c b ne ef g ls fw me bk p R G) (hhi : ∀ i, i < 400 → bd0 i ≤ 1000000)
    (hJ : ∀ bd x rz rs, xs_I 400 R G bd0 bd (fun i => i < 400) x → J (nI x) (nI V) (nI D) (nI N) rz (ot_n c) (ot_o ne) (ot_o ef) (ot_n b) (ot_o g) (ot_n ls) (ot_n fw) (ot_n me) (ot_n bk) (ot_n bd) (ot_n rs)) :
    ∀ n i x (bd : Nat → Nat) (rz : Int32) (rs : Nat → Nat), i ≤ 400 → 400 - i < n → xs_I 400 R G bd0 bd (fun j => j < i) x → wY_findBounds_33 post J (nI p) n (nI x) (nI i) (nI V) (nI D) (nI N) rz (ot_n c) (ot_o ne) (ot_o ef) (ot_n b) (ot_o g) (ot_n ls) (ot_n fw) (ot_n me) (ot_n bk) (ot_n bd) (ot_n rs) := by
  intro n
  induction n with
  | zero => intro i x bd rz rs _ a; omega
  | succ n ih =>
    intro i x bd rz rs hi hn hI
    have hx01 : x = 0 ∨ x = 1 := by rcases hI.2.2.2 with a | a <;> omega
    refine pk_le 400 i (fun hx => ?_) (fun hx => ?_)
    · rw [show i = 400 from by omega] at hI
      exact hJ bd x rz rs hI
    · have hbd : ∀ j, j < 400 → bd j ≤ 1000000 := fun j hj => Nat.le_trans (hI.2.1 j hj) (hhi j hj)
      have hbi := hbd i hx
      obtain ⟨v1, v2⟩ := hVis i hx
      have h107 : ∀ r (rz : Int32) (rs : Nat → Nat), r ≤ 1000000 → G i ≤ r → xs_R 400 R bd i r → wY_findBounds_107 post J (wY_findBounds_33 post J (nI p) n) (nI p) (nI x) (nI i) (nI r) (nI V) (nI D) (nI N) rz (ot_n c) (ot_o ne) (ot_o ef) (ot_n b) (ot_o g) (ot_n ls) (ot_n fw) (ot_n me) (ot_n bk) (ot_n bd) (ot_n rs) := fun r rz rs hr hGr hR => by
        have hR0 : xs_R 400 R bd0 i r := fun k P a m hm => hR k P a m (fun j hj hP => Nat.le_trans (hI.2.1 j hj) (hm j hj hP))
        have h129 : ∀ x2 : Nat, ((x2 = 0 ∧ x = 0 ∧ bd i ≤ r) ∨ (x2 = 1 ∧ (x = 1 ∨ r < bd i))) → wY_findBounds_129 post J (wY_findBounds_33 post J (nI p) n) (nI p) (nI i) (nI r) (nI x2) (nI V) (nI D) (nI N) rz (ot_n c) (ot_o ne) (ot_o ef) (ot_n b) (ot_o g) (ot_n ls) (ot_n fw) (ot_n me) (ot_n bk) (ot_n bd) (ot_n rs) := fun x2 h2 => by
          unfold wY_findBounds_129
          rw [ot_r bd (by omega)]
          refine ⟨vp_in_nI (by omega) (by omega), pk_le (bd i) r (fun a => ⟨vp_in_nI (by omega) (by omega), vp_in_nI (by omega) (by omega), nm_r (ot_upd' (x := bd i) bd (nI_clamp (by omega)) rfl) (nm_r (nI_1 i) (ih (i + 1) x2 _ rz rs (by omega) (by omega) (xs_st hI hx (Nat.le_refl _) (hI.1 i hx) (fun k P b1 m hm => ?_) (fun j _ b1 => by omega) (by omega))))⟩) (fun a => ⟨vp_in_nI (by omega) (by omega), nm_r (ot_upd' (x := r) bd (nI_clamp (by omega)) rfl) (nm_r (nI_1 i) (ih (i + 1) x2 _ rz rs (by omega) (by omega) (xs_st hI hx (by omega) hGr hR0 (fun j _ b1 => by omega) (by omega))))⟩)⟩
          have := hR0 k P b1 m hm
          omega
        unfold wY_findBounds_107
        rw [ot_r bd (by omega)]
        rcases hx01 with e | e
        · rw [e]
          refine br_t rfl ⟨vp_in_nI (by omega) (by omega), pk_le (bd i) r (fun a => h129 0 (Or.inl ⟨rfl, e, a⟩)) (fun a => h129 1 (Or.inr ⟨rfl, Or.inr a⟩))⟩
        · rw [e]
          exact br_f ot_10 (h129 1 (Or.inr ⟨rfl, Or.inl e⟩))
      have h85 : ¬ (bo_F V D (i / 20) ∧ bo_F V D (i % 20) ∧ (p = 1 ∨ i / 20 = i % 20)) → wY_findBounds_85 post J (wY_findBounds_33 post J (nI p) n) (nI p) (nI x) (nI i) (nI (i / 20)) (nI (i % 20)) (nI V) (nI D) (nI N) rz (ot_n c) (ot_o ne) (ot_o ef) (ot_n b) (ot_o g) (ot_n ls) (ot_n fw) (ot_n me) (ot_n bk) (ot_n bd) (ot_n rs) := fun hn2 =>
        br_t rfl (h107 1000000 rz rs (Nat.le_refl _) (hG.1 i hx).1 (fun k P a => absurd a (v1 hn2 k P)))
      have h81 : bo_F V D (i / 20) → bo_F V D (i % 20) → (p = 1 ∨ i / 20 = i % 20) → wY_findBounds_81 post J (wY_findBounds_33 post J (nI p) n) (nI p) (nI x) (nI i) (nI (i / 20)) (nI (i % 20)) (nI V) (nI D) (nI N) rz (ot_n c) (ot_o ne) (ot_o ef) (ot_n b) (ot_o g) (ot_n ls) (ot_n fw) (ot_n me) (ot_n bk) (ot_n bd) (ot_n rs) := fun a1 a2 a3 =>
        br_f ot_10 (v2 bd rz rs _ hI.1 hbd a1 a2 a3 (fun r rz2 rs2 b1 b2 b3 => h107 r rz2 rs2 b1 b2 b3))
      refine ⟨ot_n20, nm_r (ot_d20 (by omega)) ⟨ot_n20, nm_r (ot_r20 (by omega)) ?_⟩⟩
      refine yr_it hT (by omega) (ot_bb _ (fun a => h85 (fun y => a y.1)) (fun a => ?_))
      refine yr_it hT (by omega) (ot_bb _ (fun a2 => h85 (fun y => a2 y.2.1)) (fun a2 => ?_))
      rcases hp01 with e | e
      · rw [e] at h85 h81 ⊢
        refine br_t rfl (pk_eq (i / 20) (i % 20) (fun a3 => h81 a a2 (Or.inr a3)) (fun a3 => h85 (fun y => ?_)))
        rcases y.2.2 with z | z
        · exact nomatch z
        · exact a3 z
      · rw [e] at h81 ⊢
        exact br_f ot_10 (h81 a a2 (Or.inl rfl))
theorem yd_fb {post : SY → Prop} {p : Nat} {R : Nat → Nat → (Nat → Prop) → Prop} {G : Nat → Nat} (hT : gr_T V D N c b ne ef g) (hp01 : p = 0 ∨ p = 1) (hG : gf_F 400 R G) (hVis : yd_V V D N c b ne ef g ls fw me bk p R G)
    (h : ∀ bd rz rs, gf_F 400 R bd → post ((nI V), (nI D), (nI N), rz, (ot_n c), (ot_o ne), (ot_o ef), (ot_n b), (ot_o g), (ot_n ls), (ot_n fw), (ot_n me), (ot_n bk), (ot_n bd), (ot_n rs))) : wpY_findBounds post ((nI V), (nI D), (nI N), rz, (ot_n c), (ot_o ne), (ot_o ef), (ot_n b), (ot_o g), (ot_n ls), (ot_n fw), (ot_n me), (ot_n bk), (ot_n bd), (ot_n rs)) (nI p) := by
  have k25 : ∀ n x (bd : Nat → Nat) (rz : Int32) (rs : Nat → Nat), (∀ i, i < 400 → G i ≤ bd i) → (∀ i, i < 400 → bd i ≤ 1000000) → ((x = 0 ∧ 0 < n ∧ gf_F 400 R bd) ∨ (x = 1 ∧ sm_n bd 400 + 1 < n)) → wY_findBounds_25 post (nI p) n (nI x) (nI V) (nI D) (nI N) rz (ot_n c) (ot_o ne) (ot_o ef) (ot_n b) (ot_o g) (ot_n ls) (ot_n fw) (ot_n me) (ot_n bk) (ot_n bd) (ot_n rs) := by
    intro n
    induction n with
    | zero => intro x bd rz rs _ _ a; omega
    | succ n ih =>
      intro x bd rz rs hlo hhi hx
      rcases hx with ⟨a1, _, a2⟩ | ⟨a1, a2⟩
      · rw [a1]; exact br_t rfl (h bd rz rs a2)
      · rw [a1]
        refine br_f ot_10 ⟨401, yd_33 (bd0 := bd) hT hp01 hG hVis hhi (fun bd1 x1 rz1 rs1 I1 => ih x1 bd1 rz1 rs1 I1.1 (fun i hi => Nat.le_trans (I1.2.1 i hi) (hhi i hi)) ?_) 401 0 0 bd rz rs (by omega) (by omega) (xs_0 hlo (fun i => by omega))⟩
        have hS : gf_S 400 R G bd bd1 := ⟨I1.1, I1.2.1, fun i hi => I1.2.2.1 i hi hi⟩
        rcases I1.2.2.2 with ⟨b1, b2⟩ | ⟨b1, i0, b2, b3⟩
        · have hF := gf_fin hG hhi hS b2
          refine Or.inl ⟨b1, by omega, fun i hi => ⟨by rw [b2 i hi]; exact hhi i hi, fun k P hR m hm => ?_⟩, fun k hk i hi => by rw [b2 i hi]; exact hF.2 k hk i hi⟩
          rw [b2 i hi]
          exact (hF.1 i hi).2 k P hR m (fun j hj hP => by rw [← b2 j hj]; exact hm j hj hP)
        · have := sm_lt 400 I1.2.1 i0 b2 b3
          exact Or.inr ⟨b1, by omega⟩
  have k2 : ∀ n i (bd : Nat → Nat), i ≤ 400 → 400 - i < n → (∀ j, j < i → bd j = 1000000) → wY_findBounds_2 post (nI p) (nI V) (nI D) (nI N) rz n (nI i) (ot_n c) (ot_o ne) (ot_o ef) (ot_n b) (ot_o g) (ot_n ls) (ot_n fw) (ot_n me) (ot_n bk) (ot_n bd) (ot_n rs) := by
    intro n
    induction n with
    | zero => intro i bd _ a; omega
    | succ n ih =>
      intro i bd hi hn hb2
      refine pk_le 400 i (fun hx => ⟨sm_n bd 400 + 2, k25 _ 1 bd rz rs (fun j hj => ?_) (fun j hj => ?_) (Or.inr ⟨rfl, by omega⟩)⟩) (fun hx => ?_)
      · rw [hb2 j (by omega)]; exact (hG.1 j hj).1
      · rw [hb2 j (by omega)]; exact Nat.le_refl _
      · refine ⟨vp_in_nI (by omega) (by omega), nm_r (ot_upd' (x := 1000000) bd (nI_clamp (by omega)) rfl) (nm_r (nI_1 i) (ih (i + 1) _ (by omega) (by omega) (fun j hj => ?_)))⟩
        by_cases e : j = i
        · rw [e, ot_us]
        · rw [ot_un e]; exact hb2 j (by omega)
  exact ⟨401, k2 401 0 bd (by omega) (by omega) (fun j hj => by omega)⟩
/-- Y's single bounds are the greatest closed table of the single rules -/
theorem yd_s1 {bd : Nat → Nat} (hF : gf_F 400 (yd_1 V D N c b ne ef) bd) : gf_F 20 (bo_1 V D N c b ne ef) (fun f => bd (21 * f)) := by
  have hy : ∀ f, f < 20 → ∀ k Q, bo_1 V D N c b ne ef f k Q → yd_1 V D N c b ne ef (21 * f) k (fun j => j % 21 = 0 ∧ Q (j / 21)) := fun f hf k Q hQ => ⟨by omega, Q, by rw [show 21 * f / 21 = f from by omega]; exact hQ, rfl⟩
  constructor
  · intro f hf
    refine ⟨(hF.1 (21 * f) (by omega)).1, fun k Q hQ m hm => (hF.1 (21 * f) (by omega)).2 k _ (hy f hf k Q hQ) m (fun j hj hP => ?_)⟩
    have := hm (j / 21) (by omega) hP.2
    dsimp only at this
    rw [show 21 * (j / 21) = j from by have := hP.1; omega] at this
    exact this
  · intro k hk f hf
    have hk2 : gf_C 400 (yd_1 V D N c b ne ef) (fun i => if i % 21 = 0 then k (i / 21) else 0) := by
      intro i hi
      dsimp only
      by_cases e : i % 21 = 0
      · rw [if_pos e]
        refine ⟨(hk (i / 21) (by omega)).1, fun k2 P hR m hm => ?_⟩
        obtain ⟨_, Q, hQ, hP⟩ := hR
        refine (hk (i / 21) (by omega)).2 k2 Q hQ m (fun j hj hq => ?_)
        have := hm (21 * j) (by omega) (by rw [hP]; exact ⟨by omega, by rw [show 21 * j / 21 = j from by omega]; exact hq⟩)
        rw [if_pos (by omega), show 21 * j / 21 = j from by omega] at this
        exact this
      · rw [if_neg e]
        exact ⟨Nat.zero_le _, fun k2 P hR m _ => Nat.zero_le _⟩
    have := hF.2 _ hk2 (21 * f) (by omega)
    rw [if_pos (by omega), show 21 * f / 21 = f from by omega] at this
    exact this
end YD
end
section
section QD
variable {V D N : Nat} {il mt iv hz ib br : Int32} {c b : Nat → Nat} {ne ef g sp : Nat → Option Nat} {im qu tg sg hp pl on tw ca ta ua : Nat → Nat} {ns es ha : Nat → Int32}
variable {rz : Int32} {ls fw me bk bd rs : Nat → Nat}
theorem qd_gs {post : Int32 → Prop} (hT : gr_T V D N c b ne ef g) (h : post (mk_m g V)) : wpX_goalSet post ((nI V), (nI D), (nI (D ^ V)), (nI N), il, mt, iv, hz, ib, br, (ot_n c), (ot_o ne), (ot_o ef), (ot_n b), (ot_o g), (ot_n (ot_pw V D)), (ot_o sp), (ot_n im), (ot_n qu), (ot_n tg), (ot_n sg), (ot_n hp), (ot_n pl), (ot_n on), (ot_n tw), ns, es, ha, (ot_n ca), (ot_n ta), (ot_n ua)) := by
  obtain ⟨⟨hV1, hV⟩, ⟨hD, hD4⟩, hN, hc, hb, hne, hef, hg⟩ := id hT
  have key : ∀ n v, v ≤ V → V - v < n → wX_goalSet_4 post (nI V) (nI D) (nI (D ^ V)) (nI N) il mt iv hz ib br (ot_n c) (ot_o ne) (ot_o ef) (ot_n b) (ot_o g) (ot_n (ot_pw V D)) (ot_o sp) (ot_n im) (ot_n qu) (ot_n tg) (ot_n sg) (ot_n hp) (ot_n pl) (ot_n on) (ot_n tw) ns es ha (ot_n ca) (ot_n ta) (ot_n ua) n (mk_m g v) (nI v) := by
    intro n
    induction n with
    | zero => intro v _ a; omega
    | succ n ih =>
      intro v hv hn
      refine pk_le V v (fun hx => ?_) (fun hx => ?_)
      · rw [show v = V from by omega]; exact h
      · rw [ot_ro g (by omega)]
        refine ⟨pk_in v 5 (by omega), ot_bo _ (fun y e => by have := hg v hx y e; omega) (fun e => ?_) (fun y e => ⟨pk_in v 5 (by omega), ?_⟩)⟩
        · refine nm_r (nI_1 v) ?_
          rw [← mk_mn e]
          exact ih (v + 1) (by omega) (by omega)
        · rw [e, ot_is, ot_ix4]
          exact nm_r (mk_ms e).symm (nm_r (nI_1 v) (ih (v + 1) (by omega) (by omega)))
  exact ⟨V + 1, key (V + 1) 0 (by omega) (by omega)⟩
def qd_a (x : Nat) : Int32 := if x < 1000000 then nI x else -3
theorem qd_sh {post : Int32 → Prop} {x : Nat} (hx : x ≤ 1000000) (h : post (qd_a x)) : wpX_shown post ((nI V), (nI D), (nI (D ^ V)), (nI N), il, mt, iv, hz, ib, br, (ot_n c), (ot_o ne), (ot_o ef), (ot_n b), (ot_o g), (ot_n (ot_pw V D)), (ot_o sp), (ot_n im), (ot_n qu), (ot_n tg), (ot_n sg), (ot_n hp), (ot_n pl), (ot_n on), (ot_n tw), ns, es, ha, (ot_n ca), (ot_n ta), (ot_n ua)) (nI x) := by
  refine pk_lt x 1000000 (fun a => ?_) (fun a => ?_)
  · rw [qd_a, if_pos a] at h; exact h
  · rw [qd_a, if_neg (by omega)] at h; exact h
theorem qd_to {post : Int32 → Prop} {x : Nat} (hx : x ≤ 1000000) (h : post (qd_a x)) : wpY_told post ((nI V), (nI D), (nI N), rz, (ot_n c), (ot_o ne), (ot_o ef), (ot_n b), (ot_o g), (ot_n ls), (ot_n fw), (ot_n me), (ot_n bk), (ot_n bd), (ot_n rs)) (nI x) := by
  refine pk_lt x 1000000 (fun a => ?_) (fun a => ?_)
  · rw [qd_a, if_pos a] at h; exact h
  · rw [qd_a, if_neg (by omega)] at h; exact h
theorem qd_f1 {post : SY → Prop} (hT : gr_T V D N c b ne ef g) (h : ∀ bd rz rs, gf_F 400 (yd_1 V D N c b ne ef) bd → post ((nI V), (nI D), (nI N), rz, (ot_n c), (ot_o ne), (ot_o ef), (ot_n b), (ot_o g), (ot_n ls), (ot_n fw), (ot_n me), (ot_n bk), (ot_n bd), (ot_n rs))) : wpY_findBounds post ((nI V), (nI D), (nI N), rz, (ot_n c), (ot_o ne), (ot_o ef), (ot_n b), (ot_o g), (ot_n ls), (ot_n fw), (ot_n me), (ot_n bk), (ot_n bd), (ot_n rs)) 0 := by
  obtain ⟨G, hG⟩ := gf_ex 400 (yd_1 V D N c b ne ef)
  exact yd_fb (p := 0) hT (Or.inl rfl) hG (yd_V1 hT hG) h
theorem qd_f2 {post : SY → Prop} (hT : gr_T V D N c b ne ef g) (h : ∀ bd rz rs, gf_F 400 (bo_2 V D N c b ne ef) bd → post ((nI V), (nI D), (nI N), rz, (ot_n c), (ot_o ne), (ot_o ef), (ot_n b), (ot_o g), (ot_n ls), (ot_n fw), (ot_n me), (ot_n bk), (ot_n bd), (ot_n rs))) : wpY_findBounds post ((nI V), (nI D), (nI N), rz, (ot_n c), (ot_o ne), (ot_o ef), (ot_n b), (ot_o g), (ot_n ls), (ot_n fw), (ot_n me), (ot_n bk), (ot_n bd), (ot_n rs)) 1 := by
  obtain ⟨G, hG⟩ := gf_ex 400 (bo_2 V D N c b ne ef)
  exact yd_fb (p := 1) hT (Or.inr rfl) hG (yd_V2 hT hG) h
theorem i_vc_single {k : Nat} {u : SX} {v : SY} (I : i_Rel k u v) (hk : k + 5 ≤ 2562) (v1 : Int32) (v2 : Int32) : wpX_single (fun r u' => wpY_single (fun r' v' => r' = r ∧ i_Rel (k + 5) u' v') v v1 v2) u v1 v2 := by
  refine I (fun u v => wpX_single (fun r u' => wpY_single (fun r' v' => r' = r ∧ i_Rel (k + 5) u' v') v v1 v2) u v1 v2) ?_
  intro V D N il mt iv hz ib br c b ne ef g sp im qu tg sg hp pl on tw ca ta ua ns es ha rz ls fw me bk bd rs F
  obtain ⟨hT, hl, hv, hbd⟩ := id F
  obtain ⟨⟨hV1, hV⟩, ⟨hD, hD4⟩, hN, hc, hb, hne, hef, hg⟩ := id hT
  unfold wpX_single wpY_single
  rcases se_ix v1 (n := V) (by omega) with h1 | ⟨v, hv1, rfl⟩
  · exact se_f h1 (br_f ot_10 (se_yf h1 (br_t rfl ⟨rfl, re_mk F⟩)))
  refine se_t hv1 (by omega) (br_t rfl ?_)
  rcases se_ix v2 (n := D) (by omega) with h2 | ⟨x, hx1, rfl⟩
  · exact se_f h2 (br_f ot_10 (se_yt hv1 (by omega) (br_f ot_10 (se_yf h2 (br_t rfl ⟨rfl, re_mk F⟩)))))
  refine se_t hx1 (by omega) (br_t rfl ?_)
  have hf : 4 * v + x < 20 := by omega
  refine xf_fb hT hl hbd (fun il sp ns es ib on tw hil hL hib hF1 hF2 => ?_)
  have F2 : re_F V D N il iv ib c b ne ef g sp tg sg on tw ns es := ⟨hT, fun _ => hL, hv, fun _ => ⟨hF1, hF2⟩⟩
  try dsimp only
  rw [ot_ix4, ot_r on (by omega)]
  refine ⟨pk_in _ 20 hf, qd_sh (hF1.1 _ hf).1 ?_⟩
  refine se_yt hv1 (by omega) (br_f ot_10 (se_yt hx1 (by omega) (br_f ot_10 (qd_f1 hT (fun bd rz rs hY => ?_)))))
  have e := gf_uni hF1 (yd_s1 hY) hf
  have e2 : 20 * (4 * v + x) + 4 * v + x = 21 * (4 * v + x) := by omega
  try dsimp only
  rw [ot_m20, ot_m4, nI_add, nI_add, e2, ot_r bd (by omega)]
  refine ⟨vp_in_nI (by omega) (by omega), qd_to (hY.1 _ (by omega)).1 ⟨?_, re_mk F2⟩⟩
  rw [e]
theorem i_vc_paired {k : Nat} {u : SX} {v : SY} (I : i_Rel k u v) (hk : k + 5 ≤ 2562) (v1 : Int32) (v2 : Int32) (v3 : Int32) (v4 : Int32) : wpX_paired (fun r u' => wpY_paired (fun r' v' => r' = r ∧ i_Rel (k + 5) u' v') v v1 v2 v3 v4) u v1 v2 v3 v4 := by
  refine I (fun u v => wpX_paired (fun r u' => wpY_paired (fun r' v' => r' = r ∧ i_Rel (k + 5) u' v') v v1 v2 v3 v4) u v1 v2 v3 v4) ?_
  intro V D N il mt iv hz ib br c b ne ef g sp im qu tg sg hp pl on tw ca ta ua ns es ha rz ls fw me bk bd rs F
  obtain ⟨hT, hl, hv, hbd⟩ := id F
  obtain ⟨⟨hV1, hV⟩, ⟨hD, hD4⟩, hN, hc, hb, hne, hef, hg⟩ := id hT
  unfold wpX_paired wpY_paired
  rcases se_ix v1 (n := V) (by omega) with h1 | ⟨v, hv1, rfl⟩
  · exact se_f h1 (br_f ot_10 (se_yf h1 (br_t rfl ⟨rfl, re_mk F⟩)))
  refine se_t hv1 (by omega) (br_t rfl ?_)
  rcases se_ix v3 (n := V) (by omega) with h3 | ⟨w, hw1, rfl⟩
  · exact se_f h3 (br_f ot_10 (se_yt hv1 (by omega) (br_f ot_10 (se_yf h3 (br_t rfl ⟨rfl, re_mk F⟩)))))
  refine se_t hw1 (by omega) (br_t rfl ?_)
  rcases se_ix v2 (n := D) (by omega) with h2 | ⟨x, hx1, rfl⟩
  · exact se_f h2 (br_f ot_10 (se_yt hv1 (by omega) (br_f ot_10 (se_yt hw1 (by omega) (br_f ot_10 (se_yf h2 (br_t rfl ⟨rfl, re_mk F⟩)))))))
  refine se_t hx1 (by omega) (br_t rfl ?_)
  rcases se_ix v4 (n := D) (by omega) with h5 | ⟨y, hy1, rfl⟩
  · exact se_f h5 (br_f ot_10 (se_yt hv1 (by omega) (br_f ot_10 (se_yt hw1 (by omega) (br_f ot_10 (se_yt hx1 (by omega) (br_f ot_10 (se_yf h5 (br_t rfl ⟨rfl, re_mk F⟩)))))))))
  refine se_t hy1 (by omega) (br_t rfl ?_)
  have hf : 20 * (4 * v + x) + 4 * w + y < 400 := by omega
  refine xf_fb hT hl hbd (fun il sp ns es ib on tw hil hL hib hF1 hF2 => ?_)
  have F2 : re_F V D N il iv ib c b ne ef g sp tg sg on tw ns es := ⟨hT, fun _ => hL, hv, fun _ => ⟨hF1, hF2⟩⟩
  try dsimp only
  rw [ot_ix4, ot_m20, ot_m4, nI_add, nI_add, ot_r tw (by omega)]
  refine ⟨pk_in _ 400 hf, qd_sh (hF2.1 _ hf).1 ?_⟩
  refine se_yt hv1 (by omega) (br_f ot_10 (se_yt hw1 (by omega) (br_f ot_10 (se_yt hx1 (by omega) (br_f ot_10 (se_yt hy1 (by omega) (br_f ot_10 (qd_f2 hT (fun bd rz rs hY => ?_)))))))))
  have e := gf_uni hF2 hY hf
  try dsimp only
  rw [ot_r bd (by omega)]
  refine ⟨pk_in _ 400 hf, qd_to (hY.1 _ hf).1 ⟨?_, re_mk F2⟩⟩
  rw [e]
/-- Y's goal facts in the rest, and the greatest of them -/
theorem qd_gg {post : Int32 → SY → Prop} {p : Nat} (hT : gr_T V D N c b ne ef g) (hp01 : p = 0 ∨ p = 1) (hbd : ∀ j, j < 400 → bd j ≤ 1000000)
    (h : ∀ k rs r, r ≤ 1000000 → (∀ a, yr_in k rs a ↔ a / 4 < V ∧ g (a / 4) = some (a % 4)) → bx_M (yr_G p k rs) bd r → post (qd_a r) ((nI V), (nI D), (nI N), (nI k), (ot_n c), (ot_o ne), (ot_o ef), (ot_n b), (ot_o g), (ot_n ls), (ot_n fw), (ot_n me), (ot_n bk), (ot_n bd), (ot_n rs))) : ∃ n, wY_greatestGoal_12 post (nI p) n 0 (nI V) (nI D) (nI N) 0 (ot_n c) (ot_o ne) (ot_o ef) (ot_n b) (ot_o g) (ot_n ls) (ot_n fw) (ot_n me) (ot_n bk) (ot_n bd) (ot_n rs) := by
  obtain ⟨⟨hV1, hV⟩, ⟨hD, hD4⟩, hN, hc, hb, hne, hef, hg⟩ := id hT
  have key : ∀ n v k (rs : Nat → Nat), v ≤ V → V - v < n → k ≤ v → yr_W k rs → (∀ a, yr_in k rs a ↔ a / 4 < v ∧ g (a / 4) = some (a % 4)) → wY_greatestGoal_12 post (nI p) n (nI v) (nI V) (nI D) (nI N) (nI k) (ot_n c) (ot_o ne) (ot_o ef) (ot_n b) (ot_o g) (ot_n ls) (ot_n fw) (ot_n me) (ot_n bk) (ot_n bd) (ot_n rs) := by
    intro n
    induction n with
    | zero => intro v k rs _ a; omega
    | succ n ih =>
      intro v k rs hv hn hk hW hin
      refine pk_le V v (fun hx => ?_) (fun hx => ?_)
      · rw [show v = V from by omega] at hin
        exact yr_gr hp01 (by omega) hW hbd (fun r hr hM => qd_to hr (h k rs r hr hin hM))
      · rw [ot_ro g (by omega)]
        refine ⟨pk_in v 5 (by omega), ot_bl _ (fun y e => by have := hg v hx y e; omega) (fun e => nm_r (nI_1 v) (ih (v + 1) k rs (by omega) (by omega) (by omega) hW (fun a => ?_))) (fun y e => ⟨pk_in v 5 (by omega), ?_⟩)⟩
        · rw [hin]
          constructor
          · intro ⟨a1, a2⟩; exact ⟨by omega, a2⟩
          · intro ⟨a1, a2⟩
            refine ⟨?_, a2⟩
            by_cases ea : a / 4 = v
            · rw [ea, e] at a2; exact nomatch a2
            · omega
        · have hy := hg v hx y e
          rw [e, ot_is, ot_ix4]
          refine yr_ad (by omega) (by omega) hW (fun k2 rs2 hk2 hW2 hin2 => nm_r (nI_1 v) (ih (v + 1) k2 rs2 (by omega) (by omega) (by omega) hW2 (fun a => ?_)))
          rw [hin2, hin]
          constructor
          · intro x
            rcases x with ⟨a1, a2⟩ | x
            · exact ⟨by omega, a2⟩
            · rw [x, show (4 * v + y) / 4 = v from by omega, show (4 * v + y) % 4 = y from by omega]
              exact ⟨by omega, e⟩
          · intro ⟨a1, a2⟩
            by_cases ea : a / 4 = v
            · rw [ea, e] at a2
              have := Option.some.inj a2
              exact Or.inr (by omega)
            · exact Or.inl ⟨by omega, a2⟩
  exact ⟨V + 1, key (V + 1) 0 0 rs (by omega) (by omega) (by omega) ⟨fun i a => by omega, fun i j a => by omega⟩ (fun a => ⟨fun ⟨i, hi, _⟩ => by omega, fun x => by omega⟩)⟩
theorem i_vc_singleGoal {k : Nat} {u : SX} {v : SY} (I : i_Rel k u v) (hk : k + 5 ≤ 2562) : wpX_singleGoal (fun r u' => wpY_singleGoal (fun r' v' => r' = r ∧ i_Rel (k + 5) u' v') v) u := by
  refine I (fun u v => wpX_singleGoal (fun r u' => wpY_singleGoal (fun r' v' => r' = r ∧ i_Rel (k + 5) u' v') v) u) ?_
  intro V D N il mt iv hz ib br c b ne ef g sp im qu tg sg hp pl on tw ca ta ua ns es ha rz ls fw me bk bd rs F
  obtain ⟨hT, hl, hv, hbd⟩ := id F
  obtain ⟨⟨hV1, hV⟩, ⟨hD, hD4⟩, hN, hc, hb, hne, hef, hg⟩ := id hT
  unfold wpX_singleGoal
  refine xf_fb hT hl hbd (fun il sp ns es ib on tw hil hL hib hF1 hF2 => qd_gs hT ?_)
  have F2 : re_F V D N il iv ib c b ne ef g sp tg sg on tw ns es := ⟨hT, fun _ => hL, hv, fun _ => ⟨hF1, hF2⟩⟩
  refine xb_g1 hV (fun v hv x e => by have := hg v hv x e; omega) (fun f hf => (hF1.1 f hf).1) (fun r hr hM => qd_sh hr ?_)
  unfold wpY_singleGoal wpY_greatestGoal
  refine qd_f1 hT (fun bd rz rs hY => qd_gg (p := 0) hT (Or.inl rfl) (fun j hj => (hY.1 j hj).1) (fun k2 rs2 r2 hr2 hin hM2 => ⟨?_, re_mk F2⟩))
  have he := fun f (hf : f < 20) => gf_uni hF1 (yd_s1 hY) hf
  have e : r2 = r := by
    refine Nat.le_antisymm (hM2.2 r (fun j ⟨i, i', a1, a2, a3, a4⟩ => ?_)) (hM.2 r2 (fun f ⟨a1, a2⟩ => ?_))
    · have hF := (hin (rs2 i)).mp ⟨i, a1, rfl⟩
      have hl2 : rs2 i < 20 := by have := hF.1; omega
      have ei : i' = i := by omega
      have h1 := hM.1 (rs2 i) ⟨hl2, hF⟩
      rw [he _ hl2] at h1
      rw [a4, ei, show 20 * rs2 i + rs2 i = 21 * rs2 i from by omega]
      exact h1
    · obtain ⟨i, b1, b2⟩ := (hin f).mpr a2
      rw [he f a1]
      exact hM2.1 (21 * f) ⟨i, i, b1, Nat.le_refl _, Or.inr rfl, by rw [b2]; omega⟩
  rw [e]
theorem i_vc_pairedGoal {k : Nat} {u : SX} {v : SY} (I : i_Rel k u v) (hk : k + 5 ≤ 2562) : wpX_pairedGoal (fun r u' => wpY_pairedGoal (fun r' v' => r' = r ∧ i_Rel (k + 5) u' v') v) u := by
  refine I (fun u v => wpX_pairedGoal (fun r u' => wpY_pairedGoal (fun r' v' => r' = r ∧ i_Rel (k + 5) u' v') v) u) ?_
  intro V D N il mt iv hz ib br c b ne ef g sp im qu tg sg hp pl on tw ca ta ua ns es ha rz ls fw me bk bd rs F
  obtain ⟨hT, hl, hv, hbd⟩ := id F
  obtain ⟨⟨hV1, hV⟩, ⟨hD, hD4⟩, hN, hc, hb, hne, hef, hg⟩ := id hT
  unfold wpX_pairedGoal
  refine xf_fb hT hl hbd (fun il sp ns es ib on tw hil hL hib hF1 hF2 => qd_gs hT ?_)
  have F2 : re_F V D N il iv ib c b ne ef g sp tg sg on tw ns es := ⟨hT, fun _ => hL, hv, fun _ => ⟨hF1, hF2⟩⟩
  refine xb_g2 (fun f hf => (hF2.1 f hf).1) (fun r hr hM => qd_sh hr ?_)
  unfold wpY_pairedGoal wpY_greatestGoal
  refine qd_f2 hT (fun bd rz rs hY => qd_gg (p := 1) hT (Or.inr rfl) (fun j hj => (hY.1 j hj).1) (fun k2 rs2 r2 hr2 hin hM2 => ⟨?_, re_mk F2⟩))
  have he := fun f (hf : f < 400) => gf_uni hF2 hY hf
  have hsy := bo_Gs hY
  have hbt := fun i (hi : i < 20) => mk_mt V hV (fun v hv x e => by have := hg v hv x e; omega) i (show i < 32 by omega)
  have e : r2 = r := by
    refine Nat.le_antisymm (hM2.2 r (fun j ⟨i, i', a1, a2, a3, a4⟩ => ?_)) (hM.2 r2 (fun j ⟨a1, a2, a3, a4⟩ => ?_))
    · have hFi := (hin (rs2 i)).mp ⟨i, a1, rfl⟩
      have hFj := (hin (rs2 i')).mp ⟨i', by omega, rfl⟩
      have l1 : rs2 i < 20 := by have := hFi.1; omega
      have l2 : rs2 i' < 20 := by have := hFj.1; omega
      rw [a4]
      by_cases le : rs2 i ≤ rs2 i'
      · have h1 := hM.1 (20 * rs2 i + rs2 i') (by
          dsimp only
          rw [show (20 * rs2 i + rs2 i') / 20 = rs2 i from by omega, show (20 * rs2 i + rs2 i') % 20 = rs2 i' from by omega]
          exact ⟨(hbt _ l1).mpr hFi, (hbt _ l2).mpr hFj, by omega, le⟩)
        rw [he _ (by omega)] at h1
        exact h1
      · have h1 := hM.1 (20 * rs2 i' + rs2 i) (by
          dsimp only
          rw [show (20 * rs2 i' + rs2 i) / 20 = rs2 i' from by omega, show (20 * rs2 i' + rs2 i) % 20 = rs2 i from by omega]
          exact ⟨(hbt _ l2).mpr hFj, (hbt _ l1).mpr hFi, by omega, by omega⟩)
        rw [he _ (by omega), hsy _ _ l2 l1] at h1
        exact h1
    · obtain ⟨i1, b1, b2⟩ := (hin (j / 20)).mpr ((hbt _ (by omega)).mp a1)
      obtain ⟨i2, c1, c2⟩ := (hin (j % 20)).mpr ((hbt _ (by omega)).mp a2)
      rw [he j a3]
      by_cases le : i2 ≤ i1
      · exact hM2.1 j ⟨i1, i2, b1, le, Or.inl rfl, by rw [b2, c2]; omega⟩
      · have h1 := hM2.1 (20 * (j % 20) + j / 20) ⟨i2, i1, c1, by omega, Or.inl rfl, by rw [b2, c2]⟩
        rw [hsy _ _ (by omega) (by omega), show 20 * (j / 20) + j % 20 = j from by omega] at h1
        exact h1
  rw [e]
end QD
end
section
section RX
/-! plans without deletions: choices of operators, sets of facts as masks -/
variable {N : Nat} {c : Nat → Nat} {A E : Nat → Int32} {Gm S0 : Int32} {C : Nat → Bool}
def rx_cl (N : Nat) (A E : Nat → Int32) (C : Nat → Prop) (S : Int32) : Prop := ∀ o, o < N → C o → mk_le (A o) S → mk_le (E o) S
def rx_g (N : Nat) (A E : Nat → Int32) (Gm : Int32) (C : Nat → Bool) (h : Int32) : Prop := ∀ S, mk_le h S → rx_cl N A E (fun o => C o = true) S → mk_le Gm S
def rx_s (N : Nat) (c : Nat → Nat) (C : Nat → Bool) : Nat := sm_n (fun o => if C o = true then c o else 0) N
def rx_ok (N : Nat) (c : Nat → Nat) (A E : Nat → Int32) (Gm S0 : Int32) (r : Nat) : Prop := ∃ C : Nat → Bool, rx_g N A E Gm C S0 ∧ rx_s N c C = r
/-- r is the least cost of a choice that brings the goal about -/
def rx_F (N : Nat) (c : Nat → Nat) (A E : Nat → Int32) (Gm S0 : Int32) (r : Nat) : Prop :=
  r ≤ 1000000 ∧ (r < 1000000 → rx_ok N c A E Gm S0 r) ∧ ∀ C : Nat → Bool, rx_g N A E Gm C S0 → r ≤ rx_s N c C
theorem rx_uni {r r2 : Nat} (h : rx_F N c A E Gm S0 r) (h2 : rx_F N c A E Gm S0 r2) : r = r2 := by
  have key : ∀ a a2, rx_F N c A E Gm S0 a → rx_F N c A E Gm S0 a2 → a2 ≤ a := fun a a2 f f2 => by
    by_cases e : a < 1000000
    · obtain ⟨C, h1, h2⟩ := f.2.1 e
      have := f2.2.2 C h1
      omega
    · have := f2.1
      omega
  exact Nat.le_antisymm (key _ _ h2 h) (key _ _ h h2)
/-- the operator has nothing new -/
def rx_b (E : Nat → Int32) (h : Int32) (o : Nat) : Bool := decide ((E o) &&& (h ^^^ (-1)) = 0)
theorem rx_bt {h : Int32} {o : Nat} : rx_b E h o = true ↔ mk_le (E o) h := by
  unfold rx_b
  rw [decide_eq_true_eq, mk_sub]
theorem rx_bf {h : Int32} {o : Nat} : rx_b E h o = false ↔ ¬ mk_le (E o) h := by
  rw [← rx_bt]
  cases rx_b E h o <;> simp
def rx_u (N : Nat) (E : Nat → Int32) (h : Int32) : Nat := ct_n (fun o => !(rx_b E h o)) N
theorem rx_ul {h h2 : Int32} (hl : mk_le h h2) {o : Nat} (ho : o < N) (hn : ¬ mk_le (E o) h) (hy : mk_le (E o) h2) : rx_u N E h2 < rx_u N E h := by
  refine ct_lt N (fun t _ e => ?_) o ho ?_ ?_
  · cases e2 : rx_b E h t with
    | false => rfl
    | true =>
      have h3 := rx_bt.mpr (mk_lt (rx_bt.mp e2) hl)
      rw [h3] at e
      exact nomatch e
  · rw [rx_bt.mpr hy]; rfl
  · rw [rx_bf.mpr hn]; rfl
/-- what a choice may still cost -/
def rx_r (N : Nat) (c : Nat → Nat) (E : Nat → Int32) (C : Nat → Bool) (h : Int32) : Nat := sm_n (fun o => if C o = true ∧ rx_b E h o = false then c o else 0) N
theorem sm_ad {f h : Nat → Nat} {x : Nat} : ∀ n, (∀ i, i < n → f i ≤ h i) → ∀ k, k < n → f k + x ≤ h k → sm_n f n + x ≤ sm_n h n := by
  intro n
  induction n with
  | zero => intro _ k hk; omega
  | succ n ih =>
    intro a k hk hlt
    rw [sm_s, sm_s]
    by_cases e : k = n
    · subst e
      have h1 := sm_le k (fun i hi => a i (by omega))
      omega
    · have h1 := ih (fun i hi => a i (by omega)) k (by omega) hlt
      have h2 := a n (by omega)
      omega
theorem sm_eq {f h : Nat → Nat} {n : Nat} (e : ∀ i, i < n → f i = h i) : sm_n f n = sm_n h n :=
  Nat.le_antisymm (sm_le n (fun i hi => Nat.le_of_eq (e i hi))) (sm_le n (fun i hi => Nat.le_of_eq (e i hi).symm))
theorem sm_bd {f : Nat → Nat} {K : Nat} : ∀ n, (∀ i, i < n → f i ≤ K) → sm_n f n ≤ K * n := by
  intro n
  induction n with
  | zero => intro _; exact Nat.zero_le _
  | succ n ih =>
    intro a
    have h1 := ih (fun i hi => a i (by omega))
    have h2 := a n (by omega)
    rw [sm_s, Nat.mul_succ]; omega
theorem rx_rs {h h2 : Int32} (hl : mk_le h h2) {o : Nat} (ho : o < N) (hC : C o = true) (hn : ¬ mk_le (E o) h) (hy : mk_le (E o) h2) : rx_r N c E C h2 + c o ≤ rx_r N c E C h := by
  refine sm_ad N (fun i _ => ?_) o ho ?_
  · by_cases e : C i = true ∧ rx_b E h2 i = false
    · have e2 : rx_b E h i = false := by
        cases e3 : rx_b E h i with
        | false => rfl
        | true =>
          have h3 := rx_bt.mpr (mk_lt (rx_bt.mp e3) hl)
          rw [h3] at e
          exact nomatch e.2
      rw [if_pos e, if_pos ⟨e.1, e2⟩]; exact Nat.le_refl _
    · rw [if_neg e]; exact Nat.zero_le _
  · rw [if_neg (fun x => by rw [rx_bt.mpr hy] at x; exact nomatch x.2), if_pos ⟨hC, rx_bf.mpr hn⟩]; omega
theorem rx_rc {h : Int32} {o : Nat} (ho : o < N) (hC : C o = true) (hn : ¬ mk_le (E o) h) : c o ≤ rx_r N c E C h := by
  have h1 := sm_ad (f := fun _ => 0) (h := fun o => if C o = true ∧ rx_b E h o = false then c o else 0) (x := c o) N (fun i _ => Nat.zero_le _) o ho (by rw [if_pos ⟨hC, rx_bf.mpr hn⟩]; omega)
  unfold rx_r
  omega
theorem rx_r0 {h : Int32} : rx_r N c E C h ≤ rx_s N c C := by
  refine sm_le N (fun i _ => ?_)
  by_cases e : C i = true ∧ rx_b E h i = false
  · rw [if_pos e, if_pos e.1]; exact Nat.le_refl _
  · rw [if_neg e]; exact Nat.zero_le _
/-- an operator can be used, and brings something new -/
def rx_f (A E : Nat → Int32) (h : Int32) (o : Nat) : Prop := mk_le (A o) h ∧ ¬ mk_le (E o) h
/-- where the goal is not there yet, a choice that brings it about has an operator to go on with -/
theorem rx_ex {h : Int32} (hg : rx_g N A E Gm C h) (hn : ¬ mk_le Gm h) : ∃ o, o < N ∧ C o = true ∧ rx_f A E h o := by
  refine Classical.byContradiction fun hx => hn (hg h (mk_lr h) (fun o ho hC hA => ?_))
  exact Classical.byContradiction fun hE => hx ⟨o, ho, hC, hA, hE⟩
theorem rx_gm {h h2 : Int32} (hl : mk_le h h2) (hg : rx_g N A E Gm C h) : rx_g N A E Gm C h2 := fun S a b => hg S (mk_lt hl a) b
/-- how a node is reached: the operators used, their cost, nothing that they do not bring about -/
def rx_U (N : Nat) (c : Nat → Nat) (A E : Nat → Int32) (S0 : Int32) (U : Nat → Bool) (h : Int32) (x : Nat) : Prop :=
  rx_s N c U = x ∧ (∀ S, mk_le S0 S → rx_cl N A E (fun o => U o = true ∨ c o = 0) S → mk_le h S) ∧ ∀ o, o < N → U o = true → mk_le (E o) h
theorem rx_Ug {U : Nat → Bool} {h : Int32} {x : Nat} (hU : rx_U N c A E S0 U h x) (hg : mk_le Gm h) : rx_ok N c A E Gm S0 x := by
  refine ⟨fun o => U o || decide (c o = 0), fun S a b => mk_lt hg (hU.2.1 S a (fun o ho hC => b o ho ?_)), ?_⟩
  · rcases hC with y | y
    · show (U o || decide (c o = 0)) = true
      rw [y, Bool.true_or]
    · show (U o || decide (c o = 0)) = true
      rw [decide_eq_true y, Bool.or_true]
  · rw [← hU.1]
    refine sm_eq (fun i _ => ?_)
    show (if (U i || decide (c i = 0)) = true then c i else 0) = _
    cases e : U i with
    | true => rw [Bool.true_or]
    | false =>
      rw [Bool.false_or]
      by_cases e2 : c i = 0
      · rw [e2]; split <;> rfl
      · rw [decide_eq_false e2]
theorem rx_Us {U : Nat → Bool} {h h2 : Int32} {x o : Nat} (hU : rx_U N c A E S0 U h x) (ho : o < N) (hf : rx_f A E h o) (h1 : mk_le (h ||| E o) h2) (h3 : ∀ S, mk_le (h ||| E o) S → rx_cl N A E (fun o => c o = 0) S → mk_le h2 S) : rx_U N c A E S0 (ot_u U o true) h2 (x + c o) := by
  have hUo : U o = false := by
    cases e : U o with
    | false => rfl
    | true => exact absurd (hU.2.2 o ho e) hf.2
  have hmono : ∀ i, U i = true → ot_u U o true i = true := fun i e => by
    by_cases e2 : i = o
    · rw [e2, ot_us]
    · rw [ot_un e2]; exact e
  refine ⟨?_, fun S a b => ?_, fun i hi e => ?_⟩
  · rw [← hU.1]
    unfold rx_s
    refine Nat.le_antisymm ?_ ?_
    · have key : ∀ n, sm_n (fun i => if ot_u U o true i = true then c i else 0) n ≤ sm_n (fun i => if U i = true then c i else 0) n + (if o < n then c o else 0) := by
        intro n
        induction n with
        | zero => exact Nat.zero_le _
        | succ n ih =>
          rw [sm_s, sm_s]
          by_cases e : n = o
          · subst e
            rw [if_neg (Nat.lt_irrefl n)] at ih
            rw [ot_us, hUo, if_pos rfl, if_neg (by decide), if_pos (by omega)]
            omega
          · rw [ot_un e]
            by_cases e2 : o < n
            · rw [if_pos e2] at ih
              rw [if_pos (show o < n + 1 by omega)]
              omega
            · rw [if_neg e2] at ih
              rw [if_neg (show ¬ o < n + 1 by omega)]
              omega
      have := key N
      rw [if_pos ho] at this
      exact this
    · refine sm_ad N (fun i _ => ?_) o ho ?_
      · by_cases e : U i = true
        · rw [if_pos e, if_pos (hmono i e)]; exact Nat.le_refl _
        · rw [if_neg e]; exact Nat.zero_le _
      · rw [hUo, if_neg (by decide), ot_us, if_pos rfl]; omega
  · have hS : mk_le h S := hU.2.1 S a (fun i hi hC => b i hi (by
      rcases hC with y | y
      · exact Or.inl (hmono i y)
      · exact Or.inr y))
    refine h3 S (mk_oo hS (b o ho (Or.inl ot_us) (mk_lt hf.1 hS))) (fun i hi hC => b i hi (Or.inr hC))
  · by_cases e2 : i = o
    · rw [e2]; exact mk_lt mk_or h1
    · rw [ot_un e2] at e
      exact mk_lt (hU.2.2 i hi e) (mk_lt mk_ol h1)
/-- rounds at most below a node with k operators that have something new -/
def rx_T : Nat → Nat
  | 0 => 11
  | k + 1 => 11 + (k + 1) * rx_T k
theorem rx_Ts (k : Nat) : rx_T (k + 1) = 11 + (k + 1) * rx_T k := rfl
theorem rx_T10 : rx_T 10 ≤ 119999999 := by decide +kernel
end RX
end
section
section XR
variable {V D N : Nat} {il mt iv hz ib br : Int32} {c b : Nat → Nat} {ne ef g sp : Nat → Option Nat} {im qu tg sg hp pl on tw ca ta ua : Nat → Nat} {ns es ha : Nat → Int32}
theorem xr_ss {post : Int32 → Prop} (hT : gr_T V D N c b ne ef g) (h : post (mk_m (fun v => some (b v)) V)) : wpX_startSet post ((nI V), (nI D), (nI (D ^ V)), (nI N), il, mt, iv, hz, ib, br, (ot_n c), (ot_o ne), (ot_o ef), (ot_n b), (ot_o g), (ot_n (ot_pw V D)), (ot_o sp), (ot_n im), (ot_n qu), (ot_n tg), (ot_n sg), (ot_n hp), (ot_n pl), (ot_n on), (ot_n tw), ns, es, ha, (ot_n ca), (ot_n ta), (ot_n ua)) := by
  obtain ⟨⟨hV1, hV⟩, ⟨hD, hD4⟩, hN, hc, hb, hne, hef, hg⟩ := id hT
  have key : ∀ n v, v ≤ V → V - v < n → wX_startSet_4 post (nI V) (nI D) (nI (D ^ V)) (nI N) il mt iv hz ib br (ot_n c) (ot_o ne) (ot_o ef) (ot_n b) (ot_o g) (ot_n (ot_pw V D)) (ot_o sp) (ot_n im) (ot_n qu) (ot_n tg) (ot_n sg) (ot_n hp) (ot_n pl) (ot_n on) (ot_n tw) ns es ha (ot_n ca) (ot_n ta) (ot_n ua) n (mk_m (fun v => some (b v)) v) (nI v) := by
    intro n
    induction n with
    | zero => intro v _ a; omega
    | succ n ih =>
      intro v hv hn
      refine pk_le V v (fun hx => ?_) (fun hx => ?_)
      · rw [show v = V from by omega]; exact h
      · rw [ot_r b (by omega), ot_ix4]
        exact ⟨pk_in v 5 (by omega), nm_r (mk_ms (g := fun v => some (b v)) rfl).symm (nm_r (nI_1 v) (ih (v + 1) (by omega) (by omega)))⟩
  exact ⟨V + 1, key (V + 1) 0 (by omega) (by omega)⟩
theorem xr_us {post : Int32 → Prop} {o : Nat} {x : Int32} (ho : o < 10) (h : post (ot_b (rx_f ns es x o))) : wpX_isUseful post ((nI V), (nI D), (nI (D ^ V)), (nI N), il, mt, iv, hz, ib, br, (ot_n c), (ot_o ne), (ot_o ef), (ot_n b), (ot_o g), (ot_n (ot_pw V D)), (ot_o sp), (ot_n im), (ot_n qu), (ot_n tg), (ot_n sg), (ot_n hp), (ot_n pl), (ot_n on), (ot_n tw), ns, es, ha, (ot_n ca), (ot_n ta), (ot_n ua)) (nI o) x := by
  unfold wpX_isUseful
  dsimp only
  rw [nI_clamp (by omega)]
  refine ⟨pk_in o 10 ho, br_c (fun e => ⟨pk_in o 10 ho, br_c (fun e2 => ?_) (fun e2 => ?_)⟩) (fun e => ?_)⟩
  · rw [ot_bf (fun y => y.2 ((mk_sub _ _).mp e2))] at h; exact h
  · rw [ot_bt ⟨(mk_sub _ _).mp e, fun y => e2 ((mk_sub _ _).mpr y)⟩] at h; exact h
  · rw [ot_bf (fun y => e ((mk_sub _ _).mpr y.1))] at h; exact h
/-- the order in which operators may follow at depth d -/
def xr_o (A : Nat → Int32) (ha : Nat → Int32) (ua : Nat → Nat) (d o : Nat) : Prop := d = 0 ∨ ua d < o ∨ ¬ mk_le (A o) (ha (d - 1))
theorem xr_io {post : Int32 → Prop} {o d : Nat} (ho : o < 10) (hd : d < 11) (hu : ua d < 2 ^ 31) (h : post (ot_b (xr_o ns ha ua d o))) : wpX_isInOrder post ((nI V), (nI D), (nI (D ^ V)), (nI N), il, mt, iv, hz, ib, br, (ot_n c), (ot_o ne), (ot_o ef), (ot_n b), (ot_o g), (ot_n (ot_pw V D)), (ot_o sp), (ot_n im), (ot_n qu), (ot_n tg), (ot_n sg), (ot_n hp), (ot_n pl), (ot_n on), (ot_n tw), ns, es, ha, (ot_n ca), (ot_n ta), (ot_n ua)) (nI o) (nI d) := by
  refine pk_eq d 0 (fun e => ?_) (fun e => ⟨pk_in d 11 hd, ?_⟩)
  · rw [ot_bt (show xr_o ns ha ua d o from Or.inl e)] at h; exact h
  · have ed : nI d - 1 = nI (d - 1) := pk_sub (b := 1) (by omega)
    rw [ot_r ua (by omega), ed, nI_clamp (show d - 1 < 2 ^ 31 by omega), nI_clamp (show o < 2 ^ 31 by omega)]
    refine pk_lt (ua d) o (fun a => ?_) (fun a => ⟨pk_in o 10 ho, vp_in_nI (by omega) (by omega), br_c (fun e2 => ?_) (fun e2 => ?_)⟩)
    · rw [ot_bt (show xr_o ns ha ua d o from Or.inr (Or.inl a))] at h; exact h
    · rw [ot_bf (fun y => by
        rcases y with y | y | y
        · exact e y
        · omega
        · exact y ((mk_sub _ _).mp e2))] at h
      exact h
    · rw [ot_bt (show xr_o ns ha ua d o from Or.inr (Or.inr (fun y => e2 ((mk_sub _ _).mpr y))))] at h; exact h
theorem xr_wf {post : Int32 → Prop} {x : Int32} (hN : N ≤ 10) (hc : ∀ o, o < N → c o ≤ 9) (h : ∀ r, mk_le x r → (∀ S, mk_le x S → rx_cl N ns es (fun o => c o = 0) S → mk_le r S) → post r) : wpX_withFree post ((nI V), (nI D), (nI (D ^ V)), (nI N), il, mt, iv, hz, ib, br, (ot_n c), (ot_o ne), (ot_o ef), (ot_n b), (ot_o g), (ot_n (ot_pw V D)), (ot_o sp), (ot_n im), (ot_n qu), (ot_n tg), (ot_n sg), (ot_n hp), (ot_n pl), (ot_n on), (ot_n tw), ns, es, ha, (ot_n ca), (ot_n ta), (ot_n ua)) x := by
  have k24 : ∀ (J : Int32 → Int32 → Int32 → Prop) (k : Nat) (y : Int32), (∀ z (m : Nat), mk_le x z → (∀ S, mk_le x S → rx_cl N ns es (fun o => c o = 0) S → mk_le z S) → (m = 0 ∨ m = 1) → J z (nI m) (nI (k + 1))) → ∀ n o z, o ≤ N → N - o < n → mk_le x z → (∀ S, mk_le x S → rx_cl N ns es (fun o => c o = 0) S → mk_le z S) → wX_withFree_24 post J (nI k) y (nI V) (nI D) (nI (D ^ V)) (nI N) il mt iv hz ib br (ot_n c) (ot_o ne) (ot_o ef) (ot_n b) (ot_o g) (ot_n (ot_pw V D)) (ot_o sp) (ot_n im) (ot_n qu) (ot_n tg) (ot_n sg) (ot_n hp) (ot_n pl) (ot_n on) (ot_n tw) ns es ha (ot_n ca) (ot_n ta) (ot_n ua) n z (nI o) := by
    intro J k y hJ n
    induction n with
    | zero => intro o z _ a; omega
    | succ n ih =>
      intro o z ho hn h1 h2
      refine pk_le N o (fun hx => br_c (fun _ => nm_r (nI_1 k) (hJ z 0 h1 h2 (Or.inl rfl))) (fun _ => nm_r (nI_1 k) (hJ z 1 h1 h2 (Or.inr rfl)))) (fun hx => ?_)
      have hco := hc o hx
      rw [ot_r c (by omega)]
      refine ⟨pk_in o 10 (by omega), pk_eq (c o) 0 (fun e => ?_) (fun e => nm_r (nI_1 o) (ih (o + 1) z (by omega) (by omega) h1 h2))⟩
      refine xr_us (by omega) (ot_bb _ (fun a => nm_r (nI_1 o) (ih (o + 1) z (by omega) (by omega) h1 h2)) (fun a => ⟨pk_in o 10 (by omega), ?_⟩))
      rw [nI_clamp (by omega)]
      refine nm_e (nm_r (nI_1 o) (ih (o + 1) _ (by omega) (by omega) (mk_lt h1 mk_ol) (fun S b1 b2 => mk_oo (h2 S b1 b2) (b2 o hx e (mk_lt a.1 (h2 S b1 b2))))))
  have k7 : ∀ n k (m : Nat) z, k ≤ 11 → 11 < n + k → (m = 0 ∨ m = 1) → mk_le x z → (∀ S, mk_le x S → rx_cl N ns es (fun o => c o = 0) S → mk_le z S) → wX_withFree_7 post (nI V) (nI D) (nI (D ^ V)) (nI N) il mt iv hz ib br (ot_n c) (ot_o ne) (ot_o ef) (ot_n b) (ot_o g) (ot_n (ot_pw V D)) (ot_o sp) (ot_n im) (ot_n qu) (ot_n tg) (ot_n sg) (ot_n hp) (ot_n pl) (ot_n on) (ot_n tw) ns es ha (ot_n ca) (ot_n ta) (ot_n ua) n z (nI m) (nI k) := by
    intro n
    induction n with
    | zero => intro k m z a b'; omega
    | succ n ih =>
      intro k m z hk hn hm h1 h2
      refine pk_lt 10 k (fun _ => h z h1 h2) (fun a => ?_)
      rcases hm with e | e
      · rw [e]; exact br_t rfl (h z h1 h2)
      · rw [e]
        exact br_f ot_10 ⟨N + 1, k24 _ k z (fun z2 m2 b1 b2 b3 => ih (k + 1) m2 z2 (by omega) (by omega) b3 b1 b2) (N + 1) 0 z (by omega) (by omega) h1 h2⟩
  exact ⟨12, k7 12 0 1 x (by omega) (by omega) (Or.inr rfl) (mk_lr x) (fun S a _ => a)⟩
end XR
end
section
section XN
variable {V D N : Nat} {il mt iv hz ib br : Int32} {c b : Nat → Nat} {ne ef g sp : Nat → Option Nat} {im qu tg sg hp pl on tw ca ta ua : Nat → Nat} {ns es ha : Nat → Int32}
/-- below depth d nothing is changed -/
def xn_a (d : Nat) (ha ha2 : Nat → Int32) (ca ca2 ta ta2 ua ua2 : Nat → Nat) : Prop := ∀ i, i < d → ha2 i = ha i ∧ ca2 i = ca i ∧ ta2 i = ta i ∧ ua2 i = ua i
def xn_c (N : Nat) (A E : Nat → Int32) (ha : Nat → Int32) (ua : Nat → Nat) (d : Nat) (C : Nat → Bool) : Prop := ∀ o, o < N → C o = true → rx_f A E (ha d) o → xr_o A ha ua d o
/-- an operator below o of the choice could go on here -/
def xn_d (A E : Nat → Int32) (h : Int32) (C : Nat → Bool) (o : Nat) : Prop := ∃ o', o' < o ∧ C o' = true ∧ rx_f A E h o'
theorem xn_dn {A E : Nat → Int32} {h : Int32} {C : Nat → Bool} {o : Nat} (hd : xn_d A E h C (o + 1)) (hn : ¬ (C o = true ∧ rx_f A E h o)) : xn_d A E h C o := by
  obtain ⟨o', a1, a2, a3⟩ := hd
  by_cases e : o' = o
  · rw [e] at a2 a3; exact absurd ⟨a2, a3⟩ hn
  · exact ⟨o', by omega, a2, a3⟩
theorem xn_in {post : Int32 → SX → Prop} {Gm S0 : Int32} {k Tm : Nat} (hN : N ≤ 10) (hc : ∀ o, o < N → c o ≤ 9) (hch : 1 ≤ k → ∀ (d n R r : Nat) (U : Nat → Bool) (ha : Nat → Int32) (ca ta ua : Nat → Nat), d + rx_u N es (ha d) ≤ 10 → rx_u N es (ha d) ≤ k - 1 → ta d = 0 → (d ≠ 0 → ua d < 10) → R + Tm ≤ 119999999 → 120000000 < n + R → r ≤ 1000000 → rx_U N c ns es S0 U (ha d) (ca d) → (∀ (n2 R2 r2 : Nat) (ha2 : Nat → Int32) (ca2 ta2 ua2 : Nat → Nat), R2 ≤ R + Tm → 120000000 < n2 + R2 → xn_a d ha ha2 ca ca2 ta ta2 ua ua2 → r2 ≤ r → (r2 = r ∨ rx_ok N c ns es Gm S0 r2) → (∀ C, xn_c N ns es ha ua d C → rx_g N ns es Gm C (ha d) → r2 ≤ ca d + rx_r N c es C (ha d)) → wX_relaxed_47 post Gm (nI V) (nI D) (nI (D ^ V)) (nI N) il mt iv hz ib n2 (nI d + (-1)) (nI R2) (nI r2) (ot_n c) (ot_o ne) (ot_o ef) (ot_n b) (ot_o g) (ot_n (ot_pw V D)) (ot_o sp) (ot_n im) (ot_n qu) (ot_n tg) (ot_n sg) (ot_n hp) (ot_n pl) (ot_n on) (ot_n tw) ns es ha2 (ot_n ca2) (ot_n ta2) (ot_n ua2)) → wX_relaxed_47 post Gm (nI V) (nI D) (nI (D ^ V)) (nI N) il mt iv hz ib n (nI d) (nI R) (nI r) (ot_n c) (ot_o ne) (ot_o ef) (ot_n b) (ot_o g) (ot_n (ot_pw V D)) (ot_o sp) (ot_n im) (ot_n qu) (ot_n tg) (ot_n sg) (ot_n hp) (ot_n pl) (ot_n on) (ot_n tw) ns es ha (ot_n ca) (ot_n ta) (ot_n ua)) : ∀ (d n R r : Nat) (U : Nat → Bool) (ha : Nat → Int32) (ca ta ua : Nat → Nat), d + rx_u N es (ha d) ≤ 10 → rx_u N es (ha d) ≤ k → ta d = 0 → (d ≠ 0 → ua d < 10) → R + (11 + k * Tm) ≤ 119999999 → 120000000 < n + R → r ≤ 1000000 → rx_U N c ns es S0 U (ha d) (ca d) → (∀ (n2 R2 r2 : Nat) (ha2 : Nat → Int32) (ca2 ta2 ua2 : Nat → Nat), R2 ≤ R + (11 + k * Tm) → 120000000 < n2 + R2 → xn_a d ha ha2 ca ca2 ta ta2 ua ua2 → r2 ≤ r → (r2 = r ∨ rx_ok N c ns es Gm S0 r2) → (∀ C, xn_c N ns es ha ua d C → rx_g N ns es Gm C (ha d) → r2 ≤ ca d + rx_r N c es C (ha d)) → wX_relaxed_47 post Gm (nI V) (nI D) (nI (D ^ V)) (nI N) il mt iv hz ib n2 (nI d + (-1)) (nI R2) (nI r2) (ot_n c) (ot_o ne) (ot_o ef) (ot_n b) (ot_o g) (ot_n (ot_pw V D)) (ot_o sp) (ot_n im) (ot_n qu) (ot_n tg) (ot_n sg) (ot_n hp) (ot_n pl) (ot_n on) (ot_n tw) ns es ha2 (ot_n ca2) (ot_n ta2) (ot_n ua2)) → wX_relaxed_47 post Gm (nI V) (nI D) (nI (D ^ V)) (nI N) il mt iv hz ib n (nI d) (nI R) (nI r) (ot_n c) (ot_o ne) (ot_o ef) (ot_n b) (ot_o g) (ot_n (ot_pw V D)) (ot_o sp) (ot_n im) (ot_n qu) (ot_n tg) (ot_n sg) (ot_n hp) (ot_n pl) (ot_n on) (ot_n tw) ns es ha (ot_n ca) (ot_n ta) (ot_n ua) := by
  intro d n R r U ha ca ta ua hd hu ht hua hR hn hr hU hK
  have hcd : ca d ≤ 90 := by
    have h1 := sm_bd (K := 9) (f := fun o => if U o = true then c o else 0) N (fun i hi => by
      by_cases e : U i = true
      · rw [if_pos e]; exact hc i hi
      · rw [if_neg e]; omega)
    have h2 := hU.1
    unfold rx_s at h2
    omega
  have hct : ∀ o, o ≤ N → ct_n (fun o => !(rx_b es (ha d) o)) o ≤ rx_u N es (ha d) := by
    intro o ho
    unfold rx_u
    obtain ⟨j, rfl⟩ : ∃ j, N = o + j := ⟨N - o, by omega⟩
    clear ho hN hc hch hd hu hU hK hn hr hR
    induction j with
    | zero => exact Nat.le_refl _
    | succ j ih => rw [← Nat.add_assoc, ct_s]; omega
  have inner : ∀ j o (n1 R1 r1 : Nat) (ha2 : Nat → Int32) (ca2 ta2 ua2 : Nat → Nat), o + j = N → (∀ i, i ≤ d → ha2 i = ha i ∧ ca2 i = ca i ∧ ua2 i = ua i) → (∀ i, i < d → ta2 i = ta i) → ta2 d = o →
      R1 + (N + 1 - o) + (rx_u N es (ha d) - ct_n (fun o => !(rx_b es (ha d) o)) o) * Tm ≤ R + (11 + k * Tm) → 120000000 < n1 + R1 → r1 ≤ r → (r1 = r ∨ rx_ok N c ns es Gm S0 r1) →
      (∀ C, xn_c N ns es ha ua d C → rx_g N ns es Gm C (ha d) → xn_d ns es (ha d) C o → r1 ≤ ca d + rx_r N c es C (ha d)) →
      wX_relaxed_47 post Gm (nI V) (nI D) (nI (D ^ V)) (nI N) il mt iv hz ib n1 (nI d) (nI R1) (nI r1) (ot_n c) (ot_o ne) (ot_o ef) (ot_n b) (ot_o g) (ot_n (ot_pw V D)) (ot_o sp) (ot_n im) (ot_n qu) (ot_n tg) (ot_n sg) (ot_n hp) (ot_n pl) (ot_n on) (ot_n tw) ns es ha2 (ot_n ca2) (ot_n ta2) (ot_n ua2) := by
    intro j
    induction j with
    | zero =>
      intro o n1 R1 r1 ha2 ca2 ta2 ua2 hoj hag hat hto hbu hn1 hr1 hr1o hcomp
      generalize (rx_u N es (ha d) - ct_n (fun o => !(rx_b es (ha d) o)) o) * Tm = Q at hbu
      obtain ⟨n2, rfl⟩ : ∃ n2, n1 = n2 + 1 := ⟨n1 - 1, by omega⟩
      obtain ⟨g1, g2, g3⟩ := hag d (Nat.le_refl d)
      have hag2 : xn_a d ha ha2 ca ca2 ta ta2 ua ua2 := fun i hi => ⟨(hag i (by omega)).1, (hag i (by omega)).2.1, hat i hi, (hag i (by omega)).2.2⟩
      have id1 : vp_in (nI d) 11 := vp_in_nI (by omega) (by omega)
      refine pk_le 120000000 R1 (fun a => by omega) (fun _ => br_f (nI_pos (by omega)) ⟨id1, nm_r (e' := ha d) (by rw [nI_clamp (by omega), g1]) ⟨id1, nm_r (e' := nI o) (by rw [ot_r ta2 (by omega), hto]) ?_⟩⟩)
      rw [ot_r ca2 (by omega), g2]
      refine br_c (fun e => ⟨id1, pk_le r1 (ca d) (fun a => ?_) (fun a => ⟨id1, nm_e ?_⟩)⟩) (fun e => br_t (by rw [show o = N from by omega]) ?_)
      · refine nm_e (nm_r (nI_1 R1) (hK n2 (R1 + 1) r1 ha2 ca2 ta2 ua2 (by omega) (by omega) hag2 hr1 hr1o (fun C _ _ => by omega)))
      · refine nm_e (nm_r (nI_1 R1) (hK n2 (R1 + 1) (ca d) ha2 ca2 ta2 ua2 (by omega) (by omega) hag2 (by omega) (Or.inr (rx_Ug hU ((mk_sub _ _).mp e))) (fun C _ _ => by omega)))
      · refine nm_e (nm_r (nI_1 R1) (hK n2 (R1 + 1) r1 ha2 ca2 ta2 ua2 (by omega) (by omega) hag2 hr1 hr1o (fun C a1 a2 => hcomp C a1 a2 ?_)))
        obtain ⟨o1, b1, b2, b3⟩ := rx_ex a2 (fun x => e ((mk_sub _ _).mpr x))
        exact ⟨o1, by omega, b2, b3⟩
    | succ j ih =>
      intro o n1 R1 r1 ha2 ca2 ta2 ua2 hoj hag hat hto hbu hn1 hr1 hr1o hcomp
      have hoN : o < N := by omega
      have hco := hc o hoN
      have hbu0 := hbu
      have hcs := ct_s (fun o => !(rx_b es (ha d) o)) o
      have hcl := hct (o + 1) (by omega)
      obtain ⟨n2, rfl⟩ : ∃ n2, n1 = n2 + 1 := by
        generalize (rx_u N es (ha d) - ct_n (fun o => !(rx_b es (ha d) o)) o) * Tm = Q at hbu
        exact ⟨n1 - 1, by omega⟩
      have hR1 : R1 + (N + 1 - o) ≤ R + (11 + k * Tm) := by
        generalize (rx_u N es (ha d) - ct_n (fun o => !(rx_b es (ha d) o)) o) * Tm = Q at hbu
        omega
      obtain ⟨g1, g2, g3⟩ := hag d (Nat.le_refl d)
      have hag2 : xn_a d ha ha2 ca ca2 ta ta2 ua ua2 := fun i hi => ⟨(hag i (by omega)).1, (hag i (by omega)).2.1, hat i hi, (hag i (by omega)).2.2⟩
      have id1 : vp_in (nI d) 11 := vp_in_nI (by omega) (by omega)
      refine pk_le 120000000 R1 (fun a => by omega) (fun _ => br_f (nI_pos (by omega)) ⟨id1, nm_r (e' := ha d) (by rw [nI_clamp (by omega), g1]) ⟨id1, nm_r (e' := nI o) (by rw [ot_r ta2 (by omega), hto]) ?_⟩⟩)
      rw [ot_r ca2 (by omega), g2]
      refine br_c (fun e => ⟨id1, pk_le r1 (ca d) (fun a => ?_) (fun a => ⟨id1, nm_e ?_⟩)⟩) (fun e => br_f (fun x => by have := (nI_eq (a := o) (b := N) (by omega) (by omega)).mp x; omega) ⟨id1, nm_r (e' := ot_n (ot_u ta2 d (o + 1))) (ot_upd' ta2 (nI_clamp (by omega)) (nI_1 o)) ?_⟩)
      · refine nm_e (nm_r (nI_1 R1) (hK n2 (R1 + 1) r1 ha2 ca2 ta2 ua2 (by omega) (by omega) hag2 hr1 hr1o (fun C _ _ => by omega)))
      · refine nm_e (nm_r (nI_1 R1) (hK n2 (R1 + 1) (ca d) ha2 ca2 ta2 ua2 (by omega) (by omega) hag2 (by omega) (Or.inr (rx_Ug hU ((mk_sub _ _).mp e))) (fun C _ _ => by omega)))
      · -- the operator does not go on
        have hskip : (∀ C, xn_c N ns es ha ua d C → rx_g N ns es Gm C (ha d) → C o = true → rx_f ns es (ha d) o → r1 ≤ ca d + rx_r N c es C (ha d)) → wX_relaxed_189 post (wX_relaxed_47 post Gm (nI V) (nI D) (nI (D ^ V)) (nI N) il mt iv hz ib n2) Gm (nI d) (nI R1) (ha d) (nI o) (nI V) (nI D) (nI (D ^ V)) (nI N) il mt iv hz ib (nI r1) (ot_n c) (ot_o ne) (ot_o ef) (ot_n b) (ot_o g) (ot_n (ot_pw V D)) (ot_o sp) (ot_n im) (ot_n qu) (ot_n tg) (ot_n sg) (ot_n hp) (ot_n pl) (ot_n on) (ot_n tw) ns es ha2 (ot_n ca2) (ot_n (ot_u ta2 d (o + 1))) (ot_n ua2) := fun hsk => by
          refine br_t rfl (nm_r (nI_1 R1) (ih (o + 1) n2 (R1 + 1) r1 ha2 ca2 (ot_u ta2 d (o + 1)) ua2 (by omega) hag (fun i hi => by rw [ot_un (by omega)]; exact hat i hi) ot_us ?_ (by omega) hr1 hr1o (fun C a1 a2 a3 => ?_)))
          · have hm : (rx_u N es (ha d) - ct_n (fun o => !(rx_b es (ha d) o)) (o + 1)) * Tm ≤ (rx_u N es (ha d) - ct_n (fun o => !(rx_b es (ha d) o)) o) * Tm := Nat.mul_le_mul_right _ (by omega)
            generalize (rx_u N es (ha d) - ct_n (fun o => !(rx_b es (ha d) o)) (o + 1)) * Tm = Q1 at hm ⊢
            generalize (rx_u N es (ha d) - ct_n (fun o => !(rx_b es (ha d) o)) o) * Tm = Q2 at hm hbu
            omega
          · by_cases y : C o = true ∧ rx_f ns es (ha d) o
            · exact hsk C a1 a2 y.1 y.2
            · exact hcomp C a1 a2 (xn_dn a3 y)
        refine xr_us (by omega) (ot_bb _ (fun a => hskip (fun C _ _ _ b4 => absurd b4 a)) (fun a => ?_))
        have hxo : xr_o ns ha2 ua2 d o ↔ xr_o ns ha ua d o := by
          unfold xr_o
          by_cases e0 : d = 0
          · exact ⟨fun _ => Or.inl e0, fun _ => Or.inl e0⟩
          · rw [g3, (hag (d - 1) (by omega)).1]
        have huad : ua2 d < 2 ^ 31 ∨ d = 0 := by
          by_cases e0 : d = 0
          · exact Or.inr e0
          · have := hua e0
            exact Or.inl (by omega)
        have hio : ∀ post2 : Int32 → Prop, post2 (ot_b (xr_o ns ha2 ua2 d o)) → wpX_isInOrder post2 ((nI V), (nI D), (nI (D ^ V)), (nI N), il, mt, iv, hz, ib, (nI r1), (ot_n c), (ot_o ne), (ot_o ef), (ot_n b), (ot_o g), (ot_n (ot_pw V D)), (ot_o sp), (ot_n im), (ot_n qu), (ot_n tg), (ot_n sg), (ot_n hp), (ot_n pl), (ot_n on), (ot_n tw), ns, es, ha2, (ot_n ca2), (ot_n (ot_u ta2 d (o + 1))), (ot_n ua2)) (nI o) (nI d) := fun post2 hp2 => by
          rcases huad with y | y
          · exact xr_io (by omega) (by omega) y hp2
          · subst y
            rw [ot_bt (show xr_o ns ha2 ua2 0 o from Or.inl rfl)] at hp2
            exact br_t rfl hp2
        refine hio _ (ot_bb _ (fun a2 => hskip (fun C b1 _ b3 b4 => absurd (hxo.mpr (b1 o hoN b3 b4)) a2)) (fun a2 => ⟨id1, pk_in o 10 (by omega), ?_⟩))
        rw [ot_r c (by omega), nI_add]
        refine pk_le r1 (ca d + c o) (fun a3 => hskip (fun C _ _ b3 b4 => ?_)) (fun a3 => ?_)
        · have := rx_rc (c := c) hoN b3 b4.2
          omega
        · -- it goes on
          have hdo : (!(rx_b es (ha d) o)) = true := by rw [rx_bf.mpr a.2]; rfl
          rw [hdo, if_pos rfl] at hcs
          have hk1 : 1 ≤ k := by omega
          have hmul : (rx_u N es (ha d) - ct_n (fun o => !(rx_b es (ha d) o)) o) * Tm = (rx_u N es (ha d) - ct_n (fun o => !(rx_b es (ha d) o)) (o + 1)) * Tm + Tm := by
            rw [show rx_u N es (ha d) - ct_n (fun o => !(rx_b es (ha d) o)) o = (rx_u N es (ha d) - ct_n (fun o => !(rx_b es (ha d) o)) (o + 1)) + 1 from by omega, Nat.add_mul, Nat.one_mul]
          have hd1 : d + 1 < 11 := by omega
          have id2 : vp_in (nI (d + 1)) 11 := vp_in_nI hd1 (by omega)
          have ed : nI (d + 1) - 1 = nI d := nI_pred d
          refine br_f ot_10 (nm_r (nI_1 d) ⟨id2, nm_r (ot_upd' ua2 (nI_clamp (by omega)) rfl) ⟨pk_in o 10 (by omega), ?_⟩⟩)
          rw [nI_clamp (show o < 2 ^ 31 by omega)]
          refine xr_wf hN hc (fun h2 w1 w2 => ⟨id2, nm_r (e' := upd ha2 (d + 1) h2) (by rw [nI_clamp (by omega)]) ?_⟩)
          rw [ed, ot_r ca2 (by omega), g2, show ot_n c o = nI (c o) from rfl]
          refine ⟨id1, pk_in o 10 (by omega), id2, nm_r (ot_upd' ca2 (nI_clamp (by omega)) (nI_add _ _)) ⟨id2, nm_r (ot_upd' (x := 0) _ (nI_clamp (by omega)) rfl) (nm_r (nI_1 R1) ?_)⟩⟩
          have hl : mk_le (ha d) h2 := mk_lt mk_ol w1
          have hEo : mk_le (es o) h2 := mk_lt mk_or w1
          have hul := rx_ul (N := N) hl hoN a.2 hEo
          have e1 : upd ha2 (d + 1) h2 (d + 1) = h2 := pk_us
          have e2 : ot_u ca2 (d + 1) (ca d + c o) (d + 1) = ca d + c o := ot_us
          have e3 : upd ha2 (d + 1) h2 d = ha d := by rw [pk_un (by omega)]; exact g1
          refine hch hk1 (d + 1) n2 (R1 + 1) r1 (ot_u U o true) (upd ha2 (d + 1) h2) (ot_u ca2 (d + 1) (ca d + c o)) (ot_u (ot_u ta2 d (o + 1)) (d + 1) 0) (ot_u ua2 (d + 1) o) ?_ ?_ ot_us (fun _ => by rw [ot_us]; omega) ?_ (by omega) (by omega) ?_ ?_
          · rw [e1]; omega
          · rw [e1]; omega
          · generalize (rx_u N es (ha d) - ct_n (fun o => !(rx_b es (ha d) o)) (o + 1)) * Tm = Q1 at hmul
            omega
          · rw [e1, e2]
            exact rx_Us hU hoN a w1 w2
          · intro n3 R3 r3 ha3 ca3 ta3 ua3 f1 f2 f3 f4 f5 f6
            rw [e1, e2] at f6
            rw [pk_m1]
            refine ih (o + 1) n3 R3 r3 ha3 ca3 ta3 ua3 (by omega) (fun i hi => ?_) (fun i hi => ?_) ?_ ?_ f2 (by omega) ?_ (fun C b1 b2 b3 => ?_)
            · obtain ⟨x1, x2, _, x4⟩ := f3 i (by omega)
              rw [pk_un (by omega)] at x1
              rw [ot_un (by omega)] at x2 x4
              obtain ⟨y1, y2, y3⟩ := hag i hi
              exact ⟨x1.trans y1, x2.trans y2, x4.trans y3⟩
            · obtain ⟨_, _, x3, _⟩ := f3 i (by omega)
              rw [ot_un (by omega), ot_un (by omega)] at x3
              exact x3.trans (hat i hi)
            · obtain ⟨_, _, x3, _⟩ := f3 d (by omega)
              rw [ot_un (by omega), ot_us] at x3
              exact x3
            · rw [hmul] at hbu
              generalize (rx_u N es (ha d) - ct_n (fun o => !(rx_b es (ha d) o)) (o + 1)) * Tm = Q1 at hbu ⊢
              omega
            · rcases f5 with y | y
              · rw [y]; exact hr1o
              · exact Or.inr y
            · by_cases y : xn_d ns es (ha d) C o
              · have := hcomp C b1 b2 y
                omega
              · -- o is the least that goes on
                have hCo : C o = true ∧ rx_f ns es (ha d) o := Classical.byContradiction fun z => y (xn_dn b3 z)
                have h6 := f6 C (fun o2 z1 z2 z3 => ?_) (rx_gm hl b2)
                · have h7 := rx_rs (c := c) hl hoN hCo.1 a.2 hEo
                  omega
                · rw [e1] at z3
                  refine Or.inr ?_
                  rw [ot_us, show d + 1 - 1 = d from by omega, e3]
                  by_cases q1 : o < o2
                  · exact Or.inl q1
                  · refine Or.inr (fun q2 => ?_)
                    by_cases q3 : o2 = o
                    · rw [q3] at z3; exact z3.2 hEo
                    · exact y ⟨o2, by omega, z2, q2, fun q4 => z3.2 (mk_lt q4 hl)⟩
  refine inner N 0 n R r ha ca ta ua (by omega) (fun i _ => ⟨rfl, rfl, rfl⟩) (fun i _ => rfl) ht ?_ hn (Nat.le_refl r) (Or.inl rfl) (fun C _ _ ⟨o', a, _⟩ => by omega)
  have hm : (rx_u N es (ha d) - ct_n (fun o => !(rx_b es (ha d) o)) 0) * Tm ≤ k * Tm := Nat.mul_le_mul_right _ (by omega)
  generalize (rx_u N es (ha d) - ct_n (fun o => !(rx_b es (ha d) o)) 0) * Tm = Q1 at hm ⊢
  omega
theorem xn_node {post : Int32 → SX → Prop} {Gm S0 : Int32} (hN : N ≤ 10) (hc : ∀ o, o < N → c o ≤ 9) : ∀ k, ∀ (d n R r : Nat) (U : Nat → Bool) (ha : Nat → Int32) (ca ta ua : Nat → Nat), d + rx_u N es (ha d) ≤ 10 → rx_u N es (ha d) ≤ k → ta d = 0 → (d ≠ 0 → ua d < 10) → R + rx_T k ≤ 119999999 → 120000000 < n + R → r ≤ 1000000 → rx_U N c ns es S0 U (ha d) (ca d) → (∀ (n2 R2 r2 : Nat) (ha2 : Nat → Int32) (ca2 ta2 ua2 : Nat → Nat), R2 ≤ R + rx_T k → 120000000 < n2 + R2 → xn_a d ha ha2 ca ca2 ta ta2 ua ua2 → r2 ≤ r → (r2 = r ∨ rx_ok N c ns es Gm S0 r2) → (∀ C, xn_c N ns es ha ua d C → rx_g N ns es Gm C (ha d) → r2 ≤ ca d + rx_r N c es C (ha d)) → wX_relaxed_47 post Gm (nI V) (nI D) (nI (D ^ V)) (nI N) il mt iv hz ib n2 (nI d + (-1)) (nI R2) (nI r2) (ot_n c) (ot_o ne) (ot_o ef) (ot_n b) (ot_o g) (ot_n (ot_pw V D)) (ot_o sp) (ot_n im) (ot_n qu) (ot_n tg) (ot_n sg) (ot_n hp) (ot_n pl) (ot_n on) (ot_n tw) ns es ha2 (ot_n ca2) (ot_n ta2) (ot_n ua2)) → wX_relaxed_47 post Gm (nI V) (nI D) (nI (D ^ V)) (nI N) il mt iv hz ib n (nI d) (nI R) (nI r) (ot_n c) (ot_o ne) (ot_o ef) (ot_n b) (ot_o g) (ot_n (ot_pw V D)) (ot_o sp) (ot_n im) (ot_n qu) (ot_n tg) (ot_n sg) (ot_n hp) (ot_n pl) (ot_n on) (ot_n tw) ns es ha (ot_n ca) (ot_n ta) (ot_n ua) := by
  intro k
  induction k with
  | zero =>
    have h := xn_in (post := post) (Gm := Gm) (S0 := S0) (V := V) (D := D) (N := N) (il := il) (mt := mt) (iv := iv) (hz := hz) (ib := ib) (c := c) (b := b) (ne := ne) (ef := ef) (g := g) (sp := sp) (im := im) (qu := qu) (tg := tg) (sg := sg) (hp := hp) (pl := pl) (on := on) (tw := tw) (ns := ns) (es := es) (k := 0) (Tm := 0) hN hc (fun h => by omega)
    exact h
  | succ k ih =>
    have h := xn_in (post := post) (Gm := Gm) (S0 := S0) (V := V) (D := D) (N := N) (il := il) (mt := mt) (iv := iv) (hz := hz) (ib := ib) (c := c) (b := b) (ne := ne) (ef := ef) (g := g) (sp := sp) (im := im) (qu := qu) (tg := tg) (sg := sg) (hp := hp) (pl := pl) (on := on) (tw := tw) (ns := ns) (es := es) (k := k + 1) (Tm := rx_T k) hN hc (fun _ => ih)
    exact h
end XN
end
section
section YX
variable {V D N : Nat} {rz : Int32} {c b : Nat → Nat} {ne ef g : Nat → Option Nat} {ls fw me bk bd rs : Nat → Nat}
theorem yx_mle {G : Nat → Option Nat} {W : Nat} {F : Int32} (hW : W ≤ 5) (hG : ∀ v, v < W → ∀ x, G v = some x → x < 4) : mk_le (mk_m G W) F ↔ ∀ v, v < W → ∀ x, G v = some x → bt F (4 * v + x) = true := by
  constructor
  · intro h v hv x e
    have hx := hG v hv x e
    refine h (4 * v + x) (by omega) ((mk_mt W hW hG (4 * v + x) (by omega)).mpr ?_)
    rw [show (4 * v + x) / 4 = v from by omega, show (4 * v + x) % 4 = x from by omega]
    exact ⟨hv, e⟩
  · intro h i hi e
    obtain ⟨a1, a2⟩ := (mk_mt W hW hG i hi).mp e
    have := h (i / 4) a1 (i % 4) a2
    rw [show 4 * (i / 4) + i % 4 = i from by omega] at this
    exact this
theorem yx_33 {post : Int32 → Prop} {J : Int32 → Prop} {x1 F : Int32} {v : Nat} {z : Option Nat} (hv : v < 5) (hz : ∀ x, z = some x → x < 4) (h0 : ∀ x, z = some x → ¬ bt F (4 * v + x) = true → post 0) (hJ : (∀ x, z = some x → bt F (4 * v + x) = true) → J (nI (v + 1))) : wY_hasAll_33 post J x1 F (nI v) (ot_i z) (nI V) (nI D) (nI N) rz (ot_n c) (ot_o ne) (ot_o ef) (ot_n b) (ot_o g) (ot_n ls) (ot_n fw) (ot_n me) (ot_n bk) (ot_n bd) (ot_n rs) := by
  refine ot_bl z (fun x e => by have := hz x e; omega) (fun e => nm_r (nI_1 v) (hJ (fun x e2 => by rw [e] at e2; exact nomatch e2))) (fun x e => ?_)
  have hx := hz x e
  rw [e, ot_is, ot_ix4]
  refine br_c (fun e2 => h0 x e (fun y => ?_)) (fun e2 => nm_r (nI_1 v) (hJ (fun x2 e3 => ?_)))
  · rw [(mk_b0 (by omega)).mp e2] at y; exact nomatch y
  · rw [e] at e3
    rw [← Option.some.inj e3]
    cases y : bt F (4 * v + x) with
    | true => rfl
    | false => exact absurd ((mk_b0 (by omega)).mpr y) e2
theorem yx_ha {post : Int32 → Prop} {o : Nat} {F : Int32} (hT : gr_T V D N c b ne ef g) (ho : o < N) (h : post (ot_b (mk_le (mk_m (fun w => ne (5 * o + w)) V) F))) : wpY_hasAll post ((nI V), (nI D), (nI N), rz, (ot_n c), (ot_o ne), (ot_o ef), (ot_n b), (ot_o g), (ot_n ls), (ot_n fw), (ot_n me), (ot_n bk), (ot_n bd), (ot_n rs)) (nI o) F := by
  obtain ⟨⟨hV1, hV⟩, ⟨hD, hD4⟩, hN, hc, hb, hne, hef, hg⟩ := id hT
  have hG : ∀ v, v < V → ∀ x, ne (5 * o + v) = some x → x < 4 := fun v hv x e => by have := hne o ho v hv x e; omega
  have hm := yx_mle (G := fun w => ne (5 * o + w)) (F := F) hV hG
  have key : ∀ n v, v ≤ V → V - v < n → (∀ w, w < v → ∀ x, ne (5 * o + w) = some x → bt F (4 * w + x) = true) → wY_hasAll_2 post (nI o) F (nI V) (nI D) (nI N) rz (ot_n c) (ot_o ne) (ot_o ef) (ot_n b) (ot_o g) (ot_n ls) (ot_n fw) (ot_n me) (ot_n bk) (ot_n bd) (ot_n rs) n (nI v) := by
    intro n
    induction n with
    | zero => intro v _ a; omega
    | succ n ih =>
      intro v hv hn hw
      refine pk_le V v (fun hx => ?_) (fun hx => br_t (nI_pos' (by omega)) ?_)
      · rw [ot_bt (hm.mpr (fun w hw2 => hw w (by omega)))] at h; exact h
      · have hi : 5 * o + v < 50 := by omega
        rw [ot_ix5, ot_ro ne (by omega)]
        refine ⟨pk_in _ 50 hi, yx_33 (by omega) (hG v hx) (fun x e e2 => ?_) (fun hk => ih (v + 1) (by omega) (by omega) (fun w a => ?_))⟩
        · rw [ot_bf (fun y => e2 (hm.mp y v hx x e))] at h; exact h
        · by_cases e : w = v
          · rw [e]; exact hk
          · exact hw w (by omega)
  exact ⟨V + 1, key (V + 1) 0 (by omega) (by omega) (fun w a => by omega)⟩
theorem yx_hg {post : Int32 → Prop} {F : Int32} (hT : gr_T V D N c b ne ef g) (h : post (ot_b (mk_le (mk_m g V) F))) : wpY_hasAll post ((nI V), (nI D), (nI N), rz, (ot_n c), (ot_o ne), (ot_o ef), (ot_n b), (ot_o g), (ot_n ls), (ot_n fw), (ot_n me), (ot_n bk), (ot_n bd), (ot_n rs)) (-1) F := by
  obtain ⟨⟨hV1, hV⟩, ⟨hD, hD4⟩, hN, hc, hb, hne, hef, hg⟩ := id hT
  have hG : ∀ v, v < V → ∀ x, g v = some x → x < 4 := fun v hv x e => by have := hg v hv x e; omega
  have hm := yx_mle (G := g) (F := F) hV hG
  have key : ∀ n v, v ≤ V → V - v < n → (∀ w, w < v → ∀ x, g w = some x → bt F (4 * w + x) = true) → wY_hasAll_2 post (-1) F (nI V) (nI D) (nI N) rz (ot_n c) (ot_o ne) (ot_o ef) (ot_n b) (ot_o g) (ot_n ls) (ot_n fw) (ot_n me) (ot_n bk) (ot_n bd) (ot_n rs) n (nI v) := by
    intro n
    induction n with
    | zero => intro v _ a; omega
    | succ n ih =>
      intro v hv hn hw
      refine pk_le V v (fun hx => ?_) (fun hx => br_f (show ¬ (0 : Int32) ≤ -1 by decide) ?_)
      · rw [ot_bt (hm.mpr (fun w hw2 => hw w (by omega)))] at h; exact h
      · rw [ot_ro g (by omega)]
        refine ⟨pk_in v 5 (by omega), yx_33 (by omega) (hG v hx) (fun x e e2 => ?_) (fun hk => ih (v + 1) (by omega) (by omega) (fun w a => ?_))⟩
        · rw [ot_bf (fun y => e2 (hm.mp y v hx x e))] at h; exact h
        · by_cases e : w = v
          · rw [e]; exact hk
          · exact hw w (by omega)
  exact ⟨V + 1, key (V + 1) 0 (by omega) (by omega) (fun w a => by omega)⟩
theorem yx_fo {post : Int32 → Prop} {o : Nat} (hT : gr_T V D N c b ne ef g) (ho : o < N) (h : post (mk_m (fun w => ef (5 * o + w)) V)) : wpY_factsOf post ((nI V), (nI D), (nI N), rz, (ot_n c), (ot_o ne), (ot_o ef), (ot_n b), (ot_o g), (ot_n ls), (ot_n fw), (ot_n me), (ot_n bk), (ot_n bd), (ot_n rs)) (nI o) := by
  obtain ⟨⟨hV1, hV⟩, ⟨hD, hD4⟩, hN, hc, hb, hne, hef, hg⟩ := id hT
  have key : ∀ n v, v ≤ V → V - v < n → wY_factsOf_4 post (nI o) (nI V) (nI D) (nI N) rz (ot_n c) (ot_o ne) (ot_o ef) (ot_n b) (ot_o g) (ot_n ls) (ot_n fw) (ot_n me) (ot_n bk) (ot_n bd) (ot_n rs) n (mk_m (fun w => ef (5 * o + w)) v) (nI v) := by
    intro n
    induction n with
    | zero => intro v _ a; omega
    | succ n ih =>
      intro v hv hn
      refine pk_le V v (fun hx => ?_) (fun hx => ?_)
      · rw [show v = V from by omega]; exact h
      · have hi : 5 * o + v < 50 := by omega
        rw [ot_ix5]
        refine ⟨pk_in _ 50 hi, nm_r (ot_ro ef (by omega)) (ot_bl _ (fun y e => by have := hef o ho v hx y e; omega) (fun e => nm_r (nI_1 v) ?_) (fun y e => ?_))⟩
        · rw [← mk_mn (g := fun w => ef (5 * o + w)) e]
          exact ih (v + 1) (by omega) (by omega)
        · rw [e, ot_is, ot_ix4]
          exact nm_r (mk_ms (g := fun w => ef (5 * o + w)) e).symm (nm_r (nI_1 v) (ih (v + 1) (by omega) (by omega)))
  exact ⟨V + 1, key (V + 1) 0 (by omega) (by omega)⟩
def yx_A (V : Nat) (ne : Nat → Option Nat) : Nat → Int32 := fun o => mk_m (fun w => ne (5 * o + w)) V
theorem yx_oe {x y : Int32} (h : mk_le y x) : x ||| y = x := b_ext (fun i hi => by
  rw [b_or]
  cases e : bt y i with
  | false => rw [Bool.or_false]
  | true => rw [h i hi e]; rfl)
theorem yx_35 {post : Int32 → Prop} {x1 S0 : Int32} (hT : gr_T V D N c b ne ef g) (h : post (ot_b (rx_g N (yx_A V ne) (yx_A V ef) (mk_m g V) (fun o => bt x1 o) S0))) :
    ∀ n q o (F0 F : Int32), q ≤ 10 → (o < N ∨ (o = 0 ∧ N = 0)) → (q = 10 → o = 0) → 10 * N < n + (N * q + o) → mk_le S0 F0 → mk_le F0 F → (∀ S, mk_le S0 S → rx_cl N (yx_A V ne) (yx_A V ef) (fun o => bt x1 o = true) S → mk_le F S) →
      (rx_cl N (yx_A V ne) (yx_A V ef) (fun o => bt x1 o = true) F0 ∧ F = F0 ∨ rx_u N (yx_A V ef) F0 + q ≤ N) → (∀ o', o' < o → bt x1 o' = true → mk_le (yx_A V ne o') F0 → mk_le (yx_A V ef o') F) → (o = 0 → F = F0) → wY_comes_35 post x1 (nI V) (nI D) (nI N) rz (ot_n c) (ot_o ne) (ot_o ef) (ot_n b) (ot_o g) (ot_n ls) (ot_n fw) (ot_n me) (ot_n bk) (ot_n bd) (ot_n rs) n F (nI (N * q + o)) := by
  obtain ⟨⟨hV1, hV⟩, ⟨hD, hD4⟩, hN, hc, hb, hne, hef, hg⟩ := id hT
  intro n
  induction n with
  | zero =>
    intro q o F0 F hq ho hq0 hn
    have h1 : N * q ≤ N * 10 := Nat.mul_le_mul_left _ hq
    by_cases e : q = 10
    · have := hq0 e
      subst e
      omega
    · have h2 : N * (q + 1) ≤ N * 10 := Nat.mul_le_mul_left _ (by omega)
      rw [Nat.mul_add, Nat.mul_one] at h2
      omega
  | succ n ih =>
    intro q o F0 F hq ho hq0 hn h1 h2 h3 h4 h5 h6
    have hNq : N * q ≤ 100 := Nat.le_trans (Nat.mul_le_mul hN hq) (by omega)
    rw [wY_comes_35, ot_m10]
    by_cases hend : q = 10 ∨ N = 0
    · -- the end: closed
      have hF : rx_cl N (yx_A V ne) (yx_A V ef) (fun o => bt x1 o = true) F := by
        rcases hend with e | e
        · rw [h6 (hq0 e)]
          rcases h4 with a | a
          · exact a.1
          · have hu0 : rx_u N (yx_A V ef) F0 = 0 := by omega
            intro o' ho' _ _
            refine Classical.byContradiction fun y => ?_
            have h7 : 0 < rx_u N (yx_A V ef) F0 := by
              have h8 := ct_lt (p := fun _ => false) (q := fun o => !(rx_b (yx_A V ef) F0 o)) N (fun _ _ z => nomatch z) o' ho' rfl (by rw [rx_bf.mpr y]; rfl)
              unfold rx_u
              omega
            omega
        · intro o' ho'; omega
      have hle : nI (10 * N) ≤ nI (N * q + o) := by
        refine nI_le ?_ (by omega)
        rcases hend with e | e
        · rw [e, Nat.mul_comm]; omega
        · rw [e]; omega
      refine br_t hle (yx_hg hT ?_)
      have e : mk_le (mk_m g V) F ↔ rx_g N (yx_A V ne) (yx_A V ef) (mk_m g V) (fun o => bt x1 o) S0 := by
        constructor
        · intro a S b1 b2; exact mk_lt a (h3 S b1 b2)
        · intro a; exact a F (mk_lt h1 h2) hF
      rw [propext e]
      refine ⟨?_, h⟩
      by_cases k2 : rx_g N (yx_A V ne) (yx_A V ef) (mk_m g V) (fun o => bt x1 o) S0
      · rw [ot_bt k2]; exact narrow_b1
      · rw [ot_bf k2]; exact narrow_b0
    · have hq9 : q ≤ 9 := by omega
      have hN0 : 0 < N := by omega
      have hoN : o < N := by omega
      have h7 : N * (q + 1) ≤ N * 10 := Nat.mul_le_mul_left _ (by omega)
      rw [Nat.mul_add, Nat.mul_one] at h7
      have hmod : (N * q + o) % N = o := by rw [Nat.mul_add_mod, Nat.mod_eq_of_lt hoN]
      refine br_f (nI_ge (by omega) (by omega)) ⟨nI_ne0 hN0 (by omega), nm_r (e' := nI o) (by rw [pk_rem (by omega) hN0 (by omega), hmod]) ?_⟩
      -- on to the next operator, or to the next sweep
      have hgo : ∀ F2 : Int32, mk_le F F2 → (∀ S, mk_le S0 S → rx_cl N (yx_A V ne) (yx_A V ef) (fun o => bt x1 o = true) S → mk_le F2 S) → (rx_cl N (yx_A V ne) (yx_A V ef) (fun o => bt x1 o = true) F0 → F = F0 → F2 = F0) → (bt x1 o = true → mk_le (yx_A V ne o) F0 → mk_le (yx_A V ef o) F2) → ∀ x3, x3 = nI (N * q + o) + 1 → wY_comes_35 post x1 (nI V) (nI D) (nI N) rz (ot_n c) (ot_o ne) (ot_o ef) (ot_n b) (ot_o g) (ot_n ls) (ot_n fw) (ot_n me) (ot_n bk) (ot_n bd) (ot_n rs) n F2 x3 := fun F2 c1 c2 c3 c4 x3 e3 => by
        rw [e3, nI_1]
        have h5' : ∀ o', o' < o + 1 → bt x1 o' = true → mk_le (yx_A V ne o') F0 → mk_le (yx_A V ef o') F2 := fun o' a b1 b2 => by
          by_cases e : o' = o
          · rw [e] at b1 b2 ⊢; exact c4 b1 b2
          · exact mk_lt (h5 o' (by omega) b1 b2) c1
        by_cases e : o + 1 = N
        · rw [show N * q + o + 1 = N * (q + 1) + 0 from by rw [Nat.mul_add, Nat.mul_one]; omega]
          refine ih (q + 1) 0 F2 F2 (by omega) (Or.inl hN0) (fun _ => rfl) (by rw [Nat.mul_add, Nat.mul_one]; omega) (mk_lt h1 (mk_lt h2 c1)) (mk_lr _) c2 ?_ (fun o' a => by omega) (fun _ => rfl)
          rcases h4 with a | a
          · have e2 := c3 a.1 a.2
            rw [e2]; exact Or.inl ⟨a.1, rfl⟩
          · by_cases hcl : rx_cl N (yx_A V ne) (yx_A V ef) (fun o => bt x1 o = true) F2
            · exact Or.inl ⟨hcl, rfl⟩
            · refine Or.inr ?_
              -- F0 was not closed: some operator is new in F2
              have hnc : ¬ rx_cl N (yx_A V ne) (yx_A V ef) (fun o => bt x1 o = true) F0 := fun hc0 => hcl (by
                have hs : mk_le F2 F0 := c2 F0 h1 hc0
                intro o' d1 d2 d3
                exact mk_lt (hc0 o' d1 d2 (mk_lt d3 hs)) (mk_lt h2 c1))
              have hex : ∃ o', o' < N ∧ bt x1 o' = true ∧ mk_le (yx_A V ne o') F0 ∧ ¬ mk_le (yx_A V ef o') F0 := Classical.byContradiction fun z => hnc (fun o' d1 d2 d3 => Classical.byContradiction fun d4 => z ⟨o', d1, d2, d3, d4⟩)
              obtain ⟨o', d1, d2, d3, d4⟩ := hex
              have := rx_ul (N := N) (mk_lt h2 c1) d1 d4 (h5' o' (by omega) d2 d3)
              omega
        · rw [show N * q + o + 1 = N * q + (o + 1) from by omega]
          refine ih q (o + 1) F0 F2 hq (Or.inl (by omega)) (fun e2 => by omega) (by omega) h1 (mk_lt h2 c1) c2 ?_ h5' (fun e2 => by omega)
          rcases h4 with a | a
          · exact Or.inl ⟨a.1, c3 a.1 a.2⟩
          · exact Or.inr a
      refine br_c (fun e => ?_) (fun e => hgo F (mk_lr _) h3 (fun _ y => y) (fun y => absurd ((mk_b1 (by omega)).mpr y) e))
      have hb1 := (mk_b1 (x := x1) (f := o) (by omega)).mp e
      refine yx_ha hT hoN (ot_bb _ (fun a => hgo F (mk_lr _) h3 (fun _ y => y) (fun _ y => absurd (mk_lt y h2) a)) (fun a => yx_fo hT hoN (nm_e ?_)))
      refine hgo (F ||| yx_A V ef o) mk_ol (fun S b1 b2 => mk_oo (h3 S b1 b2) (b2 o hoN hb1 (mk_lt a (h3 S b1 b2)))) (fun hc0 e2 => ?_) (fun _ _ => mk_or)
      have : mk_le (yx_A V ef o) F0 := hc0 o hoN hb1 (by rw [← e2]; exact a)
      rw [e2]
      exact yx_oe this
theorem yx_co {post : Int32 → Prop} {x1 : Int32} (hT : gr_T V D N c b ne ef g) (h : post (ot_b (rx_g N (yx_A V ne) (yx_A V ef) (mk_m g V) (fun o => bt x1 o) (mk_m (fun v => some (b v)) V)))) : wpY_comes post ((nI V), (nI D), (nI N), rz, (ot_n c), (ot_o ne), (ot_o ef), (ot_n b), (ot_o g), (ot_n ls), (ot_n fw), (ot_n me), (ot_n bk), (ot_n bd), (ot_n rs)) x1 := by
  obtain ⟨⟨hV1, hV⟩, ⟨hD, hD4⟩, hN, hc, hb, hne, hef, hg⟩ := id hT
  have key : ∀ n v, v ≤ V → V - v < n → wY_comes_4 post x1 (nI V) (nI D) (nI N) rz (ot_n c) (ot_o ne) (ot_o ef) (ot_n b) (ot_o g) (ot_n ls) (ot_n fw) (ot_n me) (ot_n bk) (ot_n bd) (ot_n rs) n (mk_m (fun v => some (b v)) v) (nI v) := by
    intro n
    induction n with
    | zero => intro v _ a; omega
    | succ n ih =>
      intro v hv hn
      refine pk_le V v (fun hx => ⟨10 * N + 1, ?_⟩) (fun hx => ?_)
      · rw [show v = V from by omega]
        have h1 := yx_35 (rz := rz) (ls := ls) (fw := fw) (me := me) (bk := bk) (bd := bd) (rs := rs) hT h (10 * N + 1) 0 0 (mk_m (fun v => some (b v)) V) (mk_m (fun v => some (b v)) V) (by omega) (by omega) (fun _ => rfl) (by omega) (mk_lr _) (mk_lr _) (fun S a _ => a) (Or.inr (ct_le _ N)) (fun o' a => by omega) (fun _ => rfl)
        exact h1
      · rw [ot_r b (by omega), ot_ix4]
        exact ⟨pk_in v 5 (by omega), nm_r (mk_ms (g := fun v => some (b v)) rfl).symm (nm_r (nI_1 v) (ih (v + 1) (by omega) (by omega)))⟩
  exact ⟨V + 1, key (V + 1) 0 (by omega) (by omega)⟩
/-- every choice is a number's bits -/
theorem yx_bits (C : Nat → Bool) (hN : N ≤ 10) : ∃ k, k < 2 ^ N ∧ ∀ o, o < N → bt (nI k) o = C o := by
  have hd : ∀ o, o < N → (if C o = true then 1 else 0) < 2 := fun o _ => by split <;> omega
  have hlt := cd_lt (B := 2) (f := fun o => if C o = true then 1 else 0) N hd
  have h10 : 2 ^ N ≤ 1024 := Nat.pow_le_pow_right (n := 2) (by omega) hN
  refine ⟨cd_c 2 (fun o => if C o = true then 1 else 0) N, hlt, fun o ho => ?_⟩
  have h1 := cd_dg (B := 2) (by omega) N hd o ho
  have h2 : ((nI (cd_c 2 (fun o => if C o = true then 1 else 0) N) >>> (nI o &&& 31)) &&& 1) = nI (cd_d 2 (cd_c 2 (fun o => if C o = true then 1 else 0) N) o) := by
    rw [pk_shrN (by omega) (nI o &&& 31) o (s_l o (by omega)), pk_andN (Nat.lt_of_le_of_lt (Nat.div_le_self _ _) (by omega)) 1 (by decide)]
    rfl
  rw [h1] at h2
  cases e : C o with
  | true =>
    rw [e, if_pos rfl] at h2
    exact (mk_b1 (by omega)).mp h2
  | false =>
    rw [e, if_neg (by decide)] at h2
    exact (mk_b0 (by omega)).mp h2
theorem rx_ge {A E : Nat → Int32} {Gm h : Int32} {C C2 : Nat → Bool} (e : ∀ o, o < N → C o = C2 o) (hg : rx_g N A E Gm C h) : rx_g N A E Gm C2 h :=
  fun S a b => hg S a (fun o ho hC => b o ho ((e o ho).symm.trans hC))
theorem rx_se {C C2 : Nat → Bool} (e : ∀ o, o < N → C o = C2 o) : rx_s N c C = rx_s N c C2 := sm_eq (fun i hi => by rw [e i hi])
theorem yx_re {post : Int32 → Prop} (hT : gr_T V D N c b ne ef g) (h : ∀ r, rx_F N c (yx_A V ne) (yx_A V ef) (mk_m g V) (mk_m (fun v => some (b v)) V) r → post (qd_a r)) : wpY_relaxed post ((nI V), (nI D), (nI N), rz, (ot_n c), (ot_o ne), (ot_o ef), (ot_n b), (ot_o g), (ot_n ls), (ot_n fw), (ot_n me), (ot_n bk), (ot_n bd), (ot_n rs)) := by
  obtain ⟨⟨hV1, hV⟩, ⟨hD, hD4⟩, hN, hc, hb, hne, hef, hg⟩ := id hT
  have h10 : 2 ^ N ≤ 1024 := Nat.pow_le_pow_right (n := 2) (by omega) hN
  have h0N : 0 < 2 ^ N := Nat.pow_pos (by omega)
  have esh : (1 : Int32) <<< (nI N &&& 31) = nI (2 ^ N) := by
    have := pk_shlN (n := 1) (nI N &&& 31) N (s_l N (by omega)) (by omega)
    rw [Nat.one_mul] at this
    exact this
  have hsb : ∀ C : Nat → Bool, rx_s N c C ≤ 90 := fun C => by
    have h1 := sm_bd (K := 9) (f := fun o => if C o = true then c o else 0) N (fun i hi => by
      by_cases e : C i = true
      · rw [if_pos e]; exact hc i hi
      · rw [if_neg e]; omega)
    unfold rx_s
    omega
  have k20 : ∀ (J : Int32 → Int32 → Prop) (r k : Nat), k < 2 ^ N → r ≤ 1000000 → (∀ r2, r2 ≤ r → (r2 = r ∨ rx_ok N c (yx_A V ne) (yx_A V ef) (mk_m g V) (mk_m (fun v => some (b v)) V) r2) → (rx_g N (yx_A V ne) (yx_A V ef) (mk_m g V) (fun o => bt (nI k) o) (mk_m (fun v => some (b v)) V) → r2 ≤ rx_s N c (fun o => bt (nI k) o)) → J (nI r2) (nI (k + 1))) → ∀ n o, o ≤ N → N - o < n → wY_relaxed_20 post J (nI r) (nI k) (nI V) (nI D) (nI N) rz (ot_n c) (ot_o ne) (ot_o ef) (ot_n b) (ot_o g) (ot_n ls) (ot_n fw) (ot_n me) (ot_n bk) (ot_n bd) (ot_n rs) n (nI (sm_n (fun o => if bt (nI k) o = true then c o else 0) o)) (nI o) := by
    intro J r k hk hr hJ n
    induction n with
    | zero => intro o _ a; omega
    | succ n ih =>
      intro o ho hn
      refine pk_le N o (fun hx => ?_) (fun hx => ?_)
      · have hs := hsb (fun o => bt (nI k) o)
        rw [show o = N from by omega]
        show (nI r ≤ nI (rx_s N c (fun o => bt (nI k) o)) → _) ∧ _
        refine pk_le r (rx_s N c (fun o => bt (nI k) o)) (fun a => nm_r (nI_1 k) (hJ r (Nat.le_refl r) (Or.inl rfl) (fun _ => a))) (fun a => yx_co hT (ot_bb _ (fun a2 => nm_r (nI_1 k) (hJ r (Nat.le_refl r) (Or.inl rfl) (fun y => absurd y a2))) (fun a2 => nm_r (nI_1 k) (hJ (rx_s N c (fun o => bt (nI k) o)) (by omega) (Or.inr ⟨_, a2, rfl⟩) (fun _ => Nat.le_refl _)))))
      · have hco := hc o hx
        have h1 := ih (o + 1) (by omega) (by omega)
        rw [sm_s] at h1
        refine br_c (fun e => ⟨pk_in o 10 (by omega), ?_⟩) (fun e => nm_r (nI_1 o) ?_)
        · rw [if_pos ((mk_b1 (by omega)).mp e)] at h1
          rw [ot_r c (by omega)]
          exact nm_r (nI_add _ _) (nm_r (nI_1 o) h1)
        · rw [if_neg (fun y => e ((mk_b1 (by omega)).mpr y)), Nat.add_zero] at h1
          exact h1
  have k5 : ∀ n k r, k ≤ 2 ^ N → 2 ^ N - k < n → r ≤ 1000000 → (r < 1000000 → rx_ok N c (yx_A V ne) (yx_A V ef) (mk_m g V) (mk_m (fun v => some (b v)) V) r) → (∀ k', k' < k → rx_g N (yx_A V ne) (yx_A V ef) (mk_m g V) (fun o => bt (nI k') o) (mk_m (fun v => some (b v)) V) → r ≤ rx_s N c (fun o => bt (nI k') o)) → wY_relaxed_5 post (nI V) (nI D) (nI N) rz (ot_n c) (ot_o ne) (ot_o ef) (ot_n b) (ot_o g) (ot_n ls) (ot_n fw) (ot_n me) (ot_n bk) (ot_n bd) (ot_n rs) n (nI r) (nI k) := by
    intro n
    induction n with
    | zero => intro k r _ a; omega
    | succ n ih =>
      intro k r hk hn hr h1 h2
      rw [wY_relaxed_5, esh]
      refine pk_le (2 ^ N) k (fun hx => qd_to hr (h r ⟨hr, h1, fun C hC => ?_⟩)) (fun hx => ⟨N + 1, k20 _ r k hx hr (fun r2 a1 a2 a3 => ih (k + 1) r2 (by omega) (by omega) (by omega) (fun a4 => ?_) (fun k' a4 a5 => ?_)) (N + 1) 0 (by omega) (by omega)⟩)
      · obtain ⟨k', b1, b2⟩ := yx_bits (N := N) C hN
        have h3 := h2 k' (by omega) (rx_ge (fun o ho => (b2 o ho).symm) hC)
        rw [rx_se (fun o ho => b2 o ho)] at h3
        exact h3
      · rcases a2 with y | y
        · rw [y] at a4 ⊢; exact h1 a4
        · exact y
      · by_cases e : k' = k
        · rw [e] at a5 ⊢; exact a3 a5
        · exact Nat.le_trans a1 (h2 k' (by omega) a5)
  exact ⟨2 ^ N + 1, k5 (2 ^ N + 1) 0 1000000 (by omega) (by omega) (by omega) (fun a => by omega) (fun k' a => by omega)⟩
end YX
end
section
section QX
theorem qx_Fe {N : Nat} {c : Nat → Nat} {A A2 E E2 : Nat → Int32} {Gm S0 : Int32} {r : Nat} (ea : ∀ o, o < N → A o = A2 o) (ee : ∀ o, o < N → E o = E2 o) (h : rx_F N c A E Gm S0 r) : rx_F N c A2 E2 Gm S0 r := by
  have hg : ∀ (A A2 E E2 : Nat → Int32) (C : Nat → Bool), (∀ o, o < N → A o = A2 o) → (∀ o, o < N → E o = E2 o) → rx_g N A E Gm C S0 → rx_g N A2 E2 Gm C S0 := fun A A2 E E2 C ea ee hC S a b => hC S a (fun o ho h1 h2 => by
    rw [ea o ho] at h2
    rw [ee o ho]
    exact b o ho h1 h2)
  refine ⟨h.1, fun a => ?_, fun C hC => h.2.2 C (hg A2 A E2 E C (fun o ho => (ea o ho).symm) (fun o ho => (ee o ho).symm) hC)⟩
  obtain ⟨C, h1, h2⟩ := h.2.1 a
  exact ⟨C, hg A A2 E E2 C ea ee h1, h2⟩
theorem i_vc_relaxed {k : Nat} {u : SX} {v : SY} (I : i_Rel k u v) (hk : k + 5 ≤ 2562) : wpX_relaxed (fun r u' => wpY_relaxed (fun r' => r' = r ∧ i_Rel (k + 5) u' v) v) u := by
  refine I (fun u v => wpX_relaxed (fun r u' => wpY_relaxed (fun r' => r' = r ∧ i_Rel (k + 5) u' v) v) u) ?_
  intro V D N il mt iv hz ib br c b ne ef g sp im qu tg sg hp pl on tw ca ta ua ns es ha rz ls fw me bk bd rs F
  obtain ⟨hT, hl, hv, hbd⟩ := id F
  obtain ⟨⟨hV1, hV⟩, ⟨hD, hD4⟩, hN, hc, hb, hne, hef, hg⟩ := id hT
  unfold wpX_relaxed
  refine wl_lay hT hl (fun il sp ns es hil hL => qd_gs hT (xr_ss hT (xr_wf hN hc (fun h0 w1 w2 => ?_))))
  have F2 : re_F V D N il iv ib c b ne ef g sp tg sg on tw ns es := ⟨hT, fun _ => hL, hv, hbd⟩
  obtain ⟨n, hn⟩ : ∃ n : Nat, 120000000 < n := ⟨120000001, by omega⟩
  refine nm_e (nm_r (ot_upd' (x := 0) ca rfl rfl) (nm_r (ot_upd' (x := 0) ta rfl rfl) ⟨n, ?_⟩))
  have hT10 := rx_T10
  have hu : rx_u N es h0 ≤ 10 := Nat.le_trans (ct_le _ N) hN
  refine xn_node (S0 := mk_m (fun v => some (b v)) V) hN hc 10 0 n 0 1000000 (fun _ => false) (upd ha 0 h0) (ot_u ca 0 0) (ot_u ta 0 0) ua ?_ ?_ ot_us (fun e => absurd rfl e) (by omega) (by omega) (by omega) ?_ ?_
  · rw [pk_us]; omega
  · rw [pk_us]; exact hu
  · rw [pk_us, ot_us]
    refine ⟨?_, fun S a1 a2 => w2 S a1 (fun o ho hC => a2 o ho (Or.inr hC)), fun o _ e => nomatch e⟩
    exact Nat.le_antisymm (Nat.le_trans (sm_bd (K := 0) N (fun i _ => Nat.le_of_eq (if_neg (fun e => nomatch e)))) (by omega)) (Nat.zero_le _)
  · intro n2 R2 r2 ha2 ca2 ta2 ua2 f1 f2 f3 f4 f5 f6
    rw [pk_us, ot_us] at f6
    have hF : rx_F N c ns es (mk_m g V) (mk_m (fun v => some (b v)) V) r2 := by
      refine ⟨f4, fun a => ?_, fun C hC => ?_⟩
      · rcases f5 with y | y
        · omega
        · exact y
      · have h1 := f6 C (fun o _ _ _ => Or.inl rfl) (rx_gm w1 hC)
        have h2 := rx_r0 (N := N) (c := c) (E := es) (C := C) (h := h0)
        omega
    obtain ⟨n3, rfl⟩ : ∃ n3, n2 = n3 + 1 := ⟨n2 - 1, by omega⟩
    have hend : wX_relaxed_263 (fun r u' => wpY_relaxed (fun r' => r' = r ∧ i_Rel (k + 5) u' ((nI V), (nI D), (nI N), rz, (ot_n c), (ot_o ne), (ot_o ef), (ot_n b), (ot_o g), (ot_n ls), (ot_n fw), (ot_n me), (ot_n bk), (ot_n bd), (ot_n rs))) ((nI V), (nI D), (nI N), rz, (ot_n c), (ot_o ne), (ot_o ef), (ot_n b), (ot_o g), (ot_n ls), (ot_n fw), (ot_n me), (ot_n bk), (ot_n bd), (ot_n rs))) (nI V) (nI D) (nI (D ^ V)) (nI N) il mt iv hz ib (nI r2) (ot_n c) (ot_o ne) (ot_o ef) (ot_n b) (ot_o g) (ot_n (ot_pw V D)) (ot_o sp) (ot_n im) (ot_n qu) (ot_n tg) (ot_n sg) (ot_n hp) (ot_n pl) (ot_n on) (ot_n tw) ns es ha2 (ot_n ca2) (ot_n ta2) (ot_n ua2) := by
      refine qd_sh f4 (yx_re hT (fun r hr => ⟨?_, re_mk F2⟩))
      rw [rx_uni hr (qx_Fe hL.2.1 hL.2.2 hF)]
    exact br_c (fun _ => hend) (fun _ => br_t (show nI 0 + (-1) < 0 by decide) hend)
end QX
end
