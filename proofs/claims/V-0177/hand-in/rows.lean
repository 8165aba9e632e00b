section
/-! pure rows to paste: stores, nI and lN arithmetic, masks, shifts, narrowing, branches by naturals (pk_le, pk_lt, pk_eq), loops (lp1 .. lp16: the measure of the state; rp1 ..: recursion), negatives. Take what you need -/
theorem pk_us {f : Nat → Int32} {k : Nat} {x : Int32} : upd f k x k = x := if_pos rfl
theorem pk_un {f : Nat → Int32} {k j : Nat} {x : Int32} (h : j ≠ k) : upd f k x j = f j := if_neg h
theorem pk_uLs {f : Nat → Int64} {k : Nat} {x : Int64} : vp_updL f k x k = x := if_pos rfl
theorem pk_uLn {f : Nat → Int64} {k j : Nat} {x : Int64} (h : j ≠ k) : vp_updL f k x j = f j := if_neg h
theorem pk_sub {a b : Nat} (h : b ≤ a) : nI a - nI b = nI (a - b) := by
  obtain ⟨c, rfl⟩ : ∃ c, a = c + b := ⟨a - b, by omega⟩
  rw [← nI_add, Int32.add_sub_cancel, Nat.add_sub_cancel]
theorem pk_m1 (n : Nat) : nI (n + 1) + (-1) = nI n := by
  rw [← nI_1, Int32.add_assoc, show (1 : Int32) + (-1) = 0 from rfl, Int32.add_zero]
theorem pk_mul (a b : Nat) : nI a * nI b = nI (a * b) := (Int32.ofNat_mul a b).symm
theorem pk_div {a d : Nat} (ha : a < 2 ^ 31) (h0 : 0 < d) (hd : d < 2 ^ 31) : nI a / nI d = nI (a / d) := by
  apply Int32.toInt_inj.mp
  rw [lg_idiv_nonneg (by rw [nI_toInt ha]; omega) (by rw [nI_toInt hd]; omega), nI_toInt ha, nI_toInt hd, nI_toInt (Nat.lt_of_le_of_lt (Nat.div_le_self a d) ha)]
  first | rfl | exact (Int.natCast_ediv _ _).symm
theorem pk_rem {a d : Nat} (ha : a < 2 ^ 31) (h0 : 0 < d) (hd : d < 2 ^ 31) : nI a - nI a / nI d * nI d = nI (a % d) := by
  rw [pk_div ha h0 hd, pk_mul, pk_sub (Nat.div_mul_le_self a d)]
  exact congrArg nI (by have := Nat.div_add_mod' a d; omega)
theorem pk_sub_toInt {a b : Nat} (ha : a < 2 ^ 30) (hb : b < 2 ^ 30) : (nI a - nI b).toInt = (a : Int) - b := by
  rw [Int32.toInt_sub, nI_toInt (by omega), nI_toInt (by omega)]
  exact Int.bmod_eq_of_le (by omega) (by omega)
theorem pk_sneg {a b : Nat} (hb : b < 2 ^ 30) (h : a < b) : nI a - nI b < 0 := by
  rw [Int32.lt_iff_toInt_lt, pk_sub_toInt (by omega) hb, show (0 : Int32).toInt = 0 from by decide]
  omega
theorem pk_ix (x : Int32) {n : Nat} (hn : n < 2 ^ 31) : x < 0 ∨ nI n ≤ x ∨ ∃ j : Nat, j < n ∧ x = nI j := by
  by_cases h : x < 0
  · exact Or.inl h
  · obtain ⟨j, hj, rfl⟩ := nI_of h
    by_cases h2 : j < n
    · exact Or.inr (Or.inr ⟨j, h2, rfl⟩)
    · exact Or.inr (Or.inl (nI_le (by omega) hj))
theorem pk_le {x y : Int32} {A B : Prop} (a b : Nat) (f : a ≤ b → A) (g : b < a → B) (hx : x = nI a := by rfl) (hy : y = nI b := by rfl) (ha : a < 2 ^ 31 := by omega) (hb : b < 2 ^ 31 := by omega) : (x ≤ y → A) ∧ (¬ x ≤ y → B) := by
  subst hx hy
  rw [nI_leI ha hb]
  exact ⟨f, fun z => g (by omega)⟩
theorem pk_lt {x y : Int32} {A B : Prop} (a b : Nat) (f : a < b → A) (g : b ≤ a → B) (hx : x = nI a := by rfl) (hy : y = nI b := by rfl) (ha : a < 2 ^ 31 := by omega) (hb : b < 2 ^ 31 := by omega) : (x < y → A) ∧ (¬ x < y → B) := by
  subst hx hy
  rw [nI_ltI ha hb]
  exact ⟨f, fun z => g (by omega)⟩
theorem pk_eq {x y : Int32} {A B : Prop} (a b : Nat) (f : a = b → A) (g : a ≠ b → B) (hx : x = nI a := by rfl) (hy : y = nI b := by rfl) (ha : a < 2 ^ 31 := by omega) (hb : b < 2 ^ 31 := by omega) : (x = y → A) ∧ (¬ x = y → B) := by
  subst hx hy
  rw [nI_eq ha hb]
  exact ⟨f, g⟩
theorem pk_in {x : Int32} (n N : Nat) (h : n < N) (hx : x = nI n := by rfl) (hN : N < 2 ^ 31 := by omega) : vp_in x N := by
  subst hx
  exact vp_in_nI h hN
theorem pk_cl {x : Int32} (n : Nat) (hx : x = nI n := by rfl) (h : n < 2 ^ 31 := by omega) : x.toNatClampNeg = n := by
  subst hx
  exact nI_clamp h
theorem pk_tn {n : Nat} (h : n < 2 ^ 32) : (nI n).toBitVec.toNat = n := Nat.mod_eq_of_lt h
theorem pk_and (x : Int32) {m : Int32} (k : Nat) (hm : m.toBitVec.toNat = 2 ^ k - 1) : x &&& m = nI (x.toBitVec.toNat % 2 ^ k) := by
  apply Int32.toBitVec_inj.mp
  apply BitVec.eq_of_toNat_eq
  rw [Int32.toBitVec_and, BitVec.toNat_and, hm, Nat.and_two_pow_sub_one_eq_mod]
  show _ = (BitVec.ofNat 32 _).toNat
  rw [BitVec.toNat_ofNat]
  exact (Nat.mod_eq_of_lt (Nat.lt_of_le_of_lt (Nat.mod_le _ _) x.toBitVec.isLt)).symm
theorem pk_andN {n : Nat} (h : n < 2 ^ 32) {m : Int32} (k : Nat) (hm : m.toBitVec.toNat = 2 ^ k - 1) : nI n &&& m = nI (n % 2 ^ k) := by
  rw [pk_and _ k hm, pk_tn h]
theorem pk_andE (x : Int32) {m : Int32} (k : Nat) (hm : m.toBitVec.toNat = 2 ^ k - 1) : ∃ j : Nat, j < 2 ^ k ∧ x &&& m = nI j := ⟨_, Nat.mod_lt _ (Nat.two_pow_pos k), pk_and x k hm⟩
theorem pk_andIn (x : Int32) {m : Int32} (k : Nat) (hm : m.toBitVec.toNat = 2 ^ k - 1) (hk : k ≤ 30) : vp_in (x &&& m) (2 ^ k) := by
  obtain ⟨j, hj, e⟩ := pk_andE x k hm
  rw [e]
  exact vp_in_nI hj (Nat.lt_of_le_of_lt (Nat.pow_le_pow_right (by decide) hk) (by decide))
theorem pk_shl (a s : Int32) (k : Nat) (hs : (s.toBitVec.smod 32).toNat = k) : (a <<< s).toBitVec.toNat = a.toBitVec.toNat * 2 ^ k % 2 ^ 32 := by
  show (a.toBitVec <<< (s.toBitVec.smod 32).toNat).toNat = _
  rw [hs, BitVec.toNat_shiftLeft, Nat.shiftLeft_eq]
theorem pk_shlN {n : Nat} (s : Int32) (k : Nat) (hs : (s.toBitVec.smod 32).toNat = k) (h : n * 2 ^ k < 2 ^ 32) : nI n <<< s = nI (n * 2 ^ k) := by
  apply Int32.toBitVec_inj.mp
  apply BitVec.eq_of_toNat_eq
  have hn : n < 2 ^ 32 := Nat.lt_of_le_of_lt (Nat.le_mul_of_pos_right n (Nat.two_pow_pos k)) h
  rw [pk_shl _ _ k hs, pk_tn hn, pk_tn h, Nat.mod_eq_of_lt h]
theorem pk_shr (a s : Int32) (k : Nat) (hs : (s.toBitVec.smod 32).toNat = k) : (a >>> s).toInt = a.toInt >>> k := by
  show (a.toBitVec.sshiftRight (s.toBitVec.smod 32).toNat).toInt = _
  rw [hs, BitVec.toInt_sshiftRight]
  rfl
theorem pk_shrN {n : Nat} (h : n < 2 ^ 31) (s : Int32) (k : Nat) (hs : (s.toBitVec.smod 32).toNat = k) : nI n >>> s = nI (n / 2 ^ k) := by
  apply Int32.toInt_inj.mp
  have h2 : n / 2 ^ k ≤ n := Nat.div_le_self _ _
  rw [pk_shr _ _ k hs, nI_toInt h, nI_toInt (by omega), Int.shiftRight_eq_div_pow]
  rfl
theorem pk_ushr (x s : Int32) (k : Nat) (hs : ((s.toUInt32 &&& Int32.toUInt32 31).toBitVec % 32).toNat = k) : (x.toUInt32 >>> (s.toUInt32 &&& Int32.toUInt32 31)).toInt32.toBitVec.toNat = x.toBitVec.toNat / 2 ^ k := by
  have e : (x.toUInt32 >>> (s.toUInt32 &&& Int32.toUInt32 31)).toInt32.toBitVec = x.toBitVec >>> k := by
    rw [← hs]
    exact UInt32.toBitVec_shiftRight _ _
  rw [e, BitVec.toNat_ushiftRight, Nat.shiftRight_eq_div_pow]
theorem pk_ushrN {n : Nat} (hn : n < 2 ^ 32) (s : Int32) (k : Nat) (hs : ((s.toUInt32 &&& Int32.toUInt32 31).toBitVec % 32).toNat = k) : ((nI n).toUInt32 >>> (s.toUInt32 &&& Int32.toUInt32 31)).toInt32 = nI (n / 2 ^ k) := by
  apply Int32.toBitVec_inj.mp
  apply BitVec.eq_of_toNat_eq
  rw [pk_ushr _ s k hs, pk_tn hn, pk_tn (Nat.lt_of_le_of_lt (Nat.div_le_self _ _) hn)]
theorem pk_nb (z : Int32) : narrow .byte (.int z.toInt8.toInt32) = .int z.toInt8.toInt32 := congrArg Value.int (by simp)
theorem pk_ns (z : Int32) : narrow .short (.int z.toInt16.toInt32) = .int z.toInt16.toInt32 := congrArg Value.int (by simp)
theorem pk_fb (r : Int32) : fits .byte (.int r.toInt8.toInt32) = true := by
  have ⟨a, b⟩ := lg_i2b_range r
  have h1 : (-128 : Int32).toInt = -128 := by decide
  have h2 : (127 : Int32).toInt = 127 := by decide
  simp only [fits, Bool.and_eq_true, decide_eq_true_eq, Int32.le_iff_toInt_le, h1, h2]
  omega
theorem pk_fs (r : Int32) : fits .short (.int r.toInt16.toInt32) = true := by
  have ⟨a, b⟩ := lg_i2s_range r
  have h1 : (-32768 : Int32).toInt = -32768 := by decide
  have h2 : (32767 : Int32).toInt = 32767 := by decide
  simp only [fits, Bool.and_eq_true, decide_eq_true_eq, Int32.le_iff_toInt_le, h1, h2]
  omega
theorem pk_charN {q : Nat} (hq : q < 65536) : narrow .char (.int (nI q)) = .int (nI q) ∧ fits .char (.int (nI q)) = true := by
  constructor
  · have e : (nI q).toUInt32.toUInt16.toUInt32.toInt32 = nI q := by
      apply Int32.toBitVec_inj.mp
      apply BitVec.eq_of_toNat_eq
      show (nI q).toUInt32.toUInt16.toUInt32.toNat = q % 2 ^ 32
      rw [UInt16.toNat_toUInt32, UInt32.toNat_toUInt16, show (nI q).toUInt32.toNat = q % 2 ^ 32 from rfl]
      omega
    exact congrArg Value.int e
  · have a : (0 : Int32) ≤ nI q := nI_pos' (by omega)
    have b : nI q ≤ 65535 := nI_le (b := 65535) (by omega) (by decide)
    show (decide ((0 : Int32) ≤ nI q) && decide (nI q ≤ 65535)) = true
    rw [decide_eq_true a, decide_eq_true b]
    rfl
theorem pk_char (x : Int32) : (x.toUInt32 % 65536).toInt32 = nI (x.toBitVec.toNat % 65536) := by
  apply Int32.toBitVec_inj.mp
  apply BitVec.eq_of_toNat_eq
  rw [pk_tn (by omega)]
  show (x.toUInt32 % 65536).toNat = _
  rw [UInt32.toNat_mod]
  rfl
theorem pk_nc (x : Int32) : narrow .char (.int (x.toUInt32 % 65536).toInt32) = .int (x.toUInt32 % 65536).toInt32 := by
  rw [pk_char]
  exact (pk_charN (Nat.mod_lt _ (by decide))).1
theorem pk_fc (x : Int32) : fits .char (.int (x.toUInt32 % 65536).toInt32) = true := by
  rw [pk_char]
  exact (pk_charN (Nat.mod_lt _ (by decide))).2
theorem pk_vb (z : Int32) : vp_nar .byte z.toInt8.toInt32 = z.toInt8.toInt32 := by rw [vp_nar_byte]; simp
theorem pk_vs (z : Int32) : vp_nar .short z.toInt16.toInt32 = z.toInt16.toInt32 := by rw [vp_nar_short]; simp
theorem pk_vc (z : Int32) : vp_nar .char (z.toUInt32 % 65536).toInt32 = (z.toUInt32 % 65536).toInt32 := Value.int.inj (pk_nc z)
theorem pk_lT {n : Nat} (h : n < 2 ^ 63) : (lN n).toInt = (n : Int) := lg_ofNat_toInt h
theorem pk_lLT {a b : Nat} (ha : a < 2 ^ 63) (hb : b < 2 ^ 63) : lN a < lN b ↔ a < b := by
  rw [Int64.lt_iff_toInt_lt, pk_lT ha, pk_lT hb]; omega
theorem pk_lLE {a b : Nat} (ha : a < 2 ^ 63) (hb : b < 2 ^ 63) : lN a ≤ lN b ↔ a ≤ b := by
  rw [Int64.le_iff_toInt_le, pk_lT ha, pk_lT hb]; omega
theorem pk_lEQ {a b : Nat} (ha : a < 2 ^ 63) (hb : b < 2 ^ 63) : lN a = lN b ↔ a = b := by
  rw [← Int64.toInt_inj, pk_lT ha, pk_lT hb]; omega
theorem pk_lOf {x : Int64} (h : ¬ x < 0) : ∃ k : Nat, k < 2 ^ 63 ∧ x = lN k := by
  rw [Int64.lt_iff_toInt_lt] at h
  have h0 : (0 : Int64).toInt = 0 := by decide
  have hx := Int64.toInt_lt x
  refine ⟨x.toInt.toNat, by omega, Int64.toInt_inj.mp ?_⟩
  rw [pk_lT (by omega)]
  omega
theorem pk_lDiv {a b : Nat} (ha : a < 2 ^ 63) (h0 : 0 < b) (hb : b < 2 ^ 63) : lN a / lN b = lN (a / b) := by
  apply Int64.toInt_inj.mp
  rw [lg_ldiv_nonneg (by rw [pk_lT ha]; omega) (by rw [pk_lT hb]; omega), pk_lT ha, pk_lT hb, pk_lT (Nat.lt_of_le_of_lt (Nat.div_le_self a b) ha)]
  rfl
theorem pk_lRem {a b : Nat} (ha : a < 2 ^ 63) (h0 : 0 < b) (hb : b < 2 ^ 63) : lN a - lN a / lN b * lN b = lN (a % b) := by
  rw [pk_lDiv ha h0 hb, lN_mul, lN_sub (Nat.div_mul_le_self a b)]
  exact congrArg lN (by have := Nat.div_add_mod' a b; omega)
theorem pk_loop {σ : Type} (W : Nat → Nat → σ → Prop) (I : Nat → σ → Prop) (e i0 : Nat) (s : σ) (hi : i0 ≤ e) (h0 : I i0 s) (hx : ∀ n s, I e s → W (n + 1) e s)
    (hs : ∀ n i s, i < e → I i s → (∀ s', I (i + 1) s' → W n (i + 1) s') → W (n + 1) i s) : ∃ n, W n i0 s :=
  ⟨e + 1, loop_i W I e hx hs (e + 1) i0 s hi (by omega) h0⟩
theorem pk_loopD {σ : Type} (W : Nat → Nat → σ → Prop) (I : Nat → σ → Prop) (hx : ∀ n s, I 0 s → W (n + 1) 0 s)
    (hs : ∀ n i s, I (i + 1) s → (∀ s', I i s' → W n i s') → W (n + 1) (i + 1) s) : ∀ (e : Nat) (s : σ), I e s → W (e + 1) e s := by
  intro e
  induction e with
  | zero => exact fun s h => hx 0 s h
  | succ e ih => exact fun s h => hs (e + 1) e s h (fun s' h' => ih s' h')
theorem lp1 {A1 : Type} (W : Nat → A1 → Prop) (I : A1 → Prop) (μ : A1 → Nat) (hs : ∀ (n : Nat) (a1 : A1), I a1 → (∀ (b1 : A1), I b1 → μ b1 < μ a1 → W n b1) → W (n + 1) a1) (a1 : A1) (h : I a1) : ∃ n, W n a1 :=
  loop_m (σ := A1) (fun n s => W n s) (fun s => I s) (fun s => μ s) (fun n s hI hk => hs n s hI (fun b1 h9 hm => hk b1 h9 hm)) a1 h
theorem lp2 {A1 A2 : Type} (W : Nat → A1 → A2 → Prop) (I : A1 → A2 → Prop) (μ : A1 → A2 → Nat) (hs : ∀ (n : Nat) (a1 : A1) (a2 : A2), I a1 a2 → (∀ (b1 : A1) (b2 : A2), I b1 b2 → μ b1 b2 < μ a1 a2 → W n b1 b2) → W (n + 1) a1 a2) (a1 : A1) (a2 : A2) (h : I a1 a2) : ∃ n, W n a1 a2 :=
  loop_m (σ := A1 × A2) (fun n s => W n s.1 s.2) (fun s => I s.1 s.2) (fun s => μ s.1 s.2) (fun n s hI hk => hs n s.1 s.2 hI (fun b1 b2 h9 hm => hk (b1, b2) h9 hm)) (a1, a2) h
theorem lp3 {A1 A2 A3 : Type} (W : Nat → A1 → A2 → A3 → Prop) (I : A1 → A2 → A3 → Prop) (μ : A1 → A2 → A3 → Nat) (hs : ∀ (n : Nat) (a1 : A1) (a2 : A2) (a3 : A3), I a1 a2 a3 → (∀ (b1 : A1) (b2 : A2) (b3 : A3), I b1 b2 b3 → μ b1 b2 b3 < μ a1 a2 a3 → W n b1 b2 b3) → W (n + 1) a1 a2 a3) (a1 : A1) (a2 : A2) (a3 : A3) (h : I a1 a2 a3) : ∃ n, W n a1 a2 a3 :=
  loop_m (σ := A1 × A2 × A3) (fun n s => W n s.1 s.2.1 s.2.2) (fun s => I s.1 s.2.1 s.2.2) (fun s => μ s.1 s.2.1 s.2.2) (fun n s hI hk => hs n s.1 s.2.1 s.2.2 hI (fun b1 b2 b3 h9 hm => hk (b1, b2, b3) h9 hm)) (a1, a2, a3) h
theorem lp4 {A1 A2 A3 A4 : Type} (W : Nat → A1 → A2 → A3 → A4 → Prop) (I : A1 → A2 → A3 → A4 → Prop) (μ : A1 → A2 → A3 → A4 → Nat) (hs : ∀ (n : Nat) (a1 : A1) (a2 : A2) (a3 : A3) (a4 : A4), I a1 a2 a3 a4 → (∀ (b1 : A1) (b2 : A2) (b3 : A3) (b4 : A4), I b1 b2 b3 b4 → μ b1 b2 b3 b4 < μ a1 a2 a3 a4 → W n b1 b2 b3 b4) → W (n + 1) a1 a2 a3 a4) (a1 : A1) (a2 : A2) (a3 : A3) (a4 : A4) (h : I a1 a2 a3 a4) : ∃ n, W n a1 a2 a3 a4 :=
  loop_m (σ := A1 × A2 × A3 × A4) (fun n s => W n s.1 s.2.1 s.2.2.1 s.2.2.2) (fun s => I s.1 s.2.1 s.2.2.1 s.2.2.2) (fun s => μ s.1 s.2.1 s.2.2.1 s.2.2.2) (fun n s hI hk => hs n s.1 s.2.1 s.2.2.1 s.2.2.2 hI (fun b1 b2 b3 b4 h9 hm => hk (b1, b2, b3, b4) h9 hm)) (a1, a2, a3, a4) h
theorem lp5 {A1 A2 A3 A4 A5 : Type} (W : Nat → A1 → A2 → A3 → A4 → A5 → Prop) (I : A1 → A2 → A3 → A4 → A5 → Prop) (μ : A1 → A2 → A3 → A4 → A5 → Nat) (hs : ∀ (n : Nat) (a1 : A1) (a2 : A2) (a3 : A3) (a4 : A4) (a5 : A5), I a1 a2 a3 a4 a5 → (∀ (b1 : A1) (b2 : A2) (b3 : A3) (b4 : A4) (b5 : A5), I b1 b2 b3 b4 b5 → μ b1 b2 b3 b4 b5 < μ a1 a2 a3 a4 a5 → W n b1 b2 b3 b4 b5) → W (n + 1) a1 a2 a3 a4 a5) (a1 : A1) (a2 : A2) (a3 : A3) (a4 : A4) (a5 : A5) (h : I a1 a2 a3 a4 a5) : ∃ n, W n a1 a2 a3 a4 a5 :=
  loop_m (σ := A1 × A2 × A3 × A4 × A5) (fun n s => W n s.1 s.2.1 s.2.2.1 s.2.2.2.1 s.2.2.2.2) (fun s => I s.1 s.2.1 s.2.2.1 s.2.2.2.1 s.2.2.2.2) (fun s => μ s.1 s.2.1 s.2.2.1 s.2.2.2.1 s.2.2.2.2) (fun n s hI hk => hs n s.1 s.2.1 s.2.2.1 s.2.2.2.1 s.2.2.2.2 hI (fun b1 b2 b3 b4 b5 h9 hm => hk (b1, b2, b3, b4, b5) h9 hm)) (a1, a2, a3, a4, a5) h
theorem lp6 {A1 A2 A3 A4 A5 A6 : Type} (W : Nat → A1 → A2 → A3 → A4 → A5 → A6 → Prop) (I : A1 → A2 → A3 → A4 → A5 → A6 → Prop) (μ : A1 → A2 → A3 → A4 → A5 → A6 → Nat) (hs : ∀ (n : Nat) (a1 : A1) (a2 : A2) (a3 : A3) (a4 : A4) (a5 : A5) (a6 : A6), I a1 a2 a3 a4 a5 a6 → (∀ (b1 : A1) (b2 : A2) (b3 : A3) (b4 : A4) (b5 : A5) (b6 : A6), I b1 b2 b3 b4 b5 b6 → μ b1 b2 b3 b4 b5 b6 < μ a1 a2 a3 a4 a5 a6 → W n b1 b2 b3 b4 b5 b6) → W (n + 1) a1 a2 a3 a4 a5 a6) (a1 : A1) (a2 : A2) (a3 : A3) (a4 : A4) (a5 : A5) (a6 : A6) (h : I a1 a2 a3 a4 a5 a6) : ∃ n, W n a1 a2 a3 a4 a5 a6 :=
  loop_m (σ := A1 × A2 × A3 × A4 × A5 × A6) (fun n s => W n s.1 s.2.1 s.2.2.1 s.2.2.2.1 s.2.2.2.2.1 s.2.2.2.2.2) (fun s => I s.1 s.2.1 s.2.2.1 s.2.2.2.1 s.2.2.2.2.1 s.2.2.2.2.2) (fun s => μ s.1 s.2.1 s.2.2.1 s.2.2.2.1 s.2.2.2.2.1 s.2.2.2.2.2) (fun n s hI hk => hs n s.1 s.2.1 s.2.2.1 s.2.2.2.1 s.2.2.2.2.1 s.2.2.2.2.2 hI (fun b1 b2 b3 b4 b5 b6 h9 hm => hk (b1, b2, b3, b4, b5, b6) h9 hm)) (a1, a2, a3, a4, a5, a6) h
theorem lp7 {A1 A2 A3 A4 A5 A6 A7 : Type} (W : Nat → A1 → A2 → A3 → A4 → A5 → A6 → A7 → Prop) (I : A1 → A2 → A3 → A4 → A5 → A6 → A7 → Prop) (μ : A1 → A2 → A3 → A4 → A5 → A6 → A7 → Nat) (hs : ∀ (n : Nat) (a1 : A1) (a2 : A2) (a3 : A3) (a4 : A4) (a5 : A5) (a6 : A6) (a7 : A7), I a1 a2 a3 a4 a5 a6 a7 → (∀ (b1 : A1) (b2 : A2) (b3 : A3) (b4 : A4) (b5 : A5) (b6 : A6) (b7 : A7), I b1 b2 b3 b4 b5 b6 b7 → μ b1 b2 b3 b4 b5 b6 b7 < μ a1 a2 a3 a4 a5 a6 a7 → W n b1 b2 b3 b4 b5 b6 b7) → W (n + 1) a1 a2 a3 a4 a5 a6 a7) (a1 : A1) (a2 : A2) (a3 : A3) (a4 : A4) (a5 : A5) (a6 : A6) (a7 : A7) (h : I a1 a2 a3 a4 a5 a6 a7) : ∃ n, W n a1 a2 a3 a4 a5 a6 a7 :=
  loop_m (σ := A1 × A2 × A3 × A4 × A5 × A6 × A7) (fun n s => W n s.1 s.2.1 s.2.2.1 s.2.2.2.1 s.2.2.2.2.1 s.2.2.2.2.2.1 s.2.2.2.2.2.2) (fun s => I s.1 s.2.1 s.2.2.1 s.2.2.2.1 s.2.2.2.2.1 s.2.2.2.2.2.1 s.2.2.2.2.2.2) (fun s => μ s.1 s.2.1 s.2.2.1 s.2.2.2.1 s.2.2.2.2.1 s.2.2.2.2.2.1 s.2.2.2.2.2.2) (fun n s hI hk => hs n s.1 s.2.1 s.2.2.1 s.2.2.2.1 s.2.2.2.2.1 s.2.2.2.2.2.1 s.2.2.2.2.2.2 hI (fun b1 b2 b3 b4 b5 b6 b7 h9 hm => hk (b1, b2, b3, b4, b5, b6, b7) h9 hm)) (a1, a2, a3, a4, a5, a6, a7) h
theorem lp8 {A1 A2 A3 A4 A5 A6 A7 A8 : Type} (W : Nat → A1 → A2 → A3 → A4 → A5 → A6 → A7 → A8 → Prop) (I : A1 → A2 → A3 → A4 → A5 → A6 → A7 → A8 → Prop) (μ : A1 → A2 → A3 → A4 → A5 → A6 → A7 → A8 → Nat) (hs : ∀ (n : Nat) (a1 : A1) (a2 : A2) (a3 : A3) (a4 : A4) (a5 : A5) (a6 : A6) (a7 : A7) (a8 : A8), I a1 a2 a3 a4 a5 a6 a7 a8 → (∀ (b1 : A1) (b2 : A2) (b3 : A3) (b4 : A4) (b5 : A5) (b6 : A6) (b7 : A7) (b8 : A8), I b1 b2 b3 b4 b5 b6 b7 b8 → μ b1 b2 b3 b4 b5 b6 b7 b8 < μ a1 a2 a3 a4 a5 a6 a7 a8 → W n b1 b2 b3 b4 b5 b6 b7 b8) → W (n + 1) a1 a2 a3 a4 a5 a6 a7 a8) (a1 : A1) (a2 : A2) (a3 : A3) (a4 : A4) (a5 : A5) (a6 : A6) (a7 : A7) (a8 : A8) (h : I a1 a2 a3 a4 a5 a6 a7 a8) : ∃ n, W n a1 a2 a3 a4 a5 a6 a7 a8 :=
  loop_m (σ := A1 × A2 × A3 × A4 × A5 × A6 × A7 × A8) (fun n s => W n s.1 s.2.1 s.2.2.1 s.2.2.2.1 s.2.2.2.2.1 s.2.2.2.2.2.1 s.2.2.2.2.2.2.1 s.2.2.2.2.2.2.2) (fun s => I s.1 s.2.1 s.2.2.1 s.2.2.2.1 s.2.2.2.2.1 s.2.2.2.2.2.1 s.2.2.2.2.2.2.1 s.2.2.2.2.2.2.2) (fun s => μ s.1 s.2.1 s.2.2.1 s.2.2.2.1 s.2.2.2.2.1 s.2.2.2.2.2.1 s.2.2.2.2.2.2.1 s.2.2.2.2.2.2.2) (fun n s hI hk => hs n s.1 s.2.1 s.2.2.1 s.2.2.2.1 s.2.2.2.2.1 s.2.2.2.2.2.1 s.2.2.2.2.2.2.1 s.2.2.2.2.2.2.2 hI (fun b1 b2 b3 b4 b5 b6 b7 b8 h9 hm => hk (b1, b2, b3, b4, b5, b6, b7, b8) h9 hm)) (a1, a2, a3, a4, a5, a6, a7, a8) h
theorem lp9 {A1 A2 A3 A4 A5 A6 A7 A8 A9 : Type} (W : Nat → A1 → A2 → A3 → A4 → A5 → A6 → A7 → A8 → A9 → Prop) (I : A1 → A2 → A3 → A4 → A5 → A6 → A7 → A8 → A9 → Prop) (μ : A1 → A2 → A3 → A4 → A5 → A6 → A7 → A8 → A9 → Nat) (hs : ∀ (n : Nat) (a1 : A1) (a2 : A2) (a3 : A3) (a4 : A4) (a5 : A5) (a6 : A6) (a7 : A7) (a8 : A8) (a9 : A9), I a1 a2 a3 a4 a5 a6 a7 a8 a9 → (∀ (b1 : A1) (b2 : A2) (b3 : A3) (b4 : A4) (b5 : A5) (b6 : A6) (b7 : A7) (b8 : A8) (b9 : A9), I b1 b2 b3 b4 b5 b6 b7 b8 b9 → μ b1 b2 b3 b4 b5 b6 b7 b8 b9 < μ a1 a2 a3 a4 a5 a6 a7 a8 a9 → W n b1 b2 b3 b4 b5 b6 b7 b8 b9) → W (n + 1) a1 a2 a3 a4 a5 a6 a7 a8 a9) (a1 : A1) (a2 : A2) (a3 : A3) (a4 : A4) (a5 : A5) (a6 : A6) (a7 : A7) (a8 : A8) (a9 : A9) (h : I a1 a2 a3 a4 a5 a6 a7 a8 a9) : ∃ n, W n a1 a2 a3 a4 a5 a6 a7 a8 a9 :=
  loop_m (σ := A1 × A2 × A3 × A4 × A5 × A6 × A7 × A8 × A9) (fun n s => W n s.1 s.2.1 s.2.2.1 s.2.2.2.1 s.2.2.2.2.1 s.2.2.2.2.2.1 s.2.2.2.2.2.2.1 s.2.2.2.2.2.2.2.1 s.2.2.2.2.2.2.2.2) (fun s => I s.1 s.2.1 s.2.2.1 s.2.2.2.1 s.2.2.2.2.1 s.2.2.2.2.2.1 s.2.2.2.2.2.2.1 s.2.2.2.2.2.2.2.1 s.2.2.2.2.2.2.2.2) (fun s => μ s.1 s.2.1 s.2.2.1 s.2.2.2.1 s.2.2.2.2.1 s.2.2.2.2.2.1 s.2.2.2.2.2.2.1 s.2.2.2.2.2.2.2.1 s.2.2.2.2.2.2.2.2) (fun n s hI hk => hs n s.1 s.2.1 s.2.2.1 s.2.2.2.1 s.2.2.2.2.1 s.2.2.2.2.2.1 s.2.2.2.2.2.2.1 s.2.2.2.2.2.2.2.1 s.2.2.2.2.2.2.2.2 hI (fun b1 b2 b3 b4 b5 b6 b7 b8 b9 h9 hm => hk (b1, b2, b3, b4, b5, b6, b7, b8, b9) h9 hm)) (a1, a2, a3, a4, a5, a6, a7, a8, a9) h
theorem lp10 {A1 A2 A3 A4 A5 A6 A7 A8 A9 A10 : Type} (W : Nat → A1 → A2 → A3 → A4 → A5 → A6 → A7 → A8 → A9 → A10 → Prop) (I : A1 → A2 → A3 → A4 → A5 → A6 → A7 → A8 → A9 → A10 → Prop) (μ : A1 → A2 → A3 → A4 → A5 → A6 → A7 → A8 → A9 → A10 → Nat) (hs : ∀ (n : Nat) (a1 : A1) (a2 : A2) (a3 : A3) (a4 : A4) (a5 : A5) (a6 : A6) (a7 : A7) (a8 : A8) (a9 : A9) (a10 : A10), I a1 a2 a3 a4 a5 a6 a7 a8 a9 a10 → (∀ (b1 : A1) (b2 : A2) (b3 : A3) (b4 : A4) (b5 : A5) (b6 : A6) (b7 : A7) (b8 : A8) (b9 : A9) (b10 : A10), I b1 b2 b3 b4 b5 b6 b7 b8 b9 b10 → μ b1 b2 b3 b4 b5 b6 b7 b8 b9 b10 < μ a1 a2 a3 a4 a5 a6 a7 a8 a9 a10 → W n b1 b2 b3 b4 b5 b6 b7 b8 b9 b10) → W (n + 1) a1 a2 a3 a4 a5 a6 a7 a8 a9 a10) (a1 : A1) (a2 : A2) (a3 : A3) (a4 : A4) (a5 : A5) (a6 : A6) (a7 : A7) (a8 : A8) (a9 : A9) (a10 : A10) (h : I a1 a2 a3 a4 a5 a6 a7 a8 a9 a10) : ∃ n, W n a1 a2 a3 a4 a5 a6 a7 a8 a9 a10 :=
  loop_m (σ := A1 × A2 × A3 × A4 × A5 × A6 × A7 × A8 × A9 × A10) (fun n s => W n s.1 s.2.1 s.2.2.1 s.2.2.2.1 s.2.2.2.2.1 s.2.2.2.2.2.1 s.2.2.2.2.2.2.1 s.2.2.2.2.2.2.2.1 s.2.2.2.2.2.2.2.2.1 s.2.2.2.2.2.2.2.2.2) (fun s => I s.1 s.2.1 s.2.2.1 s.2.2.2.1 s.2.2.2.2.1 s.2.2.2.2.2.1 s.2.2.2.2.2.2.1 s.2.2.2.2.2.2.2.1 s.2.2.2.2.2.2.2.2.1 s.2.2.2.2.2.2.2.2.2) (fun s => μ s.1 s.2.1 s.2.2.1 s.2.2.2.1 s.2.2.2.2.1 s.2.2.2.2.2.1 s.2.2.2.2.2.2.1 s.2.2.2.2.2.2.2.1 s.2.2.2.2.2.2.2.2.1 s.2.2.2.2.2.2.2.2.2) (fun n s hI hk => hs n s.1 s.2.1 s.2.2.1 s.2.2.2.1 s.2.2.2.2.1 s.2.2.2.2.2.1 s.2.2.2.2.2.2.1 s.2.2.2.2.2.2.2.1 s.2.2.2.2.2.2.2.2.1 s.2.2.2.2.2.2.2.2.2 hI (fun b1 b2 b3 b4 b5 b6 b7 b8 b9 b10 h9 hm => hk (b1, b2, b3, b4, b5, b6, b7, b8, b9, b10) h9 hm)) (a1, a2, a3, a4, a5, a6, a7, a8, a9, a10) h
theorem lp11 {A1 A2 A3 A4 A5 A6 A7 A8 A9 A10 A11 : Type} (W : Nat → A1 → A2 → A3 → A4 → A5 → A6 → A7 → A8 → A9 → A10 → A11 → Prop) (I : A1 → A2 → A3 → A4 → A5 → A6 → A7 → A8 → A9 → A10 → A11 → Prop) (μ : A1 → A2 → A3 → A4 → A5 → A6 → A7 → A8 → A9 → A10 → A11 → Nat) (hs : ∀ (n : Nat) (a1 : A1) (a2 : A2) (a3 : A3) (a4 : A4) (a5 : A5) (a6 : A6) (a7 : A7) (a8 : A8) (a9 : A9) (a10 : A10) (a11 : A11), I a1 a2 a3 a4 a5 a6 a7 a8 a9 a10 a11 → (∀ (b1 : A1) (b2 : A2) (b3 : A3) (b4 : A4) (b5 : A5) (b6 : A6) (b7 : A7) (b8 : A8) (b9 : A9) (b10 : A10) (b11 : A11), I b1 b2 b3 b4 b5 b6 b7 b8 b9 b10 b11 → μ b1 b2 b3 b4 b5 b6 b7 b8 b9 b10 b11 < μ a1 a2 a3 a4 a5 a6 a7 a8 a9 a10 a11 → W n b1 b2 b3 b4 b5 b6 b7 b8 b9 b10 b11) → W (n + 1) a1 a2 a3 a4 a5 a6 a7 a8 a9 a10 a11) (a1 : A1) (a2 : A2) (a3 : A3) (a4 : A4) (a5 : A5) (a6 : A6) (a7 : A7) (a8 : A8) (a9 : A9) (a10 : A10) (a11 : A11) (h : I a1 a2 a3 a4 a5 a6 a7 a8 a9 a10 a11) : ∃ n, W n a1 a2 a3 a4 a5 a6 a7 a8 a9 a10 a11 :=
  loop_m (σ := A1 × A2 × A3 × A4 × A5 × A6 × A7 × A8 × A9 × A10 × A11) (fun n s => W n s.1 s.2.1 s.2.2.1 s.2.2.2.1 s.2.2.2.2.1 s.2.2.2.2.2.1 s.2.2.2.2.2.2.1 s.2.2.2.2.2.2.2.1 s.2.2.2.2.2.2.2.2.1 s.2.2.2.2.2.2.2.2.2.1 s.2.2.2.2.2.2.2.2.2.2) (fun s => I s.1 s.2.1 s.2.2.1 s.2.2.2.1 s.2.2.2.2.1 s.2.2.2.2.2.1 s.2.2.2.2.2.2.1 s.2.2.2.2.2.2.2.1 s.2.2.2.2.2.2.2.2.1 s.2.2.2.2.2.2.2.2.2.1 s.2.2.2.2.2.2.2.2.2.2) (fun s => μ s.1 s.2.1 s.2.2.1 s.2.2.2.1 s.2.2.2.2.1 s.2.2.2.2.2.1 s.2.2.2.2.2.2.1 s.2.2.2.2.2.2.2.1 s.2.2.2.2.2.2.2.2.1 s.2.2.2.2.2.2.2.2.2.1 s.2.2.2.2.2.2.2.2.2.2) (fun n s hI hk => hs n s.1 s.2.1 s.2.2.1 s.2.2.2.1 s.2.2.2.2.1 s.2.2.2.2.2.1 s.2.2.2.2.2.2.1 s.2.2.2.2.2.2.2.1 s.2.2.2.2.2.2.2.2.1 s.2.2.2.2.2.2.2.2.2.1 s.2.2.2.2.2.2.2.2.2.2 hI (fun b1 b2 b3 b4 b5 b6 b7 b8 b9 b10 b11 h9 hm => hk (b1, b2, b3, b4, b5, b6, b7, b8, b9, b10, b11) h9 hm)) (a1, a2, a3, a4, a5, a6, a7, a8, a9, a10, a11) h
theorem lp12 {A1 A2 A3 A4 A5 A6 A7 A8 A9 A10 A11 A12 : Type} (W : Nat → A1 → A2 → A3 → A4 → A5 → A6 → A7 → A8 → A9 → A10 → A11 → A12 → Prop) (I : A1 → A2 → A3 → A4 → A5 → A6 → A7 → A8 → A9 → A10 → A11 → A12 → Prop) (μ : A1 → A2 → A3 → A4 → A5 → A6 → A7 → A8 → A9 → A10 → A11 → A12 → Nat) (hs : ∀ (n : Nat) (a1 : A1) (a2 : A2) (a3 : A3) (a4 : A4) (a5 : A5) (a6 : A6) (a7 : A7) (a8 : A8) (a9 : A9) (a10 : A10) (a11 : A11) (a12 : A12), I a1 a2 a3 a4 a5 a6 a7 a8 a9 a10 a11 a12 → (∀ (b1 : A1) (b2 : A2) (b3 : A3) (b4 : A4) (b5 : A5) (b6 : A6) (b7 : A7) (b8 : A8) (b9 : A9) (b10 : A10) (b11 : A11) (b12 : A12), I b1 b2 b3 b4 b5 b6 b7 b8 b9 b10 b11 b12 → μ b1 b2 b3 b4 b5 b6 b7 b8 b9 b10 b11 b12 < μ a1 a2 a3 a4 a5 a6 a7 a8 a9 a10 a11 a12 → W n b1 b2 b3 b4 b5 b6 b7 b8 b9 b10 b11 b12) → W (n + 1) a1 a2 a3 a4 a5 a6 a7 a8 a9 a10 a11 a12) (a1 : A1) (a2 : A2) (a3 : A3) (a4 : A4) (a5 : A5) (a6 : A6) (a7 : A7) (a8 : A8) (a9 : A9) (a10 : A10) (a11 : A11) (a12 : A12) (h : I a1 a2 a3 a4 a5 a6 a7 a8 a9 a10 a11 a12) : ∃ n, W n a1 a2 a3 a4 a5 a6 a7 a8 a9 a10 a11 a12 :=
  loop_m (σ := A1 × A2 × A3 × A4 × A5 × A6 × A7 × A8 × A9 × A10 × A11 × A12) (fun n s => W n s.1 s.2.1 s.2.2.1 s.2.2.2.1 s.2.2.2.2.1 s.2.2.2.2.2.1 s.2.2.2.2.2.2.1 s.2.2.2.2.2.2.2.1 s.2.2.2.2.2.2.2.2.1 s.2.2.2.2.2.2.2.2.2.1 s.2.2.2.2.2.2.2.2.2.2.1 s.2.2.2.2.2.2.2.2.2.2.2) (fun s => I s.1 s.2.1 s.2.2.1 s.2.2.2.1 s.2.2.2.2.1 s.2.2.2.2.2.1 s.2.2.2.2.2.2.1 s.2.2.2.2.2.2.2.1 s.2.2.2.2.2.2.2.2.1 s.2.2.2.2.2.2.2.2.2.1 s.2.2.2.2.2.2.2.2.2.2.1 s.2.2.2.2.2.2.2.2.2.2.2) (fun s => μ s.1 s.2.1 s.2.2.1 s.2.2.2.1 s.2.2.2.2.1 s.2.2.2.2.2.1 s.2.2.2.2.2.2.1 s.2.2.2.2.2.2.2.1 s.2.2.2.2.2.2.2.2.1 s.2.2.2.2.2.2.2.2.2.1 s.2.2.2.2.2.2.2.2.2.2.1 s.2.2.2.2.2.2.2.2.2.2.2) (fun n s hI hk => hs n s.1 s.2.1 s.2.2.1 s.2.2.2.1 s.2.2.2.2.1 s.2.2.2.2.2.1 s.2.2.2.2.2.2.1 s.2.2.2.2.2.2.2.1 s.2.2.2.2.2.2.2.2.1 s.2.2.2.2.2.2.2.2.2.1 s.2.2.2.2.2.2.2.2.2.2.1 s.2.2.2.2.2.2.2.2.2.2.2 hI (fun b1 b2 b3 b4 b5 b6 b7 b8 b9 b10 b11 b12 h9 hm => hk (b1, b2, b3, b4, b5, b6, b7, b8, b9, b10, b11, b12) h9 hm)) (a1, a2, a3, a4, a5, a6, a7, a8, a9, a10, a11, a12) h
theorem lp13 {A1 A2 A3 A4 A5 A6 A7 A8 A9 A10 A11 A12 A13 : Type} (W : Nat → A1 → A2 → A3 → A4 → A5 → A6 → A7 → A8 → A9 → A10 → A11 → A12 → A13 → Prop) (I : A1 → A2 → A3 → A4 → A5 → A6 → A7 → A8 → A9 → A10 → A11 → A12 → A13 → Prop) (μ : A1 → A2 → A3 → A4 → A5 → A6 → A7 → A8 → A9 → A10 → A11 → A12 → A13 → Nat) (hs : ∀ (n : Nat) (a1 : A1) (a2 : A2) (a3 : A3) (a4 : A4) (a5 : A5) (a6 : A6) (a7 : A7) (a8 : A8) (a9 : A9) (a10 : A10) (a11 : A11) (a12 : A12) (a13 : A13), I a1 a2 a3 a4 a5 a6 a7 a8 a9 a10 a11 a12 a13 → (∀ (b1 : A1) (b2 : A2) (b3 : A3) (b4 : A4) (b5 : A5) (b6 : A6) (b7 : A7) (b8 : A8) (b9 : A9) (b10 : A10) (b11 : A11) (b12 : A12) (b13 : A13), I b1 b2 b3 b4 b5 b6 b7 b8 b9 b10 b11 b12 b13 → μ b1 b2 b3 b4 b5 b6 b7 b8 b9 b10 b11 b12 b13 < μ a1 a2 a3 a4 a5 a6 a7 a8 a9 a10 a11 a12 a13 → W n b1 b2 b3 b4 b5 b6 b7 b8 b9 b10 b11 b12 b13) → W (n + 1) a1 a2 a3 a4 a5 a6 a7 a8 a9 a10 a11 a12 a13) (a1 : A1) (a2 : A2) (a3 : A3) (a4 : A4) (a5 : A5) (a6 : A6) (a7 : A7) (a8 : A8) (a9 : A9) (a10 : A10) (a11 : A11) (a12 : A12) (a13 : A13) (h : I a1 a2 a3 a4 a5 a6 a7 a8 a9 a10 a11 a12 a13) : ∃ n, W n a1 a2 a3 a4 a5 a6 a7 a8 a9 a10 a11 a12 a13 :=
  loop_m (σ := A1 × A2 × A3 × A4 × A5 × A6 × A7 × A8 × A9 × A10 × A11 × A12 × A13) (fun n s => W n s.1 s.2.1 s.2.2.1 s.2.2.2.1 s.2.2.2.2.1 s.2.2.2.2.2.1 s.2.2.2.2.2.2.1 s.2.2.2.2.2.2.2.1 s.2.2.2.2.2.2.2.2.1 s.2.2.2.2.2.2.2.2.2.1 s.2.2.2.2.2.2.2.2.2.2.1 s.2.2.2.2.2.2.2.2.2.2.2.1 s.2.2.2.2.2.2.2.2.2.2.2.2) (fun s => I s.1 s.2.1 s.2.2.1 s.2.2.2.1 s.2.2.2.2.1 s.2.2.2.2.2.1 s.2.2.2.2.2.2.1 s.2.2.2.2.2.2.2.1 s.2.2.2.2.2.2.2.2.1 s.2.2.2.2.2.2.2.2.2.1 s.2.2.2.2.2.2.2.2.2.2.1 s.2.2.2.2.2.2.2.2.2.2.2.1 s.2.2.2.2.2.2.2.2.2.2.2.2) (fun s => μ s.1 s.2.1 s.2.2.1 s.2.2.2.1 s.2.2.2.2.1 s.2.2.2.2.2.1 s.2.2.2.2.2.2.1 s.2.2.2.2.2.2.2.1 s.2.2.2.2.2.2.2.2.1 s.2.2.2.2.2.2.2.2.2.1 s.2.2.2.2.2.2.2.2.2.2.1 s.2.2.2.2.2.2.2.2.2.2.2.1 s.2.2.2.2.2.2.2.2.2.2.2.2) (fun n s hI hk => hs n s.1 s.2.1 s.2.2.1 s.2.2.2.1 s.2.2.2.2.1 s.2.2.2.2.2.1 s.2.2.2.2.2.2.1 s.2.2.2.2.2.2.2.1 s.2.2.2.2.2.2.2.2.1 s.2.2.2.2.2.2.2.2.2.1 s.2.2.2.2.2.2.2.2.2.2.1 s.2.2.2.2.2.2.2.2.2.2.2.1 s.2.2.2.2.2.2.2.2.2.2.2.2 hI (fun b1 b2 b3 b4 b5 b6 b7 b8 b9 b10 b11 b12 b13 h9 hm => hk (b1, b2, b3, b4, b5, b6, b7, b8, b9, b10, b11, b12, b13) h9 hm)) (a1, a2, a3, a4, a5, a6, a7, a8, a9, a10, a11, a12, a13) h
theorem lp14 {A1 A2 A3 A4 A5 A6 A7 A8 A9 A10 A11 A12 A13 A14 : Type} (W : Nat → A1 → A2 → A3 → A4 → A5 → A6 → A7 → A8 → A9 → A10 → A11 → A12 → A13 → A14 → Prop) (I : A1 → A2 → A3 → A4 → A5 → A6 → A7 → A8 → A9 → A10 → A11 → A12 → A13 → A14 → Prop) (μ : A1 → A2 → A3 → A4 → A5 → A6 → A7 → A8 → A9 → A10 → A11 → A12 → A13 → A14 → Nat) (hs : ∀ (n : Nat) (a1 : A1) (a2 : A2) (a3 : A3) (a4 : A4) (a5 : A5) (a6 : A6) (a7 : A7) (a8 : A8) (a9 : A9) (a10 : A10) (a11 : A11) (a12 : A12) (a13 : A13) (a14 : A14), I a1 a2 a3 a4 a5 a6 a7 a8 a9 a10 a11 a12 a13 a14 → (∀ (b1 : A1) (b2 : A2) (b3 : A3) (b4 : A4) (b5 : A5) (b6 : A6) (b7 : A7) (b8 : A8) (b9 : A9) (b10 : A10) (b11 : A11) (b12 : A12) (b13 : A13) (b14 : A14), I b1 b2 b3 b4 b5 b6 b7 b8 b9 b10 b11 b12 b13 b14 → μ b1 b2 b3 b4 b5 b6 b7 b8 b9 b10 b11 b12 b13 b14 < μ a1 a2 a3 a4 a5 a6 a7 a8 a9 a10 a11 a12 a13 a14 → W n b1 b2 b3 b4 b5 b6 b7 b8 b9 b10 b11 b12 b13 b14) → W (n + 1) a1 a2 a3 a4 a5 a6 a7 a8 a9 a10 a11 a12 a13 a14) (a1 : A1) (a2 : A2) (a3 : A3) (a4 : A4) (a5 : A5) (a6 : A6) (a7 : A7) (a8 : A8) (a9 : A9) (a10 : A10) (a11 : A11) (a12 : A12) (a13 : A13) (a14 : A14) (h : I a1 a2 a3 a4 a5 a6 a7 a8 a9 a10 a11 a12 a13 a14) : ∃ n, W n a1 a2 a3 a4 a5 a6 a7 a8 a9 a10 a11 a12 a13 a14 :=
  loop_m (σ := A1 × A2 × A3 × A4 × A5 × A6 × A7 × A8 × A9 × A10 × A11 × A12 × A13 × A14) (fun n s => W n s.1 s.2.1 s.2.2.1 s.2.2.2.1 s.2.2.2.2.1 s.2.2.2.2.2.1 s.2.2.2.2.2.2.1 s.2.2.2.2.2.2.2.1 s.2.2.2.2.2.2.2.2.1 s.2.2.2.2.2.2.2.2.2.1 s.2.2.2.2.2.2.2.2.2.2.1 s.2.2.2.2.2.2.2.2.2.2.2.1 s.2.2.2.2.2.2.2.2.2.2.2.2.1 s.2.2.2.2.2.2.2.2.2.2.2.2.2) (fun s => I s.1 s.2.1 s.2.2.1 s.2.2.2.1 s.2.2.2.2.1 s.2.2.2.2.2.1 s.2.2.2.2.2.2.1 s.2.2.2.2.2.2.2.1 s.2.2.2.2.2.2.2.2.1 s.2.2.2.2.2.2.2.2.2.1 s.2.2.2.2.2.2.2.2.2.2.1 s.2.2.2.2.2.2.2.2.2.2.2.1 s.2.2.2.2.2.2.2.2.2.2.2.2.1 s.2.2.2.2.2.2.2.2.2.2.2.2.2) (fun s => μ s.1 s.2.1 s.2.2.1 s.2.2.2.1 s.2.2.2.2.1 s.2.2.2.2.2.1 s.2.2.2.2.2.2.1 s.2.2.2.2.2.2.2.1 s.2.2.2.2.2.2.2.2.1 s.2.2.2.2.2.2.2.2.2.1 s.2.2.2.2.2.2.2.2.2.2.1 s.2.2.2.2.2.2.2.2.2.2.2.1 s.2.2.2.2.2.2.2.2.2.2.2.2.1 s.2.2.2.2.2.2.2.2.2.2.2.2.2) (fun n s hI hk => hs n s.1 s.2.1 s.2.2.1 s.2.2.2.1 s.2.2.2.2.1 s.2.2.2.2.2.1 s.2.2.2.2.2.2.1 s.2.2.2.2.2.2.2.1 s.2.2.2.2.2.2.2.2.1 s.2.2.2.2.2.2.2.2.2.1 s.2.2.2.2.2.2.2.2.2.2.1 s.2.2.2.2.2.2.2.2.2.2.2.1 s.2.2.2.2.2.2.2.2.2.2.2.2.1 s.2.2.2.2.2.2.2.2.2.2.2.2.2 hI (fun b1 b2 b3 b4 b5 b6 b7 b8 b9 b10 b11 b12 b13 b14 h9 hm => hk (b1, b2, b3, b4, b5, b6, b7, b8, b9, b10, b11, b12, b13, b14) h9 hm)) (a1, a2, a3, a4, a5, a6, a7, a8, a9, a10, a11, a12, a13, a14) h
theorem lp15 {A1 A2 A3 A4 A5 A6 A7 A8 A9 A10 A11 A12 A13 A14 A15 : Type} (W : Nat → A1 → A2 → A3 → A4 → A5 → A6 → A7 → A8 → A9 → A10 → A11 → A12 → A13 → A14 → A15 → Prop) (I : A1 → A2 → A3 → A4 → A5 → A6 → A7 → A8 → A9 → A10 → A11 → A12 → A13 → A14 → A15 → Prop) (μ : A1 → A2 → A3 → A4 → A5 → A6 → A7 → A8 → A9 → A10 → A11 → A12 → A13 → A14 → A15 → Nat) (hs : ∀ (n : Nat) (a1 : A1) (a2 : A2) (a3 : A3) (a4 : A4) (a5 : A5) (a6 : A6) (a7 : A7) (a8 : A8) (a9 : A9) (a10 : A10) (a11 : A11) (a12 : A12) (a13 : A13) (a14 : A14) (a15 : A15), I a1 a2 a3 a4 a5 a6 a7 a8 a9 a10 a11 a12 a13 a14 a15 → (∀ (b1 : A1) (b2 : A2) (b3 : A3) (b4 : A4) (b5 : A5) (b6 : A6) (b7 : A7) (b8 : A8) (b9 : A9) (b10 : A10) (b11 : A11) (b12 : A12) (b13 : A13) (b14 : A14) (b15 : A15), I b1 b2 b3 b4 b5 b6 b7 b8 b9 b10 b11 b12 b13 b14 b15 → μ b1 b2 b3 b4 b5 b6 b7 b8 b9 b10 b11 b12 b13 b14 b15 < μ a1 a2 a3 a4 a5 a6 a7 a8 a9 a10 a11 a12 a13 a14 a15 → W n b1 b2 b3 b4 b5 b6 b7 b8 b9 b10 b11 b12 b13 b14 b15) → W (n + 1) a1 a2 a3 a4 a5 a6 a7 a8 a9 a10 a11 a12 a13 a14 a15) (a1 : A1) (a2 : A2) (a3 : A3) (a4 : A4) (a5 : A5) (a6 : A6) (a7 : A7) (a8 : A8) (a9 : A9) (a10 : A10) (a11 : A11) (a12 : A12) (a13 : A13) (a14 : A14) (a15 : A15) (h : I a1 a2 a3 a4 a5 a6 a7 a8 a9 a10 a11 a12 a13 a14 a15) : ∃ n, W n a1 a2 a3 a4 a5 a6 a7 a8 a9 a10 a11 a12 a13 a14 a15 :=
  loop_m (σ := A1 × A2 × A3 × A4 × A5 × A6 × A7 × A8 × A9 × A10 × A11 × A12 × A13 × A14 × A15) (fun n s => W n s.1 s.2.1 s.2.2.1 s.2.2.2.1 s.2.2.2.2.1 s.2.2.2.2.2.1 s.2.2.2.2.2.2.1 s.2.2.2.2.2.2.2.1 s.2.2.2.2.2.2.2.2.1 s.2.2.2.2.2.2.2.2.2.1 s.2.2.2.2.2.2.2.2.2.2.1 s.2.2.2.2.2.2.2.2.2.2.2.1 s.2.2.2.2.2.2.2.2.2.2.2.2.1 s.2.2.2.2.2.2.2.2.2.2.2.2.2.1 s.2.2.2.2.2.2.2.2.2.2.2.2.2.2) (fun s => I s.1 s.2.1 s.2.2.1 s.2.2.2.1 s.2.2.2.2.1 s.2.2.2.2.2.1 s.2.2.2.2.2.2.1 s.2.2.2.2.2.2.2.1 s.2.2.2.2.2.2.2.2.1 s.2.2.2.2.2.2.2.2.2.1 s.2.2.2.2.2.2.2.2.2.2.1 s.2.2.2.2.2.2.2.2.2.2.2.1 s.2.2.2.2.2.2.2.2.2.2.2.2.1 s.2.2.2.2.2.2.2.2.2.2.2.2.2.1 s.2.2.2.2.2.2.2.2.2.2.2.2.2.2) (fun s => μ s.1 s.2.1 s.2.2.1 s.2.2.2.1 s.2.2.2.2.1 s.2.2.2.2.2.1 s.2.2.2.2.2.2.1 s.2.2.2.2.2.2.2.1 s.2.2.2.2.2.2.2.2.1 s.2.2.2.2.2.2.2.2.2.1 s.2.2.2.2.2.2.2.2.2.2.1 s.2.2.2.2.2.2.2.2.2.2.2.1 s.2.2.2.2.2.2.2.2.2.2.2.2.1 s.2.2.2.2.2.2.2.2.2.2.2.2.2.1 s.2.2.2.2.2.2.2.2.2.2.2.2.2.2) (fun n s hI hk => hs n s.1 s.2.1 s.2.2.1 s.2.2.2.1 s.2.2.2.2.1 s.2.2.2.2.2.1 s.2.2.2.2.2.2.1 s.2.2.2.2.2.2.2.1 s.2.2.2.2.2.2.2.2.1 s.2.2.2.2.2.2.2.2.2.1 s.2.2.2.2.2.2.2.2.2.2.1 s.2.2.2.2.2.2.2.2.2.2.2.1 s.2.2.2.2.2.2.2.2.2.2.2.2.1 s.2.2.2.2.2.2.2.2.2.2.2.2.2.1 s.2.2.2.2.2.2.2.2.2.2.2.2.2.2 hI (fun b1 b2 b3 b4 b5 b6 b7 b8 b9 b10 b11 b12 b13 b14 b15 h9 hm => hk (b1, b2, b3, b4, b5, b6, b7, b8, b9, b10, b11, b12, b13, b14, b15) h9 hm)) (a1, a2, a3, a4, a5, a6, a7, a8, a9, a10, a11, a12, a13, a14, a15) h
theorem lp16 {A1 A2 A3 A4 A5 A6 A7 A8 A9 A10 A11 A12 A13 A14 A15 A16 : Type} (W : Nat → A1 → A2 → A3 → A4 → A5 → A6 → A7 → A8 → A9 → A10 → A11 → A12 → A13 → A14 → A15 → A16 → Prop) (I : A1 → A2 → A3 → A4 → A5 → A6 → A7 → A8 → A9 → A10 → A11 → A12 → A13 → A14 → A15 → A16 → Prop) (μ : A1 → A2 → A3 → A4 → A5 → A6 → A7 → A8 → A9 → A10 → A11 → A12 → A13 → A14 → A15 → A16 → Nat) (hs : ∀ (n : Nat) (a1 : A1) (a2 : A2) (a3 : A3) (a4 : A4) (a5 : A5) (a6 : A6) (a7 : A7) (a8 : A8) (a9 : A9) (a10 : A10) (a11 : A11) (a12 : A12) (a13 : A13) (a14 : A14) (a15 : A15) (a16 : A16), I a1 a2 a3 a4 a5 a6 a7 a8 a9 a10 a11 a12 a13 a14 a15 a16 → (∀ (b1 : A1) (b2 : A2) (b3 : A3) (b4 : A4) (b5 : A5) (b6 : A6) (b7 : A7) (b8 : A8) (b9 : A9) (b10 : A10) (b11 : A11) (b12 : A12) (b13 : A13) (b14 : A14) (b15 : A15) (b16 : A16), I b1 b2 b3 b4 b5 b6 b7 b8 b9 b10 b11 b12 b13 b14 b15 b16 → μ b1 b2 b3 b4 b5 b6 b7 b8 b9 b10 b11 b12 b13 b14 b15 b16 < μ a1 a2 a3 a4 a5 a6 a7 a8 a9 a10 a11 a12 a13 a14 a15 a16 → W n b1 b2 b3 b4 b5 b6 b7 b8 b9 b10 b11 b12 b13 b14 b15 b16) → W (n + 1) a1 a2 a3 a4 a5 a6 a7 a8 a9 a10 a11 a12 a13 a14 a15 a16) (a1 : A1) (a2 : A2) (a3 : A3) (a4 : A4) (a5 : A5) (a6 : A6) (a7 : A7) (a8 : A8) (a9 : A9) (a10 : A10) (a11 : A11) (a12 : A12) (a13 : A13) (a14 : A14) (a15 : A15) (a16 : A16) (h : I a1 a2 a3 a4 a5 a6 a7 a8 a9 a10 a11 a12 a13 a14 a15 a16) : ∃ n, W n a1 a2 a3 a4 a5 a6 a7 a8 a9 a10 a11 a12 a13 a14 a15 a16 :=
  loop_m (σ := A1 × A2 × A3 × A4 × A5 × A6 × A7 × A8 × A9 × A10 × A11 × A12 × A13 × A14 × A15 × A16) (fun n s => W n s.1 s.2.1 s.2.2.1 s.2.2.2.1 s.2.2.2.2.1 s.2.2.2.2.2.1 s.2.2.2.2.2.2.1 s.2.2.2.2.2.2.2.1 s.2.2.2.2.2.2.2.2.1 s.2.2.2.2.2.2.2.2.2.1 s.2.2.2.2.2.2.2.2.2.2.1 s.2.2.2.2.2.2.2.2.2.2.2.1 s.2.2.2.2.2.2.2.2.2.2.2.2.1 s.2.2.2.2.2.2.2.2.2.2.2.2.2.1 s.2.2.2.2.2.2.2.2.2.2.2.2.2.2.1 s.2.2.2.2.2.2.2.2.2.2.2.2.2.2.2) (fun s => I s.1 s.2.1 s.2.2.1 s.2.2.2.1 s.2.2.2.2.1 s.2.2.2.2.2.1 s.2.2.2.2.2.2.1 s.2.2.2.2.2.2.2.1 s.2.2.2.2.2.2.2.2.1 s.2.2.2.2.2.2.2.2.2.1 s.2.2.2.2.2.2.2.2.2.2.1 s.2.2.2.2.2.2.2.2.2.2.2.1 s.2.2.2.2.2.2.2.2.2.2.2.2.1 s.2.2.2.2.2.2.2.2.2.2.2.2.2.1 s.2.2.2.2.2.2.2.2.2.2.2.2.2.2.1 s.2.2.2.2.2.2.2.2.2.2.2.2.2.2.2) (fun s => μ s.1 s.2.1 s.2.2.1 s.2.2.2.1 s.2.2.2.2.1 s.2.2.2.2.2.1 s.2.2.2.2.2.2.1 s.2.2.2.2.2.2.2.1 s.2.2.2.2.2.2.2.2.1 s.2.2.2.2.2.2.2.2.2.1 s.2.2.2.2.2.2.2.2.2.2.1 s.2.2.2.2.2.2.2.2.2.2.2.1 s.2.2.2.2.2.2.2.2.2.2.2.2.1 s.2.2.2.2.2.2.2.2.2.2.2.2.2.1 s.2.2.2.2.2.2.2.2.2.2.2.2.2.2.1 s.2.2.2.2.2.2.2.2.2.2.2.2.2.2.2) (fun n s hI hk => hs n s.1 s.2.1 s.2.2.1 s.2.2.2.1 s.2.2.2.2.1 s.2.2.2.2.2.1 s.2.2.2.2.2.2.1 s.2.2.2.2.2.2.2.1 s.2.2.2.2.2.2.2.2.1 s.2.2.2.2.2.2.2.2.2.1 s.2.2.2.2.2.2.2.2.2.2.1 s.2.2.2.2.2.2.2.2.2.2.2.1 s.2.2.2.2.2.2.2.2.2.2.2.2.1 s.2.2.2.2.2.2.2.2.2.2.2.2.2.1 s.2.2.2.2.2.2.2.2.2.2.2.2.2.2.1 s.2.2.2.2.2.2.2.2.2.2.2.2.2.2.2 hI (fun b1 b2 b3 b4 b5 b6 b7 b8 b9 b10 b11 b12 b13 b14 b15 b16 h9 hm => hk (b1, b2, b3, b4, b5, b6, b7, b8, b9, b10, b11, b12, b13, b14, b15, b16) h9 hm)) (a1, a2, a3, a4, a5, a6, a7, a8, a9, a10, a11, a12, a13, a14, a15, a16) h
theorem pk_least (P : Nat → Prop) (h : ∃ k, P k) : ∃ k, P k ∧ ∀ j, j < k → ¬ P j := by
  obtain ⟨k, hk⟩ := h
  induction k using Nat.strongRecOn with
  | ind k ih =>
    by_cases e : ∃ j, j < k ∧ P j
    · obtain ⟨j, hj, pj⟩ := e
      exact ih j hj pj
    · exact ⟨k, hk, fun j hj pj => e ⟨j, hj, pj⟩⟩
theorem rp1 {ρ A1 : Type} (W : Nat → (ρ → Prop) → A1 → Prop) (ok : A1 → Prop) (μ : A1 → Nat) (val : A1 → ρ)
    (hs : ∀ (d : Nat) (post : ρ → Prop) (a1 : A1), ok a1 → post (val a1) → (∀ (post' : ρ → Prop) (b1 : A1), ok b1 → μ b1 < μ a1 → post' (val b1) → W d post' b1) → W (d + 1) post a1) :
    ∀ (d : Nat) (post : ρ → Prop) (a1 : A1), ok a1 → μ a1 < d → post (val a1) → W d post a1 := by
  intro d
  induction d with
  | zero => intro post a1 _ h; omega
  | succ d ih =>
    intro post a1 ho hm hp
    exact hs d post a1 ho hp (fun post' b1 ho' hm' hp' => ih post' b1 ho' (by omega) hp')
theorem rp2 {ρ A1 A2 : Type} (W : Nat → (ρ → Prop) → A1 → A2 → Prop) (ok : A1 → A2 → Prop) (μ : A1 → A2 → Nat) (val : A1 → A2 → ρ)
    (hs : ∀ (d : Nat) (post : ρ → Prop) (a1 : A1) (a2 : A2), ok a1 a2 → post (val a1 a2) → (∀ (post' : ρ → Prop) (b1 : A1) (b2 : A2), ok b1 b2 → μ b1 b2 < μ a1 a2 → post' (val b1 b2) → W d post' b1 b2) → W (d + 1) post a1 a2) :
    ∀ (d : Nat) (post : ρ → Prop) (a1 : A1) (a2 : A2), ok a1 a2 → μ a1 a2 < d → post (val a1 a2) → W d post a1 a2 := by
  intro d
  induction d with
  | zero => intro post a1 a2 _ h; omega
  | succ d ih =>
    intro post a1 a2 ho hm hp
    exact hs d post a1 a2 ho hp (fun post' b1 b2 ho' hm' hp' => ih post' b1 b2 ho' (by omega) hp')
theorem rp3 {ρ A1 A2 A3 : Type} (W : Nat → (ρ → Prop) → A1 → A2 → A3 → Prop) (ok : A1 → A2 → A3 → Prop) (μ : A1 → A2 → A3 → Nat) (val : A1 → A2 → A3 → ρ)
    (hs : ∀ (d : Nat) (post : ρ → Prop) (a1 : A1) (a2 : A2) (a3 : A3), ok a1 a2 a3 → post (val a1 a2 a3) → (∀ (post' : ρ → Prop) (b1 : A1) (b2 : A2) (b3 : A3), ok b1 b2 b3 → μ b1 b2 b3 < μ a1 a2 a3 → post' (val b1 b2 b3) → W d post' b1 b2 b3) → W (d + 1) post a1 a2 a3) :
    ∀ (d : Nat) (post : ρ → Prop) (a1 : A1) (a2 : A2) (a3 : A3), ok a1 a2 a3 → μ a1 a2 a3 < d → post (val a1 a2 a3) → W d post a1 a2 a3 := by
  intro d
  induction d with
  | zero => intro post a1 a2 a3 _ h; omega
  | succ d ih =>
    intro post a1 a2 a3 ho hm hp
    exact hs d post a1 a2 a3 ho hp (fun post' b1 b2 b3 ho' hm' hp' => ih post' b1 b2 b3 ho' (by omega) hp')
theorem rp4 {ρ A1 A2 A3 A4 : Type} (W : Nat → (ρ → Prop) → A1 → A2 → A3 → A4 → Prop) (ok : A1 → A2 → A3 → A4 → Prop) (μ : A1 → A2 → A3 → A4 → Nat) (val : A1 → A2 → A3 → A4 → ρ)
    (hs : ∀ (d : Nat) (post : ρ → Prop) (a1 : A1) (a2 : A2) (a3 : A3) (a4 : A4), ok a1 a2 a3 a4 → post (val a1 a2 a3 a4) → (∀ (post' : ρ → Prop) (b1 : A1) (b2 : A2) (b3 : A3) (b4 : A4), ok b1 b2 b3 b4 → μ b1 b2 b3 b4 < μ a1 a2 a3 a4 → post' (val b1 b2 b3 b4) → W d post' b1 b2 b3 b4) → W (d + 1) post a1 a2 a3 a4) :
    ∀ (d : Nat) (post : ρ → Prop) (a1 : A1) (a2 : A2) (a3 : A3) (a4 : A4), ok a1 a2 a3 a4 → μ a1 a2 a3 a4 < d → post (val a1 a2 a3 a4) → W d post a1 a2 a3 a4 := by
  intro d
  induction d with
  | zero => intro post a1 a2 a3 a4 _ h; omega
  | succ d ih =>
    intro post a1 a2 a3 a4 ho hm hp
    exact hs d post a1 a2 a3 a4 ho hp (fun post' b1 b2 b3 b4 ho' hm' hp' => ih post' b1 b2 b3 b4 ho' (by omega) hp')
theorem rp5 {ρ A1 A2 A3 A4 A5 : Type} (W : Nat → (ρ → Prop) → A1 → A2 → A3 → A4 → A5 → Prop) (ok : A1 → A2 → A3 → A4 → A5 → Prop) (μ : A1 → A2 → A3 → A4 → A5 → Nat) (val : A1 → A2 → A3 → A4 → A5 → ρ)
    (hs : ∀ (d : Nat) (post : ρ → Prop) (a1 : A1) (a2 : A2) (a3 : A3) (a4 : A4) (a5 : A5), ok a1 a2 a3 a4 a5 → post (val a1 a2 a3 a4 a5) → (∀ (post' : ρ → Prop) (b1 : A1) (b2 : A2) (b3 : A3) (b4 : A4) (b5 : A5), ok b1 b2 b3 b4 b5 → μ b1 b2 b3 b4 b5 < μ a1 a2 a3 a4 a5 → post' (val b1 b2 b3 b4 b5) → W d post' b1 b2 b3 b4 b5) → W (d + 1) post a1 a2 a3 a4 a5) :
    ∀ (d : Nat) (post : ρ → Prop) (a1 : A1) (a2 : A2) (a3 : A3) (a4 : A4) (a5 : A5), ok a1 a2 a3 a4 a5 → μ a1 a2 a3 a4 a5 < d → post (val a1 a2 a3 a4 a5) → W d post a1 a2 a3 a4 a5 := by
  intro d
  induction d with
  | zero => intro post a1 a2 a3 a4 a5 _ h; omega
  | succ d ih =>
    intro post a1 a2 a3 a4 a5 ho hm hp
    exact hs d post a1 a2 a3 a4 a5 ho hp (fun post' b1 b2 b3 b4 b5 ho' hm' hp' => ih post' b1 b2 b3 b4 b5 ho' (by omega) hp')
theorem rp6 {ρ A1 A2 A3 A4 A5 A6 : Type} (W : Nat → (ρ → Prop) → A1 → A2 → A3 → A4 → A5 → A6 → Prop) (ok : A1 → A2 → A3 → A4 → A5 → A6 → Prop) (μ : A1 → A2 → A3 → A4 → A5 → A6 → Nat) (val : A1 → A2 → A3 → A4 → A5 → A6 → ρ)
    (hs : ∀ (d : Nat) (post : ρ → Prop) (a1 : A1) (a2 : A2) (a3 : A3) (a4 : A4) (a5 : A5) (a6 : A6), ok a1 a2 a3 a4 a5 a6 → post (val a1 a2 a3 a4 a5 a6) → (∀ (post' : ρ → Prop) (b1 : A1) (b2 : A2) (b3 : A3) (b4 : A4) (b5 : A5) (b6 : A6), ok b1 b2 b3 b4 b5 b6 → μ b1 b2 b3 b4 b5 b6 < μ a1 a2 a3 a4 a5 a6 → post' (val b1 b2 b3 b4 b5 b6) → W d post' b1 b2 b3 b4 b5 b6) → W (d + 1) post a1 a2 a3 a4 a5 a6) :
    ∀ (d : Nat) (post : ρ → Prop) (a1 : A1) (a2 : A2) (a3 : A3) (a4 : A4) (a5 : A5) (a6 : A6), ok a1 a2 a3 a4 a5 a6 → μ a1 a2 a3 a4 a5 a6 < d → post (val a1 a2 a3 a4 a5 a6) → W d post a1 a2 a3 a4 a5 a6 := by
  intro d
  induction d with
  | zero => intro post a1 a2 a3 a4 a5 a6 _ h; omega
  | succ d ih =>
    intro post a1 a2 a3 a4 a5 a6 ho hm hp
    exact hs d post a1 a2 a3 a4 a5 a6 ho hp (fun post' b1 b2 b3 b4 b5 b6 ho' hm' hp' => ih post' b1 b2 b3 b4 b5 b6 ho' (by omega) hp')
theorem rec_p {σ ρ : Type} (W : Nat → (ρ → Prop) → σ → Prop) (ok : σ → Prop) (μ : σ → Nat) (val : σ → ρ)
    (hs : ∀ d s post, ok s → post (val s) → (∀ s' post', ok s' → μ s' < μ s → post' (val s') → W d post' s') → W (d + 1) post s) :
    ∀ d s post, ok s → μ s < d → post (val s) → W d post s := by
  intro d
  induction d with
  | zero => intro s post _ h; omega
  | succ d ih =>
    intro s post ho hm hp
    exact hs d s post ho hp (fun s' post' ho' hm' hp' => ih s' post' ho' (by omega) hp')
theorem rec_q {σ ρ : Type} (W : Nat → (ρ → Prop) → σ → Prop) (ok : σ → Prop) (μ : σ → Nat) (Q : σ → ρ → Prop)
    (hs : ∀ d s post, ok s → (∀ r, Q s r → post r) → (∀ s' post', ok s' → μ s' < μ s → (∀ r, Q s' r → post' r) → W d post' s') → W (d + 1) post s) :
    ∀ d s post, ok s → μ s < d → (∀ r, Q s r → post r) → W d post s := by
  intro d
  induction d with
  | zero => intro s post _ h; omega
  | succ d ih =>
    intro s post ho hm hp
    exact hs d s post ho hp (fun s' post' ho' hm' hp' => ih s' post' ho' (by omega) hp')
def bx_sum (f : Nat → Int32) : Nat → Int32
  | 0 => 0
  | n + 1 => bx_sum f n + f n
theorem ek_u {A : Prop} {B : Nat → Prop} {k N : Nat} (hk : k < N) (h : B k) : (some k = none → A) ∧ (∀ y : Nat, some k = some y → (y < N ∧ B y)) :=
  ⟨fun z => absurd z (Option.some_ne_none k), fun _ e => (by cases e; exact ⟨hk, h⟩)⟩
theorem ek_nu {A : Prop} {B : Nat → Prop} (h : A) : ((none : Option Nat) = none → A) ∧ (∀ y : Nat, (none : Option Nat) = some y → B y) :=
  ⟨fun _ => h, fun _ e => (by cases e)⟩
theorem ek_if {c d A B : Prop} (e : c ↔ d) (f : d → A) (g : ¬ d → B) : (c → A) ∧ (¬ c → B) :=
  ⟨fun z => f (e.mp z), fun z => g (fun y => z (e.mpr y))⟩
theorem ek_v {α : Sort _} {P : α → Prop} {a b : α} (e : a = b) (h : P b) : P a := e ▸ h
theorem co_some {x : Option Nat} {A : Prop} {B : Nat → Prop} (i : Nat) (h : B i) (hx : x = some i := by rfl) : (x = none → A) ∧ (∀ y : Nat, x = some y → B y) := by
  subst hx
  exact ⟨fun e => (nomatch e), fun y e => Option.some.inj e ▸ h⟩
theorem co_none {x : Option Nat} {A : Prop} {B : Nat → Prop} (h : A) (hx : x = none := by rfl) : (x = none → A) ∧ (∀ y : Nat, x = some y → B y) := by
  subst hx
  exact ⟨fun _ => h, fun y e => (nomatch e)⟩
theorem co_any {x : Option Nat} {A : Prop} {B : Nat → Prop} (hn : x = none → A) (hs : ∀ i : Nat, x = some i → B i) : (x = none → A) ∧ (∀ y : Nat, x = some y → B y) := ⟨hn, hs⟩
theorem co_2 {P : Nat → Prop} (h0 : P 0) (h1 : P 1) {i : Nat} (hi : i < 2) : P i :=
  match i, hi with
  | 0, _ => h0
  | 1, _ => h1
theorem co_3 {P : Nat → Prop} (h0 : P 0) (h1 : P 1) (h2 : P 2) {i : Nat} (hi : i < 3) : P i :=
  match i, hi with
  | 0, _ => h0
  | 1, _ => h1
  | 2, _ => h2
theorem co_4 {P : Nat → Prop} (h0 : P 0) (h1 : P 1) (h2 : P 2) (h3 : P 3) {i : Nat} (hi : i < 4) : P i :=
  match i, hi with
  | 0, _ => h0
  | 1, _ => h1
  | 2, _ => h2
  | 3, _ => h3
theorem co_dec {N : Nat} {P : Nat → Prop} [DecidablePred P] (h : (List.range N).all (fun i => decide (P i)) = true) {i : Nat} (hi : i < N) : P i := by
  have := List.all_eq_true.mp h i (List.mem_range.mpr hi)
  exact of_decide_eq_true this
theorem co_tab {α : Type} {l : List α} {d : α} {P : α → Prop} (h : ∀ a, a ∈ l → P a) {i : Nat} (hi : i < l.length) : P (l.getD i d) := by
  rw [List.getD_eq_getElem?_getD, List.getElem?_eq_getElem hi]
  exact h _ (List.getElem_mem hi)
theorem pk_mu {x : Int32} {L : Nat} (h0 : ¬ x < 0) (h : ¬ nI L ≤ x) (hL : L < 2 ^ 31) : ∃ j : Nat, j < L ∧ x = nI j ∧ x + 1 = nI (j + 1) ∧ x.toNatClampNeg = j ∧ L - (x + 1).toNatClampNeg < L - x.toNatClampNeg := by
  obtain ⟨j, hj, rfl⟩ := nI_of h0
  have hl : j < L := Nat.not_le.mp fun q => h (nI_le q hj)
  refine ⟨j, hl, rfl, nI_1 j, nI_clamp hj, ?_⟩
  rw [nI_1, nI_clamp (by omega), nI_clamp hj]
  omega
theorem op_s {α : Type} {r : Option α} {A : Prop} {B : α → Prop} {y : α} (h : r = some y) (b : B y) : (r = none → A) ∧ ∀ z, r = some z → B z :=
  ⟨fun e => (by rw [h] at e; cases e), fun z e => (by rw [h] at e; cases e; exact b)⟩
def l_holds {α : Type} (a : Nat → Option Nat) (LP : List Nat) (p : Nat → α) (c : Nat) (b : Nat → α) : Prop :=
  ∀ j, j < c → ∃ y, a j = some y ∧ y ∈ LP ∧ p y = b j
theorem l_holds_0 {α : Type} {a : Nat → Option Nat} {LP : List Nat} {p b : Nat → α} : l_holds a LP p 0 b := fun j h => absurd h (Nat.not_lt_zero j)
theorem l_in_new (LP : List Nat) (q : Nat) : q ∈ LP ++ [q] := List.mem_append.mpr (Or.inr (List.mem_singleton.mpr rfl))
def l_sum (b : Nat → Int32) : Nat → Int32
  | 0 => 0
  | k + 1 => l_sum b k + b k
theorem sb_shr0 (x : Int32) : x >>> ((0 : Int32) &&& 31) = x := by
  rw [show ((0 : Int32) &&& 31) = 0 by decide]
  simp
theorem sb_shl0 (x : Int32) : x <<< ((0 : Int32) &&& 31) = x := by
  rw [show ((0 : Int32) &&& 31) = 0 by decide]
  simp
theorem sb_cl0 : (0 : Int32).toNatClampNeg = 0 := by decide
theorem sb_m1 {p : Nat} (h : 0 < p) : nI p + (-1) = nI (p - 1) := by
  obtain ⟨q, rfl⟩ : ∃ q, p = q + 1 := ⟨p - 1, by omega⟩
  exact pk_m1 q
def sb_b (c : Nat) : Int32 := (nI c).toInt8.toInt32
theorem sb_byte : ∀ c, c < 256 → sb_b c &&& 255 = nI c ∧ ((nI c).toUInt32 % 65536).toInt32 = nI c ∧ nI c ≤ 255 := by decide +kernel
def sb_Fit (a : Nat → Int32) : Prop := ∀ j, fits .byte (.int (a j)) = true
def sb_Lat (t : Nat → Nat) (n : Nat) (a : Nat → Int32) : Prop := ∀ j, j < n → t j < 256 ∧ a j = sb_b (t j)
theorem sb_fitB (c : Nat) : fits .byte (.int (sb_b c)) = true := pk_fb _
theorem sb_fit0 : sb_Fit (fun _ => 0) := fun _ => by
  show fits .byte (.int 0) = true
  decide
theorem sb_fitU {a : Nat → Int32} {k : Nat} {x : Int32} (h : sb_Fit a) (hx : fits .byte (.int x) = true) : sb_Fit (upd a k x) := by
  intro j
  by_cases e : j = k
  · subst e
    rw [pk_us]
    exact hx
  · rw [pk_un e]
    exact h j
def sb_cat (t : Nat → Nat) (n : Nat) (s : Nat → Nat) : Nat → Nat := fun j => if j < n then t j else s (j - n)
theorem sb_cat_lo {t s : Nat → Nat} {n j : Nat} (h : j < n) : sb_cat t n s j = t j := if_pos h
theorem sb_cat_hi {t s : Nat → Nat} {n j : Nat} : sb_cat t n s (n + j) = s j := by
  show (if n + j < n then t (n + j) else s (n + j - n)) = s j
  rw [if_neg (by omega), Nat.add_sub_cancel_left]
theorem sb_latPut {t s : Nat → Nat} {n w : Nat} {a a' : Nat → Int32} (h : sb_Lat t n a) (hk : ∀ j, j < n → a' j = a j) (hs : ∀ i, i < w → s i < 256 ∧ a' (n + i) = sb_b (s i)) : sb_Lat (sb_cat t n s) (n + w) a' := by
  intro j hj
  by_cases e : j < n
  · rw [sb_cat_lo e, hk j e]
    exact h j e
  · obtain ⟨i, rfl⟩ : ∃ i, j = n + i := ⟨j - n, by omega⟩
    rw [sb_cat_hi]
    exact hs i (by omega)
theorem sb_latKeep {t : Nat → Nat} {n : Nat} {a a' : Nat → Int32} (h : sb_Lat t n a) (hk : ∀ j, j < n → a' j = a j) : sb_Lat t n a' := fun j hj => by
  rw [hk j hj]
  exact h j hj
def sb_cap (q m : Nat) : Nat := if q ≤ m then m else if 2 * m + 2 < q then q else 2 * m + 2
def sb_Room (q m mc ms : Nat) : Prop := q ≤ m ∨ (1 ≤ mc ∧ sb_cap q m ≤ ms ∧ sb_cap q m ≤ 65536)
theorem sb_cap_ge (q m : Nat) : q ≤ sb_cap q m := by
  unfold sb_cap
  split
  · omega
  · split <;> omega
theorem sb_cap_gem (q m : Nat) : m ≤ sb_cap q m := by
  unfold sb_cap
  split
  · omega
  · split <;> omega
theorem sb_cap_le {q m mc ms : Nat} (hm : m ≤ 65536) (hr : sb_Room q m mc ms) : sb_cap q m ≤ 65536 := by
  rcases hr with h | h
  · rw [sb_cap, if_pos h]
    exact hm
  · exact h.2.2
theorem sb_at {P : Int32 → Prop} {x y : Int32} (e : x = y) (h : P y) : P x := e ▸ h
def sb_dg (w : Nat) : Nat := if w < 10 then 1 else if w < 100 then 2 else if w < 1000 then 3 else if w < 10000 then 4 else if w < 100000 then 5 else if w < 1000000 then 6 else if w < 10000000 then 7 else if w < 100000000 then 8 else if w < 1000000000 then 9 else 10
def sb_dec (v : Nat) : Nat → Nat := fun i => 48 + v / 10 ^ (sb_dg v - 1 - i) % 10
theorem sb_dg_in (w : Nat) : 1 ≤ sb_dg w ∧ sb_dg w ≤ 10 := by
  unfold sb_dg
  constructor <;> (repeat' split) <;> omega
theorem sb_dg100 {w : Nat} (h : 100 ≤ w) (hw : w < 2 ^ 31) : sb_dg w = sb_dg (w / 100) + 2 := by
  rw [sb_dg, sb_dg, if_neg (show ¬ w < 10 by omega), if_neg (show ¬ w < 100 by omega)]
  by_cases h3 : w < 1000
  · rw [if_pos h3, if_pos (show w / 100 < 10 by omega)]
  rw [if_neg h3, if_neg (show ¬ w / 100 < 10 by omega)]
  by_cases h4 : w < 10000
  · rw [if_pos h4, if_pos (show w / 100 < 100 by omega)]
  rw [if_neg h4, if_neg (show ¬ w / 100 < 100 by omega)]
  by_cases h5 : w < 100000
  · rw [if_pos h5, if_pos (show w / 100 < 1000 by omega)]
  rw [if_neg h5, if_neg (show ¬ w / 100 < 1000 by omega)]
  by_cases h6 : w < 1000000
  · rw [if_pos h6, if_pos (show w / 100 < 10000 by omega)]
  rw [if_neg h6, if_neg (show ¬ w / 100 < 10000 by omega)]
  by_cases h7 : w < 10000000
  · rw [if_pos h7, if_pos (show w / 100 < 100000 by omega)]
  rw [if_neg h7, if_neg (show ¬ w / 100 < 100000 by omega)]
  by_cases h8 : w < 100000000
  · rw [if_pos h8, if_pos (show w / 100 < 1000000 by omega)]
  rw [if_neg h8, if_neg (show ¬ w / 100 < 1000000 by omega)]
  by_cases h9 : w < 1000000000
  · rw [if_pos h9, if_pos (show w / 100 < 10000000 by omega)]
  rw [if_neg h9, if_neg (show ¬ w / 100 < 10000000 by omega)]
  rw [if_pos (show w / 100 < 100000000 by omega)]
theorem sb_negT {w : Nat} (h : w < 2 ^ 31) : (-nI w).toInt = -(w : Int) := by
  rw [Int32.toInt_neg, nI_toInt h]
  exact Int.bmod_eq_of_le (by omega) (by omega)
theorem sb_nle {a b : Nat} (ha : a < 2 ^ 31) (hb : b < 2 ^ 31) : -nI a ≤ -nI b ↔ b ≤ a := by
  rw [Int32.le_iff_toInt_le, sb_negT ha, sb_negT hb]
  omega
theorem sb_nlt {a b : Nat} (ha : a < 2 ^ 31) (hb : b < 2 ^ 31) : -nI a < -nI b ↔ b < a := by
  rw [Int32.lt_iff_toInt_lt, sb_negT ha, sb_negT hb]
  omega
theorem sb_cmp {A B : Prop} {x : Int32} (v c : Nat) (f : c ≤ v → A) (g : v < c → B) (hv : v < 2 ^ 31) (hx : x = -nI c := by rfl) (hc : c < 2 ^ 31 := by omega) : (-nI v ≤ x → A) ∧ (¬ -nI v ≤ x → B) := by
  subst hx
  rw [sb_nle hv hc]
  exact ⟨f, fun z => g (by omega)⟩
theorem sb_ndiv {w : Nat} (hw : w < 2 ^ 31) : (-nI w) / 100 = -nI (w / 100) := by
  apply Int32.toInt_inj.mp
  have h100 : (100 : Int32).toInt = 100 := by decide
  rw [Int32.toInt_div, sb_negT hw, h100, sb_negT (by omega), Int.neg_tdiv, Int.tdiv_eq_ediv_of_nonneg (by omega), Int.bmod_eq_of_le (by omega) (by omega)]
  omega
theorem sb_nrem {w : Nat} (hw : w < 2 ^ 31) : (-nI (w / 100)) * 100 - (-nI w) = nI (w % 100) := by
  have h := pk_rem (a := w) (d := 100) hw (by decide) (by decide)
  rw [pk_div hw (by decide) (by decide)] at h
  rw [← h]
  show (-nI (w / 100)) * nI 100 - (-nI w) = nI w - nI (w / 100) * nI 100
  rw [Int32.neg_mul, Int32.sub_neg, Int32.add_comm, ← Int32.sub_eq_add_neg]
end
section
/-! rows on bits, shifts and unsigned numbers, to paste: each family out of a closed proof of our own, whole with what it rests on; each by itself clean at Lean in its own claim (generation 39, form 5). Take a family whole -/
/-! ===== Int32 by its bits: bt x i ===== -/
def bt (x : Int32) (i : Nat) : Bool := x.toBitVec.getLsbD i
theorem b_ext {x y : Int32} (h : ∀ i, i < 32 → bt x i = bt y i) : x = y := Int32.toBitVec_inj.mp (BitVec.eq_of_getLsbD_eq (fun i hi => h i hi))
theorem b_or (x y : Int32) (i : Nat) : bt (x ||| y) i = (bt x i || bt y i) := by unfold bt; rw [Int32.toBitVec_or, BitVec.getLsbD_or]
theorem b_and (x y : Int32) (i : Nat) : bt (x &&& y) i = (bt x i && bt y i) := by unfold bt; rw [Int32.toBitVec_and, BitVec.getLsbD_and]
theorem b_xor (x y : Int32) (i : Nat) : bt (x ^^^ y) i = (bt x i ^^ bt y i) := by unfold bt; rw [Int32.toBitVec_xor, BitVec.getLsbD_xor]
theorem b_big {x : Int32} {i : Nat} (h : 32 ≤ i) : bt x i = false := BitVec.getLsbD_of_ge _ _ h
theorem b_255 (i : Nat) : bt 255 i = decide (i < 8) := by
  rcases Nat.lt_or_ge i 32 with h | h
  · exact (by decide +kernel : ∀ i, i < 32 → bt 255 i = decide (i < 8)) i h
  · rw [b_big h, decide_eq_false (by omega)]
theorem b_65535 (i : Nat) : bt 65535 i = decide (i < 16) := by
  rcases Nat.lt_or_ge i 32 with h | h
  · exact (by decide +kernel : ∀ i, i < 32 → bt 65535 i = decide (i < 16)) i h
  · rw [b_big h, decide_eq_false (by omega)]
theorem b_m1 : ∀ i, i < 32 → bt (-1) i = true := by decide +kernel
theorem b_0 (i : Nat) : bt 0 i = false := BitVec.getLsbD_zero
theorem s_l : ∀ n, n < 32 → ((nI n &&& 31).toBitVec.smod 32).toNat = n := by decide +kernel
theorem s_u : ∀ n, n < 32 → (((nI n).toUInt32 &&& Int32.toUInt32 31).toBitVec % 32).toNat = n := by decide +kernel
theorem b_shl (n : Nat) (hn : n < 32) (x : Int32) {i : Nat} (hi : i < 32) : bt (x <<< (nI n &&& 31)) i = (decide (n ≤ i) && bt x (i - n)) := by
  unfold bt
  rw [Int32.toBitVec_shiftLeft]
  show (x.toBitVec <<< ((nI n &&& 31).toBitVec.smod 32).toNat).getLsbD i = _
  rw [s_l n hn, BitVec.getLsbD_shiftLeft]
  rcases Nat.lt_or_ge i n with h | h
  · simp [h, Nat.not_le.mpr h]
  · simp [hi, h, Nat.not_lt.mpr h]
theorem b_ushr (n : Nat) (hn : n < 32) (x : Int32) (i : Nat) : bt ((x.toUInt32 >>> ((nI n).toUInt32 &&& Int32.toUInt32 31)).toInt32) i = bt x (n + i) := by
  show (x.toUInt32 >>> ((nI n).toUInt32 &&& Int32.toUInt32 31)).toBitVec.getLsbD i = x.toUInt32.toBitVec.getLsbD (n + i)
  rw [UInt32.toBitVec_shiftRight]
  show (x.toUInt32.toBitVec >>> (((nI n).toUInt32 &&& Int32.toUInt32 31).toBitVec % 32).toNat).getLsbD i = _
  rw [s_u n hn, BitVec.getLsbD_ushiftRight]
theorem b_sshr (n : Nat) (hn : n < 32) (x : Int32) {i : Nat} (hi : i < 32) : bt (x >>> (nI n &&& 31)) i = if n + i < 32 then bt x (n + i) else bt x 31 := by
  unfold bt
  rw [Int32.toBitVec_shiftRight]
  show (x.toBitVec.sshiftRight ((nI n &&& 31).toBitVec.smod 32).toNat).getLsbD i = _
  rw [s_l n hn, BitVec.getLsbD_sshiftRight, BitVec.msb_eq_getLsbD_last]
  simp [hi]
theorem b_shl8 (x : Int32) {i : Nat} (hi : i < 32) : bt (x <<< ((8 : Int32) &&& 31)) i = (decide (8 ≤ i) && bt x (i - 8)) := b_shl 8 (by omega) x hi
theorem b_shl16 (x : Int32) {i : Nat} (hi : i < 32) : bt (x <<< ((16 : Int32) &&& 31)) i = (decide (16 ≤ i) && bt x (i - 16)) := b_shl 16 (by omega) x hi
theorem b_shl24 (x : Int32) {i : Nat} (hi : i < 32) : bt (x <<< ((24 : Int32) &&& 31)) i = (decide (24 ≤ i) && bt x (i - 24)) := b_shl 24 (by omega) x hi
theorem b_sshr8 (x : Int32) {i : Nat} (hi : i < 32) : bt (x >>> ((8 : Int32) &&& 31)) i = if 8 + i < 32 then bt x (8 + i) else bt x 31 := b_sshr 8 (by omega) x hi
/-! ===== nI under and, xor, >>>, one bit, 65535 ===== -/
theorem nx_and (a b : Nat) : nI a &&& nI b = nI (a &&& b) := by
  apply Int32.toBitVec_inj.1
  show BitVec.ofNat 32 a &&& BitVec.ofNat 32 b = BitVec.ofNat 32 (a &&& b)
  apply BitVec.eq_of_getLsbD_eq
  intro i hi
  simp [hi]
theorem nx_xor (a b : Nat) : nI a ^^^ nI b = nI (a ^^^ b) := by
  apply Int32.toBitVec_inj.1
  show BitVec.ofNat 32 a ^^^ BitVec.ofNat 32 b = BitVec.ofNat 32 (a ^^^ b)
  apply BitVec.eq_of_getLsbD_eq
  intro i hi
  simp [hi]
theorem nx_cnt : ∀ j : Fin 32, (UInt32.ofNat j.val &&& Int32.toUInt32 31).toNat % 32 = j.val := by decide +kernel
theorem nx_ush {k j : Nat} (hk : k < 65536) (hj : j < 32) : ((nI k).toUInt32 >>> ((nI j).toUInt32 &&& Int32.toUInt32 31)).toInt32 = nI (k >>> j) := by
  have hs : k >>> j ≤ k := by
    rw [Nat.shiftRight_eq_div_pow]
    exact Nat.div_le_self _ _
  have e2 : UInt32.ofNat k >>> (UInt32.ofNat j &&& Int32.toUInt32 31) = UInt32.ofNat (k >>> j) := by
    apply UInt32.toNat_inj.1
    have h1 : (UInt32.ofNat k).toNat = k := Nat.mod_eq_of_lt (by omega)
    have h2 : (UInt32.ofNat (k >>> j)).toNat = k >>> j := Nat.mod_eq_of_lt (by omega)
    rw [UInt32.toNat_shiftRight, nx_cnt ⟨j, hj⟩, h1, h2]
  show (UInt32.ofNat k >>> (UInt32.ofNat j &&& Int32.toUInt32 31)).toInt32 = _
  rw [e2]
  rfl
theorem nx_bit {k j : Nat} (hk : k < 65536) (hj : j < 16) : (((nI k).toUInt32 >>> ((nI j).toUInt32 &&& Int32.toUInt32 31)).toInt32 &&& 1) = 0 ↔ k.testBit j = false := by
  rw [nx_ush hk (by omega)]
  show nI (k >>> j) &&& nI 1 = 0 ↔ _
  rw [nx_and, Nat.and_one_is_mod, ← nI_0, nI_eq (by omega) (by omega), Nat.testBit_eq_decide_div_mod_eq, Nat.shiftRight_eq_div_pow, decide_eq_false_iff_not]
  generalize k / 2 ^ j = z
  omega
theorem nx_mod (k : Nat) : nI k &&& 65535 = nI (k % 65536) := by
  show nI k &&& nI 65535 = _
  rw [nx_and, show (65535 : Nat) = 2 ^ 16 - 1 from rfl, Nat.and_two_pow_sub_one_eq_mod]
theorem nx_m16 {k : Nat} (h : k < 65536) : nI k &&& 65535 = nI k := by rw [nx_mod, Nat.mod_eq_of_lt h]
theorem nx_mask (x : Int32) : ∃ k, k < 65536 ∧ x &&& 65535 = nI k := by
  have e : x = nI x.toBitVec.toNat := by
    apply Int32.toBitVec_inj.1
    show x.toBitVec = BitVec.ofNat 32 x.toBitVec.toNat
    simp
  refine ⟨x.toBitVec.toNat % 65536, Nat.mod_lt _ (by omega), ?_⟩
  rw [← nx_mod, ← e]
/-! ===== Int32 as a set of bits: test, set ===== -/
def nf_M (m : Int32) : Nat := 4294967296 - m.toBitVec.toNat
theorem nf_sh : ∀ l, l < 32 → ((1 : Int32) <<< (nI l &&& 31)).toBitVec = BitVec.twoPow 32 l := by decide +kernel
theorem nf_sl : ∀ l, l < 32 → (((nI l).toUInt32 &&& Int32.toUInt32 31).toBitVec % 32).toNat = l := by decide +kernel
theorem nf_tp : ∀ l, l < 32 → BitVec.twoPow 32 l ≠ 0#32 := by decide +kernel
theorem nf_bit (m : Int32) (l : Nat) (hl : l < 32) : ((m.toUInt32 >>> ((nI l).toUInt32 &&& Int32.toUInt32 31)).toInt32 &&& 1) = 0 ↔ (m &&& ((1 : Int32) <<< (nI l &&& 31))) = 0 := by
  have e : ((m.toUInt32 >>> ((nI l).toUInt32 &&& Int32.toUInt32 31)).toInt32).toBitVec = m.toBitVec >>> l := by
    show m.toBitVec >>> (((nI l).toUInt32 &&& Int32.toUInt32 31).toBitVec % 32) = m.toBitVec >>> l
    rw [BitVec.ushiftRight_eq', nf_sl l hl]
  rw [← Int32.toBitVec_inj, ← Int32.toBitVec_inj, Int32.toBitVec_and, Int32.toBitVec_and, nf_sh l hl, e, BitVec.and_twoPow]
  show (m.toBitVec >>> l &&& 1#32) = 0#32 ↔ _ = 0#32
  rw [BitVec.and_one_eq_setWidth_ofBool_getLsbD, BitVec.getLsbD_ushiftRight, Nat.add_zero]
  cases hb : m.toBitVec.getLsbD l
  · exact ⟨fun _ => by simp, fun _ => by decide⟩
  · exact ⟨fun z => absurd z (by decide), fun z => absurd ((if_pos rfl).symm.trans z) (nf_tp l hl)⟩
theorem nf_gr (m k : Int32) (h : m &&& k = 0) (hk : k ≠ 0) : nf_M (m ||| k) < nf_M m := by
  have hm := m.toBitVec.isLt
  have hm' := (m ||| k).toBitVec.isLt
  have h1 : m.toBitVec.toNat ≤ (m ||| k).toBitVec.toNat := by
    rw [Int32.toBitVec_or, BitVec.toNat_or]
    exact Nat.left_le_or
  have h2 : m.toBitVec.toNat ≠ (m ||| k).toBitVec.toNat := by
    intro e
    have e2 : m = m ||| k := Int32.toBitVec_inj.mp (BitVec.eq_of_toNat_eq e)
    apply hk
    apply Int32.toBitVec_inj.mp
    show k.toBitVec = 0#32
    apply BitVec.eq_of_getLsbD_eq
    intro i hi
    have a : m.toBitVec.getLsbD i = (m.toBitVec.getLsbD i || k.toBitVec.getLsbD i) := by rw [← BitVec.getLsbD_or, ← Int32.toBitVec_or, ← e2]
    have b : (m.toBitVec.getLsbD i && k.toBitVec.getLsbD i) = false := by
      rw [← BitVec.getLsbD_and, ← Int32.toBitVec_and, h]
      exact BitVec.getLsbD_zero
    rw [BitVec.getLsbD_zero]
    revert a b
    cases m.toBitVec.getLsbD i <;> cases k.toBitVec.getLsbD i <;> simp
  unfold nf_M
  omega
/-! ===== a byte read unsigned ===== -/
theorem bp_b (x : Int32) : x.toInt8.toInt32 &&& 255 = x &&& 255 := by
  apply Int32.toBitVec_inj.mp
  rw [Int32.toBitVec_and, Int32.toBitVec_and, Int8.toBitVec_toInt32, Int32.toBitVec_toInt8]
  apply BitVec.eq_of_getLsbD_eq
  intro i hi
  rw [BitVec.getLsbD_and, BitVec.getLsbD_and]
  have hm : ∀ i < 32, 8 ≤ i → (255 : Int32).toBitVec.getLsbD i = false := by decide
  rcases Nat.lt_or_ge i 8 with z | z
  · rw [BitVec.getLsbD_signExtend, BitVec.getLsbD_signExtend, if_pos z, if_pos hi]
    simp only [z, hi, decide_true, Bool.true_and]
  · rw [hm i hi z]; simp
/-! ===== the char cast and 65535 ===== -/
theorem em_w (v : Int32) : ∃ w : Nat, w < 65536 ∧ (v.toUInt32 % 65536).toInt32 = nI w ∧ v &&& 65535 = nI w := by
  have hr := lw_u16_r v
  have h0 : (0 : Int32).toInt = 0 := by decide
  obtain ⟨w, h1, h2⟩ := nI_of (x := lw_u16 v) (by rw [Int32.lt_iff_toInt_lt]; omega)
  have h3 : (v.toUInt32 % 65536).toInt32 = nI w := h2
  rw [h2, nI_toInt h1] at hr
  exact ⟨w, by omega, h3, by rw [← lg_i2c_mask, ← lg_i2c_nf, h3]⟩
/-! ===== Int64 as a set of bits: test, set, clear ===== -/
theorem ts_nf {x : Bool} (h : ¬ x = false) : x = true := by cases x <;> first | rfl | exact absurd rfl h
theorem ts_nt {x : Bool} (h : ¬ x = true) : x = false := by cases x <;> first | rfl | exact absurd rfl h
theorem ts_bit {w : Int64} {s : UInt64} {j : Nat} (hj : j < 64) (hs : s.toNat = j) : ((w.toUInt64 >>> s).toInt64 &&& 1) = 0 ↔ w.toBitVec.getLsbD j = false := by
  have e : (w.toUInt64 >>> s).toInt64.toBitVec = w.toBitVec >>> j := by
    apply BitVec.eq_of_toNat_eq
    show (w.toUInt64 >>> s).toNat = _
    rw [UInt64.toNat_shiftRight, hs, Nat.mod_eq_of_lt hj, BitVec.toNat_ushiftRight]
    rfl
  rw [← Int64.toBitVec_inj, Int64.toBitVec_and, e]
  show w.toBitVec >>> j &&& 1#64 = 0#64 ↔ _
  constructor
  · intro h
    have t := congrArg (fun x => x.getLsbD 0) h
    simpa using t
  · intro h
    apply BitVec.eq_of_getLsbD_eq
    intro i hi
    cases i with
    | zero => simp [h]
    | succ i => simp
theorem ts_or {w m : Int64} {j : Nat} (hj : j < 64) (hm : m.toBitVec = BitVec.twoPow 64 j) : (w ||| m) = w ↔ w.toBitVec.getLsbD j = true := by
  rw [← Int64.toBitVec_inj, Int64.toBitVec_or, hm]
  constructor
  · intro h
    have t := congrArg (fun x => x.getLsbD j) h
    simp only [BitVec.getLsbD_or, BitVec.getLsbD_twoPow] at t
    simpa [hj] using t.symm
  · intro h
    apply BitVec.eq_of_getLsbD_eq
    intro i hi
    rw [BitVec.getLsbD_or, BitVec.getLsbD_twoPow]
    by_cases e : j = i
    · subst e; rw [h, Bool.true_or]
    · simp [e]
theorem ts_and {w m : Int64} {j : Nat} (hj : j < 64) (hm : m.toBitVec = BitVec.twoPow 64 j) : (w &&& (m ^^^ (-1))) = w ↔ w.toBitVec.getLsbD j = false := by
  have ha : (-1 : Int64).toBitVec = BitVec.allOnes 64 := by decide
  rw [← Int64.toBitVec_inj, Int64.toBitVec_and, Int64.toBitVec_xor, hm, ha]
  constructor
  · intro h
    have t := congrArg (fun x => x.getLsbD j) h
    simp only [BitVec.getLsbD_and, BitVec.getLsbD_xor, BitVec.getLsbD_twoPow, BitVec.getLsbD_allOnes] at t
    simpa [hj] using t.symm
  · intro h
    apply BitVec.eq_of_getLsbD_eq
    intro i hi
    rw [BitVec.getLsbD_and, BitVec.getLsbD_xor, BitVec.getLsbD_twoPow, BitVec.getLsbD_allOnes]
    by_cases e : j = i
    · subst e; rw [h, Bool.false_and]
    · simp [e, hi]
/-! ===== lN n to 2^64: shifts, and, or, masks, one bit ===== -/
theorem wb_tb (n : Nat) : (lN n).toBitVec = BitVec.ofNat 64 n := rfl
theorem wb_inj {a b : Int64} (h : a.toBitVec = b.toBitVec) : a = b := Int64.toBitVec_inj.mp h
theorem wb_tn {n : Nat} (h : n < 2 ^ 64) : (lN n).toBitVec.toNat = n := by rw [wb_tb, BitVec.toNat_ofNat, Nat.mod_eq_of_lt h]
theorem wb_of (x : Int64) : ∃ n, n < 2 ^ 64 ∧ x = lN n := ⟨x.toBitVec.toNat, x.toBitVec.isLt, wb_inj (by rw [wb_tb]; simp)⟩
theorem wb_of32 (x : Int32) : ∃ n, n < 2 ^ 32 ∧ x = nI n := ⟨x.toBitVec.toNat, x.toBitVec.isLt, Int32.toBitVec_inj.mp (by show _ = BitVec.ofNat 32 _; simp)⟩
theorem wb_c : ∀ k, k < 64 → ((nI k).toInt64 &&& 63) = lN k := by decide +kernel
theorem wb_cu : ∀ k, k < 64 → ((nI k).toInt64.toUInt64 &&& Int64.toUInt64 63) = UInt64.ofNat k := by decide +kernel
theorem wb_sm : ∀ k, k < 64 → (BitVec.ofNat 64 k).smod 64 = BitVec.ofNat 64 k := by decide +kernel
theorem wb_pw {a b : Nat} (h : a ≤ b) : 2 ^ b = 2 ^ a * 2 ^ (b - a) := by rw [← Nat.pow_add]; congr 1; omega
theorem wb_lt2 {a b : Nat} (h : a < b) : 2 ^ a < 2 ^ b := Nat.pow_lt_pow_right (by decide) h
theorem wb_mod (n : Nat) : lN n = lN (n % 2 ^ 64) := wb_inj (by rw [wb_tb, wb_tb]; apply BitVec.eq_of_toNat_eq; rw [BitVec.toNat_ofNat, BitVec.toNat_ofNat, Nat.mod_mod])
theorem wb_shr {n k : Nat} (hn : n < 2 ^ 64) (hk : k < 64) : ((lN n).toUInt64 >>> ((nI k).toInt64.toUInt64 &&& Int64.toUInt64 63)).toInt64 = lN (n / 2 ^ k) := by
  rw [wb_cu k hk]
  apply wb_inj
  apply BitVec.eq_of_toNat_eq
  show ((lN n).toUInt64 >>> UInt64.ofNat k).toNat = (BitVec.ofNat 64 _).toNat
  have h1 : (UInt64.ofNat k).toNat = k := by
    show (BitVec.ofNat 64 k).toNat = k
    rw [BitVec.toNat_ofNat, Nat.mod_eq_of_lt (by omega)]
  have h2 : (lN n).toUInt64.toNat = n := wb_tn hn
  rw [UInt64.toNat_shiftRight, h1, h2, Nat.mod_eq_of_lt hk, Nat.shiftRight_eq_div_pow, BitVec.toNat_ofNat, Nat.mod_eq_of_lt (Nat.lt_of_le_of_lt (Nat.div_le_self _ _) hn)]
theorem wb_shl (n : Nat) {k : Nat} (hk : k < 64) : lN n <<< ((nI k).toInt64 &&& 63) = lN (n * 2 ^ k) := by
  rw [wb_c k hk]
  apply wb_inj
  rw [Int64.toBitVec_shiftLeft, wb_tb, wb_tb, wb_tb, wb_sm k hk]
  apply BitVec.eq_of_toNat_eq
  rw [BitVec.shiftLeft_eq', BitVec.toNat_shiftLeft, BitVec.toNat_ofNat, BitVec.toNat_ofNat, BitVec.toNat_ofNat, Nat.mod_eq_of_lt (show k < 2 ^ 64 by omega), Nat.shiftLeft_eq, Nat.mul_mod, Nat.mod_mod, ← Nat.mul_mod]
theorem wb_and {a b : Nat} (ha : a < 2 ^ 64) (hb : b < 2 ^ 64) : lN a &&& lN b = lN (a &&& b) := by
  apply wb_inj
  rw [Int64.toBitVec_and, wb_tb, wb_tb, wb_tb]
  apply BitVec.eq_of_toNat_eq
  rw [BitVec.toNat_and, BitVec.toNat_ofNat, BitVec.toNat_ofNat, BitVec.toNat_ofNat, Nat.mod_eq_of_lt ha, Nat.mod_eq_of_lt hb, Nat.mod_eq_of_lt (Nat.and_lt_two_pow _ hb)]
theorem wb_or {a b : Nat} (ha : a < 2 ^ 64) (hb : b < 2 ^ 64) : lN a ||| lN b = lN (a ||| b) := by
  apply wb_inj
  rw [Int64.toBitVec_or, wb_tb, wb_tb, wb_tb]
  apply BitVec.eq_of_toNat_eq
  rw [BitVec.toNat_or, BitVec.toNat_ofNat, BitVec.toNat_ofNat, BitVec.toNat_ofNat, Nat.mod_eq_of_lt ha, Nat.mod_eq_of_lt hb, Nat.mod_eq_of_lt (Nat.or_lt_two_pow ha hb)]
theorem wb_mask {n k : Nat} (hn : n < 2 ^ 64) (hk : k < 64) : lN n &&& lN (2 ^ k - 1) = lN (n % 2 ^ k) := by
  rw [wb_and hn (by have := wb_lt2 hk; omega), Nat.and_two_pow_sub_one_eq_mod]
theorem wb_a1 {n : Nat} (hn : n < 2 ^ 64) : lN n &&& 1 = lN (n % 2) := wb_mask (k := 1) hn (by decide)
theorem wb_bit {n k : Nat} (hn : n < 2 ^ 64) (hk : k < 64) : ((lN n).toUInt64 >>> ((nI k).toInt64.toUInt64 &&& Int64.toUInt64 63)).toInt64 &&& 1 = lN (n / 2 ^ k % 2) := by
  rw [wb_shr hn hk, wb_a1 (Nat.lt_of_le_of_lt (Nat.div_le_self _ _) hn)]
theorem wb_xor {q k : Nat} (hk : k < 63) (h : 2 ^ k ≤ q) (h2 : q < 2 ^ (k + 1)) : lN q ^^^ lN (2 ^ k) = lN (q - 2 ^ k) := by
  obtain ⟨r, rfl⟩ : ∃ r, q = 2 ^ k + r := ⟨q - 2 ^ k, by omega⟩
  have hr : r < 2 ^ k := by rw [Nat.pow_succ] at h2; omega
  have hx : (2 ^ k + r) ^^^ 2 ^ k = r := by
    apply Nat.eq_of_testBit_eq
    intro i
    rw [Nat.testBit_xor, Nat.testBit_two_pow]
    rcases Nat.lt_trichotomy i k with h | h | h
    · rw [Nat.testBit_two_pow_add_gt h]
      simp [show ¬ k = i by omega]
    · subst h
      rw [Nat.testBit_two_pow_add_eq]
      simp
    · have a1 : 2 ^ (k + 1) ≤ 2 ^ i := Nat.pow_le_pow_right (by decide) h
      rw [Nat.testBit_lt_two_pow (show 2 ^ k + r < 2 ^ i by omega), Nat.testBit_lt_two_pow (show r < 2 ^ i by omega)]
      simp [show ¬ k = i by omega]
  have b1 := wb_lt2 (show k + 1 < 64 by omega)
  have b2 := wb_lt2 (show k < 64 by omega)
  apply wb_inj
  rw [Int64.toBitVec_xor, wb_tb, wb_tb, wb_tb]
  apply BitVec.eq_of_toNat_eq
  rw [BitVec.toNat_xor, BitVec.toNat_ofNat, BitVec.toNat_ofNat, BitVec.toNat_ofNat, Nat.mod_eq_of_lt (by omega : 2 ^ k + r < 2 ^ 64), Nat.mod_eq_of_lt b2, hx, Nat.add_sub_cancel_left, Nat.mod_eq_of_lt (by omega)]
/-! ===== lN: masks, 'or' of parts that don't overlap is a sum ===== -/
theorem u_tn {n : Nat} (h : n < 2 ^ 64) : (UInt64.ofNat n).toNat = n := Nat.mod_eq_of_lt h
theorem g_and {a b c : Nat} (ha : a < 2 ^ 64) (hb : b < 2 ^ 64) (hc : a &&& b = c) : lN a &&& lN b = lN c := by
  subst hc
  have h : UInt64.ofNat a &&& UInt64.ofNat b = UInt64.ofNat (a &&& b) := UInt64.toNat_inj.mp (by rw [UInt64.toNat_and, u_tn ha, u_tn hb, u_tn (Nat.and_lt_two_pow a hb)])
  have h2 := congrArg UInt64.toInt64 h
  exact h2
theorem g_and1 {a : Nat} (ha : a < 2 ^ 64) : lN a &&& 1 = lN (a % 2) := g_and (b := 1) ha (by decide) (Nat.and_two_pow_sub_one_eq_mod a 1)
theorem g_mask {a s p : Nat} (hp : 2 ^ s = p) (hs : s < 64) (ha : a < 2 ^ 64) : lN a &&& lN (p - 1) = lN (a % p) := by
  subst hp
  have := Nat.pow_lt_pow_right (show 1 < 2 by decide) hs
  exact g_and ha (by omega) (Nat.and_two_pow_sub_one_eq_mod a s)
theorem g_or {k p a b : Nat} (hp : 2 ^ k = p) (ha : a < p) (h : b * p + a < 2 ^ 64) : lN (b * p) ||| lN a = lN (b * p + a) := by
  subst hp
  have h1 : b * 2 ^ k ||| a = b * 2 ^ k + a := by rw [← Nat.shiftLeft_eq, Nat.shiftLeft_add_eq_or_of_lt ha]
  have h3 : UInt64.ofNat (b * 2 ^ k) ||| UInt64.ofNat a = UInt64.ofNat (b * 2 ^ k + a) := UInt64.toNat_inj.mp (by rw [UInt64.toNat_or, u_tn (by omega), u_tn (by omega), u_tn h, h1])
  have h2 := congrArg UInt64.toInt64 h3
  exact h2
theorem g_or' {k p a b : Nat} (hp : 2 ^ k = p) (ha : a < p) (h : a + b * p < 2 ^ 64) : lN a ||| lN (b * p) = lN (a + b * p) := by
  rw [Int64.or_comm, g_or hp ha (by omega), Nat.add_comm]
theorem g_ushr {a k p : Nat} {y : UInt64} (hy : y = UInt64.ofNat k) (hk : k < 64) (hp : 2 ^ k = p) (ha : a < 2 ^ 64) : ((lN a).toUInt64 >>> y).toInt64 = lN (a / p) := by
  subst hy hp
  have h : UInt64.ofNat a >>> UInt64.ofNat k = UInt64.ofNat (a / 2 ^ k) := UInt64.toNat_inj.mp (by rw [UInt64.toNat_shiftRight, u_tn ha, u_tn (by omega), u_tn (Nat.lt_of_le_of_lt (Nat.div_le_self _ _) ha), Nat.mod_eq_of_lt hk, Nat.shiftRight_eq_div_pow])
  have h2 := congrArg UInt64.toInt64 h
  exact h2
theorem g_shl {a k p : Nat} {y : Int64} (hy : y.toBitVec.smod 64 = BitVec.ofNat 64 k) (hk : k < 64) (hp : 2 ^ k = p) (ha : a < 2 ^ 64) : lN a <<< y = lN (a * p) := by
  subst hp
  apply Int64.toBitVec_inj.mp
  rw [Int64.toBitVec_shiftLeft, hy]
  apply BitVec.eq_of_toNat_eq
  have hb : (lN a).toBitVec.toNat = a := Nat.mod_eq_of_lt ha
  have hk' : (BitVec.ofNat 64 k).toNat = k := Nat.mod_eq_of_lt (by omega)
  have h : ((lN a).toBitVec <<< BitVec.ofNat 64 k).toNat = (a * 2 ^ k) % 2 ^ 64 := by simp only [BitVec.shiftLeft_eq', BitVec.toNat_shiftLeft, hb, hk', Nat.shiftLeft_eq]
  exact h
/-! ===== lN to 2^62 under >> and >>> ===== -/
theorem pf_lI {a : Nat} (h : a < 2 ^ 63) : (lN a).toInt = (a : Int) := lg_ofNat_toInt h
theorem pf_shr {a d : Nat} {D : Int64} (hD : (D.toBitVec.smod 64).toNat = d) (h : a < 2 ^ 62) : lN a >>> D = lN (a / 2 ^ d) := by
  have hd : a / 2 ^ d ≤ a := Nat.div_le_self _ _
  apply Int64.toInt_inj.mp
  have e : (lN a >>> D).toInt = (lN a).toInt >>> d := by
    rw [← hD]
    exact BitVec.toInt_sshiftRight ..
  rw [e, Int.shiftRight_eq_div_pow, pf_lI (by omega), pf_lI (by omega)]
  rfl
theorem pf_ushr {a d : Nat} {D : UInt64} (hD : D.toNat % 64 = d) (h : a < 2 ^ 62) : ((lN a).toUInt64 >>> D).toInt64 = lN (a / 2 ^ d) := by
  have hd : a / 2 ^ d ≤ a := Nat.div_le_self _ _
  have e : (lN a).toUInt64 >>> D = UInt64.ofNat (a / 2 ^ d) := UInt64.toNat_inj.mp (by
    rw [UInt64.toNat_shiftRight, hD, Nat.shiftRight_eq_div_pow, UInt64.toNat_ofNat']
    show (UInt64.ofNat a).toNat / 2 ^ d = _
    rw [UInt64.toNat_ofNat', Nat.mod_eq_of_lt (by omega), Nat.mod_eq_of_lt (by omega)])
  rw [e]
  rfl
theorem pf_andw (x : Int64) : ∃ m, m < 2 ^ 32 ∧ x &&& 4294967295 = lN m := ⟨x.toBitVec.toNat % 2 ^ 32, Nat.mod_lt _ (by decide), Int64.toBitVec_inj.mp (BitVec.eq_of_toNat_eq (by
  show (x.toBitVec &&& 4294967295#64).toNat = (BitVec.ofNat 64 (x.toBitVec.toNat % 2 ^ 32)).toNat
  rw [BitVec.toNat_and, show (4294967295#64).toNat = 2 ^ 32 - 1 from by decide, Nat.and_two_pow_sub_one_eq_mod, BitVec.toNat_ofNat]
  omega))⟩
/-! ===== Int64 as an unsigned number: uN x ===== -/
def uN (x : Int64) : Nat := x.toUInt64.toNat
theorem uN_lt (x : Int64) : uN x < 18446744073709551616 := x.toUInt64.toNat_lt
theorem uN_inj {x y : Int64} (h : uN x = uN y) : x = y := congrArg UInt64.toInt64 (UInt64.toNat_inj.mp h)
theorem uN_add (x y : Int64) : uN (x + y) = (uN x + uN y) % 18446744073709551616 := by
  show (x.toUInt64 + y.toUInt64).toNat = _
  exact UInt64.toNat_add _ _
theorem uN_mul (x y : Int64) : uN (x * y) = (uN x * uN y) % 18446744073709551616 := by
  show (x.toUInt64 * y.toUInt64).toNat = _
  exact UInt64.toNat_mul _ _
theorem uN_shl (x : Int64) : uN (x <<< ((1 : Int32).toInt64 &&& 63)) = (2 * uN x) % 18446744073709551616 := by
  have h : (((1 : Int32).toInt64 &&& 63).toBitVec.smod 64).toNat = 1 := by decide
  show (x.toBitVec <<< (((1 : Int32).toInt64 &&& 63).toBitVec.smod 64).toNat).toNat = _
  rw [h, BitVec.toNat_shiftLeft, Nat.shiftLeft_eq, Nat.mul_comm]
  rfl
theorem uN_shr (x : Int64) (s : UInt64) : uN (x.toUInt64 >>> s).toInt64 = uN x / 2 ^ (s.toNat % 64) := by
  show (x.toUInt64 >>> s).toNat = _
  rw [UInt64.toNat_shiftRight, Nat.shiftRight_eq_div_pow]
  rfl
theorem uN_s32 (x : Int64) : uN (x.toUInt64 >>> ((32 : Int32).toInt64.toUInt64 &&& Int64.toUInt64 63)).toInt64 = uN x / 4294967296 := by
  have h : ((32 : Int32).toInt64.toUInt64 &&& Int64.toUInt64 63).toNat % 64 = 32 := by decide
  rw [uN_shr, h]
theorem uN_s63 (x : Int64) : uN (x.toUInt64 >>> ((63 : Int32).toInt64.toUInt64 &&& Int64.toUInt64 63)).toInt64 = uN x / 9223372036854775808 := by
  have h : ((63 : Int32).toInt64.toUInt64 &&& Int64.toUInt64 63).toNat % 64 = 63 := by decide
  rw [uN_shr, h]
theorem uN_lo (x : Int64) : uN (x &&& 4294967295) = uN x % 4294967296 := by
  show (x.toUInt64 &&& Int64.toUInt64 4294967295).toNat = _
  rw [UInt64.toNat_and]
  exact Nat.and_two_pow_sub_one_eq_mod _ 32
theorem uN_bit (x : Int64) : (x &&& 1) = 0 ↔ uN x % 2 = 0 := by
  have h : uN (x &&& 1) = uN x % 2 := by
    show (x.toUInt64 &&& Int64.toUInt64 1).toNat = _
    rw [UInt64.toNat_and]
    exact Nat.and_two_pow_sub_one_eq_mod _ 1
  rw [← h]
  exact ⟨fun z => by rw [z]; rfl, fun z => uN_inj (z.trans rfl)⟩
theorem uN_or {x y : Int64} (hy : uN y < 2) : uN ((x <<< ((1 : Int32).toInt64 &&& 63)) ||| y) = (2 * uN x) % 18446744073709551616 + uN y := by
  have h1 : uN ((x <<< ((1 : Int32).toInt64 &&& 63)) ||| y) = uN (x <<< ((1 : Int32).toInt64 &&& 63)) ||| uN y := UInt64.toNat_or _ _
  have h2 : (2 * uN x) % 18446744073709551616 = 2 ^ 1 * (uN x % 9223372036854775808) := by omega
  rw [h1, uN_shl, h2]
  exact (Nat.two_pow_add_eq_or_of_lt (i := 1) hy _).symm
theorem nat_xor {a : Nat} (h : a < 18446744073709551616) : a ^^^ 2 ^ 63 = (a + 9223372036854775808) % 18446744073709551616 := by
  have h1 : (a ^^^ 2 ^ 63) % 2 ^ 63 = a % 2 ^ 63 := by rw [Nat.xor_mod_two_pow, Nat.mod_self, Nat.xor_zero]
  have h2 : (a ^^^ 2 ^ 63) / 2 ^ 63 = (a / 2 ^ 63) ^^^ 1 := by rw [Nat.xor_div_two_pow, Nat.div_self (Nat.two_pow_pos 63)]
  have h3 : a / 2 ^ 63 = 0 ∨ a / 2 ^ 63 = 1 := by omega
  generalize a ^^^ 2 ^ 63 = t at h1 h2
  rcases h3 with h3 | h3
  · rw [h3] at h2
    have h2 : t / 2 ^ 63 = 1 := h2
    omega
  · rw [h3] at h2
    have h2 : t / 2 ^ 63 = 0 := h2
    omega
theorem uN_xor (x : Int64) : uN (x ^^^ (-9223372036854775808)) = (uN x + 9223372036854775808) % 18446744073709551616 := by
  rw [← nat_xor (uN_lt x)]
  exact UInt64.toNat_xor _ _
theorem uN_int (x : Int64) : x.toInt = if 2 * uN x < 18446744073709551616 then (uN x : Int) else (uN x : Int) - 18446744073709551616 := BitVec.toInt_eq_toNat_cond _
theorem uN_le (x y : Int64) : (x ^^^ (-9223372036854775808)) ≤ (y ^^^ (-9223372036854775808)) ↔ uN x ≤ uN y := by
  have hx := uN_lt x
  have hy := uN_lt y
  rw [Int64.le_iff_toInt_le, uN_int, uN_int, uN_xor, uN_xor]
  omega
theorem uN_sk (x : Int64) {k : Nat} (hk : k < 64) : uN (x.toUInt64 >>> ((nI k).toInt64.toUInt64 &&& Int64.toUInt64 63)).toInt64 = uN x / 2 ^ k := by
  have h : ((nI k).toInt64.toUInt64 &&& Int64.toUInt64 63).toNat % 64 = k := by
    rw [nI_l (by omega), UInt64.toNat_and]
    have e : (lN k).toUInt64.toNat = k % 2 ^ 64 := rfl
    have e2 : (Int64.toUInt64 63).toNat = 2 ^ 6 - 1 := by decide
    rw [e, e2, Nat.and_two_pow_sub_one_eq_mod]
    omega
  rw [uN_shr, h]
/-! ===== unsigned comparison by xor with the least ===== -/
theorem lN_bv (n : Nat) : (lN n).toBitVec = BitVec.ofNat 64 n := rfl
theorem lN_nat {n : Nat} (h : n < 2 ^ 64) : (lN n).toBitVec.toNat = n := by rw [lN_bv, BitVec.toNat_ofNat]; exact Nat.mod_eq_of_lt h
theorem lN_xor (a b : Nat) : lN a ^^^ lN b = lN (a ^^^ b) := by
  apply Int64.toBitVec_inj.mp; rw [Int64.toBitVec_xor, lN_bv, lN_bv, lN_bv]; apply BitVec.eq_of_getLsbD_eq; intro i hi; simp [BitVec.getLsbD_ofNat, Nat.testBit_xor, hi]
theorem lN_ti {m : Nat} (h : m < 2 ^ 64) : (lN m).toInt = if m < 2 ^ 63 then (m : Int) else (m : Int) - 2 ^ 64 := by
  have c := BitVec.toInt_eq_toNat_cond (lN m).toBitVec
  rw [lN_nat h] at c
  show (lN m).toBitVec.toInt = _
  rw [c]
  split <;> split <;> omega
theorem xor63 {x : Nat} (h : x < 2 ^ 63) : x ^^^ 2 ^ 63 = 2 ^ 63 + x := by
  apply Nat.eq_of_testBit_eq
  intro i
  rw [Nat.testBit_xor, Nat.testBit_two_pow]
  rcases Nat.lt_trichotomy i 63 with z | z | z
  · rw [Nat.testBit_two_pow_add_gt z, decide_eq_false (by omega)]; simp
  · subst z; rw [Nat.testBit_two_pow_add_eq]; simp
  · have hp : 2 ^ 64 ≤ 2 ^ i := Nat.pow_le_pow_right (by decide) z
    rw [Nat.testBit_lt_two_pow (show x < 2 ^ i by omega), Nat.testBit_lt_two_pow (show 2 ^ 63 + x < 2 ^ i by omega), decide_eq_false (by omega)]; rfl
theorem xorS {a : Nat} (h : a < 2 ^ 64) : (lN a ^^^ (-9223372036854775808)).toInt = (a : Int) - 2 ^ 63 := by
  rw [show (-9223372036854775808 : Int64) = lN (2 ^ 63) from by decide +kernel, lN_xor]
  rcases Nat.lt_or_ge a (2 ^ 63) with z | z
  · rw [xor63 z, lN_ti (by omega), if_neg (by omega)]; omega
  · obtain ⟨x, rfl⟩ : ∃ x, a = 2 ^ 63 + x := ⟨a - 2 ^ 63, by omega⟩
    rw [← xor63 (by omega), Nat.xor_assoc, Nat.xor_self, Nat.xor_zero, lN_ti (by omega), if_pos (by omega), xor63 (by omega)]; omega
theorem ultL {a b : Nat} (ha : a < 2 ^ 64) (hb : b < 2 ^ 64) : ((lN b ^^^ (-9223372036854775808)) ≤ (lN a ^^^ (-9223372036854775808))) ↔ b ≤ a := by
  rw [Int64.le_iff_toInt_le, xorS ha, xorS hb]; omega
/-! ===== Int64 masks of n low bits ===== -/
theorem cr_bits (W U M : BitVec 64) : ((W &&& U) &&& (U &&& (M ^^^ BitVec.allOnes 64))) = 0#64 ↔ (W &&& U) &&& M = W &&& U := by
  constructor
  · intro h
    apply BitVec.eq_of_getLsbD_eq
    intro i hi
    have e := congrArg (fun x => BitVec.getLsbD x i) h
    simp only [BitVec.getLsbD_and, BitVec.getLsbD_xor, BitVec.getLsbD_allOnes, BitVec.getLsbD_zero, hi, decide_true] at e ⊢
    revert e
    cases W.getLsbD i <;> cases U.getLsbD i <;> cases M.getLsbD i <;> decide
  · intro h
    apply BitVec.eq_of_getLsbD_eq
    intro i hi
    have e := congrArg (fun x => BitVec.getLsbD x i) h
    simp only [BitVec.getLsbD_and, BitVec.getLsbD_xor, BitVec.getLsbD_allOnes, BitVec.getLsbD_zero, hi, decide_true] at e ⊢
    revert e
    cases W.getLsbD i <;> cases U.getLsbD i <;> cases M.getLsbD i <;> decide
theorem cr_mask (w U m : Int64) (n : Nat) (hm : m.toBitVec.toNat = 2 ^ n - 1) : ((w &&& U) &&& (U &&& (m ^^^ (-1)))) = 0 ↔ (w &&& U).toBitVec.toNat < 2 ^ n := by
  have e0 : (-1 : Int64).toBitVec = BitVec.allOnes 64 := by decide
  have z0 : (0 : Int64).toBitVec = 0#64 := by decide
  rw [← Int64.toBitVec_inj, z0, Int64.toBitVec_and, Int64.toBitVec_and, Int64.toBitVec_and, Int64.toBitVec_xor, e0, cr_bits]
  generalize w.toBitVec &&& U.toBitVec = T
  rw [← BitVec.toNat_inj, BitVec.toNat_and, hm, Nat.and_two_pow_sub_one_eq_mod]
  constructor
  · intro h
    have t := Nat.mod_lt T.toNat (Nat.two_pow_pos n)
    rw [h] at t
    exact t
  · exact Nat.mod_eq_of_lt
theorem cr_shr (t : Int64) (x : UInt64) (n : Nat) (hx : x.toNat % 64 = n) : (t.toUInt64 >>> x).toInt64 = 0 ↔ t.toBitVec.toNat < 2 ^ n := by
  rw [← Int64.toBitVec_inj, ← BitVec.toNat_inj]
  show (t.toUInt64 >>> x).toNat = 0 ↔ t.toUInt64.toNat < 2 ^ n
  rw [UInt64.toNat_shiftRight, hx, Nat.shiftRight_eq_div_pow]
  constructor
  · intro h
    have d : t.toUInt64.toNat / 2 ^ n < 1 := by
      rw [h]
      decide
    have e := (Nat.div_lt_iff_lt_mul (Nat.two_pow_pos n)).mp d
    rw [Nat.one_mul] at e
    exact e
  · exact Nat.div_eq_of_lt
theorem cr_amt (s : Int64) : ∃ n, n < 64 ∧ s &&& 63 = lN n ∧ (s.toUInt64 &&& Int64.toUInt64 63).toNat % 64 = n := by
  have e : (s.toUInt64 &&& Int64.toUInt64 63).toNat = s.toUInt64.toNat % 2 ^ 6 := by
    rw [UInt64.toNat_and, show (Int64.toUInt64 63).toNat = 2 ^ 6 - 1 from by decide, Nat.and_two_pow_sub_one_eq_mod]
  refine ⟨s.toUInt64.toNat % 2 ^ 6, by omega, ?_, by omega⟩
  rw [← Int64.toBitVec_inj, ← BitVec.toNat_inj]
  show (s.toUInt64 &&& Int64.toUInt64 63).toNat = (BitVec.ofNat 64 (s.toUInt64.toNat % 2 ^ 6)).toNat
  rw [e, BitVec.toNat_ofNat]
  omega
end
section
/-! basics: integers, bits, masks, counts -/
section
def iZ (z : Int) : Int32 := Int32.ofInt z
theorem iz_nI (n : Nat) : iZ (n : Int) = nI n := Int32.ofInt_eq_ofNat
theorem iz_add (a b : Int) : iZ a + iZ b = iZ (a + b) := (Int32.ofInt_add a b).symm
theorem iz_sub (a b : Int) : iZ a - iZ b = iZ (a - b) := (Int32.ofInt_sub a b).symm
theorem iz_mul (a b : Int) : iZ a * iZ b = iZ (a * b) := (Int32.ofInt_mul a b).symm
theorem iz_toInt {a : Int} (h1 : -2147483648 ≤ a) (h2 : a < 2147483648) : (iZ a).toInt = a := Int32.toInt_ofInt_of_le (by omega) (by omega)
theorem iz_of (x : Int32) : iZ x.toInt = x := Int32.ofInt_toInt x
theorem iz_le {a b : Int} (h1 : -1000000 ≤ a) (h2 : a ≤ 1000000) (h3 : -1000000 ≤ b) (h4 : b ≤ 1000000) : iZ a ≤ iZ b ↔ a ≤ b := by
  rw [Int32.le_iff_toInt_le, iz_toInt (by omega) (by omega), iz_toInt (by omega) (by omega)]
theorem iz_lt {a b : Int} (h1 : -1000000 ≤ a) (h2 : a ≤ 1000000) (h3 : -1000000 ≤ b) (h4 : b ≤ 1000000) : iZ a < iZ b ↔ a < b := by
  rw [Int32.lt_iff_toInt_lt, iz_toInt (by omega) (by omega), iz_toInt (by omega) (by omega)]
theorem iz_lel {a : Int} {y : Int32} (h1 : -1000000 ≤ a) (h2 : a ≤ 1000000) : iZ a ≤ y ↔ a ≤ y.toInt := by
  rw [Int32.le_iff_toInt_le, iz_toInt (by omega) (by omega)]
theorem iz_ltl {a : Int} {y : Int32} (h1 : -1000000 ≤ a) (h2 : a ≤ 1000000) : iZ a < y ↔ a < y.toInt := by
  rw [Int32.lt_iff_toInt_lt, iz_toInt (by omega) (by omega)]
theorem iz_ler {a : Int} {y : Int32} (h1 : -1000000 ≤ a) (h2 : a ≤ 1000000) : y ≤ iZ a ↔ y.toInt ≤ a := by
  rw [Int32.le_iff_toInt_le, iz_toInt (by omega) (by omega)]
theorem iz_ltr {a : Int} {y : Int32} (h1 : -1000000 ≤ a) (h2 : a ≤ 1000000) : y < iZ a ↔ y.toInt < a := by
  rw [Int32.lt_iff_toInt_lt, iz_toInt (by omega) (by omega)]
theorem gb_one : ∀ i, i < 32 → bt 1 i = decide (i = 0) := by decide +kernel
theorem gb_shl1 {v i : Nat} (hv : v < 32) : bt ((1 : Int32) <<< (nI v &&& 31)) i = decide (i = v) := by
  rcases Nat.lt_or_ge i 32 with hi | hi
  · rw [b_shl v hv 1 hi]
    rcases Nat.lt_or_ge i v with h | h
    · rw [decide_eq_false (by omega), decide_eq_false (by omega), Bool.false_and]
    · rw [decide_eq_true h, Bool.true_and, gb_one _ (by omega)]
      by_cases e : i = v
      · rw [decide_eq_true (by omega), decide_eq_true e]
      · rw [decide_eq_false (by omega), decide_eq_false e]
  · rw [b_big hi, decide_eq_false (by omega)]
theorem gb_bit (x : Int32) {i : Nat} (hi : i < 32) : (x >>> (nI i &&& 31)) &&& 1 = if bt x i = true then 1 else 0 := by
  apply b_ext
  intro j hj
  rw [b_and, b_sshr i hi x hj]
  rcases Nat.eq_zero_or_pos j with h | h
  · subst h
    rw [if_pos (by omega), Nat.add_zero]
    cases bt x i <;> decide
  · rw [gb_one j hj, decide_eq_false (by omega), Bool.and_false]
    cases bt x i
    · exact (b_0 j).symm
    · show false = bt 1 j
      rw [gb_one j hj, decide_eq_false (by omega)]
theorem gb_0 (x : Int32) {i : Nat} (hi : i < 32) : ((x >>> (nI i &&& 31)) &&& 1) = 0 ↔ bt x i = false := by
  rw [gb_bit x hi]; cases bt x i <;> decide
theorem gb_1 (x : Int32) {i : Nat} (hi : i < 32) : ((x >>> (nI i &&& 31)) &&& 1) = 1 ↔ bt x i = true := by
  rw [gb_bit x hi]; cases bt x i <;> decide
theorem gb_nI (x : Int32) {i : Nat} (hi : i < 32) : ((x >>> (nI i &&& 31)) &&& 1) = nI (bt x i).toNat := by
  rw [gb_bit x hi]; cases bt x i <;> decide
theorem gb_not (x : Int32) {i : Nat} (hi : i < 32) : bt (x ^^^ (-1)) i = !(bt x i) := by
  rw [b_xor, b_m1 i hi, Bool.xor_true]
theorem gb_andn (x y : Int32) (i : Nat) : bt (x &&& (y ^^^ (-1))) i = (bt x i && !(bt y i)) := by
  rcases Nat.lt_or_ge i 32 with hi | hi
  · rw [b_and, gb_not y hi]
  · rw [b_big hi, b_big (x := x) hi, Bool.false_and]
theorem gb_eq0 {x : Int32} : x = 0 ↔ ∀ i, bt x i = false :=
  ⟨fun h i => by rw [h, b_0], fun h => b_ext fun i _ => by rw [h i, b_0]⟩
theorem gb_ne0 {x : Int32} : x ≠ 0 ↔ ∃ i, bt x i = true := by
  rw [Ne, gb_eq0, Classical.not_forall]
  exact ⟨fun ⟨i, h⟩ => ⟨i, by simpa using h⟩, fun ⟨i, h⟩ => ⟨i, by simp [h]⟩⟩
theorem gb_e {x y : Int32} (h : ∀ i, bt x i = true ↔ bt y i = true) : x = y :=
  b_ext fun i _ => Bool.eq_iff_iff.mpr (h i)
def Msk (v : Nat) (x : Int32) : Prop := ∀ i, v ≤ i → bt x i = false
theorem mk_lt {v i : Nat} {x : Int32} (h : Msk v x) (hb : bt x i = true) : i < v := by
  rcases Nat.lt_or_ge i v with z | z
  · exact z
  · rw [h i z] at hb; cases hb
theorem mk_0 (v : Nat) : Msk v 0 := fun i _ => b_0 i
theorem mk_and {v : Nat} {x y : Int32} (h : Msk v x) : Msk v (x &&& y) := fun i hi => by rw [b_and, h i hi, Bool.false_and]
theorem mk_or {v : Nat} {x y : Int32} (h : Msk v x) (h' : Msk v y) : Msk v (x ||| y) := fun i hi => by rw [b_or, h i hi, h' i hi, Bool.false_or]
theorem mk_shl {v a : Nat} (h : a < v) (hv : v ≤ 32) : Msk v ((1 : Int32) <<< (nI a &&& 31)) := fun i hi => by
  rw [gb_shl1 (by omega), decide_eq_false (by omega)]
def allM (v : Nat) : Int32 := ((1 : Int32) <<< (nI v &&& 31)) - 1
theorem am_t : ∀ v, v < 7 → ∀ i, i < 32 → bt (allM v) i = decide (i < v) := by decide +kernel
theorem am_bt {v i : Nat} (hv : v ≤ 6) : bt (allM v) i = decide (i < v) := by
  rcases Nat.lt_or_ge i 32 with hi | hi
  · exact am_t v (by omega) i hi
  · rw [b_big hi, decide_eq_false (by omega)]
theorem am_msk {v : Nat} (hv : v ≤ 6) : Msk v (allM v) := fun i hi => by rw [am_bt hv, decide_eq_false (by omega)]
theorem am_x {n : Nat} (hn : n ≤ 6) (x : Int32) : (x &&& (allM n ^^^ (-1))) = 0 ↔ Msk n x := by
  rw [gb_eq0]
  constructor
  · intro h i hi
    have := h i
    rw [gb_andn, am_bt hn, decide_eq_false (by omega)] at this
    simpa using this
  · intro h i
    rw [gb_andn, am_bt hn]
    rcases Nat.lt_or_ge i n with z | z
    · rw [decide_eq_true z]; simp
    · rw [h i z, Bool.false_and]
theorem am_y {n : Nat} (hn : n ≤ 6) (x : Int32) : (x.toUInt32 >>> ((nI n).toUInt32 &&& Int32.toUInt32 31)).toInt32 = 0 ↔ Msk n x := by
  rw [gb_eq0]
  constructor
  · intro h i hi
    have := h (i - n)
    rw [b_ushr n (by omega)] at this
    rw [show i = n + (i - n) by omega]
    exact this
  · intro h i
    rw [b_ushr n (by omega)]
    exact h _ (by omega)
def pcN (x : Int32) : Nat → Nat
  | 0 => 0
  | k + 1 => pcN x k + (bt x k).toNat
theorem pc_le (x : Int32) : ∀ k, pcN x k ≤ k
  | 0 => Nat.le_refl _
  | k + 1 => by
    have := pc_le x k
    have : (bt x k).toNat ≤ 1 := Bool.toNat_le _
    simp only [pcN]; omega
theorem pc_mono (x : Int32) {a b : Nat} (h : a ≤ b) : pcN x a ≤ pcN x b := by
  induction b with
  | zero => obtain rfl : a = 0 := by omega
            exact Nat.le_refl _
  | succ b ih =>
    rcases Nat.lt_or_ge b a with z | z
    · obtain rfl : a = b + 1 := by omega
      exact Nat.le_refl _
    · have := ih z
      simp only [pcN]; omega
theorem pc_s1 {x : Int32} {a : Nat} (h : bt x a = true) : pcN x (a + 1) = pcN x a + 1 := by simp only [pcN, h, Bool.toNat_true]
theorem pc_s0 {x : Int32} {a : Nat} (h : bt x a = false) : pcN x (a + 1) = pcN x a := by simp only [pcN, h, Bool.toNat_false, Nat.add_zero]
theorem pc_lt {x : Int32} {a b : Nat} (h : bt x a = true) (hb : a < b) : pcN x a < pcN x b := by
  have := pc_mono x (show a + 1 ≤ b from hb)
  rw [pc_s1 h] at this
  omega
theorem pc_inj {x : Int32} {a b : Nat} (ha : bt x a = true) (hb : bt x b = true) (h : pcN x a = pcN x b) : a = b := by
  rcases Nat.lt_trichotomy a b with z | z | z
  · have := pc_lt ha z; omega
  · exact z
  · have := pc_lt hb z; omega
theorem pc_surj {x : Int32} {k i : Nat} (h : i < pcN x k) : ∃ a, a < k ∧ bt x a = true ∧ pcN x a = i := by
  induction k with
  | zero => simp only [pcN] at h; omega
  | succ k ih =>
    rcases Nat.lt_or_ge i (pcN x k) with z | z
    · obtain ⟨a, h1, h2, h3⟩ := ih z
      exact ⟨a, by omega, h2, h3⟩
    · cases hb : bt x k with
      | false => rw [pc_s0 hb] at h; omega
      | true => rw [pc_s1 hb] at h; exact ⟨k, by omega, hb, by omega⟩
theorem pc_congr {x y : Int32} : ∀ {k : Nat}, (∀ i, i < k → bt x i = bt y i) → pcN x k = pcN y k
  | 0, _ => rfl
  | k + 1, h => by simp only [pcN, pc_congr (k := k) (fun i hi => h i (by omega)), h k (by omega)]
theorem pc_stop {x : Int32} {n k : Nat} (h : Msk n x) (hk : n ≤ k) : pcN x k = pcN x n := by
  induction k with
  | zero => obtain rfl : n = 0 := by omega
            rfl
  | succ k ih =>
    rcases Nat.lt_or_ge k n with z | z
    · obtain rfl : n = k + 1 := by omega
      rfl
    · rw [pc_s0 (h k z), ih z]
theorem pc_pos {x : Int32} {a k : Nat} (h : bt x a = true) (ha : a < k) : 0 < pcN x k := by
  have := pc_lt h ha; omega
theorem pc_zero (k : Nat) : pcN 0 k = 0 := by
  induction k with
  | zero => rfl
  | succ k ih => rw [pc_s0 (b_0 k), ih]
theorem pc_sub {x y : Int32} : ∀ {k : Nat}, (∀ i, i < k → bt x i = true → bt y i = true) → pcN x k ≤ pcN y k
  | 0, _ => Nat.le_refl _
  | k + 1, h => by
    have a := pc_sub (k := k) (fun i hi => h i (by omega))
    have b := h k (by omega)
    simp only [pcN]
    cases hx : bt x k with
    | false => simp only [Bool.toNat_false]; omega
    | true => rw [b hx]; omega
theorem pc_subs {x y : Int32} {a k : Nat} (h : ∀ i, i < k → bt x i = true → bt y i = true) (ha : a < k) (hx : bt x a = false) (hy : bt y a = true) : pcN x k < pcN y k := by
  induction k with
  | zero => omega
  | succ k ih =>
    have A := pc_sub (x := x) (y := y) (k := k) (fun i hi => h i (by omega))
    rcases Nat.lt_or_ge a k with z | z
    · have B := ih (fun i hi => h i (by omega)) z
      have c := h k (by omega)
      simp only [pcN]
      cases hx' : bt x k with
      | false => simp only [Bool.toNat_false]; omega
      | true => rw [c hx']; omega
    · obtain rfl : a = k := by omega
      rw [pc_s0 hx, pc_s1 hy]; omega
/-- the place of var x among the scope's bits: the mask below x -/
theorem pc_below {x : Nat} (s : Int32) (hx : x ≤ 6) : pcN (s &&& allM x) 6 = pcN s x := by
  have h1 : Msk x (s &&& allM x) := fun i hi => by rw [b_and, am_bt hx, decide_eq_false (by omega), Bool.and_false]
  rw [pc_stop h1 hx]
  exact pc_congr fun i hi => by rw [b_and, am_bt hx, decide_eq_true hi, Bool.and_true]
theorem u_same (f : Nat → Int32) (k : Nat) (a b : Int32) : upd (upd f k a) k b = upd f k b := by
  funext j; unfold upd; split <;> rfl
theorem u_self {f : Nat → Int32} {k : Nat} {a : Int32} (h : f k = a) : upd f k a = f := by
  funext j; unfold upd; split
  · next e => rw [e, h]
  · rfl
theorem u_back (f : Nat → Int32) (k : Nat) (a : Int32) : upd (upd f k a) k (f k) = f := by
  rw [u_same, u_self rfl]
theorem u_comm (f : Nat → Int32) {k l : Nat} (a b : Int32) (h : k ≠ l) : upd (upd f k a) l b = upd (upd f l b) k a := by
  funext j; unfold upd
  by_cases h1 : j = l
  · rw [if_pos h1, if_neg (by omega), if_pos h1]
  · rw [if_neg h1]
    by_cases h2 : j = k
    · rw [if_pos h2, if_pos h2]
    · rw [if_neg h2, if_neg h2, if_neg h1]
/-- finite sets: an injection of a set below k into itself hits every member -/
theorem fs_surj : ∀ (k : Nat) (A : Nat → Prop) (f : Nat → Nat), (∀ a, A a → a < k) → (∀ a, A a → A (f a)) → (∀ a b, A a → A b → f a = f b → a = b) → ∀ b, A b → ∃ a, A a ∧ f a = b := by
  intro k
  induction k with
  | zero => intro A f h _ _ b hb; exact absurd (h b hb) (by omega)
  | succ k ih =>
    intro A f hk hf hi b hb
    by_cases hbk : b = k
    · -- is k hit?
      subst hbk
      apply Classical.byContradiction
      intro hn
      have hn' : ∀ a, A a → f a ≠ b := fun a ha e => hn ⟨a, ha, e⟩
      -- f maps A into A without b; restrict to A' = A without b: f : A' → A', injective, so hits f b
      have hb' := hn' b hb
      obtain ⟨a, ⟨ha, hab⟩, e⟩ := ih (fun a => A a ∧ a ≠ b) f (fun a ha => by have := hk a ha.1; have := ha.2; omega)
        (fun a ha => ⟨hf a ha.1, hn' a ha.1⟩) (fun a c ha hc => hi a c ha.1 hc.1) (f b) ⟨hf b hb, hb'⟩
      exact hab (hi a b ha hb e)
    · -- swap: g a = f a unless f a = k, then f k
      by_cases hk' : A k
      · obtain ⟨a, ⟨ha, hak⟩, e⟩ := ih (fun a => A a ∧ a ≠ k) (fun a => if f a = k then f k else f a)
          (fun a ha => by have := hk a ha.1; have := ha.2; omega)
          (fun a ha => by
            show A (if f a = k then f k else f a) ∧ (if f a = k then f k else f a) ≠ k
            by_cases z : f a = k
            · rw [if_pos z]
              refine ⟨hf k hk', fun w => ha.2 (hi a k ha.1 hk' (z.trans w.symm))⟩
            · rw [if_neg z]; exact ⟨hf a ha.1, z⟩)
          (fun a c ha hc e => by
            have e : (if f a = k then f k else f a) = (if f c = k then f k else f c) := e
            by_cases z : f a = k
            · by_cases w : f c = k
              · exact hi a c ha.1 hc.1 (z.trans w.symm)
              · rw [if_pos z, if_neg w] at e
                exact absurd (hi k c hk' hc.1 e).symm hc.2
            · by_cases w : f c = k
              · rw [if_neg z, if_pos w] at e
                exact absurd (hi a k ha.1 hk' e) ha.2
              · rw [if_neg z, if_neg w] at e
                exact hi a c ha.1 hc.1 e) b ⟨hb, hbk⟩
        have e : (if f a = k then f k else f a) = b := e
        by_cases z : f a = k
        · rw [if_pos z] at e; exact ⟨k, hk', e⟩
        · rw [if_neg z] at e; exact ⟨a, ha, e⟩
      · exact ih A f (fun a ha => by
          have := hk a ha
          have : a ≠ k := fun e => hk' (e ▸ ha)
          omega) hf hi b hb
end
end
section
/-! the component's small methods -/
theorem gb_cbs (m : Int32) {b : Nat} (hb : b < 32) : nI (pcN m b) + ((m >>> (nI b &&& 31)) &&& 1) = nI (pcN m (b + 1)) := by
  rw [gb_nI m hb, nI_add]; rfl
/-- the variables with a coefficient in the draft -/
def dsc (a_coef : Nat → Int32) : Nat → Int32
  | 0 => 0
  | k + 1 => if a_coef (36 + k) = 0 then dsc a_coef k else dsc a_coef k ||| ((1 : Int32) <<< (nI k &&& 31))
theorem ds_bt (a_coef : Nat → Int32) : ∀ k, k ≤ 32 → ∀ i, bt (dsc a_coef k) i = true ↔ i < k ∧ a_coef (36 + i) ≠ 0
  | 0, _, i => by simp only [dsc, b_0]; constructor <;> (intro h; first | exact absurd h (by decide) | omega)
  | k + 1, hk, i => by
    have ih := ds_bt a_coef k (by omega) i
    by_cases h : a_coef (36 + k) = 0
    · rw [dsc, if_pos h, ih]
      constructor
      · intro ⟨a, b⟩; exact ⟨by omega, b⟩
      · intro ⟨a, b⟩
        have : i ≠ k := fun e => b (e ▸ h)
        exact ⟨by omega, b⟩
    · rw [dsc, if_neg h, b_or, gb_shl1 (by omega), Bool.or_eq_true, ih, decide_eq_true_eq]
      constructor
      · rintro (⟨a, b⟩ | a)
        · exact ⟨by omega, b⟩
        · exact ⟨by omega, a ▸ h⟩
      · intro ⟨a, b⟩
        by_cases e : i = k
        · exact Or.inr e
        · exact Or.inl ⟨by omega, b⟩
theorem ds_msk (a_coef : Nat → Int32) {k : Nat} (hk : k ≤ 32) : Msk k (dsc a_coef k) := fun i hi => by
  cases h : bt (dsc a_coef k) i with
  | false => rfl
  | true => have := (ds_bt a_coef k hk i).mp h; omega
theorem sl_c (c : Int32) {cnt : Nat} (hc : cnt < 2 ^ 31) : c < -1 ∨ c = -1 ∨ (∃ j, j < cnt ∧ c = nI j) ∨ (nI cnt ≤ c) := by
  rcases pk_ix c hc with h | h | h
  · rcases Int.lt_trichotomy c.toInt (-1) with z | z | z
    · left; rw [Int32.lt_iff_toInt_lt]; exact z
    · right; left; exact Int32.toInt_inj.mp z
    · rw [Int32.lt_iff_toInt_lt] at h
      have : (0 : Int32).toInt = 0 := by decide
      omega
  · exact Or.inr (Or.inr (Or.inr h))
  · exact Or.inr (Or.inr (Or.inl h))
theorem nI_nm1 {j : Nat} (h : j < 2 ^ 31) : ¬ nI j < -1 ∧ ¬ nI j = -1 := by
  constructor
  · rw [Int32.lt_iff_toInt_lt, nI_toInt h, show (-1 : Int32).toInt = -1 by decide]; omega
  · intro e
    have := congrArg Int32.toInt e
    rw [nI_toInt h, show (-1 : Int32).toInt = -1 by decide] at this; omega
theorem big_nm1 {c : Int32} {cnt : Nat} (hc : cnt < 2 ^ 31) (h : nI cnt ≤ c) : ¬ c < -1 ∧ ¬ c < 0 ∧ ¬ c < nI cnt ∧ ¬ c = -1 := by
  rw [Int32.le_iff_toInt_le, nI_toInt hc] at h
  have a : (-1 : Int32).toInt = -1 := by decide
  have b : (0 : Int32).toInt = 0 := by decide
  refine ⟨?_, ?_, ?_, ?_⟩
  · rw [Int32.lt_iff_toInt_lt, a]; omega
  · rw [Int32.lt_iff_toInt_lt, b]; omega
  · rw [Int32.lt_iff_toInt_lt, nI_toInt hc]; omega
  · intro e; rw [e, a] at h; omega
section
variable {f_varCount f_valueCount f_maxConstraints f_maxLevel f_allValues f_allVars f_status f_currentLevel f_constraintCount f_searchState f_searchDirection f_foundCount f_depth f_trailSize f_queueHead f_queueSize f_pendingMask f_scopeSize : Int32} {a_dom a_savedDom a_savedCount a_savedStatus a_kindOf a_scopeOf a_lowBound a_highBound a_tupleCount a_coef a_tuples a_newTuple a_solution a_todo a_mark a_work a_trailVar a_trailMask a_queue a_inVar a_inMask a_outMask a_matchOf a_owner a_reachedFrom a_bfs a_reach a_termCoef a_termMin a_span a_forward a_backward : Nat → Int32}
theorem xh_cbl {post : Int32 → Prop} {m : Int32} (h : post (nI (pcN m 6))) : ∀ d b : Nat, b + d = 6 → wX_countBits_4 post m f_varCount f_valueCount f_maxConstraints f_maxLevel f_allValues f_allVars f_status f_currentLevel f_constraintCount f_searchState f_searchDirection f_foundCount f_depth f_trailSize f_queueHead f_queueSize f_pendingMask f_scopeSize a_dom a_savedDom a_savedCount a_savedStatus a_kindOf a_scopeOf a_lowBound a_highBound a_tupleCount a_coef a_tuples a_newTuple a_solution a_todo a_mark a_work a_trailVar a_trailMask a_queue a_inVar a_inMask a_outMask a_matchOf a_owner a_reachedFrom a_bfs a_reach a_termCoef a_termMin a_span a_forward a_backward (d + 1) (nI (pcN m b)) (nI b) := by
  intro d
  induction d with
  | zero =>
    intro b hb
    obtain rfl : b = 6 := by omega
    exact br_t (by decide) h
  | succ d ih =>
    intro b hb
    refine br_f (nI_ge (b := 6) (by omega) (by decide)) (nm_r (e' := nI (pcN m (b + 1))) (gb_cbs m (by omega)) (nm_r (e' := nI (b + 1)) (nI_1 b) ?_))
    exact ih (b + 1) (by omega)
theorem xh_cb {post : Int32 → Prop} {m : Int32} (h : post (nI (pcN m 6))) : wpX_countBits post (f_varCount, f_valueCount, f_maxConstraints, f_maxLevel, f_allValues, f_allVars, f_status, f_currentLevel, f_constraintCount, f_searchState, f_searchDirection, f_foundCount, f_depth, f_trailSize, f_queueHead, f_queueSize, f_pendingMask, f_scopeSize, a_dom, a_savedDom, a_savedCount, a_savedStatus, a_kindOf, a_scopeOf, a_lowBound, a_highBound, a_tupleCount, a_coef, a_tuples, a_newTuple, a_solution, a_todo, a_mark, a_work, a_trailVar, a_trailMask, a_queue, a_inVar, a_inMask, a_outMask, a_matchOf, a_owner, a_reachedFrom, a_bfs, a_reach, a_termCoef, a_termMin, a_span, a_forward, a_backward) m :=
  Exists.intro 7 (xh_cbl h 6 0 rfl)
theorem xh_lowl {post : Int32 → Prop} {m : Int32} (h : ∀ lo, lo < 6 → bt m lo = true → (∀ j, j < lo → bt m j = false) → post (nI lo)) (hm : ∃ i, i < 6 ∧ bt m i = true) : ∀ d b : Nat, b + d = 6 → (∀ j, j < b → bt m j = false) → wX_lowestValue_2 post m f_varCount f_valueCount f_maxConstraints f_maxLevel f_allValues f_allVars f_status f_currentLevel f_constraintCount f_searchState f_searchDirection f_foundCount f_depth f_trailSize f_queueHead f_queueSize f_pendingMask f_scopeSize a_dom a_savedDom a_savedCount a_savedStatus a_kindOf a_scopeOf a_lowBound a_highBound a_tupleCount a_coef a_tuples a_newTuple a_solution a_todo a_mark a_work a_trailVar a_trailMask a_queue a_inVar a_inMask a_outMask a_matchOf a_owner a_reachedFrom a_bfs a_reach a_termCoef a_termMin a_span a_forward a_backward (d + 1) (nI b) := by
  intro d
  induction d with
  | zero =>
    intro b hb hj
    obtain ⟨i, hi, hi'⟩ := hm
    rw [hj i (by omega)] at hi'; cases hi'
  | succ d ih =>
    intro b hb hj
    refine br_f (nI_ge (b := 6) (by omega) (by decide)) ?_
    cases hv : bt m b with
    | false => exact br_t ((gb_0 m (by omega)).mpr hv) (nm_r (e' := nI (b + 1)) (nI_1 b) (ih (b + 1) (by omega) (fun j h2 => by
        rcases Nat.lt_or_ge j b with z | z
        · exact hj j z
        · obtain rfl : j = b := by omega
          exact hv)))
    | true => exact br_f (fun e => by rw [gb_0 m (by omega), hv] at e; cases e) (h b (by omega) hv hj)
theorem xh_low {post : Int32 → Prop} {m : Int32} (hm : ∃ i, i < 6 ∧ bt m i = true) (h : ∀ lo, lo < 6 → bt m lo = true → (∀ j, j < lo → bt m j = false) → post (nI lo)) : wpX_lowestValue post (f_varCount, f_valueCount, f_maxConstraints, f_maxLevel, f_allValues, f_allVars, f_status, f_currentLevel, f_constraintCount, f_searchState, f_searchDirection, f_foundCount, f_depth, f_trailSize, f_queueHead, f_queueSize, f_pendingMask, f_scopeSize, a_dom, a_savedDom, a_savedCount, a_savedStatus, a_kindOf, a_scopeOf, a_lowBound, a_highBound, a_tupleCount, a_coef, a_tuples, a_newTuple, a_solution, a_todo, a_mark, a_work, a_trailVar, a_trailMask, a_queue, a_inVar, a_inMask, a_outMask, a_matchOf, a_owner, a_reachedFrom, a_bfs, a_reach, a_termCoef, a_termMin, a_span, a_forward, a_backward) m :=
  Exists.intro 7 (xh_lowl h hm 6 0 rfl (fun j hj => absurd hj (by omega)))
theorem xh_highl {post : Int32 → Prop} {m : Int32} (h : ∀ hi, hi < 6 → bt m hi = true → (∀ j, hi < j → j < 6 → bt m j = false) → post (nI hi)) (hm : ∃ i, i < 6 ∧ bt m i = true) : ∀ b : Nat, b < 6 → (∀ j, b < j → j < 6 → bt m j = false) → wX_highestValue_2 post m f_varCount f_valueCount f_maxConstraints f_maxLevel f_allValues f_allVars f_status f_currentLevel f_constraintCount f_searchState f_searchDirection f_foundCount f_depth f_trailSize f_queueHead f_queueSize f_pendingMask f_scopeSize a_dom a_savedDom a_savedCount a_savedStatus a_kindOf a_scopeOf a_lowBound a_highBound a_tupleCount a_coef a_tuples a_newTuple a_solution a_todo a_mark a_work a_trailVar a_trailMask a_queue a_inVar a_inMask a_outMask a_matchOf a_owner a_reachedFrom a_bfs a_reach a_termCoef a_termMin a_span a_forward a_backward (b + 1) (nI b) := by
  intro b
  induction b with
  | zero =>
    intro hb hj
    refine br_f (nI_pos (by omega)) ?_
    cases hv : bt m 0 with
    | false =>
      obtain ⟨i, hi, hi'⟩ := hm
      rcases Nat.eq_zero_or_pos i with z | z
      · subst z; rw [hv] at hi'; cases hi'
      · rw [hj i z hi] at hi'; cases hi'
    | true => exact br_f (fun e => by rw [gb_0 m (by omega), hv] at e; cases e) (h 0 (by omega) hv hj)
  | succ b ih =>
    intro hb hj
    refine br_f (nI_pos (by omega)) ?_
    cases hv : bt m (b + 1) with
    | false => exact br_t ((gb_0 m (by omega)).mpr hv) (nm_r (e' := nI b) (pk_m1 b) (ih (by omega) (fun j h1 h2 => by
        rcases Nat.lt_or_ge (b + 1) j with z | z
        · exact hj j z h2
        · obtain rfl : j = b + 1 := by omega
          exact hv)))
    | true => exact br_f (fun e => by rw [gb_0 m (by omega), hv] at e; cases e) (h (b + 1) (by omega) hv hj)
theorem xh_high {post : Int32 → Prop} {m : Int32} (hm : ∃ i, i < 6 ∧ bt m i = true) (h : ∀ hi, hi < 6 → bt m hi = true → (∀ j, hi < j → j < 6 → bt m j = false) → post (nI hi)) : wpX_highestValue post (f_varCount, f_valueCount, f_maxConstraints, f_maxLevel, f_allValues, f_allVars, f_status, f_currentLevel, f_constraintCount, f_searchState, f_searchDirection, f_foundCount, f_depth, f_trailSize, f_queueHead, f_queueSize, f_pendingMask, f_scopeSize, a_dom, a_savedDom, a_savedCount, a_savedStatus, a_kindOf, a_scopeOf, a_lowBound, a_highBound, a_tupleCount, a_coef, a_tuples, a_newTuple, a_solution, a_todo, a_mark, a_work, a_trailVar, a_trailMask, a_queue, a_inVar, a_inMask, a_outMask, a_matchOf, a_owner, a_reachedFrom, a_bfs, a_reach, a_termCoef, a_termMin, a_span, a_forward, a_backward) m :=
  Exists.intro 6 (xh_highl h hm 5 (by omega) (fun j h1 h2 => absurd h1 (by omega)))
theorem xh_hb {A B : Prop} {m : Int32} {i : Nat} (hi : i < 32) (hf : bt m i = false → A) (ht : bt m i = true → B) : wpX_hasBit (fun r => (r = 0 → A) ∧ (¬ r = 0 → B)) (f_varCount, f_valueCount, f_maxConstraints, f_maxLevel, f_allValues, f_allVars, f_status, f_currentLevel, f_constraintCount, f_searchState, f_searchDirection, f_foundCount, f_depth, f_trailSize, f_queueHead, f_queueSize, f_pendingMask, f_scopeSize, a_dom, a_savedDom, a_savedCount, a_savedStatus, a_kindOf, a_scopeOf, a_lowBound, a_highBound, a_tupleCount, a_coef, a_tuples, a_newTuple, a_solution, a_todo, a_mark, a_work, a_trailVar, a_trailMask, a_queue, a_inVar, a_inMask, a_outMask, a_matchOf, a_owner, a_reachedFrom, a_bfs, a_reach, a_termCoef, a_termMin, a_span, a_forward, a_backward) m (nI i) := by
  cases hv : bt m i with
  | false => exact br_t ((gb_0 m hi).mpr hv) (br_t rfl (hf hv))
  | true => exact br_f (fun e => by rw [gb_0 m hi, hv] at e; cases e) (br_f (by decide) (ht hv))
theorem xh_ivn {A B : Prop} {p : Int32} {n : Nat} (hn : n < 2 ^ 31) (h : p < 0 ∨ nI n ≤ p) (a : A) : wpX_isVar (fun r => (r = 0 → A) ∧ (¬ r = 0 → B)) (nI n, f_valueCount, f_maxConstraints, f_maxLevel, f_allValues, f_allVars, f_status, f_currentLevel, f_constraintCount, f_searchState, f_searchDirection, f_foundCount, f_depth, f_trailSize, f_queueHead, f_queueSize, f_pendingMask, f_scopeSize, a_dom, a_savedDom, a_savedCount, a_savedStatus, a_kindOf, a_scopeOf, a_lowBound, a_highBound, a_tupleCount, a_coef, a_tuples, a_newTuple, a_solution, a_todo, a_mark, a_work, a_trailVar, a_trailMask, a_queue, a_inVar, a_inMask, a_outMask, a_matchOf, a_owner, a_reachedFrom, a_bfs, a_reach, a_termCoef, a_termMin, a_span, a_forward, a_backward) p := by
  rcases h with h | h
  · exact br_t h (br_t rfl a)
  · exact br_f (big_nm1 hn h).2.1 (br_t h (br_t rfl a))
theorem xh_ivy {A B : Prop} {n x : Nat} (hn : n < 2 ^ 31) (hx : x < n) (b : B) : wpX_isVar (fun r => (r = 0 → A) ∧ (¬ r = 0 → B)) (nI n, f_valueCount, f_maxConstraints, f_maxLevel, f_allValues, f_allVars, f_status, f_currentLevel, f_constraintCount, f_searchState, f_searchDirection, f_foundCount, f_depth, f_trailSize, f_queueHead, f_queueSize, f_pendingMask, f_scopeSize, a_dom, a_savedDom, a_savedCount, a_savedStatus, a_kindOf, a_scopeOf, a_lowBound, a_highBound, a_tupleCount, a_coef, a_tuples, a_newTuple, a_solution, a_todo, a_mark, a_work, a_trailVar, a_trailMask, a_queue, a_inVar, a_inMask, a_outMask, a_matchOf, a_owner, a_reachedFrom, a_bfs, a_reach, a_termCoef, a_termMin, a_span, a_forward, a_backward) (nI x) :=
  br_f (nI_pos (by omega)) (br_f (nI_ge hx hn) (br_f (by decide) b))
theorem xh_ian {A B : Prop} {p : Int32} {n : Nat} (hn : n < 2 ^ 31) (h : p < 0 ∨ nI n ≤ p) (a : A) : wpX_isValue (fun r => (r = 0 → A) ∧ (¬ r = 0 → B)) (f_varCount, nI n, f_maxConstraints, f_maxLevel, f_allValues, f_allVars, f_status, f_currentLevel, f_constraintCount, f_searchState, f_searchDirection, f_foundCount, f_depth, f_trailSize, f_queueHead, f_queueSize, f_pendingMask, f_scopeSize, a_dom, a_savedDom, a_savedCount, a_savedStatus, a_kindOf, a_scopeOf, a_lowBound, a_highBound, a_tupleCount, a_coef, a_tuples, a_newTuple, a_solution, a_todo, a_mark, a_work, a_trailVar, a_trailMask, a_queue, a_inVar, a_inMask, a_outMask, a_matchOf, a_owner, a_reachedFrom, a_bfs, a_reach, a_termCoef, a_termMin, a_span, a_forward, a_backward) p := by
  rcases h with h | h
  · exact br_t h (br_t rfl a)
  · exact br_f (big_nm1 hn h).2.1 (br_t h (br_t rfl a))
theorem xh_iay {A B : Prop} {n x : Nat} (hn : n < 2 ^ 31) (hx : x < n) (b : B) : wpX_isValue (fun r => (r = 0 → A) ∧ (¬ r = 0 → B)) (f_varCount, nI n, f_maxConstraints, f_maxLevel, f_allValues, f_allVars, f_status, f_currentLevel, f_constraintCount, f_searchState, f_searchDirection, f_foundCount, f_depth, f_trailSize, f_queueHead, f_queueSize, f_pendingMask, f_scopeSize, a_dom, a_savedDom, a_savedCount, a_savedStatus, a_kindOf, a_scopeOf, a_lowBound, a_highBound, a_tupleCount, a_coef, a_tuples, a_newTuple, a_solution, a_todo, a_mark, a_work, a_trailVar, a_trailMask, a_queue, a_inVar, a_inMask, a_outMask, a_matchOf, a_owner, a_reachedFrom, a_bfs, a_reach, a_termCoef, a_termMin, a_span, a_forward, a_backward) (nI x) :=
  br_f (nI_pos (by omega)) (br_f (nI_ge hx hn) (br_f (by decide) b))
theorem xh_r0 {A : Prop} {B : Int32 → Prop} (h1 : f_searchState = 0) (h2 : ¬ f_status = -12) (a : A) : wpX_refusal (fun r => (r = 0 → A) ∧ (¬ r = 0 → B r)) (f_varCount, f_valueCount, f_maxConstraints, f_maxLevel, f_allValues, f_allVars, f_status, f_currentLevel, f_constraintCount, f_searchState, f_searchDirection, f_foundCount, f_depth, f_trailSize, f_queueHead, f_queueSize, f_pendingMask, f_scopeSize, a_dom, a_savedDom, a_savedCount, a_savedStatus, a_kindOf, a_scopeOf, a_lowBound, a_highBound, a_tupleCount, a_coef, a_tuples, a_newTuple, a_solution, a_todo, a_mark, a_work, a_trailVar, a_trailMask, a_queue, a_inVar, a_inMask, a_outMask, a_matchOf, a_owner, a_reachedFrom, a_bfs, a_reach, a_termCoef, a_termMin, a_span, a_forward, a_backward) :=
  br_t h1 (br_f h2 (br_t rfl a))
theorem xh_r12 {A : Prop} {B : Int32 → Prop} (h1 : f_searchState = 0) (h2 : f_status = -12) (b : B (-12)) : wpX_refusal (fun r => (r = 0 → A) ∧ (¬ r = 0 → B r)) (f_varCount, f_valueCount, f_maxConstraints, f_maxLevel, f_allValues, f_allVars, f_status, f_currentLevel, f_constraintCount, f_searchState, f_searchDirection, f_foundCount, f_depth, f_trailSize, f_queueHead, f_queueSize, f_pendingMask, f_scopeSize, a_dom, a_savedDom, a_savedCount, a_savedStatus, a_kindOf, a_scopeOf, a_lowBound, a_highBound, a_tupleCount, a_coef, a_tuples, a_newTuple, a_solution, a_todo, a_mark, a_work, a_trailVar, a_trailMask, a_queue, a_inVar, a_inMask, a_outMask, a_matchOf, a_owner, a_reachedFrom, a_bfs, a_reach, a_termCoef, a_termMin, a_span, a_forward, a_backward) :=
  br_t h1 (br_t h2 (br_f (by decide) b))
theorem xh_r11 {A : Prop} {B : Int32 → Prop} (h1 : ¬ f_searchState = 0) (b : B (-11)) : wpX_refusal (fun r => (r = 0 → A) ∧ (¬ r = 0 → B r)) (f_varCount, f_valueCount, f_maxConstraints, f_maxLevel, f_allValues, f_allVars, f_status, f_currentLevel, f_constraintCount, f_searchState, f_searchDirection, f_foundCount, f_depth, f_trailSize, f_queueHead, f_queueSize, f_pendingMask, f_scopeSize, a_dom, a_savedDom, a_savedCount, a_savedStatus, a_kindOf, a_scopeOf, a_lowBound, a_highBound, a_tupleCount, a_coef, a_tuples, a_newTuple, a_solution, a_todo, a_mark, a_work, a_trailVar, a_trailMask, a_queue, a_inVar, a_inMask, a_outMask, a_matchOf, a_owner, a_reachedFrom, a_bfs, a_reach, a_termCoef, a_termMin, a_span, a_forward, a_backward) :=
  br_f h1 (br_f (by decide) b)
theorem xh_dsl {post : Int32 → Prop} {n : Nat} (hn : n ≤ 6) (h : post (dsc a_coef n)) : ∀ d b : Nat, b + d = n → wX_draftSumScope_4 post (nI n) f_valueCount f_maxConstraints f_maxLevel f_allValues f_allVars f_status f_currentLevel f_constraintCount f_searchState f_searchDirection f_foundCount f_depth f_trailSize f_queueHead f_queueSize f_pendingMask f_scopeSize a_dom a_savedDom a_savedCount a_savedStatus a_kindOf a_scopeOf a_lowBound a_highBound a_tupleCount a_coef a_tuples a_newTuple a_solution a_todo a_mark a_work a_trailVar a_trailMask a_queue a_inVar a_inMask a_outMask a_matchOf a_owner a_reachedFrom a_bfs a_reach a_termCoef a_termMin a_span a_forward a_backward (d + 1) (dsc a_coef b) (nI b) := by
  intro d
  induction d with
  | zero =>
    intro b hb
    obtain rfl : b = n := by omega
    exact br_t (nI_le (Nat.le_refl _) (by omega)) h
  | succ d ih =>
    intro b hb
    have e : (36 + nI b : Int32) = nI (36 + b) := nI_add 36 b
    have ec : (36 + nI b : Int32).toNatClampNeg = 36 + b := by rw [e, nI_clamp (by omega)]
    refine br_f (nI_ge (by omega) (by omega)) ⟨by rw [e]; exact vp_in_nI (by omega) (by omega), ?_⟩
    rw [ec]
    by_cases z : a_coef (36 + b) = 0
    · refine br_t z (nm_r (e' := nI (b + 1)) (nI_1 b) ?_)
      have := ih (b + 1) (by omega)
      rwa [dsc, if_pos z] at this
    · refine br_f z (nm_e (nm_r (e' := nI (b + 1)) (nI_1 b) ?_))
      have := ih (b + 1) (by omega)
      rwa [dsc, if_neg z] at this
theorem xh_ds {post : Int32 → Prop} {n : Nat} (hn : n ≤ 6) (h : post (dsc a_coef n)) : wpX_draftSumScope post (nI n, f_valueCount, f_maxConstraints, f_maxLevel, f_allValues, f_allVars, f_status, f_currentLevel, f_constraintCount, f_searchState, f_searchDirection, f_foundCount, f_depth, f_trailSize, f_queueHead, f_queueSize, f_pendingMask, f_scopeSize, a_dom, a_savedDom, a_savedCount, a_savedStatus, a_kindOf, a_scopeOf, a_lowBound, a_highBound, a_tupleCount, a_coef, a_tuples, a_newTuple, a_solution, a_todo, a_mark, a_work, a_trailVar, a_trailMask, a_queue, a_inVar, a_inMask, a_outMask, a_matchOf, a_owner, a_reachedFrom, a_bfs, a_reach, a_termCoef, a_termMin, a_span, a_forward, a_backward) :=
  Exists.intro (n + 1) (xh_dsl hn h n 0 (by omega))
theorem xh_son {post : Int32 → Prop} {c : Int32} {cnt : Nat} (hc : cnt < 2 ^ 31) (h : c < -1 ∨ nI cnt ≤ c) (a : post (-1)) : wpX_slotOf post (f_varCount, f_valueCount, f_maxConstraints, f_maxLevel, f_allValues, f_allVars, f_status, f_currentLevel, nI cnt, f_searchState, f_searchDirection, f_foundCount, f_depth, f_trailSize, f_queueHead, f_queueSize, f_pendingMask, f_scopeSize, a_dom, a_savedDom, a_savedCount, a_savedStatus, a_kindOf, a_scopeOf, a_lowBound, a_highBound, a_tupleCount, a_coef, a_tuples, a_newTuple, a_solution, a_todo, a_mark, a_work, a_trailVar, a_trailMask, a_queue, a_inVar, a_inMask, a_outMask, a_matchOf, a_owner, a_reachedFrom, a_bfs, a_reach, a_termCoef, a_termMin, a_span, a_forward, a_backward) c := by
  rcases h with h | h
  · exact br_t h a
  · have z := big_nm1 hc h
    exact br_f z.1 (br_f z.2.2.1 a)
theorem xh_so6 {post : Int32 → Prop} {cnt : Nat} (hc : cnt < 2 ^ 31) (a : post 6) : wpX_slotOf post (f_varCount, f_valueCount, f_maxConstraints, f_maxLevel, f_allValues, f_allVars, f_status, f_currentLevel, nI cnt, f_searchState, f_searchDirection, f_foundCount, f_depth, f_trailSize, f_queueHead, f_queueSize, f_pendingMask, f_scopeSize, a_dom, a_savedDom, a_savedCount, a_savedStatus, a_kindOf, a_scopeOf, a_lowBound, a_highBound, a_tupleCount, a_coef, a_tuples, a_newTuple, a_solution, a_todo, a_mark, a_work, a_trailVar, a_trailMask, a_queue, a_inVar, a_inMask, a_outMask, a_matchOf, a_owner, a_reachedFrom, a_bfs, a_reach, a_termCoef, a_termMin, a_span, a_forward, a_backward) (-1) := by
  have h1 : (-1 : Int32) < nI cnt := by
    rw [Int32.lt_iff_toInt_lt, nI_toInt hc, show (-1 : Int32).toInt = -1 by decide]; omega
  exact br_f (by decide) (br_t h1 (br_t rfl a))
theorem xh_soy {post : Int32 → Prop} {c cnt : Nat} (hc : cnt < 2 ^ 31) (h : c < cnt) (a : post (nI c)) : wpX_slotOf post (f_varCount, f_valueCount, f_maxConstraints, f_maxLevel, f_allValues, f_allVars, f_status, f_currentLevel, nI cnt, f_searchState, f_searchDirection, f_foundCount, f_depth, f_trailSize, f_queueHead, f_queueSize, f_pendingMask, f_scopeSize, a_dom, a_savedDom, a_savedCount, a_savedStatus, a_kindOf, a_scopeOf, a_lowBound, a_highBound, a_tupleCount, a_coef, a_tuples, a_newTuple, a_solution, a_todo, a_mark, a_work, a_trailVar, a_trailMask, a_queue, a_inVar, a_inMask, a_outMask, a_matchOf, a_owner, a_reachedFrom, a_bfs, a_reach, a_termCoef, a_termMin, a_span, a_forward, a_backward) (nI c) := by
  have z := nI_nm1 (j := c) (by omega)
  exact br_f z.1 (br_t (nI_lt h hc) (br_f z.2 a))
end
end
section
/-! the reference's small methods -/
section
variable {f_n f_v f_maxPosted f_maxLevel f_now f_state f_direction f_found f_place : Int32} {a_dom a_status a_count a_kind a_scope a_low a_high a_coef a_tuples a_tuple a_solution a_value a_work a_seen a_args : Nat → Int32}
theorem yh_in {A B : Prop} {m : Int32} {i : Nat} (hi : i < 32) (hf : bt m i = false → A) (ht : bt m i = true → B) : wpY_in (fun r => (r = 0 → A) ∧ (¬ r = 0 → B)) (f_n, f_v, f_maxPosted, f_maxLevel, f_now, f_state, f_direction, f_found, f_place, a_dom, a_status, a_count, a_kind, a_scope, a_low, a_high, a_coef, a_tuples, a_tuple, a_solution, a_value, a_work, a_seen, a_args) m (nI i) := by
  cases hv : bt m i with
  | false => exact br_f (fun e => by rw [gb_1 m hi, hv] at e; cases e) (br_t rfl (hf hv))
  | true => exact br_t ((gb_1 m hi).mpr hv) (br_f (by decide) (ht hv))
theorem yh_szl {post : Int32 → Prop} {m : Int32} (h : post (nI (pcN m 6))) : ∀ d b : Nat, b + d = 6 → wY_size_4 post m f_n f_v f_maxPosted f_maxLevel f_now f_state f_direction f_found f_place a_dom a_status a_count a_kind a_scope a_low a_high a_coef a_tuples a_tuple a_solution a_value a_work a_seen a_args (d + 1) (nI (pcN m b)) (nI b) := by
  intro d
  induction d with
  | zero =>
    intro b hb
    obtain rfl : b = 6 := by omega
    exact br_t (by decide) h
  | succ d ih =>
    intro b hb
    refine br_f (nI_ge (b := 6) (by omega) (by decide)) (yh_in (by omega) ?_ ?_)
    · intro hv
      refine nm_r (e' := nI (b + 1)) (nI_1 b) ?_
      have := ih (b + 1) (by omega)
      rwa [pc_s0 hv] at this
    · intro hv
      refine nm_r (e' := nI (pcN m b + 1)) (nI_1 _) (nm_r (e' := nI (b + 1)) (nI_1 b) ?_)
      have := ih (b + 1) (by omega)
      rwa [pc_s1 hv] at this
theorem yh_sz {post : Int32 → Prop} {m : Int32} (h : post (nI (pcN m 6))) : wpY_size post (f_n, f_v, f_maxPosted, f_maxLevel, f_now, f_state, f_direction, f_found, f_place, a_dom, a_status, a_count, a_kind, a_scope, a_low, a_high, a_coef, a_tuples, a_tuple, a_solution, a_value, a_work, a_seen, a_args) m :=
  Exists.intro 7 (yh_szl h 6 0 rfl)
theorem yh_r0 {A : Prop} {B : Int32 → Prop} {L : Nat} (hL : L < 6) (h1 : f_state = 0) (h2 : ¬ a_status L = -12) (a : A) : wpY_refused (fun r => (r = 0 → A) ∧ (¬ r = 0 → B r)) (f_n, f_v, f_maxPosted, f_maxLevel, nI L, f_state, f_direction, f_found, f_place, a_dom, a_status, a_count, a_kind, a_scope, a_low, a_high, a_coef, a_tuples, a_tuple, a_solution, a_value, a_work, a_seen, a_args) :=
  br_t h1 ⟨vp_in_nI hL (by omega), by rw [nI_clamp (by omega)]; exact br_f h2 (br_t rfl a)⟩
theorem yh_r12 {A : Prop} {B : Int32 → Prop} {L : Nat} (hL : L < 6) (h1 : f_state = 0) (h2 : a_status L = -12) (b : B (-12)) : wpY_refused (fun r => (r = 0 → A) ∧ (¬ r = 0 → B r)) (f_n, f_v, f_maxPosted, f_maxLevel, nI L, f_state, f_direction, f_found, f_place, a_dom, a_status, a_count, a_kind, a_scope, a_low, a_high, a_coef, a_tuples, a_tuple, a_solution, a_value, a_work, a_seen, a_args) :=
  br_t h1 ⟨vp_in_nI hL (by omega), by rw [nI_clamp (by omega)]; exact br_t h2 (br_f (by decide) b)⟩
theorem yh_r11 {A : Prop} {B : Int32 → Prop} (h1 : ¬ f_state = 0) (b : B (-11)) : wpY_refused (fun r => (r = 0 → A) ∧ (¬ r = 0 → B r)) (f_n, f_v, f_maxPosted, f_maxLevel, f_now, f_state, f_direction, f_found, f_place, a_dom, a_status, a_count, a_kind, a_scope, a_low, a_high, a_coef, a_tuples, a_tuple, a_solution, a_value, a_work, a_seen, a_args) :=
  br_f h1 (br_f (by decide) b)
theorem yh_dsl {post : Int32 → Prop} {n : Nat} (hn : n ≤ 6) (h : post (dsc a_coef n)) : ∀ d b : Nat, b + d = n → wY_draftScope_4 post (nI n) f_v f_maxPosted f_maxLevel f_now f_state f_direction f_found f_place a_dom a_status a_count a_kind a_scope a_low a_high a_coef a_tuples a_tuple a_solution a_value a_work a_seen a_args (d + 1) (dsc a_coef b) (nI b) := by
  intro d
  induction d with
  | zero =>
    intro b hb
    obtain rfl : b = n := by omega
    exact br_t (nI_le (Nat.le_refl _) (by omega)) h
  | succ d ih =>
    intro b hb
    have e : (36 + nI b : Int32) = nI (36 + b) := nI_add 36 b
    have ec : (36 + nI b : Int32).toNatClampNeg = 36 + b := by rw [e, nI_clamp (by omega)]
    refine br_f (nI_ge (by omega) (by omega)) ⟨by rw [e]; exact vp_in_nI (by omega) (by omega), ?_⟩
    rw [ec]
    by_cases z : a_coef (36 + b) = 0
    · refine br_t z (nm_r (e' := nI (b + 1)) (nI_1 b) ?_)
      have := ih (b + 1) (by omega)
      rwa [dsc, if_pos z] at this
    · refine br_f z (nm_e (nm_r (e' := nI (b + 1)) (nI_1 b) ?_))
      have := ih (b + 1) (by omega)
      rwa [dsc, if_neg z] at this
theorem yh_ds {post : Int32 → Prop} {n : Nat} (hn : n ≤ 6) (h : post (dsc a_coef n)) : wpY_draftScope post (nI n, f_v, f_maxPosted, f_maxLevel, f_now, f_state, f_direction, f_found, f_place, a_dom, a_status, a_count, a_kind, a_scope, a_low, a_high, a_coef, a_tuples, a_tuple, a_solution, a_value, a_work, a_seen, a_args) :=
  Exists.intro (n + 1) (yh_dsl hn h n 0 (by omega))
theorem yh_rown {post : Int32 → Prop} {c : Int32} {cnt L : Nat} (hc : cnt < 2 ^ 31) (hL : L < 6) (hn : a_count L = nI cnt) (h : c < -1 ∨ nI cnt ≤ c) (a : post (-10)) : wpY_row post (f_n, f_v, f_maxPosted, f_maxLevel, nI L, f_state, f_direction, f_found, f_place, a_dom, a_status, a_count, a_kind, a_scope, a_low, a_high, a_coef, a_tuples, a_tuple, a_solution, a_value, a_work, a_seen, a_args) c := by
  rcases h with h | h
  · exact br_t h a
  · have z := big_nm1 hc h
    exact br_f z.1 ⟨vp_in_nI hL (by omega), by rw [nI_clamp (by omega), hn]; exact br_f z.2.2.1 a⟩
theorem yh_row6 {post : Int32 → Prop} {cnt L : Nat} (hc : cnt < 2 ^ 31) (hL : L < 6) (hn : a_count L = nI cnt) (a : post 6) : wpY_row post (f_n, f_v, f_maxPosted, f_maxLevel, nI L, f_state, f_direction, f_found, f_place, a_dom, a_status, a_count, a_kind, a_scope, a_low, a_high, a_coef, a_tuples, a_tuple, a_solution, a_value, a_work, a_seen, a_args) (-1) := by
  have h1 : (-1 : Int32) < nI cnt := by
    rw [Int32.lt_iff_toInt_lt, nI_toInt hc, show (-1 : Int32).toInt = -1 by decide]; omega
  exact br_f (by decide) ⟨vp_in_nI hL (by omega), by rw [nI_clamp (by omega), hn]; exact br_t h1 (br_t rfl a)⟩
theorem yh_rowy {post : Int32 → Prop} {c cnt L : Nat} (hc : cnt < 2 ^ 31) (hL : L < 6) (hn : a_count L = nI cnt) (h : c < cnt) (a : post (nI c)) : wpY_row post (f_n, f_v, f_maxPosted, f_maxLevel, nI L, f_state, f_direction, f_found, f_place, a_dom, a_status, a_count, a_kind, a_scope, a_low, a_high, a_coef, a_tuples, a_tuple, a_solution, a_value, a_work, a_seen, a_args) (nI c) := by
  have z := nI_nm1 (j := c) (by omega)
  exact br_f z.1 ⟨vp_in_nI hL (by omega), by rw [nI_clamp (by omega), hn]; exact br_t (nI_lt h hc) (br_f z.2 a)⟩
end
end
section
/-! all-different: matchings, pure -/
section
/-- an assignment of the places below k, within the masks, all different -/
def adA (k : Nat) (m : Nat → Int32) (σ : Nat → Nat) : Prop :=
  (∀ i, i < k → bt (m i) (σ i) = true) ∧ ∀ i j, i < k → j < i → σ i ≠ σ j
theorem adA_inj {k : Nat} {m : Nat → Int32} {σ : Nat → Nat} (h : adA k m σ) {i j : Nat} (hi : i < k) (hj : j < k) (e : σ i = σ j) : i = j := by
  rcases Nat.lt_trichotomy i j with z | z | z
  · exact absurd e.symm (h.2 j i hj z)
  · exact z
  · exact absurd e (h.2 i j hi z)
/-- paths of a relation -/
def adP (E : Nat → Nat → Prop) (a g : Nat) : Prop := ∃ (l : Nat) (w : Nat → Nat), w 0 = a ∧ w l = g ∧ ∀ t, t < l → E (w t) (w (t + 1))
theorem adP_r (E : Nat → Nat → Prop) (a : Nat) : adP E a a := ⟨0, fun _ => a, rfl, rfl, fun t ht => absurd ht (by omega)⟩
theorem adP_1 {E : Nat → Nat → Prop} {a b : Nat} (h : E a b) : adP E a b :=
  ⟨1, fun t => if t = 0 then a else b, rfl, rfl, fun t ht => by
    obtain rfl : t = 0 := by omega
    exact h⟩
theorem adP_t {E : Nat → Nat → Prop} {a b c : Nat} (h1 : adP E a b) (h2 : adP E b c) : adP E a c := by
  obtain ⟨l, w, e0, el, hw⟩ := h1
  obtain ⟨l', w', e0', el', hw'⟩ := h2
  refine ⟨l + l', fun t => if t < l then w t else w' (t - l), ?_, ?_, ?_⟩
  · show (if 0 < l then w 0 else w' (0 - l)) = a
    by_cases z : 0 < l
    · rw [if_pos z, e0]
    · obtain rfl : l = 0 := by omega
      rw [if_neg z, ← e0, el]; exact e0'
  · show (if l + l' < l then w (l + l') else w' (l + l' - l)) = c
    rw [if_neg (by omega), Nat.add_sub_cancel_left, el']
  · intro t ht
    show E (if t < l then w t else w' (t - l)) (if t + 1 < l then w (t + 1) else w' (t + 1 - l))
    by_cases z : t < l
    · rw [if_pos z]
      by_cases y : t + 1 < l
      · rw [if_pos y]; exact hw t z
      · rw [if_neg y]
        obtain rfl : l = t + 1 := by omega
        rw [Nat.sub_self, e0', ← el]; exact hw t z
    · rw [if_neg z, if_neg (by omega), show t + 1 - l = t - l + 1 by omega]
      exact hw' (t - l) (by omega)
/-- turning a path: M matches the places other than i; along w from a the last value is taken by no place but i -/
theorem ad_turn {k i : Nat} {m : Nat → Int32} (hi : i < k) : ∀ (l : Nat) (M : Nat → Nat) (w : Nat → Nat),
    (∀ j, j < k → j ≠ i → bt (m j) (M j) = true) →
    (∀ j j', j < k → j' < k → j ≠ i → j' ≠ i → M j = M j' → j = j') →
    bt (m i) (w 0) = true →
    (∀ t, t < l → ∃ j, j < k ∧ j ≠ i ∧ M j = w t ∧ bt (m j) (w (t + 1)) = true) →
    (∀ j, j < k → j ≠ i → M j ≠ w l) → ∃ σ, adA k m σ ∧ σ i = w 0 := by
  intro l
  induction l using Nat.strongRecOn with
  | ind l ih =>
    intro M w hM hMi ha he hg
    cases l with
    | zero =>
      refine ⟨fun j => if j = i then w 0 else M j, ⟨?_, ?_⟩, if_pos rfl⟩
      · intro j hj
        show bt (m j) (if j = i then w 0 else M j) = true
        by_cases z : j = i
        · rw [if_pos z, z]; exact ha
        · rw [if_neg z]; exact hM j hj z
      · intro j j' hj hj'
        show (if j = i then w 0 else M j) ≠ (if j' = i then w 0 else M j')
        by_cases z : j = i
        · rw [if_pos z, if_neg (by omega)]; exact fun e => hg j' (by omega) (by omega) e.symm
        · rw [if_neg z]
          by_cases y : j' = i
          · rw [if_pos y]; exact hg j hj z
          · rw [if_neg y]; intro e; have := hMi j j' hj (by omega) z y e; omega
    | succ l =>
      obtain ⟨p, hp, hpi, ep, hpw⟩ := he l (by omega)
      obtain ⟨t0, ht0, hmin⟩ := pk_least (fun t => w t = w l) ⟨l, rfl⟩
      have ht0l : t0 ≤ l := by
        rcases Nat.lt_or_ge l t0 with z | z
        · exact absurd rfl (hmin l z)
        · exact z
      refine ih t0 (by omega) (fun j => if j = p then w (l + 1) else M j) w ?_ ?_ ha ?_ ?_
      · intro j hj hji
        show bt (m j) (if j = p then w (l + 1) else M j) = true
        by_cases z : j = p
        · rw [if_pos z, z]; exact hpw
        · rw [if_neg z]; exact hM j hj hji
      · intro j j' hj hj' hji hji' e
        have e : (if j = p then w (l + 1) else M j) = (if j' = p then w (l + 1) else M j') := e
        by_cases z : j = p
        · by_cases y : j' = p
          · omega
          · rw [if_pos z, if_neg y] at e; exact absurd e.symm (hg j' hj' hji')
        · by_cases y : j' = p
          · rw [if_neg z, if_pos y] at e; exact absurd e (hg j hj hji)
          · rw [if_neg z, if_neg y] at e; exact hMi j j' hj hj' hji hji' e
      · intro t ht
        obtain ⟨j, h1, h2, h3, h4⟩ := he t (by omega)
        have hjp : j ≠ p := fun e => hmin t ht (by rw [← h3, e, ep])
        exact ⟨j, h1, h2, by show (if j = p then w (l + 1) else M j) = w t; rw [if_neg hjp, h3], h4⟩
      · intro j hj hji
        show (if j = p then w (l + 1) else M j) ≠ w t0
        rw [ht0]
        by_cases z : j = p
        · rw [if_pos z, ← ep]; exact fun e => hg p hp hpi e.symm
        · rw [if_neg z, ← ep]; exact fun e => z (hMi j p hj hp hji hpi e)
/-- the matching in the arrays -/
def adM (k V : Nat) (m mo ow : Nat → Int32) : Prop :=
  (∀ i, i < 5 → mo i = -1 ∨ ∃ a, a < V ∧ mo i = nI a ∧ bt (m i) a = true ∧ ow a = nI i) ∧
  (∀ a, a < 6 → ow a = -1 ∨ ∃ i, i < k ∧ ow a = nI i ∧ mo i = nI a)
theorem nI_inj {a b : Nat} (ha : a < 2 ^ 31) (hb : b < 2 ^ 31) (h : nI a = nI b) : a = b := (nI_eq ha hb).mp h
theorem nI_m1 {a : Nat} (ha : a < 2 ^ 31) (h : nI a = -1) : False := (nI_nm1 ha).2 h
/-- the edges on the values -/
def adE (k : Nat) (m ow : Nat → Int32) (b c : Nat) : Prop := ∃ j, j < k ∧ ow b = nI j ∧ bt (m j) c = true
/-- what the filter must answer -/
theorem ad_sup {k V : Nat} {m mo ow : Nat → Int32} {M : Nat → Nat} {R : Nat → Nat → Prop} (hk : k ≤ 5) (hV : V ≤ 6)
    (hm : ∀ i, i < k → Msk V (m i)) (hA : adM k V m mo ow) (hM : ∀ i, i < k → M i < V ∧ mo i = nI (M i))
    (hs : ∀ a b, a < V → R a b → adP (adE k m ow) a b)
    (hr : ∀ a, a < V → R a a) (hc : ∀ a b c, a < V → R a b → b < V → adE k m ow b c → R a c)
    {i a : Nat} (hi : i < k) (ha : bt (m i) a = true) :
    (∃ g, g < V ∧ R a g ∧ (ow g = -1 ∨ g = M i)) ↔ ∃ σ, adA k m σ ∧ σ i = a := by
  have hMb : ∀ j, j < k → bt (m j) (M j) = true ∧ ow (M j) = nI j := by
    intro j hj
    rcases hA.1 j (by omega) with h | ⟨b, hb, e, h1, h2⟩
    · rw [(hM j hj).2] at h; exact (nI_m1 (by have := (hM j hj).1; omega) h).elim
    · have : b = M j := nI_inj (by omega) (by have := (hM j hj).1; omega) (e.symm.trans (hM j hj).2)
      exact this ▸ ⟨h1, h2⟩
  have hMi : ∀ j j', j < k → j' < k → M j = M j' → j = j' := by
    intro j j' hj hj' e
    have := (hMb j hj).2
    rw [e, (hMb j' hj').2] at this
    exact (nI_inj (by omega) (by omega) this).symm
  have hav : a < V := mk_lt (hm i hi) ha
  constructor
  · rintro ⟨g, hg, hR, hfree⟩
    obtain ⟨l, w, e0, el, hw⟩ := hs a g hav hR
    obtain ⟨t0, ⟨ht0l, ht0⟩, hmin⟩ := pk_least (fun t => t ≤ l ∧ ∀ j, j < k → j ≠ i → M j ≠ w t) ⟨l, Nat.le_refl _, fun j hj hji e => by
      rw [el] at e
      rcases hfree with h | h
      · rw [← e, (hMb j hj).2] at h; exact nI_m1 (by omega) h
      · exact hji (hMi j i hj hi (e.trans h))⟩
    obtain ⟨σ, h1, h2⟩ := ad_turn (m := m) hi t0 M w (fun j hj _ => (hMb j hj).1) (fun j j' hj hj' _ _ => hMi j j' hj hj') (by rw [e0]; exact ha)
      (fun t ht => by
        have hn : ¬ ∀ j, j < k → j ≠ i → M j ≠ w t := fun h => hmin t ht ⟨by omega, h⟩
        obtain ⟨j, hj⟩ := Classical.not_forall.mp hn
        obtain ⟨hjk, hj⟩ := Classical.not_imp.mp hj
        obtain ⟨hji, hj⟩ := Classical.not_imp.mp hj
        have ej : M j = w t := Classical.not_not.mp hj
        obtain ⟨j', hj'k, ho, hb⟩ := hw t (by omega)
        have : j' = j := by
          rw [← ej, (hMb j hjk).2] at ho
          exact (nI_inj (by omega) (by omega) ho).symm
        subst this
        exact ⟨j', hjk, hji, ej, hb⟩) ht0
    exact ⟨σ, h1, h2.trans e0⟩
  · rintro ⟨σ, hσ, e⟩
    apply Classical.byContradiction
    intro hn
    have hn' : ∀ g, g < V → R a g → ¬ ow g = -1 ∧ g ≠ M i := fun g hg hR => ⟨fun h => hn ⟨g, hg, hR, Or.inl h⟩, fun h => hn ⟨g, hg, hR, Or.inr h⟩⟩
    -- the owner of a reached value
    have how : ∀ g, g < V → R a g → ∃ j, j < k ∧ ow g = nI j ∧ M j = g ∧ j ≠ i := by
      intro g hg hR
      rcases hA.2 g (by omega) with h | ⟨j, hj, h1, h2⟩
      · exact absurd h (hn' g hg hR).1
      · have : M j = g := nI_inj (by have := (hM j hj).1; omega) (by omega) ((hM j hj).2.symm.trans h2)
        exact ⟨j, hj, h1, this, fun z => (hn' g hg hR).2 (by rw [← this, z])⟩
    obtain ⟨p, ⟨hp1, hp2⟩, hp3⟩ := fs_surj k (fun j => j < k ∧ (j = i ∨ R a (M j))) (fun j => (ow (σ j)).toNatClampNeg) (fun j h => h.1)
      (fun j h => by
        have hR : R a (σ j) := by
          rcases h.2 with z | z
          · rw [z, e]; exact hr a hav
          · exact hc a (M j) (σ j) hav z (hM j h.1).1 ⟨j, h.1, (hMb j h.1).2, hσ.1 j h.1⟩
        have hv : σ j < V := mk_lt (hm j h.1) (hσ.1 j h.1)
        obtain ⟨q, hq, h1, h2, h3⟩ := how (σ j) hv hR
        show (ow (σ j)).toNatClampNeg < k ∧ ((ow (σ j)).toNatClampNeg = i ∨ R a (M (ow (σ j)).toNatClampNeg))
        rw [h1, nI_clamp (by omega)]
        exact ⟨hq, Or.inr (by rw [h2]; exact hR)⟩)
      (fun j j' h h' ee => by
        have key : ∀ j, (j < k ∧ (j = i ∨ R a (M j))) → ∃ q, q < k ∧ ow (σ j) = nI q ∧ M q = σ j := by
          intro j h
          have hR : R a (σ j) := by
            rcases h.2 with z | z
            · rw [z, e]; exact hr a hav
            · exact hc a (M j) (σ j) hav z (hM j h.1).1 ⟨j, h.1, (hMb j h.1).2, hσ.1 j h.1⟩
          obtain ⟨q, hq, h1, h2, h3⟩ := how (σ j) (mk_lt (hm j h.1) (hσ.1 j h.1)) hR
          exact ⟨q, hq, h1, h2⟩
        obtain ⟨q, hq, h1, h2⟩ := key j h
        obtain ⟨q', hq', h1', h2'⟩ := key j' h'
        have ee : (ow (σ j)).toNatClampNeg = (ow (σ j')).toNatClampNeg := ee
        rw [h1, h1', nI_clamp (by omega), nI_clamp (by omega)] at ee
        subst ee
        exact adA_inj hσ h.1 h'.1 (h2.symm.trans h2')) i ⟨hi, Or.inl rfl⟩
    have hR : R a (σ p) := by
      rcases hp2 with z | z
      · rw [z, e]; exact hr a hav
      · exact hc a (M p) (σ p) hav z (hM p hp1).1 ⟨p, hp1, (hMb p hp1).2, hσ.1 p hp1⟩
    obtain ⟨q, hq, h1, h2, h3⟩ := how (σ p) (mk_lt (hm p hp1) (hσ.1 p hp1)) hR
    have hp3 : (ow (σ p)).toNatClampNeg = i := hp3
    rw [h1, nI_clamp (by omega)] at hp3
    exact h3 hp3
end
end
section
/-! all-different: the walk of the matching -/
section
/-- a matching but for the value a, which no place has -/
def adH (k V : Nat) (m mo ow : Nat → Int32) (a : Nat) : Prop :=
  (∀ i, i < 5 → mo i = -1 ∨ ∃ b, b < V ∧ b ≠ a ∧ mo i = nI b ∧ bt (m i) b = true ∧ ow b = nI i) ∧
  (∀ b, b < 6 → b ≠ a → ow b = -1 ∨ ∃ i, i < k ∧ ow b = nI i ∧ mo i = nI b)
theorem adH_of {k V : Nat} {m mo ow : Nat → Int32} {a : Nat} (ha : a < 6) (hV : V ≤ 6) (hA : adM k V m mo ow) (ho : ow a = -1) : adH k V m mo ow a := by
  refine ⟨fun i hi => ?_, fun b hb _ => hA.2 b hb⟩
  rcases hA.1 i hi with h | ⟨b, hb, e, h1, h2⟩
  · exact Or.inl h
  · refine Or.inr ⟨b, hb, fun z => ?_, e, h1, h2⟩
    rw [z, ho] at h2
    exact nI_m1 (by omega) h2.symm
theorem adH_end {k V : Nat} {m mo ow : Nat → Int32} {a p : Nat} (hk : k ≤ 5) (hV : V ≤ 6) (hp : p < k) (ha : a < V) (hA : adH k V m mo ow a) (hm : bt (m p) a = true) (ho : mo p = -1) : adM k V m (upd mo p (nI a)) (upd ow a (nI p)) := by
  refine ⟨fun i hi => ?_, fun b hb => ?_⟩
  · by_cases z : i = p
    · subst z; exact Or.inr ⟨a, ha, pk_us, hm, pk_us⟩
    · rw [pk_un z]
      rcases hA.1 i hi with h | ⟨b, hb, hba, e, h1, h2⟩
      · exact Or.inl h
      · exact Or.inr ⟨b, hb, e, h1, by rw [pk_un hba]; exact h2⟩
  · by_cases z : b = a
    · subst z; exact Or.inr ⟨p, hp, pk_us, pk_us⟩
    · rw [pk_un z]
      rcases hA.2 b hb z with h | ⟨i, hi, h1, h2⟩
      · exact Or.inl h
      · refine Or.inr ⟨i, hi, h1, ?_⟩
        have : i ≠ p := fun e => by rw [e, ho] at h2; exact nI_m1 (by omega) h2.symm
        rw [pk_un this]; exact h2
theorem adH_step {k V : Nat} {m mo ow : Nat → Int32} {a p c : Nat} (hk : k ≤ 5) (hV : V ≤ 6) (hp : p < k) (ha : a < V) (hc : c < V) (hA : adH k V m mo ow a) (hm : bt (m p) a = true) (ho : mo p = nI c) : adH k V m (upd mo p (nI a)) (upd ow a (nI p)) c := by
  have hpc : c ≠ a ∧ ow c = nI p := by
    rcases hA.1 p (by omega) with h | ⟨b, hb, hba, e, h1, h2⟩
    · rw [ho] at h; exact (nI_m1 (by omega) h).elim
    · have : b = c := nI_inj (by omega) (by omega) (e.symm.trans ho)
      exact this ▸ ⟨hba, h2⟩
  refine ⟨fun i hi => ?_, fun b hb hbc => ?_⟩
  · by_cases z : i = p
    · subst z; exact Or.inr ⟨a, ha, fun e => hpc.1 e.symm, pk_us, hm, pk_us⟩
    · rw [pk_un z]
      rcases hA.1 i hi with h | ⟨b, hb, hba, e, h1, h2⟩
      · exact Or.inl h
      · refine Or.inr ⟨b, hb, fun ebc => z ?_, e, h1, by rw [pk_un hba]; exact h2⟩
        rw [ebc, hpc.2] at h2
        exact (nI_inj (by omega) (by omega) h2).symm
  · by_cases z : b = a
    · subst z; exact Or.inr ⟨p, hp, pk_us, pk_us⟩
    · rw [pk_un z]
      rcases hA.2 b hb z with h | ⟨i, hi, h1, h2⟩
      · exact Or.inl h
      · refine Or.inr ⟨i, hi, h1, ?_⟩
        have : i ≠ p := fun e => by
          rw [e, ho] at h2
          exact hbc (nI_inj (by omega) (by omega) h2).symm
        rw [pk_un this]; exact h2
/-- the breadth-first search: bf the places met, vv their values -/
def adB (k V st : Nat) (m mo rf bq : Nat → Int32) (bf vv : Nat → Nat) (tail : Nat) (seen : Int32) : Prop :=
  1 ≤ tail ∧ tail ≤ 5 ∧ bf 0 = st ∧ (∀ t, t < tail → bf t < k ∧ bq t = nI (bf t)) ∧ (∀ s t, s < t → t < tail → bf s ≠ bf t) ∧
  (∀ t, 1 ≤ t → t < tail → vv t < V ∧ mo (bf t) = nI (vv t) ∧ bt seen (vv t) = true ∧ ∃ s, s < t ∧ rf (vv t) = nI (bf s) ∧ bt (m (bf s)) (vv t) = true) ∧
  (∀ a, bt seen a = true → ∃ t, 1 ≤ t ∧ t < tail ∧ vv t = a)
/-- all values of the places before head, and those below v of the place at head, are seen -/
def adV (m : Nat → Int32) (bf : Nat → Nat) (head v : Nat) (seen : Int32) : Prop :=
  (∀ t a, t < head → bt (m (bf t)) a = true → bt seen a = true) ∧ ∀ a, a < v → bt (m (bf head)) a = true → bt seen a = true
/-- a new value with an owner joins -/
theorem adB_add {k V st : Nat} {m mo ow rf bq : Nat → Int32} {bf vv : Nat → Nat} {tail head a q : Nat} {seen : Int32} (hk : k ≤ 5) (hV : V ≤ 6) (hB : adB k V st m mo rf bq bf vv tail seen) (hA : adM k V m mo ow)
    (hst : mo st = -1) (hh : head < tail) (ha : a < V) (hs : bt seen a = false) (hma : bt (m (bf head)) a = true) (hq : q < k) (hqa : mo q = nI a) :
    tail < 5 ∧ adB k V st m mo (upd rf a (nI (bf head))) (upd bq tail (nI q)) (fun t => if t = tail then q else bf t) (fun t => if t = tail then a else vv t) (tail + 1) (seen ||| ((1 : Int32) <<< (nI a &&& 31))) := by
  obtain ⟨h1, h2, h3, h4, h5, h6, h7⟩ := hB
  have hn : ∀ t, t < tail → bf t ≠ q := by
    intro t ht e
    rcases Nat.eq_zero_or_pos t with z | z
    · subst z; rw [← e, h3, hst] at hqa; exact nI_m1 (by omega) hqa.symm
    · obtain ⟨g1, g2, g3, _⟩ := h6 t z ht
      rw [e, hqa] at g2
      have : a = vv t := nI_inj (by omega) (by omega) g2
      rw [← this, hs] at g3; cases g3
  have ht5 : tail < 5 := by
    rcases Nat.lt_or_ge tail 5 with z | z
    · exact z
    · obtain rfl : tail = 5 := by omega
      obtain ⟨t, ht, e⟩ := fs_surj 5 (fun t => t < 5) bf (fun _ h => h) (fun t ht => by have := (h4 t ht).1; omega) (fun s t hs' ht e => by
        rcases Nat.lt_trichotomy s t with z | z | z
        · exact absurd e (h5 s t z ht)
        · exact z
        · exact absurd e.symm (h5 t s z hs')) q (by omega)
      exact absurd e (hn t ht)
  have hbo : ∀ b, bt (seen ||| ((1 : Int32) <<< (nI a &&& 31))) b = true ↔ bt seen b = true ∨ b = a := by
    intro b; rw [b_or, gb_shl1 (by omega), Bool.or_eq_true, decide_eq_true_eq]
  refine ⟨ht5, by omega, by omega, ?_, ?_, ?_, ?_, ?_⟩
  · show (if 0 = tail then q else bf 0) = st
    rw [if_neg (by omega)]; exact h3
  · intro t ht
    show (if t = tail then q else bf t) < k ∧ upd bq tail (nI q) t = nI (if t = tail then q else bf t)
    by_cases z : t = tail
    · rw [if_pos z, z]; exact ⟨hq, pk_us⟩
    · rw [if_neg z, pk_un z]; exact h4 t (by omega)
  · intro s t hst' ht
    show (if s = tail then q else bf s) ≠ (if t = tail then q else bf t)
    rw [if_neg (by omega)]
    by_cases z : t = tail
    · rw [if_pos z]; exact hn s (by omega)
    · rw [if_neg z]; exact h5 s t hst' (by omega)
  · intro t ht1 ht
    show (if t = tail then a else vv t) < V ∧ mo (if t = tail then q else bf t) = nI (if t = tail then a else vv t) ∧ bt (seen ||| ((1 : Int32) <<< (nI a &&& 31))) (if t = tail then a else vv t) = true ∧ ∃ s, s < t ∧ upd rf a (nI (bf head)) (if t = tail then a else vv t) = nI (if s = tail then q else bf s) ∧ bt (m (if s = tail then q else bf s)) (if t = tail then a else vv t) = true
    by_cases z : t = tail
    · rw [if_pos z, if_pos z]
      exact ⟨ha, hqa, (hbo a).mpr (Or.inr rfl), head, by omega, by rw [pk_us, if_neg (by omega)], by rw [if_neg (by omega)]; exact hma⟩
    · rw [if_neg z, if_neg z]
      obtain ⟨g1, g2, g3, s, g4, g5, g6⟩ := h6 t ht1 (by omega)
      have hva : vv t ≠ a := fun e => by rw [e, hs] at g3; cases g3
      exact ⟨g1, g2, (hbo _).mpr (Or.inl g3), s, g4, by rw [pk_un hva, if_neg (by omega)]; exact g5, by rw [if_neg (by omega)]; exact g6⟩
  · intro b hb
    rcases (hbo b).mp hb with h | h
    · obtain ⟨t, g1, g2, g3⟩ := h7 b h
      exact ⟨t, g1, by omega, by show (if t = tail then a else vv t) = b; rw [if_neg (by omega)]; exact g3⟩
    · exact ⟨tail, h1, by omega, by show (if tail = tail then a else vv tail) = b; rw [if_pos rfl, h]⟩
/-- the search without a free value shows that there is no assignment -/
theorem adB_fail {k V st : Nat} {m mo ow rf bq : Nat → Int32} {bf vv : Nat → Nat} {tail : Nat} {seen : Int32} (hk : k ≤ 5) (hV : V ≤ 6) (hB : adB k V st m mo rf bq bf vv tail seen) (hA : adM k V m mo ow)
    (hst : mo st = -1) (hX : ∀ t a, t < tail → bt (m (bf t)) a = true → bt seen a = true) (σ : Nat → Nat) (hσ : adA k m σ) : False := by
  obtain ⟨h1, h2, h3, h4, h5, h6, h7⟩ := hB
  have key : ∀ t, t < tail → ∃ s, 1 ≤ s ∧ s < tail ∧ vv s = σ (bf t) ∧ ow (σ (bf t)) = nI (bf s) := by
    intro t ht
    obtain ⟨s, g1, g2, g3⟩ := h7 _ (hX t _ ht (hσ.1 (bf t) (h4 t ht).1))
    refine ⟨s, g1, g2, g3, ?_⟩
    have g4 := (h6 s g1 g2).2.1
    have hbs := (h4 s g2).1
    rcases hA.1 (bf s) (by omega) with h | ⟨b, hb, e, _, g5⟩
    · rw [g4] at h; exact (nI_m1 (by have := (h6 s g1 g2).1; omega) h).elim
    · have : b = vv s := nI_inj (by omega) (by have := (h6 s g1 g2).1; omega) (e.symm.trans g4)
      rw [← g3, ← this]; exact g5
  obtain ⟨p, ⟨t, ht, rfl⟩, e⟩ := fs_surj k (fun p => ∃ t, t < tail ∧ bf t = p) (fun p => (ow (σ p)).toNatClampNeg) (fun p ⟨t, ht, e⟩ => e ▸ (h4 t ht).1)
    (fun p ⟨t, ht, e⟩ => by
      obtain ⟨s, g1, g2, g3, g4⟩ := key t ht
      refine ⟨s, g2, ?_⟩
      show bf s = (ow (σ p)).toNatClampNeg
      have := (h4 s g2).1
      rw [← e, g4, nI_clamp (by omega)])
    (fun p p' ⟨t, ht, e⟩ ⟨t', ht', e'⟩ ee => by
      subst e e'
      have ee : (ow (σ (bf t))).toNatClampNeg = (ow (σ (bf t'))).toNatClampNeg := ee
      obtain ⟨s, g1, g2, g3, g4⟩ := key t ht
      obtain ⟨s', g1', g2', g3', g4'⟩ := key t' ht'
      have l1 := (h4 s g2).1
      have l2 := (h4 s' g2').1
      rw [g4, g4', nI_clamp (by omega), nI_clamp (by omega)] at ee
      have : s = s' := by
        rcases Nat.lt_trichotomy s s' with z | z | z
        · exact absurd ee (h5 s s' z g2')
        · exact z
        · exact absurd ee.symm (h5 s' s z g2)
      subst this
      exact adA_inj hσ (h4 t ht).1 (h4 t' ht').1 (g3.symm.trans g3')) st ⟨0, by omega, h3⟩
  obtain ⟨s, g1, g2, g3, g4⟩ := key t ht
  have e : (ow (σ (bf t))).toNatClampNeg = st := e
  have l1 := (h4 s g2).1
  rw [g4, nI_clamp (by omega)] at e
  have := (h6 s g1 g2).2.1
  rw [e, hst] at this
  exact nI_m1 (by have := (h6 s g1 g2).1; omega) this.symm
end
section
variable {f_varCount f_valueCount f_maxConstraints f_maxLevel f_allValues f_allVars f_status f_currentLevel f_constraintCount f_searchState f_searchDirection f_foundCount f_depth f_trailSize f_queueHead f_queueSize f_pendingMask f_scopeSize : Int32} {a_dom a_savedDom a_savedCount a_savedStatus a_kindOf a_scopeOf a_lowBound a_highBound a_tupleCount a_coef a_tuples a_newTuple a_solution a_todo a_mark a_work a_trailVar a_trailMask a_queue a_inVar a_inMask a_outMask a_reachedFrom a_bfs a_reach a_termCoef a_termMin a_span a_forward a_backward : Nat → Int32}
theorem xa_flip {post : SX → Prop} {k V st tail : Nat} {bf vv : Nat → Nat} (hk : k ≤ 5) (hV : V ≤ 6) (h0 : bf 0 = st)
    (hb : ∀ t, t < tail → bf t < k) (hd : ∀ s t, s < t → t < tail → bf s ≠ bf t)
    (hc : ∀ t, 1 ≤ t → t < tail → vv t < V ∧ ∃ s, s < t ∧ a_reachedFrom (vv t) = nI (bf s) ∧ bt (a_inMask (bf s)) (vv t) = true) :
    ∀ (t a : Nat) (mo ow : Nat → Int32) (s n : Nat), t < tail → s + t ≤ 4 → t + 2 ≤ n → a < V → a_reachedFrom a = nI (bf t) → bt (a_inMask (bf t)) a = true → adH k V a_inMask mo ow a →
      (∀ s, 1 ≤ s → s ≤ t → mo (bf s) = nI (vv s)) → mo st = -1 →
      (∀ mo' ow', adM k V a_inMask mo' ow' → (∀ p, p < 5 → p ≠ st → (mo' p = -1 ↔ mo p = -1)) → ¬ mo' st = -1 → post (f_varCount, f_valueCount, f_maxConstraints, f_maxLevel, f_allValues, f_allVars, f_status, f_currentLevel, f_constraintCount, f_searchState, f_searchDirection, f_foundCount, f_depth, f_trailSize, f_queueHead, f_queueSize, f_pendingMask, f_scopeSize, a_dom, a_savedDom, a_savedCount, a_savedStatus, a_kindOf, a_scopeOf, a_lowBound, a_highBound, a_tupleCount, a_coef, a_tuples, a_newTuple, a_solution, a_todo, a_mark, a_work, a_trailVar, a_trailMask, a_queue, a_inVar, a_inMask, a_outMask, mo', ow', a_reachedFrom, a_bfs, a_reach, a_termCoef, a_termMin, a_span, a_forward, a_backward)) →
      wX_flipPath_4 post f_varCount f_valueCount f_maxConstraints f_maxLevel f_allValues f_allVars f_status f_currentLevel f_constraintCount f_searchState f_searchDirection f_foundCount f_depth f_trailSize f_queueHead f_queueSize f_pendingMask f_scopeSize n (nI a) (nI s) a_dom a_savedDom a_savedCount a_savedStatus a_kindOf a_scopeOf a_lowBound a_highBound a_tupleCount a_coef a_tuples a_newTuple a_solution a_todo a_mark a_work a_trailVar a_trailMask a_queue a_inVar a_inMask a_outMask mo ow a_reachedFrom a_bfs a_reach a_termCoef a_termMin a_span a_forward a_backward := by
  intro t
  induction t using Nat.strongRecOn with
  | ind t ih =>
    intro a mo ow s n ht hs hn ha hrf hma hH hmo hst hpost
    obtain ⟨n, rfl⟩ : ∃ n', n = n' + 1 := ⟨n - 1, by omega⟩
    have hbt := hb t ht
    refine br_f (nI_ge (b := 6) (by omega) (by decide)) (br_f (nI_pos (by omega)) ⟨vp_in_nI (by omega) (by omega), nm_r (e' := nI (bf t)) (by rw [nI_clamp (by omega)]; exact hrf) ⟨vp_in_nI (by omega) (by omega), nm_r (e' := mo (bf t)) (by rw [nI_clamp (by omega)]) ⟨vp_in_nI (by omega) (by omega), nm_r (e' := upd mo (bf t) (nI a)) (by rw [nI_clamp (by omega)]) ⟨vp_in_nI (by omega) (by omega), nm_r (e' := upd ow a (nI (bf t))) (by rw [nI_clamp (by omega)]) (nm_r (e' := nI (s + 1)) (nI_1 s) ?_)⟩⟩⟩⟩)
    rcases Nat.eq_zero_or_pos t with z | z
    · subst z
      obtain ⟨n, rfl⟩ : ∃ n', n = n' + 1 := ⟨n - 1, by omega⟩
      rw [h0] at hbt hma ⊢
      rw [hst]
      refine br_f (nI_ge (b := 6) (by omega) (by decide)) (br_t (by decide) ?_)
      refine hpost _ _ (adH_end hk hV hbt ha hH hma hst) (fun p _ hp => by rw [pk_un hp]) ?_
      rw [pk_us]; exact fun e => nI_m1 (by omega) e
    · obtain ⟨g1, s', g2, g3, g4⟩ := hc t z ht
      have e := hmo t z (Nat.le_refl _)
      rw [e]
      have hsne : bf t ≠ st := fun w => hd 0 t z ht (h0.trans w.symm)
      refine ih s' g2 (vv t) _ _ (s + 1) n (by omega) (by omega) (by omega) g1 g3 g4 (adH_step hk hV hbt ha g1 hH hma e) ?_ ?_ ?_
      · intro r hr1 hr2
        rw [pk_un (fun w => hd r t (by omega) ht w)]
        exact hmo r hr1 (by omega)
      · rw [pk_un (Ne.symm hsne)]; exact hst
      · intro mo' ow' q1 q2 q3
        refine hpost mo' ow' q1 (fun p hp hps => ?_) q3
        rw [q2 p hp hps]
        by_cases w : p = bf t
        · rw [w, pk_us, e]
          exact ⟨fun y => (nI_m1 (by omega) y).elim, fun y => (nI_m1 (by omega) y).elim⟩
        · rw [pk_un w]
end
section
variable {f_varCount f_maxConstraints f_maxLevel f_allValues f_allVars f_status f_currentLevel f_constraintCount f_searchState f_searchDirection f_foundCount f_depth f_trailSize f_queueHead f_queueSize f_pendingMask f_scopeSize : Int32} {a_dom a_savedDom a_savedCount a_savedStatus a_kindOf a_scopeOf a_lowBound a_highBound a_tupleCount a_coef a_tuples a_newTuple a_solution a_todo a_mark a_work a_trailVar a_trailMask a_queue a_inVar a_inMask a_outMask a_reach a_termCoef a_termMin a_span a_forward a_backward : Nat → Int32} {k V st : Nat} {mo ow : Nat → Int32}
theorem xa_38 {post : Int32 → SX → Prop} {J : Int32 → Int32 → Int32 →  (Nat → Int32) → (Nat → Int32) → (Nat → Int32) → (Nat → Int32) → (Nat → Int32) → (Nat → Int32) → (Nat → Int32) → (Nat → Int32) → (Nat → Int32) → (Nat → Int32) → (Nat → Int32) → (Nat → Int32) → (Nat → Int32) → (Nat → Int32) → (Nat → Int32) → (Nat → Int32) → (Nat → Int32) → (Nat → Int32) → (Nat → Int32) → (Nat → Int32) → (Nat → Int32) → (Nat → Int32) → (Nat → Int32) → (Nat → Int32) → (Nat → Int32) → (Nat → Int32) → (Nat → Int32) → (Nat → Int32) → (Nat → Int32) → (Nat → Int32) → (Nat → Int32) → (Nat → Int32) →  Prop} {head p : Nat} (hk : k ≤ 5) (hV : V ≤ 6) (hA : adM k V a_inMask mo ow) (hst : mo st = -1) (hp : p < 5)
    (hm : ∀ i, i < k → Msk V (a_inMask i))
    (hJ : ∀ tail seen rf bq bf vv, adB k V st a_inMask mo rf bq bf vv tail seen → adV a_inMask bf (head + 1) 0 seen → head < tail → J (nI tail) seen (nI (head + 1)) a_dom a_savedDom a_savedCount a_savedStatus a_kindOf a_scopeOf a_lowBound a_highBound a_tupleCount a_coef a_tuples a_newTuple a_solution a_todo a_mark a_work a_trailVar a_trailMask a_queue a_inVar a_inMask a_outMask mo ow rf bq a_reach a_termCoef a_termMin a_span a_forward a_backward)
    (hP : ∀ mo' ow' rf bq, adM k V a_inMask mo' ow' → (∀ p, p < 5 → p ≠ st → (mo' p = -1 ↔ mo p = -1)) → ¬ mo' st = -1 → post 1 (f_varCount, nI V, f_maxConstraints, f_maxLevel, f_allValues, f_allVars, f_status, f_currentLevel, f_constraintCount, f_searchState, f_searchDirection, f_foundCount, f_depth, f_trailSize, f_queueHead, f_queueSize, f_pendingMask, f_scopeSize, a_dom, a_savedDom, a_savedCount, a_savedStatus, a_kindOf, a_scopeOf, a_lowBound, a_highBound, a_tupleCount, a_coef, a_tuples, a_newTuple, a_solution, a_todo, a_mark, a_work, a_trailVar, a_trailMask, a_queue, a_inVar, a_inMask, a_outMask, mo', ow', rf, bq, a_reach, a_termCoef, a_termMin, a_span, a_forward, a_backward)) :
    ∀ (d v tail : Nat) (seen : Int32) (rf bq : Nat → Int32) (bf vv : Nat → Nat), v + d = V → adB k V st a_inMask mo rf bq bf vv tail seen → adV a_inMask bf head v seen → head < tail → bf head = p →
      wX_augment_38 post J (nI head) (nI p) f_varCount (nI V) f_maxConstraints f_maxLevel f_allValues f_allVars f_status f_currentLevel f_constraintCount f_searchState f_searchDirection f_foundCount f_depth f_trailSize f_queueHead f_queueSize f_pendingMask f_scopeSize (d + 1) (nI tail) seen (nI v) a_dom a_savedDom a_savedCount a_savedStatus a_kindOf a_scopeOf a_lowBound a_highBound a_tupleCount a_coef a_tuples a_newTuple a_solution a_todo a_mark a_work a_trailVar a_trailMask a_queue a_inVar a_inMask a_outMask mo ow rf bq a_reach a_termCoef a_termMin a_span a_forward a_backward := by
  intro d
  induction d with
  | zero =>
    intro v tail seen rf bq bf vv hv hB hX hh hbp
    obtain rfl : v = V := by omega
    refine br_t (nI_le (Nat.le_refl _) (by omega)) (nm_r (e' := nI (head + 1)) (nI_1 _) (hJ tail seen rf bq bf vv hB ⟨fun t a ht hb => ?_, fun a ha => absurd ha (by omega)⟩ hh))
    rcases Nat.lt_or_ge t head with z | z
    · exact hX.1 t a z hb
    · obtain rfl : t = head := by omega
      exact hX.2 a (mk_lt (hm _ (hB.2.2.2.1 t hh).1) hb) hb
  | succ d ih =>
    intro v tail seen rf bq bf vv hv hB hX hh hbp
    have hcl : (nI p).toNatClampNeg = p := nI_clamp (by omega)
    refine br_f (nI_ge (by omega) (by omega)) ⟨vp_in_nI hp (by omega), ?_⟩
    rw [hcl]
    have htl := hB.2.1
    refine xh_hb (by omega) (fun hf => ?_) (fun ht => ?_)
    · refine nm_r (e' := nI (v + 1)) (nI_1 _) (ih (v + 1) tail seen rf bq bf vv (by omega) hB ⟨hX.1, fun a ha hb => ?_⟩ hh hbp)
      rcases Nat.lt_or_ge a v with z | z
      · exact hX.2 a z hb
      · obtain rfl : a = v := by omega
        rw [gb_andn, ← hbp, hb, Bool.true_and] at hf
        simpa using hf
    · rw [gb_andn, Bool.and_eq_true] at ht
      obtain ⟨ht1, ht2⟩ := ht
      have hs : bt seen v = false := by simpa using ht2
      have hcv : (nI v).toNatClampNeg = v := nI_clamp (by omega)
      refine nm_e ⟨vp_in_nI (by omega) (by omega), nm_r (e' := upd rf v (nI p)) (by rw [hcv]) ⟨vp_in_nI (by omega) (by omega), ?_⟩⟩
      rw [hcv]
      rcases hA.2 v (by omega) with ho | ⟨q, hq, hoq, hqv⟩
      · rw [ho]
        refine br_f (by decide) ?_
        refine Exists.intro 6 ?_
        obtain ⟨b1, b2, b3, b4, b5, b6, b7⟩ := hB
        refine xa_flip (k := k) (V := V) (st := st) (tail := tail) (bf := bf) (vv := vv) hk hV b3 (fun t ht => (b4 t ht).1) b5 (fun t t1 t2 => ?_) head v mo ow 0 6 hh (by omega) (by omega) (by omega) ?_ ?_ (adH_of (by omega) hV hA ho) (fun s s1 s2 => (b6 s s1 (by omega)).2.1) hst ?_
        · obtain ⟨g1, g2, g3, s, g4, g5, g6⟩ := b6 t t1 t2
          have hva : vv t ≠ v := fun e => by rw [e, hs] at g3; cases g3
          exact ⟨g1, s, g4, by rw [pk_un hva]; exact g5, g6⟩
        · rw [pk_us, hbp]
        · rw [hbp]; exact ht1
        · intro mo' ow' q1 q2 q3
          exact hP mo' ow' _ _ q1 q2 q3
      · rw [hoq]
        obtain ⟨h5, hB'⟩ := adB_add hk hV hB hA hst hh (by omega) hs (by rw [hbp]; exact ht1) hq hqv
        refine br_t (nI_pos' (by omega)) (br_f (nI_ge (b := 5) (by omega) (by decide)) ⟨vp_in_nI (by omega) (by omega), vp_in_nI h5 (by omega), nm_r (e' := upd bq tail (nI q)) (by rw [nI_clamp (by omega)]) (nm_r (e' := nI (tail + 1)) (nI_1 _) (nm_r (e' := nI (v + 1)) (nI_1 _) ?_))⟩)
        rw [hbp] at hB'
        refine ih (v + 1) (tail + 1) _ _ _ _ _ (by omega) hB' ?_ (by omega) ?_
        · have hbo : ∀ b, bt (seen ||| ((1 : Int32) <<< (nI v &&& 31))) b = true ↔ bt seen b = true ∨ b = v := by
            intro b; rw [b_or, gb_shl1 (by omega), Bool.or_eq_true, decide_eq_true_eq]
          refine ⟨fun t a ht hb => ?_, fun a ha hb => ?_⟩
          · have hb : bt (a_inMask (if t = tail then q else bf t)) a = true := hb
            rw [if_neg (by omega)] at hb
            exact (hbo a).mpr (Or.inl (hX.1 t a ht hb))
          · have hb : bt (a_inMask (if head = tail then q else bf head)) a = true := hb
            rw [if_neg (by omega)] at hb
            rcases Nat.lt_or_ge a v with z | z
            · exact (hbo a).mpr (Or.inl (hX.2 a z hb))
            · exact (hbo a).mpr (Or.inr (by omega))
        · show (if head = tail then q else bf head) = p
          rw [if_neg (by omega)]; exact hbp
theorem xa_14 {post : Int32 → SX → Prop} (hk : k ≤ 5) (hV : V ≤ 6) (hA : adM k V a_inMask mo ow) (hst : mo st = -1)
    (hm : ∀ i, i < k → Msk V (a_inMask i))
    (h0 : (∀ σ, ¬ adA k a_inMask σ) → ∀ rf bq, post 0 (f_varCount, nI V, f_maxConstraints, f_maxLevel, f_allValues, f_allVars, f_status, f_currentLevel, f_constraintCount, f_searchState, f_searchDirection, f_foundCount, f_depth, f_trailSize, f_queueHead, f_queueSize, f_pendingMask, f_scopeSize, a_dom, a_savedDom, a_savedCount, a_savedStatus, a_kindOf, a_scopeOf, a_lowBound, a_highBound, a_tupleCount, a_coef, a_tuples, a_newTuple, a_solution, a_todo, a_mark, a_work, a_trailVar, a_trailMask, a_queue, a_inVar, a_inMask, a_outMask, mo, ow, rf, bq, a_reach, a_termCoef, a_termMin, a_span, a_forward, a_backward))
    (hP : ∀ mo' ow' rf bq, adM k V a_inMask mo' ow' → (∀ p, p < 5 → p ≠ st → (mo' p = -1 ↔ mo p = -1)) → ¬ mo' st = -1 → post 1 (f_varCount, nI V, f_maxConstraints, f_maxLevel, f_allValues, f_allVars, f_status, f_currentLevel, f_constraintCount, f_searchState, f_searchDirection, f_foundCount, f_depth, f_trailSize, f_queueHead, f_queueSize, f_pendingMask, f_scopeSize, a_dom, a_savedDom, a_savedCount, a_savedStatus, a_kindOf, a_scopeOf, a_lowBound, a_highBound, a_tupleCount, a_coef, a_tuples, a_newTuple, a_solution, a_todo, a_mark, a_work, a_trailVar, a_trailMask, a_queue, a_inVar, a_inMask, a_outMask, mo', ow', rf, bq, a_reach, a_termCoef, a_termMin, a_span, a_forward, a_backward)) :
    ∀ (d head tail : Nat) (seen : Int32) (rf bq : Nat → Int32) (bf vv : Nat → Nat), head + d = 5 → adB k V st a_inMask mo rf bq bf vv tail seen → adV a_inMask bf head 0 seen → head ≤ tail →
      wX_augment_14 post f_varCount (nI V) f_maxConstraints f_maxLevel f_allValues f_allVars f_status f_currentLevel f_constraintCount f_searchState f_searchDirection f_foundCount f_depth f_trailSize f_queueHead f_queueSize f_pendingMask f_scopeSize (d + 1) (nI tail) seen (nI head) a_dom a_savedDom a_savedCount a_savedStatus a_kindOf a_scopeOf a_lowBound a_highBound a_tupleCount a_coef a_tuples a_newTuple a_solution a_todo a_mark a_work a_trailVar a_trailMask a_queue a_inVar a_inMask a_outMask mo ow rf bq a_reach a_termCoef a_termMin a_span a_forward a_backward := by
  intro d
  induction d with
  | zero =>
    intro head tail seen rf bq bf vv hd hB hX hh
    have htl := hB.2.1
    refine br_t (nI_le (by omega) (by omega)) (h0 (fun σ hσ => adB_fail hk hV hB hA hst (fun t a ht hb => hX.1 t a (by omega) hb) σ hσ) _ _)
  | succ d ih =>
    intro head tail seen rf bq bf vv hd hB hX hh
    have htl := hB.2.1
    rcases Nat.lt_or_ge head tail with z | z
    · refine br_f (nI_ge (by omega) (by omega)) (br_f (nI_ge (b := 5) (by omega) (by decide)) ⟨vp_in_nI (by omega) (by omega), nm_r (e' := nI (bf head)) (by rw [nI_clamp (by omega)]; exact (hB.2.2.2.1 head z).2) (Exists.intro (V + 1) ?_)⟩)
      have hbk := (hB.2.2.2.1 head z).1
      refine xa_38 (k := k) (st := st) hk hV hA hst (by omega) hm (fun tail' seen' rf' bq' bf' vv' g1 g2 g3 => ih (head + 1) tail' seen' rf' bq' bf' vv' (by omega) g1 g2 (by omega)) hP V 0 tail seen rf bq bf vv (by omega) hB hX z rfl
    · exact br_t (nI_le (by omega) (by omega)) (h0 (fun σ hσ => adB_fail hk hV hB hA hst (fun t a ht hb => hX.1 t a (by omega) hb) σ hσ) _ _)
theorem xa_aug {post : Int32 → SX → Prop} (hk : k ≤ 5) (hV : V ≤ 6) (hA : adM k V a_inMask mo ow) (hsk : st < k) (hst : mo st = -1)
    (hm : ∀ i, i < k → Msk V (a_inMask i))
    (h0 : (∀ σ, ¬ adA k a_inMask σ) → ∀ rf bq, post 0 (f_varCount, nI V, f_maxConstraints, f_maxLevel, f_allValues, f_allVars, f_status, f_currentLevel, f_constraintCount, f_searchState, f_searchDirection, f_foundCount, f_depth, f_trailSize, f_queueHead, f_queueSize, f_pendingMask, f_scopeSize, a_dom, a_savedDom, a_savedCount, a_savedStatus, a_kindOf, a_scopeOf, a_lowBound, a_highBound, a_tupleCount, a_coef, a_tuples, a_newTuple, a_solution, a_todo, a_mark, a_work, a_trailVar, a_trailMask, a_queue, a_inVar, a_inMask, a_outMask, mo, ow, rf, bq, a_reach, a_termCoef, a_termMin, a_span, a_forward, a_backward))
    (hP : ∀ mo' ow' rf bq, adM k V a_inMask mo' ow' → (∀ p, p < 5 → p ≠ st → (mo' p = -1 ↔ mo p = -1)) → ¬ mo' st = -1 → post 1 (f_varCount, nI V, f_maxConstraints, f_maxLevel, f_allValues, f_allVars, f_status, f_currentLevel, f_constraintCount, f_searchState, f_searchDirection, f_foundCount, f_depth, f_trailSize, f_queueHead, f_queueSize, f_pendingMask, f_scopeSize, a_dom, a_savedDom, a_savedCount, a_savedStatus, a_kindOf, a_scopeOf, a_lowBound, a_highBound, a_tupleCount, a_coef, a_tuples, a_newTuple, a_solution, a_todo, a_mark, a_work, a_trailVar, a_trailMask, a_queue, a_inVar, a_inMask, a_outMask, mo', ow', rf, bq, a_reach, a_termCoef, a_termMin, a_span, a_forward, a_backward)) (rf bq : Nat → Int32) :
    wpX_augment post (f_varCount, nI V, f_maxConstraints, f_maxLevel, f_allValues, f_allVars, f_status, f_currentLevel, f_constraintCount, f_searchState, f_searchDirection, f_foundCount, f_depth, f_trailSize, f_queueHead, f_queueSize, f_pendingMask, f_scopeSize, a_dom, a_savedDom, a_savedCount, a_savedStatus, a_kindOf, a_scopeOf, a_lowBound, a_highBound, a_tupleCount, a_coef, a_tuples, a_newTuple, a_solution, a_todo, a_mark, a_work, a_trailVar, a_trailMask, a_queue, a_inVar, a_inMask, a_outMask, mo, ow, rf, bq, a_reach, a_termCoef, a_termMin, a_span, a_forward, a_backward) (nI st) := by
  refine nm_e (Exists.intro 6 ?_)
  refine xa_14 hk hV hA hst hm h0 hP 5 0 1 0 rf (upd bq 0 (nI st)) (fun _ => st) (fun _ => 0) (by omega) ⟨by omega, by omega, rfl, ?_, ?_, ?_, ?_⟩ ⟨fun t a ht => absurd ht (by omega), fun a ha => absurd ha (by omega)⟩ (by omega)
  · intro t ht
    obtain rfl : t = 0 := by omega
    exact ⟨hsk, pk_us⟩
  · intro s t h1 h2; omega
  · intro t h1 h2; omega
  · intro a ha; rw [b_0] at ha; cases ha
end
end
section
/-! all-different: matchAll, the closure, the filter -/
section
theorem wa_step {V s : Nat} {R0 R : Nat → Nat → Prop} (h : ∀ a b, a < V → (R a b ↔ R0 a b ∨ (R0 a s ∧ R0 s b)))
    (hs : s < V) (hV : ∀ a b, a < V → R0 a b → b < V) (hc : ∀ u, u < s → ∀ a b, a < V → R0 a u → R0 u b → R0 a b) :
    ∀ u, u < s + 1 → ∀ a b, a < V → R a u → R u b → R a b := by
  intro u hu a b ha h1 h2
  have huV : u < V := by omega
  rw [h a u ha] at h1
  rw [h u b huV] at h2
  rw [h a b ha]
  rcases Nat.lt_or_ge u s with z | z
  · rcases h1 with h1 | ⟨h1, h1'⟩
    · rcases h2 with h2 | ⟨h2, h2'⟩
      · exact Or.inl (hc u z a b ha h1 h2)
      · exact Or.inr ⟨hc u z a s ha h1 h2, h2'⟩
    · rcases h2 with h2 | ⟨h2, h2'⟩
      · exact Or.inr ⟨h1, hc u z s b hs h1' h2⟩
      · exact Or.inr ⟨h1, h2'⟩
  · obtain rfl : u = s := by omega
    have h1 : R0 a u := h1.elim id (fun x => x.1)
    have h2 : R0 u b := h2.elim id (fun x => x.2)
    exact Or.inr ⟨h1, h2⟩
/-- the closure after the mids below s -/
def waI (k V : Nat) (m ow : Nat → Int32) (s : Nat) (rc : Nat → Int32) : Prop :=
  (∀ a b, a < V → bt (rc a) b = true → b < V ∧ adP (adE k m ow) a b) ∧ (∀ a, a < V → bt (rc a) a = true) ∧ (∀ a b, a < V → adE k m ow a b → bt (rc a) b = true) ∧
  (∀ u, u < s → ∀ a b, a < V → bt (rc a) u = true → bt (rc u) b = true → bt (rc a) b = true)
end
section
variable {f_varCount f_maxConstraints f_maxLevel f_allValues f_allVars f_status f_currentLevel f_constraintCount f_searchState f_searchDirection f_foundCount f_depth f_trailSize f_queueHead f_queueSize f_pendingMask : Int32} {a_dom a_savedDom a_savedCount a_savedStatus a_kindOf a_scopeOf a_lowBound a_highBound a_tupleCount a_coef a_tuples a_newTuple a_solution a_todo a_mark a_work a_trailVar a_trailMask a_queue a_inVar a_inMask a_outMask a_termCoef a_termMin a_span a_forward a_backward : Nat → Int32} {k V : Nat}
theorem xa_43 {post : Int32 → SX → Prop} (hk : k ≤ 5) (hV : V ≤ 6) (hm : ∀ i, i < k → Msk V (a_inMask i)) {a_reach : Nat → Int32}
    (h0 : (∀ σ, ¬ adA k a_inMask σ) → ∀ mo ow rf bq, post 0 (f_varCount, nI V, f_maxConstraints, f_maxLevel, f_allValues, f_allVars, f_status, f_currentLevel, f_constraintCount, f_searchState, f_searchDirection, f_foundCount, f_depth, f_trailSize, f_queueHead, f_queueSize, f_pendingMask, nI k, a_dom, a_savedDom, a_savedCount, a_savedStatus, a_kindOf, a_scopeOf, a_lowBound, a_highBound, a_tupleCount, a_coef, a_tuples, a_newTuple, a_solution, a_todo, a_mark, a_work, a_trailVar, a_trailMask, a_queue, a_inVar, a_inMask, a_outMask, mo, ow, rf, bq, a_reach, a_termCoef, a_termMin, a_span, a_forward, a_backward))
    (h1 : ∀ mo ow rf bq, adM k V a_inMask mo ow → (∀ p, p < k → ¬ mo p = -1) → post 1 (f_varCount, nI V, f_maxConstraints, f_maxLevel, f_allValues, f_allVars, f_status, f_currentLevel, f_constraintCount, f_searchState, f_searchDirection, f_foundCount, f_depth, f_trailSize, f_queueHead, f_queueSize, f_pendingMask, nI k, a_dom, a_savedDom, a_savedCount, a_savedStatus, a_kindOf, a_scopeOf, a_lowBound, a_highBound, a_tupleCount, a_coef, a_tuples, a_newTuple, a_solution, a_todo, a_mark, a_work, a_trailVar, a_trailMask, a_queue, a_inVar, a_inMask, a_outMask, mo, ow, rf, bq, a_reach, a_termCoef, a_termMin, a_span, a_forward, a_backward)) :
    ∀ (d i : Nat) (mo ow rf bq : Nat → Int32), i + d = k → adM k V a_inMask mo ow → (∀ p, p < i → ¬ mo p = -1) → (∀ p, i ≤ p → p < 5 → mo p = -1) →
      wX_matchAll_43 post (d + 1) (nI i) f_varCount (nI V) f_maxConstraints f_maxLevel f_allValues f_allVars f_status f_currentLevel f_constraintCount f_searchState f_searchDirection f_foundCount f_depth f_trailSize f_queueHead f_queueSize f_pendingMask (nI k) a_dom a_savedDom a_savedCount a_savedStatus a_kindOf a_scopeOf a_lowBound a_highBound a_tupleCount a_coef a_tuples a_newTuple a_solution a_todo a_mark a_work a_trailVar a_trailMask a_queue a_inVar a_inMask a_outMask mo ow rf bq a_reach a_termCoef a_termMin a_span a_forward a_backward := by
  intro d
  induction d with
  | zero =>
    intro i mo ow rf bq hi hA g1 g2
    obtain rfl : i = k := by omega
    exact br_t (nI_le (Nat.le_refl _) (by omega)) (h1 _ _ _ _ hA g1)
  | succ d ih =>
    intro i mo ow rf bq hi hA g1 g2
    refine br_f (nI_ge (by omega) (by omega)) ?_
    refine xa_aug hk hV hA (by omega) (g2 i (Nat.le_refl _) (by omega)) hm (fun hn rf' bq' => ?_) (fun mo' ow' rf' bq' q1 q2 q3 => ?_) rf bq
    · exact br_t rfl (h0 hn _ _ _ _)
    · refine br_f (by decide) (nm_r (e' := nI (i + 1)) (nI_1 _) (ih (i + 1) mo' ow' rf' bq' (by omega) q1 ?_ ?_))
      · intro p hp
        by_cases z : p = i
        · rw [z]; exact q3
        · rw [q2 p (by omega) z]; exact g1 p (by omega)
      · intro p hp hp5
        rw [q2 p hp5 (by omega)]; exact g2 p (by omega) hp5
theorem xa_22 {post : Int32 → SX → Prop} (hk : k ≤ 5) (hV : V ≤ 6) (hm : ∀ i, i < k → Msk V (a_inMask i)) {a_reach a_reachedFrom a_bfs mo : Nat → Int32}
    (h0 : (∀ σ, ¬ adA k a_inMask σ) → ∀ mo ow rf bq, post 0 (f_varCount, nI V, f_maxConstraints, f_maxLevel, f_allValues, f_allVars, f_status, f_currentLevel, f_constraintCount, f_searchState, f_searchDirection, f_foundCount, f_depth, f_trailSize, f_queueHead, f_queueSize, f_pendingMask, nI k, a_dom, a_savedDom, a_savedCount, a_savedStatus, a_kindOf, a_scopeOf, a_lowBound, a_highBound, a_tupleCount, a_coef, a_tuples, a_newTuple, a_solution, a_todo, a_mark, a_work, a_trailVar, a_trailMask, a_queue, a_inVar, a_inMask, a_outMask, mo, ow, rf, bq, a_reach, a_termCoef, a_termMin, a_span, a_forward, a_backward))
    (h1 : ∀ mo ow rf bq, adM k V a_inMask mo ow → (∀ p, p < k → ¬ mo p = -1) → post 1 (f_varCount, nI V, f_maxConstraints, f_maxLevel, f_allValues, f_allVars, f_status, f_currentLevel, f_constraintCount, f_searchState, f_searchDirection, f_foundCount, f_depth, f_trailSize, f_queueHead, f_queueSize, f_pendingMask, nI k, a_dom, a_savedDom, a_savedCount, a_savedStatus, a_kindOf, a_scopeOf, a_lowBound, a_highBound, a_tupleCount, a_coef, a_tuples, a_newTuple, a_solution, a_todo, a_mark, a_work, a_trailVar, a_trailMask, a_queue, a_inVar, a_inMask, a_outMask, mo, ow, rf, bq, a_reach, a_termCoef, a_termMin, a_span, a_forward, a_backward)) (hmo : ∀ p, p < 5 → mo p = -1) :
    ∀ (d i : Nat) (ow : Nat → Int32), i + d = 6 → (∀ p, p < i → ow p = -1) → wX_matchAll_22 post f_varCount (nI V) f_maxConstraints f_maxLevel f_allValues f_allVars f_status f_currentLevel f_constraintCount f_searchState f_searchDirection f_foundCount f_depth f_trailSize f_queueHead f_queueSize f_pendingMask (nI k) (d + 1) (nI i) a_dom a_savedDom a_savedCount a_savedStatus a_kindOf a_scopeOf a_lowBound a_highBound a_tupleCount a_coef a_tuples a_newTuple a_solution a_todo a_mark a_work a_trailVar a_trailMask a_queue a_inVar a_inMask a_outMask mo ow a_reachedFrom a_bfs a_reach a_termCoef a_termMin a_span a_forward a_backward := by
  intro d
  induction d with
  | zero =>
    intro i ow hi g
    obtain rfl : i = 6 := by omega
    exact br_t (by decide) (Exists.intro (k + 1) (xa_43 hk hV hm h0 h1 k 0 mo ow a_reachedFrom a_bfs (by omega) ⟨fun p hp => Or.inl (hmo p hp), fun a ha => Or.inl (g a ha)⟩ (fun p hp => absurd hp (by omega)) (fun p _ hp => hmo p hp)))
  | succ d ih =>
    intro i ow hi g
    refine br_f (nI_ge (b := 6) (by omega) (by decide)) ⟨vp_in_nI (by omega) (by omega), nm_r (e' := upd ow i (-1)) (by rw [nI_clamp (by omega)]) (nm_r (e' := nI (i + 1)) (nI_1 _) (ih (i + 1) _ (by omega) (fun p hp => ?_)))⟩
    by_cases z : p = i
    · rw [z, pk_us]
    · rw [pk_un z]; exact g p (by omega)
theorem xa_2 {post : Int32 → SX → Prop} (hk : k ≤ 5) (hV : V ≤ 6) (hm : ∀ i, i < k → Msk V (a_inMask i)) {a_reach a_reachedFrom a_bfs a_owner : Nat → Int32}
    (h0 : (∀ σ, ¬ adA k a_inMask σ) → ∀ mo ow rf bq, post 0 (f_varCount, nI V, f_maxConstraints, f_maxLevel, f_allValues, f_allVars, f_status, f_currentLevel, f_constraintCount, f_searchState, f_searchDirection, f_foundCount, f_depth, f_trailSize, f_queueHead, f_queueSize, f_pendingMask, nI k, a_dom, a_savedDom, a_savedCount, a_savedStatus, a_kindOf, a_scopeOf, a_lowBound, a_highBound, a_tupleCount, a_coef, a_tuples, a_newTuple, a_solution, a_todo, a_mark, a_work, a_trailVar, a_trailMask, a_queue, a_inVar, a_inMask, a_outMask, mo, ow, rf, bq, a_reach, a_termCoef, a_termMin, a_span, a_forward, a_backward))
    (h1 : ∀ mo ow rf bq, adM k V a_inMask mo ow → (∀ p, p < k → ¬ mo p = -1) → post 1 (f_varCount, nI V, f_maxConstraints, f_maxLevel, f_allValues, f_allVars, f_status, f_currentLevel, f_constraintCount, f_searchState, f_searchDirection, f_foundCount, f_depth, f_trailSize, f_queueHead, f_queueSize, f_pendingMask, nI k, a_dom, a_savedDom, a_savedCount, a_savedStatus, a_kindOf, a_scopeOf, a_lowBound, a_highBound, a_tupleCount, a_coef, a_tuples, a_newTuple, a_solution, a_todo, a_mark, a_work, a_trailVar, a_trailMask, a_queue, a_inVar, a_inMask, a_outMask, mo, ow, rf, bq, a_reach, a_termCoef, a_termMin, a_span, a_forward, a_backward)) :
    ∀ (d i : Nat) (mo : Nat → Int32), i + d = 5 → (∀ p, p < i → mo p = -1) → wX_matchAll_2 post f_varCount (nI V) f_maxConstraints f_maxLevel f_allValues f_allVars f_status f_currentLevel f_constraintCount f_searchState f_searchDirection f_foundCount f_depth f_trailSize f_queueHead f_queueSize f_pendingMask (nI k) (d + 1) (nI i) a_dom a_savedDom a_savedCount a_savedStatus a_kindOf a_scopeOf a_lowBound a_highBound a_tupleCount a_coef a_tuples a_newTuple a_solution a_todo a_mark a_work a_trailVar a_trailMask a_queue a_inVar a_inMask a_outMask mo a_owner a_reachedFrom a_bfs a_reach a_termCoef a_termMin a_span a_forward a_backward := by
  intro d
  induction d with
  | zero =>
    intro i mo hi g
    obtain rfl : i = 5 := by omega
    exact br_t (by decide) (Exists.intro 7 (xa_22 hk hV hm h0 h1 g 6 0 a_owner (by omega) (fun p hp => absurd hp (by omega))))
  | succ d ih =>
    intro i mo hi g
    refine br_f (nI_ge (b := 5) (by omega) (by decide)) ⟨vp_in_nI (by omega) (by omega), nm_r (e' := upd mo i (-1)) (by rw [nI_clamp (by omega)]) (nm_r (e' := nI (i + 1)) (nI_1 _) (ih (i + 1) _ (by omega) (fun p hp => ?_)))⟩
    by_cases z : p = i
    · rw [z, pk_us]
    · rw [pk_un z]; exact g p (by omega)
theorem xa_match {post : Int32 → SX → Prop} (hk : k ≤ 5) (hV : V ≤ 6) (hm : ∀ i, i < k → Msk V (a_inMask i)) {a_reach a_reachedFrom a_bfs a_owner a_matchOf : Nat → Int32}
    (h0 : (∀ σ, ¬ adA k a_inMask σ) → ∀ mo ow rf bq, post 0 (f_varCount, nI V, f_maxConstraints, f_maxLevel, f_allValues, f_allVars, f_status, f_currentLevel, f_constraintCount, f_searchState, f_searchDirection, f_foundCount, f_depth, f_trailSize, f_queueHead, f_queueSize, f_pendingMask, nI k, a_dom, a_savedDom, a_savedCount, a_savedStatus, a_kindOf, a_scopeOf, a_lowBound, a_highBound, a_tupleCount, a_coef, a_tuples, a_newTuple, a_solution, a_todo, a_mark, a_work, a_trailVar, a_trailMask, a_queue, a_inVar, a_inMask, a_outMask, mo, ow, rf, bq, a_reach, a_termCoef, a_termMin, a_span, a_forward, a_backward))
    (h1 : ∀ mo ow rf bq, adM k V a_inMask mo ow → (∀ p, p < k → ¬ mo p = -1) → post 1 (f_varCount, nI V, f_maxConstraints, f_maxLevel, f_allValues, f_allVars, f_status, f_currentLevel, f_constraintCount, f_searchState, f_searchDirection, f_foundCount, f_depth, f_trailSize, f_queueHead, f_queueSize, f_pendingMask, nI k, a_dom, a_savedDom, a_savedCount, a_savedStatus, a_kindOf, a_scopeOf, a_lowBound, a_highBound, a_tupleCount, a_coef, a_tuples, a_newTuple, a_solution, a_todo, a_mark, a_work, a_trailVar, a_trailMask, a_queue, a_inVar, a_inMask, a_outMask, mo, ow, rf, bq, a_reach, a_termCoef, a_termMin, a_span, a_forward, a_backward)) :
    wpX_matchAll post (f_varCount, nI V, f_maxConstraints, f_maxLevel, f_allValues, f_allVars, f_status, f_currentLevel, f_constraintCount, f_searchState, f_searchDirection, f_foundCount, f_depth, f_trailSize, f_queueHead, f_queueSize, f_pendingMask, nI k, a_dom, a_savedDom, a_savedCount, a_savedStatus, a_kindOf, a_scopeOf, a_lowBound, a_highBound, a_tupleCount, a_coef, a_tuples, a_newTuple, a_solution, a_todo, a_mark, a_work, a_trailVar, a_trailMask, a_queue, a_inVar, a_inMask, a_outMask, a_matchOf, a_owner, a_reachedFrom, a_bfs, a_reach, a_termCoef, a_termMin, a_span, a_forward, a_backward) :=
  Exists.intro 6 (xa_2 hk hV hm h0 h1 5 0 a_matchOf (by omega) (fun p hp => absurd hp (by omega)))
variable {a_matchOf a_owner a_reachedFrom a_bfs : Nat → Int32}
theorem xa_66 {post : SX → Prop} {J : Int32 →  (Nat → Int32) → (Nat → Int32) → (Nat → Int32) → (Nat → Int32) → (Nat → Int32) → (Nat → Int32) → (Nat → Int32) → (Nat → Int32) → (Nat → Int32) → (Nat → Int32) → (Nat → Int32) → (Nat → Int32) → (Nat → Int32) → (Nat → Int32) → (Nat → Int32) → (Nat → Int32) → (Nat → Int32) → (Nat → Int32) → (Nat → Int32) → (Nat → Int32) → (Nat → Int32) → (Nat → Int32) → (Nat → Int32) → (Nat → Int32) → (Nat → Int32) → (Nat → Int32) → (Nat → Int32) → (Nat → Int32) → (Nat → Int32) → (Nat → Int32) → (Nat → Int32) → (Nat → Int32) →  Prop} {s : Nat} {R0 : Nat → Int32} (hV : V ≤ 6) (hs : s < V)
    (hJ : ∀ rc : Nat → Int32, (∀ a b, a < V → (bt (rc a) b = true ↔ bt (R0 a) b = true ∨ (bt (R0 a) s = true ∧ bt (R0 s) b = true))) → J (nI (s + 1)) a_dom a_savedDom a_savedCount a_savedStatus a_kindOf a_scopeOf a_lowBound a_highBound a_tupleCount a_coef a_tuples a_newTuple a_solution a_todo a_mark a_work a_trailVar a_trailMask a_queue a_inVar a_inMask a_outMask a_matchOf a_owner a_reachedFrom a_bfs rc a_termCoef a_termMin a_span a_forward a_backward) :
    ∀ (d v : Nat) (rc : Nat → Int32), v + d = V → (∀ a b, a < v → (bt (rc a) b = true ↔ bt (R0 a) b = true ∨ (bt (R0 a) s = true ∧ bt (R0 s) b = true))) → (∀ a, v ≤ a → rc a = R0 a) → rc s = R0 s →
      wX_closeReach_66 post J (nI s) f_varCount (nI V) f_maxConstraints f_maxLevel f_allValues f_allVars f_status f_currentLevel f_constraintCount f_searchState f_searchDirection f_foundCount f_depth f_trailSize f_queueHead f_queueSize f_pendingMask (nI k) (d + 1) (nI v) a_dom a_savedDom a_savedCount a_savedStatus a_kindOf a_scopeOf a_lowBound a_highBound a_tupleCount a_coef a_tuples a_newTuple a_solution a_todo a_mark a_work a_trailVar a_trailMask a_queue a_inVar a_inMask a_outMask a_matchOf a_owner a_reachedFrom a_bfs rc a_termCoef a_termMin a_span a_forward a_backward := by
  intro d
  induction d with
  | zero =>
    intro v rc hv g1 g2 g3
    obtain rfl : v = V := by omega
    exact br_t (nI_le (Nat.le_refl _) (by omega)) (nm_r (e' := nI (s + 1)) (nI_1 _) (hJ rc g1))
  | succ d ih =>
    intro v rc hv g1 g2 g3
    have hcv : (nI v).toNatClampNeg = v := nI_clamp (by omega)
    have hcs : (nI s).toNatClampNeg = s := nI_clamp (by omega)
    refine br_f (nI_ge (by omega) (by omega)) ⟨vp_in_nI (by omega) (by omega), ?_⟩
    rw [hcv, hcs]
    refine xh_hb (by omega) (fun hf => ?_) (fun ht => ?_)
    · refine nm_r (e' := nI (v + 1)) (nI_1 _) (ih (v + 1) rc (by omega) (fun a b ha => ?_) (fun a ha => g2 a (by omega)) g3)
      rcases Nat.lt_or_ge a v with z | z
      · exact g1 a b z
      · obtain rfl : a = v := by omega
        rw [g2 a (Nat.le_refl _)] at hf ⊢
        constructor
        · exact Or.inl
        · rintro (h | ⟨h, _⟩)
          · exact h
          · rw [hf] at h; cases h
    · refine ⟨vp_in_nI (by omega) (by omega), vp_in_nI (by omega) (by omega), vp_in_nI (by omega) (by omega), nm_e (nm_r (e' := nI (v + 1)) (nI_1 _) (ih (v + 1) _ (by omega) (fun a b ha => ?_) (fun a ha => ?_) ?_))⟩
      · rcases Nat.lt_or_ge a v with z | z
        · rw [pk_un (by omega)]; exact g1 a b z
        · obtain rfl : a = v := by omega
          rw [pk_us, b_or, Bool.or_eq_true, g3, g2 a (Nat.le_refl _)]
          rw [g2 a (Nat.le_refl _)] at ht
          constructor
          · rintro (h | h)
            · exact Or.inl h
            · exact Or.inr ⟨ht, h⟩
          · rintro (h | ⟨_, h⟩)
            · exact Or.inl h
            · exact Or.inr h
      · rw [pk_un (by omega)]; exact g2 a (by omega)
      · by_cases z : s = v
        · subst z
          rw [pk_us]
          apply gb_e
          intro i
          rw [b_or, Bool.or_self, g3]
        · rw [pk_un z]; exact g3
theorem xa_56 {post : SX → Prop} (hV : V ≤ 6) (hP : ∀ rc, waI k V a_inMask a_owner V rc → post (f_varCount, nI V, f_maxConstraints, f_maxLevel, f_allValues, f_allVars, f_status, f_currentLevel, f_constraintCount, f_searchState, f_searchDirection, f_foundCount, f_depth, f_trailSize, f_queueHead, f_queueSize, f_pendingMask, nI k, a_dom, a_savedDom, a_savedCount, a_savedStatus, a_kindOf, a_scopeOf, a_lowBound, a_highBound, a_tupleCount, a_coef, a_tuples, a_newTuple, a_solution, a_todo, a_mark, a_work, a_trailVar, a_trailMask, a_queue, a_inVar, a_inMask, a_outMask, a_matchOf, a_owner, a_reachedFrom, a_bfs, rc, a_termCoef, a_termMin, a_span, a_forward, a_backward)) :
    ∀ (d s : Nat) (rc : Nat → Int32), s + d = V → waI k V a_inMask a_owner s rc → wX_closeReach_56 post f_varCount (nI V) f_maxConstraints f_maxLevel f_allValues f_allVars f_status f_currentLevel f_constraintCount f_searchState f_searchDirection f_foundCount f_depth f_trailSize f_queueHead f_queueSize f_pendingMask (nI k) (d + 1) (nI s) a_dom a_savedDom a_savedCount a_savedStatus a_kindOf a_scopeOf a_lowBound a_highBound a_tupleCount a_coef a_tuples a_newTuple a_solution a_todo a_mark a_work a_trailVar a_trailMask a_queue a_inVar a_inMask a_outMask a_matchOf a_owner a_reachedFrom a_bfs rc a_termCoef a_termMin a_span a_forward a_backward := by
  intro d
  induction d with
  | zero =>
    intro s rc hs hI
    obtain rfl : s = V := by omega
    exact br_t (nI_le (Nat.le_refl _) (by omega)) (hP rc hI)
  | succ d ih =>
    intro s rc hs hI
    refine br_f (nI_ge (by omega) (by omega)) (Exists.intro (V + 1) (xa_66 (R0 := rc) hV (by omega) (fun rc' hrc => ih (s + 1) rc' (by omega) ?_) V 0 rc (by omega) (fun a b ha => absurd ha (by omega)) (fun a _ => rfl) rfl))
    refine ⟨fun a b ha hb => ?_, fun a ha => (hrc a a ha).mpr (Or.inl (hI.2.1 a ha)), fun a b ha he => (hrc a b ha).mpr (Or.inl (hI.2.2.1 a b ha he)), ?_⟩
    · rcases (hrc a b ha).mp hb with h | ⟨h, h'⟩
      · exact hI.1 a b ha h
      · have p1 := hI.1 a s ha h
        have p2 := hI.1 s b (by omega) h'
        exact ⟨p2.1, adP_t p1.2 p2.2⟩
    · exact wa_step (V := V) (R0 := fun a b => bt (rc a) b = true) (R := fun a b => bt (rc' a) b = true) hrc (by omega) (fun a b ha hb => (hI.1 a b ha hb).1) hI.2.2.2
theorem xa_c2 {post : SX → Prop} (hk : k ≤ 5) (hV : V ≤ 6) (hm : ∀ i, i < k → Msk V (a_inMask i)) {mo : Nat → Int32} (hA : adM k V a_inMask mo a_owner) (hP : ∀ rc, waI k V a_inMask a_owner V rc → post (f_varCount, nI V, f_maxConstraints, f_maxLevel, f_allValues, f_allVars, f_status, f_currentLevel, f_constraintCount, f_searchState, f_searchDirection, f_foundCount, f_depth, f_trailSize, f_queueHead, f_queueSize, f_pendingMask, nI k, a_dom, a_savedDom, a_savedCount, a_savedStatus, a_kindOf, a_scopeOf, a_lowBound, a_highBound, a_tupleCount, a_coef, a_tuples, a_newTuple, a_solution, a_todo, a_mark, a_work, a_trailVar, a_trailMask, a_queue, a_inVar, a_inMask, a_outMask, a_matchOf, a_owner, a_reachedFrom, a_bfs, rc, a_termCoef, a_termMin, a_span, a_forward, a_backward)) :
    ∀ (d v : Nat) (rc : Nat → Int32), v + d = V → (∀ a b, a < v → (bt (rc a) b = true ↔ b = a ∨ adE k a_inMask a_owner a b)) → wX_closeReach_2 post f_varCount (nI V) f_maxConstraints f_maxLevel f_allValues f_allVars f_status f_currentLevel f_constraintCount f_searchState f_searchDirection f_foundCount f_depth f_trailSize f_queueHead f_queueSize f_pendingMask (nI k) (d + 1) (nI v) a_dom a_savedDom a_savedCount a_savedStatus a_kindOf a_scopeOf a_lowBound a_highBound a_tupleCount a_coef a_tuples a_newTuple a_solution a_todo a_mark a_work a_trailVar a_trailMask a_queue a_inVar a_inMask a_outMask a_matchOf a_owner a_reachedFrom a_bfs rc a_termCoef a_termMin a_span a_forward a_backward := by
  intro d
  induction d with
  | zero =>
    intro v rc hv g
    obtain rfl : v = V := by omega
    refine br_t (nI_le (Nat.le_refl _) (by omega)) (Exists.intro (v + 1) (xa_56 hV hP v 0 rc (by omega) ⟨fun a b ha hb => ?_, fun a ha => (g a a ha).mpr (Or.inl rfl), fun a b ha he => (g a b ha).mpr (Or.inr he), fun u hu => absurd hu (by omega)⟩))
    rcases (g a b ha).mp hb with h | h
    · rw [h]; exact ⟨ha, adP_r _ _⟩
    · refine ⟨?_, adP_1 h⟩
      obtain ⟨j, hj, _, h2⟩ := h
      exact mk_lt (hm j hj) h2
  | succ d ih =>
    intro v rc hv g
    have hcv : (nI v).toNatClampNeg = v := nI_clamp (by omega)
    refine br_f (nI_ge (by omega) (by omega)) ⟨vp_in_nI (by omega) (by omega), nm_r (e' := upd rc v ((1 : Int32) <<< (nI v &&& 31))) (by rw [hcv]) ⟨vp_in_nI (by omega) (by omega), ?_⟩⟩
    rw [hcv]
    rcases hA.2 v (by omega) with h | ⟨i, hi, h1, h2⟩
    · refine br_t (by rw [h]; decide) (nm_r (e' := nI (v + 1)) (nI_1 _) (ih (v + 1) _ (by omega) (fun a b ha => ?_)))
      rcases Nat.lt_or_ge a v with z | z
      · rw [pk_un (by omega)]; exact g a b z
      · obtain rfl : a = v := by omega
        rw [pk_us, gb_shl1 (by omega), decide_eq_true_eq]
        constructor
        · exact Or.inl
        · rintro (w | ⟨j, hj, w, _⟩)
          · exact w
          · rw [h] at w; exact (nI_m1 (by omega) w.symm).elim
    · rw [h1]
      have hci : (nI i).toNatClampNeg = i := nI_clamp (by omega)
      refine br_f (nI_pos (by omega)) ⟨vp_in_nI (by omega) (by omega), vp_in_nI (by omega) (by omega), vp_in_nI (by omega) (by omega), vp_in_nI (by omega) (by omega), nm_r (e' := upd rc v (((1 : Int32) <<< (nI v &&& 31)) ||| a_inMask i)) ?_ (nm_r (e' := nI (v + 1)) (nI_1 _) (ih (v + 1) _ (by omega) (fun a b ha => ?_)))⟩
      · rw [hci, pk_us, u_same]
      · rcases Nat.lt_or_ge a v with z | z
        · rw [pk_un (by omega)]; exact g a b z
        · obtain rfl : a = v := by omega
          rw [pk_us, b_or, gb_shl1 (by omega), Bool.or_eq_true, decide_eq_true_eq]
          constructor
          · rintro (w | w)
            · exact Or.inl w
            · exact Or.inr ⟨i, hi, h1, w⟩
          · rintro (w | ⟨j, hj, w, w2⟩)
            · exact Or.inl w
            · rw [h1] at w
              obtain rfl : i = j := nI_inj (by omega) (by omega) w
              exact Or.inr w2
theorem xa_close {post : SX → Prop} (hk : k ≤ 5) (hV : V ≤ 6) (hm : ∀ i, i < k → Msk V (a_inMask i)) {mo a_reach : Nat → Int32} (hA : adM k V a_inMask mo a_owner) (hP : ∀ rc, waI k V a_inMask a_owner V rc → post (f_varCount, nI V, f_maxConstraints, f_maxLevel, f_allValues, f_allVars, f_status, f_currentLevel, f_constraintCount, f_searchState, f_searchDirection, f_foundCount, f_depth, f_trailSize, f_queueHead, f_queueSize, f_pendingMask, nI k, a_dom, a_savedDom, a_savedCount, a_savedStatus, a_kindOf, a_scopeOf, a_lowBound, a_highBound, a_tupleCount, a_coef, a_tuples, a_newTuple, a_solution, a_todo, a_mark, a_work, a_trailVar, a_trailMask, a_queue, a_inVar, a_inMask, a_outMask, a_matchOf, a_owner, a_reachedFrom, a_bfs, rc, a_termCoef, a_termMin, a_span, a_forward, a_backward)) : wpX_closeReach post (f_varCount, nI V, f_maxConstraints, f_maxLevel, f_allValues, f_allVars, f_status, f_currentLevel, f_constraintCount, f_searchState, f_searchDirection, f_foundCount, f_depth, f_trailSize, f_queueHead, f_queueSize, f_pendingMask, nI k, a_dom, a_savedDom, a_savedCount, a_savedStatus, a_kindOf, a_scopeOf, a_lowBound, a_highBound, a_tupleCount, a_coef, a_tuples, a_newTuple, a_solution, a_todo, a_mark, a_work, a_trailVar, a_trailMask, a_queue, a_inVar, a_inMask, a_outMask, a_matchOf, a_owner, a_reachedFrom, a_bfs, a_reach, a_termCoef, a_termMin, a_span, a_forward, a_backward) :=
  Exists.intro (V + 1) (xa_c2 hk hV hm hA hP V 0 a_reach (by omega) (fun a b ha => absurd ha (by omega)))
variable {a_reach : Nat → Int32}
theorem xa_69 {post : SX → Prop} {J : Int32 →  (Nat → Int32) → (Nat → Int32) → (Nat → Int32) → (Nat → Int32) → (Nat → Int32) → (Nat → Int32) → (Nat → Int32) → (Nat → Int32) → (Nat → Int32) → (Nat → Int32) → (Nat → Int32) → (Nat → Int32) → (Nat → Int32) → (Nat → Int32) → (Nat → Int32) → (Nat → Int32) → (Nat → Int32) → (Nat → Int32) → (Nat → Int32) → (Nat → Int32) → (Nat → Int32) → (Nat → Int32) → (Nat → Int32) → (Nat → Int32) → (Nat → Int32) → (Nat → Int32) → (Nat → Int32) → (Nat → Int32) → (Nat → Int32) → (Nat → Int32) → (Nat → Int32) → (Nat → Int32) →  Prop} {i : Nat} {fr goal : Int32} (hV : V ≤ 6) (hi : i < 5)
    (hJ : ∀ o : Int32, (∀ a, bt o a = true ↔ a < V ∧ bt (a_inMask i) a = true ∧ ¬ (a_reach a &&& goal) = 0) → J (nI (i + 1)) a_dom a_savedDom a_savedCount a_savedStatus a_kindOf a_scopeOf a_lowBound a_highBound a_tupleCount a_coef a_tuples a_newTuple a_solution a_todo a_mark a_work a_trailVar a_trailMask a_queue a_inVar a_inMask (upd a_outMask i o) a_matchOf a_owner a_reachedFrom a_bfs a_reach a_termCoef a_termMin a_span a_forward a_backward) :
    ∀ (d v : Nat) (o : Int32), v + d = V → (∀ a, bt o a = true ↔ a < v ∧ bt (a_inMask i) a = true ∧ ¬ (a_reach a &&& goal) = 0) →
      wX_filterAllDifferent_69 post J fr (nI i) goal f_varCount (nI V) f_maxConstraints f_maxLevel f_allValues f_allVars f_status f_currentLevel f_constraintCount f_searchState f_searchDirection f_foundCount f_depth f_trailSize f_queueHead f_queueSize f_pendingMask (nI k) (d + 1) (nI v) a_dom a_savedDom a_savedCount a_savedStatus a_kindOf a_scopeOf a_lowBound a_highBound a_tupleCount a_coef a_tuples a_newTuple a_solution a_todo a_mark a_work a_trailVar a_trailMask a_queue a_inVar a_inMask (upd a_outMask i o) a_matchOf a_owner a_reachedFrom a_bfs a_reach a_termCoef a_termMin a_span a_forward a_backward := by
  intro d
  induction d with
  | zero =>
    intro v o hv g
    obtain rfl : v = V := by omega
    exact br_t (nI_le (Nat.le_refl _) (by omega)) (nm_r (e' := nI (i + 1)) (nI_1 _) (hJ o g))
  | succ d ih =>
    intro v o hv g
    have hcv : (nI v).toNatClampNeg = v := nI_clamp (by omega)
    have hci : (nI i).toNatClampNeg = i := nI_clamp (by omega)
    refine br_f (nI_ge (by omega) (by omega)) ⟨vp_in_nI (by omega) (by omega), ?_⟩
    rw [hci, hcv]
    refine xh_hb (by omega) (fun hf => ?_) (fun ht => ⟨vp_in_nI (by omega) (by omega), ?_⟩)
    · refine nm_r (e' := nI (v + 1)) (nI_1 _) (ih (v + 1) o (by omega) (fun a => ?_))
      rw [g a]
      constructor
      · intro ⟨h1, h2⟩; exact ⟨by omega, h2⟩
      · intro ⟨h1, h2⟩
        refine ⟨?_, h2⟩
        have : a ≠ v := fun e => by rw [e, hf] at h2; exact absurd h2.1 (by decide)
        omega
    · by_cases z : (a_reach v &&& goal) = 0
      · refine br_t z (nm_r (e' := nI (v + 1)) (nI_1 _) (ih (v + 1) o (by omega) (fun a => ?_)))
        rw [g a]
        constructor
        · intro ⟨h1, h2⟩; exact ⟨by omega, h2⟩
        · intro ⟨h1, h2⟩
          refine ⟨?_, h2⟩
          have : a ≠ v := fun e => h2.2 (by rw [e]; exact z)
          omega
      · refine br_f z ⟨vp_in_nI (by omega) (by omega), vp_in_nI (by omega) (by omega), nm_r (e' := upd a_outMask i (o ||| ((1 : Int32) <<< (nI v &&& 31)))) (by rw [pk_us, u_same]) (nm_r (e' := nI (v + 1)) (nI_1 _) (ih (v + 1) _ (by omega) (fun a => ?_)))⟩
        rw [b_or, gb_shl1 (by omega), Bool.or_eq_true, decide_eq_true_eq, g a]
        constructor
        · rintro (⟨h1, h2⟩ | h1)
          · exact ⟨by omega, h2⟩
          · rw [h1]; exact ⟨by omega, ht, z⟩
        · intro ⟨h1, h2⟩
          by_cases e : a = v
          · exact Or.inr e
          · exact Or.inl ⟨by omega, h2⟩
theorem xa_47 {post : SX → Prop} {fr : Int32} {M : Nat → Nat} (hk : k ≤ 5) (hV : V ≤ 6) (hM : ∀ i, i < k → M i < V ∧ a_matchOf i = nI (M i))
    (hP : ∀ out : Nat → Int32, (∀ i a, i < k → (bt (out i) a = true ↔ a < V ∧ bt (a_inMask i) a = true ∧ ¬ (a_reach a &&& (fr ||| ((1 : Int32) <<< (nI (M i) &&& 31)))) = 0)) → post (f_varCount, nI V, f_maxConstraints, f_maxLevel, f_allValues, f_allVars, f_status, f_currentLevel, f_constraintCount, f_searchState, f_searchDirection, f_foundCount, f_depth, f_trailSize, f_queueHead, f_queueSize, f_pendingMask, nI k, a_dom, a_savedDom, a_savedCount, a_savedStatus, a_kindOf, a_scopeOf, a_lowBound, a_highBound, a_tupleCount, a_coef, a_tuples, a_newTuple, a_solution, a_todo, a_mark, a_work, a_trailVar, a_trailMask, a_queue, a_inVar, a_inMask, out, a_matchOf, a_owner, a_reachedFrom, a_bfs, a_reach, a_termCoef, a_termMin, a_span, a_forward, a_backward)) :
    ∀ (d i : Nat) (out : Nat → Int32), i + d = k → (∀ j, i ≤ j → j < k → out j = 0) → (∀ j a, j < i → (bt (out j) a = true ↔ a < V ∧ bt (a_inMask j) a = true ∧ ¬ (a_reach a &&& (fr ||| ((1 : Int32) <<< (nI (M j) &&& 31)))) = 0)) →
      wX_filterAllDifferent_47 post fr f_varCount (nI V) f_maxConstraints f_maxLevel f_allValues f_allVars f_status f_currentLevel f_constraintCount f_searchState f_searchDirection f_foundCount f_depth f_trailSize f_queueHead f_queueSize f_pendingMask (nI k) (d + 1) (nI i) a_dom a_savedDom a_savedCount a_savedStatus a_kindOf a_scopeOf a_lowBound a_highBound a_tupleCount a_coef a_tuples a_newTuple a_solution a_todo a_mark a_work a_trailVar a_trailMask a_queue a_inVar a_inMask out a_matchOf a_owner a_reachedFrom a_bfs a_reach a_termCoef a_termMin a_span a_forward a_backward := by
  intro d
  induction d with
  | zero =>
    intro i out hi g0 g
    obtain rfl : i = k := by omega
    exact br_t (nI_le (Nat.le_refl _) (by omega)) (hP out (fun j a hj => g j a hj))
  | succ d ih =>
    intro i out hi g0 g
    refine br_f (nI_ge (by omega) (by omega)) ⟨vp_in_nI (by omega) (by omega), nm_r (e' := fr ||| ((1 : Int32) <<< (nI (M i) &&& 31))) (by rw [nI_clamp (by omega), (hM i (by omega)).2]) (Exists.intro (V + 1) ?_)⟩
    have H : wX_filterAllDifferent_69 post (wX_filterAllDifferent_47 post fr f_varCount (nI V) f_maxConstraints f_maxLevel f_allValues f_allVars f_status f_currentLevel f_constraintCount f_searchState f_searchDirection f_foundCount f_depth f_trailSize f_queueHead f_queueSize f_pendingMask (nI k) (d + 1)) fr (nI i) (fr ||| ((1 : Int32) <<< (nI (M i) &&& 31))) f_varCount (nI V) f_maxConstraints f_maxLevel f_allValues f_allVars f_status f_currentLevel f_constraintCount f_searchState f_searchDirection f_foundCount f_depth f_trailSize f_queueHead f_queueSize f_pendingMask (nI k) (V + 1) (nI 0) a_dom a_savedDom a_savedCount a_savedStatus a_kindOf a_scopeOf a_lowBound a_highBound a_tupleCount a_coef a_tuples a_newTuple a_solution a_todo a_mark a_work a_trailVar a_trailMask a_queue a_inVar a_inMask (upd out i 0) a_matchOf a_owner a_reachedFrom a_bfs a_reach a_termCoef a_termMin a_span a_forward a_backward := xa_69 (a_outMask := out) hV (by omega) (fun o ho => ih (i + 1) (upd out i o) (by omega) (fun j h1 h2 => by rw [pk_un (by omega)]; exact g0 j (by omega) h2) (fun j a hj => by
      rcases Nat.lt_or_ge j i with z | z
      · rw [pk_un (by omega)]; exact g j a z
      · obtain rfl : j = i := by omega
        rw [pk_us]; exact ho a)) V 0 0 (by omega) (fun a => by rw [b_0]; exact ⟨fun h => absurd h (by decide), fun h => absurd h.1 (by omega)⟩)
    rw [u_self (g0 i (Nat.le_refl _) (by omega))] at H
    exact H
theorem xa_16 {post : SX → Prop} (hk : k ≤ 5) (hV : V ≤ 6) (hA : ∀ a, a < V → a_owner a = -1 ∨ ∃ j, j < k ∧ a_owner a = nI j)
    (hP : ∀ fr : Int32, (∀ a, bt fr a = true ↔ a < V ∧ a_owner a = -1) → ∃ n, wX_filterAllDifferent_47 post fr f_varCount (nI V) f_maxConstraints f_maxLevel f_allValues f_allVars f_status f_currentLevel f_constraintCount f_searchState f_searchDirection f_foundCount f_depth f_trailSize f_queueHead f_queueSize f_pendingMask (nI k) n 0 a_dom a_savedDom a_savedCount a_savedStatus a_kindOf a_scopeOf a_lowBound a_highBound a_tupleCount a_coef a_tuples a_newTuple a_solution a_todo a_mark a_work a_trailVar a_trailMask a_queue a_inVar a_inMask a_outMask a_matchOf a_owner a_reachedFrom a_bfs a_reach a_termCoef a_termMin a_span a_forward a_backward) :
    ∀ (d v : Nat) (fr : Int32), v + d = V → (∀ a, bt fr a = true ↔ a < v ∧ a_owner a = -1) → wX_filterAllDifferent_16 post f_varCount (nI V) f_maxConstraints f_maxLevel f_allValues f_allVars f_status f_currentLevel f_constraintCount f_searchState f_searchDirection f_foundCount f_depth f_trailSize f_queueHead f_queueSize f_pendingMask (nI k) a_dom a_savedDom a_savedCount a_savedStatus a_kindOf a_scopeOf a_lowBound a_highBound a_tupleCount a_coef a_tuples a_newTuple a_solution a_todo a_mark a_work a_trailVar a_trailMask a_queue a_inVar a_inMask a_outMask a_matchOf a_owner a_reachedFrom a_bfs a_reach a_termCoef a_termMin a_span a_forward a_backward (d + 1) fr (nI v) := by
  intro d
  induction d with
  | zero =>
    intro v fr hv g
    obtain rfl : v = V := by omega
    exact br_t (nI_le (Nat.le_refl _) (by omega)) (hP fr g)
  | succ d ih =>
    intro v fr hv g
    refine br_f (nI_ge (by omega) (by omega)) ⟨vp_in_nI (by omega) (by omega), ?_⟩
    rw [nI_clamp (by omega)]
    rcases hA v (by omega) with h | ⟨j, hj, h⟩
    · refine br_f (by rw [h]; decide) (nm_e (nm_r (e' := nI (v + 1)) (nI_1 _) (ih (v + 1) _ (by omega) (fun a => ?_))))
      rw [b_or, gb_shl1 (by omega), Bool.or_eq_true, decide_eq_true_eq, g a]
      constructor
      · rintro (⟨h1, h2⟩ | h1)
        · exact ⟨by omega, h2⟩
        · rw [h1]; exact ⟨by omega, h⟩
      · intro ⟨h1, h2⟩
        by_cases e : a = v
        · exact Or.inr e
        · exact Or.inl ⟨by omega, h2⟩
    · refine br_t (by rw [h]; exact nI_pos' (by omega)) (nm_r (e' := nI (v + 1)) (nI_1 _) (ih (v + 1) _ (by omega) (fun a => ?_)))
      rw [g a]
      constructor
      · intro ⟨h1, h2⟩; exact ⟨by omega, h2⟩
      · intro ⟨h1, h2⟩
        refine ⟨?_, h2⟩
        have : a ≠ v := fun e => by rw [e, h] at h2; exact nI_m1 (by omega) h2
        omega
theorem xa_filter {post : SX → Prop} (hk : k ≤ 5) (hV : V ≤ 6) (hm : ∀ i, i < k → Msk V (a_inMask i)) (ho : ∀ i, i < k → a_outMask i = 0)
    (hP : ∀ mo ow rf bq rc out : Nat → Int32, (∀ i a, i < k → (bt (out i) a = true ↔ ∃ σ, adA k a_inMask σ ∧ σ i = a)) → post (f_varCount, nI V, f_maxConstraints, f_maxLevel, f_allValues, f_allVars, f_status, f_currentLevel, f_constraintCount, f_searchState, f_searchDirection, f_foundCount, f_depth, f_trailSize, f_queueHead, f_queueSize, f_pendingMask, nI k, a_dom, a_savedDom, a_savedCount, a_savedStatus, a_kindOf, a_scopeOf, a_lowBound, a_highBound, a_tupleCount, a_coef, a_tuples, a_newTuple, a_solution, a_todo, a_mark, a_work, a_trailVar, a_trailMask, a_queue, a_inVar, a_inMask, out, mo, ow, rf, bq, rc, a_termCoef, a_termMin, a_span, a_forward, a_backward)) :
    wpX_filterAllDifferent post (f_varCount, nI V, f_maxConstraints, f_maxLevel, f_allValues, f_allVars, f_status, f_currentLevel, f_constraintCount, f_searchState, f_searchDirection, f_foundCount, f_depth, f_trailSize, f_queueHead, f_queueSize, f_pendingMask, nI k, a_dom, a_savedDom, a_savedCount, a_savedStatus, a_kindOf, a_scopeOf, a_lowBound, a_highBound, a_tupleCount, a_coef, a_tuples, a_newTuple, a_solution, a_todo, a_mark, a_work, a_trailVar, a_trailMask, a_queue, a_inVar, a_inMask, a_outMask, a_matchOf, a_owner, a_reachedFrom, a_bfs, a_reach, a_termCoef, a_termMin, a_span, a_forward, a_backward) := by
  refine xa_match hk hV hm (fun hn mo ow rf bq => ?_) (fun mo ow rf bq hA hall => ?_)
  · refine br_t rfl (hP mo ow rf bq a_reach a_outMask (fun i a hi => ?_))
    rw [ho i hi, b_0]
    exact ⟨fun h => absurd h (by decide), fun ⟨σ, h, _⟩ => absurd h (hn σ)⟩
  · refine br_f (by decide) ?_
    refine xa_close hk hV hm hA (fun rc hrc => ?_)
    have hMM : ∀ i, ∃ a, i < k → a < V ∧ mo i = nI a := by
      intro i
      by_cases hi : i < k
      · rcases hA.1 i (by omega) with h | ⟨a, ha, e, _⟩
        · exact absurd h (hall i hi)
        · exact ⟨a, fun _ => ⟨ha, e⟩⟩
      · exact ⟨0, fun h => absurd h hi⟩
    obtain ⟨M, hM⟩ := Classical.skolem.mp hMM
    refine Exists.intro (V + 1) ?_
    refine xa_16 hk hV (fun a ha => (hA.2 a (by omega)).imp id (fun ⟨j, h1, h2, _⟩ => ⟨j, h1, h2⟩)) (fun fr hfr => Exists.intro (k + 1) ?_) V 0 0 (by omega) (fun a => by rw [b_0]; exact ⟨fun h => absurd h (by decide), fun h => absurd h.1 (by omega)⟩)
    refine xa_47 (M := M) hk hV hM (fun out hout => ?_) k 0 a_outMask (by omega) (fun j _ hj => ho j hj) (fun j a hj => absurd hj (by omega))
    refine hP mo ow rf bq rc out (fun i a hi => ?_)
    rw [hout i a hi]
    have hgoal : ∀ a, ¬ (rc a &&& (fr ||| ((1 : Int32) <<< (nI (M i) &&& 31)))) = 0 ↔ ∃ g, bt (rc a) g = true ∧ ((g < V ∧ ow g = -1) ∨ g = M i) := by
      intro a
      have hMi := (hM i hi).1
      have e1 := gb_ne0 (x := rc a &&& (fr ||| ((1 : Int32) <<< (nI (M i) &&& 31))))
      rw [Ne] at e1
      rw [e1]
      constructor
      · rintro ⟨g, hg⟩
        rw [b_and, b_or, gb_shl1 (by omega), Bool.and_eq_true, Bool.or_eq_true, decide_eq_true_eq, hfr g] at hg
        exact ⟨g, hg⟩
      · rintro ⟨g, hg⟩
        refine ⟨g, ?_⟩
        rw [b_and, b_or, gb_shl1 (by omega), Bool.and_eq_true, Bool.or_eq_true, decide_eq_true_eq, hfr g]
        exact hg
    constructor
    · rintro ⟨haV, hma, hne⟩
      obtain ⟨g, hg1, hg2⟩ := (hgoal a).mp hne
      refine (ad_sup (R := fun a b => bt (rc a) b = true) hk hV hm hA hM (fun a b ha hb => (hrc.1 a b ha hb).2) hrc.2.1 (fun a b c ha hab hb he => hrc.2.2.2 b hb a c ha hab (hrc.2.2.1 b c hb he)) hi hma).mp ⟨g, (hrc.1 a g haV hg1).1, hg1, ?_⟩
      rcases hg2 with h | h
      · exact Or.inl h.2
      · exact Or.inr h
    · rintro ⟨σ, hσ, e⟩
      have hma : bt (a_inMask i) a = true := e ▸ hσ.1 i hi
      obtain ⟨g, hg, hg1, hg2⟩ := (ad_sup (R := fun a b => bt (rc a) b = true) hk hV hm hA hM (fun a b ha hb => (hrc.1 a b ha hb).2) hrc.2.1 (fun a b c ha hab hb he => hrc.2.2.2 b hb a c ha hab (hrc.2.2.1 b c hb he)) hi hma).mpr ⟨σ, hσ, e⟩
      refine ⟨mk_lt (hm i hi) hma, hma, (hgoal a).mpr ⟨g, hg1, ?_⟩⟩
      rcases hg2 with h | h
      · exact Or.inl ⟨hg, h⟩
      · exact Or.inr h
end
end
section
/-! sums: reachable totals, pure -/
section
def loB (m : Int32) : Nat := if bt m 0 = true then 0 else if bt m 1 = true then 1 else if bt m 2 = true then 2 else if bt m 3 = true then 3 else if bt m 4 = true then 4 else 5
def hiB (m : Int32) : Nat := if bt m 5 = true then 5 else if bt m 4 = true then 4 else if bt m 3 = true then 3 else if bt m 2 = true then 2 else if bt m 1 = true then 1 else 0
theorem lo_eq {m : Int32} {lo : Nat} (h : lo < 6) (hb : bt m lo = true) (hj : ∀ j, j < lo → bt m j = false) : loB m = lo := by
  unfold loB
  rcases (by omega : lo = 0 ∨ lo = 1 ∨ lo = 2 ∨ lo = 3 ∨ lo = 4 ∨ lo = 5) with e | e | e | e | e | e <;> subst e
  · simp [hb]
  · simp [hb, hj 0 (by omega)]
  · simp [hb, hj 0 (by omega), hj 1 (by omega)]
  · simp [hb, hj 0 (by omega), hj 1 (by omega), hj 2 (by omega)]
  · simp [hb, hj 0 (by omega), hj 1 (by omega), hj 2 (by omega), hj 3 (by omega)]
  · simp [hj 0 (by omega), hj 1 (by omega), hj 2 (by omega), hj 3 (by omega), hj 4 (by omega)]
theorem hi_eq {m : Int32} {hi : Nat} (h : hi < 6) (hb : bt m hi = true) (hj : ∀ j, hi < j → j < 6 → bt m j = false) : hiB m = hi := by
  unfold hiB
  rcases (by omega : hi = 0 ∨ hi = 1 ∨ hi = 2 ∨ hi = 3 ∨ hi = 4 ∨ hi = 5) with e | e | e | e | e | e <;> subst e
  · simp [hj 5 (by omega) (by omega), hj 4 (by omega) (by omega), hj 3 (by omega) (by omega), hj 2 (by omega) (by omega), hj 1 (by omega) (by omega)]
  · simp [hb, hj 5 (by omega) (by omega), hj 4 (by omega) (by omega), hj 3 (by omega) (by omega), hj 2 (by omega) (by omega)]
  · simp [hb, hj 5 (by omega) (by omega), hj 4 (by omega) (by omega), hj 3 (by omega) (by omega)]
  · simp [hb, hj 5 (by omega) (by omega), hj 4 (by omega) (by omega)]
  · simp [hb, hj 5 (by omega) (by omega)]
  · simp [hb]
theorem lo_le {m : Int32} {a : Nat} (h : a < 6) (hb : bt m a = true) : loB m ≤ a := by
  obtain ⟨lo, h1, h2⟩ := pk_least (fun i => bt m i = true) ⟨a, hb⟩
  have : lo ≤ a := by
    rcases Nat.lt_or_ge a lo with z | z
    · exact absurd hb (h2 a z)
    · exact z
  rw [lo_eq (by omega) h1 (fun j hj => by have := h2 j hj; simpa using this)]
  exact this
theorem hi_ge {m : Int32} {a : Nat} (h : a < 6) (hb : bt m a = true) : a ≤ hiB m := by
  unfold hiB
  rcases (by omega : a = 0 ∨ a = 1 ∨ a = 2 ∨ a = 3 ∨ a = 4 ∨ a = 5) with e | e | e | e | e | e <;> subst e
  · omega
  all_goals (repeat (first | omega | (split; · omega) | simp [hb]))
theorem hi_lt (m : Int32) : hiB m ≤ 5 := by
  unfold hiB
  repeat (first | omega | (split; · omega))
def tmF (z : Int) (m : Int32) : Int := if z * hiB m ≤ z * loB m then z * hiB m else z * loB m
def wnF (z : Int) (m : Int32) : Nat := (if z * hiB m ≤ z * loB m then z * loB m - z * hiB m else z * hiB m - z * loB m).toNat
def ofF (z : Int) (m : Int32) (a : Nat) : Nat := (z * a - tmF z m).toNat
theorem sm_z {z : Int} {l h a : Nat} (h1 : -3 ≤ z) (h2 : z ≤ 3) (hl : l ≤ a) (hh : a ≤ h) (h5 : h ≤ 5) :
    (z * h ≤ z * l → z * h ≤ z * a ∧ z * a ≤ z * l ∧ z * l - z * h ≤ 15 ∧ -15 ≤ z * h ∧ z * h ≤ 15) ∧ (¬ z * h ≤ z * l → z * l ≤ z * a ∧ z * a ≤ z * h ∧ z * h - z * l ≤ 15 ∧ -15 ≤ z * l ∧ z * l ≤ 15) := by
  rcases (by omega : z = -3 ∨ z = -2 ∨ z = -1 ∨ z = 0 ∨ z = 1 ∨ z = 2 ∨ z = 3) with e | e | e | e | e | e | e <;> subst e <;> omega
theorem sm_t {z : Int} {m : Int32} {a : Nat} (h1 : -3 ≤ z) (h2 : z ≤ 3) (hb : bt m a = true) (ha : a < 6) :
    z * a = tmF z m + ofF z m a ∧ ofF z m a ≤ wnF z m ∧ wnF z m ≤ 15 ∧ -15 ≤ tmF z m ∧ tmF z m ≤ 15 := by
  have k := sm_z (z := z) h1 h2 (lo_le ha hb) (hi_ge ha hb) (hi_lt m)
  unfold ofF wnF tmF
  by_cases c : z * hiB m ≤ z * loB m
  · have k := k.1 c
    rw [if_pos c, if_pos c]
    generalize z * (hiB m : Int) = u at *
    generalize z * (loB m : Int) = w at *
    generalize z * (a : Int) = y at *
    omega
  · have k := k.2 c
    rw [if_neg c, if_neg c]
    generalize z * (hiB m : Int) = u at *
    generalize z * (loB m : Int) = w at *
    generalize z * (a : Int) = y at *
    omega
/-- sums of offsets: the first i terms; d terms from i on -/
def psm (f : Nat → Nat → Nat) (σ : Nat → Nat) : Nat → Nat
  | 0 => 0
  | i + 1 => psm f σ i + f i (σ i)
def tsm (f : Nat → Nat → Nat) (σ : Nat → Nat) : Nat → Nat → Nat
  | _, 0 => 0
  | i, d + 1 => f i (σ i) + tsm f σ (i + 1) d
theorem ps_c {f : Nat → Nat → Nat} {σ τ : Nat → Nat} : ∀ {i : Nat}, (∀ j, j < i → σ j = τ j) → psm f σ i = psm f τ i
  | 0, _ => rfl
  | i + 1, h => by simp only [psm]; rw [ps_c (fun j hj => h j (by omega)), h i (by omega)]
theorem ts_c {f : Nat → Nat → Nat} {σ τ : Nat → Nat} : ∀ {d i : Nat}, (∀ j, i ≤ j → j < i + d → σ j = τ j) → tsm f σ i d = tsm f τ i d
  | 0, _, _ => rfl
  | d + 1, i, h => by simp only [tsm]; rw [ts_c (d := d) (i := i + 1) (fun j h1 h2 => h j (by omega) (by omega)), h i (by omega) (by omega)]
theorem ps_t (f : Nat → Nat → Nat) (σ : Nat → Nat) : ∀ d i, psm f σ (i + d) = psm f σ i + tsm f σ i d
  | 0, i => rfl
  | d + 1, i => by
    rw [show i + (d + 1) = (i + 1) + d by omega, ps_t f σ d (i + 1)]
    simp only [psm, tsm]; omega
def fS (m : Nat → Int32) (f : Nat → Nat → Nat) (i s : Nat) : Prop := ∃ σ, (∀ j, j < i → bt (m j) (σ j) = true) ∧ psm f σ i = s
def bS (k : Nat) (m : Nat → Int32) (f : Nat → Nat → Nat) (P : Nat → Prop) (i s : Nat) : Prop := ∃ σ, (∀ j, i ≤ j → j < k → bt (m j) (σ j) = true) ∧ P (s + tsm f σ i (k - i))
theorem fS_0 (m : Nat → Int32) (f : Nat → Nat → Nat) (s : Nat) : fS m f 0 s ↔ s = 0 :=
  ⟨fun ⟨_, _, h⟩ => h.symm, fun h => ⟨fun _ => 0, fun j hj => absurd hj (by omega), h.symm⟩⟩
theorem fS_s (m : Nat → Int32) (f : Nat → Nat → Nat) (i s : Nat) : fS m f (i + 1) s ↔ ∃ a s', bt (m i) a = true ∧ fS m f i s' ∧ s = s' + f i a := by
  constructor
  · rintro ⟨σ, h1, h2⟩
    exact ⟨σ i, psm f σ i, h1 i (by omega), ⟨σ, fun j hj => h1 j (by omega), rfl⟩, h2.symm⟩
  · rintro ⟨a, s', ha, ⟨σ, h1, h2⟩, e⟩
    refine ⟨fun j => if j = i then a else σ j, fun j hj => ?_, ?_⟩
    · show bt (m j) (if j = i then a else σ j) = true
      by_cases z : j = i
      · rw [if_pos z, z]; exact ha
      · rw [if_neg z]; exact h1 j (by omega)
    · simp only [psm, if_true]
      rw [ps_c (τ := σ) (fun j hj => if_neg (by omega)), h2, e]
theorem bS_k (k : Nat) (m : Nat → Int32) (f : Nat → Nat → Nat) (P : Nat → Prop) (s : Nat) : bS k m f P k s ↔ P s := by
  constructor
  · rintro ⟨σ, _, h⟩; rw [Nat.sub_self] at h; exact h
  · intro h; refine ⟨fun _ => 0, fun j h1 h2 => absurd h1 (by omega), ?_⟩; rw [Nat.sub_self]; exact h
theorem bS_s {k : Nat} {m : Nat → Int32} {f : Nat → Nat → Nat} {P : Nat → Prop} {i s : Nat} (hi : i < k) : bS k m f P i s ↔ ∃ a, bt (m i) a = true ∧ bS k m f P (i + 1) (s + f i a) := by
  have e : k - i = (k - (i + 1)) + 1 := by omega
  constructor
  · rintro ⟨σ, h1, h2⟩
    refine ⟨σ i, h1 i (Nat.le_refl _) hi, σ, fun j h3 h4 => h1 j (by omega) h4, ?_⟩
    rw [e] at h2; simp only [tsm] at h2
    rw [Nat.add_assoc]; exact h2
  · rintro ⟨a, ha, σ, h1, h2⟩
    refine ⟨fun j => if j = i then a else σ j, fun j h3 h4 => ?_, ?_⟩
    · show bt (m j) (if j = i then a else σ j) = true
      by_cases z : j = i
      · rw [if_pos z, z]; exact ha
      · rw [if_neg z]; exact h1 j (by omega) h4
    · rw [e]; simp only [tsm, if_true]
      rw [ts_c (τ := σ) (fun j h3 h4 => if_neg (by omega)), ← Nat.add_assoc]; exact h2
/-- value a of term i is in some choice with a good total -/
theorem sm_sup {k : Nat} {m : Nat → Int32} {f : Nat → Nat → Nat} {P : Nat → Prop} {i a : Nat} (hi : i < k) :
    (bt (m i) a = true ∧ ∃ s, fS m f i s ∧ bS k m f P (i + 1) (s + f i a)) ↔ ∃ σ, (∀ j, j < k → bt (m j) (σ j) = true) ∧ P (psm f σ k) ∧ σ i = a := by
  have hk : k = (i + 1) + (k - (i + 1)) := by omega
  constructor
  · rintro ⟨ha, s, ⟨σ, h1, h2⟩, ⟨τ, h3, h4⟩⟩
    refine ⟨fun j => if j < i then σ j else if j = i then a else τ j, fun j hj => ?_, ?_, ?_⟩
    · show bt (m j) (if j < i then σ j else if j = i then a else τ j) = true
      by_cases z : j < i
      · rw [if_pos z]; exact h1 j z
      · rw [if_neg z]
        by_cases y : j = i
        · rw [if_pos y, y]; exact ha
        · rw [if_neg y]; exact h3 j (by omega) hj
    · rw [hk, ps_t, ts_c (τ := τ) (fun j h5 h6 => by rw [if_neg (by omega), if_neg (by omega)])]
      simp only [psm]
      rw [ps_c (τ := σ) (fun j hj => if_pos hj), h2, if_neg (by omega), if_true]
      exact h4
    · show (if i < i then σ i else if i = i then a else τ i) = a
      rw [if_neg (by omega), if_pos rfl]
  · rintro ⟨σ, h1, h2, h3⟩
    refine ⟨h3 ▸ h1 i hi, psm f σ i, ⟨σ, fun j hj => h1 j (by omega), rfl⟩, σ, fun j _ hj => h1 j hj, ?_⟩
    rw [hk, ps_t] at h2
    simp only [psm] at h2
    rw [h3] at h2; exact h2
/-- prefix sums of widths -/
def spN (w : Nat → Nat) : Nat → Nat
  | 0 => 0
  | i + 1 => spN w i + w i
theorem sp_le {w : Nat → Nat} {k : Nat} (h : ∀ i, i < k → w i ≤ 15) : ∀ i, i ≤ k → spN w i ≤ 15 * i
  | 0, _ => Nat.le_refl _
  | i + 1, hi => by have := sp_le h i (by omega); have := h i (by omega); simp only [spN]; omega
theorem fS_le {m : Nat → Int32} {f : Nat → Nat → Nat} {w : Nat → Nat} {k : Nat} (h : ∀ i a, i < k → bt (m i) a = true → f i a ≤ w i) : ∀ {i s : Nat}, i ≤ k → fS m f i s → s ≤ spN w i
  | 0, s, _, hs => by rw [fS_0] at hs; omega
  | i + 1, s, hi, hs => by
    rw [fS_s] at hs
    obtain ⟨a, s', h1, h2, e⟩ := hs
    have := fS_le h (i := i) (by omega) h2
    have := h i a (by omega) h1
    simp only [spN]; omega
/-- row i of a table of totals says P -/
def Rw (w : Nat → Nat) (fw : Nat → Int32) (i : Nat) (P : Nat → Prop) : Prop := ∀ s, s ≤ spN w i → (fw (i * 76 + s) = 0 ↔ ¬ P s)
theorem Rw_c {w : Nat → Nat} {fw : Nat → Int32} {i : Nat} {P Q : Nat → Prop} (h : Rw w fw i P) (e : ∀ s, s ≤ spN w i → (P s ↔ Q s)) : Rw w fw i Q :=
  fun s hs => (h s hs).trans (not_congr (e s hs))
theorem Rw_other {w : Nat → Nat} {fw : Nat → Int32} {i j t : Nat} {x : Int32} {P : Nat → Prop} (h : Rw w fw i P) (hw : spN w i ≤ 75) (ht : t ≤ 75) (hij : i ≠ j) : Rw w (upd fw (j * 76 + t) x) i P := by
  intro s hs
  rw [pk_un (by omega)]; exact h s hs
theorem Rw_set {w : Nat → Nat} {fw : Nat → Int32} {i t : Nat} {P : Nat → Prop} (h : Rw w fw i P) : Rw w (upd fw (i * 76 + t) 1) i (fun s => P s ∨ s = t) := by
  intro s hs
  by_cases z : s = t
  · rw [z, pk_us]; exact ⟨fun e => absurd e (by decide), fun e => absurd (Or.inr rfl) e⟩
  · rw [pk_un (by omega), h s hs]
    exact not_congr ⟨Or.inl, fun e => e.elim id (fun y => absurd y z)⟩
theorem Rw_clr {w : Nat → Nat} {fw : Nat → Int32} {i t : Nat} {P : Nat → Prop} (h : Rw w fw i P) : Rw w (upd fw (i * 76 + t) 0) i (fun s => P s ∧ s ≠ t) := by
  intro s hs
  by_cases z : s = t
  · rw [z, pk_us]; exact ⟨fun _ e => e.2 rfl, fun _ => rfl⟩
  · rw [pk_un (by omega), h s hs]
    exact not_congr ⟨fun e => ⟨e, z⟩, fun e => e.1⟩
end
end
section
/-! sums: the walk -/
section
def oF (z : Nat → Int) (m : Nat → Int32) : Nat → Nat → Nat := fun i a => ofF (z i) (m i) a
def wF (z : Nat → Int) (m : Nat → Int32) : Nat → Nat := fun i => wnF (z i) (m i)
def tF (z : Nat → Int) (m : Nat → Int32) : Nat → Int := fun i => tmF (z i) (m i)
def bsN (t : Nat → Int) : Nat → Int
  | 0 => 0
  | i + 1 => bsN t i + t i
def smC (k V : Nat) (z : Nat → Int) (m : Nat → Int32) : Prop := k ≤ 5 ∧ V ≤ 6 ∧ (∀ i, i < k → -3 ≤ z i ∧ z i ≤ 3) ∧ ∀ i, i < k → Msk V (m i) ∧ ∃ a, bt (m i) a = true
theorem smC_a {k V : Nat} {z : Nat → Int} {m : Nat → Int32} (h : smC k V z m) {i a : Nat} (hi : i < k) (hb : bt (m i) a = true) :
    a < V ∧ z i * a = tF z m i + oF z m i a ∧ oF z m i a ≤ wF z m i := by
  obtain ⟨h1, h2, h3, h4⟩ := h
  have ha := mk_lt (h4 i hi).1 hb
  have := sm_t (h3 i hi).1 (h3 i hi).2 hb (by omega)
  exact ⟨ha, this.1, this.2.1⟩
theorem smC_w {k V : Nat} {z : Nat → Int} {m : Nat → Int32} (h : smC k V z m) {i : Nat} (hi : i < k) : wF z m i ≤ 15 ∧ -15 ≤ tF z m i ∧ tF z m i ≤ 15 := by
  obtain ⟨h1, h2, h3, h4⟩ := h
  obtain ⟨a, hb⟩ := (h4 i hi).2
  have ha := mk_lt (h4 i hi).1 hb
  have := sm_t (h3 i hi).1 (h3 i hi).2 hb (by omega)
  exact this.2.2
theorem smC_sp {k V : Nat} {z : Nat → Int} {m : Nat → Int32} (h : smC k V z m) {i : Nat} (hi : i ≤ k) : spN (wF z m) i ≤ 75 := by
  have := sp_le (k := k) (fun j hj => (smC_w h hj).1) i hi
  have := h.1
  omega
theorem smC_bs {k V : Nat} {z : Nat → Int} {m : Nat → Int32} (h : smC k V z m) : ∀ {i : Nat}, i ≤ k → -15 * (i : Int) ≤ bsN (tF z m) i ∧ bsN (tF z m) i ≤ 15 * i
  | 0, _ => ⟨by simp [bsN], by simp [bsN]⟩
  | i + 1, hi => by
    have a := smC_bs h (i := i) (by omega)
    have b := smC_w h (i := i) (by omega)
    simp only [bsN]
    omega
theorem smC_fS {k V : Nat} {z : Nat → Int} {m : Nat → Int32} (h : smC k V z m) {i s : Nat} (hi : i ≤ k) (hs : fS m (oF z m) i s) : s ≤ spN (wF z m) i :=
  fS_le (fun j a hj hb => (smC_a h hj hb).2.2) hi hs
theorem ix76 (i s : Nat) : (nI i * 76 + nI s : Int32) = nI (i * 76 + s) := by
  show nI i * nI 76 + nI s = _
  rw [pk_mul, nI_add]
theorem nIz (n : Nat) : nI n = iZ (n : Int) := (iz_nI n).symm
/-- the totals forward: rows up to i done, row i + 1 says Q, the others nothing -/
def fwI (k : Nat) (m : Nat → Int32) (f : Nat → Nat → Nat) (w : Nat → Nat) (fw : Nat → Int32) (i : Nat) (Q : Nat → Prop) : Prop :=
  (∀ j, j ≤ i → Rw w fw j (fS m f j)) ∧ Rw w fw (i + 1) Q ∧ ∀ j, i + 1 < j → j ≤ k → Rw w fw j (fun _ => False)
/-- the totals backward: rows above i done, row i says Q -/
def bwI (k : Nat) (m : Nat → Int32) (f : Nat → Nat → Nat) (w : Nat → Nat) (P : Nat → Prop) (bw : Nat → Int32) (i : Nat) (Q : Nat → Prop) : Prop :=
  (∀ j, i < j → j ≤ k → Rw w bw j (fun s => fS m f j s ∧ bS k m f P j s)) ∧ Rw w bw i Q
/-- the out masks above i done, that of i says O, those below empty -/
def omI (k : Nat) (m : Nat → Int32) (f : Nat → Nat → Nat) (P : Nat → Prop) (om : Nat → Int32) (i : Nat) (O : Nat → Prop) : Prop :=
  (∀ j a, i < j → j < k → (bt (om j) a = true ↔ bt (m j) a = true ∧ ∃ s, fS m f j s ∧ bS k m f P (j + 1) (s + f j a))) ∧ (∀ a, bt (om i) a = true ↔ O a) ∧ ∀ j, j < i → om j = 0
end
section
variable {f_varCount f_maxConstraints f_maxLevel f_allValues f_allVars f_status f_currentLevel f_constraintCount f_searchState f_searchDirection f_foundCount f_depth f_trailSize f_queueHead f_queueSize f_pendingMask : Int32} {a_dom a_savedDom a_savedCount a_savedStatus a_kindOf a_scopeOf a_lowBound a_highBound a_tupleCount a_coef a_tuples a_newTuple a_solution a_todo a_mark a_work a_trailVar a_trailMask a_queue a_inVar a_inMask a_outMask a_matchOf a_owner a_reachedFrom a_bfs a_reach a_forward a_backward : Nat → Int32} {k V : Nat} {z : Nat → Int}
theorem xs_115 {post : Int32 → SX → Prop} {J : Int32 → Int32 →  (Nat → Int32) → (Nat → Int32) → (Nat → Int32) → (Nat → Int32) → (Nat → Int32) → (Nat → Int32) → (Nat → Int32) → (Nat → Int32) → (Nat → Int32) → (Nat → Int32) → (Nat → Int32) → (Nat → Int32) → (Nat → Int32) → (Nat → Int32) → (Nat → Int32) → (Nat → Int32) → (Nat → Int32) → (Nat → Int32) → (Nat → Int32) → (Nat → Int32) → (Nat → Int32) → (Nat → Int32) → (Nat → Int32) → (Nat → Int32) → (Nat → Int32) → (Nat → Int32) → (Nat → Int32) → (Nat → Int32) → (Nat → Int32) → (Nat → Int32) → (Nat → Int32) → (Nat → Int32) →  Prop} {x1 : Int32} {i w : Nat} {b t : Int} {a_termCoef tm sp : Nat → Int32} (hi : i < 5) (ht : tm i = iZ t) {s : Nat} (hs : sp i = nI s)
    (hJ : J (iZ (b + t)) (nI (i + 1)) a_dom a_savedDom a_savedCount a_savedStatus a_kindOf a_scopeOf a_lowBound a_highBound a_tupleCount a_coef a_tuples a_newTuple a_solution a_todo a_mark a_work a_trailVar a_trailMask a_queue a_inVar a_inMask a_outMask a_matchOf a_owner a_reachedFrom a_bfs a_reach a_termCoef tm (upd sp (i + 1) (nI (s + w))) a_forward a_backward) :
    wX_measureTerms_115 post J x1 (iZ b) (nI i) (nI w) f_varCount (nI V) f_maxConstraints f_maxLevel f_allValues f_allVars f_status f_currentLevel f_constraintCount f_searchState f_searchDirection f_foundCount f_depth f_trailSize f_queueHead f_queueSize f_pendingMask (nI k) a_dom a_savedDom a_savedCount a_savedStatus a_kindOf a_scopeOf a_lowBound a_highBound a_tupleCount a_coef a_tuples a_newTuple a_solution a_todo a_mark a_work a_trailVar a_trailMask a_queue a_inVar a_inMask a_outMask a_matchOf a_owner a_reachedFrom a_bfs a_reach a_termCoef tm sp a_forward a_backward := by
  have e : (nI i + 1 : Int32) = nI (i + 1) := nI_1 i
  refine And.intro (vp_in_nI (by omega) (by omega)) ?_
  rw [e]
  refine And.intro (vp_in_nI (by omega) (by omega)) (nm_r (e' := upd sp (i + 1) (nI (s + w))) ?_ (And.intro (vp_in_nI (by omega) (by omega)) (nm_r (e' := iZ (b + t)) ?_ (nm_r (e' := nI (i + 1)) rfl hJ))))
  · rw [nI_clamp (by omega), nI_clamp (by omega), hs, nI_add]
  · rw [nI_clamp (by omega), ht, iz_add]
theorem xs_m11 {post : Int32 → SX → Prop} {c : Nat} (hC : smC k V z a_inMask) (hc : c < 6) (hiv : ∀ i, i < k → ∃ x, x < 6 ∧ a_inVar i = nI x ∧ a_coef (c * 6 + x) = iZ (z i))
    (hP : ∀ tc tm sp : Nat → Int32, (∀ i, i < k → tc i = iZ (z i) ∧ tm i = iZ (tF z a_inMask i)) → (∀ i, i ≤ k → sp i = nI (spN (wF z a_inMask) i)) → post (iZ (bsN (tF z a_inMask) k)) (f_varCount, nI V, f_maxConstraints, f_maxLevel, f_allValues, f_allVars, f_status, f_currentLevel, f_constraintCount, f_searchState, f_searchDirection, f_foundCount, f_depth, f_trailSize, f_queueHead, f_queueSize, f_pendingMask, nI k, a_dom, a_savedDom, a_savedCount, a_savedStatus, a_kindOf, a_scopeOf, a_lowBound, a_highBound, a_tupleCount, a_coef, a_tuples, a_newTuple, a_solution, a_todo, a_mark, a_work, a_trailVar, a_trailMask, a_queue, a_inVar, a_inMask, a_outMask, a_matchOf, a_owner, a_reachedFrom, a_bfs, a_reach, tc, tm, sp, a_forward, a_backward)) :
    ∀ (d i : Nat) (tc tm sp : Nat → Int32), i + d = k → (∀ j, j < i → tc j = iZ (z j) ∧ tm j = iZ (tF z a_inMask j)) → (∀ j, j ≤ i → sp j = nI (spN (wF z a_inMask) j)) →
      wX_measureTerms_11 post (nI c) f_varCount (nI V) f_maxConstraints f_maxLevel f_allValues f_allVars f_status f_currentLevel f_constraintCount f_searchState f_searchDirection f_foundCount f_depth f_trailSize f_queueHead f_queueSize f_pendingMask (nI k) (d + 1) (iZ (bsN (tF z a_inMask) i)) (nI i) a_dom a_savedDom a_savedCount a_savedStatus a_kindOf a_scopeOf a_lowBound a_highBound a_tupleCount a_coef a_tuples a_newTuple a_solution a_todo a_mark a_work a_trailVar a_trailMask a_queue a_inVar a_inMask a_outMask a_matchOf a_owner a_reachedFrom a_bfs a_reach tc tm sp a_forward a_backward := by
  intro d
  have hk := hC.1
  induction d with
  | zero =>
    intro i tc tm sp hi g1 g2
    obtain rfl : i = k := by omega
    exact br_t (nI_le (Nat.le_refl _) (by omega)) (hP tc tm sp g1 g2)
  | succ d ih =>
    intro i tc tm sp hi g1 g2
    obtain ⟨x, hx, ex, ec⟩ := hiv i (by omega)
    have hci : (nI i).toNatClampNeg = i := nI_clamp (by omega)
    have e6 : (nI c * 6 + nI x : Int32) = nI (c * 6 + x) := by
      show nI c * nI 6 + nI x = _
      rw [pk_mul, nI_add]
    refine br_f (nI_ge (by omega) (by omega)) ⟨vp_in_nI (by omega) (by omega), ?_⟩
    rw [hci, ex, e6]
    have hz := hC.2.2.1 i (by omega)
    have hw := smC_w hC (i := i) (by omega)
    obtain ⟨hmm, a0, ha0⟩ := hC.2.2.2 i (by omega)
    have hV := hC.2.1
    have hm6 : ∃ i', i' < 6 ∧ bt (a_inMask i) i' = true := ⟨a0, by have := mk_lt hmm ha0; omega, ha0⟩
    refine ⟨vp_in_nI (by omega) (by omega), nm_r (e' := iZ (z i)) (by rw [nI_clamp (by omega)]; exact ec) ⟨vp_in_nI (by omega) (by omega), xh_low hm6 (fun lo l1 l2 l3 => nm_r (e' := iZ (z i * loB (a_inMask i))) ?_ ⟨vp_in_nI (by omega) (by omega), xh_high hm6 (fun h p1 p2 p3 => nm_r (e' := iZ (z i * hiB (a_inMask i))) ?_ ⟨vp_in_nI (by omega) (by omega), nm_e ?_⟩)⟩)⟩⟩
    · rw [lo_eq l1 l2 l3, nIz, iz_mul]
    · rw [hi_eq p1 p2 p3, nIz, iz_mul]
    · have key := sm_z (z := z i) (a := loB (a_inMask i)) hz.1 hz.2 (Nat.le_refl _) (Nat.le_trans (lo_le (a := a0) (by have := mk_lt hmm ha0; omega) ha0) (hi_ge (by have := mk_lt hmm ha0; omega) ha0)) (hi_lt _)
      have fin : ∀ tm' : Nat → Int32, tm' = upd tm i (iZ (tF z a_inMask i)) → ∀ w : Int32, w = nI (wF z a_inMask i) →
          wX_measureTerms_115 post (wX_measureTerms_11 post (nI c) f_varCount (nI V) f_maxConstraints f_maxLevel f_allValues f_allVars f_status f_currentLevel f_constraintCount f_searchState f_searchDirection f_foundCount f_depth f_trailSize f_queueHead f_queueSize f_pendingMask (nI k) (d + 1)) (nI c) (iZ (bsN (tF z a_inMask) i)) (nI i) w f_varCount (nI V) f_maxConstraints f_maxLevel f_allValues f_allVars f_status f_currentLevel f_constraintCount f_searchState f_searchDirection f_foundCount f_depth f_trailSize f_queueHead f_queueSize f_pendingMask (nI k) a_dom a_savedDom a_savedCount a_savedStatus a_kindOf a_scopeOf a_lowBound a_highBound a_tupleCount a_coef a_tuples a_newTuple a_solution a_todo a_mark a_work a_trailVar a_trailMask a_queue a_inVar a_inMask a_outMask a_matchOf a_owner a_reachedFrom a_bfs a_reach (upd tc i (iZ (z i))) tm' sp a_forward a_backward := by
        intro tm' etm w ew
        rw [etm, ew]
        refine xs_115 (t := tF z a_inMask i) (s := spN (wF z a_inMask) i) (by omega) pk_us (g2 i (Nat.le_refl _)) ?_
        refine ih (i + 1) _ _ _ (by omega) (fun j hj => ?_) (fun j hj => ?_)
        · by_cases q : j = i
          · rw [q, pk_us, pk_us]; exact ⟨rfl, rfl⟩
          · rw [pk_un q, pk_un q]; exact g1 j (by omega)
        · by_cases q : j = i + 1
          · rw [q, pk_us]; rfl
          · rw [pk_un q]; exact g2 j (by omega)
      by_cases cc : z i * (hiB (a_inMask i) : Int) ≤ z i * (loB (a_inMask i) : Int)
      · have q := key.1 cc
        have cl : iZ (z i * (hiB (a_inMask i) : Int)) ≤ iZ (z i * (loB (a_inMask i) : Int)) := (iz_le (by omega) (by omega) (by omega) (by omega)).mpr cc
        refine br_t cl (And.intro (vp_in_nI (by omega) (by omega)) (nm_e (br_t cl (fin _ ?_ _ ?_))))
        · rw [hci]; unfold tF tmF; rw [if_pos cc]
        · rw [iz_sub, nIz]; unfold wF wnF; rw [if_pos cc]; congr 1; omega
      · have q := key.2 cc
        have cl : ¬ iZ (z i * (hiB (a_inMask i) : Int)) ≤ iZ (z i * (loB (a_inMask i) : Int)) := fun y => cc ((iz_le (by omega) (by omega) (by omega) (by omega)).mp y)
        refine br_f cl (And.intro (vp_in_nI (by omega) (by omega)) (nm_e (br_f cl (fin _ ?_ _ ?_))))
        · rw [hci]; unfold tF tmF; rw [if_neg cc]
        · rw [iz_sub, nIz]; unfold wF wnF; rw [if_neg cc]; congr 1; omega
theorem xs_meas {post : Int32 → SX → Prop} {c : Nat} {a_termCoef a_termMin a_span : Nat → Int32} (hC : smC k V z a_inMask) (hc : c < 6) (hiv : ∀ i, i < k → ∃ x, x < 6 ∧ a_inVar i = nI x ∧ a_coef (c * 6 + x) = iZ (z i))
    (hP : ∀ tc tm sp : Nat → Int32, (∀ i, i < k → tc i = iZ (z i) ∧ tm i = iZ (tF z a_inMask i)) → (∀ i, i ≤ k → sp i = nI (spN (wF z a_inMask) i)) → post (iZ (bsN (tF z a_inMask) k)) (f_varCount, nI V, f_maxConstraints, f_maxLevel, f_allValues, f_allVars, f_status, f_currentLevel, f_constraintCount, f_searchState, f_searchDirection, f_foundCount, f_depth, f_trailSize, f_queueHead, f_queueSize, f_pendingMask, nI k, a_dom, a_savedDom, a_savedCount, a_savedStatus, a_kindOf, a_scopeOf, a_lowBound, a_highBound, a_tupleCount, a_coef, a_tuples, a_newTuple, a_solution, a_todo, a_mark, a_work, a_trailVar, a_trailMask, a_queue, a_inVar, a_inMask, a_outMask, a_matchOf, a_owner, a_reachedFrom, a_bfs, a_reach, tc, tm, sp, a_forward, a_backward)) :
    wpX_measureTerms post (f_varCount, nI V, f_maxConstraints, f_maxLevel, f_allValues, f_allVars, f_status, f_currentLevel, f_constraintCount, f_searchState, f_searchDirection, f_foundCount, f_depth, f_trailSize, f_queueHead, f_queueSize, f_pendingMask, nI k, a_dom, a_savedDom, a_savedCount, a_savedStatus, a_kindOf, a_scopeOf, a_lowBound, a_highBound, a_tupleCount, a_coef, a_tuples, a_newTuple, a_solution, a_todo, a_mark, a_work, a_trailVar, a_trailMask, a_queue, a_inVar, a_inMask, a_outMask, a_matchOf, a_owner, a_reachedFrom, a_bfs, a_reach, a_termCoef, a_termMin, a_span, a_forward, a_backward) (nI c) := by
  refine nm_e (Exists.intro (k + 1) ?_)
  exact xs_m11 hC hc hiv hP k 0 a_termCoef a_termMin (upd a_span 0 0) (by omega) (fun j hj => absurd hj (by omega)) (fun j hj => by
    obtain rfl : j = 0 := by omega
    exact pk_us)
end
section
variable {f_varCount f_maxConstraints f_maxLevel f_allValues f_allVars f_status f_currentLevel f_constraintCount f_searchState f_searchDirection f_foundCount f_depth f_trailSize f_queueHead f_queueSize f_pendingMask : Int32} {a_dom a_savedDom a_savedCount a_savedStatus a_kindOf a_scopeOf a_lowBound a_highBound a_tupleCount a_coef a_tuples a_newTuple a_solution a_todo a_mark a_work a_trailVar a_trailMask a_queue a_inVar a_inMask a_outMask a_matchOf a_owner a_reachedFrom a_bfs a_reach a_termCoef a_termMin a_span a_backward : Nat → Int32} {k V : Nat} {z : Nat → Int}
theorem xs_12 {post : SX → Prop} {J : Int32 →  (Nat → Int32) → (Nat → Int32) → (Nat → Int32) → (Nat → Int32) → (Nat → Int32) → (Nat → Int32) → (Nat → Int32) → (Nat → Int32) → (Nat → Int32) → (Nat → Int32) → (Nat → Int32) → (Nat → Int32) → (Nat → Int32) → (Nat → Int32) → (Nat → Int32) → (Nat → Int32) → (Nat → Int32) → (Nat → Int32) → (Nat → Int32) → (Nat → Int32) → (Nat → Int32) → (Nat → Int32) → (Nat → Int32) → (Nat → Int32) → (Nat → Int32) → (Nat → Int32) → (Nat → Int32) → (Nat → Int32) → (Nat → Int32) → (Nat → Int32) → (Nat → Int32) → (Nat → Int32) →  Prop} {i : Nat} (hC : smC k V z a_inMask) (hsp : ∀ i, i ≤ k → a_span i = nI (spN (wF z a_inMask) i)) (hi : i ≤ k)
    (hJ : ∀ fw : Nat → Int32, (∀ j s, j < i + 1 → s ≤ spN (wF z a_inMask) j → fw (j * 76 + s) = 0) → J (nI (i + 1)) a_dom a_savedDom a_savedCount a_savedStatus a_kindOf a_scopeOf a_lowBound a_highBound a_tupleCount a_coef a_tuples a_newTuple a_solution a_todo a_mark a_work a_trailVar a_trailMask a_queue a_inVar a_inMask a_outMask a_matchOf a_owner a_reachedFrom a_bfs a_reach a_termCoef a_termMin a_span fw a_backward) :
    ∀ (d s : Nat) (fw : Nat → Int32), s + d = spN (wF z a_inMask) i + 1 → (∀ j s, j < i → s ≤ spN (wF z a_inMask) j → fw (j * 76 + s) = 0) → (∀ s', s' < s → fw (i * 76 + s') = 0) →
      wX_fillForward_12 post J (nI i) f_varCount (nI V) f_maxConstraints f_maxLevel f_allValues f_allVars f_status f_currentLevel f_constraintCount f_searchState f_searchDirection f_foundCount f_depth f_trailSize f_queueHead f_queueSize f_pendingMask (nI k) (d + 1) (nI s) a_dom a_savedDom a_savedCount a_savedStatus a_kindOf a_scopeOf a_lowBound a_highBound a_tupleCount a_coef a_tuples a_newTuple a_solution a_todo a_mark a_work a_trailVar a_trailMask a_queue a_inVar a_inMask a_outMask a_matchOf a_owner a_reachedFrom a_bfs a_reach a_termCoef a_termMin a_span fw a_backward := by
  intro d
  have hk := hC.1
  have h75 := smC_sp hC hi
  induction d with
  | zero =>
    intro s fw hs g1 g2
    refine And.intro (vp_in_nI (by omega) (by omega)) ?_
    rw [nI_clamp (by omega), hsp i hi]
    refine br_t (nI_lt (by omega) (by omega)) (nm_r (e' := nI (i + 1)) (nI_1 _) (hJ fw (fun j s' hj hs' => ?_)))
    rcases Nat.lt_or_ge j i with q | q
    · exact g1 j s' q hs'
    · obtain rfl : j = i := by omega
      exact g2 s' (by omega)
  | succ d ih =>
    intro s fw hs g1 g2
    refine And.intro (vp_in_nI (by omega) (by omega)) ?_
    rw [nI_clamp (by omega), hsp i hi, ix76]
    refine br_f (nI_nlt (by omega) (by omega)) ⟨vp_in_nI (by omega) (by omega), nm_r (e' := upd fw (i * 76 + s) 0) (by rw [nI_clamp (by omega)]; rfl) (nm_r (e' := nI (s + 1)) (nI_1 _) (ih (s + 1) _ (by omega) (fun j s' hj hs' => ?_) (fun s' hs' => ?_)))⟩
    · have := smC_sp hC (i := j) (by omega)
      rw [pk_un (by omega)]; exact g1 j s' hj hs'
    · by_cases q : s' = s
      · rw [q, pk_us]
      · rw [pk_un (by omega)]; exact g2 s' (by omega)
theorem xs_113 {post : SX → Prop} {J J' : Int32 →  (Nat → Int32) → (Nat → Int32) → (Nat → Int32) → (Nat → Int32) → (Nat → Int32) → (Nat → Int32) → (Nat → Int32) → (Nat → Int32) → (Nat → Int32) → (Nat → Int32) → (Nat → Int32) → (Nat → Int32) → (Nat → Int32) → (Nat → Int32) → (Nat → Int32) → (Nat → Int32) → (Nat → Int32) → (Nat → Int32) → (Nat → Int32) → (Nat → Int32) → (Nat → Int32) → (Nat → Int32) → (Nat → Int32) → (Nat → Int32) → (Nat → Int32) → (Nat → Int32) → (Nat → Int32) → (Nat → Int32) → (Nat → Int32) → (Nat → Int32) → (Nat → Int32) → (Nat → Int32) →  Prop} {i v : Nat} {Q : Nat → Prop} (hC : smC k V z a_inMask) (hsp : ∀ i, i ≤ k → a_span i = nI (spN (wF z a_inMask) i)) (hi : i < k) (hb : bt (a_inMask i) v = true)
    (hJ : ∀ fw : Nat → Int32, fwI k a_inMask (oF z a_inMask) (wF z a_inMask) fw i (fun t => Q t ∨ ∃ s', fS a_inMask (oF z a_inMask) i s' ∧ t = s' + oF z a_inMask i v) → J (nI (v + 1)) a_dom a_savedDom a_savedCount a_savedStatus a_kindOf a_scopeOf a_lowBound a_highBound a_tupleCount a_coef a_tuples a_newTuple a_solution a_todo a_mark a_work a_trailVar a_trailMask a_queue a_inVar a_inMask a_outMask a_matchOf a_owner a_reachedFrom a_bfs a_reach a_termCoef a_termMin a_span fw a_backward) :
    ∀ (d s : Nat) (fw : Nat → Int32), s + d = spN (wF z a_inMask) i + 1 → fwI k a_inMask (oF z a_inMask) (wF z a_inMask) fw i (fun t => Q t ∨ ∃ s', s' < s ∧ fS a_inMask (oF z a_inMask) i s' ∧ t = s' + oF z a_inMask i v) →
      wX_fillForward_113 post J' J (nI i) (nI v) (nI ((i + 1) * 76 + oF z a_inMask i v)) f_varCount (nI V) f_maxConstraints f_maxLevel f_allValues f_allVars f_status f_currentLevel f_constraintCount f_searchState f_searchDirection f_foundCount f_depth f_trailSize f_queueHead f_queueSize f_pendingMask (nI k) (d + 1) (nI s) a_dom a_savedDom a_savedCount a_savedStatus a_kindOf a_scopeOf a_lowBound a_highBound a_tupleCount a_coef a_tuples a_newTuple a_solution a_todo a_mark a_work a_trailVar a_trailMask a_queue a_inVar a_inMask a_outMask a_matchOf a_owner a_reachedFrom a_bfs a_reach a_termCoef a_termMin a_span fw a_backward := by
  intro d
  have hk := hC.1
  have h75 := smC_sp hC (i := i) (by omega)
  have h75' := smC_sp hC (i := i + 1) (by omega)
  have hov := (smC_a hC hi hb).2.2
  have hw15 := (smC_w hC hi).1
  have hspe : spN (wF z a_inMask) (i + 1) = spN (wF z a_inMask) i + wF z a_inMask i := rfl
  induction d with
  | zero =>
    intro s fw hs g
    refine And.intro (vp_in_nI (by omega) (by omega)) ?_
    rw [nI_clamp (by omega), hsp i (by omega)]
    refine br_t (nI_lt (by omega) (by omega)) (nm_r (e' := nI (v + 1)) (nI_1 _) (hJ fw ⟨g.1, Rw_c g.2.1 (fun t ht => ?_), g.2.2⟩))
    constructor
    · rintro (h | ⟨s', _, h1, h2⟩)
      · exact Or.inl h
      · exact Or.inr ⟨s', h1, h2⟩
    · rintro (h | ⟨s', h1, h2⟩)
      · exact Or.inl h
      · exact Or.inr ⟨s', by have := smC_fS hC (i := i) (by omega) h1; omega, h1, h2⟩
  | succ d ih =>
    intro s fw hs g
    have g1 := g.1 i (Nat.le_refl _) s (by omega)
    refine And.intro (vp_in_nI (by omega) (by omega)) ?_
    rw [nI_clamp (by omega), hsp i (by omega), ix76, nI_add]
    refine br_f (nI_nlt (by omega) (by omega)) ⟨vp_in_nI (by omega) (by omega), ?_⟩
    rw [nI_clamp (by omega)]
    by_cases q : fw (i * 76 + s) = 0
    · refine br_t q (nm_r (e' := nI (s + 1)) (nI_1 _) (ih (s + 1) fw (by omega) ⟨g.1, Rw_c g.2.1 (fun t ht => ?_), g.2.2⟩))
      constructor
      · rintro (h | ⟨s', h0, h1, h2⟩)
        · exact Or.inl h
        · exact Or.inr ⟨s', by omega, h1, h2⟩
      · rintro (h | ⟨s', h0, h1, h2⟩)
        · exact Or.inl h
        · have : s' ≠ s := fun e => (g1.mp q) (e ▸ h1)
          exact Or.inr ⟨s', by omega, h1, h2⟩
    · have hfs : fS a_inMask (oF z a_inMask) i s := Classical.byContradiction fun y => q (g1.mpr y)
      have e1 : (i + 1) * 76 + oF z a_inMask i v + s = (i + 1) * 76 + (oF z a_inMask i v + s) := by omega
      refine br_f q ⟨vp_in_nI (by omega) (by omega), nm_r (e' := upd fw ((i + 1) * 76 + (oF z a_inMask i v + s)) 1) (by rw [nI_clamp (by omega), e1]; rfl) (nm_r (e' := nI (s + 1)) (nI_1 _) (ih (s + 1) _ (by omega) ⟨fun j hj => ?_, ?_, fun j h1 h2 => ?_⟩))⟩
      · exact Rw_other (g.1 j hj) (smC_sp hC (by omega)) (by omega) (by omega)
      · refine Rw_c (Rw_set g.2.1) (fun t ht => ?_)
        constructor
        · rintro ((h | ⟨s', h0, h1, h2⟩) | h)
          · exact Or.inl h
          · exact Or.inr ⟨s', by omega, h1, h2⟩
          · exact Or.inr ⟨s, by omega, hfs, by omega⟩
        · rintro (h | ⟨s', h0, h1, h2⟩)
          · exact Or.inl (Or.inl h)
          · by_cases y : s' = s
            · exact Or.inr (by omega)
            · exact Or.inl (Or.inr ⟨s', by omega, h1, h2⟩)
      · exact Rw_other (g.2.2 j h1 h2) (smC_sp hC h2) (by omega) (by omega)
theorem ix_to {i v o : Nat} {z t : Int} (h : z * v = t + o) : (((nI i + 1) * 76 + iZ z * nI v) - iZ t : Int32) = nI ((i + 1) * 76 + o) := by
  have e : (nI i + 1 : Int32) = nI (i + 1) := nI_1 i
  rw [e]
  show nI (i + 1) * nI 76 + iZ z * nI v - iZ t = _
  rw [pk_mul, nIz, nIz v, iz_mul, iz_add, iz_sub, nIz]
  congr 1
  omega
theorem xs_65 {post : SX → Prop} {J : Int32 →  (Nat → Int32) → (Nat → Int32) → (Nat → Int32) → (Nat → Int32) → (Nat → Int32) → (Nat → Int32) → (Nat → Int32) → (Nat → Int32) → (Nat → Int32) → (Nat → Int32) → (Nat → Int32) → (Nat → Int32) → (Nat → Int32) → (Nat → Int32) → (Nat → Int32) → (Nat → Int32) → (Nat → Int32) → (Nat → Int32) → (Nat → Int32) → (Nat → Int32) → (Nat → Int32) → (Nat → Int32) → (Nat → Int32) → (Nat → Int32) → (Nat → Int32) → (Nat → Int32) → (Nat → Int32) → (Nat → Int32) → (Nat → Int32) → (Nat → Int32) → (Nat → Int32) → (Nat → Int32) →  Prop} {i : Nat} (hC : smC k V z a_inMask) (hsp : ∀ i, i ≤ k → a_span i = nI (spN (wF z a_inMask) i)) (htc : ∀ i, i < k → a_termCoef i = iZ (z i) ∧ a_termMin i = iZ (tF z a_inMask i)) (hi : i < k)
    (hJ : ∀ fw : Nat → Int32, (∀ j, j ≤ i + 1 → Rw (wF z a_inMask) fw j (fS a_inMask (oF z a_inMask) j)) → (∀ j, i + 1 < j → j ≤ k → Rw (wF z a_inMask) fw j (fun _ => False)) → J (nI (i + 1)) a_dom a_savedDom a_savedCount a_savedStatus a_kindOf a_scopeOf a_lowBound a_highBound a_tupleCount a_coef a_tuples a_newTuple a_solution a_todo a_mark a_work a_trailVar a_trailMask a_queue a_inVar a_inMask a_outMask a_matchOf a_owner a_reachedFrom a_bfs a_reach a_termCoef a_termMin a_span fw a_backward) :
    ∀ (d v : Nat) (fw : Nat → Int32), v + d = V → fwI k a_inMask (oF z a_inMask) (wF z a_inMask) fw i (fun t => ∃ a s', a < v ∧ bt (a_inMask i) a = true ∧ fS a_inMask (oF z a_inMask) i s' ∧ t = s' + oF z a_inMask i a) →
      wX_fillForward_65 post J (nI i) f_varCount (nI V) f_maxConstraints f_maxLevel f_allValues f_allVars f_status f_currentLevel f_constraintCount f_searchState f_searchDirection f_foundCount f_depth f_trailSize f_queueHead f_queueSize f_pendingMask (nI k) (d + 1) (nI v) a_dom a_savedDom a_savedCount a_savedStatus a_kindOf a_scopeOf a_lowBound a_highBound a_tupleCount a_coef a_tuples a_newTuple a_solution a_todo a_mark a_work a_trailVar a_trailMask a_queue a_inVar a_inMask a_outMask a_matchOf a_owner a_reachedFrom a_bfs a_reach a_termCoef a_termMin a_span fw a_backward := by
  intro d
  have hk := hC.1
  have hV := hC.2.1
  induction d with
  | zero =>
    intro v fw hv g
    obtain rfl : v = V := by omega
    refine br_t (nI_le (Nat.le_refl _) (by omega)) (nm_r (e' := nI (i + 1)) (nI_1 _) (hJ fw (fun j hj => ?_) g.2.2))
    rcases Nat.lt_or_ge j (i + 1) with q | q
    · exact g.1 j (by omega)
    · obtain rfl : j = i + 1 := by omega
      refine Rw_c g.2.1 (fun t ht => ?_)
      rw [fS_s]
      constructor
      · rintro ⟨a, s', _, h1, h2, h3⟩; exact ⟨a, s', h1, h2, h3⟩
      · rintro ⟨a, s', h1, h2, h3⟩; exact ⟨a, s', (smC_a hC hi h1).1, h1, h2, h3⟩
  | succ d ih =>
    intro v fw hv g
    refine br_f (nI_ge (by omega) (by omega)) ⟨vp_in_nI (by omega) (by omega), ?_⟩
    rw [nI_clamp (by omega)]
    refine xh_hb (by omega) (fun hf => ?_) (fun ht => ⟨vp_in_nI (by omega) (by omega), vp_in_nI (by omega) (by omega), nm_r (e' := nI ((i + 1) * 76 + oF z a_inMask i v)) ?_ (Exists.intro (spN (wF z a_inMask) i + 2) ?_)⟩)
    · refine nm_r (e' := nI (v + 1)) (nI_1 _) (ih (v + 1) fw (by omega) ⟨g.1, Rw_c g.2.1 (fun t ht => ?_), g.2.2⟩)
      constructor
      · rintro ⟨a, s', h0, h1, h2, h3⟩; exact ⟨a, s', by omega, h1, h2, h3⟩
      · rintro ⟨a, s', h0, h1, h2, h3⟩
        have : a ≠ v := fun e => by rw [e, hf] at h1; cases h1
        exact ⟨a, s', by omega, h1, h2, h3⟩
    · rw [(htc i hi).1, (htc i hi).2]; exact ix_to (smC_a hC hi ht).2.1
    · refine xs_113 (Q := fun t => ∃ a s', a < v ∧ bt (a_inMask i) a = true ∧ fS a_inMask (oF z a_inMask) i s' ∧ t = s' + oF z a_inMask i a) hC hsp hi ht (fun fw' g' => ih (v + 1) fw' (by omega) ⟨g'.1, Rw_c g'.2.1 (fun t _ => ?_), g'.2.2⟩) (spN (wF z a_inMask) i + 1) 0 fw (by omega) ⟨g.1, Rw_c g.2.1 (fun t _ => ?_), g.2.2⟩
      · constructor
        · rintro (⟨a, s', h0, h1, h2, h3⟩ | ⟨s', h1, h2⟩)
          · exact ⟨a, s', by omega, h1, h2, h3⟩
          · exact ⟨v, s', by omega, ht, h1, h2⟩
        · rintro ⟨a, s', h0, h1, h2, h3⟩
          by_cases y : a = v
          · subst y; exact Or.inr ⟨s', h2, h3⟩
          · exact Or.inl ⟨a, s', by omega, h1, h2, h3⟩
      · constructor
        · exact Or.inl
        · rintro (h | ⟨s', h, _⟩)
          · exact h
          · exact absurd h (by omega)
theorem xs_55 {post : SX → Prop} (hC : smC k V z a_inMask) (hsp : ∀ i, i ≤ k → a_span i = nI (spN (wF z a_inMask) i)) (htc : ∀ i, i < k → a_termCoef i = iZ (z i) ∧ a_termMin i = iZ (tF z a_inMask i))
    (hP : ∀ fw : Nat → Int32, (∀ j, j ≤ k → Rw (wF z a_inMask) fw j (fS a_inMask (oF z a_inMask) j)) → post (f_varCount, nI V, f_maxConstraints, f_maxLevel, f_allValues, f_allVars, f_status, f_currentLevel, f_constraintCount, f_searchState, f_searchDirection, f_foundCount, f_depth, f_trailSize, f_queueHead, f_queueSize, f_pendingMask, nI k, a_dom, a_savedDom, a_savedCount, a_savedStatus, a_kindOf, a_scopeOf, a_lowBound, a_highBound, a_tupleCount, a_coef, a_tuples, a_newTuple, a_solution, a_todo, a_mark, a_work, a_trailVar, a_trailMask, a_queue, a_inVar, a_inMask, a_outMask, a_matchOf, a_owner, a_reachedFrom, a_bfs, a_reach, a_termCoef, a_termMin, a_span, fw, a_backward)) :
    ∀ (d i : Nat) (fw : Nat → Int32), i + d = k → (∀ j, j ≤ i → Rw (wF z a_inMask) fw j (fS a_inMask (oF z a_inMask) j)) → (∀ j, i < j → j ≤ k → Rw (wF z a_inMask) fw j (fun _ => False)) →
      wX_fillForward_55 post f_varCount (nI V) f_maxConstraints f_maxLevel f_allValues f_allVars f_status f_currentLevel f_constraintCount f_searchState f_searchDirection f_foundCount f_depth f_trailSize f_queueHead f_queueSize f_pendingMask (nI k) (d + 1) (nI i) a_dom a_savedDom a_savedCount a_savedStatus a_kindOf a_scopeOf a_lowBound a_highBound a_tupleCount a_coef a_tuples a_newTuple a_solution a_todo a_mark a_work a_trailVar a_trailMask a_queue a_inVar a_inMask a_outMask a_matchOf a_owner a_reachedFrom a_bfs a_reach a_termCoef a_termMin a_span fw a_backward := by
  intro d
  have hk := hC.1
  induction d with
  | zero =>
    intro i fw hi g1 g2
    obtain rfl : i = k := by omega
    exact br_t (nI_le (Nat.le_refl _) (by omega)) (hP fw g1)
  | succ d ih =>
    intro i fw hi g1 g2
    refine br_f (nI_ge (by omega) (by omega)) (Exists.intro (V + 1) (xs_65 hC hsp htc (by omega) (fun fw' q1 q2 => ih (i + 1) fw' (by omega) q1 q2) V 0 fw (by omega) ⟨g1, Rw_c (g2 (i + 1) (by omega) (by omega)) (fun t _ => ?_), fun j h1 h2 => g2 j (by omega) h2⟩))
    constructor
    · exact False.elim
    · rintro ⟨a, s', h0, _⟩; exact absurd h0 (by omega)
theorem xs_f2 {post : SX → Prop} (hC : smC k V z a_inMask) (hsp : ∀ i, i ≤ k → a_span i = nI (spN (wF z a_inMask) i)) (htc : ∀ i, i < k → a_termCoef i = iZ (z i) ∧ a_termMin i = iZ (tF z a_inMask i))
    (hP : ∀ fw : Nat → Int32, (∀ j, j ≤ k → Rw (wF z a_inMask) fw j (fS a_inMask (oF z a_inMask) j)) → post (f_varCount, nI V, f_maxConstraints, f_maxLevel, f_allValues, f_allVars, f_status, f_currentLevel, f_constraintCount, f_searchState, f_searchDirection, f_foundCount, f_depth, f_trailSize, f_queueHead, f_queueSize, f_pendingMask, nI k, a_dom, a_savedDom, a_savedCount, a_savedStatus, a_kindOf, a_scopeOf, a_lowBound, a_highBound, a_tupleCount, a_coef, a_tuples, a_newTuple, a_solution, a_todo, a_mark, a_work, a_trailVar, a_trailMask, a_queue, a_inVar, a_inMask, a_outMask, a_matchOf, a_owner, a_reachedFrom, a_bfs, a_reach, a_termCoef, a_termMin, a_span, fw, a_backward)) :
    ∀ (d i : Nat) (fw : Nat → Int32), i + d = k + 1 → (∀ j s, j < i → s ≤ spN (wF z a_inMask) j → fw (j * 76 + s) = 0) →
      wX_fillForward_2 post f_varCount (nI V) f_maxConstraints f_maxLevel f_allValues f_allVars f_status f_currentLevel f_constraintCount f_searchState f_searchDirection f_foundCount f_depth f_trailSize f_queueHead f_queueSize f_pendingMask (nI k) (d + 1) (nI i) a_dom a_savedDom a_savedCount a_savedStatus a_kindOf a_scopeOf a_lowBound a_highBound a_tupleCount a_coef a_tuples a_newTuple a_solution a_todo a_mark a_work a_trailVar a_trailMask a_queue a_inVar a_inMask a_outMask a_matchOf a_owner a_reachedFrom a_bfs a_reach a_termCoef a_termMin a_span fw a_backward := by
  intro d
  have hk := hC.1
  induction d with
  | zero =>
    intro i fw hi g
    obtain rfl : i = k + 1 := by omega
    refine br_t (nI_lt (by omega) (by omega)) (nm_r (e' := upd fw 0 1) rfl (Exists.intro (k + 1) (xs_55 hC hsp htc hP k 0 _ (by omega) (fun j hj => ?_) (fun j h1 h2 s hs => ?_))))
    · obtain rfl : j = 0 := by omega
      intro s hs
      obtain rfl : s = 0 := by simp only [spN] at hs; omega
      rw [fS_0]
      exact ⟨fun e => absurd e (by rw [pk_us]; decide), fun e => absurd rfl e⟩
    · rw [pk_un (by omega), g j s (by omega) hs]
      exact ⟨fun _ => id, fun _ => rfl⟩
  | succ d ih =>
    intro i fw hi g
    refine br_f (nI_nlt (by omega) (by omega)) (Exists.intro (spN (wF z a_inMask) i + 2) (xs_12 hC hsp (by omega) (fun fw' q => ih (i + 1) fw' (by omega) q) (spN (wF z a_inMask) i + 1) 0 fw (by omega) g (fun s' h => absurd h (by omega))))
theorem xs_fwd {post : SX → Prop} {a_forward : Nat → Int32} (hC : smC k V z a_inMask) (hsp : ∀ i, i ≤ k → a_span i = nI (spN (wF z a_inMask) i)) (htc : ∀ i, i < k → a_termCoef i = iZ (z i) ∧ a_termMin i = iZ (tF z a_inMask i))
    (hP : ∀ fw : Nat → Int32, (∀ j, j ≤ k → Rw (wF z a_inMask) fw j (fS a_inMask (oF z a_inMask) j)) → post (f_varCount, nI V, f_maxConstraints, f_maxLevel, f_allValues, f_allVars, f_status, f_currentLevel, f_constraintCount, f_searchState, f_searchDirection, f_foundCount, f_depth, f_trailSize, f_queueHead, f_queueSize, f_pendingMask, nI k, a_dom, a_savedDom, a_savedCount, a_savedStatus, a_kindOf, a_scopeOf, a_lowBound, a_highBound, a_tupleCount, a_coef, a_tuples, a_newTuple, a_solution, a_todo, a_mark, a_work, a_trailVar, a_trailMask, a_queue, a_inVar, a_inMask, a_outMask, a_matchOf, a_owner, a_reachedFrom, a_bfs, a_reach, a_termCoef, a_termMin, a_span, fw, a_backward)) : wpX_fillForward post (f_varCount, nI V, f_maxConstraints, f_maxLevel, f_allValues, f_allVars, f_status, f_currentLevel, f_constraintCount, f_searchState, f_searchDirection, f_foundCount, f_depth, f_trailSize, f_queueHead, f_queueSize, f_pendingMask, nI k, a_dom, a_savedDom, a_savedCount, a_savedStatus, a_kindOf, a_scopeOf, a_lowBound, a_highBound, a_tupleCount, a_coef, a_tuples, a_newTuple, a_solution, a_todo, a_mark, a_work, a_trailVar, a_trailMask, a_queue, a_inVar, a_inMask, a_outMask, a_matchOf, a_owner, a_reachedFrom, a_bfs, a_reach, a_termCoef, a_termMin, a_span, a_forward, a_backward) :=
  Exists.intro (k + 2) (xs_f2 hC hsp htc hP (k + 1) 0 a_forward (by omega) (fun j s hj => absurd hj (by omega)))
end
end
section
/-! sums: backward and the filter -/
section
variable {f_varCount f_maxConstraints f_maxLevel f_allValues f_allVars f_status f_currentLevel f_constraintCount f_searchState f_searchDirection f_foundCount f_depth f_trailSize f_queueHead f_queueSize f_pendingMask : Int32} {a_dom a_savedDom a_savedCount a_savedStatus a_kindOf a_scopeOf a_lowBound a_highBound a_tupleCount a_coef a_tuples a_newTuple a_solution a_todo a_mark a_work a_trailVar a_trailMask a_queue a_inVar a_inMask a_matchOf a_owner a_reachedFrom a_bfs a_reach a_termCoef a_termMin a_span a_forward : Nat → Int32} {k V : Nat} {z : Nat → Int} {P : Nat → Prop}
theorem xs_81 {post : SX → Prop} {J : Int32 →  (Nat → Int32) → (Nat → Int32) → (Nat → Int32) → (Nat → Int32) → (Nat → Int32) → (Nat → Int32) → (Nat → Int32) → (Nat → Int32) → (Nat → Int32) → (Nat → Int32) → (Nat → Int32) → (Nat → Int32) → (Nat → Int32) → (Nat → Int32) → (Nat → Int32) → (Nat → Int32) → (Nat → Int32) → (Nat → Int32) → (Nat → Int32) → (Nat → Int32) → (Nat → Int32) → (Nat → Int32) → (Nat → Int32) → (Nat → Int32) → (Nat → Int32) → (Nat → Int32) → (Nat → Int32) → (Nat → Int32) → (Nat → Int32) → (Nat → Int32) → (Nat → Int32) → (Nat → Int32) →  Prop} {i v : Nat} {Q O : Nat → Prop} (hC : smC k V z a_inMask) (hsp : ∀ i, i ≤ k → a_span i = nI (spN (wF z a_inMask) i)) (hfw : ∀ j, j ≤ k → Rw (wF z a_inMask) a_forward j (fS a_inMask (oF z a_inMask) j)) (hi : i < k) (hb : bt (a_inMask i) v = true)
    (hJ : ∀ bw om : Nat → Int32, bwI k a_inMask (oF z a_inMask) (wF z a_inMask) P bw i (fun s => Q s ∨ (fS a_inMask (oF z a_inMask) i s ∧ bS k a_inMask (oF z a_inMask) P (i + 1) (s + oF z a_inMask i v))) → omI k a_inMask (oF z a_inMask) P om i (fun a => O a ∨ (a = v ∧ ∃ s, fS a_inMask (oF z a_inMask) i s ∧ bS k a_inMask (oF z a_inMask) P (i + 1) (s + oF z a_inMask i v))) → J (nI (v + 1)) a_dom a_savedDom a_savedCount a_savedStatus a_kindOf a_scopeOf a_lowBound a_highBound a_tupleCount a_coef a_tuples a_newTuple a_solution a_todo a_mark a_work a_trailVar a_trailMask a_queue a_inVar a_inMask om a_matchOf a_owner a_reachedFrom a_bfs a_reach a_termCoef a_termMin a_span a_forward bw) :
    ∀ (d s : Nat) (bw om : Nat → Int32), s + d = spN (wF z a_inMask) i + 1 → bwI k a_inMask (oF z a_inMask) (wF z a_inMask) P bw i (fun t => Q t ∨ (t < s ∧ fS a_inMask (oF z a_inMask) i t ∧ bS k a_inMask (oF z a_inMask) P (i + 1) (t + oF z a_inMask i v))) → omI k a_inMask (oF z a_inMask) P om i (fun a => O a ∨ (a = v ∧ ∃ t, t < s ∧ fS a_inMask (oF z a_inMask) i t ∧ bS k a_inMask (oF z a_inMask) P (i + 1) (t + oF z a_inMask i v))) →
      wX_fillBackward_81 post J (nI i) (nI (i * 76)) (nI v) (nI ((i + 1) * 76 + oF z a_inMask i v)) f_varCount (nI V) f_maxConstraints f_maxLevel f_allValues f_allVars f_status f_currentLevel f_constraintCount f_searchState f_searchDirection f_foundCount f_depth f_trailSize f_queueHead f_queueSize f_pendingMask (nI k) (d + 1) (nI s) a_dom a_savedDom a_savedCount a_savedStatus a_kindOf a_scopeOf a_lowBound a_highBound a_tupleCount a_coef a_tuples a_newTuple a_solution a_todo a_mark a_work a_trailVar a_trailMask a_queue a_inVar a_inMask om a_matchOf a_owner a_reachedFrom a_bfs a_reach a_termCoef a_termMin a_span a_forward bw := by
  intro d
  have hk := hC.1
  have hV := hC.2.1
  have h75 := smC_sp hC (i := i) (by omega)
  have h75' := smC_sp hC (i := i + 1) (by omega)
  have hov := (smC_a hC hi hb).2.2
  have hvV := (smC_a hC hi hb).1
  have hspe : spN (wF z a_inMask) (i + 1) = spN (wF z a_inMask) i + wF z a_inMask i := rfl
  induction d with
  | zero =>
    intro s bw om hs g go
    refine And.intro (vp_in_nI (by omega) (by omega)) ?_
    rw [nI_clamp (by omega), hsp i (by omega)]
    refine br_t (nI_lt (by omega) (by omega)) (nm_r (e' := nI (v + 1)) (nI_1 _) (hJ bw om ⟨g.1, Rw_c g.2 (fun t ht => ?_)⟩ ⟨go.1, fun a => (go.2.1 a).trans ?_, go.2.2⟩))
    · constructor
      · rintro (h | ⟨_, h⟩)
        · exact Or.inl h
        · exact Or.inr h
      · rintro (h | h)
        · exact Or.inl h
        · exact Or.inr ⟨by omega, h⟩
    · constructor
      · rintro (h | ⟨e, t, _, h⟩)
        · exact Or.inl h
        · exact Or.inr ⟨e, t, h⟩
      · rintro (h | ⟨e, t, h⟩)
        · exact Or.inl h
        · exact Or.inr ⟨e, t, by have := smC_fS hC (i := i) (by omega) h.1; omega, h⟩
  | succ d ih =>
    intro s bw om hs g go
    have g1 := hfw i (by omega) s (by omega)
    have skip : ¬ (fS a_inMask (oF z a_inMask) i s ∧ bS k a_inMask (oF z a_inMask) P (i + 1) (s + oF z a_inMask i v)) → wX_fillBackward_81 post J (nI i) (nI (i * 76)) (nI v) (nI ((i + 1) * 76 + oF z a_inMask i v)) f_varCount (nI V) f_maxConstraints f_maxLevel f_allValues f_allVars f_status f_currentLevel f_constraintCount f_searchState f_searchDirection f_foundCount f_depth f_trailSize f_queueHead f_queueSize f_pendingMask (nI k) (d + 1) (nI (s + 1)) a_dom a_savedDom a_savedCount a_savedStatus a_kindOf a_scopeOf a_lowBound a_highBound a_tupleCount a_coef a_tuples a_newTuple a_solution a_todo a_mark a_work a_trailVar a_trailMask a_queue a_inVar a_inMask om a_matchOf a_owner a_reachedFrom a_bfs a_reach a_termCoef a_termMin a_span a_forward bw := by
      intro hn
      refine ih (s + 1) bw om (by omega) ⟨g.1, Rw_c g.2 (fun t ht => ?_)⟩ ⟨go.1, fun a => (go.2.1 a).trans ?_, go.2.2⟩
      · constructor
        · rintro (h | ⟨h0, h⟩)
          · exact Or.inl h
          · exact Or.inr ⟨by omega, h⟩
        · rintro (h | ⟨h0, h⟩)
          · exact Or.inl h
          · have : t ≠ s := fun e => hn (e ▸ h)
            exact Or.inr ⟨by omega, h⟩
      · constructor
        · rintro (h | ⟨e, t, h0, h⟩)
          · exact Or.inl h
          · exact Or.inr ⟨e, t, by omega, h⟩
        · rintro (h | ⟨e, t, h0, h⟩)
          · exact Or.inl h
          · have : t ≠ s := fun e => hn (e ▸ h)
            exact Or.inr ⟨e, t, by omega, h⟩
    refine And.intro (vp_in_nI (by omega) (by omega)) ?_
    rw [nI_clamp (by omega), hsp i (by omega), nI_add, nI_add]
    refine br_f (nI_nlt (by omega) (by omega)) ⟨vp_in_nI (by omega) (by omega), ?_⟩
    rw [nI_clamp (by omega), nI_clamp (by omega)]
    by_cases q : a_forward (i * 76 + s) = 0
    · exact br_t q (nm_r (e' := nI (s + 1)) (nI_1 _) (skip (fun h => (g1.mp q) h.1)))
    · have hfs : fS a_inMask (oF z a_inMask) i s := Classical.byContradiction fun y => q (g1.mpr y)
      have e1 : (i + 1) * 76 + oF z a_inMask i v + s = (i + 1) * 76 + (s + oF z a_inMask i v) := by omega
      have g2 := g.1 (i + 1) (by omega) (by omega) (s + oF z a_inMask i v) (by omega)
      have hfs1 : fS a_inMask (oF z a_inMask) (i + 1) (s + oF z a_inMask i v) := (fS_s _ _ _ _).mpr ⟨v, s, hb, hfs, rfl⟩
      refine br_f q ⟨vp_in_nI (by omega) (by omega), ?_⟩
      rw [e1]
      by_cases q2 : bw ((i + 1) * 76 + (s + oF z a_inMask i v)) = 0
      · exact br_t q2 (nm_r (e' := nI (s + 1)) (nI_1 _) (skip (fun h => (g2.mp q2) ⟨hfs1, h.2⟩)))
      · have hbs : bS k a_inMask (oF z a_inMask) P (i + 1) (s + oF z a_inMask i v) := (Classical.byContradiction fun y => q2 (g2.mpr y) : _ ∧ _).2
        refine br_f q2 ⟨vp_in_nI (by omega) (by omega), nm_r (e' := upd bw (i * 76 + s) 1) rfl ⟨vp_in_nI (by omega) (by omega), vp_in_nI (by omega) (by omega), nm_e (nm_r (e' := nI (s + 1)) (nI_1 _) (ih (s + 1) _ _ (by omega) ⟨fun j h1 h2 => ?_, ?_⟩ ⟨fun j a h1 h2 => ?_, fun a => ?_, fun j h1 => ?_⟩))⟩⟩
        · exact Rw_other (g.1 j h1 h2) (smC_sp hC h2) (by omega) (by omega)
        · refine Rw_c (Rw_set g.2) (fun t ht => ?_)
          constructor
          · rintro ((h | ⟨h0, h⟩) | h)
            · exact Or.inl h
            · exact Or.inr ⟨by omega, h⟩
            · subst h; exact Or.inr ⟨by omega, hfs, hbs⟩
          · rintro (h | ⟨h0, h⟩)
            · exact Or.inl (Or.inl h)
            · by_cases y : t = s
              · exact Or.inr y
              · exact Or.inl (Or.inr ⟨by omega, h⟩)
        · rw [pk_un (by omega)]; exact go.1 j a h1 h2
        · rw [pk_us, b_or, gb_shl1 (by omega), Bool.or_eq_true, decide_eq_true_eq, go.2.1 a]
          constructor
          · rintro ((h | ⟨e, t, h0, h⟩) | h)
            · exact Or.inl h
            · exact Or.inr ⟨e, t, by omega, h⟩
            · exact Or.inr ⟨h, s, by omega, hfs, hbs⟩
          · rintro (h | ⟨e, t, h0, h⟩)
            · exact Or.inl (Or.inl h)
            · exact Or.inr e
        · rw [pk_un (by omega)]; exact go.2.2 j h1
theorem ix_bk {i v o : Nat} {z t : Int} (h : z * v = t + o) : (((nI (i * 76) + 76) + iZ z * nI v) - iZ t : Int32) = nI ((i + 1) * 76 + o) := by
  show nI (i * 76) + nI 76 + iZ z * nI v - iZ t = _
  rw [nI_add, nIz, nIz v, iz_mul, iz_add, iz_sub, nIz]
  congr 1
  omega
theorem xs_34 {post : SX → Prop} {i : Nat} (hC : smC k V z a_inMask) (hsp : ∀ i, i ≤ k → a_span i = nI (spN (wF z a_inMask) i)) (htc : ∀ i, i < k → a_termCoef i = iZ (z i) ∧ a_termMin i = iZ (tF z a_inMask i)) (hfw : ∀ j, j ≤ k → Rw (wF z a_inMask) a_forward j (fS a_inMask (oF z a_inMask) j)) (hi : i < k)
    (hP : ∀ bw om : Nat → Int32, bwI k a_inMask (oF z a_inMask) (wF z a_inMask) P bw i (fun s => fS a_inMask (oF z a_inMask) i s ∧ bS k a_inMask (oF z a_inMask) P i s) → omI k a_inMask (oF z a_inMask) P om i (fun a => bt (a_inMask i) a = true ∧ ∃ s, fS a_inMask (oF z a_inMask) i s ∧ bS k a_inMask (oF z a_inMask) P (i + 1) (s + oF z a_inMask i a)) → post (f_varCount, nI V, f_maxConstraints, f_maxLevel, f_allValues, f_allVars, f_status, f_currentLevel, f_constraintCount, f_searchState, f_searchDirection, f_foundCount, f_depth, f_trailSize, f_queueHead, f_queueSize, f_pendingMask, nI k, a_dom, a_savedDom, a_savedCount, a_savedStatus, a_kindOf, a_scopeOf, a_lowBound, a_highBound, a_tupleCount, a_coef, a_tuples, a_newTuple, a_solution, a_todo, a_mark, a_work, a_trailVar, a_trailMask, a_queue, a_inVar, a_inMask, om, a_matchOf, a_owner, a_reachedFrom, a_bfs, a_reach, a_termCoef, a_termMin, a_span, a_forward, bw)) :
    ∀ (d v : Nat) (bw om : Nat → Int32), v + d = V → bwI k a_inMask (oF z a_inMask) (wF z a_inMask) P bw i (fun s => ∃ a, a < v ∧ bt (a_inMask i) a = true ∧ fS a_inMask (oF z a_inMask) i s ∧ bS k a_inMask (oF z a_inMask) P (i + 1) (s + oF z a_inMask i a)) → omI k a_inMask (oF z a_inMask) P om i (fun a => a < v ∧ bt (a_inMask i) a = true ∧ ∃ s, fS a_inMask (oF z a_inMask) i s ∧ bS k a_inMask (oF z a_inMask) P (i + 1) (s + oF z a_inMask i a)) →
      wX_fillBackward_34 post (nI i) (nI (i * 76)) f_varCount (nI V) f_maxConstraints f_maxLevel f_allValues f_allVars f_status f_currentLevel f_constraintCount f_searchState f_searchDirection f_foundCount f_depth f_trailSize f_queueHead f_queueSize f_pendingMask (nI k) (d + 1) (nI v) a_dom a_savedDom a_savedCount a_savedStatus a_kindOf a_scopeOf a_lowBound a_highBound a_tupleCount a_coef a_tuples a_newTuple a_solution a_todo a_mark a_work a_trailVar a_trailMask a_queue a_inVar a_inMask om a_matchOf a_owner a_reachedFrom a_bfs a_reach a_termCoef a_termMin a_span a_forward bw := by
  intro d
  have hk := hC.1
  have hV := hC.2.1
  induction d with
  | zero =>
    intro v bw om hv g go
    obtain rfl : v = V := by omega
    refine br_t (nI_le (Nat.le_refl _) (by omega)) (hP bw om ⟨g.1, Rw_c g.2 (fun t ht => ?_)⟩ ⟨go.1, fun a => (go.2.1 a).trans ?_, go.2.2⟩)
    · rw [bS_s hi]
      constructor
      · rintro ⟨a, _, h1, h2, h3⟩; exact ⟨h2, a, h1, h3⟩
      · rintro ⟨h2, a, h1, h3⟩; exact ⟨a, (smC_a hC hi h1).1, h1, h2, h3⟩
    · constructor
      · rintro ⟨_, h⟩; exact h
      · intro h; exact ⟨(smC_a hC hi h.1).1, h⟩
  | succ d ih =>
    intro v bw om hv g go
    refine br_f (nI_ge (by omega) (by omega)) ⟨vp_in_nI (by omega) (by omega), ?_⟩
    rw [nI_clamp (by omega)]
    refine xh_hb (by omega) (fun hf => ?_) (fun ht => ⟨vp_in_nI (by omega) (by omega), vp_in_nI (by omega) (by omega), nm_r (e' := nI ((i + 1) * 76 + oF z a_inMask i v)) ?_ (Exists.intro (spN (wF z a_inMask) i + 2) ?_)⟩)
    · refine nm_r (e' := nI (v + 1)) (nI_1 _) (ih (v + 1) bw om (by omega) ⟨g.1, Rw_c g.2 (fun t ht => ?_)⟩ ⟨go.1, fun a => (go.2.1 a).trans ?_, go.2.2⟩)
      · constructor
        · rintro ⟨a, h0, h1, h2⟩; exact ⟨a, by omega, h1, h2⟩
        · rintro ⟨a, h0, h1, h2⟩
          have : a ≠ v := fun e => by rw [e, hf] at h1; cases h1
          exact ⟨a, by omega, h1, h2⟩
      · constructor
        · rintro ⟨h0, h1, h2⟩; exact ⟨by omega, h1, h2⟩
        · rintro ⟨h0, h1, h2⟩
          have : a ≠ v := fun e => by rw [e, hf] at h1; cases h1
          exact ⟨by omega, h1, h2⟩
    · rw [(htc i hi).1, (htc i hi).2]; exact ix_bk (smC_a hC hi ht).2.1
    · refine xs_81 (Q := fun s => ∃ a, a < v ∧ bt (a_inMask i) a = true ∧ fS a_inMask (oF z a_inMask) i s ∧ bS k a_inMask (oF z a_inMask) P (i + 1) (s + oF z a_inMask i a)) (O := fun a => a < v ∧ bt (a_inMask i) a = true ∧ ∃ s, fS a_inMask (oF z a_inMask) i s ∧ bS k a_inMask (oF z a_inMask) P (i + 1) (s + oF z a_inMask i a)) hC hsp hfw hi ht (fun bw' om' g' go' => ih (v + 1) bw' om' (by omega) ⟨g'.1, Rw_c g'.2 (fun t _ => ?_)⟩ ⟨go'.1, fun a => (go'.2.1 a).trans ?_, go'.2.2⟩) (spN (wF z a_inMask) i + 1) 0 bw om (by omega) ⟨g.1, Rw_c g.2 (fun t _ => ?_)⟩ ⟨go.1, fun a => (go.2.1 a).trans ?_, go.2.2⟩
      · constructor
        · rintro (⟨a, h0, h1, h2⟩ | h)
          · exact ⟨a, by omega, h1, h2⟩
          · exact ⟨v, by omega, ht, h⟩
        · rintro ⟨a, h0, h1, h2⟩
          by_cases y : a = v
          · subst y; exact Or.inr h2
          · exact Or.inl ⟨a, by omega, h1, h2⟩
      · constructor
        · rintro (⟨h0, h1, h2⟩ | ⟨e, h⟩)
          · exact ⟨by omega, h1, h2⟩
          · subst e; exact ⟨by omega, ht, h⟩
        · rintro ⟨h0, h1, h2⟩
          by_cases y : a = v
          · subst y; exact Or.inr ⟨rfl, h2⟩
          · exact Or.inl ⟨by omega, h1, h2⟩
      · constructor
        · exact Or.inl
        · rintro (h | ⟨h, _⟩)
          · exact h
          · exact absurd h (by omega)
      · constructor
        · exact Or.inl
        · rintro (h | ⟨_, t, h, _⟩)
          · exact h
          · exact absurd h (by omega)
theorem xs_b7 {post : SX → Prop} {i : Nat} {om : Nat → Int32} (hC : smC k V z a_inMask) (hsp : ∀ i, i ≤ k → a_span i = nI (spN (wF z a_inMask) i)) (htc : ∀ i, i < k → a_termCoef i = iZ (z i) ∧ a_termMin i = iZ (tF z a_inMask i)) (hfw : ∀ j, j ≤ k → Rw (wF z a_inMask) a_forward j (fS a_inMask (oF z a_inMask) j)) (hi : i < k)
    (hP : ∀ bw om : Nat → Int32, bwI k a_inMask (oF z a_inMask) (wF z a_inMask) P bw i (fun s => fS a_inMask (oF z a_inMask) i s ∧ bS k a_inMask (oF z a_inMask) P i s) → omI k a_inMask (oF z a_inMask) P om i (fun a => bt (a_inMask i) a = true ∧ ∃ s, fS a_inMask (oF z a_inMask) i s ∧ bS k a_inMask (oF z a_inMask) P (i + 1) (s + oF z a_inMask i a)) → post (f_varCount, nI V, f_maxConstraints, f_maxLevel, f_allValues, f_allVars, f_status, f_currentLevel, f_constraintCount, f_searchState, f_searchDirection, f_foundCount, f_depth, f_trailSize, f_queueHead, f_queueSize, f_pendingMask, nI k, a_dom, a_savedDom, a_savedCount, a_savedStatus, a_kindOf, a_scopeOf, a_lowBound, a_highBound, a_tupleCount, a_coef, a_tuples, a_newTuple, a_solution, a_todo, a_mark, a_work, a_trailVar, a_trailMask, a_queue, a_inVar, a_inMask, om, a_matchOf, a_owner, a_reachedFrom, a_bfs, a_reach, a_termCoef, a_termMin, a_span, a_forward, bw)) (go : omI k a_inMask (oF z a_inMask) P om i (fun _ => False)) :
    ∀ (d s : Nat) (bw : Nat → Int32), s + d = spN (wF z a_inMask) i + 1 → (∀ j, i < j → j ≤ k → Rw (wF z a_inMask) bw j (fun s => fS a_inMask (oF z a_inMask) j s ∧ bS k a_inMask (oF z a_inMask) P j s)) → (∀ t, t < s → bw (i * 76 + t) = 0) →
      wX_fillBackward_7 post (nI i) (nI (i * 76)) f_varCount (nI V) f_maxConstraints f_maxLevel f_allValues f_allVars f_status f_currentLevel f_constraintCount f_searchState f_searchDirection f_foundCount f_depth f_trailSize f_queueHead f_queueSize f_pendingMask (nI k) (d + 1) (nI s) a_dom a_savedDom a_savedCount a_savedStatus a_kindOf a_scopeOf a_lowBound a_highBound a_tupleCount a_coef a_tuples a_newTuple a_solution a_todo a_mark a_work a_trailVar a_trailMask a_queue a_inVar a_inMask om a_matchOf a_owner a_reachedFrom a_bfs a_reach a_termCoef a_termMin a_span a_forward bw := by
  intro d
  have hk := hC.1
  have h75 := smC_sp hC (i := i) (by omega)
  induction d with
  | zero =>
    intro s bw hs g1 g2
    refine And.intro (vp_in_nI (by omega) (by omega)) ?_
    rw [nI_clamp (by omega), hsp i (by omega)]
    refine br_t (nI_lt (by omega) (by omega)) (Exists.intro (V + 1) (xs_34 hC hsp htc hfw hi hP V 0 bw om (by omega) ⟨g1, fun t ht => ?_⟩ ⟨go.1, fun a => (go.2.1 a).trans ?_, go.2.2⟩))
    · rw [g2 t (by omega)]
      exact ⟨fun _ ⟨a, h, _⟩ => absurd h (by omega), fun _ => rfl⟩
    · exact ⟨False.elim, fun h => absurd h.1 (by omega)⟩
  | succ d ih =>
    intro s bw hs g1 g2
    refine And.intro (vp_in_nI (by omega) (by omega)) ?_
    rw [nI_clamp (by omega), hsp i (by omega), nI_add]
    refine br_f (nI_nlt (by omega) (by omega)) ⟨vp_in_nI (by omega) (by omega), nm_r (e' := upd bw (i * 76 + s) 0) (by rw [nI_clamp (by omega)]; rfl) (nm_r (e' := nI (s + 1)) (nI_1 _) (ih (s + 1) _ (by omega) (fun j h1 h2 => ?_) (fun t ht => ?_)))⟩
    · exact Rw_other (g1 j h1 h2) (smC_sp hC h2) (by omega) (by omega)
    · by_cases q : t = s
      · rw [q, pk_us]
      · rw [pk_un (by omega)]; exact g2 t (by omega)
theorem xs_bwd {post : SX → Prop} {i : Nat} {bw om : Nat → Int32} (hC : smC k V z a_inMask) (hsp : ∀ i, i ≤ k → a_span i = nI (spN (wF z a_inMask) i)) (htc : ∀ i, i < k → a_termCoef i = iZ (z i) ∧ a_termMin i = iZ (tF z a_inMask i)) (hfw : ∀ j, j ≤ k → Rw (wF z a_inMask) a_forward j (fS a_inMask (oF z a_inMask) j)) (hi : i < k)
    (g : ∀ j, i < j → j ≤ k → Rw (wF z a_inMask) bw j (fun s => fS a_inMask (oF z a_inMask) j s ∧ bS k a_inMask (oF z a_inMask) P j s)) (go : omI k a_inMask (oF z a_inMask) P om i (fun _ => False))
    (hP : ∀ bw om : Nat → Int32, bwI k a_inMask (oF z a_inMask) (wF z a_inMask) P bw i (fun s => fS a_inMask (oF z a_inMask) i s ∧ bS k a_inMask (oF z a_inMask) P i s) → omI k a_inMask (oF z a_inMask) P om i (fun a => bt (a_inMask i) a = true ∧ ∃ s, fS a_inMask (oF z a_inMask) i s ∧ bS k a_inMask (oF z a_inMask) P (i + 1) (s + oF z a_inMask i a)) → post (f_varCount, nI V, f_maxConstraints, f_maxLevel, f_allValues, f_allVars, f_status, f_currentLevel, f_constraintCount, f_searchState, f_searchDirection, f_foundCount, f_depth, f_trailSize, f_queueHead, f_queueSize, f_pendingMask, nI k, a_dom, a_savedDom, a_savedCount, a_savedStatus, a_kindOf, a_scopeOf, a_lowBound, a_highBound, a_tupleCount, a_coef, a_tuples, a_newTuple, a_solution, a_todo, a_mark, a_work, a_trailVar, a_trailMask, a_queue, a_inVar, a_inMask, om, a_matchOf, a_owner, a_reachedFrom, a_bfs, a_reach, a_termCoef, a_termMin, a_span, a_forward, bw)) :
    wpX_fillBackward post (f_varCount, nI V, f_maxConstraints, f_maxLevel, f_allValues, f_allVars, f_status, f_currentLevel, f_constraintCount, f_searchState, f_searchDirection, f_foundCount, f_depth, f_trailSize, f_queueHead, f_queueSize, f_pendingMask, nI k, a_dom, a_savedDom, a_savedCount, a_savedStatus, a_kindOf, a_scopeOf, a_lowBound, a_highBound, a_tupleCount, a_coef, a_tuples, a_newTuple, a_solution, a_todo, a_mark, a_work, a_trailVar, a_trailMask, a_queue, a_inVar, a_inMask, om, a_matchOf, a_owner, a_reachedFrom, a_bfs, a_reach, a_termCoef, a_termMin, a_span, a_forward, bw) (nI i) := by
  refine nm_r (e' := nI (i * 76)) (pk_mul i 76) (Exists.intro (spN (wF z a_inMask) i + 2) ?_)
  exact xs_b7 hC hsp htc hfw hi hP go (spN (wF z a_inMask) i + 1) 0 bw (by omega) g (fun t ht => absurd ht (by omega))
theorem xs_192 {post : SX → Prop} (hC : smC k V z a_inMask) (hsp : ∀ i, i ≤ k → a_span i = nI (spN (wF z a_inMask) i)) (htc : ∀ i, i < k → a_termCoef i = iZ (z i) ∧ a_termMin i = iZ (tF z a_inMask i)) (hfw : ∀ j, j ≤ k → Rw (wF z a_inMask) a_forward j (fS a_inMask (oF z a_inMask) j))
    (hP : ∀ bw om : Nat → Int32, (∀ j a, j < k → (bt (om j) a = true ↔ bt (a_inMask j) a = true ∧ ∃ s, fS a_inMask (oF z a_inMask) j s ∧ bS k a_inMask (oF z a_inMask) P (j + 1) (s + oF z a_inMask j a))) → post (f_varCount, nI V, f_maxConstraints, f_maxLevel, f_allValues, f_allVars, f_status, f_currentLevel, f_constraintCount, f_searchState, f_searchDirection, f_foundCount, f_depth, f_trailSize, f_queueHead, f_queueSize, f_pendingMask, nI k, a_dom, a_savedDom, a_savedCount, a_savedStatus, a_kindOf, a_scopeOf, a_lowBound, a_highBound, a_tupleCount, a_coef, a_tuples, a_newTuple, a_solution, a_todo, a_mark, a_work, a_trailVar, a_trailMask, a_queue, a_inVar, a_inMask, om, a_matchOf, a_owner, a_reachedFrom, a_bfs, a_reach, a_termCoef, a_termMin, a_span, a_forward, bw)) :
    ∀ (i : Nat) (bw om : Nat → Int32), i < k → (∀ j, i < j → j ≤ k → Rw (wF z a_inMask) bw j (fun s => fS a_inMask (oF z a_inMask) j s ∧ bS k a_inMask (oF z a_inMask) P j s)) → omI k a_inMask (oF z a_inMask) P om i (fun _ => False) →
      wX_filterSum_192 post (i + 2) (nI i) f_varCount (nI V) f_maxConstraints f_maxLevel f_allValues f_allVars f_status f_currentLevel f_constraintCount f_searchState f_searchDirection f_foundCount f_depth f_trailSize f_queueHead f_queueSize f_pendingMask (nI k) a_dom a_savedDom a_savedCount a_savedStatus a_kindOf a_scopeOf a_lowBound a_highBound a_tupleCount a_coef a_tuples a_newTuple a_solution a_todo a_mark a_work a_trailVar a_trailMask a_queue a_inVar a_inMask om a_matchOf a_owner a_reachedFrom a_bfs a_reach a_termCoef a_termMin a_span a_forward bw := by
  intro i
  have hk := hC.1
  induction i with
  | zero =>
    intro bw om hi g go
    refine br_f (nI_pos (by omega)) (xs_bwd hC hsp htc hfw hi g go (fun bw' om' g' go' => nm_e (br_t (by decide) (hP bw' om' (fun j a hj => ?_)))))
    rcases Nat.eq_zero_or_pos j with q | q
    · subst q; exact go'.2.1 a
    · exact go'.1 j a q hj
  | succ i ih =>
    intro bw om hi g go
    refine br_f (nI_pos (by omega)) (xs_bwd hC hsp htc hfw hi g go (fun bw' om' g' go' => nm_r (e' := nI i) (pk_m1 i) (ih bw' om' (by omega) (fun j h1 h2 => ?_) ⟨fun j a h1 h2 => ?_, fun a => ?_, fun j h1 => go'.2.2 j (by omega)⟩)))
    · rcases Nat.lt_or_ge (i + 1) j with q | q
      · exact g'.1 j q h2
      · obtain rfl : j = i + 1 := by omega
        exact g'.2
    · rcases Nat.lt_or_ge (i + 1) j with q | q
      · exact go'.1 j a q h2
      · obtain rfl : j = i + 1 := by omega
        exact go'.2.1 a
    · rw [go'.2.2 i (by omega), b_0]
      exact ⟨fun h => absurd h (by decide), False.elim⟩
theorem xs_108 {post : SX → Prop} {c : Nat} {om : Nat → Int32} (hC : smC k V z a_inMask) (hsp : ∀ i, i ≤ k → a_span i = nI (spN (wF z a_inMask) i)) (htc : ∀ i, i < k → a_termCoef i = iZ (z i) ∧ a_termMin i = iZ (tF z a_inMask i)) (hfw : ∀ j, j ≤ k → Rw (wF z a_inMask) a_forward j (fS a_inMask (oF z a_inMask) j)) (hc : c < 6) (h1k : 1 ≤ k) (hom : ∀ j, j < k → om j = 0)
    (hPP : ∀ s, s ≤ spN (wF z a_inMask) k → (P s ↔ (a_lowBound c).toInt ≤ bsN (tF z a_inMask) k + s ∧ bsN (tF z a_inMask) k + s ≤ (a_highBound c).toInt))
    (hP : ∀ bw om : Nat → Int32, (∀ j a, j < k → (bt (om j) a = true ↔ bt (a_inMask j) a = true ∧ ∃ s, fS a_inMask (oF z a_inMask) j s ∧ bS k a_inMask (oF z a_inMask) P (j + 1) (s + oF z a_inMask j a))) → post (f_varCount, nI V, f_maxConstraints, f_maxLevel, f_allValues, f_allVars, f_status, f_currentLevel, f_constraintCount, f_searchState, f_searchDirection, f_foundCount, f_depth, f_trailSize, f_queueHead, f_queueSize, f_pendingMask, nI k, a_dom, a_savedDom, a_savedCount, a_savedStatus, a_kindOf, a_scopeOf, a_lowBound, a_highBound, a_tupleCount, a_coef, a_tuples, a_newTuple, a_solution, a_todo, a_mark, a_work, a_trailVar, a_trailMask, a_queue, a_inVar, a_inMask, om, a_matchOf, a_owner, a_reachedFrom, a_bfs, a_reach, a_termCoef, a_termMin, a_span, a_forward, bw)) :
    ∀ (d s : Nat) (bw : Nat → Int32), s + d = spN (wF z a_inMask) k + 1 → (∀ t, t < s → (bw (k * 76 + t) = 0 ↔ ¬ (fS a_inMask (oF z a_inMask) k t ∧ P t))) →
      wX_filterSum_108 post (nI c) (iZ (bsN (tF z a_inMask) k)) (nI (k * 76)) f_varCount (nI V) f_maxConstraints f_maxLevel f_allValues f_allVars f_status f_currentLevel f_constraintCount f_searchState f_searchDirection f_foundCount f_depth f_trailSize f_queueHead f_queueSize f_pendingMask (nI k) (d + 1) (nI s) a_dom a_savedDom a_savedCount a_savedStatus a_kindOf a_scopeOf a_lowBound a_highBound a_tupleCount a_coef a_tuples a_newTuple a_solution a_todo a_mark a_work a_trailVar a_trailMask a_queue a_inVar a_inMask om a_matchOf a_owner a_reachedFrom a_bfs a_reach a_termCoef a_termMin a_span a_forward bw := by
  intro d
  have hk := hC.1
  have h75 := smC_sp hC (Nat.le_refl k)
  have hbs := smC_bs hC (Nat.le_refl k)
  induction d with
  | zero =>
    intro s bw hs g
    refine And.intro (vp_in_nI (by omega) (by omega)) ?_
    rw [nI_clamp (by omega), hsp k (Nat.le_refl _)]
    obtain ⟨k', rfl⟩ : ∃ k', k = k' + 1 := ⟨k - 1, by omega⟩
    refine br_t (nI_lt (by omega) (by omega)) (nm_r (e' := nI k') (nI_pred k') (Exists.intro (k' + 2) (xs_192 hC hsp htc hfw hP k' bw om (by omega) (fun j h1 h2 => ?_) ⟨fun j a h1 h2 => absurd h1 (by omega), fun a => ?_, fun j hj => hom j (by omega)⟩)))
    · obtain rfl : j = k' + 1 := by omega
      intro t ht
      rw [g t (by omega)]
      show _ ↔ ¬ (fS a_inMask (oF z a_inMask) (k' + 1) t ∧ bS (k' + 1) a_inMask (oF z a_inMask) P (k' + 1) t)
      rw [bS_k]
    · rw [hom k' (by omega), b_0]
      exact ⟨fun h => absurd h (by decide), False.elim⟩
  | succ d ih =>
    intro s bw hs g
    have hs75 : s ≤ spN (wF z a_inMask) k := by omega
    have g1 := hfw k (Nat.le_refl _) s hs75
    have go : ∀ x : Int32, (x = 0 ↔ ¬ (fS a_inMask (oF z a_inMask) k s ∧ P s)) → wX_filterSum_108 post (nI c) (iZ (bsN (tF z a_inMask) k)) (nI (k * 76)) f_varCount (nI V) f_maxConstraints f_maxLevel f_allValues f_allVars f_status f_currentLevel f_constraintCount f_searchState f_searchDirection f_foundCount f_depth f_trailSize f_queueHead f_queueSize f_pendingMask (nI k) (d + 1) (nI (s + 1)) a_dom a_savedDom a_savedCount a_savedStatus a_kindOf a_scopeOf a_lowBound a_highBound a_tupleCount a_coef a_tuples a_newTuple a_solution a_todo a_mark a_work a_trailVar a_trailMask a_queue a_inVar a_inMask om a_matchOf a_owner a_reachedFrom a_bfs a_reach a_termCoef a_termMin a_span a_forward (upd bw (k * 76 + s) x) := by
      intro x hx
      refine ih (s + 1) _ (by omega) (fun t ht => ?_)
      by_cases q : t = s
      · rw [q, pk_us]; exact hx
      · rw [pk_un (by omega)]; exact g t (by omega)
    have e1 : iZ (bsN (tF z a_inMask) k) + nI s = iZ (bsN (tF z a_inMask) k + s) := by rw [nIz, iz_add]
    have hP1 := hPP s hs75
    refine And.intro (vp_in_nI (by omega) (by omega)) ?_
    rw [nI_clamp (by omega), hsp k (Nat.le_refl _), nI_add]
    refine br_f (nI_nlt (by omega) (by omega)) (nm_r (e' := iZ (bsN (tF z a_inMask) k + s)) e1 ⟨vp_in_nI (by omega) (by omega), ?_⟩)
    rw [nI_clamp (by omega), nI_clamp (by omega)]
    by_cases q : a_forward (k * 76 + s) = 0
    · exact br_t q ⟨vp_in_nI (by omega) (by omega), nm_r (e' := upd bw (k * 76 + s) 0) rfl (nm_r (e' := nI (s + 1)) (nI_1 _) (go 0 ⟨fun _ h => (g1.mp q) h.1, fun _ => rfl⟩))⟩
    · have hfs : fS a_inMask (oF z a_inMask) k s := Classical.byContradiction fun y => q (g1.mpr y)
      refine br_f q ⟨vp_in_nI (by omega) (by omega), ?_⟩
      by_cases q1 : iZ (bsN (tF z a_inMask) k + s) < a_lowBound c
      · rw [iz_ltl (by omega) (by omega)] at q1
        exact br_t ((iz_ltl (by omega) (by omega)).mpr q1) ⟨vp_in_nI (by omega) (by omega), nm_r (e' := upd bw (k * 76 + s) 0) rfl (nm_r (e' := nI (s + 1)) (nI_1 _) (go 0 ⟨fun _ h => by have := (hP1.mp h.2).1; omega, fun _ => rfl⟩))⟩
      · refine br_f q1 ⟨vp_in_nI (by omega) (by omega), ?_⟩
        rw [iz_ltl (by omega) (by omega)] at q1
        by_cases q2 : a_highBound c < iZ (bsN (tF z a_inMask) k + s)
        · rw [iz_ltr (by omega) (by omega)] at q2
          exact br_t ((iz_ltr (by omega) (by omega)).mpr q2) ⟨vp_in_nI (by omega) (by omega), nm_r (e' := upd bw (k * 76 + s) 0) rfl (nm_r (e' := nI (s + 1)) (nI_1 _) (go 0 ⟨fun _ h => by have := (hP1.mp h.2).2; omega, fun _ => rfl⟩))⟩
        · refine br_f q2 ⟨vp_in_nI (by omega) (by omega), nm_r (e' := upd bw (k * 76 + s) 1) rfl (nm_r (e' := nI (s + 1)) (nI_1 _) (go 1 ⟨fun h => absurd h (by decide), fun h => absurd ⟨hfs, hP1.mpr ⟨?_, ?_⟩⟩ h⟩))⟩
          · omega
          · rw [iz_ltr (by omega) (by omega)] at q2; omega
theorem xs_62 {post : SX → Prop} (hk : k ≤ 5) {a_backward : Nat → Int32}
    (hP : ∀ om : Nat → Int32, (∀ j, j < k → om j = a_inMask j) → post (f_varCount, nI V, f_maxConstraints, f_maxLevel, f_allValues, f_allVars, f_status, f_currentLevel, f_constraintCount, f_searchState, f_searchDirection, f_foundCount, f_depth, f_trailSize, f_queueHead, f_queueSize, f_pendingMask, nI k, a_dom, a_savedDom, a_savedCount, a_savedStatus, a_kindOf, a_scopeOf, a_lowBound, a_highBound, a_tupleCount, a_coef, a_tuples, a_newTuple, a_solution, a_todo, a_mark, a_work, a_trailVar, a_trailMask, a_queue, a_inVar, a_inMask, om, a_matchOf, a_owner, a_reachedFrom, a_bfs, a_reach, a_termCoef, a_termMin, a_span, a_forward, a_backward)) :
    ∀ (d i : Nat) (om : Nat → Int32), i + d = k → (∀ j, j < i → om j = a_inMask j) → wX_filterSum_62 post f_varCount (nI V) f_maxConstraints f_maxLevel f_allValues f_allVars f_status f_currentLevel f_constraintCount f_searchState f_searchDirection f_foundCount f_depth f_trailSize f_queueHead f_queueSize f_pendingMask (nI k) (d + 1) (nI i) a_dom a_savedDom a_savedCount a_savedStatus a_kindOf a_scopeOf a_lowBound a_highBound a_tupleCount a_coef a_tuples a_newTuple a_solution a_todo a_mark a_work a_trailVar a_trailMask a_queue a_inVar a_inMask om a_matchOf a_owner a_reachedFrom a_bfs a_reach a_termCoef a_termMin a_span a_forward a_backward := by
  intro d
  induction d with
  | zero =>
    intro i om hi g
    obtain rfl : i = k := by omega
    exact br_t (nI_le (Nat.le_refl _) (by omega)) (hP om g)
  | succ d ih =>
    intro i om hi g
    refine br_f (nI_ge (by omega) (by omega)) ⟨vp_in_nI (by omega) (by omega), vp_in_nI (by omega) (by omega), nm_r (e' := upd om i (a_inMask i)) (by rw [nI_clamp (by omega)]) (nm_r (e' := nI (i + 1)) (nI_1 _) (ih (i + 1) _ (by omega) (fun j hj => ?_)))⟩
    by_cases q : j = i
    · rw [q, pk_us]
    · rw [pk_un q]; exact g j (by omega)
end
section
/-- the total of a choice -/
def smT (z : Nat → Int) (σ : Nat → Nat) : Nat → Int
  | 0 => 0
  | i + 1 => smT z σ i + z i * σ i
theorem smT_eq {k V : Nat} {z : Nat → Int} {m : Nat → Int32} (h : smC k V z m) {σ : Nat → Nat} (hσ : ∀ j, j < k → bt (m j) (σ j) = true) : ∀ {i : Nat}, i ≤ k → smT z σ i = bsN (tF z m) i + psm (oF z m) σ i
  | 0, _ => rfl
  | i + 1, hi => by
    have a := smT_eq h hσ (i := i) (by omega)
    have b := (smC_a h (i := i) (by omega) (hσ i (by omega))).2.1
    simp only [smT, bsN, psm]
    omega
theorem psm_le {k V : Nat} {z : Nat → Int} {m : Nat → Int32} (h : smC k V z m) {σ : Nat → Nat} (hσ : ∀ j, j < k → bt (m j) (σ j) = true) : psm (oF z m) σ k ≤ spN (wF z m) k :=
  smC_fS h (Nat.le_refl _) ⟨σ, hσ, rfl⟩
/-- a choice with a total within the bounds -/
def smA (k : Nat) (z : Nat → Int) (m : Nat → Int32) (lo hi : Int32) (σ : Nat → Nat) : Prop := (∀ j, j < k → bt (m j) (σ j) = true) ∧ lo.toInt ≤ smT z σ k ∧ smT z σ k ≤ hi.toInt
variable {f_varCount f_maxConstraints f_maxLevel f_allValues f_allVars f_status f_currentLevel f_constraintCount f_searchState f_searchDirection f_foundCount f_depth f_trailSize f_queueHead f_queueSize f_pendingMask : Int32} {a_dom a_savedDom a_savedCount a_savedStatus a_kindOf a_scopeOf a_lowBound a_highBound a_tupleCount a_coef a_tuples a_newTuple a_solution a_todo a_mark a_work a_trailVar a_trailMask a_queue a_inVar a_inMask a_outMask a_matchOf a_owner a_reachedFrom a_bfs a_reach a_termCoef a_termMin a_span a_forward a_backward : Nat → Int32} {k V : Nat} {z : Nat → Int}
theorem xs_filter {post : SX → Prop} {c : Nat} (hC : smC k V z a_inMask) (hc : c < 6) (h1k : 1 ≤ k) (hiv : ∀ i, i < k → ∃ x, x < 6 ∧ a_inVar i = nI x ∧ a_coef (c * 6 + x) = iZ (z i)) (ho : ∀ i, i < k → a_outMask i = 0)
    (hP : ∀ tc tm sp fw bw om : Nat → Int32, (∀ i a, i < k → (bt (om i) a = true ↔ ∃ σ, smA k z a_inMask (a_lowBound c) (a_highBound c) σ ∧ σ i = a)) → post (f_varCount, nI V, f_maxConstraints, f_maxLevel, f_allValues, f_allVars, f_status, f_currentLevel, f_constraintCount, f_searchState, f_searchDirection, f_foundCount, f_depth, f_trailSize, f_queueHead, f_queueSize, f_pendingMask, nI k, a_dom, a_savedDom, a_savedCount, a_savedStatus, a_kindOf, a_scopeOf, a_lowBound, a_highBound, a_tupleCount, a_coef, a_tuples, a_newTuple, a_solution, a_todo, a_mark, a_work, a_trailVar, a_trailMask, a_queue, a_inVar, a_inMask, om, a_matchOf, a_owner, a_reachedFrom, a_bfs, a_reach, tc, tm, sp, fw, bw)) :
    wpX_filterSum post (f_varCount, nI V, f_maxConstraints, f_maxLevel, f_allValues, f_allVars, f_status, f_currentLevel, f_constraintCount, f_searchState, f_searchDirection, f_foundCount, f_depth, f_trailSize, f_queueHead, f_queueSize, f_pendingMask, nI k, a_dom, a_savedDom, a_savedCount, a_savedStatus, a_kindOf, a_scopeOf, a_lowBound, a_highBound, a_tupleCount, a_coef, a_tuples, a_newTuple, a_solution, a_todo, a_mark, a_work, a_trailVar, a_trailMask, a_queue, a_inVar, a_inMask, a_outMask, a_matchOf, a_owner, a_reachedFrom, a_bfs, a_reach, a_termCoef, a_termMin, a_span, a_forward, a_backward) (nI c) := by
  have hk := hC.1
  have h75 := smC_sp hC (Nat.le_refl k)
  have hbs := smC_bs hC (Nat.le_refl k)
  have hcc : (nI c).toNatClampNeg = c := nI_clamp (by omega)
  have hck : (nI k).toNatClampNeg = k := nI_clamp (by omega)
  refine xs_meas hC hc hiv (fun tc tm sp g1 g2 => ?_)
  have hin : vp_in (nI c) 7 := vp_in_nI (by omega) (by omega)
  refine And.intro (vp_in_nI (by omega) (by omega)) (nm_r (e' := iZ (bsN (tF z a_inMask) k + spN (wF z a_inMask) k)) ?_ (And.intro hin ?_))
  · rw [hck, g2 k (Nat.le_refl _), nIz, iz_add]
  rw [hcc]
  have e92 : (iZ (bsN (tF z a_inMask) k) < a_lowBound c ∨ a_highBound c < iZ (bsN (tF z a_inMask) k + spN (wF z a_inMask) k)) → wX_filterSum_92 post (nI c) (iZ (bsN (tF z a_inMask) k)) f_varCount (nI V) f_maxConstraints f_maxLevel f_allValues f_allVars f_status f_currentLevel f_constraintCount f_searchState f_searchDirection f_foundCount f_depth f_trailSize f_queueHead f_queueSize f_pendingMask (nI k) a_dom a_savedDom a_savedCount a_savedStatus a_kindOf a_scopeOf a_lowBound a_highBound a_tupleCount a_coef a_tuples a_newTuple a_solution a_todo a_mark a_work a_trailVar a_trailMask a_queue a_inVar a_inMask a_outMask a_matchOf a_owner a_reachedFrom a_bfs a_reach tc tm sp a_forward a_backward := by
    intro _
    refine xs_fwd hC g2 g1 (fun fw hfw => ?_)
    refine nm_r (e' := nI (k * 76)) (pk_mul k 76) (Exists.intro (spN (wF z a_inMask) k + 2) ?_)
    refine xs_108 (P := fun s => (a_lowBound c).toInt ≤ bsN (tF z a_inMask) k + s ∧ bsN (tF z a_inMask) k + s ≤ (a_highBound c).toInt) hC g2 g1 hfw hc h1k ho (fun _ _ => Iff.rfl) (fun bw om hom => hP tc tm sp fw bw om (fun i a hi => ?_)) (spN (wF z a_inMask) k + 1) 0 a_backward (by omega) (fun t ht => absurd ht (by omega))
    rw [hom i a hi, sm_sup hi]
    constructor
    · rintro ⟨σ, h1, h2, h3⟩
      have e := smT_eq hC h1 (Nat.le_refl k)
      exact ⟨σ, ⟨h1, by rw [e]; exact h2.1, by rw [e]; exact h2.2⟩, h3⟩
    · rintro ⟨σ, ⟨h1, h2, h2'⟩, h3⟩
      have e := smT_eq hC h1 (Nat.le_refl k)
      rw [e] at h2 h2'
      exact ⟨σ, h1, ⟨h2, h2'⟩, h3⟩
  by_cases q1 : iZ (bsN (tF z a_inMask) k + spN (wF z a_inMask) k) < a_lowBound c
  · refine br_t q1 (hP tc tm sp a_forward a_backward a_outMask (fun i a hi => ?_))
    rw [ho i hi, b_0]
    refine ⟨fun h => absurd h (by decide), fun ⟨σ, ⟨h1, h2, h3⟩, _⟩ => ?_⟩
    rw [iz_ltl (by omega) (by omega)] at q1
    have e := smT_eq hC h1 (Nat.le_refl k)
    have := psm_le hC h1
    omega
  · refine br_f q1 (And.intro hin ?_)
    by_cases q2 : iZ (bsN (tF z a_inMask) k) ≤ a_highBound c
    · refine br_t q2 (And.intro hin ?_)
      by_cases q3 : iZ (bsN (tF z a_inMask) k) < a_lowBound c
      · exact br_t q3 (e92 (Or.inl q3))
      · refine br_f q3 (And.intro hin ?_)
        by_cases q4 : a_highBound c < iZ (bsN (tF z a_inMask) k + spN (wF z a_inMask) k)
        · exact br_t q4 (e92 (Or.inr q4))
        · refine br_f q4 (Exists.intro (k + 1) (xs_62 hk (fun om hom => hP tc tm sp a_forward a_backward om (fun i a hi => ?_)) k 0 a_outMask (by omega) (fun j hj => absurd hj (by omega))))
          rw [iz_ltl (by omega) (by omega)] at q3
          rw [iz_ltr (by omega) (by omega)] at q4
          rw [hom i hi]
          constructor
          · intro hb
            have hex : ∀ j, ∃ b, j < k → bt (a_inMask j) b = true := fun j => by
              by_cases hj : j < k
              · obtain ⟨b, hb⟩ := (hC.2.2.2 j hj).2; exact ⟨b, fun _ => hb⟩
              · exact ⟨0, fun h => absurd h hj⟩
            obtain ⟨τ, hτ⟩ := Classical.skolem.mp hex
            have h1 : ∀ j, j < k → bt (a_inMask j) ((fun j => if j = i then a else τ j) j) = true := by
              intro j hj
              show bt (a_inMask j) (if j = i then a else τ j) = true
              by_cases y : j = i
              · rw [if_pos y, y]; exact hb
              · rw [if_neg y]; exact hτ j hj
            have e := smT_eq hC h1 (Nat.le_refl k)
            have := psm_le hC h1
            exact ⟨_, ⟨h1, by omega, by omega⟩, by show (if i = i then a else τ i) = a; rw [if_pos rfl]⟩
          · rintro ⟨σ, ⟨h1, _, _⟩, e⟩
            rw [← e]; exact h1 i hi
    · refine br_f q2 (hP tc tm sp a_forward a_backward a_outMask (fun i a hi => ?_))
      rw [ho i hi, b_0]
      refine ⟨fun h => absurd h (by decide), fun ⟨σ, ⟨h1, h2, h3⟩, _⟩ => ?_⟩
      rw [iz_lel (by omega) (by omega)] at q2
      have e := smT_eq hC h1 (Nat.le_refl k)
      omega
end
end
section
/-! what the constraints say, supports, fixed points: pure -/
section
/-- the sum over the variables below x, as the reference reckons it -/
def smN (co : Nat → Int32) (b : Nat) (val : Nat → Nat) : Nat → Int32
  | 0 => 0
  | x + 1 => smN co b val x + co (b + x) * nI (val x)
/-- the values val satisfy constraint c -/
def Hd (n : Nat) (kd sc lo hi tc co tu : Nat → Int32) (c : Nat) (val : Nat → Nat) : Prop :=
  (kd c = 3 → ∃ t, nI t < tc c ∧ t < 10 ∧ ∀ x, x < n → bt (sc c) x = true → tu ((c * 10 + t) * 6 + x) = nI (val x)) ∧
  (kd c = 1 → ∀ x y, x < n → y < x → bt (sc c) x = true → bt (sc c) y = true → val x ≠ val y) ∧
  (kd c = 2 → lo c ≤ smN co (c * 6) val n ∧ smN co (c * 6) val n ≤ hi c)
/-- the tuples of row c, on both sides -/
def TOk (n V : Nat) (sc tc xt tu : Nat → Int32) (c : Nat) : Prop :=
  ∃ T, T ≤ 10 ∧ tc c = nI T ∧ ∀ t x, t < T → x < n → bt (sc c) x = true → ∃ a, a < V ∧ tu ((c * 10 + t) * 6 + x) = nI a ∧ xt (c * 40 + t * 4 + pcN (sc c) x) = nI a
/-- a posted constraint -/
def COk (n V : Nat) (kd sc tc co xt tu : Nat → Int32) (c : Nat) : Prop :=
  (kd c = 1 ∨ kd c = 2 ∨ kd c = 3) ∧ Msk n (sc c) ∧ 1 ≤ pcN (sc c) 6 ∧ pcN (sc c) 6 ≤ 5 ∧ ((kd c = 3 → pcN (sc c) 6 ≤ 4) ∧ (¬ kd c = 3 → tc c = 0)) ∧
  (kd c = 2 → ∀ x, x < 6 → ∃ z : Int, -3 ≤ z ∧ z ≤ 3 ∧ co (c * 6 + x) = iZ z ∧ (bt (sc c) x = false → z = 0)) ∧ TOk n V sc tc xt tu c
/-- value a of variable x has a support in constraint c within D -/
def Sup (n : Nat) (S : Nat → Int32) (H : Nat → (Nat → Nat) → Prop) (D : Nat → Int32) (c x a : Nat) : Prop :=
  ∃ val : Nat → Nat, (∀ y, y < n → bt (S c) y = true → bt (D y) (val y) = true) ∧ H c val ∧ val x = a
def Cst (n : Nat) (S : Nat → Int32) (H : Nat → (Nat → Nat) → Prop) (D : Nat → Int32) (c : Nat) : Prop :=
  ∀ x a, x < n → bt (S c) x = true → bt (D x) a = true → Sup n S H D c x a
def Fixd (n cnt : Nat) (S : Nat → Int32) (H : Nat → (Nat → Nat) → Prop) (D : Nat → Int32) : Prop := ∀ c, c < cnt → Cst n S H D c
def Sbs (n : Nat) (D E : Nat → Int32) : Prop := ∀ x a, x < n → bt (D x) a = true → bt (E x) a = true
/-- W keeps every fixed point within D -/
def Snd (n cnt : Nat) (S : Nat → Int32) (H : Nat → (Nat → Nat) → Prop) (D W : Nat → Int32) : Prop := ∀ E, Fixd n cnt S H E → Sbs n E D → Sbs n E W
theorem Sup_m {n : Nat} {S : Nat → Int32} {H : Nat → (Nat → Nat) → Prop} {D E : Nat → Int32} (h : Sbs n D E) {c x a : Nat} (hs : Sup n S H D c x a) : Sup n S H E c x a := by
  obtain ⟨val, h1, h2, h3⟩ := hs
  exact ⟨val, fun y hy hb => h y _ hy (h1 y hy hb), h2, h3⟩
theorem Sup_l {n : Nat} {S : Nat → Int32} {H : Nat → (Nat → Nat) → Prop} {D E : Nat → Int32} {c x a : Nat} (h : ∀ y, y < n → bt (S c) y = true → D y = E y) (hs : Sup n S H D c x a) : Sup n S H E c x a := by
  obtain ⟨val, h1, h2, h3⟩ := hs
  exact ⟨val, fun y hy hb => by rw [← h y hy hb]; exact h1 y hy hb, h2, h3⟩
theorem Cst_l {n : Nat} {S : Nat → Int32} {H : Nat → (Nat → Nat) → Prop} {D E : Nat → Int32} {c : Nat} (h : ∀ y, y < n → bt (S c) y = true → D y = E y) (hs : Cst n S H D c) : Cst n S H E c :=
  fun x a hx hb ha => Sup_l h (hs x a hx hb (by rw [h x hx hb]; exact ha))
/-- the constraint filtered fully is stable -/
theorem Cst_f {n : Nat} {S : Nat → Int32} {H : Nat → (Nat → Nat) → Prop} {D E : Nat → Int32} {c : Nat} (h : ∀ x, x < n → bt (S c) x = true → ∀ a, bt (E x) a = true ↔ Sup n S H D c x a) : Cst n S H E c := by
  intro x a hx hb ha
  obtain ⟨val, h1, h2, h3⟩ := (h x hx hb a).mp ha
  exact ⟨val, fun y hy hyb => (h y hy hyb _).mpr ⟨val, h1, h2, rfl⟩, h2, h3⟩
theorem Sup_in {n : Nat} {S : Nat → Int32} {H : Nat → (Nat → Nat) → Prop} {D : Nat → Int32} {c x a : Nat} (hx : x < n) (hb : bt (S c) x = true) (h : Sup n S H D c x a) : bt (D x) a = true := by
  obtain ⟨val, h1, _, h3⟩ := h
  exact h3 ▸ h1 x hx hb
theorem Snd_r {n cnt : Nat} {S : Nat → Int32} {H : Nat → (Nat → Nat) → Prop} (D : Nat → Int32) : Snd n cnt S H D D := fun _ _ h => h
/-- a narrowing by supports keeps the fixed points -/
theorem Snd_n {n cnt : Nat} {S : Nat → Int32} {H : Nat → (Nat → Nat) → Prop} {D W W0 : Nat → Int32} {c x : Nat} {m : Int32} (hc : c < cnt) (h : Snd n cnt S H D W) (h0 : Snd n cnt S H D W0) (hx : x < n) (hb : bt (S c) x = true)
    (hm : ∀ a, bt m a = true ↔ Sup n S H W0 c x a) : Snd n cnt S H D (upd W x m) := by
  intro E hE hED y a hy ha
  by_cases z : y = x
  · subst z; rw [pk_us, hm]
    exact Sup_m (h0 E hE hED) (hE c hc y a hy hb ha)
  · rw [pk_un z]; exact h E hE hED y a hy ha
theorem Fix_eq {n cnt : Nat} {S : Nat → Int32} {H : Nat → (Nat → Nat) → Prop} {D W W' : Nat → Int32} (h1 : Fixd n cnt S H W) (h2 : Sbs n W D) (h3 : Snd n cnt S H D W) (h1' : Fixd n cnt S H W') (h2' : Sbs n W' D) (h3' : Snd n cnt S H D W') : ∀ x, x < n → W x = W' x :=
  fun x hx => gb_e fun i => ⟨h3' W h1 h2 x i hx, h3 W' h1' h2' x i hx⟩
/-- solutions -/
def Sol (n cnt : Nat) (H : Nat → (Nat → Nat) → Prop) (D : Nat → Int32) (val : Nat → Nat) : Prop := (∀ x, x < n → bt (D x) (val x) = true) ∧ ∀ c, c < cnt → H c val
def oneM (val : Nat → Nat) : Nat → Int32 := fun x => (1 : Int32) <<< (nI (val x) &&& 31)
theorem oneM_b {val : Nat → Nat} {x a : Nat} (h : val x < 32) : bt (oneM val x) a = true ↔ a = val x := by
  unfold oneM; rw [gb_shl1 h, decide_eq_true_eq]
theorem Sol_fix {n cnt : Nat} {S : Nat → Int32} {H : Nat → (Nat → Nat) → Prop} {D : Nat → Int32} {val : Nat → Nat} (hv : ∀ x, x < n → val x < 32) (h : Sol n cnt H D val) : Fixd n cnt S H (oneM val) := by
  intro c hc x a hx hb ha
  rw [oneM_b (hv x hx)] at ha
  exact ⟨val, fun y hy _ => (oneM_b (hv y hy)).mpr rfl, h.2 c hc, ha.symm⟩
theorem Sol_sub {n cnt : Nat} {H : Nat → (Nat → Nat) → Prop} {D : Nat → Int32} {val : Nat → Nat} (hv : ∀ x, x < n → val x < 32) (h : Sol n cnt H D val) : Sbs n (oneM val) D := by
  intro x a hx ha
  rw [oneM_b (hv x hx)] at ha
  rw [ha]; exact h.1 x hx
theorem bt32 {x : Int32} {i : Nat} (h : bt x i = true) : i < 32 := by
  rcases Nat.lt_or_ge i 32 with z | z
  · exact z
  · rw [b_big z] at h; cases h
theorem Sol_snd {n cnt : Nat} {S : Nat → Int32} {H : Nat → (Nat → Nat) → Prop} {D W : Nat → Int32} {val : Nat → Nat} (h : Sol n cnt H D val) (hs : Snd n cnt S H D W) : Sol n cnt H W val := by
  have hv : ∀ x, x < n → val x < 32 := fun x hx => bt32 (h.1 x hx)
  exact ⟨fun x hx => hs _ (Sol_fix hv h) (Sol_sub hv h) x _ hx ((oneM_b (hv x hx)).mpr rfl), h.2⟩
theorem Sol_mono {n cnt : Nat} {H : Nat → (Nat → Nat) → Prop} {D W : Nat → Int32} {val : Nat → Nat} (h : Sol n cnt H D val) (hs : Sbs n D W) : Sol n cnt H W val :=
  ⟨fun x hx => hs x _ hx (h.1 x hx), h.2⟩
/-- a failing filter: no solution -/
theorem Sol_fail {n cnt : Nat} {S : Nat → Int32} {H : Nat → (Nat → Nat) → Prop} {D W : Nat → Int32} {c x : Nat} (hc : c < cnt) (hs : Snd n cnt S H D W) (hn : ∀ a, ¬ Sup n S H W c x a) (val : Nat → Nat) (h : Sol n cnt H D val) : False := by
  have h' := Sol_snd h hs
  exact hn (val x) ⟨val, fun y hy _ => h'.1 y hy, h'.2 c hc, rfl⟩
/-- the constraint's word rests on its scope alone -/
theorem smN_c {co : Nat → Int32} {b n : Nat} {s : Int32} (h0 : ∀ x, x < n → bt s x = false → co (b + x) = 0) {val val' : Nat → Nat} (h : ∀ x, x < n → bt s x = true → val x = val' x) : ∀ {x : Nat}, x ≤ n → smN co b val x = smN co b val' x
  | 0, _ => rfl
  | x + 1, hx => by
    have a := smN_c h0 h (x := x) (by omega)
    simp only [smN]; rw [a]
    cases hb : bt s x with
    | false => rw [h0 x (by omega) hb, Int32.zero_mul, Int32.zero_mul]
    | true => rw [h x (by omega) hb]
theorem Hd_c {n V : Nat} {kd sc lo hi tc co xt tu : Nat → Int32} {c : Nat} (hn : n ≤ 6) (hok : COk n V kd sc tc co xt tu c) {val val' : Nat → Nat} (h : ∀ x, x < n → bt (sc c) x = true → val x = val' x) (hH : Hd n kd sc lo hi tc co tu c val) : Hd n kd sc lo hi tc co tu c val' := by
  refine ⟨fun k3 => ?_, fun k1 x y hx hy hbx hby => ?_, fun k2 => ?_⟩
  · obtain ⟨t, h1, h2, h3⟩ := hH.1 k3
    exact ⟨t, h1, h2, fun x hx hb => by rw [← h x hx hb]; exact h3 x hx hb⟩
  · rw [← h x hx hbx, ← h y (by omega) hby]; exact hH.2.1 k1 x y hx hy hbx hby
  · have e := smN_c (co := co) (b := c * 6) (s := sc c) (fun x hx hb => by
      obtain ⟨z, _, _, e, h0⟩ := hok.2.2.2.2.2.1 k2 x (by omega)
      rw [e, h0 hb]; rfl) h (Nat.le_refl n)
    rw [← e]; exact hH.2.2 k2
/-- all single: the fixed point is a solution -/
theorem Fix_sol {n V cnt : Nat} {kd sc lo hi tc co xt tu : Nat → Int32} (hn : n ≤ 6) (hok : ∀ c, c < cnt → COk n V kd sc tc co xt tu c) {W : Nat → Int32} {val : Nat → Nat} (hW : ∀ x a, x < n → (bt (W x) a = true ↔ a = val x)) (hF : Fixd n cnt sc (Hd n kd sc lo hi tc co tu) W) :
    Sol n cnt (Hd n kd sc lo hi tc co tu) W val := by
  refine ⟨fun x hx => (hW x _ hx).mpr rfl, fun c hc => ?_⟩
  have ho := hok c hc
  have hp : 0 < pcN (sc c) 6 := ho.2.2.1
  obtain ⟨x, hx, hb, _⟩ := pc_surj hp
  have hxn := mk_lt ho.2.1 hb
  obtain ⟨val', h1, h2, h3⟩ := hF c hc x (val x) hxn hb ((hW x _ hxn).mpr rfl)
  exact Hd_c hn ho (fun y hy hyb => (hW y _ hy).mp (h1 y hy hyb)) h2
/-- places and variables -/
theorem pl_pc {n : Nat} {s : Int32} (hn : n ≤ 6) (hs : Msk n s) : pcN s n = pcN s 6 := (pc_stop hs hn).symm
theorem ad_link {n : Nat} {kd sc lo hi tc co tu : Nat → Int32} {D m : Nat → Int32} {c : Nat} (hk : kd c = 1) (hm : ∀ x, x < n → bt (sc c) x = true → m (pcN (sc c) x) = D x) {x a : Nat} (hx : x < n) (hb : bt (sc c) x = true) :
    (∃ σ, adA (pcN (sc c) n) m σ ∧ σ (pcN (sc c) x) = a) ↔ Sup n sc (Hd n kd sc lo hi tc co tu) D c x a := by
  constructor
  · rintro ⟨σ, h1, h2⟩
    refine ⟨fun y => σ (pcN (sc c) y), fun y hy hyb => ?_, ⟨fun k3 => absurd (hk.symm.trans k3) (by decide), fun _ y y' hy hy' hyb hyb' e => ?_, fun k2 => absurd (hk.symm.trans k2) (by decide)⟩, h2⟩
    · rw [← hm y hy hyb]; exact h1.1 _ (pc_lt hyb hy)
    · have := adA_inj h1 (pc_lt hyb hy) (pc_lt hyb' (by omega)) e
      have := pc_inj hyb hyb' this
      omega
  · rintro ⟨val, h1, h2, h3⟩
    have hex : ∀ i, ∃ y, i < pcN (sc c) n → y < n ∧ bt (sc c) y = true ∧ pcN (sc c) y = i := by
      intro i
      by_cases hi : i < pcN (sc c) n
      · obtain ⟨y, g⟩ := pc_surj hi; exact ⟨y, fun _ => g⟩
      · exact ⟨0, fun h => absurd h hi⟩
    obtain ⟨iv, hiv⟩ := Classical.skolem.mp hex
    refine ⟨fun i => val (iv i), ⟨fun i hi => ?_, fun i j hi hj => ?_⟩, ?_⟩
    · obtain ⟨g1, g2, g3⟩ := hiv i hi
      have := hm _ g1 g2
      rw [g3] at this
      rw [this]; exact h1 _ g1 g2
    · obtain ⟨g1, g2, g3⟩ := hiv i hi
      obtain ⟨g1', g2', g3'⟩ := hiv j (by omega)
      have hne : iv j < iv i := by
        rcases Nat.lt_or_ge (iv j) (iv i) with q | q
        · exact q
        · have := pc_mono (sc c) q; omega
      exact h2.2.1 hk (iv i) (iv j) g1 hne g2 g2'
    · obtain ⟨g1, g2, g3⟩ := hiv (pcN (sc c) x) (pc_lt hb hx)
      show val (iv (pcN (sc c) x)) = a
      rw [pc_inj g2 hb g3]; exact h3
theorem tb_link {n T : Nat} {kd sc lo hi tc co tu : Nat → Int32} {D m : Nat → Int32} {c : Nat} {tp : Nat → Nat → Nat} (hk : kd c = 3) (hm : ∀ x, x < n → bt (sc c) x = true → m (pcN (sc c) x) = D x) (hT : T ≤ 10) (htc : tc c = nI T)
    (htp : ∀ t x, t < T → x < n → bt (sc c) x = true → tp t (pcN (sc c) x) < 32 ∧ tu ((c * 10 + t) * 6 + x) = nI (tp t (pcN (sc c) x))) {x a : Nat} (hx : x < n) (hb : bt (sc c) x = true) :
    (∃ t, t < T ∧ (∀ i, i < pcN (sc c) n → bt (m i) (tp t i) = true) ∧ tp t (pcN (sc c) x) = a) ↔ Sup n sc (Hd n kd sc lo hi tc co tu) D c x a := by
  constructor
  · rintro ⟨t, h1, h2, h3⟩
    refine ⟨fun y => tp t (pcN (sc c) y), fun y hy hyb => ?_, ⟨fun _ => ⟨t, ?_, by omega, fun y hy hyb => (htp t y h1 hy hyb).2⟩, fun k1 => absurd (hk.symm.trans k1) (by decide), fun k2 => absurd (hk.symm.trans k2) (by decide)⟩, h3⟩
    · rw [← hm y hy hyb]; exact h2 _ (pc_lt hyb hy)
    · rw [htc]; exact nI_lt h1 (by omega)
  · rintro ⟨val, h1, h2, h3⟩
    obtain ⟨t, g1, g2, g3⟩ := h2.1 hk
    rw [htc, nI_ltI (by omega) (by omega)] at g1
    have key : ∀ y, y < n → bt (sc c) y = true → tp t (pcN (sc c) y) = val y := by
      intro y hy hyb
      have e := htp t y g1 hy hyb
      have e2 := g3 y hy hyb
      rw [e.2] at e2
      have hv := bt32 (h1 y hy hyb)
      exact nI_inj (by omega) (by omega) e2
    refine ⟨t, g1, fun i hi => ?_, (key x hx hb).trans h3⟩
    obtain ⟨y, q1, q2, q3⟩ := pc_surj hi
    rw [← q3, hm y q1 q2, key y q1 q2]; exact h1 y q1 q2
theorem sm_link {n V : Nat} {kd sc lo hi tc co tu : Nat → Int32} {D m : Nat → Int32} {c : Nat} {z : Nat → Int} {zx : Nat → Int} (hk : kd c = 2) (hm : ∀ x, x < n → bt (sc c) x = true → m (pcN (sc c) x) = D x)
    (hz : ∀ x, x < n → bt (sc c) x = true → z (pcN (sc c) x) = zx x) (hzx : ∀ x, x < n → co (c * 6 + x) = iZ (zx x) ∧ (bt (sc c) x = false → zx x = 0)) (hC : smC (pcN (sc c) n) V z m) {x a : Nat} (hx : x < n) (hb : bt (sc c) x = true) :
    (∃ σ, smA (pcN (sc c) n) z m (lo c) (hi c) σ ∧ σ (pcN (sc c) x) = a) ↔ Sup n sc (Hd n kd sc lo hi tc co tu) D c x a := by
  have hsum : ∀ (val σ : Nat → Nat), (∀ y, y < n → bt (sc c) y = true → σ (pcN (sc c) y) = val y) → ∀ y, y ≤ n → smN co (c * 6) val y = iZ (smT z σ (pcN (sc c) y)) := by
    intro val σ h y
    induction y with
    | zero => intro _; rfl
    | succ y ih =>
      intro hy
      have e := ih (by omega)
      have q := hzx y (by omega)
      cases hyb : bt (sc c) y with
      | false =>
        rw [pc_s0 hyb]; simp only [smN]; rw [e, q.1, q.2 hyb]
        have : iZ 0 * nI (val y) = 0 := Int32.zero_mul
        rw [this, Int32.add_zero]
      | true =>
        rw [pc_s1 hyb]; simp only [smN, smT]
        rw [e, q.1, nIz, iz_mul, iz_add, hz y (by omega) hyb, h y (by omega) hyb]
  have hbd : ∀ σ, (∀ j, j < pcN (sc c) n → bt (m j) (σ j) = true) → -1000000 ≤ smT z σ (pcN (sc c) n) ∧ smT z σ (pcN (sc c) n) ≤ 1000000 := by
    intro σ hσ
    have e := smT_eq hC hσ (Nat.le_refl _)
    have a := psm_le hC hσ
    have b := smC_sp hC (Nat.le_refl _)
    have d := smC_bs hC (Nat.le_refl _)
    have := hC.1
    omega
  constructor
  · rintro ⟨σ, ⟨h1, h2, h2'⟩, h3⟩
    refine ⟨fun y => σ (pcN (sc c) y), fun y hy hyb => ?_, ⟨fun k3 => absurd (hk.symm.trans k3) (by decide), fun k1 => absurd (hk.symm.trans k1) (by decide), fun _ => ?_⟩, h3⟩
    · rw [← hm y hy hyb]; exact h1 _ (pc_lt hyb hy)
    · rw [hsum _ σ (fun _ _ _ => rfl) n (Nat.le_refl _)]
      have := hbd σ h1
      exact ⟨(iz_ler this.1 this.2).mpr h2, (iz_lel this.1 this.2).mpr h2'⟩
  · rintro ⟨val, h1, h2, h3⟩
    have hex : ∀ i, ∃ y, i < pcN (sc c) n → y < n ∧ bt (sc c) y = true ∧ pcN (sc c) y = i := by
      intro i
      by_cases hi : i < pcN (sc c) n
      · obtain ⟨y, g⟩ := pc_surj hi; exact ⟨y, fun _ => g⟩
      · exact ⟨0, fun h => absurd h hi⟩
    obtain ⟨iv, hiv⟩ := Classical.skolem.mp hex
    have hval : ∀ y, y < n → bt (sc c) y = true → val (iv (pcN (sc c) y)) = val y := by
      intro y hy hyb
      obtain ⟨g1, g2, g3⟩ := hiv (pcN (sc c) y) (pc_lt hyb hy)
      rw [pc_inj g2 hyb g3]
    have hin : ∀ i, i < pcN (sc c) n → bt (m i) (val (iv i)) = true := by
      intro i hi
      obtain ⟨g1, g2, g3⟩ := hiv i hi
      have := hm _ g1 g2
      rw [g3] at this
      rw [this]; exact h1 _ g1 g2
    have h4 := h2.2.2 hk
    rw [hsum val (fun i => val (iv i)) hval n (Nat.le_refl _)] at h4
    have := hbd (fun i => val (iv i)) hin
    exact ⟨fun i => val (iv i), ⟨hin, (iz_ler this.1 this.2).mp h4.1, (iz_lel this.1 this.2).mp h4.2⟩, (hval x hx hb).trans h3⟩
end
end
section
/-! the table filter and computeSupports -/
section
variable {f_varCount f_valueCount f_maxConstraints f_maxLevel f_allValues f_allVars f_status f_currentLevel f_constraintCount f_searchState f_searchDirection f_foundCount f_depth f_trailSize f_queueHead f_queueSize f_pendingMask : Int32} {a_dom a_savedDom a_savedCount a_savedStatus a_kindOf a_scopeOf a_lowBound a_highBound a_tupleCount a_coef a_tuples a_newTuple a_solution a_todo a_mark a_work a_trailVar a_trailMask a_queue a_inVar a_inMask a_matchOf a_owner a_reachedFrom a_bfs a_reach a_termCoef a_termMin a_span a_forward a_backward : Nat → Int32} {k T c : Nat} {tp : Nat → Nat → Nat}
theorem ix_t (b i : Nat) : (nI b + nI i : Int32) = nI (b + i) := nI_add b i
theorem xt_88 {post : SX → Prop} {J : Int32 →  (Nat → Int32) → (Nat → Int32) → (Nat → Int32) → (Nat → Int32) → (Nat → Int32) → (Nat → Int32) → (Nat → Int32) → (Nat → Int32) → (Nat → Int32) → (Nat → Int32) → (Nat → Int32) → (Nat → Int32) → (Nat → Int32) → (Nat → Int32) → (Nat → Int32) → (Nat → Int32) → (Nat → Int32) → (Nat → Int32) → (Nat → Int32) → (Nat → Int32) → (Nat → Int32) → (Nat → Int32) → (Nat → Int32) → (Nat → Int32) → (Nat → Int32) → (Nat → Int32) → (Nat → Int32) → (Nat → Int32) → (Nat → Int32) → (Nat → Int32) → (Nat → Int32) → (Nat → Int32) →  Prop} {t : Nat} {x1 : Int32} {out0 : Nat → Int32} (hk : k ≤ 4) (hc : c < 6) (hT : T ≤ 10) (htp : ∀ t i, t < T → i < k → tp t i < 32 ∧ a_tuples (c * 40 + t * 4 + i) = nI (tp t i)) (ht : t < T)
    (hJ : ∀ out : Nat → Int32, (∀ i a, i < k → (bt (out i) a = true ↔ bt (out0 i) a = true ∨ a = tp t i)) → J (nI (t + 1)) a_dom a_savedDom a_savedCount a_savedStatus a_kindOf a_scopeOf a_lowBound a_highBound a_tupleCount a_coef a_tuples a_newTuple a_solution a_todo a_mark a_work a_trailVar a_trailMask a_queue a_inVar a_inMask out a_matchOf a_owner a_reachedFrom a_bfs a_reach a_termCoef a_termMin a_span a_forward a_backward) :
    ∀ (d i : Nat) (out : Nat → Int32), i + d = k → (∀ j a, j < i → (bt (out j) a = true ↔ bt (out0 j) a = true ∨ a = tp t j)) → (∀ j, i ≤ j → out j = out0 j) →
      wX_filterTable_88 post J x1 (nI t) (nI (c * 40 + t * 4)) f_varCount f_valueCount f_maxConstraints f_maxLevel f_allValues f_allVars f_status f_currentLevel f_constraintCount f_searchState f_searchDirection f_foundCount f_depth f_trailSize f_queueHead f_queueSize f_pendingMask (nI k) (d + 1) (nI i) a_dom a_savedDom a_savedCount a_savedStatus a_kindOf a_scopeOf a_lowBound a_highBound a_tupleCount a_coef a_tuples a_newTuple a_solution a_todo a_mark a_work a_trailVar a_trailMask a_queue a_inVar a_inMask out a_matchOf a_owner a_reachedFrom a_bfs a_reach a_termCoef a_termMin a_span a_forward a_backward := by
  intro d
  induction d with
  | zero =>
    intro i out hi g1 g2
    obtain rfl : i = k := by omega
    exact br_t (nI_le (Nat.le_refl _) (by omega)) (nm_r (e' := nI (t + 1)) (nI_1 _) (hJ out g1))
  | succ d ih =>
    intro i out hi g1 g2
    have q := htp t i ht (by omega)
    refine br_f (nI_ge (by omega) (by omega)) (br_f (nI_ge (b := 4) (by omega) (by decide)) ⟨vp_in_nI (by omega) (by omega), ?_⟩)
    rw [ix_t, nI_clamp (by omega), nI_clamp (by omega), q.2]
    refine ⟨vp_in_nI (by omega) (by omega), vp_in_nI (by omega) (by omega), nm_e (nm_r (e' := nI (i + 1)) (nI_1 _) (ih (i + 1) _ (by omega) (fun j a hj => ?_) (fun j hj => ?_)))⟩
    · by_cases y : j = i
      · subst y
        rw [pk_us, b_or, gb_shl1 q.1, Bool.or_eq_true, decide_eq_true_eq, g2 j (Nat.le_refl _)]
      · rw [pk_un y]; exact g1 j a (by omega)
    · rw [pk_un (by omega)]; exact g2 j (by omega)
theorem xt_33 {post : SX → Prop} {J : Int32 →  (Nat → Int32) → (Nat → Int32) → (Nat → Int32) → (Nat → Int32) → (Nat → Int32) → (Nat → Int32) → (Nat → Int32) → (Nat → Int32) → (Nat → Int32) → (Nat → Int32) → (Nat → Int32) → (Nat → Int32) → (Nat → Int32) → (Nat → Int32) → (Nat → Int32) → (Nat → Int32) → (Nat → Int32) → (Nat → Int32) → (Nat → Int32) → (Nat → Int32) → (Nat → Int32) → (Nat → Int32) → (Nat → Int32) → (Nat → Int32) → (Nat → Int32) → (Nat → Int32) → (Nat → Int32) → (Nat → Int32) → (Nat → Int32) → (Nat → Int32) → (Nat → Int32) → (Nat → Int32) →  Prop} {t : Nat} {x1 : Int32} {out0 : Nat → Int32} (hk : k ≤ 4) (hc : c < 6) (hT : T ≤ 10) (htp : ∀ t i, t < T → i < k → tp t i < 32 ∧ a_tuples (c * 40 + t * 4 + i) = nI (tp t i)) (ht : t < T)
    (h1 : (∀ i, i < k → bt (a_inMask i) (tp t i) = true) → ∀ out : Nat → Int32, (∀ i a, i < k → (bt (out i) a = true ↔ bt (out0 i) a = true ∨ a = tp t i)) → J (nI (t + 1)) a_dom a_savedDom a_savedCount a_savedStatus a_kindOf a_scopeOf a_lowBound a_highBound a_tupleCount a_coef a_tuples a_newTuple a_solution a_todo a_mark a_work a_trailVar a_trailMask a_queue a_inVar a_inMask out a_matchOf a_owner a_reachedFrom a_bfs a_reach a_termCoef a_termMin a_span a_forward a_backward)
    (h0 : (∃ i, i < k ∧ bt (a_inMask i) (tp t i) = false) → J (nI (t + 1)) a_dom a_savedDom a_savedCount a_savedStatus a_kindOf a_scopeOf a_lowBound a_highBound a_tupleCount a_coef a_tuples a_newTuple a_solution a_todo a_mark a_work a_trailVar a_trailMask a_queue a_inVar a_inMask out0 a_matchOf a_owner a_reachedFrom a_bfs a_reach a_termCoef a_termMin a_span a_forward a_backward) :
    ∀ (d i : Nat) (al : Int32), i + d = k → (al = 0 ↔ ∃ j, j < i ∧ bt (a_inMask j) (tp t j) = false) →
      wX_filterTable_33 post J x1 (nI t) (nI (c * 40 + t * 4)) f_varCount f_valueCount f_maxConstraints f_maxLevel f_allValues f_allVars f_status f_currentLevel f_constraintCount f_searchState f_searchDirection f_foundCount f_depth f_trailSize f_queueHead f_queueSize f_pendingMask (nI k) a_dom a_savedDom a_savedCount a_savedStatus a_kindOf a_scopeOf a_lowBound a_highBound a_tupleCount a_coef a_tuples a_newTuple a_solution a_todo a_mark a_work a_trailVar a_trailMask a_queue a_inVar a_inMask out0 a_matchOf a_owner a_reachedFrom a_bfs a_reach a_termCoef a_termMin a_span a_forward a_backward (d + 1) al (nI i) := by
  intro d
  induction d with
  | zero =>
    intro i al hi g
    obtain rfl : i = k := by omega
    refine br_t (nI_le (Nat.le_refl _) (by omega)) ?_
    by_cases y : al = 0
    · exact br_t y (nm_r (e' := nI (t + 1)) (nI_1 _) (h0 (g.mp y)))
    · refine br_f y (Exists.intro (i + 1) (xt_88 (out0 := out0) hk hc hT htp ht (h1 (fun j hj => ?_)) i 0 out0 (by omega) (fun j a hj => absurd hj (by omega)) (fun _ _ => rfl)))
      cases hb : bt (a_inMask j) (tp t j) with
      | true => rfl
      | false => exact absurd (g.mpr ⟨j, hj, hb⟩) y
  | succ d ih =>
    intro i al hi g
    have q := htp t i ht (by omega)
    refine br_f (nI_ge (by omega) (by omega)) (br_f (nI_ge (b := 4) (by omega) (by decide)) ⟨vp_in_nI (by omega) (by omega), ?_⟩)
    rw [ix_t, nI_clamp (by omega), nI_clamp (by omega), q.2]
    refine ⟨vp_in_nI (by omega) (by omega), xh_hb q.1 (fun hf => nm_r (e' := nI (i + 1)) (nI_1 _) (ih (i + 1) 0 (by omega) ?_)) (fun htr => nm_r (e' := nI (i + 1)) (nI_1 _) (ih (i + 1) al (by omega) ?_))⟩
    · exact ⟨fun _ => ⟨i, by omega, hf⟩, fun _ => rfl⟩
    · rw [g]
      constructor
      · rintro ⟨j, h2, h3⟩; exact ⟨j, by omega, h3⟩
      · rintro ⟨j, h2, h3⟩
        have : j ≠ i := fun e => by rw [e, htr] at h3; cases h3
        exact ⟨j, by omega, h3⟩
theorem xt_2 {post : SX → Prop} (hk : k ≤ 4) (hc : c < 6) (hT : T ≤ 10) (htp : ∀ t i, t < T → i < k → tp t i < 32 ∧ a_tuples (c * 40 + t * 4 + i) = nI (tp t i)) (htc : a_tupleCount c = nI T)
    (hP : ∀ out : Nat → Int32, (∀ i a, i < k → (bt (out i) a = true ↔ ∃ t, t < T ∧ (∀ j, j < k → bt (a_inMask j) (tp t j) = true) ∧ tp t i = a)) → post (f_varCount, f_valueCount, f_maxConstraints, f_maxLevel, f_allValues, f_allVars, f_status, f_currentLevel, f_constraintCount, f_searchState, f_searchDirection, f_foundCount, f_depth, f_trailSize, f_queueHead, f_queueSize, f_pendingMask, nI k, a_dom, a_savedDom, a_savedCount, a_savedStatus, a_kindOf, a_scopeOf, a_lowBound, a_highBound, a_tupleCount, a_coef, a_tuples, a_newTuple, a_solution, a_todo, a_mark, a_work, a_trailVar, a_trailMask, a_queue, a_inVar, a_inMask, out, a_matchOf, a_owner, a_reachedFrom, a_bfs, a_reach, a_termCoef, a_termMin, a_span, a_forward, a_backward)) :
    ∀ (d t : Nat) (out : Nat → Int32), t + d = T → (∀ i a, i < k → (bt (out i) a = true ↔ ∃ t', t' < t ∧ (∀ j, j < k → bt (a_inMask j) (tp t' j) = true) ∧ tp t' i = a)) →
      wX_filterTable_2 post (nI c) f_varCount f_valueCount f_maxConstraints f_maxLevel f_allValues f_allVars f_status f_currentLevel f_constraintCount f_searchState f_searchDirection f_foundCount f_depth f_trailSize f_queueHead f_queueSize f_pendingMask (nI k) (d + 1) (nI t) a_dom a_savedDom a_savedCount a_savedStatus a_kindOf a_scopeOf a_lowBound a_highBound a_tupleCount a_coef a_tuples a_newTuple a_solution a_todo a_mark a_work a_trailVar a_trailMask a_queue a_inVar a_inMask out a_matchOf a_owner a_reachedFrom a_bfs a_reach a_termCoef a_termMin a_span a_forward a_backward := by
  intro d
  induction d with
  | zero =>
    intro t out ht g
    obtain rfl : t = T := by omega
    refine And.intro (vp_in_nI (by omega) (by omega)) ?_
    rw [nI_clamp (by omega), htc]
    exact br_t (nI_le (Nat.le_refl _) (by omega)) (hP out g)
  | succ d ih =>
    intro t out ht g
    refine And.intro (vp_in_nI (by omega) (by omega)) ?_
    rw [nI_clamp (by omega), htc]
    refine br_f (nI_ge (by omega) (by omega)) (br_f (nI_ge (b := 10) (by omega) (by decide)) (nm_r (e' := nI (c * 40 + t * 4)) ?_ (Exists.intro (k + 1) (xt_33 hk hc hT htp (by omega) (fun hal out' ho => ih (t + 1) out' (by omega) (fun i a hi => ?_)) (fun hal => ih (t + 1) out (by omega) (fun i a hi => ?_)) k 0 1 (by omega) ?_))))
    · show nI c * nI 40 + nI t * nI 4 = _
      rw [pk_mul, pk_mul, nI_add]
    · rw [ho i a hi, g i a hi]
      constructor
      · rintro (⟨t', h1, h2⟩ | h)
        · exact ⟨t', by omega, h2⟩
        · exact ⟨t, by omega, hal, h.symm⟩
      · rintro ⟨t', h1, h2⟩
        by_cases y : t' = t
        · subst y; exact Or.inr h2.2.symm
        · exact Or.inl ⟨t', by omega, h2⟩
    · rw [g i a hi]
      constructor
      · rintro ⟨t', h1, h2⟩; exact ⟨t', by omega, h2⟩
      · rintro ⟨t', h1, h2⟩
        have : t' ≠ t := by
          intro e
          obtain ⟨j, hj, hjf⟩ := hal
          have := h2.1 j hj
          rw [e, hjf] at this; cases this
        exact ⟨t', by omega, h2⟩
    · exact ⟨fun h => absurd h (by decide), fun ⟨j, h, _⟩ => absurd h (by omega)⟩
theorem xt_filter {post : SX → Prop} {a_outMask : Nat → Int32} (hk : k ≤ 4) (hc : c < 6) (hT : T ≤ 10) (htp : ∀ t i, t < T → i < k → tp t i < 32 ∧ a_tuples (c * 40 + t * 4 + i) = nI (tp t i)) (htc : a_tupleCount c = nI T) (ho : ∀ i, i < k → a_outMask i = 0)
    (hP : ∀ out : Nat → Int32, (∀ i a, i < k → (bt (out i) a = true ↔ ∃ t, t < T ∧ (∀ j, j < k → bt (a_inMask j) (tp t j) = true) ∧ tp t i = a)) → post (f_varCount, f_valueCount, f_maxConstraints, f_maxLevel, f_allValues, f_allVars, f_status, f_currentLevel, f_constraintCount, f_searchState, f_searchDirection, f_foundCount, f_depth, f_trailSize, f_queueHead, f_queueSize, f_pendingMask, nI k, a_dom, a_savedDom, a_savedCount, a_savedStatus, a_kindOf, a_scopeOf, a_lowBound, a_highBound, a_tupleCount, a_coef, a_tuples, a_newTuple, a_solution, a_todo, a_mark, a_work, a_trailVar, a_trailMask, a_queue, a_inVar, a_inMask, out, a_matchOf, a_owner, a_reachedFrom, a_bfs, a_reach, a_termCoef, a_termMin, a_span, a_forward, a_backward)) :
    wpX_filterTable post (f_varCount, f_valueCount, f_maxConstraints, f_maxLevel, f_allValues, f_allVars, f_status, f_currentLevel, f_constraintCount, f_searchState, f_searchDirection, f_foundCount, f_depth, f_trailSize, f_queueHead, f_queueSize, f_pendingMask, nI k, a_dom, a_savedDom, a_savedCount, a_savedStatus, a_kindOf, a_scopeOf, a_lowBound, a_highBound, a_tupleCount, a_coef, a_tuples, a_newTuple, a_solution, a_todo, a_mark, a_work, a_trailVar, a_trailMask, a_queue, a_inVar, a_inMask, a_outMask, a_matchOf, a_owner, a_reachedFrom, a_bfs, a_reach, a_termCoef, a_termMin, a_span, a_forward, a_backward) (nI c) :=
  Exists.intro (T + 1) (xt_2 hk hc hT htp htc hP T 0 a_outMask (by omega) (fun i a hi => by rw [ho i hi, b_0]; exact ⟨fun h => absurd h (by decide), fun ⟨t, h, _⟩ => absurd h (by omega)⟩))
end
section
variable {f_maxConstraints f_maxLevel f_allValues f_allVars f_status f_currentLevel f_constraintCount f_searchState f_searchDirection f_foundCount f_depth f_trailSize f_queueHead f_queueSize f_pendingMask : Int32} {a_dom a_savedDom a_savedCount a_savedStatus a_kindOf a_scopeOf a_lowBound a_highBound a_tupleCount a_coef a_tuples a_newTuple a_solution a_todo a_mark a_work a_trailVar a_trailMask a_queue : Nat → Int32} {n V c : Nat} {D tu : Nat → Int32} {x2 : Int32}
/-- what computeSupports leaves in the scratch arrays -/
def csR (n : Nat) (s : Int32) (S : Nat → Nat → Prop) (s1 s3 : Nat → Int32) : Prop :=
  ∀ x, x < n → bt s x = true → s1 (pcN s x) = nI x ∧ ∀ a, bt (s3 (pcN s x)) a = true ↔ S x a
theorem xc_end {pA pB pC : SX → Prop} (hn : n ≤ 6) (hV : V ≤ 6) (hc : c < 6) (hok : COk n V a_kindOf a_scopeOf a_tupleCount a_coef a_tuples tu c) (hD : ∀ x, x < n → Msk V (D x) ∧ ∃ a, bt (D x) a = true) {s1 s2 s3 s4 s5 s6 s7 s8 s9 s10 s11 s12 s13 : Nat → Int32}
    (h1 : ∀ x, x < n → bt (a_scopeOf c) x = true → s1 (pcN (a_scopeOf c) x) = nI x ∧ s2 (pcN (a_scopeOf c) x) = D x ∧ s3 (pcN (a_scopeOf c) x) = 0)
    (hP : ∀ s1 s2 s3 s4 s5 s6 s7 s8 s9 s10 s11 s12 s13 : Nat → Int32, csR n (a_scopeOf c) (Sup n a_scopeOf (Hd n a_kindOf a_scopeOf a_lowBound a_highBound a_tupleCount a_coef tu) D c) s1 s3 → pA (nI n, nI V, f_maxConstraints, f_maxLevel, f_allValues, f_allVars, f_status, f_currentLevel, f_constraintCount, f_searchState, f_searchDirection, f_foundCount, f_depth, f_trailSize, f_queueHead, f_queueSize, f_pendingMask, nI (pcN (a_scopeOf c) n), a_dom, a_savedDom, a_savedCount, a_savedStatus, a_kindOf, a_scopeOf, a_lowBound, a_highBound, a_tupleCount, a_coef, a_tuples, a_newTuple, a_solution, a_todo, a_mark, a_work, a_trailVar, a_trailMask, a_queue, s1, s2, s3, s4, s5, s6, s7, s8, s9, s10, s11, s12, s13) ∧ pB (nI n, nI V, f_maxConstraints, f_maxLevel, f_allValues, f_allVars, f_status, f_currentLevel, f_constraintCount, f_searchState, f_searchDirection, f_foundCount, f_depth, f_trailSize, f_queueHead, f_queueSize, f_pendingMask, nI (pcN (a_scopeOf c) n), a_dom, a_savedDom, a_savedCount, a_savedStatus, a_kindOf, a_scopeOf, a_lowBound, a_highBound, a_tupleCount, a_coef, a_tuples, a_newTuple, a_solution, a_todo, a_mark, a_work, a_trailVar, a_trailMask, a_queue, s1, s2, s3, s4, s5, s6, s7, s8, s9, s10, s11, s12, s13) ∧ pC (nI n, nI V, f_maxConstraints, f_maxLevel, f_allValues, f_allVars, f_status, f_currentLevel, f_constraintCount, f_searchState, f_searchDirection, f_foundCount, f_depth, f_trailSize, f_queueHead, f_queueSize, f_pendingMask, nI (pcN (a_scopeOf c) n), a_dom, a_savedDom, a_savedCount, a_savedStatus, a_kindOf, a_scopeOf, a_lowBound, a_highBound, a_tupleCount, a_coef, a_tuples, a_newTuple, a_solution, a_todo, a_mark, a_work, a_trailVar, a_trailMask, a_queue, s1, s2, s3, s4, s5, s6, s7, s8, s9, s10, s11, s12, s13)) :
    vp_in (nI c) 7 ∧ (((a_kindOf (nI c).toNatClampNeg) = 1 → (wpX_filterAllDifferent pA (nI n, nI V, f_maxConstraints, f_maxLevel, f_allValues, f_allVars, f_status, f_currentLevel, f_constraintCount, f_searchState, f_searchDirection, f_foundCount, f_depth, f_trailSize, f_queueHead, f_queueSize, f_pendingMask, nI (pcN (a_scopeOf c) n), a_dom, a_savedDom, a_savedCount, a_savedStatus, a_kindOf, a_scopeOf, a_lowBound, a_highBound, a_tupleCount, a_coef, a_tuples, a_newTuple, a_solution, a_todo, a_mark, a_work, a_trailVar, a_trailMask, a_queue, s1, s2, s3, s4, s5, s6, s7, s8, s9, s10, s11, s12, s13))) ∧ (¬ (a_kindOf (nI c).toNatClampNeg) = 1 → (vp_in (nI c) 7 ∧ ((((a_kindOf (nI c).toNatClampNeg) = 2 → (wpX_filterSum pB (nI n, nI V, f_maxConstraints, f_maxLevel, f_allValues, f_allVars, f_status, f_currentLevel, f_constraintCount, f_searchState, f_searchDirection, f_foundCount, f_depth, f_trailSize, f_queueHead, f_queueSize, f_pendingMask, nI (pcN (a_scopeOf c) n), a_dom, a_savedDom, a_savedCount, a_savedStatus, a_kindOf, a_scopeOf, a_lowBound, a_highBound, a_tupleCount, a_coef, a_tuples, a_newTuple, a_solution, a_todo, a_mark, a_work, a_trailVar, a_trailMask, a_queue, s1, s2, s3, s4, s5, s6, s7, s8, s9, s10, s11, s12, s13) (nI c))) ∧ (¬ (a_kindOf (nI c).toNatClampNeg) = 2 → (wpX_filterTable pC (nI n, nI V, f_maxConstraints, f_maxLevel, f_allValues, f_allVars, f_status, f_currentLevel, f_constraintCount, f_searchState, f_searchDirection, f_foundCount, f_depth, f_trailSize, f_queueHead, f_queueSize, f_pendingMask, nI (pcN (a_scopeOf c) n), a_dom, a_savedDom, a_savedCount, a_savedStatus, a_kindOf, a_scopeOf, a_lowBound, a_highBound, a_tupleCount, a_coef, a_tuples, a_newTuple, a_solution, a_todo, a_mark, a_work, a_trailVar, a_trailMask, a_queue, s1, s2, s3, s4, s5, s6, s7, s8, s9, s10, s11, s12, s13) (nI c)))))))) := by
  have hcc : (nI c).toNatClampNeg = c := nI_clamp (by omega)
  have hin : vp_in (nI c) 7 := vp_in_nI (by omega) (by omega)
  obtain ⟨o1, o2, o3, o4, o5, o6, o7⟩ := hok
  have hpc := pl_pc hn o2
  have hsj : ∀ i, i < pcN (a_scopeOf c) n → ∃ x, x < n ∧ bt (a_scopeOf c) x = true ∧ pcN (a_scopeOf c) x = i := fun i hi => pc_surj hi
  have hmk : ∀ i, i < pcN (a_scopeOf c) n → Msk V (s2 i) ∧ ∃ a, bt (s2 i) a = true := by
    intro i hi
    obtain ⟨x, g1, g2, g3⟩ := hsj i hi
    have := (h1 x g1 g2).2.1
    rw [g3] at this
    rw [this]; exact hD x g1
  have hz : ∀ i, i < pcN (a_scopeOf c) n → s3 i = 0 := by
    intro i hi
    obtain ⟨x, g1, g2, g3⟩ := hsj i hi
    rw [← g3]; exact (h1 x g1 g2).2.2
  rw [hcc]
  refine ⟨hin, ?_⟩
  rcases o1 with k1 | k2 | k3
  · refine br_t k1 (xa_filter (by omega) hV (fun i hi => (hmk i hi).1) hz (fun mo ow rf bq rc out hout => (hP s1 s2 out mo ow rf bq rc s9 s10 s11 s12 s13 (fun x hx hb => ⟨(h1 x hx hb).1, fun a => ?_⟩)).1))
    rw [hout _ a (pc_lt hb hx)]
    exact ad_link k1 (fun y hy hyb => (h1 y hy hyb).2.1) hx hb
  · have hne : ¬ a_kindOf c = 1 := fun e => absurd (k2.symm.trans e) (by decide)
    have hex : ∀ x, ∃ zz : Int, x < n → -3 ≤ zz ∧ zz ≤ 3 ∧ a_coef (c * 6 + x) = iZ zz ∧ (bt (a_scopeOf c) x = false → zz = 0) := by
      intro x
      by_cases hx : x < n
      · obtain ⟨zz, g⟩ := o6 k2 x (by omega); exact ⟨zz, fun _ => g⟩
      · exact ⟨0, fun h => absurd h hx⟩
    obtain ⟨zx, hzx⟩ := Classical.skolem.mp hex
    have hiv : ∀ i, i < pcN (a_scopeOf c) n → ∃ x, x < n ∧ bt (a_scopeOf c) x = true ∧ pcN (a_scopeOf c) x = i ∧ s1 i = nI x ∧ zx x = zx (s1 i).toNatClampNeg := by
      intro i hi
      obtain ⟨x, g1, g2, g3⟩ := hsj i hi
      have e := (h1 x g1 g2).1
      rw [g3] at e
      exact ⟨x, g1, g2, g3, e, by rw [e, nI_clamp (by omega)]⟩
    have hC : smC (pcN (a_scopeOf c) n) V (fun i => zx (s1 i).toNatClampNeg) s2 := by
      refine ⟨by omega, hV, fun i hi => ?_, hmk⟩
      obtain ⟨x, g1, g2, g3, g4, g5⟩ := hiv i hi
      show -3 ≤ zx (s1 i).toNatClampNeg ∧ zx (s1 i).toNatClampNeg ≤ 3
      rw [← g5]; exact ⟨(hzx x g1).1, (hzx x g1).2.1⟩
    refine br_f hne ⟨hin, br_t k2 (xs_filter hC hc (by omega) (fun i hi => ?_) hz (fun tc tm sp fw bw om hom => (hP s1 s2 om s4 s5 s6 s7 s8 tc tm sp fw bw (fun x hx hb => ⟨(h1 x hx hb).1, fun a => ?_⟩)).2.1))⟩
    · obtain ⟨x, g1, g2, g3, g4, g5⟩ := hiv i hi
      refine ⟨x, by omega, g4, ?_⟩
      show a_coef (c * 6 + x) = iZ (zx (s1 i).toNatClampNeg)
      rw [← g5]; exact (hzx x g1).2.2.1
    · rw [hom _ a (pc_lt hb hx)]
      refine sm_link (V := V) (zx := zx) k2 (fun y hy hyb => (h1 y hy hyb).2.1) (fun y hy hyb => ?_) (fun y hy => ⟨(hzx y hy).2.2.1, (hzx y hy).2.2.2⟩) hC hx hb
      show zx (s1 (pcN (a_scopeOf c) y)).toNatClampNeg = zx y
      rw [(h1 y hy hyb).1, nI_clamp (by omega)]
  · have hne : ¬ a_kindOf c = 1 := fun e => absurd (k3.symm.trans e) (by decide)
    have hne2 : ¬ a_kindOf c = 2 := fun e => absurd (k3.symm.trans e) (by decide)
    obtain ⟨T, hT, htc, htt⟩ := o7
    have htp : ∀ t i, t < T → i < pcN (a_scopeOf c) n → (a_tuples (c * 40 + t * 4 + i)).toNatClampNeg < 32 ∧ a_tuples (c * 40 + t * 4 + i) = nI (a_tuples (c * 40 + t * 4 + i)).toNatClampNeg := by
      intro t i ht hi
      obtain ⟨x, g1, g2, g3⟩ := hsj i hi
      obtain ⟨a, ha, _, e⟩ := htt t x ht g1 g2
      rw [g3] at e
      rw [e, nI_clamp (by omega)]
      exact ⟨by omega, rfl⟩
    refine br_f hne ⟨hin, br_f hne2 (xt_filter (T := T) (tp := fun t i => (a_tuples (c * 40 + t * 4 + i)).toNatClampNeg) (by have := o5.1 k3; omega) hc hT htp htc hz (fun out hout => (hP s1 s2 out s4 s5 s6 s7 s8 s9 s10 s11 s12 s13 (fun x hx hb => ⟨(h1 x hx hb).1, fun a => ?_⟩)).2.2))⟩
    rw [hout _ a (pc_lt hb hx)]
    refine tb_link (tp := fun t i => (a_tuples (c * 40 + t * 4 + i)).toNatClampNeg) k3 (fun y hy hyb => (h1 y hy hyb).2.1) hT htc (fun t y ht hy hyb => ?_) hx hb
    obtain ⟨b, hb', e1, e2⟩ := htt t y ht hy hyb
    show (a_tuples (c * 40 + t * 4 + pcN (a_scopeOf c) y)).toNatClampNeg < 32 ∧ tu ((c * 10 + t) * 6 + y) = nI (a_tuples (c * 40 + t * 4 + pcN (a_scopeOf c) y)).toNatClampNeg
    rw [e2, nI_clamp (by omega)]
    exact ⟨by omega, e1⟩
theorem xc_7 {post : SX → Prop} (hn : n ≤ 6) (hV : V ≤ 6) (hc : c < 6) (hok : COk n V a_kindOf a_scopeOf a_tupleCount a_coef a_tuples tu c) (hD : ∀ x, x < n → Msk V (D x) ∧ ∃ a, bt (D x) a = true) (hx2 : (x2 = 0 ∧ D = a_dom) ∨ (¬ x2 = 0 ∧ D = a_work))
    (hP : ∀ s1 s2 s3 s4 s5 s6 s7 s8 s9 s10 s11 s12 s13 : Nat → Int32, csR n (a_scopeOf c) (Sup n a_scopeOf (Hd n a_kindOf a_scopeOf a_lowBound a_highBound a_tupleCount a_coef tu) D c) s1 s3 → post (nI n, nI V, f_maxConstraints, f_maxLevel, f_allValues, f_allVars, f_status, f_currentLevel, f_constraintCount, f_searchState, f_searchDirection, f_foundCount, f_depth, f_trailSize, f_queueHead, f_queueSize, f_pendingMask, nI (pcN (a_scopeOf c) n), a_dom, a_savedDom, a_savedCount, a_savedStatus, a_kindOf, a_scopeOf, a_lowBound, a_highBound, a_tupleCount, a_coef, a_tuples, a_newTuple, a_solution, a_todo, a_mark, a_work, a_trailVar, a_trailMask, a_queue, s1, s2, s3, s4, s5, s6, s7, s8, s9, s10, s11, s12, s13)) {s4 s5 s6 s7 s8 s9 s10 s11 s12 s13 : Nat → Int32} :
    ∀ (d x : Nat) (s1 s2 s3 : Nat → Int32), x + d = n → (∀ y, y < x → bt (a_scopeOf c) y = true → s1 (pcN (a_scopeOf c) y) = nI y ∧ s2 (pcN (a_scopeOf c) y) = D y ∧ s3 (pcN (a_scopeOf c) y) = 0) →
      wX_computeSupports_7 post (nI c) x2 (nI n) (nI V) f_maxConstraints f_maxLevel f_allValues f_allVars f_status f_currentLevel f_constraintCount f_searchState f_searchDirection f_foundCount f_depth f_trailSize f_queueHead f_queueSize f_pendingMask (d + 1) (nI x) (nI (pcN (a_scopeOf c) x)) a_dom a_savedDom a_savedCount a_savedStatus a_kindOf a_scopeOf a_lowBound a_highBound a_tupleCount a_coef a_tuples a_newTuple a_solution a_todo a_mark a_work a_trailVar a_trailMask a_queue s1 s2 s3 s4 s5 s6 s7 s8 s9 s10 s11 s12 s13 := by
  intro d
  have hcc : (nI c).toNatClampNeg = c := nI_clamp (by omega)
  have hin : vp_in (nI c) 7 := vp_in_nI (by omega) (by omega)
  induction d with
  | zero =>
    intro x s1 s2 s3 hx g
    obtain rfl : x = n := by omega
    refine br_t (nI_le (Nat.le_refl _) (by omega)) ?_
    exact xc_end hn hV hc hok hD g (fun s1 s2 s3 s4 s5 s6 s7 s8 s9 s10 s11 s12 s13 h => ⟨hP s1 s2 s3 s4 s5 s6 s7 s8 s9 s10 s11 s12 s13 h, hP s1 s2 s3 s4 s5 s6 s7 s8 s9 s10 s11 s12 s13 h, hP s1 s2 s3 s4 s5 s6 s7 s8 s9 s10 s11 s12 s13 h⟩)
  | succ d ih =>
    intro x s1 s2 s3 hx g
    refine br_f (nI_ge (by omega) (by omega)) ⟨hin, ?_⟩
    rw [hcc]
    refine xh_hb (by omega) (fun hf => nm_r (e' := nI (x + 1)) (nI_1 _) ?_) (fun ht => ?_)
    · have := ih (x + 1) s1 s2 s3 (by omega) (fun y hy hyb => g y (by
        have : y ≠ x := fun e => by rw [e, hf] at hyb; cases hyb
        omega) hyb)
      rw [pc_s0 hf] at this
      exact this
    · have h5 : pcN (a_scopeOf c) x < 5 := by
        have a := pc_lt ht (show x < 6 by omega)
        have b := hok.2.2.2.1
        omega
      have fin : ∀ s1' s2' s3' : Nat → Int32, s1' = upd s1 (pcN (a_scopeOf c) x) (nI x) → s2' = upd s2 (pcN (a_scopeOf c) x) (D x) → s3' = upd s3 (pcN (a_scopeOf c) x) 0 → wX_computeSupports_7 post (nI c) x2 (nI n) (nI V) f_maxConstraints f_maxLevel f_allValues f_allVars f_status f_currentLevel f_constraintCount f_searchState f_searchDirection f_foundCount f_depth f_trailSize f_queueHead f_queueSize f_pendingMask (d + 1) (nI (x + 1)) (nI (pcN (a_scopeOf c) x + 1)) a_dom a_savedDom a_savedCount a_savedStatus a_kindOf a_scopeOf a_lowBound a_highBound a_tupleCount a_coef a_tuples a_newTuple a_solution a_todo a_mark a_work a_trailVar a_trailMask a_queue s1' s2' s3' s4 s5 s6 s7 s8 s9 s10 s11 s12 s13 := by
        intro s1' s2' s3' e1 e2 e3
        rw [e1, e2, e3]
        have := ih (x + 1) (upd s1 (pcN (a_scopeOf c) x) (nI x)) (upd s2 (pcN (a_scopeOf c) x) (D x)) (upd s3 (pcN (a_scopeOf c) x) 0) (by omega) (fun y hy hyb => by
          by_cases z : y = x
          · subst z; exact ⟨pk_us, pk_us, pk_us⟩
          · have hne : pcN (a_scopeOf c) y ≠ pcN (a_scopeOf c) x := fun e => z (pc_inj hyb ht e)
            rw [pk_un hne, pk_un hne, pk_un hne]
            exact g y (by omega) hyb)
        rw [pc_s1 ht] at this
        exact this
      have hcp : (nI (pcN (a_scopeOf c) x)).toNatClampNeg = pcN (a_scopeOf c) x := nI_clamp (by omega)
      have hcx : (nI x).toNatClampNeg = x := nI_clamp (by omega)
      refine br_f (nI_ge (b := 5) h5 (by decide)) ⟨vp_in_nI (by omega) (by omega), nm_r (e' := upd s1 (pcN (a_scopeOf c) x) (nI x)) (by rw [hcp]) ?_⟩
      rcases hx2 with ⟨e, eD⟩ | ⟨e, eD⟩
      · refine br_t e ⟨vp_in_nI (by omega) (by omega), And.intro (vp_in_nI (by omega) (by omega)) (nm_e (And.intro (vp_in_nI (by omega) (by omega)) (nm_e (nm_r (e' := nI (pcN (a_scopeOf c) x + 1)) (nI_1 _) (nm_r (e' := nI (x + 1)) (nI_1 _) (fin _ _ _ rfl ?_ ?_))))))⟩
        · rw [hcp, hcx, eD]
        · rw [hcp]
      · refine br_f e ⟨vp_in_nI (by omega) (by omega), And.intro (vp_in_nI (by omega) (by omega)) (nm_e (And.intro (vp_in_nI (by omega) (by omega)) (nm_e (nm_r (e' := nI (pcN (a_scopeOf c) x + 1)) (nI_1 _) (nm_r (e' := nI (x + 1)) (nI_1 _) (fin _ _ _ rfl ?_ ?_))))))⟩
        · rw [hcp, hcx, eD]
        · rw [hcp]
theorem xc_sup {post : SX → Prop} {ss : Int32} {s1 s2 s3 s4 s5 s6 s7 s8 s9 s10 s11 s12 s13 : Nat → Int32} (hn : n ≤ 6) (hV : V ≤ 6) (hc : c < 6) (hok : COk n V a_kindOf a_scopeOf a_tupleCount a_coef a_tuples tu c) (hD : ∀ x, x < n → Msk V (D x) ∧ ∃ a, bt (D x) a = true) (hx2 : (x2 = 0 ∧ D = a_dom) ∨ (¬ x2 = 0 ∧ D = a_work))
    (hP : ∀ s1 s2 s3 s4 s5 s6 s7 s8 s9 s10 s11 s12 s13 : Nat → Int32, csR n (a_scopeOf c) (Sup n a_scopeOf (Hd n a_kindOf a_scopeOf a_lowBound a_highBound a_tupleCount a_coef tu) D c) s1 s3 → post (nI n, nI V, f_maxConstraints, f_maxLevel, f_allValues, f_allVars, f_status, f_currentLevel, f_constraintCount, f_searchState, f_searchDirection, f_foundCount, f_depth, f_trailSize, f_queueHead, f_queueSize, f_pendingMask, nI (pcN (a_scopeOf c) n), a_dom, a_savedDom, a_savedCount, a_savedStatus, a_kindOf, a_scopeOf, a_lowBound, a_highBound, a_tupleCount, a_coef, a_tuples, a_newTuple, a_solution, a_todo, a_mark, a_work, a_trailVar, a_trailMask, a_queue, s1, s2, s3, s4, s5, s6, s7, s8, s9, s10, s11, s12, s13)) :
    wpX_computeSupports post (nI n, nI V, f_maxConstraints, f_maxLevel, f_allValues, f_allVars, f_status, f_currentLevel, f_constraintCount, f_searchState, f_searchDirection, f_foundCount, f_depth, f_trailSize, f_queueHead, f_queueSize, f_pendingMask, ss, a_dom, a_savedDom, a_savedCount, a_savedStatus, a_kindOf, a_scopeOf, a_lowBound, a_highBound, a_tupleCount, a_coef, a_tuples, a_newTuple, a_solution, a_todo, a_mark, a_work, a_trailVar, a_trailMask, a_queue, s1, s2, s3, s4, s5, s6, s7, s8, s9, s10, s11, s12, s13) (nI c) x2 :=
  Exists.intro (n + 1) (xc_7 hn hV hc hok hD hx2 hP n 0 s1 s2 s3 (by omega) (fun y hy => absurd hy (by omega)))
end
end
section
/-! the reference: codes, constraints, supports -/
section
/-- the code of the values of the variables in s -/
def enc (s : Int32) (val : Nat → Nat) : Nat → Nat
  | 0 => 0
  | x + 1 => if bt s x = true then enc s val x * 6 + val x else enc s val x
theorem en_s1 {s : Int32} {val : Nat → Nat} {x : Nat} (h : bt s x = true) : enc s val (x + 1) = enc s val x * 6 + val x := by simp only [enc, h, if_true]
theorem en_s0 {s : Int32} {val : Nat → Nat} {x : Nat} (h : bt s x = false) : enc s val (x + 1) = enc s val x := by simp [enc, h]
theorem en_lt {s : Int32} {val : Nat → Nat} : ∀ {n : Nat}, (∀ x, x < n → bt s x = true → val x < 6) → enc s val n < 6 ^ pcN s n
  | 0, _ => by simp [enc, pcN]
  | n + 1, h => by
    have a := en_lt (n := n) (fun x hx => h x (by omega))
    cases hb : bt s n with
    | false => rw [en_s0 hb, pc_s0 hb]; exact a
    | true =>
      have b := h n (by omega) hb
      rw [en_s1 hb, pc_s1 hb, Nat.pow_succ]; omega
theorem en_ex {s : Int32} : ∀ {n code : Nat}, code < 6 ^ pcN s n → ∃ val : Nat → Nat, (∀ x, val x < 6) ∧ enc s val n = code
  | 0, code, h => by
    simp only [pcN, Nat.pow_zero] at h
    exact ⟨fun _ => 0, fun _ => (by decide : 0 < 6), by simp only [enc]; omega⟩
  | n + 1, code, h => by
    cases hb : bt s n with
    | false =>
      rw [pc_s0 hb] at h
      obtain ⟨val, h1, h2⟩ := en_ex (s := s) (n := n) h
      exact ⟨val, h1, by rw [en_s0 hb]; exact h2⟩
    | true =>
      rw [pc_s1 hb, Nat.pow_succ] at h
      obtain ⟨val, h1, h2⟩ := en_ex (s := s) (n := n) (code := code / 6) (by omega)
      refine ⟨fun x => if x = n then code % 6 else val x, fun x => ?_, ?_⟩
      · show (if x = n then code % 6 else val x) < 6
        split
        · omega
        · exact h1 x
      · rw [en_s1 hb, if_pos rfl]
        have e : ∀ x, x ≤ n → enc s (fun x => if x = n then code % 6 else val x) x = enc s val x := by
          intro x
          induction x with
          | zero => intro _; rfl
          | succ x ih =>
            intro hx
            simp only [enc]
            rw [ih (by omega), if_neg (show ¬ x = n by omega)]
        rw [e n (Nat.le_refl _), h2]; omega
theorem en_inj {s : Int32} {val val' : Nat → Nat} : ∀ {n : Nat}, (∀ x, x < n → bt s x = true → val x < 6) → (∀ x, x < n → bt s x = true → val' x < 6) → enc s val n = enc s val' n → ∀ x, x < n → bt s x = true → val x = val' x
  | 0, _, _, _, x, hx, _ => by omega
  | n + 1, h, h', e, x, hx, hxb => by
    cases hb : bt s n with
    | false =>
      rw [en_s0 hb, en_s0 hb] at e
      have : x ≠ n := fun q => by rw [q, hb] at hxb; cases hxb
      exact en_inj (n := n) (fun x hx => h x (by omega)) (fun x hx => h' x (by omega)) e x (by omega) hxb
    | true =>
      have a := h n (by omega) hb
      have b := h' n (by omega) hb
      rw [en_s1 hb, en_s1 hb] at e
      by_cases q : x = n
      · subst q; omega
      · exact en_inj (n := n) (fun x hx => h x (by omega)) (fun x hx => h' x (by omega)) (by omega) x (by omega) hxb
theorem p6_le {k : Nat} (h : k ≤ 6) : 6 ^ k ≤ 46656 := by
  have := Nat.pow_le_pow_right (show 0 < 6 by omega) h
  exact this
def smV (co : Nat → Int32) (b : Nat) (vl : Nat → Int32) : Nat → Int32
  | 0 => 0
  | x + 1 => smV co b vl x + co (b + x) * vl x
theorem smV_N {co vl : Nat → Int32} {b n : Nat} {s : Int32} {val : Nat → Nat} (h0 : ∀ x, x < n → bt s x = false → co (b + x) = 0) (h : ∀ x, x < n → bt s x = true → vl x = nI (val x)) : ∀ {x : Nat}, x ≤ n → smV co b vl x = smN co b val x
  | 0, _ => rfl
  | x + 1, hx => by
    have a := smV_N h0 h (x := x) (by omega)
    simp only [smV, smN]; rw [a]
    cases hb : bt s x with
    | false => rw [h0 x (by omega) hb, Int32.zero_mul, Int32.zero_mul]
    | true => rw [h x (by omega) hb]
end
section
variable {f_v f_maxPosted f_maxLevel f_now f_state f_direction f_found f_place : Int32} {a_dom a_status a_count a_kind a_scope a_low a_high a_coef a_tuples a_tuple a_solution a_value a_work a_seen a_args : Nat → Int32} {n : Nat}
theorem ys_chl {post : Int32 → Prop} {s : Int32} (hn : n ≤ 6) (h : post (nI (6 ^ pcN s n))) : ∀ d x : Nat, x + d = n → wY_choices_4 post s (nI n) f_v f_maxPosted f_maxLevel f_now f_state f_direction f_found f_place a_dom a_status a_count a_kind a_scope a_low a_high a_coef a_tuples a_tuple a_solution a_value a_work a_seen a_args (d + 1) (nI (6 ^ pcN s x)) (nI x) := by
  intro d
  induction d with
  | zero =>
    intro x hx
    obtain rfl : x = n := by omega
    exact br_t (nI_le (Nat.le_refl _) (by omega)) h
  | succ d ih =>
    intro x hx
    refine br_f (nI_ge (by omega) (by omega)) (yh_in (by omega) (fun hf => ?_) (fun ht => ?_))
    · refine nm_r (e' := nI (x + 1)) (nI_1 _) ?_
      have := ih (x + 1) (by omega)
      rwa [pc_s0 hf] at this
    · refine nm_r (e' := nI (6 ^ (pcN s x + 1))) ?_ (nm_r (e' := nI (x + 1)) (nI_1 _) ?_)
      · rw [Nat.pow_succ]; exact pk_mul _ 6
      · have := ih (x + 1) (by omega)
        rwa [pc_s1 ht] at this
theorem ys_ch {post : Int32 → Prop} {s : Int32} (hn : n ≤ 6) (h : post (nI (6 ^ pcN s n))) : wpY_choices post (nI n, f_v, f_maxPosted, f_maxLevel, f_now, f_state, f_direction, f_found, f_place, a_dom, a_status, a_count, a_kind, a_scope, a_low, a_high, a_coef, a_tuples, a_tuple, a_solution, a_value, a_work, a_seen, a_args) s :=
  Exists.intro (n + 1) (ys_chl hn h n 0 (by omega))
theorem ys_spl {post : SY → Prop} {s : Int32} {val : Nat → Nat} (hn : n ≤ 6) (hv : ∀ x, x < n → bt s x = true → val x < 6)
    (hP : ∀ vl : Nat → Int32, (∀ x, x < n → bt s x = true → vl x = nI (val x)) → post (nI n, f_v, f_maxPosted, f_maxLevel, f_now, f_state, f_direction, f_found, f_place, a_dom, a_status, a_count, a_kind, a_scope, a_low, a_high, a_coef, a_tuples, a_tuple, a_solution, vl, a_work, a_seen, a_args)) :
    ∀ (x : Nat) (vl : Nat → Int32), x < n → (∀ y, x < y → y < n → bt s y = true → vl y = nI (val y)) →
      wY_spread_10 post s (nI n) f_v f_maxPosted f_maxLevel f_now f_state f_direction f_found f_place (x + 2) (nI (enc s val (x + 1))) (nI x) a_dom a_status a_count a_kind a_scope a_low a_high a_coef a_tuples a_tuple a_solution vl a_work a_seen a_args := by
  intro x
  induction x with
  | zero =>
    intro vl hx g
    have hb5 : pcN s 1 ≤ 1 := pc_le s 1
    refine br_f (nI_pos (by omega)) (yh_in (by omega) (fun hf => nm_e (br_t (by decide) (hP vl (fun y hy hyb => ?_)))) (fun ht => ⟨by decide, vp_in_nI (by omega) (by omega), nm_r (e' := upd vl 0 (nI (val 0))) ?_ ⟨by decide, nm_e (nm_e (br_t (by decide) (hP _ (fun y hy hyb => ?_))))⟩⟩))
    · have : y ≠ 0 := fun e => by rw [e, hf] at hyb; cases hyb
      exact g y (by omega) hy hyb
    · have h6 := hv 0 hx ht
      rw [en_s1 ht]
      have e := pk_rem (a := enc s val 0 * 6 + val 0) (d := 6) (by simp only [enc]; omega) (by omega) (by omega)
      have e2 : (enc s val 0 * 6 + val 0) % 6 = val 0 := by omega
      rw [e2] at e
      rw [nI_clamp (by omega)]
      exact congrArg (upd vl 0) e
    · by_cases z : y = 0
      · rw [z, pk_us]
      · rw [pk_un z]; exact g y (by omega) hy hyb
  | succ x ih =>
    intro vl hx g
    have hlt := en_lt (s := s) (val := val) (n := x + 2) (fun y hy => hv y (by omega))
    have h66 := p6_le (Nat.le_trans (pc_le s (x + 2)) (by omega))
    refine br_f (nI_pos (by omega)) (yh_in (by omega) (fun hf => nm_r (e' := nI x) (pk_m1 x) ?_) (fun ht => ⟨by decide, vp_in_nI (by omega) (by omega), nm_r (e' := upd vl (x + 1) (nI (val (x + 1)))) ?_ ⟨by decide, nm_r (e' := nI (enc s val (x + 1))) ?_ (nm_r (e' := nI x) (pk_m1 x) ?_)⟩⟩))
    · rw [en_s0 hf]
      exact ih vl (by omega) (fun y h1 h2 hyb => by
        have : y ≠ x + 1 := fun e => by rw [e, hf] at hyb; cases hyb
        exact g y (by omega) h2 hyb)
    · have h6 := hv (x + 1) hx ht
      rw [en_s1 ht] at hlt ⊢
      have e := pk_rem (a := enc s val (x + 1) * 6 + val (x + 1)) (d := 6) (by omega) (by omega) (by omega)
      have e2 : (enc s val (x + 1) * 6 + val (x + 1)) % 6 = val (x + 1) := by omega
      rw [e2] at e
      rw [nI_clamp (by omega)]
      exact congrArg (upd vl (x + 1)) e
    · have h6 := hv (x + 1) hx ht
      rw [en_s1 ht] at hlt ⊢
      have e := pk_div (a := enc s val (x + 1) * 6 + val (x + 1)) (d := 6) (by omega) (by omega) (by omega)
      have e2 : (enc s val (x + 1) * 6 + val (x + 1)) / 6 = enc s val (x + 1) := by omega
      rw [e2] at e
      exact e
    · exact ih _ (by omega) (fun y h1 h2 hyb => by
        by_cases z : y = x + 1
        · rw [z, pk_us]
        · rw [pk_un z]; exact g y (by omega) h2 hyb)
theorem ys_sp {post : SY → Prop} {s : Int32} {val : Nat → Nat} (hn : n ≤ 6) (hn1 : 1 ≤ n) (hv : ∀ x, x < n → bt s x = true → val x < 6)
    (hP : ∀ vl : Nat → Int32, (∀ x, x < n → bt s x = true → vl x = nI (val x)) → post (nI n, f_v, f_maxPosted, f_maxLevel, f_now, f_state, f_direction, f_found, f_place, a_dom, a_status, a_count, a_kind, a_scope, a_low, a_high, a_coef, a_tuples, a_tuple, a_solution, vl, a_work, a_seen, a_args)) : wpY_spread post (nI n, f_v, f_maxPosted, f_maxLevel, f_now, f_state, f_direction, f_found, f_place, a_dom, a_status, a_count, a_kind, a_scope, a_low, a_high, a_coef, a_tuples, a_tuple, a_solution, a_value, a_work, a_seen, a_args) (nI (enc s val n)) s := by
  obtain ⟨n', rfl⟩ : ∃ n', n = n' + 1 := ⟨n - 1, by omega⟩
  refine nm_r (e' := nI n') (nI_pred n') (Exists.intro (n' + 2) ?_)
  exact ys_spl hn hv hP n' a_value (by omega) (fun y h1 h2 => absurd h1 (by omega))
theorem ys_idl {post : Int32 → Prop} {s : Int32} {val : Nat → Nat} (hn : n ≤ 6) (hv : ∀ x, x < n → bt s x = true → val x < 6 ∧ a_value x = nI (val x))
    (h1 : (∀ x, x < n → bt s x = true → bt (a_work x) (val x) = true) → post 1) (h0 : (∃ x, x < n ∧ bt s x = true ∧ bt (a_work x) (val x) = false) → post 0) :
    ∀ d x : Nat, x + d = n → (∀ y, y < x → bt s y = true → bt (a_work y) (val y) = true) → wY_inDomains_2 post s (nI n) f_v f_maxPosted f_maxLevel f_now f_state f_direction f_found f_place a_dom a_status a_count a_kind a_scope a_low a_high a_coef a_tuples a_tuple a_solution a_value a_work a_seen a_args (d + 1) (nI x) := by
  intro d
  induction d with
  | zero =>
    intro x hx g
    obtain rfl : x = n := by omega
    exact br_t (nI_le (Nat.le_refl _) (by omega)) (h1 g)
  | succ d ih =>
    intro x hx g
    refine br_f (nI_ge (by omega) (by omega)) (yh_in (by omega) (fun hf => nm_r (e' := nI (x + 1)) (nI_1 _) (ih (x + 1) (by omega) (fun y hy hyb => ?_))) (fun ht => ⟨vp_in_nI (by omega) (by omega), vp_in_nI (by omega) (by omega), ?_⟩))
    · have : y ≠ x := fun e => by rw [e, hf] at hyb; cases hyb
      exact g y (by omega) hyb
    · have q := hv x (by omega) ht
      rw [nI_clamp (by omega), q.2]
      cases hb : bt (a_work x) (val x) with
      | false => exact br_t ((gb_0 _ (by omega)).mpr hb) (h0 ⟨x, by omega, ht, hb⟩)
      | true =>
        refine br_f (fun e => by rw [gb_0 _ (by omega), hb] at e; cases e) (nm_r (e' := nI (x + 1)) (nI_1 _) (ih (x + 1) (by omega) (fun y hy hyb => ?_)))
        by_cases z : y = x
        · rw [z]; exact hb
        · exact g y (by omega) hyb
theorem ys_id {post : Int32 → Prop} {s : Int32} {val : Nat → Nat} (hn : n ≤ 6) (hv : ∀ x, x < n → bt s x = true → val x < 6 ∧ a_value x = nI (val x))
    (h1 : (∀ x, x < n → bt s x = true → bt (a_work x) (val x) = true) → post 1) (h0 : (∃ x, x < n ∧ bt s x = true ∧ bt (a_work x) (val x) = false) → post 0) : wpY_inDomains post (nI n, f_v, f_maxPosted, f_maxLevel, f_now, f_state, f_direction, f_found, f_place, a_dom, a_status, a_count, a_kind, a_scope, a_low, a_high, a_coef, a_tuples, a_tuple, a_solution, a_value, a_work, a_seen, a_args) s :=
  Exists.intro (n + 1) (ys_idl hn hv h1 h0 n 0 (by omega) (fun y hy => absurd hy (by omega)))
theorem ys_it17 {post : Int32 → Prop} {J : Int32 → Prop} {c t : Nat} (hn : n ≤ 6) (hc : c < 7) (ht : t < 10)
    (h1 : (∀ x, x < n → bt (a_scope c) x = true → a_tuple ((c * 10 + t) * 6 + x) = a_value x) → post 1) (h0 : (∃ x, x < n ∧ bt (a_scope c) x = true ∧ ¬ a_tuple ((c * 10 + t) * 6 + x) = a_value x) → J (nI (t + 1))) :
    ∀ (d x : Nat) (al : Int32), x + d = n → (al = 0 ↔ ∃ y, y < x ∧ bt (a_scope c) y = true ∧ ¬ a_tuple ((c * 10 + t) * 6 + y) = a_value y) → wY_inTable_17 post J (nI c) (nI t) (nI n) f_v f_maxPosted f_maxLevel f_now f_state f_direction f_found f_place a_dom a_status a_count a_kind a_scope a_low a_high a_coef a_tuples a_tuple a_solution a_value a_work a_seen a_args (d + 1) al (nI x) := by
  intro d
  induction d with
  | zero =>
    intro x al hx g
    obtain rfl : x = n := by omega
    refine br_t (nI_le (Nat.le_refl _) (by omega)) ?_
    by_cases z : al = 0
    · exact br_t z (nm_r (e' := nI (t + 1)) (nI_1 _) (h0 (g.mp z)))
    · exact br_f z (h1 (fun y hy hyb => Classical.byContradiction fun q => z (g.mpr ⟨y, hy, hyb, q⟩)))
  | succ d ih =>
    intro x al hx g
    have e : (((nI c * 10 + nI t) * 6) + nI x : Int32) = nI ((c * 10 + t) * 6 + x) := by
      show (nI c * nI 10 + nI t) * nI 6 + nI x = _
      rw [pk_mul, nI_add, pk_mul, nI_add]
    refine br_f (nI_ge (by omega) (by omega)) ⟨vp_in_nI (by omega) (by omega), ?_⟩
    rw [e, nI_clamp (by omega), nI_clamp (by omega), nI_clamp (by omega)]
    refine yh_in (by omega) (fun hf => nm_r (e' := nI (x + 1)) (nI_1 _) (ih (x + 1) al (by omega) ?_)) (fun htr => ⟨vp_in_nI (by omega) (by omega), vp_in_nI (by omega) (by omega), ?_⟩)
    · rw [g]
      constructor
      · rintro ⟨y, q1, q2⟩; exact ⟨y, by omega, q2⟩
      · rintro ⟨y, q1, q2⟩
        have : y ≠ x := fun w => by rw [w, hf] at q2; exact absurd q2.1 (by decide)
        exact ⟨y, by omega, q2⟩
    · by_cases z : a_tuple ((c * 10 + t) * 6 + x) = a_value x
      · refine br_t z (nm_r (e' := nI (x + 1)) (nI_1 _) (ih (x + 1) al (by omega) ?_))
        rw [g]
        constructor
        · rintro ⟨y, q1, q2⟩; exact ⟨y, by omega, q2⟩
        · rintro ⟨y, q1, q2⟩
          have : y ≠ x := fun w => q2.2 (by rw [w]; exact z)
          exact ⟨y, by omega, q2⟩
      · exact br_f z (nm_r (e' := nI (x + 1)) (nI_1 _) (ih (x + 1) 0 (by omega) ⟨fun _ => ⟨x, by omega, htr, z⟩, fun _ => rfl⟩))
theorem ys_it {post : Int32 → Prop} {c T : Nat} (hn : n ≤ 6) (hc : c < 7) (hT : T ≤ 10) (htc : a_tuples c = nI T)
    (h1 : (∃ t, t < T ∧ ∀ x, x < n → bt (a_scope c) x = true → a_tuple ((c * 10 + t) * 6 + x) = a_value x) → post 1)
    (h0 : (¬ ∃ t, t < T ∧ ∀ x, x < n → bt (a_scope c) x = true → a_tuple ((c * 10 + t) * 6 + x) = a_value x) → post 0) : wpY_inTable post (nI n, f_v, f_maxPosted, f_maxLevel, f_now, f_state, f_direction, f_found, f_place, a_dom, a_status, a_count, a_kind, a_scope, a_low, a_high, a_coef, a_tuples, a_tuple, a_solution, a_value, a_work, a_seen, a_args) (nI c) := by
  have key : ∀ d t : Nat, t + d = T → (∀ t', t' < t → ¬ ∀ x, x < n → bt (a_scope c) x = true → a_tuple ((c * 10 + t') * 6 + x) = a_value x) → wY_inTable_2 post (nI c) (nI n) f_v f_maxPosted f_maxLevel f_now f_state f_direction f_found f_place a_dom a_status a_count a_kind a_scope a_low a_high a_coef a_tuples a_tuple a_solution a_value a_work a_seen a_args (d + 1) (nI t) := by
    intro d
    induction d with
    | zero =>
      intro t ht g
      obtain rfl : t = T := by omega
      refine And.intro (vp_in_nI (by omega) (by omega)) ?_
      rw [nI_clamp (by omega), htc]
      exact br_t (nI_le (Nat.le_refl _) (by omega)) (h0 (fun ⟨t', q1, q2⟩ => g t' q1 q2))
    | succ d ih =>
      intro t ht g
      refine And.intro (vp_in_nI (by omega) (by omega)) ?_
      rw [nI_clamp (by omega), htc]
      refine br_f (nI_ge (by omega) (by omega)) (Exists.intro (n + 1) (ys_it17 hn hc (by omega) (fun q => h1 ⟨t, by omega, q⟩) (fun q => ih (t + 1) (by omega) (fun t' ht' hq => ?_)) n 0 1 (by omega) ⟨fun e => absurd e (by decide), fun ⟨y, h, _⟩ => absurd h (by omega)⟩))
      by_cases z : t' = t
      · subst z
        obtain ⟨x, q1, q2, q3⟩ := q
        exact q3 (hq x q1 q2)
      · exact g t' (by omega) hq
  exact Exists.intro (T + 1) (key T 0 (by omega) (fun t' h => absurd h (by omega)))
theorem ys_52 {post : Int32 → Prop} {J : Int32 → Int32 →  Prop} {c x : Nat} {val : Nat → Nat} {sm : Int32} (hn : n ≤ 6) (hc : c < 7) (hx : x < n) (hv : ∀ x, x < n → bt (a_scope c) x = true → val x < 6 ∧ a_value x = nI (val x))
    (hJ : (a_kind c = 1 → ∀ y, y < x → bt (a_scope c) x = true → bt (a_scope c) y = true → val x ≠ val y) → J sm (nI (x + 1)))
    (h0 : a_kind c = 1 → (∃ y, y < x ∧ bt (a_scope c) x = true ∧ bt (a_scope c) y = true ∧ val x = val y) → post 0) :
    ∀ d y : Nat, y + d = x → (a_kind c = 1 → ∀ y', y' < y → bt (a_scope c) x = true → bt (a_scope c) y' = true → val x ≠ val y') → wY_holds_52 post J (nI c) sm (nI x) (nI n) f_v f_maxPosted f_maxLevel f_now f_state f_direction f_found f_place a_dom a_status a_count a_kind a_scope a_low a_high a_coef a_tuples a_tuple a_solution a_value a_work a_seen a_args (d + 1) (nI y) := by
  intro d
  have hcc : (nI c).toNatClampNeg = c := nI_clamp (by omega)
  have hin : vp_in (nI c) 7 := vp_in_nI (by omega) (by omega)
  induction d with
  | zero =>
    intro y hy g
    obtain rfl : y = x := by omega
    exact br_t (nI_le (Nat.le_refl _) (by omega)) (nm_r (e' := nI (y + 1)) (nI_1 _) (hJ g))
  | succ d ih =>
    intro y hy g
    have nxt : (a_kind c = 1 → bt (a_scope c) x = true → bt (a_scope c) y = true → val x ≠ val y) → wY_holds_52 post J (nI c) sm (nI x) (nI n) f_v f_maxPosted f_maxLevel f_now f_state f_direction f_found f_place a_dom a_status a_count a_kind a_scope a_low a_high a_coef a_tuples a_tuple a_solution a_value a_work a_seen a_args (d + 1) (nI (y + 1)) := by
      intro q
      refine ih (y + 1) (by omega) (fun hk y' hy' b1 b2 => ?_)
      by_cases z : y' = y
      · rw [z] at b2 ⊢; exact q hk b1 b2
      · exact g hk y' (by omega) b1 b2
    refine br_f (nI_ge (by omega) (by omega)) ⟨hin, ?_⟩
    rw [hcc]
    by_cases k1 : a_kind c = 1
    · refine br_t k1 ⟨hin, yh_in (by omega) (fun hf => nm_r (e' := nI (y + 1)) (nI_1 _) (nxt (fun _ b1 _ => by rw [hf] at b1; cases b1))) (fun ht => ⟨hin, yh_in (by omega) (fun hf => nm_r (e' := nI (y + 1)) (nI_1 _) (nxt (fun _ _ b1 => by rw [hf] at b1; cases b1))) (fun ht2 => ⟨vp_in_nI (by omega) (by omega), vp_in_nI (by omega) (by omega), ?_⟩)⟩)⟩
      rw [nI_clamp (by omega), nI_clamp (by omega)]
      have v1 := hv x hx ht
      have v2 := hv y (by omega) ht2
      rw [v1.2, v2.2]
      by_cases z : val x = val y
      · exact br_t (by rw [z]) (h0 k1 ⟨y, by omega, ht, ht2, z⟩)
      · exact br_f (fun e => z (nI_inj (by omega) (by omega) e)) (nm_r (e' := nI (y + 1)) (nI_1 _) (nxt (fun _ _ _ => z)))
    · exact br_f k1 (nm_r (e' := nI (y + 1)) (nI_1 _) (nxt (fun q => absurd q k1)))
theorem ys_20 {post : Int32 → Prop} {V c : Nat} {val : Nat → Nat} {xt : Nat → Int32} (hn : n ≤ 6) (hc : c < 6) (hok : COk n V a_kind a_scope a_tuples a_coef xt a_tuple c) (hk3 : ¬ a_kind c = 3) (hv : ∀ x, x < n → bt (a_scope c) x = true → val x < 6 ∧ a_value x = nI (val x))
    (h1 : Hd n a_kind a_scope a_low a_high a_tuples a_coef a_tuple c val → post 1) (h0 : ¬ Hd n a_kind a_scope a_low a_high a_tuples a_coef a_tuple c val → post 0) :
    ∀ d x : Nat, x + d = n → (a_kind c = 1 → ∀ x' y, x' < x → y < x' → bt (a_scope c) x' = true → bt (a_scope c) y = true → val x' ≠ val y) → wY_holds_20 post (nI c) (nI n) f_v f_maxPosted f_maxLevel f_now f_state f_direction f_found f_place a_dom a_status a_count a_kind a_scope a_low a_high a_coef a_tuples a_tuple a_solution a_value a_work a_seen a_args (d + 1) (smV a_coef (c * 6) a_value x) (nI x) := by
  intro d
  have hcc : (nI c).toNatClampNeg = c := nI_clamp (by omega)
  have hin : vp_in (nI c) 7 := vp_in_nI (by omega) (by omega)
  induction d with
  | zero =>
    intro x hx g
    obtain rfl : x = n := by omega
    refine br_t (nI_le (Nat.le_refl _) (by omega)) ⟨hin, ?_⟩
    rw [hcc]
    rcases hok.1 with k1 | k2 | k3
    · exact br_t k1 (h1 ⟨fun q => absurd q hk3, fun _ x' y hx' hy b1 b2 => g k1 x' y hx' hy b1 b2, fun q => absurd (k1.symm.trans q) (by decide)⟩)
    · have hne : ¬ a_kind c = 1 := fun q => absurd (k2.symm.trans q) (by decide)
      have e := smV_N (co := a_coef) (vl := a_value) (b := c * 6) (s := a_scope c) (val := val) (n := x) (fun y hy hb => by
        obtain ⟨zz, _, _, e, q0⟩ := hok.2.2.2.2.2.1 k2 y (by omega)
        rw [e, q0 hb]; rfl) (fun y hy hb => (hv y hy hb).2) (Nat.le_refl x)
      rw [e]
      refine br_f hne ⟨hin, ?_⟩
      by_cases z1 : smN a_coef (c * 6) val x < a_low c
      · exact br_t z1 (h0 (fun q => absurd (q.2.2 k2).1 (Int32.not_le.mpr z1)))
      · refine br_f z1 ⟨hin, ?_⟩
        by_cases z2 : a_high c < smN a_coef (c * 6) val x
        · exact br_t z2 (h0 (fun q => absurd (q.2.2 k2).2 (Int32.not_le.mpr z2)))
        · exact br_f z2 (h1 ⟨fun q => absurd q hk3, fun q => absurd q hne, fun _ => ⟨Int32.not_lt.mp z1, Int32.not_lt.mp z2⟩⟩)
    · exact absurd k3 hk3
  | succ d ih =>
    intro x hx g
    have e6 : (nI c * 6 + nI x : Int32) = nI (c * 6 + x) := by
      show nI c * nI 6 + nI x = _
      rw [pk_mul, nI_add]
    refine br_f (nI_ge (by omega) (by omega)) ?_
    rw [e6]
    refine ⟨vp_in_nI (by omega) (by omega), vp_in_nI (by omega) (by omega), nm_r (e' := smV a_coef (c * 6) a_value (x + 1)) (by rw [nI_clamp (by omega), nI_clamp (by omega)]; rfl) (Exists.intro (x + 1) (ys_52 (val := val) hn (by omega) (by omega) hv (fun q => ih (x + 1) (by omega) (fun k1 x' y hx' hy b1 b2 => ?_)) (fun k1 ⟨y, q1, q2, q3, q4⟩ => h0 (fun q => q.2.1 k1 x y (by omega) q1 q2 q3 q4)) x 0 (by omega) (fun _ y' h => absurd h (by omega))))⟩
    by_cases z : x' = x
    · subst z; exact q k1 y hy b1 b2
    · exact g k1 x' y (by omega) hy b1 b2
theorem ys_hd {post : Int32 → Prop} {V c : Nat} {val : Nat → Nat} {xt : Nat → Int32} (hn : n ≤ 6) (hc : c < 6) (hok : COk n V a_kind a_scope a_tuples a_coef xt a_tuple c) (hv : ∀ x, x < n → bt (a_scope c) x = true → val x < 6 ∧ a_value x = nI (val x))
    (h1 : Hd n a_kind a_scope a_low a_high a_tuples a_coef a_tuple c val → post 1) (h0 : ¬ Hd n a_kind a_scope a_low a_high a_tuples a_coef a_tuple c val → post 0) : wpY_holds post (nI n, f_v, f_maxPosted, f_maxLevel, f_now, f_state, f_direction, f_found, f_place, a_dom, a_status, a_count, a_kind, a_scope, a_low, a_high, a_coef, a_tuples, a_tuple, a_solution, a_value, a_work, a_seen, a_args) (nI c) := by
  have hcc : (nI c).toNatClampNeg = c := nI_clamp (by omega)
  refine And.intro (vp_in_nI (by omega) (by omega)) ?_
  rw [hcc]
  by_cases k3 : a_kind c = 3
  · obtain ⟨T, hT, htc, htt⟩ := hok.2.2.2.2.2.2
    refine br_t k3 (ys_it hn (by omega) hT htc (fun ⟨t, q1, q2⟩ => ⟨narrow_b1, h1 ⟨fun _ => ⟨t, by rw [htc]; exact nI_lt q1 (by omega), by omega, fun x hx hb => by rw [q2 x hx hb]; exact (hv x hx hb).2⟩, fun q => absurd (k3.symm.trans q) (by decide), fun q => absurd (k3.symm.trans q) (by decide)⟩⟩) (fun q => ⟨narrow_b0, h0 (fun hh => q ?_)⟩))
    obtain ⟨t, q1, q2, q3⟩ := hh.1 k3
    rw [htc, nI_ltI (by omega) (by omega)] at q1
    exact ⟨t, q1, fun x hx hb => by rw [q3 x hx hb, (hv x hx hb).2]⟩
  · exact br_f k3 (Exists.intro (n + 1) (ys_20 hn hc hok k3 hv h1 h0 n 0 (by omega) (fun _ x' y h => absurd h (by omega))))
theorem ys_69 {post : SY → Prop} {J : Int32 → Int32 → Int32 → Int32 → Int32 → Int32 → Int32 → Int32 → Int32 → Int32 →  (Nat → Int32) → (Nat → Int32) → (Nat → Int32) → (Nat → Int32) → (Nat → Int32) → (Nat → Int32) → (Nat → Int32) → (Nat → Int32) → (Nat → Int32) → (Nat → Int32) → (Nat → Int32) → (Nat → Int32) → (Nat → Int32) → (Nat → Int32) → (Nat → Int32) →  Prop} {x1 x3 : Int32} {κ : Nat} {s : Int32} {sn0 : Nat → Int32} {val : Nat → Nat} (hn : n ≤ 6) (hv : ∀ x, x < n → bt s x = true → val x < 6 ∧ a_value x = nI (val x))
    (hJ : ∀ sn : Nat → Int32, (∀ x a, x < n → bt s x = true → (bt (sn x) a = true ↔ bt (sn0 x) a = true ∨ a = val x)) → J (nI (κ + 1)) (nI n) f_v f_maxPosted f_maxLevel f_now f_state f_direction f_found f_place a_dom a_status a_count a_kind a_scope a_low a_high a_coef a_tuples a_tuple a_solution a_value a_work sn a_args) :
    ∀ (d x : Nat) (sn : Nat → Int32), x + d = n → (∀ y a, y < x → bt s y = true → (bt (sn y) a = true ↔ bt (sn0 y) a = true ∨ a = val y)) → (∀ y, x ≤ y → sn y = sn0 y) →
      wY_see_69 post J x1 s x3 (nI κ) (nI n) f_v f_maxPosted f_maxLevel f_now f_state f_direction f_found f_place (d + 1) (nI x) a_dom a_status a_count a_kind a_scope a_low a_high a_coef a_tuples a_tuple a_solution a_value a_work sn a_args := by
  intro d
  induction d with
  | zero =>
    intro x sn hx g1 g2
    obtain rfl : x = n := by omega
    exact br_t (nI_le (Nat.le_refl _) (by omega)) (nm_r (e' := nI (κ + 1)) (nI_1 _) (hJ sn g1))
  | succ d ih =>
    intro x sn hx g1 g2
    refine br_f (nI_ge (by omega) (by omega)) (yh_in (by omega) (fun hf => nm_r (e' := nI (x + 1)) (nI_1 _) (ih (x + 1) sn (by omega) (fun y a hy hyb => ?_) (fun y hy => g2 y (by omega)))) (fun ht => ⟨vp_in_nI (by omega) (by omega), vp_in_nI (by omega) (by omega), vp_in_nI (by omega) (by omega), nm_e (nm_r (e' := nI (x + 1)) (nI_1 _) (ih (x + 1) _ (by omega) (fun y a hy hyb => ?_) (fun y hy => ?_)))⟩))
    · have : y ≠ x := fun e => by rw [e, hf] at hyb; cases hyb
      exact g1 y a (by omega) hyb
    · rw [nI_clamp (by omega)]
      by_cases z : y = x
      · subst z
        have q := hv y (by omega) ht
        rw [pk_us, q.2, b_or, gb_shl1 (by omega), Bool.or_eq_true, decide_eq_true_eq, g2 y (Nat.le_refl _)]
      · rw [pk_un z]; exact g1 y a (by omega) hyb
    · rw [nI_clamp (by omega), pk_un (by omega)]; exact g2 y (by omega)
/-- the values seen among the codes below κ -/
def seeI (n : Nat) (S : Nat → Int32) (H : Nat → (Nat → Nat) → Prop) (D : Nat → Int32) (c κ : Nat) (sn : Nat → Int32) : Prop :=
  ∀ x a, x < n → bt (S c) x = true → (bt (sn x) a = true ↔ ∃ val : Nat → Nat, (∀ y, y < n → bt (S c) y = true → val y < 6) ∧ enc (S c) val n < κ ∧ (∀ y, y < n → bt (S c) y = true → bt (D y) (val y) = true) ∧ H c val ∧ val x = a)
theorem ys_37 {post : SY → Prop} {V c : Nat} {xt : Nat → Int32} (hn : n ≤ 6) (hn1 : 1 ≤ n) (hV : V ≤ 6) (hc : c < 6) (hok : COk n V a_kind a_scope a_tuples a_coef xt a_tuple c) (hD : ∀ x, x < n → Msk V (a_work x))
    (hP : ∀ vl sn : Nat → Int32, (∀ x a, x < n → bt (a_scope c) x = true → (bt (sn x) a = true ↔ Sup n a_scope (Hd n a_kind a_scope a_low a_high a_tuples a_coef a_tuple) a_work c x a)) → post (nI n, f_v, f_maxPosted, f_maxLevel, f_now, f_state, f_direction, f_found, f_place, a_dom, a_status, a_count, a_kind, a_scope, a_low, a_high, a_coef, a_tuples, a_tuple, a_solution, vl, a_work, sn, a_args)) :
    ∀ (d κ : Nat) (vl sn : Nat → Int32), κ + d = 6 ^ pcN (a_scope c) n → seeI n a_scope (Hd n a_kind a_scope a_low a_high a_tuples a_coef a_tuple) a_work c κ sn →
      wY_see_37 post (nI c) (a_scope c) (nI (6 ^ pcN (a_scope c) n)) (d + 1) (nI κ) (nI n) f_v f_maxPosted f_maxLevel f_now f_state f_direction f_found f_place a_dom a_status a_count a_kind a_scope a_low a_high a_coef a_tuples a_tuple a_solution vl a_work sn a_args := by
  intro d
  have h66 := p6_le (Nat.le_trans (pc_le (a_scope c) n) hn)
  induction d with
  | zero =>
    intro κ vl sn hκ g
    obtain rfl : κ = 6 ^ pcN (a_scope c) n := by omega
    refine br_t (nI_le (Nat.le_refl _) (by omega)) (hP vl sn (fun x a hx hb => ?_))
    rw [g x a hx hb]
    constructor
    · rintro ⟨val, _, _, q1, q2, q3⟩; exact ⟨val, q1, q2, q3⟩
    · rintro ⟨val, q1, q2, q3⟩
      have h6 : ∀ y, y < n → bt (a_scope c) y = true → val y < 6 := fun y hy hyb => by have := mk_lt (hD y hy) (q1 y hy hyb); omega
      exact ⟨val, h6, en_lt h6, q1, q2, q3⟩
  | succ d ih =>
    intro κ vl sn hκ g
    obtain ⟨val, hv6, hen⟩ := en_ex (s := a_scope c) (n := n) (code := κ) (by omega)
    refine br_f (nI_ge (by omega) (by omega)) ?_
    have skip : ∀ vl' : Nat → Int32, (¬ ((∀ x, x < n → bt (a_scope c) x = true → bt (a_work x) (val x) = true) ∧ Hd n a_kind a_scope a_low a_high a_tuples a_coef a_tuple c val)) → wY_see_37 post (nI c) (a_scope c) (nI (6 ^ pcN (a_scope c) n)) (d + 1) (nI (κ + 1)) (nI n) f_v f_maxPosted f_maxLevel f_now f_state f_direction f_found f_place a_dom a_status a_count a_kind a_scope a_low a_high a_coef a_tuples a_tuple a_solution vl' a_work sn a_args := by
      intro vl' hno
      refine ih (κ + 1) vl' sn (by omega) (fun x a hx hb => ?_)
      rw [g x a hx hb]
      constructor
      · rintro ⟨v', q0, q1, q2⟩; exact ⟨v', q0, by omega, q2⟩
      · rintro ⟨v', q0, q1, q2, q3, q4⟩
        refine ⟨v', q0, ?_, q2, q3, q4⟩
        have : enc (a_scope c) v' n ≠ κ := by
          intro e
          have same := en_inj q0 (fun y hy _ => hv6 y) (e.trans hen.symm)
          exact hno ⟨fun y hy hyb => by rw [← same y hy hyb]; exact q2 y hy hyb, Hd_c hn hok same q3⟩
        omega
    rw [← hen]
    refine ys_sp hn hn1 (fun x _ _ => hv6 x) (fun vl' hvl' => ?_)
    have hvv : ∀ x, x < n → bt (a_scope c) x = true → val x < 6 ∧ vl' x = nI (val x) := fun x hx hb => ⟨hv6 x, hvl' x hx hb⟩
    rw [hen]
    refine ys_id hn hvv (fun q1 => br_f (by decide) ?_) (fun ⟨x, q1, q2, q3⟩ => br_t rfl (nm_r (e' := nI (κ + 1)) (nI_1 _) (skip vl' (fun q => by rw [q.1 x q1 q2] at q3; cases q3))))
    refine ys_hd hn hc hok hvv (fun q2 => br_f (by decide) ?_) (fun q2 => br_t rfl (nm_r (e' := nI (κ + 1)) (nI_1 _) (skip vl' (fun q => q2 q.2))))
    refine Exists.intro (n + 1) (ys_69 (sn0 := sn) (val := val) hn hvv (fun sn' hsn' => ih (κ + 1) vl' sn' (by omega) (fun x a hx hb => ?_)) n 0 sn (by omega) (fun y a hy => absurd hy (by omega)) (fun _ _ => rfl))
    rw [hsn' x a hx hb, g x a hx hb]
    constructor
    · rintro (⟨v', q0, q3, q4⟩ | e)
      · exact ⟨v', q0, by omega, q4⟩
      · exact ⟨val, fun y _ _ => hv6 y, by omega, q1, q2, e.symm⟩
    · rintro ⟨v', q0, q3, q4, q5, q6⟩
      by_cases e : enc (a_scope c) v' n = κ
      · have same := en_inj q0 (fun y hy _ => hv6 y) (e.trans hen.symm)
        exact Or.inr (by rw [← q6, same x hx hb])
      · exact Or.inl ⟨v', q0, by omega, q4, q5, q6⟩
theorem ys_see {post : SY → Prop} {V c : Nat} {xt : Nat → Int32} (hn : n ≤ 6) (hn1 : 1 ≤ n) (hV : V ≤ 6) (hc : c < 6) (hok : COk n V a_kind a_scope a_tuples a_coef xt a_tuple c) (hD : ∀ x, x < n → Msk V (a_work x))
    (hP : ∀ vl sn : Nat → Int32, (∀ x a, x < n → bt (a_scope c) x = true → (bt (sn x) a = true ↔ Sup n a_scope (Hd n a_kind a_scope a_low a_high a_tuples a_coef a_tuple) a_work c x a)) → post (nI n, f_v, f_maxPosted, f_maxLevel, f_now, f_state, f_direction, f_found, f_place, a_dom, a_status, a_count, a_kind, a_scope, a_low, a_high, a_coef, a_tuples, a_tuple, a_solution, vl, a_work, sn, a_args)) : wpY_see post (nI n, f_v, f_maxPosted, f_maxLevel, f_now, f_state, f_direction, f_found, f_place, a_dom, a_status, a_count, a_kind, a_scope, a_low, a_high, a_coef, a_tuples, a_tuple, a_solution, a_value, a_work, a_seen, a_args) (nI c) := by
  have key : ∀ (d x : Nat) (sn : Nat → Int32), x + d = 6 → (∀ y, y < x → sn y = 0) → wY_see_2 post (nI c) (nI n) f_v f_maxPosted f_maxLevel f_now f_state f_direction f_found f_place (d + 1) (nI x) a_dom a_status a_count a_kind a_scope a_low a_high a_coef a_tuples a_tuple a_solution a_value a_work sn a_args := by
    intro d
    induction d with
    | zero =>
      intro x sn hx g
      obtain rfl : x = 6 := by omega
      refine br_t (by decide) ⟨vp_in_nI (by omega) (by omega), nm_r (e' := a_scope c) (by rw [nI_clamp (by omega)]) (ys_ch hn (Exists.intro (6 ^ pcN (a_scope c) n + 1) (ys_37 hn hn1 hV hc hok hD hP (6 ^ pcN (a_scope c) n) 0 a_value sn (by omega) (fun x a hx hb => ?_))))⟩
      rw [g x (by omega), b_0]
      exact ⟨fun h => absurd h (by decide), fun ⟨_, _, h, _⟩ => absurd h (by omega)⟩
    | succ d ih =>
      intro x sn hx g
      refine br_f (nI_ge (b := 6) (by omega) (by decide)) ⟨vp_in_nI (by omega) (by omega), nm_r (e' := upd sn x 0) (by rw [nI_clamp (by omega)]) (nm_r (e' := nI (x + 1)) (nI_1 _) (ih (x + 1) _ (by omega) (fun y hy => ?_)))⟩
      by_cases z : y = x
      · rw [z, pk_us]
      · rw [pk_un z]; exact g y (by omega)
  exact Exists.intro 7 (key 6 0 a_seen (by omega) (fun y h => absurd h (by omega)))
theorem ys_cp {post : SY → Prop} {L : Nat} (hL : L < 6) (hP : ∀ w : Nat → Int32, (∀ x, x < 6 → w x = a_dom (L * 6 + x)) → post (nI n, f_v, f_maxPosted, f_maxLevel, nI L, f_state, f_direction, f_found, f_place, a_dom, a_status, a_count, a_kind, a_scope, a_low, a_high, a_coef, a_tuples, a_tuple, a_solution, a_value, w, a_seen, a_args)) : wpY_copyDomains post (nI n, f_v, f_maxPosted, f_maxLevel, nI L, f_state, f_direction, f_found, f_place, a_dom, a_status, a_count, a_kind, a_scope, a_low, a_high, a_coef, a_tuples, a_tuple, a_solution, a_value, a_work, a_seen, a_args) := by
  have key : ∀ (d x : Nat) (w : Nat → Int32), x + d = 6 → (∀ y, y < x → w y = a_dom (L * 6 + y)) → wY_copyDomains_2 post (nI n) f_v f_maxPosted f_maxLevel (nI L) f_state f_direction f_found f_place (d + 1) (nI x) a_dom a_status a_count a_kind a_scope a_low a_high a_coef a_tuples a_tuple a_solution a_value w a_seen a_args := by
    intro d
    induction d with
    | zero =>
      intro x w hx g
      obtain rfl : x = 6 := by omega
      exact br_t (by decide) (hP w g)
    | succ d ih =>
      intro x w hx g
      have e : (nI L * 6 + nI x : Int32) = nI (L * 6 + x) := by
        show nI L * nI 6 + nI x = _
        rw [pk_mul, nI_add]
      refine br_f (nI_ge (b := 6) (by omega) (by decide)) ?_
      rw [e]
      refine ⟨vp_in_nI (by omega) (by omega), vp_in_nI (by omega) (by omega), nm_r (e' := upd w x (a_dom (L * 6 + x))) (by rw [nI_clamp (by omega), nI_clamp (by omega)]) (nm_r (e' := nI (x + 1)) (nI_1 _) (ih (x + 1) _ (by omega) (fun y hy => ?_)))⟩
      by_cases z : y = x
      · rw [z, pk_us]
      · rw [pk_un z]; exact g y (by omega)
  exact Exists.intro 7 (key 6 0 a_work (by omega) (fun y h => absurd h (by omega)))
end
end
section
/-! propagation: queue, trail, narrowing -/
section
theorem pc_set {x : Int32} {a : Nat} (h : bt x a = false) (ha : a < 32) : ∀ {k : Nat}, a < k → pcN (x ||| ((1 : Int32) <<< (nI a &&& 31))) k = pcN x k + 1
  | 0, hk => by omega
  | k + 1, hk => by
    have hb : ∀ i, bt (x ||| ((1 : Int32) <<< (nI a &&& 31))) i = (bt x i || decide (i = a)) := fun i => by rw [b_or, gb_shl1 ha]
    rcases Nat.lt_or_ge a k with z | z
    · simp only [pcN]; rw [pc_set h ha z, hb k, decide_eq_false (by omega), Bool.or_false]; omega
    · obtain rfl : a = k := by omega
      simp only [pcN]; rw [hb a, h, decide_eq_true rfl]
      rw [pc_congr (x := x ||| ((1 : Int32) <<< (nI a &&& 31))) (y := x) (fun i hi => by rw [hb i, decide_eq_false (by omega), Bool.or_false])]
      simp
theorem pc_clr {x : Int32} {a : Nat} (h : bt x a = true) (ha : a < 32) : ∀ {k : Nat}, a < k → pcN (x &&& (((1 : Int32) <<< (nI a &&& 31)) ^^^ (-1))) k + 1 = pcN x k
  | 0, hk => by omega
  | k + 1, hk => by
    have hb : ∀ i, bt (x &&& (((1 : Int32) <<< (nI a &&& 31)) ^^^ (-1))) i = (bt x i && !decide (i = a)) := fun i => by rw [gb_andn, gb_shl1 ha]
    rcases Nat.lt_or_ge a k with z | z
    · have := pc_clr h ha z
      simp only [pcN]; rw [hb k, decide_eq_false (by omega), Bool.not_false, Bool.and_true]; omega
    · obtain rfl : a = k := by omega
      simp only [pcN]; rw [hb a, h, decide_eq_true rfl]
      rw [pc_congr (x := x &&& (((1 : Int32) <<< (nI a &&& 31)) ^^^ (-1))) (y := x) (fun i hi => by rw [hb i, decide_eq_false (by omega), Bool.not_false, Bool.and_true])]
      simp
/-- the queue -/
def QI (cnt hd sz : Nat) (pd : Int32) (q : Nat → Int32) : Prop :=
  hd < 6 ∧ Msk cnt pd ∧ pcN pd 6 = sz ∧ ∃ g : Nat → Nat, (∀ j, j < sz → g j < cnt ∧ bt pd (g j) = true ∧ q ((hd + j) % 6) = nI (g j)) ∧ ∀ i j, i < j → j < sz → g i ≠ g j
theorem QI_0 (cnt : Nat) (q : Nat → Int32) : QI cnt 0 0 0 q :=
  ⟨by omega, mk_0 _, pc_zero 6, fun _ => 0, fun j hj => absurd hj (by omega), fun i j _ hj => absurd hj (by omega)⟩
theorem QI_le {cnt hd sz : Nat} {pd : Int32} {q : Nat → Int32} (h : QI cnt hd sz pd q) : sz ≤ 6 := by
  have := pc_le pd 6; have := h.2.2.1; omega
theorem QI_add {cnt hd sz c : Nat} {pd : Int32} {q : Nat → Int32} (h : QI cnt hd sz pd q) (hcnt : cnt ≤ 6) (hc : c < cnt) (hb : bt pd c = false) :
    sz < 6 ∧ QI cnt hd (sz + 1) (pd ||| ((1 : Int32) <<< (nI c &&& 31))) (upd q ((hd + sz) % 6) (nI c)) := by
  obtain ⟨h1, h2, h3, g, h4, h5⟩ := h
  have hs := pc_set hb (by omega) (show c < 6 by omega)
  have hs6 := pc_le (pd ||| ((1 : Int32) <<< (nI c &&& 31))) 6
  have hbt : ∀ i, bt (pd ||| ((1 : Int32) <<< (nI c &&& 31))) i = true ↔ bt pd i = true ∨ i = c := fun i => by rw [b_or, gb_shl1 (by omega), Bool.or_eq_true, decide_eq_true_eq]
  refine ⟨by omega, h1, mk_or h2 (mk_shl hc (by omega)), by omega, fun j => if j = sz then c else g j, fun j hj => ?_, fun i j hij hj => ?_⟩
  · show (if j = sz then c else g j) < cnt ∧ bt (pd ||| ((1 : Int32) <<< (nI c &&& 31))) (if j = sz then c else g j) = true ∧ upd q ((hd + sz) % 6) (nI c) ((hd + j) % 6) = nI (if j = sz then c else g j)
    by_cases z : j = sz
    · rw [if_pos z, z]; exact ⟨hc, (hbt c).mpr (Or.inr rfl), pk_us⟩
    · rw [if_neg z, pk_un (by omega)]
      obtain ⟨q1, q2, q3⟩ := h4 j (by omega)
      exact ⟨q1, (hbt _).mpr (Or.inl q2), q3⟩
  · show (if i = sz then c else g i) ≠ (if j = sz then c else g j)
    rw [if_neg (by omega)]
    by_cases z : j = sz
    · rw [if_pos z]; intro e
      have := (h4 i (by omega)).2.1
      rw [e, hb] at this; cases this
    · rw [if_neg z]; exact h5 i j hij (by omega)
theorem QI_take {cnt hd sz : Nat} {pd : Int32} {q : Nat → Int32} (h : QI cnt hd sz pd q) (hcnt : cnt ≤ 6) (hs : 0 < sz) :
    ∃ c, c < cnt ∧ bt pd c = true ∧ q hd = nI c ∧ QI cnt ((hd + 1) % 6) (sz - 1) (pd &&& (((1 : Int32) <<< (nI c &&& 31)) ^^^ (-1))) q := by
  obtain ⟨h1, h2, h3, g, h4, h5⟩ := h
  obtain ⟨q1, q2, q3⟩ := h4 0 hs
  rw [Nat.add_zero, Nat.mod_eq_of_lt h1] at q3
  have hc := pc_clr q2 (by omega) (show g 0 < 6 by omega)
  refine ⟨g 0, q1, q2, q3, by omega, mk_and h2, by omega, fun j => g (j + 1), fun j hj => ?_, fun i j hij hj => h5 (i + 1) (j + 1) (by omega) (by omega)⟩
  obtain ⟨r1, r2, r3⟩ := h4 (j + 1) (by omega)
  refine ⟨r1, ?_, ?_⟩
  · show bt (pd &&& (((1 : Int32) <<< (nI (g 0) &&& 31)) ^^^ (-1))) (g (j + 1)) = true
    rw [gb_andn, gb_shl1 (by omega), r2, decide_eq_false (fun e => h5 0 (j + 1) (by omega) (by omega) e.symm)]; rfl
  · show q (((hd + 1) % 6 + j) % 6) = nI (g (j + 1))
    rw [← r3]; congr 1; omega
/-- all bits of the masks -/
def bsum (w : Nat → Int32) : Nat → Nat
  | 0 => 0
  | k + 1 => bsum w k + pcN (w k) 6
theorem bs_upd {w : Nat → Int32} {x : Nat} {m : Int32} : ∀ {k : Nat}, x < k → bsum (upd w x m) k + pcN (w x) 6 = bsum w k + pcN m 6
  | 0, h => by omega
  | k + 1, h => by
    have keep : ∀ j, j ≤ x → bsum (upd w x m) j = bsum w j := by
      intro j
      induction j with
      | zero => intro _; rfl
      | succ j ih => intro hj; simp only [bsum]; rw [ih (by omega), pk_un (by omega)]
    rcases Nat.lt_or_ge x k with z | z
    · have := bs_upd (w := w) (m := m) z
      simp only [bsum]; rw [pk_un (by omega)]; omega
    · obtain rfl : x = k := by omega
      simp only [bsum]; rw [pk_us, keep x (Nat.le_refl _)]; omega
theorem bs_ge {w : Nat → Int32} (h : ∀ x, x < 6 → ∃ a, a < 6 ∧ bt (w x) a = true) : 6 ≤ bsum w 6 := by
  have key : ∀ x, x < 6 → 0 < pcN (w x) 6 := fun x hx => by
    obtain ⟨a, ha, hb⟩ := h x hx
    exact pc_pos hb ha
  have a0 := key 0 (by omega); have a1 := key 1 (by omega); have a2 := key 2 (by omega)
  have a3 := key 3 (by omega); have a4 := key 4 (by omega); have a5 := key 5 (by omega)
  simp only [bsum]; omega
theorem bs_le (w : Nat → Int32) : ∀ k, bsum w k ≤ 6 * k
  | 0 => Nat.le_refl _
  | k + 1 => by have := bs_le w k; have := pc_le (w k) 6; simp only [bsum]; omega
theorem bs_c {w w' : Nat → Int32} : ∀ {k : Nat}, (∀ x, x < k → w x = w' x) → bsum w k = bsum w' k
  | 0, _ => rfl
  | k + 1, h => by simp only [bsum]; rw [bs_c (fun x hx => h x (by omega)), h k (by omega)]
/-- the domains before the last d notes on the trail (notes b .. b + d - 1) -/
def und (tv tm : Nat → Int32) (b : Nat) : Nat → (Nat → Int32) → (Nat → Int32)
  | 0, w => w
  | d + 1, w => und tv tm b d (upd w (tv (b + d)).toNatClampNeg (tm (b + d)))
theorem un_c {tv tm tv' tm' : Nat → Int32} {b : Nat} : ∀ {d : Nat} {w : Nat → Int32}, (∀ i, i < b + d → tv i = tv' i ∧ tm i = tm' i) → und tv tm b d w = und tv' tm' b d w
  | 0, _, _ => rfl
  | d + 1, w, h => by
    simp only [und]
    rw [(h (b + d) (by omega)).1, (h (b + d) (by omega)).2]
    exact un_c (fun i hi => h i (by omega))
theorem un_s {tv tm : Nat → Int32} {b d : Nat} : ∀ {e : Nat} {w : Nat → Int32}, und tv tm b (d + e) w = und tv tm b d (und tv tm (b + d) e w)
  | 0, _ => rfl
  | e + 1, w => by
    show und tv tm b (d + e) _ = und tv tm b d (und tv tm (b + d) e _)
    rw [un_s (e := e), Nat.add_assoc]
    rfl
def TvOk (ts : Nat) (tv : Nat → Int32) : Prop := ∀ i, i < ts → ∃ x, x < 6 ∧ tv i = nI x
/-- from one trail to a longer one: what undoing gives is kept -/
def TrR (ts : Nat) (tv tm w : Nat → Int32) (ts' : Nat) (tv' tm' w' : Nat → Int32) : Prop :=
  ts ≤ ts' ∧ ∀ b, b ≤ ts → und tv' tm' b (ts' - b) w' = und tv tm b (ts - b) w
theorem Tr_r (ts : Nat) (tv tm w : Nat → Int32) : TrR ts tv tm w ts tv tm w := ⟨Nat.le_refl _, fun _ _ => rfl⟩
theorem Tr_t {ts ts1 ts2 : Nat} {tv tm w tv1 tm1 w1 tv2 tm2 w2 : Nat → Int32} (h : TrR ts tv tm w ts1 tv1 tm1 w1) (h' : TrR ts1 tv1 tm1 w1 ts2 tv2 tm2 w2) : TrR ts tv tm w ts2 tv2 tm2 w2 :=
  ⟨Nat.le_trans h.1 h'.1, fun b hb => (h'.2 b (Nat.le_trans hb h.1)).trans (h.2 b hb)⟩
theorem Tr_p {ts x : Nat} {tv tm w : Nat → Int32} {m : Int32} (hx : x < 6) : TrR ts tv tm w (ts + 1) (upd tv ts (nI x)) (upd tm ts (w x)) (upd w x m) := by
  refine ⟨by omega, fun b hb => ?_⟩
  rw [show ts + 1 - b = (ts - b) + 1 by omega]
  simp only [und]
  rw [show b + (ts - b) = ts by omega, pk_us, pk_us, nI_clamp (by omega), u_back]
  exact un_c (fun i hi => ⟨pk_un (by omega), pk_un (by omega)⟩)
theorem Tv_p {ts x : Nat} {tv : Nat → Int32} (hx : x < 6) (h : TvOk ts tv) : TvOk (ts + 1) (upd tv ts (nI x)) := by
  intro i hi
  by_cases z : i = ts
  · rw [z, pk_us]; exact ⟨x, hx, rfl⟩
  · rw [pk_un z]; exact h i (by omega)
end
section
variable {f_varCount f_valueCount f_maxConstraints f_maxLevel f_allValues f_allVars f_status f_currentLevel f_searchState f_searchDirection f_foundCount f_depth f_scopeSize : Int32} {a_dom a_savedDom a_savedCount a_savedStatus a_kindOf a_scopeOf a_lowBound a_highBound a_tupleCount a_coef a_tuples a_newTuple a_solution a_todo a_mark a_inVar a_inMask a_outMask a_matchOf a_owner a_reachedFrom a_bfs a_reach a_termCoef a_termMin a_span a_forward a_backward : Nat → Int32} {cnt hd sz ts : Nat} {pd : Int32} {q w tv tm : Nat → Int32}
theorem xp_enq {post : SX → Prop} {c : Nat} (hQ : QI cnt hd sz pd q) (hcnt : cnt ≤ 6) (hc : c < cnt)
    (hP : ∀ (sz' : Nat) (pd' : Int32) (q' : Nat → Int32), QI cnt hd sz' pd' q' → (∀ a, bt pd a = true → bt pd' a = true) → bt pd' c = true → post (f_varCount, f_valueCount, f_maxConstraints, f_maxLevel, f_allValues, f_allVars, f_status, f_currentLevel, nI cnt, f_searchState, f_searchDirection, f_foundCount, f_depth, nI ts, nI hd, nI sz', pd', f_scopeSize, a_dom, a_savedDom, a_savedCount, a_savedStatus, a_kindOf, a_scopeOf, a_lowBound, a_highBound, a_tupleCount, a_coef, a_tuples, a_newTuple, a_solution, a_todo, a_mark, w, tv, tm, q', a_inVar, a_inMask, a_outMask, a_matchOf, a_owner, a_reachedFrom, a_bfs, a_reach, a_termCoef, a_termMin, a_span, a_forward, a_backward)) : wpX_enqueue post (f_varCount, f_valueCount, f_maxConstraints, f_maxLevel, f_allValues, f_allVars, f_status, f_currentLevel, nI cnt, f_searchState, f_searchDirection, f_foundCount, f_depth, nI ts, nI hd, nI sz, pd, f_scopeSize, a_dom, a_savedDom, a_savedCount, a_savedStatus, a_kindOf, a_scopeOf, a_lowBound, a_highBound, a_tupleCount, a_coef, a_tuples, a_newTuple, a_solution, a_todo, a_mark, w, tv, tm, q, a_inVar, a_inMask, a_outMask, a_matchOf, a_owner, a_reachedFrom, a_bfs, a_reach, a_termCoef, a_termMin, a_span, a_forward, a_backward) (nI c) := by
  unfold wpX_enqueue
  refine xh_hb (by omega) (fun hf => ?_) (fun ht => hP sz pd q hQ (fun _ h => h) ht)
  obtain ⟨h6, hQ'⟩ := QI_add hQ hcnt hc hf
  have hd6 := hQ.1
  have hbt : ∀ i, bt (pd ||| ((1 : Int32) <<< (nI c &&& 31))) i = true ↔ bt pd i = true ∨ i = c := fun i => by rw [b_or, gb_shl1 (by omega), Bool.or_eq_true, decide_eq_true_eq]
  have fin : ∀ t : Nat, t = (hd + sz) % 6 → wX_enqueue_41 post (nI c) (nI t) f_varCount f_valueCount f_maxConstraints f_maxLevel f_allValues f_allVars f_status f_currentLevel (nI cnt) f_searchState f_searchDirection f_foundCount f_depth (nI ts) (nI hd) (nI sz) pd f_scopeSize a_dom a_savedDom a_savedCount a_savedStatus a_kindOf a_scopeOf a_lowBound a_highBound a_tupleCount a_coef a_tuples a_newTuple a_solution a_todo a_mark w tv tm q a_inVar a_inMask a_outMask a_matchOf a_owner a_reachedFrom a_bfs a_reach a_termCoef a_termMin a_span a_forward a_backward := by
    intro t ht
    refine And.intro (vp_in_nI (by omega) (by omega)) (nm_r (e' := upd q ((hd + sz) % 6) (nI c)) (by rw [nI_clamp (by omega), ht]) (nm_r (e' := nI (sz + 1)) (nI_1 _) (nm_e ?_)))
    exact hP (sz + 1) _ _ hQ' (fun a ha => (hbt a).mpr (Or.inl ha)) ((hbt c).mpr (Or.inr rfl))
  refine br_t (nI_lt (b := 6) h6 (by decide)) (nm_r (e' := nI (hd + sz)) (nI_add _ _) ?_)
  rcases Nat.lt_or_ge (hd + sz) 6 with z | z
  · exact br_t (nI_lt (b := 6) z (by decide)) (fin _ (by omega))
  · refine br_f (nI_nlt (b := 6) z (by omega)) (nm_r (e' := nI (hd + sz - 6)) ?_ (fin _ (by omega)))
    have : (nI (hd + sz) + (-6) : Int32) = nI (hd + sz) - nI 6 := by rw [Int32.sub_eq_add_neg]; rfl
    rw [this, pk_sub z]
theorem xp_72 {post : Int32 → SX → Prop} {x : Nat} {self : Int32} (hx : x < 6) (hcnt : cnt ≤ 6)
    (hP : ∀ (sz' : Nat) (pd' : Int32) (q' : Nat → Int32), QI cnt hd sz' pd' q' → (∀ a, bt pd a = true → bt pd' a = true) → (∀ c, c < cnt → ¬ nI c = self → bt (a_scopeOf c) x = true → bt pd' c = true) → post 1 (f_varCount, f_valueCount, f_maxConstraints, f_maxLevel, f_allValues, f_allVars, f_status, f_currentLevel, nI cnt, f_searchState, f_searchDirection, f_foundCount, f_depth, nI ts, nI hd, nI sz', pd', f_scopeSize, a_dom, a_savedDom, a_savedCount, a_savedStatus, a_kindOf, a_scopeOf, a_lowBound, a_highBound, a_tupleCount, a_coef, a_tuples, a_newTuple, a_solution, a_todo, a_mark, w, tv, tm, q', a_inVar, a_inMask, a_outMask, a_matchOf, a_owner, a_reachedFrom, a_bfs, a_reach, a_termCoef, a_termMin, a_span, a_forward, a_backward)) :
    ∀ (d c sz' : Nat) (pd' : Int32) (q' : Nat → Int32), c + d = cnt → QI cnt hd sz' pd' q' → (∀ a, bt pd a = true → bt pd' a = true) → (∀ c', c' < c → ¬ nI c' = self → bt (a_scopeOf c') x = true → bt pd' c' = true) →
      wX_narrow_72 post (nI x) self (d + 1) (nI c) f_varCount f_valueCount f_maxConstraints f_maxLevel f_allValues f_allVars f_status f_currentLevel (nI cnt) f_searchState f_searchDirection f_foundCount f_depth (nI ts) (nI hd) (nI sz') pd' f_scopeSize a_dom a_savedDom a_savedCount a_savedStatus a_kindOf a_scopeOf a_lowBound a_highBound a_tupleCount a_coef a_tuples a_newTuple a_solution a_todo a_mark w tv tm q' a_inVar a_inMask a_outMask a_matchOf a_owner a_reachedFrom a_bfs a_reach a_termCoef a_termMin a_span a_forward a_backward := by
  intro d
  induction d with
  | zero =>
    intro c sz' pd' q' hc hQ g1 g2
    obtain rfl : c = cnt := by omega
    exact br_t (nI_le (Nat.le_refl _) (by omega)) (hP sz' pd' q' hQ g1 g2)
  | succ d ih =>
    intro c sz' pd' q' hc hQ g1 g2
    refine br_f (nI_ge (by omega) (by omega)) ?_
    by_cases z : nI c = self
    · refine br_t z (nm_r (e' := nI (c + 1)) (nI_1 _) (ih (c + 1) sz' pd' q' (by omega) hQ g1 (fun c' hc' hn hb => ?_)))
      have : c' ≠ c := fun e => hn (e ▸ z)
      exact g2 c' (by omega) hn hb
    · refine br_f z ⟨vp_in_nI (by omega) (by omega), ?_⟩
      rw [nI_clamp (by omega)]
      refine xh_hb (by omega) (fun hf => nm_r (e' := nI (c + 1)) (nI_1 _) (ih (c + 1) sz' pd' q' (by omega) hQ g1 (fun c' hc' hn hb => ?_))) (fun ht => xp_enq hQ hcnt (by omega) (fun sz2 pd2 q2 hQ2 r1 r2 => nm_r (e' := nI (c + 1)) (nI_1 _) (ih (c + 1) sz2 pd2 q2 (by omega) hQ2 (fun a ha => r1 a (g1 a ha)) (fun c' hc' hn hb => ?_))))
      · have : c' ≠ c := fun e => by rw [e, hf] at hb; cases hb
        exact g2 c' (by omega) hn hb
      · by_cases y : c' = c
        · rw [y]; exact r2
        · exact r1 c' (g2 c' (by omega) hn hb)
theorem xp_nar {post : Int32 → SX → Prop} {x : Nat} {mask self : Int32} (hx : x < 6) (hcnt : cnt ≤ 6) (hQ : QI cnt hd sz pd q) (hts : ts < 36)
    (h0 : mask = 0 → post 0 (f_varCount, f_valueCount, f_maxConstraints, f_maxLevel, f_allValues, f_allVars, f_status, f_currentLevel, nI cnt, f_searchState, f_searchDirection, f_foundCount, f_depth, nI ts, nI hd, nI sz, pd, f_scopeSize, a_dom, a_savedDom, a_savedCount, a_savedStatus, a_kindOf, a_scopeOf, a_lowBound, a_highBound, a_tupleCount, a_coef, a_tuples, a_newTuple, a_solution, a_todo, a_mark, w, tv, tm, q, a_inVar, a_inMask, a_outMask, a_matchOf, a_owner, a_reachedFrom, a_bfs, a_reach, a_termCoef, a_termMin, a_span, a_forward, a_backward)) (h1 : ¬ mask = 0 → mask = w x → post 1 (f_varCount, f_valueCount, f_maxConstraints, f_maxLevel, f_allValues, f_allVars, f_status, f_currentLevel, nI cnt, f_searchState, f_searchDirection, f_foundCount, f_depth, nI ts, nI hd, nI sz, pd, f_scopeSize, a_dom, a_savedDom, a_savedCount, a_savedStatus, a_kindOf, a_scopeOf, a_lowBound, a_highBound, a_tupleCount, a_coef, a_tuples, a_newTuple, a_solution, a_todo, a_mark, w, tv, tm, q, a_inVar, a_inMask, a_outMask, a_matchOf, a_owner, a_reachedFrom, a_bfs, a_reach, a_termCoef, a_termMin, a_span, a_forward, a_backward))
    (h2 : ¬ mask = 0 → ¬ mask = w x → ∀ (sz' : Nat) (pd' : Int32) (q' : Nat → Int32), QI cnt hd sz' pd' q' → (∀ a, bt pd a = true → bt pd' a = true) → (∀ c, c < cnt → ¬ nI c = self → bt (a_scopeOf c) x = true → bt pd' c = true) →
      post 1 (f_varCount, f_valueCount, f_maxConstraints, f_maxLevel, f_allValues, f_allVars, f_status, f_currentLevel, nI cnt, f_searchState, f_searchDirection, f_foundCount, f_depth, nI (ts + 1), nI hd, nI sz', pd', f_scopeSize, a_dom, a_savedDom, a_savedCount, a_savedStatus, a_kindOf, a_scopeOf, a_lowBound, a_highBound, a_tupleCount, a_coef, a_tuples, a_newTuple, a_solution, a_todo, a_mark, upd w x mask, upd tv ts (nI x), upd tm ts (w x), q', a_inVar, a_inMask, a_outMask, a_matchOf, a_owner, a_reachedFrom, a_bfs, a_reach, a_termCoef, a_termMin, a_span, a_forward, a_backward)) : wpX_narrow post (f_varCount, f_valueCount, f_maxConstraints, f_maxLevel, f_allValues, f_allVars, f_status, f_currentLevel, nI cnt, f_searchState, f_searchDirection, f_foundCount, f_depth, nI ts, nI hd, nI sz, pd, f_scopeSize, a_dom, a_savedDom, a_savedCount, a_savedStatus, a_kindOf, a_scopeOf, a_lowBound, a_highBound, a_tupleCount, a_coef, a_tuples, a_newTuple, a_solution, a_todo, a_mark, w, tv, tm, q, a_inVar, a_inMask, a_outMask, a_matchOf, a_owner, a_reachedFrom, a_bfs, a_reach, a_termCoef, a_termMin, a_span, a_forward, a_backward) (nI x) mask self := by
  have hcx : (nI x).toNatClampNeg = x := nI_clamp (by omega)
  have hct : (nI ts).toNatClampNeg = ts := nI_clamp (by omega)
  by_cases z0 : mask = 0
  · exact br_t z0 (h0 z0)
  · refine br_f z0 ⟨vp_in_nI (by omega) (by omega), ?_⟩
    rw [hcx, hct]
    by_cases z1 : mask = w x
    · exact br_t z1 (h1 z0 z1)
    · refine br_f z1 (br_f (nI_ge (b := 36) hts (by decide)) ⟨vp_in_nI (by omega) (by omega), nm_e ⟨vp_in_nI (by omega) (by omega), vp_in_nI (by omega) (by omega), nm_e (nm_r (e' := nI (ts + 1)) (nI_1 _) ⟨vp_in_nI (by omega) (by omega), nm_e (Exists.intro (cnt + 1) ?_)⟩)⟩⟩)
      exact xp_72 hx hcnt (h2 z0 z1) cnt 0 sz pd q (by omega) hQ (fun _ h => h) (fun c' h => absurd h (by omega))
end
end
section
/-! propagation: revise, runQueue, propagateFromDomains -/
section
def PV (V : Nat) (w : Nat → Int32) : Prop := ∀ x, x < 6 → Msk V (w x) ∧ ∃ a, bt (w x) a = true
/-- a constraint with a variable that has no support: shown on domains that keep every fixed point -/
def Fl (n cnt : Nat) (S : Nat → Int32) (H : Nat → (Nat → Nat) → Prop) (D : Nat → Int32) : Prop :=
  ∃ (W : Nat → Int32) (c x : Nat), c < cnt ∧ x < n ∧ bt (S c) x = true ∧ Snd n cnt S H D W ∧ ∀ a, ¬ Sup n S H W c x a
def PI (n V cnt : Nat) (S : Nat → Int32) (H : Nat → (Nat → Nat) → Prop) (D : Nat → Int32) (hd sz : Nat) (pd : Int32) (q : Nat → Int32) (ts : Nat) (tv w : Nat → Int32) : Prop :=
  PV V w ∧ QI cnt hd sz pd q ∧ ts + bsum w 6 ≤ 36 ∧ TvOk ts tv ∧ Snd n cnt S H D w ∧ Sbs n w D
def PSt (n cnt : Nat) (S : Nat → Int32) (H : Nat → (Nat → Nat) → Prop) (w : Nat → Int32) (pd : Int32) (self : Nat) : Prop := ∀ c, c < cnt → c ≠ self → bt pd c = true ∨ Cst n S H w c
theorem PV_6 {V : Nat} {w : Nat → Int32} (hV : V ≤ 6) (h : PV V w) : ∀ x, x < 6 → ∃ a, a < 6 ∧ bt (w x) a = true := by
  intro x hx
  obtain ⟨h1, a, ha⟩ := h x hx
  exact ⟨a, by have := mk_lt h1 ha; omega, ha⟩
theorem PI_ts {n V cnt : Nat} {S : Nat → Int32} {H : Nat → (Nat → Nat) → Prop} {D : Nat → Int32} {hd sz : Nat} {pd : Int32} {q : Nat → Int32} {ts : Nat} {tv w : Nat → Int32} (hV : V ≤ 6) (h : PI n V cnt S H D hd sz pd q ts tv w) : ts ≤ 30 := by
  have := bs_ge (PV_6 hV h.1); have := h.2.2.1; omega
/-- one narrowing -/
theorem PI_nar {n V cnt : Nat} {S : Nat → Int32} {H : Nat → (Nat → Nat) → Prop} {D W0 : Nat → Int32} {hd sz sz' : Nat} {pd pd' mask : Int32} {q q' : Nat → Int32} {ts : Nat} {tv w : Nat → Int32} {c x : Nat} (hn : n ≤ 6) (hV : V ≤ 6) (hc : c < cnt) (hx : x < n) (hb : bt (S c) x = true)
    (h : PI n V cnt S H D hd sz pd q ts tv w) (h0 : Snd n cnt S H D W0) (hw : w x = W0 x) (hm : ∀ a, bt mask a = true ↔ Sup n S H W0 c x a) (m0 : ¬ mask = 0) (m1 : ¬ mask = w x) (hQ : QI cnt hd sz' pd' q') :
    PI n V cnt S H D hd sz' pd' q' (ts + 1) (upd tv ts (nI x)) (upd w x mask) ∧ sz' + 6 * bsum (upd w x mask) 6 ≤ sz + 6 * bsum w 6 := by
  obtain ⟨p1, p2, p3, p4, p5, p6⟩ := h
  have hsub : ∀ a, bt mask a = true → bt (w x) a = true := fun a ha => by rw [hw]; exact Sup_in hx hb ((hm a).mp ha)
  have hmk := (p1 x (by omega)).1
  have hst : pcN mask 6 < pcN (w x) 6 := by
    have hex : ∃ a, bt mask a = false ∧ bt (w x) a = true := by
      apply Classical.byContradiction
      intro hne
      apply m1
      apply gb_e
      intro a
      refine ⟨hsub a, fun ha => ?_⟩
      cases hq : bt mask a with
      | true => rfl
      | false => exact absurd ⟨a, hq, ha⟩ hne
    obtain ⟨a, a1, a2⟩ := hex
    exact pc_subs (fun i _ hi => hsub i hi) (by have := mk_lt hmk a2; omega) a1 a2
  have hbs := bs_upd (w := w) (x := x) (m := mask) (k := 6) (by omega)
  have hsz := QI_le hQ
  refine ⟨⟨fun y hy => ?_, hQ, by omega, Tv_p (by omega) p4, Snd_n hc p5 h0 hx hb hm, fun y a hy ha => ?_⟩, by omega⟩
  · by_cases z : y = x
    · rw [z, pk_us]
      refine ⟨fun i hi => ?_, gb_ne0.mp m0⟩
      cases hq : bt mask i with
      | false => rfl
      | true => have := hsub i hq; rw [hmk i hi] at this; cases this
    · rw [pk_un z]; exact p1 y hy
  · by_cases z : y = x
    · rw [z, pk_us] at ha; rw [z] at hy ⊢; exact p6 x a hy (hsub a ha)
    · rw [pk_un z] at ha; exact p6 y a hy ha
end
section
variable {f_maxConstraints f_maxLevel f_allValues f_allVars f_status f_currentLevel f_searchState f_searchDirection f_foundCount f_depth : Int32} {a_dom a_savedDom a_savedCount a_savedStatus a_kindOf a_scopeOf a_lowBound a_highBound a_tupleCount a_coef a_tuples a_newTuple a_solution a_todo a_mark : Nat → Int32} {n V cnt hd sz ts : Nat} {pd : Int32} {q w tv tm D tu : Nat → Int32}
theorem xp_8 {post : Int32 → SX → Prop} {c : Nat} {W0 : Nat → Int32} {ts0 : Nat} {tv0 tm0 : Nat → Int32} {M0 : Nat} {s1 s2 s3 s4 s5 s6 s7 s8 s9 s10 s11 s12 s13 : Nat → Int32} (hn : n ≤ 6) (hV : V ≤ 6) (hcnt : cnt ≤ 6) (hc : c < cnt) (hmk : Msk n (a_scopeOf c)) (h5 : pcN (a_scopeOf c) 6 ≤ 5)
    (hcs : csR n (a_scopeOf c) (Sup n a_scopeOf (Hd n a_kindOf a_scopeOf a_lowBound a_highBound a_tupleCount a_coef tu) W0 c) s1 s3) (hW0 : Snd n cnt a_scopeOf (Hd n a_kindOf a_scopeOf a_lowBound a_highBound a_tupleCount a_coef tu) D W0)
    (h0 : Fl n cnt a_scopeOf (Hd n a_kindOf a_scopeOf a_lowBound a_highBound a_tupleCount a_coef tu) D → ∀ (sz' : Nat) (pd' : Int32) (q' : Nat → Int32) (ts' : Nat) (w' tv' tm' : Nat → Int32), TvOk ts' tv' → ts' ≤ 36 → TrR ts0 tv0 tm0 W0 ts' tv' tm' w' → post 0 (nI n, nI V, f_maxConstraints, f_maxLevel, f_allValues, f_allVars, f_status, f_currentLevel, nI cnt, f_searchState, f_searchDirection, f_foundCount, f_depth, nI ts', nI hd, nI sz', pd', nI (pcN (a_scopeOf c) n), a_dom, a_savedDom, a_savedCount, a_savedStatus, a_kindOf, a_scopeOf, a_lowBound, a_highBound, a_tupleCount, a_coef, a_tuples, a_newTuple, a_solution, a_todo, a_mark, w', tv', tm', q', s1, s2, s3, s4, s5, s6, s7, s8, s9, s10, s11, s12, s13))
    (h1 : ∀ (sz' : Nat) (pd' : Int32) (q' : Nat → Int32) (ts' : Nat) (w' tv' tm' : Nat → Int32), PI n V cnt a_scopeOf (Hd n a_kindOf a_scopeOf a_lowBound a_highBound a_tupleCount a_coef tu) D hd sz' pd' q' ts' tv' w' → PSt n cnt a_scopeOf (Hd n a_kindOf a_scopeOf a_lowBound a_highBound a_tupleCount a_coef tu) w' pd' cnt → TrR ts0 tv0 tm0 W0 ts' tv' tm' w' → sz' + 6 * bsum w' 6 ≤ M0 → post 1 (nI n, nI V, f_maxConstraints, f_maxLevel, f_allValues, f_allVars, f_status, f_currentLevel, nI cnt, f_searchState, f_searchDirection, f_foundCount, f_depth, nI ts', nI hd, nI sz', pd', nI (pcN (a_scopeOf c) n), a_dom, a_savedDom, a_savedCount, a_savedStatus, a_kindOf, a_scopeOf, a_lowBound, a_highBound, a_tupleCount, a_coef, a_tuples, a_newTuple, a_solution, a_todo, a_mark, w', tv', tm', q', s1, s2, s3, s4, s5, s6, s7, s8, s9, s10, s11, s12, s13)) :
    ∀ (d i : Nat) (sz' : Nat) (pd' : Int32) (q' : Nat → Int32) (ts' : Nat) (w' tv' tm' : Nat → Int32), i + d = pcN (a_scopeOf c) n → PI n V cnt a_scopeOf (Hd n a_kindOf a_scopeOf a_lowBound a_highBound a_tupleCount a_coef tu) D hd sz' pd' q' ts' tv' w' → PSt n cnt a_scopeOf (Hd n a_kindOf a_scopeOf a_lowBound a_highBound a_tupleCount a_coef tu) w' pd' c → TrR ts0 tv0 tm0 W0 ts' tv' tm' w' → sz' + 6 * bsum w' 6 ≤ M0 →
      (∀ y, y < n → bt (a_scopeOf c) y = true → pcN (a_scopeOf c) y < i → ∀ a, bt (w' y) a = true ↔ Sup n a_scopeOf (Hd n a_kindOf a_scopeOf a_lowBound a_highBound a_tupleCount a_coef tu) W0 c y a) → (∀ y, y < n → bt (a_scopeOf c) y = true → i ≤ pcN (a_scopeOf c) y → w' y = W0 y) →
      wX_revise_8 post (nI c) (d + 1) (nI i) (nI n) (nI V) f_maxConstraints f_maxLevel f_allValues f_allVars f_status f_currentLevel (nI cnt) f_searchState f_searchDirection f_foundCount f_depth (nI ts') (nI hd) (nI sz') pd' (nI (pcN (a_scopeOf c) n)) a_dom a_savedDom a_savedCount a_savedStatus a_kindOf a_scopeOf a_lowBound a_highBound a_tupleCount a_coef a_tuples a_newTuple a_solution a_todo a_mark w' tv' tm' q' s1 s2 s3 s4 s5 s6 s7 s8 s9 s10 s11 s12 s13 := by
  intro d
  have hpc := pl_pc hn hmk
  induction d with
  | zero =>
    intro i sz' pd' q' ts' w' tv' tm' hi hP hS hT hM g1 g2
    obtain rfl : i = pcN (a_scopeOf c) n := by omega
    refine br_t (nI_le (Nat.le_refl _) (by omega)) (h1 sz' pd' q' ts' w' tv' tm' hP (fun c' hc' _ => ?_) hT hM)
    by_cases z : c' = c
    · subst z
      exact Or.inr (Cst_f (D := W0) (fun x hx hb a => g1 x hx hb (pc_lt hb hx) a))
    · exact hS c' hc' z
  | succ d ih =>
    intro i sz' pd' q' ts' w' tv' tm' hi hP hS hT hM g1 g2
    obtain ⟨x, hx, hb, hpx⟩ := pc_surj (show i < pcN (a_scopeOf c) n by omega)
    obtain ⟨e1, e2⟩ := hcs x hx hb
    rw [hpx] at e1 e2
    refine br_f (nI_ge (by omega) (by omega)) ⟨vp_in_nI (by omega) (by omega), vp_in_nI (by omega) (by omega), ?_⟩
    rw [nI_clamp (by omega), e1]
    have hts := PI_ts hV hP
    have hwx : w' x = W0 x := g2 x hx hb (by omega)
    refine xp_nar (by omega) hcnt hP.2.1 (by omega) (fun z => br_t rfl (h0 ⟨W0, c, x, hc, hx, hb, hW0, fun a ha => ?_⟩ sz' pd' q' ts' w' tv' tm' hP.2.2.2.1 (by omega) hT)) (fun z0 z1 => br_f (by decide) (nm_r (e' := nI (i + 1)) (nI_1 _) (ih (i + 1) sz' pd' q' ts' w' tv' tm' (by omega) hP hS hT hM (fun y hy hyb hyi => ?_) (fun y hy hyb hyi => g2 y hy hyb (by omega))))) (fun z0 z1 sz2 pd2 q2 hQ2 r1 r2 => br_f (by decide) (nm_r (e' := nI (i + 1)) (nI_1 _) ?_))
    · have := (e2 a).mpr ha
      rw [z, b_0] at this; cases this
    · by_cases y1 : y = x
      · subst y1; intro a; rw [← z1]; exact e2 a
      · have : pcN (a_scopeOf c) y ≠ i := fun e => y1 (pc_inj hyb hb (e.trans hpx.symm))
        exact g1 y hy hyb (by omega)
    · have key := PI_nar hn hV hc hx hb hP hW0 hwx e2 z0 z1 hQ2
      refine ih (i + 1) sz2 pd2 q2 (ts' + 1) (upd w' x (s3 i)) (upd tv' ts' (nI x)) (upd tm' ts' (w' x)) (by omega) key.1 (fun c' hc' hne => ?_) (Tr_t hT (Tr_p (by omega))) (Nat.le_trans key.2 hM) (fun y hy hyb hyi => ?_) (fun y hy hyb hyi => ?_)
      · cases hbx : bt (a_scopeOf c') x with
        | true => exact Or.inl (r2 c' hc' (fun e => hne (nI_inj (by omega) (by omega) e)) hbx)
        | false =>
          rcases hS c' hc' hne with h | h
          · exact Or.inl (r1 c' h)
          · refine Or.inr (Cst_l (fun y hy hyb => ?_) h)
            have : y ≠ x := fun e => by rw [e, hbx] at hyb; cases hyb
            rw [pk_un this]
      · by_cases y1 : y = x
        · subst y1; intro a; rw [pk_us]; exact e2 a
        · have : pcN (a_scopeOf c) y ≠ i := fun e => y1 (pc_inj hyb hb (e.trans hpx.symm))
          rw [pk_un y1]
          exact g1 y hy hyb (by omega)
      · have : y ≠ x := fun e => by rw [e, hpx] at hyi; omega
        rw [pk_un this]
        exact g2 y hy hyb (by omega)
theorem xp_rev {post : Int32 → SX → Prop} {c : Nat} {ss : Int32} {s1 s2 s3 s4 s5 s6 s7 s8 s9 s10 s11 s12 s13 : Nat → Int32} (hn : n ≤ 6) (hV : V ≤ 6) (hcnt : cnt ≤ 6) (hc : c < cnt) (hok : COk n V a_kindOf a_scopeOf a_tupleCount a_coef a_tuples tu c)
    (hP : PI n V cnt a_scopeOf (Hd n a_kindOf a_scopeOf a_lowBound a_highBound a_tupleCount a_coef tu) D hd sz pd q ts tv w) (hS : PSt n cnt a_scopeOf (Hd n a_kindOf a_scopeOf a_lowBound a_highBound a_tupleCount a_coef tu) w pd c)
    (h0 : Fl n cnt a_scopeOf (Hd n a_kindOf a_scopeOf a_lowBound a_highBound a_tupleCount a_coef tu) D → ∀ (ss : Int32) (s1 s2 s3 s4 s5 s6 s7 s8 s9 s10 s11 s12 s13 : Nat → Int32) (sz' : Nat) (pd' : Int32) (q' : Nat → Int32) (ts' : Nat) (w' tv' tm' : Nat → Int32), TvOk ts' tv' → ts' ≤ 36 → TrR ts tv tm w ts' tv' tm' w' → post 0 (nI n, nI V, f_maxConstraints, f_maxLevel, f_allValues, f_allVars, f_status, f_currentLevel, nI cnt, f_searchState, f_searchDirection, f_foundCount, f_depth, nI ts', nI hd, nI sz', pd', ss, a_dom, a_savedDom, a_savedCount, a_savedStatus, a_kindOf, a_scopeOf, a_lowBound, a_highBound, a_tupleCount, a_coef, a_tuples, a_newTuple, a_solution, a_todo, a_mark, w', tv', tm', q', s1, s2, s3, s4, s5, s6, s7, s8, s9, s10, s11, s12, s13))
    (h1 : ∀ (ss : Int32) (s1 s2 s3 s4 s5 s6 s7 s8 s9 s10 s11 s12 s13 : Nat → Int32) (sz' : Nat) (pd' : Int32) (q' : Nat → Int32) (ts' : Nat) (w' tv' tm' : Nat → Int32), PI n V cnt a_scopeOf (Hd n a_kindOf a_scopeOf a_lowBound a_highBound a_tupleCount a_coef tu) D hd sz' pd' q' ts' tv' w' → PSt n cnt a_scopeOf (Hd n a_kindOf a_scopeOf a_lowBound a_highBound a_tupleCount a_coef tu) w' pd' cnt → TrR ts tv tm w ts' tv' tm' w' → sz' + 6 * bsum w' 6 ≤ sz + 6 * bsum w 6 → post 1 (nI n, nI V, f_maxConstraints, f_maxLevel, f_allValues, f_allVars, f_status, f_currentLevel, nI cnt, f_searchState, f_searchDirection, f_foundCount, f_depth, nI ts', nI hd, nI sz', pd', ss, a_dom, a_savedDom, a_savedCount, a_savedStatus, a_kindOf, a_scopeOf, a_lowBound, a_highBound, a_tupleCount, a_coef, a_tuples, a_newTuple, a_solution, a_todo, a_mark, w', tv', tm', q', s1, s2, s3, s4, s5, s6, s7, s8, s9, s10, s11, s12, s13)) : wpX_revise post (nI n, nI V, f_maxConstraints, f_maxLevel, f_allValues, f_allVars, f_status, f_currentLevel, nI cnt, f_searchState, f_searchDirection, f_foundCount, f_depth, nI ts, nI hd, nI sz, pd, ss, a_dom, a_savedDom, a_savedCount, a_savedStatus, a_kindOf, a_scopeOf, a_lowBound, a_highBound, a_tupleCount, a_coef, a_tuples, a_newTuple, a_solution, a_todo, a_mark, w, tv, tm, q, s1, s2, s3, s4, s5, s6, s7, s8, s9, s10, s11, s12, s13) (nI c) := by
  unfold wpX_revise
  refine xc_sup (D := w) hn hV (by omega) hok (fun x hx => hP.1 x (by omega)) (Or.inr ⟨by decide, rfl⟩) (fun s1 s2 s3 s4 s5 s6 s7 s8 s9 s10 s11 s12 s13 hcs => Exists.intro (pcN (a_scopeOf c) n + 1) ?_)
  exact xp_8 (W0 := w) (ts0 := ts) (tv0 := tv) (tm0 := tm) hn hV hcnt hc hok.2.1 hok.2.2.2.1 hcs hP.2.2.2.2.1 (fun hf => h0 hf _ s1 s2 s3 s4 s5 s6 s7 s8 s9 s10 s11 s12 s13) (h1 _ s1 s2 s3 s4 s5 s6 s7 s8 s9 s10 s11 s12 s13) (pcN (a_scopeOf c) n) 0 sz pd q ts w tv tm (by omega) hP hS (Tr_r _ _ _ _) (Nat.le_refl _) (fun y hy hyb hyi => absurd hyi (by omega)) (fun y _ _ _ => rfl)
theorem xp_rq {post : Int32 → SX → Prop} {ts0 : Nat} {tv0 tm0 W0 : Nat → Int32} (hn : n ≤ 6) (hV : V ≤ 6) (hcnt : cnt ≤ 6) (hok : ∀ c, c < cnt → COk n V a_kindOf a_scopeOf a_tupleCount a_coef a_tuples tu c)
    (h0 : Fl n cnt a_scopeOf (Hd n a_kindOf a_scopeOf a_lowBound a_highBound a_tupleCount a_coef tu) D → ∀ (ss : Int32) (s1 s2 s3 s4 s5 s6 s7 s8 s9 s10 s11 s12 s13 : Nat → Int32) (hd' sz' : Nat) (pd' : Int32) (q' : Nat → Int32) (ts' : Nat) (w' tv' tm' : Nat → Int32), TvOk ts' tv' → ts' ≤ 36 → TrR ts0 tv0 tm0 W0 ts' tv' tm' w' → post 0 (nI n, nI V, f_maxConstraints, f_maxLevel, f_allValues, f_allVars, f_status, f_currentLevel, nI cnt, f_searchState, f_searchDirection, f_foundCount, f_depth, nI ts', nI hd', nI sz', pd', ss, a_dom, a_savedDom, a_savedCount, a_savedStatus, a_kindOf, a_scopeOf, a_lowBound, a_highBound, a_tupleCount, a_coef, a_tuples, a_newTuple, a_solution, a_todo, a_mark, w', tv', tm', q', s1, s2, s3, s4, s5, s6, s7, s8, s9, s10, s11, s12, s13))
    (h1 : ∀ (ss : Int32) (s1 s2 s3 s4 s5 s6 s7 s8 s9 s10 s11 s12 s13 : Nat → Int32) (hd' sz' : Nat) (pd' : Int32) (q' : Nat → Int32) (ts' : Nat) (w' tv' tm' : Nat → Int32), PI n V cnt a_scopeOf (Hd n a_kindOf a_scopeOf a_lowBound a_highBound a_tupleCount a_coef tu) D hd' sz' pd' q' ts' tv' w' → Fixd n cnt a_scopeOf (Hd n a_kindOf a_scopeOf a_lowBound a_highBound a_tupleCount a_coef tu) w' → TrR ts0 tv0 tm0 W0 ts' tv' tm' w' → post 1 (nI n, nI V, f_maxConstraints, f_maxLevel, f_allValues, f_allVars, f_status, f_currentLevel, nI cnt, f_searchState, f_searchDirection, f_foundCount, f_depth, nI ts', nI hd', nI sz', pd', ss, a_dom, a_savedDom, a_savedCount, a_savedStatus, a_kindOf, a_scopeOf, a_lowBound, a_highBound, a_tupleCount, a_coef, a_tuples, a_newTuple, a_solution, a_todo, a_mark, w', tv', tm', q', s1, s2, s3, s4, s5, s6, s7, s8, s9, s10, s11, s12, s13)) :
    ∀ (m turn : Nat) (ss : Int32) (s1 s2 s3 s4 s5 s6 s7 s8 s9 s10 s11 s12 s13 : Nat → Int32) (hd' sz' : Nat) (pd' : Int32) (q' : Nat → Int32) (ts' : Nat) (w' tv' tm' : Nat → Int32), turn + m < 300 → sz' + 6 * bsum w' 6 ≤ m → PI n V cnt a_scopeOf (Hd n a_kindOf a_scopeOf a_lowBound a_highBound a_tupleCount a_coef tu) D hd' sz' pd' q' ts' tv' w' → PSt n cnt a_scopeOf (Hd n a_kindOf a_scopeOf a_lowBound a_highBound a_tupleCount a_coef tu) w' pd' cnt → TrR ts0 tv0 tm0 W0 ts' tv' tm' w' →
      wX_runQueue_2 post (m + 1) (nI turn) (nI n) (nI V) f_maxConstraints f_maxLevel f_allValues f_allVars f_status f_currentLevel (nI cnt) f_searchState f_searchDirection f_foundCount f_depth (nI ts') (nI hd') (nI sz') pd' ss a_dom a_savedDom a_savedCount a_savedStatus a_kindOf a_scopeOf a_lowBound a_highBound a_tupleCount a_coef a_tuples a_newTuple a_solution a_todo a_mark w' tv' tm' q' s1 s2 s3 s4 s5 s6 s7 s8 s9 s10 s11 s12 s13 := by
  intro m
  induction m with
  | zero =>
    intro turn ss s1 s2 s3 s4 s5 s6 s7 s8 s9 s10 s11 s12 s13 hd' sz' pd' q' ts' w' tv' tm' ht hm hP hS hT
    have := bs_ge (PV_6 hV hP.1)
    omega
  | succ m ih =>
    intro turn ss s1 s2 s3 s4 s5 s6 s7 s8 s9 s10 s11 s12 s13 hd' sz' pd' q' ts' w' tv' tm' ht hm hP hS hT
    refine br_f (nI_ge (b := 300) (by omega) (by decide)) ?_
    have hs6 := QI_le hP.2.1
    have hhd := hP.2.1.1
    rcases Nat.eq_zero_or_pos sz' with z | z
    · refine br_t (by rw [z]; decide) (h1 ss s1 s2 s3 s4 s5 s6 s7 s8 s9 s10 s11 s12 s13 hd' sz' pd' q' ts' w' tv' tm' hP (fun c hc => ?_) hT)
      rcases hS c hc (by omega) with h | h
      · have := pc_pos h (show c < 6 by omega)
        have := hP.2.1.2.2.1
        omega
      · exact h
    · obtain ⟨c, hc, hpc, hqc, hQ⟩ := QI_take hP.2.1 hcnt z
      refine br_f (nI_nle z (by omega)) ⟨vp_in_nI hhd (by omega), nm_r (e' := nI c) (by rw [nI_clamp (by omega)]; exact hqc) (nm_r (e' := nI (hd' + 1)) (nI_1 _) ?_)⟩
      have hP' : PI n V cnt a_scopeOf (Hd n a_kindOf a_scopeOf a_lowBound a_highBound a_tupleCount a_coef tu) D ((hd' + 1) % 6) (sz' - 1) (pd' &&& (((1 : Int32) <<< (nI c &&& 31)) ^^^ (-1))) q' ts' tv' w' := ⟨hP.1, hQ, hP.2.2⟩
      have fin : ∀ h2 : Nat, h2 = (hd' + 1) % 6 → wX_runQueue_50 post (wX_runQueue_2 post (m + 1)) (nI turn) (nI c) (nI n) (nI V) f_maxConstraints f_maxLevel f_allValues f_allVars f_status f_currentLevel (nI cnt) f_searchState f_searchDirection f_foundCount f_depth (nI ts') (nI h2) (nI sz') pd' ss a_dom a_savedDom a_savedCount a_savedStatus a_kindOf a_scopeOf a_lowBound a_highBound a_tupleCount a_coef a_tuples a_newTuple a_solution a_todo a_mark w' tv' tm' q' s1 s2 s3 s4 s5 s6 s7 s8 s9 s10 s11 s12 s13 := by
        intro h2 e2
        subst e2
        refine nm_r (e' := nI (sz' - 1)) ?_ (nm_e ?_)
        · exact pk_sub (b := 1) z
        · refine xp_rev hn hV hcnt hc (hok c hc) hP' (fun c' hc' hne => ?_) (fun hf ss s1 s2 s3 s4 s5 s6 s7 s8 s9 s10 s11 s12 s13 sz2 pd2 q2 ts2 w2 tv2 tm2 r1 r2 r3 => br_t rfl (h0 hf ss s1 s2 s3 s4 s5 s6 s7 s8 s9 s10 s11 s12 s13 _ sz2 pd2 q2 ts2 w2 tv2 tm2 r1 r2 (Tr_t hT r3))) (fun ss s1 s2 s3 s4 s5 s6 s7 s8 s9 s10 s11 s12 s13 sz2 pd2 q2 ts2 w2 tv2 tm2 r1 r2 r3 r4 => br_f (by decide) (nm_r (e' := nI (turn + 1)) (nI_1 _) (ih (turn + 1) ss s1 s2 s3 s4 s5 s6 s7 s8 s9 s10 s11 s12 s13 _ sz2 pd2 q2 ts2 w2 tv2 tm2 (by omega) (by omega) r1 r2 (Tr_t hT r3))))
          rcases hS c' hc' (by omega) with h | h
          · refine Or.inl ?_
            rw [gb_andn, gb_shl1 (by omega), h, decide_eq_false hne]; rfl
          · exact Or.inr h
      rcases Nat.lt_or_ge (hd' + 1) 6 with y | y
      · exact br_t (nI_lt (b := 6) y (by decide)) (fin (hd' + 1) (by omega))
      · exact br_f (nI_nlt (b := 6) y (by omega)) (fin 0 (by omega))
theorem xp_run {post : Int32 → SX → Prop} {ss : Int32} {s1 s2 s3 s4 s5 s6 s7 s8 s9 s10 s11 s12 s13 : Nat → Int32} (hn : n ≤ 6) (hV : V ≤ 6) (hcnt : cnt ≤ 6) (hok : ∀ c, c < cnt → COk n V a_kindOf a_scopeOf a_tupleCount a_coef a_tuples tu c)
    (hP : PI n V cnt a_scopeOf (Hd n a_kindOf a_scopeOf a_lowBound a_highBound a_tupleCount a_coef tu) D hd sz pd q ts tv w) (hS : PSt n cnt a_scopeOf (Hd n a_kindOf a_scopeOf a_lowBound a_highBound a_tupleCount a_coef tu) w pd cnt)
    (h0 : Fl n cnt a_scopeOf (Hd n a_kindOf a_scopeOf a_lowBound a_highBound a_tupleCount a_coef tu) D → ∀ (ss : Int32) (s1 s2 s3 s4 s5 s6 s7 s8 s9 s10 s11 s12 s13 : Nat → Int32) (hd' sz' : Nat) (pd' : Int32) (q' : Nat → Int32) (ts' : Nat) (w' tv' tm' : Nat → Int32), TvOk ts' tv' → ts' ≤ 36 → TrR ts tv tm w ts' tv' tm' w' → post 0 (nI n, nI V, f_maxConstraints, f_maxLevel, f_allValues, f_allVars, f_status, f_currentLevel, nI cnt, f_searchState, f_searchDirection, f_foundCount, f_depth, nI ts', nI hd', nI sz', pd', ss, a_dom, a_savedDom, a_savedCount, a_savedStatus, a_kindOf, a_scopeOf, a_lowBound, a_highBound, a_tupleCount, a_coef, a_tuples, a_newTuple, a_solution, a_todo, a_mark, w', tv', tm', q', s1, s2, s3, s4, s5, s6, s7, s8, s9, s10, s11, s12, s13))
    (h1 : ∀ (ss : Int32) (s1 s2 s3 s4 s5 s6 s7 s8 s9 s10 s11 s12 s13 : Nat → Int32) (hd' sz' : Nat) (pd' : Int32) (q' : Nat → Int32) (ts' : Nat) (w' tv' tm' : Nat → Int32), PI n V cnt a_scopeOf (Hd n a_kindOf a_scopeOf a_lowBound a_highBound a_tupleCount a_coef tu) D hd' sz' pd' q' ts' tv' w' → Fixd n cnt a_scopeOf (Hd n a_kindOf a_scopeOf a_lowBound a_highBound a_tupleCount a_coef tu) w' → TrR ts tv tm w ts' tv' tm' w' → post 1 (nI n, nI V, f_maxConstraints, f_maxLevel, f_allValues, f_allVars, f_status, f_currentLevel, nI cnt, f_searchState, f_searchDirection, f_foundCount, f_depth, nI ts', nI hd', nI sz', pd', ss, a_dom, a_savedDom, a_savedCount, a_savedStatus, a_kindOf, a_scopeOf, a_lowBound, a_highBound, a_tupleCount, a_coef, a_tuples, a_newTuple, a_solution, a_todo, a_mark, w', tv', tm', q', s1, s2, s3, s4, s5, s6, s7, s8, s9, s10, s11, s12, s13)) : wpX_runQueue post (nI n, nI V, f_maxConstraints, f_maxLevel, f_allValues, f_allVars, f_status, f_currentLevel, nI cnt, f_searchState, f_searchDirection, f_foundCount, f_depth, nI ts, nI hd, nI sz, pd, ss, a_dom, a_savedDom, a_savedCount, a_savedStatus, a_kindOf, a_scopeOf, a_lowBound, a_highBound, a_tupleCount, a_coef, a_tuples, a_newTuple, a_solution, a_todo, a_mark, w, tv, tm, q, s1, s2, s3, s4, s5, s6, s7, s8, s9, s10, s11, s12, s13) := by
  have h1' := bs_le w 6
  have h2' := QI_le hP.2.1
  exact Exists.intro (222 + 1) (xp_rq hn hV hcnt hok h0 h1 222 0 ss s1 s2 s3 s4 s5 s6 s7 s8 s9 s10 s11 s12 s13 hd sz pd q ts w tv tm (by omega) (by omega) hP hS (Tr_r _ _ _ _))
theorem xp_37 {post : Int32 → SX → Prop} {ss : Int32} {s1 s2 s3 s4 s5 s6 s7 s8 s9 s10 s11 s12 s13 : Nat → Int32} (hn : n ≤ 6) (hV : V ≤ 6) (hcnt : cnt ≤ 6) (hok : ∀ c, c < cnt → COk n V a_kindOf a_scopeOf a_tupleCount a_coef a_tuples tu c)
    (hPV : PV V w) (hs1 : Snd n cnt a_scopeOf (Hd n a_kindOf a_scopeOf a_lowBound a_highBound a_tupleCount a_coef tu) D w) (hs2 : Sbs n w D)
    (h0 : Fl n cnt a_scopeOf (Hd n a_kindOf a_scopeOf a_lowBound a_highBound a_tupleCount a_coef tu) D → ∀ (ss : Int32) (s1 s2 s3 s4 s5 s6 s7 s8 s9 s10 s11 s12 s13 : Nat → Int32) (hd' sz' : Nat) (pd' : Int32) (q' : Nat → Int32) (ts' : Nat) (w' tv' tm' : Nat → Int32), post 0 (nI n, nI V, f_maxConstraints, f_maxLevel, f_allValues, f_allVars, f_status, f_currentLevel, nI cnt, f_searchState, f_searchDirection, f_foundCount, f_depth, nI ts', nI hd', nI sz', pd', ss, a_dom, a_savedDom, a_savedCount, a_savedStatus, a_kindOf, a_scopeOf, a_lowBound, a_highBound, a_tupleCount, a_coef, a_tuples, a_newTuple, a_solution, a_todo, a_mark, w', tv', tm', q', s1, s2, s3, s4, s5, s6, s7, s8, s9, s10, s11, s12, s13))
    (h1 : ∀ (ss : Int32) (s1 s2 s3 s4 s5 s6 s7 s8 s9 s10 s11 s12 s13 : Nat → Int32) (hd' sz' : Nat) (pd' : Int32) (q' : Nat → Int32) (ts' : Nat) (w' tv' tm' : Nat → Int32), PI n V cnt a_scopeOf (Hd n a_kindOf a_scopeOf a_lowBound a_highBound a_tupleCount a_coef tu) D hd' sz' pd' q' ts' tv' w' → Fixd n cnt a_scopeOf (Hd n a_kindOf a_scopeOf a_lowBound a_highBound a_tupleCount a_coef tu) w' → post 1 (nI n, nI V, f_maxConstraints, f_maxLevel, f_allValues, f_allVars, f_status, f_currentLevel, nI cnt, f_searchState, f_searchDirection, f_foundCount, f_depth, nI ts', nI hd', nI sz', pd', ss, a_dom, a_savedDom, a_savedCount, a_savedStatus, a_kindOf, a_scopeOf, a_lowBound, a_highBound, a_tupleCount, a_coef, a_tuples, a_newTuple, a_solution, a_todo, a_mark, w', tv', tm', q', s1, s2, s3, s4, s5, s6, s7, s8, s9, s10, s11, s12, s13)) :
    ∀ (d c sz' : Nat) (pd' : Int32) (q' : Nat → Int32), c + d = cnt → QI cnt 0 sz' pd' q' → (∀ c', c' < c → bt pd' c' = true) → wX_propagateFromDomains_37 post (d + 1) (nI c) (nI n) (nI V) f_maxConstraints f_maxLevel f_allValues f_allVars f_status f_currentLevel (nI cnt) f_searchState f_searchDirection f_foundCount f_depth 0 0 (nI sz') pd' ss a_dom a_savedDom a_savedCount a_savedStatus a_kindOf a_scopeOf a_lowBound a_highBound a_tupleCount a_coef a_tuples a_newTuple a_solution a_todo a_mark w tv tm q' s1 s2 s3 s4 s5 s6 s7 s8 s9 s10 s11 s12 s13 := by
  intro d
  induction d with
  | zero =>
    intro c sz' pd' q' hc hQ g
    obtain rfl : c = cnt := by omega
    refine br_t (nI_le (Nat.le_refl _) (by omega)) ?_
    have hbl := bs_le w 6
    refine xp_run (hd := 0) (ts := 0) hn hV hcnt hok ⟨hPV, hQ, by omega, fun i hi => absurd hi (by omega), hs1, hs2⟩ (fun c' hc' _ => Or.inl (g c' hc')) (fun hf ss s1 s2 s3 s4 s5 s6 s7 s8 s9 s10 s11 s12 s13 hd' sz' pd' q' ts' w' tv' tm' _ _ _ => ⟨narrow_b0, h0 hf ss s1 s2 s3 s4 s5 s6 s7 s8 s9 s10 s11 s12 s13 hd' sz' pd' q' ts' w' tv' tm'⟩) (fun ss s1 s2 s3 s4 s5 s6 s7 s8 s9 s10 s11 s12 s13 hd' sz' pd' q' ts' w' tv' tm' r1 r2 _ => ⟨narrow_b1, h1 ss s1 s2 s3 s4 s5 s6 s7 s8 s9 s10 s11 s12 s13 hd' sz' pd' q' ts' w' tv' tm' r1 r2⟩)
  | succ d ih =>
    intro c sz' pd' q' hc hQ g
    refine br_f (nI_ge (by omega) (by omega)) (xp_enq (hd := 0) (ts := 0) hQ hcnt (by omega) (fun sz2 pd2 q2 hQ2 r1 r2 => nm_r (e' := nI (c + 1)) (nI_1 _) (ih (c + 1) sz2 pd2 q2 (by omega) hQ2 (fun c' hc' => ?_))))
    by_cases y : c' = c
    · rw [y]; exact r2
    · exact r1 c' (g c' (by omega))
theorem xp_dom {post : Int32 → SX → Prop} {ss f_trailSize f_queueHead f_queueSize : Int32} {s1 s2 s3 s4 s5 s6 s7 s8 s9 s10 s11 s12 s13 : Nat → Int32} (hn : n ≤ 6) (hV : V ≤ 6) (hcnt : cnt ≤ 6) (hok : ∀ c, c < cnt → COk n V a_kindOf a_scopeOf a_tupleCount a_coef a_tuples tu c)
    (hPV : PV V a_dom)
    (h0 : Fl n cnt a_scopeOf (Hd n a_kindOf a_scopeOf a_lowBound a_highBound a_tupleCount a_coef tu) a_dom → ∀ (ss : Int32) (s1 s2 s3 s4 s5 s6 s7 s8 s9 s10 s11 s12 s13 : Nat → Int32) (hd' sz' : Nat) (pd' : Int32) (q' : Nat → Int32) (ts' : Nat) (w' tv' tm' : Nat → Int32), post 0 (nI n, nI V, f_maxConstraints, f_maxLevel, f_allValues, f_allVars, f_status, f_currentLevel, nI cnt, f_searchState, f_searchDirection, f_foundCount, f_depth, nI ts', nI hd', nI sz', pd', ss, a_dom, a_savedDom, a_savedCount, a_savedStatus, a_kindOf, a_scopeOf, a_lowBound, a_highBound, a_tupleCount, a_coef, a_tuples, a_newTuple, a_solution, a_todo, a_mark, w', tv', tm', q', s1, s2, s3, s4, s5, s6, s7, s8, s9, s10, s11, s12, s13))
    (h1 : ∀ (ss : Int32) (s1 s2 s3 s4 s5 s6 s7 s8 s9 s10 s11 s12 s13 : Nat → Int32) (hd' sz' : Nat) (pd' : Int32) (q' : Nat → Int32) (ts' : Nat) (w' tv' tm' : Nat → Int32), PI n V cnt a_scopeOf (Hd n a_kindOf a_scopeOf a_lowBound a_highBound a_tupleCount a_coef tu) a_dom hd' sz' pd' q' ts' tv' w' → Fixd n cnt a_scopeOf (Hd n a_kindOf a_scopeOf a_lowBound a_highBound a_tupleCount a_coef tu) w' → post 1 (nI n, nI V, f_maxConstraints, f_maxLevel, f_allValues, f_allVars, f_status, f_currentLevel, nI cnt, f_searchState, f_searchDirection, f_foundCount, f_depth, nI ts', nI hd', nI sz', pd', ss, a_dom, a_savedDom, a_savedCount, a_savedStatus, a_kindOf, a_scopeOf, a_lowBound, a_highBound, a_tupleCount, a_coef, a_tuples, a_newTuple, a_solution, a_todo, a_mark, w', tv', tm', q', s1, s2, s3, s4, s5, s6, s7, s8, s9, s10, s11, s12, s13)) :
    wpX_propagateFromDomains post (nI n, nI V, f_maxConstraints, f_maxLevel, f_allValues, f_allVars, f_status, f_currentLevel, nI cnt, f_searchState, f_searchDirection, f_foundCount, f_depth, f_trailSize, f_queueHead, f_queueSize, pd, ss, a_dom, a_savedDom, a_savedCount, a_savedStatus, a_kindOf, a_scopeOf, a_lowBound, a_highBound, a_tupleCount, a_coef, a_tuples, a_newTuple, a_solution, a_todo, a_mark, w, tv, tm, q, s1, s2, s3, s4, s5, s6, s7, s8, s9, s10, s11, s12, s13) := by
  have key : ∀ (d x : Nat) (w : Nat → Int32), x + d = 6 → (∀ y, y < x → w y = a_dom y) → wX_propagateFromDomains_2 post (nI n) (nI V) f_maxConstraints f_maxLevel f_allValues f_allVars f_status f_currentLevel (nI cnt) f_searchState f_searchDirection f_foundCount f_depth f_trailSize f_queueHead f_queueSize pd ss (d + 1) (nI x) a_dom a_savedDom a_savedCount a_savedStatus a_kindOf a_scopeOf a_lowBound a_highBound a_tupleCount a_coef a_tuples a_newTuple a_solution a_todo a_mark w tv tm q s1 s2 s3 s4 s5 s6 s7 s8 s9 s10 s11 s12 s13 := by
    intro d
    induction d with
    | zero =>
      intro x w hx g
      obtain rfl : x = 6 := by omega
      refine br_t (by decide) ?_
      refine Exists.intro (cnt + 1) (xp_37 hn hV hcnt hok (fun y hy => by rw [g y hy]; exact hPV y hy) (fun E _ hE y a hy ha => by rw [g y (by omega)]; exact hE y a hy ha) (fun y a hy ha => by rw [← g y (by omega)]; exact ha) h0 h1 cnt 0 0 0 q (by omega) (QI_0 _ _) (fun c' h => absurd h (by omega)))
    | succ d ih =>
      intro x w hx g
      refine br_f (nI_ge (b := 6) (by omega) (by decide)) ⟨vp_in_nI (by omega) (by omega), vp_in_nI (by omega) (by omega), nm_r (e' := upd w x (a_dom x)) (by rw [nI_clamp (by omega)]) (nm_r (e' := nI (x + 1)) (nI_1 _) (ih (x + 1) _ (by omega) (fun y hy => ?_)))⟩
      by_cases z : y = x
      · rw [z, pk_us]
      · rw [pk_un z]; exact g y (by omega)
  exact Exists.intro 7 (key 6 0 w (by omega) (fun y h => absurd h (by omega)))
end
end
section
/-! the reference's propagation; taking the domains over -/
section
/-- values removed from the first k variables -/
def rmN (D w : Nat → Int32) : Nat → Nat
  | 0 => 0
  | k + 1 => rmN D w k + pcN (D k &&& (w k ^^^ (-1))) 6
theorem rm_c {D w D' w' : Nat → Int32} : ∀ {k : Nat}, (∀ x, x < k → D x = D' x ∧ w x = w' x) → rmN D w k = rmN D' w' k
  | 0, _ => rfl
  | k + 1, h => by simp only [rmN]; rw [rm_c (fun x hx => h x (by omega)), (h k (by omega)).1, (h k (by omega)).2]
/-- rows b .. b + n - 1 replaced -/
def putR (b n : Nat) (w f : Nat → Int32) : Nat → Int32 := fun j => if b ≤ j ∧ j < b + n then w (j - b) else f j
theorem pt_0 (b : Nat) (w f : Nat → Int32) : putR b 0 w f = f := by
  funext j; unfold putR; rw [if_neg (by omega)]
theorem pt_s (b n : Nat) (w f : Nat → Int32) : upd (putR b n w f) (b + n) (w n) = putR b (n + 1) w f := by
  funext j; unfold putR upd
  by_cases h : j = b + n
  · rw [if_pos h, if_pos (by omega), h, Nat.add_sub_cancel_left]
  · rw [if_neg h]
    show (if b ≤ j ∧ j < b + n then w (j - b) else f j) = _
    by_cases h2 : b ≤ j ∧ j < b + n
    · rw [if_pos h2, if_pos (by omega)]
    · rw [if_neg h2, if_neg (by omega)]
theorem pt_in {b n x : Nat} {w f : Nat → Int32} (hx : x < n) : putR b n w f (b + x) = w x := by
  unfold putR; rw [if_pos (by omega), Nat.add_sub_cancel_left]
theorem pt_out {b n j : Nat} {w f : Nat → Int32} (hj : j < b ∨ b + n ≤ j) : putR b n w f j = f j := by
  unfold putR; rw [if_neg (by omega)]
theorem pt_c {b n : Nat} {w w' f : Nat → Int32} (h : ∀ x, x < n → w x = w' x) : putR b n w f = putR b n w' f := by
  funext j; unfold putR
  by_cases h2 : b ≤ j ∧ j < b + n
  · rw [if_pos h2, if_pos h2, h _ (by omega)]
  · rw [if_neg h2, if_neg h2]
theorem ix6 (c x : Nat) : (nI c * 6 + nI x : Int32) = nI (c * 6 + x) := by
  show nI c * nI 6 + nI x = _
  rw [pk_mul, nI_add]
end
section
variable {f_v f_maxPosted f_maxLevel f_state f_direction f_found f_place : Int32} {a_dom a_status a_count a_kind a_scope a_low a_high a_coef a_tuples a_tuple a_solution a_value a_work a_seen a_args : Nat → Int32} {n L : Nat}
theorem yp_twl {post : Int32 → SY → Prop} (hn : n ≤ 6) (hL : L < 6) (hP : post (nI (rmN (fun x => a_dom (L * 6 + x)) a_work n)) (nI n, f_v, f_maxPosted, f_maxLevel, nI L, f_state, f_direction, f_found, f_place, putR (L * 6) n a_work a_dom, a_status, a_count, a_kind, a_scope, a_low, a_high, a_coef, a_tuples, a_tuple, a_solution, a_value, a_work, a_seen, a_args)) :
    ∀ d x : Nat, x + d = n → wY_takeWork_4 post (nI n) f_v f_maxPosted f_maxLevel (nI L) f_state f_direction f_found f_place (d + 1) (nI (rmN (fun x => a_dom (L * 6 + x)) a_work x)) (nI x) (putR (L * 6) x a_work a_dom) a_status a_count a_kind a_scope a_low a_high a_coef a_tuples a_tuple a_solution a_value a_work a_seen a_args := by
  intro d
  induction d with
  | zero =>
    intro x hx
    obtain rfl : x = n := by omega
    exact br_t (nI_le (Nat.le_refl _) (by omega)) hP
  | succ d ih =>
    intro x hx
    refine br_f (nI_ge (by omega) (by omega)) ?_
    rw [ix6]
    refine ⟨vp_in_nI (by omega) (by omega), vp_in_nI (by omega) (by omega), yh_sz (nm_r (e' := nI (rmN (fun x => a_dom (L * 6 + x)) a_work (x + 1))) ?_ ⟨vp_in_nI (by omega) (by omega), vp_in_nI (by omega) (by omega), nm_r (e' := putR (L * 6) (x + 1) a_work a_dom) ?_ (nm_r (e' := nI (x + 1)) (nI_1 _) (ih (x + 1) (by omega)))⟩)⟩
    · rw [nI_clamp (by omega), nI_clamp (by omega), nI_add, pt_out (by omega)]; rfl
    · rw [nI_clamp (by omega), nI_clamp (by omega), pt_s]
theorem yp_tw {post : Int32 → SY → Prop} (hn : n ≤ 6) (hL : L < 6) (hP : post (nI (rmN (fun x => a_dom (L * 6 + x)) a_work n)) (nI n, f_v, f_maxPosted, f_maxLevel, nI L, f_state, f_direction, f_found, f_place, putR (L * 6) n a_work a_dom, a_status, a_count, a_kind, a_scope, a_low, a_high, a_coef, a_tuples, a_tuple, a_solution, a_value, a_work, a_seen, a_args)) : wpY_takeWork post (nI n, f_v, f_maxPosted, f_maxLevel, nI L, f_state, f_direction, f_found, f_place, a_dom, a_status, a_count, a_kind, a_scope, a_low, a_high, a_coef, a_tuples, a_tuple, a_solution, a_value, a_work, a_seen, a_args) := by
  have H := yp_twl hn hL hP n 0 (by omega)
  rw [pt_0] at H
  exact Exists.intro (n + 1) H
theorem yp_145 {post : Int32 → SY → Prop} (hn : n ≤ 6) (hL : L < 6)
    (h0 : (∃ x, x < n ∧ a_work x = 0) → post (-12) (nI n, f_v, f_maxPosted, f_maxLevel, nI L, f_state, f_direction, f_found, f_place, a_dom, upd a_status L (-12), a_count, a_kind, a_scope, a_low, a_high, a_coef, a_tuples, a_tuple, a_solution, a_value, a_work, a_seen, a_args)) (h1 : (∀ x, x < n → ¬ a_work x = 0) → wpY_takeWork post (nI n, f_v, f_maxPosted, f_maxLevel, nI L, f_state, f_direction, f_found, f_place, a_dom, upd a_status L 2, a_count, a_kind, a_scope, a_low, a_high, a_coef, a_tuples, a_tuple, a_solution, a_value, a_work, a_seen, a_args)) :
    ∀ (d x : Nat) (s : Int32), x + d = n → (s = -12 ∧ (∃ y, y < x ∧ a_work y = 0)) ∨ (s = 2 ∧ ∀ y, y < x → ¬ a_work y = 0) → wY_propagate_145 post (nI n) f_v f_maxPosted f_maxLevel (nI L) f_state f_direction f_found f_place (d + 1) (nI x) a_dom (upd a_status L s) a_count a_kind a_scope a_low a_high a_coef a_tuples a_tuple a_solution a_value a_work a_seen a_args := by
  intro d
  induction d with
  | zero =>
    intro x s hx g
    obtain rfl : x = n := by omega
    refine br_t (nI_le (Nat.le_refl _) (by omega)) ⟨vp_in_nI hL (by omega), ?_⟩
    rw [nI_clamp (by omega), pk_us]
    rcases g with ⟨e, g⟩ | ⟨e, g⟩
    · subst e; exact br_t rfl (h0 g)
    · subst e; exact br_f (by decide) (h1 g)
  | succ d ih =>
    intro x s hx g
    refine br_f (nI_ge (by omega) (by omega)) ⟨vp_in_nI (by omega) (by omega), ?_⟩
    rw [nI_clamp (by omega)]
    by_cases z : a_work x = 0
    · exact br_t z ⟨vp_in_nI hL (by omega), nm_r (e' := upd a_status L (-12)) (by rw [nI_clamp (by omega), u_same]) (nm_r (e' := nI (x + 1)) (nI_1 _) (ih (x + 1) _ (by omega) (Or.inl ⟨rfl, x, by omega, z⟩)))⟩
    · refine br_f z (nm_r (e' := nI (x + 1)) (nI_1 _) (ih (x + 1) s (by omega) ?_))
      rcases g with ⟨e, y, g1, g2⟩ | ⟨e, g⟩
      · exact Or.inl ⟨e, y, by omega, g2⟩
      · refine Or.inr ⟨e, fun y hy => ?_⟩
        by_cases q : y = x
        · rw [q]; exact z
        · exact g y (by omega)
variable {V cnt : Nat} {D xt : Nat → Int32}
/-- the reference's working domains -/
def YW (n V cnt : Nat) (S : Nat → Int32) (H : Nat → (Nat → Nat) → Prop) (D w : Nat → Int32) : Prop := (∀ x, x < n → Msk V (w x)) ∧ Snd n cnt S H D w ∧ Sbs n w D
theorem yp_57 {post : Int32 → SY → Prop} {J19 J34 : Int32 → Int32 → Int32 → Int32 → Int32 → Int32 → Int32 → Int32 → Int32 → Int32 → Int32 →  (Nat → Int32) → (Nat → Int32) → (Nat → Int32) → (Nat → Int32) → (Nat → Int32) → (Nat → Int32) → (Nat → Int32) → (Nat → Int32) → (Nat → Int32) → (Nat → Int32) → (Nat → Int32) → (Nat → Int32) → (Nat → Int32) → (Nat → Int32) → (Nat → Int32) →  Prop} {x3 : Int32} {c : Nat} {w0 sn : Nat → Int32} {chg : Int32} (hn : n ≤ 6) (hV : V ≤ 6) (hc : c < cnt) (hcnt : cnt ≤ 6) (hW0 : YW n V cnt a_scope (Hd n a_kind a_scope a_low a_high a_tuples a_coef a_tuple) D w0)
    (hsn : ∀ x a, x < n → bt (a_scope c) x = true → (bt (sn x) a = true ↔ Sup n a_scope (Hd n a_kind a_scope a_low a_high a_tuples a_coef a_tuple) w0 c x a))
    (hJ : ∀ (chg' : Int32) (w : Nat → Int32), YW n V cnt a_scope (Hd n a_kind a_scope a_low a_high a_tuples a_coef a_tuple) D w → ((chg' = chg ∧ w = w0 ∧ Cst n a_scope (Hd n a_kind a_scope a_low a_high a_tuples a_coef a_tuple) w0 c) ∨ (chg' = 1 ∧ bsum w 6 < bsum w0 6)) → J34 chg' (nI (c + 1)) (nI n) f_v f_maxPosted f_maxLevel (nI L) f_state f_direction f_found f_place a_dom a_status a_count a_kind a_scope a_low a_high a_coef a_tuples a_tuple a_solution a_value w sn a_args) :
    ∀ (d x : Nat) (chg' : Int32) (w : Nat → Int32), x + d = n → YW n V cnt a_scope (Hd n a_kind a_scope a_low a_high a_tuples a_coef a_tuple) D w → ((chg' = chg ∧ w = w0 ∧ ∀ y, y < x → bt (a_scope c) y = true → sn y = w0 y) ∨ (chg' = 1 ∧ bsum w 6 < bsum w0 6)) → (∀ y, x ≤ y → w y = w0 y) →
      wY_propagate_57 post J19 J34 x3 (nI c) (nI n) f_v f_maxPosted f_maxLevel (nI L) f_state f_direction f_found f_place (d + 1) chg' (nI x) a_dom a_status a_count a_kind a_scope a_low a_high a_coef a_tuples a_tuple a_solution a_value w sn a_args := by
  intro d
  induction d with
  | zero =>
    intro x chg' w hx hW g g2
    obtain rfl : x = n := by omega
    refine br_t (nI_le (Nat.le_refl _) (by omega)) (nm_r (e' := nI (c + 1)) (nI_1 _) (hJ chg' w hW ?_))
    rcases g with ⟨e1, e2, g⟩ | g
    · refine Or.inl ⟨e1, e2, Cst_f (D := w0) (fun y hy hyb a => ?_)⟩
      rw [← g y hy hyb]; exact hsn y a hy hyb
    · exact Or.inr g
  | succ d ih =>
    intro x chg' w hx hW g g2
    refine br_f (nI_ge (by omega) (by omega)) ⟨vp_in_nI (by omega) (by omega), ?_⟩
    rw [show (nI c).toNatClampNeg = c from nI_clamp (by omega), show (nI x).toNatClampNeg = x from nI_clamp (by omega)]
    refine yh_in (by omega) (fun hf => nm_r (e' := nI (x + 1)) (nI_1 _) (ih (x + 1) chg' w (by omega) hW ?_ (fun y hy => g2 y (by omega)))) (fun ht => ⟨vp_in_nI (by omega) (by omega), vp_in_nI (by omega) (by omega), ?_⟩)
    · rcases g with ⟨e1, e2, g⟩ | g
      · refine Or.inl ⟨e1, e2, fun y hy hyb => ?_⟩
        have : y ≠ x := fun e => by rw [e, hf] at hyb; cases hyb
        exact g y (by omega) hyb
      · exact Or.inr g
    · by_cases z : sn x = w x
      · refine br_t z (nm_r (e' := nI (x + 1)) (nI_1 _) (ih (x + 1) chg' w (by omega) hW ?_ (fun y hy => g2 y (by omega))))
        rcases g with ⟨e1, e2, g⟩ | g
        · refine Or.inl ⟨e1, e2, fun y hy hyb => ?_⟩
          by_cases q : y = x
          · rw [q, z, e2]
          · exact g y (by omega) hyb
        · exact Or.inr g
      · have hwx : w x = w0 x := g2 x (Nat.le_refl _)
        have hsub : ∀ a, bt (sn x) a = true → bt (w x) a = true := fun a ha => by
          rw [hwx]; exact Sup_in (by omega) ht ((hsn x a (by omega) ht).mp ha)
        have hmk := hW.1 x (by omega)
        have hlt : pcN (sn x) 6 < pcN (w x) 6 := by
          have hex : ∃ a, bt (sn x) a = false ∧ bt (w x) a = true := by
            apply Classical.byContradiction
            intro hne
            apply z
            apply gb_e
            intro a
            refine ⟨hsub a, fun ha => ?_⟩
            cases hq : bt (sn x) a with
            | true => rfl
            | false => exact absurd ⟨a, hq, ha⟩ hne
          obtain ⟨a, a1, a2⟩ := hex
          exact pc_subs (fun i _ hi => hsub i hi) (by have := mk_lt hmk a2; omega) a1 a2
        have hbs := bs_upd (w := w) (x := x) (m := sn x) (k := 6) (by omega)
        refine br_f z ⟨vp_in_nI (by omega) (by omega), vp_in_nI (by omega) (by omega), nm_e (nm_r (e' := nI (x + 1)) (nI_1 _) (ih (x + 1) 1 _ (by omega) ⟨fun y hy => ?_, Snd_n hc hW.2.1 hW0.2.1 (by omega) ht (fun a => hsn x a (by omega) ht), fun y a hy ha => ?_⟩ (Or.inr ⟨rfl, ?_⟩) (fun y hy => ?_)))⟩
        · by_cases q : y = x
          · rw [q, pk_us]
            intro i hi
            cases hq : bt (sn x) i with
            | false => rfl
            | true => have := hsub i hq; rw [hmk i hi] at this; cases this
          · rw [pk_un q]; exact hW.1 y hy
        · by_cases q : y = x
          · rw [q, pk_us] at ha; rw [q] at hy ⊢; exact hW.2.2 x a hy (hsub a ha)
          · rw [pk_un q] at ha; exact hW.2.2 y a hy ha
        · rcases g with ⟨_, e2, _⟩ | ⟨_, g⟩
          · rw [e2] at hbs hlt ⊢; omega
          · omega
        · rw [pk_un (by omega)]; exact g2 y (by omega)
theorem yp_34 {post : Int32 → SY → Prop} {J : Int32 → Int32 → Int32 → Int32 → Int32 → Int32 → Int32 → Int32 → Int32 → Int32 → Int32 →  (Nat → Int32) → (Nat → Int32) → (Nat → Int32) → (Nat → Int32) → (Nat → Int32) → (Nat → Int32) → (Nat → Int32) → (Nat → Int32) → (Nat → Int32) → (Nat → Int32) → (Nat → Int32) → (Nat → Int32) → (Nat → Int32) → (Nat → Int32) → (Nat → Int32) →  Prop} {r : Nat} {wR : Nat → Int32} (hn : n ≤ 6) (hn1 : 1 ≤ n) (hV : V ≤ 6) (hL : L < 6) (hcnt : cnt ≤ 6) (hct : a_count L = nI cnt) (hok : ∀ c, c < cnt → COk n V a_kind a_scope a_tuples a_coef xt a_tuple c)
    (hJ : ∀ (chg : Int32) (w vl sn : Nat → Int32), YW n V cnt a_scope (Hd n a_kind a_scope a_low a_high a_tuples a_coef a_tuple) D w → ((chg = 0 ∧ Fixd n cnt a_scope (Hd n a_kind a_scope a_low a_high a_tuples a_coef a_tuple) w) ∨ (¬ chg = 0 ∧ bsum w 6 < bsum wR 6)) → J chg (nI (r + 1)) (nI n) f_v f_maxPosted f_maxLevel (nI L) f_state f_direction f_found f_place a_dom a_status a_count a_kind a_scope a_low a_high a_coef a_tuples a_tuple a_solution vl w sn a_args) :
    ∀ (d c : Nat) (chg : Int32) (w vl sn : Nat → Int32), c + d = cnt → YW n V cnt a_scope (Hd n a_kind a_scope a_low a_high a_tuples a_coef a_tuple) D w → ((chg = 0 ∧ w = wR ∧ ∀ c', c' < c → Cst n a_scope (Hd n a_kind a_scope a_low a_high a_tuples a_coef a_tuple) w c') ∨ (¬ chg = 0 ∧ bsum w 6 < bsum wR 6)) →
      wY_propagate_34 post J (nI r) (d + 1) chg (nI c) (nI n) f_v f_maxPosted f_maxLevel (nI L) f_state f_direction f_found f_place a_dom a_status a_count a_kind a_scope a_low a_high a_coef a_tuples a_tuple a_solution vl w sn a_args := by
  intro d
  induction d with
  | zero =>
    intro c chg w vl sn hc hW g
    obtain rfl : c = cnt := by omega
    refine And.intro (vp_in_nI hL (by omega)) ?_
    rw [nI_clamp (by omega), hct]
    refine br_t (nI_le (Nat.le_refl _) (by omega)) (nm_r (e' := nI (r + 1)) (nI_1 _) (hJ chg w vl sn hW ?_))
    rcases g with ⟨e1, e2, g⟩ | g
    · exact Or.inl ⟨e1, fun c' hc' => g c' hc'⟩
    · exact Or.inr g
  | succ d ih =>
    intro c chg w vl sn hc hW g
    refine And.intro (vp_in_nI hL (by omega)) ?_
    rw [nI_clamp (by omega), hct]
    refine br_f (nI_ge (by omega) (by omega)) ?_
    refine ys_see (V := V) (xt := xt) hn hn1 hV (by omega) (hok c (by omega)) hW.1 (fun vl' sn' hsn => Exists.intro (n + 1) ?_)
    refine yp_57 (w0 := w) (chg := chg) hn hV (show c < cnt by omega) hcnt hW hsn (fun chg' w' hW' g' => ih (c + 1) chg' w' vl' sn' (by omega) hW' ?_) n 0 chg w (by omega) hW (Or.inl ⟨rfl, rfl, fun y hy => absurd hy (by omega)⟩) (fun _ _ => rfl)
    rcases g' with ⟨e1, e2, g'⟩ | ⟨e1, g'⟩
    · rcases g with ⟨f1, f2, f3⟩ | ⟨f1, f2⟩
      · refine Or.inl ⟨e1.trans f1, e2.trans f2, fun c' hc' => ?_⟩
        rw [e2]
        by_cases q : c' = c
        · rw [q]; exact g'
        · exact f3 c' (by omega)
      · exact Or.inr ⟨fun e => f1 (e1.symm.trans e), by rw [e2]; exact f2⟩
    · refine Or.inr ⟨by rw [e1]; decide, ?_⟩
      rcases g with ⟨_, f2, _⟩ | ⟨_, f2⟩
      · rw [← f2]; exact g'
      · omega
theorem yp_19 {post : Int32 → SY → Prop} (hn : n ≤ 6) (hn1 : 1 ≤ n) (hV : V ≤ 6) (hL : L < 6) (hcnt : cnt ≤ 6) (hct : a_count L = nI cnt) (hok : ∀ c, c < cnt → COk n V a_kind a_scope a_tuples a_coef xt a_tuple c)
    (hP : ∀ (w vl sn : Nat → Int32), YW n V cnt a_scope (Hd n a_kind a_scope a_low a_high a_tuples a_coef a_tuple) D w → Fixd n cnt a_scope (Hd n a_kind a_scope a_low a_high a_tuples a_coef a_tuple) w → wY_propagate_133 post (nI n) f_v f_maxPosted f_maxLevel (nI L) f_state f_direction f_found f_place a_dom a_status a_count a_kind a_scope a_low a_high a_coef a_tuples a_tuple a_solution vl w sn a_args) :
    ∀ (d r : Nat) (chg : Int32) (w vl sn : Nat → Int32), r + d = 37 → YW n V cnt a_scope (Hd n a_kind a_scope a_low a_high a_tuples a_coef a_tuple) D w → ((chg = 0 ∧ Fixd n cnt a_scope (Hd n a_kind a_scope a_low a_high a_tuples a_coef a_tuple) w) ∨ (¬ chg = 0 ∧ r + bsum w 6 ≤ 36)) →
      wY_propagate_19 post (d + 1) chg (nI r) (nI n) f_v f_maxPosted f_maxLevel (nI L) f_state f_direction f_found f_place a_dom a_status a_count a_kind a_scope a_low a_high a_coef a_tuples a_tuple a_solution vl w sn a_args := by
  intro d
  induction d with
  | zero =>
    intro r chg w vl sn hr hW g
    obtain rfl : r = 37 := by omega
    refine br_t (by decide) (hP w vl sn hW ?_)
    rcases g with ⟨_, g⟩ | ⟨_, g⟩
    · exact g
    · exact absurd g (by omega)
  | succ d ih =>
    intro r chg w vl sn hr hW g
    refine br_f (nI_ge (b := 37) (by omega) (by decide)) ?_
    rcases g with ⟨e, g⟩ | ⟨e, g⟩
    · exact br_t e (hP w vl sn hW g)
    · refine br_f e (Exists.intro (cnt + 1) (yp_34 (wR := w) hn hn1 hV hL hcnt hct hok (fun chg' w' vl' sn' hW' g' => ih (r + 1) chg' w' vl' sn' (by omega) hW' ?_) cnt 0 0 w vl sn (by omega) hW (Or.inl ⟨rfl, rfl, fun c' h => absurd h (by omega)⟩)))
      rcases g' with h | ⟨h1, h2⟩
      · exact Or.inl h
      · exact Or.inr ⟨h1, by omega⟩
theorem yp_prop {post : Int32 → SY → Prop} (hn : n ≤ 6) (hn1 : 1 ≤ n) (hV : V ≤ 6) (hL : L < 6) (hcnt : cnt ≤ 6) (hct : a_count L = nI cnt) (hok : ∀ c, c < cnt → COk n V a_kind a_scope a_tuples a_coef xt a_tuple c) (hst : f_state = 0) (hss : ¬ a_status L = -12)
    (hD : ∀ x, x < 6 → Msk V (a_dom (L * 6 + x)))
    (h0 : ∀ w vl sn : Nat → Int32, YW n V cnt a_scope (Hd n a_kind a_scope a_low a_high a_tuples a_coef a_tuple) (fun x => a_dom (L * 6 + x)) w → Fixd n cnt a_scope (Hd n a_kind a_scope a_low a_high a_tuples a_coef a_tuple) w → (∃ x, x < n ∧ w x = 0) → post (-12) (nI n, f_v, f_maxPosted, f_maxLevel, nI L, f_state, f_direction, f_found, f_place, a_dom, upd a_status L (-12), a_count, a_kind, a_scope, a_low, a_high, a_coef, a_tuples, a_tuple, a_solution, vl, w, sn, a_args))
    (h1 : ∀ w vl sn : Nat → Int32, YW n V cnt a_scope (Hd n a_kind a_scope a_low a_high a_tuples a_coef a_tuple) (fun x => a_dom (L * 6 + x)) w → Fixd n cnt a_scope (Hd n a_kind a_scope a_low a_high a_tuples a_coef a_tuple) w → (∀ x, x < n → ¬ w x = 0) → post (nI (rmN (fun x => a_dom (L * 6 + x)) w n)) (nI n, f_v, f_maxPosted, f_maxLevel, nI L, f_state, f_direction, f_found, f_place, putR (L * 6) n w a_dom, upd a_status L 2, a_count, a_kind, a_scope, a_low, a_high, a_coef, a_tuples, a_tuple, a_solution, vl, w, sn, a_args)) :
    wpY_propagate post (nI n, f_v, f_maxPosted, f_maxLevel, nI L, f_state, f_direction, f_found, f_place, a_dom, a_status, a_count, a_kind, a_scope, a_low, a_high, a_coef, a_tuples, a_tuple, a_solution, a_value, a_work, a_seen, a_args) := by
  unfold wpY_propagate
  refine yh_r0 hL hst hss ?_
  refine ys_cp hL (fun w hw => Exists.intro 38 ?_)
  have hbl := bs_le w 6
  refine yp_19 (D := fun x => a_dom (L * 6 + x)) hn hn1 hV hL hcnt hct hok (fun w' vl sn hW hF => ?_) 37 0 1 w a_value a_seen (by omega) ⟨fun x hx => by rw [hw x (by omega)]; exact hD x (by omega), fun E _ hE x a hx ha => ?_, fun x a hx ha => ?_⟩ (Or.inr ⟨by decide, by omega⟩)
  · refine And.intro (vp_in_nI hL (by omega)) (nm_r (e' := upd a_status L 2) (by rw [nI_clamp (by omega)]) (Exists.intro (n + 1) ?_))
    exact yp_145 hn hL (fun q => h0 w' vl sn hW hF q) (fun q => yp_tw hn hL (h1 w' vl sn hW hF q)) n 0 2 (by omega) (Or.inr ⟨rfl, fun y h => absurd h (by omega)⟩)
  · rw [hw x (by omega)]; exact hE x a hx ha
  · rw [hw x (by omega)] at ha; exact ha
end
end
section
/-! the search: order of the assignments, the stack of a depth-first search; pure -/
section
theorem pc_full {x : Int32} : ∀ {k : Nat}, (∀ i, i < k → bt x i = true) → pcN x k = k
  | 0, _ => rfl
  | k + 1, h => by rw [pc_s1 (h k (by omega)), pc_full (fun i hi => h i (by omega))]
theorem am_pc {n : Nat} (hn : n ≤ 6) : pcN (allM n) n = n := pc_full (fun i hi => by rw [am_bt hn, decide_eq_true hi])
theorem en_c {s : Int32} {val val' : Nat → Nat} : ∀ {n : Nat}, (∀ x, x < n → val x = val' x) → enc s val n = enc s val' n
  | 0, _ => rfl
  | n + 1, h => by
    have a := en_c (s := s) (n := n) (fun x hx => h x (by omega))
    simp only [enc]; rw [a, h n (by omega)]
theorem en_lex {s : Int32} {val val' : Nat → Nat} {n k : Nat} (hs : ∀ i, i < n → bt s i = true) (hv : ∀ x, x < n → val x < 6) (heq : ∀ j, j < k → val j = val' j) (hk : k < n) (hlt : val k < val' k) : enc s val n < enc s val' n := by
  have key : ∀ e, k + 1 + e ≤ n → enc s val (k + 1 + e) < enc s val' (k + 1 + e) := by
    intro e
    induction e with
    | zero =>
      intro _
      show enc s val (k + 1) < enc s val' (k + 1)
      rw [en_s1 (hs k hk), en_s1 (hs k hk), en_c heq]; omega
    | succ e ih =>
      intro he
      have a := ih (by omega)
      show enc s val (k + 1 + e + 1) < enc s val' (k + 1 + e + 1)
      rw [en_s1 (hs _ (by omega)), en_s1 (hs _ (by omega))]
      have := hv (k + 1 + e) (by omega)
      omega
  have := key (n - (k + 1)) (by omega)
  rwa [show k + 1 + (n - (k + 1)) = n by omega] at this
/-- the place of an assignment in the order of the search -/
def rnk (dir : Int32) (n : Nat) (val : Nat → Nat) : Nat := if dir = 0 then enc (allM n) val n else 6 ^ n - 1 - enc (allM n) val n
/-- b comes after a -/
def aft (dir : Int32) (a b : Nat) : Prop := if dir = 0 then a < b else b < a
theorem rk_lt {dir : Int32} {n : Nat} {val : Nat → Nat} (hn : n ≤ 6) (hv : ∀ x, x < n → val x < 6) : enc (allM n) val n < 6 ^ n ∧ rnk dir n val < 6 ^ n := by
  have h := en_lt (s := allM n) (val := val) (n := n) (fun x hx _ => hv x hx)
  rw [am_pc hn] at h
  refine ⟨h, ?_⟩
  unfold rnk; split <;> omega
theorem rk_c {dir : Int32} {n : Nat} {val val' : Nat → Nat} (h : ∀ x, x < n → val x = val' x) : rnk dir n val = rnk dir n val' := by
  unfold rnk; rw [en_c h]
theorem rk_lex {dir : Int32} {n k : Nat} {val val' : Nat → Nat} (hn : n ≤ 6) (hv : ∀ x, x < n → val x < 6) (hv' : ∀ x, x < n → val' x < 6) (heq : ∀ j, j < k → val j = val' j) (hk : k < n) (h : aft dir (val k) (val' k)) : rnk dir n val < rnk dir n val' := by
  have hs : ∀ i, i < n → bt (allM n) i = true := fun i hi => by rw [am_bt hn, decide_eq_true hi]
  have l1 := (rk_lt (dir := dir) hn hv).1
  have l2 := (rk_lt (dir := dir) hn hv').1
  unfold aft at h
  unfold rnk
  by_cases z : dir = 0
  · rw [if_pos z] at h ⊢; rw [if_pos z]
    exact en_lex hs hv heq hk h
  · rw [if_neg z] at h ⊢; rw [if_neg z]
    have := en_lex hs hv' (fun j hj => (heq j hj).symm) hk h
    omega
theorem rk_inj {dir : Int32} {n : Nat} {val val' : Nat → Nat} (hn : n ≤ 6) (hv : ∀ x, x < n → val x < 6) (hv' : ∀ x, x < n → val' x < 6) (h : rnk dir n val = rnk dir n val') : ∀ x, x < n → val x = val' x := by
  have l1 := (rk_lt (dir := dir) hn hv).1
  have l2 := (rk_lt (dir := dir) hn hv').1
  have e : enc (allM n) val n = enc (allM n) val' n := by
    unfold rnk at h
    by_cases z : dir = 0
    · rw [if_pos z, if_pos z] at h; exact h
    · rw [if_neg z, if_neg z] at h; omega
  intro x hx
  exact en_inj (s := allM n) (fun x hx _ => hv x hx) (fun x hx _ => hv' x hx) e x hx (by rw [am_bt hn, decide_eq_true hx])
/-- the stack: depth d, values p above it, domains W k and length mN k of the trail on entering depth k -/
def SI (n V cnt : Nat) (S : Nat → Int32) (H : Nat → (Nat → Nat) → Prop) (D : Nat → Int32) (dir : Int32) (d : Nat) (td mk : Nat → Int32) (ts : Nat) (tv tm w : Nat → Int32) (W : Nat → Nat → Int32) (p mN : Nat → Nat) : Prop :=
  d < n ∧ TvOk ts tv ∧ ts ≤ 36 ∧
  (∀ k, k ≤ d → mk k = nI (mN k) ∧ mN k ≤ ts ∧ und tv tm (mN k) (ts - mN k) w = W k) ∧
  (∀ j k, j ≤ k → k ≤ d → mN j ≤ mN k) ∧
  (∀ k, k ≤ d → PV V (W k) ∧ mN k + bsum (W k) 6 ≤ 36 ∧ Fixd n cnt S H (W k) ∧ Sbs n (W k) D ∧ (∀ a, bt (td k) a = true → bt (W k k) a = true) ∧
    (∀ val, Sol n cnt H D val → (∀ j, j < k → val j = p j) → Sol n cnt H (W k) val) ∧ (∀ j a, j < k → (bt (W k j) a = true ↔ a = p j))) ∧
  (∀ k, k < d → bt (W k k) (p k) = true ∧ ∀ a, bt (td k) a = true → aft dir (p k) a)
/-- what is still to come -/
def Rm (d : Nat) (td : Nat → Int32) (p val : Nat → Nat) : Prop := ∃ k, k ≤ d ∧ (∀ j, j < k → val j = p j) ∧ bt (td k) (val k) = true
theorem si_undo {n V cnt : Nat} {S : Nat → Int32} {H : Nat → (Nat → Nat) → Prop} {D : Nat → Int32} {dir : Int32} {d : Nat} {td mk : Nat → Int32} {ts : Nat} {tv tm w : Nat → Int32} {W : Nat → Nat → Int32} {p mN : Nat → Nat}
    (h : SI n V cnt S H D dir d td mk ts tv tm w W p mN) : SI n V cnt S H D dir d td mk (mN d) tv tm (W d) W p mN := by
  obtain ⟨h1, h2, h3, h4, h5, h6, h7⟩ := h
  have hd := h4 d (Nat.le_refl _)
  refine ⟨h1, fun i hi => h2 i (by omega), by omega, fun k hk => ?_, h5, h6, h7⟩
  obtain ⟨a, b, c⟩ := h4 k hk
  have hm := h5 k d hk (Nat.le_refl _)
  refine ⟨a, hm, ?_⟩
  rw [← c, ← hd.2.2, show ts - mN k = (mN d - mN k) + (ts - mN d) by omega, un_s, show mN k + (mN d - mN k) = mN d by omega]
theorem si_leave {n V cnt : Nat} {S : Nat → Int32} {H : Nat → (Nat → Nat) → Prop} {D : Nat → Int32} {dir : Int32} {d : Nat} {td mk : Nat → Int32} {ts : Nat} {tv tm w : Nat → Int32} {W : Nat → Nat → Int32} {p mN : Nat → Nat}
    (h : SI n V cnt S H D dir (d + 1) td mk ts tv tm w W p mN) : SI n V cnt S H D dir d td mk ts tv tm w W p mN := by
  obtain ⟨h1, h2, h3, h4, h5, h6, h7⟩ := h
  exact ⟨by omega, h2, h3, fun k hk => h4 k (by omega), fun j k hj hk => h5 j k hj (by omega), fun k hk => h6 k (by omega), fun k hk => h7 k (by omega)⟩
theorem rm_leave {d : Nat} {td : Nat → Int32} {p val : Nat → Nat} (h : td (d + 1) = 0) : Rm (d + 1) td p val ↔ Rm d td p val := by
  constructor
  · rintro ⟨k, h1, h2, h3⟩
    refine ⟨k, ?_, h2, h3⟩
    have : k ≠ d + 1 := fun e => by rw [e, h, b_0] at h3; cases h3
    omega
  · rintro ⟨k, h1, h2⟩; exact ⟨k, by omega, h2⟩
theorem si_try {n V cnt : Nat} {S : Nat → Int32} {H : Nat → (Nat → Nat) → Prop} {D : Nat → Int32} {dir : Int32} {d : Nat} {td mk : Nat → Int32} {tv tm : Nat → Int32} {W : Nat → Nat → Int32} {p mN : Nat → Nat} {ts' : Nat} {tv' tm' w' : Nat → Int32} {t : Int32}
    (h : SI n V cnt S H D dir d td mk (mN d) tv tm (W d) W p mN) (hT : TrR (mN d) tv tm (W d) ts' tv' tm' w') (h2 : TvOk ts' tv') (h3 : ts' ≤ 36) (ht : ∀ a, bt t a = true → bt (td d) a = true) :
    SI n V cnt S H D dir d (upd td d t) mk ts' tv' tm' w' W p mN := by
  obtain ⟨h1, _, _, h4, h5, h6, h7⟩ := h
  refine ⟨h1, h2, h3, fun k hk => ?_, h5, fun k hk => ?_, fun k hk => ?_⟩
  · obtain ⟨a, b, c⟩ := h4 k hk
    have := hT.1
    exact ⟨a, by omega, by rw [← c]; exact hT.2 _ b⟩
  · obtain ⟨a1, a2, a3, a4, a5, a6, a7⟩ := h6 k hk
    refine ⟨a1, a2, a3, a4, fun a ha => ?_, a6, a7⟩
    by_cases z : k = d
    · rw [z, pk_us] at ha; rw [z] at a5 ⊢; exact a5 a (ht a ha)
    · rw [pk_un z] at ha; exact a5 a ha
  · refine ⟨(h7 k hk).1, fun a ha => ?_⟩
    rw [pk_un (by omega)] at ha; exact (h7 k hk).2 a ha
theorem rm_try {d : Nat} {td : Nat → Int32} {p val : Nat → Nat} {t : Int32} {v : Nat} (ht : ∀ a, bt t a = true ↔ bt (td d) a = true ∧ a ≠ v) (hno : ¬ ((∀ j, j < d → val j = p j) ∧ val d = v)) : Rm d (upd td d t) p val ↔ Rm d td p val := by
  constructor
  · rintro ⟨k, h1, h2, h3⟩
    refine ⟨k, h1, h2, ?_⟩
    by_cases z : k = d
    · rw [z, pk_us, ht] at h3; rw [z]; exact h3.1
    · rw [pk_un z] at h3; exact h3
  · rintro ⟨k, h1, h2, h3⟩
    refine ⟨k, h1, h2, ?_⟩
    by_cases z : k = d
    · subst z; rw [pk_us, ht]; exact ⟨h3, fun e => hno ⟨h2, e⟩⟩
    · rw [pk_un z]; exact h3
/-- the domain with one value of x -/
def setM (W : Nat → Int32) (x v : Nat) : Nat → Int32 := upd W x ((1 : Int32) <<< (nI v &&& 31))
theorem setM_b {W : Nat → Int32} {x v a : Nat} (hv : v < 32) : bt (setM W x v x) a = true ↔ a = v := by
  unfold setM; rw [pk_us, gb_shl1 hv, decide_eq_true_eq]
theorem setM_sub {n : Nat} {W : Nat → Int32} {x v : Nat} (hb : bt (W x) v = true) : Sbs n (setM W x v) W := by
  intro y a hy ha
  by_cases z : y = x
  · subst z; rw [setM_b (bt32 hb)] at ha; rw [ha]; exact hb
  · unfold setM at ha; rw [pk_un z] at ha; exact ha
theorem Sol_set {n cnt : Nat} {H : Nat → (Nat → Nat) → Prop} {W : Nat → Int32} {x v : Nat} {val : Nat → Nat} (h : Sol n cnt H W val) (hx : val x = v) (hv : v < 32) : Sol n cnt H (setM W x v) val := by
  refine ⟨fun y hy => ?_, h.2⟩
  by_cases z : y = x
  · subst z; rw [setM_b hv]; exact hx
  · unfold setM; rw [pk_un z]; exact h.1 y hy
/-- single values stay -/
theorem one_keep {m m' : Int32} {v : Nat} (h : ∀ a, bt m a = true ↔ a = v) (hs : ∀ a, bt m' a = true → bt m a = true) (hne : ∃ a, bt m' a = true) : ∀ a, bt m' a = true ↔ a = v := by
  obtain ⟨b, hb⟩ := hne
  have e := (h b).mp (hs b hb)
  subst e
  exact fun a => ⟨fun ha => (h a).mp (hs a ha), fun ha => ha ▸ hb⟩
theorem si_enter {n V cnt : Nat} {S : Nat → Int32} {H : Nat → (Nat → Nat) → Prop} {D : Nat → Int32} {dir : Int32} {d : Nat} {td mk : Nat → Int32} {tv tm : Nat → Int32} {W : Nat → Nat → Int32} {p mN : Nat → Nat} {ts' : Nat} {tv' tm' w' : Nat → Int32} {t : Int32} {v : Nat} (hn : n ≤ 6)
    (h : SI n V cnt S H D dir d td mk (mN d) tv tm (W d) W p mN) (hT : TrR (mN d) tv tm (W d) ts' tv' tm' w') (h2 : TvOk ts' tv') (hd : d + 1 < n) (ht : ∀ a, bt t a = true ↔ bt (td d) a = true ∧ a ≠ v) (hv : bt (td d) v = true) (hfirst : ∀ a, bt t a = true → aft dir v a)
    (hPV : PV V w') (hb : ts' + bsum w' 6 ≤ 36) (hF : Fixd n cnt S H w') (hsn : Snd n cnt S H (setM (W d) d v) w') (hsb : Sbs n w' (setM (W d) d v)) :
    SI n V cnt S H D dir (d + 1) (upd (upd td d t) (d + 1) (w' (d + 1))) (upd mk (d + 1) (nI ts')) ts' tv' tm' w' (fun k => if k = d + 1 then w' else W k) (fun k => if k = d then v else p k) (fun k => if k = d + 1 then ts' else mN k) := by
  have hS := si_try (t := t) h hT h2 (by omega) (fun a ha => ((ht a).mp ha).1)
  obtain ⟨h1, _, h3, h4, h5, h6, h7⟩ := hS
  have hdd := h6 d (Nat.le_refl _)
  have hvW : bt (W d d) v = true := (h.2.2.2.2.2.1 d (Nat.le_refl _)).2.2.2.2.1 v hv
  have hone : ∀ j a, j < d + 1 → (bt (w' j) a = true ↔ a = (if j = d then v else p j)) := by
    intro j a hj
    have hne := (hPV j (by omega)).2
    by_cases z : j = d
    · rw [if_pos z]; subst z
      exact one_keep (fun a => setM_b (bt32 hvW)) (fun a ha => hsb j a (by omega) ha) hne a
    · rw [if_neg z]
      refine one_keep (m := W d j) (fun a => hdd.2.2.2.2.2.2 j a (by omega)) (fun a ha => ?_) hne a
      have := hsb j a (by omega) ha
      unfold setM at this; rw [pk_un z] at this; exact this
  refine ⟨hd, h2, h3, fun k hk => ?_, fun j k hj hk => ?_, fun k hk => ?_, fun k hk => ?_⟩
  · show upd mk (d + 1) (nI ts') k = nI (if k = d + 1 then ts' else mN k) ∧ (if k = d + 1 then ts' else mN k) ≤ ts' ∧ und tv' tm' (if k = d + 1 then ts' else mN k) (ts' - (if k = d + 1 then ts' else mN k)) w' = (if k = d + 1 then w' else W k)
    by_cases z : k = d + 1
    · rw [if_pos z, if_pos z, z, pk_us]
      exact ⟨rfl, Nat.le_refl _, by rw [Nat.sub_self]; rfl⟩
    · rw [if_neg z, if_neg z, pk_un z]; exact h4 k (by omega)
  · show (if j = d + 1 then ts' else mN j) ≤ (if k = d + 1 then ts' else mN k)
    by_cases z : k = d + 1
    · rw [if_pos z]
      by_cases y : j = d + 1
      · rw [if_pos y]; omega
      · rw [if_neg y]; exact (h4 j (by omega)).2.1
    · rw [if_neg z, if_neg (by omega)]; exact h5 j k hj (by omega)
  · show PV V (if k = d + 1 then w' else W k) ∧ (if k = d + 1 then ts' else mN k) + bsum (if k = d + 1 then w' else W k) 6 ≤ 36 ∧ Fixd n cnt S H (if k = d + 1 then w' else W k) ∧ Sbs n (if k = d + 1 then w' else W k) D ∧ (∀ a, bt (upd (upd td d t) (d + 1) (w' (d + 1)) k) a = true → bt ((if k = d + 1 then w' else W k) k) a = true) ∧ (∀ val, Sol n cnt H D val → (∀ j, j < k → val j = (if j = d then v else p j)) → Sol n cnt H (if k = d + 1 then w' else W k) val) ∧ (∀ j a, j < k → (bt ((if k = d + 1 then w' else W k) j) a = true ↔ a = (if j = d then v else p j)))
    by_cases z : k = d + 1
    · rw [if_pos z, if_pos z]
      refine ⟨hPV, hb, hF, fun x a hx ha => ?_, fun a ha => ?_, fun val hs hj => ?_, fun j a hj => hone j a (by omega)⟩
      · exact hdd.2.2.2.1 x a hx (setM_sub hvW x a hx (hsb x a hx ha))
      · rw [z, pk_us] at ha; rw [z]; exact ha
      · have s1 := hdd.2.2.2.2.2.1 val hs (fun j hjd => by rw [hj j (by omega), if_neg (by omega)])
        have s2 : val d = v := by rw [hj d (by omega), if_pos rfl]
        exact Sol_snd (Sol_set s1 s2 (bt32 hvW)) hsn
    · rw [if_neg z, if_neg z]
      obtain ⟨a1, a2, a3, a4, a5, a6, a7⟩ := h6 k (by omega)
      refine ⟨a1, a2, a3, a4, fun a ha => ?_, fun val hs hj => a6 val hs (fun j hjk => by rw [hj j hjk, if_neg (by omega)]), fun j a hj => ?_⟩
      · rw [pk_un z] at ha; exact a5 a ha
      · rw [if_neg (by omega)]; exact a7 j a hj
  · show bt ((if k = d + 1 then w' else W k) k) (if k = d then v else p k) = true ∧ ∀ a, bt (upd (upd td d t) (d + 1) (w' (d + 1)) k) a = true → aft dir (if k = d then v else p k) a
    rw [if_neg (by omega), pk_un (by omega)]
    by_cases z : k = d
    · rw [if_pos z, z, pk_us]; exact ⟨hvW, hfirst⟩
    · rw [if_neg z, pk_un z]
      have := h7 k (by omega)
      rw [pk_un z] at this
      exact this
theorem rm_enter {n V cnt : Nat} {S : Nat → Int32} {H : Nat → (Nat → Nat) → Prop} {D : Nat → Int32} {dir : Int32} {d : Nat} {td mk : Nat → Int32} {ts : Nat} {tv tm w : Nat → Int32} {W : Nat → Nat → Int32} {p mN : Nat → Nat} {w' : Nat → Int32} {t : Int32} {v : Nat} (hd : d + 1 < n)
    (h : SI n V cnt S H D dir d td mk ts tv tm w W p mN) (ht : ∀ a, bt t a = true ↔ bt (td d) a = true ∧ a ≠ v) (hv : bt (td d) v = true)
    (hsn : Snd n cnt S H (setM (W d) d v) w') {val : Nat → Nat} (hs : Sol n cnt H D val) :
    Rm (d + 1) (upd (upd td d t) (d + 1) (w' (d + 1))) (fun k => if k = d then v else p k) val ↔ Rm d td p val := by
  have hdd := h.2.2.2.2.2.1 d (Nat.le_refl _)
  have hvW : bt (W d d) v = true := hdd.2.2.2.2.1 v hv
  constructor
  · rintro ⟨k, h1, h2, h3⟩
    have h2 : ∀ j, j < k → val j = (if j = d then v else p j) := h2
    by_cases z : k = d + 1
    · subst z
      refine ⟨d, Nat.le_refl _, fun j hj => by rw [h2 j (by omega), if_neg (by omega)], ?_⟩
      rw [h2 d (by omega), if_pos rfl]; exact hv
    · rw [pk_un z] at h3
      refine ⟨k, by omega, fun j hj => by rw [h2 j hj, if_neg (by omega)], ?_⟩
      by_cases y : k = d
      · rw [y, pk_us, ht] at h3; rw [y]; exact h3.1
      · rw [pk_un y] at h3; exact h3
  · rintro ⟨k, h1, h2, h3⟩
    by_cases y : k = d
    · subst y
      by_cases x : val k = v
      · refine ⟨k + 1, Nat.le_refl _, fun j hj => ?_, ?_⟩
        · show val j = (if j = k then v else p j)
          by_cases q : j = k
          · rw [if_pos q, q]; exact x
          · rw [if_neg q]; exact h2 j (by omega)
        · rw [pk_us]
          exact (Sol_snd (Sol_set (hdd.2.2.2.2.2.1 val hs h2) x (bt32 hvW)) hsn).1 (k + 1) hd
      · refine ⟨k, by omega, fun j hj => ?_, ?_⟩
        · show val j = (if j = k then v else p j)
          rw [if_neg (by omega)]; exact h2 j hj
        · rw [pk_un (by omega), pk_us, ht]; exact ⟨h3, x⟩
    · refine ⟨k, by omega, fun j hj => ?_, ?_⟩
      · show val j = (if j = d then v else p j)
        rw [if_neg (by omega)]; exact h2 j hj
      · rw [pk_un (by omega), pk_un y]; exact h3
/-- a full assignment is found -/
theorem si_found {n V cnt : Nat} {kd sc lo hi tc co xt tu : Nat → Int32} {D : Nat → Int32} {dir : Int32} {d : Nat} {td mk : Nat → Int32} {tv tm : Nat → Int32} {W : Nat → Nat → Int32} {p mN : Nat → Nat} {w' : Nat → Int32} {t : Int32} {v pl : Nat} (hn : n ≤ 6) (hV : V ≤ 6)
    (hok : ∀ c, c < cnt → COk n V kd sc tc co xt tu c)
    (h : SI n V cnt sc (Hd n kd sc lo hi tc co tu) D dir d td mk (mN d) tv tm (W d) W p mN) (hd : d + 1 = n) (ht : ∀ a, bt t a = true ↔ bt (td d) a = true ∧ a ≠ v) (hv : bt (td d) v = true) (hfirst : ∀ a, bt t a = true → aft dir v a)
    (hDV : ∀ x, x < n → Msk V (D x))
    (hrk : ∀ val, Sol n cnt (Hd n kd sc lo hi tc co tu) D val → (Rm d td p val ↔ pl ≤ rnk dir n val))
    (hPV : PV V w') (hF : Fixd n cnt sc (Hd n kd sc lo hi tc co tu) w') (hsb : Sbs n w' (setM (W d) d v)) :
    ∃ vs : Nat → Nat, (∀ x a, x < n → (bt (w' x) a = true ↔ a = vs x)) ∧ Sol n cnt (Hd n kd sc lo hi tc co tu) D vs ∧ pl ≤ rnk dir n vs ∧ (∀ val, Sol n cnt (Hd n kd sc lo hi tc co tu) D val → pl ≤ rnk dir n val → rnk dir n vs ≤ rnk dir n val) ∧
      ∀ val, Sol n cnt (Hd n kd sc lo hi tc co tu) D val → (Rm d (upd td d t) p val ↔ rnk dir n vs + 1 ≤ rnk dir n val) := by
  have hdd := h.2.2.2.2.2.1 d (Nat.le_refl _)
  have hvW : bt (W d d) v = true := hdd.2.2.2.2.1 v hv
  have hone : ∀ j a, j < n → (bt (w' j) a = true ↔ a = (if j = d then v else p j)) := by
    intro j a hj
    have hne := (hPV j (by omega)).2
    by_cases z : j = d
    · rw [if_pos z]; subst z
      exact one_keep (fun a => setM_b (bt32 hvW)) (fun a ha => hsb j a (by omega) ha) hne a
    · rw [if_neg z]
      refine one_keep (m := W d j) (fun a => hdd.2.2.2.2.2.2 j a (by omega)) (fun a ha => ?_) hne a
      have := hsb j a (by omega) ha
      unfold setM at this; rw [pk_un z] at this; exact this
  have hone' : ∀ j a, j < n → (bt (w' j) a = true ↔ a = (fun j => if j = d then v else p j) j) := hone
  have hsub : Sbs n w' D := fun x a hx ha => hdd.2.2.2.1 x a hx (setM_sub hvW x a hx (hsb x a hx ha))
  have hsol := Sol_mono (Fix_sol hn hok (val := fun j => if j = d then v else p j) hone hF) hsub
  have h6 : ∀ val, Sol n cnt (Hd n kd sc lo hi tc co tu) D val → ∀ x, x < n → val x < 6 := fun val hs x hx => by
    have := mk_lt (hDV x hx) (hs.1 x hx); omega
  have hvd : (fun j => if j = d then v else p j) d = v := if_pos rfl
  have hvj : ∀ j, j < d → (fun j => if j = d then v else p j) j = p j := fun j hj => if_neg (by omega)
  generalize (fun j => if j = d then v else p j) = vs at *
  have hpl : pl ≤ rnk dir n vs := (hrk vs hsol).mp ⟨d, Nat.le_refl _, hvj, by rw [hvd]; exact hv⟩
  have hne : ∀ val, Sol n cnt (Hd n kd sc lo hi tc co tu) D val → Rm d (upd td d t) p val → rnk dir n vs < rnk dir n val := by
    rintro val hs ⟨k, h1, h2, h3⟩
    refine rk_lex (k := k) hn (h6 vs hsol) (h6 val hs) (fun j hj => by rw [hvj j (by omega), h2 j hj]) (by omega) ?_
    by_cases z : k = d
    · subst z; rw [pk_us] at h3; rw [hvd]; exact hfirst _ h3
    · rw [pk_un z] at h3
      rw [hvj k (by omega)]
      exact (h.2.2.2.2.2.2 k (by omega)).2 _ h3
  have heq : ∀ val, Sol n cnt (Hd n kd sc lo hi tc co tu) D val → Rm d td p val → Rm d (upd td d t) p val ∨ rnk dir n vs = rnk dir n val := by
    rintro val hs ⟨k, h1, h2, h3⟩
    by_cases z : k = d
    · subst z
      by_cases e : val k = v
      · refine Or.inr (rk_c (fun x hx => ?_))
        by_cases y : x = k
        · rw [y, hvd, e]
        · rw [hvj x (by omega), h2 x (by omega)]
      · exact Or.inl ⟨k, h1, h2, by rw [pk_us, ht]; exact ⟨h3, e⟩⟩
    · exact Or.inl ⟨k, h1, h2, by rw [pk_un z]; exact h3⟩
  refine ⟨vs, hone', hsol, hpl, fun val hs hle => ?_, fun val hs => ⟨fun hr => hne val hs hr, fun hlt => ?_⟩⟩
  · rcases heq val hs ((hrk val hs).mpr hle) with q | q
    · have := hne val hs q; omega
    · omega
  · rcases heq val hs ((hrk val hs).mpr (by omega)) with q | q
    · exact q
    · omega
/-- a bound on the steps -/
def stT : Nat → Nat
  | 0 => 1
  | j + 1 => 6 * stT j + 2
def stS (td : Nat → Int32) : Nat → Nat
  | 0 => 0
  | k + 1 => stS td k + pcN (td k) 6 * stT (5 - k)
theorem st_c {td td' : Nat → Int32} : ∀ {k : Nat}, (∀ j, j < k → td j = td' j) → stS td k = stS td' k
  | 0, _ => rfl
  | k + 1, h => by simp only [stS]; rw [st_c (fun j hj => h j (by omega)), h k (by omega)]
theorem st_le (td : Nat → Int32) : stS td 6 ≤ 78366 := by
  have h : ∀ k, pcN (td k) 6 ≤ 6 := fun k => pc_le _ 6
  have a0 := h 0; have a1 := h 1; have a2 := h 2; have a3 := h 3; have a4 := h 4; have a5 := h 5
  show 0 + pcN (td 0) 6 * 10886 + pcN (td 1) 6 * 1814 + pcN (td 2) 6 * 302 + pcN (td 3) 6 * 50 + pcN (td 4) 6 * 8 + pcN (td 5) 6 * 1 ≤ 78366
  omega
theorem st_pos : ∀ j, 1 ≤ stT j
  | 0 => Nat.le_refl _
  | j + 1 => by simp only [stT]; omega
theorem st_mono (td : Nat → Int32) {j k : Nat} (h : j ≤ k) : stS td j ≤ stS td k := by
  induction k with
  | zero => obtain rfl : j = 0 := by omega
            exact Nat.le_refl _
  | succ k ih =>
    rcases Nat.lt_or_ge k j with z | z
    · obtain rfl : j = k + 1 := by omega
      exact Nat.le_refl _
    · have := ih z; simp only [stS]; omega
theorem st_try {td : Nat → Int32} {d : Nat} {t : Int32} (ht : pcN t 6 + 1 = pcN (td d) 6) : stS (upd td d t) (d + 1) + stT (5 - d) = stS td (d + 1) := by
  simp only [stS]
  rw [st_c (td := upd td d t) (td' := td) (fun j hj => pk_un (by omega)), pk_us, ← ht, Nat.add_mul]
  omega
theorem st_enter {td : Nat → Int32} {d : Nat} {m : Int32} (hd : d + 1 < 6) : stS (upd td (d + 1) m) (d + 2) + 2 ≤ stS td (d + 1) + stT (5 - d) := by
  have e : stS (upd td (d + 1) m) (d + 2) = stS (upd td (d + 1) m) (d + 1) + pcN (upd td (d + 1) m (d + 1)) 6 * stT (5 - (d + 1)) := rfl
  rw [e, st_c (td := upd td (d + 1) m) (td' := td) (fun j hj => pk_un (by omega)), pk_us]
  have e2 : stT (5 - d) = 6 * stT (5 - (d + 1)) + 2 := by
    rw [show 5 - d = (5 - (d + 1)) + 1 by omega]; rfl
  rw [e2]
  have := pc_le m 6
  have := Nat.mul_le_mul_right (stT (5 - (d + 1))) this
  omega
end
end
section
/-! the search of the component -/
section
variable {f_maxConstraints f_maxLevel f_allValues f_allVars f_status f_currentLevel f_searchState f_searchDirection f_foundCount f_depth : Int32} {a_dom a_savedDom a_savedCount a_savedStatus a_kindOf a_scopeOf a_lowBound a_highBound a_tupleCount a_coef a_tuples a_newTuple a_solution a_todo a_mark : Nat → Int32} {n V cnt hd sz ts : Nat} {pd : Int32} {q w tv tm D tu : Nat → Int32}
theorem nI_plt {m : Nat} (hm : m ≤ 1000) : nI m - 1 < nI m := by
  show nI m - nI 1 < nI m
  rw [Int32.lt_iff_toInt_lt, pk_sub_toInt (by omega) (by omega), nI_toInt (by omega)]; omega
theorem xd_un7 {post : SX → Prop} {m : Nat} {ss : Int32} {s1 s2 s3 s4 s5 s6 s7 s8 s9 s10 s11 s12 s13 : Nat → Int32} (hm : m ≤ ts) (hts : ts ≤ 36) (hTv : TvOk ts tv) :
    ∀ (e : Nat) (w : Nat → Int32), m + e ≤ ts → post (nI n, nI V, f_maxConstraints, f_maxLevel, f_allValues, f_allVars, f_status, f_currentLevel, nI cnt, f_searchState, f_searchDirection, f_foundCount, f_depth, nI m, nI hd, nI sz, pd, ss, a_dom, a_savedDom, a_savedCount, a_savedStatus, a_kindOf, a_scopeOf, a_lowBound, a_highBound, a_tupleCount, a_coef, a_tuples, a_newTuple, a_solution, a_todo, a_mark, und tv tm m e w, tv, tm, q, s1, s2, s3, s4, s5, s6, s7, s8, s9, s10, s11, s12, s13) → wX_undoTo_7 post (nI m) (nI n) (nI V) f_maxConstraints f_maxLevel f_allValues f_allVars f_status f_currentLevel (nI cnt) f_searchState f_searchDirection f_foundCount f_depth (nI ts) (nI hd) (nI sz) pd ss (e + 1) (nI (m + e) - 1) a_dom a_savedDom a_savedCount a_savedStatus a_kindOf a_scopeOf a_lowBound a_highBound a_tupleCount a_coef a_tuples a_newTuple a_solution a_todo a_mark w tv tm q s1 s2 s3 s4 s5 s6 s7 s8 s9 s10 s11 s12 s13 := by
  intro e
  induction e with
  | zero =>
    intro w he hP
    refine br_t (nI_plt (by omega)) ?_
    by_cases z : ts ≤ m
    · obtain rfl : ts = m := by omega
      exact br_t (nI_le (Nat.le_refl _) (by omega)) hP
    · exact br_f (nI_ge (by omega) (by omega)) hP
  | succ e ih =>
    intro w he hP
    have e1 : nI (m + (e + 1)) - 1 = nI (m + e) := nI_pred (m + e)
    rw [e1]
    obtain ⟨x, hx, ex⟩ := hTv (m + e) (by omega)
    have hcl : (nI (m + e)).toNatClampNeg = m + e := nI_clamp (by omega)
    refine br_f (nI_nlt (by omega) (by omega)) (br_f (nI_pos (by omega)) ⟨vp_in_nI (by omega) (by omega), vp_in_nI (by omega) (by omega), ?_⟩)
    rw [hcl]
    refine ⟨by rw [ex]; exact vp_in_nI hx (by omega), nm_e (nm_r (e' := nI (m + e) - 1) ?_ (ih _ (by omega) hP))⟩
    rw [Int32.sub_eq_add_neg]
theorem xd_undo {post : SX → Prop} {m : Nat} {ss : Int32} {s1 s2 s3 s4 s5 s6 s7 s8 s9 s10 s11 s12 s13 : Nat → Int32} {w' : Nat → Int32} (hm : m ≤ ts) (hts : ts ≤ 36) (hTv : TvOk ts tv) (hw : und tv tm m (ts - m) w = w') (hP : post (nI n, nI V, f_maxConstraints, f_maxLevel, f_allValues, f_allVars, f_status, f_currentLevel, nI cnt, f_searchState, f_searchDirection, f_foundCount, f_depth, nI m, nI hd, nI sz, pd, ss, a_dom, a_savedDom, a_savedCount, a_savedStatus, a_kindOf, a_scopeOf, a_lowBound, a_highBound, a_tupleCount, a_coef, a_tuples, a_newTuple, a_solution, a_todo, a_mark, w', tv, tm, q, s1, s2, s3, s4, s5, s6, s7, s8, s9, s10, s11, s12, s13)) : wpX_undoTo post (nI n, nI V, f_maxConstraints, f_maxLevel, f_allValues, f_allVars, f_status, f_currentLevel, nI cnt, f_searchState, f_searchDirection, f_foundCount, f_depth, nI ts, nI hd, nI sz, pd, ss, a_dom, a_savedDom, a_savedCount, a_savedStatus, a_kindOf, a_scopeOf, a_lowBound, a_highBound, a_tupleCount, a_coef, a_tuples, a_newTuple, a_solution, a_todo, a_mark, w, tv, tm, q, s1, s2, s3, s4, s5, s6, s7, s8, s9, s10, s11, s12, s13) (nI m) := by
  subst hw
  refine nm_r (e' := nI (m + (ts - m)) - 1) (by rw [show m + (ts - m) = ts by omega]) (Exists.intro (ts - m + 1) ?_)
  exact xd_un7 hm hts hTv (ts - m) w (by omega) hP
theorem xd_asg {post : Int32 → SX → Prop} {x v : Nat} {ss fqh fqs fpm : Int32} {s1 s2 s3 s4 s5 s6 s7 s8 s9 s10 s11 s12 s13 : Nat → Int32} (hn : n ≤ 6) (hV : V ≤ 6) (hcnt : cnt ≤ 6) (hok : ∀ c, c < cnt → COk n V a_kindOf a_scopeOf a_tupleCount a_coef a_tuples tu c)
    (hx : x < n) (hPV : PV V w) (hb : ts + bsum w 6 ≤ 36) (hTv : TvOk ts tv) (hF : Fixd n cnt a_scopeOf (Hd n a_kindOf a_scopeOf a_lowBound a_highBound a_tupleCount a_coef tu) w) (hv : bt (w x) v = true)
    (h0 : (∀ val, Sol n cnt (Hd n a_kindOf a_scopeOf a_lowBound a_highBound a_tupleCount a_coef tu) w val → val x ≠ v) → ∀ (ss : Int32) (s1 s2 s3 s4 s5 s6 s7 s8 s9 s10 s11 s12 s13 : Nat → Int32) (hd' sz' : Nat) (pd' : Int32) (q' : Nat → Int32) (ts' : Nat) (w' tv' tm' : Nat → Int32), TvOk ts' tv' → ts' ≤ 36 → TrR ts tv tm w ts' tv' tm' w' → post 0 (nI n, nI V, f_maxConstraints, f_maxLevel, f_allValues, f_allVars, f_status, f_currentLevel, nI cnt, f_searchState, f_searchDirection, f_foundCount, f_depth, nI ts', nI hd', nI sz', pd', ss, a_dom, a_savedDom, a_savedCount, a_savedStatus, a_kindOf, a_scopeOf, a_lowBound, a_highBound, a_tupleCount, a_coef, a_tuples, a_newTuple, a_solution, a_todo, a_mark, w', tv', tm', q', s1, s2, s3, s4, s5, s6, s7, s8, s9, s10, s11, s12, s13))
    (h1 : ∀ (ss : Int32) (s1 s2 s3 s4 s5 s6 s7 s8 s9 s10 s11 s12 s13 : Nat → Int32) (hd' sz' : Nat) (pd' : Int32) (q' : Nat → Int32) (ts' : Nat) (w' tv' tm' : Nat → Int32), PI n V cnt a_scopeOf (Hd n a_kindOf a_scopeOf a_lowBound a_highBound a_tupleCount a_coef tu) (setM w x v) hd' sz' pd' q' ts' tv' w' → Fixd n cnt a_scopeOf (Hd n a_kindOf a_scopeOf a_lowBound a_highBound a_tupleCount a_coef tu) w' → TrR ts tv tm w ts' tv' tm' w' → post 1 (nI n, nI V, f_maxConstraints, f_maxLevel, f_allValues, f_allVars, f_status, f_currentLevel, nI cnt, f_searchState, f_searchDirection, f_foundCount, f_depth, nI ts', nI hd', nI sz', pd', ss, a_dom, a_savedDom, a_savedCount, a_savedStatus, a_kindOf, a_scopeOf, a_lowBound, a_highBound, a_tupleCount, a_coef, a_tuples, a_newTuple, a_solution, a_todo, a_mark, w', tv', tm', q', s1, s2, s3, s4, s5, s6, s7, s8, s9, s10, s11, s12, s13)) :
    wpX_assign post (nI n, nI V, f_maxConstraints, f_maxLevel, f_allValues, f_allVars, f_status, f_currentLevel, nI cnt, f_searchState, f_searchDirection, f_foundCount, f_depth, nI ts, fqh, fqs, fpm, ss, a_dom, a_savedDom, a_savedCount, a_savedStatus, a_kindOf, a_scopeOf, a_lowBound, a_highBound, a_tupleCount, a_coef, a_tuples, a_newTuple, a_solution, a_todo, a_mark, w, tv, tm, q, s1, s2, s3, s4, s5, s6, s7, s8, s9, s10, s11, s12, s13) (nI x) (nI v) := by
  have hv6 : v < 6 := by have := mk_lt (hPV x (by omega)).1 hv; omega
  have hts : ts ≤ 30 := by have := bs_ge (PV_6 hV hPV); omega
  have hm : ∀ a, bt ((1 : Int32) <<< (nI v &&& 31)) a = true ↔ a = v := fun a => by rw [gb_shl1 (by omega), decide_eq_true_eq]
  have fail : Fl n cnt a_scopeOf (Hd n a_kindOf a_scopeOf a_lowBound a_highBound a_tupleCount a_coef tu) (setM w x v) → ∀ val, Sol n cnt (Hd n a_kindOf a_scopeOf a_lowBound a_highBound a_tupleCount a_coef tu) w val → val x ≠ v := by
    rintro ⟨W, c, y, hc, hy, hyb, hs, hno⟩ val hsol e
    exact Sol_fail hc hs hno val (Sol_set hsol e (by omega))
  unfold wpX_assign wpX_clearQueue
  refine xp_nar (hd := 0) (sz := 0) (pd := 0) (by omega) hcnt (QI_0 cnt q) (by omega) (fun z => ?_) (fun z0 z1 => ?_) (fun z0 z1 sz2 pd2 q2 hQ2 r1 r2 => ?_)
  · have := (hm v).mpr rfl
    rw [z, b_0] at this; cases this
  · have e : setM w x v = w := u_self z1.symm
    refine br_f (by decide) ?_
    refine xp_run (hd := 0) (sz := 0) (D := setM w x v) hn hV hcnt hok ⟨hPV, QI_0 cnt q, hb, hTv, by rw [e]; exact Snd_r w, by rw [e]; exact fun _ _ _ h => h⟩ (fun c hc _ => Or.inr (hF c hc)) (fun hf ss s1 s2 s3 s4 s5 s6 s7 s8 s9 s10 s11 s12 s13 hd' sz' pd' q' ts' w' tv' tm' p1 p2 p3 => ⟨narrow_b0, h0 (fail hf) ss s1 s2 s3 s4 s5 s6 s7 s8 s9 s10 s11 s12 s13 hd' sz' pd' q' ts' w' tv' tm' p1 p2 p3⟩) (fun ss s1 s2 s3 s4 s5 s6 s7 s8 s9 s10 s11 s12 s13 hd' sz' pd' q' ts' w' tv' tm' p1 p2 p3 => ⟨narrow_b1, h1 ss s1 s2 s3 s4 s5 s6 s7 s8 s9 s10 s11 s12 s13 hd' sz' pd' q' ts' w' tv' tm' p1 p2 p3⟩)
  · refine br_f (by decide) ?_
    have hmk := (hPV x (by omega)).1
    have hbs := bs_upd (w := w) (x := x) (m := (1 : Int32) <<< (nI v &&& 31)) (k := 6) (by omega)
    have hlt : pcN ((1 : Int32) <<< (nI v &&& 31)) 6 < pcN (w x) 6 := by
      have hex : ∃ a, bt ((1 : Int32) <<< (nI v &&& 31)) a = false ∧ bt (w x) a = true := by
        apply Classical.byContradiction
        intro hne
        apply z1
        apply gb_e
        intro a
        refine ⟨fun ha => by rw [(hm a).mp ha]; exact hv, fun ha => ?_⟩
        cases hq : bt ((1 : Int32) <<< (nI v &&& 31)) a with
        | true => rfl
        | false => exact absurd ⟨a, hq, ha⟩ hne
      obtain ⟨a, a1, a2⟩ := hex
      exact pc_subs (fun i _ hi => by rw [(hm i).mp hi]; exact hv) (by have := mk_lt hmk a2; omega) a1 a2
    refine xp_run (hd := 0) (sz := sz2) (ts := ts + 1) (D := setM w x v) hn hV hcnt hok ⟨fun y hy => ?_, hQ2, ?_, Tv_p (by omega) hTv, Snd_r _, fun _ _ _ h => h⟩ (fun c hc _ => ?_) (fun hf ss s1 s2 s3 s4 s5 s6 s7 s8 s9 s10 s11 s12 s13 hd' sz' pd' q' ts' w' tv' tm' p1 p2 p3 => ⟨narrow_b0, h0 (fail hf) ss s1 s2 s3 s4 s5 s6 s7 s8 s9 s10 s11 s12 s13 hd' sz' pd' q' ts' w' tv' tm' p1 p2 (Tr_t (Tr_p (by omega)) p3)⟩) (fun ss s1 s2 s3 s4 s5 s6 s7 s8 s9 s10 s11 s12 s13 hd' sz' pd' q' ts' w' tv' tm' p1 p2 p3 => ⟨narrow_b1, h1 ss s1 s2 s3 s4 s5 s6 s7 s8 s9 s10 s11 s12 s13 hd' sz' pd' q' ts' w' tv' tm' p1 p2 (Tr_t (Tr_p (by omega)) p3)⟩)
    · by_cases y1 : y = x
      · rw [y1, pk_us]; exact ⟨mk_shl (mk_lt hmk hv) (by omega), v, (hm v).mpr rfl⟩
      · rw [pk_un y1]; exact hPV y hy
    · omega
    · cases hbx : bt (a_scopeOf c) x with
      | true => exact Or.inl (r2 c hc (fun e => nI_m1 (by omega) e) hbx)
      | false =>
        refine Or.inr (Cst_l (fun y hy hyb => ?_) (hF c hc))
        have : y ≠ x := fun e => by rw [e, hbx] at hyb; cases hyb
        rw [pk_un this]
theorem xd_100 {post : Int32 → SX → Prop} {J : Int32 → Int32 → Int32 → Int32 → Int32 → Int32 → Int32 → Int32 → Int32 → Int32 → Int32 → Int32 → Int32 → Int32 → Int32 → Int32 → Int32 → Int32 → Int32 →  (Nat → Int32) → (Nat → Int32) → (Nat → Int32) → (Nat → Int32) → (Nat → Int32) → (Nat → Int32) → (Nat → Int32) → (Nat → Int32) → (Nat → Int32) → (Nat → Int32) → (Nat → Int32) → (Nat → Int32) → (Nat → Int32) → (Nat → Int32) → (Nat → Int32) → (Nat → Int32) → (Nat → Int32) → (Nat → Int32) → (Nat → Int32) → (Nat → Int32) → (Nat → Int32) → (Nat → Int32) → (Nat → Int32) → (Nat → Int32) → (Nat → Int32) → (Nat → Int32) → (Nat → Int32) → (Nat → Int32) → (Nat → Int32) → (Nat → Int32) → (Nat → Int32) → (Nat → Int32) →  Prop} {step d v pl m : Nat} {td mk : Nat → Int32} {W : Nat → Nat → Int32} {p mN : Nat → Nat} {ss fqh fqs fpm : Int32} {s1 s2 s3 s4 s5 s6 s7 s8 s9 s10 s11 s12 s13 : Nat → Int32} (hn : n ≤ 6) (hV : V ≤ 6) (hcnt : cnt ≤ 6) (hok : ∀ c, c < cnt → COk n V a_kindOf a_scopeOf a_tupleCount a_coef a_tuples tu c) (hDV : ∀ x, x < n → Msk V (D x))
    (hSI : SI n V cnt a_scopeOf (Hd n a_kindOf a_scopeOf a_lowBound a_highBound a_tupleCount a_coef tu) D f_searchDirection d td mk (mN d) tv tm (W d) W p mN) (hrk : ∀ val, Sol n cnt (Hd n a_kindOf a_scopeOf a_lowBound a_highBound a_tupleCount a_coef tu) D val → (Rm d td p val ↔ pl ≤ rnk f_searchDirection n val)) (hM : stS td (d + 1) + (d + 1) ≤ m + 1)
    (hv : bt (td d) v = true) (hfirst : ∀ a, bt (td d) a = true → a ≠ v → aft f_searchDirection v a)
    (hJ : ∀ (d : Nat) (ss : Int32) (s1 s2 s3 s4 s5 s6 s7 s8 s9 s10 s11 s12 s13 : Nat → Int32) (hd' sz' : Nat) (pd' : Int32) (q' : Nat → Int32) (ts' : Nat) (w' tv' tm' : Nat → Int32) (td' mk' : Nat → Int32) (W' : Nat → Nat → Int32) (p' mN' : Nat → Nat), SI n V cnt a_scopeOf (Hd n a_kindOf a_scopeOf a_lowBound a_highBound a_tupleCount a_coef tu) D f_searchDirection d td' mk' ts' tv' tm' w' W' p' mN' → (∀ val, Sol n cnt (Hd n a_kindOf a_scopeOf a_lowBound a_highBound a_tupleCount a_coef tu) D val → (Rm d td' p' val ↔ pl ≤ rnk f_searchDirection n val)) → stS td' (d + 1) + (d + 1) ≤ m → J (nI (step + 1)) (nI n) (nI V) f_maxConstraints f_maxLevel f_allValues f_allVars f_status f_currentLevel (nI cnt) f_searchState f_searchDirection f_foundCount (nI d) (nI ts') (nI hd') (nI sz') pd' ss a_dom a_savedDom a_savedCount a_savedStatus a_kindOf a_scopeOf a_lowBound a_highBound a_tupleCount a_coef a_tuples a_newTuple a_solution td' mk' w' tv' tm' q' s1 s2 s3 s4 s5 s6 s7 s8 s9 s10 s11 s12 s13)
    (h1 : ∀ (vs : Nat → Nat) (ss : Int32) (s1 s2 s3 s4 s5 s6 s7 s8 s9 s10 s11 s12 s13 : Nat → Int32) (hd' sz' : Nat) (pd' : Int32) (q' : Nat → Int32) (ts' : Nat) (w' tv' tm' : Nat → Int32) (td' mk' : Nat → Int32) (W' : Nat → Nat → Int32) (p' mN' : Nat → Nat), SI n V cnt a_scopeOf (Hd n a_kindOf a_scopeOf a_lowBound a_highBound a_tupleCount a_coef tu) D f_searchDirection (n - 1) td' mk' ts' tv' tm' w' W' p' mN' → (∀ x a, x < n → (bt (w' x) a = true ↔ a = vs x)) → Sol n cnt (Hd n a_kindOf a_scopeOf a_lowBound a_highBound a_tupleCount a_coef tu) D vs → pl ≤ rnk f_searchDirection n vs → (∀ val, Sol n cnt (Hd n a_kindOf a_scopeOf a_lowBound a_highBound a_tupleCount a_coef tu) D val → pl ≤ rnk f_searchDirection n val → rnk f_searchDirection n vs ≤ rnk f_searchDirection n val) →
      (∀ val, Sol n cnt (Hd n a_kindOf a_scopeOf a_lowBound a_highBound a_tupleCount a_coef tu) D val → (Rm (n - 1) td' p' val ↔ rnk f_searchDirection n vs + 1 ≤ rnk f_searchDirection n val)) → post 1 (nI n, nI V, f_maxConstraints, f_maxLevel, f_allValues, f_allVars, f_status, f_currentLevel, nI cnt, f_searchState, f_searchDirection, f_foundCount, nI (n - 1), nI ts', nI hd', nI sz', pd', ss, a_dom, a_savedDom, a_savedCount, a_savedStatus, a_kindOf, a_scopeOf, a_lowBound, a_highBound, a_tupleCount, a_coef, a_tuples, a_newTuple, a_solution, td', mk', w', tv', tm', q', s1, s2, s3, s4, s5, s6, s7, s8, s9, s10, s11, s12, s13)) :
    wX_descend_100 post J (nI step) (nI v) (nI n) (nI V) f_maxConstraints f_maxLevel f_allValues f_allVars f_status f_currentLevel (nI cnt) f_searchState f_searchDirection f_foundCount (nI d) (nI (mN d)) fqh fqs fpm ss a_dom a_savedDom a_savedCount a_savedStatus a_kindOf a_scopeOf a_lowBound a_highBound a_tupleCount a_coef a_tuples a_newTuple a_solution td mk (W d) tv tm q s1 s2 s3 s4 s5 s6 s7 s8 s9 s10 s11 s12 s13 := by
  have hdn := hSI.1
  have hcd : (nI d).toNatClampNeg = d := nI_clamp (by omega)
  have hdd := hSI.2.2.2.2.2.1 d (Nat.le_refl _)
  have hvW : bt (W d d) v = true := hdd.2.2.2.2.1 v hv
  have hv6 : v < 6 := by have := mk_lt (hdd.1 d (by omega)).1 hvW; omega
  have ht : ∀ a, bt (td d &&& (((1 : Int32) <<< (nI v &&& 31)) ^^^ (-1))) a = true ↔ bt (td d) a = true ∧ a ≠ v := by
    intro a
    rw [gb_andn, gb_shl1 (by omega), Bool.and_eq_true]
    constructor
    · rintro ⟨q1, q2⟩; exact ⟨q1, by simpa using q2⟩
    · rintro ⟨q1, q2⟩; exact ⟨q1, by simpa using q2⟩
  have hpc := pc_clr hv (by omega) hv6
  have hst := st_try (td := td) (d := d) hpc
  have hp1 := st_pos (5 - d)
  have hft : ∀ a, bt (td d &&& (((1 : Int32) <<< (nI v &&& 31)) ^^^ (-1))) a = true → aft f_searchDirection v a := fun a ha => hfirst a ((ht a).mp ha).1 ((ht a).mp ha).2
  refine And.intro (vp_in_nI (by omega) (by omega)) (And.intro (vp_in_nI (by omega) (by omega)) (nm_r (e' := upd td d (td d &&& (((1 : Int32) <<< (nI v &&& 31)) ^^^ (-1)))) (by rw [hcd]) ?_))
  refine xd_asg (ts := mN d) (w := W d) hn hV hcnt hok (by omega) hdd.1 hdd.2.1 hSI.2.1 hdd.2.2.1 hvW (fun hno ss s1 s2 s3 s4 s5 s6 s7 s8 s9 s10 s11 s12 s13 hd' sz' pd' q' ts' w' tv' tm' r1 r2 r3 => br_t rfl (nm_r (e' := nI (step + 1)) (nI_1 _) (hJ d ss s1 s2 s3 s4 s5 s6 s7 s8 s9 s10 s11 s12 s13 hd' sz' pd' q' ts' w' tv' tm' _ mk W p mN (si_try hSI r3 r1 r2 (fun a ha => ((ht a).mp ha).1)) (fun val hs => (rm_try ht (fun hh => ?_)).trans (hrk val hs)) ?_))) (fun ss s1 s2 s3 s4 s5 s6 s7 s8 s9 s10 s11 s12 s13 hd' sz' pd' q' ts' w' tv' tm' r1 r2 r3 => br_f (by decide) ?_)
  · exact hno val (hdd.2.2.2.2.2.1 val hs hh.1) hh.2
  · omega
  · rcases Nat.lt_or_ge (d + 1) n with z | z
    · have hne : ¬ nI d = nI n - 1 := by
        obtain ⟨n', rfl⟩ : ∃ n', n = n' + 1 := ⟨n - 1, by omega⟩
        rw [nI_pred]; intro e
        have := nI_inj (by omega) (by omega) e
        omega
      have hcd1 : (nI (d + 1)).toNatClampNeg = d + 1 := nI_clamp (by omega)
      refine br_f hne (nm_r (e' := nI (d + 1)) (nI_1 _) ⟨vp_in_nI (by omega) (by omega), vp_in_nI (by omega) (by omega), nm_r (e' := upd (upd td d (td d &&& (((1 : Int32) <<< (nI v &&& 31)) ^^^ (-1)))) (d + 1) (w' (d + 1))) (by rw [hcd1]) ⟨vp_in_nI (by omega) (by omega), nm_r (e' := upd mk (d + 1) (nI ts')) (by rw [hcd1]) (nm_r (e' := nI (step + 1)) (nI_1 _) ?_)⟩⟩)
      have hse := st_enter (td := upd td d (td d &&& (((1 : Int32) <<< (nI v &&& 31)) ^^^ (-1)))) (d := d) (m := w' (d + 1)) (by omega)
      refine hJ (d + 1) ss s1 s2 s3 s4 s5 s6 s7 s8 s9 s10 s11 s12 s13 hd' sz' pd' q' ts' w' tv' tm' _ _ _ _ _ (si_enter hn hSI r3 r1.2.2.2.1 z ht hv hft r1.1 r1.2.2.1 r2 r1.2.2.2.2.1 r1.2.2.2.2.2) (fun val hs => (rm_enter z hSI ht hv r1.2.2.2.2.1 hs).trans (hrk val hs)) ?_
      show stS _ (d + 2) + (d + 2) ≤ m
      omega
    · obtain rfl : n = d + 1 := by omega
      obtain ⟨vs, q1, q2, q3, q4, q5⟩ := si_found hn hV hok hSI rfl ht hv hft hDV hrk r1.1 r2 r1.2.2.2.2.2
      refine br_t (nI_pred d).symm (h1 vs ss s1 s2 s3 s4 s5 s6 s7 s8 s9 s10 s11 s12 s13 hd' sz' pd' q' ts' w' tv' tm' _ mk W p mN (si_try hSI r3 r1.2.2.2.1 ?_ (fun a ha => ((ht a).mp ha).1)) q1 q2 q3 q4 q5)
      have := PI_ts hV r1
      omega
theorem xd_2 {post : Int32 → SX → Prop} {pl : Nat} (hn : n ≤ 6) (hV : V ≤ 6) (hcnt : cnt ≤ 6) (hok : ∀ c, c < cnt → COk n V a_kindOf a_scopeOf a_tupleCount a_coef a_tuples tu c) (hDV : ∀ x, x < n → Msk V (D x))
    (h0 : (∀ val, Sol n cnt (Hd n a_kindOf a_scopeOf a_lowBound a_highBound a_tupleCount a_coef tu) D val → ¬ pl ≤ rnk f_searchDirection n val) → ∀ (f_depth ss : Int32) (s1 s2 s3 s4 s5 s6 s7 s8 s9 s10 s11 s12 s13 : Nat → Int32) (hd' sz' : Nat) (pd' : Int32) (q' : Nat → Int32) (ts' : Nat) (w' tv' tm' : Nat → Int32) (td' mk' : Nat → Int32), post 0 (nI n, nI V, f_maxConstraints, f_maxLevel, f_allValues, f_allVars, f_status, f_currentLevel, nI cnt, f_searchState, f_searchDirection, f_foundCount, f_depth, nI ts', nI hd', nI sz', pd', ss, a_dom, a_savedDom, a_savedCount, a_savedStatus, a_kindOf, a_scopeOf, a_lowBound, a_highBound, a_tupleCount, a_coef, a_tuples, a_newTuple, a_solution, td', mk', w', tv', tm', q', s1, s2, s3, s4, s5, s6, s7, s8, s9, s10, s11, s12, s13))
    (h1 : ∀ (vs : Nat → Nat) (ss : Int32) (s1 s2 s3 s4 s5 s6 s7 s8 s9 s10 s11 s12 s13 : Nat → Int32) (hd' sz' : Nat) (pd' : Int32) (q' : Nat → Int32) (ts' : Nat) (w' tv' tm' : Nat → Int32) (td' mk' : Nat → Int32) (W' : Nat → Nat → Int32) (p' mN' : Nat → Nat), SI n V cnt a_scopeOf (Hd n a_kindOf a_scopeOf a_lowBound a_highBound a_tupleCount a_coef tu) D f_searchDirection (n - 1) td' mk' ts' tv' tm' w' W' p' mN' → (∀ x a, x < n → (bt (w' x) a = true ↔ a = vs x)) → Sol n cnt (Hd n a_kindOf a_scopeOf a_lowBound a_highBound a_tupleCount a_coef tu) D vs → pl ≤ rnk f_searchDirection n vs → (∀ val, Sol n cnt (Hd n a_kindOf a_scopeOf a_lowBound a_highBound a_tupleCount a_coef tu) D val → pl ≤ rnk f_searchDirection n val → rnk f_searchDirection n vs ≤ rnk f_searchDirection n val) →
      (∀ val, Sol n cnt (Hd n a_kindOf a_scopeOf a_lowBound a_highBound a_tupleCount a_coef tu) D val → (Rm (n - 1) td' p' val ↔ rnk f_searchDirection n vs + 1 ≤ rnk f_searchDirection n val)) → post 1 (nI n, nI V, f_maxConstraints, f_maxLevel, f_allValues, f_allVars, f_status, f_currentLevel, nI cnt, f_searchState, f_searchDirection, f_foundCount, nI (n - 1), nI ts', nI hd', nI sz', pd', ss, a_dom, a_savedDom, a_savedCount, a_savedStatus, a_kindOf, a_scopeOf, a_lowBound, a_highBound, a_tupleCount, a_coef, a_tuples, a_newTuple, a_solution, td', mk', w', tv', tm', q', s1, s2, s3, s4, s5, s6, s7, s8, s9, s10, s11, s12, s13)) :
    ∀ (m step d : Nat) (ss : Int32) (s1 s2 s3 s4 s5 s6 s7 s8 s9 s10 s11 s12 s13 : Nat → Int32) (hd' sz' : Nat) (pd' : Int32) (q' : Nat → Int32) (ts' : Nat) (w' tv' tm' : Nat → Int32) (td' mk' : Nat → Int32) (W' : Nat → Nat → Int32) (p' mN' : Nat → Nat), step + m < 200000 → stS td' (d + 1) + (d + 1) ≤ m → SI n V cnt a_scopeOf (Hd n a_kindOf a_scopeOf a_lowBound a_highBound a_tupleCount a_coef tu) D f_searchDirection d td' mk' ts' tv' tm' w' W' p' mN' → (∀ val, Sol n cnt (Hd n a_kindOf a_scopeOf a_lowBound a_highBound a_tupleCount a_coef tu) D val → (Rm d td' p' val ↔ pl ≤ rnk f_searchDirection n val)) →
      wX_descend_2 post (m + 1) (nI step) (nI n) (nI V) f_maxConstraints f_maxLevel f_allValues f_allVars f_status f_currentLevel (nI cnt) f_searchState f_searchDirection f_foundCount (nI d) (nI ts') (nI hd') (nI sz') pd' ss a_dom a_savedDom a_savedCount a_savedStatus a_kindOf a_scopeOf a_lowBound a_highBound a_tupleCount a_coef a_tuples a_newTuple a_solution td' mk' w' tv' tm' q' s1 s2 s3 s4 s5 s6 s7 s8 s9 s10 s11 s12 s13 := by
  intro m
  induction m with
  | zero =>
    intro step d ss s1 s2 s3 s4 s5 s6 s7 s8 s9 s10 s11 s12 s13 hd' sz' pd' q' ts' w' tv' tm' td' mk' W' p' mN' hs hM
    omega
  | succ m ih =>
    intro step d ss s1 s2 s3 s4 s5 s6 s7 s8 s9 s10 s11 s12 s13 hd' sz' pd' q' ts' w' tv' tm' td' mk' W' p' mN' hs hM hSI hrk
    have hdn := hSI.1
    have hcd : (nI d).toNatClampNeg = d := nI_clamp (by omega)
    have hdd := hSI.2.2.2.2.2.1 d (Nat.le_refl _)
    have hmd := hSI.2.2.2.1 d (Nat.le_refl _)
    refine br_f (nI_ge (b := 200000) (by omega) (by decide)) (br_f (nI_pos (by omega)) (br_f (nI_ge hdn (by omega)) ⟨vp_in_nI (by omega) (by omega), ?_⟩))
    rw [hcd, hmd.1]
    refine xd_undo hmd.2.1 hSI.2.2.1 hSI.2.1 hmd.2.2 (And.intro (vp_in_nI (by omega) (by omega)) ?_)
    rw [hcd]
    have hSI' := si_undo hSI
    by_cases z : td' d = 0
    · refine br_t z ?_
      cases d with
      | zero =>
        refine nm_e (nm_r (e' := nI (step + 1)) (nI_1 _) ?_)
        have hno : ∀ val, Sol n cnt (Hd n a_kindOf a_scopeOf a_lowBound a_highBound a_tupleCount a_coef tu) D val → ¬ pl ≤ rnk f_searchDirection n val := by
          intro val hsol hle
          obtain ⟨k, k1, k2, k3⟩ := (hrk val hsol).mpr hle
          obtain rfl : k = 0 := by omega
          rw [z, b_0] at k3; cases k3
        exact br_c (fun _ => h0 hno _ ss s1 s2 s3 s4 s5 s6 s7 s8 s9 s10 s11 s12 s13 hd' sz' pd' q' _ _ tv' tm' td' mk') (fun _ => br_t (by decide) (h0 hno _ ss s1 s2 s3 s4 s5 s6 s7 s8 s9 s10 s11 s12 s13 hd' sz' pd' q' _ _ tv' tm' td' mk'))
      | succ d =>
        refine nm_r (e' := nI d) (nI_pred d) (nm_r (e' := nI (step + 1)) (nI_1 _) ?_)
        have hmo := st_mono td' (show d + 1 ≤ d + 1 + 1 by omega)
        exact ih (step + 1) d ss s1 s2 s3 s4 s5 s6 s7 s8 s9 s10 s11 s12 s13 hd' sz' pd' q' _ _ tv' tm' td' mk' W' p' mN' (by omega) (by omega) (si_leave hSI') (fun val hsol => (rm_leave z).symm.trans (hrk val hsol))
    · refine br_f z ?_
      have hmkd : Msk V (td' d) := fun i hi => by
        cases hq : bt (td' d) i with
        | false => rfl
        | true => have := hdd.2.2.2.2.1 i hq; rw [(hdd.1 d (by omega)).1 i hi] at this; cases this
      have hex : ∃ i, i < 6 ∧ bt (td' d) i = true := by
        obtain ⟨i, hi⟩ := gb_ne0.mp z
        exact ⟨i, by have := mk_lt hmkd hi; omega, hi⟩
      have go : ∀ v, bt (td' d) v = true → (∀ a, bt (td' d) a = true → a ≠ v → aft f_searchDirection v a) → wX_descend_100 post (wX_descend_2 post (m + 1)) (nI step) (nI v) (nI n) (nI V) f_maxConstraints f_maxLevel f_allValues f_allVars f_status f_currentLevel (nI cnt) f_searchState f_searchDirection f_foundCount (nI d) (nI (mN' d)) (nI hd') (nI sz') pd' ss a_dom a_savedDom a_savedCount a_savedStatus a_kindOf a_scopeOf a_lowBound a_highBound a_tupleCount a_coef a_tuples a_newTuple a_solution td' mk' (W' d) tv' tm' q' s1 s2 s3 s4 s5 s6 s7 s8 s9 s10 s11 s12 s13 := fun v hv hfirst =>
        xd_100 hn hV hcnt hok hDV hSI' hrk hM hv hfirst (fun d2 ss s1 s2 s3 s4 s5 s6 s7 s8 s9 s10 s11 s12 s13 hd' sz' pd' q' ts' w' tv' tm' td2 mk2 W2 p2 mN2 r1 r2 r3 => ih (step + 1) d2 ss s1 s2 s3 s4 s5 s6 s7 s8 s9 s10 s11 s12 s13 hd' sz' pd' q' ts' w' tv' tm' td2 mk2 W2 p2 mN2 (by omega) r3 r1 r2) h1
      by_cases y : f_searchDirection = 0
      · refine br_t y ⟨vp_in_nI (by omega) (by omega), xh_low hex (fun lo l1 l2 l3 => go lo l2 (fun a ha hne => ?_))⟩
        unfold aft; rw [if_pos y]
        rcases Nat.lt_or_ge a lo with q | q
        · rw [l3 a q] at ha; cases ha
        · omega
      · refine br_f y ⟨vp_in_nI (by omega) (by omega), xh_high hex (fun hi l1 l2 l3 => go hi l2 (fun a ha hne => ?_))⟩
        unfold aft; rw [if_neg y]
        rcases Nat.lt_or_ge hi a with q | q
        · rw [l3 a q (by have := mk_lt hmkd ha; omega)] at ha; cases ha
        · omega
theorem xd_desc {post : Int32 → SX → Prop} {pl d : Nat} {ss : Int32} {s1 s2 s3 s4 s5 s6 s7 s8 s9 s10 s11 s12 s13 td mk : Nat → Int32} {W : Nat → Nat → Int32} {p mN : Nat → Nat} (hn : n ≤ 6) (hV : V ≤ 6) (hcnt : cnt ≤ 6) (hok : ∀ c, c < cnt → COk n V a_kindOf a_scopeOf a_tupleCount a_coef a_tuples tu c) (hDV : ∀ x, x < n → Msk V (D x))
    (hSI : SI n V cnt a_scopeOf (Hd n a_kindOf a_scopeOf a_lowBound a_highBound a_tupleCount a_coef tu) D f_searchDirection d td mk ts tv tm w W p mN) (hrk : ∀ val, Sol n cnt (Hd n a_kindOf a_scopeOf a_lowBound a_highBound a_tupleCount a_coef tu) D val → (Rm d td p val ↔ pl ≤ rnk f_searchDirection n val))
    (h0 : (∀ val, Sol n cnt (Hd n a_kindOf a_scopeOf a_lowBound a_highBound a_tupleCount a_coef tu) D val → ¬ pl ≤ rnk f_searchDirection n val) → ∀ (f_depth ss : Int32) (s1 s2 s3 s4 s5 s6 s7 s8 s9 s10 s11 s12 s13 : Nat → Int32) (hd' sz' : Nat) (pd' : Int32) (q' : Nat → Int32) (ts' : Nat) (w' tv' tm' : Nat → Int32) (td' mk' : Nat → Int32), post 0 (nI n, nI V, f_maxConstraints, f_maxLevel, f_allValues, f_allVars, f_status, f_currentLevel, nI cnt, f_searchState, f_searchDirection, f_foundCount, f_depth, nI ts', nI hd', nI sz', pd', ss, a_dom, a_savedDom, a_savedCount, a_savedStatus, a_kindOf, a_scopeOf, a_lowBound, a_highBound, a_tupleCount, a_coef, a_tuples, a_newTuple, a_solution, td', mk', w', tv', tm', q', s1, s2, s3, s4, s5, s6, s7, s8, s9, s10, s11, s12, s13))
    (h1 : ∀ (vs : Nat → Nat) (ss : Int32) (s1 s2 s3 s4 s5 s6 s7 s8 s9 s10 s11 s12 s13 : Nat → Int32) (hd' sz' : Nat) (pd' : Int32) (q' : Nat → Int32) (ts' : Nat) (w' tv' tm' : Nat → Int32) (td' mk' : Nat → Int32) (W' : Nat → Nat → Int32) (p' mN' : Nat → Nat), SI n V cnt a_scopeOf (Hd n a_kindOf a_scopeOf a_lowBound a_highBound a_tupleCount a_coef tu) D f_searchDirection (n - 1) td' mk' ts' tv' tm' w' W' p' mN' → (∀ x a, x < n → (bt (w' x) a = true ↔ a = vs x)) → Sol n cnt (Hd n a_kindOf a_scopeOf a_lowBound a_highBound a_tupleCount a_coef tu) D vs → pl ≤ rnk f_searchDirection n vs → (∀ val, Sol n cnt (Hd n a_kindOf a_scopeOf a_lowBound a_highBound a_tupleCount a_coef tu) D val → pl ≤ rnk f_searchDirection n val → rnk f_searchDirection n vs ≤ rnk f_searchDirection n val) →
      (∀ val, Sol n cnt (Hd n a_kindOf a_scopeOf a_lowBound a_highBound a_tupleCount a_coef tu) D val → (Rm (n - 1) td' p' val ↔ rnk f_searchDirection n vs + 1 ≤ rnk f_searchDirection n val)) → post 1 (nI n, nI V, f_maxConstraints, f_maxLevel, f_allValues, f_allVars, f_status, f_currentLevel, nI cnt, f_searchState, f_searchDirection, f_foundCount, nI (n - 1), nI ts', nI hd', nI sz', pd', ss, a_dom, a_savedDom, a_savedCount, a_savedStatus, a_kindOf, a_scopeOf, a_lowBound, a_highBound, a_tupleCount, a_coef, a_tuples, a_newTuple, a_solution, td', mk', w', tv', tm', q', s1, s2, s3, s4, s5, s6, s7, s8, s9, s10, s11, s12, s13)) : wpX_descend post (nI n, nI V, f_maxConstraints, f_maxLevel, f_allValues, f_allVars, f_status, f_currentLevel, nI cnt, f_searchState, f_searchDirection, f_foundCount, nI d, nI ts, nI hd, nI sz, pd, ss, a_dom, a_savedDom, a_savedCount, a_savedStatus, a_kindOf, a_scopeOf, a_lowBound, a_highBound, a_tupleCount, a_coef, a_tuples, a_newTuple, a_solution, td, mk, w, tv, tm, q, s1, s2, s3, s4, s5, s6, s7, s8, s9, s10, s11, s12, s13) := by
  have hd := hSI.1
  have a := st_mono td (show d + 1 ≤ 6 by omega)
  have b := st_le td
  exact Exists.intro (100000 + 1) (xd_2 hn hV hcnt hok hDV h0 h1 100000 0 d ss s1 s2 s3 s4 s5 s6 s7 s8 s9 s10 s11 s12 s13 _ _ _ _ _ _ _ _ td mk W p mN (by omega) (by omega) hSI hrk)
end
end
section
/-! nextSolution: the component's copy, the reference's scan -/
section
variable {f_valueCount f_maxConstraints f_maxLevel f_allValues f_allVars f_status f_currentLevel f_constraintCount f_searchState f_searchDirection f_foundCount f_depth f_trailSize f_queueHead f_queueSize f_pendingMask f_scopeSize : Int32} {a_dom a_savedDom a_savedCount a_savedStatus a_kindOf a_scopeOf a_lowBound a_highBound a_tupleCount a_coef a_tuples a_newTuple a_todo a_mark a_trailVar a_trailMask a_queue a_inVar a_inMask a_outMask a_matchOf a_owner a_reachedFrom a_bfs a_reach a_termCoef a_termMin a_span a_forward a_backward : Nat → Int32} {n : Nat} {w sol : Nat → Int32} {vs : Nat → Nat}
theorem xn_84 {post : Int32 → SX → Prop} (hn : n ≤ 6) (hw : ∀ x a, x < n → (bt (w x) a = true ↔ a = vs x)) (hvs : ∀ x, x < n → vs x < 6)
    (hP : post 2 (nI n, f_valueCount, f_maxConstraints, f_maxLevel, f_allValues, f_allVars, f_status, f_currentLevel, f_constraintCount, 2, f_searchDirection, f_foundCount + 1, f_depth, f_trailSize, f_queueHead, f_queueSize, f_pendingMask, f_scopeSize, a_dom, a_savedDom, a_savedCount, a_savedStatus, a_kindOf, a_scopeOf, a_lowBound, a_highBound, a_tupleCount, a_coef, a_tuples, a_newTuple, putR 0 n (fun x => nI (vs x)) sol, a_todo, a_mark, w, a_trailVar, a_trailMask, a_queue, a_inVar, a_inMask, a_outMask, a_matchOf, a_owner, a_reachedFrom, a_bfs, a_reach, a_termCoef, a_termMin, a_span, a_forward, a_backward)) :
    ∀ d x : Nat, x + d = n → wX_nextSolution_84 post (nI n) f_valueCount f_maxConstraints f_maxLevel f_allValues f_allVars f_status f_currentLevel f_constraintCount f_searchState f_searchDirection f_foundCount f_depth f_trailSize f_queueHead f_queueSize f_pendingMask f_scopeSize (d + 1) (nI x) a_dom a_savedDom a_savedCount a_savedStatus a_kindOf a_scopeOf a_lowBound a_highBound a_tupleCount a_coef a_tuples a_newTuple (putR 0 x (fun x => nI (vs x)) sol) a_todo a_mark w a_trailVar a_trailMask a_queue a_inVar a_inMask a_outMask a_matchOf a_owner a_reachedFrom a_bfs a_reach a_termCoef a_termMin a_span a_forward a_backward := by
  intro d
  induction d with
  | zero =>
    intro x hx
    obtain rfl : x = n := by omega
    exact br_t (nI_le (Nat.le_refl _) (by omega)) (nm_e hP)
  | succ d ih =>
    intro x hx
    have hcx : (nI x).toNatClampNeg = x := nI_clamp (by omega)
    refine br_f (nI_ge (by omega) (by omega)) ⟨vp_in_nI (by omega) (by omega), ?_⟩
    rw [hcx]
    refine xh_low ⟨vs x, hvs x (by omega), (hw x _ (by omega)).mpr rfl⟩ (fun lo l1 l2 l3 => ⟨vp_in_nI (by omega) (by omega), nm_r (e' := putR 0 (x + 1) (fun x => nI (vs x)) sol) ?_ (nm_r (e' := nI (x + 1)) (nI_1 _) (ih (x + 1) (by omega)))⟩)
    have e : lo = vs x := (hw x lo (by omega)).mp l2
    rw [e]
    have := pt_s 0 x (fun x => nI (vs x)) sol
    rw [Nat.zero_add] at this
    exact this
end
section
variable {f_v f_maxPosted f_maxLevel f_state f_direction f_place : Int32} {a_dom a_status a_count a_kind a_scope a_low a_high a_coef a_tuples a_tuple a_seen a_args : Nat → Int32} {n L V cnt pl : Nat} {D xt w sol : Nat → Int32} {fnd : Int32}
theorem yn_127 {post : Int32 → SY → Prop} {κ : Nat} {vl : Nat → Int32} (hn : n ≤ 6)
    (hP : post 2 (nI n, f_v, f_maxPosted, f_maxLevel, nI L, 2, f_direction, fnd + 1, nI κ, a_dom, a_status, a_count, a_kind, a_scope, a_low, a_high, a_coef, a_tuples, a_tuple, putR 0 n vl sol, vl, w, a_seen, a_args)) :
    ∀ d x : Nat, x + d = n → wY_nextSolution_127 post (nI κ) (nI n) f_v f_maxPosted f_maxLevel (nI L) f_state f_direction fnd f_place (d + 1) (nI x) a_dom a_status a_count a_kind a_scope a_low a_high a_coef a_tuples a_tuple (putR 0 x vl sol) vl w a_seen a_args := by
  intro d
  induction d with
  | zero =>
    intro x hx
    obtain rfl : x = n := by omega
    exact br_t (nI_le (Nat.le_refl _) (by omega)) (nm_e hP)
  | succ d ih =>
    intro x hx
    have hcx : (nI x).toNatClampNeg = x := nI_clamp (by omega)
    refine br_f (nI_ge (by omega) (by omega)) ⟨vp_in_nI (by omega) (by omega), vp_in_nI (by omega) (by omega), nm_r (e' := putR 0 (x + 1) vl sol) ?_ (nm_r (e' := nI (x + 1)) (nI_1 _) (ih (x + 1) (by omega)))⟩
    rw [hcx]
    have := pt_s 0 x vl sol
    rw [Nat.zero_add] at this
    exact this
theorem yn_86 {post : Int32 → SY → Prop} {J : Int32 → Int32 → Int32 → Int32 → Int32 → Int32 → Int32 → Int32 → Int32 → Int32 →  (Nat → Int32) → (Nat → Int32) → (Nat → Int32) → (Nat → Int32) → (Nat → Int32) → (Nat → Int32) → (Nat → Int32) → (Nat → Int32) → (Nat → Int32) → (Nat → Int32) → (Nat → Int32) → (Nat → Int32) → (Nat → Int32) → (Nat → Int32) → (Nat → Int32) →  Prop} {x1 x2 : Int32} {κ : Nat} {vl : Nat → Int32} {val : Nat → Nat} (hn : n ≤ 6) (hL : L < 6) (hcnt : cnt ≤ 6) (hct : a_count L = nI cnt) (hok : ∀ c, c < cnt → COk n V a_kind a_scope a_tuples a_coef xt a_tuple c)
    (hv : ∀ x, x < n → val x < 6 ∧ vl x = nI (val x))
    (h1 : Sol n cnt (Hd n a_kind a_scope a_low a_high a_tuples a_coef a_tuple) w val → post 2 (nI n, f_v, f_maxPosted, f_maxLevel, nI L, 2, f_direction, fnd + 1, nI κ, a_dom, a_status, a_count, a_kind, a_scope, a_low, a_high, a_coef, a_tuples, a_tuple, putR 0 n vl sol, vl, w, a_seen, a_args)) (h0 : ¬ Sol n cnt (Hd n a_kind a_scope a_low a_high a_tuples a_coef a_tuple) w val → J (nI (κ + 1)) (nI n) f_v f_maxPosted f_maxLevel (nI L) f_state f_direction fnd f_place a_dom a_status a_count a_kind a_scope a_low a_high a_coef a_tuples a_tuple sol vl w a_seen a_args) :
    ∀ (d c : Nat) (g : Int32), c + d = cnt → (g = 0 ∧ ¬ Sol n cnt (Hd n a_kind a_scope a_low a_high a_tuples a_coef a_tuple) w val) ∨ (¬ g = 0 ∧ (∀ x, x < n → bt (w x) (val x) = true) ∧ ∀ c', c' < c → (Hd n a_kind a_scope a_low a_high a_tuples a_coef a_tuple) c' val) → wY_nextSolution_86 post J x1 x2 (nI κ) (nI n) f_v f_maxPosted f_maxLevel (nI L) f_state f_direction fnd f_place a_dom a_status a_count a_kind a_scope a_low a_high a_coef a_tuples a_tuple sol vl w a_seen a_args (d + 1) g (nI c) := by
  intro d
  have e0 : ∀ g : Int32, g = 0 → ¬ Sol n cnt (Hd n a_kind a_scope a_low a_high a_tuples a_coef a_tuple) w val → wY_nextSolution_119 post J x1 x2 (nI κ) g (nI n) f_v f_maxPosted f_maxLevel (nI L) f_state f_direction fnd f_place a_dom a_status a_count a_kind a_scope a_low a_high a_coef a_tuples a_tuple sol vl w a_seen a_args := fun g hg hno => br_t hg (nm_r (e' := nI (κ + 1)) (nI_1 _) (h0 hno))
  have e1 : ∀ g : Int32, ¬ g = 0 → Sol n cnt (Hd n a_kind a_scope a_low a_high a_tuples a_coef a_tuple) w val → wY_nextSolution_119 post J x1 x2 (nI κ) g (nI n) f_v f_maxPosted f_maxLevel (nI L) f_state f_direction fnd f_place a_dom a_status a_count a_kind a_scope a_low a_high a_coef a_tuples a_tuple sol vl w a_seen a_args := by
    intro g hg hs
    refine br_f hg (Exists.intro (n + 1) ?_)
    have := yn_127 (post := post) (κ := κ) (f_state := f_state) (f_place := f_place) hn (h1 hs) n 0 (by omega)
    rw [pt_0] at this
    exact this
  induction d with
  | zero =>
    intro c g hc hg
    obtain rfl : c = cnt := by omega
    refine And.intro (vp_in_nI hL (by omega)) ?_
    rw [nI_clamp (by omega), hct]
    refine br_t (nI_le (Nat.le_refl _) (by omega)) ?_
    rcases hg with ⟨q1, q2⟩ | ⟨q1, q2, q3⟩
    · exact e0 g q1 q2
    · exact e1 g q1 ⟨q2, q3⟩
  | succ d ih =>
    intro c g hc hg
    refine And.intro (vp_in_nI hL (by omega)) ?_
    rw [nI_clamp (by omega), hct]
    refine br_f (nI_ge (by omega) (by omega)) ?_
    rcases hg with ⟨q1, q2⟩ | ⟨q1, q2, q3⟩
    · exact br_t q1 (e0 g q1 q2)
    · refine br_f q1 (ys_hd (V := V) (xt := xt) (val := val) hn (by omega) (hok c (by omega)) (fun x hx _ => hv x hx) (fun hh => nm_r (e' := nI (c + 1)) (nI_1 _) (ih (c + 1) 1 (by omega) (Or.inr ⟨by decide, q2, fun c' hc' => ?_⟩))) (fun hh => nm_r (e' := nI (c + 1)) (nI_1 _) (ih (c + 1) 0 (by omega) (Or.inl ⟨rfl, fun hs => hh (hs.2 c (by omega))⟩))))
      by_cases z : c' = c
      · rw [z]; exact hh
      · exact q3 c' (by omega)
theorem yn_46 {post : Int32 → SY → Prop} (hn : n ≤ 6) (hn1 : 1 ≤ n) (hL : L < 6) (hcnt : cnt ≤ 6) (hV : V ≤ 6) (hct : a_count L = nI cnt) (hok : ∀ c, c < cnt → COk n V a_kind a_scope a_tuples a_coef xt a_tuple c) (hwV : ∀ x, x < n → Msk V (w x))
    (h0 : (∀ val, Sol n cnt (Hd n a_kind a_scope a_low a_high a_tuples a_coef a_tuple) w val → ¬ pl ≤ rnk f_direction n val) → ∀ vl : Nat → Int32, post 3 (nI n, f_v, f_maxPosted, f_maxLevel, nI L, 3, f_direction, fnd, f_place, a_dom, a_status, a_count, a_kind, a_scope, a_low, a_high, a_coef, a_tuples, a_tuple, sol, vl, w, a_seen, a_args))
    (h1 : ∀ val, Sol n cnt (Hd n a_kind a_scope a_low a_high a_tuples a_coef a_tuple) w val → pl ≤ rnk f_direction n val → (∀ val', Sol n cnt (Hd n a_kind a_scope a_low a_high a_tuples a_coef a_tuple) w val' → pl ≤ rnk f_direction n val' → rnk f_direction n val ≤ rnk f_direction n val') → ∀ vl : Nat → Int32, (∀ x, x < n → vl x = nI (val x)) → post 2 (nI n, f_v, f_maxPosted, f_maxLevel, nI L, 2, f_direction, fnd + 1, nI (rnk f_direction n val), a_dom, a_status, a_count, a_kind, a_scope, a_low, a_high, a_coef, a_tuples, a_tuple, putR 0 n vl sol, vl, w, a_seen, a_args)) :
    ∀ (d κ : Nat) (vl : Nat → Int32), κ + d = 6 ^ n → pl ≤ κ → (∀ val, Sol n cnt (Hd n a_kind a_scope a_low a_high a_tuples a_coef a_tuple) w val → pl ≤ rnk f_direction n val → κ ≤ rnk f_direction n val) → wY_nextSolution_46 post (allM n) (nI (6 ^ n)) (d + 1) (nI κ) (nI n) f_v f_maxPosted f_maxLevel (nI L) f_state f_direction fnd f_place a_dom a_status a_count a_kind a_scope a_low a_high a_coef a_tuples a_tuple sol vl w a_seen a_args := by
  intro d
  have h66 := p6_le hn
  have h6 : ∀ val, Sol n cnt (Hd n a_kind a_scope a_low a_high a_tuples a_coef a_tuple) w val → ∀ x, x < n → val x < 6 := fun val hs x hx => by have := mk_lt (hwV x hx) (hs.1 x hx); omega
  have hs1 : ∀ i, i < n → bt (allM n) i = true := fun i hi => by rw [am_bt hn, decide_eq_true hi]
  induction d with
  | zero =>
    intro κ vl hκ hp g
    obtain rfl : κ = 6 ^ n := by omega
    refine br_t (nI_le (Nat.le_refl _) (by omega)) (h0 (fun val hs hle => ?_) vl)
    have := (rk_lt (dir := f_direction) hn (h6 val hs)).2
    have := g val hs hle
    omega
  | succ d ih =>
    intro κ vl hκ hp g
    refine br_f (nI_ge (by omega) (by omega)) ?_
    have go : ∀ code : Nat, code < 6 ^ n → (∀ val, (∀ x, x < n → val x < 6) → enc (allM n) val n = code → rnk f_direction n val = κ) → wY_nextSolution_67 post (wY_nextSolution_46 post (allM n) (nI (6 ^ n)) (d + 1)) (allM n) (nI (6 ^ n)) (nI κ) (nI code) (nI n) f_v f_maxPosted f_maxLevel (nI L) f_state f_direction fnd f_place a_dom a_status a_count a_kind a_scope a_low a_high a_coef a_tuples a_tuple sol vl w a_seen a_args := by
      intro code hcode hrk
      have hc2 : code < 6 ^ pcN (allM n) n := by rw [am_pc hn]; exact hcode
      obtain ⟨val, hv6, hen⟩ := en_ex (s := allM n) (n := n) (code := code) hc2
      have hk := hrk val (fun x _ => hv6 x) hen
      rw [← hen]
      refine ys_sp hn hn1 (fun x _ _ => hv6 x) (fun vl' hvl' => ?_)
      have hvv : ∀ x, x < n → val x < 6 ∧ vl' x = nI (val x) := fun x hx => ⟨hv6 x, hvl' x hx (hs1 x hx)⟩
      have key := yn_86 (post := post) (J := wY_nextSolution_46 post (allM n) (nI (6 ^ n)) (d + 1)) (x1 := allM n) (x2 := nI (6 ^ n)) (κ := κ) (vl := vl') (val := val) (w := w) (sol := sol) (fnd := fnd) (f_v := f_v) (f_maxPosted := f_maxPosted) (f_maxLevel := f_maxLevel) (f_state := f_state) (f_direction := f_direction) (f_place := f_place) (a_dom := a_dom) (a_status := a_status) (a_seen := a_seen) (a_args := a_args) hn hL hcnt hct hok hvv (fun hs => by
        have := h1 val hs (by omega) (fun val' hs' hle => by have := g val' hs' hle; omega) vl' (fun x hx => (hvv x hx).2)
        rw [hk] at this
        exact this) (fun hno => ih (κ + 1) vl' (by omega) (by omega) (fun val' hs' hle => by
          have := g val' hs' hle
          have hne : rnk f_direction n val' ≠ κ := fun e => by
            have same := rk_inj hn (h6 val' hs') (fun x _ => hv6 x) (e.trans hk.symm)
            refine hno ⟨fun x hx => by rw [← same x hx]; exact hs'.1 x hx, fun c hc => Hd_c hn (hok c hc) (fun x hx _ => same x hx) (hs'.2 c hc)⟩
          omega))
      refine ys_id hn (fun x hx _ => hvv x hx) (fun q1 => Exists.intro (cnt + 1) (key cnt 0 1 (by omega) (Or.inr ⟨by decide, fun x hx => q1 x hx (hs1 x hx), fun c' h => absurd h (by omega)⟩))) (fun ⟨x, q1, q2, q3⟩ => Exists.intro (cnt + 1) (key cnt 0 0 (by omega) (Or.inl ⟨rfl, fun hs => ?_⟩)))
      have := hs.1 x q1
      rw [q3] at this; cases this
    by_cases z : f_direction = 0
    · refine br_t z (go κ (by omega) (fun val _ e => ?_))
      unfold rnk; rw [if_pos z]; exact e
    · refine br_f z ?_
      have e : ((nI (6 ^ n) - 1) - nI κ : Int32) = nI (6 ^ n - 1 - κ) := by
        show (nI (6 ^ n) - nI 1) - nI κ = _
        rw [pk_sub (by omega), pk_sub (by omega)]
      rw [e]
      refine go (6 ^ n - 1 - κ) (by omega) (fun val hv e => ?_)
      unfold rnk; rw [if_neg z, e]; omega
theorem yn_next {post : Int32 → SY → Prop} {a_work a_value : Nat → Int32} (hn : n ≤ 6) (hn1 : 1 ≤ n) (hL : L < 6) (hcnt : cnt ≤ 6) (hV : V ≤ 6) (hct : a_count L = nI cnt) (hok : ∀ c, c < cnt → COk n V a_kind a_scope a_tuples a_coef xt a_tuple c) (hD : ∀ x, x < 6 → a_dom (L * 6 + x) = D x) (hDV : ∀ x, x < 6 → Msk V (D x))
    (hs0 : ¬ f_state = 0) (hs3 : ¬ f_state = 3) (hpl : f_place + 1 = nI pl) (hpl6 : pl ≤ 6 ^ n)
    (h0 : (∀ val, Sol n cnt (Hd n a_kind a_scope a_low a_high a_tuples a_coef a_tuple) D val → ¬ pl ≤ rnk f_direction n val) → ∀ w vl : Nat → Int32, post 3 (nI n, f_v, f_maxPosted, f_maxLevel, nI L, 3, f_direction, fnd, f_place, a_dom, a_status, a_count, a_kind, a_scope, a_low, a_high, a_coef, a_tuples, a_tuple, sol, vl, w, a_seen, a_args))
    (h1 : ∀ val, Sol n cnt (Hd n a_kind a_scope a_low a_high a_tuples a_coef a_tuple) D val → pl ≤ rnk f_direction n val → (∀ val', Sol n cnt (Hd n a_kind a_scope a_low a_high a_tuples a_coef a_tuple) D val' → pl ≤ rnk f_direction n val' → rnk f_direction n val ≤ rnk f_direction n val') → ∀ w vl : Nat → Int32, post 2 (nI n, f_v, f_maxPosted, f_maxLevel, nI L, 2, f_direction, fnd + 1, nI (rnk f_direction n val), a_dom, a_status, a_count, a_kind, a_scope, a_low, a_high, a_coef, a_tuples, a_tuple, putR 0 n (fun x => nI (val x)) sol, vl, w, a_seen, a_args)) : wpY_nextSolution post (nI n, f_v, f_maxPosted, f_maxLevel, nI L, f_state, f_direction, fnd, f_place, a_dom, a_status, a_count, a_kind, a_scope, a_low, a_high, a_coef, a_tuples, a_tuple, sol, a_value, a_work, a_seen, a_args) := by
  refine br_f hs0 (br_f hs3 ?_)
  refine ys_cp hL (fun w hw => ?_)
  have hwD : ∀ x, x < n → w x = D x := fun x hx => (hw x (by omega)).trans (hD x (by omega))
  have hS : ∀ val, Sol n cnt (Hd n a_kind a_scope a_low a_high a_tuples a_coef a_tuple) w val ↔ Sol n cnt (Hd n a_kind a_scope a_low a_high a_tuples a_coef a_tuple) D val := fun val => ⟨fun h => ⟨fun x hx => by rw [← hwD x hx]; exact h.1 x hx, h.2⟩, fun h => ⟨fun x hx => by rw [hwD x hx]; exact h.1 x hx, h.2⟩⟩
  refine nm_r (e' := allM n) rfl (ys_ch hn ?_)
  rw [am_pc hn]
  refine nm_r (e' := nI pl) hpl (Exists.intro (6 ^ n - pl + 1) ?_)
  refine yn_46 (V := V) (xt := xt) hn hn1 hL hcnt hV hct hok (fun x hx => by rw [hwD x hx]; exact hDV x (by omega)) (fun hno vl => h0 (fun val hs => hno val ((hS val).mpr hs)) w vl) (fun val hs hle hmin vl hvl => ?_) (6 ^ n - pl) pl a_value (by omega) (Nat.le_refl _) (fun val _ h => h)
  have := h1 val ((hS val).mp hs) hle (fun val' hs' => hmin val' ((hS val').mpr hs')) w vl
  rw [← pt_c (w := vl) (w' := fun x => nI (val x)) hvl] at this
  exact this
end
end
section
/-! the levels: the walk of push and pop -/
section
variable {f_varCount f_valueCount f_maxConstraints f_maxLevel f_allValues f_allVars f_status f_constraintCount f_searchState f_searchDirection f_foundCount f_depth f_trailSize f_queueHead f_queueSize f_pendingMask f_scopeSize : Int32} {a_dom a_savedDom a_savedCount a_savedStatus a_kindOf a_scopeOf a_lowBound a_highBound a_tupleCount a_coef a_tuples a_newTuple a_solution a_todo a_mark a_work a_trailVar a_trailMask a_queue a_inVar a_inMask a_outMask a_matchOf a_owner a_reachedFrom a_bfs a_reach a_termCoef a_termMin a_span a_forward a_backward : Nat → Int32} {L : Nat}
theorem xl_push {post : Int32 → SX → Prop} (hL : L < 5) (hP : post (nI (L + 1)) (f_varCount, f_valueCount, f_maxConstraints, f_maxLevel, f_allValues, f_allVars, f_status, nI (L + 1), f_constraintCount, f_searchState, f_searchDirection, f_foundCount, f_depth, f_trailSize, f_queueHead, f_queueSize, f_pendingMask, f_scopeSize, a_dom, putR (L * 6) 6 a_dom a_savedDom, upd a_savedCount L f_constraintCount, upd a_savedStatus L f_status, a_kindOf, a_scopeOf, a_lowBound, a_highBound, a_tupleCount, a_coef, a_tuples, a_newTuple, a_solution, a_todo, a_mark, a_work, a_trailVar, a_trailMask, a_queue, a_inVar, a_inMask, a_outMask, a_matchOf, a_owner, a_reachedFrom, a_bfs, a_reach, a_termCoef, a_termMin, a_span, a_forward, a_backward)) :
    ∀ d x : Nat, x + d = 6 → wX_push_27 post f_varCount f_valueCount f_maxConstraints f_maxLevel f_allValues f_allVars f_status (nI L) f_constraintCount f_searchState f_searchDirection f_foundCount f_depth f_trailSize f_queueHead f_queueSize f_pendingMask f_scopeSize (d + 1) (nI x) a_dom (putR (L * 6) x a_dom a_savedDom) a_savedCount a_savedStatus a_kindOf a_scopeOf a_lowBound a_highBound a_tupleCount a_coef a_tuples a_newTuple a_solution a_todo a_mark a_work a_trailVar a_trailMask a_queue a_inVar a_inMask a_outMask a_matchOf a_owner a_reachedFrom a_bfs a_reach a_termCoef a_termMin a_span a_forward a_backward := by
  intro d
  have hcL : (nI L).toNatClampNeg = L := nI_clamp (by omega)
  induction d with
  | zero =>
    intro x hx
    obtain rfl : x = 6 := by omega
    refine br_t (by decide) ⟨vp_in_nI hL (by omega), nm_r (e' := upd a_savedCount L f_constraintCount) (by rw [hcL]) ⟨vp_in_nI hL (by omega), nm_r (e' := upd a_savedStatus L f_status) (by rw [hcL]) (nm_r (e' := nI (L + 1)) (nI_1 _) hP)⟩⟩
  | succ d ih =>
    intro x hx
    refine br_f (nI_ge (b := 6) (by omega) (by decide)) ⟨vp_in_nI (by omega) (by omega), ?_⟩
    rw [ix6]
    refine ⟨vp_in_nI (by omega) (by omega), nm_r (e' := putR (L * 6) (x + 1) a_dom a_savedDom) ?_ (nm_r (e' := nI (x + 1)) (nI_1 _) (ih (x + 1) (by omega)))⟩
    rw [nI_clamp (by omega), nI_clamp (by omega), pt_s]
theorem xl_pushE {post : Int32 → SX → Prop} (hL : L < 5) (hP : post (nI (L + 1)) (f_varCount, f_valueCount, f_maxConstraints, f_maxLevel, f_allValues, f_allVars, f_status, nI (L + 1), f_constraintCount, f_searchState, f_searchDirection, f_foundCount, f_depth, f_trailSize, f_queueHead, f_queueSize, f_pendingMask, f_scopeSize, a_dom, putR (L * 6) 6 a_dom a_savedDom, upd a_savedCount L f_constraintCount, upd a_savedStatus L f_status, a_kindOf, a_scopeOf, a_lowBound, a_highBound, a_tupleCount, a_coef, a_tuples, a_newTuple, a_solution, a_todo, a_mark, a_work, a_trailVar, a_trailMask, a_queue, a_inVar, a_inMask, a_outMask, a_matchOf, a_owner, a_reachedFrom, a_bfs, a_reach, a_termCoef, a_termMin, a_span, a_forward, a_backward)) : ∃ n27 : Nat, wX_push_27 post f_varCount f_valueCount f_maxConstraints f_maxLevel f_allValues f_allVars f_status (nI L) f_constraintCount f_searchState f_searchDirection f_foundCount f_depth f_trailSize f_queueHead f_queueSize f_pendingMask f_scopeSize n27 0 a_dom a_savedDom a_savedCount a_savedStatus a_kindOf a_scopeOf a_lowBound a_highBound a_tupleCount a_coef a_tuples a_newTuple a_solution a_todo a_mark a_work a_trailVar a_trailMask a_queue a_inVar a_inMask a_outMask a_matchOf a_owner a_reachedFrom a_bfs a_reach a_termCoef a_termMin a_span a_forward a_backward := by
  have H := xl_push hL hP 6 0 (by omega)
  rw [pt_0] at H
  exact ⟨7, H⟩
theorem xl_pop {post : Int32 → SX → Prop} (hL : L < 5) (hP : post (nI L) (f_varCount, f_valueCount, f_maxConstraints, f_maxLevel, f_allValues, f_allVars, a_savedStatus L, nI L, a_savedCount L, f_searchState, f_searchDirection, f_foundCount, f_depth, f_trailSize, f_queueHead, f_queueSize, f_pendingMask, f_scopeSize, putR 0 6 (fun x => a_savedDom (L * 6 + x)) a_dom, a_savedDom, a_savedCount, a_savedStatus, a_kindOf, a_scopeOf, a_lowBound, a_highBound, a_tupleCount, a_coef, a_tuples, a_newTuple, a_solution, a_todo, a_mark, a_work, a_trailVar, a_trailMask, a_queue, a_inVar, a_inMask, a_outMask, a_matchOf, a_owner, a_reachedFrom, a_bfs, a_reach, a_termCoef, a_termMin, a_span, a_forward, a_backward)) :
    ∀ d x : Nat, x + d = 6 → wX_pop_32 post f_varCount f_valueCount f_maxConstraints f_maxLevel f_allValues f_allVars f_status (nI L) f_constraintCount f_searchState f_searchDirection f_foundCount f_depth f_trailSize f_queueHead f_queueSize f_pendingMask f_scopeSize (d + 1) (nI x) (putR 0 x (fun x => a_savedDom (L * 6 + x)) a_dom) a_savedDom a_savedCount a_savedStatus a_kindOf a_scopeOf a_lowBound a_highBound a_tupleCount a_coef a_tuples a_newTuple a_solution a_todo a_mark a_work a_trailVar a_trailMask a_queue a_inVar a_inMask a_outMask a_matchOf a_owner a_reachedFrom a_bfs a_reach a_termCoef a_termMin a_span a_forward a_backward := by
  intro d
  have hcL : (nI L).toNatClampNeg = L := nI_clamp (by omega)
  induction d with
  | zero =>
    intro x hx
    obtain rfl : x = 6 := by omega
    refine br_t (by decide) ⟨vp_in_nI hL (by omega), nm_r (e' := a_savedCount L) (by rw [hcL]) ⟨vp_in_nI hL (by omega), nm_r (e' := a_savedStatus L) (by rw [hcL]) hP⟩⟩
  | succ d ih =>
    intro x hx
    refine br_f (nI_ge (b := 6) (by omega) (by decide)) ?_
    rw [ix6]
    refine ⟨vp_in_nI (by omega) (by omega), vp_in_nI (by omega) (by omega), nm_r (e' := putR 0 (x + 1) (fun x => a_savedDom (L * 6 + x)) a_dom) ?_ (nm_r (e' := nI (x + 1)) (nI_1 _) (ih (x + 1) (by omega)))⟩
    rw [nI_clamp (by omega), nI_clamp (by omega)]
    have := pt_s 0 x (fun x => a_savedDom (L * 6 + x)) a_dom
    rw [Nat.zero_add] at this
    exact this
theorem xl_popE {post : Int32 → SX → Prop} {cc st : Int32} (hL : L < 5) (hc : a_savedCount L = cc) (hs : a_savedStatus L = st) (hP : post (nI L) (f_varCount, f_valueCount, f_maxConstraints, f_maxLevel, f_allValues, f_allVars, st, nI L, cc, f_searchState, f_searchDirection, f_foundCount, f_depth, f_trailSize, f_queueHead, f_queueSize, f_pendingMask, f_scopeSize, putR 0 6 (fun x => a_savedDom (L * 6 + x)) a_dom, a_savedDom, a_savedCount, a_savedStatus, a_kindOf, a_scopeOf, a_lowBound, a_highBound, a_tupleCount, a_coef, a_tuples, a_newTuple, a_solution, a_todo, a_mark, a_work, a_trailVar, a_trailMask, a_queue, a_inVar, a_inMask, a_outMask, a_matchOf, a_owner, a_reachedFrom, a_bfs, a_reach, a_termCoef, a_termMin, a_span, a_forward, a_backward)) : ∃ n32 : Nat, wX_pop_32 post f_varCount f_valueCount f_maxConstraints f_maxLevel f_allValues f_allVars f_status (nI L) f_constraintCount f_searchState f_searchDirection f_foundCount f_depth f_trailSize f_queueHead f_queueSize f_pendingMask f_scopeSize n32 0 a_dom a_savedDom a_savedCount a_savedStatus a_kindOf a_scopeOf a_lowBound a_highBound a_tupleCount a_coef a_tuples a_newTuple a_solution a_todo a_mark a_work a_trailVar a_trailMask a_queue a_inVar a_inMask a_outMask a_matchOf a_owner a_reachedFrom a_bfs a_reach a_termCoef a_termMin a_span a_forward a_backward := by
  subst hc hs
  have H := xl_pop (f_status := f_status) (f_constraintCount := f_constraintCount) hL hP 6 0 (by omega)
  rw [pt_0] at H
  exact ⟨7, H⟩
end
section
variable {f_n f_v f_maxPosted f_maxLevel f_now f_state f_direction f_found f_place : Int32} {a_dom a_status a_count a_kind a_scope a_low a_high a_coef a_tuples a_tuple a_solution a_value a_work a_seen a_args : Nat → Int32} {L : Nat}
theorem yl_push {post : Int32 → SY → Prop} (hL : L < 5) (hP : post (nI (L + 1)) (f_n, f_v, f_maxPosted, f_maxLevel, nI (L + 1), f_state, f_direction, f_found, f_place, putR ((L + 1) * 6) 6 (fun x => a_dom (L * 6 + x)) a_dom, upd a_status (L + 1) (a_status L), upd a_count (L + 1) (a_count L), a_kind, a_scope, a_low, a_high, a_coef, a_tuples, a_tuple, a_solution, a_value, a_work, a_seen, a_args)) :
    ∀ d x : Nat, x + d = 6 → wY_push_27 post f_n f_v f_maxPosted f_maxLevel (nI L) f_state f_direction f_found f_place (d + 1) (nI x) (putR ((L + 1) * 6) x (fun x => a_dom (L * 6 + x)) a_dom) a_status a_count a_kind a_scope a_low a_high a_coef a_tuples a_tuple a_solution a_value a_work a_seen a_args := by
  intro d
  have hcL : (nI L).toNatClampNeg = L := nI_clamp (by omega)
  have hcL1 : (nI (L + 1)).toNatClampNeg = L + 1 := nI_clamp (by omega)
  have e1 : (nI L + 1 : Int32) = nI (L + 1) := nI_1 L
  induction d with
  | zero =>
    intro x hx
    obtain rfl : x = 6 := by omega
    refine br_t (by decide) ?_
    rw [e1]
    exact ⟨vp_in_nI (by omega) (by omega), vp_in_nI (by omega) (by omega), nm_r (e' := upd a_status (L + 1) (a_status L)) (by rw [hcL, hcL1]) ⟨vp_in_nI (by omega) (by omega), vp_in_nI (by omega) (by omega), nm_r (e' := upd a_count (L + 1) (a_count L)) (by rw [hcL, hcL1]) (nm_r (e' := nI (L + 1)) rfl hP)⟩⟩
  | succ d ih =>
    intro x hx
    refine br_f (nI_ge (b := 6) (by omega) (by decide)) ?_
    rw [e1, ix6, ix6]
    refine ⟨vp_in_nI (by omega) (by omega), vp_in_nI (by omega) (by omega), nm_r (e' := putR ((L + 1) * 6) (x + 1) (fun x => a_dom (L * 6 + x)) a_dom) ?_ (nm_r (e' := nI (x + 1)) (nI_1 _) (ih (x + 1) (by omega)))⟩
    rw [nI_clamp (by omega), nI_clamp (by omega), pt_out (by omega)]
    exact pt_s ((L + 1) * 6) x (fun x => a_dom (L * 6 + x)) a_dom
theorem yl_pushE {post : Int32 → SY → Prop} (hL : L < 5) (hP : post (nI (L + 1)) (f_n, f_v, f_maxPosted, f_maxLevel, nI (L + 1), f_state, f_direction, f_found, f_place, putR ((L + 1) * 6) 6 (fun x => a_dom (L * 6 + x)) a_dom, upd a_status (L + 1) (a_status L), upd a_count (L + 1) (a_count L), a_kind, a_scope, a_low, a_high, a_coef, a_tuples, a_tuple, a_solution, a_value, a_work, a_seen, a_args)) : ∃ n27 : Nat, wY_push_27 post f_n f_v f_maxPosted f_maxLevel (nI L) f_state f_direction f_found f_place n27 0 a_dom a_status a_count a_kind a_scope a_low a_high a_coef a_tuples a_tuple a_solution a_value a_work a_seen a_args := by
  have H := yl_push hL hP 6 0 (by omega)
  rw [pt_0] at H
  exact ⟨7, H⟩
end
end
section
/-! posting: the walk -/
section
/-- the sum draft moved to row c -/
def cpS (c : Nat) (f : Nat → Int32) : Nat → (Nat → Int32)
  | 0 => f
  | x + 1 => upd (upd (cpS c f x) (c * 6 + x) (cpS c f x (36 + x))) (36 + x) 0
theorem cp_f {c : Nat} {f : Nat → Int32} (hc : c < 6) : ∀ {k : Nat}, k ≤ 6 → (∀ x, x < k → cpS c f k (c * 6 + x) = f (36 + x) ∧ cpS c f k (36 + x) = 0) ∧ (∀ x, k ≤ x → cpS c f k (36 + x) = f (36 + x)) ∧ (∀ j, j < 36 → j < c * 6 ∨ c * 6 + k ≤ j → cpS c f k j = f j)
  | 0, _ => ⟨fun x hx => absurd hx (by omega), fun _ _ => rfl, fun _ _ _ => rfl⟩
  | k + 1, hk => by
    obtain ⟨h1, h2, h3⟩ := cp_f hc (f := f) (k := k) (by omega)
    refine ⟨fun x hx => ?_, fun x hx => ?_, fun j hj hj2 => ?_⟩
    · simp only [cpS]
      by_cases z : x = k
      · rw [z, pk_us]
        refine ⟨?_, rfl⟩
        rw [pk_un (by omega), pk_us]; exact h2 k (Nat.le_refl _)
      · rw [pk_un (by omega), pk_un (by omega), pk_un (by omega), pk_un (by omega)]
        exact h1 x (by omega)
    · simp only [cpS]
      rw [pk_un (by omega), pk_un (by omega)]; exact h2 x (by omega)
    · simp only [cpS]
      rw [pk_un (by omega), pk_un (by omega)]; exact h3 j hj (by omega)
end
section
variable {f_varCount f_valueCount f_maxConstraints f_maxLevel f_allValues f_allVars f_status f_currentLevel f_constraintCount f_searchState f_searchDirection f_foundCount f_depth f_trailSize f_queueHead f_queueSize f_pendingMask f_scopeSize : Int32} {a_dom a_savedDom a_savedCount a_savedStatus a_kindOf a_scopeOf a_lowBound a_highBound a_tupleCount a_coef a_tuples a_newTuple a_solution a_todo a_mark a_work a_trailVar a_trailMask a_queue a_inVar a_inMask a_outMask a_matchOf a_owner a_reachedFrom a_bfs a_reach a_termCoef a_termMin a_span a_forward a_backward : Nat → Int32} {c : Nat}
theorem xi_43 {post : Int32 → SX → Prop} (hc : c < 6) (hP : post (nI c) (f_varCount, f_valueCount, f_maxConstraints, f_maxLevel, f_allValues, f_allVars, 1, f_currentLevel, nI (c + 1), f_searchState, f_searchDirection, f_foundCount, f_depth, f_trailSize, f_queueHead, f_queueSize, f_pendingMask, f_scopeSize, a_dom, a_savedDom, a_savedCount, a_savedStatus, a_kindOf, a_scopeOf, a_lowBound, a_highBound, a_tupleCount, putR (c * 6) 6 (fun _ => 0) a_coef, a_tuples, a_newTuple, a_solution, a_todo, a_mark, a_work, a_trailVar, a_trailMask, a_queue, a_inVar, a_inMask, a_outMask, a_matchOf, a_owner, a_reachedFrom, a_bfs, a_reach, a_termCoef, a_termMin, a_span, a_forward, a_backward)) :
    ∀ d x : Nat, x + d = 6 → wX_install_43 post (nI c) f_varCount f_valueCount f_maxConstraints f_maxLevel f_allValues f_allVars f_status f_currentLevel (nI c) f_searchState f_searchDirection f_foundCount f_depth f_trailSize f_queueHead f_queueSize f_pendingMask f_scopeSize (d + 1) (nI x) a_dom a_savedDom a_savedCount a_savedStatus a_kindOf a_scopeOf a_lowBound a_highBound a_tupleCount (putR (c * 6) x (fun _ => 0) a_coef) a_tuples a_newTuple a_solution a_todo a_mark a_work a_trailVar a_trailMask a_queue a_inVar a_inMask a_outMask a_matchOf a_owner a_reachedFrom a_bfs a_reach a_termCoef a_termMin a_span a_forward a_backward := by
  intro d
  induction d with
  | zero =>
    intro x hx
    obtain rfl : x = 6 := by omega
    exact br_t (by decide) (nm_r (e' := nI (c + 1)) (nI_1 _) hP)
  | succ d ih =>
    intro x hx
    refine br_f (nI_ge (b := 6) (by omega) (by decide)) ?_
    rw [ix6]
    refine ⟨vp_in_nI (by omega) (by omega), nm_r (e' := putR (c * 6) (x + 1) (fun _ => 0) a_coef) ?_ (nm_r (e' := nI (x + 1)) (nI_1 _) (ih (x + 1) (by omega)))⟩
    rw [nI_clamp (by omega)]
    exact pt_s (c * 6) x (fun _ => 0) a_coef
theorem xi_inst {post : Int32 → SX → Prop} {kd s : Int32} (hc : c < 6) (hP : post (nI c) (f_varCount, f_valueCount, f_maxConstraints, f_maxLevel, f_allValues, f_allVars, 1, f_currentLevel, nI (c + 1), f_searchState, f_searchDirection, f_foundCount, f_depth, f_trailSize, f_queueHead, f_queueSize, f_pendingMask, f_scopeSize, a_dom, a_savedDom, a_savedCount, a_savedStatus, upd a_kindOf c kd, upd a_scopeOf c s, upd a_lowBound c 0, upd a_highBound c 0, upd a_tupleCount c 0, putR (c * 6) 6 (fun _ => 0) a_coef, a_tuples, a_newTuple, a_solution, a_todo, a_mark, a_work, a_trailVar, a_trailMask, a_queue, a_inVar, a_inMask, a_outMask, a_matchOf, a_owner, a_reachedFrom, a_bfs, a_reach, a_termCoef, a_termMin, a_span, a_forward, a_backward)) :
    wpX_install post (f_varCount, f_valueCount, f_maxConstraints, f_maxLevel, f_allValues, f_allVars, f_status, f_currentLevel, nI c, f_searchState, f_searchDirection, f_foundCount, f_depth, f_trailSize, f_queueHead, f_queueSize, f_pendingMask, f_scopeSize, a_dom, a_savedDom, a_savedCount, a_savedStatus, a_kindOf, a_scopeOf, a_lowBound, a_highBound, a_tupleCount, a_coef, a_tuples, a_newTuple, a_solution, a_todo, a_mark, a_work, a_trailVar, a_trailMask, a_queue, a_inVar, a_inMask, a_outMask, a_matchOf, a_owner, a_reachedFrom, a_bfs, a_reach, a_termCoef, a_termMin, a_span, a_forward, a_backward) kd s := by
  have hin : vp_in (nI c) 7 := vp_in_nI (by omega) (by omega)
  have hcc : (nI c).toNatClampNeg = c := nI_clamp (by omega)
  have H := xi_43 (f_status := f_status) hc hP 6 0 (by omega)
  rw [pt_0] at H
  refine And.intro hin (nm_r (e' := upd a_kindOf c kd) (by rw [hcc]) (And.intro hin (nm_r (e' := upd a_scopeOf c s) (by rw [hcc]) (And.intro hin (nm_r (e' := upd a_lowBound c 0) (by rw [hcc]) (And.intro hin (nm_r (e' := upd a_highBound c 0) (by rw [hcc]) (And.intro hin (nm_r (e' := upd a_tupleCount c 0) (by rw [hcc]) (Exists.intro 7 ?_))))))))))
  exact H
theorem xi_90 {post : Int32 → SX → Prop} (hc : c < 6) (hP : post (nI c) (f_varCount, f_valueCount, f_maxConstraints, f_maxLevel, f_allValues, f_allVars, f_status, f_currentLevel, f_constraintCount, f_searchState, f_searchDirection, f_foundCount, f_depth, f_trailSize, f_queueHead, f_queueSize, f_pendingMask, f_scopeSize, a_dom, a_savedDom, a_savedCount, a_savedStatus, a_kindOf, a_scopeOf, a_lowBound, a_highBound, a_tupleCount, cpS c a_coef 6, a_tuples, a_newTuple, a_solution, a_todo, a_mark, a_work, a_trailVar, a_trailMask, a_queue, a_inVar, a_inMask, a_outMask, a_matchOf, a_owner, a_reachedFrom, a_bfs, a_reach, a_termCoef, a_termMin, a_span, a_forward, a_backward)) :
    ∀ d x : Nat, x + d = 6 → wX_postSum_90 post (nI c) f_varCount f_valueCount f_maxConstraints f_maxLevel f_allValues f_allVars f_status f_currentLevel f_constraintCount f_searchState f_searchDirection f_foundCount f_depth f_trailSize f_queueHead f_queueSize f_pendingMask f_scopeSize (d + 1) (nI x) a_dom a_savedDom a_savedCount a_savedStatus a_kindOf a_scopeOf a_lowBound a_highBound a_tupleCount (cpS c a_coef x) a_tuples a_newTuple a_solution a_todo a_mark a_work a_trailVar a_trailMask a_queue a_inVar a_inMask a_outMask a_matchOf a_owner a_reachedFrom a_bfs a_reach a_termCoef a_termMin a_span a_forward a_backward := by
  intro d
  induction d with
  | zero =>
    intro x hx
    obtain rfl : x = 6 := by omega
    exact br_t (by decide) hP
  | succ d ih =>
    intro x hx
    have e36 : (36 + nI x : Int32) = nI (36 + x) := nI_add 36 x
    refine br_f (nI_ge (b := 6) (by omega) (by decide)) ?_
    rw [ix6, e36]
    refine ⟨vp_in_nI (by omega) (by omega), vp_in_nI (by omega) (by omega), nm_e ⟨vp_in_nI (by omega) (by omega), nm_r (e' := cpS c a_coef (x + 1)) ?_ (nm_r (e' := nI (x + 1)) (nI_1 _) (ih (x + 1) (by omega)))⟩⟩
    rw [nI_clamp (by omega), nI_clamp (by omega)]; rfl
theorem xi_sum {post : Int32 → SX → Prop} (hc : c < 6) (hP : post (nI c) (f_varCount, f_valueCount, f_maxConstraints, f_maxLevel, f_allValues, f_allVars, f_status, f_currentLevel, f_constraintCount, f_searchState, f_searchDirection, f_foundCount, f_depth, f_trailSize, f_queueHead, f_queueSize, f_pendingMask, f_scopeSize, a_dom, a_savedDom, a_savedCount, a_savedStatus, a_kindOf, a_scopeOf, a_lowBound, a_highBound, a_tupleCount, cpS c a_coef 6, a_tuples, a_newTuple, a_solution, a_todo, a_mark, a_work, a_trailVar, a_trailMask, a_queue, a_inVar, a_inMask, a_outMask, a_matchOf, a_owner, a_reachedFrom, a_bfs, a_reach, a_termCoef, a_termMin, a_span, a_forward, a_backward)) : ∃ n90 : Nat, wX_postSum_90 post (nI c) f_varCount f_valueCount f_maxConstraints f_maxLevel f_allValues f_allVars f_status f_currentLevel f_constraintCount f_searchState f_searchDirection f_foundCount f_depth f_trailSize f_queueHead f_queueSize f_pendingMask f_scopeSize n90 0 a_dom a_savedDom a_savedCount a_savedStatus a_kindOf a_scopeOf a_lowBound a_highBound a_tupleCount a_coef a_tuples a_newTuple a_solution a_todo a_mark a_work a_trailVar a_trailMask a_queue a_inVar a_inMask a_outMask a_matchOf a_owner a_reachedFrom a_bfs a_reach a_termCoef a_termMin a_span a_forward a_backward :=
  ⟨7, xi_90 hc hP 6 0 (by omega)⟩
theorem xi_63 {post : Int32 → SX → Prop} (hc : c < 6) (hP : post (nI c) (f_varCount, f_valueCount, f_maxConstraints, f_maxLevel, f_allValues, f_allVars, f_status, f_currentLevel, f_constraintCount, f_searchState, f_searchDirection, f_foundCount, f_depth, f_trailSize, f_queueHead, f_queueSize, f_pendingMask, f_scopeSize, a_dom, a_savedDom, a_savedCount, a_savedStatus, a_kindOf, upd a_scopeOf 6 0, a_lowBound, a_highBound, upd (upd a_tupleCount c (a_tupleCount 6)) 6 0, a_coef, putR (c * 40) 40 (fun i => a_tuples (240 + i)) a_tuples, a_newTuple, a_solution, a_todo, a_mark, a_work, a_trailVar, a_trailMask, a_queue, a_inVar, a_inMask, a_outMask, a_matchOf, a_owner, a_reachedFrom, a_bfs, a_reach, a_termCoef, a_termMin, a_span, a_forward, a_backward)) :
    ∀ d x : Nat, x + d = 40 → wX_postTable_63 post (nI c) f_varCount f_valueCount f_maxConstraints f_maxLevel f_allValues f_allVars f_status f_currentLevel f_constraintCount f_searchState f_searchDirection f_foundCount f_depth f_trailSize f_queueHead f_queueSize f_pendingMask f_scopeSize (d + 1) (nI x) a_dom a_savedDom a_savedCount a_savedStatus a_kindOf a_scopeOf a_lowBound a_highBound a_tupleCount a_coef (putR (c * 40) x (fun i => a_tuples (240 + i)) a_tuples) a_newTuple a_solution a_todo a_mark a_work a_trailVar a_trailMask a_queue a_inVar a_inMask a_outMask a_matchOf a_owner a_reachedFrom a_bfs a_reach a_termCoef a_termMin a_span a_forward a_backward := by
  intro d
  induction d with
  | zero =>
    intro x hx
    obtain rfl : x = 40 := by omega
    exact br_t (by decide) ⟨vp_in_nI (by omega) (by omega), nm_r (e' := upd a_tupleCount c (a_tupleCount 6)) (by rw [nI_clamp (by omega)]) (nm_e (nm_e hP))⟩
  | succ d ih =>
    intro x hx
    have e1 : (240 + nI x : Int32) = nI (240 + x) := nI_add 240 x
    have e2 : (nI c * 40 + nI x : Int32) = nI (c * 40 + x) := by
      show nI c * nI 40 + nI x = _
      rw [pk_mul, nI_add]
    refine br_f (nI_ge (b := 40) (by omega) (by decide)) ?_
    rw [e1, e2]
    refine ⟨vp_in_nI (by omega) (by omega), vp_in_nI (by omega) (by omega), nm_r (e' := putR (c * 40) (x + 1) (fun i => a_tuples (240 + i)) a_tuples) ?_ (nm_r (e' := nI (x + 1)) (nI_1 _) (ih (x + 1) (by omega)))⟩
    rw [nI_clamp (by omega), nI_clamp (by omega), pt_out (j := 240 + x) (by omega)]
    exact pt_s (c * 40) x (fun i => a_tuples (240 + i)) a_tuples
theorem xi_tab {post : Int32 → SX → Prop} (hc : c < 6) (hP : post (nI c) (f_varCount, f_valueCount, f_maxConstraints, f_maxLevel, f_allValues, f_allVars, f_status, f_currentLevel, f_constraintCount, f_searchState, f_searchDirection, f_foundCount, f_depth, f_trailSize, f_queueHead, f_queueSize, f_pendingMask, f_scopeSize, a_dom, a_savedDom, a_savedCount, a_savedStatus, a_kindOf, upd a_scopeOf 6 0, a_lowBound, a_highBound, upd (upd a_tupleCount c (a_tupleCount 6)) 6 0, a_coef, putR (c * 40) 40 (fun i => a_tuples (240 + i)) a_tuples, a_newTuple, a_solution, a_todo, a_mark, a_work, a_trailVar, a_trailMask, a_queue, a_inVar, a_inMask, a_outMask, a_matchOf, a_owner, a_reachedFrom, a_bfs, a_reach, a_termCoef, a_termMin, a_span, a_forward, a_backward)) : ∃ n63 : Nat, wX_postTable_63 post (nI c) f_varCount f_valueCount f_maxConstraints f_maxLevel f_allValues f_allVars f_status f_currentLevel f_constraintCount f_searchState f_searchDirection f_foundCount f_depth f_trailSize f_queueHead f_queueSize f_pendingMask f_scopeSize n63 0 a_dom a_savedDom a_savedCount a_savedStatus a_kindOf a_scopeOf a_lowBound a_highBound a_tupleCount a_coef a_tuples a_newTuple a_solution a_todo a_mark a_work a_trailVar a_trailMask a_queue a_inVar a_inMask a_outMask a_matchOf a_owner a_reachedFrom a_bfs a_reach a_termCoef a_termMin a_span a_forward a_backward := by
  have H := xi_63 hc hP 40 0 (by omega)
  rw [pt_0] at H
  exact ⟨41, H⟩
end
section
variable {f_n f_v f_maxPosted f_maxLevel f_now f_state f_direction f_found f_place : Int32} {a_dom a_status a_count a_kind a_scope a_low a_high a_coef a_tuples a_tuple a_solution a_value a_work a_seen a_args : Nat → Int32} {c L mc : Nat}
theorem yi_67 {post : Int32 → SY → Prop} (hc : c < 6) (hL : L < 6) (hP : post (nI c) (f_n, f_v, nI mc, f_maxLevel, nI L, f_state, f_direction, f_found, f_place, a_dom, upd a_status L 1, upd a_count L (nI (c + 1)), a_kind, a_scope, a_low, a_high, putR (c * 6) 6 (fun _ => 0) a_coef, a_tuples, a_tuple, a_solution, a_value, a_work, a_seen, a_args)) :
    ∀ d x : Nat, x + d = 6 → wY_post_67 post (nI c) f_n f_v (nI mc) f_maxLevel (nI L) f_state f_direction f_found f_place (d + 1) (nI x) a_dom a_status a_count a_kind a_scope a_low a_high (putR (c * 6) x (fun _ => 0) a_coef) a_tuples a_tuple a_solution a_value a_work a_seen a_args := by
  intro d
  induction d with
  | zero =>
    intro x hx
    obtain rfl : x = 6 := by omega
    exact br_t (by decide) ⟨vp_in_nI hL (by omega), nm_r (e' := upd a_count L (nI (c + 1))) (by rw [nI_clamp (by omega), nI_1]) ⟨vp_in_nI hL (by omega), nm_r (e' := upd a_status L 1) (by rw [nI_clamp (by omega)]) hP⟩⟩
  | succ d ih =>
    intro x hx
    refine br_f (nI_ge (b := 6) (by omega) (by decide)) ?_
    rw [ix6]
    refine ⟨vp_in_nI (by omega) (by omega), nm_r (e' := putR (c * 6) (x + 1) (fun _ => 0) a_coef) ?_ (nm_r (e' := nI (x + 1)) (nI_1 _) (ih (x + 1) (by omega)))⟩
    rw [nI_clamp (by omega)]
    exact pt_s (c * 6) x (fun _ => 0) a_coef
theorem yi_post {post : Int32 → SY → Prop} {kd s lo hi : Int32} (hc : c < mc) (hm : mc ≤ 6) (hL : L < 6) (hct : a_count L = nI c) (hP : post (nI c) (f_n, f_v, nI mc, f_maxLevel, nI L, f_state, f_direction, f_found, f_place, a_dom, upd a_status L 1, upd a_count L (nI (c + 1)), upd a_kind c kd, upd a_scope c s, upd a_low c lo, upd a_high c hi, putR (c * 6) 6 (fun _ => 0) a_coef, upd a_tuples c 0, a_tuple, a_solution, a_value, a_work, a_seen, a_args)) :
    wpY_post post (f_n, f_v, nI mc, f_maxLevel, nI L, f_state, f_direction, f_found, f_place, a_dom, a_status, a_count, a_kind, a_scope, a_low, a_high, a_coef, a_tuples, a_tuple, a_solution, a_value, a_work, a_seen, a_args) kd s lo hi := by
  have hin : vp_in (nI c) 7 := vp_in_nI (by omega) (by omega)
  have hcc : (nI c).toNatClampNeg = c := nI_clamp (by omega)
  have H := yi_67 (by omega) hL hP 6 0 (by omega)
  rw [pt_0] at H
  refine And.intro (vp_in_nI hL (by omega)) (nm_r (e' := nI c) (by rw [nI_clamp (by omega)]; exact hct) (br_t (nI_lt hc (by omega)) (And.intro hin (nm_r (e' := upd a_kind c kd) (by rw [hcc]) (And.intro hin (nm_r (e' := upd a_scope c s) (by rw [hcc]) (And.intro hin (nm_r (e' := upd a_low c lo) (by rw [hcc]) (And.intro hin (nm_r (e' := upd a_high c hi) (by rw [hcc]) (And.intro hin (nm_r (e' := upd a_tuples c 0) (by rw [hcc]) (Exists.intro 7 ?_)))))))))))))
  exact H
theorem yi_full {post : Int32 → SY → Prop} {kd s lo hi : Int32} (hc : mc ≤ c) (hc6 : c ≤ 6) (hL : L < 6) (hct : a_count L = nI c) (hP : post (-13) (f_n, f_v, nI mc, f_maxLevel, nI L, f_state, f_direction, f_found, f_place, a_dom, a_status, a_count, a_kind, a_scope, a_low, a_high, a_coef, a_tuples, a_tuple, a_solution, a_value, a_work, a_seen, a_args)) : wpY_post post (f_n, f_v, nI mc, f_maxLevel, nI L, f_state, f_direction, f_found, f_place, a_dom, a_status, a_count, a_kind, a_scope, a_low, a_high, a_coef, a_tuples, a_tuple, a_solution, a_value, a_work, a_seen, a_args) kd s lo hi :=
  And.intro (vp_in_nI hL (by omega)) (nm_r (e' := nI c) (by rw [nI_clamp (by omega)]; exact hct) (br_f (nI_nlt hc (by omega)) hP))
theorem yi_65 {post : Int32 → SY → Prop} (hc : c < 6) (hP : post (nI c) (f_n, f_v, nI mc, f_maxLevel, nI L, f_state, f_direction, f_found, f_place, a_dom, a_status, a_count, a_kind, a_scope, a_low, a_high, cpS c a_coef 6, a_tuples, a_tuple, a_solution, a_value, a_work, a_seen, a_args)) :
    ∀ d x : Nat, x + d = 6 → wY_postSum_65 post (nI c) f_n f_v (nI mc) f_maxLevel (nI L) f_state f_direction f_found f_place (d + 1) (nI x) a_dom a_status a_count a_kind a_scope a_low a_high (cpS c a_coef x) a_tuples a_tuple a_solution a_value a_work a_seen a_args := by
  intro d
  induction d with
  | zero =>
    intro x hx
    obtain rfl : x = 6 := by omega
    exact br_t (by decide) hP
  | succ d ih =>
    intro x hx
    have e36 : (36 + nI x : Int32) = nI (36 + x) := nI_add 36 x
    refine br_f (nI_ge (b := 6) (by omega) (by decide)) ?_
    rw [ix6, e36]
    refine ⟨vp_in_nI (by omega) (by omega), vp_in_nI (by omega) (by omega), nm_e ⟨vp_in_nI (by omega) (by omega), nm_r (e' := cpS c a_coef (x + 1)) ?_ (nm_r (e' := nI (x + 1)) (nI_1 _) (ih (x + 1) (by omega)))⟩⟩
    rw [nI_clamp (by omega), nI_clamp (by omega)]; rfl
theorem yi_sum {post : Int32 → SY → Prop} (hc : c < 6) (hP : post (nI c) (f_n, f_v, nI mc, f_maxLevel, nI L, f_state, f_direction, f_found, f_place, a_dom, a_status, a_count, a_kind, a_scope, a_low, a_high, cpS c a_coef 6, a_tuples, a_tuple, a_solution, a_value, a_work, a_seen, a_args)) : ∃ n65 : Nat, wY_postSum_65 post (nI c) f_n f_v (nI mc) f_maxLevel (nI L) f_state f_direction f_found f_place n65 0 a_dom a_status a_count a_kind a_scope a_low a_high a_coef a_tuples a_tuple a_solution a_value a_work a_seen a_args :=
  ⟨7, yi_65 hc hP 6 0 (by omega)⟩
theorem yi_70 {post : Int32 → SY → Prop} (hc : c < 6) (hP : post (nI c) (f_n, f_v, nI mc, f_maxLevel, nI L, f_state, f_direction, f_found, f_place, a_dom, a_status, a_count, a_kind, upd a_scope 6 0, a_low, a_high, a_coef, upd a_tuples 6 0, putR (c * 60) 60 (fun i => a_tuple (360 + i)) a_tuple, a_solution, a_value, a_work, a_seen, a_args)) :
    ∀ d x : Nat, x + d = 60 → wY_postTable_70 post (nI c) f_n f_v (nI mc) f_maxLevel (nI L) f_state f_direction f_found f_place (d + 1) (nI x) a_dom a_status a_count a_kind a_scope a_low a_high a_coef a_tuples (putR (c * 60) x (fun i => a_tuple (360 + i)) a_tuple) a_solution a_value a_work a_seen a_args := by
  intro d
  induction d with
  | zero =>
    intro x hx
    obtain rfl : x = 60 := by omega
    exact br_t (by decide) (nm_e (nm_e hP))
  | succ d ih =>
    intro x hx
    have e1 : (360 + nI x : Int32) = nI (360 + x) := nI_add 360 x
    have e2 : (nI c * 60 + nI x : Int32) = nI (c * 60 + x) := by
      show nI c * nI 60 + nI x = _
      rw [pk_mul, nI_add]
    refine br_f (nI_ge (b := 60) (by omega) (by decide)) ?_
    rw [e1, e2]
    refine ⟨vp_in_nI (by omega) (by omega), vp_in_nI (by omega) (by omega), nm_r (e' := putR (c * 60) (x + 1) (fun i => a_tuple (360 + i)) a_tuple) ?_ (nm_r (e' := nI (x + 1)) (nI_1 _) (ih (x + 1) (by omega)))⟩
    rw [nI_clamp (by omega), nI_clamp (by omega), pt_out (j := 360 + x) (by omega)]
    exact pt_s (c * 60) x (fun i => a_tuple (360 + i)) a_tuple
theorem yi_tab {post : Int32 → SY → Prop} (hc : c < 6) (hP : post (nI c) (f_n, f_v, nI mc, f_maxLevel, nI L, f_state, f_direction, f_found, f_place, a_dom, a_status, a_count, a_kind, upd a_scope 6 0, a_low, a_high, a_coef, upd a_tuples 6 0, putR (c * 60) 60 (fun i => a_tuple (360 + i)) a_tuple, a_solution, a_value, a_work, a_seen, a_args)) : ∃ n70 : Nat, wY_postTable_70 post (nI c) f_n f_v (nI mc) f_maxLevel (nI L) f_state f_direction f_found f_place n70 0 a_dom a_status a_count a_kind a_scope a_low a_high a_coef a_tuples a_tuple a_solution a_value a_work a_seen a_args := by
  have H := yi_70 hc hP 60 0 (by omega)
  rw [pt_0] at H
  exact ⟨61, H⟩
end
end
section
/-! addTuple: the walk -/
section
variable {f_varCount f_valueCount f_maxConstraints f_maxLevel f_allValues f_allVars f_status f_currentLevel f_constraintCount f_searchState f_searchDirection f_foundCount f_depth f_trailSize f_queueHead f_queueSize f_pendingMask f_scopeSize : Int32} {a_dom a_savedDom a_savedCount a_savedStatus a_kindOf a_scopeOf a_lowBound a_highBound a_tupleCount a_coef a_tuples a_newTuple a_solution a_todo a_mark a_work a_trailVar a_trailMask a_queue a_inVar a_inMask a_outMask a_matchOf a_owner a_reachedFrom a_bfs a_reach a_termCoef a_termMin a_span a_forward a_backward : Nat → Int32} {k T V : Nat}
theorem xt_72 {post : Int32 → SX → Prop} (hk : k ≤ 4) (hV : V ≤ 6) (hbad : (∃ i, i < k ∧ ¬ ∃ b, b < V ∧ a_newTuple i = nI b) → post (-10) (f_varCount, nI V, f_maxConstraints, f_maxLevel, f_allValues, f_allVars, f_status, f_currentLevel, f_constraintCount, f_searchState, f_searchDirection, f_foundCount, f_depth, f_trailSize, f_queueHead, f_queueSize, f_pendingMask, f_scopeSize, a_dom, a_savedDom, a_savedCount, a_savedStatus, a_kindOf, a_scopeOf, a_lowBound, a_highBound, a_tupleCount, a_coef, a_tuples, a_newTuple, a_solution, a_todo, a_mark, a_work, a_trailVar, a_trailMask, a_queue, a_inVar, a_inMask, a_outMask, a_matchOf, a_owner, a_reachedFrom, a_bfs, a_reach, a_termCoef, a_termMin, a_span, a_forward, a_backward)) (hok : (∀ i, i < k → ∃ b, b < V ∧ a_newTuple i = nI b) → wX_addTuple_108 post (nI k) f_varCount (nI V) f_maxConstraints f_maxLevel f_allValues f_allVars f_status f_currentLevel f_constraintCount f_searchState f_searchDirection f_foundCount f_depth f_trailSize f_queueHead f_queueSize f_pendingMask f_scopeSize a_dom a_savedDom a_savedCount a_savedStatus a_kindOf a_scopeOf a_lowBound a_highBound a_tupleCount a_coef a_tuples a_newTuple a_solution a_todo a_mark a_work a_trailVar a_trailMask a_queue a_inVar a_inMask a_outMask a_matchOf a_owner a_reachedFrom a_bfs a_reach a_termCoef a_termMin a_span a_forward a_backward) :
    ∀ d i : Nat, i + d = k → (∀ j, j < i → ∃ b, b < V ∧ a_newTuple j = nI b) → wX_addTuple_72 post (nI k) f_varCount (nI V) f_maxConstraints f_maxLevel f_allValues f_allVars f_status f_currentLevel f_constraintCount f_searchState f_searchDirection f_foundCount f_depth f_trailSize f_queueHead f_queueSize f_pendingMask f_scopeSize a_dom a_savedDom a_savedCount a_savedStatus a_kindOf a_scopeOf a_lowBound a_highBound a_tupleCount a_coef a_tuples a_newTuple a_solution a_todo a_mark a_work a_trailVar a_trailMask a_queue a_inVar a_inMask a_outMask a_matchOf a_owner a_reachedFrom a_bfs a_reach a_termCoef a_termMin a_span a_forward a_backward (d + 1) (nI i) := by
  intro d
  induction d with
  | zero =>
    intro i hi g
    obtain rfl : i = k := by omega
    exact br_t (nI_le (Nat.le_refl _) (by omega)) (hok g)
  | succ d ih =>
    intro i hi g
    refine br_f (nI_ge (by omega) (by omega)) (br_f (nI_ge (b := 4) (by omega) (by decide)) ⟨vp_in_nI (by omega) (by omega), ?_⟩)
    rw [nI_clamp (by omega)]
    have bad : (a_newTuple i < 0 ∨ nI V ≤ a_newTuple i) → ¬ ∃ b, b < V ∧ a_newTuple i = nI b := by
      rintro (h | h) ⟨b, hb, e⟩
      · rw [e] at h; exact nI_pos (by omega) h
      · rw [e] at h; exact nI_ge hb (by omega) h
    rcases pk_ix (a_newTuple i) (n := V) (by omega) with h | h | ⟨b, hb, e⟩
    · exact xh_ian (by omega) (Or.inl h) (hbad ⟨i, by omega, bad (Or.inl h)⟩)
    · exact xh_ian (by omega) (Or.inr h) (hbad ⟨i, by omega, bad (Or.inr h)⟩)
    · rw [e]
      refine xh_iay (by omega) hb (nm_r (e' := nI (i + 1)) (nI_1 _) (ih (i + 1) (by omega) (fun j hj => ?_)))
      by_cases z : j = i
      · rw [z]; exact ⟨b, hb, e⟩
      · exact g j (by omega)
theorem xt_24 {post : Int32 → Prop} {J : Int32 → Prop} {t : Nat} (hk : k ≤ 4) (ht : t < 10)
    (h1 : (∀ i, i < k → a_tuples (240 + t * 4 + i) = a_newTuple i) → post 1) (h0 : (∃ i, i < k ∧ ¬ a_tuples (240 + t * 4 + i) = a_newTuple i) → J (nI (t + 1))) :
    ∀ (d i : Nat) (al : Int32), i + d = k → (al = 0 ↔ ∃ j, j < i ∧ ¬ a_tuples (240 + t * 4 + j) = a_newTuple j) → wX_draftHasNewTuple_24 post J (nI k) (nI t) f_varCount (nI V) f_maxConstraints f_maxLevel f_allValues f_allVars f_status f_currentLevel f_constraintCount f_searchState f_searchDirection f_foundCount f_depth f_trailSize f_queueHead f_queueSize f_pendingMask f_scopeSize a_dom a_savedDom a_savedCount a_savedStatus a_kindOf a_scopeOf a_lowBound a_highBound a_tupleCount a_coef a_tuples a_newTuple a_solution a_todo a_mark a_work a_trailVar a_trailMask a_queue a_inVar a_inMask a_outMask a_matchOf a_owner a_reachedFrom a_bfs a_reach a_termCoef a_termMin a_span a_forward a_backward (d + 1) al (nI i) := by
  intro d
  induction d with
  | zero =>
    intro i al hi g
    obtain rfl : i = k := by omega
    refine br_t (nI_le (Nat.le_refl _) (by omega)) ?_
    by_cases z : al = 0
    · exact br_t z (nm_r (e' := nI (t + 1)) (nI_1 _) (h0 (g.mp z)))
    · exact br_f z (h1 (fun j hj => Classical.byContradiction fun q => z (g.mpr ⟨j, hj, q⟩)))
  | succ d ih =>
    intro i al hi g
    have e : ((240 + nI t * 4) + nI i : Int32) = nI (240 + t * 4 + i) := by
      show nI 240 + nI t * nI 4 + nI i = _
      rw [pk_mul, nI_add, nI_add]
    refine br_f (nI_ge (by omega) (by omega)) (br_f (nI_ge (b := 4) (by omega) (by decide)) ?_)
    rw [e]
    refine ⟨vp_in_nI (by omega) (by omega), vp_in_nI (by omega) (by omega), ?_⟩
    rw [nI_clamp (by omega), nI_clamp (by omega)]
    by_cases z : a_tuples (240 + t * 4 + i) = a_newTuple i
    · refine br_t z (nm_r (e' := nI (i + 1)) (nI_1 _) (ih (i + 1) al (by omega) ?_))
      rw [g]
      constructor
      · rintro ⟨j, q1, q2⟩; exact ⟨j, by omega, q2⟩
      · rintro ⟨j, q1, q2⟩
        have : j ≠ i := fun w => q2 (by rw [w]; exact z)
        exact ⟨j, by omega, q2⟩
    · exact br_f z (nm_r (e' := nI (i + 1)) (nI_1 _) (ih (i + 1) 0 (by omega) ⟨fun _ => ⟨i, by omega, z⟩, fun _ => rfl⟩))
theorem xt_has {post : Int32 → Prop} (hk : k ≤ 4) (hT : T ≤ 10) (htc : a_tupleCount 6 = nI T)
    (h1 : (∃ t, t < T ∧ ∀ i, i < k → a_tuples (240 + t * 4 + i) = a_newTuple i) → post 1) (h0 : (¬ ∃ t, t < T ∧ ∀ i, i < k → a_tuples (240 + t * 4 + i) = a_newTuple i) → post 0) : wpX_draftHasNewTuple post (f_varCount, nI V, f_maxConstraints, f_maxLevel, f_allValues, f_allVars, f_status, f_currentLevel, f_constraintCount, f_searchState, f_searchDirection, f_foundCount, f_depth, f_trailSize, f_queueHead, f_queueSize, f_pendingMask, f_scopeSize, a_dom, a_savedDom, a_savedCount, a_savedStatus, a_kindOf, a_scopeOf, a_lowBound, a_highBound, a_tupleCount, a_coef, a_tuples, a_newTuple, a_solution, a_todo, a_mark, a_work, a_trailVar, a_trailMask, a_queue, a_inVar, a_inMask, a_outMask, a_matchOf, a_owner, a_reachedFrom, a_bfs, a_reach, a_termCoef, a_termMin, a_span, a_forward, a_backward) (nI k) := by
  have key : ∀ d t : Nat, t + d = T → (∀ t', t' < t → ¬ ∀ i, i < k → a_tuples (240 + t' * 4 + i) = a_newTuple i) → wX_draftHasNewTuple_2 post (nI k) f_varCount (nI V) f_maxConstraints f_maxLevel f_allValues f_allVars f_status f_currentLevel f_constraintCount f_searchState f_searchDirection f_foundCount f_depth f_trailSize f_queueHead f_queueSize f_pendingMask f_scopeSize a_dom a_savedDom a_savedCount a_savedStatus a_kindOf a_scopeOf a_lowBound a_highBound a_tupleCount a_coef a_tuples a_newTuple a_solution a_todo a_mark a_work a_trailVar a_trailMask a_queue a_inVar a_inMask a_outMask a_matchOf a_owner a_reachedFrom a_bfs a_reach a_termCoef a_termMin a_span a_forward a_backward (d + 1) (nI t) := by
    intro d
    induction d with
    | zero =>
      intro t ht g
      obtain rfl : t = T := by omega
      refine br_t ?_ (h0 (fun ⟨t', q1, q2⟩ => g t' q1 q2))
      rw [htc]; exact nI_le (Nat.le_refl _) (by omega)
    | succ d ih =>
      intro t ht g
      refine br_f ?_ (br_f (nI_ge (b := 10) (by omega) (by decide)) (Exists.intro (k + 1) (xt_24 hk (by omega) (fun q => h1 ⟨t, by omega, q⟩) (fun q => ih (t + 1) (by omega) (fun t' ht' hq => ?_)) k 0 1 (by omega) ⟨fun e => absurd e (by decide), fun ⟨j, h, _⟩ => absurd h (by omega)⟩)))
      · rw [htc]; exact nI_ge (by omega) (by omega)
      · by_cases z : t' = t
        · subst z
          obtain ⟨i, q1, q2⟩ := q
          exact q2 (hq i q1)
        · exact g t' (by omega) hq
  exact Exists.intro (T + 1) (key T 0 (by omega) (fun t' h => absurd h (by omega)))
theorem xt_153 {post : Int32 → SX → Prop} (hk : k ≤ 4) (hT : T < 10) (htc : a_tupleCount 6 = nI T)
    (hP : post (nI (T + 1)) (f_varCount, nI V, f_maxConstraints, f_maxLevel, f_allValues, f_allVars, f_status, f_currentLevel, f_constraintCount, f_searchState, f_searchDirection, f_foundCount, f_depth, f_trailSize, f_queueHead, f_queueSize, f_pendingMask, f_scopeSize, a_dom, a_savedDom, a_savedCount, a_savedStatus, a_kindOf, a_scopeOf, a_lowBound, a_highBound, upd a_tupleCount 6 (nI (T + 1)), a_coef, putR (240 + T * 4) k a_newTuple a_tuples, a_newTuple, a_solution, a_todo, a_mark, a_work, a_trailVar, a_trailMask, a_queue, a_inVar, a_inMask, a_outMask, a_matchOf, a_owner, a_reachedFrom, a_bfs, a_reach, a_termCoef, a_termMin, a_span, a_forward, a_backward)) :
    ∀ d i : Nat, i + d = k → wX_addTuple_153 post (nI k) (nI (240 + T * 4)) f_varCount (nI V) f_maxConstraints f_maxLevel f_allValues f_allVars f_status f_currentLevel f_constraintCount f_searchState f_searchDirection f_foundCount f_depth f_trailSize f_queueHead f_queueSize f_pendingMask f_scopeSize (d + 1) (nI i) a_dom a_savedDom a_savedCount a_savedStatus a_kindOf a_scopeOf a_lowBound a_highBound a_tupleCount a_coef (putR (240 + T * 4) i a_newTuple a_tuples) a_newTuple a_solution a_todo a_mark a_work a_trailVar a_trailMask a_queue a_inVar a_inMask a_outMask a_matchOf a_owner a_reachedFrom a_bfs a_reach a_termCoef a_termMin a_span a_forward a_backward := by
  intro d
  induction d with
  | zero =>
    intro i hi
    obtain rfl : i = k := by omega
    refine br_t (nI_le (Nat.le_refl _) (by omega)) (nm_r (e' := upd a_tupleCount 6 (nI (T + 1))) (by rw [htc, nI_1]) ?_)
    rw [pk_us]; exact hP
  | succ d ih =>
    intro i hi
    refine br_f (nI_ge (by omega) (by omega)) (br_f (nI_ge (b := 4) (by omega) (by decide)) ⟨vp_in_nI (by omega) (by omega), ?_⟩)
    rw [nI_add]
    refine ⟨vp_in_nI (by omega) (by omega), nm_r (e' := putR (240 + T * 4) (i + 1) a_newTuple a_tuples) ?_ (nm_r (e' := nI (i + 1)) (nI_1 _) (ih (i + 1) (by omega)))⟩
    rw [nI_clamp (by omega), nI_clamp (by omega), pt_s]
theorem xt_108 {post : Int32 → SX → Prop} (hk : k ≤ 4) (hT : T ≤ 10) (htc : a_tupleCount 6 = nI T)
    (h1 : (∃ t, t < T ∧ ∀ i, i < k → a_tuples (240 + t * 4 + i) = a_newTuple i) → post (-15) (f_varCount, nI V, f_maxConstraints, f_maxLevel, f_allValues, f_allVars, f_status, f_currentLevel, f_constraintCount, f_searchState, f_searchDirection, f_foundCount, f_depth, f_trailSize, f_queueHead, f_queueSize, f_pendingMask, f_scopeSize, a_dom, a_savedDom, a_savedCount, a_savedStatus, a_kindOf, a_scopeOf, a_lowBound, a_highBound, a_tupleCount, a_coef, a_tuples, a_newTuple, a_solution, a_todo, a_mark, a_work, a_trailVar, a_trailMask, a_queue, a_inVar, a_inMask, a_outMask, a_matchOf, a_owner, a_reachedFrom, a_bfs, a_reach, a_termCoef, a_termMin, a_span, a_forward, a_backward)) (h2 : (¬ ∃ t, t < T ∧ ∀ i, i < k → a_tuples (240 + t * 4 + i) = a_newTuple i) → T = 10 → post (-13) (f_varCount, nI V, f_maxConstraints, f_maxLevel, f_allValues, f_allVars, f_status, f_currentLevel, f_constraintCount, f_searchState, f_searchDirection, f_foundCount, f_depth, f_trailSize, f_queueHead, f_queueSize, f_pendingMask, f_scopeSize, a_dom, a_savedDom, a_savedCount, a_savedStatus, a_kindOf, a_scopeOf, a_lowBound, a_highBound, a_tupleCount, a_coef, a_tuples, a_newTuple, a_solution, a_todo, a_mark, a_work, a_trailVar, a_trailMask, a_queue, a_inVar, a_inMask, a_outMask, a_matchOf, a_owner, a_reachedFrom, a_bfs, a_reach, a_termCoef, a_termMin, a_span, a_forward, a_backward))
    (h3 : (¬ ∃ t, t < T ∧ ∀ i, i < k → a_tuples (240 + t * 4 + i) = a_newTuple i) → T < 10 → post (nI (T + 1)) (f_varCount, nI V, f_maxConstraints, f_maxLevel, f_allValues, f_allVars, f_status, f_currentLevel, f_constraintCount, f_searchState, f_searchDirection, f_foundCount, f_depth, f_trailSize, f_queueHead, f_queueSize, f_pendingMask, f_scopeSize, a_dom, a_savedDom, a_savedCount, a_savedStatus, a_kindOf, a_scopeOf, a_lowBound, a_highBound, upd a_tupleCount 6 (nI (T + 1)), a_coef, putR (240 + T * 4) k a_newTuple a_tuples, a_newTuple, a_solution, a_todo, a_mark, a_work, a_trailVar, a_trailMask, a_queue, a_inVar, a_inMask, a_outMask, a_matchOf, a_owner, a_reachedFrom, a_bfs, a_reach, a_termCoef, a_termMin, a_span, a_forward, a_backward)) : wX_addTuple_108 post (nI k) f_varCount (nI V) f_maxConstraints f_maxLevel f_allValues f_allVars f_status f_currentLevel f_constraintCount f_searchState f_searchDirection f_foundCount f_depth f_trailSize f_queueHead f_queueSize f_pendingMask f_scopeSize a_dom a_savedDom a_savedCount a_savedStatus a_kindOf a_scopeOf a_lowBound a_highBound a_tupleCount a_coef a_tuples a_newTuple a_solution a_todo a_mark a_work a_trailVar a_trailMask a_queue a_inVar a_inMask a_outMask a_matchOf a_owner a_reachedFrom a_bfs a_reach a_termCoef a_termMin a_span a_forward a_backward := by
  unfold wX_addTuple_108
  refine xt_has hk hT htc (fun q => br_f (by decide) (h1 q)) (fun q => br_t rfl ?_)
  rw [htc]
  rcases Nat.lt_or_ge T 10 with z | z
  · refine br_t (nI_lt (b := 10) z (by decide)) (nm_r (e' := nI (240 + T * 4)) ?_ (Exists.intro (k + 1) ?_))
    · show nI 240 + nI T * nI 4 = _
      rw [pk_mul, nI_add]
    · have H := xt_153 hk z htc (h3 q z) k 0 (by omega)
      rw [pt_0] at H
      exact H
  · exact br_f (nI_nlt (b := 10) z (by omega)) (h2 q (by omega))
end
section
variable {f_n f_v f_maxPosted f_maxLevel f_now f_state f_direction f_found f_place : Int32} {a_dom a_status a_count a_kind a_scope a_low a_high a_coef a_tuples a_tuple a_solution a_value a_work a_seen a_args : Nat → Int32} {n V T : Nat}
theorem yt_62 {post : Int32 → SY → Prop} (hn : n ≤ 6) (hV : V ≤ 6) (hm : Msk n (a_scope 6)) (h4 : pcN (a_scope 6) 6 ≤ 4)
    (hbad : (∃ i, i < pcN (a_scope 6) 6 ∧ ¬ ∃ b, b < V ∧ a_args i = nI b) → ∀ vl : Nat → Int32, post (-10) (nI n, nI V, f_maxPosted, f_maxLevel, f_now, f_state, f_direction, f_found, f_place, a_dom, a_status, a_count, a_kind, a_scope, a_low, a_high, a_coef, a_tuples, a_tuple, a_solution, vl, a_work, a_seen, a_args))
    (hok : (∀ i, i < pcN (a_scope 6) 6 → ∃ b, b < V ∧ a_args i = nI b) → ∀ vl : Nat → Int32, (∀ y, y < n → bt (a_scope 6) y = true → vl y = a_args (pcN (a_scope 6) y)) → wY_addTuple_143 post (nI n) (nI V) f_maxPosted f_maxLevel f_now f_state f_direction f_found f_place a_dom a_status a_count a_kind a_scope a_low a_high a_coef a_tuples a_tuple a_solution vl a_work a_seen a_args) :
    ∀ (d x : Nat) (vl : Nat → Int32), x + d = n → (∀ y, y < x → bt (a_scope 6) y = true → vl y = a_args (pcN (a_scope 6) y) ∧ ∃ b, b < V ∧ a_args (pcN (a_scope 6) y) = nI b) → wY_addTuple_62 post (nI n) (nI V) f_maxPosted f_maxLevel f_now f_state f_direction f_found f_place (d + 1) (nI (pcN (a_scope 6) x)) (nI x) a_dom a_status a_count a_kind a_scope a_low a_high a_coef a_tuples a_tuple a_solution vl a_work a_seen a_args := by
  intro d
  have fin : ∀ (x : Nat) (vl : Nat → Int32), x ≤ n → (x = n ∨ 4 ≤ pcN (a_scope 6) x) → (∀ y, y < x → bt (a_scope 6) y = true → vl y = a_args (pcN (a_scope 6) y) ∧ ∃ b, b < V ∧ a_args (pcN (a_scope 6) y) = nI b) → wY_addTuple_143 post (nI n) (nI V) f_maxPosted f_maxLevel f_now f_state f_direction f_found f_place a_dom a_status a_count a_kind a_scope a_low a_high a_coef a_tuples a_tuple a_solution vl a_work a_seen a_args := by
    intro x vl hxn hx g
    have hlt : ∀ y, y < n → bt (a_scope 6) y = true → y < x := by
      intro y hy hyb
      rcases hx with e | e
      · omega
      · rcases Nat.lt_or_ge y x with q | q
        · exact q
        · have a := pc_mono (a_scope 6) q
          have b := pc_lt hyb (show y < 6 by omega)
          omega
    refine hok (fun i hi => ?_) vl (fun y hy hyb => (g y (hlt y hy hyb) hyb).1)
    obtain ⟨y, q1, q2, q3⟩ := pc_surj hi
    have := (g y (hlt y (mk_lt hm q2) q2) q2).2
    rw [q3] at this; exact this
  induction d with
  | zero =>
    intro x vl hx g
    obtain rfl : x = n := by omega
    exact br_t (nI_le (Nat.le_refl _) (by omega)) (fin x vl (Nat.le_refl _) (Or.inl rfl) g)
  | succ d ih =>
    intro x vl hx g
    have hpx := pc_mono (a_scope 6) (show x ≤ 6 by omega)
    refine br_f (nI_ge (by omega) (by omega)) ?_
    rcases Nat.lt_or_ge (pcN (a_scope 6) x) 4 with z | z
    · refine br_f (nI_ge (b := 4) z (by decide)) (yh_in (by omega) (fun hf => nm_r (e' := nI (x + 1)) (nI_1 _) ?_) (fun htr => ⟨vp_in_nI (by omega) (by omega), ?_⟩))
      · have := ih (x + 1) vl (by omega) (fun y hy hyb => g y (by
          have : y ≠ x := fun e => by rw [e, hf] at hyb; cases hyb
          omega) hyb)
        rw [pc_s0 hf] at this
        exact this
      · have hpl := pc_lt htr (show x < 6 by omega)
        have hcp : (nI (pcN (a_scope 6) x)).toNatClampNeg = pcN (a_scope 6) x := nI_clamp (by omega)
        rw [hcp]
        have bad : (a_args (pcN (a_scope 6) x) < 0 ∨ nI V ≤ a_args (pcN (a_scope 6) x)) → ¬ ∃ b, b < V ∧ a_args (pcN (a_scope 6) x) = nI b := by
          rintro (h | h) ⟨b, hb, e⟩
          · rw [e] at h; exact nI_pos (by omega) h
          · rw [e] at h; exact nI_ge hb (by omega) h
        rcases pk_ix (a_args (pcN (a_scope 6) x)) (n := V) (by omega) with h | h | ⟨b, hb, e⟩
        · exact br_t h (hbad ⟨_, hpl, bad (Or.inl h)⟩ vl)
        · have q := big_nm1 (by omega) h
          exact br_f q.2.1 ⟨vp_in_nI (by omega) (by omega), br_f q.2.2.1 (hbad ⟨_, hpl, bad (Or.inr h)⟩ vl)⟩
        · refine br_f (by rw [e]; exact nI_pos (by omega)) ⟨vp_in_nI (by omega) (by omega), br_t (by rw [e]; exact nI_lt hb (by omega)) ⟨vp_in_nI (by omega) (by omega), vp_in_nI (by omega) (by omega), nm_r (e' := upd vl x (a_args (pcN (a_scope 6) x))) (by rw [nI_clamp (by omega)]) (nm_r (e' := nI (pcN (a_scope 6) x + 1)) (nI_1 _) (nm_r (e' := nI (x + 1)) (nI_1 _) ?_))⟩⟩
          have := ih (x + 1) (upd vl x (a_args (pcN (a_scope 6) x))) (by omega) (fun y hy hyb => by
            by_cases q : y = x
            · rw [q, pk_us]; exact ⟨rfl, b, hb, e⟩
            · rw [pk_un q]; exact g y (by omega) hyb)
          rw [pc_s1 htr] at this
          exact this
    · exact br_t (nI_le (a := 4) z (by omega)) (fin x vl (by omega) (Or.inr z) g)
theorem yt_177 {post : Int32 → SY → Prop} (hT : T < 10) (hP : post (nI (T + 1)) (nI n, nI V, f_maxPosted, f_maxLevel, f_now, f_state, f_direction, f_found, f_place, a_dom, a_status, a_count, a_kind, a_scope, a_low, a_high, a_coef, upd a_tuples 6 (nI (T + 1)), putR ((60 + T) * 6) 6 a_value a_tuple, a_solution, a_value, a_work, a_seen, a_args)) :
    ∀ d x : Nat, x + d = 6 → wY_addTuple_177 post (nI T) (nI n) (nI V) f_maxPosted f_maxLevel f_now f_state f_direction f_found f_place (d + 1) (nI x) a_dom a_status a_count a_kind a_scope a_low a_high a_coef a_tuples (putR ((60 + T) * 6) x a_value a_tuple) a_solution a_value a_work a_seen a_args := by
  intro d
  induction d with
  | zero =>
    intro x hx
    obtain rfl : x = 6 := by omega
    refine br_t (by decide) ?_
    rw [nI_1]
    exact nm_e hP
  | succ d ih =>
    intro x hx
    have e : (((60 + nI T) * 6) + nI x : Int32) = nI ((60 + T) * 6 + x) := by
      show (nI 60 + nI T) * nI 6 + nI x = _
      rw [nI_add, pk_mul, nI_add]
    refine br_f (nI_ge (b := 6) (by omega) (by decide)) ⟨vp_in_nI (by omega) (by omega), ?_⟩
    rw [e]
    refine ⟨vp_in_nI (by omega) (by omega), nm_r (e' := putR ((60 + T) * 6) (x + 1) a_value a_tuple) ?_ (nm_r (e' := nI (x + 1)) (nI_1 _) (ih (x + 1) (by omega)))⟩
    rw [nI_clamp (by omega), nI_clamp (by omega), pt_s]
theorem yt_143 {post : Int32 → SY → Prop} (hn : n ≤ 6) (hT : T ≤ 10) (htc : a_tuples 6 = nI T)
    (h1 : (∃ t, t < T ∧ ∀ x, x < n → bt (a_scope 6) x = true → a_tuple ((6 * 10 + t) * 6 + x) = a_value x) → post (-15) (nI n, nI V, f_maxPosted, f_maxLevel, f_now, f_state, f_direction, f_found, f_place, a_dom, a_status, a_count, a_kind, a_scope, a_low, a_high, a_coef, a_tuples, a_tuple, a_solution, a_value, a_work, a_seen, a_args)) (h2 : (¬ ∃ t, t < T ∧ ∀ x, x < n → bt (a_scope 6) x = true → a_tuple ((6 * 10 + t) * 6 + x) = a_value x) → T = 10 → post (-13) (nI n, nI V, f_maxPosted, f_maxLevel, f_now, f_state, f_direction, f_found, f_place, a_dom, a_status, a_count, a_kind, a_scope, a_low, a_high, a_coef, a_tuples, a_tuple, a_solution, a_value, a_work, a_seen, a_args))
    (h3 : (¬ ∃ t, t < T ∧ ∀ x, x < n → bt (a_scope 6) x = true → a_tuple ((6 * 10 + t) * 6 + x) = a_value x) → T < 10 → post (nI (T + 1)) (nI n, nI V, f_maxPosted, f_maxLevel, f_now, f_state, f_direction, f_found, f_place, a_dom, a_status, a_count, a_kind, a_scope, a_low, a_high, a_coef, upd a_tuples 6 (nI (T + 1)), putR ((60 + T) * 6) 6 a_value a_tuple, a_solution, a_value, a_work, a_seen, a_args)) : wY_addTuple_143 post (nI n) (nI V) f_maxPosted f_maxLevel f_now f_state f_direction f_found f_place a_dom a_status a_count a_kind a_scope a_low a_high a_coef a_tuples a_tuple a_solution a_value a_work a_seen a_args := by
  unfold wY_addTuple_143
  refine ys_it (c := 6) hn (by omega) hT htc (fun q => br_f (by decide) (h1 q)) (fun q => br_t rfl (nm_r (e' := nI T) htc ?_))
  rcases Nat.lt_or_ge T 10 with z | z
  · refine br_t (nI_lt (b := 10) z (by decide)) (Exists.intro 7 ?_)
    have H := yt_177 z (h3 q z) 6 0 (by omega)
    rw [pt_0] at H
    exact H
  · exact br_f (nI_nlt (b := 10) z (by omega)) (h2 q (by omega))
end
end
section
/-! propagate's end, endSearch, reset, clamp: the walk -/
section
variable {f_varCount f_valueCount f_maxConstraints f_maxLevel f_allValues f_allVars f_status f_currentLevel f_constraintCount f_searchState f_searchDirection f_foundCount f_depth f_trailSize f_queueHead f_queueSize f_pendingMask f_scopeSize : Int32} {a_dom a_savedDom a_savedCount a_savedStatus a_kindOf a_scopeOf a_lowBound a_highBound a_tupleCount a_coef a_tuples a_newTuple a_solution a_todo a_mark a_work a_trailVar a_trailMask a_queue a_inVar a_inMask a_outMask a_matchOf a_owner a_reachedFrom a_bfs a_reach a_termCoef a_termMin a_span a_forward a_backward : Nat → Int32} {n : Nat}
theorem xq_31 {post : Int32 → SX → Prop} (hn : n ≤ 6) (hP : post (nI (rmN a_dom a_work n)) (nI n, f_valueCount, f_maxConstraints, f_maxLevel, f_allValues, f_allVars, 2, f_currentLevel, f_constraintCount, f_searchState, f_searchDirection, f_foundCount, f_depth, f_trailSize, f_queueHead, f_queueSize, f_pendingMask, f_scopeSize, putR 0 n a_work a_dom, a_savedDom, a_savedCount, a_savedStatus, a_kindOf, a_scopeOf, a_lowBound, a_highBound, a_tupleCount, a_coef, a_tuples, a_newTuple, a_solution, a_todo, a_mark, a_work, a_trailVar, a_trailMask, a_queue, a_inVar, a_inMask, a_outMask, a_matchOf, a_owner, a_reachedFrom, a_bfs, a_reach, a_termCoef, a_termMin, a_span, a_forward, a_backward)) :
    ∀ d x : Nat, x + d = n → wX_propagate_31 post (nI n) f_valueCount f_maxConstraints f_maxLevel f_allValues f_allVars f_status f_currentLevel f_constraintCount f_searchState f_searchDirection f_foundCount f_depth f_trailSize f_queueHead f_queueSize f_pendingMask f_scopeSize (d + 1) (nI (rmN a_dom a_work x)) (nI x) (putR 0 x a_work a_dom) a_savedDom a_savedCount a_savedStatus a_kindOf a_scopeOf a_lowBound a_highBound a_tupleCount a_coef a_tuples a_newTuple a_solution a_todo a_mark a_work a_trailVar a_trailMask a_queue a_inVar a_inMask a_outMask a_matchOf a_owner a_reachedFrom a_bfs a_reach a_termCoef a_termMin a_span a_forward a_backward := by
  intro d
  induction d with
  | zero =>
    intro x hx
    obtain rfl : x = n := by omega
    exact br_t (nI_le (Nat.le_refl _) (by omega)) hP
  | succ d ih =>
    intro x hx
    have hcx : (nI x).toNatClampNeg = x := nI_clamp (by omega)
    refine br_f (nI_ge (by omega) (by omega)) ⟨vp_in_nI (by omega) (by omega), vp_in_nI (by omega) (by omega), ?_⟩
    rw [hcx]
    refine xh_cb (nm_r (e' := nI (rmN a_dom a_work (x + 1))) ?_ ⟨vp_in_nI (by omega) (by omega), vp_in_nI (by omega) (by omega), nm_r (e' := putR 0 (x + 1) a_work a_dom) ?_ (nm_r (e' := nI (x + 1)) (nI_1 _) (ih (x + 1) (by omega)))⟩)
    · rw [nI_add, pt_out (by omega)]; rfl
    · have := pt_s 0 x a_work a_dom
      rw [Nat.zero_add] at this
      exact this
theorem xq_end {post : Int32 → SX → Prop} (hn : n ≤ 6) (hP : post (nI (rmN a_dom a_work n)) (nI n, f_valueCount, f_maxConstraints, f_maxLevel, f_allValues, f_allVars, 2, f_currentLevel, f_constraintCount, f_searchState, f_searchDirection, f_foundCount, f_depth, f_trailSize, f_queueHead, f_queueSize, f_pendingMask, f_scopeSize, putR 0 n a_work a_dom, a_savedDom, a_savedCount, a_savedStatus, a_kindOf, a_scopeOf, a_lowBound, a_highBound, a_tupleCount, a_coef, a_tuples, a_newTuple, a_solution, a_todo, a_mark, a_work, a_trailVar, a_trailMask, a_queue, a_inVar, a_inMask, a_outMask, a_matchOf, a_owner, a_reachedFrom, a_bfs, a_reach, a_termCoef, a_termMin, a_span, a_forward, a_backward)) : ∃ n31 : Nat, wX_propagate_31 post (nI n) f_valueCount f_maxConstraints f_maxLevel f_allValues f_allVars f_status f_currentLevel f_constraintCount f_searchState f_searchDirection f_foundCount f_depth f_trailSize f_queueHead f_queueSize f_pendingMask f_scopeSize n31 0 0 a_dom a_savedDom a_savedCount a_savedStatus a_kindOf a_scopeOf a_lowBound a_highBound a_tupleCount a_coef a_tuples a_newTuple a_solution a_todo a_mark a_work a_trailVar a_trailMask a_queue a_inVar a_inMask a_outMask a_matchOf a_owner a_reachedFrom a_bfs a_reach a_termCoef a_termMin a_span a_forward a_backward := by
  have H := xq_31 (f_status := f_status) hn hP n 0 (by omega)
  rw [pt_0] at H
  exact ⟨n + 1, H⟩
theorem xn_E {post : Int32 → SX → Prop} {vs : Nat → Nat} (hn : n ≤ 6) (hw : ∀ x a, x < n → (bt (a_work x) a = true ↔ a = vs x)) (hvs : ∀ x, x < n → vs x < 6) (hP : post 2 (nI n, f_valueCount, f_maxConstraints, f_maxLevel, f_allValues, f_allVars, f_status, f_currentLevel, f_constraintCount, 2, f_searchDirection, f_foundCount + 1, f_depth, f_trailSize, f_queueHead, f_queueSize, f_pendingMask, f_scopeSize, a_dom, a_savedDom, a_savedCount, a_savedStatus, a_kindOf, a_scopeOf, a_lowBound, a_highBound, a_tupleCount, a_coef, a_tuples, a_newTuple, putR 0 n (fun x => nI (vs x)) a_solution, a_todo, a_mark, a_work, a_trailVar, a_trailMask, a_queue, a_inVar, a_inMask, a_outMask, a_matchOf, a_owner, a_reachedFrom, a_bfs, a_reach, a_termCoef, a_termMin, a_span, a_forward, a_backward)) : ∃ n84 : Nat, wX_nextSolution_84 post (nI n) f_valueCount f_maxConstraints f_maxLevel f_allValues f_allVars f_status f_currentLevel f_constraintCount f_searchState f_searchDirection f_foundCount f_depth f_trailSize f_queueHead f_queueSize f_pendingMask f_scopeSize n84 0 a_dom a_savedDom a_savedCount a_savedStatus a_kindOf a_scopeOf a_lowBound a_highBound a_tupleCount a_coef a_tuples a_newTuple a_solution a_todo a_mark a_work a_trailVar a_trailMask a_queue a_inVar a_inMask a_outMask a_matchOf a_owner a_reachedFrom a_bfs a_reach a_termCoef a_termMin a_span a_forward a_backward := by
  have H := xn_84 (f_searchState := f_searchState) (f_foundCount := f_foundCount) hn hw hvs hP n 0 (by omega)
  rw [pt_0] at H
  exact ⟨n + 1, H⟩
/-- the mask of the solution -/
def slM (sol : Nat → Int32) : Nat → Int32 := fun x => (1 : Int32) <<< (sol x &&& 31)
theorem xe_27 {post : Int32 → SX → Prop} (hn : n ≤ 6) (hP : post (nI (rmN a_dom (slM a_solution) n)) (nI n, f_valueCount, f_maxConstraints, f_maxLevel, f_allValues, f_allVars, 2, f_currentLevel, f_constraintCount, 0, 0, 0, f_depth, f_trailSize, f_queueHead, f_queueSize, f_pendingMask, f_scopeSize, putR 0 n (slM a_solution) a_dom, a_savedDom, a_savedCount, a_savedStatus, a_kindOf, a_scopeOf, a_lowBound, a_highBound, a_tupleCount, a_coef, a_tuples, a_newTuple, a_solution, a_todo, a_mark, a_work, a_trailVar, a_trailMask, a_queue, a_inVar, a_inMask, a_outMask, a_matchOf, a_owner, a_reachedFrom, a_bfs, a_reach, a_termCoef, a_termMin, a_span, a_forward, a_backward)) :
    ∀ d x : Nat, x + d = n → wX_endSearch_27 post (nI n) f_valueCount f_maxConstraints f_maxLevel f_allValues f_allVars f_status f_currentLevel f_constraintCount f_searchState f_searchDirection f_foundCount f_depth f_trailSize f_queueHead f_queueSize f_pendingMask f_scopeSize (d + 1) (nI (rmN a_dom (slM a_solution) x)) (nI x) (putR 0 x (slM a_solution) a_dom) a_savedDom a_savedCount a_savedStatus a_kindOf a_scopeOf a_lowBound a_highBound a_tupleCount a_coef a_tuples a_newTuple a_solution a_todo a_mark a_work a_trailVar a_trailMask a_queue a_inVar a_inMask a_outMask a_matchOf a_owner a_reachedFrom a_bfs a_reach a_termCoef a_termMin a_span a_forward a_backward := by
  intro d
  induction d with
  | zero =>
    intro x hx
    obtain rfl : x = n := by omega
    exact br_t (nI_le (Nat.le_refl _) (by omega)) hP
  | succ d ih =>
    intro x hx
    have hcx : (nI x).toNatClampNeg = x := nI_clamp (by omega)
    refine br_f (nI_ge (by omega) (by omega)) ⟨vp_in_nI (by omega) (by omega), ?_⟩
    rw [hcx]
    refine nm_r (e' := slM a_solution x) rfl ⟨vp_in_nI (by omega) (by omega), xh_cb (nm_r (e' := nI (rmN a_dom (slM a_solution) (x + 1))) ?_ ⟨vp_in_nI (by omega) (by omega), nm_r (e' := putR 0 (x + 1) (slM a_solution) a_dom) ?_ (nm_r (e' := nI (x + 1)) (nI_1 _) (ih (x + 1) (by omega)))⟩)⟩
    · rw [nI_add, pt_out (by omega)]; rfl
    · have := pt_s 0 x (slM a_solution) a_dom
      rw [Nat.zero_add] at this
      exact this
theorem xe_end {post : Int32 → SX → Prop} (hn : n ≤ 6) (hP : post (nI (rmN a_dom (slM a_solution) n)) (nI n, f_valueCount, f_maxConstraints, f_maxLevel, f_allValues, f_allVars, 2, f_currentLevel, f_constraintCount, 0, 0, 0, f_depth, f_trailSize, f_queueHead, f_queueSize, f_pendingMask, f_scopeSize, putR 0 n (slM a_solution) a_dom, a_savedDom, a_savedCount, a_savedStatus, a_kindOf, a_scopeOf, a_lowBound, a_highBound, a_tupleCount, a_coef, a_tuples, a_newTuple, a_solution, a_todo, a_mark, a_work, a_trailVar, a_trailMask, a_queue, a_inVar, a_inMask, a_outMask, a_matchOf, a_owner, a_reachedFrom, a_bfs, a_reach, a_termCoef, a_termMin, a_span, a_forward, a_backward)) : ∃ n27 : Nat, wX_endSearch_27 post (nI n) f_valueCount f_maxConstraints f_maxLevel f_allValues f_allVars f_status f_currentLevel f_constraintCount f_searchState f_searchDirection f_foundCount f_depth f_trailSize f_queueHead f_queueSize f_pendingMask f_scopeSize n27 0 0 a_dom a_savedDom a_savedCount a_savedStatus a_kindOf a_scopeOf a_lowBound a_highBound a_tupleCount a_coef a_tuples a_newTuple a_solution a_todo a_mark a_work a_trailVar a_trailMask a_queue a_inVar a_inMask a_outMask a_matchOf a_owner a_reachedFrom a_bfs a_reach a_termCoef a_termMin a_span a_forward a_backward := by
  have H := xe_27 (f_status := f_status) (f_searchState := f_searchState) (f_searchDirection := f_searchDirection) (f_foundCount := f_foundCount) hn hP n 0 (by omega)
  rw [pt_0] at H
  exact ⟨n + 1, H⟩
end
section
variable {f_varCount f_valueCount f_maxConstraints f_maxLevel f_allValues f_allVars f_status f_currentLevel f_constraintCount f_searchState f_searchDirection f_foundCount f_depth f_trailSize f_queueHead f_queueSize f_pendingMask f_scopeSize : Int32} {a_dom a_savedDom a_savedCount a_savedStatus a_kindOf a_scopeOf a_lowBound a_highBound a_tupleCount a_coef a_tuples a_newTuple a_solution a_todo a_mark a_work a_trailVar a_trailMask a_queue a_inVar a_inMask a_outMask a_matchOf a_owner a_reachedFrom a_bfs a_reach a_termCoef a_termMin a_span a_forward a_backward : Nat → Int32}
theorem xr_2 {post : SX → Prop} (hP : post (f_varCount, f_valueCount, f_maxConstraints, f_maxLevel, f_allValues, f_allVars, 1, 0, 0, 0, 0, 0, f_depth, f_trailSize, f_queueHead, f_queueSize, f_pendingMask, f_scopeSize, putR 0 6 (fun _ => f_allValues) a_dom, a_savedDom, a_savedCount, a_savedStatus, upd a_kindOf 6 0, upd a_scopeOf 6 0, upd a_lowBound 6 0, upd a_highBound 6 0, upd a_tupleCount 6 0, putR 36 6 (fun _ => 0) a_coef, a_tuples, a_newTuple, a_solution, a_todo, a_mark, a_work, a_trailVar, a_trailMask, a_queue, a_inVar, a_inMask, a_outMask, a_matchOf, a_owner, a_reachedFrom, a_bfs, a_reach, a_termCoef, a_termMin, a_span, a_forward, a_backward)) :
    ∀ d x : Nat, x + d = 6 → wX_reset_2 post f_varCount f_valueCount f_maxConstraints f_maxLevel f_allValues f_allVars f_status f_currentLevel f_constraintCount f_searchState f_searchDirection f_foundCount f_depth f_trailSize f_queueHead f_queueSize f_pendingMask f_scopeSize (d + 1) (nI x) (putR 0 x (fun _ => f_allValues) a_dom) a_savedDom a_savedCount a_savedStatus a_kindOf a_scopeOf a_lowBound a_highBound a_tupleCount (putR 36 x (fun _ => 0) a_coef) a_tuples a_newTuple a_solution a_todo a_mark a_work a_trailVar a_trailMask a_queue a_inVar a_inMask a_outMask a_matchOf a_owner a_reachedFrom a_bfs a_reach a_termCoef a_termMin a_span a_forward a_backward := by
  intro d
  induction d with
  | zero =>
    intro x hx
    obtain rfl : x = 6 := by omega
    exact br_t (by decide) (nm_e (nm_e (nm_e (nm_e (nm_e hP)))))
  | succ d ih =>
    intro x hx
    have e36 : (36 + nI x : Int32) = nI (36 + x) := nI_add 36 x
    refine br_f (nI_ge (b := 6) (by omega) (by decide)) ⟨vp_in_nI (by omega) (by omega), ?_⟩
    rw [e36]
    refine nm_r (e' := putR 0 (x + 1) (fun _ => f_allValues) a_dom) ?_ ⟨vp_in_nI (by omega) (by omega), nm_r (e' := putR 36 (x + 1) (fun _ => 0) a_coef) ?_ (nm_r (e' := nI (x + 1)) (nI_1 _) (ih (x + 1) (by omega)))⟩
    · rw [nI_clamp (by omega)]
      have := pt_s 0 x (fun _ => f_allValues) a_dom
      rw [Nat.zero_add] at this
      exact this
    · rw [nI_clamp (by omega)]
      exact pt_s 36 x (fun _ => 0) a_coef
theorem xr_reset {post : SX → Prop} (hP : post (f_varCount, f_valueCount, f_maxConstraints, f_maxLevel, f_allValues, f_allVars, 1, 0, 0, 0, 0, 0, f_depth, f_trailSize, f_queueHead, f_queueSize, f_pendingMask, f_scopeSize, putR 0 6 (fun _ => f_allValues) a_dom, a_savedDom, a_savedCount, a_savedStatus, upd a_kindOf 6 0, upd a_scopeOf 6 0, upd a_lowBound 6 0, upd a_highBound 6 0, upd a_tupleCount 6 0, putR 36 6 (fun _ => 0) a_coef, a_tuples, a_newTuple, a_solution, a_todo, a_mark, a_work, a_trailVar, a_trailMask, a_queue, a_inVar, a_inMask, a_outMask, a_matchOf, a_owner, a_reachedFrom, a_bfs, a_reach, a_termCoef, a_termMin, a_span, a_forward, a_backward)) : wpX_reset post (f_varCount, f_valueCount, f_maxConstraints, f_maxLevel, f_allValues, f_allVars, f_status, f_currentLevel, f_constraintCount, f_searchState, f_searchDirection, f_foundCount, f_depth, f_trailSize, f_queueHead, f_queueSize, f_pendingMask, f_scopeSize, a_dom, a_savedDom, a_savedCount, a_savedStatus, a_kindOf, a_scopeOf, a_lowBound, a_highBound, a_tupleCount, a_coef, a_tuples, a_newTuple, a_solution, a_todo, a_mark, a_work, a_trailVar, a_trailMask, a_queue, a_inVar, a_inMask, a_outMask, a_matchOf, a_owner, a_reachedFrom, a_bfs, a_reach, a_termCoef, a_termMin, a_span, a_forward, a_backward) := by
  have H := xr_2 (f_status := f_status) (f_currentLevel := f_currentLevel) (f_constraintCount := f_constraintCount) (f_searchState := f_searchState) (f_searchDirection := f_searchDirection) (f_foundCount := f_foundCount) hP 6 0 (by omega)
  rw [pt_0, pt_0] at H
  exact Exists.intro 7 H
/-- the clamped number -/
def clm (p : Int32) (lo hi m : Nat) : Prop := lo ≤ m ∧ m ≤ hi ∧ ((¬ nI lo ≤ p ∧ m = lo) ∨ (nI lo ≤ p ∧ p ≤ nI hi ∧ p = nI m) ∨ (nI lo ≤ p ∧ ¬ p ≤ nI hi ∧ m = hi))
theorem cl_ex (p : Int32) {lo hi : Nat} (h : lo ≤ hi) (hh : hi < 1000) : ∃ m, clm p lo hi m := by
  by_cases c1 : nI lo ≤ p
  · by_cases c2 : p ≤ nI hi
    · have c1' := c1
      rw [Int32.le_iff_toInt_le, nI_toInt (by omega)] at c1'
      have c2' := c2
      rw [Int32.le_iff_toInt_le, nI_toInt (by omega)] at c2'
      refine ⟨p.toInt.toNat, by omega, by omega, Or.inr (Or.inl ⟨c1, c2, ?_⟩)⟩
      apply Int32.toInt_inj.mp
      rw [nI_toInt (by omega)]; omega
    · exact ⟨hi, h, Nat.le_refl _, Or.inr (Or.inr ⟨c1, c2, rfl⟩)⟩
  · exact ⟨lo, Nat.le_refl _, h, Or.inl ⟨c1, rfl⟩⟩
theorem xk_clamp {post : Int32 → Prop} {p : Int32} {lo hi m : Nat} (h : clm p lo hi m) (hP : post (nI m)) : wpX_clamp post (f_varCount, f_valueCount, f_maxConstraints, f_maxLevel, f_allValues, f_allVars, f_status, f_currentLevel, f_constraintCount, f_searchState, f_searchDirection, f_foundCount, f_depth, f_trailSize, f_queueHead, f_queueSize, f_pendingMask, f_scopeSize, a_dom, a_savedDom, a_savedCount, a_savedStatus, a_kindOf, a_scopeOf, a_lowBound, a_highBound, a_tupleCount, a_coef, a_tuples, a_newTuple, a_solution, a_todo, a_mark, a_work, a_trailVar, a_trailMask, a_queue, a_inVar, a_inMask, a_outMask, a_matchOf, a_owner, a_reachedFrom, a_bfs, a_reach, a_termCoef, a_termMin, a_span, a_forward, a_backward) p (nI lo) (nI hi) := by
  rcases h.2.2 with ⟨c1, e⟩ | ⟨c1, c2, e⟩ | ⟨c1, c2, e⟩
  · subst e; exact br_f c1 hP
  · refine br_t c1 (br_t c2 ?_)
    rw [e]; exact hP
  · subst e; exact br_t c1 (br_f c2 hP)
end
section
variable {f_n f_v f_maxPosted f_maxLevel f_now f_state f_direction f_found f_place : Int32} {a_dom a_status a_count a_kind a_scope a_low a_high a_coef a_tuples a_tuple a_solution a_value a_work a_seen a_args : Nat → Int32}
theorem yk_clamp {post : Int32 → Prop} {p : Int32} {lo hi m : Nat} (h : clm p lo hi m) (hP : post (nI m)) : wpY_clamp post (f_n, f_v, f_maxPosted, f_maxLevel, f_now, f_state, f_direction, f_found, f_place, a_dom, a_status, a_count, a_kind, a_scope, a_low, a_high, a_coef, a_tuples, a_tuple, a_solution, a_value, a_work, a_seen, a_args) p (nI lo) (nI hi) := by
  rcases h.2.2 with ⟨c1, e⟩ | ⟨c1, c2, e⟩ | ⟨c1, c2, e⟩
  · subst e; exact br_f c1 hP
  · refine br_t c1 (br_t c2 ?_)
    rw [e]; exact hP
  · subst e; exact br_t c1 (br_f c2 hP)
theorem yr_21 {post : SY → Prop} (hP : post (f_n, f_v, f_maxPosted, f_maxLevel, f_now, 0, 0, 0, f_place, putR 0 6 (fun _ => ((1 : Int32) <<< (f_v &&& 31)) - 1) a_dom, a_status, a_count, a_kind, upd a_scope 6 0, a_low, a_high, putR 36 6 (fun _ => 0) a_coef, upd a_tuples 6 0, a_tuple, a_solution, a_value, a_work, a_seen, a_args)) :
    ∀ d x : Nat, x + d = 6 → wY_reset_21 post f_n f_v f_maxPosted f_maxLevel f_now f_state f_direction f_found f_place (d + 1) (nI x) (putR 0 x (fun _ => ((1 : Int32) <<< (f_v &&& 31)) - 1) a_dom) a_status a_count a_kind a_scope a_low a_high (putR 36 x (fun _ => 0) a_coef) a_tuples a_tuple a_solution a_value a_work a_seen a_args := by
  intro d
  induction d with
  | zero =>
    intro x hx
    obtain rfl : x = 6 := by omega
    exact br_t (by decide) (nm_e (nm_e hP))
  | succ d ih =>
    intro x hx
    have e36 : (36 + nI x : Int32) = nI (36 + x) := nI_add 36 x
    refine br_f (nI_ge (b := 6) (by omega) (by decide)) ⟨vp_in_nI (by omega) (by omega), ?_⟩
    rw [e36]
    refine nm_r (e' := putR 0 (x + 1) (fun _ => ((1 : Int32) <<< (f_v &&& 31)) - 1) a_dom) ?_ ⟨vp_in_nI (by omega) (by omega), nm_r (e' := putR 36 (x + 1) (fun _ => 0) a_coef) ?_ (nm_r (e' := nI (x + 1)) (nI_1 _) (ih (x + 1) (by omega)))⟩
    · rw [nI_clamp (by omega)]
      have := pt_s 0 x (fun _ => ((1 : Int32) <<< (f_v &&& 31)) - 1) a_dom
      rw [Nat.zero_add] at this
      exact this
    · rw [nI_clamp (by omega)]
      exact pt_s 36 x (fun _ => 0) a_coef
theorem yr_reset {post : SY → Prop} (hP : post (f_n, f_v, f_maxPosted, f_maxLevel, 0, 0, 0, 0, f_place, putR 0 6 (fun _ => ((1 : Int32) <<< (f_v &&& 31)) - 1) a_dom, upd a_status 0 1, upd a_count 0 0, a_kind, upd a_scope 6 0, a_low, a_high, putR 36 6 (fun _ => 0) a_coef, upd a_tuples 6 0, a_tuple, a_solution, a_value, a_work, a_seen, a_args)) : wpY_reset post (f_n, f_v, f_maxPosted, f_maxLevel, f_now, f_state, f_direction, f_found, f_place, a_dom, a_status, a_count, a_kind, a_scope, a_low, a_high, a_coef, a_tuples, a_tuple, a_solution, a_value, a_work, a_seen, a_args) := by
  have H := yr_21 (f_state := f_state) (f_direction := f_direction) (f_found := f_found) hP 6 0 (by omega)
  rw [pt_0, pt_0] at H
  exact nm_e (nm_e (Exists.intro 7 H))
variable {n L : Nat}
theorem ye_27 {post : Int32 → SY → Prop} (hn : n ≤ 6) (hL : L < 6) {w0 : Nat → Int32} (hP : post (nI (rmN (fun x => a_dom (L * 6 + x)) (putR 0 n (slM a_solution) w0) n)) (nI n, f_v, f_maxPosted, f_maxLevel, nI L, 0, 0, 0, f_place, putR (L * 6) n (putR 0 n (slM a_solution) w0) a_dom, upd a_status L 2, a_count, a_kind, a_scope, a_low, a_high, a_coef, a_tuples, a_tuple, a_solution, a_value, putR 0 n (slM a_solution) w0, a_seen, a_args)) :
    ∀ d x : Nat, x + d = n → wY_endSearch_27 post (nI n) f_v f_maxPosted f_maxLevel (nI L) f_state f_direction f_found f_place (d + 1) (nI x) a_dom a_status a_count a_kind a_scope a_low a_high a_coef a_tuples a_tuple a_solution a_value (putR 0 x (slM a_solution) w0) a_seen a_args := by
  intro d
  induction d with
  | zero =>
    intro x hx
    obtain rfl : x = n := by omega
    exact br_t (nI_le (Nat.le_refl _) (by omega)) (yp_tw hn hL ⟨vp_in_nI hL (by omega), nm_r (e' := upd a_status L 2) (by rw [nI_clamp (by omega)]) hP⟩)
  | succ d ih =>
    intro x hx
    have hcx : (nI x).toNatClampNeg = x := nI_clamp (by omega)
    refine br_f (nI_ge (by omega) (by omega)) ⟨vp_in_nI (by omega) (by omega), vp_in_nI (by omega) (by omega), nm_r (e' := putR 0 (x + 1) (slM a_solution) w0) ?_ (nm_r (e' := nI (x + 1)) (nI_1 _) (ih (x + 1) (by omega)))⟩
    rw [hcx]
    have := pt_s 0 x (slM a_solution) w0
    rw [Nat.zero_add] at this
    exact this
theorem ye_end {post : Int32 → SY → Prop} (hn : n ≤ 6) (hL : L < 6) (hP : ∀ w : Nat → Int32, (∀ x, x < n → w x = slM a_solution x) → post (nI (rmN (fun x => a_dom (L * 6 + x)) w n)) (nI n, f_v, f_maxPosted, f_maxLevel, nI L, 0, 0, 0, f_place, putR (L * 6) n w a_dom, upd a_status L 2, a_count, a_kind, a_scope, a_low, a_high, a_coef, a_tuples, a_tuple, a_solution, a_value, w, a_seen, a_args)) : ∃ n27 : Nat, wY_endSearch_27 post (nI n) f_v f_maxPosted f_maxLevel (nI L) f_state f_direction f_found f_place n27 0 a_dom a_status a_count a_kind a_scope a_low a_high a_coef a_tuples a_tuple a_solution a_value a_work a_seen a_args := by
  have H := ye_27 (f_state := f_state) (f_direction := f_direction) (f_found := f_found) (a_status := a_status) (a_dom := a_dom) (w0 := a_work) hn hL (hP (putR 0 n (slM a_solution) a_work) (fun x hx => by
    have := pt_in (b := 0) (w := slM a_solution) (f := a_work) hx
    rw [Nat.zero_add] at this
    exact this)) n 0 (by omega)
  rw [pt_0] at H
  exact ⟨n + 1, H⟩
end
end
section
/-! the relation -/
section
def RA (n V mc ml L : Nat) : Prop := 2 ≤ n ∧ n ≤ 6 ∧ 2 ≤ V ∧ V ≤ 6 ∧ 1 ≤ mc ∧ mc ≤ 6 ∧ ml ≤ 5 ∧ L ≤ ml
def RB (V L : Nat) (ct : Nat → Nat) (f_status : Int32) (a_dom a_savedDom a_savedCount a_savedStatus y_dom y_status y_count : Nat → Int32) : Prop :=
  (∀ x, x < 6 → y_dom (L * 6 + x) = a_dom x) ∧ (∀ l x, l < L → x < 6 → y_dom (l * 6 + x) = a_savedDom (l * 6 + x)) ∧ (∀ l x, l ≤ L → x < 6 → Msk V (y_dom (l * 6 + x)) ∧ ∃ a, bt (y_dom (l * 6 + x)) a = true) ∧
  y_status L = f_status ∧ (∀ l, l < L → y_status l = a_savedStatus l) ∧ (∀ l, l ≤ L → y_count l = nI (ct l)) ∧ (∀ l, l < L → a_savedCount l = nI (ct l)) ∧ (∀ l, l < L → ct l ≤ ct (l + 1))
def RC (n V mc cnt : Nat) (kd sc lo hi tc co xt tu : Nat → Int32) : Prop :=
  cnt ≤ mc ∧ (∀ c, c < cnt → COk n V kd sc tc co xt tu c) ∧ kd 6 = 0 ∧ lo 6 = 0 ∧ hi 6 = 0 ∧ Msk n (sc 6) ∧ pcN (sc 6) 6 ≤ 4 ∧ TOk n V sc tc xt tu 6 ∧
  (∀ x, x < 6 → ∃ z : Int, -3 ≤ z ∧ z ≤ 3 ∧ co (36 + x) = iZ z) ∧ (∀ x, n ≤ x → x < 6 → co (36 + x) = 0)
def RS (n V cnt : Nat) (S : Nat → Int32) (H : Nat → (Nat → Nat) → Prop) (D : Nat → Int32) (st dir f_depth f_trailSize f_place : Int32) (td mk w tv tm sol : Nat → Int32) : Prop :=
  (st = 0 ∨ st = 1 ∨ st = 2 ∨ st = 3) ∧ (st = 1 → f_place = -1) ∧
  (st = 2 → (∃ (pl ts : Nat) (W : Nat → Nat → Int32) (p mN : Nat → Nat), f_place + 1 = nI pl ∧ pl ≤ 6 ^ n ∧ f_trailSize = nI ts ∧ f_depth = nI (n - 1) ∧ SI n V cnt S H D dir (n - 1) td mk ts tv tm w W p mN ∧
    ∀ val, Sol n cnt H D val → (Rm (n - 1) td p val ↔ pl ≤ rnk dir n val)) ∧ ∀ x, x < n → ∃ a, a < V ∧ sol x = nI a)
theorem rs_0 {n V cnt : Nat} {S : Nat → Int32} {H : Nat → (Nat → Nat) → Prop} {D : Nat → Int32} {st dir f_depth f_trailSize f_place : Int32} {td mk w tv tm sol : Nat → Int32} (h : st = 0) : RS n V cnt S H D st dir f_depth f_trailSize f_place td mk w tv tm sol := by
  subst h
  exact ⟨Or.inl rfl, fun e => absurd e (by decide), fun e => absurd e (by decide)⟩
theorem rs_3 {n V cnt : Nat} {S : Nat → Int32} {H : Nat → (Nat → Nat) → Prop} {D : Nat → Int32} {dir f_depth f_trailSize f_place : Int32} {td mk w tv tm sol : Nat → Int32} : RS n V cnt S H D 3 dir f_depth f_trailSize f_place td mk w tv tm sol :=
  ⟨Or.inr (Or.inr (Or.inr rfl)), fun e => absurd e (by decide), fun e => absurd e (by decide)⟩
/-- the relation of the two states -/
def i_Rel (_ : Nat) (u : SX) (v : SY) : Prop := ∃ (n V mc ml L : Nat) (ct : Nat → Nat) (f_status f_searchState f_searchDirection f_foundCount f_depth f_trailSize f_queueHead f_queueSize f_pendingMask f_scopeSize f_place : Int32) (a_dom a_savedDom a_savedCount a_savedStatus a_kindOf a_scopeOf a_lowBound a_highBound a_tupleCount a_coef a_tuples a_newTuple a_solution a_todo a_mark a_work a_trailVar a_trailMask a_queue a_inVar a_inMask a_outMask a_matchOf a_owner a_reachedFrom a_bfs a_reach a_termCoef a_termMin a_span a_forward a_backward y_dom y_status y_count y_tuple y_value y_work y_seen y_args : Nat → Int32), u = (nI n, nI V, nI mc, nI ml, allM V, allM n, f_status, nI L, nI (ct L), f_searchState, f_searchDirection, f_foundCount, f_depth, f_trailSize, f_queueHead, f_queueSize, f_pendingMask, f_scopeSize, a_dom, a_savedDom, a_savedCount, a_savedStatus, a_kindOf, a_scopeOf, a_lowBound, a_highBound, a_tupleCount, a_coef, a_tuples, a_newTuple, a_solution, a_todo, a_mark, a_work, a_trailVar, a_trailMask, a_queue, a_inVar, a_inMask, a_outMask, a_matchOf, a_owner, a_reachedFrom, a_bfs, a_reach, a_termCoef, a_termMin, a_span, a_forward, a_backward) ∧ v = (nI n, nI V, nI mc, nI ml, nI L, f_searchState, f_searchDirection, f_foundCount, f_place, y_dom, y_status, y_count, a_kindOf, a_scopeOf, a_lowBound, a_highBound, a_coef, a_tupleCount, y_tuple, a_solution, y_value, y_work, y_seen, y_args) ∧ RA n V mc ml L ∧ RB V L ct f_status a_dom a_savedDom a_savedCount a_savedStatus y_dom y_status y_count ∧ RC n V mc (ct L) a_kindOf a_scopeOf a_lowBound a_highBound a_tupleCount a_coef a_tuples y_tuple ∧ RS n V (ct L) a_scopeOf (Hd n a_kindOf a_scopeOf a_lowBound a_highBound a_tupleCount a_coef y_tuple) a_dom f_searchState f_searchDirection f_depth f_trailSize f_place a_todo a_mark a_work a_trailVar a_trailMask a_solution
theorem zz_el {k : Nat} {u : SX} {v : SY} {P : SX → SY → Prop} (I : i_Rel k u v) (h : ∀ (n V mc ml L : Nat) (ct : Nat → Nat) (f_status f_searchState f_searchDirection f_foundCount f_depth f_trailSize f_queueHead f_queueSize f_pendingMask f_scopeSize f_place : Int32) (a_dom a_savedDom a_savedCount a_savedStatus a_kindOf a_scopeOf a_lowBound a_highBound a_tupleCount a_coef a_tuples a_newTuple a_solution a_todo a_mark a_work a_trailVar a_trailMask a_queue a_inVar a_inMask a_outMask a_matchOf a_owner a_reachedFrom a_bfs a_reach a_termCoef a_termMin a_span a_forward a_backward y_dom y_status y_count y_tuple y_value y_work y_seen y_args : Nat → Int32), RA n V mc ml L → RB V L ct f_status a_dom a_savedDom a_savedCount a_savedStatus y_dom y_status y_count → RC n V mc (ct L) a_kindOf a_scopeOf a_lowBound a_highBound a_tupleCount a_coef a_tuples y_tuple → RS n V (ct L) a_scopeOf (Hd n a_kindOf a_scopeOf a_lowBound a_highBound a_tupleCount a_coef y_tuple) a_dom f_searchState f_searchDirection f_depth f_trailSize f_place a_todo a_mark a_work a_trailVar a_trailMask a_solution → P (nI n, nI V, nI mc, nI ml, allM V, allM n, f_status, nI L, nI (ct L), f_searchState, f_searchDirection, f_foundCount, f_depth, f_trailSize, f_queueHead, f_queueSize, f_pendingMask, f_scopeSize, a_dom, a_savedDom, a_savedCount, a_savedStatus, a_kindOf, a_scopeOf, a_lowBound, a_highBound, a_tupleCount, a_coef, a_tuples, a_newTuple, a_solution, a_todo, a_mark, a_work, a_trailVar, a_trailMask, a_queue, a_inVar, a_inMask, a_outMask, a_matchOf, a_owner, a_reachedFrom, a_bfs, a_reach, a_termCoef, a_termMin, a_span, a_forward, a_backward) (nI n, nI V, nI mc, nI ml, nI L, f_searchState, f_searchDirection, f_foundCount, f_place, y_dom, y_status, y_count, a_kindOf, a_scopeOf, a_lowBound, a_highBound, a_coef, a_tupleCount, y_tuple, a_solution, y_value, y_work, y_seen, y_args)) : P u v :=
  I.elim fun n I => I.elim fun V I => I.elim fun mc I => I.elim fun ml I => I.elim fun L I => I.elim fun ct I => I.elim fun f_status I => I.elim fun f_searchState I => I.elim fun f_searchDirection I => I.elim fun f_foundCount I => I.elim fun f_depth I => I.elim fun f_trailSize I => I.elim fun f_queueHead I => I.elim fun f_queueSize I => I.elim fun f_pendingMask I => I.elim fun f_scopeSize I => I.elim fun f_place I => I.elim fun a_dom I => I.elim fun a_savedDom I => I.elim fun a_savedCount I => I.elim fun a_savedStatus I => I.elim fun a_kindOf I => I.elim fun a_scopeOf I => I.elim fun a_lowBound I => I.elim fun a_highBound I => I.elim fun a_tupleCount I => I.elim fun a_coef I => I.elim fun a_tuples I => I.elim fun a_newTuple I => I.elim fun a_solution I => I.elim fun a_todo I => I.elim fun a_mark I => I.elim fun a_work I => I.elim fun a_trailVar I => I.elim fun a_trailMask I => I.elim fun a_queue I => I.elim fun a_inVar I => I.elim fun a_inMask I => I.elim fun a_outMask I => I.elim fun a_matchOf I => I.elim fun a_owner I => I.elim fun a_reachedFrom I => I.elim fun a_bfs I => I.elim fun a_reach I => I.elim fun a_termCoef I => I.elim fun a_termMin I => I.elim fun a_span I => I.elim fun a_forward I => I.elim fun a_backward I => I.elim fun y_dom I => I.elim fun y_status I => I.elim fun y_count I => I.elim fun y_tuple I => I.elim fun y_value I => I.elim fun y_work I => I.elim fun y_seen I => I.elim fun y_args I =>  by
    obtain ⟨e1, e2, a, b, c, d⟩ := I
    subst e1 e2
    exact h n V mc ml L ct f_status f_searchState f_searchDirection f_foundCount f_depth f_trailSize f_queueHead f_queueSize f_pendingMask f_scopeSize f_place a_dom a_savedDom a_savedCount a_savedStatus a_kindOf a_scopeOf a_lowBound a_highBound a_tupleCount a_coef a_tuples a_newTuple a_solution a_todo a_mark a_work a_trailVar a_trailMask a_queue a_inVar a_inMask a_outMask a_matchOf a_owner a_reachedFrom a_bfs a_reach a_termCoef a_termMin a_span a_forward a_backward y_dom y_status y_count y_tuple y_value y_work y_seen y_args a b c d
theorem zz_mk {k : Nat} {n V mc ml L : Nat} {ct : Nat → Nat} {f_status f_searchState f_searchDirection f_foundCount f_depth f_trailSize f_queueHead f_queueSize f_pendingMask f_scopeSize f_place : Int32} {a_dom a_savedDom a_savedCount a_savedStatus a_kindOf a_scopeOf a_lowBound a_highBound a_tupleCount a_coef a_tuples a_newTuple a_solution a_todo a_mark a_work a_trailVar a_trailMask a_queue a_inVar a_inMask a_outMask a_matchOf a_owner a_reachedFrom a_bfs a_reach a_termCoef a_termMin a_span a_forward a_backward y_dom y_status y_count y_tuple y_value y_work y_seen y_args : Nat → Int32} (hA : RA n V mc ml L) (hB : RB V L ct f_status a_dom a_savedDom a_savedCount a_savedStatus y_dom y_status y_count) (hC : RC n V mc (ct L) a_kindOf a_scopeOf a_lowBound a_highBound a_tupleCount a_coef a_tuples y_tuple) (hS : RS n V (ct L) a_scopeOf (Hd n a_kindOf a_scopeOf a_lowBound a_highBound a_tupleCount a_coef y_tuple) a_dom f_searchState f_searchDirection f_depth f_trailSize f_place a_todo a_mark a_work a_trailVar a_trailMask a_solution) : i_Rel k (nI n, nI V, nI mc, nI ml, allM V, allM n, f_status, nI L, nI (ct L), f_searchState, f_searchDirection, f_foundCount, f_depth, f_trailSize, f_queueHead, f_queueSize, f_pendingMask, f_scopeSize, a_dom, a_savedDom, a_savedCount, a_savedStatus, a_kindOf, a_scopeOf, a_lowBound, a_highBound, a_tupleCount, a_coef, a_tuples, a_newTuple, a_solution, a_todo, a_mark, a_work, a_trailVar, a_trailMask, a_queue, a_inVar, a_inMask, a_outMask, a_matchOf, a_owner, a_reachedFrom, a_bfs, a_reach, a_termCoef, a_termMin, a_span, a_forward, a_backward) (nI n, nI V, nI mc, nI ml, nI L, f_searchState, f_searchDirection, f_foundCount, f_place, y_dom, y_status, y_count, a_kindOf, a_scopeOf, a_lowBound, a_highBound, a_coef, a_tupleCount, y_tuple, a_solution, y_value, y_work, y_seen, y_args) :=
  ⟨n, V, mc, ml, L, ct, f_status, f_searchState, f_searchDirection, f_foundCount, f_depth, f_trailSize, f_queueHead, f_queueSize, f_pendingMask, f_scopeSize, f_place, a_dom, a_savedDom, a_savedCount, a_savedStatus, a_kindOf, a_scopeOf, a_lowBound, a_highBound, a_tupleCount, a_coef, a_tuples, a_newTuple, a_solution, a_todo, a_mark, a_work, a_trailVar, a_trailMask, a_queue, a_inVar, a_inMask, a_outMask, a_matchOf, a_owner, a_reachedFrom, a_bfs, a_reach, a_termCoef, a_termMin, a_span, a_forward, a_backward, y_dom, y_status, y_count, y_tuple, y_value, y_work, y_seen, y_args, rfl, rfl, hA, hB, hC, hS⟩
theorem zz_mk2 {k cnt : Nat} {n V mc ml L : Nat} {ct : Nat → Nat} {f_status f_searchState f_searchDirection f_foundCount f_depth f_trailSize f_queueHead f_queueSize f_pendingMask f_scopeSize f_place : Int32} {a_dom a_savedDom a_savedCount a_savedStatus a_kindOf a_scopeOf a_lowBound a_highBound a_tupleCount a_coef a_tuples a_newTuple a_solution a_todo a_mark a_work a_trailVar a_trailMask a_queue a_inVar a_inMask a_outMask a_matchOf a_owner a_reachedFrom a_bfs a_reach a_termCoef a_termMin a_span a_forward a_backward y_dom y_status y_count y_tuple y_value y_work y_seen y_args : Nat → Int32} (e : ct L = cnt) (hA : RA n V mc ml L) (hB : RB V L ct f_status a_dom a_savedDom a_savedCount a_savedStatus y_dom y_status y_count) (hC : RC n V mc cnt a_kindOf a_scopeOf a_lowBound a_highBound a_tupleCount a_coef a_tuples y_tuple) (hS : RS n V cnt a_scopeOf (Hd n a_kindOf a_scopeOf a_lowBound a_highBound a_tupleCount a_coef y_tuple) a_dom f_searchState f_searchDirection f_depth f_trailSize f_place a_todo a_mark a_work a_trailVar a_trailMask a_solution) : i_Rel k (nI n, nI V, nI mc, nI ml, allM V, allM n, f_status, nI L, nI cnt, f_searchState, f_searchDirection, f_foundCount, f_depth, f_trailSize, f_queueHead, f_queueSize, f_pendingMask, f_scopeSize, a_dom, a_savedDom, a_savedCount, a_savedStatus, a_kindOf, a_scopeOf, a_lowBound, a_highBound, a_tupleCount, a_coef, a_tuples, a_newTuple, a_solution, a_todo, a_mark, a_work, a_trailVar, a_trailMask, a_queue, a_inVar, a_inMask, a_outMask, a_matchOf, a_owner, a_reachedFrom, a_bfs, a_reach, a_termCoef, a_termMin, a_span, a_forward, a_backward) (nI n, nI V, nI mc, nI ml, nI L, f_searchState, f_searchDirection, f_foundCount, f_place, y_dom, y_status, y_count, a_kindOf, a_scopeOf, a_lowBound, a_highBound, a_coef, a_tupleCount, y_tuple, a_solution, y_value, y_work, y_seen, y_args) := by
  subst e
  exact zz_mk hA hB hC hS
theorem i_up {k : Nat} {u : SX} {v : SY} (h : i_Rel k u v) : i_Rel (k + 5) u v := h
/-- parts of the relation under changes -/
theorem rb_pv {V L : Nat} {ct : Nat → Nat} {f_status : Int32} {a_dom a_savedDom a_savedCount a_savedStatus y_dom y_status y_count : Nat → Int32} (h : RB V L ct f_status a_dom a_savedDom a_savedCount a_savedStatus y_dom y_status y_count) : PV V a_dom :=
  fun x hx => by rw [← h.1 x hx]; exact h.2.2.1 L x (Nat.le_refl _) hx
theorem rb_st {V L : Nat} {ct : Nat → Nat} {f_status : Int32} {a_dom a_savedDom a_savedCount a_savedStatus y_dom y_status y_count : Nat → Int32} (s : Int32) (h : RB V L ct f_status a_dom a_savedDom a_savedCount a_savedStatus y_dom y_status y_count) : RB V L ct s a_dom a_savedDom a_savedCount a_savedStatus y_dom (upd y_status L s) y_count := by
  obtain ⟨h1, h2, h3, h4, h5, h6⟩ := h
  exact ⟨h1, h2, h3, pk_us, fun l hl => by rw [pk_un (by omega)]; exact h5 l hl, h6⟩
theorem rb_dom {V L : Nat} {ct : Nat → Nat} {f_status : Int32} {a_dom a_savedDom a_savedCount a_savedStatus y_dom y_status y_count a_dom' y_dom' : Nat → Int32} (h : RB V L ct f_status a_dom a_savedDom a_savedCount a_savedStatus y_dom y_status y_count)
    (e1 : ∀ x, x < 6 → y_dom' (L * 6 + x) = a_dom' x) (e2 : ∀ j, j < L * 6 → y_dom' j = y_dom j) (e3 : PV V a_dom') : RB V L ct f_status a_dom' a_savedDom a_savedCount a_savedStatus y_dom' y_status y_count := by
  obtain ⟨h1, h2, h3, h4⟩ := h
  refine ⟨e1, fun l x hl hx => by rw [e2 _ (by omega)]; exact h2 l x hl hx, fun l x hl hx => ?_, h4⟩
  rcases Nat.lt_or_ge l L with z | z
  · rw [e2 _ (by omega)]; exact h3 l x hl hx
  · obtain rfl : l = L := by omega
    rw [e1 x hx]; exact e3 x hx
theorem rb_ct {V L c : Nat} {ct : Nat → Nat} {f_status : Int32} {a_dom a_savedDom a_savedCount a_savedStatus y_dom y_status y_count : Nat → Int32} (h : RB V L ct f_status a_dom a_savedDom a_savedCount a_savedStatus y_dom y_status y_count) (hc : ct L ≤ c) : RB V L (fun l => if l = L then c else ct l) f_status a_dom a_savedDom a_savedCount a_savedStatus y_dom y_status (upd y_count L (nI c)) := by
  obtain ⟨h1, h2, h3, h4, h5, h6, h7, h8⟩ := h
  refine ⟨h1, h2, h3, h4, h5, fun l hl => ?_, fun l hl => ?_, fun l hl => ?_⟩
  · show upd y_count L (nI c) l = nI (if l = L then c else ct l)
    by_cases z : l = L
    · rw [if_pos z, z, pk_us]
    · rw [if_neg z, pk_un z]; exact h6 l hl
  · show a_savedCount l = nI (if l = L then c else ct l)
    rw [if_neg (by omega)]; exact h7 l hl
  · show (if l = L then c else ct l) ≤ (if l + 1 = L then c else ct (l + 1))
    rw [if_neg (by omega)]
    have := h8 l hl
    by_cases z : l + 1 = L
    · rw [if_pos z]; rw [z] at this; omega
    · rw [if_neg z]; exact this
theorem TOk_c {n V : Nat} {sc tc xt tu sc' tc' xt' tu' : Nat → Int32} {c : Nat} (h : TOk n V sc tc xt tu c) (e1 : sc' c = sc c) (e2 : tc' c = tc c) (e3 : ∀ j, c * 40 ≤ j → j < c * 40 + 40 → xt' j = xt j) (e4 : ∀ j, c * 60 ≤ j → j < c * 60 + 60 → tu' j = tu j) (hn : n ≤ 6) (h4 : pcN (sc c) 6 ≤ 4 ∨ tc c = 0) : TOk n V sc' tc' xt' tu' c := by
  obtain ⟨T, h1, h2, h3⟩ := h
  refine ⟨T, h1, e2.trans h2, fun t x ht hx hb => ?_⟩
  rw [e1] at hb ⊢
  obtain ⟨a, a1, a2, a3⟩ := h3 t x ht hx hb
  have hp : pcN (sc c) x < 4 := by
    rcases h4 with h4 | h4
    · have := pc_lt hb (show x < 6 by omega); omega
    · rw [h2] at h4
      have : T = 0 := nI_inj (by omega) (by omega) h4
      omega
  exact ⟨a, a1, by rw [e4 _ (by omega) (by omega)]; exact a2, by rw [e3 _ (by omega) (by omega)]; exact a3⟩
end
end
section
/-! the reading methods -/
theorem big_gt {c : Int32} {L : Nat} (hL : L < 1000) (h : nI (L + 1) ≤ c) : ¬ c < 0 ∧ ¬ c ≤ nI L ∧ nI L < c := by
  rw [Int32.le_iff_toInt_le, nI_toInt (by omega)] at h
  refine ⟨?_, ?_, ?_⟩
  · rw [Int32.lt_iff_toInt_lt, show (0 : Int32).toInt = 0 by decide]; omega
  · rw [Int32.le_iff_toInt_le, nI_toInt (by omega)]; omega
  · rw [Int32.lt_iff_toInt_lt, nI_toInt (by omega)]; omega
theorem neg_ne {c : Int32} (h : c < 0) (j : Nat) (hj : j < 1000) : ¬ c = nI j ∧ ¬ nI j ≤ c ∧ c < nI j ∧ c ≤ nI j := by
  rw [Int32.lt_iff_toInt_lt, show (0 : Int32).toInt = 0 by decide] at h
  refine ⟨fun e => ?_, ?_, ?_, ?_⟩
  · rw [e, nI_toInt (by omega)] at h; omega
  · rw [Int32.le_iff_toInt_le, nI_toInt (by omega)]; omega
  · rw [Int32.lt_iff_toInt_lt, nI_toInt (by omega)]; omega
  · rw [Int32.le_iff_toInt_le, nI_toInt (by omega)]; omega
theorem big_ne {c : Int32} {m : Nat} (hm : m < 1000) (h : nI m ≤ c) (j : Nat) (hj : j < m) : ¬ c = nI j ∧ ¬ c ≤ nI j ∧ nI j < c ∧ ¬ c < nI j := by
  rw [Int32.le_iff_toInt_le, nI_toInt (by omega)] at h
  refine ⟨fun e => ?_, ?_, ?_, ?_⟩
  · rw [e, nI_toInt (by omega)] at h; omega
  · rw [Int32.le_iff_toInt_le, nI_toInt (by omega)]; omega
  · rw [Int32.lt_iff_toInt_lt, nI_toInt (by omega)]; omega
  · rw [Int32.lt_iff_toInt_lt, nI_toInt (by omega)]; omega
theorem i_vc_domainMask {k : Nat} {u : SX} {v : SY} (I : i_Rel k u v) (hk : k + 5 ≤ 2564) (v1 : Int32) (v2 : Int32) : wpX_domainMask (fun r => wpY_domainMask (fun r' => r' = r ∧ i_Rel (k + 5) u v) v v1 v2) u v1 v2 := by
  refine zz_el (P := fun u v => wpX_domainMask (fun r => wpY_domainMask (fun r' => r' = r ∧ i_Rel (k + 5) u v) v v1 v2) u v1 v2) I ?_
  intro n V mc ml L ct f_status f_searchState f_searchDirection f_foundCount f_depth f_trailSize f_queueHead f_queueSize f_pendingMask f_scopeSize f_place a_dom a_savedDom a_savedCount a_savedStatus a_kindOf a_scopeOf a_lowBound a_highBound a_tupleCount a_coef a_tuples a_newTuple a_solution a_todo a_mark a_work a_trailVar a_trailMask a_queue a_inVar a_inMask a_outMask a_matchOf a_owner a_reachedFrom a_bfs a_reach a_termCoef a_termMin a_span a_forward a_backward y_dom y_status y_count y_tuple y_value y_work y_seen y_args hA hB hC hS
  have same : i_Rel (k + 5) (nI n, nI V, nI mc, nI ml, allM V, allM n, f_status, nI L, nI (ct L), f_searchState, f_searchDirection, f_foundCount, f_depth, f_trailSize, f_queueHead, f_queueSize, f_pendingMask, f_scopeSize, a_dom, a_savedDom, a_savedCount, a_savedStatus, a_kindOf, a_scopeOf, a_lowBound, a_highBound, a_tupleCount, a_coef, a_tuples, a_newTuple, a_solution, a_todo, a_mark, a_work, a_trailVar, a_trailMask, a_queue, a_inVar, a_inMask, a_outMask, a_matchOf, a_owner, a_reachedFrom, a_bfs, a_reach, a_termCoef, a_termMin, a_span, a_forward, a_backward) (nI n, nI V, nI mc, nI ml, nI L, f_searchState, f_searchDirection, f_foundCount, f_place, y_dom, y_status, y_count, a_kindOf, a_scopeOf, a_lowBound, a_highBound, a_coef, a_tupleCount, y_tuple, a_solution, y_value, y_work, y_seen, y_args) := zz_mk hA hB hC hS
  obtain ⟨a1, a2, a3, a4, a5, a6, a7, a8⟩ := hA
  rcases pk_ix v1 (n := L + 1) (by omega) with h | h | ⟨l, hl, rfl⟩
  · exact br_t h (br_t h ⟨rfl, same⟩)
  · have z := big_gt (by omega) h
    exact br_f z.1 (br_f z.2.1 (br_f z.1 (br_t z.2.2 ⟨rfl, same⟩)))
  · refine br_f (nI_pos (by omega)) (br_t (nI_le (by omega) (by omega)) ?_)
    have e6 := ix6 l
    rcases pk_ix v2 (n := n) (by omega) with h | h | ⟨x, hx, rfl⟩
    · exact xh_ivn (by omega) (Or.inl h) (br_f (nI_pos (by omega)) (br_f (nI_nlt (by omega) (by omega)) (br_t h ⟨rfl, same⟩)))
    · have z := big_nm1 (by omega) h
      exact xh_ivn (by omega) (Or.inr h) (br_f (nI_pos (by omega)) (br_f (nI_nlt (by omega) (by omega)) (br_f z.2.1 (br_f z.2.2.1 ⟨rfl, same⟩))))
    · have fin : ∀ r : Int32, y_dom (l * 6 + x) = r → wpY_domainMask (fun r' => r' = r ∧ i_Rel (k + 5) (nI n, nI V, nI mc, nI ml, allM V, allM n, f_status, nI L, nI (ct L), f_searchState, f_searchDirection, f_foundCount, f_depth, f_trailSize, f_queueHead, f_queueSize, f_pendingMask, f_scopeSize, a_dom, a_savedDom, a_savedCount, a_savedStatus, a_kindOf, a_scopeOf, a_lowBound, a_highBound, a_tupleCount, a_coef, a_tuples, a_newTuple, a_solution, a_todo, a_mark, a_work, a_trailVar, a_trailMask, a_queue, a_inVar, a_inMask, a_outMask, a_matchOf, a_owner, a_reachedFrom, a_bfs, a_reach, a_termCoef, a_termMin, a_span, a_forward, a_backward) (nI n, nI V, nI mc, nI ml, nI L, f_searchState, f_searchDirection, f_foundCount, f_place, y_dom, y_status, y_count, a_kindOf, a_scopeOf, a_lowBound, a_highBound, a_coef, a_tupleCount, y_tuple, a_solution, y_value, y_work, y_seen, y_args)) (nI n, nI V, nI mc, nI ml, nI L, f_searchState, f_searchDirection, f_foundCount, f_place, y_dom, y_status, y_count, a_kindOf, a_scopeOf, a_lowBound, a_highBound, a_coef, a_tupleCount, y_tuple, a_solution, y_value, y_work, y_seen, y_args) (nI l) (nI x) := by
        intro r hr
        refine br_f (nI_pos (by omega)) (br_f (nI_nlt (by omega) (by omega)) (br_f (nI_pos (by omega)) (br_t (nI_lt hx (by omega)) ?_)))
        rw [ix6, nI_clamp (by omega)]
        exact ⟨vp_in_nI (by omega) (by omega), hr, same⟩
      refine xh_ivy (by omega) hx ?_
      rcases Nat.lt_or_ge l L with z | z
      · refine br_f (fun e => absurd (nI_inj (by omega) (by omega) e) (by omega)) ?_
        rw [ix6, nI_clamp (by omega)]
        exact ⟨vp_in_nI (by omega) (by omega), fin _ (hB.2.1 l x z (by omega))⟩
      · obtain rfl : l = L := by omega
        refine br_t rfl ?_
        rw [nI_clamp (by omega)]
        exact ⟨vp_in_nI (by omega) (by omega), fin _ (hB.1 x (by omega))⟩
theorem i_vc_levelInfo {k : Nat} {u : SX} {v : SY} (I : i_Rel k u v) (hk : k + 5 ≤ 2564) (v1 : Int32) (v2 : Int32) : wpX_levelInfo (fun r => wpY_levelInfo (fun r' => r' = r ∧ i_Rel (k + 5) u v) v v1 v2) u v1 v2 := by
  refine zz_el (P := fun u v => wpX_levelInfo (fun r => wpY_levelInfo (fun r' => r' = r ∧ i_Rel (k + 5) u v) v v1 v2) u v1 v2) I ?_
  intro n V mc ml L ct f_status f_searchState f_searchDirection f_foundCount f_depth f_trailSize f_queueHead f_queueSize f_pendingMask f_scopeSize f_place a_dom a_savedDom a_savedCount a_savedStatus a_kindOf a_scopeOf a_lowBound a_highBound a_tupleCount a_coef a_tuples a_newTuple a_solution a_todo a_mark a_work a_trailVar a_trailMask a_queue a_inVar a_inMask a_outMask a_matchOf a_owner a_reachedFrom a_bfs a_reach a_termCoef a_termMin a_span a_forward a_backward y_dom y_status y_count y_tuple y_value y_work y_seen y_args hA hB hC hS
  have same : i_Rel (k + 5) (nI n, nI V, nI mc, nI ml, allM V, allM n, f_status, nI L, nI (ct L), f_searchState, f_searchDirection, f_foundCount, f_depth, f_trailSize, f_queueHead, f_queueSize, f_pendingMask, f_scopeSize, a_dom, a_savedDom, a_savedCount, a_savedStatus, a_kindOf, a_scopeOf, a_lowBound, a_highBound, a_tupleCount, a_coef, a_tuples, a_newTuple, a_solution, a_todo, a_mark, a_work, a_trailVar, a_trailMask, a_queue, a_inVar, a_inMask, a_outMask, a_matchOf, a_owner, a_reachedFrom, a_bfs, a_reach, a_termCoef, a_termMin, a_span, a_forward, a_backward) (nI n, nI V, nI mc, nI ml, nI L, f_searchState, f_searchDirection, f_foundCount, f_place, y_dom, y_status, y_count, a_kindOf, a_scopeOf, a_lowBound, a_highBound, a_coef, a_tupleCount, y_tuple, a_solution, y_value, y_work, y_seen, y_args) := zz_mk hA hB hC hS
  obtain ⟨a1, a2, a3, a4, a5, a6, a7, a8⟩ := hA
  rcases pk_ix v1 (n := L + 1) (by omega) with h | h | ⟨l, hl, rfl⟩
  · exact br_t h (br_t h ⟨rfl, same⟩)
  · have z := big_gt (by omega) h
    exact br_f z.1 (br_f z.2.1 (br_f z.1 (br_t z.2.2 ⟨rfl, same⟩)))
  · have y0 : ∀ {P : Int32 → Prop}, (P (y_status l)) → wpY_levelInfo P (nI n, nI V, nI mc, nI ml, nI L, f_searchState, f_searchDirection, f_foundCount, f_place, y_dom, y_status, y_count, a_kindOf, a_scopeOf, a_lowBound, a_highBound, a_coef, a_tupleCount, y_tuple, a_solution, y_value, y_work, y_seen, y_args) (nI l) 0 := by
      intro P hP
      refine br_f (nI_pos (by omega)) (br_f (nI_nlt (by omega) (by omega)) (br_f (by decide) (br_t (by decide) (br_t rfl ⟨vp_in_nI (by omega) (by omega), ?_⟩))))
      rw [nI_clamp (by omega)]; exact hP
    have y1 : ∀ {P : Int32 → Prop}, (P (y_count l)) → wpY_levelInfo P (nI n, nI V, nI mc, nI ml, nI L, f_searchState, f_searchDirection, f_foundCount, f_place, y_dom, y_status, y_count, a_kindOf, a_scopeOf, a_lowBound, a_highBound, a_coef, a_tupleCount, y_tuple, a_solution, y_value, y_work, y_seen, y_args) (nI l) 1 := by
      intro P hP
      refine br_f (nI_pos (by omega)) (br_f (nI_nlt (by omega) (by omega)) (br_f (by decide) (br_t (by decide) (br_f (by decide) ⟨vp_in_nI (by omega) (by omega), ?_⟩))))
      rw [nI_clamp (by omega)]; exact hP
    refine br_f (nI_pos (by omega)) (br_t (nI_le (by omega) (by omega)) ?_)
    rcases pk_ix v2 (n := 2) (by omega) with h | h | ⟨x, hx, rfl⟩
    · refine br_f (neg_ne h 0 (by omega)).1 (br_f (neg_ne h 1 (by omega)).1 ?_)
      exact br_f (nI_pos (by omega)) (br_f (nI_nlt (by omega) (by omega)) (br_t h ⟨rfl, same⟩))
    · have z0 := big_ne (by omega) h 0 (by omega)
      have z1 := big_ne (by omega) h 1 (by omega)
      refine br_f z0.1 (br_f z1.1 ?_)
      exact br_f (nI_pos (by omega)) (br_f (nI_nlt (by omega) (by omega)) (br_f z0.2.2.2 (br_f z1.2.1 ⟨rfl, same⟩)))
    · rcases (by omega : x = 0 ∨ x = 1) with e | e <;> subst e
      · refine br_t rfl ?_
        rcases Nat.lt_or_ge l L with z | z
        · refine br_f (fun e => absurd (nI_inj (by omega) (by omega) e) (by omega)) (br_t rfl ⟨vp_in_nI (by omega) (by omega), ?_⟩)
          rw [nI_clamp (by omega)]
          exact y0 ⟨hB.2.2.2.2.1 l z, same⟩
        · obtain rfl : l = L := by omega
          exact br_t rfl (br_t rfl (y0 ⟨hB.2.2.2.1, same⟩))
      · refine br_f (by decide) (br_t rfl ?_)
        rcases Nat.lt_or_ge l L with z | z
        · refine br_f (fun e => absurd (nI_inj (by omega) (by omega) e) (by omega)) (br_f (by decide) ⟨vp_in_nI (by omega) (by omega), ?_⟩)
          rw [nI_clamp (by omega)]
          exact y1 ⟨(hB.2.2.2.2.2.1 l (by omega)).trans (hB.2.2.2.2.2.2.1 l z).symm, same⟩
        · obtain rfl : l = L := by omega
          exact br_t rfl (br_f (by decide) (y1 ⟨hB.2.2.2.2.2.1 l (Nat.le_refl _), same⟩))
theorem i_vc_constraintField {k : Nat} {u : SX} {v : SY} (I : i_Rel k u v) (hk : k + 5 ≤ 2564) (v1 : Int32) (v2 : Int32) : wpX_constraintField (fun r => wpY_constraintField (fun r' => r' = r ∧ i_Rel (k + 5) u v) v v1 v2) u v1 v2 := by
  refine zz_el (P := fun u v => wpX_constraintField (fun r => wpY_constraintField (fun r' => r' = r ∧ i_Rel (k + 5) u v) v v1 v2) u v1 v2) I ?_
  intro n V mc ml L ct f_status f_searchState f_searchDirection f_foundCount f_depth f_trailSize f_queueHead f_queueSize f_pendingMask f_scopeSize f_place a_dom a_savedDom a_savedCount a_savedStatus a_kindOf a_scopeOf a_lowBound a_highBound a_tupleCount a_coef a_tuples a_newTuple a_solution a_todo a_mark a_work a_trailVar a_trailMask a_queue a_inVar a_inMask a_outMask a_matchOf a_owner a_reachedFrom a_bfs a_reach a_termCoef a_termMin a_span a_forward a_backward y_dom y_status y_count y_tuple y_value y_work y_seen y_args hA hB hC hS
  have same : i_Rel (k + 5) (nI n, nI V, nI mc, nI ml, allM V, allM n, f_status, nI L, nI (ct L), f_searchState, f_searchDirection, f_foundCount, f_depth, f_trailSize, f_queueHead, f_queueSize, f_pendingMask, f_scopeSize, a_dom, a_savedDom, a_savedCount, a_savedStatus, a_kindOf, a_scopeOf, a_lowBound, a_highBound, a_tupleCount, a_coef, a_tuples, a_newTuple, a_solution, a_todo, a_mark, a_work, a_trailVar, a_trailMask, a_queue, a_inVar, a_inMask, a_outMask, a_matchOf, a_owner, a_reachedFrom, a_bfs, a_reach, a_termCoef, a_termMin, a_span, a_forward, a_backward) (nI n, nI V, nI mc, nI ml, nI L, f_searchState, f_searchDirection, f_foundCount, f_place, y_dom, y_status, y_count, a_kindOf, a_scopeOf, a_lowBound, a_highBound, a_coef, a_tupleCount, y_tuple, a_solution, y_value, y_work, y_seen, y_args) := zz_mk hA hB hC hS
  obtain ⟨a1, a2, a3, a4, a5, a6, a7, a8⟩ := hA
  have hcnt := hC.1
  have hctL := hB.2.2.2.2.2.1 L (Nat.le_refl _)
  have main : ∀ s, s < 7 → (∀ {P : Int32 → Prop}, P (nI s) → wpY_row P (nI n, nI V, nI mc, nI ml, nI L, f_searchState, f_searchDirection, f_foundCount, f_place, y_dom, y_status, y_count, a_kindOf, a_scopeOf, a_lowBound, a_highBound, a_coef, a_tupleCount, y_tuple, a_solution, y_value, y_work, y_seen, y_args) v1) → ((0 ≤ nI s → (((v2 = 0 → (vp_in (nI s) 7 ∧ (wpY_constraintField (fun r' => r' = a_kindOf (nI s).toNatClampNeg ∧ i_Rel (k + 5) (nI n, nI V, nI mc, nI ml, allM V, allM n, f_status, nI L, nI (ct L), f_searchState, f_searchDirection, f_foundCount, f_depth, f_trailSize, f_queueHead, f_queueSize, f_pendingMask, f_scopeSize, a_dom, a_savedDom, a_savedCount, a_savedStatus, a_kindOf, a_scopeOf, a_lowBound, a_highBound, a_tupleCount, a_coef, a_tuples, a_newTuple, a_solution, a_todo, a_mark, a_work, a_trailVar, a_trailMask, a_queue, a_inVar, a_inMask, a_outMask, a_matchOf, a_owner, a_reachedFrom, a_bfs, a_reach, a_termCoef, a_termMin, a_span, a_forward, a_backward) (nI n, nI V, nI mc, nI ml, nI L, f_searchState, f_searchDirection, f_foundCount, f_place, y_dom, y_status, y_count, a_kindOf, a_scopeOf, a_lowBound, a_highBound, a_coef, a_tupleCount, y_tuple, a_solution, y_value, y_work, y_seen, y_args)) (nI n, nI V, nI mc, nI ml, nI L, f_searchState, f_searchDirection, f_foundCount, f_place, y_dom, y_status, y_count, a_kindOf, a_scopeOf, a_lowBound, a_highBound, a_coef, a_tupleCount, y_tuple, a_solution, y_value, y_work, y_seen, y_args) v1 v2))) ∧ (¬ v2 = 0 → (((v2 = 1 → (vp_in (nI s) 7 ∧ (wpY_constraintField (fun r' => r' = a_scopeOf (nI s).toNatClampNeg ∧ i_Rel (k + 5) (nI n, nI V, nI mc, nI ml, allM V, allM n, f_status, nI L, nI (ct L), f_searchState, f_searchDirection, f_foundCount, f_depth, f_trailSize, f_queueHead, f_queueSize, f_pendingMask, f_scopeSize, a_dom, a_savedDom, a_savedCount, a_savedStatus, a_kindOf, a_scopeOf, a_lowBound, a_highBound, a_tupleCount, a_coef, a_tuples, a_newTuple, a_solution, a_todo, a_mark, a_work, a_trailVar, a_trailMask, a_queue, a_inVar, a_inMask, a_outMask, a_matchOf, a_owner, a_reachedFrom, a_bfs, a_reach, a_termCoef, a_termMin, a_span, a_forward, a_backward) (nI n, nI V, nI mc, nI ml, nI L, f_searchState, f_searchDirection, f_foundCount, f_place, y_dom, y_status, y_count, a_kindOf, a_scopeOf, a_lowBound, a_highBound, a_coef, a_tupleCount, y_tuple, a_solution, y_value, y_work, y_seen, y_args)) (nI n, nI V, nI mc, nI ml, nI L, f_searchState, f_searchDirection, f_foundCount, f_place, y_dom, y_status, y_count, a_kindOf, a_scopeOf, a_lowBound, a_highBound, a_coef, a_tupleCount, y_tuple, a_solution, y_value, y_work, y_seen, y_args) v1 v2))) ∧ (¬ v2 = 1 → (((v2 = 2 → (vp_in (nI s) 7 ∧ (wpY_constraintField (fun r' => r' = a_lowBound (nI s).toNatClampNeg ∧ i_Rel (k + 5) (nI n, nI V, nI mc, nI ml, allM V, allM n, f_status, nI L, nI (ct L), f_searchState, f_searchDirection, f_foundCount, f_depth, f_trailSize, f_queueHead, f_queueSize, f_pendingMask, f_scopeSize, a_dom, a_savedDom, a_savedCount, a_savedStatus, a_kindOf, a_scopeOf, a_lowBound, a_highBound, a_tupleCount, a_coef, a_tuples, a_newTuple, a_solution, a_todo, a_mark, a_work, a_trailVar, a_trailMask, a_queue, a_inVar, a_inMask, a_outMask, a_matchOf, a_owner, a_reachedFrom, a_bfs, a_reach, a_termCoef, a_termMin, a_span, a_forward, a_backward) (nI n, nI V, nI mc, nI ml, nI L, f_searchState, f_searchDirection, f_foundCount, f_place, y_dom, y_status, y_count, a_kindOf, a_scopeOf, a_lowBound, a_highBound, a_coef, a_tupleCount, y_tuple, a_solution, y_value, y_work, y_seen, y_args)) (nI n, nI V, nI mc, nI ml, nI L, f_searchState, f_searchDirection, f_foundCount, f_place, y_dom, y_status, y_count, a_kindOf, a_scopeOf, a_lowBound, a_highBound, a_coef, a_tupleCount, y_tuple, a_solution, y_value, y_work, y_seen, y_args) v1 v2))) ∧ (¬ v2 = 2 → (((v2 = 3 → (vp_in (nI s) 7 ∧ (wpY_constraintField (fun r' => r' = a_highBound (nI s).toNatClampNeg ∧ i_Rel (k + 5) (nI n, nI V, nI mc, nI ml, allM V, allM n, f_status, nI L, nI (ct L), f_searchState, f_searchDirection, f_foundCount, f_depth, f_trailSize, f_queueHead, f_queueSize, f_pendingMask, f_scopeSize, a_dom, a_savedDom, a_savedCount, a_savedStatus, a_kindOf, a_scopeOf, a_lowBound, a_highBound, a_tupleCount, a_coef, a_tuples, a_newTuple, a_solution, a_todo, a_mark, a_work, a_trailVar, a_trailMask, a_queue, a_inVar, a_inMask, a_outMask, a_matchOf, a_owner, a_reachedFrom, a_bfs, a_reach, a_termCoef, a_termMin, a_span, a_forward, a_backward) (nI n, nI V, nI mc, nI ml, nI L, f_searchState, f_searchDirection, f_foundCount, f_place, y_dom, y_status, y_count, a_kindOf, a_scopeOf, a_lowBound, a_highBound, a_coef, a_tupleCount, y_tuple, a_solution, y_value, y_work, y_seen, y_args)) (nI n, nI V, nI mc, nI ml, nI L, f_searchState, f_searchDirection, f_foundCount, f_place, y_dom, y_status, y_count, a_kindOf, a_scopeOf, a_lowBound, a_highBound, a_coef, a_tupleCount, y_tuple, a_solution, y_value, y_work, y_seen, y_args) v1 v2))) ∧ (¬ v2 = 3 → (((v2 = 4 → (vp_in (nI s) 7 ∧ (wpY_constraintField (fun r' => r' = a_tupleCount (nI s).toNatClampNeg ∧ i_Rel (k + 5) (nI n, nI V, nI mc, nI ml, allM V, allM n, f_status, nI L, nI (ct L), f_searchState, f_searchDirection, f_foundCount, f_depth, f_trailSize, f_queueHead, f_queueSize, f_pendingMask, f_scopeSize, a_dom, a_savedDom, a_savedCount, a_savedStatus, a_kindOf, a_scopeOf, a_lowBound, a_highBound, a_tupleCount, a_coef, a_tuples, a_newTuple, a_solution, a_todo, a_mark, a_work, a_trailVar, a_trailMask, a_queue, a_inVar, a_inMask, a_outMask, a_matchOf, a_owner, a_reachedFrom, a_bfs, a_reach, a_termCoef, a_termMin, a_span, a_forward, a_backward) (nI n, nI V, nI mc, nI ml, nI L, f_searchState, f_searchDirection, f_foundCount, f_place, y_dom, y_status, y_count, a_kindOf, a_scopeOf, a_lowBound, a_highBound, a_coef, a_tupleCount, y_tuple, a_solution, y_value, y_work, y_seen, y_args)) (nI n, nI V, nI mc, nI ml, nI L, f_searchState, f_searchDirection, f_foundCount, f_place, y_dom, y_status, y_count, a_kindOf, a_scopeOf, a_lowBound, a_highBound, a_coef, a_tupleCount, y_tuple, a_solution, y_value, y_work, y_seen, y_args) v1 v2))) ∧ (¬ v2 = 4 → (wpY_constraintField (fun r' => r' = -10 ∧ i_Rel (k + 5) (nI n, nI V, nI mc, nI ml, allM V, allM n, f_status, nI L, nI (ct L), f_searchState, f_searchDirection, f_foundCount, f_depth, f_trailSize, f_queueHead, f_queueSize, f_pendingMask, f_scopeSize, a_dom, a_savedDom, a_savedCount, a_savedStatus, a_kindOf, a_scopeOf, a_lowBound, a_highBound, a_tupleCount, a_coef, a_tuples, a_newTuple, a_solution, a_todo, a_mark, a_work, a_trailVar, a_trailMask, a_queue, a_inVar, a_inMask, a_outMask, a_matchOf, a_owner, a_reachedFrom, a_bfs, a_reach, a_termCoef, a_termMin, a_span, a_forward, a_backward) (nI n, nI V, nI mc, nI ml, nI L, f_searchState, f_searchDirection, f_foundCount, f_place, y_dom, y_status, y_count, a_kindOf, a_scopeOf, a_lowBound, a_highBound, a_coef, a_tupleCount, y_tuple, a_solution, y_value, y_work, y_seen, y_args)) (nI n, nI V, nI mc, nI ml, nI L, f_searchState, f_searchDirection, f_foundCount, f_place, y_dom, y_status, y_count, a_kindOf, a_scopeOf, a_lowBound, a_highBound, a_coef, a_tupleCount, y_tuple, a_solution, y_value, y_work, y_seen, y_args) v1 v2))))))))))))))))) ∧ (¬ 0 ≤ nI s → (wpY_constraintField (fun r' => r' = -10 ∧ i_Rel (k + 5) (nI n, nI V, nI mc, nI ml, allM V, allM n, f_status, nI L, nI (ct L), f_searchState, f_searchDirection, f_foundCount, f_depth, f_trailSize, f_queueHead, f_queueSize, f_pendingMask, f_scopeSize, a_dom, a_savedDom, a_savedCount, a_savedStatus, a_kindOf, a_scopeOf, a_lowBound, a_highBound, a_tupleCount, a_coef, a_tuples, a_newTuple, a_solution, a_todo, a_mark, a_work, a_trailVar, a_trailMask, a_queue, a_inVar, a_inMask, a_outMask, a_matchOf, a_owner, a_reachedFrom, a_bfs, a_reach, a_termCoef, a_termMin, a_span, a_forward, a_backward) (nI n, nI V, nI mc, nI ml, nI L, f_searchState, f_searchDirection, f_foundCount, f_place, y_dom, y_status, y_count, a_kindOf, a_scopeOf, a_lowBound, a_highBound, a_coef, a_tupleCount, y_tuple, a_solution, y_value, y_work, y_seen, y_args)) (nI n, nI V, nI mc, nI ml, nI L, f_searchState, f_searchDirection, f_foundCount, f_place, y_dom, y_status, y_count, a_kindOf, a_scopeOf, a_lowBound, a_highBound, a_coef, a_tupleCount, y_tuple, a_solution, y_value, y_work, y_seen, y_args) v1 v2))) := by
    intro s hs hrow
    have hin : vp_in (nI s) 7 := vp_in_nI hs (by omega)
    refine br_t (nI_pos' (by omega)) ?_
    unfold wpY_constraintField
    rcases pk_ix v2 (n := 5) (by omega) with h | h | ⟨x, hx, rfl⟩
    · exact br_f (neg_ne h 0 (by omega)).1 (br_f (neg_ne h 1 (by omega)).1 (br_f (neg_ne h 2 (by omega)).1 (br_f (neg_ne h 3 (by omega)).1 (br_f (neg_ne h 4 (by omega)).1 (hrow (br_f (nI_pos (by omega)) (br_t h ⟨rfl, same⟩)))))))
    · have z0 := big_ne (by omega) h 0 (by omega)
      have z4 := big_ne (by omega) h 4 (by omega)
      exact br_f z0.1 (br_f (big_ne (by omega) h 1 (by omega)).1 (br_f (big_ne (by omega) h 2 (by omega)).1 (br_f (big_ne (by omega) h 3 (by omega)).1 (br_f z4.1 (hrow (br_f (nI_pos (by omega)) (br_f z0.2.2.2 (br_f z4.2.1 ⟨rfl, same⟩))))))))
    · rcases (by omega : x = 0 ∨ x = 1 ∨ x = 2 ∨ x = 3 ∨ x = 4) with e | e | e | e | e <;> subst e
      · exact br_t rfl ⟨hin, hrow (br_f (nI_pos (by omega)) (br_f (by decide) (br_t (by decide) (br_t rfl ⟨hin, rfl, same⟩))))⟩
      · exact br_f (by decide) (br_t rfl ⟨hin, hrow (br_f (nI_pos (by omega)) (br_f (by decide) (br_t (by decide) (br_f (by decide) (br_t rfl ⟨hin, rfl, same⟩)))))⟩)
      · exact br_f (by decide) (br_f (by decide) (br_t rfl ⟨hin, hrow (br_f (nI_pos (by omega)) (br_f (by decide) (br_t (by decide) (br_f (by decide) (br_f (by decide) (br_t rfl ⟨hin, rfl, same⟩))))))⟩))
      · exact br_f (by decide) (br_f (by decide) (br_f (by decide) (br_t rfl ⟨hin, hrow (br_f (nI_pos (by omega)) (br_f (by decide) (br_t (by decide) (br_f (by decide) (br_f (by decide) (br_f (by decide) (br_t rfl ⟨hin, rfl, same⟩)))))))⟩)))
      · exact br_f (by decide) (br_f (by decide) (br_f (by decide) (br_f (by decide) (br_t rfl ⟨hin, hrow (br_f (nI_pos (by omega)) (br_f (by decide) (br_t (by decide) (br_f (by decide) (br_f (by decide) (br_f (by decide) (br_f (by decide) ⟨hin, rfl, same⟩)))))))⟩))))
  unfold wpX_constraintField
  rcases sl_c v1 (cnt := ct L) (by omega) with h | h | ⟨c, hc, rfl⟩ | h
  · refine xh_son (by omega) (Or.inl h) (br_f (by decide) ?_)
    unfold wpY_constraintField
    exact yh_rown (by omega) (by omega) hctL (Or.inl h) (br_t (by decide) ⟨rfl, same⟩)
  · subst h
    exact xh_so6 (by omega) (main 6 (by omega) (fun hP => yh_row6 (by omega) (by omega) hctL hP))
  · exact xh_soy (by omega) hc (main c (by omega) (fun hP => yh_rowy (by omega) (by omega) hctL hc hP))
  · refine xh_son (by omega) (Or.inr h) (br_f (by decide) ?_)
    unfold wpY_constraintField
    exact yh_rown (by omega) (by omega) hctL (Or.inr h) (br_t (by decide) ⟨rfl, same⟩)
theorem i_vc_coefficient {k : Nat} {u : SX} {v : SY} (I : i_Rel k u v) (hk : k + 5 ≤ 2564) (v1 : Int32) (v2 : Int32) : wpX_coefficient (fun r => wpY_coefficient (fun r' => r' = r ∧ i_Rel (k + 5) u v) v v1 v2) u v1 v2 := by
  refine zz_el (P := fun u v => wpX_coefficient (fun r => wpY_coefficient (fun r' => r' = r ∧ i_Rel (k + 5) u v) v v1 v2) u v1 v2) I ?_
  intro n V mc ml L ct f_status f_searchState f_searchDirection f_foundCount f_depth f_trailSize f_queueHead f_queueSize f_pendingMask f_scopeSize f_place a_dom a_savedDom a_savedCount a_savedStatus a_kindOf a_scopeOf a_lowBound a_highBound a_tupleCount a_coef a_tuples a_newTuple a_solution a_todo a_mark a_work a_trailVar a_trailMask a_queue a_inVar a_inMask a_outMask a_matchOf a_owner a_reachedFrom a_bfs a_reach a_termCoef a_termMin a_span a_forward a_backward y_dom y_status y_count y_tuple y_value y_work y_seen y_args hA hB hC hS
  have same : i_Rel (k + 5) (nI n, nI V, nI mc, nI ml, allM V, allM n, f_status, nI L, nI (ct L), f_searchState, f_searchDirection, f_foundCount, f_depth, f_trailSize, f_queueHead, f_queueSize, f_pendingMask, f_scopeSize, a_dom, a_savedDom, a_savedCount, a_savedStatus, a_kindOf, a_scopeOf, a_lowBound, a_highBound, a_tupleCount, a_coef, a_tuples, a_newTuple, a_solution, a_todo, a_mark, a_work, a_trailVar, a_trailMask, a_queue, a_inVar, a_inMask, a_outMask, a_matchOf, a_owner, a_reachedFrom, a_bfs, a_reach, a_termCoef, a_termMin, a_span, a_forward, a_backward) (nI n, nI V, nI mc, nI ml, nI L, f_searchState, f_searchDirection, f_foundCount, f_place, y_dom, y_status, y_count, a_kindOf, a_scopeOf, a_lowBound, a_highBound, a_coef, a_tupleCount, y_tuple, a_solution, y_value, y_work, y_seen, y_args) := zz_mk hA hB hC hS
  obtain ⟨a1, a2, a3, a4, a5, a6, a7, a8⟩ := hA
  have hcnt := hC.1
  have hctL := hB.2.2.2.2.2.1 L (Nat.le_refl _)
  have main : ∀ s, s < 7 → (∀ {P : Int32 → Prop}, P (nI s) → wpY_row P (nI n, nI V, nI mc, nI ml, nI L, f_searchState, f_searchDirection, f_foundCount, f_place, y_dom, y_status, y_count, a_kindOf, a_scopeOf, a_lowBound, a_highBound, a_coef, a_tupleCount, y_tuple, a_solution, y_value, y_work, y_seen, y_args) v1) → ((0 ≤ nI s → (wpX_isVar (fun r_53 => (((r_53 = 0 → (wpY_coefficient (fun r' => r' = -10 ∧ i_Rel (k + 5) (nI n, nI V, nI mc, nI ml, allM V, allM n, f_status, nI L, nI (ct L), f_searchState, f_searchDirection, f_foundCount, f_depth, f_trailSize, f_queueHead, f_queueSize, f_pendingMask, f_scopeSize, a_dom, a_savedDom, a_savedCount, a_savedStatus, a_kindOf, a_scopeOf, a_lowBound, a_highBound, a_tupleCount, a_coef, a_tuples, a_newTuple, a_solution, a_todo, a_mark, a_work, a_trailVar, a_trailMask, a_queue, a_inVar, a_inMask, a_outMask, a_matchOf, a_owner, a_reachedFrom, a_bfs, a_reach, a_termCoef, a_termMin, a_span, a_forward, a_backward) (nI n, nI V, nI mc, nI ml, nI L, f_searchState, f_searchDirection, f_foundCount, f_place, y_dom, y_status, y_count, a_kindOf, a_scopeOf, a_lowBound, a_highBound, a_coef, a_tupleCount, y_tuple, a_solution, y_value, y_work, y_seen, y_args)) (nI n, nI V, nI mc, nI ml, nI L, f_searchState, f_searchDirection, f_foundCount, f_place, y_dom, y_status, y_count, a_kindOf, a_scopeOf, a_lowBound, a_highBound, a_coef, a_tupleCount, y_tuple, a_solution, y_value, y_work, y_seen, y_args) v1 v2)) ∧ (¬ r_53 = 0 → (vp_in ((nI s * 6) + v2) 42 ∧ (wpY_coefficient (fun r' => r' = a_coef ((nI s * 6) + v2).toNatClampNeg ∧ i_Rel (k + 5) (nI n, nI V, nI mc, nI ml, allM V, allM n, f_status, nI L, nI (ct L), f_searchState, f_searchDirection, f_foundCount, f_depth, f_trailSize, f_queueHead, f_queueSize, f_pendingMask, f_scopeSize, a_dom, a_savedDom, a_savedCount, a_savedStatus, a_kindOf, a_scopeOf, a_lowBound, a_highBound, a_tupleCount, a_coef, a_tuples, a_newTuple, a_solution, a_todo, a_mark, a_work, a_trailVar, a_trailMask, a_queue, a_inVar, a_inMask, a_outMask, a_matchOf, a_owner, a_reachedFrom, a_bfs, a_reach, a_termCoef, a_termMin, a_span, a_forward, a_backward) (nI n, nI V, nI mc, nI ml, nI L, f_searchState, f_searchDirection, f_foundCount, f_place, y_dom, y_status, y_count, a_kindOf, a_scopeOf, a_lowBound, a_highBound, a_coef, a_tupleCount, y_tuple, a_solution, y_value, y_work, y_seen, y_args)) (nI n, nI V, nI mc, nI ml, nI L, f_searchState, f_searchDirection, f_foundCount, f_place, y_dom, y_status, y_count, a_kindOf, a_scopeOf, a_lowBound, a_highBound, a_coef, a_tupleCount, y_tuple, a_solution, y_value, y_work, y_seen, y_args) v1 v2)))))) (nI n, nI V, nI mc, nI ml, allM V, allM n, f_status, nI L, nI (ct L), f_searchState, f_searchDirection, f_foundCount, f_depth, f_trailSize, f_queueHead, f_queueSize, f_pendingMask, f_scopeSize, a_dom, a_savedDom, a_savedCount, a_savedStatus, a_kindOf, a_scopeOf, a_lowBound, a_highBound, a_tupleCount, a_coef, a_tuples, a_newTuple, a_solution, a_todo, a_mark, a_work, a_trailVar, a_trailMask, a_queue, a_inVar, a_inMask, a_outMask, a_matchOf, a_owner, a_reachedFrom, a_bfs, a_reach, a_termCoef, a_termMin, a_span, a_forward, a_backward) v2)) ∧ (¬ 0 ≤ nI s → (wpY_coefficient (fun r' => r' = -10 ∧ i_Rel (k + 5) (nI n, nI V, nI mc, nI ml, allM V, allM n, f_status, nI L, nI (ct L), f_searchState, f_searchDirection, f_foundCount, f_depth, f_trailSize, f_queueHead, f_queueSize, f_pendingMask, f_scopeSize, a_dom, a_savedDom, a_savedCount, a_savedStatus, a_kindOf, a_scopeOf, a_lowBound, a_highBound, a_tupleCount, a_coef, a_tuples, a_newTuple, a_solution, a_todo, a_mark, a_work, a_trailVar, a_trailMask, a_queue, a_inVar, a_inMask, a_outMask, a_matchOf, a_owner, a_reachedFrom, a_bfs, a_reach, a_termCoef, a_termMin, a_span, a_forward, a_backward) (nI n, nI V, nI mc, nI ml, nI L, f_searchState, f_searchDirection, f_foundCount, f_place, y_dom, y_status, y_count, a_kindOf, a_scopeOf, a_lowBound, a_highBound, a_coef, a_tupleCount, y_tuple, a_solution, y_value, y_work, y_seen, y_args)) (nI n, nI V, nI mc, nI ml, nI L, f_searchState, f_searchDirection, f_foundCount, f_place, y_dom, y_status, y_count, a_kindOf, a_scopeOf, a_lowBound, a_highBound, a_coef, a_tupleCount, y_tuple, a_solution, y_value, y_work, y_seen, y_args) v1 v2))) := by
    intro s hs hrow
    refine br_t (nI_pos' (by omega)) ?_
    unfold wpY_coefficient
    rcases pk_ix v2 (n := n) (by omega) with h | h | ⟨x, hx, rfl⟩
    · exact xh_ivn (by omega) (Or.inl h) (hrow (br_f (nI_pos (by omega)) (br_t h ⟨rfl, same⟩)))
    · have z := big_nm1 (by omega) h
      exact xh_ivn (by omega) (Or.inr h) (hrow (br_f (nI_pos (by omega)) (br_f z.2.1 (br_f z.2.2.1 ⟨rfl, same⟩))))
    · refine xh_ivy (by omega) hx ?_
      have hin : vp_in (nI s * 6 + nI x) 42 := by rw [ix6]; exact vp_in_nI (by omega) (by omega)
      exact ⟨hin, hrow (br_f (nI_pos (by omega)) (br_f (nI_pos (by omega)) (br_t (nI_lt hx (by omega)) ⟨hin, rfl, same⟩)))⟩
  unfold wpX_coefficient
  rcases sl_c v1 (cnt := ct L) (by omega) with h | h | ⟨c, hc, rfl⟩ | h
  · refine xh_son (by omega) (Or.inl h) (br_f (by decide) ?_)
    unfold wpY_coefficient
    exact yh_rown (by omega) (by omega) hctL (Or.inl h) (br_t (by decide) ⟨rfl, same⟩)
  · subst h
    exact xh_so6 (by omega) (main 6 (by omega) (fun hP => yh_row6 (by omega) (by omega) hctL hP))
  · exact xh_soy (by omega) hc (main c (by omega) (fun hP => yh_rowy (by omega) (by omega) hctL hc hP))
  · refine xh_son (by omega) (Or.inr h) (br_f (by decide) ?_)
    unfold wpY_coefficient
    exact yh_rown (by omega) (by omega) hctL (Or.inr h) (br_t (by decide) ⟨rfl, same⟩)
theorem i_vc_tupleValue {k : Nat} {u : SX} {v : SY} (I : i_Rel k u v) (hk : k + 5 ≤ 2564) (v1 : Int32) (v2 : Int32) (v3 : Int32) : wpX_tupleValue (fun r => wpY_tupleValue (fun r' => r' = r ∧ i_Rel (k + 5) u v) v v1 v2 v3) u v1 v2 v3 := by
  refine zz_el (P := fun u v => wpX_tupleValue (fun r => wpY_tupleValue (fun r' => r' = r ∧ i_Rel (k + 5) u v) v v1 v2 v3) u v1 v2 v3) I ?_
  intro n V mc ml L ct f_status f_searchState f_searchDirection f_foundCount f_depth f_trailSize f_queueHead f_queueSize f_pendingMask f_scopeSize f_place a_dom a_savedDom a_savedCount a_savedStatus a_kindOf a_scopeOf a_lowBound a_highBound a_tupleCount a_coef a_tuples a_newTuple a_solution a_todo a_mark a_work a_trailVar a_trailMask a_queue a_inVar a_inMask a_outMask a_matchOf a_owner a_reachedFrom a_bfs a_reach a_termCoef a_termMin a_span a_forward a_backward y_dom y_status y_count y_tuple y_value y_work y_seen y_args hA hB hC hS
  have same : i_Rel (k + 5) (nI n, nI V, nI mc, nI ml, allM V, allM n, f_status, nI L, nI (ct L), f_searchState, f_searchDirection, f_foundCount, f_depth, f_trailSize, f_queueHead, f_queueSize, f_pendingMask, f_scopeSize, a_dom, a_savedDom, a_savedCount, a_savedStatus, a_kindOf, a_scopeOf, a_lowBound, a_highBound, a_tupleCount, a_coef, a_tuples, a_newTuple, a_solution, a_todo, a_mark, a_work, a_trailVar, a_trailMask, a_queue, a_inVar, a_inMask, a_outMask, a_matchOf, a_owner, a_reachedFrom, a_bfs, a_reach, a_termCoef, a_termMin, a_span, a_forward, a_backward) (nI n, nI V, nI mc, nI ml, nI L, f_searchState, f_searchDirection, f_foundCount, f_place, y_dom, y_status, y_count, a_kindOf, a_scopeOf, a_lowBound, a_highBound, a_coef, a_tupleCount, y_tuple, a_solution, y_value, y_work, y_seen, y_args) := zz_mk hA hB hC hS
  obtain ⟨a1, a2, a3, a4, a5, a6, a7, a8⟩ := hA
  have hcnt := hC.1
  have hctL := hB.2.2.2.2.2.1 L (Nat.le_refl _)
  have main : ∀ s, s < 7 → (∀ {P : Int32 → Prop}, P (nI s) → wpY_row P (nI n, nI V, nI mc, nI ml, nI L, f_searchState, f_searchDirection, f_foundCount, f_place, y_dom, y_status, y_count, a_kindOf, a_scopeOf, a_lowBound, a_highBound, a_coef, a_tupleCount, y_tuple, a_solution, y_value, y_work, y_seen, y_args) v1) → TOk n V a_scopeOf a_tupleCount a_tuples y_tuple s → (pcN (a_scopeOf s) 6 ≤ 4 ∨ (s < 6 ∧ pcN (a_scopeOf s) 6 ≤ 5)) → ((0 ≤ nI s → (wpX_isVar (fun r_53 => (((r_53 = 0 → (wpY_tupleValue (fun r' => r' = -10 ∧ i_Rel (k + 5) (nI n, nI V, nI mc, nI ml, allM V, allM n, f_status, nI L, nI (ct L), f_searchState, f_searchDirection, f_foundCount, f_depth, f_trailSize, f_queueHead, f_queueSize, f_pendingMask, f_scopeSize, a_dom, a_savedDom, a_savedCount, a_savedStatus, a_kindOf, a_scopeOf, a_lowBound, a_highBound, a_tupleCount, a_coef, a_tuples, a_newTuple, a_solution, a_todo, a_mark, a_work, a_trailVar, a_trailMask, a_queue, a_inVar, a_inMask, a_outMask, a_matchOf, a_owner, a_reachedFrom, a_bfs, a_reach, a_termCoef, a_termMin, a_span, a_forward, a_backward) (nI n, nI V, nI mc, nI ml, nI L, f_searchState, f_searchDirection, f_foundCount, f_place, y_dom, y_status, y_count, a_kindOf, a_scopeOf, a_lowBound, a_highBound, a_coef, a_tupleCount, y_tuple, a_solution, y_value, y_work, y_seen, y_args)) (nI n, nI V, nI mc, nI ml, nI L, f_searchState, f_searchDirection, f_foundCount, f_place, y_dom, y_status, y_count, a_kindOf, a_scopeOf, a_lowBound, a_highBound, a_coef, a_tupleCount, y_tuple, a_solution, y_value, y_work, y_seen, y_args) v1 v2 v3)) ∧ (¬ r_53 = 0 → (((v2 < 0 → (wpY_tupleValue (fun r' => r' = -10 ∧ i_Rel (k + 5) (nI n, nI V, nI mc, nI ml, allM V, allM n, f_status, nI L, nI (ct L), f_searchState, f_searchDirection, f_foundCount, f_depth, f_trailSize, f_queueHead, f_queueSize, f_pendingMask, f_scopeSize, a_dom, a_savedDom, a_savedCount, a_savedStatus, a_kindOf, a_scopeOf, a_lowBound, a_highBound, a_tupleCount, a_coef, a_tuples, a_newTuple, a_solution, a_todo, a_mark, a_work, a_trailVar, a_trailMask, a_queue, a_inVar, a_inMask, a_outMask, a_matchOf, a_owner, a_reachedFrom, a_bfs, a_reach, a_termCoef, a_termMin, a_span, a_forward, a_backward) (nI n, nI V, nI mc, nI ml, nI L, f_searchState, f_searchDirection, f_foundCount, f_place, y_dom, y_status, y_count, a_kindOf, a_scopeOf, a_lowBound, a_highBound, a_coef, a_tupleCount, y_tuple, a_solution, y_value, y_work, y_seen, y_args)) (nI n, nI V, nI mc, nI ml, nI L, f_searchState, f_searchDirection, f_foundCount, f_place, y_dom, y_status, y_count, a_kindOf, a_scopeOf, a_lowBound, a_highBound, a_coef, a_tupleCount, y_tuple, a_solution, y_value, y_work, y_seen, y_args) v1 v2 v3)) ∧ (¬ v2 < 0 → (vp_in (nI s) 7 ∧ (((v2 < (a_tupleCount (nI s).toNatClampNeg) → (vp_in (nI s) 7 ∧ (wpX_hasBit (fun r_109 => (((r_109 = 0 → (wpY_tupleValue (fun r' => r' = -14 ∧ i_Rel (k + 5) (nI n, nI V, nI mc, nI ml, allM V, allM n, f_status, nI L, nI (ct L), f_searchState, f_searchDirection, f_foundCount, f_depth, f_trailSize, f_queueHead, f_queueSize, f_pendingMask, f_scopeSize, a_dom, a_savedDom, a_savedCount, a_savedStatus, a_kindOf, a_scopeOf, a_lowBound, a_highBound, a_tupleCount, a_coef, a_tuples, a_newTuple, a_solution, a_todo, a_mark, a_work, a_trailVar, a_trailMask, a_queue, a_inVar, a_inMask, a_outMask, a_matchOf, a_owner, a_reachedFrom, a_bfs, a_reach, a_termCoef, a_termMin, a_span, a_forward, a_backward) (nI n, nI V, nI mc, nI ml, nI L, f_searchState, f_searchDirection, f_foundCount, f_place, y_dom, y_status, y_count, a_kindOf, a_scopeOf, a_lowBound, a_highBound, a_coef, a_tupleCount, y_tuple, a_solution, y_value, y_work, y_seen, y_args)) (nI n, nI V, nI mc, nI ml, nI L, f_searchState, f_searchDirection, f_foundCount, f_place, y_dom, y_status, y_count, a_kindOf, a_scopeOf, a_lowBound, a_highBound, a_coef, a_tupleCount, y_tuple, a_solution, y_value, y_work, y_seen, y_args) v1 v2 v3)) ∧ (¬ r_109 = 0 → (vp_in (nI s) 7 ∧ (wpX_countBits (fun r_162 => (vp_in (((nI s * 40) + (v2 * 4)) + r_162) 280 ∧ (wpY_tupleValue (fun r' => r' = (a_tuples (((nI s * 40) + (v2 * 4)) + r_162).toNatClampNeg) ∧ i_Rel (k + 5) (nI n, nI V, nI mc, nI ml, allM V, allM n, f_status, nI L, nI (ct L), f_searchState, f_searchDirection, f_foundCount, f_depth, f_trailSize, f_queueHead, f_queueSize, f_pendingMask, f_scopeSize, a_dom, a_savedDom, a_savedCount, a_savedStatus, a_kindOf, a_scopeOf, a_lowBound, a_highBound, a_tupleCount, a_coef, a_tuples, a_newTuple, a_solution, a_todo, a_mark, a_work, a_trailVar, a_trailMask, a_queue, a_inVar, a_inMask, a_outMask, a_matchOf, a_owner, a_reachedFrom, a_bfs, a_reach, a_termCoef, a_termMin, a_span, a_forward, a_backward) (nI n, nI V, nI mc, nI ml, nI L, f_searchState, f_searchDirection, f_foundCount, f_place, y_dom, y_status, y_count, a_kindOf, a_scopeOf, a_lowBound, a_highBound, a_coef, a_tupleCount, y_tuple, a_solution, y_value, y_work, y_seen, y_args)) (nI n, nI V, nI mc, nI ml, nI L, f_searchState, f_searchDirection, f_foundCount, f_place, y_dom, y_status, y_count, a_kindOf, a_scopeOf, a_lowBound, a_highBound, a_coef, a_tupleCount, y_tuple, a_solution, y_value, y_work, y_seen, y_args) v1 v2 v3))) (nI n, nI V, nI mc, nI ml, allM V, allM n, f_status, nI L, nI (ct L), f_searchState, f_searchDirection, f_foundCount, f_depth, f_trailSize, f_queueHead, f_queueSize, f_pendingMask, f_scopeSize, a_dom, a_savedDom, a_savedCount, a_savedStatus, a_kindOf, a_scopeOf, a_lowBound, a_highBound, a_tupleCount, a_coef, a_tuples, a_newTuple, a_solution, a_todo, a_mark, a_work, a_trailVar, a_trailMask, a_queue, a_inVar, a_inMask, a_outMask, a_matchOf, a_owner, a_reachedFrom, a_bfs, a_reach, a_termCoef, a_termMin, a_span, a_forward, a_backward) ((a_scopeOf (nI s).toNatClampNeg) &&& (((1 : Int32) <<< (v3 &&& 31)) - 1)))))))) (nI n, nI V, nI mc, nI ml, allM V, allM n, f_status, nI L, nI (ct L), f_searchState, f_searchDirection, f_foundCount, f_depth, f_trailSize, f_queueHead, f_queueSize, f_pendingMask, f_scopeSize, a_dom, a_savedDom, a_savedCount, a_savedStatus, a_kindOf, a_scopeOf, a_lowBound, a_highBound, a_tupleCount, a_coef, a_tuples, a_newTuple, a_solution, a_todo, a_mark, a_work, a_trailVar, a_trailMask, a_queue, a_inVar, a_inMask, a_outMask, a_matchOf, a_owner, a_reachedFrom, a_bfs, a_reach, a_termCoef, a_termMin, a_span, a_forward, a_backward) (a_scopeOf (nI s).toNatClampNeg) v3))) ∧ (¬ v2 < (a_tupleCount (nI s).toNatClampNeg) → (wpY_tupleValue (fun r' => r' = -10 ∧ i_Rel (k + 5) (nI n, nI V, nI mc, nI ml, allM V, allM n, f_status, nI L, nI (ct L), f_searchState, f_searchDirection, f_foundCount, f_depth, f_trailSize, f_queueHead, f_queueSize, f_pendingMask, f_scopeSize, a_dom, a_savedDom, a_savedCount, a_savedStatus, a_kindOf, a_scopeOf, a_lowBound, a_highBound, a_tupleCount, a_coef, a_tuples, a_newTuple, a_solution, a_todo, a_mark, a_work, a_trailVar, a_trailMask, a_queue, a_inVar, a_inMask, a_outMask, a_matchOf, a_owner, a_reachedFrom, a_bfs, a_reach, a_termCoef, a_termMin, a_span, a_forward, a_backward) (nI n, nI V, nI mc, nI ml, nI L, f_searchState, f_searchDirection, f_foundCount, f_place, y_dom, y_status, y_count, a_kindOf, a_scopeOf, a_lowBound, a_highBound, a_coef, a_tupleCount, y_tuple, a_solution, y_value, y_work, y_seen, y_args)) (nI n, nI V, nI mc, nI ml, nI L, f_searchState, f_searchDirection, f_foundCount, f_place, y_dom, y_status, y_count, a_kindOf, a_scopeOf, a_lowBound, a_highBound, a_coef, a_tupleCount, y_tuple, a_solution, y_value, y_work, y_seen, y_args) v1 v2 v3)))))))))))) (nI n, nI V, nI mc, nI ml, allM V, allM n, f_status, nI L, nI (ct L), f_searchState, f_searchDirection, f_foundCount, f_depth, f_trailSize, f_queueHead, f_queueSize, f_pendingMask, f_scopeSize, a_dom, a_savedDom, a_savedCount, a_savedStatus, a_kindOf, a_scopeOf, a_lowBound, a_highBound, a_tupleCount, a_coef, a_tuples, a_newTuple, a_solution, a_todo, a_mark, a_work, a_trailVar, a_trailMask, a_queue, a_inVar, a_inMask, a_outMask, a_matchOf, a_owner, a_reachedFrom, a_bfs, a_reach, a_termCoef, a_termMin, a_span, a_forward, a_backward) v3)) ∧ (¬ 0 ≤ nI s → (wpY_tupleValue (fun r' => r' = -10 ∧ i_Rel (k + 5) (nI n, nI V, nI mc, nI ml, allM V, allM n, f_status, nI L, nI (ct L), f_searchState, f_searchDirection, f_foundCount, f_depth, f_trailSize, f_queueHead, f_queueSize, f_pendingMask, f_scopeSize, a_dom, a_savedDom, a_savedCount, a_savedStatus, a_kindOf, a_scopeOf, a_lowBound, a_highBound, a_tupleCount, a_coef, a_tuples, a_newTuple, a_solution, a_todo, a_mark, a_work, a_trailVar, a_trailMask, a_queue, a_inVar, a_inMask, a_outMask, a_matchOf, a_owner, a_reachedFrom, a_bfs, a_reach, a_termCoef, a_termMin, a_span, a_forward, a_backward) (nI n, nI V, nI mc, nI ml, nI L, f_searchState, f_searchDirection, f_foundCount, f_place, y_dom, y_status, y_count, a_kindOf, a_scopeOf, a_lowBound, a_highBound, a_coef, a_tupleCount, y_tuple, a_solution, y_value, y_work, y_seen, y_args)) (nI n, nI V, nI mc, nI ml, nI L, f_searchState, f_searchDirection, f_foundCount, f_place, y_dom, y_status, y_count, a_kindOf, a_scopeOf, a_lowBound, a_highBound, a_coef, a_tupleCount, y_tuple, a_solution, y_value, y_work, y_seen, y_args) v1 v2 v3))) := by
    intro s hs hrow hT h45
    obtain ⟨T, hT1, hT2, hT3⟩ := hT
    have hin : vp_in (nI s) 7 := vp_in_nI hs (by omega)
    have hcs : (nI s).toNatClampNeg = s := nI_clamp (by omega)
    rw [hcs, hT2]
    refine br_t (nI_pos' (by omega)) ?_
    unfold wpY_tupleValue
    rcases pk_ix v3 (n := n) (by omega) with h | h | ⟨x, hx, rfl⟩
    · exact xh_ivn (by omega) (Or.inl h) (hrow (br_f (nI_pos (by omega)) (br_t h ⟨rfl, same⟩)))
    · have z := big_nm1 (by omega) h
      exact xh_ivn (by omega) (Or.inr h) (hrow (br_f (nI_pos (by omega)) (br_f z.2.1 (br_f z.2.2.1 ⟨rfl, same⟩))))
    · refine xh_ivy (by omega) hx ?_
      rcases pk_ix v2 (n := T) (by omega) with h | h | ⟨t, ht, rfl⟩
      · exact br_t h (hrow (br_f (nI_pos (by omega)) (br_f (nI_pos (by omega)) (br_t (nI_lt hx (by omega)) (br_t h ⟨rfl, same⟩)))))
      · have z := big_nm1 (by omega) h
        refine br_f z.2.1 ⟨hin, br_f z.2.2.1 (hrow (br_f (nI_pos (by omega)) (br_f (nI_pos (by omega)) (br_t (nI_lt hx (by omega)) (br_f z.2.1 ⟨hin, ?_⟩)))))⟩
        rw [hcs, hT2]
        exact br_f z.2.2.1 ⟨rfl, same⟩
      · refine br_f (nI_pos (by omega)) ⟨hin, br_t (nI_lt ht (by omega)) ⟨hin, xh_hb (by omega) (fun hf => hrow (br_f (nI_pos (by omega)) (br_f (nI_pos (by omega)) (br_t (nI_lt hx (by omega)) (br_f (nI_pos (by omega)) ⟨hin, ?_⟩))))) (fun htr => ⟨hin, ?_⟩)⟩⟩
        · rw [hcs, hT2]
          refine br_t (nI_lt ht (by omega)) ⟨hin, yh_in (by omega) (fun _ => ⟨rfl, same⟩) (fun q => by rw [hf] at q; cases q)⟩
        · obtain ⟨b, hb, e1, e2⟩ := hT3 t x ht hx htr
          have hp := pc_lt htr (show x < 6 by omega)
          have ei : ((nI s * 40 + nI t * 4) + nI (pcN (a_scopeOf s) x) : Int32) = nI (s * 40 + t * 4 + pcN (a_scopeOf s) x) := by
            show nI s * nI 40 + nI t * nI 4 + nI (pcN (a_scopeOf s) x) = _
            rw [pk_mul, pk_mul, nI_add, nI_add]
          have ey : (((nI s * 10 + nI t) * 6) + nI x : Int32) = nI ((s * 10 + t) * 6 + x) := by
            show (nI s * nI 10 + nI t) * nI 6 + nI x = _
            rw [pk_mul, nI_add, pk_mul, nI_add]
          refine xh_cb ?_
          have hpb : pcN (a_scopeOf s &&& (((1 : Int32) <<< (nI x &&& 31)) - 1)) 6 = pcN (a_scopeOf s) x := pc_below _ (by omega)
          rw [hpb, ei]
          refine ⟨vp_in_nI (by rcases h45 with q | q <;> omega) (by omega), ?_⟩
          rw [show (nI (s * 40 + t * 4 + pcN (a_scopeOf s) x)).toNatClampNeg = s * 40 + t * 4 + pcN (a_scopeOf s) x from nI_clamp (by rcases h45 with q | q <;> omega), e2]
          refine hrow (br_f (nI_pos (by omega)) (br_f (nI_pos (by omega)) (br_t (nI_lt hx (by omega)) (br_f (nI_pos (by omega)) ⟨hin, ?_⟩))))
          rw [hcs, hT2, ey]
          refine br_t (nI_lt ht (by omega)) ⟨hin, yh_in (by omega) (fun q => by rw [htr] at q; cases q) (fun _ => ⟨vp_in_nI (by omega) (by omega), ?_, same⟩)⟩
          rw [nI_clamp (by omega)]; exact e1
  unfold wpX_tupleValue
  rcases sl_c v1 (cnt := ct L) (by omega) with h | h | ⟨c, hc, rfl⟩ | h
  · refine xh_son (by omega) (Or.inl h) (br_f (by decide) ?_)
    unfold wpY_tupleValue
    exact yh_rown (by omega) (by omega) hctL (Or.inl h) (br_t (by decide) ⟨rfl, same⟩)
  · subst h
    exact xh_so6 (by omega) (main 6 (by omega) (fun hP => yh_row6 (by omega) (by omega) hctL hP) hC.2.2.2.2.2.2.2.1 (Or.inl hC.2.2.2.2.2.2.1))
  · exact xh_soy (by omega) hc (main c (by omega) (fun hP => yh_rowy (by omega) (by omega) hctL hc hP) (hC.2.1 c hc).2.2.2.2.2.2 (Or.inr ⟨by omega, (hC.2.1 c hc).2.2.2.1⟩))
  · refine xh_son (by omega) (Or.inr h) (br_f (by decide) ?_)
    unfold wpY_tupleValue
    exact yh_rown (by omega) (by omega) hctL (Or.inr h) (br_t (by decide) ⟨rfl, same⟩)
theorem i_vc_info {k : Nat} {u : SX} {v : SY} (I : i_Rel k u v) (hk : k + 5 ≤ 2564) (v1 : Int32) : wpX_info (fun r => wpY_info (fun r' => r' = r ∧ i_Rel (k + 5) u v) v v1) u v1 := by
  refine zz_el (P := fun u v => wpX_info (fun r => wpY_info (fun r' => r' = r ∧ i_Rel (k + 5) u v) v v1) u v1) I ?_
  intro n V mc ml L ct f_status f_searchState f_searchDirection f_foundCount f_depth f_trailSize f_queueHead f_queueSize f_pendingMask f_scopeSize f_place a_dom a_savedDom a_savedCount a_savedStatus a_kindOf a_scopeOf a_lowBound a_highBound a_tupleCount a_coef a_tuples a_newTuple a_solution a_todo a_mark a_work a_trailVar a_trailMask a_queue a_inVar a_inMask a_outMask a_matchOf a_owner a_reachedFrom a_bfs a_reach a_termCoef a_termMin a_span a_forward a_backward y_dom y_status y_count y_tuple y_value y_work y_seen y_args hA hB hC hS
  have same : i_Rel (k + 5) (nI n, nI V, nI mc, nI ml, allM V, allM n, f_status, nI L, nI (ct L), f_searchState, f_searchDirection, f_foundCount, f_depth, f_trailSize, f_queueHead, f_queueSize, f_pendingMask, f_scopeSize, a_dom, a_savedDom, a_savedCount, a_savedStatus, a_kindOf, a_scopeOf, a_lowBound, a_highBound, a_tupleCount, a_coef, a_tuples, a_newTuple, a_solution, a_todo, a_mark, a_work, a_trailVar, a_trailMask, a_queue, a_inVar, a_inMask, a_outMask, a_matchOf, a_owner, a_reachedFrom, a_bfs, a_reach, a_termCoef, a_termMin, a_span, a_forward, a_backward) (nI n, nI V, nI mc, nI ml, nI L, f_searchState, f_searchDirection, f_foundCount, f_place, y_dom, y_status, y_count, a_kindOf, a_scopeOf, a_lowBound, a_highBound, a_coef, a_tupleCount, y_tuple, a_solution, y_value, y_work, y_seen, y_args) := zz_mk hA hB hC hS
  rcases pk_ix v1 (n := 8) (by omega) with h | h | ⟨x, hx, rfl⟩
  · exact br_t h (br_f (neg_ne h 0 (by omega)).1 (br_f (neg_ne h 1 (by omega)).1 (br_f (neg_ne h 2 (by omega)).1 (br_f (neg_ne h 3 (by omega)).1 (br_f (neg_ne h 4 (by omega)).1 (br_f (neg_ne h 5 (by omega)).1 (br_f (neg_ne h 6 (by omega)).1 (br_f (neg_ne h 7 (by omega)).1 ⟨rfl, same⟩))))))))
  · have z := fun j hj => (big_ne (m := 8) (by omega) h j hj).1
    have z0 := (big_ne (m := 8) (by omega) h 0 (by omega)).2.2.2
    exact br_f z0 (br_t (big_ne (m := 8) (by omega) h 7 (by omega)).2.2.1 (br_f (z 0 (by omega)) (br_f (z 1 (by omega)) (br_f (z 2 (by omega)) (br_f (z 3 (by omega)) (br_f (z 4 (by omega)) (br_f (z 5 (by omega)) (br_f (z 6 (by omega)) (br_f (z 7 (by omega)) ⟨rfl, same⟩)))))))))
  · rcases (by omega : x = 0 ∨ x = 1 ∨ x = 2 ∨ x = 3 ∨ x = 4 ∨ x = 5 ∨ x = 6 ∨ x = 7) with e | e | e | e | e | e | e | e <;> subst e
    · exact br_f (by decide) (br_f (by decide) (br_t rfl (br_t rfl ⟨rfl, same⟩)))
    · exact br_f (by decide) (br_f (by decide) (br_f (by decide) (br_t rfl (br_f (by decide) (br_t rfl ⟨rfl, same⟩)))))
    · exact br_f (by decide) (br_f (by decide) (br_f (by decide) (br_f (by decide) (br_t rfl (br_f (by decide) (br_f (by decide) (br_t rfl ⟨rfl, same⟩)))))))
    · exact br_f (by decide) (br_f (by decide) (br_f (by decide) (br_f (by decide) (br_f (by decide) (br_t rfl (br_f (by decide) (br_f (by decide) (br_f (by decide) (br_t rfl ⟨rfl, same⟩)))))))))
    · exact br_f (by decide) (br_f (by decide) (br_f (by decide) (br_f (by decide) (br_f (by decide) (br_f (by decide) (br_t rfl (br_f (by decide) (br_f (by decide) (br_f (by decide) (br_f (by decide) (br_t rfl ⟨rfl, same⟩)))))))))))
    · exact br_f (by decide) (br_f (by decide) (br_f (by decide) (br_f (by decide) (br_f (by decide) (br_f (by decide) (br_f (by decide) (br_t rfl (br_f (by decide) (br_f (by decide) (br_f (by decide) (br_f (by decide) (br_f (by decide) (br_t rfl ⟨rfl, same⟩)))))))))))))
    · exact br_f (by decide) (br_f (by decide) (br_f (by decide) (br_f (by decide) (br_f (by decide) (br_f (by decide) (br_f (by decide) (br_f (by decide) (br_t rfl (br_f (by decide) (br_f (by decide) (br_f (by decide) (br_f (by decide) (br_f (by decide) (br_f (by decide) (br_t rfl ⟨rfl, same⟩)))))))))))))))
    · exact br_f (by decide) (br_f (by decide) (br_f (by decide) (br_f (by decide) (br_f (by decide) (br_f (by decide) (br_f (by decide) (br_f (by decide) (br_f (by decide) (br_t rfl (br_f (by decide) (br_f (by decide) (br_f (by decide) (br_f (by decide) (br_f (by decide) (br_f (by decide) (br_f (by decide) (br_t rfl ⟨rfl, same⟩)))))))))))))))))
theorem i_vc_solutionValue {k : Nat} {u : SX} {v : SY} (I : i_Rel k u v) (hk : k + 5 ≤ 2564) (v1 : Int32) : wpX_solutionValue (fun r => wpY_solutionValue (fun r' => r' = r ∧ i_Rel (k + 5) u v) v v1) u v1 := by
  refine zz_el (P := fun u v => wpX_solutionValue (fun r => wpY_solutionValue (fun r' => r' = r ∧ i_Rel (k + 5) u v) v v1) u v1) I ?_
  intro n V mc ml L ct f_status f_searchState f_searchDirection f_foundCount f_depth f_trailSize f_queueHead f_queueSize f_pendingMask f_scopeSize f_place a_dom a_savedDom a_savedCount a_savedStatus a_kindOf a_scopeOf a_lowBound a_highBound a_tupleCount a_coef a_tuples a_newTuple a_solution a_todo a_mark a_work a_trailVar a_trailMask a_queue a_inVar a_inMask a_outMask a_matchOf a_owner a_reachedFrom a_bfs a_reach a_termCoef a_termMin a_span a_forward a_backward y_dom y_status y_count y_tuple y_value y_work y_seen y_args hA hB hC hS
  have same : i_Rel (k + 5) (nI n, nI V, nI mc, nI ml, allM V, allM n, f_status, nI L, nI (ct L), f_searchState, f_searchDirection, f_foundCount, f_depth, f_trailSize, f_queueHead, f_queueSize, f_pendingMask, f_scopeSize, a_dom, a_savedDom, a_savedCount, a_savedStatus, a_kindOf, a_scopeOf, a_lowBound, a_highBound, a_tupleCount, a_coef, a_tuples, a_newTuple, a_solution, a_todo, a_mark, a_work, a_trailVar, a_trailMask, a_queue, a_inVar, a_inMask, a_outMask, a_matchOf, a_owner, a_reachedFrom, a_bfs, a_reach, a_termCoef, a_termMin, a_span, a_forward, a_backward) (nI n, nI V, nI mc, nI ml, nI L, f_searchState, f_searchDirection, f_foundCount, f_place, y_dom, y_status, y_count, a_kindOf, a_scopeOf, a_lowBound, a_highBound, a_coef, a_tupleCount, y_tuple, a_solution, y_value, y_work, y_seen, y_args) := zz_mk hA hB hC hS
  obtain ⟨a1, a2, a3, a4, a5, a6, a7, a8⟩ := hA
  by_cases h2 : f_searchState = 2
  · refine br_t h2 ?_
    rcases pk_ix v1 (n := n) (by omega) with h | h | ⟨x, hx, rfl⟩
    · exact xh_ivn (by omega) (Or.inl h) (br_t h2 (br_t h ⟨rfl, same⟩))
    · have z := big_nm1 (by omega) h
      exact xh_ivn (by omega) (Or.inr h) (br_t h2 (br_f z.2.1 (br_f z.2.2.1 ⟨rfl, same⟩)))
    · exact xh_ivy (by omega) hx ⟨vp_in_nI (by omega) (by omega), br_t h2 (br_f (nI_pos (by omega)) (br_t (nI_lt hx (by omega)) ⟨vp_in_nI (by omega) (by omega), rfl, same⟩))⟩
  · exact br_f h2 (br_f h2 ⟨rfl, same⟩)
end
section
/-! restrict, setCoefficient, beginTable, push, pop, startSearch -/
theorem COk_c {n V : Nat} {kd sc tc co xt tu kd' sc' tc' co' xt' tu' : Nat → Int32} {c : Nat} (hn : n ≤ 6) (h : COk n V kd sc tc co xt tu c) (e1 : kd' c = kd c) (e2 : sc' c = sc c) (e3 : tc' c = tc c) (e4 : ∀ x, x < 6 → co' (c * 6 + x) = co (c * 6 + x))
    (e5 : ∀ j, c * 40 ≤ j → j < c * 40 + 40 → xt' j = xt j) (e6 : ∀ j, c * 60 ≤ j → j < c * 60 + 60 → tu' j = tu j) : COk n V kd' sc' tc' co' xt' tu' c := by
  obtain ⟨h1, h2, h3, h4, h5, h6, h7⟩ := h
  refine ⟨by rw [e1]; exact h1, by rw [e2]; exact h2, by rw [e2]; exact h3, by rw [e2]; exact h4, ⟨by rw [e1, e2]; exact h5.1, by rw [e1, e3]; exact h5.2⟩, fun k2 x hx => ?_, TOk_c h7 e2 e3 e5 e6 hn ?_⟩
  · rw [e1] at k2
    rw [e4 x hx, e2]; exact h6 k2 x hx
  · by_cases k3 : kd c = 3
    · exact Or.inl (h5.1 k3)
    · exact Or.inr (h5.2 k3)
theorem rc_co {n V mc cnt : Nat} {kd sc lo hi tc co xt tu co' : Nat → Int32} (hn : n ≤ 6) (hm : mc ≤ 6) (h : RC n V mc cnt kd sc lo hi tc co xt tu) (e : ∀ j, j < 36 → co' j = co j) (d1 : ∀ x, x < 6 → ∃ z : Int, -3 ≤ z ∧ z ≤ 3 ∧ co' (36 + x) = iZ z) (d2 : ∀ x, n ≤ x → x < 6 → co' (36 + x) = 0) : RC n V mc cnt kd sc lo hi tc co' xt tu := by
  obtain ⟨h1, h2, h3, h4, h5, h6, h7, h8, h9, h10⟩ := h
  exact ⟨h1, fun c hc => COk_c hn (h2 c hc) rfl rfl rfl (fun x hx => e _ (by omega)) (fun _ _ _ => rfl) (fun _ _ _ => rfl), h3, h4, h5, h6, h7, h8, d1, d2⟩
theorem rc_cnt {n V mc cnt cnt' : Nat} {kd sc lo hi tc co xt tu : Nat → Int32} (h : RC n V mc cnt kd sc lo hi tc co xt tu) (hc : cnt' ≤ cnt) : RC n V mc cnt' kd sc lo hi tc co xt tu := by
  obtain ⟨h1, h2, h3⟩ := h
  exact ⟨by omega, fun c hc => h2 c (by omega), h3⟩
theorem rc_draft {n V mc cnt : Nat} {kd sc lo hi tc co xt tu : Nat → Int32} {s : Int32} (hn : n ≤ 6) (hm : mc ≤ 6) (h : RC n V mc cnt kd sc lo hi tc co xt tu) (hs : Msk n s) (h4 : pcN s 6 ≤ 4) : RC n V mc cnt kd (upd sc 6 s) lo hi (upd tc 6 0) co xt tu := by
  obtain ⟨h1, h2, h3, h4', h5, h6, h7, h8, h9, h10⟩ := h
  refine ⟨h1, fun c hc => COk_c hn (h2 c hc) rfl (pk_un (by omega)) (pk_un (by omega)) (fun _ _ => rfl) (fun _ _ _ => rfl) (fun _ _ _ => rfl), h3, h4', h5, by rw [pk_us]; exact hs, by rw [pk_us]; exact h4, ⟨0, by omega, pk_us, fun t x ht => absurd ht (by omega)⟩, h9, h10⟩
theorem rb_push {V L : Nat} {ct : Nat → Nat} {f_status : Int32} {a_dom a_savedDom a_savedCount a_savedStatus y_dom y_status y_count : Nat → Int32} (h : RB V L ct f_status a_dom a_savedDom a_savedCount a_savedStatus y_dom y_status y_count) :
    RB V (L + 1) (fun l => if l = L + 1 then ct L else ct l) f_status a_dom (putR (L * 6) 6 a_dom a_savedDom) (upd a_savedCount L (nI (ct L))) (upd a_savedStatus L f_status) (putR ((L + 1) * 6) 6 (fun x => y_dom (L * 6 + x)) y_dom) (upd y_status (L + 1) (y_status L)) (upd y_count (L + 1) (y_count L)) := by
  obtain ⟨h1, h2, h3, h4, h5, h6, h7, h8⟩ := h
  refine ⟨fun x hx => by rw [pt_in hx]; exact h1 x hx, fun l x hl hx => ?_, fun l x hl hx => ?_, by rw [pk_us]; exact h4, fun l hl => ?_, fun l hl => ?_, fun l hl => ?_, fun l hl => ?_⟩
  · rw [pt_out (by omega)]
    by_cases z : l = L
    · rw [z, pt_in hx]; exact h1 x hx
    · rw [pt_out (by omega)]; exact h2 l x (by omega) hx
  · by_cases z : l = L + 1
    · rw [z, pt_in hx]; exact h3 L x (Nat.le_refl _) hx
    · rw [pt_out (by omega)]; exact h3 l x (by omega) hx
  · rw [pk_un (by omega)]
    by_cases z : l = L
    · rw [z, pk_us]; exact h4
    · rw [pk_un z]; exact h5 l (by omega)
  · show upd y_count (L + 1) (y_count L) l = nI (if l = L + 1 then ct L else ct l)
    by_cases z : l = L + 1
    · rw [if_pos z, z, pk_us]; exact h6 L (Nat.le_refl _)
    · rw [if_neg z, pk_un z]; exact h6 l (by omega)
  · show upd a_savedCount L (nI (ct L)) l = nI (if l = L + 1 then ct L else ct l)
    rw [if_neg (by omega)]
    by_cases z : l = L
    · rw [z, pk_us]
    · rw [pk_un z]; exact h7 l (by omega)
  · show (if l = L + 1 then ct L else ct l) ≤ (if l + 1 = L + 1 then ct L else ct (l + 1))
    rw [if_neg (by omega)]
    by_cases z : l = L
    · rw [if_pos (by omega), z]; exact Nat.le_refl _
    · rw [if_neg (by omega)]; exact h8 l (by omega)
theorem rb_pop {V L : Nat} {ct : Nat → Nat} {f_status : Int32} {a_dom a_savedDom a_savedCount a_savedStatus y_dom y_status y_count : Nat → Int32} (h : RB V (L + 1) ct f_status a_dom a_savedDom a_savedCount a_savedStatus y_dom y_status y_count) :
    RB V L ct (a_savedStatus L) (putR 0 6 (fun x => a_savedDom (L * 6 + x)) a_dom) a_savedDom a_savedCount a_savedStatus y_dom y_status y_count := by
  obtain ⟨h1, h2, h3, h4, h5, h6, h7, h8⟩ := h
  refine ⟨fun x hx => ?_, fun l x hl hx => h2 l x (by omega) hx, fun l x hl hx => h3 l x (by omega) hx, h5 L (by omega), fun l hl => h5 l (by omega), fun l hl => h6 l (by omega), fun l hl => h7 l (by omega), fun l hl => h8 l (by omega)⟩
  have := pt_in (b := 0) (w := fun x => a_savedDom (L * 6 + x)) (f := a_dom) hx
  rw [Nat.zero_add] at this
  rw [this]; exact h2 L x (by omega) hx
theorem ix36 (x : Nat) : (36 + nI x : Int32) = nI (36 + x) := nI_add 36 x
theorem i_vc_restrict {k : Nat} {u : SX} {v : SY} (I : i_Rel k u v) (hk : k + 5 ≤ 2564) (v1 : Int32) (v2 : Int32) : wpX_restrict (fun r u' => wpY_restrict (fun r' v' => r' = r ∧ i_Rel (k + 5) u' v') v v1 v2) u v1 v2 := by
  refine zz_el (P := fun u v => wpX_restrict (fun r u' => wpY_restrict (fun r' v' => r' = r ∧ i_Rel (k + 5) u' v') v v1 v2) u v1 v2) I ?_
  intro n V mc ml L ct f_status f_searchState f_searchDirection f_foundCount f_depth f_trailSize f_queueHead f_queueSize f_pendingMask f_scopeSize f_place a_dom a_savedDom a_savedCount a_savedStatus a_kindOf a_scopeOf a_lowBound a_highBound a_tupleCount a_coef a_tuples a_newTuple a_solution a_todo a_mark a_work a_trailVar a_trailMask a_queue a_inVar a_inMask a_outMask a_matchOf a_owner a_reachedFrom a_bfs a_reach a_termCoef a_termMin a_span a_forward a_backward y_dom y_status y_count y_tuple y_value y_work y_seen y_args hA hB hC hS
  have same : i_Rel (k + 5) (nI n, nI V, nI mc, nI ml, allM V, allM n, f_status, nI L, nI (ct L), f_searchState, f_searchDirection, f_foundCount, f_depth, f_trailSize, f_queueHead, f_queueSize, f_pendingMask, f_scopeSize, a_dom, a_savedDom, a_savedCount, a_savedStatus, a_kindOf, a_scopeOf, a_lowBound, a_highBound, a_tupleCount, a_coef, a_tuples, a_newTuple, a_solution, a_todo, a_mark, a_work, a_trailVar, a_trailMask, a_queue, a_inVar, a_inMask, a_outMask, a_matchOf, a_owner, a_reachedFrom, a_bfs, a_reach, a_termCoef, a_termMin, a_span, a_forward, a_backward) (nI n, nI V, nI mc, nI ml, nI L, f_searchState, f_searchDirection, f_foundCount, f_place, y_dom, y_status, y_count, a_kindOf, a_scopeOf, a_lowBound, a_highBound, a_coef, a_tupleCount, y_tuple, a_solution, y_value, y_work, y_seen, y_args) := zz_mk hA hB hC hS
  have hL6 : L < 6 := by have := hA.2.2.2.2.2.2; omega
  by_cases hs : f_searchState = 0
  rotate_left
  · unfold wpX_restrict
    refine xh_r11 hs ?_
    dsimp only
    unfold wpY_restrict
    exact yh_r11 hs ⟨rfl, same⟩
  by_cases ht : f_status = -12
  · unfold wpX_restrict
    refine xh_r12 hs ht ?_
    dsimp only
    unfold wpY_restrict
    exact yh_r12 hL6 hs (hB.2.2.2.1.trans ht) ⟨rfl, same⟩
  have ht' : ¬ y_status L = -12 := fun e => ht (hB.2.2.2.1.symm.trans e)
  have hA0 := hA
  obtain ⟨a1, a2, a3, a4, a5, a6, a7, a8⟩ := hA
  unfold wpX_restrict
  refine xh_r0 hs ht ?_
  rcases pk_ix v1 (n := n) (by omega) with h | h | ⟨x, hx, rfl⟩
  · refine xh_ivn (by omega) (Or.inl h) ?_
    unfold wpY_restrict
    exact yh_r0 hL6 hs ht' (br_t h ⟨rfl, same⟩)
  · have z := big_nm1 (by omega) h
    refine xh_ivn (by omega) (Or.inr h) ?_
    unfold wpY_restrict
    exact yh_r0 hL6 hs ht' (br_f z.2.1 (br_f z.2.2.1 ⟨rfl, same⟩))
  · have hcx : (nI x).toNatClampNeg = x := nI_clamp (by omega)
    have hcy : (nI (L * 6 + x)).toNatClampNeg = L * 6 + x := nI_clamp (by omega)
    have hcL : (nI L).toNatClampNeg = L := nI_clamp (by omega)
    have hy := hB.1 x (by omega)
    refine xh_ivy (by omega) hx ⟨vp_in_nI (by omega) (by omega), nm_r (e' := a_dom x) (by rw [hcx]) (nm_e ?_)⟩
    unfold wpY_restrict
    by_cases z0 : a_dom x &&& v2 = 0
    · refine br_t z0 (yh_r0 hL6 hs ht' (br_f (nI_pos (by omega)) (br_t (nI_lt hx (by omega)) ?_)))
      rw [ix6]
      exact ⟨vp_in_nI (by omega) (by omega), nm_r (e' := a_dom x) (by rw [hcy]; exact hy) (nm_e (br_t z0 ⟨vp_in_nI hL6 (by omega), nm_r (e' := upd y_status L (-12)) (by rw [hcL]) ⟨rfl, zz_mk hA0 (rb_st (-12) hB) hC (rs_0 hs)⟩⟩))⟩
    · refine br_f z0 ?_
      by_cases z1 : a_dom x &&& v2 = a_dom x
      · refine br_t z1 (yh_r0 hL6 hs ht' (br_f (nI_pos (by omega)) (br_t (nI_lt hx (by omega)) ?_)))
        rw [ix6]
        exact ⟨vp_in_nI (by omega) (by omega), nm_r (e' := a_dom x) (by rw [hcy]; exact hy) (nm_e (br_f z0 (br_t z1 ⟨rfl, same⟩)))⟩
      · refine br_f z1 ⟨vp_in_nI (by omega) (by omega), nm_r (e' := upd a_dom x (a_dom x &&& v2)) (by rw [hcx]) (xh_cb (yh_r0 hL6 hs ht' (br_f (nI_pos (by omega)) (br_t (nI_lt hx (by omega)) ?_))))⟩
        rw [ix6]
        refine ⟨vp_in_nI (by omega) (by omega), nm_r (e' := a_dom x) (by rw [hcy]; exact hy) (nm_e (br_f z0 (br_f z1 ⟨vp_in_nI (by omega) (by omega), nm_r (e' := upd y_dom (L * 6 + x) (a_dom x &&& v2)) (by rw [hcy]) ⟨vp_in_nI hL6 (by omega), nm_r (e' := upd y_status L 1) (by rw [hcL]) (yh_sz ⟨rfl, zz_mk hA0 (rb_st 1 (rb_dom hB (fun y hy' => ?_) (fun j hj => ?_) (fun y hy' => ?_))) hC (rs_0 hs)⟩)⟩⟩)))⟩
        · by_cases q : y = x
          · rw [q, pk_us, pk_us]
          · rw [pk_un q, pk_un (by omega)]; exact hB.1 y hy'
        · rw [pk_un (by omega)]
        · by_cases q : y = x
          · rw [q, pk_us]; exact ⟨mk_and (rb_pv hB x (by omega)).1, gb_ne0.mp z0⟩
          · rw [pk_un q]; exact rb_pv hB y hy'
theorem i_vc_setCoefficient {k : Nat} {u : SX} {v : SY} (I : i_Rel k u v) (hk : k + 5 ≤ 2564) (v1 : Int32) (v2 : Int32) : wpX_setCoefficient (fun r u' => wpY_setCoefficient (fun r' v' => r' = r ∧ i_Rel (k + 5) u' v') v v1 v2) u v1 v2 := by
  refine zz_el (P := fun u v => wpX_setCoefficient (fun r u' => wpY_setCoefficient (fun r' v' => r' = r ∧ i_Rel (k + 5) u' v') v v1 v2) u v1 v2) I ?_
  intro n V mc ml L ct f_status f_searchState f_searchDirection f_foundCount f_depth f_trailSize f_queueHead f_queueSize f_pendingMask f_scopeSize f_place a_dom a_savedDom a_savedCount a_savedStatus a_kindOf a_scopeOf a_lowBound a_highBound a_tupleCount a_coef a_tuples a_newTuple a_solution a_todo a_mark a_work a_trailVar a_trailMask a_queue a_inVar a_inMask a_outMask a_matchOf a_owner a_reachedFrom a_bfs a_reach a_termCoef a_termMin a_span a_forward a_backward y_dom y_status y_count y_tuple y_value y_work y_seen y_args hA hB hC hS
  have same : i_Rel (k + 5) (nI n, nI V, nI mc, nI ml, allM V, allM n, f_status, nI L, nI (ct L), f_searchState, f_searchDirection, f_foundCount, f_depth, f_trailSize, f_queueHead, f_queueSize, f_pendingMask, f_scopeSize, a_dom, a_savedDom, a_savedCount, a_savedStatus, a_kindOf, a_scopeOf, a_lowBound, a_highBound, a_tupleCount, a_coef, a_tuples, a_newTuple, a_solution, a_todo, a_mark, a_work, a_trailVar, a_trailMask, a_queue, a_inVar, a_inMask, a_outMask, a_matchOf, a_owner, a_reachedFrom, a_bfs, a_reach, a_termCoef, a_termMin, a_span, a_forward, a_backward) (nI n, nI V, nI mc, nI ml, nI L, f_searchState, f_searchDirection, f_foundCount, f_place, y_dom, y_status, y_count, a_kindOf, a_scopeOf, a_lowBound, a_highBound, a_coef, a_tupleCount, y_tuple, a_solution, y_value, y_work, y_seen, y_args) := zz_mk hA hB hC hS
  have hL6 : L < 6 := by have := hA.2.2.2.2.2.2; omega
  by_cases hs : f_searchState = 0
  rotate_left
  · unfold wpX_setCoefficient
    refine xh_r11 hs ?_
    dsimp only
    unfold wpY_setCoefficient
    exact yh_r11 hs ⟨rfl, same⟩
  by_cases ht : f_status = -12
  · unfold wpX_setCoefficient
    refine xh_r12 hs ht ?_
    dsimp only
    unfold wpY_setCoefficient
    exact yh_r12 hL6 hs (hB.2.2.2.1.trans ht) ⟨rfl, same⟩
  have ht' : ¬ y_status L = -12 := fun e => ht (hB.2.2.2.1.symm.trans e)
  have hA0 := hA
  obtain ⟨a1, a2, a3, a4, a5, a6, a7, a8⟩ := hA
  unfold wpX_setCoefficient
  refine xh_r0 hs ht ?_
  rcases pk_ix v1 (n := n) (by omega) with h | h | ⟨x, hx, rfl⟩
  · refine xh_ivn (by omega) (Or.inl h) ?_
    unfold wpY_setCoefficient
    exact yh_r0 hL6 hs ht' (br_t h ⟨rfl, same⟩)
  · have z := big_nm1 (by omega) h
    refine xh_ivn (by omega) (Or.inr h) ?_
    unfold wpY_setCoefficient
    exact yh_r0 hL6 hs ht' (br_f z.2.1 (br_f z.2.2.1 ⟨rfl, same⟩))
  · have hcx : (nI (36 + x)).toNatClampNeg = 36 + x := nI_clamp (by omega)
    refine xh_ivy (by omega) hx ?_
    unfold wpY_setCoefficient
    by_cases z1 : v2 < -3
    · exact br_t z1 (yh_r0 hL6 hs ht' (br_f (nI_pos (by omega)) (br_t (nI_lt hx (by omega)) (br_t z1 ⟨rfl, same⟩))))
    · refine br_f z1 ?_
      by_cases z2 : v2 ≤ 3
      · refine br_t z2 ?_
        rw [ix36]
        refine ⟨vp_in_nI (by omega) (by omega), nm_r (e' := upd a_coef (36 + x) v2) (by rw [hcx]) (xh_ds (by omega) (xh_cb (yh_r0 hL6 hs ht' (br_f (nI_pos (by omega)) (br_t (nI_lt hx (by omega)) (br_f z1 (br_t z2 ⟨vp_in_nI (by omega) (by omega), nm_r (e' := upd a_coef (36 + x) v2) (by rw [hcx]) (yh_ds (by omega) (yh_sz ⟨rfl, zz_mk hA0 hB (rc_co (by omega) (by omega) hC (fun j hj => ?_) (fun y hy => ?_) (fun y hy hy6 => ?_)) (rs_0 hs)⟩))⟩)))))))⟩
        · rw [pk_un (by omega)]
        · by_cases q : y = x
          · refine ⟨v2.toInt, ?_, ?_, by rw [q, pk_us]; exact (iz_of v2).symm⟩
            · rw [Int32.lt_iff_toInt_lt, show (-3 : Int32).toInt = -3 by decide] at z1; omega
            · rw [Int32.le_iff_toInt_le, show (3 : Int32).toInt = 3 by decide] at z2; omega
          · rw [pk_un (by omega)]; exact hC.2.2.2.2.2.2.2.2.1 y hy
        · rw [pk_un (by omega)]; exact hC.2.2.2.2.2.2.2.2.2 y hy hy6
      · exact br_f z2 (yh_r0 hL6 hs ht' (br_f (nI_pos (by omega)) (br_t (nI_lt hx (by omega)) (br_f z1 (br_f z2 ⟨rfl, same⟩)))))
theorem i_vc_beginTable {k : Nat} {u : SX} {v : SY} (I : i_Rel k u v) (hk : k + 5 ≤ 2564) (v1 : Int32) : wpX_beginTable (fun r u' => wpY_beginTable (fun r' v' => r' = r ∧ i_Rel (k + 5) u' v') v v1) u v1 := by
  refine zz_el (P := fun u v => wpX_beginTable (fun r u' => wpY_beginTable (fun r' v' => r' = r ∧ i_Rel (k + 5) u' v') v v1) u v1) I ?_
  intro n V mc ml L ct f_status f_searchState f_searchDirection f_foundCount f_depth f_trailSize f_queueHead f_queueSize f_pendingMask f_scopeSize f_place a_dom a_savedDom a_savedCount a_savedStatus a_kindOf a_scopeOf a_lowBound a_highBound a_tupleCount a_coef a_tuples a_newTuple a_solution a_todo a_mark a_work a_trailVar a_trailMask a_queue a_inVar a_inMask a_outMask a_matchOf a_owner a_reachedFrom a_bfs a_reach a_termCoef a_termMin a_span a_forward a_backward y_dom y_status y_count y_tuple y_value y_work y_seen y_args hA hB hC hS
  have same : i_Rel (k + 5) (nI n, nI V, nI mc, nI ml, allM V, allM n, f_status, nI L, nI (ct L), f_searchState, f_searchDirection, f_foundCount, f_depth, f_trailSize, f_queueHead, f_queueSize, f_pendingMask, f_scopeSize, a_dom, a_savedDom, a_savedCount, a_savedStatus, a_kindOf, a_scopeOf, a_lowBound, a_highBound, a_tupleCount, a_coef, a_tuples, a_newTuple, a_solution, a_todo, a_mark, a_work, a_trailVar, a_trailMask, a_queue, a_inVar, a_inMask, a_outMask, a_matchOf, a_owner, a_reachedFrom, a_bfs, a_reach, a_termCoef, a_termMin, a_span, a_forward, a_backward) (nI n, nI V, nI mc, nI ml, nI L, f_searchState, f_searchDirection, f_foundCount, f_place, y_dom, y_status, y_count, a_kindOf, a_scopeOf, a_lowBound, a_highBound, a_coef, a_tupleCount, y_tuple, a_solution, y_value, y_work, y_seen, y_args) := zz_mk hA hB hC hS
  have hL6 : L < 6 := by have := hA.2.2.2.2.2.2; omega
  by_cases hs : f_searchState = 0
  rotate_left
  · unfold wpX_beginTable
    refine xh_r11 hs ?_
    dsimp only
    unfold wpY_beginTable
    exact yh_r11 hs ⟨rfl, same⟩
  by_cases ht : f_status = -12
  · unfold wpX_beginTable
    refine xh_r12 hs ht ?_
    dsimp only
    unfold wpY_beginTable
    exact yh_r12 hL6 hs (hB.2.2.2.1.trans ht) ⟨rfl, same⟩
  have ht' : ¬ y_status L = -12 := fun e => ht (hB.2.2.2.1.symm.trans e)
  have hA0 := hA
  obtain ⟨a1, a2, a3, a4, a5, a6, a7, a8⟩ := hA
  unfold wpX_beginTable
  refine xh_r0 hs ht ?_
  by_cases z : Msk n v1
  · refine br_t ((am_x (by omega) v1).mpr z) (xh_cb ?_)
    have zy := (am_y (show n ≤ 6 by omega) v1).mpr z
    unfold wpY_beginTable
    have hp6 := pc_le v1 6
    by_cases z1 : pcN v1 6 < 1
    · have c1 : nI (pcN v1 6) < 1 := nI_lt (b := 1) z1 (by decide)
      exact br_t c1 (yh_r0 hL6 hs ht' (br_t zy (yh_sz (br_t c1 ⟨rfl, same⟩))))
    · have c1 : ¬ nI (pcN v1 6) < 1 := nI_nlt (b := 1) (by omega) (by omega)
      refine br_f c1 ?_
      by_cases z2 : pcN v1 6 ≤ 4
      · have c2 : nI (pcN v1 6) ≤ 4 := nI_le (b := 4) z2 (by decide)
        exact br_t c2 (nm_e (nm_e (yh_r0 hL6 hs ht' (br_t zy (yh_sz (br_f c1 (yh_sz (br_t c2 (nm_e (nm_e (yh_sz ⟨rfl, zz_mk hA0 hB (rc_draft (by omega) (by omega) hC z z2) (rs_0 hs)⟩)))))))))))
      · have c2 : ¬ nI (pcN v1 6) ≤ 4 := nI_ge (a := 4) (by omega) (by omega)
        exact br_f c2 (yh_r0 hL6 hs ht' (br_t zy (yh_sz (br_f c1 (yh_sz (br_f c2 ⟨rfl, same⟩))))))
  · have zx : ¬ (v1 &&& (allM n ^^^ (-1))) = 0 := fun e => z ((am_x (by omega) v1).mp e)
    have zy : ¬ (v1.toUInt32 >>> ((nI n).toUInt32 &&& Int32.toUInt32 31)).toInt32 = 0 := fun e => z ((am_y (by omega) v1).mp e)
    refine br_f zx ?_
    unfold wpY_beginTable
    exact yh_r0 hL6 hs ht' (br_f zy ⟨rfl, same⟩)
theorem i_vc_startSearch {k : Nat} {u : SX} {v : SY} (I : i_Rel k u v) (hk : k + 5 ≤ 2564) (v1 : Int32) : wpX_startSearch (fun r u' => wpY_startSearch (fun r' v' => r' = r ∧ i_Rel (k + 5) u' v') v v1) u v1 := by
  refine zz_el (P := fun u v => wpX_startSearch (fun r u' => wpY_startSearch (fun r' v' => r' = r ∧ i_Rel (k + 5) u' v') v v1) u v1) I ?_
  intro n V mc ml L ct f_status f_searchState f_searchDirection f_foundCount f_depth f_trailSize f_queueHead f_queueSize f_pendingMask f_scopeSize f_place a_dom a_savedDom a_savedCount a_savedStatus a_kindOf a_scopeOf a_lowBound a_highBound a_tupleCount a_coef a_tuples a_newTuple a_solution a_todo a_mark a_work a_trailVar a_trailMask a_queue a_inVar a_inMask a_outMask a_matchOf a_owner a_reachedFrom a_bfs a_reach a_termCoef a_termMin a_span a_forward a_backward y_dom y_status y_count y_tuple y_value y_work y_seen y_args hA hB hC hS
  have same : i_Rel (k + 5) (nI n, nI V, nI mc, nI ml, allM V, allM n, f_status, nI L, nI (ct L), f_searchState, f_searchDirection, f_foundCount, f_depth, f_trailSize, f_queueHead, f_queueSize, f_pendingMask, f_scopeSize, a_dom, a_savedDom, a_savedCount, a_savedStatus, a_kindOf, a_scopeOf, a_lowBound, a_highBound, a_tupleCount, a_coef, a_tuples, a_newTuple, a_solution, a_todo, a_mark, a_work, a_trailVar, a_trailMask, a_queue, a_inVar, a_inMask, a_outMask, a_matchOf, a_owner, a_reachedFrom, a_bfs, a_reach, a_termCoef, a_termMin, a_span, a_forward, a_backward) (nI n, nI V, nI mc, nI ml, nI L, f_searchState, f_searchDirection, f_foundCount, f_place, y_dom, y_status, y_count, a_kindOf, a_scopeOf, a_lowBound, a_highBound, a_coef, a_tupleCount, y_tuple, a_solution, y_value, y_work, y_seen, y_args) := zz_mk hA hB hC hS
  have hL6 : L < 6 := by have := hA.2.2.2.2.2.2; omega
  by_cases hs : f_searchState = 0
  rotate_left
  · unfold wpX_startSearch
    refine xh_r11 hs ?_
    dsimp only
    unfold wpY_startSearch
    exact yh_r11 hs ⟨rfl, same⟩
  by_cases ht : f_status = -12
  · unfold wpX_startSearch
    refine xh_r12 hs ht ?_
    dsimp only
    unfold wpY_startSearch
    exact yh_r12 hL6 hs (hB.2.2.2.1.trans ht) ⟨rfl, same⟩
  have ht' : ¬ y_status L = -12 := fun e => ht (hB.2.2.2.1.symm.trans e)
  have hA0 := hA
  unfold wpX_startSearch
  refine xh_r0 hs ht ?_
  unfold wX_startSearch_23 wpY_startSearch wY_startSearch_23
  have fin : i_Rel (k + 5) (nI n, nI V, nI mc, nI ml, allM V, allM n, f_status, nI L, nI (ct L), 1, v1, 0, f_depth, f_trailSize, f_queueHead, f_queueSize, f_pendingMask, f_scopeSize, a_dom, a_savedDom, a_savedCount, a_savedStatus, a_kindOf, a_scopeOf, a_lowBound, a_highBound, a_tupleCount, a_coef, a_tuples, a_newTuple, a_solution, a_todo, a_mark, a_work, a_trailVar, a_trailMask, a_queue, a_inVar, a_inMask, a_outMask, a_matchOf, a_owner, a_reachedFrom, a_bfs, a_reach, a_termCoef, a_termMin, a_span, a_forward, a_backward) (nI n, nI V, nI mc, nI ml, nI L, 1, v1, 0, -1, y_dom, y_status, y_count, a_kindOf, a_scopeOf, a_lowBound, a_highBound, a_coef, a_tupleCount, y_tuple, a_solution, y_value, y_work, y_seen, y_args) :=
    zz_mk hA0 hB hC ⟨Or.inr (Or.inl rfl), fun _ => rfl, fun e => absurd e (by decide)⟩
  by_cases z0 : v1 = 0
  · exact br_t z0 (yh_r0 hL6 hs ht' (br_t z0 ⟨rfl, fin⟩))
  · refine br_f z0 ?_
    by_cases z1 : v1 = 1
    · exact br_t z1 (yh_r0 hL6 hs ht' (br_f z0 (br_t z1 ⟨rfl, fin⟩)))
    · exact br_f z1 (yh_r0 hL6 hs ht' (br_f z0 (br_f z1 ⟨rfl, same⟩)))
theorem i_vc_push {k : Nat} {u : SX} {v : SY} (I : i_Rel k u v) (hk : k + 5 ≤ 2564) : wpX_push (fun r u' => wpY_push (fun r' v' => r' = r ∧ i_Rel (k + 5) u' v') v) u := by
  refine zz_el (P := fun u v => wpX_push (fun r u' => wpY_push (fun r' v' => r' = r ∧ i_Rel (k + 5) u' v') v) u) I ?_
  intro n V mc ml L ct f_status f_searchState f_searchDirection f_foundCount f_depth f_trailSize f_queueHead f_queueSize f_pendingMask f_scopeSize f_place a_dom a_savedDom a_savedCount a_savedStatus a_kindOf a_scopeOf a_lowBound a_highBound a_tupleCount a_coef a_tuples a_newTuple a_solution a_todo a_mark a_work a_trailVar a_trailMask a_queue a_inVar a_inMask a_outMask a_matchOf a_owner a_reachedFrom a_bfs a_reach a_termCoef a_termMin a_span a_forward a_backward y_dom y_status y_count y_tuple y_value y_work y_seen y_args hA hB hC hS
  have same : i_Rel (k + 5) (nI n, nI V, nI mc, nI ml, allM V, allM n, f_status, nI L, nI (ct L), f_searchState, f_searchDirection, f_foundCount, f_depth, f_trailSize, f_queueHead, f_queueSize, f_pendingMask, f_scopeSize, a_dom, a_savedDom, a_savedCount, a_savedStatus, a_kindOf, a_scopeOf, a_lowBound, a_highBound, a_tupleCount, a_coef, a_tuples, a_newTuple, a_solution, a_todo, a_mark, a_work, a_trailVar, a_trailMask, a_queue, a_inVar, a_inMask, a_outMask, a_matchOf, a_owner, a_reachedFrom, a_bfs, a_reach, a_termCoef, a_termMin, a_span, a_forward, a_backward) (nI n, nI V, nI mc, nI ml, nI L, f_searchState, f_searchDirection, f_foundCount, f_place, y_dom, y_status, y_count, a_kindOf, a_scopeOf, a_lowBound, a_highBound, a_coef, a_tupleCount, y_tuple, a_solution, y_value, y_work, y_seen, y_args) := zz_mk hA hB hC hS
  have hL6 : L < 6 := by have := hA.2.2.2.2.2.2; omega
  by_cases hs : f_searchState = 0
  rotate_left
  · unfold wpX_push
    refine xh_r11 hs ?_
    dsimp only
    unfold wpY_push
    exact yh_r11 hs ⟨rfl, same⟩
  by_cases ht : f_status = -12
  · unfold wpX_push
    refine xh_r12 hs ht ?_
    dsimp only
    unfold wpY_push
    exact yh_r12 hL6 hs (hB.2.2.2.1.trans ht) ⟨rfl, same⟩
  have ht' : ¬ y_status L = -12 := fun e => ht (hB.2.2.2.1.symm.trans e)
  have hA0 := hA
  obtain ⟨a1, a2, a3, a4, a5, a6, a7, a8⟩ := hA
  unfold wpX_push
  refine xh_r0 hs ht ?_
  unfold wpY_push
  rcases Nat.lt_or_ge L ml with z | z
  · refine br_t (nI_lt z (by omega)) (xl_pushE (by omega) (yh_r0 hL6 hs ht' (br_t (nI_lt z (by omega)) (yl_pushE (by omega) ⟨rfl, ?_⟩))))
    exact zz_mk2 (ct := fun l => if l = L + 1 then ct L else ct l) (if_pos rfl) ⟨a1, a2, a3, a4, a5, a6, a7, by omega⟩ (rb_push hB) hC (rs_0 hs)
  · exact br_f (nI_nlt z (by omega)) (yh_r0 hL6 hs ht' (br_f (nI_nlt z (by omega)) ⟨rfl, same⟩))
theorem i_vc_pop {k : Nat} {u : SX} {v : SY} (I : i_Rel k u v) (hk : k + 5 ≤ 2564) : wpX_pop (fun r u' => wpY_pop (fun r' v' => r' = r ∧ i_Rel (k + 5) u' v') v) u := by
  refine zz_el (P := fun u v => wpX_pop (fun r u' => wpY_pop (fun r' v' => r' = r ∧ i_Rel (k + 5) u' v') v) u) I ?_
  intro n V mc ml L ct f_status f_searchState f_searchDirection f_foundCount f_depth f_trailSize f_queueHead f_queueSize f_pendingMask f_scopeSize f_place a_dom a_savedDom a_savedCount a_savedStatus a_kindOf a_scopeOf a_lowBound a_highBound a_tupleCount a_coef a_tuples a_newTuple a_solution a_todo a_mark a_work a_trailVar a_trailMask a_queue a_inVar a_inMask a_outMask a_matchOf a_owner a_reachedFrom a_bfs a_reach a_termCoef a_termMin a_span a_forward a_backward y_dom y_status y_count y_tuple y_value y_work y_seen y_args hA hB hC hS
  have same : i_Rel (k + 5) (nI n, nI V, nI mc, nI ml, allM V, allM n, f_status, nI L, nI (ct L), f_searchState, f_searchDirection, f_foundCount, f_depth, f_trailSize, f_queueHead, f_queueSize, f_pendingMask, f_scopeSize, a_dom, a_savedDom, a_savedCount, a_savedStatus, a_kindOf, a_scopeOf, a_lowBound, a_highBound, a_tupleCount, a_coef, a_tuples, a_newTuple, a_solution, a_todo, a_mark, a_work, a_trailVar, a_trailMask, a_queue, a_inVar, a_inMask, a_outMask, a_matchOf, a_owner, a_reachedFrom, a_bfs, a_reach, a_termCoef, a_termMin, a_span, a_forward, a_backward) (nI n, nI V, nI mc, nI ml, nI L, f_searchState, f_searchDirection, f_foundCount, f_place, y_dom, y_status, y_count, a_kindOf, a_scopeOf, a_lowBound, a_highBound, a_coef, a_tupleCount, y_tuple, a_solution, y_value, y_work, y_seen, y_args) := zz_mk hA hB hC hS
  have hA0 := hA
  obtain ⟨a1, a2, a3, a4, a5, a6, a7, a8⟩ := hA
  by_cases hs : f_searchState = 0
  · refine br_t hs ?_
    cases L with
    | zero => exact br_f (by decide) (br_t hs (br_t rfl ⟨rfl, same⟩))
    | succ L =>
      refine br_t (nI_lt (a := 0) (by omega) (by omega)) (nm_r (e' := nI L) (nI_pred L) (xl_popE (cc := nI (ct L)) (st := a_savedStatus L) (by omega) (hB.2.2.2.2.2.2.1 L (by omega)) rfl (br_t hs (br_f (nI_ne0 (by omega) (by omega)) (nm_r (e' := nI L) (nI_pred L) ⟨rfl, ?_⟩)))))
      exact zz_mk2 (ct := ct) rfl ⟨a1, a2, a3, a4, a5, a6, a7, by omega⟩ (rb_pop hB) (rc_cnt hC (hB.2.2.2.2.2.2.2 L (by omega))) (rs_0 hs)
  · exact br_f hs (br_f hs ⟨rfl, same⟩)
end
section
/-! postSum, postAllDifferent, postTable -/
theorem rc_new {n V mc c : Nat} {kd sc lo hi tc co xt tu kd' sc' lo' hi' tc' co' xt' tu' : Nat → Int32} (hn : n ≤ 6) (h : RC n V mc c kd sc lo hi tc co xt tu) (hc : c < mc) (e1 : ∀ j, j < c → kd' j = kd j ∧ sc' j = sc j ∧ tc' j = tc j) (e2 : kd' 6 = kd 6 ∧ lo' 6 = lo 6 ∧ hi' 6 = hi 6)
    (e3 : ∀ j, j < c * 6 → co' j = co j) (e4 : ∀ j, j < c * 40 → xt' j = xt j) (e5 : ∀ j, j < c * 60 → tu' j = tu j) (new : COk n V kd' sc' tc' co' xt' tu' c) (d1 : Msk n (sc' 6) ∧ pcN (sc' 6) 6 ≤ 4 ∧ TOk n V sc' tc' xt' tu' 6)
    (d2 : ∀ x, x < 6 → ∃ z : Int, -3 ≤ z ∧ z ≤ 3 ∧ co' (36 + x) = iZ z) (d3 : ∀ x, n ≤ x → x < 6 → co' (36 + x) = 0) : RC n V mc (c + 1) kd' sc' lo' hi' tc' co' xt' tu' := by
  obtain ⟨h1, h2, h3, h4, h5, h6⟩ := h
  refine ⟨hc, fun c' hc' => ?_, e2.1.trans h3, e2.2.1.trans h4, e2.2.2.trans h5, d1.1, d1.2.1, d1.2.2, d2, d3⟩
  by_cases z : c' = c
  · rw [z]; exact new
  · exact COk_c hn (h2 c' (by omega)) (e1 c' (by omega)).1 (e1 c' (by omega)).2.1 (e1 c' (by omega)).2.2 (fun x hx => e3 _ (by omega)) (fun j _ hj => e4 j (by omega)) (fun j _ hj => e5 j (by omega))
theorem iz_0 {z : Int} (h1 : -3 ≤ z) (h2 : z ≤ 3) (h : iZ z = 0) : z = 0 := by
  have := congrArg Int32.toInt h
  rw [iz_toInt (by omega) (by omega), show (0 : Int32).toInt = 0 by decide] at this
  exact this
theorem i_vc_postAllDifferent {k : Nat} {u : SX} {v : SY} (I : i_Rel k u v) (hk : k + 5 ≤ 2564) (v1 : Int32) : wpX_postAllDifferent (fun r u' => wpY_postAllDifferent (fun r' v' => r' = r ∧ i_Rel (k + 5) u' v') v v1) u v1 := by
  refine zz_el (P := fun u v => wpX_postAllDifferent (fun r u' => wpY_postAllDifferent (fun r' v' => r' = r ∧ i_Rel (k + 5) u' v') v v1) u v1) I ?_
  intro n V mc ml L ct f_status f_searchState f_searchDirection f_foundCount f_depth f_trailSize f_queueHead f_queueSize f_pendingMask f_scopeSize f_place a_dom a_savedDom a_savedCount a_savedStatus a_kindOf a_scopeOf a_lowBound a_highBound a_tupleCount a_coef a_tuples a_newTuple a_solution a_todo a_mark a_work a_trailVar a_trailMask a_queue a_inVar a_inMask a_outMask a_matchOf a_owner a_reachedFrom a_bfs a_reach a_termCoef a_termMin a_span a_forward a_backward y_dom y_status y_count y_tuple y_value y_work y_seen y_args hA hB hC hS
  have same : i_Rel (k + 5) (nI n, nI V, nI mc, nI ml, allM V, allM n, f_status, nI L, nI (ct L), f_searchState, f_searchDirection, f_foundCount, f_depth, f_trailSize, f_queueHead, f_queueSize, f_pendingMask, f_scopeSize, a_dom, a_savedDom, a_savedCount, a_savedStatus, a_kindOf, a_scopeOf, a_lowBound, a_highBound, a_tupleCount, a_coef, a_tuples, a_newTuple, a_solution, a_todo, a_mark, a_work, a_trailVar, a_trailMask, a_queue, a_inVar, a_inMask, a_outMask, a_matchOf, a_owner, a_reachedFrom, a_bfs, a_reach, a_termCoef, a_termMin, a_span, a_forward, a_backward) (nI n, nI V, nI mc, nI ml, nI L, f_searchState, f_searchDirection, f_foundCount, f_place, y_dom, y_status, y_count, a_kindOf, a_scopeOf, a_lowBound, a_highBound, a_coef, a_tupleCount, y_tuple, a_solution, y_value, y_work, y_seen, y_args) := zz_mk hA hB hC hS
  have hL6 : L < 6 := by have := hA.2.2.2.2.2.2; omega
  by_cases hs : f_searchState = 0
  rotate_left
  · unfold wpX_postAllDifferent
    refine xh_r11 hs ?_
    dsimp only
    unfold wpY_postAllDifferent
    exact yh_r11 hs ⟨rfl, same⟩
  by_cases ht : f_status = -12
  · unfold wpX_postAllDifferent
    refine xh_r12 hs ht ?_
    dsimp only
    unfold wpY_postAllDifferent
    exact yh_r12 hL6 hs (hB.2.2.2.1.trans ht) ⟨rfl, same⟩
  have ht' : ¬ y_status L = -12 := fun e => ht (hB.2.2.2.1.symm.trans e)
  have hA0 := hA
  obtain ⟨a1, a2, a3, a4, a5, a6, a7, a8⟩ := hA
  have hcnt := hC.1
  have hctL := hB.2.2.2.2.2.1 L (Nat.le_refl _)
  unfold wpX_postAllDifferent
  refine xh_r0 hs ht ?_
  by_cases z : Msk n v1
  · refine br_t ((am_x (by omega) v1).mpr z) (xh_cb ?_)
    have zy := (am_y (show n ≤ 6 by omega) v1).mpr z
    unfold wpY_postAllDifferent
    have hp6 := pc_le v1 6
    by_cases z1 : pcN v1 6 < 2
    · have c1 : nI (pcN v1 6) < 2 := nI_lt (b := 2) z1 (by decide)
      exact br_t c1 (yh_r0 hL6 hs ht' (br_t zy (yh_sz (br_t c1 ⟨rfl, same⟩))))
    · have c1 : ¬ nI (pcN v1 6) < 2 := nI_nlt (b := 2) (by omega) (by omega)
      refine br_f c1 ?_
      by_cases z2 : pcN v1 6 ≤ 5
      · have c2 : nI (pcN v1 6) ≤ 5 := nI_le (b := 5) z2 (by decide)
        refine br_t c2 ?_
        rcases Nat.lt_or_ge (ct L) mc with z3 | z3
        · refine br_t (nI_lt z3 (by omega)) (xi_inst (by omega) (yh_r0 hL6 hs ht' (br_t zy (yh_sz (br_f c1 (yh_sz (br_t c2 (yi_post z3 a6 hL6 hctL ⟨rfl, ?_⟩))))))))
          refine zz_mk2 (ct := fun l => if l = L then ct L + 1 else ct l) (if_pos rfl) hA0 (rb_st 1 (rb_ct hB (by omega))) (rc_new (by omega) hC z3 (fun j hj => ⟨pk_un (by omega), pk_un (by omega), pk_un (by omega)⟩) ⟨pk_un (by omega), pk_un (by omega), pk_un (by omega)⟩ (fun j hj => pt_out (by omega)) (fun _ _ => rfl) (fun _ _ => rfl) ?_ ⟨?_, ?_, ?_⟩ (fun x hx => ?_) (fun x hx hx6 => ?_)) (rs_0 hs)
          · refine ⟨Or.inl pk_us, by rw [pk_us]; exact z, by rw [pk_us]; omega, by rw [pk_us]; exact z2, ⟨fun k3 => ?_, fun _ => pk_us⟩, fun k2 => ?_, 0, by omega, pk_us, fun t x h => absurd h (by omega)⟩
            · rw [pk_us] at k3; exact absurd k3 (by decide)
            · rw [pk_us] at k2; exact absurd k2 (by decide)
          · rw [pk_un (by omega)]; exact hC.2.2.2.2.2.1
          · rw [pk_un (by omega)]; exact hC.2.2.2.2.2.2.1
          · exact TOk_c hC.2.2.2.2.2.2.2.1 (pk_un (by omega)) (pk_un (by omega)) (fun _ _ _ => rfl) (fun _ _ _ => rfl) (by omega) (Or.inl hC.2.2.2.2.2.2.1)
          · rw [pt_out (by omega)]; exact hC.2.2.2.2.2.2.2.2.1 x hx
          · rw [pt_out (by omega)]; exact hC.2.2.2.2.2.2.2.2.2 x hx hx6
        · exact br_f (nI_nlt z3 (by omega)) (yh_r0 hL6 hs ht' (br_t zy (yh_sz (br_f c1 (yh_sz (br_t c2 (yi_full z3 (by omega) hL6 hctL ⟨rfl, same⟩)))))))
      · have c2 : ¬ nI (pcN v1 6) ≤ 5 := nI_ge (a := 5) (by omega) (by omega)
        exact br_f c2 (yh_r0 hL6 hs ht' (br_t zy (yh_sz (br_f c1 (yh_sz (br_f c2 ⟨rfl, same⟩))))))
  · have zx : ¬ (v1 &&& (allM n ^^^ (-1))) = 0 := fun e => z ((am_x (by omega) v1).mp e)
    have zy : ¬ (v1.toUInt32 >>> ((nI n).toUInt32 &&& Int32.toUInt32 31)).toInt32 = 0 := fun e => z ((am_y (by omega) v1).mp e)
    refine br_f zx ?_
    unfold wpY_postAllDifferent
    exact yh_r0 hL6 hs ht' (br_f zy ⟨rfl, same⟩)
theorem i_vc_postSum {k : Nat} {u : SX} {v : SY} (I : i_Rel k u v) (hk : k + 5 ≤ 2564) (v1 : Int32) (v2 : Int32) : wpX_postSum (fun r u' => wpY_postSum (fun r' v' => r' = r ∧ i_Rel (k + 5) u' v') v v1 v2) u v1 v2 := by
  refine zz_el (P := fun u v => wpX_postSum (fun r u' => wpY_postSum (fun r' v' => r' = r ∧ i_Rel (k + 5) u' v') v v1 v2) u v1 v2) I ?_
  intro n V mc ml L ct f_status f_searchState f_searchDirection f_foundCount f_depth f_trailSize f_queueHead f_queueSize f_pendingMask f_scopeSize f_place a_dom a_savedDom a_savedCount a_savedStatus a_kindOf a_scopeOf a_lowBound a_highBound a_tupleCount a_coef a_tuples a_newTuple a_solution a_todo a_mark a_work a_trailVar a_trailMask a_queue a_inVar a_inMask a_outMask a_matchOf a_owner a_reachedFrom a_bfs a_reach a_termCoef a_termMin a_span a_forward a_backward y_dom y_status y_count y_tuple y_value y_work y_seen y_args hA hB hC hS
  have same : i_Rel (k + 5) (nI n, nI V, nI mc, nI ml, allM V, allM n, f_status, nI L, nI (ct L), f_searchState, f_searchDirection, f_foundCount, f_depth, f_trailSize, f_queueHead, f_queueSize, f_pendingMask, f_scopeSize, a_dom, a_savedDom, a_savedCount, a_savedStatus, a_kindOf, a_scopeOf, a_lowBound, a_highBound, a_tupleCount, a_coef, a_tuples, a_newTuple, a_solution, a_todo, a_mark, a_work, a_trailVar, a_trailMask, a_queue, a_inVar, a_inMask, a_outMask, a_matchOf, a_owner, a_reachedFrom, a_bfs, a_reach, a_termCoef, a_termMin, a_span, a_forward, a_backward) (nI n, nI V, nI mc, nI ml, nI L, f_searchState, f_searchDirection, f_foundCount, f_place, y_dom, y_status, y_count, a_kindOf, a_scopeOf, a_lowBound, a_highBound, a_coef, a_tupleCount, y_tuple, a_solution, y_value, y_work, y_seen, y_args) := zz_mk hA hB hC hS
  have hL6 : L < 6 := by have := hA.2.2.2.2.2.2; omega
  by_cases hs : f_searchState = 0
  rotate_left
  · unfold wpX_postSum
    refine xh_r11 hs ?_
    dsimp only
    unfold wpY_postSum
    exact yh_r11 hs ⟨rfl, same⟩
  by_cases ht : f_status = -12
  · unfold wpX_postSum
    refine xh_r12 hs ht ?_
    dsimp only
    unfold wpY_postSum
    exact yh_r12 hL6 hs (hB.2.2.2.1.trans ht) ⟨rfl, same⟩
  have ht' : ¬ y_status L = -12 := fun e => ht (hB.2.2.2.1.symm.trans e)
  have hA0 := hA
  obtain ⟨a1, a2, a3, a4, a5, a6, a7, a8⟩ := hA
  have hcnt := hC.1
  have hctL := hB.2.2.2.2.2.1 L (Nat.le_refl _)
  unfold wpX_postSum
  refine xh_r0 hs ht ?_
  unfold wpY_postSum
  by_cases z0 : v1 ≤ v2
  · refine br_t z0 (xh_ds (by omega) (xh_cb ?_))
    have hmk := ds_msk a_coef (show n ≤ 32 by omega)
    have hp6 := pc_le (dsc a_coef n) 6
    by_cases z1 : pcN (dsc a_coef n) 6 < 1
    · have e0 : dsc a_coef n = 0 := by
        rw [gb_eq0]; intro i
        cases hb : bt (dsc a_coef n) i with
        | false => rfl
        | true => have := pc_pos hb (show i < 6 by have := mk_lt hmk hb; omega); omega
      exact br_t (nI_lt (b := 1) z1 (by decide)) (yh_r0 hL6 hs ht' (br_t z0 (yh_ds (by omega) (br_t e0 ⟨rfl, same⟩))))
    · have e0 : ¬ dsc a_coef n = 0 := fun e => by rw [e, pc_zero] at z1; omega
      refine br_f (nI_nlt (b := 1) (by omega) (by omega)) ?_
      by_cases z2 : pcN (dsc a_coef n) 6 ≤ 5
      · have c2 : nI (pcN (dsc a_coef n) 6) ≤ 5 := nI_le (b := 5) z2 (by decide)
        refine br_t c2 ?_
        rcases Nat.lt_or_ge (ct L) mc with z3 | z3
        · have hcc : (nI (ct L)).toNatClampNeg = ct L := nI_clamp (by omega)
          have hin : vp_in (nI (ct L)) 7 := vp_in_nI (by omega) (by omega)
          refine br_t (nI_lt z3 (by omega)) (xi_inst (by omega) ⟨hin, nm_r (e' := upd a_lowBound (ct L) v1) (by rw [hcc, u_same]) ⟨hin, nm_r (e' := upd a_highBound (ct L) v2) (by rw [hcc, u_same]) (xi_sum (by omega) (yh_r0 hL6 hs ht' (br_t z0 (yh_ds (by omega) (br_f e0 (yh_sz (br_t c2 (yi_post z3 a6 hL6 hctL (br_t (nI_pos' (by omega)) (yi_sum (by omega) ⟨rfl, ?_⟩))))))))))⟩⟩)
          have hcp := cp_f (c := ct L) (f := putR (ct L * 6) 6 (fun _ => 0) a_coef) (by omega) (Nat.le_refl 6)
          have h36 : ∀ x, putR (ct L * 6) 6 (fun _ => 0) a_coef (36 + x) = a_coef (36 + x) := fun x => pt_out (by omega)
          refine zz_mk2 (ct := fun l => if l = L then ct L + 1 else ct l) (if_pos rfl) hA0 (rb_st 1 (rb_ct hB (by omega))) (rc_new (by omega) hC z3 (fun j hj => ⟨pk_un (by omega), pk_un (by omega), pk_un (by omega)⟩) ⟨pk_un (by omega), pk_un (by omega), pk_un (by omega)⟩ (fun j hj => ?_) (fun _ _ => rfl) (fun _ _ => rfl) ?_ ⟨?_, ?_, ?_⟩ (fun x hx => ?_) (fun x hx hx6 => ?_)) (rs_0 hs)
          · rw [hcp.2.2 j (by omega) (by omega), pt_out (by omega)]
          · refine ⟨Or.inr (Or.inl pk_us), by rw [pk_us]; exact hmk, by rw [pk_us]; omega, by rw [pk_us]; exact z2, ⟨fun k3 => ?_, fun _ => pk_us⟩, fun _ x hx => ?_, 0, by omega, pk_us, fun t x h => absurd h (by omega)⟩
            · rw [pk_us] at k3; exact absurd k3 (by decide)
            · rw [(hcp.1 x hx).1, h36, pk_us]
              obtain ⟨zz, q1, q2, q3⟩ := hC.2.2.2.2.2.2.2.2.1 x hx
              refine ⟨zz, q1, q2, q3, fun hb => iz_0 q1 q2 (q3.symm.trans ?_)⟩
              rcases Nat.lt_or_ge x n with w | w
              · apply Classical.byContradiction
                intro hne
                have := (ds_bt a_coef n (by omega) x).mpr ⟨w, hne⟩
                rw [hb] at this; cases this
              · exact hC.2.2.2.2.2.2.2.2.2 x w hx
          · rw [pk_un (by omega)]; exact hC.2.2.2.2.2.1
          · rw [pk_un (by omega)]; exact hC.2.2.2.2.2.2.1
          · exact TOk_c hC.2.2.2.2.2.2.2.1 (pk_un (by omega)) (pk_un (by omega)) (fun _ _ _ => rfl) (fun _ _ _ => rfl) (by omega) (Or.inl hC.2.2.2.2.2.2.1)
          · rw [(hcp.1 x hx).2]; exact ⟨0, by omega, by omega, rfl⟩
          · exact (hcp.1 x hx6).2
        · exact br_f (nI_nlt z3 (by omega)) (yh_r0 hL6 hs ht' (br_t z0 (yh_ds (by omega) (br_f e0 (yh_sz (br_t c2 (yi_full z3 (by omega) hL6 hctL (br_f (by decide) ⟨rfl, same⟩))))))))
      · have c2 : ¬ nI (pcN (dsc a_coef n) 6) ≤ 5 := nI_ge (a := 5) (by omega) (by omega)
        exact br_f c2 (yh_r0 hL6 hs ht' (br_t z0 (yh_ds (by omega) (br_f e0 (yh_sz (br_f c2 ⟨rfl, same⟩))))))
  · exact br_f z0 (yh_r0 hL6 hs ht' (br_f z0 ⟨rfl, same⟩))
theorem i_vc_postTable {k : Nat} {u : SX} {v : SY} (I : i_Rel k u v) (hk : k + 5 ≤ 2564) : wpX_postTable (fun r u' => wpY_postTable (fun r' v' => r' = r ∧ i_Rel (k + 5) u' v') v) u := by
  refine zz_el (P := fun u v => wpX_postTable (fun r u' => wpY_postTable (fun r' v' => r' = r ∧ i_Rel (k + 5) u' v') v) u) I ?_
  intro n V mc ml L ct f_status f_searchState f_searchDirection f_foundCount f_depth f_trailSize f_queueHead f_queueSize f_pendingMask f_scopeSize f_place a_dom a_savedDom a_savedCount a_savedStatus a_kindOf a_scopeOf a_lowBound a_highBound a_tupleCount a_coef a_tuples a_newTuple a_solution a_todo a_mark a_work a_trailVar a_trailMask a_queue a_inVar a_inMask a_outMask a_matchOf a_owner a_reachedFrom a_bfs a_reach a_termCoef a_termMin a_span a_forward a_backward y_dom y_status y_count y_tuple y_value y_work y_seen y_args hA hB hC hS
  have same : i_Rel (k + 5) (nI n, nI V, nI mc, nI ml, allM V, allM n, f_status, nI L, nI (ct L), f_searchState, f_searchDirection, f_foundCount, f_depth, f_trailSize, f_queueHead, f_queueSize, f_pendingMask, f_scopeSize, a_dom, a_savedDom, a_savedCount, a_savedStatus, a_kindOf, a_scopeOf, a_lowBound, a_highBound, a_tupleCount, a_coef, a_tuples, a_newTuple, a_solution, a_todo, a_mark, a_work, a_trailVar, a_trailMask, a_queue, a_inVar, a_inMask, a_outMask, a_matchOf, a_owner, a_reachedFrom, a_bfs, a_reach, a_termCoef, a_termMin, a_span, a_forward, a_backward) (nI n, nI V, nI mc, nI ml, nI L, f_searchState, f_searchDirection, f_foundCount, f_place, y_dom, y_status, y_count, a_kindOf, a_scopeOf, a_lowBound, a_highBound, a_coef, a_tupleCount, y_tuple, a_solution, y_value, y_work, y_seen, y_args) := zz_mk hA hB hC hS
  have hL6 : L < 6 := by have := hA.2.2.2.2.2.2; omega
  by_cases hs : f_searchState = 0
  rotate_left
  · unfold wpX_postTable
    refine xh_r11 hs ?_
    dsimp only
    unfold wpY_postTable
    exact yh_r11 hs ⟨rfl, same⟩
  by_cases ht : f_status = -12
  · unfold wpX_postTable
    refine xh_r12 hs ht ?_
    dsimp only
    unfold wpY_postTable
    exact yh_r12 hL6 hs (hB.2.2.2.1.trans ht) ⟨rfl, same⟩
  have ht' : ¬ y_status L = -12 := fun e => ht (hB.2.2.2.1.symm.trans e)
  have hA0 := hA
  obtain ⟨a1, a2, a3, a4, a5, a6, a7, a8⟩ := hA
  have hcnt := hC.1
  have hctL := hB.2.2.2.2.2.1 L (Nat.le_refl _)
  unfold wpX_postTable
  refine xh_r0 hs ht ?_
  unfold wpY_postTable
  by_cases z0 : a_scopeOf 6 = 0
  · exact br_t z0 (yh_r0 hL6 hs ht' (br_t z0 ⟨rfl, same⟩))
  · refine br_f z0 ?_
    by_cases z1 : a_tupleCount 6 = 0
    · exact br_t z1 (yh_r0 hL6 hs ht' (br_f z0 (br_t z1 ⟨rfl, same⟩)))
    · refine br_f z1 ?_
      rcases Nat.lt_or_ge (ct L) mc with z3 | z3
      · have hcc : (nI (ct L)).toNatClampNeg = ct L := nI_clamp (by omega)
        have hin : vp_in (nI (ct L)) 7 := vp_in_nI (by omega) (by omega)
        have h60 : upd a_tupleCount (ct L) 0 6 = a_tupleCount 6 := pk_un (by omega)
        refine br_t (nI_lt z3 (by omega)) (xi_inst (by omega) (xi_tab (by omega) (yh_r0 hL6 hs ht' (br_f z0 (br_f z1 (yi_post z3 a6 hL6 hctL (br_t (nI_pos' (by omega)) ⟨hin, nm_r (e' := upd (upd a_tupleCount (ct L) 0) (ct L) (upd a_tupleCount (ct L) 0 6)) (by rw [hcc]) (yi_tab (by omega) ⟨rfl, ?_⟩)⟩)))))))
        obtain ⟨T, hT1, hT2, hT3⟩ := hC.2.2.2.2.2.2.2.1
        have hm6 := hC.2.2.2.2.2.1
        refine zz_mk2 (ct := fun l => if l = L then ct L + 1 else ct l) (if_pos rfl) hA0 (rb_st 1 (rb_ct hB (by omega))) (rc_new (by omega) hC z3 (fun j hj => ⟨pk_un (by omega), by rw [pk_un (by omega), pk_un (by omega)], by rw [pk_un (by omega), pk_un (by omega), pk_un (by omega)]⟩) ⟨pk_un (by omega), pk_un (by omega), pk_un (by omega)⟩ (fun j hj => pt_out (by omega)) (fun j hj => pt_out (by omega)) (fun j hj => pt_out (by omega)) ?_ ⟨?_, ?_, ?_⟩ (fun x hx => ?_) (fun x hx hx6 => ?_)) (rs_0 hs)
        · have esc : upd (upd a_scopeOf (ct L) (a_scopeOf 6)) 6 0 (ct L) = a_scopeOf 6 := by rw [pk_un (by omega), pk_us]
          have etc : upd (upd (upd a_tupleCount (ct L) 0) (ct L) (upd a_tupleCount (ct L) 0 6)) 6 0 (ct L) = a_tupleCount 6 := by rw [pk_un (by omega), pk_us, h60]
          refine ⟨Or.inr (Or.inr pk_us), by rw [esc]; exact hm6, ?_, by rw [esc]; have := hC.2.2.2.2.2.2.1; omega, ⟨fun _ => by rw [esc]; exact hC.2.2.2.2.2.2.1, fun k3 => absurd pk_us k3⟩, fun k2 => ?_, T, hT1, by rw [etc]; exact hT2, fun t x ht hx hb => ?_⟩
          · rw [esc]
            obtain ⟨i, hi⟩ := gb_ne0.mp z0
            exact pc_pos hi (by have := mk_lt hm6 hi; omega)
          · rw [pk_us] at k2; exact absurd k2 (by decide)
          · rw [esc] at hb ⊢
            obtain ⟨a, q1, q2, q3⟩ := hT3 t x ht hx hb
            have hp : pcN (a_scopeOf 6) x < 4 := by have := pc_lt hb (show x < 6 by omega); have := hC.2.2.2.2.2.2.1; omega
            refine ⟨a, q1, ?_, ?_⟩
            · rw [show (ct L * 10 + t) * 6 + x = ct L * 60 + (t * 6 + x) by omega, pt_in (by omega), show 360 + (t * 6 + x) = (6 * 10 + t) * 6 + x by omega]; exact q2
            · rw [show ct L * 40 + t * 4 + pcN (a_scopeOf 6) x = ct L * 40 + (t * 4 + pcN (a_scopeOf 6) x) by omega, pt_in (by omega), show 240 + (t * 4 + pcN (a_scopeOf 6) x) = 6 * 40 + t * 4 + pcN (a_scopeOf 6) x by omega]; exact q3
        · rw [pk_us]; exact mk_0 _
        · rw [pk_us, pc_zero]; omega
        · exact ⟨0, by omega, pk_us, fun t x h => absurd h (by omega)⟩
        · rw [pt_out (by omega)]; exact hC.2.2.2.2.2.2.2.2.1 x hx
        · rw [pt_out (by omega)]; exact hC.2.2.2.2.2.2.2.2.2 x hx hx6
      · exact br_f (nI_nlt z3 (by omega)) (yh_r0 hL6 hs ht' (br_f z0 (br_f z1 (yi_full z3 (by omega) hL6 hctL (br_f (by decide) ⟨rfl, same⟩)))))
end
section
/-! addTuple -/
theorem rc_add {n V mc cnt T : Nat} {kd sc lo hi tc co xt tu nt vl : Nat → Int32} (hn : n ≤ 6) (hm : mc ≤ 6) (h : RC n V mc cnt kd sc lo hi tc co xt tu) (hT : T < 10) (htc : tc 6 = nI T)
    (hv : ∀ x, x < n → bt (sc 6) x = true → vl x = nt (pcN (sc 6) x) ∧ ∃ b, b < V ∧ nt (pcN (sc 6) x) = nI b) :
    RC n V mc cnt kd sc lo hi (upd tc 6 (nI (T + 1))) co (putR (240 + T * 4) (pcN (sc 6) 6) nt xt) (putR ((60 + T) * 6) 6 vl tu) := by
  obtain ⟨h1, h2, h3, h4, h5, h6, h7, h8, h9, h10⟩ := h
  refine ⟨h1, fun c hc => COk_c hn (h2 c hc) rfl rfl (pk_un (by omega)) (fun _ _ => rfl) (fun j _ hj => pt_out (by omega)) (fun j _ hj => pt_out (by omega)), h3, h4, h5, h6, h7, ⟨T + 1, by omega, pk_us, fun t x ht hx hb => ?_⟩, h9, h10⟩
  obtain ⟨T', q1, q2, q3⟩ := h8
  obtain rfl : T' = T := nI_inj (by omega) (by omega) (q2.symm.trans htc)
  have hp := pc_lt hb (show x < 6 by omega)
  by_cases z : t = T'
  · subst z
    obtain ⟨e1, b, hb', e2⟩ := hv x hx hb
    refine ⟨b, hb', ?_, ?_⟩
    · rw [show (6 * 10 + t) * 6 + x = (60 + t) * 6 + x by omega, pt_in (by omega), e1, e2]
    · rw [show 6 * 40 + t * 4 + pcN (sc 6) x = 240 + t * 4 + pcN (sc 6) x by omega, pt_in hp, e2]
  · obtain ⟨b, hb', e1, e2⟩ := q3 t x (by omega) hx hb
    exact ⟨b, hb', by rw [pt_out (by omega)]; exact e1, by rw [pt_out (by omega)]; exact e2⟩
theorem ag_4 {f g : Nat → Int32} {a b c d : Int32} : ∀ i, i < 4 → upd (upd (upd (upd f 0 a) 1 b) 2 c) 3 d i = upd (upd (upd (upd g 0 a) 1 b) 2 c) 3 d i := by
  intro i hi
  rcases (by omega : i = 0 ∨ i = 1 ∨ i = 2 ∨ i = 3) with e | e | e | e <;> subst e <;> rfl
theorem i_vc_addTuple {k : Nat} {u : SX} {v : SY} (I : i_Rel k u v) (hk : k + 5 ≤ 2564) (v1 : Int32) (v2 : Int32) (v3 : Int32) (v4 : Int32) : wpX_addTuple (fun r u' => wpY_addTuple (fun r' v' => r' = r ∧ i_Rel (k + 5) u' v') v v1 v2 v3 v4) u v1 v2 v3 v4 := by
  refine zz_el (P := fun u v => wpX_addTuple (fun r u' => wpY_addTuple (fun r' v' => r' = r ∧ i_Rel (k + 5) u' v') v v1 v2 v3 v4) u v1 v2 v3 v4) I ?_
  intro n V mc ml L ct f_status f_searchState f_searchDirection f_foundCount f_depth f_trailSize f_queueHead f_queueSize f_pendingMask f_scopeSize f_place a_dom a_savedDom a_savedCount a_savedStatus a_kindOf a_scopeOf a_lowBound a_highBound a_tupleCount a_coef a_tuples a_newTuple a_solution a_todo a_mark a_work a_trailVar a_trailMask a_queue a_inVar a_inMask a_outMask a_matchOf a_owner a_reachedFrom a_bfs a_reach a_termCoef a_termMin a_span a_forward a_backward y_dom y_status y_count y_tuple y_value y_work y_seen y_args hA hB hC hS
  have same : i_Rel (k + 5) (nI n, nI V, nI mc, nI ml, allM V, allM n, f_status, nI L, nI (ct L), f_searchState, f_searchDirection, f_foundCount, f_depth, f_trailSize, f_queueHead, f_queueSize, f_pendingMask, f_scopeSize, a_dom, a_savedDom, a_savedCount, a_savedStatus, a_kindOf, a_scopeOf, a_lowBound, a_highBound, a_tupleCount, a_coef, a_tuples, a_newTuple, a_solution, a_todo, a_mark, a_work, a_trailVar, a_trailMask, a_queue, a_inVar, a_inMask, a_outMask, a_matchOf, a_owner, a_reachedFrom, a_bfs, a_reach, a_termCoef, a_termMin, a_span, a_forward, a_backward) (nI n, nI V, nI mc, nI ml, nI L, f_searchState, f_searchDirection, f_foundCount, f_place, y_dom, y_status, y_count, a_kindOf, a_scopeOf, a_lowBound, a_highBound, a_coef, a_tupleCount, y_tuple, a_solution, y_value, y_work, y_seen, y_args) := zz_mk hA hB hC hS
  have hL6 : L < 6 := by have := hA.2.2.2.2.2.2; omega
  by_cases hs : f_searchState = 0
  rotate_left
  · unfold wpX_addTuple
    refine xh_r11 hs ?_
    dsimp only
    unfold wpY_addTuple
    exact yh_r11 hs ⟨rfl, same⟩
  by_cases ht : f_status = -12
  · unfold wpX_addTuple
    refine xh_r12 hs ht ?_
    dsimp only
    unfold wpY_addTuple
    exact yh_r12 hL6 hs (hB.2.2.2.1.trans ht) ⟨rfl, same⟩
  have ht' : ¬ y_status L = -12 := fun e => ht (hB.2.2.2.1.symm.trans e)
  have hA0 := hA
  obtain ⟨a1, a2, a3, a4, a5, a6, a7, a8⟩ := hA
  unfold wpX_addTuple
  refine xh_r0 hs ht ?_
  by_cases z0 : a_scopeOf 6 = 0
  · refine br_t z0 ?_
    unfold wpY_addTuple
    exact yh_r0 hL6 hs ht' (br_t z0 ⟨rfl, same⟩)
  · have ag := ag_4 (f := a_newTuple) (g := y_args) (a := v1) (b := v2) (c := v3) (d := v4)
    refine br_f z0 (nm_e (nm_e (nm_e (nm_e (xh_cb ?_)))))
    generalize upd (upd (upd (upd a_newTuple 0 v1) 1 v2) 2 v3) 3 v4 = nt at *
    have hm6 := hC.2.2.2.2.2.1
    have h46 := hC.2.2.2.2.2.2.1
    have yopen : ∀ {P : Int32 → SY → Prop} {r : Int32}, (∃ n62 : Nat, wY_addTuple_62 P (nI n) (nI V) (nI mc) (nI ml) (nI L) f_searchState f_searchDirection f_foundCount f_place n62 0 0 y_dom y_status y_count a_kindOf a_scopeOf a_lowBound a_highBound a_coef a_tupleCount y_tuple a_solution y_value y_work y_seen (upd (upd (upd (upd y_args 0 v1) 1 v2) 2 v3) 3 v4)) → wpY_addTuple P (nI n, nI V, nI mc, nI ml, nI L, f_searchState, f_searchDirection, f_foundCount, f_place, y_dom, y_status, y_count, a_kindOf, a_scopeOf, a_lowBound, a_highBound, a_coef, a_tupleCount, y_tuple, a_solution, y_value, y_work, y_seen, y_args) v1 v2 v3 v4 := by
      intro P r h
      unfold wpY_addTuple
      exact yh_r0 hL6 hs ht' (br_f z0 (nm_e (nm_e (nm_e (nm_e h)))))
    generalize upd (upd (upd (upd y_args 0 v1) 1 v2) 2 v3) 3 v4 = ar at *
    obtain ⟨T, hT1, hT2, hT3⟩ := hC.2.2.2.2.2.2.2.1
    have mk0 : ∀ nt vl : Nat → Int32, i_Rel (k + 5) (nI n, nI V, nI mc, nI ml, allM V, allM n, f_status, nI L, nI (ct L), f_searchState, f_searchDirection, f_foundCount, f_depth, f_trailSize, f_queueHead, f_queueSize, f_pendingMask, f_scopeSize, a_dom, a_savedDom, a_savedCount, a_savedStatus, a_kindOf, a_scopeOf, a_lowBound, a_highBound, a_tupleCount, a_coef, a_tuples, nt, a_solution, a_todo, a_mark, a_work, a_trailVar, a_trailMask, a_queue, a_inVar, a_inMask, a_outMask, a_matchOf, a_owner, a_reachedFrom, a_bfs, a_reach, a_termCoef, a_termMin, a_span, a_forward, a_backward) (nI n, nI V, nI mc, nI ml, nI L, f_searchState, f_searchDirection, f_foundCount, f_place, y_dom, y_status, y_count, a_kindOf, a_scopeOf, a_lowBound, a_highBound, a_coef, a_tupleCount, y_tuple, a_solution, vl, y_work, y_seen, ar) := fun nt vl => zz_mk hA0 hB hC hS
    have hvx : (∀ i, i < pcN (a_scopeOf 6) 6 → ∃ b, b < V ∧ nt i = nI b) ↔ (∀ i, i < pcN (a_scopeOf 6) 6 → ∃ b, b < V ∧ ar i = nI b) :=
      ⟨fun h i hi => by rw [← ag i (by omega)]; exact h i hi, fun h i hi => by rw [ag i (by omega)]; exact h i hi⟩
    have yrun : ∀ {P : Int32 → SY → Prop}, ((∃ i, i < pcN (a_scopeOf 6) 6 ∧ ¬ ∃ b, b < V ∧ ar i = nI b) → ∀ vl : Nat → Int32, P (-10) (nI n, nI V, nI mc, nI ml, nI L, f_searchState, f_searchDirection, f_foundCount, f_place, y_dom, y_status, y_count, a_kindOf, a_scopeOf, a_lowBound, a_highBound, a_coef, a_tupleCount, y_tuple, a_solution, vl, y_work, y_seen, ar)) → ((∀ i, i < pcN (a_scopeOf 6) 6 → ∃ b, b < V ∧ ar i = nI b) → ∀ vl : Nat → Int32, (∀ y, y < n → bt (a_scopeOf 6) y = true → vl y = ar (pcN (a_scopeOf 6) y)) → wY_addTuple_143 P (nI n) (nI V) (nI mc) (nI ml) (nI L) f_searchState f_searchDirection f_foundCount f_place y_dom y_status y_count a_kindOf a_scopeOf a_lowBound a_highBound a_coef a_tupleCount y_tuple a_solution vl y_work y_seen ar) → wpY_addTuple P (nI n, nI V, nI mc, nI ml, nI L, f_searchState, f_searchDirection, f_foundCount, f_place, y_dom, y_status, y_count, a_kindOf, a_scopeOf, a_lowBound, a_highBound, a_coef, a_tupleCount, y_tuple, a_solution, y_value, y_work, y_seen, y_args) v1 v2 v3 v4 := fun hb hok =>
      yopen (r := 0) (Exists.intro (n + 1) (yt_62 (by omega) (by omega) hm6 h46 hb hok n 0 y_value (by omega) (fun y hy => absurd hy (by omega))))
    refine Exists.intro (pcN (a_scopeOf 6) 6 + 1) (xt_72 h46 (by omega) (fun hbad => ?_) (fun hok => ?_) (pcN (a_scopeOf 6) 6) 0 (by omega) (fun j h => absurd h (by omega)))
    · refine yrun (fun _ vl => ⟨rfl, mk0 nt vl⟩) (fun hok2 => ?_)
      obtain ⟨i, hi, q⟩ := hbad
      exact absurd (hvx.mpr hok2 i hi) q
    · have ylive : ∀ {P : Int32 → SY → Prop}, (∀ vl : Nat → Int32, (∀ y, y < n → bt (a_scopeOf 6) y = true → vl y = nt (pcN (a_scopeOf 6) y)) → wY_addTuple_143 P (nI n) (nI V) (nI mc) (nI ml) (nI L) f_searchState f_searchDirection f_foundCount f_place y_dom y_status y_count a_kindOf a_scopeOf a_lowBound a_highBound a_coef a_tupleCount y_tuple a_solution vl y_work y_seen ar) → wpY_addTuple P (nI n, nI V, nI mc, nI ml, nI L, f_searchState, f_searchDirection, f_foundCount, f_place, y_dom, y_status, y_count, a_kindOf, a_scopeOf, a_lowBound, a_highBound, a_coef, a_tupleCount, y_tuple, a_solution, y_value, y_work, y_seen, y_args) v1 v2 v3 v4 := fun h => yrun (fun ⟨i, hi, q⟩ => absurd (hvx.mp hok i hi) q) (fun _ vl hvl => h vl (fun y hy hyb => by
          have := pc_lt hyb (show y < 6 by omega)
          rw [hvl y hy hyb, ag _ (by omega)]))
      have heq : ∀ vl : Nat → Int32, (∀ y, y < n → bt (a_scopeOf 6) y = true → vl y = nt (pcN (a_scopeOf 6) y)) → ((∃ t, t < T ∧ ∀ x, x < n → bt (a_scopeOf 6) x = true → y_tuple ((6 * 10 + t) * 6 + x) = vl x) ↔ ∃ t, t < T ∧ ∀ i, i < pcN (a_scopeOf 6) 6 → a_tuples (240 + t * 4 + i) = nt i) := by
        intro vl hvl
        have both : ∀ t x, t < T → x < n → bt (a_scopeOf 6) x = true → y_tuple ((6 * 10 + t) * 6 + x) = a_tuples (240 + t * 4 + pcN (a_scopeOf 6) x) := by
          intro t x ht hx hb
          obtain ⟨b, _, e1, e2⟩ := hT3 t x ht hx hb
          rw [e1]; exact e2.symm
        constructor
        · rintro ⟨t, ht, h⟩
          refine ⟨t, ht, fun i hi => ?_⟩
          obtain ⟨x, q1, q2, q3⟩ := pc_surj hi
          have hxn := mk_lt hm6 q2
          rw [← q3, ← both t x ht hxn q2, h x hxn q2, hvl x hxn q2]
        · rintro ⟨t, ht, h⟩
          refine ⟨t, ht, fun x hx hb => ?_⟩
          rw [both t x ht hx hb, hvl x hx hb]
          exact h _ (pc_lt hb (by omega))
      refine xt_108 h46 hT1 hT2 (fun q => ylive (fun vl hvl => yt_143 (by omega) hT1 hT2 (fun _ => ⟨rfl, mk0 nt vl⟩) (fun q2 => absurd ((heq vl hvl).mpr q) q2) (fun q2 => absurd ((heq vl hvl).mpr q) q2))) (fun q hT10 => ylive (fun vl hvl => yt_143 (by omega) hT1 hT2 (fun q2 => absurd ((heq vl hvl).mp q2) q) (fun _ _ => ⟨rfl, mk0 nt vl⟩) (fun _ hlt => absurd hlt (by omega)))) (fun q hlt => ylive (fun vl hvl => yt_143 (by omega) hT1 hT2 (fun q2 => absurd ((heq vl hvl).mp q2) q) (fun _ hT10 => absurd hlt (by omega)) (fun _ _ => ⟨rfl, ?_⟩)))
      refine zz_mk hA0 hB (rc_add (by omega) (by omega) hC hlt hT2 (fun x hx hb => ⟨hvl x hx hb, hok _ (pc_lt hb (by omega))⟩)) (rs_0 hs)
end
section
/-! supported, propagate, endSearch -/
theorem Sbs_c {n : Nat} {D D' W : Nat → Int32} (e : ∀ x, x < n → D x = D' x) (h : Sbs n W D) : Sbs n W D' := fun x a hx ha => by rw [← e x hx]; exact h x a hx ha
theorem Snd_c {n cnt : Nat} {S : Nat → Int32} {H : Nat → (Nat → Nat) → Prop} {D D' W : Nat → Int32} (e : ∀ x, x < n → D x = D' x) (h : Snd n cnt S H D W) : Snd n cnt S H D' W :=
  fun E hE hs => h E hE (Sbs_c (fun x hx => (e x hx).symm) hs)
section
variable {f_varCount f_valueCount f_maxConstraints f_maxLevel f_allValues f_allVars f_status f_currentLevel f_constraintCount f_searchState f_searchDirection f_foundCount f_depth f_trailSize f_queueHead f_queueSize f_pendingMask : Int32} {a_dom a_savedDom a_savedCount a_savedStatus a_kindOf a_scopeOf a_lowBound a_highBound a_tupleCount a_coef a_tuples a_newTuple a_solution a_todo a_mark a_work a_trailVar a_trailMask a_queue a_inVar a_inMask a_outMask a_matchOf a_owner a_reachedFrom a_bfs a_reach a_termCoef a_termMin a_span a_forward a_backward : Nat → Int32} {kk : Nat}
theorem xu_63 {post : Int32 → SX → Prop} {s : Int32} {n x b : Nat} (hn : n ≤ 6) (h5 : kk ≤ 5) (hkk : kk = pcN s n) (hx : x < n) (hb : bt s x = true) (hiv : ∀ y, y < n → bt s y = true → a_inVar (pcN s y) = nI y)
    (hP : post (((a_outMask (pcN s x)) >>> (nI b &&& 31)) &&& 1) (f_varCount, f_valueCount, f_maxConstraints, f_maxLevel, f_allValues, f_allVars, f_status, f_currentLevel, f_constraintCount, f_searchState, f_searchDirection, f_foundCount, f_depth, f_trailSize, f_queueHead, f_queueSize, f_pendingMask, nI kk, a_dom, a_savedDom, a_savedCount, a_savedStatus, a_kindOf, a_scopeOf, a_lowBound, a_highBound, a_tupleCount, a_coef, a_tuples, a_newTuple, a_solution, a_todo, a_mark, a_work, a_trailVar, a_trailMask, a_queue, a_inVar, a_inMask, a_outMask, a_matchOf, a_owner, a_reachedFrom, a_bfs, a_reach, a_termCoef, a_termMin, a_span, a_forward, a_backward)) : ∀ d i : Nat, i + d = pcN s x → wX_supported_63 post (nI x) (nI b) f_varCount f_valueCount f_maxConstraints f_maxLevel f_allValues f_allVars f_status f_currentLevel f_constraintCount f_searchState f_searchDirection f_foundCount f_depth f_trailSize f_queueHead f_queueSize f_pendingMask (nI kk) a_dom a_savedDom a_savedCount a_savedStatus a_kindOf a_scopeOf a_lowBound a_highBound a_tupleCount a_coef a_tuples a_newTuple a_solution a_todo a_mark a_work a_trailVar a_trailMask a_queue a_inVar a_inMask a_outMask a_matchOf a_owner a_reachedFrom a_bfs a_reach a_termCoef a_termMin a_span a_forward a_backward (d + 1) (nI i) := by
  intro d
  have hpx := pc_lt hb hx
  induction d with
  | zero =>
    intro i hi
    obtain rfl : i = pcN s x := by omega
    refine br_f (nI_ge (by omega) (by omega)) ⟨vp_in_nI (by omega) (by omega), ?_⟩
    rw [nI_clamp (by omega)]
    exact br_t (hiv x hx hb) ⟨vp_in_nI (by omega) (by omega), hP⟩
  | succ d ih =>
    intro i hi
    refine br_f (nI_ge (by omega) (by omega)) ⟨vp_in_nI (by omega) (by omega), ?_⟩
    rw [nI_clamp (by omega)]
    obtain ⟨y, q1, q2, q3⟩ := pc_surj (show i < pcN s n by omega)
    have e := hiv y q1 q2
    rw [q3] at e
    rw [e]
    refine br_f (fun e2 => ?_) (nm_r (e' := nI (i + 1)) (nI_1 _) (ih (i + 1) (by omega)))
    have : y = x := nI_inj (by omega) (by omega) e2
    rw [this] at q3; omega
end

theorem i_vc_supported {k : Nat} {u : SX} {v : SY} (I : i_Rel k u v) (hk : k + 5 ≤ 2564) (v1 : Int32) (v2 : Int32) (v3 : Int32) : wpX_supported (fun r u' => wpY_supported (fun r' v' => r' = r ∧ i_Rel (k + 5) u' v') v v1 v2 v3) u v1 v2 v3 := by
  refine zz_el (P := fun u v => wpX_supported (fun r u' => wpY_supported (fun r' v' => r' = r ∧ i_Rel (k + 5) u' v') v v1 v2 v3) u v1 v2 v3) I ?_
  intro n V mc ml L ct f_status f_searchState f_searchDirection f_foundCount f_depth f_trailSize f_queueHead f_queueSize f_pendingMask f_scopeSize f_place a_dom a_savedDom a_savedCount a_savedStatus a_kindOf a_scopeOf a_lowBound a_highBound a_tupleCount a_coef a_tuples a_newTuple a_solution a_todo a_mark a_work a_trailVar a_trailMask a_queue a_inVar a_inMask a_outMask a_matchOf a_owner a_reachedFrom a_bfs a_reach a_termCoef a_termMin a_span a_forward a_backward y_dom y_status y_count y_tuple y_value y_work y_seen y_args hA hB hC hS
  have same : i_Rel (k + 5) (nI n, nI V, nI mc, nI ml, allM V, allM n, f_status, nI L, nI (ct L), f_searchState, f_searchDirection, f_foundCount, f_depth, f_trailSize, f_queueHead, f_queueSize, f_pendingMask, f_scopeSize, a_dom, a_savedDom, a_savedCount, a_savedStatus, a_kindOf, a_scopeOf, a_lowBound, a_highBound, a_tupleCount, a_coef, a_tuples, a_newTuple, a_solution, a_todo, a_mark, a_work, a_trailVar, a_trailMask, a_queue, a_inVar, a_inMask, a_outMask, a_matchOf, a_owner, a_reachedFrom, a_bfs, a_reach, a_termCoef, a_termMin, a_span, a_forward, a_backward) (nI n, nI V, nI mc, nI ml, nI L, f_searchState, f_searchDirection, f_foundCount, f_place, y_dom, y_status, y_count, a_kindOf, a_scopeOf, a_lowBound, a_highBound, a_coef, a_tupleCount, y_tuple, a_solution, y_value, y_work, y_seen, y_args) := zz_mk hA hB hC hS
  have hA0 := hA
  obtain ⟨a1, a2, a3, a4, a5, a6, a7, a8⟩ := hA
  have hcnt := hC.1
  have hctL := hB.2.2.2.2.2.1 L (Nat.le_refl _)
  have hL6 : L < 6 := by omega
  have hcL : (nI L).toNatClampNeg = L := nI_clamp (by omega)
  have hinL : vp_in (nI L) 6 := vp_in_nI hL6 (by omega)
  rcases pk_ix v1 (n := ct L) (by omega) with h | h | ⟨c, hc, rfl⟩
  · exact br_t h (br_t h ⟨rfl, same⟩)
  · have z := big_nm1 (by omega) h
    refine br_f z.2.1 (br_f z.2.2.1 (br_f z.2.1 ⟨hinL, ?_⟩))
    rw [hcL, hctL]
    exact br_t h ⟨rfl, same⟩
  · have yo : ∀ {A B : Prop}, B → (vp_in (nI L) 6 ∧ (((y_count (nI L).toNatClampNeg) ≤ nI c → A) ∧ (¬ (y_count (nI L).toNatClampNeg) ≤ nI c → B))) := by
      intro A B hb
      rw [hcL, hctL]
      exact ⟨hinL, br_f (nI_ge hc (by omega)) hb⟩
    refine br_f (nI_pos (by omega)) (br_t (nI_lt hc (by omega)) ?_)
    rcases pk_ix v2 (n := n) (by omega) with h | h | ⟨x, hx, rfl⟩
    · exact xh_ivn (by omega) (Or.inl h) (br_f (nI_pos (by omega)) (yo (br_t h ⟨rfl, same⟩)))
    · have z := big_nm1 (by omega) h
      exact xh_ivn (by omega) (Or.inr h) (br_f (nI_pos (by omega)) (yo (br_f z.2.1 (br_t h ⟨rfl, same⟩))))
    · refine xh_ivy (by omega) hx ?_
      rcases pk_ix v3 (n := V) (by omega) with h | h | ⟨b, hb, rfl⟩
      · exact xh_ian (by omega) (Or.inl h) (br_f (nI_pos (by omega)) (yo (br_f (nI_pos (by omega)) (br_f (nI_ge hx (by omega)) (br_t h ⟨rfl, same⟩)))))
      · have z := big_nm1 (by omega) h
        exact xh_ian (by omega) (Or.inr h) (br_f (nI_pos (by omega)) (yo (br_f (nI_pos (by omega)) (br_f (nI_ge hx (by omega)) (br_f z.2.1 (br_f z.2.2.1 ⟨rfl, same⟩))))))
      · refine xh_iay (by omega) hb ⟨vp_in_nI (by omega) (by omega), ?_⟩
        have hcc : (nI c).toNatClampNeg = c := nI_clamp (by omega)
        rw [hcc]
        have hok := hC.2.1 c hc
        have hpv := rb_pv hB
        refine xh_hb (by omega) (fun hf => ?_) (fun htr => ?_)
        · refine br_f (nI_pos (by omega)) (yo (br_f (nI_pos (by omega)) (br_f (nI_ge hx (by omega)) (br_f (nI_pos (by omega)) (br_t (nI_lt hb (by omega)) ⟨vp_in_nI (by omega) (by omega), ?_⟩)))))
          rw [hcc]
          exact yh_in (by omega) (fun _ => ⟨rfl, same⟩) (fun q => by rw [hf] at q; cases q)
        · refine xc_sup (tu := y_tuple) (D := a_dom) (by omega) (by omega) (by omega) hok (fun y hy => hpv y (by omega)) (Or.inl ⟨rfl, rfl⟩) (fun s1 s2 s3 s4 s5 s6 s7 s8 s9 s10 s11 s12 s13 hcs => ?_)
          refine Exists.intro (pcN (a_scopeOf c) x + 1) (xu_63 (s := a_scopeOf c) (n := n) (x := x) (b := b) (by omega) (by rw [pl_pc (by omega) hok.2.1]; exact hok.2.2.2.1) rfl hx htr (fun y hy hyb => (hcs y hy hyb).1) ?_ (pcN (a_scopeOf c) x) 0 (by omega))
          refine br_f (nI_pos (by omega)) (yo (br_f (nI_pos (by omega)) (br_f (nI_ge hx (by omega)) (br_f (nI_pos (by omega)) (br_t (nI_lt hb (by omega)) ⟨vp_in_nI (by omega) (by omega), ?_⟩)))))
          rw [hcc]
          refine yh_in (by omega) (fun q => by rw [htr] at q; cases q) (fun _ => ys_cp hL6 (fun w hw => ?_))
          have hwd : ∀ y, y < n → w y = a_dom y := fun y hy => (hw y (by omega)).trans (hB.1 y (by omega))
          refine ys_see (V := V) (xt := a_tuples) (by omega) (by omega) (by omega) (by omega) hok (fun y hy => by rw [hwd y hy]; exact (hpv y (by omega)).1) (fun vl sn hsn => ⟨vp_in_nI (by omega) (by omega), ?_, ?_⟩)
          · rw [nI_clamp (by omega), gb_nI _ (by omega), gb_nI _ (by omega)]
            have e : bt (sn x) b = bt (s3 (pcN (a_scopeOf c) x)) b := by
              rw [Bool.eq_iff_iff, hsn x b hx htr, (hcs x hx htr).2 b]
              exact ⟨Sup_l (fun y hy _ => hwd y hy), Sup_l (fun y hy _ => (hwd y hy).symm)⟩
            rw [e]
          · exact zz_mk hA0 hB hC hS
theorem i_vc_propagate {k : Nat} {u : SX} {v : SY} (I : i_Rel k u v) (hk : k + 5 ≤ 2564) : wpX_propagate (fun r u' => wpY_propagate (fun r' v' => r' = r ∧ i_Rel (k + 5) u' v') v) u := by
  refine zz_el (P := fun u v => wpX_propagate (fun r u' => wpY_propagate (fun r' v' => r' = r ∧ i_Rel (k + 5) u' v') v) u) I ?_
  intro n V mc ml L ct f_status f_searchState f_searchDirection f_foundCount f_depth f_trailSize f_queueHead f_queueSize f_pendingMask f_scopeSize f_place a_dom a_savedDom a_savedCount a_savedStatus a_kindOf a_scopeOf a_lowBound a_highBound a_tupleCount a_coef a_tuples a_newTuple a_solution a_todo a_mark a_work a_trailVar a_trailMask a_queue a_inVar a_inMask a_outMask a_matchOf a_owner a_reachedFrom a_bfs a_reach a_termCoef a_termMin a_span a_forward a_backward y_dom y_status y_count y_tuple y_value y_work y_seen y_args hA hB hC hS
  have same : i_Rel (k + 5) (nI n, nI V, nI mc, nI ml, allM V, allM n, f_status, nI L, nI (ct L), f_searchState, f_searchDirection, f_foundCount, f_depth, f_trailSize, f_queueHead, f_queueSize, f_pendingMask, f_scopeSize, a_dom, a_savedDom, a_savedCount, a_savedStatus, a_kindOf, a_scopeOf, a_lowBound, a_highBound, a_tupleCount, a_coef, a_tuples, a_newTuple, a_solution, a_todo, a_mark, a_work, a_trailVar, a_trailMask, a_queue, a_inVar, a_inMask, a_outMask, a_matchOf, a_owner, a_reachedFrom, a_bfs, a_reach, a_termCoef, a_termMin, a_span, a_forward, a_backward) (nI n, nI V, nI mc, nI ml, nI L, f_searchState, f_searchDirection, f_foundCount, f_place, y_dom, y_status, y_count, a_kindOf, a_scopeOf, a_lowBound, a_highBound, a_coef, a_tupleCount, y_tuple, a_solution, y_value, y_work, y_seen, y_args) := zz_mk hA hB hC hS
  have hL6 : L < 6 := by have := hA.2.2.2.2.2.2; omega
  by_cases hs : f_searchState = 0
  rotate_left
  · unfold wpX_propagate
    refine xh_r11 hs ?_
    dsimp only
    unfold wpY_propagate
    exact yh_r11 hs ⟨rfl, same⟩
  by_cases ht : f_status = -12
  · unfold wpX_propagate
    refine xh_r12 hs ht ?_
    dsimp only
    unfold wpY_propagate
    exact yh_r12 hL6 hs (hB.2.2.2.1.trans ht) ⟨rfl, same⟩
  have ht' : ¬ y_status L = -12 := fun e => ht (hB.2.2.2.1.symm.trans e)
  have hA0 := hA
  obtain ⟨a1, a2, a3, a4, a5, a6, a7, a8⟩ := hA
  have hcnt := hC.1
  have hctL := hB.2.2.2.2.2.1 L (Nat.le_refl _)
  have hpv := rb_pv hB
  unfold wpX_propagate
  refine xh_r0 hs ht ?_
  have hDD : ∀ x, x < n → a_dom x = (fun x => y_dom (L * 6 + x)) x := fun x hx => (hB.1 x (by omega)).symm
  have hDV : ∀ x, x < 6 → Msk V (y_dom (L * 6 + x)) := fun x hx => (hB.2.2.1 L x (Nat.le_refl _) hx).1
  refine xp_dom (tu := y_tuple) (by omega) (by omega) (by omega) hC.2.1 hpv (fun hf ss s1 s2 s3 s4 s5 s6 s7 s8 s9 s10 s11 s12 s13 hd' sz' pd' q' ts' w' tv' tm' => br_t rfl ?_) (fun ss s1 s2 s3 s4 s5 s6 s7 s8 s9 s10 s11 s12 s13 hd' sz' pd' q' ts' w' tv' tm' hP hF => br_f (by decide) ?_)
  · obtain ⟨W, c, x, hc, hx, hxb, hsn, hno⟩ := hf
    refine yp_prop (V := V) (xt := a_tuples) (by omega) (by omega) (by omega) hL6 (by omega) hctL hC.2.1 hs ht' hDV (fun w vl sn hW hF _ => ⟨rfl, zz_mk hA0 (rb_st (-12) hB) hC (rs_0 hs)⟩) (fun w vl sn hW hF hne => ?_)
    exfalso
    refine hne x hx (gb_eq0.mpr (fun a => ?_))
    cases hb : bt (w x) a with
    | false => rfl
    | true => exact absurd (Sup_m (hsn w hF (Sbs_c (fun y hy => (hDD y hy).symm) hW.2.2)) (hF c hc x a hx hxb hb)) (hno a)
  · refine xq_end (by omega) (yp_prop (V := V) (xt := a_tuples) (by omega) (by omega) (by omega) hL6 (by omega) hctL hC.2.1 hs ht' hDV (fun w vl sn hW hF' hex => ?_) (fun w vl sn hW hF' _ => ⟨?_, ?_⟩))
    · exfalso
      obtain ⟨x, hx, e⟩ := hex
      have := Fix_eq hF hP.2.2.2.2.2 hP.2.2.2.2.1 hF' (Sbs_c (fun y hy => (hDD y hy).symm) hW.2.2) (Snd_c (fun y hy => (hDD y hy).symm) hW.2.1) x hx
      obtain ⟨a, ha⟩ := (hP.1 x (by omega)).2
      rw [this, e, b_0] at ha; cases ha
    · exact congrArg nI (rm_c (fun x hx => ⟨(hDD x hx).symm, (Fix_eq hF hP.2.2.2.2.2 hP.2.2.2.2.1 hF' (Sbs_c (fun y hy => (hDD y hy).symm) hW.2.2) (Snd_c (fun y hy => (hDD y hy).symm) hW.2.1) x hx).symm⟩))
    · have heq := Fix_eq hF hP.2.2.2.2.2 hP.2.2.2.2.1 hF' (Sbs_c (fun y hy => (hDD y hy).symm) hW.2.2) (Snd_c (fun y hy => (hDD y hy).symm) hW.2.1)
      have hin : ∀ x, x < n → putR 0 n w' a_dom x = w' x := fun x hx => by
        have := pt_in (b := 0) (w := w') (f := a_dom) hx
        rwa [Nat.zero_add] at this
      refine zz_mk hA0 (rb_st 2 (rb_dom hB (fun x hx => ?_) (fun j hj => pt_out (by omega)) (fun x hx => ?_))) hC (rs_0 hs)
      · rcases Nat.lt_or_ge x n with z | z
        · rw [pt_in z, hin x z, heq x z]
        · rw [pt_out (by omega), pt_out (by omega)]; exact hB.1 x hx
      · rcases Nat.lt_or_ge x n with z | z
        · rw [hin x z]; exact hP.1 x hx
        · rw [pt_out (by omega)]; exact hpv x hx
theorem i_vc_endSearch {k : Nat} {u : SX} {v : SY} (I : i_Rel k u v) (hk : k + 5 ≤ 2564) (v1 : Int32) : wpX_endSearch (fun r u' => wpY_endSearch (fun r' v' => r' = r ∧ i_Rel (k + 5) u' v') v v1) u v1 := by
  refine zz_el (P := fun u v => wpX_endSearch (fun r u' => wpY_endSearch (fun r' v' => r' = r ∧ i_Rel (k + 5) u' v') v v1) u v1) I ?_
  intro n V mc ml L ct f_status f_searchState f_searchDirection f_foundCount f_depth f_trailSize f_queueHead f_queueSize f_pendingMask f_scopeSize f_place a_dom a_savedDom a_savedCount a_savedStatus a_kindOf a_scopeOf a_lowBound a_highBound a_tupleCount a_coef a_tuples a_newTuple a_solution a_todo a_mark a_work a_trailVar a_trailMask a_queue a_inVar a_inMask a_outMask a_matchOf a_owner a_reachedFrom a_bfs a_reach a_termCoef a_termMin a_span a_forward a_backward y_dom y_status y_count y_tuple y_value y_work y_seen y_args hA hB hC hS
  have same : i_Rel (k + 5) (nI n, nI V, nI mc, nI ml, allM V, allM n, f_status, nI L, nI (ct L), f_searchState, f_searchDirection, f_foundCount, f_depth, f_trailSize, f_queueHead, f_queueSize, f_pendingMask, f_scopeSize, a_dom, a_savedDom, a_savedCount, a_savedStatus, a_kindOf, a_scopeOf, a_lowBound, a_highBound, a_tupleCount, a_coef, a_tuples, a_newTuple, a_solution, a_todo, a_mark, a_work, a_trailVar, a_trailMask, a_queue, a_inVar, a_inMask, a_outMask, a_matchOf, a_owner, a_reachedFrom, a_bfs, a_reach, a_termCoef, a_termMin, a_span, a_forward, a_backward) (nI n, nI V, nI mc, nI ml, nI L, f_searchState, f_searchDirection, f_foundCount, f_place, y_dom, y_status, y_count, a_kindOf, a_scopeOf, a_lowBound, a_highBound, a_coef, a_tupleCount, y_tuple, a_solution, y_value, y_work, y_seen, y_args) := zz_mk hA hB hC hS
  have hA0 := hA
  obtain ⟨a1, a2, a3, a4, a5, a6, a7, a8⟩ := hA
  have hL6 : L < 6 := by omega
  have hpv := rb_pv hB
  have rel0 : i_Rel (k + 5) (nI n, nI V, nI mc, nI ml, allM V, allM n, f_status, nI L, nI (ct L), 0, 0, 0, f_depth, f_trailSize, f_queueHead, f_queueSize, f_pendingMask, f_scopeSize, a_dom, a_savedDom, a_savedCount, a_savedStatus, a_kindOf, a_scopeOf, a_lowBound, a_highBound, a_tupleCount, a_coef, a_tuples, a_newTuple, a_solution, a_todo, a_mark, a_work, a_trailVar, a_trailMask, a_queue, a_inVar, a_inMask, a_outMask, a_matchOf, a_owner, a_reachedFrom, a_bfs, a_reach, a_termCoef, a_termMin, a_span, a_forward, a_backward) (nI n, nI V, nI mc, nI ml, nI L, 0, 0, 0, f_place, y_dom, y_status, y_count, a_kindOf, a_scopeOf, a_lowBound, a_highBound, a_coef, a_tupleCount, y_tuple, a_solution, y_value, y_work, y_seen, y_args) := zz_mk hA0 hB hC (rs_0 rfl)
  by_cases hs : f_searchState = 0
  · exact br_t hs (br_t hs ⟨rfl, same⟩)
  · refine br_f hs ?_
    by_cases h1 : v1 = 1
    · refine br_t h1 ?_
      by_cases h2 : f_searchState = 2
      · refine br_t h2 (xe_end (by omega) (br_f hs (br_t h1 (br_t h2 (ye_end (by omega) hL6 (fun w hw => ⟨?_, ?_⟩))))))
        · exact congrArg nI (rm_c (fun x hx => ⟨hB.1 x (by omega), hw x hx⟩))
        · have hin : ∀ x, x < n → putR 0 n (slM a_solution) a_dom x = slM a_solution x := fun x hx => by
            have := pt_in (b := 0) (w := slM a_solution) (f := a_dom) hx
            rwa [Nat.zero_add] at this
          refine zz_mk hA0 (rb_st 2 (rb_dom hB (fun x hx => ?_) (fun j hj => pt_out (by omega)) (fun x hx => ?_))) hC (rs_0 rfl)
          · rcases Nat.lt_or_ge x n with z | z
            · rw [pt_in z, hin x z, hw x z]
            · rw [pt_out (by omega), pt_out (by omega)]; exact hB.1 x hx
          · rcases Nat.lt_or_ge x n with z | z
            · rw [hin x z]
              obtain ⟨a, ha, e⟩ := (hS.2.2 h2).2 x z
              unfold slM
              rw [e]
              exact ⟨mk_shl ha (by omega), a, by rw [gb_shl1 (by omega)]; exact decide_eq_true rfl⟩
            · rw [pt_out (by omega)]; exact hpv x hx
      · refine br_f h2 ?_
        unfold wX_endSearch_82
        exact br_f hs (br_t h1 (br_f h2 (And.intro rfl rel0)))
    · refine br_f h1 ?_
      unfold wX_endSearch_82
      exact br_f hs (br_f h1 (And.intro rfl rel0))
end
section
/-! reset and the constructors -/
theorem rb_reset {V : Nat} {ct : Nat → Nat} {a_dom a_savedDom a_savedCount a_savedStatus y_dom y_status y_count : Nat → Int32} (hV : 2 ≤ V) (hV6 : V ≤ 6) :
    RB V 0 (fun _ => 0) 1 (putR 0 6 (fun _ => allM V) a_dom) a_savedDom a_savedCount a_savedStatus (putR 0 6 (fun _ => allM V) y_dom) (upd y_status 0 1) (upd y_count 0 0) := by
  have hin : ∀ (f : Nat → Int32) x, x < 6 → putR 0 6 (fun _ => allM V) f x = allM V := fun f x hx => by
    have := pt_in (b := 0) (w := fun _ => allM V) (f := f) hx
    rwa [Nat.zero_add] at this
  refine ⟨fun x hx => ?_, fun l x hl => absurd hl (by omega), fun l x hl hx => ?_, pk_us, fun l hl => absurd hl (by omega), fun l hl => ?_, fun l hl => absurd hl (by omega), fun l hl => absurd hl (by omega)⟩
  · rw [show 0 * 6 + x = x by omega, hin _ x hx, hin _ x hx]
  · obtain rfl : l = 0 := by omega
    rw [show 0 * 6 + x = x by omega, hin _ x hx]
    exact ⟨am_msk hV6, 0, by rw [am_bt hV6]; exact decide_eq_true (by omega)⟩
  · obtain rfl : l = 0 := by omega
    rw [pk_us]; rfl
theorem rc_reset {n V mc : Nat} {kd sc lo hi tc co xt tu : Nat → Int32} (hm : 1 ≤ mc) (h1 : kd 6 = 0) (h2 : lo 6 = 0) (h3 : hi 6 = 0) : RC n V mc 0 kd (upd sc 6 0) lo hi (upd tc 6 0) (putR 36 6 (fun _ => 0) co) xt tu := by
  refine ⟨by omega, fun c hc => absurd hc (by omega), h1, h2, h3, by rw [pk_us]; exact mk_0 _, by rw [pk_us, pc_zero]; omega, ⟨0, by omega, pk_us, fun t x h => absurd h (by omega)⟩, fun x hx => ⟨0, by omega, by omega, by rw [pt_in hx]; rfl⟩, fun x _ hx => by rw [pt_in hx]⟩
theorem i_vc_reset {k : Nat} {u : SX} {v : SY} (I : i_Rel k u v) (hk : k + 5 ≤ 2564) : wpX_reset (fun u' => wpY_reset (fun v' => i_Rel (k + 5) u' v') v) u := by
  refine zz_el (P := fun u v => wpX_reset (fun u' => wpY_reset (fun v' => i_Rel (k + 5) u' v') v) u) I ?_
  intro n V mc ml L ct f_status f_searchState f_searchDirection f_foundCount f_depth f_trailSize f_queueHead f_queueSize f_pendingMask f_scopeSize f_place a_dom a_savedDom a_savedCount a_savedStatus a_kindOf a_scopeOf a_lowBound a_highBound a_tupleCount a_coef a_tuples a_newTuple a_solution a_todo a_mark a_work a_trailVar a_trailMask a_queue a_inVar a_inMask a_outMask a_matchOf a_owner a_reachedFrom a_bfs a_reach a_termCoef a_termMin a_span a_forward a_backward y_dom y_status y_count y_tuple y_value y_work y_seen y_args hA hB hC hS
  have same : i_Rel (k + 5) (nI n, nI V, nI mc, nI ml, allM V, allM n, f_status, nI L, nI (ct L), f_searchState, f_searchDirection, f_foundCount, f_depth, f_trailSize, f_queueHead, f_queueSize, f_pendingMask, f_scopeSize, a_dom, a_savedDom, a_savedCount, a_savedStatus, a_kindOf, a_scopeOf, a_lowBound, a_highBound, a_tupleCount, a_coef, a_tuples, a_newTuple, a_solution, a_todo, a_mark, a_work, a_trailVar, a_trailMask, a_queue, a_inVar, a_inMask, a_outMask, a_matchOf, a_owner, a_reachedFrom, a_bfs, a_reach, a_termCoef, a_termMin, a_span, a_forward, a_backward) (nI n, nI V, nI mc, nI ml, nI L, f_searchState, f_searchDirection, f_foundCount, f_place, y_dom, y_status, y_count, a_kindOf, a_scopeOf, a_lowBound, a_highBound, a_coef, a_tupleCount, y_tuple, a_solution, y_value, y_work, y_seen, y_args) := zz_mk hA hB hC hS
  have hA0 := hA
  obtain ⟨a1, a2, a3, a4, a5, a6, a7, a8⟩ := hA
  refine xr_reset (yr_reset ?_)
  rw [u_self hC.2.2.1, u_self hC.2.2.2.1, u_self hC.2.2.2.2.1]
  exact zz_mk2 (L := 0) (cnt := 0) (ct := fun _ => 0) rfl ⟨a1, a2, a3, a4, a5, a6, a7, by omega⟩ (rb_reset (ct := ct) a3 a4) (rc_reset a5 hC.2.2.1 hC.2.2.2.1 hC.2.2.2.2.1) (rs_0 rfl)
theorem i_vc0 (k0 : Int32) (k1 : Int32) (k2 : Int32) (k3 : Int32) : wpX_init (fun u => wpY_init (fun v => i_Rel 4 u v) k0 k1 k2 k3) k0 k1 k2 k3 := by
  obtain ⟨n, hn⟩ := cl_ex k0 (lo := 2) (hi := 6) (by omega) (by omega)
  obtain ⟨V, hV⟩ := cl_ex k1 (lo := 2) (hi := 6) (by omega) (by omega)
  obtain ⟨mc, hmc⟩ := cl_ex k2 (lo := 1) (hi := 6) (by omega) (by omega)
  obtain ⟨ml, hml⟩ := cl_ex k3 (lo := 0) (hi := 5) (by omega) (by omega)
  unfold wpX_init
  refine xk_clamp (lo := 2) (hi := 6) hn (xk_clamp (lo := 2) (hi := 6) hV (xk_clamp (lo := 1) (hi := 6) hmc (xk_clamp (lo := 0) (hi := 5) hml (nm_r (e' := allM V) rfl (nm_r (e' := allM n) rfl (xr_reset ?_))))))
  unfold wpY_init
  refine yk_clamp (lo := 2) (hi := 6) hn (yk_clamp (lo := 2) (hi := 6) hV (yk_clamp (lo := 1) (hi := 6) hmc (yk_clamp (lo := 0) (hi := 5) hml (yr_reset ?_))))
  have e0 : upd (fun _ => 0) 6 0 = (fun _ => (0 : Int32)) := u_self rfl
  show i_Rel 4 (nI n, nI V, nI mc, nI ml, allM V, allM n, 1, nI 0, nI 0, 0, 0, 0, 0, 0, 0, 0, 0, 0, putR 0 6 (fun _ => allM V) (fun _ => 0), (fun _ => 0), (fun _ => 0), (fun _ => 0), upd (fun _ => 0) 6 0, upd (fun _ => 0) 6 0, upd (fun _ => 0) 6 0, upd (fun _ => 0) 6 0, upd (fun _ => 0) 6 0, putR 36 6 (fun _ => 0) (fun _ => 0), (fun _ => 0), (fun _ => 0), (fun _ => 0), (fun _ => 0), (fun _ => 0), (fun _ => 0), (fun _ => 0), (fun _ => 0), (fun _ => 0), (fun _ => 0), (fun _ => 0), (fun _ => 0), (fun _ => 0), (fun _ => 0), (fun _ => 0), (fun _ => 0), (fun _ => 0), (fun _ => 0), (fun _ => 0), (fun _ => 0), (fun _ => 0), (fun _ => 0)) (nI n, nI V, nI mc, nI ml, nI 0, 0, 0, 0, 0, putR 0 6 (fun _ => allM V) (fun _ => 0), upd (fun _ => 0) 0 1, upd (fun _ => 0) 0 0, (fun _ => 0), upd (fun _ => 0) 6 0, (fun _ => 0), (fun _ => 0), putR 36 6 (fun _ => 0) (fun _ => 0), upd (fun _ => 0) 6 0, (fun _ => 0), (fun _ => 0), (fun _ => 0), (fun _ => 0), (fun _ => 0), (fun _ => 0))
  rw [e0]
  have hsc := rc_reset (n := n) (V := V) (mc := mc) (kd := fun _ => 0) (sc := fun _ => 0) (lo := fun _ => 0) (hi := fun _ => 0) (tc := fun _ => 0) (co := fun _ => 0) (xt := fun _ => 0) (tu := fun _ => 0) hmc.1 rfl rfl rfl
  rw [e0] at hsc
  exact zz_mk2 (L := 0) (cnt := 0) (ct := fun _ => 0) rfl ⟨hn.1, hn.2.1, hV.1, hV.2.1, hmc.1, hmc.2.1, hml.2.1, by omega⟩ (rb_reset (ct := fun _ => 0) hV.1 hV.2.1) hsc (rs_0 rfl)
end
section
/-! nextSolution -/
theorem nx_main {k : Nat} {n V mc ml L : Nat} {ct : Nat → Nat} {f_status f_searchState f_searchDirection f_foundCount f_pendingMask f_scopeSize f_place : Int32} {a_dom a_savedDom a_savedCount a_savedStatus a_kindOf a_scopeOf a_lowBound a_highBound a_tupleCount a_coef a_tuples a_newTuple a_solution a_queue a_inVar a_inMask a_outMask a_matchOf a_owner a_reachedFrom a_bfs a_reach a_termCoef a_termMin a_span a_forward a_backward y_dom y_status y_count y_tuple y_value y_work y_seen y_args : Nat → Int32} (hA : RA n V mc ml L) (hB : RB V L ct f_status a_dom a_savedDom a_savedCount a_savedStatus y_dom y_status y_count) (hC : RC n V mc (ct L) a_kindOf a_scopeOf a_lowBound a_highBound a_tupleCount a_coef a_tuples y_tuple) (hs0 : ¬ f_searchState = 0) (hs3 : ¬ f_searchState = 3) {d ts pl hd sz : Nat} {td mk w tv tm : Nat → Int32} {W : Nat → Nat → Int32} {p mN : Nat → Nat} (hpl : f_place + 1 = nI pl) (hpl6 : pl ≤ 6 ^ n)
    (hSI : SI n V (ct L) a_scopeOf (Hd n a_kindOf a_scopeOf a_lowBound a_highBound a_tupleCount a_coef y_tuple) a_dom f_searchDirection d td mk ts tv tm w W p mN) (hrk : ∀ val, Sol n (ct L) (Hd n a_kindOf a_scopeOf a_lowBound a_highBound a_tupleCount a_coef y_tuple) a_dom val → (Rm d td p val ↔ pl ≤ rnk f_searchDirection n val)) :
    wX_nextSolution_62 (fun r u' => wpY_nextSolution (fun r' v' => r' = r ∧ i_Rel (k + 5) u' v') (nI n, nI V, nI mc, nI ml, nI L, f_searchState, f_searchDirection, f_foundCount, f_place, y_dom, y_status, y_count, a_kindOf, a_scopeOf, a_lowBound, a_highBound, a_coef, a_tupleCount, y_tuple, a_solution, y_value, y_work, y_seen, y_args)) 1 (nI n) (nI V) (nI mc) (nI ml) (allM V) (allM n) f_status (nI L) (nI (ct L)) f_searchState f_searchDirection f_foundCount (nI d) (nI ts) (nI hd) (nI sz) f_pendingMask f_scopeSize a_dom a_savedDom a_savedCount a_savedStatus a_kindOf a_scopeOf a_lowBound a_highBound a_tupleCount a_coef a_tuples a_newTuple a_solution td mk w tv tm a_queue a_inVar a_inMask a_outMask a_matchOf a_owner a_reachedFrom a_bfs a_reach a_termCoef a_termMin a_span a_forward a_backward := by
  have hA0 := hA
  obtain ⟨a1, a2, a3, a4, a5, a6, a7, a8⟩ := hA
  have hcnt := hC.1
  have hctL := hB.2.2.2.2.2.1 L (Nat.le_refl _)
  have hpv := rb_pv hB
  have hL6 : L < 6 := by omega
  refine br_f (by decide) ?_
  refine xd_desc (tu := y_tuple) (D := a_dom) (by omega) (by omega) (by omega) hC.2.1 (fun x hx => (hpv x (by omega)).1) hSI hrk (fun hno f_depth ss s1 s2 s3 s4 s5 s6 s7 s8 s9 s10 s11 s12 s13 hd' sz' pd' q' ts' w' tv' tm' td' mk' => ?_) (fun vs ss s1 s2 s3 s4 s5 s6 s7 s8 s9 s10 s11 s12 s13 hd' sz' pd' q' ts' w' tv' tm' td' mk' W' p' mN' hSI' hw' hsol hle hmin hrk' => ?_)
  · unfold wX_nextSolution_71
    refine br_t rfl ?_
    refine yn_next (V := V) (xt := a_tuples) (D := a_dom) (pl := pl) (by omega) (by omega) hL6 (by omega) (by omega) hctL hC.2.1 hB.1 (fun x hx => (hpv x hx).1) hs0 hs3 hpl hpl6 (fun _ w vl => ⟨rfl, ?_⟩) (fun val hs hle' => absurd hle' (hno val hs))
    exact zz_mk hA0 hB hC rs_3
  · unfold wX_nextSolution_71
    have h6 : ∀ val, Sol n (ct L) (Hd n a_kindOf a_scopeOf a_lowBound a_highBound a_tupleCount a_coef y_tuple) a_dom val → ∀ x, x < n → val x < V := fun val hs x hx => mk_lt (hpv x (by omega)).1 (hs.1 x hx)
    have h66 : ∀ val, Sol n (ct L) (Hd n a_kindOf a_scopeOf a_lowBound a_highBound a_tupleCount a_coef y_tuple) a_dom val → ∀ x, x < n → val x < 6 := fun val hs x hx => by have := h6 val hs x hx; omega
    refine br_f (by decide) (xn_E (vs := vs) (by omega) hw' (h66 vs hsol) (yn_next (V := V) (xt := a_tuples) (D := a_dom) (pl := pl) (by omega) (by omega) hL6 (by omega) (by omega) hctL hC.2.1 hB.1 (fun x hx => (hpv x hx).1) hs0 hs3 hpl hpl6 (fun hno => absurd hle (hno vs hsol)) (fun val hs hle' hmin' w vl => ⟨rfl, ?_⟩)))
    · have e1 := hmin val hs hle'
      have e2 := hmin' vs hsol hle
      have er : rnk f_searchDirection n val = rnk f_searchDirection n vs := by omega
      have same := rk_inj (by omega) (h66 val hs) (h66 vs hsol) er
      rw [pt_c (w := fun x => nI (val x)) (w' := fun x => nI (vs x)) (fun x hx => by rw [same x hx]), er]
      refine zz_mk hA0 hB hC ⟨Or.inr (Or.inr (Or.inl rfl)), fun e => absurd e (by decide), fun _ => ⟨⟨rnk f_searchDirection n vs + 1, ts', W', p', mN', nI_1 _, (rk_lt (by omega) (h66 vs hsol)).2, rfl, rfl, hSI', hrk'⟩, fun x hx => ⟨vs x, h6 vs hsol x hx, ?_⟩⟩⟩
      have := pt_in (b := 0) (w := fun x => nI (vs x)) (f := a_solution) hx
      rwa [Nat.zero_add] at this
theorem i_vc_nextSolution {k : Nat} {u : SX} {v : SY} (I : i_Rel k u v) (hk : k + 5 ≤ 2564) : wpX_nextSolution (fun r u' => wpY_nextSolution (fun r' v' => r' = r ∧ i_Rel (k + 5) u' v') v) u := by
  refine zz_el (P := fun u v => wpX_nextSolution (fun r u' => wpY_nextSolution (fun r' v' => r' = r ∧ i_Rel (k + 5) u' v') v) u) I ?_
  intro n V mc ml L ct f_status f_searchState f_searchDirection f_foundCount f_depth f_trailSize f_queueHead f_queueSize f_pendingMask f_scopeSize f_place a_dom a_savedDom a_savedCount a_savedStatus a_kindOf a_scopeOf a_lowBound a_highBound a_tupleCount a_coef a_tuples a_newTuple a_solution a_todo a_mark a_work a_trailVar a_trailMask a_queue a_inVar a_inMask a_outMask a_matchOf a_owner a_reachedFrom a_bfs a_reach a_termCoef a_termMin a_span a_forward a_backward y_dom y_status y_count y_tuple y_value y_work y_seen y_args hA hB hC hS
  have same : i_Rel (k + 5) (nI n, nI V, nI mc, nI ml, allM V, allM n, f_status, nI L, nI (ct L), f_searchState, f_searchDirection, f_foundCount, f_depth, f_trailSize, f_queueHead, f_queueSize, f_pendingMask, f_scopeSize, a_dom, a_savedDom, a_savedCount, a_savedStatus, a_kindOf, a_scopeOf, a_lowBound, a_highBound, a_tupleCount, a_coef, a_tuples, a_newTuple, a_solution, a_todo, a_mark, a_work, a_trailVar, a_trailMask, a_queue, a_inVar, a_inMask, a_outMask, a_matchOf, a_owner, a_reachedFrom, a_bfs, a_reach, a_termCoef, a_termMin, a_span, a_forward, a_backward) (nI n, nI V, nI mc, nI ml, nI L, f_searchState, f_searchDirection, f_foundCount, f_place, y_dom, y_status, y_count, a_kindOf, a_scopeOf, a_lowBound, a_highBound, a_coef, a_tupleCount, y_tuple, a_solution, y_value, y_work, y_seen, y_args) := zz_mk hA hB hC hS
  have hA0 := hA
  obtain ⟨a1, a2, a3, a4, a5, a6, a7, a8⟩ := hA
  have hcnt := hC.1
  have hctL := hB.2.2.2.2.2.1 L (Nat.le_refl _)
  have hpv := rb_pv hB
  have hL6 : L < 6 := by omega
  rcases hS.1 with e | e | e | e
  · exact br_t e (br_t e ⟨rfl, same⟩)
  · have hs0 : ¬ f_searchState = 0 := by rw [e]; decide
    have hs3 : ¬ f_searchState = 3 := by rw [e]; decide
    have hpl : f_place + 1 = nI 0 := by rw [hS.2.1 e]; rfl
    refine br_f hs0 (br_f hs3 (br_t e ?_))
    refine xp_dom (tu := y_tuple) (by omega) (by omega) (by omega) hC.2.1 hpv (fun hf ss s1 s2 s3 s4 s5 s6 s7 s8 s9 s10 s11 s12 s13 hd' sz' pd' q' ts' w' tv' tm' => nm_e (nm_e ?_)) (fun ss s1 s2 s3 s4 s5 s6 s7 s8 s9 s10 s11 s12 s13 hd' sz' pd' q' ts' w' tv' tm' hP hF => nm_e (nm_e ?_))
    · unfold wX_nextSolution_62 wX_nextSolution_71
      obtain ⟨W, c, x, hc, hx, hxb, hsn, hno⟩ := hf
      refine br_t rfl (br_t rfl (yn_next (V := V) (xt := a_tuples) (D := a_dom) (pl := 0) (by omega) (by omega) hL6 (by omega) (by omega) hctL hC.2.1 hB.1 (fun x hx => (hpv x hx).1) hs0 hs3 hpl (Nat.zero_le _) (fun _ w vl => ⟨rfl, zz_mk hA0 hB hC rs_3⟩) (fun val hs _ => (Sol_fail hc hsn hno val hs).elim)))
    · have hts := PI_ts (by omega) hP
      refine nx_main (d := 0) (ts := ts') (pl := 0) (W := fun _ => w') (p := fun _ => 0) (mN := fun _ => ts') hA0 hB hC hs0 hs3 hpl (Nat.zero_le _) ⟨by omega, hP.2.2.2.1, by omega, fun k' hk' => ?_, fun _ _ _ _ => Nat.le_refl _, fun k' hk' => ?_, fun k' hk' => absurd hk' (by omega)⟩ (fun val hs => ⟨fun _ => Nat.zero_le _, fun _ => ⟨0, Nat.le_refl _, fun j hj => absurd hj (by omega), ?_⟩⟩)
      · obtain rfl : k' = 0 := by omega
        exact ⟨pk_us, Nat.le_refl _, by rw [Nat.sub_self]; rfl⟩
      · obtain rfl : k' = 0 := by omega
        exact ⟨hP.1, hP.2.2.1, hF, hP.2.2.2.2.2, fun a ha => by rw [pk_us] at ha; exact ha, fun val hs _ => Sol_snd hs hP.2.2.2.2.1, fun j a hj => absurd hj (by omega)⟩
      · rw [pk_us]; exact (Sol_snd hs hP.2.2.2.2.1).1 0 (by omega)
  · have hs0 : ¬ f_searchState = 0 := by rw [e]; decide
    have hs3 : ¬ f_searchState = 3 := by rw [e]; decide
    have hs1 : ¬ f_searchState = 1 := by rw [e]; decide
    obtain ⟨⟨pl, ts, W, p, mN, h1, h2, h3, h4, h5, h6⟩, h7⟩ := hS.2.2 e
    subst h3 h4
    refine br_f hs0 (br_f hs3 (br_f hs1 ?_))
    obtain ⟨hd, _, rfl⟩ := wb_of32 f_queueHead
    obtain ⟨sz, _, rfl⟩ := wb_of32 f_queueSize
    exact nx_main hA0 hB hC hs0 hs3 h1 h2 h5 h6
  · have hs0 : ¬ f_searchState = 0 := by rw [e]; decide
    exact br_f hs0 (br_t e (br_f hs0 (br_t e ⟨rfl, same⟩)))
end
