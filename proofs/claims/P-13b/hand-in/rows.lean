section
/-! pure rows to paste: stores, nI and lN arithmetic, masks, shifts, narrowing, branches by naturals (pk_le, pk_lt, pk_eq), loops (lp1 .. lp16: the measure of the state; rp1 ..: recursion), negatives. Take what you need -/
theorem pk_us {f : Nat → Int32} {k : Nat} {x : Int32} : upd f k x k = x := if_pos rfl
theorem pk_un {f : Nat → Int32} {k j : Nat} {x : Int32} (h : j ≠ k) : upd f k x j = f j := if_neg h
theorem pk_uLs {f : Nat → Int64} {k : Nat} {x : Int64} : vp_updL f k x k = x := if_pos rfl
theorem pk_uLn {f : Nat → Int64} {k j : Nat} {x : Int64} (h : j ≠ k) : vp_updL f k x j = f j := if_neg h
theorem pk_sub {a b : Nat} (h : b ≤ a) : nI a - nI b = nI (a - b) := by
  obtain ⟨c, rfl⟩ : ∃ c, a = c + b := ⟨a - b, by omega⟩
  rw [← nI_add, Int32.add_sub_cancel, Nat.add_sub_cancel]
theorem pk_m1 (n : Nat) : nI (n + 1) + (-1) = nI n := by
  rw [← nI_1, Int32.add_assoc, show (1 : Int32) + (-1) = 0 from rfl, Int32.add_zero]
theorem pk_mul (a b : Nat) : nI a * nI b = nI (a * b) := (Int32.ofNat_mul a b).symm
theorem pk_div {a d : Nat} (ha : a < 2 ^ 31) (h0 : 0 < d) (hd : d < 2 ^ 31) : nI a / nI d = nI (a / d) := by
  apply Int32.toInt_inj.mp
  rw [lg_idiv_nonneg (by rw [nI_toInt ha]; omega) (by rw [nI_toInt hd]; omega), nI_toInt ha, nI_toInt hd, nI_toInt (Nat.lt_of_le_of_lt (Nat.div_le_self a d) ha)]
  first | rfl | exact (Int.natCast_ediv _ _).symm
theorem pk_rem {a d : Nat} (ha : a < 2 ^ 31) (h0 : 0 < d) (hd : d < 2 ^ 31) : nI a - nI a / nI d * nI d = nI (a % d) := by
  rw [pk_div ha h0 hd, pk_mul, pk_sub (Nat.div_mul_le_self a d)]
  exact congrArg nI (by have := Nat.div_add_mod' a d; omega)
theorem pk_sub_toInt {a b : Nat} (ha : a < 2 ^ 30) (hb : b < 2 ^ 30) : (nI a - nI b).toInt = (a : Int) - b := by
  rw [Int32.toInt_sub, nI_toInt (by omega), nI_toInt (by omega)]
  exact Int.bmod_eq_of_le (by omega) (by omega)
theorem pk_sneg {a b : Nat} (hb : b < 2 ^ 30) (h : a < b) : nI a - nI b < 0 := by
  rw [Int32.lt_iff_toInt_lt, pk_sub_toInt (by omega) hb, show (0 : Int32).toInt = 0 from by decide]
  omega
theorem pk_ix (x : Int32) {n : Nat} (hn : n < 2 ^ 31) : x < 0 ∨ nI n ≤ x ∨ ∃ j : Nat, j < n ∧ x = nI j := by
  by_cases h : x < 0
  · exact Or.inl h
  · obtain ⟨j, hj, rfl⟩ := nI_of h
    by_cases h2 : j < n
    · exact Or.inr (Or.inr ⟨j, h2, rfl⟩)
    · exact Or.inr (Or.inl (nI_le (by omega) hj))
theorem pk_le {x y : Int32} {A B : Prop} (a b : Nat) (f : a ≤ b → A) (g : b < a → B) (hx : x = nI a := by rfl) (hy : y = nI b := by rfl) (ha : a < 2 ^ 31 := by omega) (hb : b < 2 ^ 31 := by omega) : (x ≤ y → A) ∧ (¬ x ≤ y → B) := by
  subst hx hy
  rw [nI_leI ha hb]
  exact ⟨f, fun z => g (by omega)⟩
theorem pk_lt {x y : Int32} {A B : Prop} (a b : Nat) (f : a < b → A) (g : b ≤ a → B) (hx : x = nI a := by rfl) (hy : y = nI b := by rfl) (ha : a < 2 ^ 31 := by omega) (hb : b < 2 ^ 31 := by omega) : (x < y → A) ∧ (¬ x < y → B) := by
  subst hx hy
  rw [nI_ltI ha hb]
  exact ⟨f, fun z => g (by omega)⟩
theorem pk_eq {x y : Int32} {A B : Prop} (a b : Nat) (f : a = b → A) (g : a ≠ b → B) (hx : x = nI a := by rfl) (hy : y = nI b := by rfl) (ha : a < 2 ^ 31 := by omega) (hb : b < 2 ^ 31 := by omega) : (x = y → A) ∧ (¬ x = y → B) := by
  subst hx hy
  rw [nI_eq ha hb]
  exact ⟨f, g⟩
theorem pk_in {x : Int32} (n N : Nat) (h : n < N) (hx : x = nI n := by rfl) (hN : N < 2 ^ 31 := by omega) : vp_in x N := by
  subst hx
  exact vp_in_nI h hN
theorem pk_cl {x : Int32} (n : Nat) (hx : x = nI n := by rfl) (h : n < 2 ^ 31 := by omega) : x.toNatClampNeg = n := by
  subst hx
  exact nI_clamp h
theorem pk_tn {n : Nat} (h : n < 2 ^ 32) : (nI n).toBitVec.toNat = n := Nat.mod_eq_of_lt h
theorem pk_and (x : Int32) {m : Int32} (k : Nat) (hm : m.toBitVec.toNat = 2 ^ k - 1) : x &&& m = nI (x.toBitVec.toNat % 2 ^ k) := by
  apply Int32.toBitVec_inj.mp
  apply BitVec.eq_of_toNat_eq
  rw [Int32.toBitVec_and, BitVec.toNat_and, hm, Nat.and_two_pow_sub_one_eq_mod]
  show _ = (BitVec.ofNat 32 _).toNat
  rw [BitVec.toNat_ofNat]
  exact (Nat.mod_eq_of_lt (Nat.lt_of_le_of_lt (Nat.mod_le _ _) x.toBitVec.isLt)).symm
theorem pk_andN {n : Nat} (h : n < 2 ^ 32) {m : Int32} (k : Nat) (hm : m.toBitVec.toNat = 2 ^ k - 1) : nI n &&& m = nI (n % 2 ^ k) := by
  rw [pk_and _ k hm, pk_tn h]
theorem pk_andE (x : Int32) {m : Int32} (k : Nat) (hm : m.toBitVec.toNat = 2 ^ k - 1) : ∃ j : Nat, j < 2 ^ k ∧ x &&& m = nI j := ⟨_, Nat.mod_lt _ (Nat.two_pow_pos k), pk_and x k hm⟩
theorem pk_andIn (x : Int32) {m : Int32} (k : Nat) (hm : m.toBitVec.toNat = 2 ^ k - 1) (hk : k ≤ 30) : vp_in (x &&& m) (2 ^ k) := by
  obtain ⟨j, hj, e⟩ := pk_andE x k hm
  rw [e]
  exact vp_in_nI hj (Nat.lt_of_le_of_lt (Nat.pow_le_pow_right (by decide) hk) (by decide))
theorem pk_shl (a s : Int32) (k : Nat) (hs : (s.toBitVec.smod 32).toNat = k) : (a <<< s).toBitVec.toNat = a.toBitVec.toNat * 2 ^ k % 2 ^ 32 := by
  show (a.toBitVec <<< (s.toBitVec.smod 32).toNat).toNat = _
  rw [hs, BitVec.toNat_shiftLeft, Nat.shiftLeft_eq]
theorem pk_shlN {n : Nat} (s : Int32) (k : Nat) (hs : (s.toBitVec.smod 32).toNat = k) (h : n * 2 ^ k < 2 ^ 32) : nI n <<< s = nI (n * 2 ^ k) := by
  apply Int32.toBitVec_inj.mp
  apply BitVec.eq_of_toNat_eq
  have hn : n < 2 ^ 32 := Nat.lt_of_le_of_lt (Nat.le_mul_of_pos_right n (Nat.two_pow_pos k)) h
  rw [pk_shl _ _ k hs, pk_tn hn, pk_tn h, Nat.mod_eq_of_lt h]
theorem pk_shr (a s : Int32) (k : Nat) (hs : (s.toBitVec.smod 32).toNat = k) : (a >>> s).toInt = a.toInt >>> k := by
  show (a.toBitVec.sshiftRight (s.toBitVec.smod 32).toNat).toInt = _
  rw [hs, BitVec.toInt_sshiftRight]
  rfl
theorem pk_shrN {n : Nat} (h : n < 2 ^ 31) (s : Int32) (k : Nat) (hs : (s.toBitVec.smod 32).toNat = k) : nI n >>> s = nI (n / 2 ^ k) := by
  apply Int32.toInt_inj.mp
  have h2 : n / 2 ^ k ≤ n := Nat.div_le_self _ _
  rw [pk_shr _ _ k hs, nI_toInt h, nI_toInt (by omega), Int.shiftRight_eq_div_pow]
  rfl
theorem pk_ushr (x s : Int32) (k : Nat) (hs : ((s.toUInt32 &&& Int32.toUInt32 31).toBitVec % 32).toNat = k) : (x.toUInt32 >>> (s.toUInt32 &&& Int32.toUInt32 31)).toInt32.toBitVec.toNat = x.toBitVec.toNat / 2 ^ k := by
  have e : (x.toUInt32 >>> (s.toUInt32 &&& Int32.toUInt32 31)).toInt32.toBitVec = x.toBitVec >>> k := by
    rw [← hs]
    exact UInt32.toBitVec_shiftRight _ _
  rw [e, BitVec.toNat_ushiftRight, Nat.shiftRight_eq_div_pow]
theorem pk_ushrN {n : Nat} (hn : n < 2 ^ 32) (s : Int32) (k : Nat) (hs : ((s.toUInt32 &&& Int32.toUInt32 31).toBitVec % 32).toNat = k) : ((nI n).toUInt32 >>> (s.toUInt32 &&& Int32.toUInt32 31)).toInt32 = nI (n / 2 ^ k) := by
  apply Int32.toBitVec_inj.mp
  apply BitVec.eq_of_toNat_eq
  rw [pk_ushr _ s k hs, pk_tn hn, pk_tn (Nat.lt_of_le_of_lt (Nat.div_le_self _ _) hn)]
theorem pk_nb (z : Int32) : narrow .byte (.int z.toInt8.toInt32) = .int z.toInt8.toInt32 := congrArg Value.int (by simp)
theorem pk_ns (z : Int32) : narrow .short (.int z.toInt16.toInt32) = .int z.toInt16.toInt32 := congrArg Value.int (by simp)
theorem pk_fb (r : Int32) : fits .byte (.int r.toInt8.toInt32) = true := by
  have ⟨a, b⟩ := lg_i2b_range r
  have h1 : (-128 : Int32).toInt = -128 := by decide
  have h2 : (127 : Int32).toInt = 127 := by decide
  simp only [fits, Bool.and_eq_true, decide_eq_true_eq, Int32.le_iff_toInt_le, h1, h2]
  omega
theorem pk_fs (r : Int32) : fits .short (.int r.toInt16.toInt32) = true := by
  have ⟨a, b⟩ := lg_i2s_range r
  have h1 : (-32768 : Int32).toInt = -32768 := by decide
  have h2 : (32767 : Int32).toInt = 32767 := by decide
  simp only [fits, Bool.and_eq_true, decide_eq_true_eq, Int32.le_iff_toInt_le, h1, h2]
  omega
theorem pk_charN {q : Nat} (hq : q < 65536) : narrow .char (.int (nI q)) = .int (nI q) ∧ fits .char (.int (nI q)) = true := by
  constructor
  · have e : (nI q).toUInt32.toUInt16.toUInt32.toInt32 = nI q := by
      apply Int32.toBitVec_inj.mp
      apply BitVec.eq_of_toNat_eq
      show (nI q).toUInt32.toUInt16.toUInt32.toNat = q % 2 ^ 32
      rw [UInt16.toNat_toUInt32, UInt32.toNat_toUInt16, show (nI q).toUInt32.toNat = q % 2 ^ 32 from rfl]
      omega
    exact congrArg Value.int e
  · have a : (0 : Int32) ≤ nI q := nI_pos' (by omega)
    have b : nI q ≤ 65535 := nI_le (b := 65535) (by omega) (by decide)
    show (decide ((0 : Int32) ≤ nI q) && decide (nI q ≤ 65535)) = true
    rw [decide_eq_true a, decide_eq_true b]
    rfl
theorem pk_char (x : Int32) : (x.toUInt32 % 65536).toInt32 = nI (x.toBitVec.toNat % 65536) := by
  apply Int32.toBitVec_inj.mp
  apply BitVec.eq_of_toNat_eq
  rw [pk_tn (by omega)]
  show (x.toUInt32 % 65536).toNat = _
  rw [UInt32.toNat_mod]
  rfl
theorem pk_nc (x : Int32) : narrow .char (.int (x.toUInt32 % 65536).toInt32) = .int (x.toUInt32 % 65536).toInt32 := by
  rw [pk_char]
  exact (pk_charN (Nat.mod_lt _ (by decide))).1
theorem pk_fc (x : Int32) : fits .char (.int (x.toUInt32 % 65536).toInt32) = true := by
  rw [pk_char]
  exact (pk_charN (Nat.mod_lt _ (by decide))).2
theorem pk_vb (z : Int32) : vp_nar .byte z.toInt8.toInt32 = z.toInt8.toInt32 := by rw [vp_nar_byte]; simp
theorem pk_vs (z : Int32) : vp_nar .short z.toInt16.toInt32 = z.toInt16.toInt32 := by rw [vp_nar_short]; simp
theorem pk_vc (z : Int32) : vp_nar .char (z.toUInt32 % 65536).toInt32 = (z.toUInt32 % 65536).toInt32 := Value.int.inj (pk_nc z)
theorem pk_lT {n : Nat} (h : n < 2 ^ 63) : (lN n).toInt = (n : Int) := lg_ofNat_toInt h
theorem pk_lLT {a b : Nat} (ha : a < 2 ^ 63) (hb : b < 2 ^ 63) : lN a < lN b ↔ a < b := by
  rw [Int64.lt_iff_toInt_lt, pk_lT ha, pk_lT hb]; omega
theorem pk_lLE {a b : Nat} (ha : a < 2 ^ 63) (hb : b < 2 ^ 63) : lN a ≤ lN b ↔ a ≤ b := by
  rw [Int64.le_iff_toInt_le, pk_lT ha, pk_lT hb]; omega
theorem pk_lEQ {a b : Nat} (ha : a < 2 ^ 63) (hb : b < 2 ^ 63) : lN a = lN b ↔ a = b := by
  rw [← Int64.toInt_inj, pk_lT ha, pk_lT hb]; omega
theorem pk_lOf {x : Int64} (h : ¬ x < 0) : ∃ k : Nat, k < 2 ^ 63 ∧ x = lN k := by
  rw [Int64.lt_iff_toInt_lt] at h
  have h0 : (0 : Int64).toInt = 0 := by decide
  have hx := Int64.toInt_lt x
  refine ⟨x.toInt.toNat, by omega, Int64.toInt_inj.mp ?_⟩
  rw [pk_lT (by omega)]
  omega
theorem pk_lDiv {a b : Nat} (ha : a < 2 ^ 63) (h0 : 0 < b) (hb : b < 2 ^ 63) : lN a / lN b = lN (a / b) := by
  apply Int64.toInt_inj.mp
  rw [lg_ldiv_nonneg (by rw [pk_lT ha]; omega) (by rw [pk_lT hb]; omega), pk_lT ha, pk_lT hb, pk_lT (Nat.lt_of_le_of_lt (Nat.div_le_self a b) ha)]
  rfl
theorem pk_lRem {a b : Nat} (ha : a < 2 ^ 63) (h0 : 0 < b) (hb : b < 2 ^ 63) : lN a - lN a / lN b * lN b = lN (a % b) := by
  rw [pk_lDiv ha h0 hb, lN_mul, lN_sub (Nat.div_mul_le_self a b)]
  exact congrArg lN (by have := Nat.div_add_mod' a b; omega)
theorem pk_loop {σ : Type} (W : Nat → Nat → σ → Prop) (I : Nat → σ → Prop) (e i0 : Nat) (s : σ) (hi : i0 ≤ e) (h0 : I i0 s) (hx : ∀ n s, I e s → W (n + 1) e s)
    (hs : ∀ n i s, i < e → I i s → (∀ s', I (i + 1) s' → W n (i + 1) s') → W (n + 1) i s) : ∃ n, W n i0 s :=
  ⟨e + 1, loop_i W I e hx hs (e + 1) i0 s hi (by omega) h0⟩
theorem pk_loopD {σ : Type} (W : Nat → Nat → σ → Prop) (I : Nat → σ → Prop) (hx : ∀ n s, I 0 s → W (n + 1) 0 s)
    (hs : ∀ n i s, I (i + 1) s → (∀ s', I i s' → W n i s') → W (n + 1) (i + 1) s) : ∀ (e : Nat) (s : σ), I e s → W (e + 1) e s := by
  intro e
  induction e with
  | zero => exact fun s h => hx 0 s h
  | succ e ih => exact fun s h => hs (e + 1) e s h (fun s' h' => ih s' h')
theorem lp1 {A1 : Type} (W : Nat → A1 → Prop) (I : A1 → Prop) (μ : A1 → Nat) (hs : ∀ (n : Nat) (a1 : A1), I a1 → (∀ (b1 : A1), I b1 → μ b1 < μ a1 → W n b1) → W (n + 1) a1) (a1 : A1) (h : I a1) : ∃ n, W n a1 :=
  loop_m (σ := A1) (fun n s => W n s) (fun s => I s) (fun s => μ s) (fun n s hI hk => hs n s hI (fun b1 h9 hm => hk b1 h9 hm)) a1 h
theorem lp2 {A1 A2 : Type} (W : Nat → A1 → A2 → Prop) (I : A1 → A2 → Prop) (μ : A1 → A2 → Nat) (hs : ∀ (n : Nat) (a1 : A1) (a2 : A2), I a1 a2 → (∀ (b1 : A1) (b2 : A2), I b1 b2 → μ b1 b2 < μ a1 a2 → W n b1 b2) → W (n + 1) a1 a2) (a1 : A1) (a2 : A2) (h : I a1 a2) : ∃ n, W n a1 a2 :=
  loop_m (σ := A1 × A2) (fun n s => W n s.1 s.2) (fun s => I s.1 s.2) (fun s => μ s.1 s.2) (fun n s hI hk => hs n s.1 s.2 hI (fun b1 b2 h9 hm => hk (b1, b2) h9 hm)) (a1, a2) h
theorem lp3 {A1 A2 A3 : Type} (W : Nat → A1 → A2 → A3 → Prop) (I : A1 → A2 → A3 → Prop) (μ : A1 → A2 → A3 → Nat) (hs : ∀ (n : Nat) (a1 : A1) (a2 : A2) (a3 : A3), I a1 a2 a3 → (∀ (b1 : A1) (b2 : A2) (b3 : A3), I b1 b2 b3 → μ b1 b2 b3 < μ a1 a2 a3 → W n b1 b2 b3) → W (n + 1) a1 a2 a3) (a1 : A1) (a2 : A2) (a3 : A3) (h : I a1 a2 a3) : ∃ n, W n a1 a2 a3 :=
  loop_m (σ := A1 × A2 × A3) (fun n s => W n s.1 s.2.1 s.2.2) (fun s => I s.1 s.2.1 s.2.2) (fun s => μ s.1 s.2.1 s.2.2) (fun n s hI hk => hs n s.1 s.2.1 s.2.2 hI (fun b1 b2 b3 h9 hm => hk (b1, b2, b3) h9 hm)) (a1, a2, a3) h
theorem lp4 {A1 A2 A3 A4 : Type} (W : Nat → A1 → A2 → A3 → A4 → Prop) (I : A1 → A2 → A3 → A4 → Prop) (μ : A1 → A2 → A3 → A4 → Nat) (hs : ∀ (n : Nat) (a1 : A1) (a2 : A2) (a3 : A3) (a4 : A4), I a1 a2 a3 a4 → (∀ (b1 : A1) (b2 : A2) (b3 : A3) (b4 : A4), I b1 b2 b3 b4 → μ b1 b2 b3 b4 < μ a1 a2 a3 a4 → W n b1 b2 b3 b4) → W (n + 1) a1 a2 a3 a4) (a1 : A1) (a2 : A2) (a3 : A3) (a4 : A4) (h : I a1 a2 a3 a4) : ∃ n, W n a1 a2 a3 a4 :=
  loop_m (σ := A1 × A2 × A3 × A4) (fun n s => W n s.1 s.2.1 s.2.2.1 s.2.2.2) (fun s => I s.1 s.2.1 s.2.2.1 s.2.2.2) (fun s => μ s.1 s.2.1 s.2.2.1 s.2.2.2) (fun n s hI hk => hs n s.1 s.2.1 s.2.2.1 s.2.2.2 hI (fun b1 b2 b3 b4 h9 hm => hk (b1, b2, b3, b4) h9 hm)) (a1, a2, a3, a4) h
theorem lp5 {A1 A2 A3 A4 A5 : Type} (W : Nat → A1 → A2 → A3 → A4 → A5 → Prop) (I : A1 → A2 → A3 → A4 → A5 → Prop) (μ : A1 → A2 → A3 → A4 → A5 → Nat) (hs : ∀ (n : Nat) (a1 : A1) (a2 : A2) (a3 : A3) (a4 : A4) (a5 : A5), I a1 a2 a3 a4 a5 → (∀ (b1 : A1) (b2 : A2) (b3 : A3) (b4 : A4) (b5 : A5), I b1 b2 b3 b4 b5 → μ b1 b2 b3 b4 b5 < μ a1 a2 a3 a4 a5 → W n b1 b2 b3 b4 b5) → W (n + 1) a1 a2 a3 a4 a5) (a1 : A1) (a2 : A2) (a3 : A3) (a4 : A4) (a5 : A5) (h : I a1 a2 a3 a4 a5) : ∃ n, W n a1 a2 a3 a4 a5 :=
  loop_m (σ := A1 × A2 × A3 × A4 × A5) (fun n s => W n s.1 s.2.1 s.2.2.1 s.2.2.2.1 s.2.2.2.2) (fun s => I s.1 s.2.1 s.2.2.1 s.2.2.2.1 s.2.2.2.2) (fun s => μ s.1 s.2.1 s.2.2.1 s.2.2.2.1 s.2.2.2.2) (fun n s hI hk => hs n s.1 s.2.1 s.2.2.1 s.2.2.2.1 s.2.2.2.2 hI (fun b1 b2 b3 b4 b5 h9 hm => hk (b1, b2, b3, b4, b5) h9 hm)) (a1, a2, a3, a4, a5) h
theorem lp6 {A1 A2 A3 A4 A5 A6 : Type} (W : Nat → A1 → A2 → A3 → A4 → A5 → A6 → Prop) (I : A1 → A2 → A3 → A4 → A5 → A6 → Prop) (μ : A1 → A2 → A3 → A4 → A5 → A6 → Nat) (hs : ∀ (n : Nat) (a1 : A1) (a2 : A2) (a3 : A3) (a4 : A4) (a5 : A5) (a6 : A6), I a1 a2 a3 a4 a5 a6 → (∀ (b1 : A1) (b2 : A2) (b3 : A3) (b4 : A4) (b5 : A5) (b6 : A6), I b1 b2 b3 b4 b5 b6 → μ b1 b2 b3 b4 b5 b6 < μ a1 a2 a3 a4 a5 a6 → W n b1 b2 b3 b4 b5 b6) → W (n + 1) a1 a2 a3 a4 a5 a6) (a1 : A1) (a2 : A2) (a3 : A3) (a4 : A4) (a5 : A5) (a6 : A6) (h : I a1 a2 a3 a4 a5 a6) : ∃ n, W n a1 a2 a3 a4 a5 a6 :=
  loop_m (σ := A1 × A2 × A3 × A4 × A5 × A6) (fun n s => W n s.1 s.2.1 s.2.2.1 s.2.2.2.1 s.2.2.2.2.1 s.2.2.2.2.2) (fun s => I s.1 s.2.1 s.2.2.1 s.2.2.2.1 s.2.2.2.2.1 s.2.2.2.2.2) (fun s => μ s.1 s.2.1 s.2.2.1 s.2.2.2.1 s.2.2.2.2.1 s.2.2.2.2.2) (fun n s hI hk => hs n s.1 s.2.1 s.2.2.1 s.2.2.2.1 s.2.2.2.2.1 s.2.2.2.2.2 hI (fun b1 b2 b3 b4 b5 b6 h9 hm => hk (b1, b2, b3, b4, b5, b6) h9 hm)) (a1, a2, a3, a4, a5, a6) h
theorem lp7 {A1 A2 A3 A4 A5 A6 A7 : Type} (W : Nat → A1 → A2 → A3 → A4 → A5 → A6 → A7 → Prop) (I : A1 → A2 → A3 → A4 → A5 → A6 → A7 → Prop) (μ : A1 → A2 → A3 → A4 → A5 → A6 → A7 → Nat) (hs : ∀ (n : Nat) (a1 : A1) (a2 : A2) (a3 : A3) (a4 : A4) (a5 : A5) (a6 : A6) (a7 : A7), I a1 a2 a3 a4 a5 a6 a7 → (∀ (b1 : A1) (b2 : A2) (b3 : A3) (b4 : A4) (b5 : A5) (b6 : A6) (b7 : A7), I b1 b2 b3 b4 b5 b6 b7 → μ b1 b2 b3 b4 b5 b6 b7 < μ a1 a2 a3 a4 a5 a6 a7 → W n b1 b2 b3 b4 b5 b6 b7) → W (n + 1) a1 a2 a3 a4 a5 a6 a7) (a1 : A1) (a2 : A2) (a3 : A3) (a4 : A4) (a5 : A5) (a6 : A6) (a7 : A7) (h : I a1 a2 a3 a4 a5 a6 a7) : ∃ n, W n a1 a2 a3 a4 a5 a6 a7 :=
  loop_m (σ := A1 × A2 × A3 × A4 × A5 × A6 × A7) (fun n s => W n s.1 s.2.1 s.2.2.1 s.2.2.2.1 s.2.2.2.2.1 s.2.2.2.2.2.1 s.2.2.2.2.2.2) (fun s => I s.1 s.2.1 s.2.2.1 s.2.2.2.1 s.2.2.2.2.1 s.2.2.2.2.2.1 s.2.2.2.2.2.2) (fun s => μ s.1 s.2.1 s.2.2.1 s.2.2.2.1 s.2.2.2.2.1 s.2.2.2.2.2.1 s.2.2.2.2.2.2) (fun n s hI hk => hs n s.1 s.2.1 s.2.2.1 s.2.2.2.1 s.2.2.2.2.1 s.2.2.2.2.2.1 s.2.2.2.2.2.2 hI (fun b1 b2 b3 b4 b5 b6 b7 h9 hm => hk (b1, b2, b3, b4, b5, b6, b7) h9 hm)) (a1, a2, a3, a4, a5, a6, a7) h
theorem lp8 {A1 A2 A3 A4 A5 A6 A7 A8 : Type} (W : Nat → A1 → A2 → A3 → A4 → A5 → A6 → A7 → A8 → Prop) (I : A1 → A2 → A3 → A4 → A5 → A6 → A7 → A8 → Prop) (μ : A1 → A2 → A3 → A4 → A5 → A6 → A7 → A8 → Nat) (hs : ∀ (n : Nat) (a1 : A1) (a2 : A2) (a3 : A3) (a4 : A4) (a5 : A5) (a6 : A6) (a7 : A7) (a8 : A8), I a1 a2 a3 a4 a5 a6 a7 a8 → (∀ (b1 : A1) (b2 : A2) (b3 : A3) (b4 : A4) (b5 : A5) (b6 : A6) (b7 : A7) (b8 : A8), I b1 b2 b3 b4 b5 b6 b7 b8 → μ b1 b2 b3 b4 b5 b6 b7 b8 < μ a1 a2 a3 a4 a5 a6 a7 a8 → W n b1 b2 b3 b4 b5 b6 b7 b8) → W (n + 1) a1 a2 a3 a4 a5 a6 a7 a8) (a1 : A1) (a2 : A2) (a3 : A3) (a4 : A4) (a5 : A5) (a6 : A6) (a7 : A7) (a8 : A8) (h : I a1 a2 a3 a4 a5 a6 a7 a8) : ∃ n, W n a1 a2 a3 a4 a5 a6 a7 a8 :=
  loop_m (σ := A1 × A2 × A3 × A4 × A5 × A6 × A7 × A8) (fun n s => W n s.1 s.2.1 s.2.2.1 s.2.2.2.1 s.2.2.2.2.1 s.2.2.2.2.2.1 s.2.2.2.2.2.2.1 s.2.2.2.2.2.2.2) (fun s => I s.1 s.2.1 s.2.2.1 s.2.2.2.1 s.2.2.2.2.1 s.2.2.2.2.2.1 s.2.2.2.2.2.2.1 s.2.2.2.2.2.2.2) (fun s => μ s.1 s.2.1 s.2.2.1 s.2.2.2.1 s.2.2.2.2.1 s.2.2.2.2.2.1 s.2.2.2.2.2.2.1 s.2.2.2.2.2.2.2) (fun n s hI hk => hs n s.1 s.2.1 s.2.2.1 s.2.2.2.1 s.2.2.2.2.1 s.2.2.2.2.2.1 s.2.2.2.2.2.2.1 s.2.2.2.2.2.2.2 hI (fun b1 b2 b3 b4 b5 b6 b7 b8 h9 hm => hk (b1, b2, b3, b4, b5, b6, b7, b8) h9 hm)) (a1, a2, a3, a4, a5, a6, a7, a8) h
theorem lp9 {A1 A2 A3 A4 A5 A6 A7 A8 A9 : Type} (W : Nat → A1 → A2 → A3 → A4 → A5 → A6 → A7 → A8 → A9 → Prop) (I : A1 → A2 → A3 → A4 → A5 → A6 → A7 → A8 → A9 → Prop) (μ : A1 → A2 → A3 → A4 → A5 → A6 → A7 → A8 → A9 → Nat) (hs : ∀ (n : Nat) (a1 : A1) (a2 : A2) (a3 : A3) (a4 : A4) (a5 : A5) (a6 : A6) (a7 : A7) (a8 : A8) (a9 : A9), I a1 a2 a3 a4 a5 a6 a7 a8 a9 → (∀ (b1 : A1) (b2 : A2) (b3 : A3) (b4 : A4) (b5 : A5) (b6 : A6) (b7 : A7) (b8 : A8) (b9 : A9), I b1 b2 b3 b4 b5 b6 b7 b8 b9 → μ b1 b2 b3 b4 b5 b6 b7 b8 b9 < μ a1 a2 a3 a4 a5 a6 a7 a8 a9 → W n b1 b2 b3 b4 b5 b6 b7 b8 b9) → W (n + 1) a1 a2 a3 a4 a5 a6 a7 a8 a9) (a1 : A1) (a2 : A2) (a3 : A3) (a4 : A4) (a5 : A5) (a6 : A6) (a7 : A7) (a8 : A8) (a9 : A9) (h : I a1 a2 a3 a4 a5 a6 a7 a8 a9) : ∃ n, W n a1 a2 a3 a4 a5 a6 a7 a8 a9 :=
  loop_m (σ := A1 × A2 × A3 × A4 × A5 × A6 × A7 × A8 × A9) (fun n s => W n s.1 s.2.1 s.2.2.1 s.2.2.2.1 s.2.2.2.2.1 s.2.2.2.2.2.1 s.2.2.2.2.2.2.1 s.2.2.2.2.2.2.2.1 s.2.2.2.2.2.2.2.2) (fun s => I s.1 s.2.1 s.2.2.1 s.2.2.2.1 s.2.2.2.2.1 s.2.2.2.2.2.1 s.2.2.2.2.2.2.1 s.2.2.2.2.2.2.2.1 s.2.2.2.2.2.2.2.2) (fun s => μ s.1 s.2.1 s.2.2.1 s.2.2.2.1 s.2.2.2.2.1 s.2.2.2.2.2.1 s.2.2.2.2.2.2.1 s.2.2.2.2.2.2.2.1 s.2.2.2.2.2.2.2.2) (fun n s hI hk => hs n s.1 s.2.1 s.2.2.1 s.2.2.2.1 s.2.2.2.2.1 s.2.2.2.2.2.1 s.2.2.2.2.2.2.1 s.2.2.2.2.2.2.2.1 s.2.2.2.2.2.2.2.2 hI (fun b1 b2 b3 b4 b5 b6 b7 b8 b9 h9 hm => hk (b1, b2, b3, b4, b5, b6, b7, b8, b9) h9 hm)) (a1, a2, a3, a4, a5, a6, a7, a8, a9) h
theorem lp10 {A1 A2 A3 A4 A5 A6 A7 A8 A9 A10 : Type} (W : Nat → A1 → A2 → A3 → A4 → A5 → A6 → A7 → A8 → A9 → A10 → Prop) (I : A1 → A2 → A3 → A4 → A5 → A6 → A7 → A8 → A9 → A10 → Prop) (μ : A1 → A2 → A3 → A4 → A5 → A6 → A7 → A8 → A9 → A10 → Nat) (hs : ∀ (n : Nat) (a1 : A1) (a2 : A2) (a3 : A3) (a4 : A4) (a5 : A5) (a6 : A6) (a7 : A7) (a8 : A8) (a9 : A9) (a10 : A10), I a1 a2 a3 a4 a5 a6 a7 a8 a9 a10 → (∀ (b1 : A1) (b2 : A2) (b3 : A3) (b4 : A4) (b5 : A5) (b6 : A6) (b7 : A7) (b8 : A8) (b9 : A9) (b10 : A10), I b1 b2 b3 b4 b5 b6 b7 b8 b9 b10 → μ b1 b2 b3 b4 b5 b6 b7 b8 b9 b10 < μ a1 a2 a3 a4 a5 a6 a7 a8 a9 a10 → W n b1 b2 b3 b4 b5 b6 b7 b8 b9 b10) → W (n + 1) a1 a2 a3 a4 a5 a6 a7 a8 a9 a10) (a1 : A1) (a2 : A2) (a3 : A3) (a4 : A4) (a5 : A5) (a6 : A6) (a7 : A7) (a8 : A8) (a9 : A9) (a10 : A10) (h : I a1 a2 a3 a4 a5 a6 a7 a8 a9 a10) : ∃ n, W n a1 a2 a3 a4 a5 a6 a7 a8 a9 a10 :=
  loop_m (σ := A1 × A2 × A3 × A4 × A5 × A6 × A7 × A8 × A9 × A10) (fun n s => W n s.1 s.2.1 s.2.2.1 s.2.2.2.1 s.2.2.2.2.1 s.2.2.2.2.2.1 s.2.2.2.2.2.2.1 s.2.2.2.2.2.2.2.1 s.2.2.2.2.2.2.2.2.1 s.2.2.2.2.2.2.2.2.2) (fun s => I s.1 s.2.1 s.2.2.1 s.2.2.2.1 s.2.2.2.2.1 s.2.2.2.2.2.1 s.2.2.2.2.2.2.1 s.2.2.2.2.2.2.2.1 s.2.2.2.2.2.2.2.2.1 s.2.2.2.2.2.2.2.2.2) (fun s => μ s.1 s.2.1 s.2.2.1 s.2.2.2.1 s.2.2.2.2.1 s.2.2.2.2.2.1 s.2.2.2.2.2.2.1 s.2.2.2.2.2.2.2.1 s.2.2.2.2.2.2.2.2.1 s.2.2.2.2.2.2.2.2.2) (fun n s hI hk => hs n s.1 s.2.1 s.2.2.1 s.2.2.2.1 s.2.2.2.2.1 s.2.2.2.2.2.1 s.2.2.2.2.2.2.1 s.2.2.2.2.2.2.2.1 s.2.2.2.2.2.2.2.2.1 s.2.2.2.2.2.2.2.2.2 hI (fun b1 b2 b3 b4 b5 b6 b7 b8 b9 b10 h9 hm => hk (b1, b2, b3, b4, b5, b6, b7, b8, b9, b10) h9 hm)) (a1, a2, a3, a4, a5, a6, a7, a8, a9, a10) h
theorem lp11 {A1 A2 A3 A4 A5 A6 A7 A8 A9 A10 A11 : Type} (W : Nat → A1 → A2 → A3 → A4 → A5 → A6 → A7 → A8 → A9 → A10 → A11 → Prop) (I : A1 → A2 → A3 → A4 → A5 → A6 → A7 → A8 → A9 → A10 → A11 → Prop) (μ : A1 → A2 → A3 → A4 → A5 → A6 → A7 → A8 → A9 → A10 → A11 → Nat) (hs : ∀ (n : Nat) (a1 : A1) (a2 : A2) (a3 : A3) (a4 : A4) (a5 : A5) (a6 : A6) (a7 : A7) (a8 : A8) (a9 : A9) (a10 : A10) (a11 : A11), I a1 a2 a3 a4 a5 a6 a7 a8 a9 a10 a11 → (∀ (b1 : A1) (b2 : A2) (b3 : A3) (b4 : A4) (b5 : A5) (b6 : A6) (b7 : A7) (b8 : A8) (b9 : A9) (b10 : A10) (b11 : A11), I b1 b2 b3 b4 b5 b6 b7 b8 b9 b10 b11 → μ b1 b2 b3 b4 b5 b6 b7 b8 b9 b10 b11 < μ a1 a2 a3 a4 a5 a6 a7 a8 a9 a10 a11 → W n b1 b2 b3 b4 b5 b6 b7 b8 b9 b10 b11) → W (n + 1) a1 a2 a3 a4 a5 a6 a7 a8 a9 a10 a11) (a1 : A1) (a2 : A2) (a3 : A3) (a4 : A4) (a5 : A5) (a6 : A6) (a7 : A7) (a8 : A8) (a9 : A9) (a10 : A10) (a11 : A11) (h : I a1 a2 a3 a4 a5 a6 a7 a8 a9 a10 a11) : ∃ n, W n a1 a2 a3 a4 a5 a6 a7 a8 a9 a10 a11 :=
  loop_m (σ := A1 × A2 × A3 × A4 × A5 × A6 × A7 × A8 × A9 × A10 × A11) (fun n s => W n s.1 s.2.1 s.2.2.1 s.2.2.2.1 s.2.2.2.2.1 s.2.2.2.2.2.1 s.2.2.2.2.2.2.1 s.2.2.2.2.2.2.2.1 s.2.2.2.2.2.2.2.2.1 s.2.2.2.2.2.2.2.2.2.1 s.2.2.2.2.2.2.2.2.2.2) (fun s => I s.1 s.2.1 s.2.2.1 s.2.2.2.1 s.2.2.2.2.1 s.2.2.2.2.2.1 s.2.2.2.2.2.2.1 s.2.2.2.2.2.2.2.1 s.2.2.2.2.2.2.2.2.1 s.2.2.2.2.2.2.2.2.2.1 s.2.2.2.2.2.2.2.2.2.2) (fun s => μ s.1 s.2.1 s.2.2.1 s.2.2.2.1 s.2.2.2.2.1 s.2.2.2.2.2.1 s.2.2.2.2.2.2.1 s.2.2.2.2.2.2.2.1 s.2.2.2.2.2.2.2.2.1 s.2.2.2.2.2.2.2.2.2.1 s.2.2.2.2.2.2.2.2.2.2) (fun n s hI hk => hs n s.1 s.2.1 s.2.2.1 s.2.2.2.1 s.2.2.2.2.1 s.2.2.2.2.2.1 s.2.2.2.2.2.2.1 s.2.2.2.2.2.2.2.1 s.2.2.2.2.2.2.2.2.1 s.2.2.2.2.2.2.2.2.2.1 s.2.2.2.2.2.2.2.2.2.2 hI (fun b1 b2 b3 b4 b5 b6 b7 b8 b9 b10 b11 h9 hm => hk (b1, b2, b3, b4, b5, b6, b7, b8, b9, b10, b11) h9 hm)) (a1, a2, a3, a4, a5, a6, a7, a8, a9, a10, a11) h
theorem lp12 {A1 A2 A3 A4 A5 A6 A7 A8 A9 A10 A11 A12 : Type} (W : Nat → A1 → A2 → A3 → A4 → A5 → A6 → A7 → A8 → A9 → A10 → A11 → A12 → Prop) (I : A1 → A2 → A3 → A4 → A5 → A6 → A7 → A8 → A9 → A10 → A11 → A12 → Prop) (μ : A1 → A2 → A3 → A4 → A5 → A6 → A7 → A8 → A9 → A10 → A11 → A12 → Nat) (hs : ∀ (n : Nat) (a1 : A1) (a2 : A2) (a3 : A3) (a4 : A4) (a5 : A5) (a6 : A6) (a7 : A7) (a8 : A8) (a9 : A9) (a10 : A10) (a11 : A11) (a12 : A12), I a1 a2 a3 a4 a5 a6 a7 a8 a9 a10 a11 a12 → (∀ (b1 : A1) (b2 : A2) (b3 : A3) (b4 : A4) (b5 : A5) (b6 : A6) (b7 : A7) (b8 : A8) (b9 : A9) (b10 : A10) (b11 : A11) (b12 : A12), I b1 b2 b3 b4 b5 b6 b7 b8 b9 b10 b11 b12 → μ b1 b2 b3 b4 b5 b6 b7 b8 b9 b10 b11 b12 < μ a1 a2 a3 a4 a5 a6 a7 a8 a9 a10 a11 a12 → W n b1 b2 b3 b4 b5 b6 b7 b8 b9 b10 b11 b12) → W (n + 1) a1 a2 a3 a4 a5 a6 a7 a8 a9 a10 a11 a12) (a1 : A1) (a2 : A2) (a3 : A3) (a4 : A4) (a5 : A5) (a6 : A6) (a7 : A7) (a8 : A8) (a9 : A9) (a10 : A10) (a11 : A11) (a12 : A12) (h : I a1 a2 a3 a4 a5 a6 a7 a8 a9 a10 a11 a12) : ∃ n, W n a1 a2 a3 a4 a5 a6 a7 a8 a9 a10 a11 a12 :=
  loop_m (σ := A1 × A2 × A3 × A4 × A5 × A6 × A7 × A8 × A9 × A10 × A11 × A12) (fun n s => W n s.1 s.2.1 s.2.2.1 s.2.2.2.1 s.2.2.2.2.1 s.2.2.2.2.2.1 s.2.2.2.2.2.2.1 s.2.2.2.2.2.2.2.1 s.2.2.2.2.2.2.2.2.1 s.2.2.2.2.2.2.2.2.2.1 s.2.2.2.2.2.2.2.2.2.2.1 s.2.2.2.2.2.2.2.2.2.2.2) (fun s => I s.1 s.2.1 s.2.2.1 s.2.2.2.1 s.2.2.2.2.1 s.2.2.2.2.2.1 s.2.2.2.2.2.2.1 s.2.2.2.2.2.2.2.1 s.2.2.2.2.2.2.2.2.1 s.2.2.2.2.2.2.2.2.2.1 s.2.2.2.2.2.2.2.2.2.2.1 s.2.2.2.2.2.2.2.2.2.2.2) (fun s => μ s.1 s.2.1 s.2.2.1 s.2.2.2.1 s.2.2.2.2.1 s.2.2.2.2.2.1 s.2.2.2.2.2.2.1 s.2.2.2.2.2.2.2.1 s.2.2.2.2.2.2.2.2.1 s.2.2.2.2.2.2.2.2.2.1 s.2.2.2.2.2.2.2.2.2.2.1 s.2.2.2.2.2.2.2.2.2.2.2) (fun n s hI hk => hs n s.1 s.2.1 s.2.2.1 s.2.2.2.1 s.2.2.2.2.1 s.2.2.2.2.2.1 s.2.2.2.2.2.2.1 s.2.2.2.2.2.2.2.1 s.2.2.2.2.2.2.2.2.1 s.2.2.2.2.2.2.2.2.2.1 s.2.2.2.2.2.2.2.2.2.2.1 s.2.2.2.2.2.2.2.2.2.2.2 hI (fun b1 b2 b3 b4 b5 b6 b7 b8 b9 b10 b11 b12 h9 hm => hk (b1, b2, b3, b4, b5, b6, b7, b8, b9, b10, b11, b12) h9 hm)) (a1, a2, a3, a4, a5, a6, a7, a8, a9, a10, a11, a12) h
theorem lp13 {A1 A2 A3 A4 A5 A6 A7 A8 A9 A10 A11 A12 A13 : Type} (W : Nat → A1 → A2 → A3 → A4 → A5 → A6 → A7 → A8 → A9 → A10 → A11 → A12 → A13 → Prop) (I : A1 → A2 → A3 → A4 → A5 → A6 → A7 → A8 → A9 → A10 → A11 → A12 → A13 → Prop) (μ : A1 → A2 → A3 → A4 → A5 → A6 → A7 → A8 → A9 → A10 → A11 → A12 → A13 → Nat) (hs : ∀ (n : Nat) (a1 : A1) (a2 : A2) (a3 : A3) (a4 : A4) (a5 : A5) (a6 : A6) (a7 : A7) (a8 : A8) (a9 : A9) (a10 : A10) (a11 : A11) (a12 : A12) (a13 : A13), I a1 a2 a3 a4 a5 a6 a7 a8 a9 a10 a11 a12 a13 → (∀ (b1 : A1) (b2 : A2) (b3 : A3) (b4 : A4) (b5 : A5) (b6 : A6) (b7 : A7) (b8 : A8) (b9 : A9) (b10 : A10) (b11 : A11) (b12 : A12) (b13 : A13), I b1 b2 b3 b4 b5 b6 b7 b8 b9 b10 b11 b12 b13 → μ b1 b2 b3 b4 b5 b6 b7 b8 b9 b10 b11 b12 b13 < μ a1 a2 a3 a4 a5 a6 a7 a8 a9 a10 a11 a12 a13 → W n b1 b2 b3 b4 b5 b6 b7 b8 b9 b10 b11 b12 b13) → W (n + 1) a1 a2 a3 a4 a5 a6 a7 a8 a9 a10 a11 a12 a13) (a1 : A1) (a2 : A2) (a3 : A3) (a4 : A4) (a5 : A5) (a6 : A6) (a7 : A7) (a8 : A8) (a9 : A9) (a10 : A10) (a11 : A11) (a12 : A12) (a13 : A13) (h : I a1 a2 a3 a4 a5 a6 a7 a8 a9 a10 a11 a12 a13) : ∃ n, W n a1 a2 a3 a4 a5 a6 a7 a8 a9 a10 a11 a12 a13 :=
  loop_m (σ := A1 × A2 × A3 × A4 × A5 × A6 × A7 × A8 × A9 × A10 × A11 × A12 × A13) (fun n s => W n s.1 s.2.1 s.2.2.1 s.2.2.2.1 s.2.2.2.2.1 s.2.2.2.2.2.1 s.2.2.2.2.2.2.1 s.2.2.2.2.2.2.2.1 s.2.2.2.2.2.2.2.2.1 s.2.2.2.2.2.2.2.2.2.1 s.2.2.2.2.2.2.2.2.2.2.1 s.2.2.2.2.2.2.2.2.2.2.2.1 s.2.2.2.2.2.2.2.2.2.2.2.2) (fun s => I s.1 s.2.1 s.2.2.1 s.2.2.2.1 s.2.2.2.2.1 s.2.2.2.2.2.1 s.2.2.2.2.2.2.1 s.2.2.2.2.2.2.2.1 s.2.2.2.2.2.2.2.2.1 s.2.2.2.2.2.2.2.2.2.1 s.2.2.2.2.2.2.2.2.2.2.1 s.2.2.2.2.2.2.2.2.2.2.2.1 s.2.2.2.2.2.2.2.2.2.2.2.2) (fun s => μ s.1 s.2.1 s.2.2.1 s.2.2.2.1 s.2.2.2.2.1 s.2.2.2.2.2.1 s.2.2.2.2.2.2.1 s.2.2.2.2.2.2.2.1 s.2.2.2.2.2.2.2.2.1 s.2.2.2.2.2.2.2.2.2.1 s.2.2.2.2.2.2.2.2.2.2.1 s.2.2.2.2.2.2.2.2.2.2.2.1 s.2.2.2.2.2.2.2.2.2.2.2.2) (fun n s hI hk => hs n s.1 s.2.1 s.2.2.1 s.2.2.2.1 s.2.2.2.2.1 s.2.2.2.2.2.1 s.2.2.2.2.2.2.1 s.2.2.2.2.2.2.2.1 s.2.2.2.2.2.2.2.2.1 s.2.2.2.2.2.2.2.2.2.1 s.2.2.2.2.2.2.2.2.2.2.1 s.2.2.2.2.2.2.2.2.2.2.2.1 s.2.2.2.2.2.2.2.2.2.2.2.2 hI (fun b1 b2 b3 b4 b5 b6 b7 b8 b9 b10 b11 b12 b13 h9 hm => hk (b1, b2, b3, b4, b5, b6, b7, b8, b9, b10, b11, b12, b13) h9 hm)) (a1, a2, a3, a4, a5, a6, a7, a8, a9, a10, a11, a12, a13) h
theorem lp14 {A1 A2 A3 A4 A5 A6 A7 A8 A9 A10 A11 A12 A13 A14 : Type} (W : Nat → A1 → A2 → A3 → A4 → A5 → A6 → A7 → A8 → A9 → A10 → A11 → A12 → A13 → A14 → Prop) (I : A1 → A2 → A3 → A4 → A5 → A6 → A7 → A8 → A9 → A10 → A11 → A12 → A13 → A14 → Prop) (μ : A1 → A2 → A3 → A4 → A5 → A6 → A7 → A8 → A9 → A10 → A11 → A12 → A13 → A14 → Nat) (hs : ∀ (n : Nat) (a1 : A1) (a2 : A2) (a3 : A3) (a4 : A4) (a5 : A5) (a6 : A6) (a7 : A7) (a8 : A8) (a9 : A9) (a10 : A10) (a11 : A11) (a12 : A12) (a13 : A13) (a14 : A14), I a1 a2 a3 a4 a5 a6 a7 a8 a9 a10 a11 a12 a13 a14 → (∀ (b1 : A1) (b2 : A2) (b3 : A3) (b4 : A4) (b5 : A5) (b6 : A6) (b7 : A7) (b8 : A8) (b9 : A9) (b10 : A10) (b11 : A11) (b12 : A12) (b13 : A13) (b14 : A14), I b1 b2 b3 b4 b5 b6 b7 b8 b9 b10 b11 b12 b13 b14 → μ b1 b2 b3 b4 b5 b6 b7 b8 b9 b10 b11 b12 b13 b14 < μ a1 a2 a3 a4 a5 a6 a7 a8 a9 a10 a11 a12 a13 a14 → W n b1 b2 b3 b4 b5 b6 b7 b8 b9 b10 b11 b12 b13 b14) → W (n + 1) a1 a2 a3 a4 a5 a6 a7 a8 a9 a10 a11 a12 a13 a14) (a1 : A1) (a2 : A2) (a3 : A3) (a4 : A4) (a5 : A5) (a6 : A6) (a7 : A7) (a8 : A8) (a9 : A9) (a10 : A10) (a11 : A11) (a12 : A12) (a13 : A13) (a14 : A14) (h : I a1 a2 a3 a4 a5 a6 a7 a8 a9 a10 a11 a12 a13 a14) : ∃ n, W n a1 a2 a3 a4 a5 a6 a7 a8 a9 a10 a11 a12 a13 a14 :=
  loop_m (σ := A1 × A2 × A3 × A4 × A5 × A6 × A7 × A8 × A9 × A10 × A11 × A12 × A13 × A14) (fun n s => W n s.1 s.2.1 s.2.2.1 s.2.2.2.1 s.2.2.2.2.1 s.2.2.2.2.2.1 s.2.2.2.2.2.2.1 s.2.2.2.2.2.2.2.1 s.2.2.2.2.2.2.2.2.1 s.2.2.2.2.2.2.2.2.2.1 s.2.2.2.2.2.2.2.2.2.2.1 s.2.2.2.2.2.2.2.2.2.2.2.1 s.2.2.2.2.2.2.2.2.2.2.2.2.1 s.2.2.2.2.2.2.2.2.2.2.2.2.2) (fun s => I s.1 s.2.1 s.2.2.1 s.2.2.2.1 s.2.2.2.2.1 s.2.2.2.2.2.1 s.2.2.2.2.2.2.1 s.2.2.2.2.2.2.2.1 s.2.2.2.2.2.2.2.2.1 s.2.2.2.2.2.2.2.2.2.1 s.2.2.2.2.2.2.2.2.2.2.1 s.2.2.2.2.2.2.2.2.2.2.2.1 s.2.2.2.2.2.2.2.2.2.2.2.2.1 s.2.2.2.2.2.2.2.2.2.2.2.2.2) (fun s => μ s.1 s.2.1 s.2.2.1 s.2.2.2.1 s.2.2.2.2.1 s.2.2.2.2.2.1 s.2.2.2.2.2.2.1 s.2.2.2.2.2.2.2.1 s.2.2.2.2.2.2.2.2.1 s.2.2.2.2.2.2.2.2.2.1 s.2.2.2.2.2.2.2.2.2.2.1 s.2.2.2.2.2.2.2.2.2.2.2.1 s.2.2.2.2.2.2.2.2.2.2.2.2.1 s.2.2.2.2.2.2.2.2.2.2.2.2.2) (fun n s hI hk => hs n s.1 s.2.1 s.2.2.1 s.2.2.2.1 s.2.2.2.2.1 s.2.2.2.2.2.1 s.2.2.2.2.2.2.1 s.2.2.2.2.2.2.2.1 s.2.2.2.2.2.2.2.2.1 s.2.2.2.2.2.2.2.2.2.1 s.2.2.2.2.2.2.2.2.2.2.1 s.2.2.2.2.2.2.2.2.2.2.2.1 s.2.2.2.2.2.2.2.2.2.2.2.2.1 s.2.2.2.2.2.2.2.2.2.2.2.2.2 hI (fun b1 b2 b3 b4 b5 b6 b7 b8 b9 b10 b11 b12 b13 b14 h9 hm => hk (b1, b2, b3, b4, b5, b6, b7, b8, b9, b10, b11, b12, b13, b14) h9 hm)) (a1, a2, a3, a4, a5, a6, a7, a8, a9, a10, a11, a12, a13, a14) h
theorem lp15 {A1 A2 A3 A4 A5 A6 A7 A8 A9 A10 A11 A12 A13 A14 A15 : Type} (W : Nat → A1 → A2 → A3 → A4 → A5 → A6 → A7 → A8 → A9 → A10 → A11 → A12 → A13 → A14 → A15 → Prop) (I : A1 → A2 → A3 → A4 → A5 → A6 → A7 → A8 → A9 → A10 → A11 → A12 → A13 → A14 → A15 → Prop) (μ : A1 → A2 → A3 → A4 → A5 → A6 → A7 → A8 → A9 → A10 → A11 → A12 → A13 → A14 → A15 → Nat) (hs : ∀ (n : Nat) (a1 : A1) (a2 : A2) (a3 : A3) (a4 : A4) (a5 : A5) (a6 : A6) (a7 : A7) (a8 : A8) (a9 : A9) (a10 : A10) (a11 : A11) (a12 : A12) (a13 : A13) (a14 : A14) (a15 : A15), I a1 a2 a3 a4 a5 a6 a7 a8 a9 a10 a11 a12 a13 a14 a15 → (∀ (b1 : A1) (b2 : A2) (b3 : A3) (b4 : A4) (b5 : A5) (b6 : A6) (b7 : A7) (b8 : A8) (b9 : A9) (b10 : A10) (b11 : A11) (b12 : A12) (b13 : A13) (b14 : A14) (b15 : A15), I b1 b2 b3 b4 b5 b6 b7 b8 b9 b10 b11 b12 b13 b14 b15 → μ b1 b2 b3 b4 b5 b6 b7 b8 b9 b10 b11 b12 b13 b14 b15 < μ a1 a2 a3 a4 a5 a6 a7 a8 a9 a10 a11 a12 a13 a14 a15 → W n b1 b2 b3 b4 b5 b6 b7 b8 b9 b10 b11 b12 b13 b14 b15) → W (n + 1) a1 a2 a3 a4 a5 a6 a7 a8 a9 a10 a11 a12 a13 a14 a15) (a1 : A1) (a2 : A2) (a3 : A3) (a4 : A4) (a5 : A5) (a6 : A6) (a7 : A7) (a8 : A8) (a9 : A9) (a10 : A10) (a11 : A11) (a12 : A12) (a13 : A13) (a14 : A14) (a15 : A15) (h : I a1 a2 a3 a4 a5 a6 a7 a8 a9 a10 a11 a12 a13 a14 a15) : ∃ n, W n a1 a2 a3 a4 a5 a6 a7 a8 a9 a10 a11 a12 a13 a14 a15 :=
  loop_m (σ := A1 × A2 × A3 × A4 × A5 × A6 × A7 × A8 × A9 × A10 × A11 × A12 × A13 × A14 × A15) (fun n s => W n s.1 s.2.1 s.2.2.1 s.2.2.2.1 s.2.2.2.2.1 s.2.2.2.2.2.1 s.2.2.2.2.2.2.1 s.2.2.2.2.2.2.2.1 s.2.2.2.2.2.2.2.2.1 s.2.2.2.2.2.2.2.2.2.1 s.2.2.2.2.2.2.2.2.2.2.1 s.2.2.2.2.2.2.2.2.2.2.2.1 s.2.2.2.2.2.2.2.2.2.2.2.2.1 s.2.2.2.2.2.2.2.2.2.2.2.2.2.1 s.2.2.2.2.2.2.2.2.2.2.2.2.2.2) (fun s => I s.1 s.2.1 s.2.2.1 s.2.2.2.1 s.2.2.2.2.1 s.2.2.2.2.2.1 s.2.2.2.2.2.2.1 s.2.2.2.2.2.2.2.1 s.2.2.2.2.2.2.2.2.1 s.2.2.2.2.2.2.2.2.2.1 s.2.2.2.2.2.2.2.2.2.2.1 s.2.2.2.2.2.2.2.2.2.2.2.1 s.2.2.2.2.2.2.2.2.2.2.2.2.1 s.2.2.2.2.2.2.2.2.2.2.2.2.2.1 s.2.2.2.2.2.2.2.2.2.2.2.2.2.2) (fun s => μ s.1 s.2.1 s.2.2.1 s.2.2.2.1 s.2.2.2.2.1 s.2.2.2.2.2.1 s.2.2.2.2.2.2.1 s.2.2.2.2.2.2.2.1 s.2.2.2.2.2.2.2.2.1 s.2.2.2.2.2.2.2.2.2.1 s.2.2.2.2.2.2.2.2.2.2.1 s.2.2.2.2.2.2.2.2.2.2.2.1 s.2.2.2.2.2.2.2.2.2.2.2.2.1 s.2.2.2.2.2.2.2.2.2.2.2.2.2.1 s.2.2.2.2.2.2.2.2.2.2.2.2.2.2) (fun n s hI hk => hs n s.1 s.2.1 s.2.2.1 s.2.2.2.1 s.2.2.2.2.1 s.2.2.2.2.2.1 s.2.2.2.2.2.2.1 s.2.2.2.2.2.2.2.1 s.2.2.2.2.2.2.2.2.1 s.2.2.2.2.2.2.2.2.2.1 s.2.2.2.2.2.2.2.2.2.2.1 s.2.2.2.2.2.2.2.2.2.2.2.1 s.2.2.2.2.2.2.2.2.2.2.2.2.1 s.2.2.2.2.2.2.2.2.2.2.2.2.2.1 s.2.2.2.2.2.2.2.2.2.2.2.2.2.2 hI (fun b1 b2 b3 b4 b5 b6 b7 b8 b9 b10 b11 b12 b13 b14 b15 h9 hm => hk (b1, b2, b3, b4, b5, b6, b7, b8, b9, b10, b11, b12, b13, b14, b15) h9 hm)) (a1, a2, a3, a4, a5, a6, a7, a8, a9, a10, a11, a12, a13, a14, a15) h
theorem lp16 {A1 A2 A3 A4 A5 A6 A7 A8 A9 A10 A11 A12 A13 A14 A15 A16 : Type} (W : Nat → A1 → A2 → A3 → A4 → A5 → A6 → A7 → A8 → A9 → A10 → A11 → A12 → A13 → A14 → A15 → A16 → Prop) (I : A1 → A2 → A3 → A4 → A5 → A6 → A7 → A8 → A9 → A10 → A11 → A12 → A13 → A14 → A15 → A16 → Prop) (μ : A1 → A2 → A3 → A4 → A5 → A6 → A7 → A8 → A9 → A10 → A11 → A12 → A13 → A14 → A15 → A16 → Nat) (hs : ∀ (n : Nat) (a1 : A1) (a2 : A2) (a3 : A3) (a4 : A4) (a5 : A5) (a6 : A6) (a7 : A7) (a8 : A8) (a9 : A9) (a10 : A10) (a11 : A11) (a12 : A12) (a13 : A13) (a14 : A14) (a15 : A15) (a16 : A16), I a1 a2 a3 a4 a5 a6 a7 a8 a9 a10 a11 a12 a13 a14 a15 a16 → (∀ (b1 : A1) (b2 : A2) (b3 : A3) (b4 : A4) (b5 : A5) (b6 : A6) (b7 : A7) (b8 : A8) (b9 : A9) (b10 : A10) (b11 : A11) (b12 : A12) (b13 : A13) (b14 : A14) (b15 : A15) (b16 : A16), I b1 b2 b3 b4 b5 b6 b7 b8 b9 b10 b11 b12 b13 b14 b15 b16 → μ b1 b2 b3 b4 b5 b6 b7 b8 b9 b10 b11 b12 b13 b14 b15 b16 < μ a1 a2 a3 a4 a5 a6 a7 a8 a9 a10 a11 a12 a13 a14 a15 a16 → W n b1 b2 b3 b4 b5 b6 b7 b8 b9 b10 b11 b12 b13 b14 b15 b16) → W (n + 1) a1 a2 a3 a4 a5 a6 a7 a8 a9 a10 a11 a12 a13 a14 a15 a16) (a1 : A1) (a2 : A2) (a3 : A3) (a4 : A4) (a5 : A5) (a6 : A6) (a7 : A7) (a8 : A8) (a9 : A9) (a10 : A10) (a11 : A11) (a12 : A12) (a13 : A13) (a14 : A14) (a15 : A15) (a16 : A16) (h : I a1 a2 a3 a4 a5 a6 a7 a8 a9 a10 a11 a12 a13 a14 a15 a16) : ∃ n, W n a1 a2 a3 a4 a5 a6 a7 a8 a9 a10 a11 a12 a13 a14 a15 a16 :=
  loop_m (σ := A1 × A2 × A3 × A4 × A5 × A6 × A7 × A8 × A9 × A10 × A11 × A12 × A13 × A14 × A15 × A16) (fun n s => W n s.1 s.2.1 s.2.2.1 s.2.2.2.1 s.2.2.2.2.1 s.2.2.2.2.2.1 s.2.2.2.2.2.2.1 s.2.2.2.2.2.2.2.1 s.2.2.2.2.2.2.2.2.1 s.2.2.2.2.2.2.2.2.2.1 s.2.2.2.2.2.2.2.2.2.2.1 s.2.2.2.2.2.2.2.2.2.2.2.1 s.2.2.2.2.2.2.2.2.2.2.2.2.1 s.2.2.2.2.2.2.2.2.2.2.2.2.2.1 s.2.2.2.2.2.2.2.2.2.2.2.2.2.2.1 s.2.2.2.2.2.2.2.2.2.2.2.2.2.2.2) (fun s => I s.1 s.2.1 s.2.2.1 s.2.2.2.1 s.2.2.2.2.1 s.2.2.2.2.2.1 s.2.2.2.2.2.2.1 s.2.2.2.2.2.2.2.1 s.2.2.2.2.2.2.2.2.1 s.2.2.2.2.2.2.2.2.2.1 s.2.2.2.2.2.2.2.2.2.2.1 s.2.2.2.2.2.2.2.2.2.2.2.1 s.2.2.2.2.2.2.2.2.2.2.2.2.1 s.2.2.2.2.2.2.2.2.2.2.2.2.2.1 s.2.2.2.2.2.2.2.2.2.2.2.2.2.2.1 s.2.2.2.2.2.2.2.2.2.2.2.2.2.2.2) (fun s => μ s.1 s.2.1 s.2.2.1 s.2.2.2.1 s.2.2.2.2.1 s.2.2.2.2.2.1 s.2.2.2.2.2.2.1 s.2.2.2.2.2.2.2.1 s.2.2.2.2.2.2.2.2.1 s.2.2.2.2.2.2.2.2.2.1 s.2.2.2.2.2.2.2.2.2.2.1 s.2.2.2.2.2.2.2.2.2.2.2.1 s.2.2.2.2.2.2.2.2.2.2.2.2.1 s.2.2.2.2.2.2.2.2.2.2.2.2.2.1 s.2.2.2.2.2.2.2.2.2.2.2.2.2.2.1 s.2.2.2.2.2.2.2.2.2.2.2.2.2.2.2) (fun n s hI hk => hs n s.1 s.2.1 s.2.2.1 s.2.2.2.1 s.2.2.2.2.1 s.2.2.2.2.2.1 s.2.2.2.2.2.2.1 s.2.2.2.2.2.2.2.1 s.2.2.2.2.2.2.2.2.1 s.2.2.2.2.2.2.2.2.2.1 s.2.2.2.2.2.2.2.2.2.2.1 s.2.2.2.2.2.2.2.2.2.2.2.1 s.2.2.2.2.2.2.2.2.2.2.2.2.1 s.2.2.2.2.2.2.2.2.2.2.2.2.2.1 s.2.2.2.2.2.2.2.2.2.2.2.2.2.2.1 s.2.2.2.2.2.2.2.2.2.2.2.2.2.2.2 hI (fun b1 b2 b3 b4 b5 b6 b7 b8 b9 b10 b11 b12 b13 b14 b15 b16 h9 hm => hk (b1, b2, b3, b4, b5, b6, b7, b8, b9, b10, b11, b12, b13, b14, b15, b16) h9 hm)) (a1, a2, a3, a4, a5, a6, a7, a8, a9, a10, a11, a12, a13, a14, a15, a16) h
theorem pk_least (P : Nat → Prop) (h : ∃ k, P k) : ∃ k, P k ∧ ∀ j, j < k → ¬ P j := by
  obtain ⟨k, hk⟩ := h
  induction k using Nat.strongRecOn with
  | ind k ih =>
    by_cases e : ∃ j, j < k ∧ P j
    · obtain ⟨j, hj, pj⟩ := e
      exact ih j hj pj
    · exact ⟨k, hk, fun j hj pj => e ⟨j, hj, pj⟩⟩
theorem rp1 {ρ A1 : Type} (W : Nat → (ρ → Prop) → A1 → Prop) (ok : A1 → Prop) (μ : A1 → Nat) (val : A1 → ρ)
    (hs : ∀ (d : Nat) (post : ρ → Prop) (a1 : A1), ok a1 → post (val a1) → (∀ (post' : ρ → Prop) (b1 : A1), ok b1 → μ b1 < μ a1 → post' (val b1) → W d post' b1) → W (d + 1) post a1) :
    ∀ (d : Nat) (post : ρ → Prop) (a1 : A1), ok a1 → μ a1 < d → post (val a1) → W d post a1 := by
  intro d
  induction d with
  | zero => intro post a1 _ h; omega
  | succ d ih =>
    intro post a1 ho hm hp
    exact hs d post a1 ho hp (fun post' b1 ho' hm' hp' => ih post' b1 ho' (by omega) hp')
theorem rp2 {ρ A1 A2 : Type} (W : Nat → (ρ → Prop) → A1 → A2 → Prop) (ok : A1 → A2 → Prop) (μ : A1 → A2 → Nat) (val : A1 → A2 → ρ)
    (hs : ∀ (d : Nat) (post : ρ → Prop) (a1 : A1) (a2 : A2), ok a1 a2 → post (val a1 a2) → (∀ (post' : ρ → Prop) (b1 : A1) (b2 : A2), ok b1 b2 → μ b1 b2 < μ a1 a2 → post' (val b1 b2) → W d post' b1 b2) → W (d + 1) post a1 a2) :
    ∀ (d : Nat) (post : ρ → Prop) (a1 : A1) (a2 : A2), ok a1 a2 → μ a1 a2 < d → post (val a1 a2) → W d post a1 a2 := by
  intro d
  induction d with
  | zero => intro post a1 a2 _ h; omega
  | succ d ih =>
    intro post a1 a2 ho hm hp
    exact hs d post a1 a2 ho hp (fun post' b1 b2 ho' hm' hp' => ih post' b1 b2 ho' (by omega) hp')
theorem rp3 {ρ A1 A2 A3 : Type} (W : Nat → (ρ → Prop) → A1 → A2 → A3 → Prop) (ok : A1 → A2 → A3 → Prop) (μ : A1 → A2 → A3 → Nat) (val : A1 → A2 → A3 → ρ)
    (hs : ∀ (d : Nat) (post : ρ → Prop) (a1 : A1) (a2 : A2) (a3 : A3), ok a1 a2 a3 → post (val a1 a2 a3) → (∀ (post' : ρ → Prop) (b1 : A1) (b2 : A2) (b3 : A3), ok b1 b2 b3 → μ b1 b2 b3 < μ a1 a2 a3 → post' (val b1 b2 b3) → W d post' b1 b2 b3) → W (d + 1) post a1 a2 a3) :
    ∀ (d : Nat) (post : ρ → Prop) (a1 : A1) (a2 : A2) (a3 : A3), ok a1 a2 a3 → μ a1 a2 a3 < d → post (val a1 a2 a3) → W d post a1 a2 a3 := by
  intro d
  induction d with
  | zero => intro post a1 a2 a3 _ h; omega
  | succ d ih =>
    intro post a1 a2 a3 ho hm hp
    exact hs d post a1 a2 a3 ho hp (fun post' b1 b2 b3 ho' hm' hp' => ih post' b1 b2 b3 ho' (by omega) hp')
theorem rp4 {ρ A1 A2 A3 A4 : Type} (W : Nat → (ρ → Prop) → A1 → A2 → A3 → A4 → Prop) (ok : A1 → A2 → A3 → A4 → Prop) (μ : A1 → A2 → A3 → A4 → Nat) (val : A1 → A2 → A3 → A4 → ρ)
    (hs : ∀ (d : Nat) (post : ρ → Prop) (a1 : A1) (a2 : A2) (a3 : A3) (a4 : A4), ok a1 a2 a3 a4 → post (val a1 a2 a3 a4) → (∀ (post' : ρ → Prop) (b1 : A1) (b2 : A2) (b3 : A3) (b4 : A4), ok b1 b2 b3 b4 → μ b1 b2 b3 b4 < μ a1 a2 a3 a4 → post' (val b1 b2 b3 b4) → W d post' b1 b2 b3 b4) → W (d + 1) post a1 a2 a3 a4) :
    ∀ (d : Nat) (post : ρ → Prop) (a1 : A1) (a2 : A2) (a3 : A3) (a4 : A4), ok a1 a2 a3 a4 → μ a1 a2 a3 a4 < d → post (val a1 a2 a3 a4) → W d post a1 a2 a3 a4 := by
  intro d
  induction d with
  | zero => intro post a1 a2 a3 a4 _ h; omega
  | succ d ih =>
    intro post a1 a2 a3 a4 ho hm hp
    exact hs d post a1 a2 a3 a4 ho hp (fun post' b1 b2 b3 b4 ho' hm' hp' => ih post' b1 b2 b3 b4 ho' (by omega) hp')
theorem rp5 {ρ A1 A2 A3 A4 A5 : Type} (W : Nat → (ρ → Prop) → A1 → A2 → A3 → A4 → A5 → Prop) (ok : A1 → A2 → A3 → A4 → A5 → Prop) (μ : A1 → A2 → A3 → A4 → A5 → Nat) (val : A1 → A2 → A3 → A4 → A5 → ρ)
    (hs : ∀ (d : Nat) (post : ρ → Prop) (a1 : A1) (a2 : A2) (a3 : A3) (a4 : A4) (a5 : A5), ok a1 a2 a3 a4 a5 → post (val a1 a2 a3 a4 a5) → (∀ (post' : ρ → Prop) (b1 : A1) (b2 : A2) (b3 : A3) (b4 : A4) (b5 : A5), ok b1 b2 b3 b4 b5 → μ b1 b2 b3 b4 b5 < μ a1 a2 a3 a4 a5 → post' (val b1 b2 b3 b4 b5) → W d post' b1 b2 b3 b4 b5) → W (d + 1) post a1 a2 a3 a4 a5) :
    ∀ (d : Nat) (post : ρ → Prop) (a1 : A1) (a2 : A2) (a3 : A3) (a4 : A4) (a5 : A5), ok a1 a2 a3 a4 a5 → μ a1 a2 a3 a4 a5 < d → post (val a1 a2 a3 a4 a5) → W d post a1 a2 a3 a4 a5 := by
  intro d
  induction d with
  | zero => intro post a1 a2 a3 a4 a5 _ h; omega
  | succ d ih =>
    intro post a1 a2 a3 a4 a5 ho hm hp
    exact hs d post a1 a2 a3 a4 a5 ho hp (fun post' b1 b2 b3 b4 b5 ho' hm' hp' => ih post' b1 b2 b3 b4 b5 ho' (by omega) hp')
theorem rp6 {ρ A1 A2 A3 A4 A5 A6 : Type} (W : Nat → (ρ → Prop) → A1 → A2 → A3 → A4 → A5 → A6 → Prop) (ok : A1 → A2 → A3 → A4 → A5 → A6 → Prop) (μ : A1 → A2 → A3 → A4 → A5 → A6 → Nat) (val : A1 → A2 → A3 → A4 → A5 → A6 → ρ)
    (hs : ∀ (d : Nat) (post : ρ → Prop) (a1 : A1) (a2 : A2) (a3 : A3) (a4 : A4) (a5 : A5) (a6 : A6), ok a1 a2 a3 a4 a5 a6 → post (val a1 a2 a3 a4 a5 a6) → (∀ (post' : ρ → Prop) (b1 : A1) (b2 : A2) (b3 : A3) (b4 : A4) (b5 : A5) (b6 : A6), ok b1 b2 b3 b4 b5 b6 → μ b1 b2 b3 b4 b5 b6 < μ a1 a2 a3 a4 a5 a6 → post' (val b1 b2 b3 b4 b5 b6) → W d post' b1 b2 b3 b4 b5 b6) → W (d + 1) post a1 a2 a3 a4 a5 a6) :
    ∀ (d : Nat) (post : ρ → Prop) (a1 : A1) (a2 : A2) (a3 : A3) (a4 : A4) (a5 : A5) (a6 : A6), ok a1 a2 a3 a4 a5 a6 → μ a1 a2 a3 a4 a5 a6 < d → post (val a1 a2 a3 a4 a5 a6) → W d post a1 a2 a3 a4 a5 a6 := by
  intro d
  induction d with
  | zero => intro post a1 a2 a3 a4 a5 a6 _ h; omega
  | succ d ih =>
    intro post a1 a2 a3 a4 a5 a6 ho hm hp
    exact hs d post a1 a2 a3 a4 a5 a6 ho hp (fun post' b1 b2 b3 b4 b5 b6 ho' hm' hp' => ih post' b1 b2 b3 b4 b5 b6 ho' (by omega) hp')
theorem rec_p {σ ρ : Type} (W : Nat → (ρ → Prop) → σ → Prop) (ok : σ → Prop) (μ : σ → Nat) (val : σ → ρ)
    (hs : ∀ d s post, ok s → post (val s) → (∀ s' post', ok s' → μ s' < μ s → post' (val s') → W d post' s') → W (d + 1) post s) :
    ∀ d s post, ok s → μ s < d → post (val s) → W d post s := by
  intro d
  induction d with
  | zero => intro s post _ h; omega
  | succ d ih =>
    intro s post ho hm hp
    exact hs d s post ho hp (fun s' post' ho' hm' hp' => ih s' post' ho' (by omega) hp')
theorem rec_q {σ ρ : Type} (W : Nat → (ρ → Prop) → σ → Prop) (ok : σ → Prop) (μ : σ → Nat) (Q : σ → ρ → Prop)
    (hs : ∀ d s post, ok s → (∀ r, Q s r → post r) → (∀ s' post', ok s' → μ s' < μ s → (∀ r, Q s' r → post' r) → W d post' s') → W (d + 1) post s) :
    ∀ d s post, ok s → μ s < d → (∀ r, Q s r → post r) → W d post s := by
  intro d
  induction d with
  | zero => intro s post _ h; omega
  | succ d ih =>
    intro s post ho hm hp
    exact hs d s post ho hp (fun s' post' ho' hm' hp' => ih s' post' ho' (by omega) hp')
def bx_sum (f : Nat → Int32) : Nat → Int32
  | 0 => 0
  | n + 1 => bx_sum f n + f n
theorem ek_u {A : Prop} {B : Nat → Prop} {k N : Nat} (hk : k < N) (h : B k) : (some k = none → A) ∧ (∀ y : Nat, some k = some y → (y < N ∧ B y)) :=
  ⟨fun z => absurd z (Option.some_ne_none k), fun _ e => (by cases e; exact ⟨hk, h⟩)⟩
theorem ek_nu {A : Prop} {B : Nat → Prop} (h : A) : ((none : Option Nat) = none → A) ∧ (∀ y : Nat, (none : Option Nat) = some y → B y) :=
  ⟨fun _ => h, fun _ e => (by cases e)⟩
theorem ek_if {c d A B : Prop} (e : c ↔ d) (f : d → A) (g : ¬ d → B) : (c → A) ∧ (¬ c → B) :=
  ⟨fun z => f (e.mp z), fun z => g (fun y => z (e.mpr y))⟩
theorem ek_v {α : Sort _} {P : α → Prop} {a b : α} (e : a = b) (h : P b) : P a := e ▸ h
theorem co_some {x : Option Nat} {A : Prop} {B : Nat → Prop} (i : Nat) (h : B i) (hx : x = some i := by rfl) : (x = none → A) ∧ (∀ y : Nat, x = some y → B y) := by
  subst hx
  exact ⟨fun e => (nomatch e), fun y e => Option.some.inj e ▸ h⟩
theorem co_none {x : Option Nat} {A : Prop} {B : Nat → Prop} (h : A) (hx : x = none := by rfl) : (x = none → A) ∧ (∀ y : Nat, x = some y → B y) := by
  subst hx
  exact ⟨fun _ => h, fun y e => (nomatch e)⟩
theorem co_any {x : Option Nat} {A : Prop} {B : Nat → Prop} (hn : x = none → A) (hs : ∀ i : Nat, x = some i → B i) : (x = none → A) ∧ (∀ y : Nat, x = some y → B y) := ⟨hn, hs⟩
theorem co_2 {P : Nat → Prop} (h0 : P 0) (h1 : P 1) {i : Nat} (hi : i < 2) : P i :=
  match i, hi with
  | 0, _ => h0
  | 1, _ => h1
theorem co_3 {P : Nat → Prop} (h0 : P 0) (h1 : P 1) (h2 : P 2) {i : Nat} (hi : i < 3) : P i :=
  match i, hi with
  | 0, _ => h0
  | 1, _ => h1
  | 2, _ => h2
theorem co_4 {P : Nat → Prop} (h0 : P 0) (h1 : P 1) (h2 : P 2) (h3 : P 3) {i : Nat} (hi : i < 4) : P i :=
  match i, hi with
  | 0, _ => h0
  | 1, _ => h1
  | 2, _ => h2
  | 3, _ => h3
theorem co_dec {N : Nat} {P : Nat → Prop} [DecidablePred P] (h : (List.range N).all (fun i => decide (P i)) = true) {i : Nat} (hi : i < N) : P i := by
  have := List.all_eq_true.mp h i (List.mem_range.mpr hi)
  exact of_decide_eq_true this
theorem co_tab {α : Type} {l : List α} {d : α} {P : α → Prop} (h : ∀ a, a ∈ l → P a) {i : Nat} (hi : i < l.length) : P (l.getD i d) := by
  rw [List.getD_eq_getElem?_getD, List.getElem?_eq_getElem hi]
  exact h _ (List.getElem_mem hi)
theorem pk_mu {x : Int32} {L : Nat} (h0 : ¬ x < 0) (h : ¬ nI L ≤ x) (hL : L < 2 ^ 31) : ∃ j : Nat, j < L ∧ x = nI j ∧ x + 1 = nI (j + 1) ∧ x.toNatClampNeg = j ∧ L - (x + 1).toNatClampNeg < L - x.toNatClampNeg := by
  obtain ⟨j, hj, rfl⟩ := nI_of h0
  have hl : j < L := Nat.not_le.mp fun q => h (nI_le q hj)
  refine ⟨j, hl, rfl, nI_1 j, nI_clamp hj, ?_⟩
  rw [nI_1, nI_clamp (by omega), nI_clamp hj]
  omega
theorem op_s {α : Type} {r : Option α} {A : Prop} {B : α → Prop} {y : α} (h : r = some y) (b : B y) : (r = none → A) ∧ ∀ z, r = some z → B z :=
  ⟨fun e => (by rw [h] at e; cases e), fun z e => (by rw [h] at e; cases e; exact b)⟩
def l_holds {α : Type} (a : Nat → Option Nat) (LP : List Nat) (p : Nat → α) (c : Nat) (b : Nat → α) : Prop :=
  ∀ j, j < c → ∃ y, a j = some y ∧ y ∈ LP ∧ p y = b j
theorem l_holds_0 {α : Type} {a : Nat → Option Nat} {LP : List Nat} {p b : Nat → α} : l_holds a LP p 0 b := fun j h => absurd h (Nat.not_lt_zero j)
theorem l_in_new (LP : List Nat) (q : Nat) : q ∈ LP ++ [q] := List.mem_append.mpr (Or.inr (List.mem_singleton.mpr rfl))
def l_sum (b : Nat → Int32) : Nat → Int32
  | 0 => 0
  | k + 1 => l_sum b k + b k
theorem sb_shr0 (x : Int32) : x >>> ((0 : Int32) &&& 31) = x := by
  rw [show ((0 : Int32) &&& 31) = 0 by decide]
  simp
theorem sb_shl0 (x : Int32) : x <<< ((0 : Int32) &&& 31) = x := by
  rw [show ((0 : Int32) &&& 31) = 0 by decide]
  simp
theorem sb_cl0 : (0 : Int32).toNatClampNeg = 0 := by decide
theorem sb_m1 {p : Nat} (h : 0 < p) : nI p + (-1) = nI (p - 1) := by
  obtain ⟨q, rfl⟩ : ∃ q, p = q + 1 := ⟨p - 1, by omega⟩
  exact pk_m1 q
def sb_b (c : Nat) : Int32 := (nI c).toInt8.toInt32
theorem sb_byte : ∀ c, c < 256 → sb_b c &&& 255 = nI c ∧ ((nI c).toUInt32 % 65536).toInt32 = nI c ∧ nI c ≤ 255 := by decide +kernel
def sb_Fit (a : Nat → Int32) : Prop := ∀ j, fits .byte (.int (a j)) = true
def sb_Lat (t : Nat → Nat) (n : Nat) (a : Nat → Int32) : Prop := ∀ j, j < n → t j < 256 ∧ a j = sb_b (t j)
theorem sb_fitB (c : Nat) : fits .byte (.int (sb_b c)) = true := pk_fb _
theorem sb_fit0 : sb_Fit (fun _ => 0) := fun _ => by
  show fits .byte (.int 0) = true
  decide
theorem sb_fitU {a : Nat → Int32} {k : Nat} {x : Int32} (h : sb_Fit a) (hx : fits .byte (.int x) = true) : sb_Fit (upd a k x) := by
  intro j
  by_cases e : j = k
  · subst e
    rw [pk_us]
    exact hx
  · rw [pk_un e]
    exact h j
def sb_cat (t : Nat → Nat) (n : Nat) (s : Nat → Nat) : Nat → Nat := fun j => if j < n then t j else s (j - n)
theorem sb_cat_lo {t s : Nat → Nat} {n j : Nat} (h : j < n) : sb_cat t n s j = t j := if_pos h
theorem sb_cat_hi {t s : Nat → Nat} {n j : Nat} : sb_cat t n s (n + j) = s j := by
  show (if n + j < n then t (n + j) else s (n + j - n)) = s j
  rw [if_neg (by omega), Nat.add_sub_cancel_left]
theorem sb_latPut {t s : Nat → Nat} {n w : Nat} {a a' : Nat → Int32} (h : sb_Lat t n a) (hk : ∀ j, j < n → a' j = a j) (hs : ∀ i, i < w → s i < 256 ∧ a' (n + i) = sb_b (s i)) : sb_Lat (sb_cat t n s) (n + w) a' := by
  intro j hj
  by_cases e : j < n
  · rw [sb_cat_lo e, hk j e]
    exact h j e
  · obtain ⟨i, rfl⟩ : ∃ i, j = n + i := ⟨j - n, by omega⟩
    rw [sb_cat_hi]
    exact hs i (by omega)
theorem sb_latKeep {t : Nat → Nat} {n : Nat} {a a' : Nat → Int32} (h : sb_Lat t n a) (hk : ∀ j, j < n → a' j = a j) : sb_Lat t n a' := fun j hj => by
  rw [hk j hj]
  exact h j hj
def sb_cap (q m : Nat) : Nat := if q ≤ m then m else if 2 * m + 2 < q then q else 2 * m + 2
def sb_Room (q m mc ms : Nat) : Prop := q ≤ m ∨ (1 ≤ mc ∧ sb_cap q m ≤ ms ∧ sb_cap q m ≤ 65536)
theorem sb_cap_ge (q m : Nat) : q ≤ sb_cap q m := by
  unfold sb_cap
  split
  · omega
  · split <;> omega
theorem sb_cap_gem (q m : Nat) : m ≤ sb_cap q m := by
  unfold sb_cap
  split
  · omega
  · split <;> omega
theorem sb_cap_le {q m mc ms : Nat} (hm : m ≤ 65536) (hr : sb_Room q m mc ms) : sb_cap q m ≤ 65536 := by
  rcases hr with h | h
  · rw [sb_cap, if_pos h]
    exact hm
  · exact h.2.2
theorem sb_at {P : Int32 → Prop} {x y : Int32} (e : x = y) (h : P y) : P x := e ▸ h
def sb_dg (w : Nat) : Nat := if w < 10 then 1 else if w < 100 then 2 else if w < 1000 then 3 else if w < 10000 then 4 else if w < 100000 then 5 else if w < 1000000 then 6 else if w < 10000000 then 7 else if w < 100000000 then 8 else if w < 1000000000 then 9 else 10
def sb_dec (v : Nat) : Nat → Nat := fun i => 48 + v / 10 ^ (sb_dg v - 1 - i) % 10
theorem sb_dg_in (w : Nat) : 1 ≤ sb_dg w ∧ sb_dg w ≤ 10 := by
  unfold sb_dg
  constructor <;> (repeat' split) <;> omega
theorem sb_dg100 {w : Nat} (h : 100 ≤ w) (hw : w < 2 ^ 31) : sb_dg w = sb_dg (w / 100) + 2 := by
  rw [sb_dg, sb_dg, if_neg (show ¬ w < 10 by omega), if_neg (show ¬ w < 100 by omega)]
  by_cases h3 : w < 1000
  · rw [if_pos h3, if_pos (show w / 100 < 10 by omega)]
  rw [if_neg h3, if_neg (show ¬ w / 100 < 10 by omega)]
  by_cases h4 : w < 10000
  · rw [if_pos h4, if_pos (show w / 100 < 100 by omega)]
  rw [if_neg h4, if_neg (show ¬ w / 100 < 100 by omega)]
  by_cases h5 : w < 100000
  · rw [if_pos h5, if_pos (show w / 100 < 1000 by omega)]
  rw [if_neg h5, if_neg (show ¬ w / 100 < 1000 by omega)]
  by_cases h6 : w < 1000000
  · rw [if_pos h6, if_pos (show w / 100 < 10000 by omega)]
  rw [if_neg h6, if_neg (show ¬ w / 100 < 10000 by omega)]
  by_cases h7 : w < 10000000
  · rw [if_pos h7, if_pos (show w / 100 < 100000 by omega)]
  rw [if_neg h7, if_neg (show ¬ w / 100 < 100000 by omega)]
  by_cases h8 : w < 100000000
  · rw [if_pos h8, if_pos (show w / 100 < 1000000 by omega)]
  rw [if_neg h8, if_neg (show ¬ w / 100 < 1000000 by omega)]
  by_cases h9 : w < 1000000000
  · rw [if_pos h9, if_pos (show w / 100 < 10000000 by omega)]
  rw [if_neg h9, if_neg (show ¬ w / 100 < 10000000 by omega)]
  rw [if_pos (show w / 100 < 100000000 by omega)]
theorem sb_negT {w : Nat} (h : w < 2 ^ 31) : (-nI w).toInt = -(w : Int) := by
  rw [Int32.toInt_neg, nI_toInt h]
  exact Int.bmod_eq_of_le (by omega) (by omega)
theorem sb_nle {a b : Nat} (ha : a < 2 ^ 31) (hb : b < 2 ^ 31) : -nI a ≤ -nI b ↔ b ≤ a := by
  rw [Int32.le_iff_toInt_le, sb_negT ha, sb_negT hb]
  omega
theorem sb_nlt {a b : Nat} (ha : a < 2 ^ 31) (hb : b < 2 ^ 31) : -nI a < -nI b ↔ b < a := by
  rw [Int32.lt_iff_toInt_lt, sb_negT ha, sb_negT hb]
  omega
theorem sb_cmp {A B : Prop} {x : Int32} (v c : Nat) (f : c ≤ v → A) (g : v < c → B) (hv : v < 2 ^ 31) (hx : x = -nI c := by rfl) (hc : c < 2 ^ 31 := by omega) : (-nI v ≤ x → A) ∧ (¬ -nI v ≤ x → B) := by
  subst hx
  rw [sb_nle hv hc]
  exact ⟨f, fun z => g (by omega)⟩
theorem sb_ndiv {w : Nat} (hw : w < 2 ^ 31) : (-nI w) / 100 = -nI (w / 100) := by
  apply Int32.toInt_inj.mp
  have h100 : (100 : Int32).toInt = 100 := by decide
  rw [Int32.toInt_div, sb_negT hw, h100, sb_negT (by omega), Int.neg_tdiv, Int.tdiv_eq_ediv_of_nonneg (by omega), Int.bmod_eq_of_le (by omega) (by omega)]
  omega
theorem sb_nrem {w : Nat} (hw : w < 2 ^ 31) : (-nI (w / 100)) * 100 - (-nI w) = nI (w % 100) := by
  have h := pk_rem (a := w) (d := 100) hw (by decide) (by decide)
  rw [pk_div hw (by decide) (by decide)] at h
  rw [← h]
  show (-nI (w / 100)) * nI 100 - (-nI w) = nI w - nI (w / 100) * nI 100
  rw [Int32.neg_mul, Int32.sub_neg, Int32.add_comm, ← Int32.sub_eq_add_neg]
end
section
/-! rows on bits, shifts and unsigned numbers, to paste: each family out of a closed proof of our own, whole with what it rests on; each by itself clean at Lean in its own claim (generation 39, form 5). Take a family whole -/
/-! ===== Int32 by its bits: bt x i ===== -/
def bt (x : Int32) (i : Nat) : Bool := x.toBitVec.getLsbD i
theorem b_ext {x y : Int32} (h : ∀ i, i < 32 → bt x i = bt y i) : x = y := Int32.toBitVec_inj.mp (BitVec.eq_of_getLsbD_eq (fun i hi => h i hi))
theorem b_or (x y : Int32) (i : Nat) : bt (x ||| y) i = (bt x i || bt y i) := by unfold bt; rw [Int32.toBitVec_or, BitVec.getLsbD_or]
theorem b_and (x y : Int32) (i : Nat) : bt (x &&& y) i = (bt x i && bt y i) := by unfold bt; rw [Int32.toBitVec_and, BitVec.getLsbD_and]
theorem b_xor (x y : Int32) (i : Nat) : bt (x ^^^ y) i = (bt x i ^^ bt y i) := by unfold bt; rw [Int32.toBitVec_xor, BitVec.getLsbD_xor]
theorem b_big {x : Int32} {i : Nat} (h : 32 ≤ i) : bt x i = false := BitVec.getLsbD_of_ge _ _ h
theorem b_255 (i : Nat) : bt 255 i = decide (i < 8) := by
  rcases Nat.lt_or_ge i 32 with h | h
  · exact (by decide +kernel : ∀ i, i < 32 → bt 255 i = decide (i < 8)) i h
  · rw [b_big h, decide_eq_false (by omega)]
theorem b_65535 (i : Nat) : bt 65535 i = decide (i < 16) := by
  rcases Nat.lt_or_ge i 32 with h | h
  · exact (by decide +kernel : ∀ i, i < 32 → bt 65535 i = decide (i < 16)) i h
  · rw [b_big h, decide_eq_false (by omega)]
theorem b_m1 : ∀ i, i < 32 → bt (-1) i = true := by decide +kernel
theorem b_0 (i : Nat) : bt 0 i = false := BitVec.getLsbD_zero
theorem s_l : ∀ n, n < 32 → ((nI n &&& 31).toBitVec.smod 32).toNat = n := by decide +kernel
theorem s_u : ∀ n, n < 32 → (((nI n).toUInt32 &&& Int32.toUInt32 31).toBitVec % 32).toNat = n := by decide +kernel
theorem b_shl (n : Nat) (hn : n < 32) (x : Int32) {i : Nat} (hi : i < 32) : bt (x <<< (nI n &&& 31)) i = (decide (n ≤ i) && bt x (i - n)) := by
  unfold bt
  rw [Int32.toBitVec_shiftLeft]
  show (x.toBitVec <<< ((nI n &&& 31).toBitVec.smod 32).toNat).getLsbD i = _
  rw [s_l n hn, BitVec.getLsbD_shiftLeft]
  rcases Nat.lt_or_ge i n with h | h
  · simp [h, Nat.not_le.mpr h]
  · simp [hi, h, Nat.not_lt.mpr h]
theorem b_ushr (n : Nat) (hn : n < 32) (x : Int32) (i : Nat) : bt ((x.toUInt32 >>> ((nI n).toUInt32 &&& Int32.toUInt32 31)).toInt32) i = bt x (n + i) := by
  show (x.toUInt32 >>> ((nI n).toUInt32 &&& Int32.toUInt32 31)).toBitVec.getLsbD i = x.toUInt32.toBitVec.getLsbD (n + i)
  rw [UInt32.toBitVec_shiftRight]
  show (x.toUInt32.toBitVec >>> (((nI n).toUInt32 &&& Int32.toUInt32 31).toBitVec % 32).toNat).getLsbD i = _
  rw [s_u n hn, BitVec.getLsbD_ushiftRight]
theorem b_sshr (n : Nat) (hn : n < 32) (x : Int32) {i : Nat} (hi : i < 32) : bt (x >>> (nI n &&& 31)) i = if n + i < 32 then bt x (n + i) else bt x 31 := by
  unfold bt
  rw [Int32.toBitVec_shiftRight]
  show (x.toBitVec.sshiftRight ((nI n &&& 31).toBitVec.smod 32).toNat).getLsbD i = _
  rw [s_l n hn, BitVec.getLsbD_sshiftRight, BitVec.msb_eq_getLsbD_last]
  simp [hi]
theorem b_shl8 (x : Int32) {i : Nat} (hi : i < 32) : bt (x <<< ((8 : Int32) &&& 31)) i = (decide (8 ≤ i) && bt x (i - 8)) := b_shl 8 (by omega) x hi
theorem b_shl16 (x : Int32) {i : Nat} (hi : i < 32) : bt (x <<< ((16 : Int32) &&& 31)) i = (decide (16 ≤ i) && bt x (i - 16)) := b_shl 16 (by omega) x hi
theorem b_shl24 (x : Int32) {i : Nat} (hi : i < 32) : bt (x <<< ((24 : Int32) &&& 31)) i = (decide (24 ≤ i) && bt x (i - 24)) := b_shl 24 (by omega) x hi
theorem b_sshr8 (x : Int32) {i : Nat} (hi : i < 32) : bt (x >>> ((8 : Int32) &&& 31)) i = if 8 + i < 32 then bt x (8 + i) else bt x 31 := b_sshr 8 (by omega) x hi
/-! ===== nI under and, xor, >>>, one bit, 65535 ===== -/
theorem nx_and (a b : Nat) : nI a &&& nI b = nI (a &&& b) := by
  apply Int32.toBitVec_inj.1
  show BitVec.ofNat 32 a &&& BitVec.ofNat 32 b = BitVec.ofNat 32 (a &&& b)
  apply BitVec.eq_of_getLsbD_eq
  intro i hi
  simp [hi]
theorem nx_xor (a b : Nat) : nI a ^^^ nI b = nI (a ^^^ b) := by
  apply Int32.toBitVec_inj.1
  show BitVec.ofNat 32 a ^^^ BitVec.ofNat 32 b = BitVec.ofNat 32 (a ^^^ b)
  apply BitVec.eq_of_getLsbD_eq
  intro i hi
  simp [hi]
theorem nx_cnt : ∀ j : Fin 32, (UInt32.ofNat j.val &&& Int32.toUInt32 31).toNat % 32 = j.val := by decide +kernel
theorem nx_ush {k j : Nat} (hk : k < 65536) (hj : j < 32) : ((nI k).toUInt32 >>> ((nI j).toUInt32 &&& Int32.toUInt32 31)).toInt32 = nI (k >>> j) := by
  have hs : k >>> j ≤ k := by
    rw [Nat.shiftRight_eq_div_pow]
    exact Nat.div_le_self _ _
  have e2 : UInt32.ofNat k >>> (UInt32.ofNat j &&& Int32.toUInt32 31) = UInt32.ofNat (k >>> j) := by
    apply UInt32.toNat_inj.1
    have h1 : (UInt32.ofNat k).toNat = k := Nat.mod_eq_of_lt (by omega)
    have h2 : (UInt32.ofNat (k >>> j)).toNat = k >>> j := Nat.mod_eq_of_lt (by omega)
    rw [UInt32.toNat_shiftRight, nx_cnt ⟨j, hj⟩, h1, h2]
  show (UInt32.ofNat k >>> (UInt32.ofNat j &&& Int32.toUInt32 31)).toInt32 = _
  rw [e2]
  rfl
theorem nx_bit {k j : Nat} (hk : k < 65536) (hj : j < 16) : (((nI k).toUInt32 >>> ((nI j).toUInt32 &&& Int32.toUInt32 31)).toInt32 &&& 1) = 0 ↔ k.testBit j = false := by
  rw [nx_ush hk (by omega)]
  show nI (k >>> j) &&& nI 1 = 0 ↔ _
  rw [nx_and, Nat.and_one_is_mod, ← nI_0, nI_eq (by omega) (by omega), Nat.testBit_eq_decide_div_mod_eq, Nat.shiftRight_eq_div_pow, decide_eq_false_iff_not]
  generalize k / 2 ^ j = z
  omega
theorem nx_mod (k : Nat) : nI k &&& 65535 = nI (k % 65536) := by
  show nI k &&& nI 65535 = _
  rw [nx_and, show (65535 : Nat) = 2 ^ 16 - 1 from rfl, Nat.and_two_pow_sub_one_eq_mod]
theorem nx_m16 {k : Nat} (h : k < 65536) : nI k &&& 65535 = nI k := by rw [nx_mod, Nat.mod_eq_of_lt h]
theorem nx_mask (x : Int32) : ∃ k, k < 65536 ∧ x &&& 65535 = nI k := by
  have e : x = nI x.toBitVec.toNat := by
    apply Int32.toBitVec_inj.1
    show x.toBitVec = BitVec.ofNat 32 x.toBitVec.toNat
    simp
  refine ⟨x.toBitVec.toNat % 65536, Nat.mod_lt _ (by omega), ?_⟩
  rw [← nx_mod, ← e]
/-! ===== Int32 as a set of bits: test, set ===== -/
def nf_M (m : Int32) : Nat := 4294967296 - m.toBitVec.toNat
theorem nf_sh : ∀ l, l < 32 → ((1 : Int32) <<< (nI l &&& 31)).toBitVec = BitVec.twoPow 32 l := by decide +kernel
theorem nf_sl : ∀ l, l < 32 → (((nI l).toUInt32 &&& Int32.toUInt32 31).toBitVec % 32).toNat = l := by decide +kernel
theorem nf_tp : ∀ l, l < 32 → BitVec.twoPow 32 l ≠ 0#32 := by decide +kernel
theorem nf_bit (m : Int32) (l : Nat) (hl : l < 32) : ((m.toUInt32 >>> ((nI l).toUInt32 &&& Int32.toUInt32 31)).toInt32 &&& 1) = 0 ↔ (m &&& ((1 : Int32) <<< (nI l &&& 31))) = 0 := by
  have e : ((m.toUInt32 >>> ((nI l).toUInt32 &&& Int32.toUInt32 31)).toInt32).toBitVec = m.toBitVec >>> l := by
    show m.toBitVec >>> (((nI l).toUInt32 &&& Int32.toUInt32 31).toBitVec % 32) = m.toBitVec >>> l
    rw [BitVec.ushiftRight_eq', nf_sl l hl]
  rw [← Int32.toBitVec_inj, ← Int32.toBitVec_inj, Int32.toBitVec_and, Int32.toBitVec_and, nf_sh l hl, e, BitVec.and_twoPow]
  show (m.toBitVec >>> l &&& 1#32) = 0#32 ↔ _ = 0#32
  rw [BitVec.and_one_eq_setWidth_ofBool_getLsbD, BitVec.getLsbD_ushiftRight, Nat.add_zero]
  cases hb : m.toBitVec.getLsbD l
  · exact ⟨fun _ => by simp, fun _ => by decide⟩
  · exact ⟨fun z => absurd z (by decide), fun z => absurd ((if_pos rfl).symm.trans z) (nf_tp l hl)⟩
theorem nf_gr (m k : Int32) (h : m &&& k = 0) (hk : k ≠ 0) : nf_M (m ||| k) < nf_M m := by
  have hm := m.toBitVec.isLt
  have hm' := (m ||| k).toBitVec.isLt
  have h1 : m.toBitVec.toNat ≤ (m ||| k).toBitVec.toNat := by
    rw [Int32.toBitVec_or, BitVec.toNat_or]
    exact Nat.left_le_or
  have h2 : m.toBitVec.toNat ≠ (m ||| k).toBitVec.toNat := by
    intro e
    have e2 : m = m ||| k := Int32.toBitVec_inj.mp (BitVec.eq_of_toNat_eq e)
    apply hk
    apply Int32.toBitVec_inj.mp
    show k.toBitVec = 0#32
    apply BitVec.eq_of_getLsbD_eq
    intro i hi
    have a : m.toBitVec.getLsbD i = (m.toBitVec.getLsbD i || k.toBitVec.getLsbD i) := by rw [← BitVec.getLsbD_or, ← Int32.toBitVec_or, ← e2]
    have b : (m.toBitVec.getLsbD i && k.toBitVec.getLsbD i) = false := by
      rw [← BitVec.getLsbD_and, ← Int32.toBitVec_and, h]
      exact BitVec.getLsbD_zero
    rw [BitVec.getLsbD_zero]
    revert a b
    cases m.toBitVec.getLsbD i <;> cases k.toBitVec.getLsbD i <;> simp
  unfold nf_M
  omega
/-! ===== a byte read unsigned ===== -/
theorem bp_b (x : Int32) : x.toInt8.toInt32 &&& 255 = x &&& 255 := by
  apply Int32.toBitVec_inj.mp
  rw [Int32.toBitVec_and, Int32.toBitVec_and, Int8.toBitVec_toInt32, Int32.toBitVec_toInt8]
  apply BitVec.eq_of_getLsbD_eq
  intro i hi
  rw [BitVec.getLsbD_and, BitVec.getLsbD_and]
  have hm : ∀ i < 32, 8 ≤ i → (255 : Int32).toBitVec.getLsbD i = false := by decide
  rcases Nat.lt_or_ge i 8 with z | z
  · rw [BitVec.getLsbD_signExtend, BitVec.getLsbD_signExtend, if_pos z, if_pos hi]
    simp only [z, hi, decide_true, Bool.true_and]
  · rw [hm i hi z]; simp
/-! ===== the char cast and 65535 ===== -/
theorem em_w (v : Int32) : ∃ w : Nat, w < 65536 ∧ (v.toUInt32 % 65536).toInt32 = nI w ∧ v &&& 65535 = nI w := by
  have hr := lw_u16_r v
  have h0 : (0 : Int32).toInt = 0 := by decide
  obtain ⟨w, h1, h2⟩ := nI_of (x := lw_u16 v) (by rw [Int32.lt_iff_toInt_lt]; omega)
  have h3 : (v.toUInt32 % 65536).toInt32 = nI w := h2
  rw [h2, nI_toInt h1] at hr
  exact ⟨w, by omega, h3, by rw [← lg_i2c_mask, ← lg_i2c_nf, h3]⟩
/-! ===== Int64 as a set of bits: test, set, clear ===== -/
theorem ts_nf {x : Bool} (h : ¬ x = false) : x = true := by cases x <;> first | rfl | exact absurd rfl h
theorem ts_nt {x : Bool} (h : ¬ x = true) : x = false := by cases x <;> first | rfl | exact absurd rfl h
theorem ts_bit {w : Int64} {s : UInt64} {j : Nat} (hj : j < 64) (hs : s.toNat = j) : ((w.toUInt64 >>> s).toInt64 &&& 1) = 0 ↔ w.toBitVec.getLsbD j = false := by
  have e : (w.toUInt64 >>> s).toInt64.toBitVec = w.toBitVec >>> j := by
    apply BitVec.eq_of_toNat_eq
    show (w.toUInt64 >>> s).toNat = _
    rw [UInt64.toNat_shiftRight, hs, Nat.mod_eq_of_lt hj, BitVec.toNat_ushiftRight]
    rfl
  rw [← Int64.toBitVec_inj, Int64.toBitVec_and, e]
  show w.toBitVec >>> j &&& 1#64 = 0#64 ↔ _
  constructor
  · intro h
    have t := congrArg (fun x => x.getLsbD 0) h
    simpa using t
  · intro h
    apply BitVec.eq_of_getLsbD_eq
    intro i hi
    cases i with
    | zero => simp [h]
    | succ i => simp
theorem ts_or {w m : Int64} {j : Nat} (hj : j < 64) (hm : m.toBitVec = BitVec.twoPow 64 j) : (w ||| m) = w ↔ w.toBitVec.getLsbD j = true := by
  rw [← Int64.toBitVec_inj, Int64.toBitVec_or, hm]
  constructor
  · intro h
    have t := congrArg (fun x => x.getLsbD j) h
    simp only [BitVec.getLsbD_or, BitVec.getLsbD_twoPow] at t
    simpa [hj] using t.symm
  · intro h
    apply BitVec.eq_of_getLsbD_eq
    intro i hi
    rw [BitVec.getLsbD_or, BitVec.getLsbD_twoPow]
    by_cases e : j = i
    · subst e; rw [h, Bool.true_or]
    · simp [e]
theorem ts_and {w m : Int64} {j : Nat} (hj : j < 64) (hm : m.toBitVec = BitVec.twoPow 64 j) : (w &&& (m ^^^ (-1))) = w ↔ w.toBitVec.getLsbD j = false := by
  have ha : (-1 : Int64).toBitVec = BitVec.allOnes 64 := by decide
  rw [← Int64.toBitVec_inj, Int64.toBitVec_and, Int64.toBitVec_xor, hm, ha]
  constructor
  · intro h
    have t := congrArg (fun x => x.getLsbD j) h
    simp only [BitVec.getLsbD_and, BitVec.getLsbD_xor, BitVec.getLsbD_twoPow, BitVec.getLsbD_allOnes] at t
    simpa [hj] using t.symm
  · intro h
    apply BitVec.eq_of_getLsbD_eq
    intro i hi
    rw [BitVec.getLsbD_and, BitVec.getLsbD_xor, BitVec.getLsbD_twoPow, BitVec.getLsbD_allOnes]
    by_cases e : j = i
    · subst e; rw [h, Bool.false_and]
    · simp [e, hi]
/-! ===== lN n to 2^64: shifts, and, or, masks, one bit ===== -/
theorem wb_tb (n : Nat) : (lN n).toBitVec = BitVec.ofNat 64 n := rfl
theorem wb_inj {a b : Int64} (h : a.toBitVec = b.toBitVec) : a = b := Int64.toBitVec_inj.mp h
theorem wb_tn {n : Nat} (h : n < 2 ^ 64) : (lN n).toBitVec.toNat = n := by rw [wb_tb, BitVec.toNat_ofNat, Nat.mod_eq_of_lt h]
theorem wb_of (x : Int64) : ∃ n, n < 2 ^ 64 ∧ x = lN n := ⟨x.toBitVec.toNat, x.toBitVec.isLt, wb_inj (by rw [wb_tb]; simp)⟩
theorem wb_of32 (x : Int32) : ∃ n, n < 2 ^ 32 ∧ x = nI n := ⟨x.toBitVec.toNat, x.toBitVec.isLt, Int32.toBitVec_inj.mp (by show _ = BitVec.ofNat 32 _; simp)⟩
theorem wb_c : ∀ k, k < 64 → ((nI k).toInt64 &&& 63) = lN k := by decide +kernel
theorem wb_cu : ∀ k, k < 64 → ((nI k).toInt64.toUInt64 &&& Int64.toUInt64 63) = UInt64.ofNat k := by decide +kernel
theorem wb_sm : ∀ k, k < 64 → (BitVec.ofNat 64 k).smod 64 = BitVec.ofNat 64 k := by decide +kernel
theorem wb_pw {a b : Nat} (h : a ≤ b) : 2 ^ b = 2 ^ a * 2 ^ (b - a) := by rw [← Nat.pow_add]; congr 1; omega
theorem wb_lt2 {a b : Nat} (h : a < b) : 2 ^ a < 2 ^ b := Nat.pow_lt_pow_right (by decide) h
theorem wb_mod (n : Nat) : lN n = lN (n % 2 ^ 64) := wb_inj (by rw [wb_tb, wb_tb]; apply BitVec.eq_of_toNat_eq; rw [BitVec.toNat_ofNat, BitVec.toNat_ofNat, Nat.mod_mod])
theorem wb_shr {n k : Nat} (hn : n < 2 ^ 64) (hk : k < 64) : ((lN n).toUInt64 >>> ((nI k).toInt64.toUInt64 &&& Int64.toUInt64 63)).toInt64 = lN (n / 2 ^ k) := by
  rw [wb_cu k hk]
  apply wb_inj
  apply BitVec.eq_of_toNat_eq
  show ((lN n).toUInt64 >>> UInt64.ofNat k).toNat = (BitVec.ofNat 64 _).toNat
  have h1 : (UInt64.ofNat k).toNat = k := by
    show (BitVec.ofNat 64 k).toNat = k
    rw [BitVec.toNat_ofNat, Nat.mod_eq_of_lt (by omega)]
  have h2 : (lN n).toUInt64.toNat = n := wb_tn hn
  rw [UInt64.toNat_shiftRight, h1, h2, Nat.mod_eq_of_lt hk, Nat.shiftRight_eq_div_pow, BitVec.toNat_ofNat, Nat.mod_eq_of_lt (Nat.lt_of_le_of_lt (Nat.div_le_self _ _) hn)]
theorem wb_shl (n : Nat) {k : Nat} (hk : k < 64) : lN n <<< ((nI k).toInt64 &&& 63) = lN (n * 2 ^ k) := by
  rw [wb_c k hk]
  apply wb_inj
  rw [Int64.toBitVec_shiftLeft, wb_tb, wb_tb, wb_tb, wb_sm k hk]
  apply BitVec.eq_of_toNat_eq
  rw [BitVec.shiftLeft_eq', BitVec.toNat_shiftLeft, BitVec.toNat_ofNat, BitVec.toNat_ofNat, BitVec.toNat_ofNat, Nat.mod_eq_of_lt (show k < 2 ^ 64 by omega), Nat.shiftLeft_eq, Nat.mul_mod, Nat.mod_mod, ← Nat.mul_mod]
theorem wb_and {a b : Nat} (ha : a < 2 ^ 64) (hb : b < 2 ^ 64) : lN a &&& lN b = lN (a &&& b) := by
  apply wb_inj
  rw [Int64.toBitVec_and, wb_tb, wb_tb, wb_tb]
  apply BitVec.eq_of_toNat_eq
  rw [BitVec.toNat_and, BitVec.toNat_ofNat, BitVec.toNat_ofNat, BitVec.toNat_ofNat, Nat.mod_eq_of_lt ha, Nat.mod_eq_of_lt hb, Nat.mod_eq_of_lt (Nat.and_lt_two_pow _ hb)]
theorem wb_or {a b : Nat} (ha : a < 2 ^ 64) (hb : b < 2 ^ 64) : lN a ||| lN b = lN (a ||| b) := by
  apply wb_inj
  rw [Int64.toBitVec_or, wb_tb, wb_tb, wb_tb]
  apply BitVec.eq_of_toNat_eq
  rw [BitVec.toNat_or, BitVec.toNat_ofNat, BitVec.toNat_ofNat, BitVec.toNat_ofNat, Nat.mod_eq_of_lt ha, Nat.mod_eq_of_lt hb, Nat.mod_eq_of_lt (Nat.or_lt_two_pow ha hb)]
theorem wb_mask {n k : Nat} (hn : n < 2 ^ 64) (hk : k < 64) : lN n &&& lN (2 ^ k - 1) = lN (n % 2 ^ k) := by
  rw [wb_and hn (by have := wb_lt2 hk; omega), Nat.and_two_pow_sub_one_eq_mod]
theorem wb_a1 {n : Nat} (hn : n < 2 ^ 64) : lN n &&& 1 = lN (n % 2) := wb_mask (k := 1) hn (by decide)
theorem wb_bit {n k : Nat} (hn : n < 2 ^ 64) (hk : k < 64) : ((lN n).toUInt64 >>> ((nI k).toInt64.toUInt64 &&& Int64.toUInt64 63)).toInt64 &&& 1 = lN (n / 2 ^ k % 2) := by
  rw [wb_shr hn hk, wb_a1 (Nat.lt_of_le_of_lt (Nat.div_le_self _ _) hn)]
theorem wb_xor {q k : Nat} (hk : k < 63) (h : 2 ^ k ≤ q) (h2 : q < 2 ^ (k + 1)) : lN q ^^^ lN (2 ^ k) = lN (q - 2 ^ k) := by
  obtain ⟨r, rfl⟩ : ∃ r, q = 2 ^ k + r := ⟨q - 2 ^ k, by omega⟩
  have hr : r < 2 ^ k := by rw [Nat.pow_succ] at h2; omega
  have hx : (2 ^ k + r) ^^^ 2 ^ k = r := by
    apply Nat.eq_of_testBit_eq
    intro i
    rw [Nat.testBit_xor, Nat.testBit_two_pow]
    rcases Nat.lt_trichotomy i k with h | h | h
    · rw [Nat.testBit_two_pow_add_gt h]
      simp [show ¬ k = i by omega]
    · subst h
      rw [Nat.testBit_two_pow_add_eq]
      simp
    · have a1 : 2 ^ (k + 1) ≤ 2 ^ i := Nat.pow_le_pow_right (by decide) h
      rw [Nat.testBit_lt_two_pow (show 2 ^ k + r < 2 ^ i by omega), Nat.testBit_lt_two_pow (show r < 2 ^ i by omega)]
      simp [show ¬ k = i by omega]
  have b1 := wb_lt2 (show k + 1 < 64 by omega)
  have b2 := wb_lt2 (show k < 64 by omega)
  apply wb_inj
  rw [Int64.toBitVec_xor, wb_tb, wb_tb, wb_tb]
  apply BitVec.eq_of_toNat_eq
  rw [BitVec.toNat_xor, BitVec.toNat_ofNat, BitVec.toNat_ofNat, BitVec.toNat_ofNat, Nat.mod_eq_of_lt (by omega : 2 ^ k + r < 2 ^ 64), Nat.mod_eq_of_lt b2, hx, Nat.add_sub_cancel_left, Nat.mod_eq_of_lt (by omega)]
/-! ===== lN: masks, 'or' of parts that don't overlap is a sum ===== -/
theorem u_tn {n : Nat} (h : n < 2 ^ 64) : (UInt64.ofNat n).toNat = n := Nat.mod_eq_of_lt h
theorem g_and {a b c : Nat} (ha : a < 2 ^ 64) (hb : b < 2 ^ 64) (hc : a &&& b = c) : lN a &&& lN b = lN c := by
  subst hc
  have h : UInt64.ofNat a &&& UInt64.ofNat b = UInt64.ofNat (a &&& b) := UInt64.toNat_inj.mp (by rw [UInt64.toNat_and, u_tn ha, u_tn hb, u_tn (Nat.and_lt_two_pow a hb)])
  have h2 := congrArg UInt64.toInt64 h
  exact h2
theorem g_and1 {a : Nat} (ha : a < 2 ^ 64) : lN a &&& 1 = lN (a % 2) := g_and (b := 1) ha (by decide) (Nat.and_two_pow_sub_one_eq_mod a 1)
theorem g_mask {a s p : Nat} (hp : 2 ^ s = p) (hs : s < 64) (ha : a < 2 ^ 64) : lN a &&& lN (p - 1) = lN (a % p) := by
  subst hp
  have := Nat.pow_lt_pow_right (show 1 < 2 by decide) hs
  exact g_and ha (by omega) (Nat.and_two_pow_sub_one_eq_mod a s)
theorem g_or {k p a b : Nat} (hp : 2 ^ k = p) (ha : a < p) (h : b * p + a < 2 ^ 64) : lN (b * p) ||| lN a = lN (b * p + a) := by
  subst hp
  have h1 : b * 2 ^ k ||| a = b * 2 ^ k + a := by rw [← Nat.shiftLeft_eq, Nat.shiftLeft_add_eq_or_of_lt ha]
  have h3 : UInt64.ofNat (b * 2 ^ k) ||| UInt64.ofNat a = UInt64.ofNat (b * 2 ^ k + a) := UInt64.toNat_inj.mp (by rw [UInt64.toNat_or, u_tn (by omega), u_tn (by omega), u_tn h, h1])
  have h2 := congrArg UInt64.toInt64 h3
  exact h2
theorem g_or' {k p a b : Nat} (hp : 2 ^ k = p) (ha : a < p) (h : a + b * p < 2 ^ 64) : lN a ||| lN (b * p) = lN (a + b * p) := by
  rw [Int64.or_comm, g_or hp ha (by omega), Nat.add_comm]
theorem g_ushr {a k p : Nat} {y : UInt64} (hy : y = UInt64.ofNat k) (hk : k < 64) (hp : 2 ^ k = p) (ha : a < 2 ^ 64) : ((lN a).toUInt64 >>> y).toInt64 = lN (a / p) := by
  subst hy hp
  have h : UInt64.ofNat a >>> UInt64.ofNat k = UInt64.ofNat (a / 2 ^ k) := UInt64.toNat_inj.mp (by rw [UInt64.toNat_shiftRight, u_tn ha, u_tn (by omega), u_tn (Nat.lt_of_le_of_lt (Nat.div_le_self _ _) ha), Nat.mod_eq_of_lt hk, Nat.shiftRight_eq_div_pow])
  have h2 := congrArg UInt64.toInt64 h
  exact h2
theorem g_shl {a k p : Nat} {y : Int64} (hy : y.toBitVec.smod 64 = BitVec.ofNat 64 k) (hk : k < 64) (hp : 2 ^ k = p) (ha : a < 2 ^ 64) : lN a <<< y = lN (a * p) := by
  subst hp
  apply Int64.toBitVec_inj.mp
  rw [Int64.toBitVec_shiftLeft, hy]
  apply BitVec.eq_of_toNat_eq
  have hb : (lN a).toBitVec.toNat = a := Nat.mod_eq_of_lt ha
  have hk' : (BitVec.ofNat 64 k).toNat = k := Nat.mod_eq_of_lt (by omega)
  have h : ((lN a).toBitVec <<< BitVec.ofNat 64 k).toNat = (a * 2 ^ k) % 2 ^ 64 := by simp only [BitVec.shiftLeft_eq', BitVec.toNat_shiftLeft, hb, hk', Nat.shiftLeft_eq]
  exact h
/-! ===== lN to 2^62 under >> and >>> ===== -/
theorem pf_lI {a : Nat} (h : a < 2 ^ 63) : (lN a).toInt = (a : Int) := lg_ofNat_toInt h
theorem pf_shr {a d : Nat} {D : Int64} (hD : (D.toBitVec.smod 64).toNat = d) (h : a < 2 ^ 62) : lN a >>> D = lN (a / 2 ^ d) := by
  have hd : a / 2 ^ d ≤ a := Nat.div_le_self _ _
  apply Int64.toInt_inj.mp
  have e : (lN a >>> D).toInt = (lN a).toInt >>> d := by
    rw [← hD]
    exact BitVec.toInt_sshiftRight ..
  rw [e, Int.shiftRight_eq_div_pow, pf_lI (by omega), pf_lI (by omega)]
  rfl
theorem pf_ushr {a d : Nat} {D : UInt64} (hD : D.toNat % 64 = d) (h : a < 2 ^ 62) : ((lN a).toUInt64 >>> D).toInt64 = lN (a / 2 ^ d) := by
  have hd : a / 2 ^ d ≤ a := Nat.div_le_self _ _
  have e : (lN a).toUInt64 >>> D = UInt64.ofNat (a / 2 ^ d) := UInt64.toNat_inj.mp (by
    rw [UInt64.toNat_shiftRight, hD, Nat.shiftRight_eq_div_pow, UInt64.toNat_ofNat']
    show (UInt64.ofNat a).toNat / 2 ^ d = _
    rw [UInt64.toNat_ofNat', Nat.mod_eq_of_lt (by omega), Nat.mod_eq_of_lt (by omega)])
  rw [e]
  rfl
theorem pf_andw (x : Int64) : ∃ m, m < 2 ^ 32 ∧ x &&& 4294967295 = lN m := ⟨x.toBitVec.toNat % 2 ^ 32, Nat.mod_lt _ (by decide), Int64.toBitVec_inj.mp (BitVec.eq_of_toNat_eq (by
  show (x.toBitVec &&& 4294967295#64).toNat = (BitVec.ofNat 64 (x.toBitVec.toNat % 2 ^ 32)).toNat
  rw [BitVec.toNat_and, show (4294967295#64).toNat = 2 ^ 32 - 1 from by decide, Nat.and_two_pow_sub_one_eq_mod, BitVec.toNat_ofNat]
  omega))⟩
/-! ===== Int64 as an unsigned number: uN x ===== -/
def uN (x : Int64) : Nat := x.toUInt64.toNat
theorem uN_lt (x : Int64) : uN x < 18446744073709551616 := x.toUInt64.toNat_lt
theorem uN_inj {x y : Int64} (h : uN x = uN y) : x = y := congrArg UInt64.toInt64 (UInt64.toNat_inj.mp h)
theorem uN_add (x y : Int64) : uN (x + y) = (uN x + uN y) % 18446744073709551616 := by
  show (x.toUInt64 + y.toUInt64).toNat = _
  exact UInt64.toNat_add _ _
theorem uN_mul (x y : Int64) : uN (x * y) = (uN x * uN y) % 18446744073709551616 := by
  show (x.toUInt64 * y.toUInt64).toNat = _
  exact UInt64.toNat_mul _ _
theorem uN_shl (x : Int64) : uN (x <<< ((1 : Int32).toInt64 &&& 63)) = (2 * uN x) % 18446744073709551616 := by
  have h : (((1 : Int32).toInt64 &&& 63).toBitVec.smod 64).toNat = 1 := by decide
  show (x.toBitVec <<< (((1 : Int32).toInt64 &&& 63).toBitVec.smod 64).toNat).toNat = _
  rw [h, BitVec.toNat_shiftLeft, Nat.shiftLeft_eq, Nat.mul_comm]
  rfl
theorem uN_shr (x : Int64) (s : UInt64) : uN (x.toUInt64 >>> s).toInt64 = uN x / 2 ^ (s.toNat % 64) := by
  show (x.toUInt64 >>> s).toNat = _
  rw [UInt64.toNat_shiftRight, Nat.shiftRight_eq_div_pow]
  rfl
theorem uN_s32 (x : Int64) : uN (x.toUInt64 >>> ((32 : Int32).toInt64.toUInt64 &&& Int64.toUInt64 63)).toInt64 = uN x / 4294967296 := by
  have h : ((32 : Int32).toInt64.toUInt64 &&& Int64.toUInt64 63).toNat % 64 = 32 := by decide
  rw [uN_shr, h]
theorem uN_s63 (x : Int64) : uN (x.toUInt64 >>> ((63 : Int32).toInt64.toUInt64 &&& Int64.toUInt64 63)).toInt64 = uN x / 9223372036854775808 := by
  have h : ((63 : Int32).toInt64.toUInt64 &&& Int64.toUInt64 63).toNat % 64 = 63 := by decide
  rw [uN_shr, h]
theorem uN_lo (x : Int64) : uN (x &&& 4294967295) = uN x % 4294967296 := by
  show (x.toUInt64 &&& Int64.toUInt64 4294967295).toNat = _
  rw [UInt64.toNat_and]
  exact Nat.and_two_pow_sub_one_eq_mod _ 32
theorem uN_bit (x : Int64) : (x &&& 1) = 0 ↔ uN x % 2 = 0 := by
  have h : uN (x &&& 1) = uN x % 2 := by
    show (x.toUInt64 &&& Int64.toUInt64 1).toNat = _
    rw [UInt64.toNat_and]
    exact Nat.and_two_pow_sub_one_eq_mod _ 1
  rw [← h]
  exact ⟨fun z => by rw [z]; rfl, fun z => uN_inj (z.trans rfl)⟩
theorem uN_or {x y : Int64} (hy : uN y < 2) : uN ((x <<< ((1 : Int32).toInt64 &&& 63)) ||| y) = (2 * uN x) % 18446744073709551616 + uN y := by
  have h1 : uN ((x <<< ((1 : Int32).toInt64 &&& 63)) ||| y) = uN (x <<< ((1 : Int32).toInt64 &&& 63)) ||| uN y := UInt64.toNat_or _ _
  have h2 : (2 * uN x) % 18446744073709551616 = 2 ^ 1 * (uN x % 9223372036854775808) := by omega
  rw [h1, uN_shl, h2]
  exact (Nat.two_pow_add_eq_or_of_lt (i := 1) hy _).symm
theorem nat_xor {a : Nat} (h : a < 18446744073709551616) : a ^^^ 2 ^ 63 = (a + 9223372036854775808) % 18446744073709551616 := by
  have h1 : (a ^^^ 2 ^ 63) % 2 ^ 63 = a % 2 ^ 63 := by rw [Nat.xor_mod_two_pow, Nat.mod_self, Nat.xor_zero]
  have h2 : (a ^^^ 2 ^ 63) / 2 ^ 63 = (a / 2 ^ 63) ^^^ 1 := by rw [Nat.xor_div_two_pow, Nat.div_self (Nat.two_pow_pos 63)]
  have h3 : a / 2 ^ 63 = 0 ∨ a / 2 ^ 63 = 1 := by omega
  generalize a ^^^ 2 ^ 63 = t at h1 h2
  rcases h3 with h3 | h3
  · rw [h3] at h2
    have h2 : t / 2 ^ 63 = 1 := h2
    omega
  · rw [h3] at h2
    have h2 : t / 2 ^ 63 = 0 := h2
    omega
theorem uN_xor (x : Int64) : uN (x ^^^ (-9223372036854775808)) = (uN x + 9223372036854775808) % 18446744073709551616 := by
  rw [← nat_xor (uN_lt x)]
  exact UInt64.toNat_xor _ _
theorem uN_int (x : Int64) : x.toInt = if 2 * uN x < 18446744073709551616 then (uN x : Int) else (uN x : Int) - 18446744073709551616 := BitVec.toInt_eq_toNat_cond _
theorem uN_le (x y : Int64) : (x ^^^ (-9223372036854775808)) ≤ (y ^^^ (-9223372036854775808)) ↔ uN x ≤ uN y := by
  have hx := uN_lt x
  have hy := uN_lt y
  rw [Int64.le_iff_toInt_le, uN_int, uN_int, uN_xor, uN_xor]
  omega
theorem uN_sk (x : Int64) {k : Nat} (hk : k < 64) : uN (x.toUInt64 >>> ((nI k).toInt64.toUInt64 &&& Int64.toUInt64 63)).toInt64 = uN x / 2 ^ k := by
  have h : ((nI k).toInt64.toUInt64 &&& Int64.toUInt64 63).toNat % 64 = k := by
    rw [nI_l (by omega), UInt64.toNat_and]
    have e : (lN k).toUInt64.toNat = k % 2 ^ 64 := rfl
    have e2 : (Int64.toUInt64 63).toNat = 2 ^ 6 - 1 := by decide
    rw [e, e2, Nat.and_two_pow_sub_one_eq_mod]
    omega
  rw [uN_shr, h]
/-! ===== unsigned comparison by xor with the least ===== -/
theorem lN_bv (n : Nat) : (lN n).toBitVec = BitVec.ofNat 64 n := rfl
theorem lN_nat {n : Nat} (h : n < 2 ^ 64) : (lN n).toBitVec.toNat = n := by rw [lN_bv, BitVec.toNat_ofNat]; exact Nat.mod_eq_of_lt h
theorem lN_xor (a b : Nat) : lN a ^^^ lN b = lN (a ^^^ b) := by
  apply Int64.toBitVec_inj.mp; rw [Int64.toBitVec_xor, lN_bv, lN_bv, lN_bv]; apply BitVec.eq_of_getLsbD_eq; intro i hi; simp [BitVec.getLsbD_ofNat, Nat.testBit_xor, hi]
theorem lN_ti {m : Nat} (h : m < 2 ^ 64) : (lN m).toInt = if m < 2 ^ 63 then (m : Int) else (m : Int) - 2 ^ 64 := by
  have c := BitVec.toInt_eq_toNat_cond (lN m).toBitVec
  rw [lN_nat h] at c
  show (lN m).toBitVec.toInt = _
  rw [c]
  split <;> split <;> omega
theorem xor63 {x : Nat} (h : x < 2 ^ 63) : x ^^^ 2 ^ 63 = 2 ^ 63 + x := by
  apply Nat.eq_of_testBit_eq
  intro i
  rw [Nat.testBit_xor, Nat.testBit_two_pow]
  rcases Nat.lt_trichotomy i 63 with z | z | z
  · rw [Nat.testBit_two_pow_add_gt z, decide_eq_false (by omega)]; simp
  · subst z; rw [Nat.testBit_two_pow_add_eq]; simp
  · have hp : 2 ^ 64 ≤ 2 ^ i := Nat.pow_le_pow_right (by decide) z
    rw [Nat.testBit_lt_two_pow (show x < 2 ^ i by omega), Nat.testBit_lt_two_pow (show 2 ^ 63 + x < 2 ^ i by omega), decide_eq_false (by omega)]; rfl
theorem xorS {a : Nat} (h : a < 2 ^ 64) : (lN a ^^^ (-9223372036854775808)).toInt = (a : Int) - 2 ^ 63 := by
  rw [show (-9223372036854775808 : Int64) = lN (2 ^ 63) from by decide +kernel, lN_xor]
  rcases Nat.lt_or_ge a (2 ^ 63) with z | z
  · rw [xor63 z, lN_ti (by omega), if_neg (by omega)]; omega
  · obtain ⟨x, rfl⟩ : ∃ x, a = 2 ^ 63 + x := ⟨a - 2 ^ 63, by omega⟩
    rw [← xor63 (by omega), Nat.xor_assoc, Nat.xor_self, Nat.xor_zero, lN_ti (by omega), if_pos (by omega), xor63 (by omega)]; omega
theorem ultL {a b : Nat} (ha : a < 2 ^ 64) (hb : b < 2 ^ 64) : ((lN b ^^^ (-9223372036854775808)) ≤ (lN a ^^^ (-9223372036854775808))) ↔ b ≤ a := by
  rw [Int64.le_iff_toInt_le, xorS ha, xorS hb]; omega
/-! ===== Int64 masks of n low bits ===== -/
theorem cr_bits (W U M : BitVec 64) : ((W &&& U) &&& (U &&& (M ^^^ BitVec.allOnes 64))) = 0#64 ↔ (W &&& U) &&& M = W &&& U := by
  constructor
  · intro h
    apply BitVec.eq_of_getLsbD_eq
    intro i hi
    have e := congrArg (fun x => BitVec.getLsbD x i) h
    simp only [BitVec.getLsbD_and, BitVec.getLsbD_xor, BitVec.getLsbD_allOnes, BitVec.getLsbD_zero, hi, decide_true] at e ⊢
    revert e
    cases W.getLsbD i <;> cases U.getLsbD i <;> cases M.getLsbD i <;> decide
  · intro h
    apply BitVec.eq_of_getLsbD_eq
    intro i hi
    have e := congrArg (fun x => BitVec.getLsbD x i) h
    simp only [BitVec.getLsbD_and, BitVec.getLsbD_xor, BitVec.getLsbD_allOnes, BitVec.getLsbD_zero, hi, decide_true] at e ⊢
    revert e
    cases W.getLsbD i <;> cases U.getLsbD i <;> cases M.getLsbD i <;> decide
theorem cr_mask (w U m : Int64) (n : Nat) (hm : m.toBitVec.toNat = 2 ^ n - 1) : ((w &&& U) &&& (U &&& (m ^^^ (-1)))) = 0 ↔ (w &&& U).toBitVec.toNat < 2 ^ n := by
  have e0 : (-1 : Int64).toBitVec = BitVec.allOnes 64 := by decide
  have z0 : (0 : Int64).toBitVec = 0#64 := by decide
  rw [← Int64.toBitVec_inj, z0, Int64.toBitVec_and, Int64.toBitVec_and, Int64.toBitVec_and, Int64.toBitVec_xor, e0, cr_bits]
  generalize w.toBitVec &&& U.toBitVec = T
  rw [← BitVec.toNat_inj, BitVec.toNat_and, hm, Nat.and_two_pow_sub_one_eq_mod]
  constructor
  · intro h
    have t := Nat.mod_lt T.toNat (Nat.two_pow_pos n)
    rw [h] at t
    exact t
  · exact Nat.mod_eq_of_lt
theorem cr_shr (t : Int64) (x : UInt64) (n : Nat) (hx : x.toNat % 64 = n) : (t.toUInt64 >>> x).toInt64 = 0 ↔ t.toBitVec.toNat < 2 ^ n := by
  rw [← Int64.toBitVec_inj, ← BitVec.toNat_inj]
  show (t.toUInt64 >>> x).toNat = 0 ↔ t.toUInt64.toNat < 2 ^ n
  rw [UInt64.toNat_shiftRight, hx, Nat.shiftRight_eq_div_pow]
  constructor
  · intro h
    have d : t.toUInt64.toNat / 2 ^ n < 1 := by
      rw [h]
      decide
    have e := (Nat.div_lt_iff_lt_mul (Nat.two_pow_pos n)).mp d
    rw [Nat.one_mul] at e
    exact e
  · exact Nat.div_eq_of_lt
theorem cr_amt (s : Int64) : ∃ n, n < 64 ∧ s &&& 63 = lN n ∧ (s.toUInt64 &&& Int64.toUInt64 63).toNat % 64 = n := by
  have e : (s.toUInt64 &&& Int64.toUInt64 63).toNat = s.toUInt64.toNat % 2 ^ 6 := by
    rw [UInt64.toNat_and, show (Int64.toUInt64 63).toNat = 2 ^ 6 - 1 from by decide, Nat.and_two_pow_sub_one_eq_mod]
  refine ⟨s.toUInt64.toNat % 2 ^ 6, by omega, ?_, by omega⟩
  rw [← Int64.toBitVec_inj, ← BitVec.toNat_inj]
  show (s.toUInt64 &&& Int64.toUInt64 63).toNat = (BitVec.ofNat 64 (s.toUInt64.toNat % 2 ^ 6)).toNat
  rw [e, BitVec.toNat_ofNat]
  omega
end
section
/-! ===== rows of bits, half written rows, low bits, carries ===== -/
def bb_i (b : Bool) : Int32 := if b then 1 else 0
theorem bb_i_0 {b : Bool} : bb_i b = 0 ↔ b = false := by cases b <;> decide
theorem bb_i_inj {b c : Bool} : bb_i b = bb_i c ↔ b = c := by cases b <;> cases c <;> decide
theorem bb_i_n (b : Bool) : vp_nar .boolean (bb_i b) = bb_i b := by cases b <;> rfl
theorem bb_i_x (b c : Bool) : bb_i b ^^^ bb_i c = bb_i (b ^^ c) := by cases b <;> cases c <;> decide
theorem bb_i_a (b c : Bool) : bb_i b &&& bb_i c = bb_i (b && c) := by cases b <;> cases c <;> decide
theorem bb_i_o (b c : Bool) : bb_i b ||| bb_i c = bb_i (b || c) := by cases b <;> cases c <;> decide
theorem bb_n0 : vp_nar .boolean 0 = bb_i false := rfl
theorem bb_n1 : vp_nar .boolean 1 = bb_i true := rfl
def bb_Row (a : Nat → Int32) (b : Nat) (V : BitVec 64) : Prop := ∀ i, i < 64 → a (b + i) = bb_i (V.getLsbD i)
def bb_Off (a a' : Nat → Int32) (r : Nat) : Prop := ∀ j, (j < r ∨ r + 64 ≤ j) → a' j = a j
def bb_put (a : Nat → Int32) (r i : Nat) (F : Nat → Int32) : Nat → Int32 := fun j => if r ≤ j ∧ j < r + i then F (j - r) else a j
theorem bb_put_in {a F : Nat → Int32} {r i j : Nat} (h : j < i) : bb_put a r i F (r + j) = F j := by
  unfold bb_put
  rw [if_pos (by omega), Nat.add_sub_cancel_left]
theorem bb_put_out {a F : Nat → Int32} {r i j : Nat} (h : j < r ∨ r + i ≤ j) : bb_put a r i F j = a j := if_neg (by omega)
theorem bb_put_0 (a F : Nat → Int32) (r : Nat) : bb_put a r 0 F = a := funext fun j => bb_put_out (by omega)
theorem bb_put_s {a F : Nat → Int32} {r i c : Nat} {v : Int32} (hc : c = r + i) (hv : v = F i) : upd (bb_put a r i F) c v = bb_put a r (i + 1) F := by
  funext j
  subst hc hv
  by_cases h : j = r + i
  · subst h
    rw [bb_put_in (Nat.lt_succ_self i)]
    exact if_pos rfl
  · have e : upd (bb_put a r i F) (r + i) (F i) j = bb_put a r i F j := if_neg h
    rw [e]
    unfold bb_put
    by_cases h2 : r ≤ j ∧ j < r + i
    · rw [if_pos h2, if_pos (by omega)]
    · rw [if_neg h2, if_neg (by omega)]
theorem bb_Off_rf (a : Nat → Int32) (r : Nat) : bb_Off a a r := fun _ _ => rfl
theorem bb_Off_tr {a b c : Nat → Int32} {r : Nat} (h : bb_Off a b r) (h2 : bb_Off b c r) : bb_Off a c r := fun j hj => (h2 j hj).trans (h j hj)
theorem bb_Off_put {a F : Nat → Int32} {r f i : Nat} (h : f + i ≤ 64) : bb_Off a (bb_put a (r + f) i F) r := fun j hj => bb_put_out (by omega)
theorem bb_Row_off {a a' : Nat → Int32} {r x : Nat} {A : BitVec 64} (h : bb_Off a a' r) (hx : x + 64 ≤ r ∨ r + 64 ≤ x) (R : bb_Row a x A) : bb_Row a' x A := fun i hi => (h _ (by omega)).trans (R i hi)
theorem bb_ex : ∀ (n : Nat) (f : Nat → Bool), ∃ V : BitVec n, ∀ i, i < n → V.getLsbD i = f i := by
  intro n f
  induction n with
  | zero => exact ⟨0#0, fun i hi => absurd hi (Nat.not_lt_zero i)⟩
  | succ n ih =>
    obtain ⟨V, hV⟩ := ih
    refine ⟨BitVec.cons (f n) V, fun i hi => ?_⟩
    rw [BitVec.getLsbD_cons]
    by_cases h : i = n
    · rw [if_pos h, h]
    · rw [if_neg h]
      exact hV i (by omega)
/-- the low w bits agree -/
def bb_lo (w : Nat) (A B : BitVec 64) : Prop := ∀ j, j < w → A.getLsbD j = B.getLsbD j
theorem bb_lo_sw {w : Nat} {A B : BitVec 64} (h : bb_lo w A B) : A.setWidth w = B.setWidth w := BitVec.eq_of_getLsbD_eq (fun i hi => by rw [BitVec.getLsbD_setWidth, BitVec.getLsbD_setWidth, h i hi])
theorem bb_sw_lo {w : Nat} {A B : BitVec 64} (h : A.setWidth w = B.setWidth w) : bb_lo w A B := fun j hj => by
  have e := congrArg (fun x => BitVec.getLsbD x j) h
  simp only [BitVec.getLsbD_setWidth, hj, decide_true, Bool.true_and] at e
  exact e
theorem bb_lo_add {w : Nat} {A B : BitVec 64} (hw : w ≤ 64) (h : bb_lo w A B) (Z : BitVec 64) : bb_lo w (A + Z) (B + Z) := bb_sw_lo (by rw [BitVec.setWidth_add _ _ hw, BitVec.setWidth_add _ _ hw, bb_lo_sw h])
theorem bb_lo_tr {w : Nat} {A B C : BitVec 64} (h : bb_lo w A B) (h2 : bb_lo w B C) : bb_lo w A C := fun j hj => (h j hj).trans (h2 j hj)
theorem bb_lo_64 {A B : BitVec 64} (h : bb_lo 64 A B) : A = B := BitVec.eq_of_getLsbD_eq h
/-- the carry into place i -/
def bb_cy (p q : Nat → Bool) (m : Bool) : Nat → Bool
  | 0 => m
  | i + 1 => (p i && q i) || (bb_cy p q m i && (p i ^^ q i))
theorem bb_alt (p q c : Bool) : ((p && q) || (c && (p ^^ q))) = Bool.atLeastTwo p q c := by cases p <;> cases q <;> cases c <;> rfl
theorem bb_shl_lo (Y : BitVec 64) {f j : Nat} (h : j < f) : (Y <<< f).getLsbD j = false := by
  rw [BitVec.getLsbD_shiftLeft, decide_eq_true h]
  simp
theorem bb_shl_hi (Y : BitVec 64) {f i : Nat} (h : f + i < 64) : (Y <<< f).getLsbD (f + i) = Y.getLsbD i := by
  rw [BitVec.getLsbD_shiftLeft, decide_eq_true h, decide_eq_false (by omega), Nat.add_sub_cancel_left]
  simp
theorem bb_c0 (R Y : BitVec 64) (f : Nat) : ∀ j, j ≤ f → BitVec.carry j R (Y <<< f) false = false := by
  intro j
  induction j with
  | zero => intro _; exact BitVec.carry_zero
  | succ j ih =>
    intro h
    rw [BitVec.carry_succ, ih (by omega), bb_shl_lo Y (by omega)]
    simp
theorem bb_cyA (R Y : BitVec 64) (f : Nat) : ∀ i, f + i ≤ 64 → bb_cy (fun i => R.getLsbD (f + i)) (fun i => (Y.getLsbD i ^^ false)) false i = BitVec.carry (f + i) R (Y <<< f) false := by
  intro i
  induction i with
  | zero => intro _; exact (bb_c0 R Y f f (Nat.le_refl f)).symm
  | succ i ih =>
    intro h
    have e := ih (by omega)
    show ((R.getLsbD (f + i) && (Y.getLsbD i ^^ false)) || (bb_cy (fun i => R.getLsbD (f + i)) (fun i => (Y.getLsbD i ^^ false)) false i && (R.getLsbD (f + i) ^^ (Y.getLsbD i ^^ false)))) = BitVec.carry (f + i + 1) R (Y <<< f) false
    rw [e, bb_alt, BitVec.carry_succ, bb_shl_hi Y (by omega), Bool.xor_false]
theorem bb_cyS (R Y : BitVec 64) : ∀ i, i ≤ 64 → bb_cy (fun i => R.getLsbD (0 + i)) (fun i => (Y.getLsbD i ^^ true)) true i = BitVec.carry i R (~~~Y) true := by
  intro i
  induction i with
  | zero => intro _; exact BitVec.carry_zero.symm
  | succ i ih =>
    intro h
    have e := ih (by omega)
    have e2 : (~~~Y).getLsbD i = (Y.getLsbD i ^^ true) := by
      rw [BitVec.getLsbD_not, decide_eq_true (show i < 64 by omega), Bool.true_and, Bool.xor_true]
    show ((R.getLsbD (0 + i) && (Y.getLsbD i ^^ true)) || (bb_cy (fun i => R.getLsbD (0 + i)) (fun i => (Y.getLsbD i ^^ true)) true i && (R.getLsbD (0 + i) ^^ (Y.getLsbD i ^^ true)))) = BitVec.carry (i + 1) R (~~~Y) true
    rw [e, bb_alt, BitVec.carry_succ, e2, Nat.zero_add]
theorem bb_accA (R Y : BitVec 64) {f i : Nat} (h : f + i < 64) : (R.getLsbD (f + i) ^^ ((Y.getLsbD i ^^ false) ^^ bb_cy (fun i => R.getLsbD (f + i)) (fun i => (Y.getLsbD i ^^ false)) false i)) = (R + Y <<< f).getLsbD (f + i) := by
  rw [BitVec.getLsbD_add h, bb_cyA R Y f i (by omega), bb_shl_hi Y h, Bool.xor_false]
theorem bb_accL (R Y : BitVec 64) {f j : Nat} (h : j < f) (hj : j < 64) : (R + Y <<< f).getLsbD j = R.getLsbD j := by
  rw [BitVec.getLsbD_add hj, bb_c0 R Y f j (by omega), bb_shl_lo Y h, Bool.xor_false, Bool.xor_false]
theorem bb_accS (R Y : BitVec 64) {i : Nat} (h : i < 64) : (R.getLsbD (0 + i) ^^ ((Y.getLsbD i ^^ true) ^^ bb_cy (fun i => R.getLsbD (0 + i)) (fun i => (Y.getLsbD i ^^ true)) true i)) = (R - Y).getLsbD (0 + i) := by
  have e2 : (~~~Y).getLsbD i = (Y.getLsbD i ^^ true) := by
    rw [BitVec.getLsbD_not, decide_eq_true h, Bool.true_and, Bool.xor_true]
  have e : R - Y = R + ~~~Y + BitVec.setWidth 64 (BitVec.ofBool true) := by
    rw [BitVec.sub_eq_add_neg, BitVec.neg_eq_not_add, BitVec.add_assoc]
    rfl
  rw [Nat.zero_add, e, BitVec.getLsbD_add_add_bool h, bb_cyS R Y i (by omega), e2]
theorem bb_in {a b : Nat} (h : a + b < 768) : vp_in (nI a + nI b) 768 := by
  rw [nI_add]
  exact vp_in_nI h (by omega)
theorem bb_cl {a b : Nat} (h : a + b < 768) : (nI a + nI b).toNatClampNeg = a + b := by rw [nI_add, nI_clamp (by omega)]
end
section
/-! ===== the reference's ext and acc ===== -/
section
variable {post : SY → Prop} {lim fn : Int32} {ep : Int64} {op lh rh wi : Nat → Int32} {gi : Nat → Int64} {a : Nat → Int32}
theorem bb_ext_w {r x k : Nat} {sg : Bool} {V : BitVec 64} {F : Nat → Int32} (hr : r + 64 ≤ 768) (hx : x + 64 ≤ 768) (hk : k + 1 ≤ 64) (hd : r = x ∨ x + 64 ≤ r ∨ r + 64 ≤ x) (hV : bb_Row a x V)
    (hF : ∀ i, F i = bb_i (if i < k + 1 then V.getLsbD i else (sg && V.getLsbD k)))
    (K : post (lim, fn, ep, op, lh, rh, wi, gi, bb_put a r 64 F)) : wpY_ext post (lim, fn, ep, op, lh, rh, wi, gi, a) (nI r) (nI x) (nI (k + 1)) (bb_i sg) := by
  refine loop_0 (σ := Nat → Int32) (fun n i s => wY_ext_3 post (nI r) (nI x) (nI (k + 1)) (bb_i sg) lim fn ep n (nI i) op lh rh wi gi s) (fun i s => s = bb_put a r i F) 64 a ?_ ?_ ?_
  · exact (bb_put_0 a F r).symm
  · intro n s hs
    subst hs
    exact br_t (nI_le (a := 64) (b := 64) (Nat.le_refl 64) (by decide)) K
  · intro n i s hi hs ih
    subst hs
    have h64 : ¬ (64 : Int32) ≤ nI i := nI_ge (b := 64) hi (by decide)
    have iR : vp_in (nI r + nI i) 768 := bb_in (by omega)
    have cR : (nI r + nI i).toNatClampNeg = r + i := bb_cl (by omega)
    by_cases h1 : i < k + 1
    · have cX : (nI x + nI i).toNatClampNeg = x + i := bb_cl (by omega)
      have E : upd (bb_put a r i F) (nI r + nI i).toNatClampNeg (vp_nar .boolean (bb_put a r i F (nI x + nI i).toNatClampNeg)) = bb_put a r (i + 1) F := by
        rw [cX, bb_put_out (by omega), hV i hi, bb_i_n]
        exact bb_put_s cR (by rw [hF, if_pos h1])
      exact br_f h64 (br_f (nI_ge h1 (by omega)) ⟨bb_in (by omega), iR, nm_r E (nm_r (nI_1 i) (ih _ rfl))⟩)
    · have hle : nI (k + 1) ≤ nI i := nI_le (by omega) (by omega)
      cases sg with
      | false =>
        have E : upd (bb_put a r i F) (nI r + nI i).toNatClampNeg (vp_nar .boolean 0) = bb_put a r (i + 1) F := bb_put_s cR (by rw [hF, if_neg h1]; rfl)
        exact br_f h64 (br_t hle (br_t rfl ⟨iR, nm_r E (nm_r (nI_1 i) (ih _ rfl))⟩))
      | true =>
        have e1 : nI x + nI (k + 1) - 1 = nI (x + k) := by rw [nI_add, ← Nat.add_assoc, nI_pred]
        have iK : vp_in (nI x + nI (k + 1) - 1) 768 := by rw [e1]; exact vp_in_nI (by omega) (by omega)
        have cK : (nI x + nI (k + 1) - 1).toNatClampNeg = x + k := by rw [e1]; exact nI_clamp (by omega)
        have vK : bb_put a r i F (nI x + nI (k + 1) - 1).toNatClampNeg = bb_i (V.getLsbD k) := by
          rw [cK]
          by_cases hrx : r = x
          · subst hrx
            rw [bb_put_in (by omega), hF, if_pos (by omega)]
          · rw [bb_put_out (by omega), hV k (by omega)]
        cases hb : V.getLsbD k with
        | false =>
          have E : upd (bb_put a r i F) (nI r + nI i).toNatClampNeg (vp_nar .boolean 0) = bb_put a r (i + 1) F := bb_put_s cR (by rw [hF, if_neg h1, hb]; rfl)
          have z : bb_put a r i F (nI x + nI (k + 1) - 1).toNatClampNeg = 0 := by rw [vK, hb]; rfl
          exact br_f h64 (br_t hle (br_f (by decide) ⟨iK, br_t z ⟨iR, nm_r E (nm_r (nI_1 i) (ih _ rfl))⟩⟩))
        | true =>
          have E : upd (bb_put a r i F) (nI r + nI i).toNatClampNeg (vp_nar .boolean 1) = bb_put a r (i + 1) F := bb_put_s cR (by rw [hF, if_neg h1, hb]; rfl)
          have z : ¬ bb_put a r i F (nI x + nI (k + 1) - 1).toNatClampNeg = 0 := by rw [vK, hb]; decide
          exact br_f h64 (br_t hle (br_f (by decide) ⟨iK, br_f z ⟨iR, nm_r E (nm_r (nI_1 i) (ih _ rfl))⟩⟩))
theorem bb_ext {r x k : Nat} {sg : Bool} {V : BitVec 64} (V' : BitVec 64) (hr : r + 64 ≤ 768) (hx : x + 64 ≤ 768) (hk : k + 1 ≤ 64) (hd : r = x ∨ x + 64 ≤ r ∨ r + 64 ≤ x) (hV : bb_Row a x V)
    (hV' : ∀ i, i < 64 → V'.getLsbD i = if i < k + 1 then V.getLsbD i else (sg && V.getLsbD k))
    (K : ∀ a', bb_Off a a' r → bb_Row a' r V' → post (lim, fn, ep, op, lh, rh, wi, gi, a')) : wpY_ext post (lim, fn, ep, op, lh, rh, wi, gi, a) (nI r) (nI x) (nI (k + 1)) (bb_i sg) :=
  bb_ext_w (F := fun i => bb_i (if i < k + 1 then V.getLsbD i else (sg && V.getLsbD k))) hr hx hk hd hV (fun _ => rfl)
    (K _ (bb_Off_put (f := 0) (by omega)) (fun i hi => by rw [bb_put_in hi, hV' i hi]))
theorem bb_acc_w {r y f w : Nat} {m : Bool} {P Q : Nat → Bool} {F : Nat → Int32} (hr : r + 64 ≤ 768) (hy : y + 64 ≤ 768) (hd : y + 64 ≤ r ∨ r + 64 ≤ y) (hf : f ≤ w) (hw : w ≤ 64)
    (hP : ∀ i, f + i < w → a (r + f + i) = bb_i (P i)) (hQ : ∀ i, f + i < w → a (y + i) ^^^ bb_i m = bb_i (Q i))
    (hF : ∀ i, F i = bb_i (P i ^^ (Q i ^^ bb_cy P Q m i)))
    (K : post (lim, fn, ep, op, lh, rh, wi, gi, bb_put a (r + f) (w - f) F)) : wpY_acc post (lim, fn, ep, op, lh, rh, wi, gi, a) (nI r) (nI y) (nI f) (nI w) (bb_i m) := by
  refine loop_0 (σ := Int32 × (Nat → Int32)) (fun n i s => wY_acc_7 post (nI r) (nI y) (nI f) (nI w) (bb_i m) lim fn ep n s.1 (nI (f + i)) op lh rh wi gi s.2) (fun i s => s = (bb_i (bb_cy P Q m i), bb_put a (r + f) i F)) (w - f) (bb_i m, a) ?_ ?_ ?_
  · show (bb_i m, a) = (bb_i m, bb_put a (r + f) 0 F)
    rw [bb_put_0]
  · intro n s hs
    subst hs
    exact br_t (nI_le (by omega) (by omega)) K
  · intro n i s hi hs ih
    subst hs
    have e1 : nI r + nI (f + i) = nI (r + f + i) := by rw [nI_add, Nat.add_assoc]
    have iR : vp_in (nI r + nI (f + i)) 768 := bb_in (by omega)
    have cR : (nI r + nI (f + i)).toNatClampNeg = r + f + i := by rw [e1]; exact nI_clamp (by omega)
    have e2 : nI y + nI (f + i) - nI f = nI (y + i) := by
      rw [nI_add, pk_sub (by omega)]
      exact congrArg nI (by omega)
    have iY : vp_in (nI y + nI (f + i) - nI f) 768 := by rw [e2]; exact vp_in_nI (by omega) (by omega)
    have cY : (nI y + nI (f + i) - nI f).toNatClampNeg = y + i := by rw [e2]; exact nI_clamp (by omega)
    have vP : bb_put a (r + f) i F (nI r + nI (f + i)).toNatClampNeg = bb_i (P i) := by
      rw [cR, bb_put_out (by omega)]
      exact hP i (by omega)
    have vQ : bb_put a (r + f) i F (nI y + nI (f + i) - nI f).toNatClampNeg ^^^ bb_i m = bb_i (Q i) := by
      rw [cY, bb_put_out (by omega)]
      exact hQ i (by omega)
    have E : upd (bb_put a (r + f) i F) (nI r + nI (f + i)).toNatClampNeg (vp_nar .boolean (bb_put a (r + f) i F (nI r + nI (f + i)).toNatClampNeg ^^^ (bb_i (Q i) ^^^ bb_i (bb_cy P Q m i)))) = bb_put a (r + f) (i + 1) F := by
      rw [vP, bb_i_x, bb_i_x, bb_i_n]
      exact bb_put_s cR (hF i).symm
    have C : (bb_i (P i) &&& bb_i (Q i)) ||| (bb_i (bb_cy P Q m i) &&& (bb_i (P i) ^^^ bb_i (Q i))) = bb_i (bb_cy P Q m (i + 1)) := by
      rw [bb_i_x, bb_i_a, bb_i_a, bb_i_o]
      rfl
    exact br_f (nI_ge (by omega) (by omega)) ⟨iR, nm_r vP ⟨iY, nm_r vQ ⟨iR, iR, nm_r E (nm_r C (nm_r (nI_1 (f + i)) (ih _ rfl)))⟩⟩⟩
/-- r += y << f on bits f .. w - 1 -/
theorem bb_acc_add {r y f w : Nat} {R Y : BitVec 64} (hr : r + 64 ≤ 768) (hy : y + 64 ≤ 768) (hd : y + 64 ≤ r ∨ r + 64 ≤ y) (hf : f ≤ w) (hw : w ≤ 64) (hR : bb_Row a r R) (hY : bb_Row a y Y)
    (K : ∀ a' R', bb_Off a a' r → bb_Row a' r R' → bb_lo w R' (R + Y <<< f) → post (lim, fn, ep, op, lh, rh, wi, gi, a')) : wpY_acc post (lim, fn, ep, op, lh, rh, wi, gi, a) (nI r) (nI y) (nI f) (nI w) (bb_i false) := by
  obtain ⟨R', hR'⟩ := bb_ex 64 (fun j => if f ≤ j ∧ j < w then (R + Y <<< f).getLsbD j else R.getLsbD j)
  refine bb_acc_w (P := fun i => R.getLsbD (f + i)) (Q := fun i => (Y.getLsbD i ^^ false)) (F := fun i => bb_i (R.getLsbD (f + i) ^^ ((Y.getLsbD i ^^ false) ^^ bb_cy (fun i => R.getLsbD (f + i)) (fun i => (Y.getLsbD i ^^ false)) false i))) hr hy hd hf hw ?_ ?_ (fun _ => rfl) (K _ R' (bb_Off_put (by omega)) ?_ ?_)
  · intro i hi
    rw [Nat.add_assoc]
    exact hR _ (by omega)
  · intro i hi
    rw [hY i (by omega), bb_i_x]
  · intro i hi
    rw [hR' i hi]
    by_cases h : f ≤ i ∧ i < w
    · obtain ⟨j, rfl⟩ : ∃ j, i = f + j := ⟨i - f, by omega⟩
      rw [if_pos h, ← Nat.add_assoc, bb_put_in (by omega), bb_accA R Y hi]
    · rw [if_neg h, bb_put_out (by omega), hR i hi]
  · intro j hj
    rw [hR' j (by omega)]
    by_cases h : f ≤ j ∧ j < w
    · rw [if_pos h]
    · rw [if_neg h, bb_accL R Y (by omega) (by omega)]
/-- r -= y on bits 0 .. w - 1 -/
theorem bb_acc_sub {r y w : Nat} {R Y : BitVec 64} (hr : r + 64 ≤ 768) (hy : y + 64 ≤ 768) (hd : y + 64 ≤ r ∨ r + 64 ≤ y) (hw : w ≤ 64) (hR : bb_Row a r R) (hY : bb_Row a y Y)
    (K : ∀ a' R', bb_Off a a' r → bb_Row a' r R' → bb_lo w R' (R - Y) → post (lim, fn, ep, op, lh, rh, wi, gi, a')) : wpY_acc post (lim, fn, ep, op, lh, rh, wi, gi, a) (nI r) (nI y) (nI 0) (nI w) (bb_i true) := by
  obtain ⟨R', hR'⟩ := bb_ex 64 (fun j => if j < w then (R - Y).getLsbD j else R.getLsbD j)
  refine bb_acc_w (P := fun i => R.getLsbD (0 + i)) (Q := fun i => (Y.getLsbD i ^^ true)) (F := fun i => bb_i (R.getLsbD (0 + i) ^^ ((Y.getLsbD i ^^ true) ^^ bb_cy (fun i => R.getLsbD (0 + i)) (fun i => (Y.getLsbD i ^^ true)) true i))) hr hy hd (Nat.zero_le w) hw ?_ ?_ (fun _ => rfl) (K _ R' (bb_Off_put (by omega)) ?_ ?_)
  · intro i hi
    rw [Nat.add_assoc]
    exact hR _ (by omega)
  · intro i hi
    rw [hY i (by omega), bb_i_x]
  · intro i hi
    rw [hR' i hi]
    by_cases h : i < w
    · rw [if_pos h, Nat.add_zero, bb_put_in (by omega), bb_accS R Y hi, Nat.zero_add]
    · rw [if_neg h, bb_put_out (by omega), hR i hi]
  · intro j hj
    rw [hR' j (by omega), if_pos hj]
end
end
section
/-! ===== the reference's step, family by family, down to its join 662 (sign extension and packing) ===== -/
def bb_fin (wd : Bool) (S : BitVec 64) : BitVec 64 := if wd then S else (S.setWidth 32).signExtend 64
theorem bb_fin_b (S : BitVec 64) {i : Nat} (hi : i < 64) : (bb_fin false S).getLsbD i = if i < 31 + 1 then S.getLsbD i else (true && S.getLsbD 31) := by
  show ((S.setWidth 32).signExtend 64).getLsbD i = if i < 32 then S.getLsbD i else (true && S.getLsbD 31)
  rw [BitVec.getLsbD_signExtend, decide_eq_true hi, Bool.true_and, BitVec.msb_eq_getLsbD_last, BitVec.getLsbD_setWidth, BitVec.getLsbD_setWidth]
  by_cases h : i < 32
  · rw [if_pos h, if_pos h, decide_eq_true h, Bool.true_and]
  · rw [if_neg h, if_neg h]
    rfl
theorem bb_tp : ∀ i, i < 64 → ((1 : Int64) <<< ((nI i).toInt64 &&& 63)).toBitVec = BitVec.twoPow 64 i := by decide +kernel
theorem bb_p2 : ∀ i, i < 6 → (1 : Int32) <<< (nI i &&& 31) = nI (2 ^ i) := by decide +kernel
theorem bb_mod (n i : Nat) : n % 2 ^ (i + 1) = 2 ^ i * (n.testBit i).toNat + n % 2 ^ i := by rw [Nat.mod_pow_succ, Nat.add_comm, Nat.toNat_testBit]
theorem bb_Row_0 (a : Nat → Int32) (r : Nat) : bb_Row (bb_put a r 64 (fun _ => 0)) r 0#64 := fun i hi => by
  rw [bb_put_in hi, BitVec.getLsbD_zero]
  rfl
/-- what is wanted of a step of the row at r with the value V -/
def bb_K (post : Int64 → SY → Prop) (lim fn : Int32) (ep : Int64) (op lh rh wi : Nat → Int32) (gi : Nat → Int64) (a : Nat → Int32) (r : Nat) (V : Int64) : Prop :=
  ∀ a', bb_Off a a' r → bb_Row a' r V.toBitVec → post V (lim, fn, ep, op, lh, rh, wi, gi, a')
section
variable {post : Int64 → SY → Prop} {lim fn : Int32} {ep : Int64} {op lh rh wi : Nat → Int32} {gi : Nat → Int64} {a : Nat → Int32}
theorem bb_K_off {a1 : Nat → Int32} {r : Nat} {V : Int64} (h : bb_Off a a1 r) (K : bb_K post lim fn ep op lh rh wi gi a r V) : bb_K post lim fn ep op lh rh wi gi a1 r V := fun a' h1 h2 => K a' (bb_Off_tr h h1) h2
theorem bb_686 {r : Nat} {V : Int64} (hr : r + 64 ≤ 768) (hR : bb_Row a r V.toBitVec) (K : post V (lim, fn, ep, op, lh, rh, wi, gi, a)) : ∃ n, wY_step_686 post (nI r) lim fn ep op lh rh wi gi a n 0 0 := by
  refine loop_0 (σ := Int64) (fun n i s => wY_step_686 post (nI r) lim fn ep op lh rh wi gi a n s (nI i)) (fun i s => ∀ j, j < 64 → s.toBitVec.getLsbD j = (decide (j < i) && V.toBitVec.getLsbD j)) 64 0 ?_ ?_ ?_
  · intro j hj
    rw [decide_eq_false (Nat.not_lt_zero j), Bool.false_and]
    exact BitVec.getLsbD_zero
  · intro n s hs
    have e : s = V := Int64.toBitVec_inj.mp (BitVec.eq_of_getLsbD_eq (fun j hj => by rw [hs j hj, decide_eq_true hj, Bool.true_and]))
    subst e
    exact br_t (nI_le (a := 64) (b := 64) (Nat.le_refl 64) (by decide)) K
  · intro n i s hi hs ih
    have h64 : ¬ (64 : Int32) ≤ nI i := nI_ge (b := 64) hi (by decide)
    have iR : vp_in (nI r + nI i) 768 := bb_in (by omega)
    have vR : a (nI r + nI i).toNatClampNeg = bb_i (V.toBitVec.getLsbD i) := by rw [bb_cl (by omega)]; exact hR i hi
    cases hb : V.toBitVec.getLsbD i with
    | false =>
      refine br_f h64 ⟨iR, br_t (by rw [vR, hb]; rfl) (nm_r (nI_1 i) (ih s ?_))⟩
      intro j hj
      rw [hs j hj]
      by_cases e : j = i
      · subst e
        rw [hb, Bool.and_false, Bool.and_false]
      · by_cases h : j < i
        · rw [decide_eq_true h, decide_eq_true (by omega)]
        · rw [decide_eq_false h, decide_eq_false (by omega)]
    | true =>
      refine br_f h64 ⟨iR, br_f (by rw [vR, hb]; decide) (nm_e (nm_r (nI_1 i) (ih _ ?_)))⟩
      intro j hj
      rw [Int64.toBitVec_or, BitVec.getLsbD_or, hs j hj, bb_tp i hi, BitVec.getLsbD_twoPow, decide_eq_true hi, Bool.true_and]
      by_cases e : j = i
      · subst e
        rw [hb, decide_eq_true (show j = j from rfl), Bool.or_true, decide_eq_true (show j < j + 1 by omega)]
        rfl
      · rw [decide_eq_false (show ¬ i = j from fun z => e z.symm), Bool.or_false]
        by_cases h : j < i
        · rw [decide_eq_true h, decide_eq_true (by omega)]
        · rw [decide_eq_false h, decide_eq_false (by omega)]
theorem bb_662 {t r : Nat} {wd : Bool} {R : BitVec 64} {V : Int64} (ht : t < 12) (hr : r + 64 ≤ 768) (hw : wi t = bb_i wd) (hR : bb_Row a r R) (hV : V.toBitVec = bb_fin wd R)
    (K : bb_K post lim fn ep op lh rh wi gi a r V) : wY_step_662 post (nI t) (nI r) lim fn ep op lh rh wi gi a := by
  have cT : (nI t).toNatClampNeg = t := nI_clamp (by omega)
  refine And.intro (vp_in_nI ht (by omega)) ?_
  cases wd with
  | false =>
    refine br_t (by rw [cT, hw]; rfl) ?_
    exact bb_ext (k := 31) (sg := true) V.toBitVec hr hr (by omega) (Or.inl rfl) hR (fun i hi => by rw [hV]; exact bb_fin_b R hi) (fun a' h1 h2 => bb_686 hr h2 (K a' h1 h2))
  | true =>
    refine br_f (by rw [cT, hw]; decide) ?_
    have e : V.toBitVec = R := hV
    exact bb_686 hr (by rw [e]; exact hR) (K a (bb_Off_rf a r) (by rw [e]; exact hR))
theorem bb_191 {t r : Nat} {wd : Bool} {V : Int64} (ht : t < 12) (hr : r + 64 ≤ 768) (hw : wi t = bb_i wd) (hV : V.toBitVec = bb_fin wd (gi t).toBitVec)
    (K : bb_K post lim fn ep op lh rh wi gi a r V) : ∃ n, wY_step_191 post (nI t) (nI r) lim fn ep n 0 op lh rh wi gi a := by
  have cT : (nI t).toNatClampNeg = t := nI_clamp (by omega)
  refine loop_0 (σ := Nat → Int32) (fun n i s => wY_step_191 post (nI t) (nI r) lim fn ep n (nI i) op lh rh wi gi s) (fun i s => s = bb_put a r i (fun i => bb_i ((gi t).toBitVec.getLsbD i))) 64 a ?_ ?_ ?_
  · exact (bb_put_0 a _ r).symm
  · intro n s hs
    subst hs
    exact br_t (nI_le (a := 64) (b := 64) (Nat.le_refl 64) (by decide)) (bb_662 ht hr hw (fun i hi => bb_put_in hi) hV (bb_K_off (bb_Off_put (f := 0) (by omega)) K))
  · intro n i s hi hs ih
    subst hs
    have h64 : ¬ (64 : Int32) ≤ nI i := nI_ge (b := 64) hi (by decide)
    have iR : vp_in (nI r + nI i) 768 := bb_in (by omega)
    have cR : (nI r + nI i).toNatClampNeg = r + i := bb_cl (by omega)
    have B : (((gi (nI t).toNatClampNeg).toUInt64 >>> ((nI i).toInt64.toUInt64 &&& Int64.toUInt64 63)).toInt64 &&& 1) = 0 ↔ (gi t).toBitVec.getLsbD i = false := by
      rw [cT]
      exact ts_bit hi (by rw [wb_cu i hi]; exact u_tn (by omega))
    cases hb : (gi t).toBitVec.getLsbD i with
    | false =>
      have E : upd (bb_put a r i (fun i => bb_i ((gi t).toBitVec.getLsbD i))) (nI r + nI i).toNatClampNeg (vp_nar .boolean 0) = bb_put a r (i + 1) (fun i => bb_i ((gi t).toBitVec.getLsbD i)) := bb_put_s cR (by rw [hb]; rfl)
      exact br_f h64 ⟨vp_in_nI ht (by omega), br_t (B.mpr hb) ⟨iR, nm_r E (nm_r (nI_1 i) (ih _ rfl))⟩⟩
    | true =>
      have E : upd (bb_put a r i (fun i => bb_i ((gi t).toBitVec.getLsbD i))) (nI r + nI i).toNatClampNeg (vp_nar .boolean 1) = bb_put a r (i + 1) (fun i => bb_i ((gi t).toBitVec.getLsbD i)) := bb_put_s cR (by rw [hb]; rfl)
      exact br_f h64 ⟨vp_in_nI ht (by omega), br_f (fun z => Bool.noConfusion (hb.symm.trans (B.mp z))) ⟨iR, nm_r E (nm_r (nI_1 i) (ih _ rfl))⟩⟩
theorem bb_81 {r : Nat} {x1 x3 x4 x5 x6 x7 : Int32} (hr : r + 64 ≤ 768)
    (K : ∀ n, wY_step_81 post x1 (nI r) x3 x4 x5 x6 x7 lim fn ep (n + 1) (nI 64) op lh rh wi gi (bb_put a r 64 (fun _ => 0))) : ∃ n, wY_step_81 post x1 (nI r) x3 x4 x5 x6 x7 lim fn ep n 0 op lh rh wi gi a := by
  refine loop_0 (σ := Nat → Int32) (fun n i s => wY_step_81 post x1 (nI r) x3 x4 x5 x6 x7 lim fn ep n (nI i) op lh rh wi gi s) (fun i s => s = bb_put a r i (fun _ => 0)) 64 a ?_ ?_ ?_
  · exact (bb_put_0 a _ r).symm
  · intro n s hs
    subst hs
    exact K n
  · intro n i s hi hs ih
    subst hs
    have h64 : ¬ (64 : Int32) ≤ nI i := nI_ge (b := 64) hi (by decide)
    have E : upd (bb_put a r i (fun _ => 0)) (nI r + nI i).toNatClampNeg (vp_nar .boolean 0) = bb_put a r (i + 1) (fun _ => 0) := bb_put_s (bb_cl (by omega)) rfl
    exact br_f h64 ⟨bb_in (by omega), nm_r E (nm_r (nI_1 i) (ih _ rfl))⟩
theorem bb_x96 {t r x y w : Nat} {wd sub : Bool} {A B : BitVec 64} {V : Int64} {x6 : Int32} (ht : t < 12) (hr : r + 64 ≤ 768) (hx : x + 64 ≤ 768) (hy : y + 64 ≤ 768) (dx : x + 64 ≤ r ∨ r + 64 ≤ x) (dy : y + 64 ≤ r ∨ r + 64 ≤ y)
    (hw : w ≤ 64) (hwi : wi t = bb_i wd) (hA : bb_Row a x A) (hB : bb_Row a y B) (h6 : x6 = 100 ↔ sub = true)
    (hV : ∀ R, bb_lo w R (if sub then A - B else A + B) → V.toBitVec = bb_fin wd R) (K : bb_K post lim fn ep op lh rh wi gi a r V) :
    wY_step_237 post (nI t) (nI r) (nI x) (nI y) x6 (nI w) lim fn ep op lh rh wi gi a := by
  unfold wY_step_237
  refine bb_ext (k := 63) (sg := false) A hr hx (by omega) (Or.inr dx) hA (fun i hi => by rw [if_pos (by omega)]) (fun a1 h1 r1 => ?_)
  cases sub with
  | true =>
    refine br_t (h6.mpr rfl) ?_
    unfold wY_step_265
    exact bb_acc_sub hr hy dy hw r1 (bb_Row_off h1 dy hB) (fun a2 R' h2 r2 l2 => bb_662 ht hr hwi r2 (hV R' l2) (bb_K_off (bb_Off_tr h1 h2) K))
  | false =>
    refine br_f (fun z => Bool.noConfusion (h6.mp z)) ?_
    unfold wY_step_265
    exact bb_acc_add (f := 0) hr hy dy (by omega) hw r1 (bb_Row_off h1 dy hB) (fun a2 R' h2 r2 l2 => bb_662 ht hr hwi r2 (hV R' (by rw [BitVec.shiftLeft_zero] at l2; exact l2)) (bb_K_off (bb_Off_tr h1 h2) K))
theorem bb_x116 {t r x w : Nat} {wd : Bool} {A : BitVec 64} {V : Int64} (ht : t < 12) (hr : r + 64 ≤ 768) (hx : x + 64 ≤ 768) (dx : x + 64 ≤ r ∨ r + 64 ≤ x)
    (hw : w ≤ 64) (hwi : wi t = bb_i wd) (hA : bb_Row a x A) (h0 : bb_Row a r 0#64)
    (hV : ∀ R, bb_lo w R (0#64 - A) → V.toBitVec = bb_fin wd R) (K : bb_K post lim fn ep op lh rh wi gi a r V) :
    wpY_acc (fun u => match u with | (f_lim, f_n, f_epoch, a_op, a_lhs, a_rhs, a_wide, a_given, a_bit) => wY_step_662 post (nI t) (nI r) f_lim f_n f_epoch a_op a_lhs a_rhs a_wide a_given a_bit) (lim, fn, ep, op, lh, rh, wi, gi, a) (nI r) (nI x) 0 (nI w) 1 :=
  bb_acc_sub hr hx dx hw h0 hA (fun a2 R' h2 r2 l2 => bb_662 ht hr hwi r2 (hV R' l2) (bb_K_off h2 K))
theorem bb_lo_mul {w : Nat} (hw : w ≤ 64) (A B : BitVec 64) : bb_lo w (A * ((B.setWidth w).setWidth 64)) (A * B) := bb_sw_lo (by
  rw [BitVec.setWidth_mul _ _ hw, BitVec.setWidth_mul _ _ hw]
  congr 1
  apply BitVec.eq_of_getLsbD_eq
  intro i hi
  rw [BitVec.getLsbD_setWidth, BitVec.getLsbD_setWidth, BitVec.getLsbD_setWidth, decide_eq_true hi, decide_eq_true (show i < 64 by omega), Bool.true_and, Bool.true_and, Bool.true_and])
theorem bb_x104 {t r x y w : Nat} {wd : Bool} {A B : BitVec 64} {V : Int64} (ht : t < 12) (hr : r + 64 ≤ 768) (hx : x + 64 ≤ 768) (hy : y + 64 ≤ 768) (dx : x + 64 ≤ r ∨ r + 64 ≤ x) (dy : y + 64 ≤ r ∨ r + 64 ≤ y)
    (hw : w ≤ 64) (hwi : wi t = bb_i wd) (hA : bb_Row a x A) (hB : bb_Row a y B) (hR0 : bb_Row a r 0#64)
    (hV : ∀ R, bb_lo w R (A * B) → V.toBitVec = bb_fin wd R) (K : bb_K post lim fn ep op lh rh wi gi a r V) :
    ∃ n, wY_step_274 post (nI t) (nI r) (nI x) (nI y) (nI w) n 0 lim fn ep op lh rh wi gi a := by
  refine loop_0 (σ := Nat → Int32) (fun n i s => wY_step_274 post (nI t) (nI r) (nI x) (nI y) (nI w) n (nI i) lim fn ep op lh rh wi gi s) (fun i s => bb_Off a s r ∧ ∃ R, bb_Row s r R ∧ bb_lo w R (A * ((B.setWidth i).setWidth 64))) w a ?_ ?_ ?_
  · refine ⟨bb_Off_rf a r, 0#64, hR0, ?_⟩
    have e : (B.setWidth 0).setWidth 64 = 0#64 := BitVec.eq_of_getLsbD_eq (fun i hi => by
      rw [BitVec.getLsbD_setWidth, BitVec.getLsbD_setWidth, decide_eq_false (Nat.not_lt_zero i), BitVec.getLsbD_zero, Bool.false_and, Bool.and_false])
    rw [e, BitVec.mul_zero]
    exact fun _ _ => rfl
  · intro n s hs
    obtain ⟨h1, R, h2, h3⟩ := hs
    exact br_t (nI_le (Nat.le_refl w) (by omega)) (bb_662 ht hr hwi h2 (hV R (bb_lo_tr h3 (bb_lo_mul hw A B))) (bb_K_off h1 K))
  · intro n i s hi hs ih
    obtain ⟨h1, R, h2, h3⟩ := hs
    have hw' : ¬ nI w ≤ nI i := nI_ge hi (by omega)
    have iY : vp_in (nI y + nI i) 768 := bb_in (by omega)
    have vB : s (nI y + nI i).toNatClampNeg = bb_i (B.getLsbD i) := by rw [bb_cl (by omega)]; exact (bb_Row_off h1 dy hB) i (by omega)
    have step := BitVec.setWidth_setWidth_succ_eq_setWidth_setWidth_add_twoPow B i
    rw [BitVec.and_twoPow] at step
    cases hb : B.getLsbD i with
    | false =>
      rw [hb, if_neg (by decide), BitVec.add_zero] at step
      exact br_f hw' ⟨iY, br_t (by rw [vB, hb]; rfl) (nm_r (nI_1 i) (ih s ⟨h1, R, h2, by rw [step]; exact h3⟩))⟩
    | true =>
      rw [hb, if_pos rfl] at step
      have e : A * ((B.setWidth (i + 1)).setWidth 64) = A * ((B.setWidth i).setWidth 64) + A <<< i := by
        rw [step, BitVec.mul_add, BitVec.mul_twoPow_eq_shiftLeft]
      exact br_f hw' ⟨iY, br_f (by rw [vB, hb]; decide) (bb_acc_add hr hx dx (by omega) hw h2 (bb_Row_off h1 dx hA) (fun a' R' o' r' l' => nm_r (nI_1 i) (ih a' ⟨bb_Off_tr h1 o', R', r', by rw [e]; exact bb_lo_tr l' (bb_lo_add hw h3 _)⟩)))⟩
theorem bb_x646 {t r x k : Nat} {wd sg : Bool} {A : BitVec 64} {V : Int64} {x5 : Int32} (ht : t < 12) (hr : r + 64 ≤ 768) (hx : x + 64 ≤ 768) (dx : x + 64 ≤ r ∨ r + 64 ≤ x)
    (hk : k + 1 ≤ 64) (hwi : wi t = bb_i wd) (hA : bb_Row a x A) (h5 : x5 = 146 ↔ sg = false)
    (hV : ∀ R, (∀ i, i < 64 → R.getLsbD i = if i < k + 1 then A.getLsbD i else (sg && A.getLsbD k)) → V.toBitVec = bb_fin wd R) (K : bb_K post lim fn ep op lh rh wi gi a r V) :
    wY_step_646 post (nI t) (nI r) x5 (nI (k + 1)) (nI x) (nI r) lim fn ep op lh rh wi gi a := by
  obtain ⟨R, hR⟩ := bb_ex 64 (fun i => if i < k + 1 then A.getLsbD i else (sg && A.getLsbD k))
  unfold wY_step_646
  cases sg with
  | false =>
    refine br_t (h5.mpr rfl) ?_
    unfold wY_step_659
    exact bb_ext (sg := false) R hr hx hk (Or.inr dx) hA hR (fun a1 h1 r1 => bb_662 ht hr hwi r1 (hV R hR) (bb_K_off h1 K))
  | true =>
    refine br_f (fun z => Bool.noConfusion (h5.mp z)) ?_
    unfold wY_step_659
    exact bb_ext (sg := true) R hr hx hk (Or.inr dx) hA hR (fun a1 h1 r1 => bb_662 ht hr hwi r1 (hV R hR) (bb_K_off h1 K))
end
end
section
/-! ===== shifts and the comparison ===== -/
/-- the bit that a shift by s puts at place i: L: left; C: with copies of the top bit -/
def bb_sh (L C : Bool) (w s : Nat) (A : BitVec 64) (i : Nat) : Bool := if L then (decide (s ≤ i) && A.getLsbD (i - s)) else if i + s < w then A.getLsbD (i + s) else (C && A.getLsbD (w - 1))
/-- the comparison of the low i bits; bit 63 is the sign -/
def bb_g (A B : BitVec 64) : Nat → Int32
  | 0 => 0
  | i + 1 => if A.getLsbD i = B.getLsbD i then bb_g A B i else if A.getLsbD i = decide (i = 63) then -1 else 1
section
variable {post : Int64 → SY → Prop} {lim fn : Int32} {ep : Int64} {op lh rh wi : Nat → Int32} {gi : Nat → Int64} {a : Nat → Int32}
theorem bb_382 {t r x w s : Nat} {L C : Bool} {A : BitVec 64} {x6 : Int32} (hr : r + 64 ≤ 768) (hx : x + 64 ≤ 768) (dx : x + 64 ≤ r ∨ r + 64 ≤ x)
    (hw0 : 0 < w) (hw : w ≤ 64) (hs : s < 64) (hA : bb_Row a x A) (hL : x6 = 120 ↔ L = true) (hC : x6 = 122 ↔ C = true) (hLC : L = true → C = false)
    (K : wY_step_662 post (nI t) (nI r) lim fn ep op lh rh wi gi (bb_put a r w (fun i => bb_i (bb_sh L C w s A i)))) :
    ∃ n, wY_step_382 post (nI t) (nI r) (nI x) x6 (nI w) (nI s) lim fn ep n 0 op lh rh wi gi a := by
  refine loop_0 (σ := Nat → Int32) (fun n i s' => wY_step_382 post (nI t) (nI r) (nI x) x6 (nI w) (nI s) lim fn ep n (nI i) op lh rh wi gi s') (fun i s' => s' = bb_put a r i (fun i => bb_i (bb_sh L C w s A i))) w a ?_ ?_ ?_
  · exact (bb_put_0 a _ r).symm
  · intro n s' hs'
    subst hs'
    exact br_t (nI_le (Nat.le_refl w) (by omega)) K
  · intro n i s' hi hs' ih
    subst hs'
    have hw' : ¬ nI w ≤ nI i := nI_ge hi (by omega)
    have iR : vp_in (nI r + nI i) 768 := bb_in (by omega)
    have cR : (nI r + nI i).toNatClampNeg = r + i := bb_cl (by omega)
    have W : ∀ v, v = bb_i (bb_sh L C w s A i) → ∀ y, y = upd (bb_put a r i (fun i => bb_i (bb_sh L C w s A i))) (nI r + nI i).toNatClampNeg v → ∀ z, z = nI i + 1 → wY_step_382 post (nI t) (nI r) (nI x) x6 (nI w) (nI s) lim fn ep n z op lh rh wi gi y := by
      intro v hv y hy z hz
      subst hy hz
      rw [bb_put_s cR hv, nI_1]
      exact ih _ rfl
    have rd : ∀ j, j < 64 → bb_put a r i (fun i => bb_i (bb_sh L C w s A i)) (nI x + nI j).toNatClampNeg = bb_i (A.getLsbD j) := by
      intro j hj
      rw [bb_cl (by omega), bb_put_out (by omega)]
      exact hA j hj
    refine br_f hw' ?_
    cases L with
    | true =>
      have hC0 : C = false := hLC rfl
      subst hC0
      refine br_t (hL.mpr rfl) ?_
      unfold wY_step_409
      by_cases h : i < s
      · refine br_t (pk_sneg (by omega) h) ?_
        unfold wY_step_443
        refine br_f (fun z => Bool.noConfusion (hC.mp z)) ⟨iR, W _ ?_⟩
        show vp_nar .boolean 0 = bb_i (decide (s ≤ i) && A.getLsbD (i - s))
        rw [decide_eq_false (by omega)]
        rfl
      · have e : nI i - nI s = nI (i - s) := pk_sub (by omega)
        rw [e]
        refine br_f (nI_pos (by omega)) (br_f (nI_ge (by omega) (by omega)) ⟨bb_in (by omega), iR, W _ ?_⟩)
        rw [rd _ (by omega), bb_i_n]
        show bb_i (A.getLsbD (i - s)) = bb_i (decide (s ≤ i) && A.getLsbD (i - s))
        rw [decide_eq_true (by omega), Bool.true_and]
    | false =>
      refine br_f (fun z => Bool.noConfusion (hL.mp z)) ?_
      unfold wY_step_409
      rw [nI_add i s]
      by_cases h : i + s < w
      · refine br_f (nI_pos (by omega)) (br_f (nI_ge h (by omega)) ⟨bb_in (by omega), iR, W _ ?_⟩)
        rw [rd _ (by omega), bb_i_n]
        show bb_i (A.getLsbD (i + s)) = bb_i (if i + s < w then A.getLsbD (i + s) else (C && A.getLsbD (w - 1)))
        rw [if_pos h]
      · refine br_f (nI_pos (by omega)) (br_t (nI_le (by omega) (by omega)) ?_)
        unfold wY_step_443
        have F : bb_sh false C w s A i = (C && A.getLsbD (w - 1)) := if_neg h
        cases C with
        | false =>
          refine br_f (fun z => Bool.noConfusion (hC.mp z)) ⟨iR, W _ ?_⟩
          rw [F]
          rfl
        | true =>
          obtain ⟨w', rfl⟩ : ∃ w', w = w' + 1 := ⟨w - 1, by omega⟩
          have e1 : nI x + nI (w' + 1) - 1 = nI x + nI w' := by rw [nI_add, ← Nat.add_assoc, nI_pred, nI_add]
          refine br_t (hC.mpr rfl) ?_
          rw [e1, rd w' (by omega)]
          refine ⟨bb_in (by omega), ?_⟩
          cases hb : A.getLsbD w' with
          | false =>
            refine br_t rfl ⟨iR, W _ ?_⟩
            rw [F, Nat.add_sub_cancel, hb]
            rfl
          | true =>
            refine br_f (by decide) ⟨iR, W _ ?_⟩
            rw [F, Nat.add_sub_cancel, hb]
            rfl
theorem bb_x120 {t r x y w q : Nat} {L C wd : Bool} {A B : BitVec 64} {V : Int64} {x6 : Int32} (ht : t < 12) (hr : r + 64 ≤ 768) (hx : x + 64 ≤ 768) (hy : y + 64 ≤ 768) (dx : x + 64 ≤ r ∨ r + 64 ≤ x)
    (hq : (w = 64 ∧ q = 6) ∨ (w = 32 ∧ q = 5)) (hwi : wi t = bb_i wd) (hA : bb_Row a x A) (hB : bb_Row a y B) (h0 : bb_Row a r 0#64) (hL : x6 = 120 ↔ L = true) (hC : x6 = 122 ↔ C = true) (hLC : L = true → C = false)
    (hV : ∀ R, (∀ i, i < w → R.getLsbD i = bb_sh L C w (B.toNat % 2 ^ q) A i) → V.toBitVec = bb_fin wd R) (K : bb_K post lim fn ep op lh rh wi gi a r V) :
    ∃ n, wY_step_333 post (nI t) (nI r) (nI x) (nI y) x6 (nI w) lim fn ep op lh rh wi gi a n 0 0 := by
  have hw : 0 < w ∧ w ≤ 64 ∧ q ≤ 6 := by omega
  obtain ⟨hw0, hw64, hq6⟩ := hw
  have hs64 : B.toNat % 2 ^ q < 64 := by
    have h1 : B.toNat % 2 ^ q < 2 ^ q := Nat.mod_lt _ (Nat.two_pow_pos q)
    have h2 : 2 ^ q ≤ 2 ^ 6 := Nat.pow_le_pow_right (by decide) hq6
    omega
  have sel : ∀ P : Int32 → Prop, P (nI q) → (nI w = 64 → P 6) ∧ (¬ nI w = 64 → P 5) := by
    intro P h
    rcases hq with ⟨rfl, rfl⟩ | ⟨rfl, rfl⟩
    · exact br_t rfl h
    · exact br_f (by decide) h
  obtain ⟨R, hR⟩ := bb_ex 64 (fun i => if i < w then bb_sh L C w (B.toNat % 2 ^ q) A i else false)
  refine loop_0 (σ := Int32) (fun n i s => wY_step_333 post (nI t) (nI r) (nI x) (nI y) x6 (nI w) lim fn ep op lh rh wi gi a n s (nI i)) (fun i s => s = nI (B.toNat % 2 ^ i)) q 0 ?_ ?_ ?_
  · show (0 : Int32) = nI (B.toNat % 2 ^ 0)
    rw [Nat.pow_zero, Nat.mod_one, nI_0]
  · intro n s hs
    subst hs
    refine sel (fun z => wY_step_348 post (wY_step_333 post (nI t) (nI r) (nI x) (nI y) x6 (nI w) lim fn ep op lh rh wi gi a n) (nI t) (nI r) (nI x) (nI y) x6 (nI w) (nI (B.toNat % 2 ^ q)) (nI q) z (nI q) lim fn ep op lh rh wi gi a) ?_
    unfold wY_step_348
    refine br_t (nI_le (Nat.le_refl q) (by omega)) (bb_382 hr hx dx hw0 hw64 hs64 hA hL hC hLC (bb_662 (R := R) ht hr hwi ?_ (hV R ?_) (bb_K_off (bb_Off_put (f := 0) (by omega)) K)))
    · intro i hi
      rw [hR i hi]
      by_cases h : i < w
      · rw [bb_put_in h, if_pos h]
      · rw [bb_put_out (by omega), if_neg h, h0 i hi, BitVec.getLsbD_zero]
    · intro i hi
      rw [hR i (by omega), if_pos hi]
  · intro n i s hi hs ih
    subst hs
    refine sel (fun z => wY_step_348 post (wY_step_333 post (nI t) (nI r) (nI x) (nI y) x6 (nI w) lim fn ep op lh rh wi gi a n) (nI t) (nI r) (nI x) (nI y) x6 (nI w) (nI (B.toNat % 2 ^ i)) (nI i) z (nI i) lim fn ep op lh rh wi gi a) ?_
    unfold wY_step_348
    have vB : a (nI y + nI i).toNatClampNeg = bb_i (B.getLsbD i) := by rw [bb_cl (by omega)]; exact hB i (by omega)
    have hm := bb_mod B.toNat i
    rw [BitVec.testBit_toNat] at hm
    cases hb : B.getLsbD i with
    | false =>
      have e : B.toNat % 2 ^ (i + 1) = B.toNat % 2 ^ i := by rw [hm, hb]; simp
      exact br_f (nI_ge hi (by omega)) ⟨bb_in (by omega), br_t (by rw [vB, hb]; rfl) (nm_r (nI_1 i) (ih _ (by rw [e])))⟩
    | true =>
      have e : nI (B.toNat % 2 ^ i) + (1 : Int32) <<< (nI i &&& 31) = nI (B.toNat % 2 ^ (i + 1)) := by
        rw [hm, hb, bb_p2 i (by omega), nI_add, Nat.add_comm]
        simp
      exact br_f (nI_ge hi (by omega)) ⟨bb_in (by omega), br_f (by rw [vB, hb]; decide) (nm_r e (nm_r (nI_1 i) (ih _ rfl)))⟩
theorem bb_554 {t r : Nat} {g : Int32} {F : Nat → Int32} (hr : r + 64 ≤ 768) (hF : ∀ i, F i = bb_i (if i = 0 then decide (¬ g = 0) else decide (¬ 0 ≤ g)))
    (K : wY_step_662 post (nI t) (nI r) lim fn ep op lh rh wi gi (bb_put a r 64 F)) :
    ∃ n, wY_step_554 post (nI t) (nI r) g lim fn ep n 0 op lh rh wi gi a := by
  refine loop_0 (σ := Nat → Int32) (fun n i s => wY_step_554 post (nI t) (nI r) g lim fn ep n (nI i) op lh rh wi gi s) (fun i s => s = bb_put a r i F) 64 a ?_ ?_ ?_
  · exact (bb_put_0 a _ r).symm
  · intro n s hs
    subst hs
    exact br_t (nI_le (a := 64) (b := 64) (Nat.le_refl 64) (by decide)) K
  · intro n i s hi hs ih
    subst hs
    have h64 : ¬ (64 : Int32) ≤ nI i := nI_ge (b := 64) hi (by decide)
    have iR : vp_in (nI r + nI i) 768 := bb_in (by omega)
    have cR : (nI r + nI i).toNatClampNeg = r + i := bb_cl (by omega)
    have W : ∀ v, v = F i → ∀ y, y = upd (bb_put a r i F) (nI r + nI i).toNatClampNeg v → ∀ z, z = nI i + 1 → wY_step_554 post (nI t) (nI r) g lim fn ep n z op lh rh wi gi y := by
      intro v hv y hy z hz
      subst hy hz
      rw [bb_put_s cR hv, nI_1]
      exact ih _ rfl
    refine br_f h64 ?_
    by_cases h0 : i = 0
    · subst h0
      refine br_t rfl ?_
      by_cases hg : g = 0
      · refine br_t hg ⟨iR, W _ ?_⟩
        rw [hF, if_pos rfl, decide_eq_false (fun z => z hg)]
        rfl
      · refine br_f hg ⟨iR, W _ ?_⟩
        rw [hF, if_pos rfl, decide_eq_true hg]
        rfl
    · refine br_f (nI_ne0 (by omega) (by omega)) ?_
      by_cases hg : 0 ≤ g
      · refine br_t hg ⟨iR, W _ ?_⟩
        rw [hF, if_neg h0, decide_eq_false (fun z => z hg)]
        rfl
      · refine br_f hg ⟨iR, W _ ?_⟩
        rw [hF, if_neg h0, decide_eq_true hg]
        rfl
theorem bb_x148 {t r x y : Nat} {wd : Bool} {A B : BitVec 64} {V : Int64} (ht : t < 12) (hr : r + 64 ≤ 768) (hx : x + 64 ≤ 768) (hy : y + 64 ≤ 768)
    (hwi : wi t = bb_i wd) (hA : bb_Row a x A) (hB : bb_Row a y B)
    (hV : ∀ R, (∀ i, i < 64 → R.getLsbD i = if i = 0 then decide (¬ bb_g A B 64 = 0) else decide (¬ 0 ≤ bb_g A B 64)) → V.toBitVec = bb_fin wd R) (K : bb_K post lim fn ep op lh rh wi gi a r V) :
    ∃ n, wY_step_485 post (nI t) (nI r) (nI x) (nI y) lim fn ep op lh rh wi gi a n 0 0 := by
  obtain ⟨R, hR⟩ := bb_ex 64 (fun i => if i = 0 then decide (¬ bb_g A B 64 = 0) else decide (¬ 0 ≤ bb_g A B 64))
  refine loop_0 (σ := Int32) (fun n i s => wY_step_485 post (nI t) (nI r) (nI x) (nI y) lim fn ep op lh rh wi gi a n s (nI i)) (fun i s => s = bb_g A B i) 64 0 rfl ?_ ?_
  · intro n s hs
    subst hs
    exact br_t (nI_le (a := 64) (b := 64) (Nat.le_refl 64) (by decide)) (bb_554 (F := fun i => bb_i (if i = 0 then decide (¬ bb_g A B 64 = 0) else decide (¬ 0 ≤ bb_g A B 64))) hr (fun _ => rfl)
      (bb_662 (R := R) ht hr hwi (fun i hi => by rw [bb_put_in hi, hR i hi]) (hV R hR) (bb_K_off (bb_Off_put (f := 0) (by omega)) K)))
  · intro n i s hi hs ih
    subst hs
    have h64 : ¬ (64 : Int32) ≤ nI i := nI_ge (b := 64) hi (by decide)
    have iX : vp_in (nI x + nI i) 768 := bb_in (by omega)
    have iY : vp_in (nI y + nI i) 768 := bb_in (by omega)
    have vA : a (nI x + nI i).toNatClampNeg = bb_i (A.getLsbD i) := by rw [bb_cl (by omega)]; exact hA i hi
    have vB : a (nI y + nI i).toNatClampNeg = bb_i (B.getLsbD i) := by rw [bb_cl (by omega)]; exact hB i hi
    have eg : bb_g A B (i + 1) = if A.getLsbD i = B.getLsbD i then bb_g A B i else if A.getLsbD i = decide (i = 63) then -1 else 1 := rfl
    refine br_f h64 ⟨iX, iY, ?_⟩
    by_cases h : A.getLsbD i = B.getLsbD i
    · rw [if_pos h] at eg
      exact br_t (by rw [vA, vB, h]) (nm_r (nI_1 i) (ih _ eg.symm))
    · rw [if_neg h] at eg
      refine br_f (by rw [vA, vB, bb_i_inj]; exact h) ⟨iX, ?_⟩
      have sel : ∀ P : Int32 → Prop, P (bb_i (decide (i = 63))) → (nI i = 63 → P 1) ∧ (¬ nI i = 63 → P 0) := by
        intro P hp
        by_cases e : i = 63
        · subst e
          exact br_t rfl hp
        · rw [decide_eq_false e] at hp
          exact br_f (fun z => e ((nI_eq (b := 63) (by omega) (by omega)).mp z)) hp
      refine sel (fun z => wY_step_535 post (wY_step_485 post (nI t) (nI r) (nI x) (nI y) lim fn ep op lh rh wi gi a n) (nI t) (nI r) (nI x) (nI y) (nI i) z (a (nI x + nI i).toNatClampNeg) lim fn ep op lh rh wi gi a) ?_
      unfold wY_step_535
      rw [vA]
      by_cases h2 : A.getLsbD i = decide (i = 63)
      · rw [if_pos h2] at eg
        exact br_t (by rw [h2]) (nm_r (nI_1 i) (ih _ eg.symm))
      · rw [if_neg h2] at eg
        exact br_f (by rw [bb_i_inj]; exact h2) (nm_r (nI_1 i) (ih _ eg.symm))
end
end
section
/-! ===== the opcodes: tables, and what the printed switches answer (printed by gen07.py) ===== -/
def bb_Ops : List Nat := [96, 97, 100, 101, 104, 105, 116, 117, 120, 121, 122, 123, 124, 125, 133, 136, 145, 146, 147, 148]
def bb_two (o : Nat) : Bool := ([96, 97, 100, 101, 104, 105, 120, 121, 122, 123, 124, 125, 148] : List Nat).contains o
def bb_w1 (o : Nat) : Bool := ([97, 101, 105, 117, 121, 123, 125, 136, 148] : List Nat).contains o
def bb_w2 (o : Nat) : Bool := ([97, 101, 105, 148] : List Nat).contains o
def bb_wr (o : Nat) : Bool := ([97, 101, 105, 117, 121, 123, 125, 133] : List Nat).contains o
def bb_shape (o : Nat) : Int32 := nI ((bb_w1 o).toNat + 2 * (bb_two o).toNat + 4 * (bb_w2 o).toNat + 8 * (bb_wr o).toNat)
def bb_c96 (a b : Int64) : Int64 := (a.toInt32 + b.toInt32).toInt64
def bb_c97 (a b : Int64) : Int64 := a + b
def bb_c100 (a b : Int64) : Int64 := (a.toInt32 - b.toInt32).toInt64
def bb_c101 (a b : Int64) : Int64 := a - b
def bb_c104 (a b : Int64) : Int64 := (a.toInt32 * b.toInt32).toInt64
def bb_c105 (a b : Int64) : Int64 := a * b
def bb_c116 (a _b : Int64) : Int64 := (-a.toInt32).toInt64
def bb_c117 (a _b : Int64) : Int64 := -a
def bb_c120 (a b : Int64) : Int64 := (a.toInt32 <<< ((b.toInt32 &&& 31) &&& 31)).toInt64
def bb_c121 (a b : Int64) : Int64 := a <<< ((b.toInt32 &&& 63).toInt64 &&& 63)
def bb_c122 (a b : Int64) : Int64 := (a.toInt32 >>> ((b.toInt32 &&& 31) &&& 31)).toInt64
def bb_c123 (a b : Int64) : Int64 := a >>> ((b.toInt32 &&& 63).toInt64 &&& 63)
def bb_c124 (a b : Int64) : Int64 := ((a.toInt32.toUInt32 >>> ((b.toInt32 &&& 31).toUInt32 &&& Int32.toUInt32 31)).toInt32).toInt64
def bb_c125 (a b : Int64) : Int64 := (a.toUInt64 >>> ((b.toInt32 &&& 63).toInt64.toUInt64 &&& Int64.toUInt64 63)).toInt64
def bb_c133 (a _b : Int64) : Int64 := a.toInt32.toInt64
def bb_c136 (a _b : Int64) : Int64 := a.toInt32.toInt64
def bb_c145 (a _b : Int64) : Int64 := a.toInt32.toInt8.toInt32.toInt64
def bb_c146 (a _b : Int64) : Int64 := ((a.toInt32.toUInt32 % 65536).toInt32).toInt64
def bb_c147 (a _b : Int64) : Int64 := a.toInt32.toInt16.toInt32.toInt64
def bb_c148 (a b : Int64) : Int64 := if a ≤ b then (if a = b then 0 else -1) else 1
def bb_comp (o : Nat) (a b : Int64) : Int64 :=
  if o = 96 then bb_c96 a b else if o = 97 then bb_c97 a b else if o = 100 then bb_c100 a b else if o = 101 then bb_c101 a b else if o = 104 then bb_c104 a b else if o = 105 then bb_c105 a b else if o = 116 then bb_c116 a b else if o = 117 then bb_c117 a b else if o = 120 then bb_c120 a b else if o = 121 then bb_c121 a b else if o = 122 then bb_c122 a b else if o = 123 then bb_c123 a b else if o = 124 then bb_c124 a b else if o = 125 then bb_c125 a b else if o = 133 then bb_c133 a b else if o = 136 then bb_c136 a b else if o = 145 then bb_c145 a b else if o = 146 then bb_c146 a b else if o = 147 then bb_c147 a b else if o = 148 then bb_c148 a b else 0
theorem bb_cases {P : Nat → Prop} (h96 : P 96) (h97 : P 97) (h100 : P 100) (h101 : P 101) (h104 : P 104) (h105 : P 105) (h116 : P 116) (h117 : P 117) (h120 : P 120) (h121 : P 121) (h122 : P 122) (h123 : P 123) (h124 : P 124) (h125 : P 125) (h133 : P 133) (h136 : P 136) (h145 : P 145) (h146 : P 146) (h147 : P 147) (h148 : P 148) {o : Nat} (ho : o ∈ bb_Ops) : P o := by
  simp only [bb_Ops, List.mem_cons, List.not_mem_nil, or_false] at ho
  rcases ho with rfl | rfl | rfl | rfl | rfl | rfl | rfl | rfl | rfl | rfl | rfl | rfl | rfl | rfl | rfl | rfl | rfl | rfl | rfl | rfl
  · exact h96
  · exact h97
  · exact h100
  · exact h101
  · exact h104
  · exact h105
  · exact h116
  · exact h117
  · exact h120
  · exact h121
  · exact h122
  · exact h123
  · exact h124
  · exact h125
  · exact h133
  · exact h136
  · exact h145
  · exact h146
  · exact h147
  · exact h148
section
variable {c n : Int32} {e : Int64} {a1 a2 a3 a4 : Nat → Int32} {a5 : Nat → Int64}
theorem bb_ar96 {post : Int32 → Prop} (h : post 2) : wpX_arity post (c, n, e, a1, a2, a3, a4, a5) 96 := br_f (by decide) (br_f (by decide) (br_t rfl h))
theorem bb_fw96 {post : Int32 → Prop} (h : post 32) : wpX_firstWidth post (c, n, e, a1, a2, a3, a4, a5) 96 := br_f (by decide) (br_f (by decide) (br_f (by decide) (br_f (by decide) (br_f (by decide) (br_f (by decide) (br_f (by decide) (br_f (by decide) (br_f (by decide) (h)))))))))
theorem bb_sw96 {post : Int32 → Prop} (h : post 32) : wpX_secondWidth post (c, n, e, a1, a2, a3, a4, a5) 96 := br_f (by decide) (br_f (by decide) (br_f (by decide) (br_f (by decide) (h))))
theorem bb_rw96 {post : Int32 → Prop} (h : post 32) : wpX_resultWidth post (c, n, e, a1, a2, a3, a4, a5) 96 := br_f (by decide) (br_f (by decide) (br_f (by decide) (br_f (by decide) (br_f (by decide) (br_f (by decide) (br_f (by decide) (br_f (by decide) (h))))))))
theorem bb_cm96 {post : Int64 → Prop} {x y : Int64} (h : post (bb_c96 x y)) : wpX_compute post (c, n, e, a1, a2, a3, a4, a5) 96 x y := br_f (by decide) (br_f (by decide) (br_t rfl h))
theorem bb_ys96 {post : Int32 → Prop} (h : post 2) : wpY_shape post 96 := br_f (by decide) (br_f (by decide) (br_t rfl h))
theorem bb_ar97 {post : Int32 → Prop} (h : post 2) : wpX_arity post (c, n, e, a1, a2, a3, a4, a5) 97 := br_f (by decide) (br_f (by decide) (br_f (by decide) (br_t rfl h)))
theorem bb_fw97 {post : Int32 → Prop} (h : post 64) : wpX_firstWidth post (c, n, e, a1, a2, a3, a4, a5) 97 := br_t rfl h
theorem bb_sw97 {post : Int32 → Prop} (h : post 64) : wpX_secondWidth post (c, n, e, a1, a2, a3, a4, a5) 97 := br_t rfl h
theorem bb_rw97 {post : Int32 → Prop} (h : post 64) : wpX_resultWidth post (c, n, e, a1, a2, a3, a4, a5) 97 := br_t rfl h
theorem bb_cm97 {post : Int64 → Prop} {x y : Int64} (h : post (bb_c97 x y)) : wpX_compute post (c, n, e, a1, a2, a3, a4, a5) 97 x y := br_f (by decide) (br_f (by decide) (br_f (by decide) (br_t rfl h)))
theorem bb_ys97 {post : Int32 → Prop} (h : post 15) : wpY_shape post 97 := br_f (by decide) (br_f (by decide) (br_f (by decide) (br_t rfl h)))
theorem bb_ar100 {post : Int32 → Prop} (h : post 2) : wpX_arity post (c, n, e, a1, a2, a3, a4, a5) 100 := br_f (by decide) (br_f (by decide) (br_f (by decide) (br_f (by decide) (br_f (by decide) (br_f (by decide) (br_t rfl h))))))
theorem bb_fw100 {post : Int32 → Prop} (h : post 32) : wpX_firstWidth post (c, n, e, a1, a2, a3, a4, a5) 100 := br_f (by decide) (br_f (by decide) (br_f (by decide) (br_f (by decide) (br_f (by decide) (br_f (by decide) (br_f (by decide) (br_f (by decide) (br_f (by decide) (h)))))))))
theorem bb_sw100 {post : Int32 → Prop} (h : post 32) : wpX_secondWidth post (c, n, e, a1, a2, a3, a4, a5) 100 := br_f (by decide) (br_f (by decide) (br_f (by decide) (br_f (by decide) (h))))
theorem bb_rw100 {post : Int32 → Prop} (h : post 32) : wpX_resultWidth post (c, n, e, a1, a2, a3, a4, a5) 100 := br_f (by decide) (br_f (by decide) (br_f (by decide) (br_f (by decide) (br_f (by decide) (br_f (by decide) (br_f (by decide) (br_f (by decide) (h))))))))
theorem bb_cm100 {post : Int64 → Prop} {x y : Int64} (h : post (bb_c100 x y)) : wpX_compute post (c, n, e, a1, a2, a3, a4, a5) 100 x y := br_f (by decide) (br_f (by decide) (br_f (by decide) (br_f (by decide) (br_f (by decide) (br_f (by decide) (br_t rfl h))))))
theorem bb_ys100 {post : Int32 → Prop} (h : post 2) : wpY_shape post 100 := br_f (by decide) (br_f (by decide) (br_f (by decide) (br_f (by decide) (br_f (by decide) (br_f (by decide) (br_t rfl h))))))
theorem bb_ar101 {post : Int32 → Prop} (h : post 2) : wpX_arity post (c, n, e, a1, a2, a3, a4, a5) 101 := br_f (by decide) (br_f (by decide) (br_f (by decide) (br_f (by decide) (br_f (by decide) (br_f (by decide) (br_f (by decide) (br_t rfl h)))))))
theorem bb_fw101 {post : Int32 → Prop} (h : post 64) : wpX_firstWidth post (c, n, e, a1, a2, a3, a4, a5) 101 := br_f (by decide) (br_t rfl h)
theorem bb_sw101 {post : Int32 → Prop} (h : post 64) : wpX_secondWidth post (c, n, e, a1, a2, a3, a4, a5) 101 := br_f (by decide) (br_t rfl h)
theorem bb_rw101 {post : Int32 → Prop} (h : post 64) : wpX_resultWidth post (c, n, e, a1, a2, a3, a4, a5) 101 := br_f (by decide) (br_t rfl h)
theorem bb_cm101 {post : Int64 → Prop} {x y : Int64} (h : post (bb_c101 x y)) : wpX_compute post (c, n, e, a1, a2, a3, a4, a5) 101 x y := br_f (by decide) (br_f (by decide) (br_f (by decide) (br_f (by decide) (br_f (by decide) (br_f (by decide) (br_f (by decide) (br_t rfl h)))))))
theorem bb_ys101 {post : Int32 → Prop} (h : post 15) : wpY_shape post 101 := br_f (by decide) (br_f (by decide) (br_f (by decide) (br_f (by decide) (br_f (by decide) (br_f (by decide) (br_f (by decide) (br_t rfl h)))))))
theorem bb_ar104 {post : Int32 → Prop} (h : post 2) : wpX_arity post (c, n, e, a1, a2, a3, a4, a5) 104 := br_f (by decide) (br_f (by decide) (br_f (by decide) (br_f (by decide) (br_f (by decide) (br_f (by decide) (br_f (by decide) (br_f (by decide) (br_f (by decide) (br_f (by decide) (br_t rfl h))))))))))
theorem bb_fw104 {post : Int32 → Prop} (h : post 32) : wpX_firstWidth post (c, n, e, a1, a2, a3, a4, a5) 104 := br_f (by decide) (br_f (by decide) (br_f (by decide) (br_f (by decide) (br_f (by decide) (br_f (by decide) (br_f (by decide) (br_f (by decide) (br_f (by decide) (h)))))))))
theorem bb_sw104 {post : Int32 → Prop} (h : post 32) : wpX_secondWidth post (c, n, e, a1, a2, a3, a4, a5) 104 := br_f (by decide) (br_f (by decide) (br_f (by decide) (br_f (by decide) (h))))
theorem bb_rw104 {post : Int32 → Prop} (h : post 32) : wpX_resultWidth post (c, n, e, a1, a2, a3, a4, a5) 104 := br_f (by decide) (br_f (by decide) (br_f (by decide) (br_f (by decide) (br_f (by decide) (br_f (by decide) (br_f (by decide) (br_f (by decide) (h))))))))
theorem bb_cm104 {post : Int64 → Prop} {x y : Int64} (h : post (bb_c104 x y)) : wpX_compute post (c, n, e, a1, a2, a3, a4, a5) 104 x y := br_f (by decide) (br_f (by decide) (br_f (by decide) (br_f (by decide) (br_f (by decide) (br_f (by decide) (br_f (by decide) (br_f (by decide) (br_f (by decide) (br_f (by decide) (br_t rfl h))))))))))
theorem bb_ys104 {post : Int32 → Prop} (h : post 2) : wpY_shape post 104 := br_f (by decide) (br_f (by decide) (br_f (by decide) (br_f (by decide) (br_f (by decide) (br_f (by decide) (br_f (by decide) (br_f (by decide) (br_f (by decide) (br_f (by decide) (br_t rfl h))))))))))
theorem bb_ar105 {post : Int32 → Prop} (h : post 2) : wpX_arity post (c, n, e, a1, a2, a3, a4, a5) 105 := br_f (by decide) (br_f (by decide) (br_f (by decide) (br_f (by decide) (br_f (by decide) (br_f (by decide) (br_f (by decide) (br_f (by decide) (br_f (by decide) (br_f (by decide) (br_f (by decide) (br_t rfl h)))))))))))
theorem bb_fw105 {post : Int32 → Prop} (h : post 64) : wpX_firstWidth post (c, n, e, a1, a2, a3, a4, a5) 105 := br_f (by decide) (br_f (by decide) (br_t rfl h))
theorem bb_sw105 {post : Int32 → Prop} (h : post 64) : wpX_secondWidth post (c, n, e, a1, a2, a3, a4, a5) 105 := br_f (by decide) (br_f (by decide) (br_t rfl h))
theorem bb_rw105 {post : Int32 → Prop} (h : post 64) : wpX_resultWidth post (c, n, e, a1, a2, a3, a4, a5) 105 := br_f (by decide) (br_f (by decide) (br_t rfl h))
theorem bb_cm105 {post : Int64 → Prop} {x y : Int64} (h : post (bb_c105 x y)) : wpX_compute post (c, n, e, a1, a2, a3, a4, a5) 105 x y := br_f (by decide) (br_f (by decide) (br_f (by decide) (br_f (by decide) (br_f (by decide) (br_f (by decide) (br_f (by decide) (br_f (by decide) (br_f (by decide) (br_f (by decide) (br_f (by decide) (br_t rfl h)))))))))))
theorem bb_ys105 {post : Int32 → Prop} (h : post 15) : wpY_shape post 105 := br_f (by decide) (br_f (by decide) (br_f (by decide) (br_f (by decide) (br_f (by decide) (br_f (by decide) (br_f (by decide) (br_f (by decide) (br_f (by decide) (br_f (by decide) (br_f (by decide) (br_t rfl h)))))))))))
theorem bb_ar116 {post : Int32 → Prop} (h : post 1) : wpX_arity post (c, n, e, a1, a2, a3, a4, a5) 116 := br_f (by decide) (br_f (by decide) (br_f (by decide) (br_f (by decide) (br_f (by decide) (br_f (by decide) (br_f (by decide) (br_f (by decide) (br_f (by decide) (br_f (by decide) (br_f (by decide) (br_f (by decide) (br_f (by decide) (br_f (by decide) (br_f (by decide) (br_f (by decide) (br_f (by decide) (br_f (by decide) (br_f (by decide) (br_f (by decide) (br_f (by decide) (br_f (by decide) (br_t rfl h))))))))))))))))))))))
theorem bb_fw116 {post : Int32 → Prop} (h : post 32) : wpX_firstWidth post (c, n, e, a1, a2, a3, a4, a5) 116 := br_f (by decide) (br_f (by decide) (br_f (by decide) (br_f (by decide) (br_f (by decide) (br_f (by decide) (br_f (by decide) (br_f (by decide) (br_f (by decide) (h)))))))))
theorem bb_sw116 {post : Int32 → Prop} (h : post 32) : wpX_secondWidth post (c, n, e, a1, a2, a3, a4, a5) 116 := br_f (by decide) (br_f (by decide) (br_f (by decide) (br_f (by decide) (h))))
theorem bb_rw116 {post : Int32 → Prop} (h : post 32) : wpX_resultWidth post (c, n, e, a1, a2, a3, a4, a5) 116 := br_f (by decide) (br_f (by decide) (br_f (by decide) (br_f (by decide) (br_f (by decide) (br_f (by decide) (br_f (by decide) (br_f (by decide) (h))))))))
theorem bb_cm116 {post : Int64 → Prop} {x y : Int64} (h : post (bb_c116 x y)) : wpX_compute post (c, n, e, a1, a2, a3, a4, a5) 116 x y := br_f (by decide) (br_f (by decide) (br_f (by decide) (br_f (by decide) (br_f (by decide) (br_f (by decide) (br_f (by decide) (br_f (by decide) (br_f (by decide) (br_f (by decide) (br_f (by decide) (br_f (by decide) (br_f (by decide) (br_f (by decide) (br_f (by decide) (br_f (by decide) (br_f (by decide) (br_f (by decide) (br_f (by decide) (br_f (by decide) (br_f (by decide) (br_f (by decide) (br_t rfl h))))))))))))))))))))))
theorem bb_ys116 {post : Int32 → Prop} (h : post 0) : wpY_shape post 116 := br_f (by decide) (br_f (by decide) (br_f (by decide) (br_f (by decide) (br_f (by decide) (br_f (by decide) (br_f (by decide) (br_f (by decide) (br_f (by decide) (br_f (by decide) (br_f (by decide) (br_f (by decide) (br_f (by decide) (br_f (by decide) (br_f (by decide) (br_f (by decide) (br_f (by decide) (br_f (by decide) (br_f (by decide) (br_f (by decide) (br_f (by decide) (br_f (by decide) (br_t rfl h))))))))))))))))))))))
theorem bb_ar117 {post : Int32 → Prop} (h : post 1) : wpX_arity post (c, n, e, a1, a2, a3, a4, a5) 117 := br_f (by decide) (br_f (by decide) (br_f (by decide) (br_f (by decide) (br_f (by decide) (br_f (by decide) (br_f (by decide) (br_f (by decide) (br_f (by decide) (br_f (by decide) (br_f (by decide) (br_f (by decide) (br_f (by decide) (br_f (by decide) (br_f (by decide) (br_f (by decide) (br_f (by decide) (br_f (by decide) (br_f (by decide) (br_f (by decide) (br_f (by decide) (br_f (by decide) (br_f (by decide) (br_t rfl h)))))))))))))))))))))))
theorem bb_fw117 {post : Int32 → Prop} (h : post 64) : wpX_firstWidth post (c, n, e, a1, a2, a3, a4, a5) 117 := br_f (by decide) (br_f (by decide) (br_f (by decide) (br_t rfl h)))
theorem bb_sw117 {post : Int32 → Prop} (h : post 32) : wpX_secondWidth post (c, n, e, a1, a2, a3, a4, a5) 117 := br_f (by decide) (br_f (by decide) (br_f (by decide) (br_f (by decide) (h))))
theorem bb_rw117 {post : Int32 → Prop} (h : post 64) : wpX_resultWidth post (c, n, e, a1, a2, a3, a4, a5) 117 := br_f (by decide) (br_f (by decide) (br_f (by decide) (br_t rfl h)))
theorem bb_cm117 {post : Int64 → Prop} {x y : Int64} (h : post (bb_c117 x y)) : wpX_compute post (c, n, e, a1, a2, a3, a4, a5) 117 x y := br_f (by decide) (br_f (by decide) (br_f (by decide) (br_f (by decide) (br_f (by decide) (br_f (by decide) (br_f (by decide) (br_f (by decide) (br_f (by decide) (br_f (by decide) (br_f (by decide) (br_f (by decide) (br_f (by decide) (br_f (by decide) (br_f (by decide) (br_f (by decide) (br_f (by decide) (br_f (by decide) (br_f (by decide) (br_f (by decide) (br_f (by decide) (br_f (by decide) (br_f (by decide) (br_t rfl h)))))))))))))))))))))))
theorem bb_ys117 {post : Int32 → Prop} (h : post 9) : wpY_shape post 117 := br_f (by decide) (br_f (by decide) (br_f (by decide) (br_f (by decide) (br_f (by decide) (br_f (by decide) (br_f (by decide) (br_f (by decide) (br_f (by decide) (br_f (by decide) (br_f (by decide) (br_f (by decide) (br_f (by decide) (br_f (by decide) (br_f (by decide) (br_f (by decide) (br_f (by decide) (br_f (by decide) (br_f (by decide) (br_f (by decide) (br_f (by decide) (br_f (by decide) (br_f (by decide) (br_t rfl h)))))))))))))))))))))))
theorem bb_ar120 {post : Int32 → Prop} (h : post 2) : wpX_arity post (c, n, e, a1, a2, a3, a4, a5) 120 := br_f (by decide) (br_f (by decide) (br_f (by decide) (br_f (by decide) (br_f (by decide) (br_f (by decide) (br_f (by decide) (br_f (by decide) (br_f (by decide) (br_f (by decide) (br_f (by decide) (br_f (by decide) (br_f (by decide) (br_f (by decide) (br_f (by decide) (br_f (by decide) (br_f (by decide) (br_f (by decide) (br_f (by decide) (br_f (by decide) (br_f (by decide) (br_f (by decide) (br_f (by decide) (br_f (by decide) (br_f (by decide) (br_f (by decide) (br_t rfl h))))))))))))))))))))))))))
theorem bb_fw120 {post : Int32 → Prop} (h : post 32) : wpX_firstWidth post (c, n, e, a1, a2, a3, a4, a5) 120 := br_f (by decide) (br_f (by decide) (br_f (by decide) (br_f (by decide) (br_f (by decide) (br_f (by decide) (br_f (by decide) (br_f (by decide) (br_f (by decide) (h)))))))))
theorem bb_sw120 {post : Int32 → Prop} (h : post 32) : wpX_secondWidth post (c, n, e, a1, a2, a3, a4, a5) 120 := br_f (by decide) (br_f (by decide) (br_f (by decide) (br_f (by decide) (h))))
theorem bb_rw120 {post : Int32 → Prop} (h : post 32) : wpX_resultWidth post (c, n, e, a1, a2, a3, a4, a5) 120 := br_f (by decide) (br_f (by decide) (br_f (by decide) (br_f (by decide) (br_f (by decide) (br_f (by decide) (br_f (by decide) (br_f (by decide) (h))))))))
theorem bb_cm120 {post : Int64 → Prop} {x y : Int64} (h : post (bb_c120 x y)) : wpX_compute post (c, n, e, a1, a2, a3, a4, a5) 120 x y := br_f (by decide) (br_f (by decide) (br_f (by decide) (br_f (by decide) (br_f (by decide) (br_f (by decide) (br_f (by decide) (br_f (by decide) (br_f (by decide) (br_f (by decide) (br_f (by decide) (br_f (by decide) (br_f (by decide) (br_f (by decide) (br_f (by decide) (br_f (by decide) (br_f (by decide) (br_f (by decide) (br_f (by decide) (br_f (by decide) (br_f (by decide) (br_f (by decide) (br_f (by decide) (br_f (by decide) (br_f (by decide) (br_f (by decide) (br_t rfl h))))))))))))))))))))))))))
theorem bb_ys120 {post : Int32 → Prop} (h : post 2) : wpY_shape post 120 := br_f (by decide) (br_f (by decide) (br_f (by decide) (br_f (by decide) (br_f (by decide) (br_f (by decide) (br_f (by decide) (br_f (by decide) (br_f (by decide) (br_f (by decide) (br_f (by decide) (br_f (by decide) (br_f (by decide) (br_f (by decide) (br_f (by decide) (br_f (by decide) (br_f (by decide) (br_f (by decide) (br_f (by decide) (br_f (by decide) (br_f (by decide) (br_f (by decide) (br_f (by decide) (br_f (by decide) (br_f (by decide) (br_f (by decide) (br_t rfl h))))))))))))))))))))))))))
theorem bb_ar121 {post : Int32 → Prop} (h : post 2) : wpX_arity post (c, n, e, a1, a2, a3, a4, a5) 121 := br_f (by decide) (br_f (by decide) (br_f (by decide) (br_f (by decide) (br_f (by decide) (br_f (by decide) (br_f (by decide) (br_f (by decide) (br_f (by decide) (br_f (by decide) (br_f (by decide) (br_f (by decide) (br_f (by decide) (br_f (by decide) (br_f (by decide) (br_f (by decide) (br_f (by decide) (br_f (by decide) (br_f (by decide) (br_f (by decide) (br_f (by decide) (br_f (by decide) (br_f (by decide) (br_f (by decide) (br_f (by decide) (br_f (by decide) (br_f (by decide) (br_t rfl h)))))))))))))))))))))))))))
theorem bb_fw121 {post : Int32 → Prop} (h : post 64) : wpX_firstWidth post (c, n, e, a1, a2, a3, a4, a5) 121 := br_f (by decide) (br_f (by decide) (br_f (by decide) (br_f (by decide) (br_t rfl h))))
theorem bb_sw121 {post : Int32 → Prop} (h : post 32) : wpX_secondWidth post (c, n, e, a1, a2, a3, a4, a5) 121 := br_f (by decide) (br_f (by decide) (br_f (by decide) (br_f (by decide) (h))))
theorem bb_rw121 {post : Int32 → Prop} (h : post 64) : wpX_resultWidth post (c, n, e, a1, a2, a3, a4, a5) 121 := br_f (by decide) (br_f (by decide) (br_f (by decide) (br_f (by decide) (br_t rfl h))))
theorem bb_cm121 {post : Int64 → Prop} {x y : Int64} (h : post (bb_c121 x y)) : wpX_compute post (c, n, e, a1, a2, a3, a4, a5) 121 x y := br_f (by decide) (br_f (by decide) (br_f (by decide) (br_f (by decide) (br_f (by decide) (br_f (by decide) (br_f (by decide) (br_f (by decide) (br_f (by decide) (br_f (by decide) (br_f (by decide) (br_f (by decide) (br_f (by decide) (br_f (by decide) (br_f (by decide) (br_f (by decide) (br_f (by decide) (br_f (by decide) (br_f (by decide) (br_f (by decide) (br_f (by decide) (br_f (by decide) (br_f (by decide) (br_f (by decide) (br_f (by decide) (br_f (by decide) (br_f (by decide) (br_t rfl h)))))))))))))))))))))))))))
theorem bb_ys121 {post : Int32 → Prop} (h : post 11) : wpY_shape post 121 := br_f (by decide) (br_f (by decide) (br_f (by decide) (br_f (by decide) (br_f (by decide) (br_f (by decide) (br_f (by decide) (br_f (by decide) (br_f (by decide) (br_f (by decide) (br_f (by decide) (br_f (by decide) (br_f (by decide) (br_f (by decide) (br_f (by decide) (br_f (by decide) (br_f (by decide) (br_f (by decide) (br_f (by decide) (br_f (by decide) (br_f (by decide) (br_f (by decide) (br_f (by decide) (br_f (by decide) (br_f (by decide) (br_f (by decide) (br_f (by decide) (br_t rfl h)))))))))))))))))))))))))))
theorem bb_ar122 {post : Int32 → Prop} (h : post 2) : wpX_arity post (c, n, e, a1, a2, a3, a4, a5) 122 := br_f (by decide) (br_f (by decide) (br_f (by decide) (br_f (by decide) (br_f (by decide) (br_f (by decide) (br_f (by decide) (br_f (by decide) (br_f (by decide) (br_f (by decide) (br_f (by decide) (br_f (by decide) (br_f (by decide) (br_f (by decide) (br_f (by decide) (br_f (by decide) (br_f (by decide) (br_f (by decide) (br_f (by decide) (br_f (by decide) (br_f (by decide) (br_f (by decide) (br_f (by decide) (br_f (by decide) (br_f (by decide) (br_f (by decide) (br_f (by decide) (br_f (by decide) (br_t rfl h))))))))))))))))))))))))))))
theorem bb_fw122 {post : Int32 → Prop} (h : post 32) : wpX_firstWidth post (c, n, e, a1, a2, a3, a4, a5) 122 := br_f (by decide) (br_f (by decide) (br_f (by decide) (br_f (by decide) (br_f (by decide) (br_f (by decide) (br_f (by decide) (br_f (by decide) (br_f (by decide) (h)))))))))
theorem bb_sw122 {post : Int32 → Prop} (h : post 32) : wpX_secondWidth post (c, n, e, a1, a2, a3, a4, a5) 122 := br_f (by decide) (br_f (by decide) (br_f (by decide) (br_f (by decide) (h))))
theorem bb_rw122 {post : Int32 → Prop} (h : post 32) : wpX_resultWidth post (c, n, e, a1, a2, a3, a4, a5) 122 := br_f (by decide) (br_f (by decide) (br_f (by decide) (br_f (by decide) (br_f (by decide) (br_f (by decide) (br_f (by decide) (br_f (by decide) (h))))))))
theorem bb_cm122 {post : Int64 → Prop} {x y : Int64} (h : post (bb_c122 x y)) : wpX_compute post (c, n, e, a1, a2, a3, a4, a5) 122 x y := br_f (by decide) (br_f (by decide) (br_f (by decide) (br_f (by decide) (br_f (by decide) (br_f (by decide) (br_f (by decide) (br_f (by decide) (br_f (by decide) (br_f (by decide) (br_f (by decide) (br_f (by decide) (br_f (by decide) (br_f (by decide) (br_f (by decide) (br_f (by decide) (br_f (by decide) (br_f (by decide) (br_f (by decide) (br_f (by decide) (br_f (by decide) (br_f (by decide) (br_f (by decide) (br_f (by decide) (br_f (by decide) (br_f (by decide) (br_f (by decide) (br_f (by decide) (br_t rfl h))))))))))))))))))))))))))))
theorem bb_ys122 {post : Int32 → Prop} (h : post 2) : wpY_shape post 122 := br_f (by decide) (br_f (by decide) (br_f (by decide) (br_f (by decide) (br_f (by decide) (br_f (by decide) (br_f (by decide) (br_f (by decide) (br_f (by decide) (br_f (by decide) (br_f (by decide) (br_f (by decide) (br_f (by decide) (br_f (by decide) (br_f (by decide) (br_f (by decide) (br_f (by decide) (br_f (by decide) (br_f (by decide) (br_f (by decide) (br_f (by decide) (br_f (by decide) (br_f (by decide) (br_f (by decide) (br_f (by decide) (br_f (by decide) (br_f (by decide) (br_f (by decide) (br_t rfl h))))))))))))))))))))))))))))
theorem bb_ar123 {post : Int32 → Prop} (h : post 2) : wpX_arity post (c, n, e, a1, a2, a3, a4, a5) 123 := br_f (by decide) (br_f (by decide) (br_f (by decide) (br_f (by decide) (br_f (by decide) (br_f (by decide) (br_f (by decide) (br_f (by decide) (br_f (by decide) (br_f (by decide) (br_f (by decide) (br_f (by decide) (br_f (by decide) (br_f (by decide) (br_f (by decide) (br_f (by decide) (br_f (by decide) (br_f (by decide) (br_f (by decide) (br_f (by decide) (br_f (by decide) (br_f (by decide) (br_f (by decide) (br_f (by decide) (br_f (by decide) (br_f (by decide) (br_f (by decide) (br_f (by decide) (br_f (by decide) (br_t rfl h)))))))))))))))))))))))))))))
theorem bb_fw123 {post : Int32 → Prop} (h : post 64) : wpX_firstWidth post (c, n, e, a1, a2, a3, a4, a5) 123 := br_f (by decide) (br_f (by decide) (br_f (by decide) (br_f (by decide) (br_f (by decide) (br_t rfl h)))))
theorem bb_sw123 {post : Int32 → Prop} (h : post 32) : wpX_secondWidth post (c, n, e, a1, a2, a3, a4, a5) 123 := br_f (by decide) (br_f (by decide) (br_f (by decide) (br_f (by decide) (h))))
theorem bb_rw123 {post : Int32 → Prop} (h : post 64) : wpX_resultWidth post (c, n, e, a1, a2, a3, a4, a5) 123 := br_f (by decide) (br_f (by decide) (br_f (by decide) (br_f (by decide) (br_f (by decide) (br_t rfl h)))))
theorem bb_cm123 {post : Int64 → Prop} {x y : Int64} (h : post (bb_c123 x y)) : wpX_compute post (c, n, e, a1, a2, a3, a4, a5) 123 x y := br_f (by decide) (br_f (by decide) (br_f (by decide) (br_f (by decide) (br_f (by decide) (br_f (by decide) (br_f (by decide) (br_f (by decide) (br_f (by decide) (br_f (by decide) (br_f (by decide) (br_f (by decide) (br_f (by decide) (br_f (by decide) (br_f (by decide) (br_f (by decide) (br_f (by decide) (br_f (by decide) (br_f (by decide) (br_f (by decide) (br_f (by decide) (br_f (by decide) (br_f (by decide) (br_f (by decide) (br_f (by decide) (br_f (by decide) (br_f (by decide) (br_f (by decide) (br_f (by decide) (br_t rfl h)))))))))))))))))))))))))))))
theorem bb_ys123 {post : Int32 → Prop} (h : post 11) : wpY_shape post 123 := br_f (by decide) (br_f (by decide) (br_f (by decide) (br_f (by decide) (br_f (by decide) (br_f (by decide) (br_f (by decide) (br_f (by decide) (br_f (by decide) (br_f (by decide) (br_f (by decide) (br_f (by decide) (br_f (by decide) (br_f (by decide) (br_f (by decide) (br_f (by decide) (br_f (by decide) (br_f (by decide) (br_f (by decide) (br_f (by decide) (br_f (by decide) (br_f (by decide) (br_f (by decide) (br_f (by decide) (br_f (by decide) (br_f (by decide) (br_f (by decide) (br_f (by decide) (br_f (by decide) (br_t rfl h)))))))))))))))))))))))))))))
theorem bb_ar124 {post : Int32 → Prop} (h : post 2) : wpX_arity post (c, n, e, a1, a2, a3, a4, a5) 124 := br_f (by decide) (br_f (by decide) (br_f (by decide) (br_f (by decide) (br_f (by decide) (br_f (by decide) (br_f (by decide) (br_f (by decide) (br_f (by decide) (br_f (by decide) (br_f (by decide) (br_f (by decide) (br_f (by decide) (br_f (by decide) (br_f (by decide) (br_f (by decide) (br_f (by decide) (br_f (by decide) (br_f (by decide) (br_f (by decide) (br_f (by decide) (br_f (by decide) (br_f (by decide) (br_f (by decide) (br_f (by decide) (br_f (by decide) (br_f (by decide) (br_f (by decide) (br_f (by decide) (br_f (by decide) (br_t rfl h))))))))))))))))))))))))))))))
theorem bb_fw124 {post : Int32 → Prop} (h : post 32) : wpX_firstWidth post (c, n, e, a1, a2, a3, a4, a5) 124 := br_f (by decide) (br_f (by decide) (br_f (by decide) (br_f (by decide) (br_f (by decide) (br_f (by decide) (br_f (by decide) (br_f (by decide) (br_f (by decide) (h)))))))))
theorem bb_sw124 {post : Int32 → Prop} (h : post 32) : wpX_secondWidth post (c, n, e, a1, a2, a3, a4, a5) 124 := br_f (by decide) (br_f (by decide) (br_f (by decide) (br_f (by decide) (h))))
theorem bb_rw124 {post : Int32 → Prop} (h : post 32) : wpX_resultWidth post (c, n, e, a1, a2, a3, a4, a5) 124 := br_f (by decide) (br_f (by decide) (br_f (by decide) (br_f (by decide) (br_f (by decide) (br_f (by decide) (br_f (by decide) (br_f (by decide) (h))))))))
theorem bb_cm124 {post : Int64 → Prop} {x y : Int64} (h : post (bb_c124 x y)) : wpX_compute post (c, n, e, a1, a2, a3, a4, a5) 124 x y := br_f (by decide) (br_f (by decide) (br_f (by decide) (br_f (by decide) (br_f (by decide) (br_f (by decide) (br_f (by decide) (br_f (by decide) (br_f (by decide) (br_f (by decide) (br_f (by decide) (br_f (by decide) (br_f (by decide) (br_f (by decide) (br_f (by decide) (br_f (by decide) (br_f (by decide) (br_f (by decide) (br_f (by decide) (br_f (by decide) (br_f (by decide) (br_f (by decide) (br_f (by decide) (br_f (by decide) (br_f (by decide) (br_f (by decide) (br_f (by decide) (br_f (by decide) (br_f (by decide) (br_f (by decide) (br_t rfl h))))))))))))))))))))))))))))))
theorem bb_ys124 {post : Int32 → Prop} (h : post 2) : wpY_shape post 124 := br_f (by decide) (br_f (by decide) (br_f (by decide) (br_f (by decide) (br_f (by decide) (br_f (by decide) (br_f (by decide) (br_f (by decide) (br_f (by decide) (br_f (by decide) (br_f (by decide) (br_f (by decide) (br_f (by decide) (br_f (by decide) (br_f (by decide) (br_f (by decide) (br_f (by decide) (br_f (by decide) (br_f (by decide) (br_f (by decide) (br_f (by decide) (br_f (by decide) (br_f (by decide) (br_f (by decide) (br_f (by decide) (br_f (by decide) (br_f (by decide) (br_f (by decide) (br_f (by decide) (br_f (by decide) (br_t rfl h))))))))))))))))))))))))))))))
theorem bb_ar125 {post : Int32 → Prop} (h : post 2) : wpX_arity post (c, n, e, a1, a2, a3, a4, a5) 125 := br_f (by decide) (br_f (by decide) (br_f (by decide) (br_f (by decide) (br_f (by decide) (br_f (by decide) (br_f (by decide) (br_f (by decide) (br_f (by decide) (br_f (by decide) (br_f (by decide) (br_f (by decide) (br_f (by decide) (br_f (by decide) (br_f (by decide) (br_f (by decide) (br_f (by decide) (br_f (by decide) (br_f (by decide) (br_f (by decide) (br_f (by decide) (br_f (by decide) (br_f (by decide) (br_f (by decide) (br_f (by decide) (br_f (by decide) (br_f (by decide) (br_f (by decide) (br_f (by decide) (br_f (by decide) (br_f (by decide) (br_t rfl h)))))))))))))))))))))))))))))))
theorem bb_fw125 {post : Int32 → Prop} (h : post 64) : wpX_firstWidth post (c, n, e, a1, a2, a3, a4, a5) 125 := br_f (by decide) (br_f (by decide) (br_f (by decide) (br_f (by decide) (br_f (by decide) (br_f (by decide) (br_t rfl h))))))
theorem bb_sw125 {post : Int32 → Prop} (h : post 32) : wpX_secondWidth post (c, n, e, a1, a2, a3, a4, a5) 125 := br_f (by decide) (br_f (by decide) (br_f (by decide) (br_f (by decide) (h))))
theorem bb_rw125 {post : Int32 → Prop} (h : post 64) : wpX_resultWidth post (c, n, e, a1, a2, a3, a4, a5) 125 := br_f (by decide) (br_f (by decide) (br_f (by decide) (br_f (by decide) (br_f (by decide) (br_f (by decide) (br_t rfl h))))))
theorem bb_cm125 {post : Int64 → Prop} {x y : Int64} (h : post (bb_c125 x y)) : wpX_compute post (c, n, e, a1, a2, a3, a4, a5) 125 x y := br_f (by decide) (br_f (by decide) (br_f (by decide) (br_f (by decide) (br_f (by decide) (br_f (by decide) (br_f (by decide) (br_f (by decide) (br_f (by decide) (br_f (by decide) (br_f (by decide) (br_f (by decide) (br_f (by decide) (br_f (by decide) (br_f (by decide) (br_f (by decide) (br_f (by decide) (br_f (by decide) (br_f (by decide) (br_f (by decide) (br_f (by decide) (br_f (by decide) (br_f (by decide) (br_f (by decide) (br_f (by decide) (br_f (by decide) (br_f (by decide) (br_f (by decide) (br_f (by decide) (br_f (by decide) (br_f (by decide) (br_t rfl h)))))))))))))))))))))))))))))))
theorem bb_ys125 {post : Int32 → Prop} (h : post 11) : wpY_shape post 125 := br_f (by decide) (br_f (by decide) (br_f (by decide) (br_f (by decide) (br_f (by decide) (br_f (by decide) (br_f (by decide) (br_f (by decide) (br_f (by decide) (br_f (by decide) (br_f (by decide) (br_f (by decide) (br_f (by decide) (br_f (by decide) (br_f (by decide) (br_f (by decide) (br_f (by decide) (br_f (by decide) (br_f (by decide) (br_f (by decide) (br_f (by decide) (br_f (by decide) (br_f (by decide) (br_f (by decide) (br_f (by decide) (br_f (by decide) (br_f (by decide) (br_f (by decide) (br_f (by decide) (br_f (by decide) (br_f (by decide) (br_t rfl h)))))))))))))))))))))))))))))))
theorem bb_ar133 {post : Int32 → Prop} (h : post 1) : wpX_arity post (c, n, e, a1, a2, a3, a4, a5) 133 := br_f (by decide) (br_f (by decide) (br_f (by decide) (br_f (by decide) (br_f (by decide) (br_f (by decide) (br_f (by decide) (br_f (by decide) (br_f (by decide) (br_f (by decide) (br_f (by decide) (br_f (by decide) (br_f (by decide) (br_f (by decide) (br_f (by decide) (br_f (by decide) (br_f (by decide) (br_f (by decide) (br_f (by decide) (br_f (by decide) (br_f (by decide) (br_f (by decide) (br_f (by decide) (br_f (by decide) (br_f (by decide) (br_f (by decide) (br_f (by decide) (br_f (by decide) (br_f (by decide) (br_f (by decide) (br_f (by decide) (br_f (by decide) (br_f (by decide) (br_f (by decide) (br_f (by decide) (br_f (by decide) (br_f (by decide) (br_f (by decide) (br_f (by decide) (br_t rfl h)))))))))))))))))))))))))))))))))))))))
theorem bb_fw133 {post : Int32 → Prop} (h : post 32) : wpX_firstWidth post (c, n, e, a1, a2, a3, a4, a5) 133 := br_f (by decide) (br_f (by decide) (br_f (by decide) (br_f (by decide) (br_f (by decide) (br_f (by decide) (br_f (by decide) (br_f (by decide) (br_f (by decide) (h)))))))))
theorem bb_sw133 {post : Int32 → Prop} (h : post 32) : wpX_secondWidth post (c, n, e, a1, a2, a3, a4, a5) 133 := br_f (by decide) (br_f (by decide) (br_f (by decide) (br_f (by decide) (h))))
theorem bb_rw133 {post : Int32 → Prop} (h : post 64) : wpX_resultWidth post (c, n, e, a1, a2, a3, a4, a5) 133 := br_f (by decide) (br_f (by decide) (br_f (by decide) (br_f (by decide) (br_f (by decide) (br_f (by decide) (br_f (by decide) (br_t rfl h)))))))
theorem bb_cm133 {post : Int64 → Prop} {x y : Int64} (h : post (bb_c133 x y)) : wpX_compute post (c, n, e, a1, a2, a3, a4, a5) 133 x y := br_f (by decide) (br_f (by decide) (br_f (by decide) (br_f (by decide) (br_f (by decide) (br_f (by decide) (br_f (by decide) (br_f (by decide) (br_f (by decide) (br_f (by decide) (br_f (by decide) (br_f (by decide) (br_f (by decide) (br_f (by decide) (br_f (by decide) (br_f (by decide) (br_f (by decide) (br_f (by decide) (br_f (by decide) (br_f (by decide) (br_f (by decide) (br_f (by decide) (br_f (by decide) (br_f (by decide) (br_f (by decide) (br_f (by decide) (br_f (by decide) (br_f (by decide) (br_f (by decide) (br_f (by decide) (br_f (by decide) (br_f (by decide) (br_f (by decide) (br_f (by decide) (br_f (by decide) (br_f (by decide) (br_f (by decide) (br_f (by decide) (br_f (by decide) (br_t rfl h)))))))))))))))))))))))))))))))))))))))
theorem bb_ys133 {post : Int32 → Prop} (h : post 8) : wpY_shape post 133 := br_f (by decide) (br_f (by decide) (br_f (by decide) (br_f (by decide) (br_f (by decide) (br_f (by decide) (br_f (by decide) (br_f (by decide) (br_f (by decide) (br_f (by decide) (br_f (by decide) (br_f (by decide) (br_f (by decide) (br_f (by decide) (br_f (by decide) (br_f (by decide) (br_f (by decide) (br_f (by decide) (br_f (by decide) (br_f (by decide) (br_f (by decide) (br_f (by decide) (br_f (by decide) (br_f (by decide) (br_f (by decide) (br_f (by decide) (br_f (by decide) (br_f (by decide) (br_f (by decide) (br_f (by decide) (br_f (by decide) (br_f (by decide) (br_f (by decide) (br_f (by decide) (br_f (by decide) (br_f (by decide) (br_f (by decide) (br_f (by decide) (br_f (by decide) (br_t rfl h)))))))))))))))))))))))))))))))))))))))
theorem bb_ar136 {post : Int32 → Prop} (h : post 1) : wpX_arity post (c, n, e, a1, a2, a3, a4, a5) 136 := br_f (by decide) (br_f (by decide) (br_f (by decide) (br_f (by decide) (br_f (by decide) (br_f (by decide) (br_f (by decide) (br_f (by decide) (br_f (by decide) (br_f (by decide) (br_f (by decide) (br_f (by decide) (br_f (by decide) (br_f (by decide) (br_f (by decide) (br_f (by decide) (br_f (by decide) (br_f (by decide) (br_f (by decide) (br_f (by decide) (br_f (by decide) (br_f (by decide) (br_f (by decide) (br_f (by decide) (br_f (by decide) (br_f (by decide) (br_f (by decide) (br_f (by decide) (br_f (by decide) (br_f (by decide) (br_f (by decide) (br_f (by decide) (br_f (by decide) (br_f (by decide) (br_f (by decide) (br_f (by decide) (br_f (by decide) (br_f (by decide) (br_f (by decide) (br_f (by decide) (br_f (by decide) (br_f (by decide) (br_t rfl h))))))))))))))))))))))))))))))))))))))))))
theorem bb_fw136 {post : Int32 → Prop} (h : post 64) : wpX_firstWidth post (c, n, e, a1, a2, a3, a4, a5) 136 := br_f (by decide) (br_f (by decide) (br_f (by decide) (br_f (by decide) (br_f (by decide) (br_f (by decide) (br_f (by decide) (br_t rfl h)))))))
theorem bb_sw136 {post : Int32 → Prop} (h : post 32) : wpX_secondWidth post (c, n, e, a1, a2, a3, a4, a5) 136 := br_f (by decide) (br_f (by decide) (br_f (by decide) (br_f (by decide) (h))))
theorem bb_rw136 {post : Int32 → Prop} (h : post 32) : wpX_resultWidth post (c, n, e, a1, a2, a3, a4, a5) 136 := br_f (by decide) (br_f (by decide) (br_f (by decide) (br_f (by decide) (br_f (by decide) (br_f (by decide) (br_f (by decide) (br_f (by decide) (h))))))))
theorem bb_cm136 {post : Int64 → Prop} {x y : Int64} (h : post (bb_c136 x y)) : wpX_compute post (c, n, e, a1, a2, a3, a4, a5) 136 x y := br_f (by decide) (br_f (by decide) (br_f (by decide) (br_f (by decide) (br_f (by decide) (br_f (by decide) (br_f (by decide) (br_f (by decide) (br_f (by decide) (br_f (by decide) (br_f (by decide) (br_f (by decide) (br_f (by decide) (br_f (by decide) (br_f (by decide) (br_f (by decide) (br_f (by decide) (br_f (by decide) (br_f (by decide) (br_f (by decide) (br_f (by decide) (br_f (by decide) (br_f (by decide) (br_f (by decide) (br_f (by decide) (br_f (by decide) (br_f (by decide) (br_f (by decide) (br_f (by decide) (br_f (by decide) (br_f (by decide) (br_f (by decide) (br_f (by decide) (br_f (by decide) (br_f (by decide) (br_f (by decide) (br_f (by decide) (br_f (by decide) (br_f (by decide) (br_f (by decide) (br_f (by decide) (br_f (by decide) (br_t rfl h))))))))))))))))))))))))))))))))))))))))))
theorem bb_ys136 {post : Int32 → Prop} (h : post 1) : wpY_shape post 136 := br_f (by decide) (br_f (by decide) (br_f (by decide) (br_f (by decide) (br_f (by decide) (br_f (by decide) (br_f (by decide) (br_f (by decide) (br_f (by decide) (br_f (by decide) (br_f (by decide) (br_f (by decide) (br_f (by decide) (br_f (by decide) (br_f (by decide) (br_f (by decide) (br_f (by decide) (br_f (by decide) (br_f (by decide) (br_f (by decide) (br_f (by decide) (br_f (by decide) (br_f (by decide) (br_f (by decide) (br_f (by decide) (br_f (by decide) (br_f (by decide) (br_f (by decide) (br_f (by decide) (br_f (by decide) (br_f (by decide) (br_f (by decide) (br_f (by decide) (br_f (by decide) (br_f (by decide) (br_f (by decide) (br_f (by decide) (br_f (by decide) (br_f (by decide) (br_f (by decide) (br_f (by decide) (br_f (by decide) (br_t rfl h))))))))))))))))))))))))))))))))))))))))))
theorem bb_ar145 {post : Int32 → Prop} (h : post 1) : wpX_arity post (c, n, e, a1, a2, a3, a4, a5) 145 := br_f (by decide) (br_f (by decide) (br_f (by decide) (br_f (by decide) (br_f (by decide) (br_f (by decide) (br_f (by decide) (br_f (by decide) (br_f (by decide) (br_f (by decide) (br_f (by decide) (br_f (by decide) (br_f (by decide) (br_f (by decide) (br_f (by decide) (br_f (by decide) (br_f (by decide) (br_f (by decide) (br_f (by decide) (br_f (by decide) (br_f (by decide) (br_f (by decide) (br_f (by decide) (br_f (by decide) (br_f (by decide) (br_f (by decide) (br_f (by decide) (br_f (by decide) (br_f (by decide) (br_f (by decide) (br_f (by decide) (br_f (by decide) (br_f (by decide) (br_f (by decide) (br_f (by decide) (br_f (by decide) (br_f (by decide) (br_f (by decide) (br_f (by decide) (br_f (by decide) (br_f (by decide) (br_f (by decide) (br_f (by decide) (br_f (by decide) (br_f (by decide) (br_f (by decide) (br_f (by decide) (br_f (by decide) (br_f (by decide) (br_f (by decide) (br_f (by decide) (br_t rfl h)))))))))))))))))))))))))))))))))))))))))))))))))))
theorem bb_fw145 {post : Int32 → Prop} (h : post 32) : wpX_firstWidth post (c, n, e, a1, a2, a3, a4, a5) 145 := br_f (by decide) (br_f (by decide) (br_f (by decide) (br_f (by decide) (br_f (by decide) (br_f (by decide) (br_f (by decide) (br_f (by decide) (br_f (by decide) (h)))))))))
theorem bb_sw145 {post : Int32 → Prop} (h : post 32) : wpX_secondWidth post (c, n, e, a1, a2, a3, a4, a5) 145 := br_f (by decide) (br_f (by decide) (br_f (by decide) (br_f (by decide) (h))))
theorem bb_rw145 {post : Int32 → Prop} (h : post 32) : wpX_resultWidth post (c, n, e, a1, a2, a3, a4, a5) 145 := br_f (by decide) (br_f (by decide) (br_f (by decide) (br_f (by decide) (br_f (by decide) (br_f (by decide) (br_f (by decide) (br_f (by decide) (h))))))))
theorem bb_cm145 {post : Int64 → Prop} {x y : Int64} (h : post (bb_c145 x y)) : wpX_compute post (c, n, e, a1, a2, a3, a4, a5) 145 x y := br_f (by decide) (br_f (by decide) (br_f (by decide) (br_f (by decide) (br_f (by decide) (br_f (by decide) (br_f (by decide) (br_f (by decide) (br_f (by decide) (br_f (by decide) (br_f (by decide) (br_f (by decide) (br_f (by decide) (br_f (by decide) (br_f (by decide) (br_f (by decide) (br_f (by decide) (br_f (by decide) (br_f (by decide) (br_f (by decide) (br_f (by decide) (br_f (by decide) (br_f (by decide) (br_f (by decide) (br_f (by decide) (br_f (by decide) (br_f (by decide) (br_f (by decide) (br_f (by decide) (br_f (by decide) (br_f (by decide) (br_f (by decide) (br_f (by decide) (br_f (by decide) (br_f (by decide) (br_f (by decide) (br_f (by decide) (br_f (by decide) (br_f (by decide) (br_f (by decide) (br_f (by decide) (br_f (by decide) (br_f (by decide) (br_f (by decide) (br_f (by decide) (br_f (by decide) (br_f (by decide) (br_f (by decide) (br_f (by decide) (br_f (by decide) (br_f (by decide) (br_t rfl h)))))))))))))))))))))))))))))))))))))))))))))))))))
theorem bb_ys145 {post : Int32 → Prop} (h : post 0) : wpY_shape post 145 := br_f (by decide) (br_f (by decide) (br_f (by decide) (br_f (by decide) (br_f (by decide) (br_f (by decide) (br_f (by decide) (br_f (by decide) (br_f (by decide) (br_f (by decide) (br_f (by decide) (br_f (by decide) (br_f (by decide) (br_f (by decide) (br_f (by decide) (br_f (by decide) (br_f (by decide) (br_f (by decide) (br_f (by decide) (br_f (by decide) (br_f (by decide) (br_f (by decide) (br_f (by decide) (br_f (by decide) (br_f (by decide) (br_f (by decide) (br_f (by decide) (br_f (by decide) (br_f (by decide) (br_f (by decide) (br_f (by decide) (br_f (by decide) (br_f (by decide) (br_f (by decide) (br_f (by decide) (br_f (by decide) (br_f (by decide) (br_f (by decide) (br_f (by decide) (br_f (by decide) (br_f (by decide) (br_f (by decide) (br_f (by decide) (br_f (by decide) (br_f (by decide) (br_f (by decide) (br_f (by decide) (br_f (by decide) (br_f (by decide) (br_f (by decide) (br_f (by decide) (br_t rfl h)))))))))))))))))))))))))))))))))))))))))))))))))))
theorem bb_ar146 {post : Int32 → Prop} (h : post 1) : wpX_arity post (c, n, e, a1, a2, a3, a4, a5) 146 := br_f (by decide) (br_f (by decide) (br_f (by decide) (br_f (by decide) (br_f (by decide) (br_f (by decide) (br_f (by decide) (br_f (by decide) (br_f (by decide) (br_f (by decide) (br_f (by decide) (br_f (by decide) (br_f (by decide) (br_f (by decide) (br_f (by decide) (br_f (by decide) (br_f (by decide) (br_f (by decide) (br_f (by decide) (br_f (by decide) (br_f (by decide) (br_f (by decide) (br_f (by decide) (br_f (by decide) (br_f (by decide) (br_f (by decide) (br_f (by decide) (br_f (by decide) (br_f (by decide) (br_f (by decide) (br_f (by decide) (br_f (by decide) (br_f (by decide) (br_f (by decide) (br_f (by decide) (br_f (by decide) (br_f (by decide) (br_f (by decide) (br_f (by decide) (br_f (by decide) (br_f (by decide) (br_f (by decide) (br_f (by decide) (br_f (by decide) (br_f (by decide) (br_f (by decide) (br_f (by decide) (br_f (by decide) (br_f (by decide) (br_f (by decide) (br_f (by decide) (br_f (by decide) (br_t rfl h))))))))))))))))))))))))))))))))))))))))))))))))))))
theorem bb_fw146 {post : Int32 → Prop} (h : post 32) : wpX_firstWidth post (c, n, e, a1, a2, a3, a4, a5) 146 := br_f (by decide) (br_f (by decide) (br_f (by decide) (br_f (by decide) (br_f (by decide) (br_f (by decide) (br_f (by decide) (br_f (by decide) (br_f (by decide) (h)))))))))
theorem bb_sw146 {post : Int32 → Prop} (h : post 32) : wpX_secondWidth post (c, n, e, a1, a2, a3, a4, a5) 146 := br_f (by decide) (br_f (by decide) (br_f (by decide) (br_f (by decide) (h))))
theorem bb_rw146 {post : Int32 → Prop} (h : post 32) : wpX_resultWidth post (c, n, e, a1, a2, a3, a4, a5) 146 := br_f (by decide) (br_f (by decide) (br_f (by decide) (br_f (by decide) (br_f (by decide) (br_f (by decide) (br_f (by decide) (br_f (by decide) (h))))))))
theorem bb_cm146 {post : Int64 → Prop} {x y : Int64} (h : post (bb_c146 x y)) : wpX_compute post (c, n, e, a1, a2, a3, a4, a5) 146 x y := br_f (by decide) (br_f (by decide) (br_f (by decide) (br_f (by decide) (br_f (by decide) (br_f (by decide) (br_f (by decide) (br_f (by decide) (br_f (by decide) (br_f (by decide) (br_f (by decide) (br_f (by decide) (br_f (by decide) (br_f (by decide) (br_f (by decide) (br_f (by decide) (br_f (by decide) (br_f (by decide) (br_f (by decide) (br_f (by decide) (br_f (by decide) (br_f (by decide) (br_f (by decide) (br_f (by decide) (br_f (by decide) (br_f (by decide) (br_f (by decide) (br_f (by decide) (br_f (by decide) (br_f (by decide) (br_f (by decide) (br_f (by decide) (br_f (by decide) (br_f (by decide) (br_f (by decide) (br_f (by decide) (br_f (by decide) (br_f (by decide) (br_f (by decide) (br_f (by decide) (br_f (by decide) (br_f (by decide) (br_f (by decide) (br_f (by decide) (br_f (by decide) (br_f (by decide) (br_f (by decide) (br_f (by decide) (br_f (by decide) (br_f (by decide) (br_f (by decide) (br_f (by decide) (br_t rfl h))))))))))))))))))))))))))))))))))))))))))))))))))))
theorem bb_ys146 {post : Int32 → Prop} (h : post 0) : wpY_shape post 146 := br_f (by decide) (br_f (by decide) (br_f (by decide) (br_f (by decide) (br_f (by decide) (br_f (by decide) (br_f (by decide) (br_f (by decide) (br_f (by decide) (br_f (by decide) (br_f (by decide) (br_f (by decide) (br_f (by decide) (br_f (by decide) (br_f (by decide) (br_f (by decide) (br_f (by decide) (br_f (by decide) (br_f (by decide) (br_f (by decide) (br_f (by decide) (br_f (by decide) (br_f (by decide) (br_f (by decide) (br_f (by decide) (br_f (by decide) (br_f (by decide) (br_f (by decide) (br_f (by decide) (br_f (by decide) (br_f (by decide) (br_f (by decide) (br_f (by decide) (br_f (by decide) (br_f (by decide) (br_f (by decide) (br_f (by decide) (br_f (by decide) (br_f (by decide) (br_f (by decide) (br_f (by decide) (br_f (by decide) (br_f (by decide) (br_f (by decide) (br_f (by decide) (br_f (by decide) (br_f (by decide) (br_f (by decide) (br_f (by decide) (br_f (by decide) (br_f (by decide) (br_f (by decide) (br_t rfl h))))))))))))))))))))))))))))))))))))))))))))))))))))
theorem bb_ar147 {post : Int32 → Prop} (h : post 1) : wpX_arity post (c, n, e, a1, a2, a3, a4, a5) 147 := br_f (by decide) (br_f (by decide) (br_f (by decide) (br_f (by decide) (br_f (by decide) (br_f (by decide) (br_f (by decide) (br_f (by decide) (br_f (by decide) (br_f (by decide) (br_f (by decide) (br_f (by decide) (br_f (by decide) (br_f (by decide) (br_f (by decide) (br_f (by decide) (br_f (by decide) (br_f (by decide) (br_f (by decide) (br_f (by decide) (br_f (by decide) (br_f (by decide) (br_f (by decide) (br_f (by decide) (br_f (by decide) (br_f (by decide) (br_f (by decide) (br_f (by decide) (br_f (by decide) (br_f (by decide) (br_f (by decide) (br_f (by decide) (br_f (by decide) (br_f (by decide) (br_f (by decide) (br_f (by decide) (br_f (by decide) (br_f (by decide) (br_f (by decide) (br_f (by decide) (br_f (by decide) (br_f (by decide) (br_f (by decide) (br_f (by decide) (br_f (by decide) (br_f (by decide) (br_f (by decide) (br_f (by decide) (br_f (by decide) (br_f (by decide) (br_f (by decide) (br_f (by decide) (br_f (by decide) (br_t rfl h)))))))))))))))))))))))))))))))))))))))))))))))))))))
theorem bb_fw147 {post : Int32 → Prop} (h : post 32) : wpX_firstWidth post (c, n, e, a1, a2, a3, a4, a5) 147 := br_f (by decide) (br_f (by decide) (br_f (by decide) (br_f (by decide) (br_f (by decide) (br_f (by decide) (br_f (by decide) (br_f (by decide) (br_f (by decide) (h)))))))))
theorem bb_sw147 {post : Int32 → Prop} (h : post 32) : wpX_secondWidth post (c, n, e, a1, a2, a3, a4, a5) 147 := br_f (by decide) (br_f (by decide) (br_f (by decide) (br_f (by decide) (h))))
theorem bb_rw147 {post : Int32 → Prop} (h : post 32) : wpX_resultWidth post (c, n, e, a1, a2, a3, a4, a5) 147 := br_f (by decide) (br_f (by decide) (br_f (by decide) (br_f (by decide) (br_f (by decide) (br_f (by decide) (br_f (by decide) (br_f (by decide) (h))))))))
theorem bb_cm147 {post : Int64 → Prop} {x y : Int64} (h : post (bb_c147 x y)) : wpX_compute post (c, n, e, a1, a2, a3, a4, a5) 147 x y := br_f (by decide) (br_f (by decide) (br_f (by decide) (br_f (by decide) (br_f (by decide) (br_f (by decide) (br_f (by decide) (br_f (by decide) (br_f (by decide) (br_f (by decide) (br_f (by decide) (br_f (by decide) (br_f (by decide) (br_f (by decide) (br_f (by decide) (br_f (by decide) (br_f (by decide) (br_f (by decide) (br_f (by decide) (br_f (by decide) (br_f (by decide) (br_f (by decide) (br_f (by decide) (br_f (by decide) (br_f (by decide) (br_f (by decide) (br_f (by decide) (br_f (by decide) (br_f (by decide) (br_f (by decide) (br_f (by decide) (br_f (by decide) (br_f (by decide) (br_f (by decide) (br_f (by decide) (br_f (by decide) (br_f (by decide) (br_f (by decide) (br_f (by decide) (br_f (by decide) (br_f (by decide) (br_f (by decide) (br_f (by decide) (br_f (by decide) (br_f (by decide) (br_f (by decide) (br_f (by decide) (br_f (by decide) (br_f (by decide) (br_f (by decide) (br_f (by decide) (br_f (by decide) (br_f (by decide) (br_t rfl h)))))))))))))))))))))))))))))))))))))))))))))))))))))
theorem bb_ys147 {post : Int32 → Prop} (h : post 0) : wpY_shape post 147 := br_f (by decide) (br_f (by decide) (br_f (by decide) (br_f (by decide) (br_f (by decide) (br_f (by decide) (br_f (by decide) (br_f (by decide) (br_f (by decide) (br_f (by decide) (br_f (by decide) (br_f (by decide) (br_f (by decide) (br_f (by decide) (br_f (by decide) (br_f (by decide) (br_f (by decide) (br_f (by decide) (br_f (by decide) (br_f (by decide) (br_f (by decide) (br_f (by decide) (br_f (by decide) (br_f (by decide) (br_f (by decide) (br_f (by decide) (br_f (by decide) (br_f (by decide) (br_f (by decide) (br_f (by decide) (br_f (by decide) (br_f (by decide) (br_f (by decide) (br_f (by decide) (br_f (by decide) (br_f (by decide) (br_f (by decide) (br_f (by decide) (br_f (by decide) (br_f (by decide) (br_f (by decide) (br_f (by decide) (br_f (by decide) (br_f (by decide) (br_f (by decide) (br_f (by decide) (br_f (by decide) (br_f (by decide) (br_f (by decide) (br_f (by decide) (br_f (by decide) (br_f (by decide) (br_f (by decide) (br_t rfl h)))))))))))))))))))))))))))))))))))))))))))))))))))))
theorem bb_ar148 {post : Int32 → Prop} (h : post 2) : wpX_arity post (c, n, e, a1, a2, a3, a4, a5) 148 := br_f (by decide) (br_f (by decide) (br_f (by decide) (br_f (by decide) (br_f (by decide) (br_f (by decide) (br_f (by decide) (br_f (by decide) (br_f (by decide) (br_f (by decide) (br_f (by decide) (br_f (by decide) (br_f (by decide) (br_f (by decide) (br_f (by decide) (br_f (by decide) (br_f (by decide) (br_f (by decide) (br_f (by decide) (br_f (by decide) (br_f (by decide) (br_f (by decide) (br_f (by decide) (br_f (by decide) (br_f (by decide) (br_f (by decide) (br_f (by decide) (br_f (by decide) (br_f (by decide) (br_f (by decide) (br_f (by decide) (br_f (by decide) (br_f (by decide) (br_f (by decide) (br_f (by decide) (br_f (by decide) (br_f (by decide) (br_f (by decide) (br_f (by decide) (br_f (by decide) (br_f (by decide) (br_f (by decide) (br_f (by decide) (br_f (by decide) (br_f (by decide) (br_f (by decide) (br_f (by decide) (br_f (by decide) (br_f (by decide) (br_f (by decide) (br_f (by decide) (br_f (by decide) (br_f (by decide) (br_f (by decide) (br_t rfl h))))))))))))))))))))))))))))))))))))))))))))))))))))))
theorem bb_fw148 {post : Int32 → Prop} (h : post 64) : wpX_firstWidth post (c, n, e, a1, a2, a3, a4, a5) 148 := br_f (by decide) (br_f (by decide) (br_f (by decide) (br_f (by decide) (br_f (by decide) (br_f (by decide) (br_f (by decide) (br_f (by decide) (br_t rfl h))))))))
theorem bb_sw148 {post : Int32 → Prop} (h : post 64) : wpX_secondWidth post (c, n, e, a1, a2, a3, a4, a5) 148 := br_f (by decide) (br_f (by decide) (br_f (by decide) (br_t rfl h)))
theorem bb_rw148 {post : Int32 → Prop} (h : post 32) : wpX_resultWidth post (c, n, e, a1, a2, a3, a4, a5) 148 := br_f (by decide) (br_f (by decide) (br_f (by decide) (br_f (by decide) (br_f (by decide) (br_f (by decide) (br_f (by decide) (br_f (by decide) (h))))))))
theorem bb_cm148 {post : Int64 → Prop} {x y : Int64} (h : post (bb_c148 x y)) : wpX_compute post (c, n, e, a1, a2, a3, a4, a5) 148 x y := by
  unfold bb_c148 at h
  by_cases h1 : x ≤ y
  · by_cases h2 : x = y
    · rw [if_pos h1, if_pos h2] at h
      exact br_f (by decide) (br_f (by decide) (br_f (by decide) (br_f (by decide) (br_f (by decide) (br_f (by decide) (br_f (by decide) (br_f (by decide) (br_f (by decide) (br_f (by decide) (br_f (by decide) (br_f (by decide) (br_f (by decide) (br_f (by decide) (br_f (by decide) (br_f (by decide) (br_f (by decide) (br_f (by decide) (br_f (by decide) (br_f (by decide) (br_f (by decide) (br_f (by decide) (br_f (by decide) (br_f (by decide) (br_f (by decide) (br_f (by decide) (br_f (by decide) (br_f (by decide) (br_f (by decide) (br_f (by decide) (br_f (by decide) (br_f (by decide) (br_f (by decide) (br_f (by decide) (br_f (by decide) (br_f (by decide) (br_f (by decide) (br_f (by decide) (br_f (by decide) (br_f (by decide) (br_f (by decide) (br_f (by decide) (br_f (by decide) (br_f (by decide) (br_f (by decide) (br_f (by decide) (br_f (by decide) (br_f (by decide) (br_f (by decide) (br_f (by decide) (br_f (by decide) (br_f (by decide) (br_f (by decide) (br_f (by decide) (br_t rfl (br_t h1 (br_t h2 h))))))))))))))))))))))))))))))))))))))))))))))))))))))))
    · rw [if_pos h1, if_neg h2] at h
      exact br_f (by decide) (br_f (by decide) (br_f (by decide) (br_f (by decide) (br_f (by decide) (br_f (by decide) (br_f (by decide) (br_f (by decide) (br_f (by decide) (br_f (by decide) (br_f (by decide) (br_f (by decide) (br_f (by decide) (br_f (by decide) (br_f (by decide) (br_f (by decide) (br_f (by decide) (br_f (by decide) (br_f (by decide) (br_f (by decide) (br_f (by decide) (br_f (by decide) (br_f (by decide) (br_f (by decide) (br_f (by decide) (br_f (by decide) (br_f (by decide) (br_f (by decide) (br_f (by decide) (br_f (by decide) (br_f (by decide) (br_f (by decide) (br_f (by decide) (br_f (by decide) (br_f (by decide) (br_f (by decide) (br_f (by decide) (br_f (by decide) (br_f (by decide) (br_f (by decide) (br_f (by decide) (br_f (by decide) (br_f (by decide) (br_f (by decide) (br_f (by decide) (br_f (by decide) (br_f (by decide) (br_f (by decide) (br_f (by decide) (br_f (by decide) (br_f (by decide) (br_f (by decide) (br_f (by decide) (br_f (by decide) (br_t rfl (br_t h1 (br_f h2 h))))))))))))))))))))))))))))))))))))))))))))))))))))))))
  · rw [if_neg h1] at h
    exact br_f (by decide) (br_f (by decide) (br_f (by decide) (br_f (by decide) (br_f (by decide) (br_f (by decide) (br_f (by decide) (br_f (by decide) (br_f (by decide) (br_f (by decide) (br_f (by decide) (br_f (by decide) (br_f (by decide) (br_f (by decide) (br_f (by decide) (br_f (by decide) (br_f (by decide) (br_f (by decide) (br_f (by decide) (br_f (by decide) (br_f (by decide) (br_f (by decide) (br_f (by decide) (br_f (by decide) (br_f (by decide) (br_f (by decide) (br_f (by decide) (br_f (by decide) (br_f (by decide) (br_f (by decide) (br_f (by decide) (br_f (by decide) (br_f (by decide) (br_f (by decide) (br_f (by decide) (br_f (by decide) (br_f (by decide) (br_f (by decide) (br_f (by decide) (br_f (by decide) (br_f (by decide) (br_f (by decide) (br_f (by decide) (br_f (by decide) (br_f (by decide) (br_f (by decide) (br_f (by decide) (br_f (by decide) (br_f (by decide) (br_f (by decide) (br_f (by decide) (br_f (by decide) (br_f (by decide) (br_f (by decide) (br_t rfl (br_f h1 h)))))))))))))))))))))))))))))))))))))))))))))))))))))))
theorem bb_ys148 {post : Int32 → Prop} (h : post 7) : wpY_shape post 148 := br_f (by decide) (br_f (by decide) (br_f (by decide) (br_f (by decide) (br_f (by decide) (br_f (by decide) (br_f (by decide) (br_f (by decide) (br_f (by decide) (br_f (by decide) (br_f (by decide) (br_f (by decide) (br_f (by decide) (br_f (by decide) (br_f (by decide) (br_f (by decide) (br_f (by decide) (br_f (by decide) (br_f (by decide) (br_f (by decide) (br_f (by decide) (br_f (by decide) (br_f (by decide) (br_f (by decide) (br_f (by decide) (br_f (by decide) (br_f (by decide) (br_f (by decide) (br_f (by decide) (br_f (by decide) (br_f (by decide) (br_f (by decide) (br_f (by decide) (br_f (by decide) (br_f (by decide) (br_f (by decide) (br_f (by decide) (br_f (by decide) (br_f (by decide) (br_f (by decide) (br_f (by decide) (br_f (by decide) (br_f (by decide) (br_f (by decide) (br_f (by decide) (br_f (by decide) (br_f (by decide) (br_f (by decide) (br_f (by decide) (br_f (by decide) (br_f (by decide) (br_f (by decide) (br_f (by decide) (br_f (by decide) (br_t rfl h))))))))))))))))))))))))))))))))))))))))))))))))))))))
theorem bb_ar_no {post : Int32 → Prop} {p : Int32} (hn : ¬ ∃ o, o ∈ bb_Ops ∧ p = nI o) (h : post 0) : wpX_arity post (c, n, e, a1, a2, a3, a4, a5) p := br_c (fun _ => h) (fun _ => br_c (fun _ => h) (fun _ => br_c (fun z => absurd ⟨96, by decide, z⟩ hn) (fun _ => br_c (fun z => absurd ⟨97, by decide, z⟩ hn) (fun _ => br_c (fun _ => h) (fun _ => br_c (fun _ => h) (fun _ => br_c (fun z => absurd ⟨100, by decide, z⟩ hn) (fun _ => br_c (fun z => absurd ⟨101, by decide, z⟩ hn) (fun _ => br_c (fun _ => h) (fun _ => br_c (fun _ => h) (fun _ => br_c (fun z => absurd ⟨104, by decide, z⟩ hn) (fun _ => br_c (fun z => absurd ⟨105, by decide, z⟩ hn) (fun _ => br_c (fun _ => h) (fun _ => br_c (fun _ => h) (fun _ => br_c (fun _ => h) (fun _ => br_c (fun _ => h) (fun _ => br_c (fun _ => h) (fun _ => br_c (fun _ => h) (fun _ => br_c (fun _ => h) (fun _ => br_c (fun _ => h) (fun _ => br_c (fun _ => h) (fun _ => br_c (fun _ => h) (fun _ => br_c (fun z => absurd ⟨116, by decide, z⟩ hn) (fun _ => br_c (fun z => absurd ⟨117, by decide, z⟩ hn) (fun _ => br_c (fun _ => h) (fun _ => br_c (fun _ => h) (fun _ => br_c (fun z => absurd ⟨120, by decide, z⟩ hn) (fun _ => br_c (fun z => absurd ⟨121, by decide, z⟩ hn) (fun _ => br_c (fun z => absurd ⟨122, by decide, z⟩ hn) (fun _ => br_c (fun z => absurd ⟨123, by decide, z⟩ hn) (fun _ => br_c (fun z => absurd ⟨124, by decide, z⟩ hn) (fun _ => br_c (fun z => absurd ⟨125, by decide, z⟩ hn) (fun _ => br_c (fun _ => h) (fun _ => br_c (fun _ => h) (fun _ => br_c (fun _ => h) (fun _ => br_c (fun _ => h) (fun _ => br_c (fun _ => h) (fun _ => br_c (fun _ => h) (fun _ => br_c (fun _ => h) (fun _ => br_c (fun z => absurd ⟨133, by decide, z⟩ hn) (fun _ => br_c (fun _ => h) (fun _ => br_c (fun _ => h) (fun _ => br_c (fun z => absurd ⟨136, by decide, z⟩ hn) (fun _ => br_c (fun _ => h) (fun _ => br_c (fun _ => h) (fun _ => br_c (fun _ => h) (fun _ => br_c (fun _ => h) (fun _ => br_c (fun _ => h) (fun _ => br_c (fun _ => h) (fun _ => br_c (fun _ => h) (fun _ => br_c (fun _ => h) (fun _ => br_c (fun z => absurd ⟨145, by decide, z⟩ hn) (fun _ => br_c (fun z => absurd ⟨146, by decide, z⟩ hn) (fun _ => br_c (fun z => absurd ⟨147, by decide, z⟩ hn) (fun _ => br_c (fun z => absurd ⟨148, by decide, z⟩ hn) (fun _ => trivial)))))))))))))))))))))))))))))))))))))))))))))))))))))))
theorem bb_ys_no {post : Int32 → Prop} {p : Int32} (hn : ¬ ∃ o, o ∈ bb_Ops ∧ p = nI o) (h : post (-1)) : wpY_shape post p := br_c (fun _ => h) (fun _ => br_c (fun _ => h) (fun _ => br_c (fun z => absurd ⟨96, by decide, z⟩ hn) (fun _ => br_c (fun z => absurd ⟨97, by decide, z⟩ hn) (fun _ => br_c (fun _ => h) (fun _ => br_c (fun _ => h) (fun _ => br_c (fun z => absurd ⟨100, by decide, z⟩ hn) (fun _ => br_c (fun z => absurd ⟨101, by decide, z⟩ hn) (fun _ => br_c (fun _ => h) (fun _ => br_c (fun _ => h) (fun _ => br_c (fun z => absurd ⟨104, by decide, z⟩ hn) (fun _ => br_c (fun z => absurd ⟨105, by decide, z⟩ hn) (fun _ => br_c (fun _ => h) (fun _ => br_c (fun _ => h) (fun _ => br_c (fun _ => h) (fun _ => br_c (fun _ => h) (fun _ => br_c (fun _ => h) (fun _ => br_c (fun _ => h) (fun _ => br_c (fun _ => h) (fun _ => br_c (fun _ => h) (fun _ => br_c (fun _ => h) (fun _ => br_c (fun _ => h) (fun _ => br_c (fun z => absurd ⟨116, by decide, z⟩ hn) (fun _ => br_c (fun z => absurd ⟨117, by decide, z⟩ hn) (fun _ => br_c (fun _ => h) (fun _ => br_c (fun _ => h) (fun _ => br_c (fun z => absurd ⟨120, by decide, z⟩ hn) (fun _ => br_c (fun z => absurd ⟨121, by decide, z⟩ hn) (fun _ => br_c (fun z => absurd ⟨122, by decide, z⟩ hn) (fun _ => br_c (fun z => absurd ⟨123, by decide, z⟩ hn) (fun _ => br_c (fun z => absurd ⟨124, by decide, z⟩ hn) (fun _ => br_c (fun z => absurd ⟨125, by decide, z⟩ hn) (fun _ => br_c (fun _ => h) (fun _ => br_c (fun _ => h) (fun _ => br_c (fun _ => h) (fun _ => br_c (fun _ => h) (fun _ => br_c (fun _ => h) (fun _ => br_c (fun _ => h) (fun _ => br_c (fun _ => h) (fun _ => br_c (fun z => absurd ⟨133, by decide, z⟩ hn) (fun _ => br_c (fun _ => h) (fun _ => br_c (fun _ => h) (fun _ => br_c (fun z => absurd ⟨136, by decide, z⟩ hn) (fun _ => br_c (fun _ => h) (fun _ => br_c (fun _ => h) (fun _ => br_c (fun _ => h) (fun _ => br_c (fun _ => h) (fun _ => br_c (fun _ => h) (fun _ => br_c (fun _ => h) (fun _ => br_c (fun _ => h) (fun _ => br_c (fun _ => h) (fun _ => br_c (fun z => absurd ⟨145, by decide, z⟩ hn) (fun _ => br_c (fun z => absurd ⟨146, by decide, z⟩ hn) (fun _ => br_c (fun z => absurd ⟨147, by decide, z⟩ hn) (fun _ => br_c (fun z => absurd ⟨148, by decide, z⟩ hn) (fun _ => trivial)))))))))))))))))))))))))))))))))))))))))))))))))))))))
theorem bb_ar {post : Int32 → Prop} {o : Nat} (ho : o ∈ bb_Ops) : post (if bb_two o then 2 else 1) → wpX_arity post (c, n, e, a1, a2, a3, a4, a5) (nI o) := bb_cases (P := fun o => post (if bb_two o then 2 else 1) → wpX_arity post (c, n, e, a1, a2, a3, a4, a5) (nI o)) bb_ar96 bb_ar97 bb_ar100 bb_ar101 bb_ar104 bb_ar105 bb_ar116 bb_ar117 bb_ar120 bb_ar121 bb_ar122 bb_ar123 bb_ar124 bb_ar125 bb_ar133 bb_ar136 bb_ar145 bb_ar146 bb_ar147 bb_ar148 ho
theorem bb_fw {post : Int32 → Prop} {o : Nat} (ho : o ∈ bb_Ops) : post (if bb_w1 o then 64 else 32) → wpX_firstWidth post (c, n, e, a1, a2, a3, a4, a5) (nI o) := bb_cases (P := fun o => post (if bb_w1 o then 64 else 32) → wpX_firstWidth post (c, n, e, a1, a2, a3, a4, a5) (nI o)) bb_fw96 bb_fw97 bb_fw100 bb_fw101 bb_fw104 bb_fw105 bb_fw116 bb_fw117 bb_fw120 bb_fw121 bb_fw122 bb_fw123 bb_fw124 bb_fw125 bb_fw133 bb_fw136 bb_fw145 bb_fw146 bb_fw147 bb_fw148 ho
theorem bb_sw {post : Int32 → Prop} {o : Nat} (ho : o ∈ bb_Ops) : post (if bb_w2 o then 64 else 32) → wpX_secondWidth post (c, n, e, a1, a2, a3, a4, a5) (nI o) := bb_cases (P := fun o => post (if bb_w2 o then 64 else 32) → wpX_secondWidth post (c, n, e, a1, a2, a3, a4, a5) (nI o)) bb_sw96 bb_sw97 bb_sw100 bb_sw101 bb_sw104 bb_sw105 bb_sw116 bb_sw117 bb_sw120 bb_sw121 bb_sw122 bb_sw123 bb_sw124 bb_sw125 bb_sw133 bb_sw136 bb_sw145 bb_sw146 bb_sw147 bb_sw148 ho
theorem bb_rw {post : Int32 → Prop} {o : Nat} (ho : o ∈ bb_Ops) : post (if bb_wr o then 64 else 32) → wpX_resultWidth post (c, n, e, a1, a2, a3, a4, a5) (nI o) := bb_cases (P := fun o => post (if bb_wr o then 64 else 32) → wpX_resultWidth post (c, n, e, a1, a2, a3, a4, a5) (nI o)) bb_rw96 bb_rw97 bb_rw100 bb_rw101 bb_rw104 bb_rw105 bb_rw116 bb_rw117 bb_rw120 bb_rw121 bb_rw122 bb_rw123 bb_rw124 bb_rw125 bb_rw133 bb_rw136 bb_rw145 bb_rw146 bb_rw147 bb_rw148 ho
theorem bb_cm {post : Int64 → Prop} {x y : Int64} {o : Nat} (ho : o ∈ bb_Ops) : post (bb_comp o x y) → wpX_compute post (c, n, e, a1, a2, a3, a4, a5) (nI o) x y := bb_cases (P := fun o => post (bb_comp o x y) → wpX_compute post (c, n, e, a1, a2, a3, a4, a5) (nI o) x y) bb_cm96 bb_cm97 bb_cm100 bb_cm101 bb_cm104 bb_cm105 bb_cm116 bb_cm117 bb_cm120 bb_cm121 bb_cm122 bb_cm123 bb_cm124 bb_cm125 bb_cm133 bb_cm136 bb_cm145 bb_cm146 bb_cm147 bb_cm148 ho
theorem bb_ys {post : Int32 → Prop} {o : Nat} (ho : o ∈ bb_Ops) : post (bb_shape o) → wpY_shape post (nI o) := bb_cases (P := fun o => post (bb_shape o) → wpY_shape post (nI o)) bb_ys96 bb_ys97 bb_ys100 bb_ys101 bb_ys104 bb_ys105 bb_ys116 bb_ys117 bb_ys120 bb_ys121 bb_ys122 bb_ys123 bb_ys124 bb_ys125 bb_ys133 bb_ys136 bb_ys145 bb_ys146 bb_ys147 bb_ys148 ho
end
theorem bb_opX : ∀ o, o ∈ bb_Ops → (nI o).toInt8.toInt32 &&& 255 = nI o ∧ ¬ (nI o).toInt8.toInt32 = 0 ∧ ¬ nI o = 0 ∧ o < 256 := by decide +kernel
theorem bb_sh1 (b1 b2 b4 b8 : Bool) : (nI (b1.toNat + 2 * b2.toNat + 4 * b4.toNat + 8 * b8.toNat) &&& 1 = 0 ↔ b1 = false) ∧ (nI (b1.toNat + 2 * b2.toNat + 4 * b4.toNat + 8 * b8.toNat) &&& 2 = 0 ↔ b2 = false) ∧ (nI (b1.toNat + 2 * b2.toNat + 4 * b4.toNat + 8 * b8.toNat) &&& 4 = 0 ↔ b4 = false) ∧ (nI (b1.toNat + 2 * b2.toNat + 4 * b4.toNat + 8 * b8.toNat) &&& 8 = 0 ↔ b8 = false) ∧ 0 ≤ nI (b1.toNat + 2 * b2.toNat + 4 * b4.toNat + 8 * b8.toNat) := by
  cases b1 <;> cases b2 <;> cases b4 <;> cases b8 <;> decide +kernel
end
section
/-! ===== the component's arithmetic by its bits: what the gates leave is what compute answers ===== -/
theorem bb_n32 (x : Int64) : x.toInt32.toBitVec = x.toBitVec.setWidth 32 := by rw [Int64.toBitVec_toInt32, BitVec.signExtend_eq_setWidth_of_le _ (by decide)]
theorem bb_bt (x : Int64) {i : Nat} (hi : i < 32) : x.toInt32.toBitVec.getLsbD i = x.toBitVec.getLsbD i := by rw [bb_n32, BitVec.getLsbD_setWidth, decide_eq_true hi, Bool.true_and]
theorem bb_fin32 {x : Int32} {R : BitVec 64} (h : ∀ i, i < 32 → x.toBitVec.getLsbD i = R.getLsbD i) : x.toInt64.toBitVec = bb_fin false R := by
  have e : x.toBitVec = R.setWidth 32 := BitVec.eq_of_getLsbD_eq (fun i hi => by rw [h i hi, BitVec.getLsbD_setWidth, decide_eq_true hi, Bool.true_and])
  show x.toBitVec.signExtend 64 = (R.setWidth 32).signExtend 64
  rw [e]
theorem bb_fin_sw {x : Int32} {R : BitVec 64} (h : x.toBitVec = R.setWidth 32) : x.toInt64.toBitVec = bb_fin false R := by
  show x.toBitVec.signExtend 64 = (R.setWidth 32).signExtend 64
  rw [h]
theorem bb_L96 {a b : Int64} {R : BitVec 64} (h : bb_lo 32 R (a.toBitVec + b.toBitVec)) : (bb_c96 a b).toBitVec = bb_fin false R :=
  bb_fin_sw (by rw [Int32.toBitVec_add, bb_n32, bb_n32, bb_lo_sw h, BitVec.setWidth_add _ _ (by decide)])
theorem bb_L97 {a b : Int64} {R : BitVec 64} (h : bb_lo 64 R (a.toBitVec + b.toBitVec)) : (bb_c97 a b).toBitVec = bb_fin true R := (bb_lo_64 h).symm
theorem bb_L100 {a b : Int64} {R : BitVec 64} (h : bb_lo 32 R (a.toBitVec - b.toBitVec)) : (bb_c100 a b).toBitVec = bb_fin false R :=
  bb_fin_sw (by rw [Int32.toBitVec_sub, bb_n32, bb_n32, bb_lo_sw h, BitVec.sub_eq_add_neg, BitVec.sub_eq_add_neg, BitVec.setWidth_add _ _ (by decide), BitVec.setWidth_neg_of_le (by decide)])
theorem bb_L101 {a b : Int64} {R : BitVec 64} (h : bb_lo 64 R (a.toBitVec - b.toBitVec)) : (bb_c101 a b).toBitVec = bb_fin true R := (bb_lo_64 h).symm
theorem bb_L104 {a b : Int64} {R : BitVec 64} (h : bb_lo 32 R (a.toBitVec * b.toBitVec)) : (bb_c104 a b).toBitVec = bb_fin false R :=
  bb_fin_sw (by rw [Int32.toBitVec_mul, bb_n32, bb_n32, bb_lo_sw h, BitVec.setWidth_mul _ _ (by decide)])
theorem bb_L105 {a b : Int64} {R : BitVec 64} (h : bb_lo 64 R (a.toBitVec * b.toBitVec)) : (bb_c105 a b).toBitVec = bb_fin true R := (bb_lo_64 h).symm
theorem bb_L116 {a b : Int64} {R : BitVec 64} (h : bb_lo 32 R (0#64 - a.toBitVec)) : (bb_c116 a b).toBitVec = bb_fin false R :=
  bb_fin_sw (by rw [Int32.toBitVec_neg, bb_n32, bb_lo_sw h, BitVec.zero_sub, BitVec.setWidth_neg_of_le (by decide)])
theorem bb_L117 {a b : Int64} {R : BitVec 64} (h : bb_lo 64 R (0#64 - a.toBitVec)) : (bb_c117 a b).toBitVec = bb_fin true R := by
  rw [BitVec.zero_sub] at h
  exact (bb_lo_64 h).symm
theorem bb_amt (b : Int64) {m : Int32} (k : Nat) (hk : k ≤ 6) (hm : m.toBitVec.toNat = 2 ^ k - 1) : b.toInt32 &&& m = nI (b.toBitVec.toNat % 2 ^ k) := by
  rw [pk_and b.toInt32 k hm, bb_n32, BitVec.toNat_setWidth, Nat.mod_mod_of_dvd _ (Nat.pow_dvd_pow 2 (by omega))]
theorem bb_a5 (b : Int64) : b.toInt32 &&& 31 = nI (b.toBitVec.toNat % 2 ^ 5) := bb_amt b 5 (by decide) (by decide)
theorem bb_a6 (b : Int64) : b.toInt32 &&& 63 = nI (b.toBitVec.toNat % 2 ^ 6) := bb_amt b 6 (by decide) (by decide)
theorem bb_L120 {a b : Int64} {R : BitVec 64} (h : ∀ i, i < 32 → R.getLsbD i = bb_sh true false 32 (b.toBitVec.toNat % 2 ^ 5) a.toBitVec i) : (bb_c120 a b).toBitVec = bb_fin false R := by
  unfold bb_c120
  refine bb_fin32 (fun i hi => ?_)
  rw [bb_a5, h i hi]
  have hs : b.toBitVec.toNat % 2 ^ 5 < 32 := Nat.mod_lt _ (by decide)
  generalize b.toBitVec.toNat % 2 ^ 5 = s at hs
  refine (b_shl s hs a.toInt32 hi).trans ?_
  show (decide (s ≤ i) && a.toInt32.toBitVec.getLsbD (i - s)) = (decide (s ≤ i) && a.toBitVec.getLsbD (i - s))
  rw [bb_bt a (by omega)]
theorem bb_L122 {a b : Int64} {R : BitVec 64} (h : ∀ i, i < 32 → R.getLsbD i = bb_sh false true 32 (b.toBitVec.toNat % 2 ^ 5) a.toBitVec i) : (bb_c122 a b).toBitVec = bb_fin false R := by
  unfold bb_c122
  refine bb_fin32 (fun i hi => ?_)
  rw [bb_a5, h i hi]
  have hs : b.toBitVec.toNat % 2 ^ 5 < 32 := Nat.mod_lt _ (by decide)
  generalize b.toBitVec.toNat % 2 ^ 5 = s at hs
  refine (b_sshr s hs a.toInt32 hi).trans ?_
  show (if s + i < 32 then a.toInt32.toBitVec.getLsbD (s + i) else a.toInt32.toBitVec.getLsbD 31) = (if i + s < 32 then a.toBitVec.getLsbD (i + s) else (true && a.toBitVec.getLsbD 31))
  rw [Nat.add_comm s i]
  by_cases z : i + s < 32
  · rw [if_pos z, if_pos z, bb_bt a z]
  · rw [if_neg z, if_neg z, bb_bt a (by decide), Bool.true_and]
theorem bb_L124 {a b : Int64} {R : BitVec 64} (h : ∀ i, i < 32 → R.getLsbD i = bb_sh false false 32 (b.toBitVec.toNat % 2 ^ 5) a.toBitVec i) : (bb_c124 a b).toBitVec = bb_fin false R := by
  unfold bb_c124
  refine bb_fin32 (fun i hi => ?_)
  rw [bb_a5, h i hi]
  have hs : b.toBitVec.toNat % 2 ^ 5 < 32 := Nat.mod_lt _ (by decide)
  generalize b.toBitVec.toNat % 2 ^ 5 = s at hs
  refine (b_ushr s hs a.toInt32 i).trans ?_
  show a.toInt32.toBitVec.getLsbD (s + i) = (if i + s < 32 then a.toBitVec.getLsbD (i + s) else (false && a.toBitVec.getLsbD 31))
  rw [Nat.add_comm s i]
  by_cases z : i + s < 32
  · rw [if_pos z, bb_bt a z]
  · rw [if_neg z, Bool.false_and]
    exact BitVec.getLsbD_of_ge _ _ (by omega)
theorem bb_l6 {s : Nat} (hs : s < 64) : (((nI s).toInt64 &&& 63).toBitVec.smod 64).toNat = s := by
  rw [wb_c s hs, wb_tb, wb_sm s hs, BitVec.toNat_ofNat, Nat.mod_eq_of_lt (by omega)]
theorem bb_L121 {a b : Int64} {R : BitVec 64} (h : ∀ i, i < 64 → R.getLsbD i = bb_sh true false 64 (b.toBitVec.toNat % 2 ^ 6) a.toBitVec i) : (bb_c121 a b).toBitVec = bb_fin true R := by
  unfold bb_c121
  refine BitVec.eq_of_getLsbD_eq (fun i hi => ?_)
  show _ = R.getLsbD i
  rw [bb_a6, h i hi]
  have hs : b.toBitVec.toNat % 2 ^ 6 < 64 := Nat.mod_lt _ (by decide)
  generalize b.toBitVec.toNat % 2 ^ 6 = s at hs
  show (a.toBitVec <<< (((nI s).toInt64 &&& 63).toBitVec.smod 64).toNat).getLsbD i = (decide (s ≤ i) && a.toBitVec.getLsbD (i - s))
  rw [bb_l6 hs, BitVec.getLsbD_shiftLeft, decide_eq_true hi, Bool.true_and]
  by_cases z : s ≤ i
  · rw [decide_eq_true z, decide_eq_false (by omega)]
    rfl
  · rw [decide_eq_false z, decide_eq_true (by omega)]
    rfl
theorem bb_L123 {a b : Int64} {R : BitVec 64} (h : ∀ i, i < 64 → R.getLsbD i = bb_sh false true 64 (b.toBitVec.toNat % 2 ^ 6) a.toBitVec i) : (bb_c123 a b).toBitVec = bb_fin true R := by
  unfold bb_c123
  refine BitVec.eq_of_getLsbD_eq (fun i hi => ?_)
  show _ = R.getLsbD i
  rw [bb_a6, h i hi]
  have hs : b.toBitVec.toNat % 2 ^ 6 < 64 := Nat.mod_lt _ (by decide)
  generalize b.toBitVec.toNat % 2 ^ 6 = s at hs
  show (a.toBitVec.sshiftRight (((nI s).toInt64 &&& 63).toBitVec.smod 64).toNat).getLsbD i = (if i + s < 64 then a.toBitVec.getLsbD (i + s) else (true && a.toBitVec.getLsbD 63))
  rw [bb_l6 hs, BitVec.getLsbD_sshiftRight, BitVec.msb_eq_getLsbD_last, decide_eq_false (by omega), Nat.add_comm s i]
  rfl
theorem bb_L125 {a b : Int64} {R : BitVec 64} (h : ∀ i, i < 64 → R.getLsbD i = bb_sh false false 64 (b.toBitVec.toNat % 2 ^ 6) a.toBitVec i) : (bb_c125 a b).toBitVec = bb_fin true R := by
  unfold bb_c125
  refine BitVec.eq_of_getLsbD_eq (fun i hi => ?_)
  show _ = R.getLsbD i
  rw [bb_a6, h i hi]
  have hs : b.toBitVec.toNat % 2 ^ 6 < 64 := Nat.mod_lt _ (by decide)
  generalize b.toBitVec.toNat % 2 ^ 6 = s at hs
  have e : (a.toUInt64 >>> ((nI s).toInt64.toUInt64 &&& Int64.toUInt64 63)).toInt64.toBitVec = a.toBitVec >>> s := by
    apply BitVec.eq_of_toNat_eq
    show (a.toUInt64 >>> ((nI s).toInt64.toUInt64 &&& Int64.toUInt64 63)).toNat = _
    rw [UInt64.toNat_shiftRight, wb_cu s hs, u_tn (by omega), Nat.mod_eq_of_lt hs, BitVec.toNat_ushiftRight]
    rfl
  rw [e, BitVec.getLsbD_ushiftRight, Nat.add_comm s i]
  show a.toBitVec.getLsbD (i + s) = (if i + s < 64 then a.toBitVec.getLsbD (i + s) else (false && a.toBitVec.getLsbD 63))
  by_cases z : i + s < 64
  · rw [if_pos z]
  · rw [if_neg z, Bool.false_and]
    exact BitVec.getLsbD_of_ge _ _ (by omega)
theorem bb_L133 {a b : Int64} {R : BitVec 64} (h : ∀ i, i < 64 → R.getLsbD i = if i < 31 + 1 then a.toBitVec.getLsbD i else (true && a.toBitVec.getLsbD 31)) : (bb_c133 a b).toBitVec = bb_fin true R := by
  refine (bb_fin32 (R := a.toBitVec) (fun i hi => bb_bt a hi)).trans (BitVec.eq_of_getLsbD_eq (fun i hi => ?_))
  rw [bb_fin_b _ hi]
  exact (h i hi).symm
theorem bb_L136 {a b : Int64} {R : BitVec 64} (h : ∀ i, i < 64 → R.getLsbD i = if i < 31 + 1 then a.toBitVec.getLsbD i else (true && a.toBitVec.getLsbD 31)) : (bb_c136 a b).toBitVec = bb_fin false R :=
  bb_fin32 (fun i hi => by rw [h i (by omega), if_pos (by omega), bb_bt a hi])
theorem bb_L145 {a b : Int64} {R : BitVec 64} (h : ∀ i, i < 64 → R.getLsbD i = if i < 7 + 1 then a.toBitVec.getLsbD i else (true && a.toBitVec.getLsbD 7)) : (bb_c145 a b).toBitVec = bb_fin false R := by
  refine bb_fin32 (fun i hi => ?_)
  rw [h i (by omega), Int8.toBitVec_toInt32, Int32.toBitVec_toInt8, BitVec.getLsbD_signExtend, decide_eq_true hi, Bool.true_and, BitVec.msb_eq_getLsbD_last, BitVec.getLsbD_signExtend, BitVec.getLsbD_signExtend]
  by_cases z : i < 8
  · rw [if_pos z, if_pos z, decide_eq_true z, Bool.true_and, if_pos hi, bb_bt a hi]
  · rw [if_neg z, if_neg z, ← bb_bt a (by decide)]
    rfl
theorem bb_L147 {a b : Int64} {R : BitVec 64} (h : ∀ i, i < 64 → R.getLsbD i = if i < 15 + 1 then a.toBitVec.getLsbD i else (true && a.toBitVec.getLsbD 15)) : (bb_c147 a b).toBitVec = bb_fin false R := by
  refine bb_fin32 (fun i hi => ?_)
  rw [h i (by omega), Int16.toBitVec_toInt32, Int32.toBitVec_toInt16, BitVec.getLsbD_signExtend, decide_eq_true hi, Bool.true_and, BitVec.msb_eq_getLsbD_last, BitVec.getLsbD_signExtend, BitVec.getLsbD_signExtend]
  by_cases z : i < 16
  · rw [if_pos z, if_pos z, decide_eq_true z, Bool.true_and, if_pos hi, bb_bt a hi]
  · rw [if_neg z, if_neg z, ← bb_bt a (by decide)]
    rfl
theorem bb_L146 {a b : Int64} {R : BitVec 64} (h : ∀ i, i < 64 → R.getLsbD i = if i < 15 + 1 then a.toBitVec.getLsbD i else (false && a.toBitVec.getLsbD 15)) : (bb_c146 a b).toBitVec = bb_fin false R := by
  refine bb_fin32 (fun i hi => ?_)
  rw [h i (by omega), pk_char]
  show (BitVec.ofNat 32 (a.toInt32.toBitVec.toNat % 2 ^ 16)).getLsbD i = _
  rw [BitVec.getLsbD_ofNat, Nat.testBit_mod_two_pow, BitVec.testBit_toNat, decide_eq_true hi, Bool.true_and, bb_bt a hi]
  by_cases z : i < 16
  · rw [if_pos z, decide_eq_true z, Bool.true_and]
  · rw [if_neg z, decide_eq_false z, Bool.false_and, Bool.false_and]
theorem bb_gl (A B : BitVec 64) : ∀ i, i ≤ 63 → (A.toNat % 2 ^ i < B.toNat % 2 ^ i → bb_g A B i = -1) ∧ (A.toNat % 2 ^ i = B.toNat % 2 ^ i → bb_g A B i = 0) ∧ (B.toNat % 2 ^ i < A.toNat % 2 ^ i → bb_g A B i = 1) := by
  intro i
  induction i with
  | zero =>
    intro _
    rw [Nat.pow_zero, Nat.mod_one, Nat.mod_one]
    exact ⟨fun h => absurd h (Nat.lt_irrefl 0), fun _ => rfl, fun h => absurd h (Nat.lt_irrefl 0)⟩
  | succ i ih =>
    intro hi
    have ih := ih (by omega)
    have eg : bb_g A B (i + 1) = if A.getLsbD i = B.getLsbD i then bb_g A B i else if A.getLsbD i = decide (i = 63) then -1 else 1 := rfl
    rw [decide_eq_false (show ¬ i = 63 by omega)] at eg
    rw [eg, bb_mod A.toNat, bb_mod B.toNat, BitVec.testBit_toNat, BitVec.testBit_toNat]
    have hA := Nat.mod_lt A.toNat (Nat.two_pow_pos i)
    have hB := Nat.mod_lt B.toNat (Nat.two_pow_pos i)
    generalize A.toNat % 2 ^ i = p at *
    generalize B.toNat % 2 ^ i = q at *
    generalize 2 ^ i = m at *
    obtain ⟨i1, i2, i3⟩ := ih
    cases A.getLsbD i <;> cases B.getLsbD i
    · rw [if_pos rfl]
      exact ⟨fun h => i1 (by simpa using h), fun h => i2 (by simpa using h), fun h => i3 (by simpa using h)⟩
    · rw [if_neg (by decide), if_pos rfl]
      refine ⟨fun _ => rfl, fun h => ?_, fun h => ?_⟩
      · simp at h; omega
      · simp at h; omega
    · rw [if_neg (by decide), if_neg (by decide)]
      refine ⟨fun h => ?_, fun h => ?_, fun _ => rfl⟩
      · simp at h; omega
      · simp at h; omega
    · rw [if_pos rfl]
      exact ⟨fun h => i1 (by simpa using h), fun h => i2 (by simpa using h), fun h => i3 (by simpa using h)⟩
theorem bb_ti (A : BitVec 64) : (A.getLsbD 63 = false → A.toInt = (A.toNat % 2 ^ 63 : Nat)) ∧ (A.getLsbD 63 = true → A.toInt = ((A.toNat % 2 ^ 63 : Nat) : Int) - 2 ^ 63) := by
  have hm := bb_mod A.toNat 63
  rw [BitVec.testBit_toNat, Nat.mod_eq_of_lt (show A.toNat < 2 ^ (63 + 1) from A.isLt)] at hm
  have hl := Nat.mod_lt A.toNat (Nat.two_pow_pos 63)
  rw [BitVec.toInt_eq_toNat_cond]
  generalize A.toNat % 2 ^ 63 = p at *
  generalize A.toNat = n at *
  constructor
  · intro h
    rw [h] at hm
    simp at hm
    subst hm
    rw [if_pos (by omega)]
  · intro h
    rw [h] at hm
    simp at hm
    subst hm
    rw [if_neg (by omega)]
    omega
theorem bb_g64 (a b : Int64) : bb_g a.toBitVec b.toBitVec 64 = if a ≤ b then (if a = b then 0 else -1) else 1 := by
  have eg : bb_g a.toBitVec b.toBitVec 64 = if a.toBitVec.getLsbD 63 = b.toBitVec.getLsbD 63 then bb_g a.toBitVec b.toBitVec 63 else if a.toBitVec.getLsbD 63 = true then -1 else 1 := rfl
  obtain ⟨i1, i2, i3⟩ := bb_gl a.toBitVec b.toBitVec 63 (Nat.le_refl 63)
  obtain ⟨a1, a2⟩ := bb_ti a.toBitVec
  obtain ⟨b1, b2⟩ := bb_ti b.toBitVec
  have ha := Nat.mod_lt a.toBitVec.toNat (Nat.two_pow_pos 63)
  have hb := Nat.mod_lt b.toBitVec.toNat (Nat.two_pow_pos 63)
  have le : a ≤ b ↔ a.toBitVec.toInt ≤ b.toBitVec.toInt := Int64.le_iff_toInt_le
  have eq : a = b ↔ a.toBitVec.toInt = b.toBitVec.toInt := Int64.toInt_inj.symm
  rw [eg]
  simp only [le, eq]
  generalize a.toBitVec.toNat % 2 ^ 63 = p at *
  generalize b.toBitVec.toNat % 2 ^ 63 = q at *
  generalize a.toBitVec.toInt = x at *
  generalize b.toBitVec.toInt = y at *
  generalize bb_g a.toBitVec b.toBitVec 63 = g at *
  cases hA : a.toBitVec.getLsbD 63 <;> cases hB : b.toBitVec.getLsbD 63
  · rw [a1 hA, b1 hB, if_pos rfl]
    rcases Nat.lt_trichotomy p q with z | z | z
    · rw [i1 z, if_pos (by omega), if_neg (by omega)]
    · rw [i2 z, if_pos (by omega), if_pos (by omega)]
    · rw [i3 z, if_neg (by omega)]
  · rw [a1 hA, b2 hB, if_neg (by decide), if_neg (by decide), if_neg (by omega)]
  · rw [a2 hA, b1 hB, if_neg (by decide), if_pos rfl, if_pos (by omega), if_neg (by omega)]
  · rw [a2 hA, b2 hB, if_pos rfl]
    rcases Nat.lt_trichotomy p q with z | z | z
    · rw [i1 z, if_pos (by omega), if_neg (by omega)]
    · rw [i2 z, if_pos (by omega), if_pos (by omega)]
    · rw [i3 z, if_neg (by omega)]
theorem bb_m1 : ∀ i, i < 64 → (-1 : Int64).toBitVec.getLsbD i = true := by decide +kernel
theorem bb_one : ∀ i, i < 64 → (1 : Int64).toBitVec.getLsbD i = decide (i = 0) := by decide +kernel
theorem bb_L148 {a b : Int64} {R : BitVec 64} (h : ∀ i, i < 64 → R.getLsbD i = if i = 0 then decide (¬ bb_g a.toBitVec b.toBitVec 64 = 0) else decide (¬ 0 ≤ bb_g a.toBitVec b.toBitVec 64)) : (bb_c148 a b).toBitVec = bb_fin false R := by
  rw [bb_g64] at h
  unfold bb_c148
  refine BitVec.eq_of_getLsbD_eq (fun i hi => ?_)
  rw [bb_fin_b R hi, h 31 (by decide), h i hi, if_neg (show ¬ (31 : Nat) = 0 by decide), Bool.true_and]
  by_cases z : a ≤ b
  · by_cases z2 : a = b
    · rw [if_pos z, if_pos z2, if_pos z, if_pos z2]
      show (0#64).getLsbD i = _
      rw [BitVec.getLsbD_zero, decide_eq_false (by decide), decide_eq_false (by decide)]
      by_cases h0 : i = 0
      · rw [if_pos h0]; split <;> rfl
      · rw [if_neg h0]; split <;> rfl
    · rw [if_pos z, if_neg z2, if_pos z, if_neg z2, bb_m1 i hi, decide_eq_true (by decide), decide_eq_true (by decide)]
      by_cases h0 : i = 0
      · rw [if_pos h0]; split <;> rfl
      · rw [if_neg h0]; split <;> rfl
  · rw [if_neg z, if_neg z, bb_one i hi, decide_eq_true (show ¬ (1 : Int32) = 0 by decide), decide_eq_false (show ¬ ¬ (0 : Int32) ≤ 1 by decide)]
    by_cases h0 : i = 0
    · rw [if_pos h0, decide_eq_true h0, if_pos (by omega)]
    · rw [if_neg h0, decide_eq_false h0]; split <;> rfl
theorem bb_L0 {g : Int64} (wd : Bool) : (if wd then g else g.toInt32.toInt64).toBitVec = bb_fin wd g.toBitVec := by
  cases wd with
  | true => rfl
  | false => exact bb_fin32 (fun i hi => bb_bt g hi)
end
section
/-! ===== the reference's step, opcode by opcode (printed by gen09.py) ===== -/
section
variable {post : Int64 → SY → Prop} {lim fn : Int32} {ep : Int64} {op lh rh wi : Nat → Int32} {gi : Nat → Int64} {a : Nat → Int32}
theorem bb_front {t l q o : Nat} {x6 : Int32} {wl : Bool} (ht : t < 12) (hl : l < 12) (hop : op t = nI o) (hlh : lh t = nI l) (hrh : rh t = nI q) (hwl : wi l = bb_i wl)
    (h6 : (132 ≤ nI o ∧ nI o = x6) ∨ (¬ 132 ≤ nI o ∧ nI o &&& 254 = x6))
    (K : ∀ n, wY_step_81 post (nI t) (nI (t * 64)) (nI (l * 64)) (nI (q * 64)) (nI o) x6 (nI (if wl then 64 else 32)) lim fn ep (n + 1) (nI 64) op lh rh wi gi (bb_put a (t * 64) 64 (fun _ => 0))) :
    wpY_step post (lim, fn, ep, op, lh, rh, wi, gi, a) (nI t) := by
  have cT : (nI t).toNatClampNeg = t := nI_clamp (by omega)
  have iT : vp_in (nI t) 12 := vp_in_nI ht (by omega)
  have F : wY_step_53 post (nI t) (nI (t * 64)) (nI (l * 64)) (nI (q * 64)) (nI o) x6 lim fn ep op lh rh wi gi a := by
    have cL : lh (nI t).toNatClampNeg = nI l := by rw [cT, hlh]
    have cW : wi (lh (nI t).toNatClampNeg).toNatClampNeg = bb_i wl := by rw [cL, nI_clamp (by omega), hwl]
    refine And.intro iT (And.intro (by rw [cL]; exact vp_in_nI hl (by omega)) ?_)
    cases wl with
    | false => exact br_t cW (bb_81 (by omega) K)
    | true => exact br_f (by rw [cW]; decide) (bb_81 (by omega) K)
  have G : (132 ≤ nI o → wY_step_53 post (nI t) (nI (t * 64)) (nI (l * 64)) (nI (q * 64)) (nI o) (nI o) lim fn ep op lh rh wi gi a) ∧ (¬ 132 ≤ nI o → wY_step_53 post (nI t) (nI (t * 64)) (nI (l * 64)) (nI (q * 64)) (nI o) (nI o &&& 254) lim fn ep op lh rh wi gi a) := by
    rcases h6 with ⟨h, e⟩ | ⟨h, e⟩
    · exact br_t h (by rw [← e] at F; exact F)
    · exact br_f h (by rw [e]; exact F)
  unfold wpY_step
  dsimp only
  exact nm_r (e' := nI (t * 64)) (pk_mul t 64) ⟨iT, nm_r (e' := nI (l * 64)) (by rw [cT, hlh]; exact pk_mul l 64) ⟨iT, nm_r (e' := nI (q * 64)) (by rw [cT, hrh]; exact pk_mul q 64) ⟨iT, nm_r (e' := nI o) (by rw [cT, hop]) G⟩⟩⟩
theorem bb_s96 {t l q : Nat} {A B : Int64} (ht : t < 12) (hl : l < t) (hq : q < t) (hop : op t = nI 96) (hlh : lh t = nI l) (hrh : rh t = nI q) (hwl : wi l = bb_i false) (hwt : wi t = bb_i false) (hA : bb_Row a (l * 64) A.toBitVec) (hB : bb_Row a (q * 64) B.toBitVec) (K : bb_K post lim fn ep op lh rh wi gi a (t * 64) (bb_c96 A B)) : wpY_step post (lim, fn, ep, op, lh, rh, wi, gi, a) (nI t) := by
  have hr : t * 64 + 64 ≤ 768 := by omega
  have hx : l * 64 + 64 ≤ 768 := by omega
  have hy : q * 64 + 64 ≤ 768 := by omega
  have dx : l * 64 + 64 ≤ t * 64 ∨ t * 64 + 64 ≤ l * 64 := by omega
  have dy : q * 64 + 64 ≤ t * 64 ∨ t * 64 + 64 ≤ q * 64 := by omega
  have oF : bb_Off a (bb_put a (t * 64) 64 (fun _ => 0)) (t * 64) := bb_Off_put (f := 0) (by omega)
  have rA := bb_Row_off oF dx hA
  have rB := bb_Row_off oF dy hB
  have r0 := bb_Row_0 a (t * 64)
  have kO := bb_K_off oF K
  exact bb_front (x6 := 96) ht (by omega) hop hlh hrh hwl (Or.inr ⟨by decide, by decide⟩) (fun n => br_t (by decide) (br_f (by decide) (br_t (by decide) (bb_x96 (w := 32) (sub := false) ht hr hx hy dx dy (by decide) hwt rA rB (by decide) (fun R h => bb_L96 (a := A) (b := B) h) kO))))
theorem bb_s97 {t l q : Nat} {A B : Int64} (ht : t < 12) (hl : l < t) (hq : q < t) (hop : op t = nI 97) (hlh : lh t = nI l) (hrh : rh t = nI q) (hwl : wi l = bb_i true) (hwt : wi t = bb_i true) (hA : bb_Row a (l * 64) A.toBitVec) (hB : bb_Row a (q * 64) B.toBitVec) (K : bb_K post lim fn ep op lh rh wi gi a (t * 64) (bb_c97 A B)) : wpY_step post (lim, fn, ep, op, lh, rh, wi, gi, a) (nI t) := by
  have hr : t * 64 + 64 ≤ 768 := by omega
  have hx : l * 64 + 64 ≤ 768 := by omega
  have hy : q * 64 + 64 ≤ 768 := by omega
  have dx : l * 64 + 64 ≤ t * 64 ∨ t * 64 + 64 ≤ l * 64 := by omega
  have dy : q * 64 + 64 ≤ t * 64 ∨ t * 64 + 64 ≤ q * 64 := by omega
  have oF : bb_Off a (bb_put a (t * 64) 64 (fun _ => 0)) (t * 64) := bb_Off_put (f := 0) (by omega)
  have rA := bb_Row_off oF dx hA
  have rB := bb_Row_off oF dy hB
  have r0 := bb_Row_0 a (t * 64)
  have kO := bb_K_off oF K
  exact bb_front (x6 := 96) ht (by omega) hop hlh hrh hwl (Or.inr ⟨by decide, by decide⟩) (fun n => br_t (by decide) (br_f (by decide) (br_t (by decide) (bb_x96 (w := 64) (sub := false) ht hr hx hy dx dy (by decide) hwt rA rB (by decide) (fun R h => bb_L97 (a := A) (b := B) h) kO))))
theorem bb_s100 {t l q : Nat} {A B : Int64} (ht : t < 12) (hl : l < t) (hq : q < t) (hop : op t = nI 100) (hlh : lh t = nI l) (hrh : rh t = nI q) (hwl : wi l = bb_i false) (hwt : wi t = bb_i false) (hA : bb_Row a (l * 64) A.toBitVec) (hB : bb_Row a (q * 64) B.toBitVec) (K : bb_K post lim fn ep op lh rh wi gi a (t * 64) (bb_c100 A B)) : wpY_step post (lim, fn, ep, op, lh, rh, wi, gi, a) (nI t) := by
  have hr : t * 64 + 64 ≤ 768 := by omega
  have hx : l * 64 + 64 ≤ 768 := by omega
  have hy : q * 64 + 64 ≤ 768 := by omega
  have dx : l * 64 + 64 ≤ t * 64 ∨ t * 64 + 64 ≤ l * 64 := by omega
  have dy : q * 64 + 64 ≤ t * 64 ∨ t * 64 + 64 ≤ q * 64 := by omega
  have oF : bb_Off a (bb_put a (t * 64) 64 (fun _ => 0)) (t * 64) := bb_Off_put (f := 0) (by omega)
  have rA := bb_Row_off oF dx hA
  have rB := bb_Row_off oF dy hB
  have r0 := bb_Row_0 a (t * 64)
  have kO := bb_K_off oF K
  exact bb_front (x6 := 100) ht (by omega) hop hlh hrh hwl (Or.inr ⟨by decide, by decide⟩) (fun n => br_t (by decide) (br_f (by decide) (br_f (by decide) (br_t (by decide) (bb_x96 (w := 32) (sub := true) ht hr hx hy dx dy (by decide) hwt rA rB (by decide) (fun R h => bb_L100 (a := A) (b := B) h) kO)))))
theorem bb_s101 {t l q : Nat} {A B : Int64} (ht : t < 12) (hl : l < t) (hq : q < t) (hop : op t = nI 101) (hlh : lh t = nI l) (hrh : rh t = nI q) (hwl : wi l = bb_i true) (hwt : wi t = bb_i true) (hA : bb_Row a (l * 64) A.toBitVec) (hB : bb_Row a (q * 64) B.toBitVec) (K : bb_K post lim fn ep op lh rh wi gi a (t * 64) (bb_c101 A B)) : wpY_step post (lim, fn, ep, op, lh, rh, wi, gi, a) (nI t) := by
  have hr : t * 64 + 64 ≤ 768 := by omega
  have hx : l * 64 + 64 ≤ 768 := by omega
  have hy : q * 64 + 64 ≤ 768 := by omega
  have dx : l * 64 + 64 ≤ t * 64 ∨ t * 64 + 64 ≤ l * 64 := by omega
  have dy : q * 64 + 64 ≤ t * 64 ∨ t * 64 + 64 ≤ q * 64 := by omega
  have oF : bb_Off a (bb_put a (t * 64) 64 (fun _ => 0)) (t * 64) := bb_Off_put (f := 0) (by omega)
  have rA := bb_Row_off oF dx hA
  have rB := bb_Row_off oF dy hB
  have r0 := bb_Row_0 a (t * 64)
  have kO := bb_K_off oF K
  exact bb_front (x6 := 100) ht (by omega) hop hlh hrh hwl (Or.inr ⟨by decide, by decide⟩) (fun n => br_t (by decide) (br_f (by decide) (br_f (by decide) (br_t (by decide) (bb_x96 (w := 64) (sub := true) ht hr hx hy dx dy (by decide) hwt rA rB (by decide) (fun R h => bb_L101 (a := A) (b := B) h) kO)))))
theorem bb_s104 {t l q : Nat} {A B : Int64} (ht : t < 12) (hl : l < t) (hq : q < t) (hop : op t = nI 104) (hlh : lh t = nI l) (hrh : rh t = nI q) (hwl : wi l = bb_i false) (hwt : wi t = bb_i false) (hA : bb_Row a (l * 64) A.toBitVec) (hB : bb_Row a (q * 64) B.toBitVec) (K : bb_K post lim fn ep op lh rh wi gi a (t * 64) (bb_c104 A B)) : wpY_step post (lim, fn, ep, op, lh, rh, wi, gi, a) (nI t) := by
  have hr : t * 64 + 64 ≤ 768 := by omega
  have hx : l * 64 + 64 ≤ 768 := by omega
  have hy : q * 64 + 64 ≤ 768 := by omega
  have dx : l * 64 + 64 ≤ t * 64 ∨ t * 64 + 64 ≤ l * 64 := by omega
  have dy : q * 64 + 64 ≤ t * 64 ∨ t * 64 + 64 ≤ q * 64 := by omega
  have oF : bb_Off a (bb_put a (t * 64) 64 (fun _ => 0)) (t * 64) := bb_Off_put (f := 0) (by omega)
  have rA := bb_Row_off oF dx hA
  have rB := bb_Row_off oF dy hB
  have r0 := bb_Row_0 a (t * 64)
  have kO := bb_K_off oF K
  exact bb_front (x6 := 104) ht (by omega) hop hlh hrh hwl (Or.inr ⟨by decide, by decide⟩) (fun n => br_t (by decide) (br_f (by decide) (br_f (by decide) (br_f (by decide) (br_t (by decide) (bb_x104 (w := 32) ht hr hx hy dx dy (by decide) hwt rA rB r0 (fun R h => bb_L104 (a := A) (b := B) h) kO))))))
theorem bb_s105 {t l q : Nat} {A B : Int64} (ht : t < 12) (hl : l < t) (hq : q < t) (hop : op t = nI 105) (hlh : lh t = nI l) (hrh : rh t = nI q) (hwl : wi l = bb_i true) (hwt : wi t = bb_i true) (hA : bb_Row a (l * 64) A.toBitVec) (hB : bb_Row a (q * 64) B.toBitVec) (K : bb_K post lim fn ep op lh rh wi gi a (t * 64) (bb_c105 A B)) : wpY_step post (lim, fn, ep, op, lh, rh, wi, gi, a) (nI t) := by
  have hr : t * 64 + 64 ≤ 768 := by omega
  have hx : l * 64 + 64 ≤ 768 := by omega
  have hy : q * 64 + 64 ≤ 768 := by omega
  have dx : l * 64 + 64 ≤ t * 64 ∨ t * 64 + 64 ≤ l * 64 := by omega
  have dy : q * 64 + 64 ≤ t * 64 ∨ t * 64 + 64 ≤ q * 64 := by omega
  have oF : bb_Off a (bb_put a (t * 64) 64 (fun _ => 0)) (t * 64) := bb_Off_put (f := 0) (by omega)
  have rA := bb_Row_off oF dx hA
  have rB := bb_Row_off oF dy hB
  have r0 := bb_Row_0 a (t * 64)
  have kO := bb_K_off oF K
  exact bb_front (x6 := 104) ht (by omega) hop hlh hrh hwl (Or.inr ⟨by decide, by decide⟩) (fun n => br_t (by decide) (br_f (by decide) (br_f (by decide) (br_f (by decide) (br_t (by decide) (bb_x104 (w := 64) ht hr hx hy dx dy (by decide) hwt rA rB r0 (fun R h => bb_L105 (a := A) (b := B) h) kO))))))
theorem bb_s116 {t l q : Nat} {A B : Int64} (ht : t < 12) (hl : l < t) (hq : q < t) (hop : op t = nI 116) (hlh : lh t = nI l) (hrh : rh t = nI q) (hwl : wi l = bb_i false) (hwt : wi t = bb_i false) (hA : bb_Row a (l * 64) A.toBitVec) (hB : bb_Row a (q * 64) B.toBitVec) (K : bb_K post lim fn ep op lh rh wi gi a (t * 64) (bb_c116 A B)) : wpY_step post (lim, fn, ep, op, lh, rh, wi, gi, a) (nI t) := by
  have hr : t * 64 + 64 ≤ 768 := by omega
  have hx : l * 64 + 64 ≤ 768 := by omega
  have hy : q * 64 + 64 ≤ 768 := by omega
  have dx : l * 64 + 64 ≤ t * 64 ∨ t * 64 + 64 ≤ l * 64 := by omega
  have dy : q * 64 + 64 ≤ t * 64 ∨ t * 64 + 64 ≤ q * 64 := by omega
  have oF : bb_Off a (bb_put a (t * 64) 64 (fun _ => 0)) (t * 64) := bb_Off_put (f := 0) (by omega)
  have rA := bb_Row_off oF dx hA
  have rB := bb_Row_off oF dy hB
  have r0 := bb_Row_0 a (t * 64)
  have kO := bb_K_off oF K
  exact bb_front (x6 := 116) ht (by omega) hop hlh hrh hwl (Or.inr ⟨by decide, by decide⟩) (fun n => br_t (by decide) (br_f (by decide) (br_f (by decide) (br_f (by decide) (br_f (by decide) (br_t (by decide) (bb_acc_sub (w := 32) hr hx dx (by decide) r0 rA (fun a2 R' h2 r2 l2 => bb_662 ht hr hwt r2 (bb_L116 (a := A) (b := B) l2) (bb_K_off h2 kO)))))))))
theorem bb_s117 {t l q : Nat} {A B : Int64} (ht : t < 12) (hl : l < t) (hq : q < t) (hop : op t = nI 117) (hlh : lh t = nI l) (hrh : rh t = nI q) (hwl : wi l = bb_i true) (hwt : wi t = bb_i true) (hA : bb_Row a (l * 64) A.toBitVec) (hB : bb_Row a (q * 64) B.toBitVec) (K : bb_K post lim fn ep op lh rh wi gi a (t * 64) (bb_c117 A B)) : wpY_step post (lim, fn, ep, op, lh, rh, wi, gi, a) (nI t) := by
  have hr : t * 64 + 64 ≤ 768 := by omega
  have hx : l * 64 + 64 ≤ 768 := by omega
  have hy : q * 64 + 64 ≤ 768 := by omega
  have dx : l * 64 + 64 ≤ t * 64 ∨ t * 64 + 64 ≤ l * 64 := by omega
  have dy : q * 64 + 64 ≤ t * 64 ∨ t * 64 + 64 ≤ q * 64 := by omega
  have oF : bb_Off a (bb_put a (t * 64) 64 (fun _ => 0)) (t * 64) := bb_Off_put (f := 0) (by omega)
  have rA := bb_Row_off oF dx hA
  have rB := bb_Row_off oF dy hB
  have r0 := bb_Row_0 a (t * 64)
  have kO := bb_K_off oF K
  exact bb_front (x6 := 116) ht (by omega) hop hlh hrh hwl (Or.inr ⟨by decide, by decide⟩) (fun n => br_t (by decide) (br_f (by decide) (br_f (by decide) (br_f (by decide) (br_f (by decide) (br_t (by decide) (bb_acc_sub (w := 64) hr hx dx (by decide) r0 rA (fun a2 R' h2 r2 l2 => bb_662 ht hr hwt r2 (bb_L117 (a := A) (b := B) l2) (bb_K_off h2 kO)))))))))
theorem bb_s120 {t l q : Nat} {A B : Int64} (ht : t < 12) (hl : l < t) (hq : q < t) (hop : op t = nI 120) (hlh : lh t = nI l) (hrh : rh t = nI q) (hwl : wi l = bb_i false) (hwt : wi t = bb_i false) (hA : bb_Row a (l * 64) A.toBitVec) (hB : bb_Row a (q * 64) B.toBitVec) (K : bb_K post lim fn ep op lh rh wi gi a (t * 64) (bb_c120 A B)) : wpY_step post (lim, fn, ep, op, lh, rh, wi, gi, a) (nI t) := by
  have hr : t * 64 + 64 ≤ 768 := by omega
  have hx : l * 64 + 64 ≤ 768 := by omega
  have hy : q * 64 + 64 ≤ 768 := by omega
  have dx : l * 64 + 64 ≤ t * 64 ∨ t * 64 + 64 ≤ l * 64 := by omega
  have dy : q * 64 + 64 ≤ t * 64 ∨ t * 64 + 64 ≤ q * 64 := by omega
  have oF : bb_Off a (bb_put a (t * 64) 64 (fun _ => 0)) (t * 64) := bb_Off_put (f := 0) (by omega)
  have rA := bb_Row_off oF dx hA
  have rB := bb_Row_off oF dy hB
  have r0 := bb_Row_0 a (t * 64)
  have kO := bb_K_off oF K
  exact bb_front (x6 := 120) ht (by omega) hop hlh hrh hwl (Or.inr ⟨by decide, by decide⟩) (fun n => br_t (by decide) (br_f (by decide) (br_f (by decide) (br_f (by decide) (br_f (by decide) (br_f (by decide) (br_t (by decide) (bb_x120 (w := 32) (q := 5) (L := true) (C := false) ht hr hx hy dx (by decide) hwt rA rB r0 (by decide) (by decide) (by decide) (fun R h => bb_L120 (a := A) (b := B) h) kO))))))))
theorem bb_s121 {t l q : Nat} {A B : Int64} (ht : t < 12) (hl : l < t) (hq : q < t) (hop : op t = nI 121) (hlh : lh t = nI l) (hrh : rh t = nI q) (hwl : wi l = bb_i true) (hwt : wi t = bb_i true) (hA : bb_Row a (l * 64) A.toBitVec) (hB : bb_Row a (q * 64) B.toBitVec) (K : bb_K post lim fn ep op lh rh wi gi a (t * 64) (bb_c121 A B)) : wpY_step post (lim, fn, ep, op, lh, rh, wi, gi, a) (nI t) := by
  have hr : t * 64 + 64 ≤ 768 := by omega
  have hx : l * 64 + 64 ≤ 768 := by omega
  have hy : q * 64 + 64 ≤ 768 := by omega
  have dx : l * 64 + 64 ≤ t * 64 ∨ t * 64 + 64 ≤ l * 64 := by omega
  have dy : q * 64 + 64 ≤ t * 64 ∨ t * 64 + 64 ≤ q * 64 := by omega
  have oF : bb_Off a (bb_put a (t * 64) 64 (fun _ => 0)) (t * 64) := bb_Off_put (f := 0) (by omega)
  have rA := bb_Row_off oF dx hA
  have rB := bb_Row_off oF dy hB
  have r0 := bb_Row_0 a (t * 64)
  have kO := bb_K_off oF K
  exact bb_front (x6 := 120) ht (by omega) hop hlh hrh hwl (Or.inr ⟨by decide, by decide⟩) (fun n => br_t (by decide) (br_f (by decide) (br_f (by decide) (br_f (by decide) (br_f (by decide) (br_f (by decide) (br_t (by decide) (bb_x120 (w := 64) (q := 6) (L := true) (C := false) ht hr hx hy dx (by decide) hwt rA rB r0 (by decide) (by decide) (by decide) (fun R h => bb_L121 (a := A) (b := B) h) kO))))))))
theorem bb_s122 {t l q : Nat} {A B : Int64} (ht : t < 12) (hl : l < t) (hq : q < t) (hop : op t = nI 122) (hlh : lh t = nI l) (hrh : rh t = nI q) (hwl : wi l = bb_i false) (hwt : wi t = bb_i false) (hA : bb_Row a (l * 64) A.toBitVec) (hB : bb_Row a (q * 64) B.toBitVec) (K : bb_K post lim fn ep op lh rh wi gi a (t * 64) (bb_c122 A B)) : wpY_step post (lim, fn, ep, op, lh, rh, wi, gi, a) (nI t) := by
  have hr : t * 64 + 64 ≤ 768 := by omega
  have hx : l * 64 + 64 ≤ 768 := by omega
  have hy : q * 64 + 64 ≤ 768 := by omega
  have dx : l * 64 + 64 ≤ t * 64 ∨ t * 64 + 64 ≤ l * 64 := by omega
  have dy : q * 64 + 64 ≤ t * 64 ∨ t * 64 + 64 ≤ q * 64 := by omega
  have oF : bb_Off a (bb_put a (t * 64) 64 (fun _ => 0)) (t * 64) := bb_Off_put (f := 0) (by omega)
  have rA := bb_Row_off oF dx hA
  have rB := bb_Row_off oF dy hB
  have r0 := bb_Row_0 a (t * 64)
  have kO := bb_K_off oF K
  exact bb_front (x6 := 122) ht (by omega) hop hlh hrh hwl (Or.inr ⟨by decide, by decide⟩) (fun n => br_t (by decide) (br_f (by decide) (br_f (by decide) (br_f (by decide) (br_f (by decide) (br_f (by decide) (br_f (by decide) (br_t (by decide) (bb_x120 (w := 32) (q := 5) (L := false) (C := true) ht hr hx hy dx (by decide) hwt rA rB r0 (by decide) (by decide) (by decide) (fun R h => bb_L122 (a := A) (b := B) h) kO)))))))))
theorem bb_s123 {t l q : Nat} {A B : Int64} (ht : t < 12) (hl : l < t) (hq : q < t) (hop : op t = nI 123) (hlh : lh t = nI l) (hrh : rh t = nI q) (hwl : wi l = bb_i true) (hwt : wi t = bb_i true) (hA : bb_Row a (l * 64) A.toBitVec) (hB : bb_Row a (q * 64) B.toBitVec) (K : bb_K post lim fn ep op lh rh wi gi a (t * 64) (bb_c123 A B)) : wpY_step post (lim, fn, ep, op, lh, rh, wi, gi, a) (nI t) := by
  have hr : t * 64 + 64 ≤ 768 := by omega
  have hx : l * 64 + 64 ≤ 768 := by omega
  have hy : q * 64 + 64 ≤ 768 := by omega
  have dx : l * 64 + 64 ≤ t * 64 ∨ t * 64 + 64 ≤ l * 64 := by omega
  have dy : q * 64 + 64 ≤ t * 64 ∨ t * 64 + 64 ≤ q * 64 := by omega
  have oF : bb_Off a (bb_put a (t * 64) 64 (fun _ => 0)) (t * 64) := bb_Off_put (f := 0) (by omega)
  have rA := bb_Row_off oF dx hA
  have rB := bb_Row_off oF dy hB
  have r0 := bb_Row_0 a (t * 64)
  have kO := bb_K_off oF K
  exact bb_front (x6 := 122) ht (by omega) hop hlh hrh hwl (Or.inr ⟨by decide, by decide⟩) (fun n => br_t (by decide) (br_f (by decide) (br_f (by decide) (br_f (by decide) (br_f (by decide) (br_f (by decide) (br_f (by decide) (br_t (by decide) (bb_x120 (w := 64) (q := 6) (L := false) (C := true) ht hr hx hy dx (by decide) hwt rA rB r0 (by decide) (by decide) (by decide) (fun R h => bb_L123 (a := A) (b := B) h) kO)))))))))
theorem bb_s124 {t l q : Nat} {A B : Int64} (ht : t < 12) (hl : l < t) (hq : q < t) (hop : op t = nI 124) (hlh : lh t = nI l) (hrh : rh t = nI q) (hwl : wi l = bb_i false) (hwt : wi t = bb_i false) (hA : bb_Row a (l * 64) A.toBitVec) (hB : bb_Row a (q * 64) B.toBitVec) (K : bb_K post lim fn ep op lh rh wi gi a (t * 64) (bb_c124 A B)) : wpY_step post (lim, fn, ep, op, lh, rh, wi, gi, a) (nI t) := by
  have hr : t * 64 + 64 ≤ 768 := by omega
  have hx : l * 64 + 64 ≤ 768 := by omega
  have hy : q * 64 + 64 ≤ 768 := by omega
  have dx : l * 64 + 64 ≤ t * 64 ∨ t * 64 + 64 ≤ l * 64 := by omega
  have dy : q * 64 + 64 ≤ t * 64 ∨ t * 64 + 64 ≤ q * 64 := by omega
  have oF : bb_Off a (bb_put a (t * 64) 64 (fun _ => 0)) (t * 64) := bb_Off_put (f := 0) (by omega)
  have rA := bb_Row_off oF dx hA
  have rB := bb_Row_off oF dy hB
  have r0 := bb_Row_0 a (t * 64)
  have kO := bb_K_off oF K
  exact bb_front (x6 := 124) ht (by omega) hop hlh hrh hwl (Or.inr ⟨by decide, by decide⟩) (fun n => br_t (by decide) (br_f (by decide) (br_f (by decide) (br_f (by decide) (br_f (by decide) (br_f (by decide) (br_f (by decide) (br_f (by decide) (br_t (by decide) (bb_x120 (w := 32) (q := 5) (L := false) (C := false) ht hr hx hy dx (by decide) hwt rA rB r0 (by decide) (by decide) (by decide) (fun R h => bb_L124 (a := A) (b := B) h) kO))))))))))
theorem bb_s125 {t l q : Nat} {A B : Int64} (ht : t < 12) (hl : l < t) (hq : q < t) (hop : op t = nI 125) (hlh : lh t = nI l) (hrh : rh t = nI q) (hwl : wi l = bb_i true) (hwt : wi t = bb_i true) (hA : bb_Row a (l * 64) A.toBitVec) (hB : bb_Row a (q * 64) B.toBitVec) (K : bb_K post lim fn ep op lh rh wi gi a (t * 64) (bb_c125 A B)) : wpY_step post (lim, fn, ep, op, lh, rh, wi, gi, a) (nI t) := by
  have hr : t * 64 + 64 ≤ 768 := by omega
  have hx : l * 64 + 64 ≤ 768 := by omega
  have hy : q * 64 + 64 ≤ 768 := by omega
  have dx : l * 64 + 64 ≤ t * 64 ∨ t * 64 + 64 ≤ l * 64 := by omega
  have dy : q * 64 + 64 ≤ t * 64 ∨ t * 64 + 64 ≤ q * 64 := by omega
  have oF : bb_Off a (bb_put a (t * 64) 64 (fun _ => 0)) (t * 64) := bb_Off_put (f := 0) (by omega)
  have rA := bb_Row_off oF dx hA
  have rB := bb_Row_off oF dy hB
  have r0 := bb_Row_0 a (t * 64)
  have kO := bb_K_off oF K
  exact bb_front (x6 := 124) ht (by omega) hop hlh hrh hwl (Or.inr ⟨by decide, by decide⟩) (fun n => br_t (by decide) (br_f (by decide) (br_f (by decide) (br_f (by decide) (br_f (by decide) (br_f (by decide) (br_f (by decide) (br_f (by decide) (br_t (by decide) (bb_x120 (w := 64) (q := 6) (L := false) (C := false) ht hr hx hy dx (by decide) hwt rA rB r0 (by decide) (by decide) (by decide) (fun R h => bb_L125 (a := A) (b := B) h) kO))))))))))
theorem bb_s133 {t l q : Nat} {A B : Int64} (ht : t < 12) (hl : l < t) (hq : q < t) (hop : op t = nI 133) (hlh : lh t = nI l) (hrh : rh t = nI q) (hwl : wi l = bb_i false) (hwt : wi t = bb_i true) (hA : bb_Row a (l * 64) A.toBitVec) (hB : bb_Row a (q * 64) B.toBitVec) (K : bb_K post lim fn ep op lh rh wi gi a (t * 64) (bb_c133 A B)) : wpY_step post (lim, fn, ep, op, lh, rh, wi, gi, a) (nI t) := by
  have hr : t * 64 + 64 ≤ 768 := by omega
  have hx : l * 64 + 64 ≤ 768 := by omega
  have hy : q * 64 + 64 ≤ 768 := by omega
  have dx : l * 64 + 64 ≤ t * 64 ∨ t * 64 + 64 ≤ l * 64 := by omega
  have dy : q * 64 + 64 ≤ t * 64 ∨ t * 64 + 64 ≤ q * 64 := by omega
  have oF : bb_Off a (bb_put a (t * 64) 64 (fun _ => 0)) (t * 64) := bb_Off_put (f := 0) (by omega)
  have rA := bb_Row_off oF dx hA
  have rB := bb_Row_off oF dy hB
  have r0 := bb_Row_0 a (t * 64)
  have kO := bb_K_off oF K
  exact bb_front (x6 := nI 133) ht (by omega) hop hlh hrh hwl (Or.inl ⟨by decide, rfl⟩) (fun n => br_t (by decide) (br_f (by decide) (br_f (by decide) (br_f (by decide) (br_f (by decide) (br_f (by decide) (br_f (by decide) (br_f (by decide) (br_f (by decide) (br_f (by decide) (br_f (by decide) (br_t (by decide) (bb_x646 (k := 31) (sg := true) ht hr hx dx (by decide) hwt rA (by decide) (fun R h => bb_L133 (a := A) (b := B) h) kO)))))))))))))
theorem bb_s136 {t l q : Nat} {A B : Int64} (ht : t < 12) (hl : l < t) (hq : q < t) (hop : op t = nI 136) (hlh : lh t = nI l) (hrh : rh t = nI q) (hwl : wi l = bb_i true) (hwt : wi t = bb_i false) (hA : bb_Row a (l * 64) A.toBitVec) (hB : bb_Row a (q * 64) B.toBitVec) (K : bb_K post lim fn ep op lh rh wi gi a (t * 64) (bb_c136 A B)) : wpY_step post (lim, fn, ep, op, lh, rh, wi, gi, a) (nI t) := by
  have hr : t * 64 + 64 ≤ 768 := by omega
  have hx : l * 64 + 64 ≤ 768 := by omega
  have hy : q * 64 + 64 ≤ 768 := by omega
  have dx : l * 64 + 64 ≤ t * 64 ∨ t * 64 + 64 ≤ l * 64 := by omega
  have dy : q * 64 + 64 ≤ t * 64 ∨ t * 64 + 64 ≤ q * 64 := by omega
  have oF : bb_Off a (bb_put a (t * 64) 64 (fun _ => 0)) (t * 64) := bb_Off_put (f := 0) (by omega)
  have rA := bb_Row_off oF dx hA
  have rB := bb_Row_off oF dy hB
  have r0 := bb_Row_0 a (t * 64)
  have kO := bb_K_off oF K
  exact bb_front (x6 := nI 136) ht (by omega) hop hlh hrh hwl (Or.inl ⟨by decide, rfl⟩) (fun n => br_t (by decide) (br_f (by decide) (br_f (by decide) (br_f (by decide) (br_f (by decide) (br_f (by decide) (br_f (by decide) (br_f (by decide) (br_f (by decide) (br_f (by decide) (br_f (by decide) (br_f (by decide) (br_t (by decide) (bb_x646 (k := 31) (sg := true) ht hr hx dx (by decide) hwt rA (by decide) (fun R h => bb_L136 (a := A) (b := B) h) kO))))))))))))))
theorem bb_s145 {t l q : Nat} {A B : Int64} (ht : t < 12) (hl : l < t) (hq : q < t) (hop : op t = nI 145) (hlh : lh t = nI l) (hrh : rh t = nI q) (hwl : wi l = bb_i false) (hwt : wi t = bb_i false) (hA : bb_Row a (l * 64) A.toBitVec) (hB : bb_Row a (q * 64) B.toBitVec) (K : bb_K post lim fn ep op lh rh wi gi a (t * 64) (bb_c145 A B)) : wpY_step post (lim, fn, ep, op, lh, rh, wi, gi, a) (nI t) := by
  have hr : t * 64 + 64 ≤ 768 := by omega
  have hx : l * 64 + 64 ≤ 768 := by omega
  have hy : q * 64 + 64 ≤ 768 := by omega
  have dx : l * 64 + 64 ≤ t * 64 ∨ t * 64 + 64 ≤ l * 64 := by omega
  have dy : q * 64 + 64 ≤ t * 64 ∨ t * 64 + 64 ≤ q * 64 := by omega
  have oF : bb_Off a (bb_put a (t * 64) 64 (fun _ => 0)) (t * 64) := bb_Off_put (f := 0) (by omega)
  have rA := bb_Row_off oF dx hA
  have rB := bb_Row_off oF dy hB
  have r0 := bb_Row_0 a (t * 64)
  have kO := bb_K_off oF K
  exact bb_front (x6 := nI 145) ht (by omega) hop hlh hrh hwl (Or.inl ⟨by decide, rfl⟩) (fun n => br_t (by decide) (br_f (by decide) (br_f (by decide) (br_f (by decide) (br_f (by decide) (br_f (by decide) (br_f (by decide) (br_f (by decide) (br_f (by decide) (br_f (by decide) (br_t (by decide) (bb_x646 (k := 7) (sg := true) ht hr hx dx (by decide) hwt rA (by decide) (fun R h => bb_L145 (a := A) (b := B) h) kO))))))))))))
theorem bb_s146 {t l q : Nat} {A B : Int64} (ht : t < 12) (hl : l < t) (hq : q < t) (hop : op t = nI 146) (hlh : lh t = nI l) (hrh : rh t = nI q) (hwl : wi l = bb_i false) (hwt : wi t = bb_i false) (hA : bb_Row a (l * 64) A.toBitVec) (hB : bb_Row a (q * 64) B.toBitVec) (K : bb_K post lim fn ep op lh rh wi gi a (t * 64) (bb_c146 A B)) : wpY_step post (lim, fn, ep, op, lh, rh, wi, gi, a) (nI t) := by
  have hr : t * 64 + 64 ≤ 768 := by omega
  have hx : l * 64 + 64 ≤ 768 := by omega
  have hy : q * 64 + 64 ≤ 768 := by omega
  have dx : l * 64 + 64 ≤ t * 64 ∨ t * 64 + 64 ≤ l * 64 := by omega
  have dy : q * 64 + 64 ≤ t * 64 ∨ t * 64 + 64 ≤ q * 64 := by omega
  have oF : bb_Off a (bb_put a (t * 64) 64 (fun _ => 0)) (t * 64) := bb_Off_put (f := 0) (by omega)
  have rA := bb_Row_off oF dx hA
  have rB := bb_Row_off oF dy hB
  have r0 := bb_Row_0 a (t * 64)
  have kO := bb_K_off oF K
  exact bb_front (x6 := nI 146) ht (by omega) hop hlh hrh hwl (Or.inl ⟨by decide, rfl⟩) (fun n => br_t (by decide) (br_f (by decide) (br_f (by decide) (br_f (by decide) (br_f (by decide) (br_f (by decide) (br_f (by decide) (br_f (by decide) (br_f (by decide) (br_f (by decide) (br_f (by decide) (br_f (by decide) (br_f (by decide) (bb_x646 (k := 15) (sg := false) ht hr hx dx (by decide) hwt rA (by decide) (fun R h => bb_L146 (a := A) (b := B) h) kO))))))))))))))
theorem bb_s147 {t l q : Nat} {A B : Int64} (ht : t < 12) (hl : l < t) (hq : q < t) (hop : op t = nI 147) (hlh : lh t = nI l) (hrh : rh t = nI q) (hwl : wi l = bb_i false) (hwt : wi t = bb_i false) (hA : bb_Row a (l * 64) A.toBitVec) (hB : bb_Row a (q * 64) B.toBitVec) (K : bb_K post lim fn ep op lh rh wi gi a (t * 64) (bb_c147 A B)) : wpY_step post (lim, fn, ep, op, lh, rh, wi, gi, a) (nI t) := by
  have hr : t * 64 + 64 ≤ 768 := by omega
  have hx : l * 64 + 64 ≤ 768 := by omega
  have hy : q * 64 + 64 ≤ 768 := by omega
  have dx : l * 64 + 64 ≤ t * 64 ∨ t * 64 + 64 ≤ l * 64 := by omega
  have dy : q * 64 + 64 ≤ t * 64 ∨ t * 64 + 64 ≤ q * 64 := by omega
  have oF : bb_Off a (bb_put a (t * 64) 64 (fun _ => 0)) (t * 64) := bb_Off_put (f := 0) (by omega)
  have rA := bb_Row_off oF dx hA
  have rB := bb_Row_off oF dy hB
  have r0 := bb_Row_0 a (t * 64)
  have kO := bb_K_off oF K
  exact bb_front (x6 := nI 147) ht (by omega) hop hlh hrh hwl (Or.inl ⟨by decide, rfl⟩) (fun n => br_t (by decide) (br_f (by decide) (br_f (by decide) (br_f (by decide) (br_f (by decide) (br_f (by decide) (br_f (by decide) (br_f (by decide) (br_f (by decide) (br_f (by decide) (br_f (by decide) (br_f (by decide) (br_f (by decide) (bb_x646 (k := 15) (sg := true) ht hr hx dx (by decide) hwt rA (by decide) (fun R h => bb_L147 (a := A) (b := B) h) kO))))))))))))))
theorem bb_s148 {t l q : Nat} {A B : Int64} (ht : t < 12) (hl : l < t) (hq : q < t) (hop : op t = nI 148) (hlh : lh t = nI l) (hrh : rh t = nI q) (hwl : wi l = bb_i true) (hwt : wi t = bb_i false) (hA : bb_Row a (l * 64) A.toBitVec) (hB : bb_Row a (q * 64) B.toBitVec) (K : bb_K post lim fn ep op lh rh wi gi a (t * 64) (bb_c148 A B)) : wpY_step post (lim, fn, ep, op, lh, rh, wi, gi, a) (nI t) := by
  have hr : t * 64 + 64 ≤ 768 := by omega
  have hx : l * 64 + 64 ≤ 768 := by omega
  have hy : q * 64 + 64 ≤ 768 := by omega
  have dx : l * 64 + 64 ≤ t * 64 ∨ t * 64 + 64 ≤ l * 64 := by omega
  have dy : q * 64 + 64 ≤ t * 64 ∨ t * 64 + 64 ≤ q * 64 := by omega
  have oF : bb_Off a (bb_put a (t * 64) 64 (fun _ => 0)) (t * 64) := bb_Off_put (f := 0) (by omega)
  have rA := bb_Row_off oF dx hA
  have rB := bb_Row_off oF dy hB
  have r0 := bb_Row_0 a (t * 64)
  have kO := bb_K_off oF K
  exact bb_front (x6 := nI 148) ht (by omega) hop hlh hrh hwl (Or.inl ⟨by decide, rfl⟩) (fun n => br_t (by decide) (br_f (by decide) (br_f (by decide) (br_f (by decide) (br_f (by decide) (br_f (by decide) (br_f (by decide) (br_f (by decide) (br_f (by decide) (br_t (by decide) (bb_x148 ht hr hx hy hwt rA rB (fun R h => bb_L148 (a := A) (b := B) h) kO)))))))))))
theorem bb_s0 {t : Nat} {wl wd : Bool} (ht : t < 12) (hop : op t = nI 0) (hlh : lh t = nI 0) (hrh : rh t = nI 0) (hwl : wi 0 = bb_i wl) (hwt : wi t = bb_i wd) (K : bb_K post lim fn ep op lh rh wi gi a (t * 64) (if wd then gi t else (gi t).toInt32.toInt64)) : wpY_step post (lim, fn, ep, op, lh, rh, wi, gi, a) (nI t) :=
  bb_front (x6 := 0) ht (by omega) hop hlh hrh hwl (Or.inr ⟨by decide, by decide⟩) (fun n => br_t (by decide) (br_t rfl (bb_191 ht (by omega) hwt (bb_L0 wd) (bb_K_off (bb_Off_put (f := 0) (by omega)) K))))
theorem bb_stepO {t l q o : Nat} {A B : Int64} (ho : o ∈ bb_Ops) (ht : t < 12) (hl : l < t) (hq : q < t) (hlh : lh t = nI l) (hrh : rh t = nI q) (hA : bb_Row a (l * 64) A.toBitVec) (hB : bb_Row a (q * 64) B.toBitVec) : op t = nI o → wi l = bb_i (bb_w1 o) → wi t = bb_i (bb_wr o) → bb_K post lim fn ep op lh rh wi gi a (t * 64) (bb_comp o A B) → wpY_step post (lim, fn, ep, op, lh, rh, wi, gi, a) (nI t) :=
  bb_cases (P := fun o => op t = nI o → wi l = bb_i (bb_w1 o) → wi t = bb_i (bb_wr o) → bb_K post lim fn ep op lh rh wi gi a (t * 64) (bb_comp o A B) → wpY_step post (lim, fn, ep, op, lh, rh, wi, gi, a) (nI t))
    (fun h1 h2 h3 h4 => bb_s96 ht hl hq h1 hlh hrh h2 h3 hA hB h4)
    (fun h1 h2 h3 h4 => bb_s97 ht hl hq h1 hlh hrh h2 h3 hA hB h4)
    (fun h1 h2 h3 h4 => bb_s100 ht hl hq h1 hlh hrh h2 h3 hA hB h4)
    (fun h1 h2 h3 h4 => bb_s101 ht hl hq h1 hlh hrh h2 h3 hA hB h4)
    (fun h1 h2 h3 h4 => bb_s104 ht hl hq h1 hlh hrh h2 h3 hA hB h4)
    (fun h1 h2 h3 h4 => bb_s105 ht hl hq h1 hlh hrh h2 h3 hA hB h4)
    (fun h1 h2 h3 h4 => bb_s116 ht hl hq h1 hlh hrh h2 h3 hA hB h4)
    (fun h1 h2 h3 h4 => bb_s117 ht hl hq h1 hlh hrh h2 h3 hA hB h4)
    (fun h1 h2 h3 h4 => bb_s120 ht hl hq h1 hlh hrh h2 h3 hA hB h4)
    (fun h1 h2 h3 h4 => bb_s121 ht hl hq h1 hlh hrh h2 h3 hA hB h4)
    (fun h1 h2 h3 h4 => bb_s122 ht hl hq h1 hlh hrh h2 h3 hA hB h4)
    (fun h1 h2 h3 h4 => bb_s123 ht hl hq h1 hlh hrh h2 h3 hA hB h4)
    (fun h1 h2 h3 h4 => bb_s124 ht hl hq h1 hlh hrh h2 h3 hA hB h4)
    (fun h1 h2 h3 h4 => bb_s125 ht hl hq h1 hlh hrh h2 h3 hA hB h4)
    (fun h1 h2 h3 h4 => bb_s133 ht hl hq h1 hlh hrh h2 h3 hA hB h4)
    (fun h1 h2 h3 h4 => bb_s136 ht hl hq h1 hlh hrh h2 h3 hA hB h4)
    (fun h1 h2 h3 h4 => bb_s145 ht hl hq h1 hlh hrh h2 h3 hA hB h4)
    (fun h1 h2 h3 h4 => bb_s146 ht hl hq h1 hlh hrh h2 h3 hA hB h4)
    (fun h1 h2 h3 h4 => bb_s147 ht hl hq h1 hlh hrh h2 h3 hA hB h4)
    (fun h1 h2 h3 h4 => bb_s148 ht hl hq h1 hlh hrh h2 h3 hA hB h4)
    ho
end
end
section
/-! ===== the relation; what keeps it; one step of the reference under it ===== -/
/-- the columns of term t on both sides -/
def bb_E (o l q : Nat → Nat) (w : Nat → Bool) (aop al ar ab bop bl br bw : Nat → Int32) (t : Nat) : Prop :=
  aop t = (nI (o t)).toInt8.toInt32 ∧ bop t = nI (o t) ∧ al t = nI (l t) ∧ bl t = nI (l t) ∧ ar t = nI (q t) ∧ br t = nI (q t) ∧ ab t = (if w t then 64 else 32) ∧ bw t = bb_i (w t)
/-- the value of term t out of what was given and of the values of its operands -/
def bb_T (o l q : Nat → Nat) (w : Nat → Bool) (g val : Nat → Int64) (t : Nat) : Prop :=
  (o t = 0 ∧ l t = 0 ∧ q t = 0 ∧ val t = if w t then g t else (g t).toInt32.toInt64) ∨
  (o t ∈ bb_Ops ∧ l t < t ∧ q t < t ∧ w (l t) = bb_w1 (o t) ∧ w t = bb_wr (o t) ∧ val t = bb_comp (o t) (val (l t)) (val (q t)))
def bb_R (c fn : Int32) (e : Int64) (aop al ar ab : Nat → Int32) (val : Nat → Int64) (c' fn' : Int32) (e' : Int64) (bop bl br bw : Nat → Int32) (g : Nat → Int64) : Prop :=
  ∃ (cap n : Nat) (o l q : Nat → Nat) (w : Nat → Bool), c = nI cap ∧ c' = nI cap ∧ fn = nI n ∧ fn' = nI n ∧ e' = e ∧ n ≤ cap ∧ cap ≤ 12 ∧
    (∀ t, t < n → bb_E o l q w aop al ar ab bop bl br bw t ∧ bb_T o l q w g val t) ∧ (∀ t, n ≤ t → bop t = 0 ∧ bl t = 0 ∧ br t = 0)
/-- the relation: the same terms on both sides, and X's values obey the terms -/
def i_Rel (k : Nat) (u : SX) (v : SY) : Prop :=
  match u, v with
  | (c, fn, e, aop, al, ar, ab, val), (c', fn', e', bop, bl, br, bw, g, _) => bb_R c fn e aop al ar ab val c' fn' e' bop bl br bw g
theorem i_up {k : Nat} {u : SX} {v : SY} (h : i_Rel k u v) : i_Rel (k + 4) u v := h
theorem bb_T_cong {o l q o' l' q' : Nat → Nat} {w w' : Nat → Bool} {g val g' val' : Nat → Int64} {t : Nat}
    (h : ∀ j, j ≤ t → o' j = o j ∧ l' j = l j ∧ q' j = q j ∧ w' j = w j ∧ g' j = g j ∧ val' j = val j) (hT : bb_T o l q w g val t) : bb_T o' l' q' w' g' val' t := by
  obtain ⟨e1, e2, e3, e4, e5, e6⟩ := h t (Nat.le_refl t)
  rcases hT with ⟨h1, h2, h3, h4⟩ | ⟨h1, h2, h3, h4, h5, h6⟩
  · exact Or.inl ⟨e1.trans h1, e2.trans h2, e3.trans h3, by rw [e6, h4, e4, e5]⟩
  · obtain ⟨_, _, _, l4, _, l6⟩ := h (l t) (by omega)
    obtain ⟨_, _, _, _, _, q6⟩ := h (q t) (by omega)
    exact Or.inr ⟨by rw [e1]; exact h1, by rw [e2]; exact h2, by rw [e3]; exact h3, by rw [e1, e2, l4]; exact h4, by rw [e1, e4]; exact h5, by rw [e1, e2, e3, l6, q6, e6]; exact h6⟩
def bb_u {α : Type} (f : Nat → α) (n : Nat) (x : α) : Nat → α := fun j => if j = n then x else f j
theorem bb_us {α : Type} {f : Nat → α} {n : Nat} {x : α} : bb_u f n x n = x := if_pos rfl
theorem bb_un {α : Type} {f : Nat → α} {n j : Nat} {x : α} (h : j ≠ n) : bb_u f n x j = f j := if_neg h
theorem bb_self {f : Nat → Int32} {n : Nat} {x : Int32} (h : f n = x) : upd f n x = f := funext fun j => by
  by_cases e : j = n
  · subst e; rw [pk_us, h]
  · rw [pk_un e]
theorem bb_selfL {f : Nat → Int64} {n : Nat} : vp_updL f n (f n) = f := funext fun j => by
  by_cases e : j = n
  · subst e; rw [pk_uLs]
  · rw [pk_uLn e]
theorem bb_uu {f : Nat → Int32} {n : Nat} {x y : Int32} : upd (upd f n x) n y = upd f n y := funext fun j => by
  by_cases e : j = n
  · subst e; rw [pk_us, pk_us]
  · rw [pk_un e, pk_un e, pk_un e]
theorem bb_push {k cap n : Nat} {o l q : Nat → Nat} {w : Nat → Bool} {e : Int64} {aop al ar ab bop bl br bw bit : Nat → Int32} {val g : Nat → Int64} (hn : n < cap) (hc : cap ≤ 12)
    (H : ∀ t, t < n → bb_E o l q w aop al ar ab bop bl br bw t ∧ bb_T o l q w g val t) (Z : ∀ t, n ≤ t → bop t = 0 ∧ bl t = 0 ∧ br t = 0) (o0 l0 q0 : Nat) (w0 : Bool) (v0 g0 : Int64)
    (hT : (o0 = 0 ∧ l0 = 0 ∧ q0 = 0 ∧ v0 = if w0 then g0 else g0.toInt32.toInt64) ∨ (o0 ∈ bb_Ops ∧ l0 < n ∧ q0 < n ∧ w l0 = bb_w1 o0 ∧ w0 = bb_wr o0 ∧ v0 = bb_comp o0 (val l0) (val q0))) :
    i_Rel k (nI cap, nI (n + 1), e, upd aop n (nI o0).toInt8.toInt32, upd al n (nI l0), upd ar n (nI q0), upd ab n (if w0 then 64 else 32), vp_updL val n v0)
      (nI cap, nI (n + 1), e, upd bop n (nI o0), upd bl n (nI l0), upd br n (nI q0), upd bw n (bb_i w0), vp_updL g n g0, bit) := by
  refine ⟨cap, n + 1, bb_u o n o0, bb_u l n l0, bb_u q n q0, bb_u w n w0, rfl, rfl, rfl, rfl, rfl, by omega, hc, ?_, ?_⟩
  · intro t ht
    by_cases e : t = n
    · subst e
      refine ⟨⟨by rw [pk_us, bb_us], by rw [pk_us, bb_us], by rw [pk_us, bb_us], by rw [pk_us, bb_us], by rw [pk_us, bb_us], by rw [pk_us, bb_us], by rw [pk_us, bb_us], by rw [pk_us, bb_us]⟩, ?_⟩
      unfold bb_T
      rw [bb_us, bb_us, bb_us, bb_us, pk_uLs, pk_uLs]
      rcases hT with h | ⟨h1, h2, h3, h4, h5, h6⟩
      · exact Or.inl h
      · exact Or.inr ⟨h1, h2, h3, by rw [bb_un (by omega)]; exact h4, h5, by rw [pk_uLn (by omega), pk_uLn (by omega)]; exact h6⟩
    · obtain ⟨⟨h1, h2, h3, h4, h5, h6, h7, h8⟩, h9⟩ := H t (by omega)
      refine ⟨⟨by rw [pk_un e, bb_un e]; exact h1, by rw [pk_un e, bb_un e]; exact h2, by rw [pk_un e, bb_un e]; exact h3, by rw [pk_un e, bb_un e]; exact h4, by rw [pk_un e, bb_un e]; exact h5, by rw [pk_un e, bb_un e]; exact h6, by rw [pk_un e, bb_un e]; exact h7, by rw [pk_un e, bb_un e]; exact h8⟩, ?_⟩
      refine bb_T_cong (fun j hj => ?_) h9
      have ne : j ≠ n := by omega
      exact ⟨bb_un ne, bb_un ne, bb_un ne, bb_un ne, pk_uLn ne, pk_uLn ne⟩
  · intro t ht
    have ne : t ≠ n := by omega
    rw [pk_un ne, pk_un ne, pk_un ne]
    exact Z t (by omega)
/-- one step of the reference: row t then holds X's value -/
theorem bb_step {post : Int64 → SY → Prop} {lim fn : Int32} {ep : Int64} {n : Nat} {o l q : Nat → Nat} {w : Nat → Bool} {aop al ar ab bop bl br bw a : Nat → Int32} {val g : Nat → Int64} (hn : n ≤ 12)
    (H : ∀ t, t < n → bb_E o l q w aop al ar ab bop bl br bw t ∧ bb_T o l q w g val t) {t : Nat} (ht : t < n) (hR : ∀ j, j < t → bb_Row a (j * 64) (val j).toBitVec)
    (K : bb_K post lim fn ep bop bl br bw g a (t * 64) (val t)) : wpY_step post (lim, fn, ep, bop, bl, br, bw, g, a) (nI t) := by
  obtain ⟨⟨_, h2, _, h4, _, h6, _, h8⟩, hT⟩ := H t ht
  rcases hT with ⟨t1, t2, t3, t4⟩ | ⟨t1, t2, t3, t4, t5, t6⟩
  · obtain ⟨⟨_, _, _, _, _, _, _, z8⟩, _⟩ := H 0 (by omega)
    rw [t1] at h2
    rw [t2] at h4
    rw [t3] at h6
    rw [t4] at K
    exact bb_s0 (by omega) h2 h4 h6 z8 h8 K
  · obtain ⟨⟨_, _, _, _, _, _, _, l8⟩, _⟩ := H (l t) (by omega)
    rw [t4] at l8
    rw [t5] at h8
    rw [t6] at K
    exact bb_stepO t1 (by omega) t2 t3 h4 h6 (hR _ t2) (hR _ t3) h2 l8 h8 K
theorem bb_eval {post : Int64 → SY → Prop} {lim fn : Int32} {ep : Int64} {n : Nat} {o l q : Nat → Nat} {w : Nat → Bool} {aop al ar ab bop bl br bw bit : Nat → Int32} {val g : Nat → Int64} (hn : n ≤ 12)
    (H : ∀ t, t < n → bb_E o l q w aop al ar ab bop bl br bw t ∧ bb_T o l q w g val t) {t : Nat} (ht : t < n)
    (K : ∀ a', post (val t) (lim, fn, ep, bop, bl, br, bw, g, a')) : ∃ m, wY_eval_16 post (nI t) m 0 lim fn ep bop bl br bw g bit := by
  refine loop_0 (σ := Nat → Int32) (fun m i s => wY_eval_16 post (nI t) m (nI i) lim fn ep bop bl br bw g s) (fun i s => ∀ j, j < i → bb_Row s (j * 64) (val j).toBitVec) t bit ?_ ?_ ?_
  · exact fun j hj => absurd hj (Nat.not_lt_zero j)
  · intro m s hs
    exact br_t (nI_le (Nat.le_refl t) (by omega)) (bb_step hn H ht hs (fun a' _ _ => K a'))
  · intro m i s hi hs ih
    refine br_f (nI_ge hi (by omega)) (bb_step hn H (by omega) hs (fun a' o' r' => nm_r (nI_1 i) (ih a' ?_)))
    intro j hj
    by_cases e : j = i
    · subst e; exact r'
    · exact bb_Row_off o' (by omega) (hs j (by omega))
end
section
/-! ===== node on both sides, by outcome; assign's loop ===== -/
theorem bb_64 (x y : Bool) : ((if x then (64 : Int32) else 32) = (if y then 64 else 32)) ↔ x = y := by cases x <;> cases y <;> decide
theorem bb_ar0 (x : Bool) : ¬ (if x then (2 : Int32) else 1) = 0 := by cases x <;> decide
theorem bb_ar2 (x : Bool) : (if x then (2 : Int32) else 1) = 2 ↔ x = true := by cases x <;> decide
theorem bb_s12 : ∀ l, l < 12 → (nI l).toInt16.toInt32 = nI l := by decide +kernel
theorem bb_vs {l : Nat} (h : l < 12) : vp_nar .short (nI l).toInt16.toInt32 = nI l := (pk_vs (nI l)).trans (bb_s12 l h)
theorem bb_oc : ∀ o, o ∈ bb_Ops → ((nI o).toUInt32 % 65536).toInt32 = nI o := by decide +kernel
theorem bb_vc {o : Nat} (h : o ∈ bb_Ops) : vp_nar .char ((nI o).toUInt32 % 65536).toInt32 = nI o := (pk_vc (nI o)).trans (bb_oc o h)
theorem bb_vw (x : Bool) : vp_nar .char ((if x then (64 : Int32) else 32).toUInt32 % 65536).toInt32 = (if x then 64 else 32) := by
  rw [pk_vc]
  cases x <;> decide
section
variable {post : Int32 → SX → Prop} {c : Int32} {e : Int64} {aop al ar ab : Nat → Int32} {val : Nat → Int64}
theorem bb_X121 {o l q n : Nat} (ho : o ∈ bb_Ops) (hn : n < 12) (hl : l < 12) (hq : q < 12)
    (K : post (nI n) (c, nI (n + 1), e, upd aop n (nI o).toInt8.toInt32, upd al n (nI l), upd ar n (nI q), upd ab n (if bb_wr o then 64 else 32), vp_updL val n (bb_comp o (val l) (val q)))) :
    wX_node_121 post (nI o) (nI l) (nI n) (nI q) c (nI n) e aop al ar ab val := by
  have cN : (nI n).toNatClampNeg = n := nI_clamp (by omega)
  have cL : (nI l).toNatClampNeg = l := nI_clamp (by omega)
  have cQ : (nI q).toNatClampNeg = q := nI_clamp (by omega)
  have iN : vp_in (nI n) 12 := vp_in_nI hn (by omega)
  unfold wX_node_121
  refine ⟨iN, nm_r (e' := upd aop n (nI o).toInt8.toInt32) (by rw [cN, pk_vb]) ⟨iN, nm_r (e' := upd al n (nI l)) (by rw [cN, bb_vs hl]) ⟨iN, nm_r (e' := upd ar n (nI q)) (by rw [cN, bb_vs hq]) ?_⟩⟩⟩
  refine bb_rw ho ?_
  refine ⟨iN, nm_r (e' := upd ab n (if bb_wr o then 64 else 32)) (by rw [cN, bb_vw]) ⟨vp_in_nI hl (by omega), vp_in_nI hq (by omega), ?_⟩⟩
  rw [cL, cQ]
  refine bb_cm ho ?_
  exact ⟨iN, nm_r (e' := vp_updL val n (bb_comp o (val l) (val q))) (by rw [cN]) (nm_r (nI_1 n) K)⟩
theorem bb_X91 {o l n cap : Nat} {x3 : Int32} (hn : n ≤ cap) (hc : cap ≤ 12)
    (Kf : ¬ n < cap → post (-1) (nI cap, nI n, e, aop, al, ar, ab, val))
    (Kn : n < cap → wX_node_121 post (nI o) (nI l) (nI n) (if bb_two o then x3 else nI l) (nI cap) (nI n) e aop al ar ab val) :
    wX_node_91 post (nI o) (nI l) x3 (if bb_two o then 2 else 1) (nI cap) (nI n) e aop al ar ab val := by
  unfold wX_node_91
  by_cases h : n < cap
  · have K := Kn h
    refine br_t (nI_lt h (by omega)) ?_
    cases ht : bb_two o with
    | true => rw [ht] at K; exact br_t (by decide) K
    | false => rw [ht] at K; exact br_f (by decide) K
  · exact br_f (nI_nlt (by omega) (by omega)) (Kf h)
theorem bb_Xa {o n : Nat} {p1 p2 : Int32} (ho : o ∈ bb_Ops) (h : p1 < 0 ∨ nI n ≤ p1) (K : post (-3) (c, nI n, e, aop, al, ar, ab, val)) : wpX_node post (c, nI n, e, aop, al, ar, ab, val) (nI o) p1 p2 := by
  unfold wpX_node
  dsimp only
  refine bb_ar ho ?_
  refine br_f (bb_ar0 _) ?_
  by_cases h0 : p1 < 0
  · exact br_t h0 K
  · rcases h with h | h
    · exact absurd h h0
    · exact br_f h0 (br_f (Int32.not_lt.mpr h) K)
theorem bb_Xb {o n l : Nat} {p2 : Int32} (ho : o ∈ bb_Ops) (ht : bb_two o = true) (hn : n ≤ 12) (hl : l < n) (h : p2 < 0 ∨ nI n ≤ p2) (K : post (-3) (c, nI n, e, aop, al, ar, ab, val)) : wpX_node post (c, nI n, e, aop, al, ar, ab, val) (nI o) (nI l) p2 := by
  unfold wpX_node
  dsimp only
  refine bb_ar ho ?_
  refine br_f (bb_ar0 _) (br_f (nI_pos (by omega)) (br_t (nI_lt hl (by omega)) (br_t ((bb_ar2 _).mpr ht) ?_)))
  by_cases h0 : p2 < 0
  · exact br_t h0 K
  · rcases h with h | h
    · exact absurd h h0
    · exact br_f h0 (br_f (Int32.not_lt.mpr h) K)
theorem bb_Xc {o n l : Nat} {p2 : Int32} (ho : o ∈ bb_Ops) (hn : n ≤ 12) (hl : l < n) (h : bb_two o = true → ∃ q, q < n ∧ p2 = nI q)
    (K : wX_node_51 post (nI o) (nI l) p2 (if bb_two o then 2 else 1) c (nI n) e aop al ar ab val) : wpX_node post (c, nI n, e, aop, al, ar, ab, val) (nI o) (nI l) p2 := by
  unfold wpX_node
  dsimp only
  refine bb_ar ho ?_
  refine br_f (bb_ar0 _) (br_f (nI_pos (by omega)) (br_t (nI_lt hl (by omega)) ?_))
  by_cases ht : bb_two o = true
  · obtain ⟨q, hq, rfl⟩ := h ht
    exact br_t ((bb_ar2 _).mpr ht) (br_f (nI_pos (by omega)) (br_t (nI_lt hq (by omega)) K))
  · exact br_f (fun z => ht ((bb_ar2 _).mp z)) K
theorem bb_X51a {o l : Nat} {w : Nat → Bool} {fn x3 x4 : Int32} (ho : o ∈ bb_Ops) (hl : l < 12) (hb : ab l = if w l then 64 else 32) (hw : ¬ w l = bb_w1 o)
    (K : post (-4) (c, fn, e, aop, al, ar, ab, val)) : wX_node_51 post (nI o) (nI l) x3 x4 c fn e aop al ar ab val := by
  have cL : (nI l).toNatClampNeg = l := nI_clamp (by omega)
  unfold wX_node_51
  refine ⟨vp_in_nI hl (by omega), ?_⟩
  refine bb_fw ho ?_
  exact br_f (by rw [cL, hb, bb_64]; exact hw) K
theorem bb_X51b {o l q : Nat} {w : Nat → Bool} {fn : Int32} (ho : o ∈ bb_Ops) (ht : bb_two o = true) (hl : l < 12) (hq : q < 12) (hb : ab l = if w l then 64 else 32) (hw : w l = bb_w1 o) (hb2 : ab q = if w q then 64 else 32) (hw2 : ¬ w q = bb_w2 o)
    (K : post (-4) (c, fn, e, aop, al, ar, ab, val)) : wX_node_51 post (nI o) (nI l) (nI q) (if bb_two o then 2 else 1) c fn e aop al ar ab val := by
  have cL : (nI l).toNatClampNeg = l := nI_clamp (by omega)
  have cQ : (nI q).toNatClampNeg = q := nI_clamp (by omega)
  unfold wX_node_51
  refine ⟨vp_in_nI hl (by omega), ?_⟩
  refine bb_fw ho ?_
  refine br_t (by rw [cL, hb, bb_64]; exact hw) (br_t ((bb_ar2 _).mpr ht) ⟨vp_in_nI hq (by omega), ?_⟩)
  refine bb_sw ho ?_
  exact br_f (by rw [cQ, hb2, bb_64]; exact hw2) K
theorem bb_X51c {o l : Nat} {w : Nat → Bool} {fn p2 : Int32} (ho : o ∈ bb_Ops) (hl : l < 12) (hb : ab l = if w l then 64 else 32) (hw : w l = bb_w1 o)
    (h2 : bb_two o = true → ∃ q, q < 12 ∧ p2 = nI q ∧ ab q = (if w q then 64 else 32) ∧ w q = bb_w2 o)
    (K : wX_node_91 post (nI o) (nI l) p2 (if bb_two o then 2 else 1) c fn e aop al ar ab val) : wX_node_51 post (nI o) (nI l) p2 (if bb_two o then 2 else 1) c fn e aop al ar ab val := by
  have cL : (nI l).toNatClampNeg = l := nI_clamp (by omega)
  unfold wX_node_51
  refine ⟨vp_in_nI hl (by omega), ?_⟩
  refine bb_fw ho ?_
  refine br_t (by rw [cL, hb, bb_64]; exact hw) ?_
  by_cases ht : bb_two o = true
  · obtain ⟨q, hq, rfl, hb2, hw2⟩ := h2 ht
    have cQ : (nI q).toNatClampNeg = q := nI_clamp (by omega)
    refine br_t ((bb_ar2 _).mpr ht) ⟨vp_in_nI hq (by omega), ?_⟩
    refine bb_sw ho ?_
    exact br_t (by rw [cQ, hb2, bb_64]; exact hw2) K
  · exact br_f (fun z => ht ((bb_ar2 _).mp z)) K
end
section
variable {post : Int32 → SY → Prop} {c fn : Int32} {e : Int64} {bop bl br bw bit : Nat → Int32} {g : Nat → Int64}
theorem bb_Yn {o : Nat} {p1 p2 : Int32} (ho : o ∈ bb_Ops) (K : wY_node_26 post (nI o) p1 p2 (bb_shape o) (bb_i (bb_two o)) c fn e bop bl br bw g bit) : wpY_node post (c, fn, e, bop, bl, br, bw, g, bit) (nI o) p1 p2 := by
  unfold wpY_node
  dsimp only
  refine bb_ys ho ?_
  obtain ⟨_, s2, _, _, s0⟩ := bb_sh1 (bb_w1 o) (bb_two o) (bb_w2 o) (bb_wr o)
  refine br_t s0 ?_
  by_cases ht : bb_two o = true
  · rw [ht] at K
    exact br_f (fun z => Bool.noConfusion (ht.symm.trans (s2.mp z))) K
  · have ht := ts_nt ht
    rw [ht] at K
    exact br_t (s2.mpr ht) K
theorem bb_Ya {o n : Nat} {p1 p2 s z : Int32} (h : p1 < 0 ∨ nI n ≤ p1) (K : post (-3) (c, nI n, e, bop, bl, br, bw, g, bit)) : wY_node_26 post (nI o) p1 p2 s z c (nI n) e bop bl br bw g bit := by
  unfold wY_node_26
  by_cases h0 : p1 < 0
  · exact br_t h0 K
  · rcases h with h | h
    · exact absurd h h0
    · exact br_f h0 (br_t h K)
theorem bb_Yb {o n l : Nat} {p2 s : Int32} (ht : bb_two o = true) (hn : n ≤ 12) (hl : l < n) (h : p2 < 0 ∨ nI n ≤ p2) (K : post (-3) (c, nI n, e, bop, bl, br, bw, g, bit)) : wY_node_26 post (nI o) (nI l) p2 s (bb_i (bb_two o)) c (nI n) e bop bl br bw g bit := by
  unfold wY_node_26
  refine br_f (nI_pos (by omega)) (br_f (nI_ge hl (by omega)) (br_f (by rw [ht]; decide) ?_))
  by_cases h0 : p2 < 0
  · exact br_t h0 K
  · rcases h with h | h
    · exact absurd h h0
    · exact br_f h0 (br_f (Int32.not_lt.mpr h) K)
theorem bb_Yc {o n l : Nat} {p2 s : Int32} (hn : n ≤ 12) (hl : l < n) (h : bb_two o = true → ∃ q, q < n ∧ p2 = nI q)
    (K : wY_node_60 post (nI o) (nI l) p2 s (bb_i (bb_two o)) c (nI n) e bop bl br bw g bit) : wY_node_26 post (nI o) (nI l) p2 s (bb_i (bb_two o)) c (nI n) e bop bl br bw g bit := by
  unfold wY_node_26
  refine br_f (nI_pos (by omega)) (br_f (nI_ge hl (by omega)) ?_)
  by_cases ht : bb_two o = true
  · obtain ⟨q, hq, rfl⟩ := h ht
    exact br_f (by rw [ht]; decide) (br_f (nI_pos (by omega)) (br_t (nI_lt hq (by omega)) K))
  · exact br_t (by rw [ts_nt ht]; rfl) K
theorem bb_Y60 {o l : Nat} {p2 : Int32} (hl : l < 12) (K : wY_node_78 post (nI o) (nI l) p2 (bb_shape o) (bb_i (bb_two o)) (bb_i (bb_w1 o)) (bw l) c fn e bop bl br bw g bit) :
    wY_node_60 post (nI o) (nI l) p2 (bb_shape o) (bb_i (bb_two o)) c fn e bop bl br bw g bit := by
  have cL : (nI l).toNatClampNeg = l := nI_clamp (by omega)
  obtain ⟨s1, _, _, _, _⟩ := bb_sh1 (bb_w1 o) (bb_two o) (bb_w2 o) (bb_wr o)
  unfold wY_node_60
  rw [cL]
  refine ⟨vp_in_nI hl (by omega), ?_⟩
  by_cases h1 : bb_w1 o = true
  · rw [h1] at K
    exact br_f (fun z => Bool.noConfusion (h1.symm.trans (s1.mp z))) K
  · have h1 := ts_nt h1
    rw [h1] at K
    exact br_t (s1.mpr h1) K
theorem bb_Y78a {o l : Nat} {w : Nat → Bool} {p2 s z : Int32} (hb : bw l = bb_i (w l)) (hw : ¬ w l = bb_w1 o) (K : post (-4) (c, fn, e, bop, bl, br, bw, g, bit)) :
    wY_node_78 post (nI o) (nI l) p2 s z (bb_i (bb_w1 o)) (bw l) c fn e bop bl br bw g bit := by
  unfold wY_node_78
  exact br_f (by rw [hb, bb_i_inj]; exact hw) K
theorem bb_Y78b {o l q : Nat} {w : Nat → Bool} (ht : bb_two o = true) (hq : q < 12) (hb : bw l = bb_i (w l)) (hw : w l = bb_w1 o)
    (K : wY_node_104 post (nI o) (nI l) (nI q) (bb_shape o) (bb_i (bb_two o)) (bb_i (bb_w2 o)) (bw q) c fn e bop bl br bw g bit) :
    wY_node_78 post (nI o) (nI l) (nI q) (bb_shape o) (bb_i (bb_two o)) (bb_i (bb_w1 o)) (bw l) c fn e bop bl br bw g bit := by
  have cQ : (nI q).toNatClampNeg = q := nI_clamp (by omega)
  obtain ⟨_, _, s4, _, _⟩ := bb_sh1 (bb_w1 o) (bb_two o) (bb_w2 o) (bb_wr o)
  unfold wY_node_78
  rw [cQ]
  refine br_t (by rw [hb, hw]) (br_f (by rw [ht]; decide) ⟨vp_in_nI hq (by omega), ?_⟩)
  by_cases h1 : bb_w2 o = true
  · rw [h1] at K
    exact br_f (fun z => Bool.noConfusion (h1.symm.trans (s4.mp z))) K
  · have h1 := ts_nt h1
    rw [h1] at K
    exact br_t (s4.mpr h1) K
theorem bb_Y78c {o l : Nat} {w : Nat → Bool} {p2 s : Int32} (ht : bb_two o = false) (hb : bw l = bb_i (w l)) (hw : w l = bb_w1 o)
    (K : wY_node_110 post (nI o) (nI l) p2 s (bb_i (bb_two o)) c fn e bop bl br bw g bit) :
    wY_node_78 post (nI o) (nI l) p2 s (bb_i (bb_two o)) (bb_i (bb_w1 o)) (bw l) c fn e bop bl br bw g bit := by
  unfold wY_node_78
  exact br_t (by rw [hb, hw]) (br_t (by rw [ht]; rfl) K)
theorem bb_Y176 {o n : Nat} {f : Int32} (hn : n < 12) (K : post (nI n) (c, f, e, bop, bl, br, upd bw n (bb_i (bb_wr o)), g, bit)) : wY_node_176 post (bb_shape o) (nI n) c f e bop bl br bw g bit := by
  have cN : (nI n).toNatClampNeg = n := nI_clamp (by omega)
  obtain ⟨_, _, _, s8, _⟩ := bb_sh1 (bb_w1 o) (bb_two o) (bb_w2 o) (bb_wr o)
  unfold wY_node_176
  rw [cN]
  by_cases h1 : bb_wr o = true
  · rw [h1] at K
    exact br_f (fun z => Bool.noConfusion (h1.symm.trans (s8.mp z))) ⟨vp_in_nI hn (by omega), nm_e K⟩
  · have h1 := ts_nt h1
    rw [h1] at K
    exact br_t (s8.mpr h1) ⟨vp_in_nI hn (by omega), nm_e K⟩
theorem bb_Y110f {o l n cap : Nat} {p2 s z : Int32} (h : ¬ n < cap) (hn : n ≤ 12) (K : post (-1) (nI cap, nI n, e, bop, bl, br, bw, g, bit)) : wY_node_110 post (nI o) (nI l) p2 s z (nI cap) (nI n) e bop bl br bw g bit := by
  unfold wY_node_110
  exact br_f (nI_nlt (by omega) (by omega)) K
theorem bb_Y110n {o l q n cap : Nat} {p2 : Int32} (ho : o ∈ bb_Ops) (h : n < cap) (hc : cap ≤ 12) (hl : l < 12) (hq : q < 12) (hp : (if bb_two o then p2 else nI l) = nI q)
    (K : post (nI n) (nI cap, nI (n + 1), e, upd bop n (nI o), upd bl n (nI l), upd br n (nI q), upd bw n (bb_i (bb_wr o)), g, bit)) :
    wY_node_110 post (nI o) (nI l) p2 (bb_shape o) (bb_i (bb_two o)) (nI cap) (nI n) e bop bl br bw g bit := by
  have cN : (nI n).toNatClampNeg = n := nI_clamp (by omega)
  have iN : vp_in (nI n) 12 := vp_in_nI (by omega) (by omega)
  unfold wY_node_110
  refine br_t (nI_lt h (by omega)) (nm_r (nI_1 n) ⟨iN, nm_r (e' := upd bop n (nI o)) (by rw [cN, bb_vc ho]) ⟨iN, nm_r (e' := upd br n (nI l)) (by rw [cN, bb_vs hl]) ⟨iN, nm_r (e' := upd bl n (nI l)) (by rw [cN, bb_vs hl]) ?_⟩⟩⟩)
  by_cases ht : bb_two o = true
  · rw [if_pos ht] at hp
    subst hp
    refine br_f (by rw [ht]; decide) ⟨iN, nm_r (e' := upd br n (nI q)) (by rw [cN, bb_vs hq, bb_uu]) (bb_Y176 (by omega) K)⟩
  · rw [if_neg ht] at hp
    rw [← hp] at K
    exact br_t (by rw [ts_nt ht]; rfl) (bb_Y176 (by omega) K)
end
end
section
/-! ===== what is owed ===== -/
theorem bb_R0 {cap : Nat} (h : cap ≤ 12) : i_Rel 1 (nI cap, 0, 0, (fun _ => 0), (fun _ => 0), (fun _ => 0), (fun _ => 0), (fun _ => 0)) (nI cap, 0, 0, (fun _ => 0), (fun _ => 0), (fun _ => 0), (fun _ => 0), (fun _ => 0), (fun _ => 0)) :=
  ⟨cap, 0, fun _ => 0, fun _ => 0, fun _ => 0, fun _ => false, rfl, rfl, rfl, rfl, rfl, Nat.zero_le _, h, fun t ht => absurd ht (Nat.not_lt_zero t), fun _ _ => ⟨rfl, rfl, rfl⟩⟩
theorem i_vc0 (k0 : Int32) : wpX_init (fun u => wpY_init (fun v => i_Rel 1 u v) k0) k0 := by
  by_cases h1 : 1 ≤ k0
  · by_cases h2 : k0 ≤ 12
    · have hp : ¬ k0 < 0 := Int32.not_lt.mpr (Int32.le_trans (by decide) h1)
      obtain ⟨cap, hc, rfl⟩ := nI_of2 (M := 12) (n := 12) (by decide) hp h2
      exact br_t h1 (br_t h2 (br_t h1 (br_t h2 (bb_R0 hc))))
    · exact br_t h1 (br_f h2 (br_t h1 (br_f h2 (bb_R0 (cap := 12) (Nat.le_refl 12)))))
  · exact br_f h1 (br_t (by decide) (br_f h1 (bb_R0 (cap := 1) (by decide))))
theorem i_vc_input {k : Nat} {u : SX} {v : SY} (I : i_Rel k u v) (hk : k + 4 ≤ 2049) (v1 : Int32) (a1 : Int64) : wpX_input (fun r u' => wpY_input (fun r' v' => r' = r ∧ i_Rel (k + 4) u' v') v v1 a1) u v1 a1 := by
  obtain ⟨c, fn, e, aop, al, ar, ab, val⟩ := u
  obtain ⟨c', fn', e', bop, bl, br, bw, g, bit⟩ := v
  obtain ⟨cap, n, o, l, q, w, rfl, rfl, rfl, rfl, rfl, hn, hc, H, Z⟩ := I
  by_cases h : n < cap
  · have cN : (nI n).toNatClampNeg = n := nI_clamp (by omega)
    have iN : vp_in (nI n) 12 := vp_in_nI (by omega) (by omega)
    have hlt : nI n < nI cap := nI_lt h (by omega)
    obtain ⟨z1, z2, z3⟩ := Z n (Nat.le_refl n)
    have y1 : upd bop n (nI 0) = bop := bb_self z1
    have y2 : upd bl n (nI 0) = bl := bb_self z2
    have y3 : upd br n (nI 0) = br := bb_self z3
    have push := fun (w0 : Bool) (v0 : Int64) (hv : v0 = if w0 then a1 else a1.toInt32.toInt64) => bb_push (k := k + 4) (e := e') (bit := bit) h hc H Z 0 0 0 w0 v0 a1 (Or.inl ⟨rfl, rfl, rfl, hv⟩)
    rw [y1, y2, y3] at push
    refine br_t hlt ⟨iN, nm_r (e' := upd aop n (nI 0).toInt8.toInt32) (by rw [cN]; rfl) ⟨iN, nm_r (e' := upd al n (nI 0)) (by rw [cN]; rfl) ⟨iN, nm_r (e' := upd ar n (nI 0)) (by rw [cN]; rfl) ?_⟩⟩⟩
    by_cases h0 : v1 = 0
    · refine br_t h0 ⟨iN, nm_r (e' := upd ab n (if false then 64 else 32)) (by rw [cN]; rfl) ⟨iN, nm_r (e' := vp_updL val n a1.toInt32.toInt64) (by rw [cN]) (nm_r (nI_1 n) ?_)⟩⟩
      refine br_t hlt (nm_r (nI_1 n) (br_t h0 ?_))
      unfold wY_input_41
      exact ⟨iN, nm_r (e' := upd bw n (bb_i false)) (by rw [cN]; rfl) ⟨iN, nm_r (e' := vp_updL g n a1) (by rw [cN]) ⟨rfl, push false _ rfl⟩⟩⟩
    · refine br_f h0 ⟨iN, nm_r (e' := upd ab n (if true then 64 else 32)) (by rw [cN]; rfl) ⟨iN, nm_r (e' := vp_updL val n a1) (by rw [cN]) (nm_r (nI_1 n) ?_)⟩⟩
      refine br_t hlt (nm_r (nI_1 n) (br_f h0 ?_))
      unfold wY_input_41
      exact ⟨iN, nm_r (e' := upd bw n (bb_i true)) (by rw [cN]; rfl) ⟨iN, nm_r (e' := vp_updL g n a1) (by rw [cN]) ⟨rfl, push true _ rfl⟩⟩⟩
  · have hlt : ¬ nI n < nI cap := nI_nlt (by omega) (by omega)
    exact br_f hlt (br_f hlt ⟨rfl, cap, n, o, l, q, w, rfl, rfl, rfl, rfl, rfl, hn, hc, H, Z⟩)
theorem i_vc_node {k : Nat} {u : SX} {v : SY} (I : i_Rel k u v) (hk : k + 4 ≤ 2049) (v1 : Int32) (v2 : Int32) (v3 : Int32) : wpX_node (fun r u' => wpY_node (fun r' v' => r' = r ∧ i_Rel (k + 4) u' v') v v1 v2 v3) u v1 v2 v3 := by
  obtain ⟨c, fn, e, aop, al, ar, ab, val⟩ := u
  obtain ⟨c', fn', e', bop, bl, br, bw, g, bit⟩ := v
  have J : i_Rel (k + 4) (c, fn, e, aop, al, ar, ab, val) (c', fn', e', bop, bl, br, bw, g, bit) := I
  obtain ⟨cap, n, o, l, q, w, rfl, rfl, rfl, rfl, rfl, hn, hc, H, Z⟩ := I
  by_cases hop : ∃ o, o ∈ bb_Ops ∧ v1 = nI o
  · obtain ⟨o0, ho, rfl⟩ := hop
    rcases pk_ix v2 (n := n) (by omega) with h | h | ⟨l0, hl, rfl⟩
    · exact bb_Xa ho (Or.inl h) (bb_Yn ho (bb_Ya (Or.inl h) ⟨rfl, J⟩))
    · exact bb_Xa ho (Or.inr h) (bb_Yn ho (bb_Ya (Or.inr h) ⟨rfl, J⟩))
    · obtain ⟨⟨_, _, _, _, _, _, l7, l8⟩, _⟩ := H l0 hl
      cases ht : bb_two o0 with
      | true =>
        rcases pk_ix v3 (n := n) (by omega) with h | h | ⟨q0, hq, rfl⟩
        · exact bb_Xb ho ht (by omega) hl (Or.inl h) (bb_Yn ho (bb_Yb ht (by omega) hl (Or.inl h) ⟨rfl, J⟩))
        · exact bb_Xb ho ht (by omega) hl (Or.inr h) (bb_Yn ho (bb_Yb ht (by omega) hl (Or.inr h) ⟨rfl, J⟩))
        · obtain ⟨⟨_, _, _, _, _, _, q7, q8⟩, _⟩ := H q0 hq
          refine bb_Xc ho (by omega) hl (fun _ => ⟨q0, hq, rfl⟩) ?_
          by_cases hw : w l0 = bb_w1 o0
          · by_cases hw2 : w q0 = bb_w2 o0
            · refine bb_X51c (w := w) ho (by omega) l7 hw (fun _ => ⟨q0, by omega, rfl, q7, hw2⟩) (bb_X91 hn hc (fun hf => ?_) (fun hf => ?_))
              · refine bb_Yn ho (bb_Yc (by omega) hl (fun _ => ⟨q0, hq, rfl⟩) (bb_Y60 (by omega) (bb_Y78b ht (by omega) l8 hw ?_)))
                unfold wY_node_104
                exact br_t (by rw [q8, hw2]) (bb_Y110f hf (by omega) ⟨rfl, J⟩)
              · rw [if_pos ht]
                refine bb_X121 ho (by omega) (by omega) (by omega) ?_
                refine bb_Yn ho (bb_Yc (by omega) hl (fun _ => ⟨q0, hq, rfl⟩) (bb_Y60 (by omega) (bb_Y78b ht (by omega) l8 hw ?_)))
                unfold wY_node_104
                refine br_t (by rw [q8, hw2]) (bb_Y110n (q := q0) ho hf hc (by omega) (by omega) (if_pos ht) ⟨rfl, ?_⟩)
                have P := bb_push (k := k + 4) (e := e') (bit := bit) hf hc H Z o0 l0 q0 (bb_wr o0) _ (g n) (Or.inr ⟨ho, hl, hq, hw, rfl, rfl⟩)
                rw [bb_selfL] at P
                exact P
            · refine bb_X51b (w := w) ho ht (by omega) (by omega) l7 hw q7 hw2 ?_
              refine bb_Yn ho (bb_Yc (by omega) hl (fun _ => ⟨q0, hq, rfl⟩) (bb_Y60 (by omega) (bb_Y78b ht (by omega) l8 hw ?_)))
              unfold wY_node_104
              exact br_f (by rw [q8, bb_i_inj]; exact hw2) ⟨rfl, J⟩
          · exact bb_X51a (w := w) ho (by omega) l7 hw (bb_Yn ho (bb_Yc (by omega) hl (fun _ => ⟨q0, hq, rfl⟩) (bb_Y60 (by omega) (bb_Y78a l8 hw ⟨rfl, J⟩))))
      | false =>
        have hne : bb_two o0 = true → ∃ q, q < n ∧ v3 = nI q := fun z => Bool.noConfusion (ht.symm.trans z)
        have hne2 : bb_two o0 = true → ∃ q, q < 12 ∧ v3 = nI q ∧ ab q = (if w q then 64 else 32) ∧ w q = bb_w2 o0 := fun z => Bool.noConfusion (ht.symm.trans z)
        refine bb_Xc ho (by omega) hl hne ?_
        by_cases hw : w l0 = bb_w1 o0
        · refine bb_X51c (w := w) ho (by omega) l7 hw hne2 (bb_X91 hn hc (fun hf => ?_) (fun hf => ?_))
          · exact bb_Yn ho (bb_Yc (by omega) hl hne (bb_Y60 (by omega) (bb_Y78c ht l8 hw (bb_Y110f hf (by omega) ⟨rfl, J⟩))))
          · have hp : (if bb_two o0 then v3 else nI l0) = nI l0 := by rw [ht]; rfl
            rw [hp]
            refine bb_X121 ho (by omega) (by omega) (by omega) ?_
            refine bb_Yn ho (bb_Yc (by omega) hl hne (bb_Y60 (by omega) (bb_Y78c ht l8 hw (bb_Y110n (q := l0) ho hf hc (by omega) (by omega) hp ⟨rfl, ?_⟩))))
            have P := bb_push (k := k + 4) (e := e') (bit := bit) hf hc H Z o0 l0 l0 (bb_wr o0) _ (g n) (Or.inr ⟨ho, hl, hl, hw, rfl, rfl⟩)
            rw [bb_selfL] at P
            exact P
        · exact bb_X51a (w := w) ho (by omega) l7 hw (bb_Yn ho (bb_Yc (by omega) hl hne (bb_Y60 (by omega) (bb_Y78a l8 hw ⟨rfl, J⟩))))
  · unfold wpX_node
    dsimp only
    refine bb_ar_no hop ?_
    refine br_t rfl ?_
    unfold wpY_node
    dsimp only
    refine bb_ys_no hop ?_
    exact br_f (by decide) ⟨rfl, J⟩
theorem bb_assign {post : Int64 → SX → Prop} {c : Int32} {e : Int64} {n j : Nat} {o l q : Nat → Nat} {w : Nat → Bool} {aop al ar ab bop bl br bw : Nat → Int32} {val g : Nat → Int64} {v v' : Int64} (hn : n ≤ 12)
    (H : ∀ t, t < n → bb_E o l q w aop al ar ab bop bl br bw t ∧ bb_T o l q w g val t) (hj : j < n) (h0 : o j = 0) (hv : v' = if w j then v else v.toInt32.toInt64)
    (K : ∀ s, (∀ t, t < n → bb_T o l q w (vp_updL g j v) s t) → post (e + 1) (c, nI n, e + 1, aop, al, ar, ab, s)) :
    ∃ m, wX_assign_64 post c (nI n) e m (nI (j + 1)) aop al ar ab (vp_updL val j v') := by
  refine pk_loop (σ := Nat → Int64) (fun m i s => wX_assign_64 post c (nI n) e m (nI i) aop al ar ab s) (fun i s => j < i ∧ (∀ t, t < i → bb_T o l q w (vp_updL g j v) s t) ∧ (∀ t, i ≤ t → s t = val t)) n (j + 1) (vp_updL val j v') (by omega) ?_ ?_ ?_
  · refine ⟨by omega, ?_, fun t ht => pk_uLn (by omega)⟩
    intro t ht
    by_cases et : t = j
    · subst et
      obtain ⟨_, hT⟩ := H t hj
      rcases hT with ⟨t1, t2, t3, _⟩ | ⟨t1, _⟩
      · exact Or.inl ⟨t1, t2, t3, by rw [pk_uLs, pk_uLs]; exact hv⟩
      · rw [h0] at t1
        exact absurd t1 (by decide)
    · refine bb_T_cong (fun i hi => ?_) (H t (by omega)).2
      exact ⟨rfl, rfl, rfl, rfl, pk_uLn (by omega), pk_uLn (by omega)⟩
  · intro m s hs
    exact br_t (nI_le (Nat.le_refl n) (by omega)) (nm_e (K s hs.2.1))
  · intro m i s hi hs ih
    obtain ⟨hji, hT, hR⟩ := hs
    have cI : (nI i).toNatClampNeg = i := nI_clamp (by omega)
    have iI : vp_in (nI i) 12 := vp_in_nI (by omega) (by omega)
    obtain ⟨⟨h1, _, h3, _, h5, _, _, _⟩, hTi⟩ := H i hi
    refine br_f (nI_ge hi (by omega)) ⟨iI, ?_⟩
    rcases hTi with ⟨t1, t2, t3, t4⟩ | ⟨t1, t2, t3, t4, t5, t6⟩
    · refine nm_r (e' := 0) (by rw [cI, h1, t1]; decide) (br_t rfl (nm_r (nI_1 i) (ih s ⟨by omega, ?_, fun t ht => hR t (by omega)⟩)))
      intro t ht
      by_cases et : t = i
      · subst et
        exact Or.inl ⟨t1, t2, t3, by rw [hR t (Nat.le_refl t), pk_uLn (by omega)]; exact t4⟩
      · exact hT t (by omega)
    · obtain ⟨o1, o2, o3, o4⟩ := bb_opX (o i) t1
      have aL : al (nI i).toNatClampNeg = nI (l i) := by rw [cI, h3]
      have aQ : ar (nI i).toNatClampNeg = nI (q i) := by rw [cI, h5]
      have vL : s (al (nI i).toNatClampNeg).toNatClampNeg = s (l i) := by rw [aL, nI_clamp (by omega)]
      have vQ : s (ar (nI i).toNatClampNeg).toNatClampNeg = s (q i) := by rw [aQ, nI_clamp (by omega)]
      refine nm_r (e' := nI (o i)) (by rw [cI, h1]; exact o1) (br_f o3 ⟨iI, by rw [aL]; exact vp_in_nI (by omega) (by omega), iI, by rw [aQ]; exact vp_in_nI (by omega) (by omega), ?_⟩)
      refine bb_cm t1 ?_
      refine ⟨iI, nm_r (e' := vp_updL s i (bb_comp (o i) (s (l i)) (s (q i)))) (by rw [vL, vQ, cI]) (nm_r (nI_1 i) (ih _ ⟨by omega, ?_, fun t ht => (pk_uLn (by omega)).trans (hR t (by omega))⟩))⟩
      intro t ht
      by_cases et : t = i
      · subst et
        exact Or.inr ⟨t1, t2, t3, t4, t5, by rw [pk_uLs, pk_uLn (by omega), pk_uLn (by omega)]⟩
      · refine bb_T_cong (fun p hp => ?_) (hT t (by omega))
        exact ⟨rfl, rfl, rfl, rfl, rfl, pk_uLn (by omega)⟩
theorem i_vc_assign {k : Nat} {u : SX} {v : SY} (I : i_Rel k u v) (hk : k + 4 ≤ 2049) (v1 : Int32) (a1 : Int64) : wpX_assign (fun r u' => wpY_assign (fun r' v' => r' = r ∧ i_Rel (k + 4) u' v') v v1 a1) u v1 a1 := by
  obtain ⟨c, fn, e, aop, al, ar, ab, val⟩ := u
  obtain ⟨c', fn', e', bop, bl, br, bw, g, bit⟩ := v
  have J : i_Rel (k + 4) (c, fn, e, aop, al, ar, ab, val) (c', fn', e', bop, bl, br, bw, g, bit) := I
  obtain ⟨cap, n, o, l, q, w, rfl, rfl, rfl, rfl, rfl, hn, hc, H, Z⟩ := I
  rcases pk_ix v1 (n := n) (by omega) with h | h | ⟨j, hj, rfl⟩
  · exact br_t h (br_t h ⟨rfl, J⟩)
  · have h0 : ¬ v1 < 0 := Int32.not_lt.mpr (Int32.le_trans (nI_pos' (by omega)) h)
    exact br_f h0 (br_f (Int32.not_lt.mpr h) (br_f h0 (br_f (Int32.not_lt.mpr h) ⟨rfl, J⟩)))
  · have cJ : (nI j).toNatClampNeg = j := nI_clamp (by omega)
    have iJ : vp_in (nI j) 12 := vp_in_nI (by omega) (by omega)
    have p0 : ¬ nI j < 0 := nI_pos (by omega)
    have pn : nI j < nI n := nI_lt hj (by omega)
    obtain ⟨⟨h1, h2, _, _, _, _, h7, _⟩, hT⟩ := H j hj
    rcases hT with ⟨t1, _, _, _⟩ | ⟨t1, _⟩
    · have zX : aop (nI j).toNatClampNeg = 0 := by rw [cJ, h1, t1]; decide
      have zY : bop (nI j).toNatClampNeg = 0 := by rw [cJ, h2, t1]; rfl
      have fin : ∀ s, (∀ t, t < n → bb_T o l q w (vp_updL g j a1) s t) → wpY_assign (fun r' v' => r' = e' + 1 ∧ i_Rel (k + 4) (nI cap, nI n, e' + 1, aop, al, ar, ab, s) v') (nI cap, nI n, e', bop, bl, br, bw, g, bit) (nI j) a1 := by
        intro s hs
        exact br_f p0 (br_t pn ⟨iJ, br_t zY ⟨iJ, nm_r (e' := vp_updL g j a1) (by rw [cJ]) (nm_e ⟨rfl, cap, n, o, l, q, w, rfl, rfl, rfl, rfl, rfl, hn, hc, fun t ht => ⟨(H t ht).1, hs t ht⟩, Z⟩)⟩⟩)
      refine br_f p0 (br_t pn ⟨iJ, br_t zX ⟨iJ, ?_⟩⟩)
      cases hw : w j with
      | true =>
        exact br_t (by rw [cJ, h7, hw]; rfl) ⟨iJ, nm_r (e' := vp_updL val j a1) (by rw [cJ]) (nm_r (nI_1 j) (bb_assign (by omega) H hj t1 (by rw [hw]; rfl) fin))⟩
      | false =>
        exact br_f (by rw [cJ, h7, hw]; decide) ⟨iJ, nm_r (e' := vp_updL val j a1.toInt32.toInt64) (by rw [cJ]) (nm_r (nI_1 j) (bb_assign (by omega) H hj t1 (by rw [hw]; rfl) fin))⟩
    · obtain ⟨_, o2, o3, _⟩ := bb_opX (o j) t1
      have zX : ¬ aop (nI j).toNatClampNeg = 0 := by rw [cJ, h1]; exact o2
      have zY : ¬ bop (nI j).toNatClampNeg = 0 := by rw [cJ, h2]; exact o3
      exact br_f p0 (br_t pn ⟨iJ, br_f zX (br_f p0 (br_t pn ⟨iJ, br_f zY ⟨rfl, J⟩⟩))⟩)
theorem i_vc_eval {k : Nat} {u : SX} {v : SY} (I : i_Rel k u v) (hk : k + 4 ≤ 2049) (v1 : Int32) : wpX_eval (fun r => wpY_eval (fun r' v' => r' = r ∧ i_Rel (k + 4) u v') v v1) u v1 := by
  obtain ⟨c, fn, e, aop, al, ar, ab, val⟩ := u
  obtain ⟨c', fn', e', bop, bl, br, bw, g, bit⟩ := v
  have J : ∀ bit', i_Rel (k + 4) (c, fn, e, aop, al, ar, ab, val) (c', fn', e', bop, bl, br, bw, g, bit') := fun _ => I
  obtain ⟨cap, n, o, l, q, w, rfl, rfl, rfl, rfl, rfl, hn, hc, H, Z⟩ := I
  rcases pk_ix v1 (n := n) (by omega) with h | h | ⟨j, hj, rfl⟩
  · exact br_t h (br_t h ⟨rfl, J _⟩)
  · have h0 : ¬ v1 < 0 := Int32.not_lt.mpr (Int32.le_trans (nI_pos' (by omega)) h)
    exact br_f h0 (br_f (Int32.not_lt.mpr h) (br_f h0 (br_f (Int32.not_lt.mpr h) ⟨rfl, J _⟩)))
  · have cJ : (nI j).toNatClampNeg = j := nI_clamp (by omega)
    have iJ : vp_in (nI j) 12 := vp_in_nI (by omega) (by omega)
    have p0 : ¬ nI j < 0 := nI_pos (by omega)
    have pn : nI j < nI n := nI_lt hj (by omega)
    exact br_f p0 (br_t pn ⟨iJ, br_f p0 (br_t pn (bb_eval (by omega) H hj (fun a' => ⟨by rw [cJ], J a'⟩)))⟩)
theorem i_vc_width {k : Nat} {u : SX} {v : SY} (I : i_Rel k u v) (hk : k + 4 ≤ 2049) (v1 : Int32) : wpX_width (fun r => wpY_width (fun r' => r' = r ∧ i_Rel (k + 4) u v) v v1) u v1 := by
  obtain ⟨c, fn, e, aop, al, ar, ab, val⟩ := u
  obtain ⟨c', fn', e', bop, bl, br, bw, g, bit⟩ := v
  have J : i_Rel (k + 4) (c, fn, e, aop, al, ar, ab, val) (c', fn', e', bop, bl, br, bw, g, bit) := I
  obtain ⟨cap, n, o, l, q, w, rfl, rfl, rfl, rfl, rfl, hn, hc, H, Z⟩ := I
  rcases pk_ix v1 (n := n) (by omega) with h | h | ⟨j, hj, rfl⟩
  · exact br_t h (br_t h ⟨rfl, J⟩)
  · have h0 : ¬ v1 < 0 := Int32.not_lt.mpr (Int32.le_trans (nI_pos' (by omega)) h)
    exact br_f h0 (br_f (Int32.not_lt.mpr h) (br_f h0 (br_f (Int32.not_lt.mpr h) ⟨rfl, J⟩)))
  · have cJ : (nI j).toNatClampNeg = j := nI_clamp (by omega)
    have iJ : vp_in (nI j) 12 := vp_in_nI (by omega) (by omega)
    have p0 : ¬ nI j < 0 := nI_pos (by omega)
    have pn : nI j < nI n := nI_lt hj (by omega)
    obtain ⟨⟨_, _, _, _, _, _, h7, h8⟩, _⟩ := H j hj
    refine br_f p0 (br_t pn ⟨iJ, br_f p0 (br_t pn ⟨iJ, ?_⟩)⟩)
    cases hw : w j with
    | true => exact br_f (by rw [cJ, h8, hw]; decide) ⟨by rw [cJ, h7, hw]; rfl, J⟩
    | false => exact br_t (by rw [cJ, h8, hw]; rfl) ⟨by rw [cJ, h7, hw]; rfl, J⟩
theorem i_vc_size {k : Nat} {u : SX} {v : SY} (I : i_Rel k u v) (hk : k + 4 ≤ 2049) : wpX_size (fun r => wpY_size (fun r' => r' = r ∧ i_Rel (k + 4) u v) v) u := by
  obtain ⟨c, fn, e, aop, al, ar, ab, val⟩ := u
  obtain ⟨c', fn', e', bop, bl, br, bw, g, bit⟩ := v
  have J : i_Rel (k + 4) (c, fn, e, aop, al, ar, ab, val) (c', fn', e', bop, bl, br, bw, g, bit) := I
  obtain ⟨cap, n, o, l, q, w, rfl, rfl, rfl, rfl, rfl, hn, hc, H, Z⟩ := I
  exact ⟨rfl, J⟩
end
