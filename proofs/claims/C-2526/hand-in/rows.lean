section
/-! pure rows to paste: stores, nI and lN arithmetic, masks, shifts, narrowing, branches by naturals (pk_le, pk_lt, pk_eq), loops (lp1 .. lp16: the measure of the state; rp1 ..: recursion), negatives. Take what you need -/
theorem pk_us {f : Nat → Int32} {k : Nat} {x : Int32} : upd f k x k = x := if_pos rfl
theorem pk_un {f : Nat → Int32} {k j : Nat} {x : Int32} (h : j ≠ k) : upd f k x j = f j := if_neg h
theorem pk_uLs {f : Nat → Int64} {k : Nat} {x : Int64} : vp_updL f k x k = x := if_pos rfl
theorem pk_uLn {f : Nat → Int64} {k j : Nat} {x : Int64} (h : j ≠ k) : vp_updL f k x j = f j := if_neg h
theorem pk_sub {a b : Nat} (h : b ≤ a) : nI a - nI b = nI (a - b) := by
  obtain ⟨c, rfl⟩ : ∃ c, a = c + b := ⟨a - b, by omega⟩
  rw [← nI_add, Int32.add_sub_cancel, Nat.add_sub_cancel]
theorem pk_m1 (n : Nat) : nI (n + 1) + (-1) = nI n := by
  rw [← nI_1, Int32.add_assoc, show (1 : Int32) + (-1) = 0 from rfl, Int32.add_zero]
theorem pk_mul (a b : Nat) : nI a * nI b = nI (a * b) := (Int32.ofNat_mul a b).symm
theorem pk_div {a d : Nat} (ha : a < 2 ^ 31) (h0 : 0 < d) (hd : d < 2 ^ 31) : nI a / nI d = nI (a / d) := by
  apply Int32.toInt_inj.mp
  rw [lg_idiv_nonneg (by rw [nI_toInt ha]; omega) (by rw [nI_toInt hd]; omega), nI_toInt ha, nI_toInt hd, nI_toInt (Nat.lt_of_le_of_lt (Nat.div_le_self a d) ha)]
  first | rfl | exact (Int.natCast_ediv _ _).symm
theorem pk_rem {a d : Nat} (ha : a < 2 ^ 31) (h0 : 0 < d) (hd : d < 2 ^ 31) : nI a - nI a / nI d * nI d = nI (a % d) := by
  rw [pk_div ha h0 hd, pk_mul, pk_sub (Nat.div_mul_le_self a d)]
  exact congrArg nI (by have := Nat.div_add_mod' a d; omega)
theorem pk_sub_toInt {a b : Nat} (ha : a < 2 ^ 30) (hb : b < 2 ^ 30) : (nI a - nI b).toInt = (a : Int) - b := by
  rw [Int32.toInt_sub, nI_toInt (by omega), nI_toInt (by omega)]
  exact Int.bmod_eq_of_le (by omega) (by omega)
theorem pk_sneg {a b : Nat} (hb : b < 2 ^ 30) (h : a < b) : nI a - nI b < 0 := by
  rw [Int32.lt_iff_toInt_lt, pk_sub_toInt (by omega) hb, show (0 : Int32).toInt = 0 from by decide]
  omega
theorem pk_ix (x : Int32) {n : Nat} (hn : n < 2 ^ 31) : x < 0 ∨ nI n ≤ x ∨ ∃ j : Nat, j < n ∧ x = nI j := by
  by_cases h : x < 0
  · exact Or.inl h
  · obtain ⟨j, hj, rfl⟩ := nI_of h
    by_cases h2 : j < n
    · exact Or.inr (Or.inr ⟨j, h2, rfl⟩)
    · exact Or.inr (Or.inl (nI_le (by omega) hj))
theorem pk_le {x y : Int32} {A B : Prop} (a b : Nat) (f : a ≤ b → A) (g : b < a → B) (hx : x = nI a := by rfl) (hy : y = nI b := by rfl) (ha : a < 2 ^ 31 := by omega) (hb : b < 2 ^ 31 := by omega) : (x ≤ y → A) ∧ (¬ x ≤ y → B) := by
  subst hx hy
  rw [nI_leI ha hb]
  exact ⟨f, fun z => g (by omega)⟩
theorem pk_lt {x y : Int32} {A B : Prop} (a b : Nat) (f : a < b → A) (g : b ≤ a → B) (hx : x = nI a := by rfl) (hy : y = nI b := by rfl) (ha : a < 2 ^ 31 := by omega) (hb : b < 2 ^ 31 := by omega) : (x < y → A) ∧ (¬ x < y → B) := by
  subst hx hy
  rw [nI_ltI ha hb]
  exact ⟨f, fun z => g (by omega)⟩
theorem pk_eq {x y : Int32} {A B : Prop} (a b : Nat) (f : a = b → A) (g : a ≠ b → B) (hx : x = nI a := by rfl) (hy : y = nI b := by rfl) (ha : a < 2 ^ 31 := by omega) (hb : b < 2 ^ 31 := by omega) : (x = y → A) ∧ (¬ x = y → B) := by
  subst hx hy
  rw [nI_eq ha hb]
  exact ⟨f, g⟩
theorem pk_in {x : Int32} (n N : Nat) (h : n < N) (hx : x = nI n := by rfl) (hN : N < 2 ^ 31 := by omega) : vp_in x N := by
  subst hx
  exact vp_in_nI h hN
theorem pk_cl {x : Int32} (n : Nat) (hx : x = nI n := by rfl) (h : n < 2 ^ 31 := by omega) : x.toNatClampNeg = n := by
  subst hx
  exact nI_clamp h
theorem pk_tn {n : Nat} (h : n < 2 ^ 32) : (nI n).toBitVec.toNat = n := Nat.mod_eq_of_lt h
theorem pk_and (x : Int32) {m : Int32} (k : Nat) (hm : m.toBitVec.toNat = 2 ^ k - 1) : x &&& m = nI (x.toBitVec.toNat % 2 ^ k) := by
  apply Int32.toBitVec_inj.mp
  apply BitVec.eq_of_toNat_eq
  rw [Int32.toBitVec_and, BitVec.toNat_and, hm, Nat.and_two_pow_sub_one_eq_mod]
  show _ = (BitVec.ofNat 32 _).toNat
  rw [BitVec.toNat_ofNat]
  exact (Nat.mod_eq_of_lt (Nat.lt_of_le_of_lt (Nat.mod_le _ _) x.toBitVec.isLt)).symm
theorem pk_andN {n : Nat} (h : n < 2 ^ 32) {m : Int32} (k : Nat) (hm : m.toBitVec.toNat = 2 ^ k - 1) : nI n &&& m = nI (n % 2 ^ k) := by
  rw [pk_and _ k hm, pk_tn h]
theorem pk_andE (x : Int32) {m : Int32} (k : Nat) (hm : m.toBitVec.toNat = 2 ^ k - 1) : ∃ j : Nat, j < 2 ^ k ∧ x &&& m = nI j := ⟨_, Nat.mod_lt _ (Nat.two_pow_pos k), pk_and x k hm⟩
theorem pk_andIn (x : Int32) {m : Int32} (k : Nat) (hm : m.toBitVec.toNat = 2 ^ k - 1) (hk : k ≤ 30) : vp_in (x &&& m) (2 ^ k) := by
  obtain ⟨j, hj, e⟩ := pk_andE x k hm
  rw [e]
  exact vp_in_nI hj (Nat.lt_of_le_of_lt (Nat.pow_le_pow_right (by decide) hk) (by decide))
theorem pk_shl (a s : Int32) (k : Nat) (hs : (s.toBitVec.smod 32).toNat = k) : (a <<< s).toBitVec.toNat = a.toBitVec.toNat * 2 ^ k % 2 ^ 32 := by
  show (a.toBitVec <<< (s.toBitVec.smod 32).toNat).toNat = _
  rw [hs, BitVec.toNat_shiftLeft, Nat.shiftLeft_eq]
theorem pk_shlN {n : Nat} (s : Int32) (k : Nat) (hs : (s.toBitVec.smod 32).toNat = k) (h : n * 2 ^ k < 2 ^ 32) : nI n <<< s = nI (n * 2 ^ k) := by
  apply Int32.toBitVec_inj.mp
  apply BitVec.eq_of_toNat_eq
  have hn : n < 2 ^ 32 := Nat.lt_of_le_of_lt (Nat.le_mul_of_pos_right n (Nat.two_pow_pos k)) h
  rw [pk_shl _ _ k hs, pk_tn hn, pk_tn h, Nat.mod_eq_of_lt h]
theorem pk_shr (a s : Int32) (k : Nat) (hs : (s.toBitVec.smod 32).toNat = k) : (a >>> s).toInt = a.toInt >>> k := by
  show (a.toBitVec.sshiftRight (s.toBitVec.smod 32).toNat).toInt = _
  rw [hs, BitVec.toInt_sshiftRight]
  rfl
theorem pk_shrN {n : Nat} (h : n < 2 ^ 31) (s : Int32) (k : Nat) (hs : (s.toBitVec.smod 32).toNat = k) : nI n >>> s = nI (n / 2 ^ k) := by
  apply Int32.toInt_inj.mp
  have h2 : n / 2 ^ k ≤ n := Nat.div_le_self _ _
  rw [pk_shr _ _ k hs, nI_toInt h, nI_toInt (by omega), Int.shiftRight_eq_div_pow]
  rfl
theorem pk_ushr (x s : Int32) (k : Nat) (hs : ((s.toUInt32 &&& Int32.toUInt32 31).toBitVec % 32).toNat = k) : (x.toUInt32 >>> (s.toUInt32 &&& Int32.toUInt32 31)).toInt32.toBitVec.toNat = x.toBitVec.toNat / 2 ^ k := by
  have e : (x.toUInt32 >>> (s.toUInt32 &&& Int32.toUInt32 31)).toInt32.toBitVec = x.toBitVec >>> k := by
    rw [← hs]
    exact UInt32.toBitVec_shiftRight _ _
  rw [e, BitVec.toNat_ushiftRight, Nat.shiftRight_eq_div_pow]
theorem pk_ushrN {n : Nat} (hn : n < 2 ^ 32) (s : Int32) (k : Nat) (hs : ((s.toUInt32 &&& Int32.toUInt32 31).toBitVec % 32).toNat = k) : ((nI n).toUInt32 >>> (s.toUInt32 &&& Int32.toUInt32 31)).toInt32 = nI (n / 2 ^ k) := by
  apply Int32.toBitVec_inj.mp
  apply BitVec.eq_of_toNat_eq
  rw [pk_ushr _ s k hs, pk_tn hn, pk_tn (Nat.lt_of_le_of_lt (Nat.div_le_self _ _) hn)]
theorem pk_nb (z : Int32) : narrow .byte (.int z.toInt8.toInt32) = .int z.toInt8.toInt32 := congrArg Value.int (by simp)
theorem pk_ns (z : Int32) : narrow .short (.int z.toInt16.toInt32) = .int z.toInt16.toInt32 := congrArg Value.int (by simp)
theorem pk_fb (r : Int32) : fits .byte (.int r.toInt8.toInt32) = true := by
  have ⟨a, b⟩ := lg_i2b_range r
  have h1 : (-128 : Int32).toInt = -128 := by decide
  have h2 : (127 : Int32).toInt = 127 := by decide
  simp only [fits, Bool.and_eq_true, decide_eq_true_eq, Int32.le_iff_toInt_le, h1, h2]
  omega
theorem pk_fs (r : Int32) : fits .short (.int r.toInt16.toInt32) = true := by
  have ⟨a, b⟩ := lg_i2s_range r
  have h1 : (-32768 : Int32).toInt = -32768 := by decide
  have h2 : (32767 : Int32).toInt = 32767 := by decide
  simp only [fits, Bool.and_eq_true, decide_eq_true_eq, Int32.le_iff_toInt_le, h1, h2]
  omega
theorem pk_charN {q : Nat} (hq : q < 65536) : narrow .char (.int (nI q)) = .int (nI q) ∧ fits .char (.int (nI q)) = true := by
  constructor
  · have e : (nI q).toUInt32.toUInt16.toUInt32.toInt32 = nI q := by
      apply Int32.toBitVec_inj.mp
      apply BitVec.eq_of_toNat_eq
      show (nI q).toUInt32.toUInt16.toUInt32.toNat = q % 2 ^ 32
      rw [UInt16.toNat_toUInt32, UInt32.toNat_toUInt16, show (nI q).toUInt32.toNat = q % 2 ^ 32 from rfl]
      omega
    exact congrArg Value.int e
  · have a : (0 : Int32) ≤ nI q := nI_pos' (by omega)
    have b : nI q ≤ 65535 := nI_le (b := 65535) (by omega) (by decide)
    show (decide ((0 : Int32) ≤ nI q) && decide (nI q ≤ 65535)) = true
    rw [decide_eq_true a, decide_eq_true b]
    rfl
theorem pk_char (x : Int32) : (x.toUInt32 % 65536).toInt32 = nI (x.toBitVec.toNat % 65536) := by
  apply Int32.toBitVec_inj.mp
  apply BitVec.eq_of_toNat_eq
  rw [pk_tn (by omega)]
  show (x.toUInt32 % 65536).toNat = _
  rw [UInt32.toNat_mod]
  rfl
theorem pk_nc (x : Int32) : narrow .char (.int (x.toUInt32 % 65536).toInt32) = .int (x.toUInt32 % 65536).toInt32 := by
  rw [pk_char]
  exact (pk_charN (Nat.mod_lt _ (by decide))).1
theorem pk_fc (x : Int32) : fits .char (.int (x.toUInt32 % 65536).toInt32) = true := by
  rw [pk_char]
  exact (pk_charN (Nat.mod_lt _ (by decide))).2
theorem pk_vb (z : Int32) : vp_nar .byte z.toInt8.toInt32 = z.toInt8.toInt32 := by rw [vp_nar_byte]; simp
theorem pk_vs (z : Int32) : vp_nar .short z.toInt16.toInt32 = z.toInt16.toInt32 := by rw [vp_nar_short]; simp
theorem pk_vc (z : Int32) : vp_nar .char (z.toUInt32 % 65536).toInt32 = (z.toUInt32 % 65536).toInt32 := Value.int.inj (pk_nc z)
theorem pk_lT {n : Nat} (h : n < 2 ^ 63) : (lN n).toInt = (n : Int) := lg_ofNat_toInt h
theorem pk_lLT {a b : Nat} (ha : a < 2 ^ 63) (hb : b < 2 ^ 63) : lN a < lN b ↔ a < b := by
  rw [Int64.lt_iff_toInt_lt, pk_lT ha, pk_lT hb]; omega
theorem pk_lLE {a b : Nat} (ha : a < 2 ^ 63) (hb : b < 2 ^ 63) : lN a ≤ lN b ↔ a ≤ b := by
  rw [Int64.le_iff_toInt_le, pk_lT ha, pk_lT hb]; omega
theorem pk_lEQ {a b : Nat} (ha : a < 2 ^ 63) (hb : b < 2 ^ 63) : lN a = lN b ↔ a = b := by
  rw [← Int64.toInt_inj, pk_lT ha, pk_lT hb]; omega
theorem pk_lOf {x : Int64} (h : ¬ x < 0) : ∃ k : Nat, k < 2 ^ 63 ∧ x = lN k := by
  rw [Int64.lt_iff_toInt_lt] at h
  have h0 : (0 : Int64).toInt = 0 := by decide
  have hx := Int64.toInt_lt x
  refine ⟨x.toInt.toNat, by omega, Int64.toInt_inj.mp ?_⟩
  rw [pk_lT (by omega)]
  omega
theorem pk_lDiv {a b : Nat} (ha : a < 2 ^ 63) (h0 : 0 < b) (hb : b < 2 ^ 63) : lN a / lN b = lN (a / b) := by
  apply Int64.toInt_inj.mp
  rw [lg_ldiv_nonneg (by rw [pk_lT ha]; omega) (by rw [pk_lT hb]; omega), pk_lT ha, pk_lT hb, pk_lT (Nat.lt_of_le_of_lt (Nat.div_le_self a b) ha)]
  rfl
theorem pk_lRem {a b : Nat} (ha : a < 2 ^ 63) (h0 : 0 < b) (hb : b < 2 ^ 63) : lN a - lN a / lN b * lN b = lN (a % b) := by
  rw [pk_lDiv ha h0 hb, lN_mul, lN_sub (Nat.div_mul_le_self a b)]
  exact congrArg lN (by have := Nat.div_add_mod' a b; omega)
theorem pk_loop {σ : Type} (W : Nat → Nat → σ → Prop) (I : Nat → σ → Prop) (e i0 : Nat) (s : σ) (hi : i0 ≤ e) (h0 : I i0 s) (hx : ∀ n s, I e s → W (n + 1) e s)
    (hs : ∀ n i s, i < e → I i s → (∀ s', I (i + 1) s' → W n (i + 1) s') → W (n + 1) i s) : ∃ n, W n i0 s :=
  ⟨e + 1, loop_i W I e hx hs (e + 1) i0 s hi (by omega) h0⟩
theorem pk_loopD {σ : Type} (W : Nat → Nat → σ → Prop) (I : Nat → σ → Prop) (hx : ∀ n s, I 0 s → W (n + 1) 0 s)
    (hs : ∀ n i s, I (i + 1) s → (∀ s', I i s' → W n i s') → W (n + 1) (i + 1) s) : ∀ (e : Nat) (s : σ), I e s → W (e + 1) e s := by
  intro e
  induction e with
  | zero => exact fun s h => hx 0 s h
  | succ e ih => exact fun s h => hs (e + 1) e s h (fun s' h' => ih s' h')
theorem lp1 {A1 : Type} (W : Nat → A1 → Prop) (I : A1 → Prop) (μ : A1 → Nat) (hs : ∀ (n : Nat) (a1 : A1), I a1 → (∀ (b1 : A1), I b1 → μ b1 < μ a1 → W n b1) → W (n + 1) a1) (a1 : A1) (h : I a1) : ∃ n, W n a1 :=
  loop_m (σ := A1) (fun n s => W n s) (fun s => I s) (fun s => μ s) (fun n s hI hk => hs n s hI (fun b1 h9 hm => hk b1 h9 hm)) a1 h
theorem lp2 {A1 A2 : Type} (W : Nat → A1 → A2 → Prop) (I : A1 → A2 → Prop) (μ : A1 → A2 → Nat) (hs : ∀ (n : Nat) (a1 : A1) (a2 : A2), I a1 a2 → (∀ (b1 : A1) (b2 : A2), I b1 b2 → μ b1 b2 < μ a1 a2 → W n b1 b2) → W (n + 1) a1 a2) (a1 : A1) (a2 : A2) (h : I a1 a2) : ∃ n, W n a1 a2 :=
  loop_m (σ := A1 × A2) (fun n s => W n s.1 s.2) (fun s => I s.1 s.2) (fun s => μ s.1 s.2) (fun n s hI hk => hs n s.1 s.2 hI (fun b1 b2 h9 hm => hk (b1, b2) h9 hm)) (a1, a2) h
theorem lp3 {A1 A2 A3 : Type} (W : Nat → A1 → A2 → A3 → Prop) (I : A1 → A2 → A3 → Prop) (μ : A1 → A2 → A3 → Nat) (hs : ∀ (n : Nat) (a1 : A1) (a2 : A2) (a3 : A3), I a1 a2 a3 → (∀ (b1 : A1) (b2 : A2) (b3 : A3), I b1 b2 b3 → μ b1 b2 b3 < μ a1 a2 a3 → W n b1 b2 b3) → W (n + 1) a1 a2 a3) (a1 : A1) (a2 : A2) (a3 : A3) (h : I a1 a2 a3) : ∃ n, W n a1 a2 a3 :=
  loop_m (σ := A1 × A2 × A3) (fun n s => W n s.1 s.2.1 s.2.2) (fun s => I s.1 s.2.1 s.2.2) (fun s => μ s.1 s.2.1 s.2.2) (fun n s hI hk => hs n s.1 s.2.1 s.2.2 hI (fun b1 b2 b3 h9 hm => hk (b1, b2, b3) h9 hm)) (a1, a2, a3) h
theorem lp4 {A1 A2 A3 A4 : Type} (W : Nat → A1 → A2 → A3 → A4 → Prop) (I : A1 → A2 → A3 → A4 → Prop) (μ : A1 → A2 → A3 → A4 → Nat) (hs : ∀ (n : Nat) (a1 : A1) (a2 : A2) (a3 : A3) (a4 : A4), I a1 a2 a3 a4 → (∀ (b1 : A1) (b2 : A2) (b3 : A3) (b4 : A4), I b1 b2 b3 b4 → μ b1 b2 b3 b4 < μ a1 a2 a3 a4 → W n b1 b2 b3 b4) → W (n + 1) a1 a2 a3 a4) (a1 : A1) (a2 : A2) (a3 : A3) (a4 : A4) (h : I a1 a2 a3 a4) : ∃ n, W n a1 a2 a3 a4 :=
  loop_m (σ := A1 × A2 × A3 × A4) (fun n s => W n s.1 s.2.1 s.2.2.1 s.2.2.2) (fun s => I s.1 s.2.1 s.2.2.1 s.2.2.2) (fun s => μ s.1 s.2.1 s.2.2.1 s.2.2.2) (fun n s hI hk => hs n s.1 s.2.1 s.2.2.1 s.2.2.2 hI (fun b1 b2 b3 b4 h9 hm => hk (b1, b2, b3, b4) h9 hm)) (a1, a2, a3, a4) h
theorem lp5 {A1 A2 A3 A4 A5 : Type} (W : Nat → A1 → A2 → A3 → A4 → A5 → Prop) (I : A1 → A2 → A3 → A4 → A5 → Prop) (μ : A1 → A2 → A3 → A4 → A5 → Nat) (hs : ∀ (n : Nat) (a1 : A1) (a2 : A2) (a3 : A3) (a4 : A4) (a5 : A5), I a1 a2 a3 a4 a5 → (∀ (b1 : A1) (b2 : A2) (b3 : A3) (b4 : A4) (b5 : A5), I b1 b2 b3 b4 b5 → μ b1 b2 b3 b4 b5 < μ a1 a2 a3 a4 a5 → W n b1 b2 b3 b4 b5) → W (n + 1) a1 a2 a3 a4 a5) (a1 : A1) (a2 : A2) (a3 : A3) (a4 : A4) (a5 : A5) (h : I a1 a2 a3 a4 a5) : ∃ n, W n a1 a2 a3 a4 a5 :=
  loop_m (σ := A1 × A2 × A3 × A4 × A5) (fun n s => W n s.1 s.2.1 s.2.2.1 s.2.2.2.1 s.2.2.2.2) (fun s => I s.1 s.2.1 s.2.2.1 s.2.2.2.1 s.2.2.2.2) (fun s => μ s.1 s.2.1 s.2.2.1 s.2.2.2.1 s.2.2.2.2) (fun n s hI hk => hs n s.1 s.2.1 s.2.2.1 s.2.2.2.1 s.2.2.2.2 hI (fun b1 b2 b3 b4 b5 h9 hm => hk (b1, b2, b3, b4, b5) h9 hm)) (a1, a2, a3, a4, a5) h
theorem lp6 {A1 A2 A3 A4 A5 A6 : Type} (W : Nat → A1 → A2 → A3 → A4 → A5 → A6 → Prop) (I : A1 → A2 → A3 → A4 → A5 → A6 → Prop) (μ : A1 → A2 → A3 → A4 → A5 → A6 → Nat) (hs : ∀ (n : Nat) (a1 : A1) (a2 : A2) (a3 : A3) (a4 : A4) (a5 : A5) (a6 : A6), I a1 a2 a3 a4 a5 a6 → (∀ (b1 : A1) (b2 : A2) (b3 : A3) (b4 : A4) (b5 : A5) (b6 : A6), I b1 b2 b3 b4 b5 b6 → μ b1 b2 b3 b4 b5 b6 < μ a1 a2 a3 a4 a5 a6 → W n b1 b2 b3 b4 b5 b6) → W (n + 1) a1 a2 a3 a4 a5 a6) (a1 : A1) (a2 : A2) (a3 : A3) (a4 : A4) (a5 : A5) (a6 : A6) (h : I a1 a2 a3 a4 a5 a6) : ∃ n, W n a1 a2 a3 a4 a5 a6 :=
  loop_m (σ := A1 × A2 × A3 × A4 × A5 × A6) (fun n s => W n s.1 s.2.1 s.2.2.1 s.2.2.2.1 s.2.2.2.2.1 s.2.2.2.2.2) (fun s => I s.1 s.2.1 s.2.2.1 s.2.2.2.1 s.2.2.2.2.1 s.2.2.2.2.2) (fun s => μ s.1 s.2.1 s.2.2.1 s.2.2.2.1 s.2.2.2.2.1 s.2.2.2.2.2) (fun n s hI hk => hs n s.1 s.2.1 s.2.2.1 s.2.2.2.1 s.2.2.2.2.1 s.2.2.2.2.2 hI (fun b1 b2 b3 b4 b5 b6 h9 hm => hk (b1, b2, b3, b4, b5, b6) h9 hm)) (a1, a2, a3, a4, a5, a6) h
theorem lp7 {A1 A2 A3 A4 A5 A6 A7 : Type} (W : Nat → A1 → A2 → A3 → A4 → A5 → A6 → A7 → Prop) (I : A1 → A2 → A3 → A4 → A5 → A6 → A7 → Prop) (μ : A1 → A2 → A3 → A4 → A5 → A6 → A7 → Nat) (hs : ∀ (n : Nat) (a1 : A1) (a2 : A2) (a3 : A3) (a4 : A4) (a5 : A5) (a6 : A6) (a7 : A7), I a1 a2 a3 a4 a5 a6 a7 → (∀ (b1 : A1) (b2 : A2) (b3 : A3) (b4 : A4) (b5 : A5) (b6 : A6) (b7 : A7), I b1 b2 b3 b4 b5 b6 b7 → μ b1 b2 b3 b4 b5 b6 b7 < μ a1 a2 a3 a4 a5 a6 a7 → W n b1 b2 b3 b4 b5 b6 b7) → W (n + 1) a1 a2 a3 a4 a5 a6 a7) (a1 : A1) (a2 : A2) (a3 : A3) (a4 : A4) (a5 : A5) (a6 : A6) (a7 : A7) (h : I a1 a2 a3 a4 a5 a6 a7) : ∃ n, W n a1 a2 a3 a4 a5 a6 a7 :=
  loop_m (σ := A1 × A2 × A3 × A4 × A5 × A6 × A7) (fun n s => W n s.1 s.2.1 s.2.2.1 s.2.2.2.1 s.2.2.2.2.1 s.2.2.2.2.2.1 s.2.2.2.2.2.2) (fun s => I s.1 s.2.1 s.2.2.1 s.2.2.2.1 s.2.2.2.2.1 s.2.2.2.2.2.1 s.2.2.2.2.2.2) (fun s => μ s.1 s.2.1 s.2.2.1 s.2.2.2.1 s.2.2.2.2.1 s.2.2.2.2.2.1 s.2.2.2.2.2.2) (fun n s hI hk => hs n s.1 s.2.1 s.2.2.1 s.2.2.2.1 s.2.2.2.2.1 s.2.2.2.2.2.1 s.2.2.2.2.2.2 hI (fun b1 b2 b3 b4 b5 b6 b7 h9 hm => hk (b1, b2, b3, b4, b5, b6, b7) h9 hm)) (a1, a2, a3, a4, a5, a6, a7) h
theorem lp8 {A1 A2 A3 A4 A5 A6 A7 A8 : Type} (W : Nat → A1 → A2 → A3 → A4 → A5 → A6 → A7 → A8 → Prop) (I : A1 → A2 → A3 → A4 → A5 → A6 → A7 → A8 → Prop) (μ : A1 → A2 → A3 → A4 → A5 → A6 → A7 → A8 → Nat) (hs : ∀ (n : Nat) (a1 : A1) (a2 : A2) (a3 : A3) (a4 : A4) (a5 : A5) (a6 : A6) (a7 : A7) (a8 : A8), I a1 a2 a3 a4 a5 a6 a7 a8 → (∀ (b1 : A1) (b2 : A2) (b3 : A3) (b4 : A4) (b5 : A5) (b6 : A6) (b7 : A7) (b8 : A8), I b1 b2 b3 b4 b5 b6 b7 b8 → μ b1 b2 b3 b4 b5 b6 b7 b8 < μ a1 a2 a3 a4 a5 a6 a7 a8 → W n b1 b2 b3 b4 b5 b6 b7 b8) → W (n + 1) a1 a2 a3 a4 a5 a6 a7 a8) (a1 : A1) (a2 : A2) (a3 : A3) (a4 : A4) (a5 : A5) (a6 : A6) (a7 : A7) (a8 : A8) (h : I a1 a2 a3 a4 a5 a6 a7 a8) : ∃ n, W n a1 a2 a3 a4 a5 a6 a7 a8 :=
  loop_m (σ := A1 × A2 × A3 × A4 × A5 × A6 × A7 × A8) (fun n s => W n s.1 s.2.1 s.2.2.1 s.2.2.2.1 s.2.2.2.2.1 s.2.2.2.2.2.1 s.2.2.2.2.2.2.1 s.2.2.2.2.2.2.2) (fun s => I s.1 s.2.1 s.2.2.1 s.2.2.2.1 s.2.2.2.2.1 s.2.2.2.2.2.1 s.2.2.2.2.2.2.1 s.2.2.2.2.2.2.2) (fun s => μ s.1 s.2.1 s.2.2.1 s.2.2.2.1 s.2.2.2.2.1 s.2.2.2.2.2.1 s.2.2.2.2.2.2.1 s.2.2.2.2.2.2.2) (fun n s hI hk => hs n s.1 s.2.1 s.2.2.1 s.2.2.2.1 s.2.2.2.2.1 s.2.2.2.2.2.1 s.2.2.2.2.2.2.1 s.2.2.2.2.2.2.2 hI (fun b1 b2 b3 b4 b5 b6 b7 b8 h9 hm => hk (b1, b2, b3, b4, b5, b6, b7, b8) h9 hm)) (a1, a2, a3, a4, a5, a6, a7, a8) h
theorem lp9 {A1 A2 A3 A4 A5 A6 A7 A8 A9 : Type} (W : Nat → A1 → A2 → A3 → A4 → A5 → A6 → A7 → A8 → A9 → Prop) (I : A1 → A2 → A3 → A4 → A5 → A6 → A7 → A8 → A9 → Prop) (μ : A1 → A2 → A3 → A4 → A5 → A6 → A7 → A8 → A9 → Nat) (hs : ∀ (n : Nat) (a1 : A1) (a2 : A2) (a3 : A3) (a4 : A4) (a5 : A5) (a6 : A6) (a7 : A7) (a8 : A8) (a9 : A9), I a1 a2 a3 a4 a5 a6 a7 a8 a9 → (∀ (b1 : A1) (b2 : A2) (b3 : A3) (b4 : A4) (b5 : A5) (b6 : A6) (b7 : A7) (b8 : A8) (b9 : A9), I b1 b2 b3 b4 b5 b6 b7 b8 b9 → μ b1 b2 b3 b4 b5 b6 b7 b8 b9 < μ a1 a2 a3 a4 a5 a6 a7 a8 a9 → W n b1 b2 b3 b4 b5 b6 b7 b8 b9) → W (n + 1) a1 a2 a3 a4 a5 a6 a7 a8 a9) (a1 : A1) (a2 : A2) (a3 : A3) (a4 : A4) (a5 : A5) (a6 : A6) (a7 : A7) (a8 : A8) (a9 : A9) (h : I a1 a2 a3 a4 a5 a6 a7 a8 a9) : ∃ n, W n a1 a2 a3 a4 a5 a6 a7 a8 a9 :=
  loop_m (σ := A1 × A2 × A3 × A4 × A5 × A6 × A7 × A8 × A9) (fun n s => W n s.1 s.2.1 s.2.2.1 s.2.2.2.1 s.2.2.2.2.1 s.2.2.2.2.2.1 s.2.2.2.2.2.2.1 s.2.2.2.2.2.2.2.1 s.2.2.2.2.2.2.2.2) (fun s => I s.1 s.2.1 s.2.2.1 s.2.2.2.1 s.2.2.2.2.1 s.2.2.2.2.2.1 s.2.2.2.2.2.2.1 s.2.2.2.2.2.2.2.1 s.2.2.2.2.2.2.2.2) (fun s => μ s.1 s.2.1 s.2.2.1 s.2.2.2.1 s.2.2.2.2.1 s.2.2.2.2.2.1 s.2.2.2.2.2.2.1 s.2.2.2.2.2.2.2.1 s.2.2.2.2.2.2.2.2) (fun n s hI hk => hs n s.1 s.2.1 s.2.2.1 s.2.2.2.1 s.2.2.2.2.1 s.2.2.2.2.2.1 s.2.2.2.2.2.2.1 s.2.2.2.2.2.2.2.1 s.2.2.2.2.2.2.2.2 hI (fun b1 b2 b3 b4 b5 b6 b7 b8 b9 h9 hm => hk (b1, b2, b3, b4, b5, b6, b7, b8, b9) h9 hm)) (a1, a2, a3, a4, a5, a6, a7, a8, a9) h
theorem lp10 {A1 A2 A3 A4 A5 A6 A7 A8 A9 A10 : Type} (W : Nat → A1 → A2 → A3 → A4 → A5 → A6 → A7 → A8 → A9 → A10 → Prop) (I : A1 → A2 → A3 → A4 → A5 → A6 → A7 → A8 → A9 → A10 → Prop) (μ : A1 → A2 → A3 → A4 → A5 → A6 → A7 → A8 → A9 → A10 → Nat) (hs : ∀ (n : Nat) (a1 : A1) (a2 : A2) (a3 : A3) (a4 : A4) (a5 : A5) (a6 : A6) (a7 : A7) (a8 : A8) (a9 : A9) (a10 : A10), I a1 a2 a3 a4 a5 a6 a7 a8 a9 a10 → (∀ (b1 : A1) (b2 : A2) (b3 : A3) (b4 : A4) (b5 : A5) (b6 : A6) (b7 : A7) (b8 : A8) (b9 : A9) (b10 : A10), I b1 b2 b3 b4 b5 b6 b7 b8 b9 b10 → μ b1 b2 b3 b4 b5 b6 b7 b8 b9 b10 < μ a1 a2 a3 a4 a5 a6 a7 a8 a9 a10 → W n b1 b2 b3 b4 b5 b6 b7 b8 b9 b10) → W (n + 1) a1 a2 a3 a4 a5 a6 a7 a8 a9 a10) (a1 : A1) (a2 : A2) (a3 : A3) (a4 : A4) (a5 : A5) (a6 : A6) (a7 : A7) (a8 : A8) (a9 : A9) (a10 : A10) (h : I a1 a2 a3 a4 a5 a6 a7 a8 a9 a10) : ∃ n, W n a1 a2 a3 a4 a5 a6 a7 a8 a9 a10 :=
  loop_m (σ := A1 × A2 × A3 × A4 × A5 × A6 × A7 × A8 × A9 × A10) (fun n s => W n s.1 s.2.1 s.2.2.1 s.2.2.2.1 s.2.2.2.2.1 s.2.2.2.2.2.1 s.2.2.2.2.2.2.1 s.2.2.2.2.2.2.2.1 s.2.2.2.2.2.2.2.2.1 s.2.2.2.2.2.2.2.2.2) (fun s => I s.1 s.2.1 s.2.2.1 s.2.2.2.1 s.2.2.2.2.1 s.2.2.2.2.2.1 s.2.2.2.2.2.2.1 s.2.2.2.2.2.2.2.1 s.2.2.2.2.2.2.2.2.1 s.2.2.2.2.2.2.2.2.2) (fun s => μ s.1 s.2.1 s.2.2.1 s.2.2.2.1 s.2.2.2.2.1 s.2.2.2.2.2.1 s.2.2.2.2.2.2.1 s.2.2.2.2.2.2.2.1 s.2.2.2.2.2.2.2.2.1 s.2.2.2.2.2.2.2.2.2) (fun n s hI hk => hs n s.1 s.2.1 s.2.2.1 s.2.2.2.1 s.2.2.2.2.1 s.2.2.2.2.2.1 s.2.2.2.2.2.2.1 s.2.2.2.2.2.2.2.1 s.2.2.2.2.2.2.2.2.1 s.2.2.2.2.2.2.2.2.2 hI (fun b1 b2 b3 b4 b5 b6 b7 b8 b9 b10 h9 hm => hk (b1, b2, b3, b4, b5, b6, b7, b8, b9, b10) h9 hm)) (a1, a2, a3, a4, a5, a6, a7, a8, a9, a10) h
theorem lp11 {A1 A2 A3 A4 A5 A6 A7 A8 A9 A10 A11 : Type} (W : Nat → A1 → A2 → A3 → A4 → A5 → A6 → A7 → A8 → A9 → A10 → A11 → Prop) (I : A1 → A2 → A3 → A4 → A5 → A6 → A7 → A8 → A9 → A10 → A11 → Prop) (μ : A1 → A2 → A3 → A4 → A5 → A6 → A7 → A8 → A9 → A10 → A11 → Nat) (hs : ∀ (n : Nat) (a1 : A1) (a2 : A2) (a3 : A3) (a4 : A4) (a5 : A5) (a6 : A6) (a7 : A7) (a8 : A8) (a9 : A9) (a10 : A10) (a11 : A11), I a1 a2 a3 a4 a5 a6 a7 a8 a9 a10 a11 → (∀ (b1 : A1) (b2 : A2) (b3 : A3) (b4 : A4) (b5 : A5) (b6 : A6) (b7 : A7) (b8 : A8) (b9 : A9) (b10 : A10) (b11 : A11), I b1 b2 b3 b4 b5 b6 b7 b8 b9 b10 b11 → μ b1 b2 b3 b4 b5 b6 b7 b8 b9 b10 b11 < μ a1 a2 a3 a4 a5 a6 a7 a8 a9 a10 a11 → W n b1 b2 b3 b4 b5 b6 b7 b8 b9 b10 b11) → W (n + 1) a1 a2 a3 a4 a5 a6 a7 a8 a9 a10 a11) (a1 : A1) (a2 : A2) (a3 : A3) (a4 : A4) (a5 : A5) (a6 : A6) (a7 : A7) (a8 : A8) (a9 : A9) (a10 : A10) (a11 : A11) (h : I a1 a2 a3 a4 a5 a6 a7 a8 a9 a10 a11) : ∃ n, W n a1 a2 a3 a4 a5 a6 a7 a8 a9 a10 a11 :=
  loop_m (σ := A1 × A2 × A3 × A4 × A5 × A6 × A7 × A8 × A9 × A10 × A11) (fun n s => W n s.1 s.2.1 s.2.2.1 s.2.2.2.1 s.2.2.2.2.1 s.2.2.2.2.2.1 s.2.2.2.2.2.2.1 s.2.2.2.2.2.2.2.1 s.2.2.2.2.2.2.2.2.1 s.2.2.2.2.2.2.2.2.2.1 s.2.2.2.2.2.2.2.2.2.2) (fun s => I s.1 s.2.1 s.2.2.1 s.2.2.2.1 s.2.2.2.2.1 s.2.2.2.2.2.1 s.2.2.2.2.2.2.1 s.2.2.2.2.2.2.2.1 s.2.2.2.2.2.2.2.2.1 s.2.2.2.2.2.2.2.2.2.1 s.2.2.2.2.2.2.2.2.2.2) (fun s => μ s.1 s.2.1 s.2.2.1 s.2.2.2.1 s.2.2.2.2.1 s.2.2.2.2.2.1 s.2.2.2.2.2.2.1 s.2.2.2.2.2.2.2.1 s.2.2.2.2.2.2.2.2.1 s.2.2.2.2.2.2.2.2.2.1 s.2.2.2.2.2.2.2.2.2.2) (fun n s hI hk => hs n s.1 s.2.1 s.2.2.1 s.2.2.2.1 s.2.2.2.2.1 s.2.2.2.2.2.1 s.2.2.2.2.2.2.1 s.2.2.2.2.2.2.2.1 s.2.2.2.2.2.2.2.2.1 s.2.2.2.2.2.2.2.2.2.1 s.2.2.2.2.2.2.2.2.2.2 hI (fun b1 b2 b3 b4 b5 b6 b7 b8 b9 b10 b11 h9 hm => hk (b1, b2, b3, b4, b5, b6, b7, b8, b9, b10, b11) h9 hm)) (a1, a2, a3, a4, a5, a6, a7, a8, a9, a10, a11) h
theorem lp12 {A1 A2 A3 A4 A5 A6 A7 A8 A9 A10 A11 A12 : Type} (W : Nat → A1 → A2 → A3 → A4 → A5 → A6 → A7 → A8 → A9 → A10 → A11 → A12 → Prop) (I : A1 → A2 → A3 → A4 → A5 → A6 → A7 → A8 → A9 → A10 → A11 → A12 → Prop) (μ : A1 → A2 → A3 → A4 → A5 → A6 → A7 → A8 → A9 → A10 → A11 → A12 → Nat) (hs : ∀ (n : Nat) (a1 : A1) (a2 : A2) (a3 : A3) (a4 : A4) (a5 : A5) (a6 : A6) (a7 : A7) (a8 : A8) (a9 : A9) (a10 : A10) (a11 : A11) (a12 : A12), I a1 a2 a3 a4 a5 a6 a7 a8 a9 a10 a11 a12 → (∀ (b1 : A1) (b2 : A2) (b3 : A3) (b4 : A4) (b5 : A5) (b6 : A6) (b7 : A7) (b8 : A8) (b9 : A9) (b10 : A10) (b11 : A11) (b12 : A12), I b1 b2 b3 b4 b5 b6 b7 b8 b9 b10 b11 b12 → μ b1 b2 b3 b4 b5 b6 b7 b8 b9 b10 b11 b12 < μ a1 a2 a3 a4 a5 a6 a7 a8 a9 a10 a11 a12 → W n b1 b2 b3 b4 b5 b6 b7 b8 b9 b10 b11 b12) → W (n + 1) a1 a2 a3 a4 a5 a6 a7 a8 a9 a10 a11 a12) (a1 : A1) (a2 : A2) (a3 : A3) (a4 : A4) (a5 : A5) (a6 : A6) (a7 : A7) (a8 : A8) (a9 : A9) (a10 : A10) (a11 : A11) (a12 : A12) (h : I a1 a2 a3 a4 a5 a6 a7 a8 a9 a10 a11 a12) : ∃ n, W n a1 a2 a3 a4 a5 a6 a7 a8 a9 a10 a11 a12 :=
  loop_m (σ := A1 × A2 × A3 × A4 × A5 × A6 × A7 × A8 × A9 × A10 × A11 × A12) (fun n s => W n s.1 s.2.1 s.2.2.1 s.2.2.2.1 s.2.2.2.2.1 s.2.2.2.2.2.1 s.2.2.2.2.2.2.1 s.2.2.2.2.2.2.2.1 s.2.2.2.2.2.2.2.2.1 s.2.2.2.2.2.2.2.2.2.1 s.2.2.2.2.2.2.2.2.2.2.1 s.2.2.2.2.2.2.2.2.2.2.2) (fun s => I s.1 s.2.1 s.2.2.1 s.2.2.2.1 s.2.2.2.2.1 s.2.2.2.2.2.1 s.2.2.2.2.2.2.1 s.2.2.2.2.2.2.2.1 s.2.2.2.2.2.2.2.2.1 s.2.2.2.2.2.2.2.2.2.1 s.2.2.2.2.2.2.2.2.2.2.1 s.2.2.2.2.2.2.2.2.2.2.2) (fun s => μ s.1 s.2.1 s.2.2.1 s.2.2.2.1 s.2.2.2.2.1 s.2.2.2.2.2.1 s.2.2.2.2.2.2.1 s.2.2.2.2.2.2.2.1 s.2.2.2.2.2.2.2.2.1 s.2.2.2.2.2.2.2.2.2.1 s.2.2.2.2.2.2.2.2.2.2.1 s.2.2.2.2.2.2.2.2.2.2.2) (fun n s hI hk => hs n s.1 s.2.1 s.2.2.1 s.2.2.2.1 s.2.2.2.2.1 s.2.2.2.2.2.1 s.2.2.2.2.2.2.1 s.2.2.2.2.2.2.2.1 s.2.2.2.2.2.2.2.2.1 s.2.2.2.2.2.2.2.2.2.1 s.2.2.2.2.2.2.2.2.2.2.1 s.2.2.2.2.2.2.2.2.2.2.2 hI (fun b1 b2 b3 b4 b5 b6 b7 b8 b9 b10 b11 b12 h9 hm => hk (b1, b2, b3, b4, b5, b6, b7, b8, b9, b10, b11, b12) h9 hm)) (a1, a2, a3, a4, a5, a6, a7, a8, a9, a10, a11, a12) h
theorem lp13 {A1 A2 A3 A4 A5 A6 A7 A8 A9 A10 A11 A12 A13 : Type} (W : Nat → A1 → A2 → A3 → A4 → A5 → A6 → A7 → A8 → A9 → A10 → A11 → A12 → A13 → Prop) (I : A1 → A2 → A3 → A4 → A5 → A6 → A7 → A8 → A9 → A10 → A11 → A12 → A13 → Prop) (μ : A1 → A2 → A3 → A4 → A5 → A6 → A7 → A8 → A9 → A10 → A11 → A12 → A13 → Nat) (hs : ∀ (n : Nat) (a1 : A1) (a2 : A2) (a3 : A3) (a4 : A4) (a5 : A5) (a6 : A6) (a7 : A7) (a8 : A8) (a9 : A9) (a10 : A10) (a11 : A11) (a12 : A12) (a13 : A13), I a1 a2 a3 a4 a5 a6 a7 a8 a9 a10 a11 a12 a13 → (∀ (b1 : A1) (b2 : A2) (b3 : A3) (b4 : A4) (b5 : A5) (b6 : A6) (b7 : A7) (b8 : A8) (b9 : A9) (b10 : A10) (b11 : A11) (b12 : A12) (b13 : A13), I b1 b2 b3 b4 b5 b6 b7 b8 b9 b10 b11 b12 b13 → μ b1 b2 b3 b4 b5 b6 b7 b8 b9 b10 b11 b12 b13 < μ a1 a2 a3 a4 a5 a6 a7 a8 a9 a10 a11 a12 a13 → W n b1 b2 b3 b4 b5 b6 b7 b8 b9 b10 b11 b12 b13) → W (n + 1) a1 a2 a3 a4 a5 a6 a7 a8 a9 a10 a11 a12 a13) (a1 : A1) (a2 : A2) (a3 : A3) (a4 : A4) (a5 : A5) (a6 : A6) (a7 : A7) (a8 : A8) (a9 : A9) (a10 : A10) (a11 : A11) (a12 : A12) (a13 : A13) (h : I a1 a2 a3 a4 a5 a6 a7 a8 a9 a10 a11 a12 a13) : ∃ n, W n a1 a2 a3 a4 a5 a6 a7 a8 a9 a10 a11 a12 a13 :=
  loop_m (σ := A1 × A2 × A3 × A4 × A5 × A6 × A7 × A8 × A9 × A10 × A11 × A12 × A13) (fun n s => W n s.1 s.2.1 s.2.2.1 s.2.2.2.1 s.2.2.2.2.1 s.2.2.2.2.2.1 s.2.2.2.2.2.2.1 s.2.2.2.2.2.2.2.1 s.2.2.2.2.2.2.2.2.1 s.2.2.2.2.2.2.2.2.2.1 s.2.2.2.2.2.2.2.2.2.2.1 s.2.2.2.2.2.2.2.2.2.2.2.1 s.2.2.2.2.2.2.2.2.2.2.2.2) (fun s => I s.1 s.2.1 s.2.2.1 s.2.2.2.1 s.2.2.2.2.1 s.2.2.2.2.2.1 s.2.2.2.2.2.2.1 s.2.2.2.2.2.2.2.1 s.2.2.2.2.2.2.2.2.1 s.2.2.2.2.2.2.2.2.2.1 s.2.2.2.2.2.2.2.2.2.2.1 s.2.2.2.2.2.2.2.2.2.2.2.1 s.2.2.2.2.2.2.2.2.2.2.2.2) (fun s => μ s.1 s.2.1 s.2.2.1 s.2.2.2.1 s.2.2.2.2.1 s.2.2.2.2.2.1 s.2.2.2.2.2.2.1 s.2.2.2.2.2.2.2.1 s.2.2.2.2.2.2.2.2.1 s.2.2.2.2.2.2.2.2.2.1 s.2.2.2.2.2.2.2.2.2.2.1 s.2.2.2.2.2.2.2.2.2.2.2.1 s.2.2.2.2.2.2.2.2.2.2.2.2) (fun n s hI hk => hs n s.1 s.2.1 s.2.2.1 s.2.2.2.1 s.2.2.2.2.1 s.2.2.2.2.2.1 s.2.2.2.2.2.2.1 s.2.2.2.2.2.2.2.1 s.2.2.2.2.2.2.2.2.1 s.2.2.2.2.2.2.2.2.2.1 s.2.2.2.2.2.2.2.2.2.2.1 s.2.2.2.2.2.2.2.2.2.2.2.1 s.2.2.2.2.2.2.2.2.2.2.2.2 hI (fun b1 b2 b3 b4 b5 b6 b7 b8 b9 b10 b11 b12 b13 h9 hm => hk (b1, b2, b3, b4, b5, b6, b7, b8, b9, b10, b11, b12, b13) h9 hm)) (a1, a2, a3, a4, a5, a6, a7, a8, a9, a10, a11, a12, a13) h
theorem lp14 {A1 A2 A3 A4 A5 A6 A7 A8 A9 A10 A11 A12 A13 A14 : Type} (W : Nat → A1 → A2 → A3 → A4 → A5 → A6 → A7 → A8 → A9 → A10 → A11 → A12 → A13 → A14 → Prop) (I : A1 → A2 → A3 → A4 → A5 → A6 → A7 → A8 → A9 → A10 → A11 → A12 → A13 → A14 → Prop) (μ : A1 → A2 → A3 → A4 → A5 → A6 → A7 → A8 → A9 → A10 → A11 → A12 → A13 → A14 → Nat) (hs : ∀ (n : Nat) (a1 : A1) (a2 : A2) (a3 : A3) (a4 : A4) (a5 : A5) (a6 : A6) (a7 : A7) (a8 : A8) (a9 : A9) (a10 : A10) (a11 : A11) (a12 : A12) (a13 : A13) (a14 : A14), I a1 a2 a3 a4 a5 a6 a7 a8 a9 a10 a11 a12 a13 a14 → (∀ (b1 : A1) (b2 : A2) (b3 : A3) (b4 : A4) (b5 : A5) (b6 : A6) (b7 : A7) (b8 : A8) (b9 : A9) (b10 : A10) (b11 : A11) (b12 : A12) (b13 : A13) (b14 : A14), I b1 b2 b3 b4 b5 b6 b7 b8 b9 b10 b11 b12 b13 b14 → μ b1 b2 b3 b4 b5 b6 b7 b8 b9 b10 b11 b12 b13 b14 < μ a1 a2 a3 a4 a5 a6 a7 a8 a9 a10 a11 a12 a13 a14 → W n b1 b2 b3 b4 b5 b6 b7 b8 b9 b10 b11 b12 b13 b14) → W (n + 1) a1 a2 a3 a4 a5 a6 a7 a8 a9 a10 a11 a12 a13 a14) (a1 : A1) (a2 : A2) (a3 : A3) (a4 : A4) (a5 : A5) (a6 : A6) (a7 : A7) (a8 : A8) (a9 : A9) (a10 : A10) (a11 : A11) (a12 : A12) (a13 : A13) (a14 : A14) (h : I a1 a2 a3 a4 a5 a6 a7 a8 a9 a10 a11 a12 a13 a14) : ∃ n, W n a1 a2 a3 a4 a5 a6 a7 a8 a9 a10 a11 a12 a13 a14 :=
  loop_m (σ := A1 × A2 × A3 × A4 × A5 × A6 × A7 × A8 × A9 × A10 × A11 × A12 × A13 × A14) (fun n s => W n s.1 s.2.1 s.2.2.1 s.2.2.2.1 s.2.2.2.2.1 s.2.2.2.2.2.1 s.2.2.2.2.2.2.1 s.2.2.2.2.2.2.2.1 s.2.2.2.2.2.2.2.2.1 s.2.2.2.2.2.2.2.2.2.1 s.2.2.2.2.2.2.2.2.2.2.1 s.2.2.2.2.2.2.2.2.2.2.2.1 s.2.2.2.2.2.2.2.2.2.2.2.2.1 s.2.2.2.2.2.2.2.2.2.2.2.2.2) (fun s => I s.1 s.2.1 s.2.2.1 s.2.2.2.1 s.2.2.2.2.1 s.2.2.2.2.2.1 s.2.2.2.2.2.2.1 s.2.2.2.2.2.2.2.1 s.2.2.2.2.2.2.2.2.1 s.2.2.2.2.2.2.2.2.2.1 s.2.2.2.2.2.2.2.2.2.2.1 s.2.2.2.2.2.2.2.2.2.2.2.1 s.2.2.2.2.2.2.2.2.2.2.2.2.1 s.2.2.2.2.2.2.2.2.2.2.2.2.2) (fun s => μ s.1 s.2.1 s.2.2.1 s.2.2.2.1 s.2.2.2.2.1 s.2.2.2.2.2.1 s.2.2.2.2.2.2.1 s.2.2.2.2.2.2.2.1 s.2.2.2.2.2.2.2.2.1 s.2.2.2.2.2.2.2.2.2.1 s.2.2.2.2.2.2.2.2.2.2.1 s.2.2.2.2.2.2.2.2.2.2.2.1 s.2.2.2.2.2.2.2.2.2.2.2.2.1 s.2.2.2.2.2.2.2.2.2.2.2.2.2) (fun n s hI hk => hs n s.1 s.2.1 s.2.2.1 s.2.2.2.1 s.2.2.2.2.1 s.2.2.2.2.2.1 s.2.2.2.2.2.2.1 s.2.2.2.2.2.2.2.1 s.2.2.2.2.2.2.2.2.1 s.2.2.2.2.2.2.2.2.2.1 s.2.2.2.2.2.2.2.2.2.2.1 s.2.2.2.2.2.2.2.2.2.2.2.1 s.2.2.2.2.2.2.2.2.2.2.2.2.1 s.2.2.2.2.2.2.2.2.2.2.2.2.2 hI (fun b1 b2 b3 b4 b5 b6 b7 b8 b9 b10 b11 b12 b13 b14 h9 hm => hk (b1, b2, b3, b4, b5, b6, b7, b8, b9, b10, b11, b12, b13, b14) h9 hm)) (a1, a2, a3, a4, a5, a6, a7, a8, a9, a10, a11, a12, a13, a14) h
theorem lp15 {A1 A2 A3 A4 A5 A6 A7 A8 A9 A10 A11 A12 A13 A14 A15 : Type} (W : Nat → A1 → A2 → A3 → A4 → A5 → A6 → A7 → A8 → A9 → A10 → A11 → A12 → A13 → A14 → A15 → Prop) (I : A1 → A2 → A3 → A4 → A5 → A6 → A7 → A8 → A9 → A10 → A11 → A12 → A13 → A14 → A15 → Prop) (μ : A1 → A2 → A3 → A4 → A5 → A6 → A7 → A8 → A9 → A10 → A11 → A12 → A13 → A14 → A15 → Nat) (hs : ∀ (n : Nat) (a1 : A1) (a2 : A2) (a3 : A3) (a4 : A4) (a5 : A5) (a6 : A6) (a7 : A7) (a8 : A8) (a9 : A9) (a10 : A10) (a11 : A11) (a12 : A12) (a13 : A13) (a14 : A14) (a15 : A15), I a1 a2 a3 a4 a5 a6 a7 a8 a9 a10 a11 a12 a13 a14 a15 → (∀ (b1 : A1) (b2 : A2) (b3 : A3) (b4 : A4) (b5 : A5) (b6 : A6) (b7 : A7) (b8 : A8) (b9 : A9) (b10 : A10) (b11 : A11) (b12 : A12) (b13 : A13) (b14 : A14) (b15 : A15), I b1 b2 b3 b4 b5 b6 b7 b8 b9 b10 b11 b12 b13 b14 b15 → μ b1 b2 b3 b4 b5 b6 b7 b8 b9 b10 b11 b12 b13 b14 b15 < μ a1 a2 a3 a4 a5 a6 a7 a8 a9 a10 a11 a12 a13 a14 a15 → W n b1 b2 b3 b4 b5 b6 b7 b8 b9 b10 b11 b12 b13 b14 b15) → W (n + 1) a1 a2 a3 a4 a5 a6 a7 a8 a9 a10 a11 a12 a13 a14 a15) (a1 : A1) (a2 : A2) (a3 : A3) (a4 : A4) (a5 : A5) (a6 : A6) (a7 : A7) (a8 : A8) (a9 : A9) (a10 : A10) (a11 : A11) (a12 : A12) (a13 : A13) (a14 : A14) (a15 : A15) (h : I a1 a2 a3 a4 a5 a6 a7 a8 a9 a10 a11 a12 a13 a14 a15) : ∃ n, W n a1 a2 a3 a4 a5 a6 a7 a8 a9 a10 a11 a12 a13 a14 a15 :=
  loop_m (σ := A1 × A2 × A3 × A4 × A5 × A6 × A7 × A8 × A9 × A10 × A11 × A12 × A13 × A14 × A15) (fun n s => W n s.1 s.2.1 s.2.2.1 s.2.2.2.1 s.2.2.2.2.1 s.2.2.2.2.2.1 s.2.2.2.2.2.2.1 s.2.2.2.2.2.2.2.1 s.2.2.2.2.2.2.2.2.1 s.2.2.2.2.2.2.2.2.2.1 s.2.2.2.2.2.2.2.2.2.2.1 s.2.2.2.2.2.2.2.2.2.2.2.1 s.2.2.2.2.2.2.2.2.2.2.2.2.1 s.2.2.2.2.2.2.2.2.2.2.2.2.2.1 s.2.2.2.2.2.2.2.2.2.2.2.2.2.2) (fun s => I s.1 s.2.1 s.2.2.1 s.2.2.2.1 s.2.2.2.2.1 s.2.2.2.2.2.1 s.2.2.2.2.2.2.1 s.2.2.2.2.2.2.2.1 s.2.2.2.2.2.2.2.2.1 s.2.2.2.2.2.2.2.2.2.1 s.2.2.2.2.2.2.2.2.2.2.1 s.2.2.2.2.2.2.2.2.2.2.2.1 s.2.2.2.2.2.2.2.2.2.2.2.2.1 s.2.2.2.2.2.2.2.2.2.2.2.2.2.1 s.2.2.2.2.2.2.2.2.2.2.2.2.2.2) (fun s => μ s.1 s.2.1 s.2.2.1 s.2.2.2.1 s.2.2.2.2.1 s.2.2.2.2.2.1 s.2.2.2.2.2.2.1 s.2.2.2.2.2.2.2.1 s.2.2.2.2.2.2.2.2.1 s.2.2.2.2.2.2.2.2.2.1 s.2.2.2.2.2.2.2.2.2.2.1 s.2.2.2.2.2.2.2.2.2.2.2.1 s.2.2.2.2.2.2.2.2.2.2.2.2.1 s.2.2.2.2.2.2.2.2.2.2.2.2.2.1 s.2.2.2.2.2.2.2.2.2.2.2.2.2.2) (fun n s hI hk => hs n s.1 s.2.1 s.2.2.1 s.2.2.2.1 s.2.2.2.2.1 s.2.2.2.2.2.1 s.2.2.2.2.2.2.1 s.2.2.2.2.2.2.2.1 s.2.2.2.2.2.2.2.2.1 s.2.2.2.2.2.2.2.2.2.1 s.2.2.2.2.2.2.2.2.2.2.1 s.2.2.2.2.2.2.2.2.2.2.2.1 s.2.2.2.2.2.2.2.2.2.2.2.2.1 s.2.2.2.2.2.2.2.2.2.2.2.2.2.1 s.2.2.2.2.2.2.2.2.2.2.2.2.2.2 hI (fun b1 b2 b3 b4 b5 b6 b7 b8 b9 b10 b11 b12 b13 b14 b15 h9 hm => hk (b1, b2, b3, b4, b5, b6, b7, b8, b9, b10, b11, b12, b13, b14, b15) h9 hm)) (a1, a2, a3, a4, a5, a6, a7, a8, a9, a10, a11, a12, a13, a14, a15) h
theorem lp16 {A1 A2 A3 A4 A5 A6 A7 A8 A9 A10 A11 A12 A13 A14 A15 A16 : Type} (W : Nat → A1 → A2 → A3 → A4 → A5 → A6 → A7 → A8 → A9 → A10 → A11 → A12 → A13 → A14 → A15 → A16 → Prop) (I : A1 → A2 → A3 → A4 → A5 → A6 → A7 → A8 → A9 → A10 → A11 → A12 → A13 → A14 → A15 → A16 → Prop) (μ : A1 → A2 → A3 → A4 → A5 → A6 → A7 → A8 → A9 → A10 → A11 → A12 → A13 → A14 → A15 → A16 → Nat) (hs : ∀ (n : Nat) (a1 : A1) (a2 : A2) (a3 : A3) (a4 : A4) (a5 : A5) (a6 : A6) (a7 : A7) (a8 : A8) (a9 : A9) (a10 : A10) (a11 : A11) (a12 : A12) (a13 : A13) (a14 : A14) (a15 : A15) (a16 : A16), I a1 a2 a3 a4 a5 a6 a7 a8 a9 a10 a11 a12 a13 a14 a15 a16 → (∀ (b1 : A1) (b2 : A2) (b3 : A3) (b4 : A4) (b5 : A5) (b6 : A6) (b7 : A7) (b8 : A8) (b9 : A9) (b10 : A10) (b11 : A11) (b12 : A12) (b13 : A13) (b14 : A14) (b15 : A15) (b16 : A16), I b1 b2 b3 b4 b5 b6 b7 b8 b9 b10 b11 b12 b13 b14 b15 b16 → μ b1 b2 b3 b4 b5 b6 b7 b8 b9 b10 b11 b12 b13 b14 b15 b16 < μ a1 a2 a3 a4 a5 a6 a7 a8 a9 a10 a11 a12 a13 a14 a15 a16 → W n b1 b2 b3 b4 b5 b6 b7 b8 b9 b10 b11 b12 b13 b14 b15 b16) → W (n + 1) a1 a2 a3 a4 a5 a6 a7 a8 a9 a10 a11 a12 a13 a14 a15 a16) (a1 : A1) (a2 : A2) (a3 : A3) (a4 : A4) (a5 : A5) (a6 : A6) (a7 : A7) (a8 : A8) (a9 : A9) (a10 : A10) (a11 : A11) (a12 : A12) (a13 : A13) (a14 : A14) (a15 : A15) (a16 : A16) (h : I a1 a2 a3 a4 a5 a6 a7 a8 a9 a10 a11 a12 a13 a14 a15 a16) : ∃ n, W n a1 a2 a3 a4 a5 a6 a7 a8 a9 a10 a11 a12 a13 a14 a15 a16 :=
  loop_m (σ := A1 × A2 × A3 × A4 × A5 × A6 × A7 × A8 × A9 × A10 × A11 × A12 × A13 × A14 × A15 × A16) (fun n s => W n s.1 s.2.1 s.2.2.1 s.2.2.2.1 s.2.2.2.2.1 s.2.2.2.2.2.1 s.2.2.2.2.2.2.1 s.2.2.2.2.2.2.2.1 s.2.2.2.2.2.2.2.2.1 s.2.2.2.2.2.2.2.2.2.1 s.2.2.2.2.2.2.2.2.2.2.1 s.2.2.2.2.2.2.2.2.2.2.2.1 s.2.2.2.2.2.2.2.2.2.2.2.2.1 s.2.2.2.2.2.2.2.2.2.2.2.2.2.1 s.2.2.2.2.2.2.2.2.2.2.2.2.2.2.1 s.2.2.2.2.2.2.2.2.2.2.2.2.2.2.2) (fun s => I s.1 s.2.1 s.2.2.1 s.2.2.2.1 s.2.2.2.2.1 s.2.2.2.2.2.1 s.2.2.2.2.2.2.1 s.2.2.2.2.2.2.2.1 s.2.2.2.2.2.2.2.2.1 s.2.2.2.2.2.2.2.2.2.1 s.2.2.2.2.2.2.2.2.2.2.1 s.2.2.2.2.2.2.2.2.2.2.2.1 s.2.2.2.2.2.2.2.2.2.2.2.2.1 s.2.2.2.2.2.2.2.2.2.2.2.2.2.1 s.2.2.2.2.2.2.2.2.2.2.2.2.2.2.1 s.2.2.2.2.2.2.2.2.2.2.2.2.2.2.2) (fun s => μ s.1 s.2.1 s.2.2.1 s.2.2.2.1 s.2.2.2.2.1 s.2.2.2.2.2.1 s.2.2.2.2.2.2.1 s.2.2.2.2.2.2.2.1 s.2.2.2.2.2.2.2.2.1 s.2.2.2.2.2.2.2.2.2.1 s.2.2.2.2.2.2.2.2.2.2.1 s.2.2.2.2.2.2.2.2.2.2.2.1 s.2.2.2.2.2.2.2.2.2.2.2.2.1 s.2.2.2.2.2.2.2.2.2.2.2.2.2.1 s.2.2.2.2.2.2.2.2.2.2.2.2.2.2.1 s.2.2.2.2.2.2.2.2.2.2.2.2.2.2.2) (fun n s hI hk => hs n s.1 s.2.1 s.2.2.1 s.2.2.2.1 s.2.2.2.2.1 s.2.2.2.2.2.1 s.2.2.2.2.2.2.1 s.2.2.2.2.2.2.2.1 s.2.2.2.2.2.2.2.2.1 s.2.2.2.2.2.2.2.2.2.1 s.2.2.2.2.2.2.2.2.2.2.1 s.2.2.2.2.2.2.2.2.2.2.2.1 s.2.2.2.2.2.2.2.2.2.2.2.2.1 s.2.2.2.2.2.2.2.2.2.2.2.2.2.1 s.2.2.2.2.2.2.2.2.2.2.2.2.2.2.1 s.2.2.2.2.2.2.2.2.2.2.2.2.2.2.2 hI (fun b1 b2 b3 b4 b5 b6 b7 b8 b9 b10 b11 b12 b13 b14 b15 b16 h9 hm => hk (b1, b2, b3, b4, b5, b6, b7, b8, b9, b10, b11, b12, b13, b14, b15, b16) h9 hm)) (a1, a2, a3, a4, a5, a6, a7, a8, a9, a10, a11, a12, a13, a14, a15, a16) h
theorem pk_least (P : Nat → Prop) (h : ∃ k, P k) : ∃ k, P k ∧ ∀ j, j < k → ¬ P j := by
  obtain ⟨k, hk⟩ := h
  induction k using Nat.strongRecOn with
  | ind k ih =>
    by_cases e : ∃ j, j < k ∧ P j
    · obtain ⟨j, hj, pj⟩ := e
      exact ih j hj pj
    · exact ⟨k, hk, fun j hj pj => e ⟨j, hj, pj⟩⟩
theorem rp1 {ρ A1 : Type} (W : Nat → (ρ → Prop) → A1 → Prop) (ok : A1 → Prop) (μ : A1 → Nat) (val : A1 → ρ)
    (hs : ∀ (d : Nat) (post : ρ → Prop) (a1 : A1), ok a1 → post (val a1) → (∀ (post' : ρ → Prop) (b1 : A1), ok b1 → μ b1 < μ a1 → post' (val b1) → W d post' b1) → W (d + 1) post a1) :
    ∀ (d : Nat) (post : ρ → Prop) (a1 : A1), ok a1 → μ a1 < d → post (val a1) → W d post a1 := by
  intro d
  induction d with
  | zero => intro post a1 _ h; omega
  | succ d ih =>
    intro post a1 ho hm hp
    exact hs d post a1 ho hp (fun post' b1 ho' hm' hp' => ih post' b1 ho' (by omega) hp')
theorem rp2 {ρ A1 A2 : Type} (W : Nat → (ρ → Prop) → A1 → A2 → Prop) (ok : A1 → A2 → Prop) (μ : A1 → A2 → Nat) (val : A1 → A2 → ρ)
    (hs : ∀ (d : Nat) (post : ρ → Prop) (a1 : A1) (a2 : A2), ok a1 a2 → post (val a1 a2) → (∀ (post' : ρ → Prop) (b1 : A1) (b2 : A2), ok b1 b2 → μ b1 b2 < μ a1 a2 → post' (val b1 b2) → W d post' b1 b2) → W (d + 1) post a1 a2) :
    ∀ (d : Nat) (post : ρ → Prop) (a1 : A1) (a2 : A2), ok a1 a2 → μ a1 a2 < d → post (val a1 a2) → W d post a1 a2 := by
  intro d
  induction d with
  | zero => intro post a1 a2 _ h; omega
  | succ d ih =>
    intro post a1 a2 ho hm hp
    exact hs d post a1 a2 ho hp (fun post' b1 b2 ho' hm' hp' => ih post' b1 b2 ho' (by omega) hp')
theorem rp3 {ρ A1 A2 A3 : Type} (W : Nat → (ρ → Prop) → A1 → A2 → A3 → Prop) (ok : A1 → A2 → A3 → Prop) (μ : A1 → A2 → A3 → Nat) (val : A1 → A2 → A3 → ρ)
    (hs : ∀ (d : Nat) (post : ρ → Prop) (a1 : A1) (a2 : A2) (a3 : A3), ok a1 a2 a3 → post (val a1 a2 a3) → (∀ (post' : ρ → Prop) (b1 : A1) (b2 : A2) (b3 : A3), ok b1 b2 b3 → μ b1 b2 b3 < μ a1 a2 a3 → post' (val b1 b2 b3) → W d post' b1 b2 b3) → W (d + 1) post a1 a2 a3) :
    ∀ (d : Nat) (post : ρ → Prop) (a1 : A1) (a2 : A2) (a3 : A3), ok a1 a2 a3 → μ a1 a2 a3 < d → post (val a1 a2 a3) → W d post a1 a2 a3 := by
  intro d
  induction d with
  | zero => intro post a1 a2 a3 _ h; omega
  | succ d ih =>
    intro post a1 a2 a3 ho hm hp
    exact hs d post a1 a2 a3 ho hp (fun post' b1 b2 b3 ho' hm' hp' => ih post' b1 b2 b3 ho' (by omega) hp')
theorem rp4 {ρ A1 A2 A3 A4 : Type} (W : Nat → (ρ → Prop) → A1 → A2 → A3 → A4 → Prop) (ok : A1 → A2 → A3 → A4 → Prop) (μ : A1 → A2 → A3 → A4 → Nat) (val : A1 → A2 → A3 → A4 → ρ)
    (hs : ∀ (d : Nat) (post : ρ → Prop) (a1 : A1) (a2 : A2) (a3 : A3) (a4 : A4), ok a1 a2 a3 a4 → post (val a1 a2 a3 a4) → (∀ (post' : ρ → Prop) (b1 : A1) (b2 : A2) (b3 : A3) (b4 : A4), ok b1 b2 b3 b4 → μ b1 b2 b3 b4 < μ a1 a2 a3 a4 → post' (val b1 b2 b3 b4) → W d post' b1 b2 b3 b4) → W (d + 1) post a1 a2 a3 a4) :
    ∀ (d : Nat) (post : ρ → Prop) (a1 : A1) (a2 : A2) (a3 : A3) (a4 : A4), ok a1 a2 a3 a4 → μ a1 a2 a3 a4 < d → post (val a1 a2 a3 a4) → W d post a1 a2 a3 a4 := by
  intro d
  induction d with
  | zero => intro post a1 a2 a3 a4 _ h; omega
  | succ d ih =>
    intro post a1 a2 a3 a4 ho hm hp
    exact hs d post a1 a2 a3 a4 ho hp (fun post' b1 b2 b3 b4 ho' hm' hp' => ih post' b1 b2 b3 b4 ho' (by omega) hp')
theorem rp5 {ρ A1 A2 A3 A4 A5 : Type} (W : Nat → (ρ → Prop) → A1 → A2 → A3 → A4 → A5 → Prop) (ok : A1 → A2 → A3 → A4 → A5 → Prop) (μ : A1 → A2 → A3 → A4 → A5 → Nat) (val : A1 → A2 → A3 → A4 → A5 → ρ)
    (hs : ∀ (d : Nat) (post : ρ → Prop) (a1 : A1) (a2 : A2) (a3 : A3) (a4 : A4) (a5 : A5), ok a1 a2 a3 a4 a5 → post (val a1 a2 a3 a4 a5) → (∀ (post' : ρ → Prop) (b1 : A1) (b2 : A2) (b3 : A3) (b4 : A4) (b5 : A5), ok b1 b2 b3 b4 b5 → μ b1 b2 b3 b4 b5 < μ a1 a2 a3 a4 a5 → post' (val b1 b2 b3 b4 b5) → W d post' b1 b2 b3 b4 b5) → W (d + 1) post a1 a2 a3 a4 a5) :
    ∀ (d : Nat) (post : ρ → Prop) (a1 : A1) (a2 : A2) (a3 : A3) (a4 : A4) (a5 : A5), ok a1 a2 a3 a4 a5 → μ a1 a2 a3 a4 a5 < d → post (val a1 a2 a3 a4 a5) → W d post a1 a2 a3 a4 a5 := by
  intro d
  induction d with
  | zero => intro post a1 a2 a3 a4 a5 _ h; omega
  | succ d ih =>
    intro post a1 a2 a3 a4 a5 ho hm hp
    exact hs d post a1 a2 a3 a4 a5 ho hp (fun post' b1 b2 b3 b4 b5 ho' hm' hp' => ih post' b1 b2 b3 b4 b5 ho' (by omega) hp')
theorem rp6 {ρ A1 A2 A3 A4 A5 A6 : Type} (W : Nat → (ρ → Prop) → A1 → A2 → A3 → A4 → A5 → A6 → Prop) (ok : A1 → A2 → A3 → A4 → A5 → A6 → Prop) (μ : A1 → A2 → A3 → A4 → A5 → A6 → Nat) (val : A1 → A2 → A3 → A4 → A5 → A6 → ρ)
    (hs : ∀ (d : Nat) (post : ρ → Prop) (a1 : A1) (a2 : A2) (a3 : A3) (a4 : A4) (a5 : A5) (a6 : A6), ok a1 a2 a3 a4 a5 a6 → post (val a1 a2 a3 a4 a5 a6) → (∀ (post' : ρ → Prop) (b1 : A1) (b2 : A2) (b3 : A3) (b4 : A4) (b5 : A5) (b6 : A6), ok b1 b2 b3 b4 b5 b6 → μ b1 b2 b3 b4 b5 b6 < μ a1 a2 a3 a4 a5 a6 → post' (val b1 b2 b3 b4 b5 b6) → W d post' b1 b2 b3 b4 b5 b6) → W (d + 1) post a1 a2 a3 a4 a5 a6) :
    ∀ (d : Nat) (post : ρ → Prop) (a1 : A1) (a2 : A2) (a3 : A3) (a4 : A4) (a5 : A5) (a6 : A6), ok a1 a2 a3 a4 a5 a6 → μ a1 a2 a3 a4 a5 a6 < d → post (val a1 a2 a3 a4 a5 a6) → W d post a1 a2 a3 a4 a5 a6 := by
  intro d
  induction d with
  | zero => intro post a1 a2 a3 a4 a5 a6 _ h; omega
  | succ d ih =>
    intro post a1 a2 a3 a4 a5 a6 ho hm hp
    exact hs d post a1 a2 a3 a4 a5 a6 ho hp (fun post' b1 b2 b3 b4 b5 b6 ho' hm' hp' => ih post' b1 b2 b3 b4 b5 b6 ho' (by omega) hp')
theorem rec_p {σ ρ : Type} (W : Nat → (ρ → Prop) → σ → Prop) (ok : σ → Prop) (μ : σ → Nat) (val : σ → ρ)
    (hs : ∀ d s post, ok s → post (val s) → (∀ s' post', ok s' → μ s' < μ s → post' (val s') → W d post' s') → W (d + 1) post s) :
    ∀ d s post, ok s → μ s < d → post (val s) → W d post s := by
  intro d
  induction d with
  | zero => intro s post _ h; omega
  | succ d ih =>
    intro s post ho hm hp
    exact hs d s post ho hp (fun s' post' ho' hm' hp' => ih s' post' ho' (by omega) hp')
theorem rec_q {σ ρ : Type} (W : Nat → (ρ → Prop) → σ → Prop) (ok : σ → Prop) (μ : σ → Nat) (Q : σ → ρ → Prop)
    (hs : ∀ d s post, ok s → (∀ r, Q s r → post r) → (∀ s' post', ok s' → μ s' < μ s → (∀ r, Q s' r → post' r) → W d post' s') → W (d + 1) post s) :
    ∀ d s post, ok s → μ s < d → (∀ r, Q s r → post r) → W d post s := by
  intro d
  induction d with
  | zero => intro s post _ h; omega
  | succ d ih =>
    intro s post ho hm hp
    exact hs d s post ho hp (fun s' post' ho' hm' hp' => ih s' post' ho' (by omega) hp')
def bx_sum (f : Nat → Int32) : Nat → Int32
  | 0 => 0
  | n + 1 => bx_sum f n + f n
theorem ek_u {A : Prop} {B : Nat → Prop} {k N : Nat} (hk : k < N) (h : B k) : (some k = none → A) ∧ (∀ y : Nat, some k = some y → (y < N ∧ B y)) :=
  ⟨fun z => absurd z (Option.some_ne_none k), fun _ e => (by cases e; exact ⟨hk, h⟩)⟩
theorem ek_nu {A : Prop} {B : Nat → Prop} (h : A) : ((none : Option Nat) = none → A) ∧ (∀ y : Nat, (none : Option Nat) = some y → B y) :=
  ⟨fun _ => h, fun _ e => (by cases e)⟩
theorem ek_if {c d A B : Prop} (e : c ↔ d) (f : d → A) (g : ¬ d → B) : (c → A) ∧ (¬ c → B) :=
  ⟨fun z => f (e.mp z), fun z => g (fun y => z (e.mpr y))⟩
theorem ek_v {α : Sort _} {P : α → Prop} {a b : α} (e : a = b) (h : P b) : P a := e ▸ h
theorem co_some {x : Option Nat} {A : Prop} {B : Nat → Prop} (i : Nat) (h : B i) (hx : x = some i := by rfl) : (x = none → A) ∧ (∀ y : Nat, x = some y → B y) := by
  subst hx
  exact ⟨fun e => (nomatch e), fun y e => Option.some.inj e ▸ h⟩
theorem co_none {x : Option Nat} {A : Prop} {B : Nat → Prop} (h : A) (hx : x = none := by rfl) : (x = none → A) ∧ (∀ y : Nat, x = some y → B y) := by
  subst hx
  exact ⟨fun _ => h, fun y e => (nomatch e)⟩
theorem co_any {x : Option Nat} {A : Prop} {B : Nat → Prop} (hn : x = none → A) (hs : ∀ i : Nat, x = some i → B i) : (x = none → A) ∧ (∀ y : Nat, x = some y → B y) := ⟨hn, hs⟩
theorem co_2 {P : Nat → Prop} (h0 : P 0) (h1 : P 1) {i : Nat} (hi : i < 2) : P i :=
  match i, hi with
  | 0, _ => h0
  | 1, _ => h1
theorem co_3 {P : Nat → Prop} (h0 : P 0) (h1 : P 1) (h2 : P 2) {i : Nat} (hi : i < 3) : P i :=
  match i, hi with
  | 0, _ => h0
  | 1, _ => h1
  | 2, _ => h2
theorem co_4 {P : Nat → Prop} (h0 : P 0) (h1 : P 1) (h2 : P 2) (h3 : P 3) {i : Nat} (hi : i < 4) : P i :=
  match i, hi with
  | 0, _ => h0
  | 1, _ => h1
  | 2, _ => h2
  | 3, _ => h3
theorem co_dec {N : Nat} {P : Nat → Prop} [DecidablePred P] (h : (List.range N).all (fun i => decide (P i)) = true) {i : Nat} (hi : i < N) : P i := by
  have := List.all_eq_true.mp h i (List.mem_range.mpr hi)
  exact of_decide_eq_true this
theorem co_tab {α : Type} {l : List α} {d : α} {P : α → Prop} (h : ∀ a, a ∈ l → P a) {i : Nat} (hi : i < l.length) : P (l.getD i d) := by
  rw [List.getD_eq_getElem?_getD, List.getElem?_eq_getElem hi]
  exact h _ (List.getElem_mem hi)
theorem pk_mu {x : Int32} {L : Nat} (h0 : ¬ x < 0) (h : ¬ nI L ≤ x) (hL : L < 2 ^ 31) : ∃ j : Nat, j < L ∧ x = nI j ∧ x + 1 = nI (j + 1) ∧ x.toNatClampNeg = j ∧ L - (x + 1).toNatClampNeg < L - x.toNatClampNeg := by
  obtain ⟨j, hj, rfl⟩ := nI_of h0
  have hl : j < L := Nat.not_le.mp fun q => h (nI_le q hj)
  refine ⟨j, hl, rfl, nI_1 j, nI_clamp hj, ?_⟩
  rw [nI_1, nI_clamp (by omega), nI_clamp hj]
  omega
theorem op_s {α : Type} {r : Option α} {A : Prop} {B : α → Prop} {y : α} (h : r = some y) (b : B y) : (r = none → A) ∧ ∀ z, r = some z → B z :=
  ⟨fun e => (by rw [h] at e; cases e), fun z e => (by rw [h] at e; cases e; exact b)⟩
def l_holds {α : Type} (a : Nat → Option Nat) (LP : List Nat) (p : Nat → α) (c : Nat) (b : Nat → α) : Prop :=
  ∀ j, j < c → ∃ y, a j = some y ∧ y ∈ LP ∧ p y = b j
theorem l_holds_0 {α : Type} {a : Nat → Option Nat} {LP : List Nat} {p b : Nat → α} : l_holds a LP p 0 b := fun j h => absurd h (Nat.not_lt_zero j)
theorem l_in_new (LP : List Nat) (q : Nat) : q ∈ LP ++ [q] := List.mem_append.mpr (Or.inr (List.mem_singleton.mpr rfl))
def l_sum (b : Nat → Int32) : Nat → Int32
  | 0 => 0
  | k + 1 => l_sum b k + b k
theorem sb_shr0 (x : Int32) : x >>> ((0 : Int32) &&& 31) = x := by
  rw [show ((0 : Int32) &&& 31) = 0 by decide]
  simp
theorem sb_shl0 (x : Int32) : x <<< ((0 : Int32) &&& 31) = x := by
  rw [show ((0 : Int32) &&& 31) = 0 by decide]
  simp
theorem sb_cl0 : (0 : Int32).toNatClampNeg = 0 := by decide
theorem sb_m1 {p : Nat} (h : 0 < p) : nI p + (-1) = nI (p - 1) := by
  obtain ⟨q, rfl⟩ : ∃ q, p = q + 1 := ⟨p - 1, by omega⟩
  exact pk_m1 q
def sb_b (c : Nat) : Int32 := (nI c).toInt8.toInt32
theorem sb_byte : ∀ c, c < 256 → sb_b c &&& 255 = nI c ∧ ((nI c).toUInt32 % 65536).toInt32 = nI c ∧ nI c ≤ 255 := by decide +kernel
def sb_Fit (a : Nat → Int32) : Prop := ∀ j, fits .byte (.int (a j)) = true
def sb_Lat (t : Nat → Nat) (n : Nat) (a : Nat → Int32) : Prop := ∀ j, j < n → t j < 256 ∧ a j = sb_b (t j)
theorem sb_fitB (c : Nat) : fits .byte (.int (sb_b c)) = true := pk_fb _
theorem sb_fit0 : sb_Fit (fun _ => 0) := fun _ => by
  show fits .byte (.int 0) = true
  decide
theorem sb_fitU {a : Nat → Int32} {k : Nat} {x : Int32} (h : sb_Fit a) (hx : fits .byte (.int x) = true) : sb_Fit (upd a k x) := by
  intro j
  by_cases e : j = k
  · subst e
    rw [pk_us]
    exact hx
  · rw [pk_un e]
    exact h j
def sb_cat (t : Nat → Nat) (n : Nat) (s : Nat → Nat) : Nat → Nat := fun j => if j < n then t j else s (j - n)
theorem sb_cat_lo {t s : Nat → Nat} {n j : Nat} (h : j < n) : sb_cat t n s j = t j := if_pos h
theorem sb_cat_hi {t s : Nat → Nat} {n j : Nat} : sb_cat t n s (n + j) = s j := by
  show (if n + j < n then t (n + j) else s (n + j - n)) = s j
  rw [if_neg (by omega), Nat.add_sub_cancel_left]
theorem sb_latPut {t s : Nat → Nat} {n w : Nat} {a a' : Nat → Int32} (h : sb_Lat t n a) (hk : ∀ j, j < n → a' j = a j) (hs : ∀ i, i < w → s i < 256 ∧ a' (n + i) = sb_b (s i)) : sb_Lat (sb_cat t n s) (n + w) a' := by
  intro j hj
  by_cases e : j < n
  · rw [sb_cat_lo e, hk j e]
    exact h j e
  · obtain ⟨i, rfl⟩ : ∃ i, j = n + i := ⟨j - n, by omega⟩
    rw [sb_cat_hi]
    exact hs i (by omega)
theorem sb_latKeep {t : Nat → Nat} {n : Nat} {a a' : Nat → Int32} (h : sb_Lat t n a) (hk : ∀ j, j < n → a' j = a j) : sb_Lat t n a' := fun j hj => by
  rw [hk j hj]
  exact h j hj
def sb_cap (q m : Nat) : Nat := if q ≤ m then m else if 2 * m + 2 < q then q else 2 * m + 2
def sb_Room (q m mc ms : Nat) : Prop := q ≤ m ∨ (1 ≤ mc ∧ sb_cap q m ≤ ms ∧ sb_cap q m ≤ 65536)
theorem sb_cap_ge (q m : Nat) : q ≤ sb_cap q m := by
  unfold sb_cap
  split
  · omega
  · split <;> omega
theorem sb_cap_gem (q m : Nat) : m ≤ sb_cap q m := by
  unfold sb_cap
  split
  · omega
  · split <;> omega
theorem sb_cap_le {q m mc ms : Nat} (hm : m ≤ 65536) (hr : sb_Room q m mc ms) : sb_cap q m ≤ 65536 := by
  rcases hr with h | h
  · rw [sb_cap, if_pos h]
    exact hm
  · exact h.2.2
theorem sb_at {P : Int32 → Prop} {x y : Int32} (e : x = y) (h : P y) : P x := e ▸ h
def sb_dg (w : Nat) : Nat := if w < 10 then 1 else if w < 100 then 2 else if w < 1000 then 3 else if w < 10000 then 4 else if w < 100000 then 5 else if w < 1000000 then 6 else if w < 10000000 then 7 else if w < 100000000 then 8 else if w < 1000000000 then 9 else 10
def sb_dec (v : Nat) : Nat → Nat := fun i => 48 + v / 10 ^ (sb_dg v - 1 - i) % 10
theorem sb_dg_in (w : Nat) : 1 ≤ sb_dg w ∧ sb_dg w ≤ 10 := by
  unfold sb_dg
  constructor <;> (repeat' split) <;> omega
theorem sb_dg100 {w : Nat} (h : 100 ≤ w) (hw : w < 2 ^ 31) : sb_dg w = sb_dg (w / 100) + 2 := by
  rw [sb_dg, sb_dg, if_neg (show ¬ w < 10 by omega), if_neg (show ¬ w < 100 by omega)]
  by_cases h3 : w < 1000
  · rw [if_pos h3, if_pos (show w / 100 < 10 by omega)]
  rw [if_neg h3, if_neg (show ¬ w / 100 < 10 by omega)]
  by_cases h4 : w < 10000
  · rw [if_pos h4, if_pos (show w / 100 < 100 by omega)]
  rw [if_neg h4, if_neg (show ¬ w / 100 < 100 by omega)]
  by_cases h5 : w < 100000
  · rw [if_pos h5, if_pos (show w / 100 < 1000 by omega)]
  rw [if_neg h5, if_neg (show ¬ w / 100 < 1000 by omega)]
  by_cases h6 : w < 1000000
  · rw [if_pos h6, if_pos (show w / 100 < 10000 by omega)]
  rw [if_neg h6, if_neg (show ¬ w / 100 < 10000 by omega)]
  by_cases h7 : w < 10000000
  · rw [if_pos h7, if_pos (show w / 100 < 100000 by omega)]
  rw [if_neg h7, if_neg (show ¬ w / 100 < 100000 by omega)]
  by_cases h8 : w < 100000000
  · rw [if_pos h8, if_pos (show w / 100 < 1000000 by omega)]
  rw [if_neg h8, if_neg (show ¬ w / 100 < 1000000 by omega)]
  by_cases h9 : w < 1000000000
  · rw [if_pos h9, if_pos (show w / 100 < 10000000 by omega)]
  rw [if_neg h9, if_neg (show ¬ w / 100 < 10000000 by omega)]
  rw [if_pos (show w / 100 < 100000000 by omega)]
theorem sb_negT {w : Nat} (h : w < 2 ^ 31) : (-nI w).toInt = -(w : Int) := by
  rw [Int32.toInt_neg, nI_toInt h]
  exact Int.bmod_eq_of_le (by omega) (by omega)
theorem sb_nle {a b : Nat} (ha : a < 2 ^ 31) (hb : b < 2 ^ 31) : -nI a ≤ -nI b ↔ b ≤ a := by
  rw [Int32.le_iff_toInt_le, sb_negT ha, sb_negT hb]
  omega
theorem sb_nlt {a b : Nat} (ha : a < 2 ^ 31) (hb : b < 2 ^ 31) : -nI a < -nI b ↔ b < a := by
  rw [Int32.lt_iff_toInt_lt, sb_negT ha, sb_negT hb]
  omega
theorem sb_cmp {A B : Prop} {x : Int32} (v c : Nat) (f : c ≤ v → A) (g : v < c → B) (hv : v < 2 ^ 31) (hx : x = -nI c := by rfl) (hc : c < 2 ^ 31 := by omega) : (-nI v ≤ x → A) ∧ (¬ -nI v ≤ x → B) := by
  subst hx
  rw [sb_nle hv hc]
  exact ⟨f, fun z => g (by omega)⟩
theorem sb_ndiv {w : Nat} (hw : w < 2 ^ 31) : (-nI w) / 100 = -nI (w / 100) := by
  apply Int32.toInt_inj.mp
  have h100 : (100 : Int32).toInt = 100 := by decide
  rw [Int32.toInt_div, sb_negT hw, h100, sb_negT (by omega), Int.neg_tdiv, Int.tdiv_eq_ediv_of_nonneg (by omega), Int.bmod_eq_of_le (by omega) (by omega)]
  omega
theorem sb_nrem {w : Nat} (hw : w < 2 ^ 31) : (-nI (w / 100)) * 100 - (-nI w) = nI (w % 100) := by
  have h := pk_rem (a := w) (d := 100) hw (by decide) (by decide)
  rw [pk_div hw (by decide) (by decide)] at h
  rw [← h]
  show (-nI (w / 100)) * nI 100 - (-nI w) = nI w - nI (w / 100) * nI 100
  rw [Int32.neg_mul, Int32.sub_neg, Int32.add_comm, ← Int32.sub_eq_add_neg]
end
section
/-! rows on bits, shifts and unsigned numbers, to paste: each family out of a closed proof of our own, whole with what it rests on; each by itself clean at Lean in its own claim (generation 39, form 5). Take a family whole -/
/-! ===== Int32 by its bits: bt x i ===== -/
def bt (x : Int32) (i : Nat) : Bool := x.toBitVec.getLsbD i
theorem b_ext {x y : Int32} (h : ∀ i, i < 32 → bt x i = bt y i) : x = y := Int32.toBitVec_inj.mp (BitVec.eq_of_getLsbD_eq (fun i hi => h i hi))
theorem b_or (x y : Int32) (i : Nat) : bt (x ||| y) i = (bt x i || bt y i) := by unfold bt; rw [Int32.toBitVec_or, BitVec.getLsbD_or]
theorem b_and (x y : Int32) (i : Nat) : bt (x &&& y) i = (bt x i && bt y i) := by unfold bt; rw [Int32.toBitVec_and, BitVec.getLsbD_and]
theorem b_xor (x y : Int32) (i : Nat) : bt (x ^^^ y) i = (bt x i ^^ bt y i) := by unfold bt; rw [Int32.toBitVec_xor, BitVec.getLsbD_xor]
theorem b_big {x : Int32} {i : Nat} (h : 32 ≤ i) : bt x i = false := BitVec.getLsbD_of_ge _ _ h
theorem b_255 (i : Nat) : bt 255 i = decide (i < 8) := by
  rcases Nat.lt_or_ge i 32 with h | h
  · exact (by decide +kernel : ∀ i, i < 32 → bt 255 i = decide (i < 8)) i h
  · rw [b_big h, decide_eq_false (by omega)]
theorem b_65535 (i : Nat) : bt 65535 i = decide (i < 16) := by
  rcases Nat.lt_or_ge i 32 with h | h
  · exact (by decide +kernel : ∀ i, i < 32 → bt 65535 i = decide (i < 16)) i h
  · rw [b_big h, decide_eq_false (by omega)]
theorem b_m1 : ∀ i, i < 32 → bt (-1) i = true := by decide +kernel
theorem b_0 (i : Nat) : bt 0 i = false := BitVec.getLsbD_zero
theorem s_l : ∀ n, n < 32 → ((nI n &&& 31).toBitVec.smod 32).toNat = n := by decide +kernel
theorem s_u : ∀ n, n < 32 → (((nI n).toUInt32 &&& Int32.toUInt32 31).toBitVec % 32).toNat = n := by decide +kernel
theorem b_shl (n : Nat) (hn : n < 32) (x : Int32) {i : Nat} (hi : i < 32) : bt (x <<< (nI n &&& 31)) i = (decide (n ≤ i) && bt x (i - n)) := by
  unfold bt
  rw [Int32.toBitVec_shiftLeft]
  show (x.toBitVec <<< ((nI n &&& 31).toBitVec.smod 32).toNat).getLsbD i = _
  rw [s_l n hn, BitVec.getLsbD_shiftLeft]
  rcases Nat.lt_or_ge i n with h | h
  · simp [h, Nat.not_le.mpr h]
  · simp [hi, h, Nat.not_lt.mpr h]
theorem b_ushr (n : Nat) (hn : n < 32) (x : Int32) (i : Nat) : bt ((x.toUInt32 >>> ((nI n).toUInt32 &&& Int32.toUInt32 31)).toInt32) i = bt x (n + i) := by
  show (x.toUInt32 >>> ((nI n).toUInt32 &&& Int32.toUInt32 31)).toBitVec.getLsbD i = x.toUInt32.toBitVec.getLsbD (n + i)
  rw [UInt32.toBitVec_shiftRight]
  show (x.toUInt32.toBitVec >>> (((nI n).toUInt32 &&& Int32.toUInt32 31).toBitVec % 32).toNat).getLsbD i = _
  rw [s_u n hn, BitVec.getLsbD_ushiftRight]
theorem b_sshr (n : Nat) (hn : n < 32) (x : Int32) {i : Nat} (hi : i < 32) : bt (x >>> (nI n &&& 31)) i = if n + i < 32 then bt x (n + i) else bt x 31 := by
  unfold bt
  rw [Int32.toBitVec_shiftRight]
  show (x.toBitVec.sshiftRight ((nI n &&& 31).toBitVec.smod 32).toNat).getLsbD i = _
  rw [s_l n hn, BitVec.getLsbD_sshiftRight, BitVec.msb_eq_getLsbD_last]
  simp [hi]
theorem b_shl8 (x : Int32) {i : Nat} (hi : i < 32) : bt (x <<< ((8 : Int32) &&& 31)) i = (decide (8 ≤ i) && bt x (i - 8)) := b_shl 8 (by omega) x hi
theorem b_shl16 (x : Int32) {i : Nat} (hi : i < 32) : bt (x <<< ((16 : Int32) &&& 31)) i = (decide (16 ≤ i) && bt x (i - 16)) := b_shl 16 (by omega) x hi
theorem b_shl24 (x : Int32) {i : Nat} (hi : i < 32) : bt (x <<< ((24 : Int32) &&& 31)) i = (decide (24 ≤ i) && bt x (i - 24)) := b_shl 24 (by omega) x hi
theorem b_sshr8 (x : Int32) {i : Nat} (hi : i < 32) : bt (x >>> ((8 : Int32) &&& 31)) i = if 8 + i < 32 then bt x (8 + i) else bt x 31 := b_sshr 8 (by omega) x hi
/-! ===== nI under and, xor, >>>, one bit, 65535 ===== -/
theorem nx_and (a b : Nat) : nI a &&& nI b = nI (a &&& b) := by
  apply Int32.toBitVec_inj.1
  show BitVec.ofNat 32 a &&& BitVec.ofNat 32 b = BitVec.ofNat 32 (a &&& b)
  apply BitVec.eq_of_getLsbD_eq
  intro i hi
  simp [hi]
theorem nx_xor (a b : Nat) : nI a ^^^ nI b = nI (a ^^^ b) := by
  apply Int32.toBitVec_inj.1
  show BitVec.ofNat 32 a ^^^ BitVec.ofNat 32 b = BitVec.ofNat 32 (a ^^^ b)
  apply BitVec.eq_of_getLsbD_eq
  intro i hi
  simp [hi]
theorem nx_cnt : ∀ j : Fin 32, (UInt32.ofNat j.val &&& Int32.toUInt32 31).toNat % 32 = j.val := by decide +kernel
theorem nx_ush {k j : Nat} (hk : k < 65536) (hj : j < 32) : ((nI k).toUInt32 >>> ((nI j).toUInt32 &&& Int32.toUInt32 31)).toInt32 = nI (k >>> j) := by
  have hs : k >>> j ≤ k := by
    rw [Nat.shiftRight_eq_div_pow]
    exact Nat.div_le_self _ _
  have e2 : UInt32.ofNat k >>> (UInt32.ofNat j &&& Int32.toUInt32 31) = UInt32.ofNat (k >>> j) := by
    apply UInt32.toNat_inj.1
    have h1 : (UInt32.ofNat k).toNat = k := Nat.mod_eq_of_lt (by omega)
    have h2 : (UInt32.ofNat (k >>> j)).toNat = k >>> j := Nat.mod_eq_of_lt (by omega)
    rw [UInt32.toNat_shiftRight, nx_cnt ⟨j, hj⟩, h1, h2]
  show (UInt32.ofNat k >>> (UInt32.ofNat j &&& Int32.toUInt32 31)).toInt32 = _
  rw [e2]
  rfl
theorem nx_bit {k j : Nat} (hk : k < 65536) (hj : j < 16) : (((nI k).toUInt32 >>> ((nI j).toUInt32 &&& Int32.toUInt32 31)).toInt32 &&& 1) = 0 ↔ k.testBit j = false := by
  rw [nx_ush hk (by omega)]
  show nI (k >>> j) &&& nI 1 = 0 ↔ _
  rw [nx_and, Nat.and_one_is_mod, ← nI_0, nI_eq (by omega) (by omega), Nat.testBit_eq_decide_div_mod_eq, Nat.shiftRight_eq_div_pow, decide_eq_false_iff_not]
  generalize k / 2 ^ j = z
  omega
theorem nx_mod (k : Nat) : nI k &&& 65535 = nI (k % 65536) := by
  show nI k &&& nI 65535 = _
  rw [nx_and, show (65535 : Nat) = 2 ^ 16 - 1 from rfl, Nat.and_two_pow_sub_one_eq_mod]
theorem nx_m16 {k : Nat} (h : k < 65536) : nI k &&& 65535 = nI k := by rw [nx_mod, Nat.mod_eq_of_lt h]
theorem nx_mask (x : Int32) : ∃ k, k < 65536 ∧ x &&& 65535 = nI k := by
  have e : x = nI x.toBitVec.toNat := by
    apply Int32.toBitVec_inj.1
    show x.toBitVec = BitVec.ofNat 32 x.toBitVec.toNat
    simp
  refine ⟨x.toBitVec.toNat % 65536, Nat.mod_lt _ (by omega), ?_⟩
  rw [← nx_mod, ← e]
/-! ===== Int32 as a set of bits: test, set ===== -/
def nf_M (m : Int32) : Nat := 4294967296 - m.toBitVec.toNat
theorem nf_sh : ∀ l, l < 32 → ((1 : Int32) <<< (nI l &&& 31)).toBitVec = BitVec.twoPow 32 l := by decide +kernel
theorem nf_sl : ∀ l, l < 32 → (((nI l).toUInt32 &&& Int32.toUInt32 31).toBitVec % 32).toNat = l := by decide +kernel
theorem nf_tp : ∀ l, l < 32 → BitVec.twoPow 32 l ≠ 0#32 := by decide +kernel
theorem nf_bit (m : Int32) (l : Nat) (hl : l < 32) : ((m.toUInt32 >>> ((nI l).toUInt32 &&& Int32.toUInt32 31)).toInt32 &&& 1) = 0 ↔ (m &&& ((1 : Int32) <<< (nI l &&& 31))) = 0 := by
  have e : ((m.toUInt32 >>> ((nI l).toUInt32 &&& Int32.toUInt32 31)).toInt32).toBitVec = m.toBitVec >>> l := by
    show m.toBitVec >>> (((nI l).toUInt32 &&& Int32.toUInt32 31).toBitVec % 32) = m.toBitVec >>> l
    rw [BitVec.ushiftRight_eq', nf_sl l hl]
  rw [← Int32.toBitVec_inj, ← Int32.toBitVec_inj, Int32.toBitVec_and, Int32.toBitVec_and, nf_sh l hl, e, BitVec.and_twoPow]
  show (m.toBitVec >>> l &&& 1#32) = 0#32 ↔ _ = 0#32
  rw [BitVec.and_one_eq_setWidth_ofBool_getLsbD, BitVec.getLsbD_ushiftRight, Nat.add_zero]
  cases hb : m.toBitVec.getLsbD l
  · exact ⟨fun _ => by simp, fun _ => by decide⟩
  · exact ⟨fun z => absurd z (by decide), fun z => absurd ((if_pos rfl).symm.trans z) (nf_tp l hl)⟩
theorem nf_gr (m k : Int32) (h : m &&& k = 0) (hk : k ≠ 0) : nf_M (m ||| k) < nf_M m := by
  have hm := m.toBitVec.isLt
  have hm' := (m ||| k).toBitVec.isLt
  have h1 : m.toBitVec.toNat ≤ (m ||| k).toBitVec.toNat := by
    rw [Int32.toBitVec_or, BitVec.toNat_or]
    exact Nat.left_le_or
  have h2 : m.toBitVec.toNat ≠ (m ||| k).toBitVec.toNat := by
    intro e
    have e2 : m = m ||| k := Int32.toBitVec_inj.mp (BitVec.eq_of_toNat_eq e)
    apply hk
    apply Int32.toBitVec_inj.mp
    show k.toBitVec = 0#32
    apply BitVec.eq_of_getLsbD_eq
    intro i hi
    have a : m.toBitVec.getLsbD i = (m.toBitVec.getLsbD i || k.toBitVec.getLsbD i) := by rw [← BitVec.getLsbD_or, ← Int32.toBitVec_or, ← e2]
    have b : (m.toBitVec.getLsbD i && k.toBitVec.getLsbD i) = false := by
      rw [← BitVec.getLsbD_and, ← Int32.toBitVec_and, h]
      exact BitVec.getLsbD_zero
    rw [BitVec.getLsbD_zero]
    revert a b
    cases m.toBitVec.getLsbD i <;> cases k.toBitVec.getLsbD i <;> simp
  unfold nf_M
  omega
/-! ===== a byte read unsigned ===== -/
theorem bp_b (x : Int32) : x.toInt8.toInt32 &&& 255 = x &&& 255 := by
  apply Int32.toBitVec_inj.mp
  rw [Int32.toBitVec_and, Int32.toBitVec_and, Int8.toBitVec_toInt32, Int32.toBitVec_toInt8]
  apply BitVec.eq_of_getLsbD_eq
  intro i hi
  rw [BitVec.getLsbD_and, BitVec.getLsbD_and]
  have hm : ∀ i < 32, 8 ≤ i → (255 : Int32).toBitVec.getLsbD i = false := by decide
  rcases Nat.lt_or_ge i 8 with z | z
  · rw [BitVec.getLsbD_signExtend, BitVec.getLsbD_signExtend, if_pos z, if_pos hi]
    simp only [z, hi, decide_true, Bool.true_and]
  · rw [hm i hi z]; simp
/-! ===== the char cast and 65535 ===== -/
theorem em_w (v : Int32) : ∃ w : Nat, w < 65536 ∧ (v.toUInt32 % 65536).toInt32 = nI w ∧ v &&& 65535 = nI w := by
  have hr := lw_u16_r v
  have h0 : (0 : Int32).toInt = 0 := by decide
  obtain ⟨w, h1, h2⟩ := nI_of (x := lw_u16 v) (by rw [Int32.lt_iff_toInt_lt]; omega)
  have h3 : (v.toUInt32 % 65536).toInt32 = nI w := h2
  rw [h2, nI_toInt h1] at hr
  exact ⟨w, by omega, h3, by rw [← lg_i2c_mask, ← lg_i2c_nf, h3]⟩
/-! ===== Int64 as a set of bits: test, set, clear ===== -/
theorem ts_nf {x : Bool} (h : ¬ x = false) : x = true := by cases x <;> first | rfl | exact absurd rfl h
theorem ts_nt {x : Bool} (h : ¬ x = true) : x = false := by cases x <;> first | rfl | exact absurd rfl h
theorem ts_bit {w : Int64} {s : UInt64} {j : Nat} (hj : j < 64) (hs : s.toNat = j) : ((w.toUInt64 >>> s).toInt64 &&& 1) = 0 ↔ w.toBitVec.getLsbD j = false := by
  have e : (w.toUInt64 >>> s).toInt64.toBitVec = w.toBitVec >>> j := by
    apply BitVec.eq_of_toNat_eq
    show (w.toUInt64 >>> s).toNat = _
    rw [UInt64.toNat_shiftRight, hs, Nat.mod_eq_of_lt hj, BitVec.toNat_ushiftRight]
    rfl
  rw [← Int64.toBitVec_inj, Int64.toBitVec_and, e]
  show w.toBitVec >>> j &&& 1#64 = 0#64 ↔ _
  constructor
  · intro h
    have t := congrArg (fun x => x.getLsbD 0) h
    simpa using t
  · intro h
    apply BitVec.eq_of_getLsbD_eq
    intro i hi
    cases i with
    | zero => simp [h]
    | succ i => simp
theorem ts_or {w m : Int64} {j : Nat} (hj : j < 64) (hm : m.toBitVec = BitVec.twoPow 64 j) : (w ||| m) = w ↔ w.toBitVec.getLsbD j = true := by
  rw [← Int64.toBitVec_inj, Int64.toBitVec_or, hm]
  constructor
  · intro h
    have t := congrArg (fun x => x.getLsbD j) h
    simp only [BitVec.getLsbD_or, BitVec.getLsbD_twoPow] at t
    simpa [hj] using t.symm
  · intro h
    apply BitVec.eq_of_getLsbD_eq
    intro i hi
    rw [BitVec.getLsbD_or, BitVec.getLsbD_twoPow]
    by_cases e : j = i
    · subst e; rw [h, Bool.true_or]
    · simp [e]
theorem ts_and {w m : Int64} {j : Nat} (hj : j < 64) (hm : m.toBitVec = BitVec.twoPow 64 j) : (w &&& (m ^^^ (-1))) = w ↔ w.toBitVec.getLsbD j = false := by
  have ha : (-1 : Int64).toBitVec = BitVec.allOnes 64 := by decide
  rw [← Int64.toBitVec_inj, Int64.toBitVec_and, Int64.toBitVec_xor, hm, ha]
  constructor
  · intro h
    have t := congrArg (fun x => x.getLsbD j) h
    simp only [BitVec.getLsbD_and, BitVec.getLsbD_xor, BitVec.getLsbD_twoPow, BitVec.getLsbD_allOnes] at t
    simpa [hj] using t.symm
  · intro h
    apply BitVec.eq_of_getLsbD_eq
    intro i hi
    rw [BitVec.getLsbD_and, BitVec.getLsbD_xor, BitVec.getLsbD_twoPow, BitVec.getLsbD_allOnes]
    by_cases e : j = i
    · subst e; rw [h, Bool.false_and]
    · simp [e, hi]
/-! ===== lN n to 2^64: shifts, and, or, masks, one bit ===== -/
theorem wb_tb (n : Nat) : (lN n).toBitVec = BitVec.ofNat 64 n := rfl
theorem wb_inj {a b : Int64} (h : a.toBitVec = b.toBitVec) : a = b := Int64.toBitVec_inj.mp h
theorem wb_tn {n : Nat} (h : n < 2 ^ 64) : (lN n).toBitVec.toNat = n := by rw [wb_tb, BitVec.toNat_ofNat, Nat.mod_eq_of_lt h]
theorem wb_of (x : Int64) : ∃ n, n < 2 ^ 64 ∧ x = lN n := ⟨x.toBitVec.toNat, x.toBitVec.isLt, wb_inj (by rw [wb_tb]; simp)⟩
theorem wb_of32 (x : Int32) : ∃ n, n < 2 ^ 32 ∧ x = nI n := ⟨x.toBitVec.toNat, x.toBitVec.isLt, Int32.toBitVec_inj.mp (by show _ = BitVec.ofNat 32 _; simp)⟩
theorem wb_c : ∀ k, k < 64 → ((nI k).toInt64 &&& 63) = lN k := by decide +kernel
theorem wb_cu : ∀ k, k < 64 → ((nI k).toInt64.toUInt64 &&& Int64.toUInt64 63) = UInt64.ofNat k := by decide +kernel
theorem wb_sm : ∀ k, k < 64 → (BitVec.ofNat 64 k).smod 64 = BitVec.ofNat 64 k := by decide +kernel
theorem wb_pw {a b : Nat} (h : a ≤ b) : 2 ^ b = 2 ^ a * 2 ^ (b - a) := by rw [← Nat.pow_add]; congr 1; omega
theorem wb_lt2 {a b : Nat} (h : a < b) : 2 ^ a < 2 ^ b := Nat.pow_lt_pow_right (by decide) h
theorem wb_mod (n : Nat) : lN n = lN (n % 2 ^ 64) := wb_inj (by rw [wb_tb, wb_tb]; apply BitVec.eq_of_toNat_eq; rw [BitVec.toNat_ofNat, BitVec.toNat_ofNat, Nat.mod_mod])
theorem wb_shr {n k : Nat} (hn : n < 2 ^ 64) (hk : k < 64) : ((lN n).toUInt64 >>> ((nI k).toInt64.toUInt64 &&& Int64.toUInt64 63)).toInt64 = lN (n / 2 ^ k) := by
  rw [wb_cu k hk]
  apply wb_inj
  apply BitVec.eq_of_toNat_eq
  show ((lN n).toUInt64 >>> UInt64.ofNat k).toNat = (BitVec.ofNat 64 _).toNat
  have h1 : (UInt64.ofNat k).toNat = k := by
    show (BitVec.ofNat 64 k).toNat = k
    rw [BitVec.toNat_ofNat, Nat.mod_eq_of_lt (by omega)]
  have h2 : (lN n).toUInt64.toNat = n := wb_tn hn
  rw [UInt64.toNat_shiftRight, h1, h2, Nat.mod_eq_of_lt hk, Nat.shiftRight_eq_div_pow, BitVec.toNat_ofNat, Nat.mod_eq_of_lt (Nat.lt_of_le_of_lt (Nat.div_le_self _ _) hn)]
theorem wb_shl (n : Nat) {k : Nat} (hk : k < 64) : lN n <<< ((nI k).toInt64 &&& 63) = lN (n * 2 ^ k) := by
  rw [wb_c k hk]
  apply wb_inj
  rw [Int64.toBitVec_shiftLeft, wb_tb, wb_tb, wb_tb, wb_sm k hk]
  apply BitVec.eq_of_toNat_eq
  rw [BitVec.shiftLeft_eq', BitVec.toNat_shiftLeft, BitVec.toNat_ofNat, BitVec.toNat_ofNat, BitVec.toNat_ofNat, Nat.mod_eq_of_lt (show k < 2 ^ 64 by omega), Nat.shiftLeft_eq, Nat.mul_mod, Nat.mod_mod, ← Nat.mul_mod]
theorem wb_and {a b : Nat} (ha : a < 2 ^ 64) (hb : b < 2 ^ 64) : lN a &&& lN b = lN (a &&& b) := by
  apply wb_inj
  rw [Int64.toBitVec_and, wb_tb, wb_tb, wb_tb]
  apply BitVec.eq_of_toNat_eq
  rw [BitVec.toNat_and, BitVec.toNat_ofNat, BitVec.toNat_ofNat, BitVec.toNat_ofNat, Nat.mod_eq_of_lt ha, Nat.mod_eq_of_lt hb, Nat.mod_eq_of_lt (Nat.and_lt_two_pow _ hb)]
theorem wb_or {a b : Nat} (ha : a < 2 ^ 64) (hb : b < 2 ^ 64) : lN a ||| lN b = lN (a ||| b) := by
  apply wb_inj
  rw [Int64.toBitVec_or, wb_tb, wb_tb, wb_tb]
  apply BitVec.eq_of_toNat_eq
  rw [BitVec.toNat_or, BitVec.toNat_ofNat, BitVec.toNat_ofNat, BitVec.toNat_ofNat, Nat.mod_eq_of_lt ha, Nat.mod_eq_of_lt hb, Nat.mod_eq_of_lt (Nat.or_lt_two_pow ha hb)]
theorem wb_mask {n k : Nat} (hn : n < 2 ^ 64) (hk : k < 64) : lN n &&& lN (2 ^ k - 1) = lN (n % 2 ^ k) := by
  rw [wb_and hn (by have := wb_lt2 hk; omega), Nat.and_two_pow_sub_one_eq_mod]
theorem wb_a1 {n : Nat} (hn : n < 2 ^ 64) : lN n &&& 1 = lN (n % 2) := wb_mask (k := 1) hn (by decide)
theorem wb_bit {n k : Nat} (hn : n < 2 ^ 64) (hk : k < 64) : ((lN n).toUInt64 >>> ((nI k).toInt64.toUInt64 &&& Int64.toUInt64 63)).toInt64 &&& 1 = lN (n / 2 ^ k % 2) := by
  rw [wb_shr hn hk, wb_a1 (Nat.lt_of_le_of_lt (Nat.div_le_self _ _) hn)]
theorem wb_xor {q k : Nat} (hk : k < 63) (h : 2 ^ k ≤ q) (h2 : q < 2 ^ (k + 1)) : lN q ^^^ lN (2 ^ k) = lN (q - 2 ^ k) := by
  obtain ⟨r, rfl⟩ : ∃ r, q = 2 ^ k + r := ⟨q - 2 ^ k, by omega⟩
  have hr : r < 2 ^ k := by rw [Nat.pow_succ] at h2; omega
  have hx : (2 ^ k + r) ^^^ 2 ^ k = r := by
    apply Nat.eq_of_testBit_eq
    intro i
    rw [Nat.testBit_xor, Nat.testBit_two_pow]
    rcases Nat.lt_trichotomy i k with h | h | h
    · rw [Nat.testBit_two_pow_add_gt h]
      simp [show ¬ k = i by omega]
    · subst h
      rw [Nat.testBit_two_pow_add_eq]
      simp
    · have a1 : 2 ^ (k + 1) ≤ 2 ^ i := Nat.pow_le_pow_right (by decide) h
      rw [Nat.testBit_lt_two_pow (show 2 ^ k + r < 2 ^ i by omega), Nat.testBit_lt_two_pow (show r < 2 ^ i by omega)]
      simp [show ¬ k = i by omega]
  have b1 := wb_lt2 (show k + 1 < 64 by omega)
  have b2 := wb_lt2 (show k < 64 by omega)
  apply wb_inj
  rw [Int64.toBitVec_xor, wb_tb, wb_tb, wb_tb]
  apply BitVec.eq_of_toNat_eq
  rw [BitVec.toNat_xor, BitVec.toNat_ofNat, BitVec.toNat_ofNat, BitVec.toNat_ofNat, Nat.mod_eq_of_lt (by omega : 2 ^ k + r < 2 ^ 64), Nat.mod_eq_of_lt b2, hx, Nat.add_sub_cancel_left, Nat.mod_eq_of_lt (by omega)]
/-! ===== lN: masks, 'or' of parts that don't overlap is a sum ===== -/
theorem u_tn {n : Nat} (h : n < 2 ^ 64) : (UInt64.ofNat n).toNat = n := Nat.mod_eq_of_lt h
theorem g_and {a b c : Nat} (ha : a < 2 ^ 64) (hb : b < 2 ^ 64) (hc : a &&& b = c) : lN a &&& lN b = lN c := by
  subst hc
  have h : UInt64.ofNat a &&& UInt64.ofNat b = UInt64.ofNat (a &&& b) := UInt64.toNat_inj.mp (by rw [UInt64.toNat_and, u_tn ha, u_tn hb, u_tn (Nat.and_lt_two_pow a hb)])
  have h2 := congrArg UInt64.toInt64 h
  exact h2
theorem g_and1 {a : Nat} (ha : a < 2 ^ 64) : lN a &&& 1 = lN (a % 2) := g_and (b := 1) ha (by decide) (Nat.and_two_pow_sub_one_eq_mod a 1)
theorem g_mask {a s p : Nat} (hp : 2 ^ s = p) (hs : s < 64) (ha : a < 2 ^ 64) : lN a &&& lN (p - 1) = lN (a % p) := by
  subst hp
  have := Nat.pow_lt_pow_right (show 1 < 2 by decide) hs
  exact g_and ha (by omega) (Nat.and_two_pow_sub_one_eq_mod a s)
theorem g_or {k p a b : Nat} (hp : 2 ^ k = p) (ha : a < p) (h : b * p + a < 2 ^ 64) : lN (b * p) ||| lN a = lN (b * p + a) := by
  subst hp
  have h1 : b * 2 ^ k ||| a = b * 2 ^ k + a := by rw [← Nat.shiftLeft_eq, Nat.shiftLeft_add_eq_or_of_lt ha]
  have h3 : UInt64.ofNat (b * 2 ^ k) ||| UInt64.ofNat a = UInt64.ofNat (b * 2 ^ k + a) := UInt64.toNat_inj.mp (by rw [UInt64.toNat_or, u_tn (by omega), u_tn (by omega), u_tn h, h1])
  have h2 := congrArg UInt64.toInt64 h3
  exact h2
theorem g_or' {k p a b : Nat} (hp : 2 ^ k = p) (ha : a < p) (h : a + b * p < 2 ^ 64) : lN a ||| lN (b * p) = lN (a + b * p) := by
  rw [Int64.or_comm, g_or hp ha (by omega), Nat.add_comm]
theorem g_ushr {a k p : Nat} {y : UInt64} (hy : y = UInt64.ofNat k) (hk : k < 64) (hp : 2 ^ k = p) (ha : a < 2 ^ 64) : ((lN a).toUInt64 >>> y).toInt64 = lN (a / p) := by
  subst hy hp
  have h : UInt64.ofNat a >>> UInt64.ofNat k = UInt64.ofNat (a / 2 ^ k) := UInt64.toNat_inj.mp (by rw [UInt64.toNat_shiftRight, u_tn ha, u_tn (by omega), u_tn (Nat.lt_of_le_of_lt (Nat.div_le_self _ _) ha), Nat.mod_eq_of_lt hk, Nat.shiftRight_eq_div_pow])
  have h2 := congrArg UInt64.toInt64 h
  exact h2
theorem g_shl {a k p : Nat} {y : Int64} (hy : y.toBitVec.smod 64 = BitVec.ofNat 64 k) (hk : k < 64) (hp : 2 ^ k = p) (ha : a < 2 ^ 64) : lN a <<< y = lN (a * p) := by
  subst hp
  apply Int64.toBitVec_inj.mp
  rw [Int64.toBitVec_shiftLeft, hy]
  apply BitVec.eq_of_toNat_eq
  have hb : (lN a).toBitVec.toNat = a := Nat.mod_eq_of_lt ha
  have hk' : (BitVec.ofNat 64 k).toNat = k := Nat.mod_eq_of_lt (by omega)
  have h : ((lN a).toBitVec <<< BitVec.ofNat 64 k).toNat = (a * 2 ^ k) % 2 ^ 64 := by simp only [BitVec.shiftLeft_eq', BitVec.toNat_shiftLeft, hb, hk', Nat.shiftLeft_eq]
  exact h
/-! ===== lN to 2^62 under >> and >>> ===== -/
theorem pf_lI {a : Nat} (h : a < 2 ^ 63) : (lN a).toInt = (a : Int) := lg_ofNat_toInt h
theorem pf_shr {a d : Nat} {D : Int64} (hD : (D.toBitVec.smod 64).toNat = d) (h : a < 2 ^ 62) : lN a >>> D = lN (a / 2 ^ d) := by
  have hd : a / 2 ^ d ≤ a := Nat.div_le_self _ _
  apply Int64.toInt_inj.mp
  have e : (lN a >>> D).toInt = (lN a).toInt >>> d := by
    rw [← hD]
    exact BitVec.toInt_sshiftRight ..
  rw [e, Int.shiftRight_eq_div_pow, pf_lI (by omega), pf_lI (by omega)]
  rfl
theorem pf_ushr {a d : Nat} {D : UInt64} (hD : D.toNat % 64 = d) (h : a < 2 ^ 62) : ((lN a).toUInt64 >>> D).toInt64 = lN (a / 2 ^ d) := by
  have hd : a / 2 ^ d ≤ a := Nat.div_le_self _ _
  have e : (lN a).toUInt64 >>> D = UInt64.ofNat (a / 2 ^ d) := UInt64.toNat_inj.mp (by
    rw [UInt64.toNat_shiftRight, hD, Nat.shiftRight_eq_div_pow, UInt64.toNat_ofNat']
    show (UInt64.ofNat a).toNat / 2 ^ d = _
    rw [UInt64.toNat_ofNat', Nat.mod_eq_of_lt (by omega), Nat.mod_eq_of_lt (by omega)])
  rw [e]
  rfl
theorem pf_andw (x : Int64) : ∃ m, m < 2 ^ 32 ∧ x &&& 4294967295 = lN m := ⟨x.toBitVec.toNat % 2 ^ 32, Nat.mod_lt _ (by decide), Int64.toBitVec_inj.mp (BitVec.eq_of_toNat_eq (by
  show (x.toBitVec &&& 4294967295#64).toNat = (BitVec.ofNat 64 (x.toBitVec.toNat % 2 ^ 32)).toNat
  rw [BitVec.toNat_and, show (4294967295#64).toNat = 2 ^ 32 - 1 from by decide, Nat.and_two_pow_sub_one_eq_mod, BitVec.toNat_ofNat]
  omega))⟩
/-! ===== Int64 as an unsigned number: uN x ===== -/
def uN (x : Int64) : Nat := x.toUInt64.toNat
theorem uN_lt (x : Int64) : uN x < 18446744073709551616 := x.toUInt64.toNat_lt
theorem uN_inj {x y : Int64} (h : uN x = uN y) : x = y := congrArg UInt64.toInt64 (UInt64.toNat_inj.mp h)
theorem uN_add (x y : Int64) : uN (x + y) = (uN x + uN y) % 18446744073709551616 := by
  show (x.toUInt64 + y.toUInt64).toNat = _
  exact UInt64.toNat_add _ _
theorem uN_mul (x y : Int64) : uN (x * y) = (uN x * uN y) % 18446744073709551616 := by
  show (x.toUInt64 * y.toUInt64).toNat = _
  exact UInt64.toNat_mul _ _
theorem uN_shl (x : Int64) : uN (x <<< ((1 : Int32).toInt64 &&& 63)) = (2 * uN x) % 18446744073709551616 := by
  have h : (((1 : Int32).toInt64 &&& 63).toBitVec.smod 64).toNat = 1 := by decide
  show (x.toBitVec <<< (((1 : Int32).toInt64 &&& 63).toBitVec.smod 64).toNat).toNat = _
  rw [h, BitVec.toNat_shiftLeft, Nat.shiftLeft_eq, Nat.mul_comm]
  rfl
theorem uN_shr (x : Int64) (s : UInt64) : uN (x.toUInt64 >>> s).toInt64 = uN x / 2 ^ (s.toNat % 64) := by
  show (x.toUInt64 >>> s).toNat = _
  rw [UInt64.toNat_shiftRight, Nat.shiftRight_eq_div_pow]
  rfl
theorem uN_s32 (x : Int64) : uN (x.toUInt64 >>> ((32 : Int32).toInt64.toUInt64 &&& Int64.toUInt64 63)).toInt64 = uN x / 4294967296 := by
  have h : ((32 : Int32).toInt64.toUInt64 &&& Int64.toUInt64 63).toNat % 64 = 32 := by decide
  rw [uN_shr, h]
theorem uN_s63 (x : Int64) : uN (x.toUInt64 >>> ((63 : Int32).toInt64.toUInt64 &&& Int64.toUInt64 63)).toInt64 = uN x / 9223372036854775808 := by
  have h : ((63 : Int32).toInt64.toUInt64 &&& Int64.toUInt64 63).toNat % 64 = 63 := by decide
  rw [uN_shr, h]
theorem uN_lo (x : Int64) : uN (x &&& 4294967295) = uN x % 4294967296 := by
  show (x.toUInt64 &&& Int64.toUInt64 4294967295).toNat = _
  rw [UInt64.toNat_and]
  exact Nat.and_two_pow_sub_one_eq_mod _ 32
theorem uN_bit (x : Int64) : (x &&& 1) = 0 ↔ uN x % 2 = 0 := by
  have h : uN (x &&& 1) = uN x % 2 := by
    show (x.toUInt64 &&& Int64.toUInt64 1).toNat = _
    rw [UInt64.toNat_and]
    exact Nat.and_two_pow_sub_one_eq_mod _ 1
  rw [← h]
  exact ⟨fun z => by rw [z]; rfl, fun z => uN_inj (z.trans rfl)⟩
theorem uN_or {x y : Int64} (hy : uN y < 2) : uN ((x <<< ((1 : Int32).toInt64 &&& 63)) ||| y) = (2 * uN x) % 18446744073709551616 + uN y := by
  have h1 : uN ((x <<< ((1 : Int32).toInt64 &&& 63)) ||| y) = uN (x <<< ((1 : Int32).toInt64 &&& 63)) ||| uN y := UInt64.toNat_or _ _
  have h2 : (2 * uN x) % 18446744073709551616 = 2 ^ 1 * (uN x % 9223372036854775808) := by omega
  rw [h1, uN_shl, h2]
  exact (Nat.two_pow_add_eq_or_of_lt (i := 1) hy _).symm
theorem nat_xor {a : Nat} (h : a < 18446744073709551616) : a ^^^ 2 ^ 63 = (a + 9223372036854775808) % 18446744073709551616 := by
  have h1 : (a ^^^ 2 ^ 63) % 2 ^ 63 = a % 2 ^ 63 := by rw [Nat.xor_mod_two_pow, Nat.mod_self, Nat.xor_zero]
  have h2 : (a ^^^ 2 ^ 63) / 2 ^ 63 = (a / 2 ^ 63) ^^^ 1 := by rw [Nat.xor_div_two_pow, Nat.div_self (Nat.two_pow_pos 63)]
  have h3 : a / 2 ^ 63 = 0 ∨ a / 2 ^ 63 = 1 := by omega
  generalize a ^^^ 2 ^ 63 = t at h1 h2
  rcases h3 with h3 | h3
  · rw [h3] at h2
    have h2 : t / 2 ^ 63 = 1 := h2
    omega
  · rw [h3] at h2
    have h2 : t / 2 ^ 63 = 0 := h2
    omega
theorem uN_xor (x : Int64) : uN (x ^^^ (-9223372036854775808)) = (uN x + 9223372036854775808) % 18446744073709551616 := by
  rw [← nat_xor (uN_lt x)]
  exact UInt64.toNat_xor _ _
theorem uN_int (x : Int64) : x.toInt = if 2 * uN x < 18446744073709551616 then (uN x : Int) else (uN x : Int) - 18446744073709551616 := BitVec.toInt_eq_toNat_cond _
theorem uN_le (x y : Int64) : (x ^^^ (-9223372036854775808)) ≤ (y ^^^ (-9223372036854775808)) ↔ uN x ≤ uN y := by
  have hx := uN_lt x
  have hy := uN_lt y
  rw [Int64.le_iff_toInt_le, uN_int, uN_int, uN_xor, uN_xor]
  omega
theorem uN_sk (x : Int64) {k : Nat} (hk : k < 64) : uN (x.toUInt64 >>> ((nI k).toInt64.toUInt64 &&& Int64.toUInt64 63)).toInt64 = uN x / 2 ^ k := by
  have h : ((nI k).toInt64.toUInt64 &&& Int64.toUInt64 63).toNat % 64 = k := by
    rw [nI_l (by omega), UInt64.toNat_and]
    have e : (lN k).toUInt64.toNat = k % 2 ^ 64 := rfl
    have e2 : (Int64.toUInt64 63).toNat = 2 ^ 6 - 1 := by decide
    rw [e, e2, Nat.and_two_pow_sub_one_eq_mod]
    omega
  rw [uN_shr, h]
/-! ===== unsigned comparison by xor with the least ===== -/
theorem lN_bv (n : Nat) : (lN n).toBitVec = BitVec.ofNat 64 n := rfl
theorem lN_nat {n : Nat} (h : n < 2 ^ 64) : (lN n).toBitVec.toNat = n := by rw [lN_bv, BitVec.toNat_ofNat]; exact Nat.mod_eq_of_lt h
theorem lN_xor (a b : Nat) : lN a ^^^ lN b = lN (a ^^^ b) := by
  apply Int64.toBitVec_inj.mp; rw [Int64.toBitVec_xor, lN_bv, lN_bv, lN_bv]; apply BitVec.eq_of_getLsbD_eq; intro i hi; simp [BitVec.getLsbD_ofNat, Nat.testBit_xor, hi]
theorem lN_ti {m : Nat} (h : m < 2 ^ 64) : (lN m).toInt = if m < 2 ^ 63 then (m : Int) else (m : Int) - 2 ^ 64 := by
  have c := BitVec.toInt_eq_toNat_cond (lN m).toBitVec
  rw [lN_nat h] at c
  show (lN m).toBitVec.toInt = _
  rw [c]
  split <;> split <;> omega
theorem xor63 {x : Nat} (h : x < 2 ^ 63) : x ^^^ 2 ^ 63 = 2 ^ 63 + x := by
  apply Nat.eq_of_testBit_eq
  intro i
  rw [Nat.testBit_xor, Nat.testBit_two_pow]
  rcases Nat.lt_trichotomy i 63 with z | z | z
  · rw [Nat.testBit_two_pow_add_gt z, decide_eq_false (by omega)]; simp
  · subst z; rw [Nat.testBit_two_pow_add_eq]; simp
  · have hp : 2 ^ 64 ≤ 2 ^ i := Nat.pow_le_pow_right (by decide) z
    rw [Nat.testBit_lt_two_pow (show x < 2 ^ i by omega), Nat.testBit_lt_two_pow (show 2 ^ 63 + x < 2 ^ i by omega), decide_eq_false (by omega)]; rfl
theorem xorS {a : Nat} (h : a < 2 ^ 64) : (lN a ^^^ (-9223372036854775808)).toInt = (a : Int) - 2 ^ 63 := by
  rw [show (-9223372036854775808 : Int64) = lN (2 ^ 63) from by decide +kernel, lN_xor]
  rcases Nat.lt_or_ge a (2 ^ 63) with z | z
  · rw [xor63 z, lN_ti (by omega), if_neg (by omega)]; omega
  · obtain ⟨x, rfl⟩ : ∃ x, a = 2 ^ 63 + x := ⟨a - 2 ^ 63, by omega⟩
    rw [← xor63 (by omega), Nat.xor_assoc, Nat.xor_self, Nat.xor_zero, lN_ti (by omega), if_pos (by omega), xor63 (by omega)]; omega
theorem ultL {a b : Nat} (ha : a < 2 ^ 64) (hb : b < 2 ^ 64) : ((lN b ^^^ (-9223372036854775808)) ≤ (lN a ^^^ (-9223372036854775808))) ↔ b ≤ a := by
  rw [Int64.le_iff_toInt_le, xorS ha, xorS hb]; omega
/-! ===== Int64 masks of n low bits ===== -/
theorem cr_bits (W U M : BitVec 64) : ((W &&& U) &&& (U &&& (M ^^^ BitVec.allOnes 64))) = 0#64 ↔ (W &&& U) &&& M = W &&& U := by
  constructor
  · intro h
    apply BitVec.eq_of_getLsbD_eq
    intro i hi
    have e := congrArg (fun x => BitVec.getLsbD x i) h
    simp only [BitVec.getLsbD_and, BitVec.getLsbD_xor, BitVec.getLsbD_allOnes, BitVec.getLsbD_zero, hi, decide_true] at e ⊢
    revert e
    cases W.getLsbD i <;> cases U.getLsbD i <;> cases M.getLsbD i <;> decide
  · intro h
    apply BitVec.eq_of_getLsbD_eq
    intro i hi
    have e := congrArg (fun x => BitVec.getLsbD x i) h
    simp only [BitVec.getLsbD_and, BitVec.getLsbD_xor, BitVec.getLsbD_allOnes, BitVec.getLsbD_zero, hi, decide_true] at e ⊢
    revert e
    cases W.getLsbD i <;> cases U.getLsbD i <;> cases M.getLsbD i <;> decide
theorem cr_mask (w U m : Int64) (n : Nat) (hm : m.toBitVec.toNat = 2 ^ n - 1) : ((w &&& U) &&& (U &&& (m ^^^ (-1)))) = 0 ↔ (w &&& U).toBitVec.toNat < 2 ^ n := by
  have e0 : (-1 : Int64).toBitVec = BitVec.allOnes 64 := by decide
  have z0 : (0 : Int64).toBitVec = 0#64 := by decide
  rw [← Int64.toBitVec_inj, z0, Int64.toBitVec_and, Int64.toBitVec_and, Int64.toBitVec_and, Int64.toBitVec_xor, e0, cr_bits]
  generalize w.toBitVec &&& U.toBitVec = T
  rw [← BitVec.toNat_inj, BitVec.toNat_and, hm, Nat.and_two_pow_sub_one_eq_mod]
  constructor
  · intro h
    have t := Nat.mod_lt T.toNat (Nat.two_pow_pos n)
    rw [h] at t
    exact t
  · exact Nat.mod_eq_of_lt
theorem cr_shr (t : Int64) (x : UInt64) (n : Nat) (hx : x.toNat % 64 = n) : (t.toUInt64 >>> x).toInt64 = 0 ↔ t.toBitVec.toNat < 2 ^ n := by
  rw [← Int64.toBitVec_inj, ← BitVec.toNat_inj]
  show (t.toUInt64 >>> x).toNat = 0 ↔ t.toUInt64.toNat < 2 ^ n
  rw [UInt64.toNat_shiftRight, hx, Nat.shiftRight_eq_div_pow]
  constructor
  · intro h
    have d : t.toUInt64.toNat / 2 ^ n < 1 := by
      rw [h]
      decide
    have e := (Nat.div_lt_iff_lt_mul (Nat.two_pow_pos n)).mp d
    rw [Nat.one_mul] at e
    exact e
  · exact Nat.div_eq_of_lt
theorem cr_amt (s : Int64) : ∃ n, n < 64 ∧ s &&& 63 = lN n ∧ (s.toUInt64 &&& Int64.toUInt64 63).toNat % 64 = n := by
  have e : (s.toUInt64 &&& Int64.toUInt64 63).toNat = s.toUInt64.toNat % 2 ^ 6 := by
    rw [UInt64.toNat_and, show (Int64.toUInt64 63).toNat = 2 ^ 6 - 1 from by decide, Nat.and_two_pow_sub_one_eq_mod]
  refine ⟨s.toUInt64.toNat % 2 ^ 6, by omega, ?_, by omega⟩
  rw [← Int64.toBitVec_inj, ← BitVec.toNat_inj]
  show (s.toUInt64 &&& Int64.toUInt64 63).toNat = (BitVec.ofNat 64 (s.toUInt64.toNat % 2 ^ 6)).toNat
  rw [e, BitVec.toNat_ofNat]
  omega
end
section
/-! numbers: zI z = Int32.ofInt z; bits; narrowing -/
def zI (z : Int) : Int32 := Int32.ofInt z
theorem zn_t {z : Int} (h1 : -2147483648 ≤ z) (h2 : z < 2147483648) : (zI z).toInt = z := Int32.toInt_ofInt_of_le (by omega) (by omega)
theorem zn_n (n : Nat) : nI n = zI n := Int32.ofInt_eq_ofNat.symm
theorem zn_s (x : Int32) : zI x.toInt = x := Int32.ofInt_toInt x
theorem zn_add (a b : Int) : zI a + zI b = zI (a + b) := (Int32.ofInt_add a b).symm
theorem zn_sub (a b : Int) : zI a - zI b = zI (a - b) := (Int32.ofInt_sub a b).symm
theorem zn_mul (a b : Int) : zI a * zI b = zI (a * b) := (Int32.ofInt_mul a b).symm
theorem zn_mulN (a : Int) (b : Nat) : zI a * nI b = zI (a * b) := by rw [zn_n, zn_mul]
theorem zn_addN (a : Int) (b : Nat) : zI a + nI b = zI (a + b) := by rw [zn_n, zn_add]
theorem zn_le {a b : Int} (ha : -1000000 ≤ a) (ha' : a ≤ 1000000) (hb : -1000000 ≤ b) (hb' : b ≤ 1000000) : zI a ≤ zI b ↔ a ≤ b := by
  rw [Int32.le_iff_toInt_le, zn_t (by omega) (by omega), zn_t (by omega) (by omega)]
theorem zn_lt {a b : Int} (ha : -1000000 ≤ a) (ha' : a ≤ 1000000) (hb : -1000000 ≤ b) (hb' : b ≤ 1000000) : zI a < zI b ↔ a < b := by
  rw [Int32.lt_iff_toInt_lt, zn_t (by omega) (by omega), zn_t (by omega) (by omega)]
theorem zn_eq {a b : Int} (ha : -1000000 ≤ a) (ha' : a ≤ 1000000) (hb : -1000000 ≤ b) (hb' : b ≤ 1000000) : zI a = zI b ↔ a = b := by
  rw [← Int32.toInt_inj, zn_t (by omega) (by omega), zn_t (by omega) (by omega)]
theorem zn_ler {q : Int32} {b : Int} (hb : -1000000 ≤ b) (hb' : b ≤ 1000000) : q ≤ zI b ↔ q.toInt ≤ b := by
  rw [Int32.le_iff_toInt_le, zn_t (by omega) (by omega)]
theorem zn_lel {q : Int32} {b : Int} (hb : -1000000 ≤ b) (hb' : b ≤ 1000000) : zI b ≤ q ↔ b ≤ q.toInt := by
  rw [Int32.le_iff_toInt_le, zn_t (by omega) (by omega)]
theorem zn_ltr {q : Int32} {b : Int} (hb : -1000000 ≤ b) (hb' : b ≤ 1000000) : q < zI b ↔ q.toInt < b := by
  rw [Int32.lt_iff_toInt_lt, zn_t (by omega) (by omega)]
theorem zn_ltl {q : Int32} {b : Int} (hb : -1000000 ≤ b) (hb' : b ≤ 1000000) : zI b < q ↔ b < q.toInt := by
  rw [Int32.lt_iff_toInt_lt, zn_t (by omega) (by omega)]
theorem zn_eqr {q : Int32} {b : Int} (hb : -1000000 ≤ b) (hb' : b ≤ 1000000) : zI b = q ↔ b = q.toInt := by
  rw [← Int32.toInt_inj, zn_t (by omega) (by omega)]
theorem zn_0 : zI 0 = 0 := rfl
theorem zn_1 : zI 1 = 1 := rfl
theorem zn_m1 : zI (-1) = -1 := rfl
theorem zn_1000 : zI 1000 = 1000 := rfl
/-! narrowing -/
theorem zb_i {z : Int32} (h1 : -128 ≤ z.toInt) (h2 : z.toInt < 128) : z.toInt8.toInt32 = z := by
  apply Int32.toInt_inj.mp
  rw [Int8.toInt_toInt32, Int32.toInt_toInt8]
  exact Int.bmod_eq_of_le (by omega) (by omega)
theorem zs_i {z : Int32} (h1 : -32768 ≤ z.toInt) (h2 : z.toInt < 32768) : z.toInt16.toInt32 = z := by
  apply Int32.toInt_inj.mp
  rw [Int16.toInt_toInt32, Int32.toInt_toInt16]
  exact Int.bmod_eq_of_le (by omega) (by omega)
theorem zb_v {z : Int32} (h1 : -128 ≤ z.toInt) (h2 : z.toInt < 128) : vp_nar .byte z = z := by
  rw [vp_nar_byte]; exact zb_i h1 h2
theorem zb_v8 {z : Int32} (h1 : -128 ≤ z.toInt) (h2 : z.toInt < 128) : vp_nar .byte z.toInt8.toInt32 = z := by
  rw [zb_i h1 h2]; exact zb_v h1 h2
theorem zs_v {z : Int32} (h1 : -32768 ≤ z.toInt) (h2 : z.toInt < 32768) : vp_nar .short z = z := by
  rw [vp_nar_short]; exact zs_i h1 h2
theorem zs_v16 {z : Int32} (h1 : -32768 ≤ z.toInt) (h2 : z.toInt < 32768) : vp_nar .short z.toInt16.toInt32 = z := by
  rw [zs_i h1 h2]; exact zs_v h1 h2
theorem zb_n {m : Nat} (h : m < 128) : vp_nar .byte (nI m) = nI m := by
  have := nI_toInt (n := m) (by omega)
  exact zb_v (by omega) (by omega)
theorem zb_n8 {m : Nat} (h : m < 128) : vp_nar .byte (nI m).toInt8.toInt32 = nI m := by
  have := nI_toInt (n := m) (by omega)
  exact zb_v8 (by omega) (by omega)
theorem zs_n {m : Nat} (h : m < 32768) : vp_nar .short (nI m) = nI m := by
  have := nI_toInt (n := m) (by omega)
  exact zs_v (by omega) (by omega)
theorem zs_n16 {m : Nat} (h : m < 32768) : vp_nar .short (nI m).toInt16.toInt32 = nI m := by
  have := nI_toInt (n := m) (by omega)
  exact zs_v16 (by omega) (by omega)
theorem zb_z {z : Int} (h1 : -128 ≤ z) (h2 : z < 128) : vp_nar .byte (zI z) = zI z := by
  have := zn_t (z := z) (by omega) (by omega)
  exact zb_v (by omega) (by omega)
theorem zb_z8 {z : Int} (h1 : -128 ≤ z) (h2 : z < 128) : vp_nar .byte (zI z).toInt8.toInt32 = zI z := by
  have := zn_t (z := z) (by omega) (by omega)
  exact zb_v8 (by omega) (by omega)
theorem zs_z16 {z : Int} (h1 : -32768 ≤ z) (h2 : z < 32768) : vp_nar .short (zI z).toInt16.toInt32 = zI z := by
  have := zn_t (z := z) (by omega) (by omega)
  exact zs_v16 (by omega) (by omega)
/-! bits of naturals -/
theorem zx_or (a b : Nat) : nI a ||| nI b = nI (a ||| b) := by
  apply Int32.toBitVec_inj.1
  show BitVec.ofNat 32 a ||| BitVec.ofNat 32 b = BitVec.ofNat 32 (a ||| b)
  apply BitVec.eq_of_getLsbD_eq
  intro i hi
  simp [hi]
theorem zx_shr {m x : Nat} (hm : m < 2 ^ 31) (hx : x < 32) : nI m >>> (nI x &&& 31) = nI (m / 2 ^ x) := pk_shrN hm _ x (s_l x hx)
theorem zx_shl {x : Nat} (hx : x < 31) : (1 : Int32) <<< (nI x &&& 31) = nI (2 ^ x) := by
  have h : 1 * 2 ^ x < 2 ^ 32 := by
    rw [Nat.one_mul]
    exact Nat.pow_lt_pow_right (by decide) (by omega)
  have := pk_shlN (n := 1) (nI x &&& 31) x (s_l x (by omega)) h
  rw [Nat.one_mul] at this
  exact this
theorem zx_bv {m x : Nat} (hm : m < 2 ^ 31) (hx : x < 32) : (nI m >>> (nI x &&& 31)) &&& 1 = nI (m / 2 ^ x % 2) := by
  rw [zx_shr hm hx]
  have : m / 2 ^ x ≤ m := Nat.div_le_self _ _
  exact pk_andN (n := m / 2 ^ x) (by omega) 1 (by decide)
theorem zx_b0 {m x : Nat} (hm : m < 2 ^ 31) (hx : x < 32) : (nI m >>> (nI x &&& 31)) &&& 1 = 0 ↔ m.testBit x = false := by
  rw [zx_bv hm hx, ← nI_0, nI_eq (by omega) (by omega), Nat.testBit_eq_decide_div_mod_eq, decide_eq_false_iff_not]
  generalize m / 2 ^ x = z
  omega
theorem zx_b1 {m x : Nat} (hm : m < 2 ^ 31) (hx : x < 32) : (nI m >>> (nI x &&& 31)) &&& 1 = 1 ↔ m.testBit x = true := by
  rw [zx_bv hm hx, show (1 : Int32) = nI 1 from rfl, nI_eq (by omega) (by omega), Nat.testBit_eq_decide_div_mod_eq, decide_eq_true_iff]
theorem zx_bb {m x y : Nat} (hm : m < 2 ^ 31) (hx : x < 32) (hy : y < 32) : ((nI m >>> (nI x &&& 31)) &&& (nI m >>> (nI y &&& 31))) &&& 1 = 1 ↔ (m.testBit x = true ∧ m.testBit y = true) := by
  have e : ((nI m >>> (nI x &&& 31)) &&& (nI m >>> (nI y &&& 31))) &&& 1 = (nI m >>> (nI x &&& 31)) &&& ((nI m >>> (nI y &&& 31)) &&& 1) := Int32.and_assoc _ _ _
  rw [e, zx_bv hm hy, zx_shr hm hx, nx_and, Nat.testBit_eq_decide_div_mod_eq, Nat.testBit_eq_decide_div_mod_eq, decide_eq_true_iff, decide_eq_true_iff]
  generalize m / 2 ^ x = z
  have hz : m / 2 ^ y % 2 < 2 := Nat.mod_lt _ (by decide)
  revert hz
  generalize m / 2 ^ y % 2 = w
  intro hz
  have hw : w = 0 ∨ w = 1 := by omega
  rcases hw with rfl | rfl
  · rw [Nat.and_zero]
    exact ⟨fun h => absurd h (by decide), fun h => absurd h.2 (by decide)⟩
  · rw [Nat.and_one_is_mod, show (1 : Int32) = nI 1 from rfl, nI_eq (by omega) (by omega)]
    exact ⟨fun h => ⟨h, rfl⟩, fun h => h.1⟩
/-- a without the bits of b -/
def zx_an (a b : Nat) : Nat := a ^^^ (a &&& b)
theorem zx_anb (a b i : Nat) : (zx_an a b).testBit i = (a.testBit i && !b.testBit i) := by
  unfold zx_an
  rw [Nat.testBit_xor, Nat.testBit_and]
  cases a.testBit i <;> cases b.testBit i <;> rfl
theorem zx_btn {a i : Nat} (hi : i < 32) : bt (nI a) i = a.testBit i := by
  show (BitVec.ofNat 32 a).getLsbD i = _
  rw [BitVec.getLsbD_ofNat, decide_eq_true hi, Bool.true_and]
theorem zx_and (a b : Nat) : nI a &&& (nI b ^^^ (-1)) = nI (zx_an a b) := by
  apply b_ext
  intro i hi
  rw [b_and, b_xor, b_m1 i hi, zx_btn hi, zx_btn hi, zx_btn hi, zx_anb]
  cases a.testBit i <;> cases b.testBit i <;> rfl
theorem zx_anle (a b : Nat) : zx_an a b ≤ a := by
  apply Nat.le_of_testBit
  intro i hi
  rw [zx_anb] at hi
  cases h : a.testBit i
  · rw [h] at hi; exact hi
  · rfl
/-! popcount, lowest and highest bit of a mask below 64 -/
def zp (m : Nat) : Nat := m % 2 + m / 2 % 2 + m / 4 % 2 + m / 8 % 2 + m / 16 % 2 + m / 32 % 2
def zlo (m : Nat) : Nat := if m % 2 = 1 then 0 else if m / 2 % 2 = 1 then 1 else if m / 4 % 2 = 1 then 2 else if m / 8 % 2 = 1 then 3 else if m / 16 % 2 = 1 then 4 else 5
def zhi (m : Nat) : Nat := if m / 32 % 2 = 1 then 5 else if m / 16 % 2 = 1 then 4 else if m / 8 % 2 = 1 then 3 else if m / 4 % 2 = 1 then 2 else if m / 2 % 2 = 1 then 1 else 0
theorem zp_step : ∀ m, m < 64 → 0 < m → zp m = zp (m &&& (m - 1)) + 1 ∧ (m &&& (m - 1)) < m := by decide +kernel
theorem zlo_f : ∀ m, m < 64 → 0 < m → m.testBit (zlo m) = true ∧ zlo m < 6 := by decide +kernel
theorem zlo_l : ∀ m, m < 64 → ∀ x, x < 6 → m.testBit x = true → zlo m ≤ x := by decide +kernel
theorem zhi_f : ∀ m, m < 64 → 0 < m → m.testBit (zhi m) = true ∧ zhi m < 6 := by decide +kernel
theorem zhi_l : ∀ m, m < 64 → ∀ x, x < 6 → m.testBit x = true → x ≤ zhi m := by decide +kernel
theorem zp_le : ∀ m, m < 64 → zp m ≤ 6 := by decide +kernel
theorem zm_lt {m x : Nat} (hm : m < 64) (h : m.testBit x = true) : x < 6 := by
  apply Nat.lt_of_not_le
  intro hx
  rw [Nat.testBit_lt_two_pow (Nat.lt_of_lt_of_le hm (Nat.pow_le_pow_right (n := 2) (by decide) hx : 2 ^ 6 ≤ 2 ^ x))] at h
  exact absurd h (by decide)
theorem zm_ext {a b : Nat} (ha : a < 64) (hb : b < 64) (h : ∀ x, x < 6 → a.testBit x = b.testBit x) : a = b := by
  apply Nat.eq_of_testBit_eq
  intro i
  by_cases hi : i < 6
  · exact h i hi
  · have h2 : (64 : Nat) ≤ 2 ^ i := (Nat.pow_le_pow_right (n := 2) (by decide) (by omega) : 2 ^ 6 ≤ 2 ^ i)
    rw [Nat.testBit_lt_two_pow (by omega), Nat.testBit_lt_two_pow (by omega)]
/-! truth values -/
noncomputable def bI (p : Prop) : Int32 := @ite _ p (Classical.propDecidable p) 1 0
theorem bI_t {p : Prop} (h : p) : bI p = 1 := if_pos h
theorem bI_f {p : Prop} (h : ¬ p) : bI p = 0 := if_neg h
theorem bI_01 (p : Prop) : bI p = 0 ∨ bI p = 1 := by
  by_cases h : p
  · exact Or.inr (bI_t h)
  · exact Or.inl (bI_f h)
theorem bI_0 {p : Prop} : bI p = 0 ↔ ¬ p := by
  by_cases h : p
  · rw [bI_t h]; exact ⟨fun e => absurd e (by decide), fun e => absurd h e⟩
  · rw [bI_f h]; exact ⟨fun _ => h, fun _ => rfl⟩
theorem bI_n (p : Prop) : narrow .boolean (.int (bI p)) = .int (bI p) := by
  rcases bI_01 p with h | h <;> rw [h] <;> rfl
theorem bI_c {p q : Prop} (h : p ↔ q) : bI p = bI q := by
  by_cases hp : p
  · rw [bI_t hp, bI_t (h.mp hp)]
  · rw [bI_f hp, bI_f (fun hq => hp (h.mpr hq))]
/-- a branch that answers 1 or 0 -/
theorem bI_br {p c : Prop} {f : Int32 → Prop} (e : c ↔ p) (h : f (bI p)) : (c → f 1) ∧ (¬ c → f 0) :=
  ⟨fun hc => by rw [bI_t (e.mp hc)] at h; exact h, fun hc => by rw [bI_f (fun hp => hc (e.mpr hp))] at h; exact h⟩
theorem bI_br' {p c : Prop} {f : Int32 → Prop} (e : c ↔ ¬ p) (h : f (bI p)) : (c → f 0) ∧ (¬ c → f 1) :=
  ⟨fun hc => by rw [bI_f (e.mp hc)] at h; exact h, fun hc => by rw [bI_t (Classical.not_not.mp fun hp => hc (e.mpr hp))] at h; exact h⟩
noncomputable def ib (p : Prop) : Nat := @ite _ p (Classical.propDecidable p) 1 0
theorem ib_t {p : Prop} (h : p) : ib p = 1 := if_pos h
theorem ib_f {p : Prop} (h : ¬ p) : ib p = 0 := if_neg h
theorem ib_le (p : Prop) : ib p ≤ 1 := by
  by_cases h : p
  · rw [ib_t h]; omega
  · rw [ib_f h]; omega
theorem ib_c {p q : Prop} (h : p ↔ q) : ib p = ib q := by
  by_cases hp : p
  · rw [ib_t hp, ib_t (h.mp hp)]
  · rw [ib_f hp, ib_f (fun hq => hp (h.mpr hq))]
noncomputable def iz {α : Type} (p : Prop) (a b : α) : α := @ite _ p (Classical.propDecidable p) a b
theorem iz_t {α : Type} {p : Prop} {a b : α} (h : p) : iz p a b = a := if_pos h
theorem iz_f {α : Type} {p : Prop} {a b : α} (h : ¬ p) : iz p a b = b := if_neg h
/-! four places -/
theorem z4 {P : Nat → Prop} (h0 : P 0) (h1 : P 1) (h2 : P 2) (h3 : P 3) : ∀ v, v < 4 → P v := fun _ hv => co_4 h0 h1 h2 h3 hv
theorem z4c {v : Nat} (h : v < 4) : v = 0 ∨ v = 1 ∨ v = 2 ∨ v = 3 := by omega
theorem z10 {i : Nat} (h : i < 10) : (10 : Nat) < 2 ^ 31 := by omega
/-! counters against literals -/
theorem zc4 {i : Nat} (h : i < 4) : ¬ (4 : Int32) ≤ nI i := nI_ge (b := 4) h (by decide)
theorem zc6 {i : Nat} (h : i < 6) : ¬ (6 : Int32) ≤ nI i := nI_ge (b := 6) h (by decide)
theorem zc10 {i : Nat} (h : i < 10) : ¬ (10 : Int32) ≤ nI i := nI_ge (b := 10) h (by decide)
theorem zi4 {i : Nat} (h : i < 4) : vp_in (nI i) 4 := vp_in_nI h (by decide)
theorem zi10 {i : Nat} (h : i < 10) : vp_in (nI i) 10 := vp_in_nI h (by decide)
theorem zcl {i : Nat} (h : i < 100000) : (nI i).toNatClampNeg = i := nI_clamp (by omega)
theorem ze6 : ¬ (6 : Int32) = 0 := by decide
theorem ze7 : ¬ (7 : Int32) = 0 := by decide
theorem ze4 : ¬ (4 : Int32) = 0 := by decide
end
section
/-! the meaning of constraints, assignments x : Nat → Nat -/
def dg (p v : Nat) : Int := ((p / 7 ^ v % 7 : Nat) : Int) - 3
def ps (w : Nat → Int) (x : Nat → Nat) : Nat → Int
  | 0 => 0
  | i + 1 => ps w x i + w i * (x i : Int)
def sn (p : Nat) (x : Nat → Nat) : Nat → Nat
  | 0 => 0
  | i + 1 => if p.testBit i = true then sn p x i ||| 2 ^ x i else sn p x i
def df (p : Nat) (x : Nat → Nat) (i : Nat) : Prop := ∀ v, v < i → ∀ w, w < v → p.testBit v = true → p.testBit w = true → x v ≠ x w
noncomputable def hm (p r : Nat) (x : Nat → Nat) : Nat → Nat
  | 0 => 0
  | i + 1 => hm p r x i + ib (p.testBit i = true ∧ x i = r)
def nn (z : Int32) : Nat := z.toNatClampNeg
theorem nn_n {n : Nat} (h : n < 100000) : nn (nI n) = n := zcl h
def hs (K P Q R : Int32) (x : Nat → Nat) : Prop :=
  (K = 0 → ps (dg (nn P)) x 4 ≤ Q.toInt) ∧ (K = 1 → ps (dg (nn P)) x 4 = Q.toInt) ∧ (K = 2 → df (nn P) x 4) ∧ (K = 3 → x (nn P) = nn R / 6 ^ (x (nn Q)) % 6) ∧
  (K = 4 → x (nn P) * x (nn Q) = x (nn R)) ∧ (K = 5 → (x (nn P / 6) = nn P % 6 ↔ nn Q % 6 ≤ x (nn Q / 6))) ∧
  (K = 6 → (nn R + x (nn Q) ≤ x (nn P) ∨ nn R + x (nn P) ≤ x (nn Q))) ∧ (K = 7 → hm (nn P) (nn R) x 4 = nn Q) ∧
  (K = 8 → (x (nn P) < x (nn Q) ∨ (x (nn P) = x (nn Q) ∧ x (nn R % 4) ≤ x (nn R / 4))))
theorem hs_0 {P Q R : Int32} {x : Nat → Nat} : hs 0 P Q R x ↔ ps (dg (nn P)) x 4 ≤ Q.toInt :=
  ⟨fun h => h.1 rfl, fun h => ⟨fun _ => h, fun e => absurd e (by decide), fun e => absurd e (by decide), fun e => absurd e (by decide), fun e => absurd e (by decide), fun e => absurd e (by decide), fun e => absurd e (by decide), fun e => absurd e (by decide), fun e => absurd e (by decide)⟩⟩
theorem hs_1 {P Q R : Int32} {x : Nat → Nat} : hs 1 P Q R x ↔ ps (dg (nn P)) x 4 = Q.toInt :=
  ⟨fun h => h.2.1 rfl, fun h => ⟨fun e => absurd e (by decide), fun _ => h, fun e => absurd e (by decide), fun e => absurd e (by decide), fun e => absurd e (by decide), fun e => absurd e (by decide), fun e => absurd e (by decide), fun e => absurd e (by decide), fun e => absurd e (by decide)⟩⟩
theorem hs_2 {P Q R : Int32} {x : Nat → Nat} : hs 2 P Q R x ↔ df (nn P) x 4 :=
  ⟨fun h => h.2.2.1 rfl, fun h => ⟨fun e => absurd e (by decide), fun e => absurd e (by decide), fun _ => h, fun e => absurd e (by decide), fun e => absurd e (by decide), fun e => absurd e (by decide), fun e => absurd e (by decide), fun e => absurd e (by decide), fun e => absurd e (by decide)⟩⟩
theorem hs_3 {P Q R : Int32} {x : Nat → Nat} : hs 3 P Q R x ↔ x (nn P) = nn R / 6 ^ (x (nn Q)) % 6 :=
  ⟨fun h => h.2.2.2.1 rfl, fun h => ⟨fun e => absurd e (by decide), fun e => absurd e (by decide), fun e => absurd e (by decide), fun _ => h, fun e => absurd e (by decide), fun e => absurd e (by decide), fun e => absurd e (by decide), fun e => absurd e (by decide), fun e => absurd e (by decide)⟩⟩
theorem hs_4 {P Q R : Int32} {x : Nat → Nat} : hs 4 P Q R x ↔ x (nn P) * x (nn Q) = x (nn R) :=
  ⟨fun h => h.2.2.2.2.1 rfl, fun h => ⟨fun e => absurd e (by decide), fun e => absurd e (by decide), fun e => absurd e (by decide), fun e => absurd e (by decide), fun _ => h, fun e => absurd e (by decide), fun e => absurd e (by decide), fun e => absurd e (by decide), fun e => absurd e (by decide)⟩⟩
theorem hs_5 {P Q R : Int32} {x : Nat → Nat} : hs 5 P Q R x ↔ (x (nn P / 6) = nn P % 6 ↔ nn Q % 6 ≤ x (nn Q / 6)) :=
  ⟨fun h => h.2.2.2.2.2.1 rfl, fun h => ⟨fun e => absurd e (by decide), fun e => absurd e (by decide), fun e => absurd e (by decide), fun e => absurd e (by decide), fun e => absurd e (by decide), fun _ => h, fun e => absurd e (by decide), fun e => absurd e (by decide), fun e => absurd e (by decide)⟩⟩
theorem hs_6 {P Q R : Int32} {x : Nat → Nat} : hs 6 P Q R x ↔ (nn R + x (nn Q) ≤ x (nn P) ∨ nn R + x (nn P) ≤ x (nn Q)) :=
  ⟨fun h => h.2.2.2.2.2.2.1 rfl, fun h => ⟨fun e => absurd e (by decide), fun e => absurd e (by decide), fun e => absurd e (by decide), fun e => absurd e (by decide), fun e => absurd e (by decide), fun e => absurd e (by decide), fun _ => h, fun e => absurd e (by decide), fun e => absurd e (by decide)⟩⟩
theorem hs_7 {P Q R : Int32} {x : Nat → Nat} : hs 7 P Q R x ↔ hm (nn P) (nn R) x 4 = nn Q :=
  ⟨fun h => h.2.2.2.2.2.2.2.1 rfl, fun h => ⟨fun e => absurd e (by decide), fun e => absurd e (by decide), fun e => absurd e (by decide), fun e => absurd e (by decide), fun e => absurd e (by decide), fun e => absurd e (by decide), fun e => absurd e (by decide), fun _ => h, fun e => absurd e (by decide)⟩⟩
theorem hs_8 {P Q R : Int32} {x : Nat → Nat} : hs 8 P Q R x ↔ (x (nn P) < x (nn Q) ∨ (x (nn P) = x (nn Q) ∧ x (nn R % 4) ≤ x (nn R / 4))) :=
  ⟨fun h => h.2.2.2.2.2.2.2.2 rfl, fun h => ⟨fun e => absurd e (by decide), fun e => absurd e (by decide), fun e => absurd e (by decide), fun e => absurd e (by decide), fun e => absurd e (by decide), fun e => absurd e (by decide), fun e => absurd e (by decide), fun e => absurd e (by decide), fun _ => h⟩⟩
/-! operands that fit: listed kinds, and all -/
def FL (K P Q R : Int32) : Prop :=
  (K = 3 ∧ ∃ p q r : Nat, p ≤ 3 ∧ q ≤ 3 ∧ r ≤ 46655 ∧ P = nI p ∧ Q = nI q ∧ R = nI r) ∨
  (K = 4 ∧ ∃ p q r : Nat, p ≤ 3 ∧ q ≤ 3 ∧ r ≤ 3 ∧ P = nI p ∧ Q = nI q ∧ R = nI r) ∨
  (K = 5 ∧ ∃ p q : Nat, p ≤ 23 ∧ q ≤ 23 ∧ P = nI p ∧ Q = nI q) ∨
  (K = 6 ∧ ∃ p q r : Nat, p ≤ 3 ∧ q ≤ 3 ∧ r ≤ 5 ∧ P = nI p ∧ Q = nI q ∧ R = nI r) ∨
  (K = 8 ∧ ∃ p q r : Nat, p ≤ 3 ∧ q ≤ 3 ∧ r ≤ 15 ∧ P = nI p ∧ Q = nI q ∧ R = nI r)
def FT (K P Q R : Int32) : Prop :=
  ((K = 0 ∨ K = 1) ∧ ∃ p : Nat, p ≤ 2400 ∧ P = nI p ∧ -60 ≤ Q.toInt ∧ Q.toInt ≤ 60) ∨
  (K = 2 ∧ ∃ p : Nat, p ≤ 15 ∧ P = nI p) ∨
  (K = 7 ∧ ∃ p q r : Nat, p ≤ 15 ∧ q ≤ 4 ∧ r ≤ 5 ∧ P = nI p ∧ Q = nI q ∧ R = nI r) ∨
  FL K P Q R
/-- how many variables a listed constraint names, and which -/
def lc (K : Int32) : Nat := if K = 4 then 3 else if K = 8 then 4 else 2
def ej (K P Q R : Int32) (k : Nat) : Nat :=
  if k = 0 then (if K = 5 then nn P / 6 else nn P) else if k = 1 then (if K = 5 then nn Q / 6 else nn Q) else
  if k = 2 then (if K = 8 then nn R % 4 else nn R) else nn R / 4
theorem lc_le (K : Int32) : lc K ≤ 4 := by unfold lc; split <;> (try split) <;> omega
theorem ej_lt {K P Q R : Int32} (h : FL K P Q R) : ∀ k, k < lc K → ej K P Q R k < 4 := by
  rcases h with ⟨rfl, p, q, r, hp, hq, hr, rfl, rfl, rfl⟩ | ⟨rfl, p, q, r, hp, hq, hr, rfl, rfl, rfl⟩ | ⟨rfl, p, q, hp, hq, rfl, rfl⟩ | ⟨rfl, p, q, r, hp, hq, hr, rfl, rfl, rfl⟩ | ⟨rfl, p, q, r, hp, hq, hr, rfl, rfl, rfl⟩
  · intro k hk
    have hk2 : k < 2 := hk
    have h01 : k = 0 ∨ k = 1 := by omega
    rcases h01 with rfl | rfl
    · show nn (nI p) < 4
      rw [nn_n (by omega)]; omega
    · show nn (nI q) < 4
      rw [nn_n (by omega)]; omega
  · intro k hk
    have hk2 : k < 3 := hk
    have h01 : k = 0 ∨ k = 1 ∨ k = 2 := by omega
    rcases h01 with rfl | rfl | rfl
    · show nn (nI p) < 4
      rw [nn_n (by omega)]; omega
    · show nn (nI q) < 4
      rw [nn_n (by omega)]; omega
    · show nn (nI r) < 4
      rw [nn_n (by omega)]; omega
  · intro k hk
    have hk2 : k < 2 := hk
    have h01 : k = 0 ∨ k = 1 := by omega
    rcases h01 with rfl | rfl
    · show nn (nI p) / 6 < 4
      rw [nn_n (by omega)]; omega
    · show nn (nI q) / 6 < 4
      rw [nn_n (by omega)]; omega
  · intro k hk
    have hk2 : k < 2 := hk
    have h01 : k = 0 ∨ k = 1 := by omega
    rcases h01 with rfl | rfl
    · show nn (nI p) < 4
      rw [nn_n (by omega)]; omega
    · show nn (nI q) < 4
      rw [nn_n (by omega)]; omega
  · intro k hk
    have hk2 : k < 4 := hk
    rcases z4c hk2 with rfl | rfl | rfl | rfl
    · show nn (nI p) < 4
      rw [nn_n (by omega)]; omega
    · show nn (nI q) < 4
      rw [nn_n (by omega)]; omega
    · show nn (nI r) % 4 < 4
      omega
    · show nn (nI r) / 4 < 4
      rw [nn_n (by omega)]; omega
theorem hs_loc {K P Q R : Int32} {x y : Nat → Nat} (h : FL K P Q R) (e : ∀ k, k < lc K → x (ej K P Q R k) = y (ej K P Q R k)) : hs K P Q R x ↔ hs K P Q R y := by
  rcases h with ⟨rfl, -⟩ | ⟨rfl, -⟩ | ⟨rfl, -⟩ | ⟨rfl, -⟩ | ⟨rfl, -⟩
  · have e0 : x (nn P) = y (nn P) := e 0 (by decide)
    have e1 : x (nn Q) = y (nn Q) := e 1 (by decide)
    rw [hs_3, hs_3, e0, e1]
  · have e0 : x (nn P) = y (nn P) := e 0 (by decide)
    have e1 : x (nn Q) = y (nn Q) := e 1 (by decide)
    have e2 : x (nn R) = y (nn R) := e 2 (by decide)
    rw [hs_4, hs_4, e0, e1, e2]
  · have e0 : x (nn P / 6) = y (nn P / 6) := e 0 (by decide)
    have e1 : x (nn Q / 6) = y (nn Q / 6) := e 1 (by decide)
    rw [hs_5, hs_5, e0, e1]
  · have e0 : x (nn P) = y (nn P) := e 0 (by decide)
    have e1 : x (nn Q) = y (nn Q) := e 1 (by decide)
    rw [hs_6, hs_6, e0, e1]
  · have e0 : x (nn P) = y (nn P) := e 0 (by decide)
    have e1 : x (nn Q) = y (nn Q) := e 1 (by decide)
    have e2 : x (nn R % 4) = y (nn R % 4) := e 2 (by decide)
    have e3 : x (nn R / 4) = y (nn R / 4) := e 3 (by decide)
    rw [hs_8, hs_8, e0, e1, e2, e3]
/-! the same values below 4: the same meaning -/
theorem ps_ext {w : Nat → Int} {x y : Nat → Nat} : ∀ i, (∀ v, v < i → x v = y v) → ps w x i = ps w y i
  | 0, _ => rfl
  | i + 1, h => by
    show ps w x i + w i * (x i : Int) = ps w y i + w i * (y i : Int)
    rw [ps_ext i (fun v hv => h v (by omega)), h i (by omega)]
theorem ps_extw {w z : Nat → Int} {x : Nat → Nat} : ∀ i, (∀ v, v < i → w v = z v) → ps w x i = ps z x i
  | 0, _ => rfl
  | i + 1, h => by
    show ps w x i + w i * (x i : Int) = ps z x i + z i * (x i : Int)
    rw [ps_extw i (fun v hv => h v (by omega)), h i (by omega)]
theorem hm_ext {p r : Nat} {x y : Nat → Nat} : ∀ i, (∀ v, v < i → p.testBit v = true → x v = y v) → hm p r x i = hm p r y i
  | 0, _ => rfl
  | i + 1, h => by
    show hm p r x i + ib _ = hm p r y i + ib _
    rw [hm_ext i (fun v hv => h v (by omega))]
    congr 1
    apply ib_c
    constructor
    · intro a
      exact ⟨a.1, by rw [← h i (by omega) a.1]; exact a.2⟩
    · intro a
      exact ⟨a.1, by rw [h i (by omega) a.1]; exact a.2⟩
theorem sn_ext {p : Nat} {x y : Nat → Nat} : ∀ i, (∀ v, v < i → p.testBit v = true → x v = y v) → sn p x i = sn p y i
  | 0, _ => rfl
  | i + 1, h => by
    show (if _ then _ else _) = (if _ then _ else _)
    rw [sn_ext i (fun v hv => h v (by omega))]
    by_cases hb : p.testBit i = true
    · rw [if_pos hb, if_pos hb, h i (by omega) hb]
    · rw [if_neg hb, if_neg hb]
theorem df_ext {p : Nat} {x y : Nat → Nat} {i : Nat} (h : ∀ v, v < i → p.testBit v = true → x v = y v) (d : df p x i) : df p y i := by
  intro v hv w hw bv bw
  rw [← h v hv bv, ← h w (by omega) bw]
  exact d v hv w hw bv bw
theorem hs_ext {K P Q R : Int32} {x y : Nat → Nat} (h : FT K P Q R) (e : ∀ v, v < 4 → x v = y v) : hs K P Q R x ↔ hs K P Q R y := by
  rcases h with ⟨hk, -⟩ | ⟨hk, -⟩ | ⟨hk, -⟩ | h
  · rcases hk with rfl | rfl
    · rw [hs_0, hs_0, ps_ext 4 e]
    · rw [hs_1, hs_1, ps_ext 4 e]
  · subst hk
    rw [hs_2, hs_2]
    exact ⟨df_ext (fun v hv _ => e v hv), df_ext (fun v hv _ => (e v hv).symm)⟩
  · subst hk
    rw [hs_7, hs_7, hm_ext 4 (fun v hv _ => e v hv)]
  · exact hs_loc h (fun k hk => e _ (ej_lt h k hk))
/-! bounds -/
theorem dg_bd (p v : Nat) : -3 ≤ dg p v ∧ dg p v ≤ 3 := by
  unfold dg
  have : p / 7 ^ v % 7 < 7 := Nat.mod_lt _ (by decide)
  omega
theorem mul_bd {d : Int} {x : Nat} (h1 : -3 ≤ d) (h2 : d ≤ 3) (hx : x < 6) : -15 ≤ d * (x : Int) ∧ d * (x : Int) ≤ 15 := by
  have h : d = -3 ∨ d = -2 ∨ d = -1 ∨ d = 0 ∨ d = 1 ∨ d = 2 ∨ d = 3 := by omega
  rcases h with rfl | rfl | rfl | rfl | rfl | rfl | rfl <;> omega
theorem mul_mono {d : Int} {x y : Nat} (h : 0 < d) (hxy : x ≤ y) : d * (x : Int) ≤ d * (y : Int) := Int.mul_le_mul_of_nonneg_left (by omega) (by omega)
theorem mul_anti {d : Int} {x y : Nat} (h : d ≤ 0) (hxy : x ≤ y) : d * (y : Int) ≤ d * (x : Int) := Int.mul_le_mul_of_nonpos_left (by omega) (by omega)
theorem ps_bd {w : Nat → Int} {x : Nat → Nat} : ∀ i, (∀ v, v < i → -3 ≤ w v ∧ w v ≤ 3) → (∀ v, v < i → x v < 6) → -15 * (i : Int) ≤ ps w x i ∧ ps w x i ≤ 15 * (i : Int)
  | 0, _, _ => ⟨by show (-15 : Int) * 0 ≤ 0; omega, by show (0 : Int) ≤ 15 * 0; omega⟩
  | i + 1, hw, hx => by
    have h1 := ps_bd i (fun v hv => hw v (by omega)) (fun v hv => hx v (by omega))
    have h2 := mul_bd (hw i (by omega)).1 (hw i (by omega)).2 (hx i (by omega))
    show -15 * ((i + 1 : Nat) : Int) ≤ ps w x i + w i * (x i : Int) ∧ ps w x i + w i * (x i : Int) ≤ 15 * ((i + 1 : Nat) : Int)
    omega
theorem hm_le {p r : Nat} {x : Nat → Nat} : ∀ i, hm p r x i ≤ i
  | 0 => Nat.le_refl 0
  | i + 1 => by
    have h1 := hm_le (p := p) (r := r) (x := x) i
    have h2 := ib_le (p.testBit i = true ∧ x i = r)
    show hm p r x i + ib _ ≤ i + 1
    omega
theorem sn_bit {p : Nat} {x : Nat → Nat} {y : Nat} : ∀ i, (sn p x i).testBit y = true ↔ ∃ u, u < i ∧ p.testBit u = true ∧ x u = y
  | 0 => by
    show (0 : Nat).testBit y = true ↔ _
    rw [Nat.zero_testBit]
    exact ⟨fun h => absurd h (by decide), fun ⟨u, hu, _⟩ => absurd hu (by omega)⟩
  | i + 1 => by
    have ih := sn_bit (p := p) (x := x) (y := y) i
    show (if p.testBit i = true then sn p x i ||| 2 ^ x i else sn p x i).testBit y = true ↔ _
    by_cases hb : p.testBit i = true
    · rw [if_pos hb, Nat.testBit_or, Bool.or_eq_true, ih, Nat.testBit_two_pow, decide_eq_true_iff]
      constructor
      · rintro (⟨u, hu, h1, h2⟩ | h)
        · exact ⟨u, by omega, h1, h2⟩
        · exact ⟨i, by omega, hb, h⟩
      · rintro ⟨u, hu, h1, h2⟩
        by_cases e : u = i
        · subst e; exact Or.inr h2
        · exact Or.inl ⟨u, by omega, h1, h2⟩
    · rw [if_neg hb, ih]
      constructor
      · rintro ⟨u, hu, h1, h2⟩
        exact ⟨u, by omega, h1, h2⟩
      · rintro ⟨u, hu, h1, h2⟩
        by_cases e : u = i
        · subst e; exact absurd h1 hb
        · exact ⟨u, by omega, h1, h2⟩
theorem sn_lt {p : Nat} {x : Nat → Nat} : ∀ i, (∀ v, v < i → p.testBit v = true → x v < 6) → sn p x i < 64
  | 0, _ => by show (0 : Nat) < 64; omega
  | i + 1, h => by
    have ih := sn_lt (p := p) (x := x) i (fun v hv => h v (by omega))
    show (if p.testBit i = true then sn p x i ||| 2 ^ x i else sn p x i) < 64
    by_cases hb : p.testBit i = true
    · rw [if_pos hb]
      have h6 : 2 ^ x i < 2 ^ 6 := Nat.pow_lt_pow_right (by decide) (h i (by omega) hb)
      exact Nat.or_lt_two_pow (n := 6) ih h6
    · rw [if_neg hb]; exact ih
theorem df_step {p : Nat} {x : Nat → Nat} {i : Nat} (h : df p x i) (hi : p.testBit i = true → (sn p x i).testBit (x i) = false) : df p x (i + 1) := by
  intro v hv w hw bv bw e
  by_cases ev : v = i
  · subst ev
    have := (sn_bit (p := p) (x := x) (y := x v) v).mpr ⟨w, hw, bw, e.symm⟩
    rw [hi bv] at this
    exact absurd this (by decide)
  · exact h v (by omega) w hw bv bw e
theorem df_bad {p : Nat} {x : Nat → Nat} {i : Nat} (hb : p.testBit i = true) (hs : (sn p x i).testBit (x i) = true) {j : Nat} (hj : i < j) : ¬ df p x j := by
  intro h
  obtain ⟨u, hu, bu, e⟩ := (sn_bit (p := p) (x := x) (y := x i) i).mp hs
  exact h i hj u hu hb bu e.symm
/-! assignments by number, boxes, solutions -/
def av (a v : Nat) : Nat := a / 6 ^ (3 - v) % 6
theorem av_lt (a v : Nat) : av a v < 6 := Nat.mod_lt _ (by decide)
theorem av_0 (a : Nat) : av a 0 = a / 216 % 6 := rfl
theorem av_1 (a : Nat) : av a 1 = a / 36 % 6 := rfl
theorem av_2 (a : Nat) : av a 2 = a / 6 % 6 := rfl
theorem av_3 (a : Nat) : av a 3 = a % 6 := by show a / 1 % 6 = _; rw [Nat.div_one]
theorem av_eq {a : Nat} (h : a < 1296) : a = 216 * av a 0 + 36 * av a 1 + 6 * av a 2 + av a 3 := by
  rw [av_0, av_1, av_2, av_3]; omega
theorem av_of {x0 x1 x2 x3 : Nat} (h0 : x0 < 6) (h1 : x1 < 6) (h2 : x2 < 6) (h3 : x3 < 6) :
    av (216 * x0 + 36 * x1 + 6 * x2 + x3) 0 = x0 ∧ av (216 * x0 + 36 * x1 + 6 * x2 + x3) 1 = x1 ∧ av (216 * x0 + 36 * x1 + 6 * x2 + x3) 2 = x2 ∧ av (216 * x0 + 36 * x1 + 6 * x2 + x3) 3 = x3 := by
  rw [av_0, av_1, av_2, av_3]; omega
def nu (x : Nat → Nat) : Nat := 216 * x 0 + 36 * x 1 + 6 * x 2 + x 3
theorem nu_lt {x : Nat → Nat} (h : ∀ v, v < 4 → x v < 6) : nu x < 1296 := by
  have := h 0 (by omega); have := h 1 (by omega); have := h 2 (by omega); have := h 3 (by omega)
  unfold nu; omega
theorem nu_av {x : Nat → Nat} (h : ∀ v, v < 4 → x v < 6) : ∀ v, v < 4 → av (nu x) v = x v := by
  have := av_of (h 0 (by omega)) (h 1 (by omega)) (h 2 (by omega)) (h 3 (by omega))
  exact z4 this.1 this.2.1 this.2.2.1 this.2.2.2
def IB (m : Nat → Nat) (x : Nat → Nat) : Prop := ∀ v, v < 4 → (m v).testBit (x v) = true
def HA (n rl : Nat) (K P Q R : Nat → Int32) (x : Nat → Nat) : Prop := ∀ i, i < n → rl.testBit i = true → hs (K i) (P i) (Q i) (R i) x
theorem HA_ext {n rl : Nat} {K P Q R : Nat → Int32} {x y : Nat → Nat} (h : ∀ i, i < n → FT (K i) (P i) (Q i) (R i)) (e : ∀ v, v < 4 → x v = y v) (hx : HA n rl K P Q R x) : HA n rl K P Q R y :=
  fun i hi hb => (hs_ext (h i hi) e).mp (hx i hi hb)
theorem IB_ext {m x y : Nat → Nat} (e : ∀ v, v < 4 → x v = y v) (h : IB m x) : IB m y := fun v hv => by rw [← e v hv]; exact h v hv
theorem IB_lt {m x : Nat → Nat} (hm : ∀ v, v < 4 → m v < 64) (h : IB m x) : ∀ v, v < 4 → x v < 6 := fun v hv => zm_lt (hm v hv) (h v hv)
end
section
/-! finite sums and what is still to be counted -/
def sN : Nat → (Nat → Nat) → Nat
  | 0, _ => 0
  | n + 1, f => sN n f + f n
theorem sN_c {f g : Nat → Nat} : ∀ n, (∀ a, a < n → f a = g a) → sN n f = sN n g
  | 0, _ => rfl
  | n + 1, h => by
    show sN n f + f n = sN n g + g n
    rw [sN_c n (fun a ha => h a (by omega)), h n (by omega)]
theorem sN_add {f g : Nat → Nat} : ∀ n, sN n (fun a => f a + g a) = sN n f + sN n g
  | 0 => rfl
  | n + 1 => by
    show sN n (fun a => f a + g a) + (f n + g n) = (sN n f + f n) + (sN n g + g n)
    rw [sN_add n]; omega
theorem sN_0 {f : Nat → Nat} : ∀ n, (∀ a, a < n → f a = 0) → sN n f = 0
  | 0, _ => rfl
  | n + 1, h => by
    show sN n f + f n = 0
    rw [sN_0 n (fun a ha => h a (by omega)), h n (by omega)]
theorem sN_le {f g : Nat → Nat} : ∀ n, (∀ a, a < n → f a ≤ g a) → sN n f ≤ sN n g
  | 0, _ => Nat.le_refl 0
  | n + 1, h => Nat.add_le_add (sN_le n (fun a ha => h a (by omega))) (h n (by omega))
theorem sN_le1 {f : Nat → Nat} : ∀ n, (∀ a, a < n → f a ≤ 1) → sN n f ≤ n
  | 0, _ => Nat.le_refl 0
  | n + 1, h => Nat.add_le_add (sN_le1 n (fun a ha => h a (by omega))) (h n (by omega))
theorem sN_one {f : Nat → Nat} {b : Nat} : ∀ n, b < n → (∀ a, a < n → a ≠ b → f a = 0) → sN n f = f b
  | 0, hb, _ => absurd hb (by omega)
  | n + 1, hb, h => by
    show sN n f + f n = f b
    by_cases e : b = n
    · subst e
      rw [sN_0 b (fun a ha => h a (by omega) (by omega))]; omega
    · rw [sN_one n (by omega) (fun a ha hne => h a (by omega) hne), h n (by omega) (fun q => e q.symm)]; omega
theorem sN_pos {f : Nat → Nat} {b : Nat} : ∀ n, b < n → f b ≤ sN n f
  | 0, hb => absurd hb (by omega)
  | n + 1, hb => by
    show f b ≤ sN n f + f n
    by_cases e : b = n
    · subst e; omega
    · have := sN_pos (f := f) (b := b) n (by omega)
      omega
theorem sN_ex {f : Nat → Nat} : ∀ n, 0 < sN n f → ∃ a, a < n ∧ 0 < f a
  | 0, h => absurd h (by show ¬ 0 < 0; omega)
  | n + 1, h => by
    by_cases e : 0 < f n
    · exact ⟨n, by omega, e⟩
    · have h' : 0 < sN n f + f n := h
      obtain ⟨a, ha, h2⟩ := sN_ex n (f := f) (by omega)
      exact ⟨a, by omega, h2⟩
theorem sN_mul {f : Nat → Nat} (c : Nat) : ∀ n, sN n (fun a => c * f a) = c * sN n f
  | 0 => rfl
  | n + 1 => by
    show sN n (fun a => c * f a) + c * f n = c * (sN n f + f n)
    rw [sN_mul c n, Nat.mul_add]
/-- by sixes -/
theorem sN_6 {f : Nat → Nat} : ∀ n, sN (6 * n) f = sN n (fun b => sN 6 (fun x => f (6 * b + x)))
  | 0 => rfl
  | n + 1 => by
    show sN (6 * n + 6) f = sN n (fun b => sN 6 (fun x => f (6 * b + x))) + sN 6 (fun x => f (6 * n + x))
    rw [← sN_6 n]
    show sN (6 * n) f + f (6 * n) + f (6 * n + 1) + f (6 * n + 2) + f (6 * n + 3) + f (6 * n + 4) + f (6 * n + 5) = sN (6 * n) f + (0 + f (6 * n) + f (6 * n + 1) + f (6 * n + 2) + f (6 * n + 3) + f (6 * n + 4) + f (6 * n + 5))
    omega
theorem sN_1296 {f : Nat → Nat} : sN 1296 f = sN 6 (fun x0 => sN 6 (fun x1 => sN 6 (fun x2 => sN 6 (fun x3 => f (216 * x0 + 36 * x1 + 6 * x2 + x3))))) := by
  have e1 : sN 1296 f = sN 216 (fun b => sN 6 (fun x => f (6 * b + x))) := sN_6 216
  have e2 : sN 216 (fun b => sN 6 (fun x => f (6 * b + x))) = sN 36 (fun b => sN 6 (fun y => sN 6 (fun x => f (6 * (6 * b + y) + x)))) := sN_6 36
  have e3 : sN 36 (fun b => sN 6 (fun y => sN 6 (fun x => f (6 * (6 * b + y) + x)))) = sN 6 (fun c => sN 6 (fun b => sN 6 (fun y => sN 6 (fun x => f (6 * (6 * (6 * c + b) + y) + x))))) := sN_6 6
  rw [e1, e2, e3]
  refine sN_c 6 (fun x0 _ => sN_c 6 (fun x1 _ => sN_c 6 (fun x2 _ => sN_c 6 (fun x3 _ => ?_))))
  exact congrArg f (by omega)
/-! solutions of a box, weighed by their sums -/
def one : Int → Nat := fun _ => 1
def dl (s : Int) : Int → Nat := fun t => if t = s then 1 else 0
theorem dl_s (s : Int) : dl s s = 1 := if_pos rfl
theorem dl_n {s t : Int} (h : t ≠ s) : dl s t = 0 := if_neg h
theorem dl_le (s t : Int) : dl s t ≤ 1 := by unfold dl; split <;> omega
noncomputable def CB (H : (Nat → Nat) → Prop) (w : Nat → Int) (m : Nat → Nat) (h : Int → Nat) : Nat :=
  sN 1296 (fun a => iz (IB m (av a) ∧ H (av a)) (h (ps w (av a) 4)) 0)
theorem CB_0 {H : (Nat → Nat) → Prop} {w : Nat → Int} {m : Nat → Nat} {h : Int → Nat} (hn : ∀ x, (∀ v, v < 4 → x v < 6) → IB m x → ¬ H x) : CB H w m h = 0 :=
  sN_0 1296 (fun a _ => iz_f (fun q => hn (av a) (fun v _ => av_lt a v) q.1 q.2))
theorem CB_c {H : (Nat → Nat) → Prop} {w : Nat → Int} {m m' : Nat → Nat} {h : Int → Nat} (e : ∀ x, (∀ v, v < 4 → x v < 6) → H x → (IB m x ↔ IB m' x)) : CB H w m h = CB H w m' h := by
  refine sN_c 1296 (fun a _ => ?_)
  by_cases q : IB m (av a) ∧ H (av a)
  · rw [iz_t q, iz_t ⟨(e (av a) (fun v _ => av_lt a v) q.2).mp q.1, q.2⟩]
  · rw [iz_f q, iz_f (fun q' => q ⟨(e (av a) (fun v _ => av_lt a v) q'.2).mpr q'.1, q'.2⟩)]
def uN4 (m : Nat → Nat) (b z : Nat) : Nat → Nat := fun v => if v = b then z else m v
theorem uN4_s {m : Nat → Nat} {b z : Nat} : uN4 m b z b = z := if_pos rfl
theorem uN4_n {m : Nat → Nat} {b z v : Nat} (h : v ≠ b) : uN4 m b z v = m v := if_neg h
theorem IB_u {m x : Nat → Nat} {b z : Nat} (hb : b < 4) : IB (uN4 m b z) x ↔ (z.testBit (x b) = true ∧ ∀ v, v < 4 → v ≠ b → (m v).testBit (x v) = true) := by
  constructor
  · intro h
    refine ⟨?_, fun v hv hn => ?_⟩
    · have := h b hb; rw [uN4_s] at this; exact this
    · have := h v hv; rw [uN4_n hn] at this; exact this
  · intro h v hv
    by_cases e : v = b
    · subst e; rw [uN4_s]; exact h.1
    · rw [uN4_n e]; exact h.2 v hv e
theorem CB_split {H : (Nat → Nat) → Prop} {w : Nat → Int} {m : Nat → Nat} {h : Int → Nat} {b r l : Nat} (hb : b < 4)
    (e : ∀ x, x < 6 → ((m b).testBit x = true ↔ (r.testBit x = true ∨ l.testBit x = true)) ∧ ¬ (r.testBit x = true ∧ l.testBit x = true)) :
    CB H w m h = CB H w (uN4 m b r) h + CB H w (uN4 m b l) h := by
  unfold CB
  rw [← sN_add]
  refine sN_c 1296 (fun a _ => ?_)
  have eb := e (av a b) (av_lt a b)
  by_cases hH : H (av a)
  · by_cases q : IB m (av a)
    · rw [iz_t ⟨q, hH⟩]
      rcases eb.1.mp (q b hb) with h1 | h1
      · rw [iz_t ⟨(IB_u hb).mpr ⟨h1, fun v hv _ => q v hv⟩, hH⟩, iz_f (fun q' => eb.2 ⟨h1, ((IB_u hb).mp q'.1).1⟩)]
        omega
      · rw [iz_t (p := IB (uN4 m b l) (av a) ∧ H (av a)) ⟨(IB_u hb).mpr ⟨h1, fun v hv _ => q v hv⟩, hH⟩, iz_f (fun q' => eb.2 ⟨((IB_u hb).mp q'.1).1, h1⟩)]
        omega
    · rw [iz_f (fun z => q z.1), iz_f, iz_f]
      · intro z
        refine q (fun v hv => ?_)
        have := (IB_u hb).mp z.1
        by_cases ev : v = b
        · subst ev; exact eb.1.mpr (Or.inr this.1)
        · exact this.2 v hv ev
      · intro z
        refine q (fun v hv => ?_)
        have := (IB_u hb).mp z.1
        by_cases ev : v = b
        · subst ev; exact eb.1.mpr (Or.inl this.1)
        · exact this.2 v hv ev
  · rw [iz_f (fun z => hH z.2), iz_f (fun z => hH z.2), iz_f (fun z => hH z.2)]
theorem CB_one {H : (Nat → Nat) → Prop} {w : Nat → Int} {m y : Nat → Nat} {h : Int → Nat} (hy : ∀ v, v < 4 → y v < 6) (hm : IB m y) (hu : ∀ x, IB m x → ∀ v, v < 4 → x v = y v)
    (hx : ∀ x, (∀ v, v < 4 → x v = y v) → (H x ↔ H y)) : CB H w m h = iz (H y) (h (ps w y 4)) 0 := by
  unfold CB
  rw [sN_one 1296 (nu_lt hy)]
  · have e := nu_av hy
    rw [ps_ext 4 e]
    by_cases q : H y
    · rw [iz_t q, iz_t ⟨IB_ext (fun v hv => (e v hv).symm) hm, (hx _ e).mpr q⟩]
    · rw [iz_f q, iz_f (fun z => q ((hx _ e).mp z.2))]
  · intro a ha hne
    refine iz_f (fun z => hne ?_)
    have e := hu _ z.1
    rw [av_eq ha, e 0 (by omega), e 1 (by omega), e 2 (by omega), e 3 (by omega)]
    rfl
theorem CB_le {H : (Nat → Nat) → Prop} {w : Nat → Int} {m : Nat → Nat} {h : Int → Nat} (hh : ∀ t, h t ≤ 1) : CB H w m h ≤ 1296 := by
  refine sN_le1 1296 (fun a _ => ?_)
  by_cases q : IB m (av a) ∧ H (av a)
  · rw [iz_t q]; exact hh _
  · rw [iz_f q]; omega
/-- some solution -/
theorem CB_ex {H : (Nat → Nat) → Prop} {w : Nat → Int} {m : Nat → Nat} {h : Int → Nat} (hp : 0 < CB H w m h) : ∃ a, a < 1296 ∧ IB m (av a) ∧ H (av a) ∧ 0 < h (ps w (av a) 4) := by
  obtain ⟨a, ha, q⟩ := sN_ex 1296 hp
  by_cases z : IB m (av a) ∧ H (av a)
  · rw [iz_t z] at q; exact ⟨a, ha, z.1, z.2, q⟩
  · rw [iz_f z] at q; exact absurd q (by omega)
theorem CB_pos {H : (Nat → Nat) → Prop} {w : Nat → Int} {m : Nat → Nat} {h : Int → Nat} {a : Nat} (ha : a < 1296) (h1 : IB m (av a)) (h2 : H (av a)) : h (ps w (av a) 4) ≤ CB H w m h := by
  have := sN_pos (f := fun a => iz (IB m (av a) ∧ H (av a)) (h (ps w (av a) 4)) 0) (b := a) 1296 ha
  have e : iz (IB m (av a) ∧ H (av a)) (h (ps w (av a) 4)) 0 = h (ps w (av a) 4) := iz_t ⟨h1, h2⟩
  rw [← e]
  exact this
/-! the account: A of all, R of what remains, the total and the best sum so far -/
def Ac (what : Nat) (A R : (Int → Nat) → Nat) (tot : Nat) (b : Int) : Prop :=
  (what = 2 → (∀ s, s < b → R (dl s) = A (dl s)) ∧ tot + R (dl b) = A (dl b) ∧ ((b = 1000 ∧ tot = 0) ∨ (-60 ≤ b ∧ b ≤ 60 ∧ 0 < tot))) ∧
  (what ≠ 2 → tot + R one = A one)
def Sp (what : Nat) (A : (Int → Nat) → Nat) (tot : Nat) (b : Int) : Prop :=
  (what = 0 → (0 < tot ↔ 0 < A one) ∧ tot ≤ A one) ∧ (what = 1 → tot = A one) ∧
  (what = 2 → (∀ s, s < b → A (dl s) = 0) ∧ tot = A (dl b) ∧ ((b = 1000 ∧ tot = 0) ∨ (-60 ≤ b ∧ b ≤ 60 ∧ 0 < tot)))
theorem Ac_0 {what : Nat} {A : (Int → Nat) → Nat} : Ac what A A 0 1000 :=
  ⟨fun _ => ⟨fun _ _ => rfl, Nat.zero_add _, Or.inl ⟨rfl, rfl⟩⟩, fun _ => Nat.zero_add _⟩
theorem Ac_c {what : Nat} {A R R' : (Int → Nat) → Nat} {tot : Nat} {b : Int} (h : Ac what A R tot b) (e : ∀ f, R f = R' f) : Ac what A R' tot b :=
  ⟨fun w => ⟨fun s hs => by rw [← e]; exact (h.1 w).1 s hs, by rw [← e]; exact (h.1 w).2.1, (h.1 w).2.2⟩, fun w => by rw [← e]; exact h.2 w⟩
theorem Ac_end {what : Nat} {A R : (Int → Nat) → Nat} {tot : Nat} {b : Int} (h : Ac what A R tot b) (e : ∀ f, R f = 0) : Sp what A tot b := by
  refine ⟨fun w => ?_, fun w => ?_, fun w => ?_⟩
  · have := h.2 (by omega)
    rw [e] at this
    omega
  · have := h.2 (by omega)
    rw [e] at this
    omega
  · obtain ⟨h1, h2, h3⟩ := h.1 w
    refine ⟨fun s hs => ?_, ?_, h3⟩
    · rw [← h1 s hs]; exact e _
    · rw [e] at h2; omega
theorem Ac_some {A R : (Int → Nat) → Nat} {tot : Nat} {b : Int} (h : Ac 0 A R tot b) (ht : 0 < tot) : Sp 0 A tot b := by
  have := h.2 (by omega)
  exact ⟨fun _ => ⟨⟨fun _ => by omega, fun _ => ht⟩, by omega⟩, fun w => absurd w (by omega), fun w => absurd w (by omega)⟩
/-- a group with the smallest sum s, c of which have it -/
theorem Ac_grp {what : Nat} {A R R' g : (Int → Nat) → Nat} {tot c : Nat} {b s : Int} (h : Ac what A R tot b) (e : ∀ f, R f = R' f + g f) (hw : what = 2) (g1 : ∀ t, t < s → g (dl t) = 0) (g2 : g (dl s) = c) (hc : 0 < c) (hs : -60 ≤ s) (hs' : s ≤ 60) :
    (b < s → Ac what A R' tot b) ∧ (s < b → Ac what A R' c s) ∧ (s = b → Ac what A R' (tot + c) b) := by
  obtain ⟨h1, h2, h3⟩ := h.1 hw
  refine ⟨fun hb => ⟨fun _ => ⟨fun t ht => ?_, ?_, h3⟩, fun w => absurd hw w⟩, fun hb => ⟨fun _ => ⟨fun t ht => ?_, ?_, Or.inr ⟨hs, hs', hc⟩⟩, fun w => absurd hw w⟩, fun hb => ⟨fun _ => ⟨fun t ht => ?_, ?_, ?_⟩, fun w => absurd hw w⟩⟩
  · have := h1 t ht
    rw [e, g1 t (by omega)] at this
    omega
  · rw [e, g1 b hb] at h2
    omega
  · have := h1 t (by omega)
    rw [e, g1 t ht] at this
    omega
  · have := h1 s hb
    rw [e, g2] at this
    omega
  · have := h1 t ht
    rw [e, g1 t (by omega)] at this
    omega
  · subst hb
    rw [e, g2] at h2
    omega
  · subst hb
    exact Or.inr ⟨hs, hs', by omega⟩
theorem Ac_cnt {what : Nat} {A R R' g : (Int → Nat) → Nat} {tot : Nat} {b b' : Int} (h : Ac what A R tot b) (e : ∀ f, R f = R' f + g f) (hw : what ≠ 2) : Ac what A R' (tot + g one) b' := by
  refine ⟨fun w => absurd w hw, fun _ => ?_⟩
  have := h.2 hw
  rw [e] at this
  omega
theorem Ac_prune {what : Nat} {A R R' g : (Int → Nat) → Nat} {tot : Nat} {b : Int} (h : Ac what A R tot b) (e : ∀ f, R f = R' f + g f) (hw : what = 2) (g1 : ∀ t, t ≤ b → g (dl t) = 0) : Ac what A R' tot b := by
  obtain ⟨h1, h2, h3⟩ := h.1 hw
  refine ⟨fun _ => ⟨fun t ht => ?_, ?_, h3⟩, fun w => absurd hw w⟩
  · have := h1 t ht
    rw [e, g1 t (by omega)] at this
    omega
  · rw [e, g1 b (by omega)] at h2
    omega
theorem Ac_bd {what : Nat} {A R : (Int → Nat) → Nat} {tot : Nat} {b : Int} (h : Ac what A R tot b) (hA : ∀ f, (∀ t, f t ≤ 1) → A f ≤ 1296) : tot ≤ 1296 := by
  by_cases w : what = 2
  · have := (h.1 w).2.1
    have := hA (dl b) (dl_le b)
    omega
  · have := h.2 w
    have := hA one (fun _ => Nat.le_refl 1)
    omega
theorem Ac_b {A R : (Int → Nat) → Nat} {tot : Nat} {b : Int} (h : Ac 2 A R tot b) : -60 ≤ b ∧ b ≤ 1000 := by
  rcases (h.1 rfl).2.2 with z | z <;> omega
theorem Sp_bd {what : Nat} {A : (Int → Nat) → Nat} {tot : Nat} {b : Int} (h : Sp what A tot b) (hw : what ≤ 2) (hA : ∀ f, (∀ t, f t ≤ 1) → A f ≤ 1296) : tot ≤ 1296 := by
  have hw' : what = 0 ∨ what = 1 ∨ what = 2 := by omega
  rcases hw' with w | w | w
  · exact Nat.le_trans (h.1 w).2 (hA one (fun _ => Nat.le_refl 1))
  · rw [h.2.1 w]; exact hA one (fun _ => Nat.le_refl 1)
  · rw [(h.2.2 w).2.1]; exact hA _ (dl_le b)
end
section
/-! small walks of X -/
section W1
variable {cC wN rU mO tO bS dE iC : Int32} {aD aK aP aQ aR aN aW aC aG aV aS aI aT aY aU aB aM aA : Nat → Int32}
theorem zu_s {s f : Nat → Int32} {i : Nat} {z : Int32} (h : ∀ v, v < i → s v = f v) (hz : z = f i) : ∀ v, v < i + 1 → upd s i z v = f v := by
  intro v hv
  by_cases e : v = i
  · subst e; rw [pk_us, hz]
  · rw [pk_un e]; exact h v (by omega)
theorem zd_r7 {a : Nat} (ha : a < 100000) : nI a - nI a / 7 * 7 = nI (a % 7) := pk_rem (d := 7) (by omega) (by decide) (by decide)
theorem zd_d7 {a : Nat} (ha : a < 100000) : nI a / 7 = nI (a / 7) := pk_div (d := 7) (by omega) (by decide) (by decide)
theorem zd_r6 {a : Nat} (ha : a < 100000) : nI a - nI a / 6 * 6 = nI (a % 6) := pk_rem (d := 6) (by omega) (by decide) (by decide)
theorem zd_d6 {a : Nat} (ha : a < 100000) : nI a / 6 = nI (a / 6) := pk_div (d := 6) (by omega) (by decide) (by decide)
theorem zd_r4 {a : Nat} (ha : a < 100000) : nI a - nI a / 4 * 4 = nI (a % 4) := pk_rem (d := 4) (by omega) (by decide) (by decide)
theorem zd_d4 {a : Nat} (ha : a < 100000) : nI a / 4 = nI (a / 4) := pk_div (d := 4) (by omega) (by decide) (by decide)
theorem zd_p7 (p i : Nat) : p / 7 ^ i / 7 = p / 7 ^ (i + 1) := by rw [Nat.div_div_eq_div_mul, Nat.pow_succ]
theorem zd_p6 (p i : Nat) : p / 6 ^ i / 6 = p / 6 ^ (i + 1) := by rw [Nat.div_div_eq_div_mul, Nat.pow_succ]
theorem zd_le (p a : Nat) : p / a ≤ p := Nat.div_le_self _ _
theorem zd_dig {p i : Nat} (hp : p ≤ 2400) : (nI (p / 7 ^ i) - nI (p / 7 ^ i) / 7 * 7) - 3 = zI (dg p i) := by
  have h := zd_le p (7 ^ i)
  rw [zd_r7 (by omega), zn_n, show (3 : Int32) = zI 3 from rfl, zn_sub]
  rfl
theorem zd_digv {p i : Nat} (hp : p ≤ 2400) : vp_nar .byte ((nI (p / 7 ^ i) - nI (p / 7 ^ i) / 7 * 7) - 3).toInt8.toInt32 = zI (dg p i) := by
  rw [zd_dig hp]
  have := dg_bd p i
  exact zb_z8 (by omega) (by omega)
theorem wx_isRule {post : Int32 → Prop} {rl i : Nat} (hr : rl < 1024) (hi : i < 10) (h : post (bI (rl.testBit i = true))) : wpX_isRule post (cC, wN, nI rl, mO, tO, bS, dE, iC, aD, aK, aP, aQ, aR, aN, aW, aC, aG, aV, aS, aI, aT, aY, aU, aB, aM, aA) (nI i) :=
  bI_br' (f := post) ((zx_b0 (by omega) (by omega)).trans (by cases rl.testBit i <;> decide)) h
theorem wx_lo {post : Int32 → Prop} {m : Nat} (hm : m < 64) (h0 : 0 < m) (h : post (nI (zlo m))) : wpX_lowestIn post (cC, wN, rU, mO, tO, bS, dE, iC, aD, aK, aP, aQ, aR, aN, aW, aC, aG, aV, aS, aI, aT, aY, aU, aB, aM, aA) (nI m) := by
  obtain ⟨hb, hl⟩ := zlo_f m hm h0
  have K : ∀ d x, x + d = zlo m → wX_lowestIn_2 post (nI m) cC wN rU mO tO bS dE iC aD aK aP aQ aR aN aW aC aG aV aS aI aT aY aU aB aM aA (d + 1) (nI x) := by
    intro d
    induction d with
    | zero =>
      intro x e
      have e' : x = zlo m := by omega
      subst e'
      exact br_f (fun z => by rw [zx_b0 (by omega) (by omega), hb] at z; exact absurd z (by decide)) h
    | succ d ih =>
      intro x e
      refine br_t ((zx_b0 (by omega) (by omega)).mpr ?_) (nm_r (nI_1 x) (ih (x + 1) (by omega)))
      cases z : m.testBit x
      · rfl
      · have := zlo_l m hm x (by omega) z
        omega
  exact ⟨_, K _ 0 (Nat.zero_add _)⟩
theorem wx_hi {post : Int32 → Prop} {m : Nat} (hm : m < 64) (h0 : 0 < m) (h : post (nI (zhi m))) : wpX_highestIn post (cC, wN, rU, mO, tO, bS, dE, iC, aD, aK, aP, aQ, aR, aN, aW, aC, aG, aV, aS, aI, aT, aY, aU, aB, aM, aA) (nI m) := by
  obtain ⟨hb, hl⟩ := zhi_f m hm h0
  have K : ∀ d x, x = zhi m + d → x < 6 → wX_highestIn_2 post (nI m) cC wN rU mO tO bS dE iC aD aK aP aQ aR aN aW aC aG aV aS aI aT aY aU aB aM aA (d + 1) (nI x) := by
    intro d
    induction d with
    | zero =>
      intro x e _
      have e' : x = zhi m := by omega
      subst e'
      exact br_f (fun z => by rw [zx_b0 (by omega) (by omega), hb] at z; exact absurd z (by decide)) h
    | succ d ih =>
      intro x e hx
      obtain ⟨y, rfl⟩ : ∃ y, x = y + 1 := ⟨x - 1, by omega⟩
      refine br_t ((zx_b0 (by omega) (by omega)).mpr ?_) (nm_r (pk_m1 y) (ih y (by omega) (by omega)))
      cases z : m.testBit (y + 1)
      · rfl
      · have := zhi_l m hm (y + 1) (by omega) z
        omega
  exact ⟨_, K (5 - zhi m) 5 (by omega) (by omega)⟩
theorem wx_ones {post : Int32 → Prop} {m : Nat} (hm : m < 64) (h : post (nI (zp m))) : wpX_onesIn post (cC, wN, rU, mO, tO, bS, dE, iC, aD, aK, aP, aQ, aR, aN, aW, aC, aG, aV, aS, aI, aT, aY, aU, aB, aM, aA) (nI m) := by
  have K : ∀ N m c, m < 64 → m < N → post (nI (c + zp m)) → wX_onesIn_4 post cC wN rU mO tO bS dE iC aD aK aP aQ aR aN aW aC aG aV aS aI aT aY aU aB aM aA N (nI c) (nI m) := by
    intro N
    induction N with
    | zero => intro m c _ hN; exact absurd hN (by omega)
    | succ N ih =>
      intro m c hm hN h
      by_cases h0 : m = 0
      · subst h0
        exact br_t rfl h
      · obtain ⟨e, hl⟩ := zp_step m hm (by omega)
        refine br_f (nI_ne0 (by omega) (by omega)) (nm_r (e' := nI (m &&& (m - 1))) ?_ (nm_r (nI_1 c) (ih _ _ (by omega) (by omega) ?_)))
        · obtain ⟨y, rfl⟩ : ∃ y, m = y + 1 := ⟨m - 1, by omega⟩
          rw [nI_pred, nx_and]
          rfl
        · rw [e] at h
          rw [show c + 1 + zp (m &&& (m - 1)) = c + (zp (m &&& (m - 1)) + 1) by omega]
          exact h
  refine ⟨m + 1, K (m + 1) m 0 hm (by omega) ?_⟩
  rw [Nat.zero_add]
  exact h
theorem wx_unpack {post : SX → Prop} {p : Nat} (hp : p ≤ 2400) (h : ∀ aG' : Nat → Int32, (∀ v, v < 4 → aG' v = zI (dg p v)) → post (cC, wN, rU, mO, tO, bS, dE, iC, aD, aK, aP, aQ, aR, aN, aW, aC, aG', aV, aS, aI, aT, aY, aU, aB, aM, aA)) : wpX_unpack post (cC, wN, rU, mO, tO, bS, dE, iC, aD, aK, aP, aQ, aR, aN, aW, aC, aG, aV, aS, aI, aT, aY, aU, aB, aM, aA) (nI p) := by
  have K : ∃ n, wX_unpack_4 post cC wN rU mO tO bS dE iC n (nI (p / 7 ^ 0)) (nI 0) aD aK aP aQ aR aN aW aC aG aV aS aI aT aY aU aB aM aA :=
    pk_loop (σ := Nat → Int32) (fun n i s => wX_unpack_4 post cC wN rU mO tO bS dE iC n (nI (p / 7 ^ i)) (nI i) aD aK aP aQ aR aN aW aC s aV aS aI aT aY aU aB aM aA) (fun i s => ∀ v, v < i → s v = zI (dg p v)) 4 0 aG (by omega) (fun v hv => absurd hv (by omega))
      (fun n s hI => br_t (nI_le (a := 4) (b := 4) (by omega) (by omega)) (h s hI))
      (fun n i s hi hI K => br_f (zc4 hi) ⟨ze7, zi4 hi, nm_r (e' := upd s i (zI (dg p i))) (by rw [zcl (by omega), zd_digv hp]) ⟨ze7, nm_r (e' := nI (p / 7 ^ (i + 1))) (by rw [zd_d7 (by have := zd_le p (7 ^ i); omega), zd_p7]) (nm_r (nI_1 i) (K _ (zu_s (f := fun v => zI (dg p v)) hI rfl)))⟩⟩)
  rw [show p / 7 ^ 0 = p from Nat.div_one p] at K
  exact K
theorem wx_sumHolds {post : Int32 → SX → Prop} {k q : Int32} {p : Nat} {x : Nat → Nat} {G : Prop} (hp : p ≤ 2400) (hx : ∀ v, v < 4 → aC v = nI (x v)) (h6 : ∀ v, v < 4 → x v < 6)
    (hk : (k = 0 ∧ (G ↔ ps (dg p) x 4 ≤ q.toInt)) ∨ (k = 1 ∧ (G ↔ ps (dg p) x 4 = q.toInt))) (h : ∀ aG', post (bI G) (cC, wN, rU, mO, tO, bS, dE, iC, aD, aK, aP, aQ, aR, aN, aW, aC, aG', aV, aS, aI, aT, aY, aU, aB, aM, aA)) : wpX_sumHolds post (cC, wN, rU, mO, tO, bS, dE, iC, aD, aK, aP, aQ, aR, aN, aW, aC, aG, aV, aS, aI, aT, aY, aU, aB, aM, aA) k (nI p) q := by
  refine wx_unpack (post := fun u => match u with | (cC, wN, rU, mO, tO, bS, dE, iC, aD, aK, aP, aQ, aR, aN, aW, aC, aG, aV, aS, aI, aT, aY, aU, aB, aM, aA) => ∃ n11 : Nat, wX_sumHolds_11 post k q cC wN rU mO tO bS dE iC aD aK aP aQ aR aN aW aC aG aV aS aI aT aY aU aB aM aA n11 0 0) hp ?_
  intro aG' hG
  have hb := ps_bd (w := dg p) (x := x) 4 (fun v _ => dg_bd p v) h6
  show ∃ n, wX_sumHolds_11 post k q cC wN rU mO tO bS dE iC aD aK aP aQ aR aN aW aC aG' aV aS aI aT aY aU aB aM aA n 0 0
  have K : ∃ n, wX_sumHolds_11 post k q cC wN rU mO tO bS dE iC aD aK aP aQ aR aN aW aC aG' aV aS aI aT aY aU aB aM aA n (zI (ps (dg p) x 0)) (nI 0) :=
    pk_loop (σ := Unit) (fun n i _ => wX_sumHolds_11 post k q cC wN rU mO tO bS dE iC aD aK aP aQ aR aN aW aC aG' aV aS aI aT aY aU aB aM aA n (zI (ps (dg p) x i)) (nI i)) (fun _ _ => True) 4 0 () (by omega) trivial
      (fun n _ _ => br_t (nI_le (a := 4) (b := 4) (by omega) (by omega)) (by
        rcases hk with ⟨rfl, e⟩ | ⟨rfl, e⟩
        · refine br_t rfl (bI_br' (f := fun r => post r (cC, wN, rU, mO, tO, bS, dE, iC, aD, aK, aP, aQ, aR, aN, aW, aC, aG', aV, aS, aI, aT, aY, aU, aB, aM, aA)) ((zn_ltr (by omega) (by omega)).trans ?_) (h aG'))
          rw [e]; omega
        · refine br_f (by decide) (bI_br (f := fun r => post r (cC, wN, rU, mO, tO, bS, dE, iC, aD, aK, aP, aQ, aR, aN, aW, aC, aG', aV, aS, aI, aT, aY, aU, aB, aM, aA)) ((zn_eqr (by omega) (by omega)).trans ?_) (h aG'))
          rw [e]))
      (fun n i _ hi _ K => br_f (zc4 hi) ⟨zi4 hi, zi4 hi, nm_r (e' := zI (ps (dg p) x (i + 1))) (by rw [zcl (by omega), hG i hi, hx i hi, zn_mulN, zn_add]; rfl) (nm_r (nI_1 i) (K () trivial))⟩)
  exact K
theorem wx_differ {post : Int32 → Prop} {p : Nat} {x : Nat → Nat} (hp : p ≤ 15) (hx : ∀ v, v < 4 → p.testBit v = true → aC v = nI (x v) ∧ x v < 6) (h : post (bI (df p x 4))) : wpX_differ post (cC, wN, rU, mO, tO, bS, dE, iC, aD, aK, aP, aQ, aR, aN, aW, aC, aG, aV, aS, aI, aT, aY, aU, aB, aM, aA) (nI p) := by
  have K : ∃ n, wX_differ_4 post (nI p) cC wN rU mO tO bS dE iC aD aK aP aQ aR aN aW aC aG aV aS aI aT aY aU aB aM aA n (nI (sn p x 0)) (nI 0) :=
    pk_loop (σ := Unit) (fun n i _ => wX_differ_4 post (nI p) cC wN rU mO tO bS dE iC aD aK aP aQ aR aN aW aC aG aV aS aI aT aY aU aB aM aA n (nI (sn p x i)) (nI i)) (fun i _ => df p x i) 4 0 () (by omega) (fun v hv => absurd hv (by omega))
      (fun n _ hI => br_t (nI_le (a := 4) (b := 4) (by omega) (by omega)) (by rw [bI_t hI] at h; exact h))
      (fun n i _ hi hI K => br_f (zc4 hi) (by
        cases hb : p.testBit i
        · refine br_t ((zx_b0 (by omega) (by omega)).mpr hb) (nm_r (nI_1 i) ?_)
          have e : sn p x (i + 1) = sn p x i := if_neg (by rw [hb]; decide)
          have := K () (df_step hI (fun z => absurd z (by rw [hb]; decide)))
          rw [e] at this
          exact this
        · obtain ⟨e1, e2⟩ := hx i hi hb
          have hsn : sn p x i < 64 := sn_lt i (fun v hv b => (hx v (by omega) b).2)
          refine br_f (fun z => by rw [zx_b0 (by omega) (by omega), hb] at z; exact absurd z (by decide)) ⟨zi4 hi, ?_⟩
          rw [zcl (by omega : i < 100000), e1]
          cases hs : (sn p x i).testBit (x i)
          · refine br_t ((zx_b0 (by omega) (by omega)).mpr hs) ⟨zi4 hi, nm_r (e' := nI (sn p x (i + 1))) ?_ (nm_r (nI_1 i) (K () (df_step hI (fun _ => hs))))⟩
            rw [zx_shl (by omega), zx_or]
            exact congrArg nI (if_pos hb).symm
          · refine br_f (fun z => by rw [zx_b0 (by omega) (by omega), hs] at z; exact absurd z (by decide)) ?_
            rw [bI_f (df_bad hb hs hi)] at h
            exact h))
  exact K
theorem wx_howMany {post : Int32 → Prop} {p r : Nat} {x : Nat → Nat} (hp : p ≤ 15) (hr : r ≤ 5) (hx : ∀ v, v < 4 → p.testBit v = true → aC v = nI (x v) ∧ x v < 6) (h : post (nI (hm p r x 4))) : wpX_howMany post (cC, wN, rU, mO, tO, bS, dE, iC, aD, aK, aP, aQ, aR, aN, aW, aC, aG, aV, aS, aI, aT, aY, aU, aB, aM, aA) (nI p) (nI r) := by
  have K : ∃ n, wX_howMany_5 post (nI p) (nI r) cC wN rU mO tO bS dE iC aD aK aP aQ aR aN aW aC aG aV aS aI aT aY aU aB aM aA n (nI (hm p r x 0)) (nI 0) :=
    pk_loop (σ := Unit) (fun n i _ => wX_howMany_5 post (nI p) (nI r) cC wN rU mO tO bS dE iC aD aK aP aQ aR aN aW aC aG aV aS aI aT aY aU aB aM aA n (nI (hm p r x i)) (nI i)) (fun i _ => True) 4 0 () (by omega) trivial
      (fun n _ hI => br_t (nI_le (a := 4) (b := 4) (by omega) (by omega)) h)
      (fun n i _ hi hI K => br_f (zc4 hi) (by
        have K' := K () trivial
        have eh : hm p r x (i + 1) = hm p r x i + ib (p.testBit i = true ∧ x i = r) := rfl
        cases hb : p.testBit i
        · refine br_t ((zx_b0 (by omega) (by omega)).mpr hb) (nm_r (nI_1 i) ?_)
          rw [ib_f (fun z => by rw [hb] at z; exact absurd z.1 (by decide)), Nat.add_zero] at eh
          rw [eh] at K'
          exact K'
        · obtain ⟨e1, e2⟩ := hx i hi hb
          refine br_f (fun z => by rw [zx_b0 (by omega) (by omega), hb] at z; exact absurd z (by decide)) ⟨zi4 hi, ?_⟩
          rw [zcl (by omega : i < 100000), e1]
          by_cases e : x i = r
          · rw [ib_t ⟨hb, e⟩] at eh
            rw [eh] at K'
            exact br_t (by rw [e]) (nm_r (nI_1 _) (nm_r (nI_1 i) K'))
          · rw [ib_f (fun z => e z.2), Nat.add_zero] at eh
            rw [eh] at K'
            exact br_f (fun z => e ((nI_eq (by omega) (by omega)).mp z)) (nm_r (nI_1 i) K')))
  exact K
theorem wx_table {post : Int32 → Prop} {r q : Nat} (hr : r ≤ 46655) (hq : q < 6) (h : post (nI (r / 6 ^ q % 6))) : wpX_tableValue post (cC, wN, rU, mO, tO, bS, dE, iC, aD, aK, aP, aQ, aR, aN, aW, aC, aG, aV, aS, aI, aT, aY, aU, aB, aM, aA) (nI r) (nI q) := by
  have K : ∃ n, wX_tableValue_5 post (nI q) cC wN rU mO tO bS dE iC aD aK aP aQ aR aN aW aC aG aV aS aI aT aY aU aB aM aA n (nI (r / 6 ^ 0)) (nI 0) :=
    pk_loop (σ := Unit) (fun n i _ => wX_tableValue_5 post (nI q) cC wN rU mO tO bS dE iC aD aK aP aQ aR aN aW aC aG aV aS aI aT aY aU aB aM aA n (nI (r / 6 ^ i)) (nI i)) (fun i _ => True) q 0 () (by omega) trivial
      (fun n _ hI => br_t (nI_le (by omega) (by omega)) ⟨ze6, by rw [zd_r6 (by have := zd_le r (6 ^ q); omega)]; exact h⟩)
      (fun n i _ hi hI K => br_f (nI_ge hi (by omega)) ⟨ze6, nm_r (e' := nI (r / 6 ^ (i + 1))) (by rw [zd_d6 (by have := zd_le r (6 ^ i); omega), zd_p6]) (nm_r (nI_1 i) (K () trivial))⟩)
  rw [show r / 6 ^ 0 = r from Nat.div_one r] at K
  exact K
end W1
end
section
/-! X: holds, the list of the variables named, all that hold, taking a solution -/
section W2
variable {cC wN rU mO tO bS dE iC : Int32} {aD aK aP aQ aR aN aW aC aG aV aS aI aT aY aU aB aM aA : Nat → Int32}
theorem zi4n {p : Nat} (h : p ≤ 3) : vp_in (nI p) 4 := vp_in_nI (by omega) (by decide)
theorem mul25 {a b : Nat} (ha : a < 6) (hb : b < 6) : a * b < 36 := Nat.lt_of_le_of_lt (Nat.mul_le_mul (by omega : a ≤ 5) (by omega : b ≤ 5)) (by decide)
theorem zn_subN (a b : Nat) : nI a - nI b = zI ((a : Int) - b) := by rw [zn_n, zn_n, zn_sub]
set_option maxHeartbeats 1600000 in
theorem wx_holdsL {post : Int32 → SX → Prop} {i : Nat} {x : Nat → Nat} (hi : i < 10) (hF : FL (aK i) (aP i) (aQ i) (aR i))
    (hx : ∀ k, k < lc (aK i) → aC (ej (aK i) (aP i) (aQ i) (aR i) k) = nI (x (ej (aK i) (aP i) (aQ i) (aR i) k)) ∧ x (ej (aK i) (aP i) (aQ i) (aR i) k) < 6)
    (h : post (bI (hs (aK i) (aP i) (aQ i) (aR i) x)) (cC, wN, rU, mO, tO, bS, dE, iC, aD, aK, aP, aQ, aR, aN, aW, aC, aG, aV, aS, aI, aT, aY, aU, aB, aM, aA)) : wpX_holds post (cC, wN, rU, mO, tO, bS, dE, iC, aD, aK, aP, aQ, aR, aN, aW, aC, aG, aV, aS, aI, aT, aY, aU, aB, aM, aA) (nI i) := by
  refine And.intro (zi10 hi) (nm_r (congrArg aK (zcl (by omega))) ⟨zi10 hi, nm_r (congrArg aP (zcl (by omega))) ⟨zi10 hi, nm_r (congrArg aQ (zcl (by omega))) ⟨zi10 hi, nm_r (congrArg aR (zcl (by omega))) ?_⟩⟩⟩)
  revert hF hx h
  generalize aK i = K
  generalize aP i = P
  generalize aQ i = Q
  generalize aR i = R
  intro hF hx h
  rcases hF with ⟨rfl, p, q, r, hp, hq, hr, rfl, rfl, rfl⟩ | ⟨rfl, p, q, r, hp, hq, hr, rfl, rfl, rfl⟩ | ⟨rfl, p, q, hp, hq, rfl, rfl⟩ | ⟨rfl, p, q, r, hp, hq, hr, rfl, rfl, rfl⟩ | ⟨rfl, p, q, r, hp, hq, hr, rfl, rfl, rfl⟩
  · have h0 : aC (nn (nI p)) = nI (x (nn (nI p))) ∧ x (nn (nI p)) < 6 := hx 0 (by decide)
    have h1 : aC (nn (nI q)) = nI (x (nn (nI q))) ∧ x (nn (nI q)) < 6 := hx 1 (by decide)
    refine br_f (by decide) (br_f (by decide) (br_f (by decide) (br_t rfl ⟨zi4n hp, zi4n hq, ?_⟩)))
    have e1 : aC (nI q).toNatClampNeg = nI (x (nn (nI q))) := h1.1
    rw [e1]
    refine wx_table hr h1.2 (bI_br (f := fun r => post r (cC, wN, rU, mO, tO, bS, dE, iC, aD, aK, aP, aQ, aR, aN, aW, aC, aG, aV, aS, aI, aT, aY, aU, aB, aM, aA)) ?_ h)
    have e0 : aC (nI p).toNatClampNeg = nI (x (nn (nI p))) := h0.1
    rw [e0, hs_3, nI_eq (by omega) (by omega), nn_n (n := r) (by omega)]
  · have h0 : aC (nn (nI p)) = nI (x (nn (nI p))) ∧ x (nn (nI p)) < 6 := hx 0 (by decide)
    have h1 : aC (nn (nI q)) = nI (x (nn (nI q))) ∧ x (nn (nI q)) < 6 := hx 1 (by decide)
    have h2 : aC (nn (nI r)) = nI (x (nn (nI r))) ∧ x (nn (nI r)) < 6 := hx 2 (by decide)
    refine br_f (by decide) (br_f (by decide) (br_f (by decide) (br_f (by decide) (br_t rfl ⟨zi4n hp, zi4n hq, zi4n hr, bI_br (f := fun r => post r (cC, wN, rU, mO, tO, bS, dE, iC, aD, aK, aP, aQ, aR, aN, aW, aC, aG, aV, aS, aI, aT, aY, aU, aB, aM, aA)) ?_ h⟩))))
    have e0 : aC (nI p).toNatClampNeg = nI (x (nn (nI p))) := h0.1
    have e1 : aC (nI q).toNatClampNeg = nI (x (nn (nI q))) := h1.1
    have e2 : aC (nI r).toNatClampNeg = nI (x (nn (nI r))) := h2.1
    have := mul25 h0.2 h1.2
    rw [e0, e1, e2, hs_4, pk_mul, nI_eq (by omega) (by omega)]
  · have h0 : aC (nn (nI p) / 6) = nI (x (nn (nI p) / 6)) ∧ x (nn (nI p) / 6) < 6 := hx 0 (by decide)
    have h1 : aC (nn (nI q) / 6) = nI (x (nn (nI q) / 6)) ∧ x (nn (nI q) / 6) < 6 := hx 1 (by decide)
    rw [nn_n (n := p) (by omega)] at h0
    rw [nn_n (n := q) (by omega)] at h1
    have hs5 : hs 5 (nI p) (nI q) R x ↔ (x (p / 6) = p % 6 ↔ q % 6 ≤ x (q / 6)) := by
      rw [hs_5, nn_n (n := p) (by omega), nn_n (n := q) (by omega)]
    rw [bI_c hs5] at h
    have ep : aC (nI p / 6).toNatClampNeg = nI (x (p / 6)) := by rw [zd_d6 (by omega), zcl (by omega)]; exact h0.1
    have eq : aC (nI q / 6).toNatClampNeg = nI (x (q / 6)) := by rw [zd_d6 (by omega), zcl (by omega)]; exact h1.1
    have vp : vp_in (nI p / 6) 4 := by rw [zd_d6 (by omega)]; exact zi4n (by omega)
    have vq : vp_in (nI q / 6) 4 := by rw [zd_d6 (by omega)]; exact zi4n (by omega)
    have cp : (aC (nI p / 6).toNatClampNeg = nI p - nI p / 6 * 6) ↔ x (p / 6) = p % 6 := by rw [ep, zd_r6 (by omega), nI_eq (by omega) (by omega)]
    have cq : (aC (nI q / 6).toNatClampNeg < nI q - nI q / 6 * 6) ↔ x (q / 6) < q % 6 := by rw [eq, zd_r6 (by omega), nI_ltI (by omega) (by omega)]
    refine br_f (by decide) (br_f (by decide) (br_f (by decide) (br_f (by decide) (br_f (by decide) (br_t rfl ⟨ze6, vp, ze6, ?_⟩)))))
    by_cases a : x (p / 6) = p % 6
    · refine br_t (cp.mpr a) (And.intro ze6 ⟨vq, ze6, ?_⟩)
      by_cases b : x (q / 6) < q % 6
      · refine br_t (cq.mpr b) (br_f (by decide) ?_)
        rw [bI_f (fun z => by have := z.mp a; omega)] at h
        exact h
      · refine br_f (fun z => b (cq.mp z)) (br_t rfl ?_)
        rw [bI_t ⟨fun _ => by omega, fun _ => a⟩] at h
        exact h
    · refine br_f (fun z => a (cp.mp z)) (And.intro ze6 ⟨vq, ze6, ?_⟩)
      by_cases b : x (q / 6) < q % 6
      · refine br_t (cq.mpr b) (br_t rfl ?_)
        rw [bI_t ⟨fun z => absurd z a, fun z => absurd z (by omega)⟩] at h
        exact h
      · refine br_f (fun z => b (cq.mp z)) (br_f (by decide) ?_)
        rw [bI_f (fun z => a (z.mpr (by omega)))] at h
        exact h
  · have h0 : aC (nn (nI p)) = nI (x (nn (nI p))) ∧ x (nn (nI p)) < 6 := hx 0 (by decide)
    have h1 : aC (nn (nI q)) = nI (x (nn (nI q))) ∧ x (nn (nI q)) < 6 := hx 1 (by decide)
    have e0 : aC (nI p).toNatClampNeg = nI (x (nn (nI p))) := h0.1
    have e1 : aC (nI q).toNatClampNeg = nI (x (nn (nI q))) := h1.1
    rw [bI_c hs_6, nn_n (n := r) (by omega)] at h
    refine br_f (by decide) (br_f (by decide) (br_f (by decide) (br_f (by decide) (br_f (by decide) (br_f (by decide) (br_t rfl ⟨zi4n hp, zi4n hq, ?_⟩))))))
    rw [e0, e1, zn_subN, zn_subN, zn_n r]
    have l1 := h0.2
    have l2 := h1.2
    revert h l1 l2
    generalize x (nn (nI p)) = a
    generalize x (nn (nI q)) = b
    intro h l1 l2
    by_cases c1 : r + b ≤ a
    · refine br_t ((zn_le (by omega) (by omega) (by omega) (by omega)).mpr (by omega)) ?_
      rw [bI_t (Or.inl c1)] at h
      exact h
    · refine br_f (fun z => by rw [zn_le (by omega) (by omega) (by omega) (by omega)] at z; omega) ⟨zi4n hq, zi4n hp, ?_⟩
      by_cases c2 : r + a ≤ b
      · refine br_f (fun z => by rw [zn_lt (by omega) (by omega) (by omega) (by omega)] at z; omega) ?_
        rw [bI_t (Or.inr c2)] at h
        exact h
      · refine br_t ((zn_lt (by omega) (by omega) (by omega) (by omega)).mpr (by omega)) ?_
        rw [bI_f (fun z => by omega)] at h
        exact h
  · have h0 : aC (nn (nI p)) = nI (x (nn (nI p))) ∧ x (nn (nI p)) < 6 := hx 0 (by decide)
    have h1 : aC (nn (nI q)) = nI (x (nn (nI q))) ∧ x (nn (nI q)) < 6 := hx 1 (by decide)
    have h2 : aC (nn (nI r) % 4) = nI (x (nn (nI r) % 4)) ∧ x (nn (nI r) % 4) < 6 := hx 2 (by decide)
    have h3 : aC (nn (nI r) / 4) = nI (x (nn (nI r) / 4)) ∧ x (nn (nI r) / 4) < 6 := hx 3 (by decide)
    rw [bI_c hs_8] at h
    rw [nn_n (n := r) (by omega)] at h h2 h3
    have e0 : aC (nI p).toNatClampNeg = nI (x (nn (nI p))) := h0.1
    have e1 : aC (nI q).toNatClampNeg = nI (x (nn (nI q))) := h1.1
    have e2 : aC (nI r - nI r / 4 * 4).toNatClampNeg = nI (x (r % 4)) := by rw [zd_r4 (by omega), zcl (by omega)]; exact h2.1
    have e3 : aC (nI r / 4).toNatClampNeg = nI (x (r / 4)) := by rw [zd_d4 (by omega), zcl (by omega)]; exact h3.1
    have v2 : vp_in (nI r - nI r / 4 * 4) 4 := by rw [zd_r4 (by omega)]; exact zi4n (by omega)
    have v3 : vp_in (nI r / 4) 4 := by rw [zd_d4 (by omega)]; exact zi4n (by omega)
    refine br_f (by decide) (br_f (by decide) (br_f (by decide) (br_f (by decide) (br_f (by decide) (br_f (by decide) (br_f (by decide) (br_f (by decide) ⟨zi4n hp, zi4n hq, ?_⟩)))))))
    rw [e0, e1, e2, e3]
    have l0 := h0.2
    have l1 := h1.2
    have l2 := h2.2
    have l3 := h3.2
    revert h l0 l1 l2 l3
    generalize x (nn (nI p)) = a
    generalize x (nn (nI q)) = b
    generalize x (r % 4) = c
    generalize x (r / 4) = d
    intro h l0 l1 l2 l3
    by_cases c1 : a < b
    · refine br_t ((nI_ltI (by omega) (by omega)).mpr c1) ?_
      rw [bI_t (Or.inl c1)] at h
      exact h
    · refine br_f (fun z => c1 ((nI_ltI (by omega) (by omega)).mp z)) ⟨zi4n hp, zi4n hq, ?_⟩
      by_cases c2 : a = b
      · refine br_t (congrArg nI c2) ⟨ze4, v2, ze4, v3, ?_⟩
        by_cases c3 : d < c
        · refine br_t ((nI_ltI (by omega) (by omega)).mpr c3) ?_
          rw [bI_f (fun z => by omega)] at h
          exact h
        · refine br_f (fun z => c3 ((nI_ltI (by omega) (by omega)).mp z)) ?_
          rw [bI_t (Or.inr ⟨c2, by omega⟩)] at h
          exact h
      · refine br_f (fun z => c2 ((nI_eq (by omega) (by omega)).mp z)) ?_
        rw [bI_f (fun z => by omega)] at h
        exact h
set_option maxHeartbeats 1600000 in
theorem wx_holds {post : Int32 → SX → Prop} {i : Nat} {x : Nat → Nat} (hi : i < 10) (hF : FT (aK i) (aP i) (aQ i) (aR i)) (hx : ∀ v, v < 4 → aC v = nI (x v)) (h6 : ∀ v, v < 4 → x v < 6)
    (h : ∀ aG', post (bI (hs (aK i) (aP i) (aQ i) (aR i) x)) (cC, wN, rU, mO, tO, bS, dE, iC, aD, aK, aP, aQ, aR, aN, aW, aC, aG', aV, aS, aI, aT, aY, aU, aB, aM, aA)) : wpX_holds post (cC, wN, rU, mO, tO, bS, dE, iC, aD, aK, aP, aQ, aR, aN, aW, aC, aG, aV, aS, aI, aT, aY, aU, aB, aM, aA) (nI i) := by
  by_cases hL : FL (aK i) (aP i) (aQ i) (aR i)
  · exact wx_holdsL hi hL (fun k hk => ⟨hx _ (ej_lt hL k hk), h6 _ (ej_lt hL k hk)⟩) (h aG)
  · refine And.intro (zi10 hi) (nm_r (congrArg aK (zcl (by omega))) ⟨zi10 hi, nm_r (congrArg aP (zcl (by omega))) ⟨zi10 hi, nm_r (congrArg aQ (zcl (by omega))) ⟨zi10 hi, nm_r (congrArg aR (zcl (by omega))) ?_⟩⟩⟩)
    revert hF hL h
    generalize aK i = K
    generalize aP i = P
    generalize aQ i = Q
    generalize aR i = R
    intro hF h hL
    rcases hF with ⟨hk, p, hp, rfl, q1, q2⟩ | ⟨rfl, p, hp, rfl⟩ | ⟨rfl, p, q, r, hp, hq, hr, rfl, rfl, rfl⟩ | hF
    · rcases hk with rfl | rfl
      · refine br_t rfl ?_
        unfold wX_holds_39
        refine wx_sumHolds (G := hs 0 (nI p) Q R x) hp hx h6 (Or.inl ⟨rfl, ?_⟩) (fun aG' => And.intro (bI_n _) (h aG'))
        rw [hs_0, nn_n (by omega)]
      · refine br_f (by decide) (br_t rfl ?_)
        unfold wX_holds_39
        refine wx_sumHolds (G := hs 1 (nI p) Q R x) hp hx h6 (Or.inr ⟨rfl, ?_⟩) (fun aG' => And.intro (bI_n _) (h aG'))
        rw [hs_1, nn_n (by omega)]
    · refine br_f (by decide) (br_f (by decide) (br_t rfl ?_))
      refine wx_differ hp (fun v hv _ => ⟨hx v hv, h6 v hv⟩) (And.intro (bI_n _) ?_)
      have := h aG
      rw [bI_c hs_2, nn_n (by omega)] at this
      exact this
    · refine br_f (by decide) (br_f (by decide) (br_f (by decide) (br_f (by decide) (br_f (by decide) (br_f (by decide) (br_f (by decide) (br_t rfl ?_)))))))
      refine wx_howMany hp hr (fun v hv _ => ⟨hx v hv, h6 v hv⟩) (bI_br (f := fun r => post r (cC, wN, rU, mO, tO, bS, dE, iC, aD, aK, aP, aQ, aR, aN, aW, aC, aG, aV, aS, aI, aT, aY, aU, aB, aM, aA)) ?_ (h aG))
      have := hm_le (p := p) (r := r) (x := x) 4
      rw [hs_7, nn_n (by omega), nn_n (by omega), nn_n (by omega), nI_eq (by omega) (by omega)]
    · exact absurd hF hL
set_option maxHeartbeats 1600000 in
theorem wx_listInv {post : SX → Prop} {i : Nat} (hi : i < 10) (hF : FL (aK i) (aP i) (aQ i) (aR i))
    (h : ∀ aI' : Nat → Int32, (∀ k, k < lc (aK i) → aI' k = nI (ej (aK i) (aP i) (aQ i) (aR i) k)) → post (cC, wN, rU, mO, tO, bS, dE, nI (lc (aK i)), aD, aK, aP, aQ, aR, aN, aW, aC, aG, aV, aS, aI', aT, aY, aU, aB, aM, aA)) : wpX_listInvolved post (cC, wN, rU, mO, tO, bS, dE, iC, aD, aK, aP, aQ, aR, aN, aW, aC, aG, aV, aS, aI, aT, aY, aU, aB, aM, aA) (nI i) := by
  refine And.intro (zi10 hi) (nm_r (congrArg aK (zcl (by omega))) ⟨zi10 hi, nm_r (congrArg aP (zcl (by omega))) ⟨zi10 hi, nm_r (congrArg aQ (zcl (by omega))) ⟨zi10 hi, nm_r (congrArg aR (zcl (by omega))) ?_⟩⟩⟩)
  revert hF h
  generalize aK i = K
  generalize aP i = P
  generalize aQ i = Q
  generalize aR i = R
  intro hF h
  have u0 : ∀ {f : Nat → Int32} {m : Nat}, m < 128 → upd f (0 : Int32).toNatClampNeg (vp_nar .byte (nI m).toInt8.toInt32) = upd f 0 (nI m) := fun hm => by rw [zb_n8 hm]; rfl
  have u1 : ∀ {f : Nat → Int32} {m : Nat}, m < 128 → upd f (1 : Int32).toNatClampNeg (vp_nar .byte (nI m).toInt8.toInt32) = upd f 1 (nI m) := fun hm => by rw [zb_n8 hm]; rfl
  have u2 : ∀ {f : Nat → Int32} {m j : Nat}, m < 128 → upd f j (vp_nar .byte (nI m).toInt8.toInt32) = upd f j (nI m) := fun hm => by rw [zb_n8 hm]
  have v0 : vp_in (0 : Int32) 4 := zi4 (i := 0) (by omega)
  have v1 : vp_in (1 : Int32) 4 := zi4 (i := 1) (by omega)
  have w2 : ∀ (a b : Nat), upd (upd aI 0 (nI a)) 1 (nI b) 0 = nI a ∧ upd (upd aI 0 (nI a)) 1 (nI b) 1 = nI b := fun a b => ⟨rfl, rfl⟩
  rcases hF with ⟨rfl, p, q, r, hp, hq, hr, rfl, rfl, rfl⟩ | ⟨rfl, p, q, r, hp, hq, hr, rfl, rfl, rfl⟩ | ⟨rfl, p, q, hp, hq, rfl, rfl⟩ | ⟨rfl, p, q, r, hp, hq, hr, rfl, rfl, rfl⟩ | ⟨rfl, p, q, r, hp, hq, hr, rfl, rfl, rfl⟩
  · refine br_f (by decide) (And.intro v0 (nm_r (u0 (by omega)) (br_f (by decide) (And.intro v1 (nm_r (u1 (by omega)) (br_f (by decide) (br_f (by decide) (h _ ?_))))))))
    intro k hk
    have hk2 : k < 2 := hk
    have h01 : k = 0 ∨ k = 1 := by omega
    rcases h01 with rfl | rfl
    · show nI p = nI (nn (nI p))
      rw [nn_n (by omega)]
    · show nI q = nI (nn (nI q))
      rw [nn_n (by omega)]
  · refine br_f (by decide) (And.intro v0 (nm_r (u0 (by omega)) (br_f (by decide) (And.intro v1 (nm_r (u1 (by omega)) (br_t rfl (nm_r (u2 (by omega)) (br_f (by decide) (h _ ?_)))))))))
    intro k hk
    have hk2 : k < 3 := hk
    have h01 : k = 0 ∨ k = 1 ∨ k = 2 := by omega
    rcases h01 with rfl | rfl | rfl
    · show nI p = nI (nn (nI p))
      rw [nn_n (by omega)]
    · show nI q = nI (nn (nI q))
      rw [nn_n (by omega)]
    · show nI r = nI (nn (nI r))
      rw [nn_n (by omega)]
  · refine br_t rfl ⟨ze6, And.intro v0 (nm_r (e' := upd aI 0 (nI (p / 6))) ?_ (br_t rfl ⟨ze6, And.intro v1 (nm_r (e' := upd (upd aI 0 (nI (p / 6))) 1 (nI (q / 6))) ?_ (br_f (by decide) (br_f (by decide) (h _ ?_))))⟩))⟩
    · rw [zd_d6 (by omega), u0 (by omega)]
    · rw [zd_d6 (by omega), u1 (by omega)]
    · intro k hk
      have hk2 : k < 2 := hk
      have h01 : k = 0 ∨ k = 1 := by omega
      rcases h01 with rfl | rfl
      · show nI (p / 6) = nI (nn (nI p) / 6)
        rw [nn_n (by omega)]
      · show nI (q / 6) = nI (nn (nI q) / 6)
        rw [nn_n (by omega)]
  · refine br_f (by decide) (And.intro v0 (nm_r (u0 (by omega)) (br_f (by decide) (And.intro v1 (nm_r (u1 (by omega)) (br_f (by decide) (br_f (by decide) (h _ ?_))))))))
    intro k hk
    have hk2 : k < 2 := hk
    have h01 : k = 0 ∨ k = 1 := by omega
    rcases h01 with rfl | rfl
    · show nI p = nI (nn (nI p))
      rw [nn_n (by omega)]
    · show nI q = nI (nn (nI q))
      rw [nn_n (by omega)]
  · refine br_f (by decide) (And.intro v0 (nm_r (u0 (by omega)) (br_f (by decide) (And.intro v1 (nm_r (u1 (by omega)) (br_f (by decide) (br_t rfl ⟨ze4, nm_r (e' := upd (upd (upd aI 0 (nI p)) 1 (nI q)) 2 (nI (r % 4))) ?_ ⟨ze4, nm_r (e' := upd (upd (upd (upd aI 0 (nI p)) 1 (nI q)) 2 (nI (r % 4))) 3 (nI (r / 4))) ?_ (h _ ?_)⟩⟩)))))))
    · rw [zd_r4 (by omega), u2 (by omega)]
    · rw [zd_d4 (by omega), u2 (by omega)]
    · intro k hk
      have hk2 : k < 4 := hk
      rcases z4c hk2 with rfl | rfl | rfl | rfl
      · show nI p = nI (nn (nI p))
        rw [nn_n (by omega)]
      · show nI q = nI (nn (nI q))
        rw [nn_n (by omega)]
      · show nI (r % 4) = nI (nn (nI r) % 4)
        rw [nn_n (by omega)]
      · show nI (r / 4) = nI (nn (nI r) / 4)
        rw [nn_n (by omega)]
theorem wx_allHold {post : Int32 → SX → Prop} {n rl : Nat} {x : Nat → Nat} (hn : n ≤ 10) (hr : rl < 1024) (hF : ∀ i, i < n → FT (aK i) (aP i) (aQ i) (aR i)) (hx : ∀ v, v < 4 → aC v = nI (x v)) (h6 : ∀ v, v < 4 → x v < 6)
    (h : ∀ aG', post (bI (HA n rl aK aP aQ aR x)) (nI n, wN, nI rl, mO, tO, bS, dE, iC, aD, aK, aP, aQ, aR, aN, aW, aC, aG', aV, aS, aI, aT, aY, aU, aB, aM, aA)) : wpX_allHold post (nI n, wN, nI rl, mO, tO, bS, dE, iC, aD, aK, aP, aQ, aR, aN, aW, aC, aG, aV, aS, aI, aT, aY, aU, aB, aM, aA) :=
  pk_loop (σ := Nat → Int32) (fun k i s => wX_allHold_2 post k (nI i) (nI n) wN (nI rl) mO tO bS dE iC aD aK aP aQ aR aN aW aC s aV aS aI aT aY aU aB aM aA) (fun i _ => ∀ j, j < i → rl.testBit j = true → hs (aK j) (aP j) (aQ j) (aR j) x) n 0 aG (by omega) (fun j hj => absurd hj (by omega))
    (fun k s hI => br_t (nI_le (by omega) (by omega)) (by have := h s; rw [bI_t (p := HA n rl aK aP aQ aR x) hI] at this; exact this))
    (fun k i s hi hI K => br_f (nI_ge hi (by omega)) (wx_isRule hr (by omega) (by
      by_cases hb : rl.testBit i = true
      · refine br_f (fun z => bI_0.mp z hb) (wx_holds (x := x) (by omega) (hF i hi) hx h6 (fun aG' => ?_))
        by_cases hh : hs (aK i) (aP i) (aQ i) (aR i) x
        · exact br_f (fun z => bI_0.mp z hh) (nm_r (nI_1 i) (K aG' (lt_s hI (fun _ => hh))))
        · refine br_t (bI_0.mpr hh) ?_
          have := h aG'
          rw [bI_f (fun z => hh (z i hi hb))] at this
          exact this
      · exact br_t (bI_0.mpr hb) (nm_r (nI_1 i) (K s (lt_s hI (fun z => absurd z hb)))))))
theorem wx_take {post : SX → Prop} {md tot : Nat} {b : Int} {w : Nat → Int} {x : Nat → Nat} {A R R' : (Int → Nat) → Nat} (hmd : md ≤ 2) (hx : ∀ v, v < 4 → aC v = nI (x v)) (h6 : ∀ v, v < 4 → x v < 6)
    (hw : md = 2 → ∀ v, v < 4 → aW v = zI (w v) ∧ -3 ≤ w v ∧ w v ≤ 3) (hA : Ac md A R tot b) (e : ∀ f, R f = R' f + f (ps w x 4)) (hbd : ∀ f, (∀ t, f t ≤ 1) → A f ≤ 1296)
    (h : ∀ (tot' : Nat) (b' : Int), Ac md A R' tot' b' → 0 < tot' → post (cC, wN, rU, nI md, nI tot', zI b', dE, iC, aD, aK, aP, aQ, aR, aN, aW, aC, aG, aV, aS, aI, aT, aY, aU, aB, aM, aA)) : wpX_takeSolution post (cC, wN, rU, nI md, nI tot, zI b, dE, iC, aD, aK, aP, aQ, aR, aN, aW, aC, aG, aV, aS, aI, aT, aY, aU, aB, aM, aA) := by
  by_cases hm : md = 2
  · subst hm
    have hps := ps_bd (w := w) (x := x) 4 (fun v hv => (hw rfl v hv).2) h6
    have hb := Ac_b hA
    obtain ⟨g1, g2, g3⟩ := Ac_grp (g := fun f => f (ps w x 4)) (c := 1) (s := ps w x 4) hA e rfl (fun t ht => dl_n (by omega)) (dl_s _) (by omega) (by omega) (by omega)
    refine br_t rfl ?_
    have K : ∃ n, wX_takeSolution_23 post cC wN rU (nI 2) (nI tot) (zI b) dE iC aD aK aP aQ aR aN aW aC aG aV aS aI aT aY aU aB aM aA n (zI (ps w x 0)) (nI 0) :=
      pk_loop (σ := Unit) (fun n i _ => wX_takeSolution_23 post cC wN rU (nI 2) (nI tot) (zI b) dE iC aD aK aP aQ aR aN aW aC aG aV aS aI aT aY aU aB aM aA n (zI (ps w x i)) (nI i)) (fun _ _ => True) 4 0 () (by omega) trivial
        (fun n _ _ => br_t (nI_le (a := 4) (b := 4) (by omega) (by omega)) (by
          by_cases c1 : ps w x 4 ≤ b
          · refine br_t ((zn_le (by omega) (by omega) (by omega) (by omega)).mpr c1) ?_
            by_cases c2 : b ≤ ps w x 4
            · refine br_t ((zn_le (by omega) (by omega) (by omega) (by omega)).mpr c2) ?_
              have eb : ps w x 4 = b := by omega
              unfold wX_takeSolution_72
              refine nm_r (nI_1 tot) ?_
              rw [eb]
              exact h _ _ (g3 eb) (by omega)
            · refine br_f (fun z => by rw [zn_le (by omega) (by omega) (by omega) (by omega)] at z; omega) ?_
              unfold wX_takeSolution_72
              exact nm_r (e' := nI 1) rfl (h _ _ (g2 (by omega)) (by omega))
          · refine br_f (fun z => by rw [zn_le (by omega) (by omega) (by omega) (by omega)] at z; omega) (h _ _ (g1 (by omega)) ?_)
            rcases (hA.1 rfl).2.2 with z | z <;> omega))
        (fun n i _ hi _ K => br_f (zc4 hi) ⟨zi4 hi, zi4 hi, nm_r (e' := zI (ps w x (i + 1))) (by rw [zcl (by omega), (hw rfl i hi).1, hx i hi, zn_mulN, zn_add]; rfl) (nm_r (nI_1 i) (K () trivial))⟩)
    exact K
  · refine br_f (fun z => hm ((nI_eq (b := 2) (by omega) (by omega)).mp z)) (nm_r (nI_1 tot) (h _ _ ?_ (by omega)))
    exact Ac_cnt (g := fun f => f (ps w x 4)) hA e hm
end W2
end
section
/-! X: trying -/
section W3
variable {cC wN rU mO tO bS dE iC : Int32} {aD aK aP aQ aR aN aW aC aG aV aS aI aT aY aU aB aM aA : Nat → Int32}
theorem ps_mono {w : Nat → Int} {x y : Nat → Nat} : ∀ i, (∀ v, v < i → w v * (x v : Int) ≤ w v * (y v : Int)) → ps w x i ≤ ps w y i
  | 0, _ => Int.le_refl 0
  | i + 1, h => by
    have h1 := ps_mono (w := w) (x := x) (y := y) i (fun v hv => h v (by omega))
    have h2 := h i (by omega)
    show ps w x i + w i * (x i : Int) ≤ ps w y i + w i * (y i : Int)
    omega
/-- the end of an interval that makes the product small, and great -/
def sl (d : Int) (s g : Nat) : Nat := if 0 < d then s else g
def sg (d : Int) (s g : Nat) : Nat := if 0 < d then g else s
theorem sl_p {d : Int} (s g : Nat) (h : 0 < d) : sl d s g = s ∧ sg d s g = g := ⟨if_pos h, if_pos h⟩
theorem sl_n {d : Int} (s g : Nat) (h : ¬ 0 < d) : sl d s g = g ∧ sg d s g = s := ⟨if_neg h, if_neg h⟩
theorem sl_le {d : Int} {s g x : Nat} (h1 : s ≤ x) (h2 : x ≤ g) : d * (sl d s g : Int) ≤ d * (x : Int) ∧ d * (x : Int) ≤ d * (sg d s g : Int) := by
  by_cases h : 0 < d
  · rw [(sl_p s g h).1, (sl_p s g h).2]; exact ⟨mul_mono h h1, mul_mono h h2⟩
  · rw [(sl_n s g h).1, (sl_n s g h).2]; exact ⟨mul_anti (by omega) h2, mul_anti (by omega) h1⟩
theorem sl_lt {d : Int} {s g : Nat} (h1 : s < 6) (h2 : g < 6) : sl d s g < 6 ∧ sg d s g < 6 := by
  by_cases h : 0 < d
  · rw [(sl_p s g h).1, (sl_p s g h).2]; exact ⟨h1, h2⟩
  · rw [(sl_n s g h).1, (sl_n s g h).2]; exact ⟨h2, h1⟩
theorem wx_sm78 {post : Int32 → SX → Prop} {J : Int32 → Int32 → Int32 → Prop} {x1 x3 x4 : Int32} {i s g : Nat} {d l u : Int} (hi : i < 4) (hG : aG i = zI d) (hd : -3 ≤ d ∧ d ≤ 3)
    (h : J (zI (l + d * (sl d s g : Int))) (zI (u + d * (sg d s g : Int))) (nI (i + 1))) : wX_sumMayHold_78 post J x1 x3 x4 (zI l) (zI u) (nI i) (nI s) (nI g) cC wN rU mO tO bS dE iC aD aK aP aQ aR aN aW aC aG aV aS aI aT aY aU aB aM aA := by
  have eG : aG (nI i).toNatClampNeg = zI d := by rw [zcl (by omega)]; exact hG
  have c0 : aG (nI i).toNatClampNeg ≤ 0 ↔ d ≤ 0 := by rw [eG, ← zn_0, zn_le (by omega) (by omega) (by omega) (by omega)]
  refine And.intro (zi4 hi) ⟨zi4 hi, ?_⟩
  by_cases hp : 0 < d
  · rw [(sl_p s g hp).1, (sl_p s g hp).2] at h
    refine br_f (fun z => by rw [c0] at z; omega) ?_
    unfold wX_sumMayHold_106
    refine nm_r (e' := zI (l + d * (s : Int))) (by rw [eG, zn_mulN, zn_add]) ⟨zi4 hi, zi4 hi, br_f (fun z => by rw [c0] at z; omega) (nm_r (e' := zI (u + d * (g : Int))) (by rw [eG, zn_mulN, zn_add]) (nm_r (nI_1 i) h))⟩
  · rw [(sl_n s g hp).1, (sl_n s g hp).2] at h
    refine br_t (c0.mpr (by omega)) ?_
    unfold wX_sumMayHold_106
    refine nm_r (e' := zI (l + d * (g : Int))) (by rw [eG, zn_mulN, zn_add]) ⟨zi4 hi, zi4 hi, br_t (c0.mpr (by omega)) (nm_r (e' := zI (u + d * (s : Int))) (by rw [eG, zn_mulN, zn_add]) (nm_r (nI_1 i) h))⟩
/-- the least and the greatest value that a variable may still have -/
def vs (c : Nat) (y m : Nat → Nat) (v : Nat) : Nat := if v < c then y v else zlo (m v)
def vg (c : Nat) (y m : Nat → Nat) (v : Nat) : Nat := if v < c then y v else zhi (m v)
theorem vs_in {c : Nat} {y m x : Nat → Nat} {v : Nat} (hm : m v < 64) (hx : ∀ u, u < c → x u = y u) (hb : (m v).testBit (x v) = true) : vs c y m v ≤ x v ∧ x v ≤ vg c y m v := by
  unfold vs vg
  by_cases h : v < c
  · rw [if_pos h, if_pos h, hx v h]; omega
  · rw [if_neg h, if_neg h]
    exact ⟨zlo_l _ hm _ (zm_lt hm hb) hb, zhi_l _ hm _ (zm_lt hm hb) hb⟩
theorem wx_sumMay {post : Int32 → SX → Prop} {k q : Int32} {p c : Nat} {m y : Nat → Nat} (hp : p ≤ 2400) (hc : c ≤ 4) (hk : k = 0 ∨ k = 1) (hN : ∀ v, v < 4 → aN v = nI (m v)) (hm : ∀ v, v < 4 → m v < 64 ∧ 0 < m v)
    (hy : ∀ v, v < c → aC v = nI (y v) ∧ y v < 6)
    (h0 : (∀ x, (∀ v, v < c → x v = y v) → IB m x → ¬ (k = 0 ∧ ps (dg p) x 4 ≤ q.toInt ∨ k = 1 ∧ ps (dg p) x 4 = q.toInt)) → ∀ aG', post 0 (cC, wN, rU, mO, tO, bS, dE, iC, aD, aK, aP, aQ, aR, aN, aW, aC, aG', aV, aS, aI, aT, aY, aU, aB, aM, aA)) (h1 : ∀ aG', post 1 (cC, wN, rU, mO, tO, bS, dE, iC, aD, aK, aP, aQ, aR, aN, aW, aC, aG', aV, aS, aI, aT, aY, aU, aB, aM, aA)) : wpX_sumMayHold post (cC, wN, rU, mO, tO, bS, dE, iC, aD, aK, aP, aQ, aR, aN, aW, aC, aG, aV, aS, aI, aT, aY, aU, aB, aM, aA) k (nI p) q (nI c) := by
  refine wx_unpack (post := fun u => match u with | (cC, wN, rU, mO, tO, bS, dE, iC, aD, aK, aP, aQ, aR, aN, aW, aC, aG, aV, aS, aI, aT, aY, aU, aB, aM, aA) => ∃ n14 : Nat, wX_sumMayHold_14 post k q (nI c) cC wN rU mO tO bS dE iC aD aK aP aQ aR aN aW aC aG aV aS aI aT aY aU aB aM aA n14 0 0 0) hp ?_
  intro aG' hG
  show ∃ n, wX_sumMayHold_14 post k q (nI c) cC wN rU mO tO bS dE iC aD aK aP aQ aR aN aW aC aG' aV aS aI aT aY aU aB aM aA n 0 0 0
  have hs6 : ∀ v, v < 4 → vs c y m v < 6 ∧ vg c y m v < 6 := by
    intro v hv
    unfold vs vg
    by_cases h : v < c
    · rw [if_pos h, if_pos h]; exact ⟨(hy v h).2, (hy v h).2⟩
    · rw [if_neg h, if_neg h]; exact ⟨(zlo_f _ (hm v hv).1 (hm v hv).2).2, (zhi_f _ (hm v hv).1 (hm v hv).2).2⟩
  have bl := ps_bd (w := dg p) (x := fun v => sl (dg p v) (vs c y m v) (vg c y m v)) 4 (fun v _ => dg_bd p v) (fun v hv => (sl_lt (hs6 v hv).1 (hs6 v hv).2).1)
  have bg := ps_bd (w := dg p) (x := fun v => sg (dg p v) (vs c y m v) (vg c y m v)) 4 (fun v _ => dg_bd p v) (fun v hv => (sl_lt (hs6 v hv).1 (hs6 v hv).2).2)
  have mono : ∀ x, (∀ v, v < c → x v = y v) → IB m x → ps (dg p) (fun v => sl (dg p v) (vs c y m v) (vg c y m v)) 4 ≤ ps (dg p) x 4 ∧ ps (dg p) x 4 ≤ ps (dg p) (fun v => sg (dg p v) (vs c y m v) (vg c y m v)) 4 := by
    intro x hx hb
    exact ⟨ps_mono 4 (fun v hv => (sl_le (vs_in (hm v hv).1 hx (hb v hv)).1 (vs_in (hm v hv).1 hx (hb v hv)).2).1), ps_mono 4 (fun v hv => (sl_le (vs_in (hm v hv).1 hx (hb v hv)).1 (vs_in (hm v hv).1 hx (hb v hv)).2).2)⟩
  have K : ∃ n, wX_sumMayHold_14 post k q (nI c) cC wN rU mO tO bS dE iC aD aK aP aQ aR aN aW aC aG' aV aS aI aT aY aU aB aM aA n (zI (ps (dg p) (fun v => sl (dg p v) (vs c y m v) (vg c y m v)) 0)) (zI (ps (dg p) (fun v => sg (dg p v) (vs c y m v) (vg c y m v)) 0)) (nI 0) :=
    pk_loop (σ := Unit) (fun n i _ => wX_sumMayHold_14 post k q (nI c) cC wN rU mO tO bS dE iC aD aK aP aQ aR aN aW aC aG' aV aS aI aT aY aU aB aM aA n (zI (ps (dg p) (fun v => sl (dg p v) (vs c y m v) (vg c y m v)) i)) (zI (ps (dg p) (fun v => sg (dg p v) (vs c y m v) (vg c y m v)) i)) (nI i)) (fun _ _ => True) 4 0 () (by omega) trivial
      (fun n _ _ => br_t (nI_le (a := 4) (b := 4) (by omega) (by omega)) (by
        by_cases c1 : q.toInt < ps (dg p) (fun v => sl (dg p v) (vs c y m v) (vg c y m v)) 4
        · refine br_t ((zn_ltr (by omega) (by omega)).mpr c1) (h0 (fun x hx hb => ?_) aG')
          have := mono x hx hb
          intro z
          rcases z with z | z <;> omega
        · refine br_f (fun z => c1 ((zn_ltr (by omega) (by omega)).mp z)) ?_
          rcases hk with rfl | rfl
          · exact br_t rfl (h1 aG')
          · refine br_f (by decide) ?_
            by_cases c2 : ps (dg p) (fun v => sg (dg p v) (vs c y m v) (vg c y m v)) 4 < q.toInt
            · refine br_t ((zn_ltl (by omega) (by omega)).mpr c2) (h0 (fun x hx hb => ?_) aG')
              have := mono x hx hb
              intro z
              rcases z with z | z
              · exact absurd z.1 (by decide)
              · omega
            · exact br_f (fun z => c2 ((zn_ltl (by omega) (by omega)).mp z)) (h1 aG')))
      (fun n i _ hi _ K => br_f (zc4 hi) (by
        have K' := K () trivial
        have eN : aN (nI i).toNatClampNeg = nI (m i) := by rw [zcl (by omega)]; exact hN i hi
        by_cases ic : i < c
        · have ey : aC (nI i).toNatClampNeg = nI (y i) := by rw [zcl (by omega)]; exact (hy i ic).1
          have e1 : vs c y m i = y i := if_pos ic
          have e2 : vg c y m i = y i := if_pos ic
          refine br_f (nI_ge ic (by omega)) ⟨zi4 hi, ?_⟩
          unfold wX_sumMayHold_48
          refine br_f (nI_ge ic (by omega)) ⟨zi4 hi, ?_⟩
          rw [ey]
          refine wx_sm78 (d := dg p i) hi (hG i hi) (dg_bd p i) ?_
          have K2 : wX_sumMayHold_14 post k q (nI c) cC wN rU mO tO bS dE iC aD aK aP aQ aR aN aW aC aG' aV aS aI aT aY aU aB aM aA n (zI (ps (dg p) (fun v => sl (dg p v) (vs c y m v) (vg c y m v)) i + dg p i * (sl (dg p i) (vs c y m i) (vg c y m i) : Int))) (zI (ps (dg p) (fun v => sg (dg p v) (vs c y m v) (vg c y m v)) i + dg p i * (sg (dg p i) (vs c y m i) (vg c y m i) : Int))) (nI (i + 1)) := K'
          rw [e1, e2] at K2
          exact K2
        · have e1 : vs c y m i = zlo (m i) := if_neg ic
          have e2 : vg c y m i = zhi (m i) := if_neg ic
          refine br_t (nI_le (by omega) (by omega)) ⟨zi4 hi, ?_⟩
          rw [eN]
          refine wx_lo (hm i hi).1 (hm i hi).2 ?_
          unfold wX_sumMayHold_48
          refine br_t (nI_le (by omega) (by omega)) ⟨zi4 hi, ?_⟩
          rw [eN]
          refine wx_hi (hm i hi).1 (hm i hi).2 ?_
          refine wx_sm78 (d := dg p i) hi (hG i hi) (dg_bd p i) ?_
          have K2 : wX_sumMayHold_14 post k q (nI c) cC wN rU mO tO bS dE iC aD aK aP aQ aR aN aW aC aG' aV aS aI aT aY aU aB aM aA n (zI (ps (dg p) (fun v => sl (dg p v) (vs c y m v) (vg c y m v)) i + dg p i * (sl (dg p i) (vs c y m i) (vg c y m i) : Int))) (zI (ps (dg p) (fun v => sg (dg p v) (vs c y m v) (vg c y m v)) i + dg p i * (sg (dg p i) (vs c y m i) (vg c y m i) : Int))) (nI (i + 1)) := K'
          rw [e1, e2] at K2
          exact K2))
  exact K
/-! numbers of bits below 4 -/
theorem zp_16 : ∀ m, m < 16 → zp m = (m.testBit 0).toNat + (m.testBit 1).toNat + (m.testBit 2).toNat + (m.testBit 3).toNat := by decide +kernel
theorem ib_bit (m v : Nat) : ib (m.testBit v = true) = (m.testBit v).toNat := by
  cases h : m.testBit v
  · exact ib_f (by decide)
  · exact ib_t rfl
theorem zp_ib {m : Nat} (h : m < 16) : zp m = ib (m.testBit 0 = true) + ib (m.testBit 1 = true) + ib (m.testBit 2 = true) + ib (m.testBit 3 = true) := by
  rw [zp_16 m h, ib_bit, ib_bit, ib_bit, ib_bit]
theorem hm_4 (p r : Nat) (x : Nat → Nat) : hm p r x 4 = ib (p.testBit 0 = true ∧ x 0 = r) + ib (p.testBit 1 = true ∧ x 1 = r) + ib (p.testBit 2 = true ∧ x 2 = r) + ib (p.testBit 3 = true ∧ x 3 = r) := by
  have e : hm p r x 4 = 0 + ib (p.testBit 0 = true ∧ x 0 = r) + ib (p.testBit 1 = true ∧ x 1 = r) + ib (p.testBit 2 = true ∧ x 2 = r) + ib (p.testBit 3 = true ∧ x 3 = r) := rfl
  rw [e]
  omega
theorem ib_imp {p q : Prop} (h : p → q) : ib p ≤ ib q := by
  by_cases hp : p
  · rw [ib_t hp, ib_t (h hp)]; omega
  · rw [ib_f hp]; omega
theorem ib_or {p q r : Prop} (h : p → q ∨ r) : ib p ≤ ib q + ib r := by
  by_cases hp : p
  · rw [ib_t hp]
    rcases h hp with z | z
    · rw [ib_t z]; omega
    · rw [ib_t z]; omega
  · rw [ib_f hp]; omega
theorem bf_bit {p c v : Nat} : (p &&& (2 ^ c - 1)).testBit v = true ↔ (p.testBit v = true ∧ v < c) := by
  rw [Nat.testBit_and, Nat.testBit_two_pow_sub_one, Bool.and_eq_true, decide_eq_true_iff]
theorem an_bit {p c v : Nat} : (zx_an p (2 ^ c - 1)).testBit v = true ↔ (p.testBit v = true ∧ ¬ v < c) := by
  rw [zx_anb, Nat.testBit_two_pow_sub_one, Bool.and_eq_true, Bool.not_eq_true', decide_eq_false_iff_not]
theorem hm_lo {p r c : Nat} {x y : Nat → Nat} (h : ∀ v, v < c → x v = y v) (hp : p < 16) : hm (p &&& (2 ^ c - 1)) r y 4 ≤ hm p r x 4 ∧ hm p r x 4 ≤ hm (p &&& (2 ^ c - 1)) r y 4 + zp (zx_an p (2 ^ c - 1)) := by
  have a : ∀ v, ib ((p &&& (2 ^ c - 1)).testBit v = true ∧ y v = r) ≤ ib (p.testBit v = true ∧ x v = r) := fun v => ib_imp (fun z => ⟨(bf_bit.mp z.1).1, by rw [h v (bf_bit.mp z.1).2]; exact z.2⟩)
  have b : ∀ v, ib (p.testBit v = true ∧ x v = r) ≤ ib ((p &&& (2 ^ c - 1)).testBit v = true ∧ y v = r) + ib ((zx_an p (2 ^ c - 1)).testBit v = true) := fun v => ib_or (fun z => by
    by_cases hv : v < c
    · exact Or.inl ⟨bf_bit.mpr ⟨z.1, hv⟩, by rw [← h v hv]; exact z.2⟩
    · exact Or.inr (an_bit.mpr ⟨z.1, hv⟩))
  have l := zx_anle p (2 ^ c - 1)
  rw [hm_4, hm_4, zp_ib (by omega)]
  have a0 := a 0; have a1 := a 1; have a2 := a 2; have a3 := a 3
  have b0 := b 0; have b1 := b 1; have b2 := b 2; have b3 := b 3
  omega
set_option maxHeartbeats 1600000 in
theorem wx_mayHold {post : Int32 → SX → Prop} {i c : Nat} {m y : Nat → Nat} (hi : i < 10) (hc1 : 1 ≤ c) (hc : c ≤ 4) (hF : FT (aK i) (aP i) (aQ i) (aR i)) (hN : ∀ v, v < 4 → aN v = nI (m v)) (hmm : ∀ v, v < 4 → m v < 64 ∧ 0 < m v)
    (hy : ∀ v, v < c → aC v = nI (y v) ∧ y v < 6)
    (h0 : (∀ x, (∀ v, v < c → x v = y v) → IB m x → ¬ hs (aK i) (aP i) (aQ i) (aR i) x) → ∀ (iC' : Int32) (aG' aI' : Nat → Int32), post 0 (cC, wN, rU, mO, tO, bS, dE, iC', aD, aK, aP, aQ, aR, aN, aW, aC, aG', aV, aS, aI', aT, aY, aU, aB, aM, aA))
    (h1 : (c = 4 → hs (aK i) (aP i) (aQ i) (aR i) y) → ∀ (iC' : Int32) (aG' aI' : Nat → Int32), post 1 (cC, wN, rU, mO, tO, bS, dE, iC', aD, aK, aP, aQ, aR, aN, aW, aC, aG', aV, aS, aI', aT, aY, aU, aB, aM, aA)) : wpX_mayHold post (cC, wN, rU, mO, tO, bS, dE, iC, aD, aK, aP, aQ, aR, aN, aW, aC, aG, aV, aS, aI, aT, aY, aU, aB, aM, aA) (nI i) (nI c) := by
  by_cases c4 : c = 4
  · subst c4
    refine br_t rfl (wx_holds (x := y) hi hF (fun v hv => (hy v hv).1) (fun v hv => (hy v hv).2) (fun aG' => And.intro (bI_n _) ?_))
    by_cases hh : hs (aK i) (aP i) (aQ i) (aR i) y
    · rw [bI_t hh]
      exact h1 (fun _ => hh) iC aG' aI
    · rw [bI_f hh]
      exact h0 (fun x hx _ z => hh ((hs_ext hF hx).mp z)) iC aG' aI
  · refine br_f (fun z => c4 ((nI_eq (b := 4) (by omega) (by omega)).mp z)) ⟨zi10 hi, nm_r (congrArg aK (zcl (by omega))) ?_⟩
    by_cases hL : FL (aK i) (aP i) (aQ i) (aR i)
    · have hk : ¬ aK i = 0 ∧ ¬ aK i = 1 ∧ ¬ aK i = 2 ∧ ¬ aK i = 7 := by
        rcases hL with ⟨e, -⟩ | ⟨e, -⟩ | ⟨e, -⟩ | ⟨e, -⟩ | ⟨e, -⟩ <;> rw [e] <;> decide
      refine br_f hk.1 (br_f hk.2.1 (nm_e (br_f hk.2.2.1 (br_f hk.2.2.2 (wx_listInv hi hL (fun aI' hI => ?_))))))
      have hle := lc_le (aK i)
      show ∃ n, wX_mayHold_155 post (nI i) (nI c) cC wN rU mO tO bS dE (nI (lc (aK i))) aD aK aP aQ aR aN aW aC aG aV aS aI' aT aY aU aB aM aA n 0
      exact pk_loop (σ := Unit) (fun n k _ => wX_mayHold_155 post (nI i) (nI c) cC wN rU mO tO bS dE (nI (lc (aK i))) aD aK aP aQ aR aN aW aC aG aV aS aI' aT aY aU aB aM aA n (nI k)) (fun k _ => ∀ j, j < k → ej (aK i) (aP i) (aQ i) (aR i) j < c) (lc (aK i)) 0 () (by omega) (fun j hj => absurd hj (by omega))
        (fun n _ hJ => br_t (nI_le (by omega) (by omega)) (wx_holdsL (x := y) hi hL (fun k hk => hy _ (hJ k hk)) (And.intro (bI_n _) (by
          by_cases hh : hs (aK i) (aP i) (aQ i) (aR i) y
          · rw [bI_t hh]
            exact h1 (fun z => absurd z c4) _ aG aI'
          · rw [bI_f hh]
            exact h0 (fun x hx _ z => hh ((hs_loc hL (fun k hk => hx _ (hJ k hk))).mp z)) _ aG aI'))))
        (fun n k _ hk hJ K => br_f (nI_ge hk (by omega)) ⟨zi4 (by omega), (by
          have e : aI' (nI k).toNatClampNeg = nI (ej (aK i) (aP i) (aQ i) (aR i) k) := by rw [zcl (by omega)]; exact hI k hk
          have hl := ej_lt hL k hk
          rw [e]
          by_cases hv : ej (aK i) (aP i) (aQ i) (aR i) k < c
          · exact br_t (nI_lt hv (by omega)) (nm_r (nI_1 k) (K () (lt_s hJ hv)))
          · exact br_f (nI_nlt (by omega) (by omega)) (h1 (fun z => absurd z c4) _ aG aI'))⟩)
    · have eK : aK (nI i).toNatClampNeg = aK i := congrArg aK (zcl (by omega))
      have eP : aP (nI i).toNatClampNeg = aP i := congrArg aP (zcl (by omega))
      have eQ : aQ (nI i).toNatClampNeg = aQ i := congrArg aQ (zcl (by omega))
      have eR : aR (nI i).toNatClampNeg = aR i := congrArg aR (zcl (by omega))
      have eb : ((1 : Int32) <<< (nI c &&& 31)) - 1 = nI (2 ^ c - 1) := by
        rw [zx_shl (by omega)]
        exact pk_sub (b := 1) (Nat.one_le_two_pow)
      rcases hF with ⟨hk, p, hp, hP, q1, q2⟩ | ⟨hk, p, hp, hP⟩ | ⟨hk, p, q, r, hp, hq, hr, hP, hQ, hR⟩ | hF
      · have hS : ∀ k : Int32, aK i = k → k = 0 ∨ k = 1 → wX_mayHold_27 post (nI i) (nI c) (aK i) cC wN rU mO tO bS dE iC aD aK aP aQ aR aN aW aC aG aV aS aI aT aY aU aB aM aA := by
          intro k e hk
          unfold wX_mayHold_27
          rw [eP, eQ, hP]
          refine And.intro (zi10 hi) ⟨zi10 hi, wx_sumMay (p := p) (c := c) (m := m) (y := y) hp hc (by rw [e]; exact hk) hN hmm hy (fun z aG' => And.intro narrow_b0 (h0 (fun x hx hb hh => z x hx hb ?_) _ aG' _)) (fun aG' => And.intro narrow_b1 (h1 (fun z => absurd z c4) _ aG' _))⟩
          rw [hP] at hh
          rcases hk with rfl | rfl
          · rw [e, hs_0, nn_n (by omega)] at hh
            exact Or.inl ⟨e, hh⟩
          · rw [e, hs_1, nn_n (by omega)] at hh
            exact Or.inr ⟨e, hh⟩
        rcases hk with e | e
        · exact br_t e (hS 0 e (Or.inl rfl))
        · exact br_f (by rw [e]; decide) (br_t e (hS 1 e (Or.inr rfl)))
      · refine br_f (by rw [hk]; decide) (br_f (by rw [hk]; decide) (nm_r eb (br_t hk ⟨zi10 hi, ?_⟩)))
        rw [eP, hP, nx_and]
        have hb : (p &&& (2 ^ c - 1)) ≤ p := Nat.and_le_left
        refine wx_differ (x := y) (by omega) (fun v _ z => hy v (bf_bit.mp z).2) (And.intro (bI_n _) ?_)
        by_cases hd : df (p &&& (2 ^ c - 1)) y 4
        · rw [bI_t hd]
          exact h1 (fun z => absurd z c4) _ _ _
        · rw [bI_f hd]
          refine h0 (fun x hx _ hh => hd ?_) _ _ _
          rw [hk, hs_2, hP, nn_n (by omega)] at hh
          intro v hv w hw bv bw
          rw [← hx v (bf_bit.mp bv).2, ← hx w (bf_bit.mp bw).2]
          exact hh v hv w hw (bf_bit.mp bv).1 (bf_bit.mp bw).1
      · refine br_f (by rw [hk]; decide) (br_f (by rw [hk]; decide) (nm_r eb (br_f (by rw [hk]; decide) (br_t hk ⟨zi10 hi, zi10 hi, ?_⟩))))
        rw [eP, eQ, eR, hP, hQ, hR, nx_and, zx_and]
        have hb : (p &&& (2 ^ c - 1)) ≤ p := Nat.and_le_left
        have ha := zx_anle p (2 ^ c - 1)
        have hh1 := hm_le (p := p &&& (2 ^ c - 1)) (r := r) (x := y) 4
        have hh2 := zp_le (zx_an p (2 ^ c - 1)) (by omega)
        have bad : (q < hm (p &&& (2 ^ c - 1)) r y 4 ∨ hm (p &&& (2 ^ c - 1)) r y 4 + zp (zx_an p (2 ^ c - 1)) < q) → ∀ (iC' : Int32) (aG' aI' : Nat → Int32), post 0 (cC, wN, rU, mO, tO, bS, dE, iC', aD, aK, aP, aQ, aR, aN, aW, aC, aG', aV, aS, aI', aT, aY, aU, aB, aM, aA) := by
          intro z
          refine h0 (fun x hx _ hh => ?_)
          rw [hk, hs_7, hP, hQ, hR, nn_n (by omega), nn_n (by omega), nn_n (by omega)] at hh
          have := hm_lo (r := r) hx (by omega : p < 16)
          omega
        refine wx_howMany (x := y) (by omega) hr (fun v _ z => hy v (bf_bit.mp z).2) ⟨zi10 hi, wx_ones (by omega) ⟨zi10 hi, ?_⟩⟩
        by_cases c1 : q < hm (p &&& (2 ^ c - 1)) r y 4
        · exact br_t (nI_lt c1 (by omega)) (bad (Or.inl c1) _ _ _)
        · refine br_f (nI_nlt (by omega) (by omega)) ⟨zi10 hi, ?_⟩
          rw [nI_add]
          by_cases c2 : hm (p &&& (2 ^ c - 1)) r y 4 + zp (zx_an p (2 ^ c - 1)) < q
          · exact br_t (nI_lt c2 (by omega)) (bad (Or.inr c2) _ _ _)
          · exact br_f (nI_nlt (by omega) (by omega)) (h1 (fun z => absurd z c4) _ _ _)
      · exact absurd hF hL
theorem wx_mayGoOn {post : Int32 → SX → Prop} {n rl c : Nat} {m y : Nat → Nat} (hn : n ≤ 10) (hr : rl < 1024) (hc1 : 1 ≤ c) (hc : c ≤ 4) (hF : ∀ i, i < n → FT (aK i) (aP i) (aQ i) (aR i)) (hN : ∀ v, v < 4 → aN v = nI (m v)) (hm : ∀ v, v < 4 → m v < 64 ∧ 0 < m v)
    (hy : ∀ v, v < c → aC v = nI (y v) ∧ y v < 6)
    (h0 : (∀ x, (∀ v, v < c → x v = y v) → IB m x → ¬ HA n rl aK aP aQ aR x) → ∀ (iC' : Int32) (aG' aI' : Nat → Int32), post 0 (nI n, wN, nI rl, mO, tO, bS, dE, iC', aD, aK, aP, aQ, aR, aN, aW, aC, aG', aV, aS, aI', aT, aY, aU, aB, aM, aA))
    (h1 : (c = 4 → HA n rl aK aP aQ aR y) → ∀ (iC' : Int32) (aG' aI' : Nat → Int32), post 1 (nI n, wN, nI rl, mO, tO, bS, dE, iC', aD, aK, aP, aQ, aR, aN, aW, aC, aG', aV, aS, aI', aT, aY, aU, aB, aM, aA)) : wpX_mayGoOn post (nI n, wN, nI rl, mO, tO, bS, dE, iC, aD, aK, aP, aQ, aR, aN, aW, aC, aG, aV, aS, aI, aT, aY, aU, aB, aM, aA) (nI c) :=
  pk_loop (σ := Int32 × (Nat → Int32) × (Nat → Int32)) (fun k i s => wX_mayGoOn_2 post (nI c) k (nI i) (nI n) wN (nI rl) mO tO bS dE s.1 aD aK aP aQ aR aN aW aC s.2.1 aV aS s.2.2 aT aY aU aB aM aA) (fun i _ => c = 4 → ∀ j, j < i → rl.testBit j = true → hs (aK j) (aP j) (aQ j) (aR j) y) n 0 (iC, aG, aI) (by omega) (fun _ j hj => absurd hj (by omega))
    (fun k s hI => br_t (nI_le (by omega) (by omega)) (h1 hI _ _ _))
    (fun k i s hi hI K => br_f (nI_ge hi (by omega)) (wx_isRule hr (by omega) (by
      by_cases hb : rl.testBit i = true
      · refine br_f (fun z => bI_0.mp z hb) (wx_mayHold (m := m) (y := y) (by omega) hc1 hc (hF i hi) hN hm hy (fun z iC' aG' aI' => ?_) (fun z iC' aG' aI' => ?_))
        · exact br_t rfl (h0 (fun x hx hx' hh => z x hx hx' (hh i hi hb)) _ _ _)
        · exact br_f (by decide) (nm_r (nI_1 i) (K (iC', aG', aI') (fun e => lt_s (hI e) (fun _ => z e))))
      · exact br_t (bI_0.mpr hb) (nm_r (nI_1 i) (K s (fun e => lt_s (hI e) (fun z => absurd z hb)))))))
end W3
end
section
/-! X: solveByTrying -/
section W4
variable {cC wN rU mO tO bS dE iC : Int32} {aD aK aP aQ aR aN aW aC aG aV aS aI aT aY aU aB aM aA : Nat → Int32}
noncomputable def Rm (H : (Nat → Nat) → Prop) (w : Nat → Int) (m : Nat → Nat) (B : Nat) (h : Int → Nat) : Nat :=
  sN 1296 (fun a => iz (B ≤ a ∧ IB m (av a) ∧ H (av a)) (h (ps w (av a) 4)) 0)
theorem Rm_0 {H : (Nat → Nat) → Prop} {w : Nat → Int} {m : Nat → Nat} (h : Int → Nat) : Rm H w m 0 h = CB H w m h := by
  refine sN_c 1296 (fun a _ => ?_)
  by_cases q : IB m (av a) ∧ H (av a)
  · rw [iz_t q, iz_t ⟨Nat.zero_le a, q⟩]
  · rw [iz_f q, iz_f (fun z => q z.2)]
theorem Rm_end {H : (Nat → Nat) → Prop} {w : Nat → Int} {m : Nat → Nat} (h : Int → Nat) : Rm H w m 1296 h = 0 :=
  sN_0 1296 (fun a ha => iz_f (fun z => absurd z.1 (by omega)))
theorem Rm_skip {H : (Nat → Nat) → Prop} {w : Nat → Int} {m : Nat → Nat} {B B' : Nat} (hB : B ≤ B') (hn : ∀ a, B ≤ a → a < B' → IB m (av a) → ¬ H (av a)) (h : Int → Nat) : Rm H w m B h = Rm H w m B' h := by
  refine sN_c 1296 (fun a _ => ?_)
  by_cases q : B' ≤ a ∧ IB m (av a) ∧ H (av a)
  · rw [iz_t q, iz_t ⟨by omega, q.2⟩]
  · rw [iz_f q, iz_f (fun z => ?_)]
    by_cases l : B' ≤ a
    · exact q ⟨l, z.2⟩
    · exact hn a z.1 (by omega) z.2.1 z.2.2
theorem Rm_take {H : (Nat → Nat) → Prop} {w : Nat → Int} {m : Nat → Nat} {B : Nat} (hB : B < 1296) (h1 : IB m (av B)) (h2 : H (av B)) (h : Int → Nat) : Rm H w m B h = Rm H w m (B + 1) h + h (ps w (av B) 4) := by
  have e : h (ps w (av B) 4) = sN 1296 (fun a => iz (a = B) (h (ps w (av a) 4)) 0) := by
    rw [sN_one 1296 hB (fun a _ hne => iz_f hne)]
    exact (iz_t rfl).symm
  unfold Rm
  rw [e, ← sN_add]
  refine sN_c 1296 (fun a _ => ?_)
  by_cases ea : a = B
  · subst ea
    rw [iz_t ⟨Nat.le_refl a, h1, h2⟩, iz_f (fun z => absurd z.1 (by omega)), iz_t rfl]; omega
  · rw [iz_f (p := a = B) ea]
    by_cases q : B + 1 ≤ a ∧ IB m (av a) ∧ H (av a)
    · rw [iz_t q, iz_t ⟨by omega, q.2⟩, Nat.add_zero]
    · rw [iz_f q, iz_f (fun z => q ⟨by omega, z.2⟩)]
/-- the number of the next assignment to look at: w variables have values, the last one its next value -/
def Bd (w : Nat) (y : Nat → Nat) : Nat :=
  match w with
  | 0 => 1296
  | 1 => 216 * y 0
  | 2 => 216 * y 0 + 36 * y 1
  | 3 => 216 * y 0 + 36 * y 1 + 6 * y 2
  | _ => 216 * y 0 + 36 * y 1 + 6 * y 2 + y 3
def Bp (w : Nat) : Nat := match w with
  | 0 => 0
  | 1 => 216
  | 2 => 36
  | 3 => 6
  | _ => 1
theorem Bd_pre {w : Nat} {y : Nat → Nat} (h1 : 1 ≤ w) (h4 : w ≤ 4) (hy : ∀ u, u < w → y u < 6) {a : Nat} (ha : Bd w y ≤ a) (hb : a < Bd w y + Bp w) : ∀ u, u < w → av a u = y u := by
  have hw : w = 1 ∨ w = 2 ∨ w = 3 ∨ w = 4 := by omega
  rcases hw with rfl | rfl | rfl | rfl
  · have y0 := hy 0 (by omega)
    have ha' : 216 * y 0 ≤ a := ha
    have hb' : a < 216 * y 0 + 216 := hb
    intro u hu
    have e : u = 0 := by omega
    subst e
    rw [av_0]; omega
  · have y0 := hy 0 (by omega)
    have y1 := hy 1 (by omega)
    have ha' : 216 * y 0 + 36 * y 1 ≤ a := ha
    have hb' : a < 216 * y 0 + 36 * y 1 + 36 := hb
    intro u hu
    have e : u = 0 ∨ u = 1 := by omega
    rcases e with rfl | rfl
    · rw [av_0]; omega
    · rw [av_1]; omega
  · have y0 := hy 0 (by omega)
    have y1 := hy 1 (by omega)
    have y2 := hy 2 (by omega)
    have ha' : 216 * y 0 + 36 * y 1 + 6 * y 2 ≤ a := ha
    have hb' : a < 216 * y 0 + 36 * y 1 + 6 * y 2 + 6 := hb
    intro u hu
    have e : u = 0 ∨ u = 1 ∨ u = 2 := by omega
    rcases e with rfl | rfl | rfl
    · rw [av_0]; omega
    · rw [av_1]; omega
    · rw [av_2]; omega
  · have y0 := hy 0 (by omega)
    have y1 := hy 1 (by omega)
    have y2 := hy 2 (by omega)
    have y3 := hy 3 (by omega)
    have ha' : 216 * y 0 + 36 * y 1 + 6 * y 2 + y 3 ≤ a := ha
    have hb' : a < 216 * y 0 + 36 * y 1 + 6 * y 2 + y 3 + 1 := hb
    intro u hu
    rcases z4c hu with rfl | rfl | rfl | rfl
    · rw [av_0]; omega
    · rw [av_1]; omega
    · rw [av_2]; omega
    · rw [av_3]; omega
theorem Bd_next {w : Nat} {y : Nat → Nat} (h4 : w < 4) : Bd (w + 1) (uN4 y w (y w + 1)) = Bd (w + 1) y + Bp (w + 1) := by
  rcases z4c h4 with rfl | rfl | rfl | rfl
  · show 216 * (y 0 + 1) = 216 * y 0 + 216
    omega
  · show 216 * y 0 + 36 * (y 1 + 1) = 216 * y 0 + 36 * y 1 + 36
    omega
  · show 216 * y 0 + 36 * y 1 + 6 * (y 2 + 1) = 216 * y 0 + 36 * y 1 + 6 * y 2 + 6
    omega
  · show 216 * y 0 + 36 * y 1 + 6 * y 2 + (y 3 + 1) = 216 * y 0 + 36 * y 1 + 6 * y 2 + y 3 + 1
    omega
theorem Bd_down {w : Nat} {y : Nat → Nat} (h4 : w < 3) : Bd (w + 2) (uN4 y (w + 1) 0) = Bd (w + 1) y := by
  have hw : w = 0 ∨ w = 1 ∨ w = 2 := by omega
  rcases hw with rfl | rfl | rfl
  · show 216 * y 0 + 36 * 0 = 216 * y 0
    omega
  · show 216 * y 0 + 36 * y 1 + 6 * 0 = 216 * y 0 + 36 * y 1
    omega
  · show 216 * y 0 + 36 * y 1 + 6 * y 2 + 0 = 216 * y 0 + 36 * y 1 + 6 * y 2
    omega
theorem Bd_up {w : Nat} {y : Nat → Nat} (h4 : w < 3) (h6 : y (w + 1) = 6) : Bd (w + 1) (uN4 y w (y w + 1)) = Bd (w + 2) y := by
  have hw : w = 0 ∨ w = 1 ∨ w = 2 := by omega
  rcases hw with rfl | rfl | rfl
  · show 216 * (y 0 + 1) = 216 * y 0 + 36 * y 1
    have : y 1 = 6 := h6
    omega
  · show 216 * y 0 + 36 * (y 1 + 1) = 216 * y 0 + 36 * y 1 + 6 * y 2
    have : y 2 = 6 := h6
    omega
  · show 216 * y 0 + 36 * y 1 + 6 * (y 2 + 1) = 216 * y 0 + 36 * y 1 + 6 * y 2 + y 3
    have : y 3 = 6 := h6
    omega
theorem Bd_lt {w : Nat} {y : Nat → Nat} (h4 : w < 4) (hy : ∀ u, u < w + 1 → y u < 6) : Bd (w + 1) y + Bp (w + 1) ≤ 1296 ∧ 1 ≤ Bp (w + 1) := by
  rcases z4c h4 with rfl | rfl | rfl | rfl
  · have y0 := hy 0 (by omega)
    show 216 * y 0 + 216 ≤ 1296 ∧ 1 ≤ 216
    omega
  · have y0 := hy 0 (by omega)
    have y1 := hy 1 (by omega)
    show 216 * y 0 + 36 * y 1 + 36 ≤ 1296 ∧ 1 ≤ 36
    omega
  · have y0 := hy 0 (by omega)
    have y1 := hy 1 (by omega)
    have y2 := hy 2 (by omega)
    show 216 * y 0 + 36 * y 1 + 6 * y 2 + 6 ≤ 1296 ∧ 1 ≤ 6
    omega
  · have y0 := hy 0 (by omega)
    have y1 := hy 1 (by omega)
    have y2 := hy 2 (by omega)
    have y3 := hy 3 (by omega)
    show 216 * y 0 + 36 * y 1 + 6 * y 2 + y 3 + 1 ≤ 1296 ∧ 1 ≤ 1
    omega
/-- the place: w variables at work, y their values, the last one's the next to try -/
def TI (m : Nat → Nat) (w : Nat) (y : Nat → Nat) (aC : Nat → Int32) : Prop :=
  w ≤ 4 ∧ (∀ u, u + 1 < w → aC u = nI (y u) ∧ y u < 6 ∧ (m u).testBit (y u) = true) ∧ (∀ u, u + 1 = w → aC u = zI ((y u : Int) - 1) ∧ y u ≤ 6)
def TM (w : Nat) (y : Nat → Nat) : Nat := 20 * (1296 - Bd w y) + (if w = 0 then 0 else if y (w - 1) = 6 then 10 + w else 5 - w)
theorem TM_0 (y : Nat → Nat) : TM 0 y = 0 := rfl
theorem TM_6 {w : Nat} {y : Nat → Nat} (h : y w = 6) : TM (w + 1) y = 20 * (1296 - Bd (w + 1) y) + (11 + w) := by
  show 20 * (1296 - Bd (w + 1) y) + (if w + 1 = 0 then 0 else if y w = 6 then 10 + (w + 1) else 5 - (w + 1)) = _
  rw [if_neg (by omega), if_pos h]; omega
theorem TM_n {w : Nat} {y : Nat → Nat} (h : y w ≠ 6) : TM (w + 1) y = 20 * (1296 - Bd (w + 1) y) + (4 - w) := by
  show 20 * (1296 - Bd (w + 1) y) + (if w + 1 = 0 then 0 else if y w = 6 then 10 + (w + 1) else 5 - (w + 1)) = _
  rw [if_neg (by omega), if_neg h]; omega
theorem TM_le {w : Nat} {y : Nat → Nat} (hw : w ≤ 3) : TM (w + 1) y ≤ 20 * (1296 - Bd (w + 1) y) + (11 + w) := by
  by_cases h : y w = 6
  · rw [TM_6 h]; omega
  · rw [TM_n h]; omega
/-- to the next value of the same variable -/
theorem TI_next {m : Nat → Nat} {w : Nat} {y : Nat → Nat} {aC : Nat → Int32} (h4 : w < 4) (h : TI m (w + 1) y aC) (hy : y w ≤ 5) {aC' : Nat → Int32} (e1 : ∀ u, u < w → aC' u = aC u) (e2 : aC' w = nI (y w)) :
    TI m (w + 1) (uN4 y w (y w + 1)) aC' ∧ TM (w + 1) (uN4 y w (y w + 1)) < TM (w + 1) y := by
  refine ⟨⟨by omega, fun u hu => ?_, fun u hu => ?_⟩, ?_⟩
  · rw [uN4_n (by omega), e1 u (by omega)]; exact h.2.1 u hu
  · have e : u = w := by omega
    subst e
    rw [uN4_s, e2]
    refine ⟨?_, by omega⟩
    rw [zn_n]
    exact congrArg zI (by omega)
  · have hyu : ∀ u, u < w + 1 → y u < 6 := by
      intro u hu
      by_cases e : u = w
      · subst e; omega
      · exact (h.2.1 u (by omega)).2.1
    have hl := Bd_lt h4 hyu
    have hn := Bd_next (y := y) h4
    have t1 := TM_le (w := w) (y := uN4 y w (y w + 1)) (by omega)
    have t2 := TM_n (w := w) (y := y) (by omega)
    omega
set_option maxHeartbeats 3200000 in
theorem wx_trying {post : SX → Prop} {n rl md : Nat} {m : Nat → Nat} {w : Nat → Int} (hn : n ≤ 10) (hr : rl < 1024) (hmd : md ≤ 2) (hF : ∀ i, i < n → FT (aK i) (aP i) (aQ i) (aR i)) (hN : ∀ v, v < 4 → aN v = nI (m v)) (hm : ∀ v, v < 4 → m v < 64 ∧ 0 < m v)
    (hw : md = 2 → ∀ v, v < 4 → aW v = zI (w v) ∧ -3 ≤ w v ∧ w v ≤ 3)
    (h : ∀ (tot' : Nat) (b' : Int) (iC' : Int32) (aC' aG' aI' : Nat → Int32), Sp md (CB (HA n rl aK aP aQ aR) w m) tot' b' → post (nI n, wN, nI rl, nI md, nI tot', zI b', dE, iC', aD, aK, aP, aQ, aR, aN, aW, aC', aG', aV, aS, aI', aT, aY, aU, aB, aM, aA)) :
    wpX_solveByTrying post (nI n, wN, nI rl, nI md, 0, 1000, dE, iC, aD, aK, aP, aQ, aR, aN, aW, aC, aG, aV, aS, aI, aT, aY, aU, aB, aM, aA) := by
  have hbd : ∀ f, (∀ t, f t ≤ 1) → CB (HA n rl aK aP aQ aR) w m f ≤ 1296 := fun f hf => CB_le hf
  refine nm_r (e' := upd aC 0 (-1)) (by rw [zb_v (by decide) (by decide)]) ?_
  have K : ∃ k, wX_solveByTrying_9 post k (zI (((1 : Nat) : Int) - 1)) (nI n) wN (nI rl) (nI md) (nI 0) (zI 1000) dE iC aD aK aP aQ aR aN aW (upd aC 0 (-1)) aG aV aS aI aT aY aU aB aM aA := by
    refine lp8 (fun k (p : Nat) (y : Nat → Nat) (tot : Nat) (b : Int) (iC : Int32) (aC : Nat → Int32) (aG : Nat → Int32) (aI : Nat → Int32) => wX_solveByTrying_9 post k (zI ((p : Int) - 1)) (nI n) wN (nI rl) (nI md) (nI tot) (zI b) dE iC aD aK aP aQ aR aN aW aC aG aV aS aI aT aY aU aB aM aA)
      (fun p y tot b _ aC _ _ => TI m p y aC ∧ Ac md (CB (HA n rl aK aP aQ aR) w m) (Rm (HA n rl aK aP aQ aR) w m (Bd p y)) tot b)
      (fun p y _ _ _ _ _ _ => TM p y) ?_ 1 (fun _ => 0) 0 1000 iC (upd aC 0 (-1)) aG aI ?_
    · intro k p y tot b iC aC aG aI ⟨hT, hA⟩ K
      by_cases p0 : p = 0
      · subst p0
        exact br_t (by decide) (h tot b iC aC aG aI (Ac_end hA Rm_end))
      · obtain ⟨v, rfl⟩ : ∃ v, p = v + 1 := ⟨p - 1, by omega⟩
        have hv : v < 4 := by have := hT.1; omega
        have ex : zI (((v + 1 : Nat) : Int) - 1) = nI v := by rw [zn_n]; exact congrArg zI (by omega)
        show wX_solveByTrying_9 post (k + 1) (zI (((v + 1 : Nat) : Int) - 1)) (nI n) wN (nI rl) (nI md) (nI tot) (zI b) dE iC aD aK aP aQ aR aN aW aC aG aV aS aI aT aY aU aB aM aA
        rw [ex]
        obtain ⟨hC, hy6⟩ := hT.2.2 v rfl
        have eU : upd aC (nI v).toNatClampNeg (vp_nar .byte ((aC (nI v).toNatClampNeg + 1).toInt8.toInt32)) = upd aC v (nI (y v)) := by
          rw [zcl (by omega), hC, show (1 : Int32) = zI 1 from rfl, zn_add, show (y v : Int) - 1 + 1 = (y v : Int) by omega, ← zn_n, zb_n8 (by omega)]
        have eV : upd aC v (nI (y v)) (nI v).toNatClampNeg = nI (y v) := by rw [zcl (by omega), pk_us]
        refine br_f (nI_pos (by omega)) ⟨zi4 hv, zi4 hv, nm_r eU ⟨zi4 hv, ?_⟩⟩
        by_cases y5 : y v ≤ 5
        · have hyu : ∀ u, u < v + 1 → y u < 6 := by
            intro u hu
            by_cases e : u = v
            · subst e; omega
            · exact (hT.2.1 u (by omega)).2.1
          have hl := Bd_lt hv hyu
          have hnx := Bd_next (y := y) hv
          refine br_t (by rw [eV]; exact nI_le (b := 5) y5 (by decide)) ⟨zi4 hv, zi4 hv, ?_⟩
          have eN : aN (nI v).toNatClampNeg = nI (m v) := by rw [zcl (by omega)]; exact hN v hv
          rw [eV, eN]
          have hmv := hm v hv
          cases hb : (m v).testBit (y v)
          · refine br_t ((zx_b0 (by omega) (by omega)).mpr hb) ?_
            obtain ⟨t1, t2⟩ := TI_next hv hT y5 (aC' := upd aC v (nI (y v))) (fun u hu => pk_un (by omega)) pk_us
            have := K (v + 1) (uN4 y v (y v + 1)) tot b iC (upd aC v (nI (y v))) aG aI ⟨t1, ?_⟩ t2
            · rw [ex] at this
              exact this
            · rw [hnx]
              refine Ac_c hA (Rm_skip (by omega) (fun a h1 h2 h3 _ => ?_))
              have e := Bd_pre (by omega) (by omega) hyu h1 h2 v (by omega)
              have := h3 v hv
              rw [e, hb] at this
              exact absurd this (by decide)
          · refine br_f (fun z => by rw [zx_b0 (by omega) (by omega), hb] at z; exact absurd z (by decide)) ?_
            rw [nI_1 v]
            have hyc : ∀ u, u < v + 1 → upd aC v (nI (y v)) u = nI (y u) ∧ y u < 6 := by
              intro u hu
              by_cases e : u = v
              · subst e; exact ⟨pk_us, by omega⟩
              · rw [pk_un e]; exact ⟨(hT.2.1 u (by omega)).1, (hT.2.1 u (by omega)).2.1⟩
            have hyb : ∀ u, u < v + 1 → (m u).testBit (y u) = true := by
              intro u hu
              by_cases e : u = v
              · subst e; exact hb
              · exact (hT.2.1 u (by omega)).2.2
            refine wx_mayGoOn (m := m) (y := y) hn hr (by omega) (by omega) hF hN hm hyc (fun z iC' aG' aI' => ?_) (fun z iC' aG' aI' => ?_)
            · refine br_t rfl ?_
              obtain ⟨t1, t2⟩ := TI_next hv hT y5 (aC' := upd aC v (nI (y v))) (fun u hu => pk_un (by omega)) pk_us
              have := K (v + 1) (uN4 y v (y v + 1)) tot b iC' (upd aC v (nI (y v))) aG' aI' ⟨t1, ?_⟩ t2
              · rw [ex] at this
                exact this
              · rw [hnx]
                refine Ac_c hA (Rm_skip (by omega) (fun a h1 h2 h3 => ?_))
                exact z (av a) (Bd_pre (by omega) (by omega) hyu h1 h2) h3
            · refine br_f (by decide) ?_
              by_cases v3 : v = 3
              · subst v3
                refine br_t (by decide) ?_
                have hB : Bd (3 + 1) y < 1296 := by omega
                have hpre := Bd_pre (w := 3 + 1) (by omega) (by omega) hyu (Nat.le_refl _) (by have := hl.2; omega)
                have hps : ps w (av (Bd (3 + 1) y)) 4 = ps w y 4 := ps_ext 4 hpre
                have hHA : HA n rl aK aP aQ aR (av (Bd (3 + 1) y)) := HA_ext hF (fun u hu => (hpre u hu).symm) (z rfl)
                have hIB : IB m (av (Bd (3 + 1) y)) := fun u hu => by rw [hpre u hu]; exact hyb u hu
                refine wx_take (w := w) (x := y) (R' := Rm (HA n rl aK aP aQ aR) w m (Bd (3 + 1) (uN4 y 3 (y 3 + 1)))) hmd (fun u hu => (hyc u hu).1) (fun u hu => (hyc u hu).2) hw hA (fun f => ?_) hbd (fun tot' b' hA' ht => ?_)
                · rw [hnx, Rm_take hB hIB hHA f, hps]
                  rfl
                · by_cases m0 : md = 0
                  · subst m0
                    exact br_t rfl (h tot' b' iC' _ aG' aI' (Ac_some hA' ht))
                  · refine br_f (nI_ne0 (by omega) (by omega)) ?_
                    obtain ⟨t1, t2⟩ := TI_next hv hT y5 (aC' := upd aC 3 (nI (y 3))) (fun u hu => pk_un (by omega)) pk_us
                    have := K (3 + 1) (uN4 y 3 (y 3 + 1)) tot' b' iC' (upd aC 3 (nI (y 3))) aG' aI' ⟨t1, hA'⟩ t2
                    rw [ex] at this
                    exact this
              · refine br_f (nI_ge (b := 3) (by omega) (by decide)) (nm_e ⟨zi4 (by omega), nm_r (e' := upd (upd aC v (nI (y v))) (v + 1) (-1)) (by rw [zcl (by omega), zb_v (by decide) (by decide)]) ?_⟩)
                have := K (v + 2) (uN4 y (v + 1) 0) tot b iC' (upd (upd aC v (nI (y v))) (v + 1) (-1)) aG' aI' ⟨⟨by omega, fun u hu => ?_, fun u hu => ?_⟩, ?_⟩ ?_
                · rw [show zI (((v + 2 : Nat) : Int) - 1) = nI (v + 1) by rw [zn_n]; exact congrArg zI (by omega)] at this
                  exact this
                · rw [uN4_n (by omega), pk_un (by omega)]
                  exact ⟨(hyc u (by omega)).1, (hyc u (by omega)).2, hyb u (by omega)⟩
                · have e : u = v + 1 := by omega
                  subst e
                  rw [uN4_s, pk_us]
                  exact ⟨rfl, by omega⟩
                · rw [Bd_down (by omega)]; exact hA
                · have t1 : TM (v + 2) (uN4 y (v + 1) 0) = _ := TM_n (by rw [uN4_s]; omega)
                  have t2 := TM_n (w := v) (y := y) (by omega)
                  have t3 : Bd (v + 1 + 1) (uN4 y (v + 1) 0) = Bd (v + 1) y := Bd_down (by omega)
                  rw [t1, t2, t3]
                  omega
        · have y6 : y v = 6 := by omega
          refine br_f (by rw [eV, y6]; decide) (nm_r (e' := zI ((v : Int) - 1)) (by rw [zn_n, ← zn_m1, zn_add]; rfl) ?_)
          by_cases v0 : v = 0
          · subst v0
            refine K 0 y tot b iC (upd aC 0 (nI (y 0))) aG aI ⟨⟨by omega, fun u hu => absurd hu (by omega), fun u hu => absurd hu (by omega)⟩, ?_⟩ ?_
            · have e : Bd (0 + 1) y = 1296 := by show 216 * y 0 = 1296; omega
              rw [e] at hA
              exact hA
            · rw [TM_0, TM_6 y6]; omega
          · obtain ⟨u', rfl⟩ : ∃ u', v = u' + 1 := ⟨v - 1, by omega⟩
            have hu' := hT.2.1 u' (by omega)
            have eB := Bd_up (w := u') (y := y) (by omega) y6
            refine K (u' + 1) (uN4 y u' (y u' + 1)) tot b iC (upd aC (u' + 1) (nI (y (u' + 1)))) aG aI ⟨⟨by omega, fun u hu => ?_, fun u hu => ?_⟩, ?_⟩ ?_
            · rw [uN4_n (by omega), pk_un (by omega)]
              exact hT.2.1 u (by omega)
            · have e : u = u' := by omega
              subst e
              rw [uN4_s, pk_un (by omega), hu'.1, zn_n]
              exact ⟨congrArg zI (by omega), by omega⟩
            · rw [eB]; exact hA
            · have t1 := TM_le (w := u') (y := uN4 y u' (y u' + 1)) (by omega)
              have t2 : TM (u' + 1 + 1) y = _ := TM_6 y6
              rw [t2]
              rw [eB] at t1
              have t3 : Bd (u' + 1 + 1) y = Bd (u' + 2) y := rfl
              omega
    · refine ⟨⟨by omega, fun u hu => absurd hu (by omega), fun u hu => ?_⟩, ?_⟩
      · have e : u = 0 := by omega
        subst e
        exact ⟨rfl, by show 0 ≤ 6; omega⟩
      · exact Ac_c Ac_0 (fun f => (Rm_0 f).symm)
  exact K
end W4
end
section
/-! X: narrowing: sums and different values -/
section W5
variable {cC wN rU mO tO bS dE iC : Int32} {aD aK aP aQ aR aN aW aC aG aV aS aI aT aY aU aB aM aA : Nat → Int32}
def NW (m m' : Nat → Nat) : Prop := ∀ v, v < 4 → m' v < 64 ∧ ∀ x, (m' v).testBit x = true → (m v).testBit x = true
def PR (S : (Nat → Nat) → Prop) (m m' : Nat → Nat) : Prop := ∀ x, IB m x → S x → IB m' x
def NN (m : Nat → Nat) (a : Nat → Int32) : Prop := ∀ v, v < 4 → a v = nI (m v)
theorem NW_r {m : Nat → Nat} (h : ∀ v, v < 4 → m v < 64) : NW m m := fun v hv => ⟨h v hv, fun _ z => z⟩
theorem NW_t {m m' m'' : Nat → Nat} (h : NW m m') (h' : NW m' m'') : NW m m'' := fun v hv => ⟨(h' v hv).1, fun x z => (h v hv).2 x ((h' v hv).2 x z)⟩
theorem NW_u {m m' : Nat → Nat} {b z : Nat} (h : NW m m') (hz : z < 64) (hs : ∀ x, z.testBit x = true → (m' b).testBit x = true) : NW m (uN4 m' b z) := by
  intro v hv
  by_cases e : v = b
  · subst e; rw [uN4_s]; exact ⟨hz, fun x q => (h v hv).2 x (hs x q)⟩
  · rw [uN4_n e]; exact h v hv
theorem NN_u {m : Nat → Nat} {a : Nat → Int32} {b z : Nat} (h : NN m a) : NN (uN4 m b z) (upd a b (nI z)) := by
  intro v hv
  by_cases e : v = b
  · subst e; rw [uN4_s, pk_us]
  · rw [uN4_n e, pk_un e]; exact h v hv
theorem IB_NW {m m' x : Nat → Nat} (h : NW m m') (hx : IB m' x) : IB m x := fun v hv => (h v hv).2 _ (hx v hv)
theorem ps_4 (w : Nat → Int) (x : Nat → Nat) : ps w x 4 = w 0 * (x 0 : Int) + w 1 * (x 1 : Int) + w 2 * (x 2 : Int) + w 3 * (x 3 : Int) := by
  show 0 + w 0 * (x 0 : Int) + w 1 * (x 1 : Int) + w 2 * (x 2 : Int) + w 3 * (x 3 : Int) = _
  omega
theorem ps_upd {w : Nat → Int} {f g : Nat → Nat} {i : Nat} (hi : i < 4) (h : ∀ v, v < 4 → v ≠ i → f v = g v) : ps w f 4 - w i * (f i : Int) + w i * (g i : Int) = ps w g 4 := by
  rw [ps_4, ps_4]
  rcases z4c hi with rfl | rfl | rfl | rfl
  · rw [h 1 (by omega) (by omega), h 2 (by omega) (by omega), h 3 (by omega) (by omega)]; omega
  · rw [h 0 (by omega) (by omega), h 2 (by omega) (by omega), h 3 (by omega) (by omega)]; omega
  · rw [h 0 (by omega) (by omega), h 1 (by omega) (by omega), h 3 (by omega) (by omega)]; omega
  · rw [h 0 (by omega) (by omega), h 1 (by omega) (by omega), h 2 (by omega) (by omega)]; omega
theorem ps_oth {w : Nat → Int} {f g : Nat → Nat} {i : Nat} (hi : i < 4) (h : ∀ v, v < 4 → w v * (f v : Int) ≤ w v * (g v : Int)) : w i * (g i : Int) + (ps w f 4 - w i * (f i : Int)) ≤ ps w g 4 := by
  rw [ps_4, ps_4]
  have h0 := h 0 (by omega)
  have h1 := h 1 (by omega)
  have h2 := h 2 (by omega)
  have h3 := h 3 (by omega)
  rcases z4c hi with rfl | rfl | rfl | rfl <;> omega
theorem ps_oth' {w : Nat → Int} {f g : Nat → Nat} {i : Nat} (hi : i < 4) (h : ∀ v, v < 4 → w v * (g v : Int) ≤ w v * (f v : Int)) : ps w g 4 ≤ w i * (g i : Int) + (ps w f 4 - w i * (f i : Int)) := by
  rw [ps_4, ps_4]
  have h0 := h 0 (by omega)
  have h1 := h 1 (by omega)
  have h2 := h 2 (by omega)
  have h3 := h 3 (by omega)
  rcases z4c hi with rfl | rfl | rfl | rfl <;> omega
/-- the values that make the products small, and great -/
def SL (w : Nat → Int) (m : Nat → Nat) (v : Nat) : Nat := sl (w v) (zlo (m v)) (zhi (m v))
def SG (w : Nat → Int) (m : Nat → Nat) (v : Nat) : Nat := sg (w v) (zlo (m v)) (zhi (m v))
theorem SL_lt {w : Nat → Int} {m : Nat → Nat} {v : Nat} (h : m v < 64 ∧ 0 < m v) : SL w m v < 6 ∧ SG w m v < 6 := sl_lt (zlo_f _ h.1 h.2).2 (zhi_f _ h.1 h.2).2
theorem SL_le {w : Nat → Int} {m x : Nat → Nat} {v : Nat} (h : m v < 64) (hb : (m v).testBit (x v) = true) : w v * (SL w m v : Int) ≤ w v * (x v : Int) ∧ w v * (x v : Int) ≤ w v * (SG w m v : Int) :=
  sl_le (zlo_l _ h _ (zm_lt h hb) hb) (zhi_l _ h _ (zm_lt h hb) hb)
theorem SL_u {w : Nat → Int} {m : Nat → Nat} {b z v : Nat} (h : v ≠ b) : SL w (uN4 m b z) v = SL w m v ∧ SG w (uN4 m b z) v = SG w m v := by
  unfold SL SG
  rw [uN4_n h]
  exact ⟨rfl, rfl⟩
theorem wx_lowPart {post : Int32 → Prop} {v : Nat} {w : Nat → Int} {m : Nat → Nat} (hv : v < 4) (hN : NN m aN) (hm : m v < 64 ∧ 0 < m v) (hG : aG v = zI (w v)) (hw : -3 ≤ w v ∧ w v ≤ 3) (h : post (zI (w v * (SL w m v : Int)))) : wpX_lowPart post (cC, wN, rU, mO, tO, bS, dE, iC, aD, aK, aP, aQ, aR, aN, aW, aC, aG, aV, aS, aI, aT, aY, aU, aB, aM, aA) (nI v) := by
  have eG : aG (nI v).toNatClampNeg = zI (w v) := by rw [zcl (by omega)]; exact hG
  have eN : aN (nI v).toNatClampNeg = nI (m v) := by rw [zcl (by omega)]; exact hN v hv
  have c0 : aG (nI v).toNatClampNeg ≤ 0 ↔ w v ≤ 0 := by rw [eG, ← zn_0, zn_le (by omega) (by omega) (by omega) (by omega)]
  refine And.intro (zi4 hv) ?_
  by_cases hp : 0 < w v
  · refine br_f (fun z => by rw [c0] at z; omega) ⟨zi4 hv, ?_⟩
    rw [eN]
    refine wx_lo hm.1 hm.2 (And.intro (zi4 hv) ?_)
    rw [eG, zn_mulN]
    have e : SL w m v = zlo (m v) := (sl_p _ _ hp).1
    rw [e] at h
    exact h
  · refine br_t (c0.mpr (by omega)) ⟨zi4 hv, ?_⟩
    rw [eN]
    refine wx_hi hm.1 hm.2 (And.intro (zi4 hv) ?_)
    rw [eG, zn_mulN]
    have e : SL w m v = zhi (m v) := (sl_n _ _ hp).1
    rw [e] at h
    exact h
theorem wx_highPart {post : Int32 → Prop} {v : Nat} {w : Nat → Int} {m : Nat → Nat} (hv : v < 4) (hN : NN m aN) (hm : m v < 64 ∧ 0 < m v) (hG : aG v = zI (w v)) (hw : -3 ≤ w v ∧ w v ≤ 3) (h : post (zI (w v * (SG w m v : Int)))) : wpX_highPart post (cC, wN, rU, mO, tO, bS, dE, iC, aD, aK, aP, aQ, aR, aN, aW, aC, aG, aV, aS, aI, aT, aY, aU, aB, aM, aA) (nI v) := by
  have eG : aG (nI v).toNatClampNeg = zI (w v) := by rw [zcl (by omega)]; exact hG
  have eN : aN (nI v).toNatClampNeg = nI (m v) := by rw [zcl (by omega)]; exact hN v hv
  have c0 : aG (nI v).toNatClampNeg ≤ 0 ↔ w v ≤ 0 := by rw [eG, ← zn_0, zn_le (by omega) (by omega) (by omega) (by omega)]
  refine And.intro (zi4 hv) ?_
  by_cases hp : 0 < w v
  · refine br_f (fun z => by rw [c0] at z; omega) ⟨zi4 hv, ?_⟩
    rw [eN]
    refine wx_hi hm.1 hm.2 (And.intro (zi4 hv) ?_)
    rw [eG, zn_mulN]
    have e : SG w m v = zhi (m v) := (sl_p _ _ hp).2
    rw [e] at h
    exact h
  · refine br_t (c0.mpr (by omega)) ⟨zi4 hv, ?_⟩
    rw [eN]
    refine wx_lo hm.1 hm.2 (And.intro (zi4 hv) ?_)
    rw [eG, zn_mulN]
    have e : SG w m v = zlo (m v) := (sl_n _ _ hp).2
    rw [e] at h
    exact h
/-- masks built value by value -/
noncomputable def kp (ok : Nat → Prop) : Nat → Nat
  | 0 => 0
  | j + 1 => iz (ok j) (kp ok j ||| 2 ^ j) (kp ok j)
theorem kp_bit {ok : Nat → Prop} {y : Nat} : ∀ j, (kp ok j).testBit y = true ↔ (y < j ∧ ok y)
  | 0 => by
    show (0 : Nat).testBit y = true ↔ _
    rw [Nat.zero_testBit]
    exact ⟨fun h => absurd h (by decide), fun h => absurd h.1 (by omega)⟩
  | j + 1 => by
    have ih := kp_bit (ok := ok) (y := y) j
    show (iz (ok j) (kp ok j ||| 2 ^ j) (kp ok j)).testBit y = true ↔ _
    by_cases hb : ok j
    · rw [iz_t hb, Nat.testBit_or, Bool.or_eq_true, ih, Nat.testBit_two_pow, decide_eq_true_iff]
      constructor
      · rintro (h | h)
        · exact ⟨by omega, h.2⟩
        · subst h; exact ⟨by omega, hb⟩
      · rintro ⟨h1, h2⟩
        by_cases e : j = y
        · exact Or.inr e
        · exact Or.inl ⟨by omega, h2⟩
    · rw [iz_f hb, ih]
      constructor
      · rintro ⟨h1, h2⟩
        exact ⟨by omega, h2⟩
      · rintro ⟨h1, h2⟩
        by_cases e : y = j
        · subst e; exact absurd h2 hb
        · exact ⟨by omega, h2⟩
theorem kp_lt {ok : Nat → Prop} : ∀ j, j ≤ 6 → kp ok j < 64
  | 0, _ => by show (0 : Nat) < 64; omega
  | j + 1, h => by
    have ih := kp_lt (ok := ok) j (by omega)
    show iz (ok j) (kp ok j ||| 2 ^ j) (kp ok j) < 64
    by_cases hb : ok j
    · rw [iz_t hb]
      have h6 : 2 ^ j < 2 ^ 6 := Nat.pow_lt_pow_right (by decide) (by omega)
      exact Nat.or_lt_two_pow (n := 6) ih h6
    · rw [iz_f hb]; exact ih
/-- the values that a sum leaves to variable i -/
def okS (k : Int32) (q : Int) (m : Nat) (d oL oH : Int) (x : Nat) : Prop := m.testBit x = true ∧ d * (x : Int) + oL ≤ q ∧ (k = 1 → q ≤ d * (x : Int) + oH)
theorem wx_nS104 {post : Int32 → SX → Prop} {J : Int32 → Int32 → Int32 → (Nat → Int32) → (Nat → Int32) → (Nat → Int32) → (Nat → Int32) → (Nat → Int32) → (Nat → Int32) → (Nat → Int32) → (Nat → Int32) → (Nat → Int32) → (Nat → Int32) → (Nat → Int32) → (Nat → Int32) → (Nat → Int32) → (Nat → Int32) → (Nat → Int32) → (Nat → Int32) → (Nat → Int32) → (Nat → Int32) → Prop}
    {k q : Int32} {i : Nat} {w : Nat → Int} {m : Nat → Nat} {oL oH : Int} (hi : i < 4) (hN : NN m aN) (hm : ∀ v, v < 4 → m v < 64 ∧ 0 < m v) (hG : ∀ v, v < 4 → aG v = zI (w v)) (hw : ∀ v, v < 4 → -3 ≤ w v ∧ w v ≤ 3) (hk : k = 0 ∨ k = 1)
    (bL : -10000 ≤ oL ∧ oL ≤ 10000) (bH : -10000 ≤ oH ∧ oH ≤ 10000)
    (h0 : kp (okS k q.toInt (m i) (w i) oL oH) 6 = 0 → post 0 (cC, wN, rU, mO, tO, bS, dE, iC, aD, aK, aP, aQ, aR, aN, aW, aC, aG, aV, aS, aI, aT, aY, aU, aB, aM, aA))
    (h1 : kp (okS k q.toInt (m i) (w i) oL oH) 6 ≠ 0 → J (zI (oL + w i * (SL w (uN4 m i (kp (okS k q.toInt (m i) (w i) oL oH) 6)) i : Int))) (zI (oH + w i * (SG w (uN4 m i (kp (okS k q.toInt (m i) (w i) oL oH) 6)) i : Int))) (nI (i + 1)) aD aK aP aQ aR (upd aN i (nI (kp (okS k q.toInt (m i) (w i) oL oH) 6))) aW aC aG aV aS aI aT aY aU aB aM aA) :
    ∃ n, wX_narrowSum_104 post J k q (nI i) (zI oL) (zI oH) cC wN rU mO tO bS dE iC aD aK aP aQ aR aN aW aC aG aV aS aI aT aY aU aB aM aA n 0 0 := by
  have hmi := hm i hi
  have hwi := hw i hi
  have eG : aG (nI i).toNatClampNeg = zI (w i) := by rw [zcl (by omega)]; exact hG i hi
  have eN : aN (nI i).toNatClampNeg = nI (m i) := by rw [zcl (by omega)]; exact hN i hi
  have l6 := kp_lt (ok := okS k q.toInt (m i) (w i) oL oH) 6 (by omega)
  exact pk_loop (σ := Unit) (fun n x _ => wX_narrowSum_104 post J k q (nI i) (zI oL) (zI oH) cC wN rU mO tO bS dE iC aD aK aP aQ aR aN aW aC aG aV aS aI aT aY aU aB aM aA n (nI (kp (okS k q.toInt (m i) (w i) oL oH) x)) (nI x)) (fun _ _ => True) 6 0 () (by omega) trivial
    (fun n _ _ => br_t (nI_le (a := 6) (b := 6) (by omega) (by omega)) (by
      by_cases z : kp (okS k q.toInt (m i) (w i) oL oH) 6 = 0
      · exact br_t (by rw [z]; rfl) (h0 z)
      · refine br_f (nI_ne0 (by omega) (by omega)) ⟨zi4 hi, nm_r (e' := upd aN i (nI (kp (okS k q.toInt (m i) (w i) oL oH) 6))) (by rw [zcl (by omega), zb_n8 (by omega)]) ?_⟩
        have hN' : NN (uN4 m i (kp (okS k q.toInt (m i) (w i) oL oH) 6)) (upd aN i (nI (kp (okS k q.toInt (m i) (w i) oL oH) 6))) := NN_u hN
        have hm' : uN4 m i (kp (okS k q.toInt (m i) (w i) oL oH) 6) i < 64 ∧ 0 < uN4 m i (kp (okS k q.toInt (m i) (w i) oL oH) 6) i := by rw [uN4_s]; omega
        refine wx_lowPart hi hN' hm' (hG i hi) hwi (nm_r (zn_add _ _) (wx_highPart hi hN' hm' (hG i hi) hwi (nm_r (zn_add _ _) (nm_r (nI_1 i) (h1 z)))))))
    (fun n x _ hx _ K => br_f (zc6 hx) ⟨zi4 hi, by
      have K' := K () trivial
      have ek : kp (okS k q.toInt (m i) (w i) oL oH) (x + 1) = iz (okS k q.toInt (m i) (w i) oL oH x) (kp (okS k q.toInt (m i) (w i) oL oH) x ||| 2 ^ x) (kp (okS k q.toInt (m i) (w i) oL oH) x) := rfl
      have bd := mul_bd hwi.1 hwi.2 hx
      have yes : okS k q.toInt (m i) (w i) oL oH x → wX_narrowSum_171 post J (wX_narrowSum_104 post J k q (nI i) (zI oL) (zI oH) cC wN rU mO tO bS dE iC aD aK aP aQ aR aN aW aC aG aV aS aI aT aY aU aB aM aA n) k q (nI i) (zI oL) (zI oH) (nI (kp (okS k q.toInt (m i) (w i) oL oH) x)) (nI x) cC wN rU mO tO bS dE iC aD aK aP aQ aR aN aW aC aG aV aS aI aT aY aU aB aM aA := by
        intro z
        unfold wX_narrowSum_171
        rw [iz_t z] at ek
        rw [ek] at K'
        exact nm_r (e' := nI (kp (okS k q.toInt (m i) (w i) oL oH) x ||| 2 ^ x)) (by rw [zx_shl (by omega), zx_or]) (nm_r (nI_1 x) K')
      have no : ¬ okS k q.toInt (m i) (w i) oL oH x → wX_narrowSum_104 post J k q (nI i) (zI oL) (zI oH) cC wN rU mO tO bS dE iC aD aK aP aQ aR aN aW aC aG aV aS aI aT aY aU aB aM aA n (nI (kp (okS k q.toInt (m i) (w i) oL oH) x)) (nI (x + 1)) := by
        intro z
        rw [iz_f z] at ek
        rw [ek] at K'
        exact K'
      rw [eN]
      cases hb : (m i).testBit x
      · exact br_t ((zx_b0 (by omega) (by omega)).mpr hb) (nm_r (nI_1 x) (no (fun z => by have z1 := z.1; rw [hb] at z1; exact absurd z1 (by decide))))
      · refine br_f (fun z => by rw [zx_b0 (by omega) (by omega), hb] at z; exact absurd z (by decide)) ⟨zi4 hi, ?_⟩
        rw [eG, zn_mulN, zn_add, zn_add]
        by_cases c1 : w i * (x : Int) + oL ≤ q.toInt
        · refine br_t ((zn_lel (by omega) (by omega)).mpr c1) ?_
          rcases hk with rfl | rfl
          · exact br_f (by decide) (yes ⟨hb, c1, fun z => absurd z (by decide)⟩)
          · refine br_t rfl ⟨zi4 hi, ?_⟩
            by_cases c2 : q.toInt ≤ w i * (x : Int) + oH
            · exact br_t ((zn_ler (by omega) (by omega)).mpr c2) (yes ⟨hb, c1, fun _ => c2⟩)
            · exact br_f (fun z => c2 ((zn_ler (by omega) (by omega)).mp z)) (nm_r (nI_1 x) (no (fun z => c2 (z.2.2 rfl))))
        · exact br_f (fun z => c1 ((zn_lel (by omega) (by omega)).mp z)) (nm_r (nI_1 x) (no (fun z => c1 z.2.1)))⟩)
def sOK (k : Int32) (q : Int) (p : Nat) (x : Nat → Nat) : Prop := k = 0 ∧ ps (dg p) x 4 ≤ q ∨ k = 1 ∧ ps (dg p) x 4 = q
set_option maxHeartbeats 1600000 in
theorem wx_narrowSum {post : Int32 → SX → Prop} {k q : Int32} {p : Nat} {m : Nat → Nat} {S : (Nat → Nat) → Prop} (hk : k = 0 ∨ k = 1) (hp : p ≤ 2400) (hN : NN m aN) (hm : ∀ v, v < 4 → m v < 64 ∧ 0 < m v) (hS : ∀ x, S x → sOK k q.toInt p x)
    (h0 : (∀ x, IB m x → ¬ S x) → ∀ (m' : Nat → Nat) (aN' aG' : Nat → Int32), NW m m' → NN m' aN' → post 0 (cC, wN, rU, mO, tO, bS, dE, iC, aD, aK, aP, aQ, aR, aN', aW, aC, aG', aV, aS, aI, aT, aY, aU, aB, aM, aA))
    (h1 : ∀ (m' : Nat → Nat) (aN' aG' : Nat → Int32), NW m m' → NN m' aN' → PR S m m' → post 1 (cC, wN, rU, mO, tO, bS, dE, iC, aD, aK, aP, aQ, aR, aN', aW, aC, aG', aV, aS, aI, aT, aY, aU, aB, aM, aA)) : wpX_narrowSum post (cC, wN, rU, mO, tO, bS, dE, iC, aD, aK, aP, aQ, aR, aN, aW, aC, aG, aV, aS, aI, aT, aY, aU, aB, aM, aA) k (nI p) q := by
  refine wx_unpack (post := fun u => match u with | (cC, wN, rU, mO, tO, bS, dE, iC, aD, aK, aP, aQ, aR, aN, aW, aC, aG, aV, aS, aI, aT, aY, aU, aB, aM, aA) => ∃ n14 : Nat, wX_narrowSum_14 post k q cC wN rU mO tO bS dE iC aD aK aP aQ aR aN aW aC aG aV aS aI aT aY aU aB aM aA n14 0 0 0) hp ?_
  intro aG' hG
  have hd : ∀ v, v < 4 → -3 ≤ dg p v ∧ dg p v ≤ 3 := fun v _ => dg_bd p v
  have bd : ∀ m' : Nat → Nat, (∀ v, v < 4 → m' v < 64 ∧ 0 < m' v) → (-60 ≤ ps (dg p) (SL (dg p) m') 4 ∧ ps (dg p) (SL (dg p) m') 4 ≤ 60) ∧ (-60 ≤ ps (dg p) (SG (dg p) m') 4 ∧ ps (dg p) (SG (dg p) m') 4 ≤ 60) := by
    intro m' hm'
    have a := ps_bd (w := dg p) (x := SL (dg p) m') 4 hd (fun v hv => (SL_lt (hm' v hv)).1)
    have b := ps_bd (w := dg p) (x := SG (dg p) m') 4 hd (fun v hv => (SL_lt (hm' v hv)).2)
    omega
  have bdm := bd m hm
  have mono : ∀ x, IB m x → ps (dg p) (SL (dg p) m) 4 ≤ ps (dg p) x 4 ∧ ps (dg p) x 4 ≤ ps (dg p) (SG (dg p) m) 4 := fun x hx =>
    ⟨ps_mono 4 (fun v hv => (SL_le (hm v hv).1 (hx v hv)).1), ps_mono 4 (fun v hv => (SL_le (hm v hv).1 (hx v hv)).2)⟩
  have main : ∃ n, wX_narrowSum_70 post k q cC wN rU mO tO bS dE iC n (zI (ps (dg p) (SL (dg p) m) 4)) (zI (ps (dg p) (SG (dg p) m) 4)) (nI 0) aD aK aP aQ aR aN aW aC aG' aV aS aI aT aY aU aB aM aA :=
    pk_loop (σ := (Nat → Nat) × (Nat → Int32)) (fun n i s => wX_narrowSum_70 post k q cC wN rU mO tO bS dE iC n (zI (ps (dg p) (SL (dg p) s.1) 4)) (zI (ps (dg p) (SG (dg p) s.1) 4)) (nI i) aD aK aP aQ aR s.2 aW aC aG' aV aS aI aT aY aU aB aM aA)
      (fun _ s => (∀ v, v < 4 → s.1 v < 64 ∧ 0 < s.1 v) ∧ NW m s.1 ∧ NN s.1 s.2 ∧ PR S m s.1) 4 0 (m, aN) (by omega) ⟨hm, NW_r (fun v hv => (hm v hv).1), hN, fun x hx _ => hx⟩
      (fun n s hI => br_t (nI_le (a := 4) (b := 4) (by omega) (by omega)) (h1 s.1 s.2 aG' hI.2.1 hI.2.2.1 hI.2.2.2))
      (fun n i s hi hI K => br_f (zc4 hi) (by
        obtain ⟨m', a'⟩ := s
        obtain ⟨hm', hW, hN', hP⟩ := hI
        have hbd := bd m' hm'
        have hmi : m' i < 64 ∧ 0 < m' i := hm' i hi
        have mb1 := mul_bd (hd i hi).1 (hd i hi).2 (SL_lt (w := dg p) (m := m') hmi).1
        have mb2 := mul_bd (hd i hi).1 (hd i hi).2 (SL_lt (w := dg p) (m := m') hmi).2
        refine wx_lowPart (w := dg p) hi hN' hmi (hG i hi) (hd i hi) (nm_r (zn_sub _ _) (wx_highPart (w := dg p) hi hN' hmi (hG i hi) (hd i hi) (nm_r (zn_sub _ _) ?_)))
        have ok : ∀ x, IB m' x → S x → okS k q.toInt (m' i) (dg p i) (ps (dg p) (SL (dg p) m') 4 - dg p i * (SL (dg p) m' i : Int)) (ps (dg p) (SG (dg p) m') 4 - dg p i * (SG (dg p) m' i : Int)) (x i) := by
          intro x hx hs
          have o1 := ps_oth (w := dg p) (f := SL (dg p) m') (g := x) hi (fun v hv => (SL_le (hm' v hv).1 (hx v hv)).1)
          have o2 := ps_oth' (w := dg p) (f := SG (dg p) m') (g := x) hi (fun v hv => (SL_le (hm' v hv).1 (hx v hv)).2)
          refine ⟨hx i hi, ?_, fun z => ?_⟩
          · rcases hS x hs with q | q <;> omega
          · rcases hS x hs with q | q
            · rw [z] at q; exact absurd q.1 (by decide)
            · omega
        refine wx_nS104 (w := dg p) (m := m') (oL := ps (dg p) (SL (dg p) m') 4 - dg p i * (SL (dg p) m' i : Int)) (oH := ps (dg p) (SG (dg p) m') 4 - dg p i * (SG (dg p) m' i : Int)) hi hN' hm' hG hd hk (by omega) (by omega) (fun z => ?_) (fun z => ?_)
        · refine h0 (fun x hx hs => ?_) m' a' aG' hW hN'
          have := (kp_bit (ok := okS k q.toInt (m' i) (dg p i) (ps (dg p) (SL (dg p) m') 4 - dg p i * (SL (dg p) m' i : Int)) (ps (dg p) (SG (dg p) m') 4 - dg p i * (SG (dg p) m' i : Int))) (y := x i) 6).mpr ⟨zm_lt (hm' i hi).1 (hP x hx hs i hi), ok x (hP x hx hs) hs⟩
          rw [z, Nat.zero_testBit] at this
          exact absurd this (by decide)
        · have l6 := kp_lt (ok := okS k q.toInt (m' i) (dg p i) (ps (dg p) (SL (dg p) m') 4 - dg p i * (SL (dg p) m' i : Int)) (ps (dg p) (SG (dg p) m') 4 - dg p i * (SG (dg p) m' i : Int))) 6 (by omega)
          have kb := fun y => kp_bit (ok := okS k q.toInt (m' i) (dg p i) (ps (dg p) (SL (dg p) m') 4 - dg p i * (SL (dg p) m' i : Int)) (ps (dg p) (SG (dg p) m') 4 - dg p i * (SG (dg p) m' i : Int))) (y := y) 6
          revert z l6 kb
          generalize kp (okS k q.toInt (m' i) (dg p i) (ps (dg p) (SL (dg p) m') 4 - dg p i * (SL (dg p) m' i : Int)) (ps (dg p) (SG (dg p) m') 4 - dg p i * (SG (dg p) m' i : Int))) 6 = kk
          intro z l6 kb
          have e1 := ps_upd (w := dg p) (f := SL (dg p) m') (g := SL (dg p) (uN4 m' i kk)) hi (fun v _ hne => (SL_u hne).1.symm)
          have e2 := ps_upd (w := dg p) (f := SG (dg p) m') (g := SG (dg p) (uN4 m' i kk)) hi (fun v _ hne => (SL_u hne).2.symm)
          rw [e1, e2]
          refine K (uN4 m' i kk, upd a' i (nI kk)) ⟨fun v hv => ?_, NW_u hW l6 (fun x hx => ((kb x).mp hx).2.1), NN_u hN', fun x hx hs => ?_⟩
          · show uN4 m' i kk v < 64 ∧ 0 < uN4 m' i kk v
            by_cases e : v = i
            · subst e; rw [uN4_s]; omega
            · rw [uN4_n e]; exact hm' v hv
          · have hx' := hP x hx hs
            exact (IB_u hi).mpr ⟨(kb _).mpr ⟨zm_lt (hm' i hi).1 (hx' i hi), ok x hx' hs⟩, fun v hv _ => hx' v hv⟩))
  exact pk_loop (σ := Unit) (fun n i _ => wX_narrowSum_14 post k q cC wN rU mO tO bS dE iC aD aK aP aQ aR aN aW aC aG' aV aS aI aT aY aU aB aM aA n (zI (ps (dg p) (SL (dg p) m) i)) (zI (ps (dg p) (SG (dg p) m) i)) (nI i)) (fun _ _ => True) 4 0 () (by omega) trivial
    (fun n _ _ => br_t (nI_le (a := 4) (b := 4) (by omega) (by omega)) (by
      by_cases c1 : q.toInt < ps (dg p) (SL (dg p) m) 4
      · refine br_t ((zn_ltr (by omega) (by omega)).mpr c1) (h0 (fun x hx hs => ?_) m aN aG' (NW_r (fun v hv => (hm v hv).1)) hN)
        have := mono x hx
        rcases hS x hs with z | z <;> omega
      · refine br_f (fun z => c1 ((zn_ltr (by omega) (by omega)).mp z)) ?_
        rcases hk with rfl | rfl
        · exact br_f (by decide) main
        · refine br_t rfl ?_
          by_cases c2 : q.toInt ≤ ps (dg p) (SG (dg p) m) 4
          · exact br_t ((zn_ler (by omega) (by omega)).mpr c2) main
          · refine br_f (fun z => c2 ((zn_ler (by omega) (by omega)).mp z)) (h0 (fun x hx hs => ?_) m aN aG' (NW_r (fun v hv => (hm v hv).1)) hN)
            have := mono x hx
            rcases hS x hs with z | z
            · exact absurd z.1 (by decide)
            · omega))
    (fun n i _ hi _ K => br_f (zc4 hi) (wx_lowPart (w := dg p) hi hN (hm i hi) (hG i hi) (hd i hi) (nm_r (zn_add _ _) (wx_highPart (w := dg p) hi hN (hm i hi) (hG i hi) (hd i hi) (nm_r (zn_add _ _) (nm_r (nI_1 i) (K () trivial)))))))
end W5
end
section
/-! X: narrowing: different values, numbers -/
section W6
variable {cC wN rU mO tO bS dE iC : Int32} {aD aK aP aQ aR aN aW aC aG aV aS aI aT aY aU aB aM aA : Nat → Int32}
theorem zp_or : ∀ a, a < 64 → ∀ y, y < 6 → a.testBit y = false → zp (a ||| 2 ^ y) = zp a + 1 := by decide +kernel
theorem zp_sub : ∀ a, a < 64 → ∀ b, b < 64 → a &&& b = a → zp a ≤ zp b ∧ (zp a = zp b → a = b) := by decide +kernel
theorem zp_sub' {a b : Nat} (ha : a < 64) (hb : b < 64) (h : ∀ x, a.testBit x = true → b.testBit x = true) : zp a ≤ zp b ∧ (zp a = zp b → a = b) := by
  refine zp_sub a ha b hb (Nat.eq_of_testBit_eq (fun i => ?_))
  rw [Nat.testBit_and]
  cases z : a.testBit i
  · rfl
  · rw [h i z]; rfl
def cb (p : Nat) : Nat → Nat
  | 0 => 0
  | i + 1 => cb p i + (p.testBit i).toNat
theorem cb_4 {p : Nat} (h : p < 16) : cb p 4 = zp p := by
  rw [zp_16 p h]
  have e : cb p 4 = 0 + (p.testBit 0).toNat + (p.testBit 1).toNat + (p.testBit 2).toNat + (p.testBit 3).toNat := rfl
  rw [e]
  omega
theorem zp_sn {p : Nat} {x : Nat → Nat} : ∀ i, (∀ v, v < i → p.testBit v = true → x v < 6) → df p x i → zp (sn p x i) = cb p i
  | 0, _, _ => by show zp 0 = 0; decide
  | i + 1, h, d => by
    have ih := zp_sn (p := p) (x := x) i (fun v hv => h v (by omega)) (fun v hv => d v (by omega))
    show zp (if p.testBit i = true then sn p x i ||| 2 ^ x i else sn p x i) = cb p i + (p.testBit i).toNat
    cases hb : p.testBit i
    · rw [if_neg (by decide), ih]; rfl
    · rw [if_pos rfl]
      have hf : (sn p x i).testBit (x i) = false := by
        cases z : (sn p x i).testBit (x i)
        · rfl
        · exact absurd d (df_bad hb z (by omega))
      rw [zp_or _ (sn_lt i (fun v hv => h v (by omega))) _ (h i (by omega) hb) hf, ih]
      rfl
/-- the union of the domains of a set of variables -/
def un (p : Nat) (m : Nat → Nat) : Nat → Nat
  | 0 => 0
  | i + 1 => if p.testBit i = true then un p m i ||| m i else un p m i
theorem un_lt {p : Nat} {m : Nat → Nat} : ∀ i, (∀ v, v < i → m v < 64) → un p m i < 64
  | 0, _ => by show (0 : Nat) < 64; omega
  | i + 1, h => by
    have ih := un_lt (p := p) (m := m) i (fun v hv => h v (by omega))
    show (if p.testBit i = true then un p m i ||| m i else un p m i) < 64
    by_cases hb : p.testBit i = true
    · rw [if_pos hb]; exact Nat.or_lt_two_pow (n := 6) ih (h i (by omega))
    · rw [if_neg hb]; exact ih
theorem un_bit {p : Nat} {m : Nat → Nat} {y : Nat} : ∀ i u, u < i → p.testBit u = true → (m u).testBit y = true → (un p m i).testBit y = true
  | 0, u, hu, _, _ => absurd hu (by omega)
  | i + 1, u, hu, hp, hm => by
    show (if p.testBit i = true then un p m i ||| m i else un p m i).testBit y = true
    by_cases e : u = i
    · subst e
      rw [if_pos hp, Nat.testBit_or, hm]
      cases (un p m u).testBit y <;> rfl
    · have ih := un_bit (p := p) (m := m) (y := y) i u (by omega) hp hm
      by_cases hb : p.testBit i = true
      · rw [if_pos hb, Nat.testBit_or, ih]; rfl
      · rw [if_neg hb]; exact ih
theorem hall {p q : Nat} {m x : Nat → Nat} (hq : q < 16) (hqp : ∀ v, q.testBit v = true → p.testBit v = true) (hm : ∀ v, v < 4 → m v < 64) (hx : IB m x) (d : df p x 4) :
    zp q ≤ zp (un q m 4) ∧ (zp q = zp (un q m 4) → ∀ v, v < 4 → p.testBit v = true → q.testBit v = false → (un q m 4).testBit (x v) = false) := by
  have hx6 := IB_lt hm hx
  have dq : df q x 4 := fun v hv w hw bv bw => d v hv w hw (hqp v bv) (hqp w bw)
  have e := zp_sn (p := q) (x := x) 4 (fun v hv _ => hx6 v hv) dq
  rw [cb_4 hq] at e
  have s := zp_sub' (sn_lt (p := q) (x := x) 4 (fun v hv _ => hx6 v hv)) (un_lt (p := q) (m := m) 4 hm) (fun y hy => by
    obtain ⟨u, hu, bu, eu⟩ := (sn_bit 4).mp hy
    refine un_bit 4 u hu bu ?_
    rw [← eu]
    exact hx u hu)
  rw [e] at s
  refine ⟨s.1, fun z v hv bp bq => ?_⟩
  rw [← s.2 z]
  cases t : (sn q x 4).testBit (x v)
  · rfl
  · obtain ⟨u, hu, bu, eu⟩ := (sn_bit 4).mp t
    have hne : u ≠ v := fun ee => by rw [ee, bq] at bu; exact absurd bu (by decide)
    by_cases l : u < v
    · exact absurd eu.symm (d v hv u l bp (hqp u bu))
    · exact absurd eu (d u hu v (by omega) (hqp u bu) bp)
set_option maxHeartbeats 1600000 in
theorem wx_narrowDiff {post : Int32 → SX → Prop} {p : Nat} {m : Nat → Nat} {S : (Nat → Nat) → Prop} (hp : p ≤ 15) (hN : NN m aN) (hm : ∀ v, v < 4 → m v < 64) (hS : ∀ x, S x → df p x 4)
    (h0 : (∀ x, IB m x → ¬ S x) → ∀ (m' : Nat → Nat) (aN' : Nat → Int32), NW m m' → NN m' aN' → post 0 (cC, wN, rU, mO, tO, bS, dE, iC, aD, aK, aP, aQ, aR, aN', aW, aC, aG, aV, aS, aI, aT, aY, aU, aB, aM, aA))
    (h1 : ∀ (m' : Nat → Nat) (aN' : Nat → Int32), NW m m' → NN m' aN' → PR S m m' → post 1 (cC, wN, rU, mO, tO, bS, dE, iC, aD, aK, aP, aQ, aR, aN', aW, aC, aG, aV, aS, aI, aT, aY, aU, aB, aM, aA)) : wpX_narrowDifferent post (cC, wN, rU, mO, tO, bS, dE, iC, aD, aK, aP, aQ, aR, aN, aW, aC, aG, aV, aS, aI, aT, aY, aU, aB, aM, aA) (nI p) := by
  have main : ∀ k q (m' : Nat → Nat) (a' : Nat → Int32), q < k → q ≤ 15 → (∀ v, q.testBit v = true → p.testBit v = true) → NW m m' → NN m' a' → PR S m m' → wX_narrowDifferent_2 post (nI p) cC wN rU mO tO bS dE iC k (nI q) aD aK aP aQ aR a' aW aC aG aV aS aI aT aY aU aB aM aA := by
    intro k
    induction k with
    | zero => intro q m' a' hk; exact absurd hk (by omega)
    | succ k ih =>
      intro q m' a' hk hq hqp hW hN' hP
      by_cases q0 : q = 0
      · subst q0
        exact br_t (by decide) (h1 m' a' hW hN' hP)
      · have hnx : nI q - 1 = nI (q - 1) := pk_sub (b := 1) (by omega)
        have hnl : ((q - 1) &&& p) ≤ q - 1 := Nat.and_le_left
        have next : ∀ (m'' : Nat → Nat) (a'' : Nat → Int32), NW m m'' → NN m'' a'' → PR S m m'' → wX_narrowDifferent_2 post (nI p) cC wN rU mO tO bS dE iC k (nI ((q - 1) &&& p)) aD aK aP aQ aR a'' aW aC aG aV aS aI aT aY aU aB aM aA := fun m'' a'' hW hN hP =>
          ih _ m'' a'' (by omega) (by omega) (fun v hv => by rw [Nat.testBit_and, Bool.and_eq_true] at hv; exact hv.2) hW hN hP
        have hm' : ∀ v, v < 4 → m' v < 64 := fun v hv => (hW v hv).1
        have hul := un_lt (p := q) (m := m') 4 hm'
        refine br_f (nI_nle (by omega) (by omega)) ?_
        exact pk_loop (σ := Unit) (fun n i _ => wX_narrowDifferent_11 post (wX_narrowDifferent_2 post (nI p) cC wN rU mO tO bS dE iC k) (nI p) (nI q) cC wN rU mO tO bS dE iC aD aK aP aQ aR a' aW aC aG aV aS aI aT aY aU aB aM aA n (nI (un q m' i)) (nI i)) (fun _ _ => True) 4 0 () (by omega) trivial
          (fun n _ _ => br_t (nI_le (a := 4) (b := 4) (by omega) (by omega)) (wx_ones hul (wx_ones (by omega) (by
            have z1 := zp_le _ hul
            have z2 := zp_le q (by omega)
            by_cases c1 : zp q ≤ zp (un q m' 4)
            · refine br_t (nI_le c1 (by omega)) ?_
              by_cases c2 : zp (un q m' 4) ≤ zp q
              · refine br_t (nI_le c2 (by omega)) ?_
                exact pk_loop (σ := (Nat → Nat) × (Nat → Int32)) (fun n i s => wX_narrowDifferent_78 post (wX_narrowDifferent_2 post (nI p) cC wN rU mO tO bS dE iC k) (nI p) (nI q) (nI (un q m' 4)) cC wN rU mO tO bS dE iC n (nI i) aD aK aP aQ aR s.2 aW aC aG aV aS aI aT aY aU aB aM aA)
                  (fun i s => NW m s.1 ∧ NN s.1 s.2 ∧ (∀ v, v < 4 → i ≤ v → s.1 v = m' v) ∧ PR S m s.1) 4 0 (m', a') (by omega) ⟨hW, hN', fun _ _ _ => rfl, hP⟩
                  (fun n s hI => br_t (nI_le (a := 4) (b := 4) (by omega) (by omega)) (nm_r (e' := nI ((q - 1) &&& p)) (by rw [hnx, nx_and]) (next s.1 s.2 hI.1 hI.2.1 hI.2.2.2)))
                  (fun n i s hi hI K => br_f (zc4 hi) (by
                    obtain ⟨m2, a2⟩ := s
                    dsimp only at hI ⊢
                    obtain ⟨hW2, hN2, hE2, hP2⟩ := hI
                    have l := zx_anle p q
                    rw [zx_and]
                    cases hb : (zx_an p q).testBit i
                    · exact br_t ((zx_b0 (by omega) (by omega)).mpr hb) (nm_r (nI_1 i) (K (m2, a2) ⟨hW2, hN2, fun v hv hv' => hE2 v hv (by omega), hP2⟩))
                    · have eN : a2 (nI i).toNatClampNeg = nI (m2 i) := by rw [zcl (by omega)]; exact hN2 i hi
                      have l2 := zx_anle (m2 i) (un q m' 4)
                      have hm2 := (hW2 i hi).1
                      refine br_f (fun z => by rw [zx_b0 (by omega) (by omega), hb] at z; exact absurd z (by decide)) ⟨zi4 hi, zi4 hi, nm_r (e' := upd a2 i (nI (zx_an (m2 i) (un q m' 4)))) (by rw [eN, zx_and, zb_n8 (by omega), zcl (by omega)]) (nm_r (nI_1 i) (K (uN4 m2 i (zx_an (m2 i) (un q m' 4)), upd a2 i (nI (zx_an (m2 i) (un q m' 4)))) ⟨NW_u hW2 (by omega) (fun x hx => ?_), NN_u hN2, fun v hv hv' => ?_, fun x hx hs => ?_⟩))⟩
                      · rw [zx_anb, Bool.and_eq_true] at hx; exact hx.1
                      · show uN4 m2 i _ v = m' v
                        rw [uN4_n (by omega)]; exact hE2 v hv (by omega)
                      · have hx2 := hP2 x hx hs
                        refine (IB_u hi).mpr ⟨?_, fun v hv _ => hx2 v hv⟩
                        rw [zx_anb, Bool.and_eq_true] at hb
                        have hl := (hall (p := p) (by omega) hqp hm' (hP x hx hs) (hS x hs)).2 (by omega) i hi hb.1 (by cases t : q.testBit i; rfl; rw [t] at hb; exact absurd hb.2 (by decide))
                        rw [zx_anb, hx2 i hi, hl]
                        rfl))
              · exact br_f (nI_ge (by omega) (by omega)) (nm_r (e' := nI ((q - 1) &&& p)) (by rw [hnx, nx_and]) (next m' a' hW hN' hP))
            · exact br_f (nI_ge (by omega) (by omega)) (h0 (fun x hx hs => c1 (hall (p := p) (by omega) hqp hm' (hP x hx hs) (hS x hs)).1) m' a' hW hN')))))
          (fun n i _ hi _ K => br_f (zc4 hi) (by
            have K' := K () trivial
            cases hb : q.testBit i
            · have e : un q m' (i + 1) = un q m' i := if_neg (by rw [hb]; decide)
              rw [e] at K'
              exact br_t ((zx_b0 (by omega) (by omega)).mpr hb) (nm_r (nI_1 i) K')
            · have e : un q m' (i + 1) = un q m' i ||| m' i := if_pos hb
              rw [e] at K'
              exact br_f (fun z => by rw [zx_b0 (by omega) (by omega), hb] at z; exact absurd z (by decide)) ⟨zi4 hi, nm_r (e' := nI (un q m' i ||| m' i)) (by rw [zcl (by omega), hN' i hi, zx_or]) (nm_r (nI_1 i) K')⟩))
  exact ⟨p + 1, main (p + 1) p m aN (by omega) hp (fun _ h => h) (NW_r hm) hN (fun x hx _ => hx)⟩
/-! numbers -/
def nS (p r : Nat) (m : Nat → Nat) (u : Nat) : Prop := p.testBit u = true ∧ (m u).testBit r = true ∧ m u = 2 ^ r
def nO (p r : Nat) (m : Nat → Nat) (u : Nat) : Prop := p.testBit u = true ∧ (m u).testBit r = true ∧ m u ≠ 2 ^ r
noncomputable def sC (p r : Nat) (m : Nat → Nat) : Nat → Nat
  | 0 => 0
  | i + 1 => sC p r m i + ib (nS p r m i)
theorem sC_le {p r : Nat} {m : Nat → Nat} : ∀ i, sC p r m i ≤ i
  | 0 => Nat.le_refl 0
  | i + 1 => by
    have h1 := sC_le (p := p) (r := r) (m := m) i
    have h2 := ib_le (nS p r m i)
    show sC p r m i + ib _ ≤ i + 1
    omega
theorem kp_16 {ok : Nat → Prop} : ∀ j, j ≤ 4 → kp ok j < 16
  | 0, _ => by show (0 : Nat) < 16; omega
  | j + 1, h => by
    have ih := kp_16 (ok := ok) j (by omega)
    show iz (ok j) (kp ok j ||| 2 ^ j) (kp ok j) < 16
    by_cases hb : ok j
    · rw [iz_t hb]
      have h6 : 2 ^ j < 2 ^ 4 := Nat.pow_lt_pow_right (by decide) (by omega)
      exact Nat.or_lt_two_pow (n := 4) ih h6
    · rw [iz_f hb]; exact ih
theorem nC {p r : Nat} {m x : Nat → Nat} (hx : IB m x) : sC p r m 4 ≤ hm p r x 4 ∧ hm p r x 4 ≤ sC p r m 4 + zp (kp (nO p r m) 4) ∧
    (hm p r x 4 = sC p r m 4 → ∀ v, v < 4 → nO p r m v → x v ≠ r) ∧ (hm p r x 4 = sC p r m 4 + zp (kp (nO p r m) 4) → ∀ v, v < 4 → nO p r m v → x v = r) := by
  have a : ∀ v, v < 4 → ib (nS p r m v) ≤ ib (p.testBit v = true ∧ x v = r) := fun v hv => ib_imp (fun z => ⟨z.1, by
    have := hx v hv
    rw [z.2.2, Nat.testBit_two_pow, decide_eq_true_iff] at this
    exact this.symm⟩)
  have b : ∀ v, v < 4 → ib (p.testBit v = true ∧ x v = r) ≤ ib (nS p r m v) + ib (nO p r m v) := fun v hv => ib_or (fun z => by
    have hb : (m v).testBit r = true := by rw [← z.2]; exact hx v hv
    by_cases e : m v = 2 ^ r
    · exact Or.inl ⟨z.1, hb, e⟩
    · exact Or.inr ⟨z.1, hb, e⟩)
  have ek : zp (kp (nO p r m) 4) = ib (nO p r m 0) + ib (nO p r m 1) + ib (nO p r m 2) + ib (nO p r m 3) := by
    rw [zp_ib (kp_16 4 (by omega))]
    have t : ∀ v, v < 4 → ib ((kp (nO p r m) 4).testBit v = true) = ib (nO p r m v) := fun v hv => ib_c ((kp_bit 4).trans ⟨fun z => z.2, fun z => ⟨hv, z⟩⟩)
    rw [t 0 (by omega), t 1 (by omega), t 2 (by omega), t 3 (by omega)]
  have es : sC p r m 4 = ib (nS p r m 0) + ib (nS p r m 1) + ib (nS p r m 2) + ib (nS p r m 3) := by
    have e : sC p r m 4 = 0 + ib (nS p r m 0) + ib (nS p r m 1) + ib (nS p r m 2) + ib (nS p r m 3) := rfl
    rw [e]
    omega
  have so : ∀ v, nO p r m v → ib (nS p r m v) = 0 ∧ ib (nO p r m v) = 1 := fun v z => ⟨ib_f (fun y => z.2.2 y.2.2), ib_t z⟩
  have a0 := a 0 (by omega); have a1 := a 1 (by omega); have a2 := a 2 (by omega); have a3 := a 3 (by omega)
  have b0 := b 0 (by omega); have b1 := b 1 (by omega); have b2 := b 2 (by omega); have b3 := b 3 (by omega)
  have eh := hm_4 p r x
  refine ⟨by omega, by omega, fun z v hv hO e => ?_, fun z v hv hO => ?_⟩
  · have s := so v hO
    have i1 : ib (p.testBit v = true ∧ x v = r) = 1 := ib_t ⟨hO.1, e⟩
    rcases z4c hv with rfl | rfl | rfl | rfl <;> omega
  · have s := so v hO
    apply Classical.byContradiction
    intro e
    have i1 : ib (p.testBit v = true ∧ x v = r) = 0 := ib_f (fun y => e y.2)
    rcases z4c hv with rfl | rfl | rfl | rfl <;> omega
set_option maxHeartbeats 1600000 in
theorem wx_narrowNum {post : Int32 → SX → Prop} {p q r : Nat} {m : Nat → Nat} {S : (Nat → Nat) → Prop} (hp : p ≤ 15) (hq : q ≤ 4) (hr : r ≤ 5) (hN : NN m aN) (hm64 : ∀ v, v < 4 → m v < 64) (hS : ∀ x, S x → hm p r x 4 = q)
    (h0 : (∀ x, IB m x → ¬ S x) → post 0 (cC, wN, rU, mO, tO, bS, dE, iC, aD, aK, aP, aQ, aR, aN, aW, aC, aG, aV, aS, aI, aT, aY, aU, aB, aM, aA))
    (h1 : ∀ (m' : Nat → Nat) (aN' : Nat → Int32), NW m m' → NN m' aN' → PR S m m' → post 1 (cC, wN, rU, mO, tO, bS, dE, iC, aD, aK, aP, aQ, aR, aN', aW, aC, aG, aV, aS, aI, aT, aY, aU, aB, aM, aA)) : wpX_narrowNumber post (cC, wN, rU, mO, tO, bS, dE, iC, aD, aK, aP, aQ, aR, aN, aW, aC, aG, aV, aS, aI, aT, aY, aU, aB, aM, aA) (nI p) (nI q) (nI r) := by
  have e2 : (1 : Int32) <<< (nI r &&& 31) = nI (2 ^ r) := zx_shl (by omega)
  have l2 : 2 ^ r < 64 := (Nat.pow_lt_pow_right (by decide) (by omega) : 2 ^ r < 2 ^ 6)
  have hk := kp_16 (ok := nO p r m) 4 (by omega)
  have hz := zp_le (kp (nO p r m) 4) (by omega)
  have hc := sC_le (p := p) (r := r) (m := m) 4
  have main : ∃ n, wX_narrowNumber_99 post (nI q) (nI r) (nI (sC p r m 4)) (nI (kp (nO p r m) 4)) cC wN rU mO tO bS dE iC n (nI 0) aD aK aP aQ aR aN aW aC aG aV aS aI aT aY aU aB aM aA :=
    pk_loop (σ := (Nat → Nat) × (Nat → Int32)) (fun n i s => wX_narrowNumber_99 post (nI q) (nI r) (nI (sC p r m 4)) (nI (kp (nO p r m) 4)) cC wN rU mO tO bS dE iC n (nI i) aD aK aP aQ aR s.2 aW aC aG aV aS aI aT aY aU aB aM aA)
      (fun i s => NW m s.1 ∧ NN s.1 s.2 ∧ (∀ v, v < 4 → i ≤ v → s.1 v = m v) ∧ PR S m s.1) 4 0 (m, aN) (by omega) ⟨NW_r hm64, hN, fun _ _ _ => rfl, fun x hx _ => hx⟩
      (fun n s hI => br_t (nI_le (a := 4) (b := 4) (by omega) (by omega)) (h1 s.1 s.2 hI.1 hI.2.1 hI.2.2.2))
      (fun n i s hi hI K => br_f (zc4 hi) (by
        obtain ⟨m2, a2⟩ := s
        dsimp only at hI ⊢
        obtain ⟨hW2, hN2, hE2, hP2⟩ := hI
        cases hb : (kp (nO p r m) 4).testBit i
        · exact br_t ((zx_b0 (by omega) (by omega)).mpr hb) (nm_r (nI_1 i) (K (m2, a2) ⟨hW2, hN2, fun v hv hv' => hE2 v hv (by omega), hP2⟩))
        · have hO : nO p r m i := ((kp_bit 4).mp hb).2
          have ei : m2 i = m i := hE2 i hi (by omega)
          refine br_f (fun z => by rw [zx_b0 (by omega) (by omega), hb] at z; exact absurd z (by decide)) ?_
          by_cases c1 : sC p r m 4 = q
          · have eN : a2 (nI i).toNatClampNeg = nI (m2 i) := by rw [zcl (by omega)]; exact hN2 i hi
            have l3 := zx_anle (m2 i) (2 ^ r)
            have hm2 := (hW2 i hi).1
            refine br_t (congrArg nI c1) ⟨zi4 hi, zi4 hi, nm_r (e' := upd a2 i (nI (zx_an (m2 i) (2 ^ r)))) (by rw [eN, e2, zx_and, zb_n8 (by omega), zcl (by omega)]) (nm_r (nI_1 i) (K (uN4 m2 i (zx_an (m2 i) (2 ^ r)), upd a2 i (nI (zx_an (m2 i) (2 ^ r)))) ⟨NW_u hW2 (by omega) (fun x hx => ?_), NN_u hN2, fun v hv hv' => ?_, fun x hx hs => ?_⟩))⟩
            · rw [zx_anb, Bool.and_eq_true] at hx; exact hx.1
            · show uN4 m2 i _ v = m v
              rw [uN4_n (by omega)]; exact hE2 v hv (by omega)
            · have hx2 := hP2 x hx hs
              refine (IB_u hi).mpr ⟨?_, fun v hv _ => hx2 v hv⟩
              have hne := (nC (p := p) (r := r) hx).2.2.1 (by rw [hS x hs, c1]) i hi hO
              rw [zx_anb, hx2 i hi, Nat.testBit_two_pow]
              rw [decide_eq_false (fun z => hne z.symm)]
              rfl
          · refine br_f (fun z => c1 ((nI_eq (by omega) (by omega)).mp z)) (wx_ones (by omega) ?_)
            rw [nI_add]
            by_cases c2 : sC p r m 4 + zp (kp (nO p r m) 4) = q
            · refine br_t (congrArg nI c2) ⟨zi4 hi, nm_r (e' := upd a2 i (nI (2 ^ r))) (by rw [e2, zb_n8 (by omega), zcl (by omega)]) (nm_r (nI_1 i) (K (uN4 m2 i (2 ^ r), upd a2 i (nI (2 ^ r))) ⟨NW_u hW2 l2 (fun x hx => ?_), NN_u hN2, fun v hv hv' => ?_, fun x hx hs => ?_⟩))⟩
              · rw [Nat.testBit_two_pow, decide_eq_true_iff] at hx
                rw [← hx, ei]
                exact hO.2.1
              · show uN4 m2 i _ v = m v
                rw [uN4_n (by omega)]; exact hE2 v hv (by omega)
              · have hx2 := hP2 x hx hs
                refine (IB_u hi).mpr ⟨?_, fun v hv _ => hx2 v hv⟩
                have he := (nC (p := p) (r := r) hx).2.2.2 (by rw [hS x hs, c2]) i hi hO
                rw [he, Nat.testBit_two_pow, decide_eq_true_iff]
            · exact br_f (fun z => c2 ((nI_eq (by omega) (by omega)).mp z)) (nm_r (nI_1 i) (K (m2, a2) ⟨hW2, hN2, fun v hv hv' => hE2 v hv (by omega), hP2⟩))))
  exact pk_loop (σ := Unit) (fun n i _ => wX_narrowNumber_9 post (nI p) (nI q) (nI r) cC wN rU mO tO bS dE iC aD aK aP aQ aR aN aW aC aG aV aS aI aT aY aU aB aM aA n (nI (sC p r m i)) (nI (kp (nO p r m) i)) (nI i)) (fun _ _ => True) 4 0 () (by omega) trivial
    (fun n _ _ => br_t (nI_le (a := 4) (b := 4) (by omega) (by omega)) (by
      by_cases c1 : q < sC p r m 4
      · refine br_t (nI_lt c1 (by omega)) (h0 (fun x hx hs => ?_))
        have := (nC (p := p) (r := r) hx).1
        rw [hS x hs] at this
        omega
      · refine br_f (nI_nlt (by omega) (by omega)) (wx_ones (by omega) ?_)
        rw [nI_add]
        by_cases c2 : q ≤ sC p r m 4 + zp (kp (nO p r m) 4)
        · exact br_t (nI_le c2 (by omega)) main
        · refine br_f (nI_ge (by omega) (by omega)) (h0 (fun x hx hs => ?_))
          have := (nC (p := p) (r := r) hx).2.1
          rw [hS x hs] at this
          omega))
    (fun n i _ hi _ K => br_f (zc4 hi) (by
      have K' := K () trivial
      have es : sC p r m (i + 1) = sC p r m i + ib (nS p r m i) := rfl
      have eo : kp (nO p r m) (i + 1) = iz (nO p r m i) (kp (nO p r m) i ||| 2 ^ i) (kp (nO p r m) i) := rfl
      have no : ¬ (p.testBit i = true ∧ (m i).testBit r = true) → wX_narrowNumber_9 post (nI p) (nI q) (nI r) cC wN rU mO tO bS dE iC aD aK aP aQ aR aN aW aC aG aV aS aI aT aY aU aB aM aA n (nI (sC p r m i)) (nI (kp (nO p r m) i)) (nI (i + 1)) := by
        intro z
        rw [ib_f (fun y => z ⟨y.1, y.2.1⟩), Nat.add_zero] at es
        rw [iz_f (fun y => z ⟨y.1, y.2.1⟩)] at eo
        rw [es, eo] at K'
        exact K'
      have eN : aN (nI i).toNatClampNeg = nI (m i) := by rw [zcl (by omega)]; exact hN i hi
      have hmi := hm64 i hi
      cases hb : p.testBit i
      · exact br_t ((zx_b0 (by omega) (by omega)).mpr hb) (nm_r (nI_1 i) (no (fun y => by rw [hb] at y; exact absurd y.1 (by decide))))
      · refine br_f (fun z => by rw [zx_b0 (by omega) (by omega), hb] at z; exact absurd z (by decide)) ⟨zi4 hi, ?_⟩
        rw [eN]
        cases hc : (m i).testBit r
        · exact br_t ((zx_b0 (by omega) (by omega)).mpr hc) (nm_r (nI_1 i) (no (fun y => by rw [hc] at y; exact absurd y.2 (by decide))))
        · refine br_f (fun z => by rw [zx_b0 (by omega) (by omega), hc] at z; exact absurd z (by decide)) ⟨zi4 hi, ?_⟩
          rw [e2]
          by_cases e : m i = 2 ^ r
          · rw [ib_t ⟨hb, hc, e⟩] at es
            rw [iz_f (fun y => y.2.2 e)] at eo
            rw [es, eo] at K'
            exact br_t (congrArg nI e) (nm_r (nI_1 _) (nm_r (nI_1 i) K'))
          · rw [ib_f (fun y => e y.2.2), Nat.add_zero] at es
            rw [iz_t ⟨hb, hc, e⟩] at eo
            rw [es, eo] at K'
            exact br_f (fun z => e ((nI_eq (by omega) (by omega)).mp z)) (nm_r (e' := nI (kp (nO p r m) i ||| 2 ^ i)) (by rw [zx_shl (by omega), zx_or]) (nm_r (nI_1 i) K'))))
end W6
end
section
/-! X: narrowing by lists -/
section W7
variable {cC wN rU mO tO bS dE iC : Int32} {aD aK aP aQ aR aN aW aC aG aV aS aI aT aY aU aB aM aA : Nat → Int32}
def rs (p l : Nat) : Nat → Nat
  | 0 => l
  | v + 1 => if p.testBit v = true then rs p l v / 6 else rs p l v
theorem rs_le {p l : Nat} : ∀ v, rs p l v ≤ l
  | 0 => Nat.le_refl l
  | v + 1 => by
    have ih := rs_le (p := p) (l := l) v
    have := zd_le (rs p l v) 6
    show (if p.testBit v = true then rs p l v / 6 else rs p l v) ≤ l
    by_cases h : p.testBit v = true
    · rw [if_pos h]; omega
    · rw [if_neg h]; exact ih
def bs (p v a b : Nat) : Nat := if p.testBit v = true then a else b
def rv (p l u : Nat) : Nat := bs p u (rs p l u % 6) 0
theorem rv_t {p l u : Nat} (h : p.testBit u = true) : rv p l u = rs p l u % 6 := if_pos h
theorem rv_f {p l u : Nat} (h : p.testBit u = false) : rv p l u = 0 := if_neg (by rw [h]; decide)
theorem rv_lt {p l u : Nat} : rv p l u < 6 := by
  unfold rv bs
  split <;> omega
def E3 (p : Nat) (x : Nat → Nat) : Nat := bs p 3 (x 3) 0
def E2 (p : Nat) (x : Nat → Nat) : Nat := bs p 2 (x 2 + 6 * E3 p x) (E3 p x)
def E1 (p : Nat) (x : Nat → Nat) : Nat := bs p 1 (x 1 + 6 * E2 p x) (E2 p x)
def E0 (p : Nat) (x : Nat → Nat) : Nat := bs p 0 (x 0 + 6 * E1 p x) (E1 p x)
def lsn (p : Nat) : Nat → Nat
  | 0 => 1
  | v + 1 => if p.testBit v = true then lsn p v * 6 else lsn p v
theorem lsn_le {p : Nat} : ∀ v, v ≤ 4 → lsn p v ≤ 6 ^ v
  | 0, _ => Nat.le_refl 1
  | v + 1, h => by
    have ih := lsn_le (p := p) v (by omega)
    show (if p.testBit v = true then lsn p v * 6 else lsn p v) ≤ 6 ^ v * 6
    by_cases hb : p.testBit v = true
    · rw [if_pos hb]; omega
    · rw [if_neg hb]; omega
theorem E_rs {p : Nat} {x : Nat → Nat} (h6 : ∀ v, v < 4 → x v < 6) : ∀ v, v < 4 → p.testBit v = true → rs p (E0 p x) v % 6 = x v := by
  have x0 := h6 0 (by omega)
  have x1 := h6 1 (by omega)
  have x2 := h6 2 (by omega)
  have x3 := h6 3 (by omega)
  have r1 : rs p (E0 p x) 1 = E1 p x := by
    show (if p.testBit 0 = true then E0 p x / 6 else E0 p x) = E1 p x
    unfold E0 bs
    by_cases h : p.testBit 0 = true
    · rw [if_pos h, if_pos h]; omega
    · rw [if_neg h, if_neg h]
  have r2 : rs p (E0 p x) 2 = E2 p x := by
    show (if p.testBit 1 = true then rs p (E0 p x) 1 / 6 else rs p (E0 p x) 1) = E2 p x
    rw [r1]
    unfold E1 bs
    by_cases h : p.testBit 1 = true
    · rw [if_pos h, if_pos h]; omega
    · rw [if_neg h, if_neg h]
  have r3 : rs p (E0 p x) 3 = E3 p x := by
    show (if p.testBit 2 = true then rs p (E0 p x) 2 / 6 else rs p (E0 p x) 2) = E3 p x
    rw [r2]
    unfold E2 bs
    by_cases h : p.testBit 2 = true
    · rw [if_pos h, if_pos h]; omega
    · rw [if_neg h, if_neg h]
  refine z4 (fun h => ?_) (fun h => ?_) (fun h => ?_) (fun h => ?_)
  · show E0 p x % 6 = x 0
    unfold E0 bs
    rw [if_pos h]; omega
  · rw [r1]
    unfold E1 bs
    rw [if_pos h]; omega
  · rw [r2]
    unfold E2 bs
    rw [if_pos h]; omega
  · rw [r3]
    unfold E3 bs
    rw [if_pos h]; omega
theorem E_lt {p : Nat} {x : Nat → Nat} (h6 : ∀ v, v < 4 → x v < 6) : E0 p x < lsn p 4 := by
  have x0 := h6 0 (by omega)
  have x1 := h6 1 (by omega)
  have x2 := h6 2 (by omega)
  have x3 := h6 3 (by omega)
  have e : lsn p 4 = bs p 3 (bs p 2 (bs p 1 (bs p 0 6 1 * 6) (bs p 0 6 1) * 6) (bs p 1 (bs p 0 6 1 * 6) (bs p 0 6 1)) * 6) (bs p 2 (bs p 1 (bs p 0 6 1 * 6) (bs p 0 6 1) * 6) (bs p 1 (bs p 0 6 1 * 6) (bs p 0 6 1))) := rfl
  rw [e]
  unfold E0 E1 E2 E3 bs
  by_cases h0 : p.testBit 0 = true <;> by_cases h1 : p.testBit 1 = true <;> by_cases h2 : p.testBit 2 = true <;> by_cases h3 : p.testBit 3 = true <;> simp only [if_pos, if_neg, h0, h1, h2, h3] <;> simp <;> omega
theorem wx_fits {post : Int32 → SX → Prop} {p l : Nat} {m : Nat → Nat} (hp : p < 16) (hl : l < 1296) (hN : NN m aN) (hm : ∀ v, v < 4 → m v < 64)
    (h0 : ∀ v, v < 4 → p.testBit v = true → (m v).testBit (rs p l v % 6) = false → ∀ aC' : Nat → Int32, (∀ u, p.testBit u = false → aC' u = aC u) → post 0 (cC, wN, rU, mO, tO, bS, dE, iC, aD, aK, aP, aQ, aR, aN, aW, aC', aG, aV, aS, aI, aT, aY, aU, aB, aM, aA))
    (h1 : (∀ v, v < 4 → p.testBit v = true → (m v).testBit (rs p l v % 6) = true) → ∀ aC' : Nat → Int32, (∀ v, v < 4 → p.testBit v = true → aC' v = nI (rs p l v % 6)) → (∀ u, p.testBit u = false → aC' u = aC u) → post 1 (cC, wN, rU, mO, tO, bS, dE, iC, aD, aK, aP, aQ, aR, aN, aW, aC', aG, aV, aS, aI, aT, aY, aU, aB, aM, aA)) : wpX_fitsList post (cC, wN, rU, mO, tO, bS, dE, iC, aD, aK, aP, aQ, aR, aN, aW, aC, aG, aV, aS, aI, aT, aY, aU, aB, aM, aA) (nI l) (nI p) :=
  pk_loop (σ := Nat → Int32) (fun n i s => wX_fitsList_5 post (nI p) cC wN rU mO tO bS dE iC n (nI (rs p l i)) (nI i) aD aK aP aQ aR aN aW s aG aV aS aI aT aY aU aB aM aA)
    (fun i s => (∀ v, v < i → p.testBit v = true → s v = nI (rs p l v % 6) ∧ (m v).testBit (rs p l v % 6) = true) ∧ (∀ u, p.testBit u = false → s u = aC u)) 4 0 aC (by omega) ⟨fun v hv => absurd hv (by omega), fun _ _ => rfl⟩
    (fun n s hI => br_t (nI_le (a := 4) (b := 4) (by omega) (by omega)) (h1 (fun v hv hb => (hI.1 v hv hb).2) s (fun v hv hb => (hI.1 v hv hb).1) hI.2))
    (fun n i s hi hI K => br_f (zc4 hi) (by
      have hr := rs_le (p := p) (l := l) i
      cases hb : p.testBit i
      · have e : rs p l (i + 1) = rs p l i := if_neg (by rw [hb]; decide)
        have K' := K s ⟨fun v hv z => by
          by_cases ev : v = i
          · subst ev; rw [hb] at z; exact absurd z (by decide)
          · exact hI.1 v (by omega) z, hI.2⟩
        rw [e] at K'
        exact br_t ((zx_b0 (by omega) (by omega)).mpr hb) (nm_r (nI_1 i) K')
      · have e : rs p l (i + 1) = rs p l i / 6 := if_pos hb
        have eN : aN (nI i).toNatClampNeg = nI (m i) := by rw [zcl (by omega)]; exact hN i hi
        have hmi := hm i hi
        refine br_f (fun z => by rw [zx_b0 (by omega) (by omega), hb] at z; exact absurd z (by decide)) ⟨ze6, nm_r (zd_r6 (by omega)) ⟨ze6, nm_r (zd_d6 (by omega)) ⟨zi4 hi, ?_⟩⟩⟩
        rw [eN]
        cases hc : (m i).testBit (rs p l i % 6)
        · exact br_t ((zx_b0 (by omega) (by omega)).mpr hc) (h0 i hi hb hc s hI.2)
        · refine br_f (fun z => by rw [zx_b0 (by omega) (by omega), hc] at z; exact absurd z (by decide)) ⟨zi4 hi, nm_r (e' := upd s i (nI (rs p l i % 6))) (by rw [zcl (by omega), zb_n8 (by omega)]) (nm_r (nI_1 i) ?_)⟩
          rw [← e]
          refine K (upd s i (nI (rs p l i % 6))) ⟨fun v hv z => ?_, fun u hu => ?_⟩
          · by_cases ev : v = i
            · subst ev; rw [pk_us]; exact ⟨rfl, hc⟩
            · rw [pk_un ev]; exact hI.1 v (by omega) z
          · have hne : u ≠ i := fun z => by rw [z, hb] at hu; exact absurd hu (by decide)
            rw [pk_un hne]; exact hI.2 u hu))
/-- the set of the variables that are named -/
def es (e : Nat → Nat) : Nat → Nat
  | 0 => 0
  | k + 1 => es e k ||| 2 ^ e k
theorem es_bit {e : Nat → Nat} {v : Nat} : ∀ k, (es e k).testBit v = true ↔ ∃ j, j < k ∧ e j = v
  | 0 => by
    show (0 : Nat).testBit v = true ↔ _
    rw [Nat.zero_testBit]
    exact ⟨fun h => absurd h (by decide), fun ⟨j, hj, _⟩ => absurd hj (by omega)⟩
  | k + 1 => by
    have ih := es_bit (e := e) (v := v) k
    show (es e k ||| 2 ^ e k).testBit v = true ↔ _
    rw [Nat.testBit_or, Bool.or_eq_true, ih, Nat.testBit_two_pow, decide_eq_true_iff]
    constructor
    · rintro (⟨j, hj, h⟩ | h)
      · exact ⟨j, by omega, h⟩
      · exact ⟨k, by omega, h⟩
    · rintro ⟨j, hj, h⟩
      by_cases ek : j = k
      · subst ek; exact Or.inr h
      · exact Or.inl ⟨j, by omega, h⟩
theorem es_lt {e : Nat → Nat} : ∀ k, (∀ j, j < k → e j < 4) → es e k < 16
  | 0, _ => by show (0 : Nat) < 16; omega
  | k + 1, h => by
    have ih := es_lt (e := e) k (fun j hj => h j (by omega))
    have h6 : 2 ^ e k < 2 ^ 4 := Nat.pow_lt_pow_right (by decide) (h k (by omega))
    exact Nat.or_lt_two_pow (n := 4) ih h6
def mS (p : Nat) (s m : Nat → Nat) : Nat → Nat := fun v => if p.testBit v = true then s v else m v
set_option maxHeartbeats 3200000 in
theorem wx_narrowListed {post : SX → Prop} {i : Nat} {m : Nat → Nat} (hi : i < 10) (hL : FL (aK i) (aP i) (aQ i) (aR i)) (hN : NN m aN) (hm : ∀ v, v < 4 → m v < 64)
    (h : ∀ (m' : Nat → Nat) (iC' : Int32) (aN' aC' aS' aI' : Nat → Int32), NW m m' → NN m' aN' → PR (hs (aK i) (aP i) (aQ i) (aR i)) m m' → post (cC, wN, rU, mO, tO, bS, dE, iC', aD, aK, aP, aQ, aR, aN', aW, aC', aG, aV, aS', aI', aT, aY, aU, aB, aM, aA)) : wpX_narrowListed post (cC, wN, rU, mO, tO, bS, dE, iC, aD, aK, aP, aQ, aR, aN, aW, aC, aG, aV, aS, aI, aT, aY, aU, aB, aM, aA) (nI i) := by
  refine wx_listInv (post := fun u => match u with | (cC, wN, rU, mO, tO, bS, dE, iC, aD, aK, aP, aQ, aR, aN, aW, aC, aG, aV, aS, aI, aT, aY, aU, aB, aM, aA) => ∃ n9 : Nat, wX_narrowListed_9 post (nI i) cC wN rU mO tO bS dE iC aD aK aP aQ aR aN aW aC aG aV aS aI aT aY aU aB aM aA n9 0 0) hi hL ?_
  intro aI' hI
  have hle := lc_le (aK i)
  have hel := ej_lt hL
  have hp := es_lt (e := ej (aK i) (aP i) (aQ i) (aR i)) (lc (aK i)) hel
  have hpb : ∀ k, k < lc (aK i) → (es (ej (aK i) (aP i) (aQ i) (aR i)) (lc (aK i))).testBit (ej (aK i) (aP i) (aQ i) (aR i) k) = true := fun k hk => (es_bit _).mpr ⟨k, hk, rfl⟩
  have eset : ∀ k, k < lc (aK i) → nI (es (ej (aK i) (aP i) (aQ i) (aR i)) k) ||| ((1 : Int32) <<< (aI' (nI k).toNatClampNeg &&& 31)) = nI (es (ej (aK i) (aP i) (aQ i) (aR i)) (k + 1)) := by
    intro k hk
    have := hel k hk
    rw [zcl (by omega), hI k hk, zx_shl (by omega), zx_or]
    rfl
  revert hp hpb eset
  generalize hpp : es (ej (aK i) (aP i) (aQ i) (aR i)) (lc (aK i)) = p
  intro hp hpb eset
  -- the last loop
  have fin : ∀ (s : Nat → Nat) (aC' aS' : Nat → Int32), NN s aS' → (∀ v, v < 4 → s v < 64) → (∀ v, v < 4 → p.testBit v = true → ∀ y, (s v).testBit y = true → (m v).testBit y = true) → (∀ x, IB m x → hs (aK i) (aP i) (aQ i) (aR i) x → ∀ v, v < 4 → p.testBit v = true → (s v).testBit (x v) = true) →
      ∃ n, wX_narrowListed_166 post (nI p) cC wN rU mO tO bS dE (nI (lc (aK i))) n 0 aD aK aP aQ aR aN aW aC' aG aV aS' aI' aT aY aU aB aM aA := by
    intro s aC' aS' hs1 hs2 hs3 hs4
    refine pk_loop (σ := Nat → Int32) (fun n v a => wX_narrowListed_166 post (nI p) cC wN rU mO tO bS dE (nI (lc (aK i))) n (nI v) aD aK aP aQ aR a aW aC' aG aV aS' aI' aT aY aU aB aM aA)
      (fun v a => ∀ u, u < 4 → a u = if u < v then nI (mS p s m u) else nI (m u)) 4 0 aN (by omega) (fun u hu => by rw [if_neg (by omega)]; exact hN u hu)
      (fun n a hA => br_t (nI_le (a := 4) (b := 4) (by omega) (by omega)) (h (mS p s m) _ a aC' aS' aI' ?_ ?_ ?_))
      (fun n v a hv hA K => br_f (zc4 hv) ?_)
    · intro v hv
      show (if p.testBit v = true then s v else m v) < 64 ∧ ∀ x, (if p.testBit v = true then s v else m v).testBit x = true → _
      by_cases hb : p.testBit v = true
      · rw [if_pos hb]; exact ⟨hs2 v hv, hs3 v hv hb⟩
      · rw [if_neg hb]; exact ⟨hm v hv, fun _ z => z⟩
    · intro v hv
      rw [hA v hv, if_pos hv]
    · intro x hx hh v hv
      show (if p.testBit v = true then s v else m v).testBit (x v) = true
      by_cases hb : p.testBit v = true
      · rw [if_pos hb]; exact hs4 x hx hh v hv hb
      · rw [if_neg hb]; exact hx v hv
    · cases hb : p.testBit v
      · refine br_t ((zx_b0 (by omega) (by omega)).mpr hb) (nm_r (nI_1 v) (K a (fun u hu => ?_)))
        rw [hA u hu]
        by_cases e : u = v
        · subst e
          rw [if_neg (by omega), if_pos (by omega)]
          show nI (m u) = nI (if p.testBit u = true then s u else m u)
          rw [if_neg (by rw [hb]; decide)]
        · by_cases l : u < v
          · rw [if_pos l, if_pos (by omega)]
          · rw [if_neg l, if_neg (by omega)]
      · refine br_f (fun z => by rw [zx_b0 (by omega) (by omega), hb] at z; exact absurd z (by decide)) ⟨zi4 hv, zi4 hv, nm_r (e' := upd a v (nI (s v))) (by rw [zcl (by omega), hs1 v hv, zb_n (by have := hs2 v hv; omega)]) (nm_r (nI_1 v) (K _ (fun u hu => ?_)))⟩
        by_cases e : u = v
        · subst e
          rw [pk_us, if_pos (by omega)]
          show nI (s u) = nI (if p.testBit u = true then s u else m u)
          rw [if_pos hb]
        · rw [pk_un e, hA u hu]
          by_cases l : u < v
          · rw [if_pos l, if_pos (by omega)]
          · rw [if_neg l, if_neg (by omega)]
  -- the loop over all lists
  have lists : ∀ aC' aS' : Nat → Int32, (∀ v, v < 4 → aC' v = 0) → (∀ v, v < 4 → aS' v = nI 0) → ∃ n, wX_narrowListed_95 post (nI i) (nI p) (nI (lsn p 4)) n 0 cC wN rU mO tO bS dE (nI (lc (aK i))) aD aK aP aQ aR aN aW aC' aG aV aS' aI' aT aY aU aB aM aA := by
    intro aC0 aS0 hC0 hS0
    have hll := lsn_le (p := p) 4 (by omega)
    have hl2 : lsn p 4 ≤ 1296 := hll
    refine pk_loop (σ := (Nat → Nat) × (Nat → Int32) × (Nat → Int32)) (fun n l z => wX_narrowListed_95 post (nI i) (nI p) (nI (lsn p 4)) n (nI l) cC wN rU mO tO bS dE (nI (lc (aK i))) aD aK aP aQ aR aN aW z.2.1 aG aV z.2.2 aI' aT aY aU aB aM aA)
      (fun l z => (∀ v, v < 4 → p.testBit v = false → z.2.1 v = 0) ∧ NN z.1 z.2.2 ∧ (∀ v, v < 4 → z.1 v < 64) ∧ (∀ v, v < 4 → p.testBit v = true → ∀ y, (z.1 v).testBit y = true → (m v).testBit y = true) ∧
        (∀ x, IB m x → hs (aK i) (aP i) (aQ i) (aR i) x → E0 p x < l → ∀ v, v < 4 → p.testBit v = true → (z.1 v).testBit (x v) = true)) (lsn p 4) 0 (fun _ => 0, aC0, aS0) (by omega)
      ⟨fun v hv _ => hC0 v hv, hS0, fun v hv => by show (0 : Nat) < 64; omega, fun v _ _ y hy => by have hy' : (0 : Nat).testBit y = true := hy; rw [Nat.zero_testBit] at hy'; exact absurd hy' (by decide), fun x _ _ hx => absurd hx (by omega)⟩
      (fun n z hI => br_t (nI_le (by omega) (by omega)) (fin z.1 z.2.1 z.2.2 hI.2.1 hI.2.2.1 hI.2.2.2.1 (fun x hx hh => hI.2.2.2.2 x hx hh (E_lt (IB_lt hm hx)))))
      (fun n l z hl hI K => br_f (nI_ge hl (by omega)) ?_)
    obtain ⟨s, c0, s0⟩ := z
    dsimp only at hI ⊢
    obtain ⟨i1, i2, i3, i4, i5⟩ := hI
    refine wx_fits (m := m) hp (by omega) hN hm (fun v hv hb hf c1 hc1 => ?_) (fun hall c1 hv1 hc1 => ?_)
    · refine br_t rfl (nm_r (nI_1 l) (K (s, c1, s0) ⟨fun u hu z => ?_, i2, i3, i4, fun x hx hh hl' => ?_⟩))
      · show c1 u = 0
        rw [hc1 u z]; exact i1 u hu z
      · by_cases e : E0 p x = l
        · have := E_rs (p := p) (IB_lt hm hx) v hv hb
          rw [e] at this
          rw [this, hx v hv] at hf
          exact absurd hf (by decide)
        · exact i5 x hx hh (by omega)
    · have hpv : ∀ k, k < lc (aK i) → c1 (ej (aK i) (aP i) (aQ i) (aR i) k) = nI ((fun v => rs p l v % 6) (ej (aK i) (aP i) (aQ i) (aR i) k)) ∧ (fun v => rs p l v % 6) (ej (aK i) (aP i) (aQ i) (aR i) k) < 6 := fun k hk => ⟨hv1 _ (hel k hk) (hpb k hk), Nat.mod_lt _ (by decide)⟩
      refine br_f (by decide) (wx_holdsL (x := fun v => rs p l v % 6) hi hL hpv ?_)
      have same : ∀ x, IB m x → E0 p x = l → (hs (aK i) (aP i) (aQ i) (aR i) x ↔ hs (aK i) (aP i) (aQ i) (aR i) (fun v => rs p l v % 6)) := by
        intro x hx e
        refine hs_loc hL (fun k hk => ?_)
        have := E_rs (p := p) (IB_lt hm hx) _ (hel k hk) (hpb k hk)
        rw [e] at this
        exact this.symm
      by_cases hh : hs (aK i) (aP i) (aQ i) (aR i) (fun v => rs p l v % 6)
      · refine br_f (fun z => bI_0.mp z hh) ?_
        refine pk_loop (σ := Nat → Int32) (fun n' v a => wX_narrowListed_125 post (wX_narrowListed_95 post (nI i) (nI p) (nI (lsn p 4)) n) (nI i) (nI p) (nI (lsn p 4)) (nI l) cC wN rU mO tO bS dE (nI (lc (aK i))) n' (nI v) aD aK aP aQ aR aN aW c1 aG aV a aI' aT aY aU aB aM aA)
          (fun v a => ∀ u, u < 4 → a u = if u < v then nI (s u ||| 2 ^ (rv p l u)) else nI (s u)) 4 0 s0 (by omega) (fun u hu => by rw [if_neg (by omega)]; exact i2 u hu)
          (fun n' a hA => br_t (nI_le (a := 4) (b := 4) (by omega) (by omega)) (nm_r (nI_1 l) (K (fun u => s u ||| 2 ^ (rv p l u), c1, a) ⟨fun u hu z => ?_, fun u hu => ?_, fun u hu => ?_, fun u hu hb y hy => ?_, fun x hx hx' hl' u hu hb => ?_⟩)))
          (fun n' v a hv hA K2 => br_f (zc4 hv) ⟨zi4 hv, zi4 hv, zi4 hv, nm_r (e' := upd a v (nI (s v ||| 2 ^ (rv p l v)))) ?_ (nm_r (nI_1 v) (K2 _ (fun u hu => ?_)))⟩)
        · show c1 u = 0
          rw [hc1 u z]; exact i1 u hu z
        · show a u = nI (s u ||| 2 ^ (rv p l u))
          rw [hA u hu, if_pos hu]
        · show s u ||| 2 ^ (rv p l u) < 64
          have : rv p l u < 6 := rv_lt
          exact Nat.or_lt_two_pow (n := 6) (i3 u hu) (Nat.pow_lt_pow_right (by decide) this)
        · have hy' : (s u ||| 2 ^ (rv p l u)).testBit y = true := hy
          rw [rv_t hb, Nat.testBit_or, Bool.or_eq_true, Nat.testBit_two_pow, decide_eq_true_iff] at hy'
          rcases hy' with z | z
          · exact i4 u hu hb y z
          · rw [← z]; exact hall u hu hb
        · show (s u ||| 2 ^ (rv p l u)).testBit (x u) = true
          rw [rv_t hb, Nat.testBit_or, Bool.or_eq_true, Nat.testBit_two_pow, decide_eq_true_iff]
          by_cases e : E0 p x = l
          · have := E_rs (p := p) (IB_lt hm hx) u hu hb
            rw [e] at this
            exact Or.inr this
          · exact Or.inl (i5 x hx hx' (by omega) u hu hb)
        · have ec : c1 v = nI (rv p l v) := by
            by_cases hb : p.testBit v = true
            · rw [rv_t hb]; exact hv1 v hv hb
            · have hb' : p.testBit v = false := by cases t : p.testBit v; rfl; exact absurd t hb
              rw [rv_f hb', hc1 v hb']; exact i1 v hv hb'
          have l6 : rv p l v < 6 := rv_lt
          have ea : a v = nI (s v) := by rw [hA v hv, if_neg (by omega)]
          have lo : s v ||| 2 ^ (rv p l v) < 2 ^ 6 := Nat.or_lt_two_pow (n := 6) (i3 v hv) (Nat.pow_lt_pow_right (by decide) l6)
          rw [zcl (by omega), ec, ea, zx_shl (by omega), zx_or, zb_n8 (by omega)]
        · by_cases e : u = v
          · subst e
            rw [pk_us, if_pos (by omega)]
          · rw [pk_un e, hA u hu]
            by_cases l : u < v
            · rw [if_pos l, if_pos (by omega)]
            · rw [if_neg l, if_neg (by omega)]
      · refine br_t (bI_0.mpr hh) (nm_r (nI_1 l) (K (s, c1, s0) ⟨fun u hu z => ?_, i2, i3, i4, fun x hx hx' hl' => ?_⟩))
        · show c1 u = 0
          rw [hc1 u z]; exact i1 u hu z
        · by_cases e : E0 p x = l
          · exact absurd ((same x hx e).mp hx') hh
          · exact i5 x hx hx' (by omega)
  -- the number of lists
  have cnt : ∀ aC' aS' : Nat → Int32, (∀ v, v < 4 → aC' v = 0) → (∀ v, v < 4 → aS' v = nI 0) → ∃ n, wX_narrowListed_66 post (nI i) (nI p) cC wN rU mO tO bS dE (nI (lc (aK i))) aD aK aP aQ aR aN aW aC' aG aV aS' aI' aT aY aU aB aM aA n 1 0 := by
    intro aC0 aS0 hC0 hS0
    refine pk_loop (σ := Unit) (fun n v _ => wX_narrowListed_66 post (nI i) (nI p) cC wN rU mO tO bS dE (nI (lc (aK i))) aD aK aP aQ aR aN aW aC0 aG aV aS0 aI' aT aY aU aB aM aA n (nI (lsn p v)) (nI v)) (fun _ _ => True) 4 0 () (by omega) trivial
      (fun n _ _ => br_t (nI_le (a := 4) (b := 4) (by omega) (by omega)) (lists aC0 aS0 hC0 hS0))
      (fun n v _ hv _ K => br_f (zc4 hv) ?_)
    have K' := K () trivial
    cases hb : p.testBit v
    · have e : lsn p (v + 1) = lsn p v := if_neg (by rw [hb]; decide)
      rw [e] at K'
      exact br_t ((zx_b0 (by omega) (by omega)).mpr hb) (nm_r (nI_1 v) K')
    · have e : lsn p (v + 1) = lsn p v * 6 := if_pos hb
      rw [e] at K'
      exact br_f (fun z => by rw [zx_b0 (by omega) (by omega), hb] at z; exact absurd z (by decide)) (nm_r (e' := nI (lsn p v * 6)) (pk_mul _ 6) (nm_r (nI_1 v) K'))
  -- both arrays are cleared
  have clr : ∃ n, wX_narrowListed_36 post (nI i) (nI p) cC wN rU mO tO bS dE (nI (lc (aK i))) n 0 aD aK aP aQ aR aN aW aC aG aV aS aI' aT aY aU aB aM aA := by
    refine pk_loop (σ := (Nat → Int32) × (Nat → Int32)) (fun n v z => wX_narrowListed_36 post (nI i) (nI p) cC wN rU mO tO bS dE (nI (lc (aK i))) n (nI v) aD aK aP aQ aR aN aW z.1 aG aV z.2 aI' aT aY aU aB aM aA) (fun v z => (∀ u, u < v → z.1 u = 0) ∧ (∀ u, u < v → z.2 u = nI 0)) 4 0 (aC, aS) (by omega) ⟨fun u hu => absurd hu (by omega), fun u hu => absurd hu (by omega)⟩
      (fun n z hI => br_t (nI_le (a := 4) (b := 4) (by omega) (by omega)) (cnt z.1 z.2 hI.1 hI.2))
      (fun n v z hv hI K => br_f (zc4 hv) ⟨zi4 hv, nm_r (e' := upd z.2 v (nI 0)) (by rw [zcl (by omega)]; exact congrArg (upd z.2 v) (zb_n (m := 0) (by omega))) ⟨zi4 hv, nm_r (e' := upd z.1 v 0) (by rw [zcl (by omega)]; exact congrArg (upd z.1 v) (zb_n (m := 0) (by omega))) (nm_r (nI_1 v) (K (upd z.1 v 0, upd z.2 v (nI 0)) ⟨zu_s (f := fun _ => 0) hI.1 rfl, zu_s (f := fun _ => nI 0) hI.2 rfl⟩))⟩⟩)
  exact pk_loop (σ := Unit) (fun n k _ => wX_narrowListed_9 post (nI i) cC wN rU mO tO bS dE (nI (lc (aK i))) aD aK aP aQ aR aN aW aC aG aV aS aI' aT aY aU aB aM aA n (nI (es (ej (aK i) (aP i) (aQ i) (aR i)) k)) (nI k)) (fun _ _ => True) (lc (aK i)) 0 () (by omega) trivial
    (fun n _ _ => br_t (nI_le (by omega) (by omega)) (by rw [hpp]; exact clr))
    (fun n k _ hk _ K => br_f (nI_ge hk (by omega)) ⟨zi4 (by omega), nm_r (eset k hk) (nm_r (nI_1 k) (K () trivial))⟩)
end W7
end
section
/-! X: narrowBy, narrow -/
section W8
variable {cC wN rU mO tO bS dE iC : Int32} {aD aK aP aQ aR aN aW aC aG aV aS aI aT aY aU aB aM aA : Nat → Int32}
theorem wx_nB98 {post : Int32 → SX → Prop} {r : Int32} {m : Nat → Nat} (hr : r = 0 ∨ r = 1) (hN : NN m aN) (hm : ∀ v, v < 4 → m v < 64) (h0 : (r = 0 ∨ ∃ v, v < 4 ∧ m v = 0) → post 0 (cC, wN, rU, mO, tO, bS, dE, iC, aD, aK, aP, aQ, aR, aN, aW, aC, aG, aV, aS, aI, aT, aY, aU, aB, aM, aA)) (h1 : r = 1 → (∀ v, v < 4 → 0 < m v) → post 1 (cC, wN, rU, mO, tO, bS, dE, iC, aD, aK, aP, aQ, aR, aN, aW, aC, aG, aV, aS, aI, aT, aY, aU, aB, aM, aA)) :
    ∃ n, wX_narrowBy_98 post r cC wN rU mO tO bS dE iC aD aK aP aQ aR aN aW aC aG aV aS aI aT aY aU aB aM aA n 0 :=
  pk_loop (σ := Unit) (fun n v _ => wX_narrowBy_98 post r cC wN rU mO tO bS dE iC aD aK aP aQ aR aN aW aC aG aV aS aI aT aY aU aB aM aA n (nI v)) (fun v _ => ∀ u, u < v → 0 < m u) 4 0 () (by omega) (fun u hu => absurd hu (by omega))
    (fun n _ hI => br_t (nI_le (a := 4) (b := 4) (by omega) (by omega)) (by
      rcases hr with rfl | rfl
      · exact ⟨narrow_b0, h0 (Or.inl rfl)⟩
      · exact ⟨narrow_b1, h1 rfl hI⟩))
    (fun n v _ hv hI K => br_f (zc4 hv) ⟨zi4 hv, by
      have hmv := hm v hv
      rw [zcl (by omega : v < 100000), hN v hv]
      by_cases e : m v = 0
      · exact br_t (by rw [e]; rfl) (h0 (Or.inr ⟨v, hv, e⟩))
      · exact br_f (nI_ne0 (by omega) (by omega)) (nm_r (nI_1 v) (K () (lt_s hI (by omega))))⟩)
set_option maxHeartbeats 1600000 in
theorem wx_narrowBy {post : Int32 → SX → Prop} {i : Nat} {m : Nat → Nat} (hi : i < 10) (hF : FT (aK i) (aP i) (aQ i) (aR i)) (hN : NN m aN) (hm : ∀ v, v < 4 → m v < 64 ∧ 0 < m v)
    (h0 : (∀ x, IB m x → ¬ hs (aK i) (aP i) (aQ i) (aR i) x) → ∀ (m' : Nat → Nat) (iC' : Int32) (aN' aC' aG' aS' aI' : Nat → Int32), NW m m' → NN m' aN' → post 0 (cC, wN, rU, mO, tO, bS, dE, iC', aD, aK, aP, aQ, aR, aN', aW, aC', aG', aV, aS', aI', aT, aY, aU, aB, aM, aA))
    (h1 : ∀ (m' : Nat → Nat) (iC' : Int32) (aN' aC' aG' aS' aI' : Nat → Int32), NW m m' → NN m' aN' → (∀ v, v < 4 → 0 < m' v) → PR (hs (aK i) (aP i) (aQ i) (aR i)) m m' → post 1 (cC, wN, rU, mO, tO, bS, dE, iC', aD, aK, aP, aQ, aR, aN', aW, aC', aG', aV, aS', aI', aT, aY, aU, aB, aM, aA)) : wpX_narrowBy post (cC, wN, rU, mO, tO, bS, dE, iC, aD, aK, aP, aQ, aR, aN, aW, aC, aG, aV, aS, aI, aT, aY, aU, aB, aM, aA) (nI i) := by
  have hm1 : ∀ v, v < 4 → m v < 64 := fun v hv => (hm v hv).1
  have bad : ∀ {m' : Nat → Nat}, NW m m' → PR (hs (aK i) (aP i) (aQ i) (aR i)) m m' → (∃ v, v < 4 ∧ m' v = 0) → ∀ x, IB m x → ¬ hs (aK i) (aP i) (aQ i) (aR i) x := by
    intro m' _ hP ⟨v, hv, e⟩ x hx hh
    have := hP x hx hh v hv
    rw [e, Nat.zero_testBit] at this
    exact absurd this (by decide)
  have eP : aP (nI i).toNatClampNeg = aP i := congrArg aP (zcl (by omega))
  have eQ : aQ (nI i).toNatClampNeg = aQ i := congrArg aQ (zcl (by omega))
  have eR : aR (nI i).toNatClampNeg = aR i := congrArg aR (zcl (by omega))
  refine And.intro (zi10 hi) (nm_r (congrArg aK (zcl (by omega))) ?_)
  rcases hF with ⟨hk, p, hp, hP, q1, q2⟩ | ⟨hk, p, hp, hP⟩ | ⟨hk, p, q, r, hp, hq, hr, hP, hQ, hR⟩ | hL
  · have hS : ∀ k : Int32, aK i = k → k = 0 ∨ k = 1 → wX_narrowBy_18 post (nI i) (aK i) cC wN rU mO tO bS dE iC aD aK aP aQ aR aN aW aC aG aV aS aI aT aY aU aB aM aA := by
      intro k e hk
      unfold wX_narrowBy_18
      rw [eP, eQ, hP]
      refine And.intro (zi10 hi) ⟨zi10 hi, wx_narrowSum (p := p) (m := m) (S := hs (aK i) (aP i) (aQ i) (aR i)) (by rw [e]; exact hk) hp hN hm (fun x hh => ?_) (fun z m' aN' aG' hW hN' => ?_) (fun m' aN' aG' hW hN' hPR => ?_)⟩
      · rw [hP] at hh
        rcases hk with rfl | rfl
        · rw [e, hs_0, nn_n (by omega)] at hh
          exact Or.inl ⟨e, hh⟩
        · rw [e, hs_1, nn_n (by omega)] at hh
          exact Or.inr ⟨e, hh⟩
      · exact wx_nB98 (Or.inl rfl) hN' (fun v hv => (hW v hv).1) (fun _ => h0 z m' _ _ _ _ _ _ hW hN') (fun z => absurd z (by decide))
      · exact wx_nB98 (Or.inr rfl) hN' (fun v hv => (hW v hv).1) (fun z => h0 (bad hW hPR (by rcases z with z | z; exact absurd z (by decide); exact z)) m' _ _ _ _ _ _ hW hN') (fun _ hz => h1 m' _ _ _ _ _ _ hW hN' hz hPR)
    rcases hk with e | e
    · exact br_t e (hS 0 e (Or.inl rfl))
    · exact br_f (by rw [e]; decide) (br_t e (hS 1 e (Or.inr rfl)))
  · refine br_f (by rw [hk]; decide) (br_f (by rw [hk]; decide) (br_t hk ⟨zi10 hi, ?_⟩))
    rw [eP, hP]
    refine wx_narrowDiff (m := m) (S := hs (aK i) (aP i) (aQ i) (aR i)) hp hN hm1 (fun x hh => ?_) (fun z m' aN' hW hN' => ?_) (fun m' aN' hW hN' hPR => ?_)
    · rw [hk, hs_2, hP, nn_n (by omega)] at hh
      exact hh
    · exact wx_nB98 (Or.inl rfl) hN' (fun v hv => (hW v hv).1) (fun _ => h0 z m' _ _ _ _ _ _ hW hN') (fun z => absurd z (by decide))
    · exact wx_nB98 (Or.inr rfl) hN' (fun v hv => (hW v hv).1) (fun z => h0 (bad hW hPR (by rcases z with z | z; exact absurd z (by decide); exact z)) m' _ _ _ _ _ _ hW hN') (fun _ hz => h1 m' _ _ _ _ _ _ hW hN' hz hPR)
  · refine br_f (by rw [hk]; decide) (br_f (by rw [hk]; decide) (br_f (by rw [hk]; decide) (br_t hk ⟨zi10 hi, zi10 hi, zi10 hi, ?_⟩)))
    rw [eP, eQ, eR, hP, hQ, hR]
    refine wx_narrowNum (m := m) (S := hs (aK i) (aP i) (aQ i) (aR i)) hp hq hr hN hm1 (fun x hh => ?_) (fun z => ?_) (fun m' aN' hW hN' hPR => ?_)
    · rw [hk, hs_7, hP, hQ, hR, nn_n (by omega), nn_n (by omega), nn_n (by omega)] at hh
      exact hh
    · exact wx_nB98 (Or.inl rfl) hN hm1 (fun _ => h0 z m _ _ _ _ _ _ (NW_r hm1) hN) (fun z => absurd z (by decide))
    · exact wx_nB98 (Or.inr rfl) hN' (fun v hv => (hW v hv).1) (fun z => h0 (bad hW hPR (by rcases z with z | z; exact absurd z (by decide); exact z)) m' _ _ _ _ _ _ hW hN') (fun _ hz => h1 m' _ _ _ _ _ _ hW hN' hz hPR)
  · have hk : ¬ aK i = 0 ∧ ¬ aK i = 1 ∧ ¬ aK i = 2 ∧ ¬ aK i = 7 := by
      rcases hL with ⟨e, -⟩ | ⟨e, -⟩ | ⟨e, -⟩ | ⟨e, -⟩ | ⟨e, -⟩ <;> rw [e] <;> decide
    refine br_f hk.1 (br_f hk.2.1 (br_f hk.2.2.1 (br_f hk.2.2.2 (wx_narrowListed (m := m) hi hL hN hm1 (fun m' iC' aN' aC' aS' aI' hW hN' hPR => ?_)))))
    exact wx_nB98 (Or.inr rfl) hN' (fun v hv => (hW v hv).1) (fun z => h0 (bad hW hPR (by rcases z with z | z; exact absurd z (by decide); exact z)) m' _ _ _ _ _ _ hW hN') (fun _ hz => h1 m' _ _ _ _ _ _ hW hN' hz hPR)
def sz (m : Nat → Nat) : Nat := zp (m 0) + zp (m 1) + zp (m 2) + zp (m 3)
theorem sz_le {m : Nat → Nat} (h : ∀ v, v < 4 → m v < 64) : sz m ≤ 24 := by
  have a := zp_le _ (h 0 (by omega)); have b := zp_le _ (h 1 (by omega)); have c := zp_le _ (h 2 (by omega)); have d := zp_le _ (h 3 (by omega))
  unfold sz; omega
theorem wx_size {post : Int32 → Prop} {m : Nat → Nat} (hN : NN m aN) (hm : ∀ v, v < 4 → m v < 64) (h : post (nI (sz m))) : wpX_sizeOfAll post (cC, wN, rU, mO, tO, bS, dE, iC, aD, aK, aP, aQ, aR, aN, aW, aC, aG, aV, aS, aI, aT, aY, aU, aB, aM, aA) := by
  have e0 : aN 0 = nI (m 0) := hN 0 (by omega)
  have e1 : aN 1 = nI (m 1) := hN 1 (by omega)
  have e2 : aN 2 = nI (m 2) := hN 2 (by omega)
  have e3 : aN 3 = nI (m 3) := hN 3 (by omega)
  unfold wpX_sizeOfAll
  dsimp only
  rw [e0, e1, e2, e3]
  refine wx_ones (hm 0 (by omega)) (wx_ones (hm 1 (by omega)) (wx_ones (hm 2 (by omega)) (wx_ones (hm 3 (by omega)) ?_)))
  rw [nI_add, nI_add, nI_add]
  exact h
set_option maxHeartbeats 1600000 in
theorem wx_narrow {post : Int32 → SX → Prop} {n rl : Nat} {m : Nat → Nat} (hn : n ≤ 10) (hr : rl < 1024) (hF : ∀ i, i < n → FT (aK i) (aP i) (aQ i) (aR i)) (hN : NN m aN) (hm : ∀ v, v < 4 → m v < 64 ∧ 0 < m v)
    (h0 : (∀ x, IB m x → ¬ HA n rl aK aP aQ aR x) → ∀ (m' : Nat → Nat) (iC' : Int32) (aN' aC' aG' aS' aI' : Nat → Int32), NW m m' → NN m' aN' → post 0 (nI n, wN, nI rl, mO, tO, bS, dE, iC', aD, aK, aP, aQ, aR, aN', aW, aC', aG', aV, aS', aI', aT, aY, aU, aB, aM, aA))
    (h1 : ∀ (m' : Nat → Nat) (iC' : Int32) (aN' aC' aG' aS' aI' : Nat → Int32), NW m m' → NN m' aN' → (∀ v, v < 4 → 0 < m' v) → PR (HA n rl aK aP aQ aR) m m' → post 1 (nI n, wN, nI rl, mO, tO, bS, dE, iC', aD, aK, aP, aQ, aR, aN', aW, aC', aG', aV, aS', aI', aT, aY, aU, aB, aM, aA)) : wpX_narrow post (nI n, wN, nI rl, mO, tO, bS, dE, iC, aD, aK, aP, aQ, aR, aN, aW, aC, aG, aV, aS, aI, aT, aY, aU, aB, aM, aA) := by
  have main : ∀ k bf (m' : Nat → Nat) (iC' : Int32) (aN' aC' aG' aS' aI' : Nat → Int32), bf < k → bf ≤ 100 → NW m m' → NN m' aN' → (∀ v, v < 4 → 0 < m' v) → PR (HA n rl aK aP aQ aR) m m' → wX_narrow_8 post k (nI bf) (nI (sz m')) (nI n) wN (nI rl) mO tO bS dE iC' aD aK aP aQ aR aN' aW aC' aG' aV aS' aI' aT aY aU aB aM aA := by
    intro k
    induction k with
    | zero => intro bf m' iC' aN' aC' aG' aS' aI' hk; exact absurd hk (by omega)
    | succ k ih =>
      intro bf m' iC' aN' aC' aG' aS' aI' hk hb hW hN' hz hP
      have hs := sz_le (fun v hv => (hW v hv).1)
      by_cases c : bf ≤ sz m'
      · exact br_t (nI_le c (by omega)) (h1 m' _ _ _ _ _ _ hW hN' hz hP)
      · refine br_f (nI_ge (by omega) (by omega)) ?_
        refine pk_loop (σ := (Nat → Nat) × Int32 × (Nat → Int32) × (Nat → Int32) × (Nat → Int32) × (Nat → Int32) × (Nat → Int32)) (fun n' i s => wX_narrow_17 post (wX_narrow_8 post k) (nI (sz m')) n' (nI i) (nI n) wN (nI rl) mO tO bS dE s.2.1 aD aK aP aQ aR s.2.2.1 aW s.2.2.2.1 s.2.2.2.2.1 aV s.2.2.2.2.2.1 s.2.2.2.2.2.2 aT aY aU aB aM aA)
          (fun i s => NW m s.1 ∧ NN s.1 s.2.2.1 ∧ (∀ v, v < 4 → 0 < s.1 v) ∧ PR (HA n rl aK aP aQ aR) m s.1) n 0 (m', iC', aN', aC', aG', aS', aI') (by omega) ⟨hW, hN', hz, hP⟩
          (fun n' s hI => br_t (nI_le (by omega) (by omega)) (wx_size hI.2.1 (fun v hv => (hI.1 v hv).1) (ih _ s.1 _ _ _ _ _ _ (by omega) (by omega) hI.1 hI.2.1 hI.2.2.1 hI.2.2.2)))
          (fun n' i s hi hI K => br_f (nI_ge hi (by omega)) (wx_isRule hr (by omega) ?_))
        obtain ⟨m2, i2, n2, c2, g2, s2, v2⟩ := s
        dsimp only at hI ⊢
        obtain ⟨hW2, hN2, hz2, hP2⟩ := hI
        by_cases hb : rl.testBit i = true
        · refine br_f (fun z => bI_0.mp z hb) (wx_narrowBy (m := m2) (by omega) (hF i hi) hN2 (fun v hv => ⟨(hW2 v hv).1, hz2 v hv⟩) (fun z m3 i3 n3 c3 g3 s3 v3 hW3 hN3 => ?_) (fun m3 i3 n3 c3 g3 s3 v3 hW3 hN3 hz3 hP3 => ?_))
          · exact br_t rfl (h0 (fun x hx hh => z x (hP2 x hx hh) (hh i hi hb)) m3 _ _ _ _ _ _ (NW_t hW2 hW3) hN3)
          · exact br_f (by decide) (nm_r (nI_1 i) (K (m3, i3, n3, c3, g3, s3, v3) ⟨NW_t hW2 hW3, hN3, hz3, fun x hx hh => hP3 x (hP2 x hx hh) (hh i hi hb)⟩))
        · exact br_t (bI_0.mpr hb) (nm_r (nI_1 i) (K (m2, i2, n2, c2, g2, s2, v2) ⟨hW2, hN2, hz2, hP2⟩))
  have hm1 : ∀ v, v < 4 → m v < 64 := fun v hv => (hm v hv).1
  unfold wpX_narrow
  refine wx_size hN hm1 ⟨101, main 101 100 m iC aN aC aG aS aI (by omega) (by omega) (NW_r hm1) hN (fun v hv => (hm v hv).2) (fun x hx _ => hx)⟩
theorem wx_lowestSum {post : Int32 → Prop} {m : Nat → Nat} {w : Nat → Int} (hN : NN m aN) (hm : ∀ v, v < 4 → m v < 64 ∧ 0 < m v) (hw : ∀ v, v < 4 → aW v = zI (w v) ∧ -3 ≤ w v ∧ w v ≤ 3) (h : post (zI (ps w (SL w m) 4))) : wpX_lowestSum post (cC, wN, rU, mO, tO, bS, dE, iC, aD, aK, aP, aQ, aR, aN, aW, aC, aG, aV, aS, aI, aT, aY, aU, aB, aM, aA) :=
  pk_loop (σ := Unit) (fun n v _ => wX_lowestSum_4 post cC wN rU mO tO bS dE iC aD aK aP aQ aR aN aW aC aG aV aS aI aT aY aU aB aM aA n (zI (ps w (SL w m) v)) (nI v)) (fun _ _ => True) 4 0 () (by omega) trivial
    (fun n _ _ => br_t (nI_le (a := 4) (b := 4) (by omega) (by omega)) h)
    (fun n v _ hv _ K => br_f (zc4 hv) ⟨zi4 hv, by
      have K' := K () trivial
      have eW : aW (nI v).toNatClampNeg = zI (w v) := by rw [zcl (by omega)]; exact (hw v hv).1
      have eN : aN (nI v).toNatClampNeg = nI (m v) := by rw [zcl (by omega)]; exact hN v hv
      have hwv := (hw v hv).2
      have c0 : aW (nI v).toNatClampNeg ≤ 0 ↔ w v ≤ 0 := by rw [eW, ← zn_0, zn_le (by omega) (by omega) (by omega) (by omega)]
      have fin : ∀ z : Nat, SL w m v = z → wX_lowestSum_41 post (wX_lowestSum_4 post cC wN rU mO tO bS dE iC aD aK aP aQ aR aN aW aC aG aV aS aI aT aY aU aB aM aA n) (zI (ps w (SL w m) v)) (nI v) (nI z) cC wN rU mO tO bS dE iC aD aK aP aQ aR aN aW aC aG aV aS aI aT aY aU aB aM aA := by
        intro z e
        refine And.intro (zi4 hv) (nm_r (e' := zI (ps w (SL w m) (v + 1))) ?_ (nm_r (nI_1 v) K'))
        rw [eW, zn_mulN, zn_add, ← e]
        rfl
      by_cases hp : 0 < w v
      · refine br_f (fun z => by rw [c0] at z; omega) ⟨zi4 hv, ?_⟩
        rw [eN]
        exact wx_lo (hm v hv).1 (hm v hv).2 (fin _ (sl_p _ _ hp).1)
      · refine br_t (c0.mpr (by omega)) ⟨zi4 hv, ?_⟩
        rw [eN]
        exact wx_hi (hm v hv).1 (hm v hv).2 (fin _ (sl_n _ _ hp).1)⟩)
end W8
end
section
/-! X: narrowAndBranch, solveByRules -/
section W9
variable {cC wN rU mO tO bS dE iC : Int32} {aD aK aP aQ aR aN aW aC aG aV aS aI aT aY aU aB aM aA : Nat → Int32}
theorem zp_pos : ∀ a, a < 64 → 0 < a → 0 < zp a := by decide +kernel
theorem zp_one : ∀ a, a < 64 → zp a = 1 → ∀ x, x < 6 → a.testBit x = true → x = zlo a := by decide +kernel
theorem zbr_rest : ∀ a, a < 64 → 2 ≤ zp a → 0 < (a &&& (a - 1)) ∧ (a &&& (a - 1)) < 64 ∧ 0 < zx_an a (a &&& (a - 1)) ∧ zx_an a (a &&& (a - 1)) < 64 ∧ zp (zx_an a (a &&& (a - 1))) = 1 := by decide +kernel
theorem zbr_bits : ∀ a, a < 64 → ∀ x, x < 6 → (a.testBit x = true ↔ ((a &&& (a - 1)).testBit x = true ∨ (zx_an a (a &&& (a - 1))).testBit x = true)) ∧ ¬ ((a &&& (a - 1)).testBit x = true ∧ (zx_an a (a &&& (a - 1))).testBit x = true) := by decide +kernel
noncomputable def sgl (m : Nat → Nat) : Nat := ib (zp (m 0) = 1) + ib (zp (m 1) = 1) + ib (zp (m 2) = 1) + ib (zp (m 3) = 1)
theorem sgl_le (m : Nat → Nat) : sgl m ≤ 4 := by
  have a := ib_le (zp (m 0) = 1); have b := ib_le (zp (m 1) = 1); have c := ib_le (zp (m 2) = 1); have d := ib_le (zp (m 3) = 1)
  unfold sgl; omega
theorem sgl_NW {m m' : Nat → Nat} (hm : ∀ v, v < 4 → m v < 64) (h : NW m m') (hz : ∀ v, v < 4 → 0 < m' v) : sgl m ≤ sgl m' := by
  have t : ∀ v, v < 4 → ib (zp (m v) = 1) ≤ ib (zp (m' v) = 1) := fun v hv => ib_imp (fun e => by
    have s := (zp_sub' (h v hv).1 (hm v hv) (h v hv).2).1
    have p := zp_pos _ (h v hv).1 (hz v hv)
    omega)
  have a := t 0 (by omega); have b := t 1 (by omega); have c := t 2 (by omega); have d := t 3 (by omega)
  unfold sgl; omega
theorem sgl_u {m : Nat → Nat} {b z : Nat} (hb : b < 4) (h2 : zp (m b) ≠ 1) : sgl m ≤ sgl (uN4 m b z) ∧ sgl m ≤ 3 ∧ (zp z = 1 → sgl m + 1 ≤ sgl (uN4 m b z)) := by
  have e : ib (zp (m b) = 1) = 0 := ib_f h2
  have f : zp z = 1 → ib (zp z = 1) = 1 := fun q => ib_t q
  have i0 := ib_le (zp (m 0) = 1); have i1 := ib_le (zp (m 1) = 1); have i2 := ib_le (zp (m 2) = 1); have i3 := ib_le (zp (m 3) = 1)
  rcases z4c hb with rfl | rfl | rfl | rfl
  · have u : sgl (uN4 m 0 z) = ib (zp z = 1) + ib (zp (m 1) = 1) + ib (zp (m 2) = 1) + ib (zp (m 3) = 1) := rfl
    rw [u]; unfold sgl
    refine ⟨by omega, by omega, fun q => ?_⟩
    have := f q; omega
  · have u : sgl (uN4 m 1 z) = ib (zp (m 0) = 1) + ib (zp z = 1) + ib (zp (m 2) = 1) + ib (zp (m 3) = 1) := rfl
    rw [u]; unfold sgl
    refine ⟨by omega, by omega, fun q => ?_⟩
    have := f q; omega
  · have u : sgl (uN4 m 2 z) = ib (zp (m 0) = 1) + ib (zp (m 1) = 1) + ib (zp z = 1) + ib (zp (m 3) = 1) := rfl
    rw [u]; unfold sgl
    refine ⟨by omega, by omega, fun q => ?_⟩
    have := f q; omega
  · have u : sgl (uN4 m 3 z) = ib (zp (m 0) = 1) + ib (zp (m 1) = 1) + ib (zp (m 2) = 1) + ib (zp z = 1) := rfl
    rw [u]; unfold sgl
    refine ⟨by omega, by omega, fun q => ?_⟩
    have := f q; omega
theorem uN4_2 (m : Nat → Nat) (b r l : Nat) : uN4 (uN4 m b r) b l = uN4 m b l := by
  funext v
  by_cases e : v = b
  · subst e; rw [uN4_s, uN4_s]
  · rw [uN4_n e, uN4_n e, uN4_n e]
/-- the number of assignments in a box -/
noncomputable def cB (m : Nat → Nat) : Nat := CB (fun _ => True) (fun _ => 0) m one
theorem cB_pos {m : Nat → Nat} (hm : ∀ v, v < 4 → m v < 64 ∧ 0 < m v) : 0 < cB m := by
  have h6 : ∀ v, v < 4 → zlo (m v) < 6 := fun v hv => (zlo_f _ (hm v hv).1 (hm v hv).2).2
  have e := nu_av (x := fun v => zlo (m v)) h6
  have : one _ ≤ cB m := CB_pos (H := fun _ => True) (w := fun _ => 0) (h := one) (nu_lt (x := fun v => zlo (m v)) h6) (fun v hv => by rw [e v hv]; exact (zlo_f _ (hm v hv).1 (hm v hv).2).1) trivial
  exact this
theorem cB_NW {m m' : Nat → Nat} (h : NW m m') : cB m' ≤ cB m := by
  refine sN_le 1296 (fun a _ => ?_)
  by_cases q : IB m' (av a) ∧ True
  · rw [iz_t q, iz_t ⟨IB_NW h q.1, trivial⟩]; exact Nat.le_refl _
  · rw [iz_f q]; exact Nat.zero_le _
def SK (d : Nat) (bx : Nat → Nat → Nat) (aV : Nat → Int32) : Prop := ∀ l, l < d → l ≤ sgl (bx l) ∧ ∀ v, v < 4 → (bx l v < 64 ∧ 0 < bx l v) ∧ aV (4 * l + v) = nI (bx l v)
noncomputable def sB (H : (Nat → Nat) → Prop) (w : Nat → Int) (d : Nat) (bx : Nat → Nat → Nat) (h : Int → Nat) : Nat := sN d (fun l => CB H w (bx l) h)
noncomputable def cS (d : Nat) (bx : Nat → Nat → Nat) : Nat := sN d (fun l => cB (bx l))
/-- the box pushed at level d -/
def pu (bx : Nat → Nat → Nat) (d : Nat) (m : Nat → Nat) : Nat → Nat → Nat := fun l => if l = d then m else bx l
theorem pu_s {bx : Nat → Nat → Nat} {d : Nat} {m : Nat → Nat} : pu bx d m d = m := if_pos rfl
theorem pu_n {bx : Nat → Nat → Nat} {d l : Nat} {m : Nat → Nat} (h : l ≠ d) : pu bx d m l = bx l := if_neg h
theorem sB_pu {H : (Nat → Nat) → Prop} {w : Nat → Int} {d : Nat} {bx : Nat → Nat → Nat} {m : Nat → Nat} {h : Int → Nat} : sB H w (d + 1) (pu bx d m) h = sB H w d bx h + CB H w m h := by
  show sN d (fun l => CB H w (pu bx d m l) h) + CB H w (pu bx d m d) h = _
  rw [pu_s, sN_c d (g := fun l => CB H w (bx l) h) (fun l hl => by show CB H w (pu bx d m l) h = _; rw [pu_n (by omega)])]
  rfl
theorem cS_pu {d : Nat} {bx : Nat → Nat → Nat} {m : Nat → Nat} : cS (d + 1) (pu bx d m) = cS d bx + cB m := by
  show sN d (fun l => cB (pu bx d m l)) + cB (pu bx d m d) = _
  rw [pu_s, sN_c d (g := fun l => cB (bx l)) (fun l hl => by show cB (pu bx d m l) = _; rw [pu_n (by omega)])]
  rfl
theorem SK_pu {d : Nat} {bx : Nat → Nat → Nat} {m : Nat → Nat} {aV aV' : Nat → Int32} (h : SK d bx aV) (e : ∀ j, j < 4 * d → aV' j = aV j) (hm : ∀ v, v < 4 → m v < 64 ∧ 0 < m v) (he : ∀ v, v < 4 → aV' (4 * d + v) = nI (m v)) (hs : d ≤ sgl m) : SK (d + 1) (pu bx d m) aV' := by
  intro l hl
  by_cases el : l = d
  · subst el
    rw [pu_s]
    exact ⟨hs, fun v hv => ⟨hm v hv, he v hv⟩⟩
  · rw [pu_n el]
    refine ⟨(h l (by omega)).1, fun v hv => ⟨((h l (by omega)).2 v hv).1, ?_⟩⟩
    rw [e _ (by omega)]
    exact ((h l (by omega)).2 v hv).2
set_option maxHeartbeats 3200000 in
theorem wx_nab {post : Int32 → SX → Prop} {n rl md tot d : Nat} {b : Int} {m : Nat → Nat} {bx : Nat → Nat → Nat} {w : Nat → Int} {A : (Int → Nat) → Nat} (hn : n ≤ 10) (hr : rl < 1024) (hmd : md ≤ 2) (hF : ∀ i, i < n → FT (aK i) (aP i) (aQ i) (aR i)) (hN : NN m aN) (hm : ∀ v, v < 4 → m v < 64 ∧ 0 < m v)
    (hw : md = 2 → ∀ v, v < 4 → aW v = zI (w v) ∧ -3 ≤ w v ∧ w v ≤ 3) (hbd : ∀ f, (∀ t, f t ≤ 1) → A f ≤ 1296) (hSK : SK d bx aV) (hd : d ≤ sgl m)
    (hA : Ac md A (fun h => sB (HA n rl aK aP aQ aR) w d bx h + CB (HA n rl aK aP aQ aR) w m h) tot b)
    (h0 : ∀ (tot' : Nat) (b' : Int) (iC' : Int32) (aN' aC' aG' aS' aI' : Nat → Int32), Ac md A (sB (HA n rl aK aP aQ aR) w d bx) tot' b' → post 0 (nI n, wN, nI rl, nI md, nI tot', zI b', nI d, iC', aD, aK, aP, aQ, aR, aN', aW, aC', aG', aV, aS', aI', aT, aY, aU, aB, aM, aA))
    (h1 : ∀ (m' : Nat → Nat) (bx' : Nat → Nat → Nat) (iC' : Int32) (aN' aC' aG' aV' aS' aI' : Nat → Int32), SK (d + 1) bx' aV' → d + 1 ≤ sgl m' → sgl m + 1 ≤ sgl m' → (∀ v, v < 4 → m' v < 64 ∧ 0 < m' v) → NN m' aN' → cS (d + 1) bx' + cB m' ≤ cS d bx + cB m →
      Ac md A (fun h => sB (HA n rl aK aP aQ aR) w (d + 1) bx' h + CB (HA n rl aK aP aQ aR) w m' h) tot b → post 1 (nI n, wN, nI rl, nI md, nI tot, zI b, nI (d + 1), iC', aD, aK, aP, aQ, aR, aN', aW, aC', aG', aV', aS', aI', aT, aY, aU, aB, aM, aA)) :
    wpX_narrowAndBranch post (nI n, wN, nI rl, nI md, nI tot, zI b, nI d, iC, aD, aK, aP, aQ, aR, aN, aW, aC, aG, aV, aS, aI, aT, aY, aU, aB, aM, aA) := by
  have hm1 : ∀ v, v < 4 → m v < 64 := fun v hv => (hm v hv).1
  unfold wpX_narrowAndBranch
  refine wx_narrow (m := m) hn hr hF hN hm (fun z m' iC' aN' aC' aG' aS' aI' hW hN' => ?_) (fun m' iC' aN' aC' aG' aS' aI' hW hN' hz hP => ?_)
  · exact br_t rfl (h0 tot b _ _ _ _ _ _ (Ac_c hA (fun f => by rw [CB_0 (fun x _ hx => z x hx)]; rfl)))
  · refine br_f (by decide) ?_
    have hm' : ∀ v, v < 4 → m' v < 64 ∧ 0 < m' v := fun v hv => ⟨(hW v hv).1, hz v hv⟩
    have hA' : Ac md A (fun h => sB (HA n rl aK aP aQ aR) w d bx h + CB (HA n rl aK aP aQ aR) w m' h) tot b := Ac_c hA (fun f => by rw [CB_c (m' := m') (fun x _ hh => ⟨fun hx => hP x hx hh, IB_NW hW⟩)])
    have hd' : d ≤ sgl m' := Nat.le_trans hd (sgl_NW hm1 hW hz)
    have hsl : sgl m ≤ sgl m' := sgl_NW hm1 hW hz
    have hcB : cB m' ≤ cB m := cB_NW hW
    have main : ∃ n35, wX_narrowAndBranch_35 post (nI n) wN (nI rl) (nI md) (nI tot) (zI b) (nI d) iC' aD aK aP aQ aR aN' aW aC' aG' aV aS' aI' aT aY aU aB aM aA n35 (-1) 7 0 := by
      refine pk_loop (σ := Int32 × Int32) (fun k v s => wX_narrowAndBranch_35 post (nI n) wN (nI rl) (nI md) (nI tot) (zI b) (nI d) iC' aD aK aP aQ aR aN' aW aC' aG' aV aS' aI' aT aY aU aB aM aA k s.1 s.2 (nI v))
        (fun v s => (s = (-1, 7) ∧ ∀ u, u < v → zp (m' u) = 1) ∨ (∃ u, u < 4 ∧ u < v ∧ zp (m' u) ≠ 1 ∧ s = (nI u, nI (zp (m' u))))) 4 0 (-1, 7) (by omega) (Or.inl ⟨rfl, fun u hu => absurd hu (by omega)⟩)
        (fun k s hI => br_t (nI_le (a := 4) (b := 4) (by omega) (by omega)) ?_) (fun k v s hv hI K => br_f (zc4 hv) ⟨zi4 hv, ?_⟩)
      · rcases hI with ⟨rfl, hs⟩ | ⟨u, hu, _, hne, rfl⟩
        · refine br_f (by decide) ?_
          have h6 : ∀ v, v < 4 → zlo (m' v) < 6 := fun v hv => (zlo_f _ (hm' v hv).1 (hm' v hv).2).2
          have eCB : ∀ f, CB (HA n rl aK aP aQ aR) w m' f = iz (HA n rl aK aP aQ aR (fun v => zlo (m' v))) (f (ps w (fun v => zlo (m' v)) 4)) 0 := fun f =>
            CB_one h6 (fun v hv => (zlo_f _ (hm' v hv).1 (hm' v hv).2).1) (fun x hx v hv => zp_one _ (hm' v hv).1 (hs v hv) _ (zm_lt (hm' v hv).1 (hx v hv)) (hx v hv)) (fun x hx => ⟨HA_ext hF hx, HA_ext hF (fun v hv => (hx v hv).symm)⟩)
          refine pk_loop (σ := Nat → Int32) (fun k v c => wX_narrowAndBranch_84 post (nI n) wN (nI rl) (nI md) (nI tot) (zI b) (nI d) iC' k (nI v) aD aK aP aQ aR aN' aW c aG' aV aS' aI' aT aY aU aB aM aA) (fun v c => ∀ u, u < v → c u = nI (zlo (m' u))) 4 0 aC' (by omega) (fun u hu => absurd hu (by omega))
            (fun k c hc => br_t (nI_le (a := 4) (b := 4) (by omega) (by omega)) (wx_allHold (x := fun v => zlo (m' v)) hn hr hF hc h6 (fun aG2 => ?_)))
            (fun k v c hv hc K => br_f (zc4 hv) ⟨zi4 hv, ?_⟩)
          · by_cases hh : HA n rl aK aP aQ aR (fun v => zlo (m' v))
            · refine br_f (fun z => bI_0.mp z hh) (wx_take (w := w) (x := fun v => zlo (m' v)) (R' := sB (HA n rl aK aP aQ aR) w d bx) hmd hc h6 hw hA' (fun f => ?_) hbd (fun tot' b' hA2 _ => h0 tot' b' _ _ _ _ _ _ hA2))
              show sB (HA n rl aK aP aQ aR) w d bx f + CB (HA n rl aK aP aQ aR) w m' f = _
              rw [eCB f, iz_t hh]
            · refine br_t (bI_0.mpr hh) (h0 tot b _ _ _ _ _ _ (Ac_c hA' (fun f => ?_)))
              show sB (HA n rl aK aP aQ aR) w d bx f + CB (HA n rl aK aP aQ aR) w m' f = _
              rw [eCB f, iz_f hh]
              rfl
          · have eN : aN' (nI v).toNatClampNeg = nI (m' v) := by rw [zcl (by omega)]; exact hN' v hv
            have h6v := h6 v hv
            rw [eN]
            exact wx_lo (hm' v hv).1 (hm' v hv).2 ⟨zi4 hv, nm_r (e' := upd c v (nI (zlo (m' v)))) (by rw [zcl (by omega), zb_n8 (by omega)]) (nm_r (nI_1 v) (K _ (zu_s (f := fun u => nI (zlo (m' u))) hc rfl)))⟩
        · have hmu := hm' u hu
          have hz2 : 2 ≤ zp (m' u) := by have := zp_pos _ hmu.1 hmu.2; omega
          obtain ⟨r1, r2, r3, r4, r5⟩ := zbr_rest _ hmu.1 hz2
          have rb := zbr_bits _ hmu.1
          have eN : aN' (nI u).toNatClampNeg = nI (m' u) := by rw [zcl (by omega)]; exact hN' u hu
          have eR : nI (m' u) &&& (nI (m' u) - 1) = nI (m' u &&& (m' u - 1)) := by rw [show nI (m' u) - 1 = nI (m' u - 1) from pk_sub (b := 1) (by omega), nx_and]
          obtain ⟨g1, g2, g3⟩ := sgl_u (m := m') (z := m' u &&& (m' u - 1)) hu hne
          obtain ⟨g4, g5, g6⟩ := sgl_u (m := m') (z := zx_an (m' u) (m' u &&& (m' u - 1))) hu hne
          have hd3 : d ≤ 3 := by omega
          refine br_t (nI_pos' (by omega)) ⟨zi4 hu, zi4 hu, nm_r (e' := nI (m' u &&& (m' u - 1))) (by rw [eN, eR]) ⟨zi4 hu, nm_r (e' := nI (zx_an (m' u) (m' u &&& (m' u - 1)))) (by rw [eN, zx_and]) ⟨zi4 hu, nm_r (e' := upd aN' u (nI (m' u &&& (m' u - 1)))) (by rw [zcl (by omega), zb_n8 (by omega)]) ?_⟩⟩⟩
          revert r1 r2 r3 r4 r5 rb g1 g3 g4 g6
          generalize (m' u &&& (m' u - 1)) = re
          generalize zx_an (m' u) re = lw
          intro r1 r2 r3 r4 r5 rb g1 g3 g4 g6
          have hNr : NN (uN4 m' u re) (upd aN' u (nI re)) := NN_u hN'
          have hmr : ∀ v, v < 4 → uN4 m' u re v < 64 ∧ 0 < uN4 m' u re v := by
            intro v hv
            by_cases e : v = u
            · subst e; rw [uN4_s]; exact ⟨r2, r1⟩
            · rw [uN4_n e]; exact hm' v hv
          have hml : ∀ v, v < 4 → uN4 m' u lw v < 64 ∧ 0 < uN4 m' u lw v := by
            intro v hv
            by_cases e : v = u
            · subst e; rw [uN4_s]; exact ⟨r4, r3⟩
            · rw [uN4_n e]; exact hm' v hv
          refine pk_loop (σ := Nat → Int32) (fun k v s => wX_narrowAndBranch_164 post (nI u) (nI lw) (nI n) wN (nI rl) (nI md) (nI tot) (zI b) (nI d) iC' k (nI v) aD aK aP aQ aR (upd aN' u (nI re)) aW aC' aG' s aS' aI' aT aY aU aB aM aA)
            (fun v s => (∀ j, j < 4 * d → s j = aV j) ∧ ∀ t, t < v → s (4 * d + t) = nI (uN4 m' u re t)) 4 0 aV (by omega) ⟨fun _ _ => rfl, fun t ht => absurd ht (by omega)⟩
            (fun k s hI => br_t (nI_le (a := 4) (b := 4) (by omega) (by omega)) (nm_r (nI_1 d) ⟨zi4 hu, nm_r (e' := upd (upd aN' u (nI re)) u (nI lw)) (by rw [zcl (by omega), zb_n8 (by omega)]) ?_⟩))
            (fun k v s hv hI K => br_f (zc4 hv) ⟨zi4 hv, ?_, nm_r (e' := upd s (4 * d + v) (nI (uN4 m' u re v))) ?_ (nm_r (nI_1 v) (K _ ⟨fun j hj => ?_, fun t ht => ?_⟩))⟩)
          · refine h1 (uN4 m' u lw) (pu bx d (uN4 m' u re)) _ _ _ _ s _ _ (SK_pu hSK hI.1 hmr hI.2 (by omega)) ?_ ?_ hml ?_ ?_ ?_
            · have := g6 r5; omega
            · have := g6 r5; omega
            · have := NN_u (b := u) (z := lw) hNr
              rw [uN4_2] at this
              exact this
            · have e : cB m' = cB (uN4 m' u re) + cB (uN4 m' u lw) := CB_split hu rb
              rw [cS_pu]; omega
            · refine Ac_c hA' (fun f => ?_)
              show sB (HA n rl aK aP aQ aR) w d bx f + CB (HA n rl aK aP aQ aR) w m' f = sB (HA n rl aK aP aQ aR) w (d + 1) (pu bx d (uN4 m' u re)) f + CB (HA n rl aK aP aQ aR) w (uN4 m' u lw) f
              rw [sB_pu, CB_split (m := m') hu rb]; omega
          · rw [show (4 : Int32) * nI d + nI v = nI (4 * d + v) from by rw [show (4 : Int32) = nI 4 from rfl, pk_mul, nI_add]]
            exact vp_in_nI (by omega) (by omega)
          · rw [show (4 : Int32) * nI d + nI v = nI (4 * d + v) from by rw [show (4 : Int32) = nI 4 from rfl, pk_mul, nI_add]]
            rw [zcl (by omega), zcl (by omega), hNr v hv, zb_n (by have := (hmr v hv).1; omega)]
          · rw [pk_un (by omega)]; exact hI.1 j hj
          · by_cases e : t = v
            · subst e; rw [pk_us]
            · rw [pk_un (by omega)]; exact hI.2 t (by omega)
      · have hmv := hm' v hv
        have eN : aN' (nI v).toNatClampNeg = nI (m' v) := by rw [zcl (by omega)]; exact hN' v hv
        have hzl := zp_le _ hmv.1
        rw [eN]
        refine wx_ones hmv.1 ?_
        by_cases e1 : zp (m' v) = 1
        · refine br_t (by rw [e1]; rfl) (nm_r (nI_1 v) (K s ?_))
          rcases hI with ⟨rfl, hs⟩ | ⟨u, hu, huv, hne, rfl⟩
          · exact Or.inl ⟨rfl, lt_s hs e1⟩
          · exact Or.inr ⟨u, hu, by omega, hne, rfl⟩
        · refine br_f (fun z => e1 ((nI_eq (b := 1) (by omega) (by omega)).mp z)) ?_
          rcases hI with ⟨rfl, hs⟩ | ⟨u, hu, huv, hne, rfl⟩
          · exact br_t (nI_lt (b := 7) (by omega) (by decide)) (nm_r (nI_1 v) (K (nI v, nI (zp (m' v))) (Or.inr ⟨v, hv, by omega, e1, rfl⟩)))
          · by_cases c : zp (m' v) < zp (m' u)
            · have := zp_le _ (hm' u hu).1
              exact br_t (nI_lt c (by omega)) (nm_r (nI_1 v) (K (nI v, nI (zp (m' v))) (Or.inr ⟨v, hv, by omega, e1, rfl⟩)))
            · exact br_f (nI_nlt (by omega) (by omega)) (nm_r (nI_1 v) (K (nI u, nI (zp (m' u))) (Or.inr ⟨u, hu, by omega, hne, rfl⟩)))
    by_cases m2 : md = 2
    · subst m2
      refine br_t rfl (wx_lowestSum (w := w) hN' hm' (hw rfl) ?_)
      have hb := Ac_b hA'
      have hps := ps_bd (w := w) (x := SL w m') 4 (fun v hv => (hw rfl v hv).2) (fun v hv => (SL_lt (hm' v hv)).1)
      by_cases c : ps w (SL w m') 4 ≤ b
      · exact br_t ((zn_le (by omega) (by omega) (by omega) (by omega)).mpr c) main
      · refine br_f (fun z => c ((zn_le (by omega) (by omega) (by omega) (by omega)).mp z)) (h0 tot b _ _ _ _ _ _ (Ac_prune (g := CB (HA n rl aK aP aQ aR) w m') hA' (fun _ => rfl) rfl (fun t ht => ?_)))
        refine sN_0 1296 (fun a _ => ?_)
        by_cases q : IB m' (av a) ∧ HA n rl aK aP aQ aR (av a)
        · rw [iz_t q]
          have := ps_mono (w := w) (x := SL w m') (y := av a) 4 (fun v hv => (SL_le (hm' v hv).1 (q.1 v hv)).1)
          exact dl_n (by omega)
        · exact iz_f q
    · exact br_f (fun z => m2 ((nI_eq (b := 2) (by omega) (by omega)).mp z)) main
end W9
end
section
/-! X: solveByRules -/
section W10
variable {cC wN rU mO tO bS dE iC : Int32} {aD aK aP aQ aR aN aW aC aG aV aS aI aT aY aU aB aM aA : Nat → Int32}
theorem wx_saveNow {post : SX → Prop} {m : Nat → Nat} (hN : NN m aN) (hm : ∀ v, v < 4 → m v < 64) (h : ∀ aV' aA' : Nat → Int32, NN m aV' → NN m aA' → post (cC, wN, rU, mO, tO, bS, dE, iC, aD, aK, aP, aQ, aR, aN, aW, aC, aG, aV', aS, aI, aT, aY, aU, aB, aM, aA')) : wpX_saveNow post (cC, wN, rU, mO, tO, bS, dE, iC, aD, aK, aP, aQ, aR, aN, aW, aC, aG, aV, aS, aI, aT, aY, aU, aB, aM, aA) 0 := by
  refine pk_loop (σ := (Nat → Int32) × (Nat → Int32)) (fun n v s => wX_saveNow_2 post 0 cC wN rU mO tO bS dE iC n (nI v) aD aK aP aQ aR aN aW aC aG s.1 aS aI aT aY aU aB aM s.2) (fun v s => (∀ u, u < v → s.1 u = nI (m u)) ∧ ∀ u, u < v → s.2 u = nI (m u)) 4 0 (aV, aA) (by omega) ⟨fun u hu => absurd hu (by omega), fun u hu => absurd hu (by omega)⟩
    (fun n s hI => br_t (nI_le (a := 4) (b := 4) (by omega) (by omega)) (h s.1 s.2 hI.1 hI.2)) (fun n v s hv hI K => br_f (zc4 hv) ⟨zi4 hv, ?_, nm_r (e' := upd s.1 v (nI (m v))) ?_ (br_t rfl ⟨zi4 hv, zi4 hv, nm_r (e' := upd s.2 v (nI (m v))) ?_ (nm_r (nI_1 v) (K (upd s.1 v (nI (m v)), upd s.2 v (nI (m v))) ⟨zu_s (f := fun u => nI (m u)) hI.1 rfl, zu_s (f := fun u => nI (m u)) hI.2 rfl⟩))⟩)⟩)
  · rw [show (4 : Int32) * 0 + nI v = nI v from by rw [show (4 : Int32) * 0 = nI 0 from rfl, nI_add, Nat.zero_add]]
    exact vp_in_nI (by omega) (by omega)
  · rw [show (4 : Int32) * 0 + nI v = nI v from by rw [show (4 : Int32) * 0 = nI 0 from rfl, nI_add, Nat.zero_add]]
    rw [zcl (by omega), hN v hv, zb_n (by have := hm v hv; omega)]
  · rw [zcl (by omega), hN v hv, zb_n (by have := hm v hv; omega)]
theorem wx_restoreNow {post : SX → Prop} {m : Nat → Nat} (hA : NN m aA) (hm : ∀ v, v < 4 → m v < 64) (h : ∀ aN' : Nat → Int32, NN m aN' → post (cC, wN, rU, mO, tO, bS, dE, iC, aD, aK, aP, aQ, aR, aN', aW, aC, aG, aV, aS, aI, aT, aY, aU, aB, aM, aA)) : wpX_restoreNow post (cC, wN, rU, mO, tO, bS, dE, iC, aD, aK, aP, aQ, aR, aN, aW, aC, aG, aV, aS, aI, aT, aY, aU, aB, aM, aA) := by
  refine pk_loop (σ := Nat → Int32) (fun n v s => wX_restoreNow_2 post cC wN rU mO tO bS dE iC n (nI v) aD aK aP aQ aR s aW aC aG aV aS aI aT aY aU aB aM aA) (fun v s => ∀ u, u < v → s u = nI (m u)) 4 0 aN (by omega) (fun u hu => absurd hu (by omega))
    (fun n s hI => br_t (nI_le (a := 4) (b := 4) (by omega) (by omega)) (h s hI)) (fun n v s hv hI K => br_f (zc4 hv) ⟨zi4 hv, zi4 hv, nm_r (e' := upd s v (nI (m v))) ?_ (nm_r (nI_1 v) (K _ (zu_s (f := fun u => nI (m u)) hI rfl)))⟩)
  rw [zcl (by omega), hA v hv, zb_n (by have := hm v hv; omega)]
set_option maxHeartbeats 3200000 in
/-- from a current box to its end -/
theorem wx_r66 {post : SX → Prop} {J : Int32 → Int32 → Int32 → Int32 → Int32 → Int32 → Int32 → Int32 → (Nat → Int32) → (Nat → Int32) → (Nat → Int32) → (Nat → Int32) → (Nat → Int32) → (Nat → Int32) → (Nat → Int32) → (Nat → Int32) → (Nat → Int32) → (Nat → Int32) → (Nat → Int32) → (Nat → Int32) → (Nat → Int32) → (Nat → Int32) → (Nat → Int32) → (Nat → Int32) → (Nat → Int32) → (Nat → Int32) → Prop} {n rl md : Nat} {w : Nat → Int} {A : (Int → Nat) → Nat} {M : Nat} (hn : n ≤ 10) (hr : rl < 1024) (hmd : md ≤ 2) (hF : ∀ i, i < n → FT (aK i) (aP i) (aQ i) (aR i))
    (hw : md = 2 → ∀ v, v < 4 → aW v = zI (w v) ∧ -3 ≤ w v ∧ w v ≤ 3) (hbd : ∀ f, (∀ t, f t ≤ 1) → A f ≤ 1296)
    (hJ : ∀ (d tot : Nat) (b : Int) (bx : Nat → Nat → Nat) (iC : Int32) (aN aC aG aV aS aI : Nat → Int32), (d = 0 → Sp md A tot b) → SK d bx aV → d ≤ 4 → cS d bx < M → (0 < d → Ac md A (sB (HA n rl aK aP aQ aR) w d bx) tot b) → J (nI n) wN (nI rl) (nI md) (nI tot) (zI b) (nI d) iC aD aK aP aQ aR aN aW aC aG aV aS aI aT aY aU aB aM aA) :
    ∀ (k d tot : Nat) (b : Int) (m : Nat → Nat) (bx : Nat → Nat → Nat) (iC : Int32) (aN aC aG aV aS aI : Nat → Int32), 5 ≤ k + sgl m → SK d bx aV → d ≤ sgl m → (∀ v, v < 4 → m v < 64 ∧ 0 < m v) → NN m aN → cS d bx + cB m ≤ M →
      Ac md A (fun h => sB (HA n rl aK aP aQ aR) w d bx h + CB (HA n rl aK aP aQ aR) w m h) tot b → wX_solveByRules_66 post J (k + 1) 1 (nI n) wN (nI rl) (nI md) (nI tot) (zI b) (nI d) iC aD aK aP aQ aR aN aW aC aG aV aS aI aT aY aU aB aM aA := by
  intro k
  induction k with
  | zero =>
    intro d tot b m bx iC aN aC aG aV aS aI hk
    have := sgl_le m
    exact absurd hk (by omega)
  | succ k ih =>
    intro d tot b m bx iC aN aC aG aV aS aI hk hSK hd hm hN hM hA
    have hpos := cB_pos hm
    have hs4 := sgl_le m
    refine br_f (by decide) (wx_nab (m := m) (bx := bx) hn hr hmd hF hN hm hw hbd hSK hd hA (fun tot' b' iC' aN' aC' aG' aS' aI' hA' => ?_) (fun m' bx' iC' aN' aC' aG' aV' aS' aI' hSK' hd' hs' hm' hN' hM' hA' => ?_))
    · have hd0 : d = 0 → Sp md A tot' b' := fun e => Ac_end hA' (fun f => by rw [e]; rfl)
      refine br_t rfl ?_
      have htot := Ac_bd hA' hbd
      by_cases m0 : md = 0
      · subst m0
        refine br_t rfl ?_
        by_cases t0 : tot' = 0
        · subst t0
          exact br_t (by decide) (hJ d 0 b' bx _ _ _ _ _ _ _ hd0 hSK (by omega) (by omega) (fun _ => hA'))
        · exact br_f (nI_nle (by omega) (by omega)) (hJ 0 tot' b' bx _ _ _ _ _ _ _ (fun _ => Ac_some hA' (by omega)) (fun l hl => absurd hl (by omega)) (by omega) (by show 0 < M; omega) (fun z => absurd z (by omega)))
      · exact br_f (nI_ne0 (by omega) (by omega)) (hJ d tot' b' bx _ _ _ _ _ _ _ hd0 hSK (by omega) (by omega) (fun _ => hA'))
    · exact ih (d + 1) tot b m' bx' iC' aN' aC' aG' aV' aS' aI' (by omega) hSK' hd' hm' hN' (by omega) hA'
set_option maxHeartbeats 3200000 in
theorem wx_rules {post : SX → Prop} {n rl md : Nat} {m : Nat → Nat} {w : Nat → Int} (hn : n ≤ 10) (hr : rl < 1024) (hmd : md ≤ 2) (hF : ∀ i, i < n → FT (aK i) (aP i) (aQ i) (aR i)) (hN : NN m aN) (hm : ∀ v, v < 4 → m v < 64 ∧ 0 < m v)
    (hw : md = 2 → ∀ v, v < 4 → aW v = zI (w v) ∧ -3 ≤ w v ∧ w v ≤ 3)
    (h : ∀ (tot' : Nat) (b' : Int) (dE' iC' : Int32) (aN' aC' aG' aV' aS' aI' aA' : Nat → Int32), Sp md (CB (HA n rl aK aP aQ aR) w m) tot' b' → NN m aN' → post (nI n, wN, nI rl, nI md, nI tot', zI b', dE', iC', aD, aK, aP, aQ, aR, aN', aW, aC', aG', aV', aS', aI', aT, aY, aU, aB, aM, aA')) :
    wpX_solveByRules post (nI n, wN, nI rl, nI md, 0, 1000, dE, iC, aD, aK, aP, aQ, aR, aN, aW, aC, aG, aV, aS, aI, aT, aY, aU, aB, aM, aA) := by
  have hbd : ∀ f, (∀ t, f t ≤ 1) → CB (HA n rl aK aP aQ aR) w m f ≤ 1296 := fun f hf => CB_le hf
  have hm1 : ∀ v, v < 4 → m v < 64 := fun v hv => (hm v hv).1
  unfold wpX_solveByRules
  refine wx_saveNow hN hm1 (fun aV' aA' hV hA' => ?_)
  have main : ∀ (k d tot : Nat) (b : Int) (bx : Nat → Nat → Nat) (iC : Int32) (aN aC aG aV aS aI : Nat → Int32), cS d bx < k → (d = 0 → Sp md (CB (HA n rl aK aP aQ aR) w m) tot b) → SK d bx aV → d ≤ 4 → (0 < d → Ac md (CB (HA n rl aK aP aQ aR) w m) (sB (HA n rl aK aP aQ aR) w d bx) tot b) →
      wX_solveByRules_15 post k (nI n) wN (nI rl) (nI md) (nI tot) (zI b) (nI d) iC aD aK aP aQ aR aN aW aC aG aV aS aI aT aY aU aB aM aA' := by
    intro k
    induction k with
    | zero => intro d tot b bx iC aN aC aG aV aS aI hk; exact absurd hk (by omega)
    | succ k ih =>
      intro d tot b bx iC aN aC aG aV aS aI hk hd0 hSK hd4 hAc
      by_cases e0 : d = 0
      · subst e0
        exact br_t (by decide) (wx_restoreNow hA' hm1 (fun aN2 hN2 => h tot b _ _ aN2 _ _ _ _ _ _ (hd0 rfl) hN2))
      · obtain ⟨e, rfl⟩ : ∃ e, d = e + 1 := ⟨d - 1, by omega⟩
        have hl := hSK e (by omega)
        refine br_f (nI_nle (by omega) (by omega)) (nm_r (nI_pred e) ?_)
        have eix : ∀ v, v < 4 → (4 : Int32) * nI e + nI v = nI (4 * e + v) := fun v _ => by rw [show (4 : Int32) = nI 4 from rfl, pk_mul, nI_add]
        refine pk_loop (σ := Nat → Int32) (fun n' v s => wX_solveByRules_34 post (wX_solveByRules_15 post k) (nI n) wN (nI rl) (nI md) (nI tot) (zI b) (nI e) iC n' (nI v) aD aK aP aQ aR s aW aC aG aV aS aI aT aY aU aB aM aA') (fun v s => ∀ u, u < v → s u = nI (bx e u)) 4 0 aN (by omega) (fun u hu => absurd hu (by omega))
          (fun n' s hI => br_t (nI_le (a := 4) (b := 4) (by omega) (by omega)) ⟨5 + 1, wx_r66 (aA := aA') (M := cS (e + 1) bx) hn hr hmd hF hw hbd (fun d' tot' b' bx' iC' aN' aC' aG' aV' aS' aI' q1 q2 q3 q4 q5 => ih d' tot' b' bx' iC' aN' aC' aG' aV' aS' aI' (by omega) q1 q2 q3 q5) 5 e tot b (bx e) bx _ _ _ _ _ _ _ (by omega) (fun l hl' => hSK l (by omega)) hl.1 (fun v hv => (hl.2 v hv).1) hI (Nat.le_refl _) (hAc (by omega))⟩)
          (fun n' v s hv hI K => br_f (zc4 hv) ⟨?_, zi4 hv, nm_r (e' := upd s v (nI (bx e v))) ?_ (nm_r (nI_1 v) (K _ (zu_s (f := fun u => nI (bx e u)) hI rfl)))⟩)
        · rw [eix v hv]; exact vp_in_nI (by omega) (by omega)
        · rw [eix v hv, zcl (by omega), zcl (by omega), (hl.2 v hv).2, zb_n (by have := (hl.2 v hv).1.1; omega)]
  refine ⟨_, main (cS 1 (fun _ => m) + 1) 1 0 1000 (fun _ => m) iC aN aC aG aV' aS aI (by omega) (fun z => absurd z (by omega)) ?_ (by omega) (fun _ => Ac_c Ac_0 (fun f => ?_))⟩
  · intro l hl
    have e : l = 0 := by omega
    subst e
    exact ⟨Nat.zero_le _, fun v hv => ⟨hm v hv, by rw [show 4 * 0 + v = v by omega]; exact hV v hv⟩⟩
  · show CB (HA n rl aK aP aQ aR) w m f = 0 + CB (HA n rl aK aP aQ aR) w m f
    omega
end W10
end
section
/-! layers: the states of constraints, pure -/
/-- digits to base 7: read from below (dT), summed up (dU) -/
def dT (D : Nat → Nat) : Nat → Nat → Nat
  | 0, _ => 0
  | f + 1, k => D k + 7 * dT D f (k + 1)
def dU (D : Nat → Nat) : Nat → Nat
  | 0 => 0
  | k + 1 => dU D k + 7 ^ k * D k
theorem dTU {D : Nat → Nat} : ∀ f k, dU D k + 7 ^ k * dT D f k = dU D (k + f)
  | 0, k => by show dU D k + 7 ^ k * 0 = dU D k; omega
  | f + 1, k => by
    have ih := dTU (D := D) f (k + 1)
    rw [show k + (f + 1) = k + 1 + f by omega, ← ih]
    show dU D k + 7 ^ k * (D k + 7 * dT D f (k + 1)) = dU D k + 7 ^ k * D k + 7 ^ (k + 1) * dT D f (k + 1)
    rw [Nat.mul_add, Nat.pow_succ, Nat.mul_assoc]
    omega
theorem dT_0 {D : Nat → Nat} (f : Nat) : dT D f 0 = dU D f := by
  have := dTU (D := D) f 0
  rw [Nat.zero_add] at this
  rw [← this]
  show dT D f 0 = 0 + 1 * dT D f 0
  omega
theorem dT_inj {D E : Nat → Nat} : ∀ f k, (∀ j, D j ≤ 6) → (∀ j, E j ≤ 6) → dT D f k = dT E f k → ∀ j, k ≤ j → j < k + f → D j = E j
  | 0, k, _, _, _ => fun j h1 h2 => absurd h2 (by omega)
  | f + 1, k, hD, hE, e => by
    have e' : D k + 7 * dT D f (k + 1) = E k + 7 * dT E f (k + 1) := e
    have a := hD k
    have b := hE k
    intro j h1 h2
    by_cases ej : j = k
    · subst ej; omega
    · exact dT_inj f (k + 1) hD hE (by omega) j (by omega) (by omega)
theorem dU_lt {D : Nat → Nat} (h : ∀ j, D j ≤ 6) : ∀ k, dU D k < 7 ^ k
  | 0 => by show 0 < 1; omega
  | k + 1 => by
    have ih := dU_lt h k
    have a := h k
    have b : 7 ^ k * D k ≤ 7 ^ k * 6 := Nat.mul_le_mul_left _ a
    show dU D k + 7 ^ k * D k < 7 ^ k * 7
    omega
theorem dU_c {D E : Nat → Nat} : ∀ k, (∀ j, j < k → D j = E j) → dU D k = dU E k
  | 0, _ => rfl
  | k + 1, h => by
    show dU D k + 7 ^ k * D k = dU E k + 7 ^ k * E k
    rw [dU_c k (fun j hj => h j (by omega)), h k (by omega)]
theorem dU_z : ∀ k, dU (fun _ => 0) k = 0
  | 0 => rfl
  | k + 1 => by
    show dU (fun _ => 0) k + 7 ^ k * 0 = 0
    rw [dU_z k]; omega
/-- the digit of a variable before v has its value -/
def dv (v : Nat) (y : Nat → Nat) (u : Nat) : Nat := if u < v then y u + 1 else 0
/-- all that are named have values -/
def aL (K P Q R : Int32) (v : Nat) : Prop := ∀ k, k < lc K → ej K P Q R k < v
noncomputable def stL (K P Q R : Int32) (v : Nat) (y : Nat → Nat) : Nat := iz (aL K P Q R v) 0 (dU (fun k => dv v y (ej K P Q R k)) (lc K))
def isL (K : Int32) : Prop := K = 3 ∨ K = 4 ∨ K = 5 ∨ K = 6 ∨ K = 8
/-- the state of a constraint when the variables below v have values -/
noncomputable def stc (K P Q R : Int32) (v : Nat) (y : Nat → Nat) : Nat :=
  iz (K = 0 ∨ K = 1) (60 + ps (dg (nn P)) y v).toNat (iz (K = 2) (sn (nn P) y v) (iz (K = 7) (hm (nn P) (nn R) y v) (stL K P Q R v y)))
/-- whether it may still hold -/
def alv (K P Q R : Int32) (v : Nat) (y : Nat → Nat) : Prop := (K = 2 → df (nn P) y v) ∧ (isL K → aL K P Q R v → hs K P Q R y)
theorem FL_is {K P Q R : Int32} (h : FL K P Q R) : isL K := by
  rcases h with ⟨e, -⟩ | ⟨e, -⟩ | ⟨e, -⟩ | ⟨e, -⟩ | ⟨e, -⟩
  · exact Or.inl e
  · exact Or.inr (Or.inl e)
  · exact Or.inr (Or.inr (Or.inl e))
  · exact Or.inr (Or.inr (Or.inr (Or.inl e)))
  · exact Or.inr (Or.inr (Or.inr (Or.inr e)))
theorem isL_n {K : Int32} (h : isL K) : ¬ K = 0 ∧ ¬ K = 1 ∧ ¬ K = 2 ∧ ¬ K = 7 := by
  rcases h with e | e | e | e | e <;> rw [e] <;> decide
theorem stc_S {K P Q R : Int32} {v : Nat} {y : Nat → Nat} (h : K = 0 ∨ K = 1) : stc K P Q R v y = (60 + ps (dg (nn P)) y v).toNat := iz_t h
theorem stc_2 {P Q R : Int32} {v : Nat} {y : Nat → Nat} : stc 2 P Q R v y = sn (nn P) y v := by
  unfold stc; rw [iz_f (by decide), iz_t rfl]
theorem stc_7 {P Q R : Int32} {v : Nat} {y : Nat → Nat} : stc 7 P Q R v y = hm (nn P) (nn R) y v := by
  unfold stc; rw [iz_f (by decide), iz_f (by decide), iz_t rfl]
theorem stc_L {K P Q R : Int32} {v : Nat} {y : Nat → Nat} (h : isL K) : stc K P Q R v y = stL K P Q R v y := by
  have := isL_n h
  unfold stc; rw [iz_f (fun z => by rcases z with z | z; exact this.1 z; exact this.2.1 z), iz_f this.2.2.1, iz_f this.2.2.2]
theorem alv_S {K P Q R : Int32} {v : Nat} {y : Nat → Nat} (h : K = 0 ∨ K = 1 ∨ K = 7) : alv K P Q R v y := by
  refine ⟨fun e => ?_, fun e => ?_⟩
  · rw [e] at h
    exact absurd h (by decide)
  · have := isL_n e
    rcases h with h | h | h
    · exact absurd h this.1
    · exact absurd h this.2.1
    · exact absurd h this.2.2.2
theorem alv_2 {P Q R : Int32} {v : Nat} {y : Nat → Nat} : alv 2 P Q R v y ↔ df (nn P) y v :=
  ⟨fun h => h.1 rfl, fun h => ⟨fun _ => h, fun e => absurd rfl (isL_n e).2.2.1⟩⟩
theorem alv_L {K P Q R : Int32} {v : Nat} {y : Nat → Nat} (h : isL K) : alv K P Q R v y ↔ (aL K P Q R v → hs K P Q R y) :=
  ⟨fun z => z.2 h, fun z => ⟨fun e => absurd e (isL_n h).2.2.1, fun _ => z⟩⟩
theorem sS_bd {p v : Nat} {y : Nat → Nat} (hv : v ≤ 4) (hy : ∀ u, u < v → y u < 6) : 0 ≤ 60 + ps (dg p) y v ∧ 60 + ps (dg p) y v ≤ 120 := by
  have := ps_bd (w := dg p) (x := y) v (fun u _ => dg_bd p u) hy
  omega
theorem stL_lt {K P Q R : Int32} {v : Nat} {y : Nat → Nat} (hy : ∀ u, u < v → y u < 6) : stL K P Q R v y < 2401 := by
  unfold stL
  by_cases h : aL K P Q R v
  · rw [iz_t h]; omega
  · rw [iz_f h]
    have d6 : ∀ j, (fun k => dv v y (ej K P Q R k)) j ≤ 6 := by
      intro j
      show dv v y (ej K P Q R j) ≤ 6
      unfold dv
      by_cases c : ej K P Q R j < v
      · rw [if_pos c]; have := hy _ c; omega
      · rw [if_neg c]; omega
    have := dU_lt d6 (lc K)
    have h4 : 7 ^ lc K ≤ 7 ^ 4 := Nat.pow_le_pow_right (by decide) (lc_le K)
    omega
theorem stc_lt {K P Q R : Int32} {v : Nat} {y : Nat → Nat} (hF : FT K P Q R) (hv : v ≤ 4) (hy : ∀ u, u < v → y u < 6) : stc K P Q R v y < 2401 := by
  rcases hF with ⟨hk, -⟩ | ⟨rfl, -⟩ | ⟨rfl, -⟩ | hL
  · rw [stc_S hk]
    have := sS_bd (p := nn P) hv hy
    omega
  · rw [stc_2]
    have := sn_lt (p := nn P) (x := y) v (fun u hu _ => hy u hu)
    omega
  · rw [stc_7]
    have := hm_le (p := nn P) (r := nn R) (x := y) v
    omega
  · rw [stc_L (FL_is hL)]
    exact stL_lt hy
/-! the first values of an assignment, and the rest -/
def mx (v : Nat) (y z : Nat → Nat) : Nat → Nat := fun u => if u < v then y u else z u
theorem mx_l {v u : Nat} {y z : Nat → Nat} (h : u < v) : mx v y z u = y u := if_pos h
theorem mx_r {v u : Nat} {y z : Nat → Nat} (h : ¬ u < v) : mx v y z u = z u := if_neg h
theorem mx_u {v x : Nat} {y z : Nat → Nat} : mx (v + 1) (uN4 y v x) z = mx v y (uN4 z v x) := by
  funext u
  by_cases h : u < v
  · rw [mx_l h, mx_l (by omega), uN4_n (by omega)]
  · rw [mx_r h]
    by_cases e : u = v
    · subst e; rw [mx_l (by omega), uN4_s, uN4_s]
    · rw [mx_r (by omega), uN4_n e]
theorem ps_mx {w : Nat → Int} {v : Nat} {y y' z : Nat → Nat} : ∀ j, ps w (mx v y z) (v + j) - ps w y v = ps w (mx v y' z) (v + j) - ps w y' v
  | 0 => by
    rw [Nat.add_zero, ps_ext (x := mx v y z) (y := y) v (fun u hu => mx_l hu), ps_ext (x := mx v y' z) (y := y') v (fun u hu => mx_l hu)]
    omega
  | j + 1 => by
    have ih := ps_mx (w := w) (v := v) (y := y) (y' := y') (z := z) j
    show ps w (mx v y z) (v + j) + w (v + j) * ((mx v y z (v + j) : Nat) : Int) - ps w y v = ps w (mx v y' z) (v + j) + w (v + j) * ((mx v y' z (v + j) : Nat) : Int) - ps w y' v
    rw [mx_r (by omega), mx_r (by omega)]
    omega
theorem hm_mx {p r v : Nat} {y y' z : Nat → Nat} : ∀ j, hm p r (mx v y z) (v + j) + hm p r y' v = hm p r (mx v y' z) (v + j) + hm p r y v
  | 0 => by
    rw [Nat.add_zero, hm_ext (x := mx v y z) (y := y) v (fun u hu _ => mx_l hu), hm_ext (x := mx v y' z) (y := y') v (fun u hu _ => mx_l hu)]
    omega
  | j + 1 => by
    have ih := hm_mx (p := p) (r := r) (v := v) (y := y) (y' := y') (z := z) j
    show hm p r (mx v y z) (v + j) + ib (p.testBit (v + j) = true ∧ mx v y z (v + j) = r) + hm p r y' v = hm p r (mx v y' z) (v + j) + ib (p.testBit (v + j) = true ∧ mx v y' z (v + j) = r) + hm p r y v
    rw [mx_r (by omega), mx_r (by omega)]
    omega
theorem df_mx {p v : Nat} {y y' z : Nat → Nat} (d' : df p y' v) (e : sn p y v = sn p y' v) (h : df p (mx v y z) 4) : df p (mx v y' z) 4 := by
  intro a ha b hb pa pb
  by_cases ca : a < v
  · rw [mx_l ca, mx_l (by omega)]
    exact d' a ca b hb pa pb
  · rw [mx_r ca]
    by_cases cb : b < v
    · rw [mx_l cb]
      intro q
      have : (sn p y' v).testBit (z a) = true := (sn_bit v).mpr ⟨b, cb, pb, q.symm⟩
      rw [← e] at this
      obtain ⟨u, hu, pu, eu⟩ := (sn_bit v).mp this
      have := h a ha u (by omega) pa pu
      rw [mx_r ca, mx_l hu] at this
      exact this eu.symm
    · rw [mx_r cb]
      have := h a ha b hb pa pb
      rw [mx_r ca, mx_r cb] at this
      exact this
/-- equal states that may still hold: the same rests -/
theorem hs_mx {K P Q R : Int32} {v : Nat} {y y' z : Nat → Nat} (hF : FT K P Q R) (hv : v ≤ 4) (hy : ∀ u, u < v → y u < 6) (hy' : ∀ u, u < v → y' u < 6) (a : alv K P Q R v y) (a' : alv K P Q R v y') (e : stc K P Q R v y = stc K P Q R v y')
    (h : hs K P Q R (mx v y z)) : hs K P Q R (mx v y' z) := by
  obtain ⟨j, hj⟩ : ∃ j, v + j = 4 := ⟨4 - v, by omega⟩
  rcases hF with ⟨hk, -⟩ | ⟨rfl, -⟩ | ⟨rfl, -⟩ | hL
  · rw [stc_S hk, stc_S hk] at e
    have b1 := sS_bd (p := nn P) hv hy
    have b2 := sS_bd (p := nn P) hv hy'
    have q := ps_mx (w := dg (nn P)) (v := v) (y := y) (y' := y') (z := z) j
    rw [hj] at q
    rcases hk with rfl | rfl
    · rw [hs_0] at h ⊢; omega
    · rw [hs_1] at h ⊢; omega
  · rw [stc_2, stc_2] at e
    rw [hs_2] at h ⊢
    exact df_mx (alv_2.mp a') e h
  · rw [stc_7, stc_7] at e
    have q := hm_mx (p := nn P) (r := nn R) (v := v) (y := y) (y' := y') (z := z) j
    rw [hj] at q
    rw [hs_7] at h ⊢; omega
  · have hi := FL_is hL
    rw [stc_L hi, stc_L hi] at e
    by_cases c : aL K P Q R v
    · exact (hs_loc hL (fun k hk => (mx_l (z := z) (c k hk)))).mpr ((alv_L hi).mp a' c)
    · unfold stL at e
      rw [iz_f c, iz_f c, ← dT_0, ← dT_0] at e
      have d6 : ∀ (y : Nat → Nat), (∀ u, u < v → y u < 6) → ∀ j, (fun k => dv v y (ej K P Q R k)) j ≤ 6 := by
        intro y hy j
        show dv v y (ej K P Q R j) ≤ 6
        unfold dv
        by_cases c : ej K P Q R j < v
        · rw [if_pos c]; have := hy _ c; omega
        · rw [if_neg c]; omega
      refine (hs_loc hL (fun k hk => ?_)).mp h
      have q : dv v y (ej K P Q R k) = dv v y' (ej K P Q R k) := dT_inj (lc K) 0 (d6 y hy) (d6 y' hy') e k (by omega) (by omega)
      by_cases c' : ej K P Q R k < v
      · unfold dv at q
        rw [if_pos c', if_pos c'] at q
        rw [mx_l c', mx_l c']
        omega
      · rw [mx_r c', mx_r c']
theorem alv_dead {K P Q R : Int32} {v : Nat} {y z : Nat → Nat} (hF : FT K P Q R) (hv : v ≤ 4) (a : ¬ alv K P Q R v y) : ¬ hs K P Q R (mx v y z) := by
  intro h
  rcases hF with ⟨hk, -⟩ | ⟨rfl, -⟩ | ⟨rfl, -⟩ | hL
  · exact a (alv_S (by rcases hk with e | e; exact Or.inl e; exact Or.inr (Or.inl e)))
  · rw [hs_2] at h
    refine a (alv_2.mpr (fun u hu t ht bu bt => ?_))
    have := h u (by omega) t ht bu bt
    rw [mx_l hu, mx_l (by omega)] at this
    exact this
  · exact a (alv_S (Or.inr (Or.inr rfl)))
  · exact a ((alv_L (FL_is hL)).mpr (fun c => (hs_loc hL (fun k hk => mx_l (c k hk))).mp h))
/-- at the end -/
theorem alv_4 {K P Q R : Int32} {y : Nat → Nat} (hF : FT K P Q R) (hk : K ≠ 0 ∧ K ≠ 1 ∧ K ≠ 7) : alv K P Q R 4 y ↔ hs K P Q R y := by
  rcases hF with ⟨h, -⟩ | ⟨rfl, -⟩ | ⟨h, -⟩ | hL
  · rcases h with h | h
    · exact absurd h hk.1
    · exact absurd h hk.2.1
  · rw [alv_2, hs_2]
  · exact absurd h hk.2.2
  · rw [alv_L (FL_is hL)]
    exact ⟨fun z => z (fun k hk' => ej_lt hL k hk'), fun z _ => z⟩
/-! lists of sums -/
def lS : List Int → (Int → Nat) → Nat
  | [], _ => 0
  | t :: l, f => f t + lS l f
theorem lS_app {f : Int → Nat} : ∀ l k : List Int, lS (l ++ k) f = lS l f + lS k f
  | [], k => by show lS k f = 0 + lS k f; omega
  | t :: l, k => by
    show f t + lS (l ++ k) f = f t + lS l f + lS k f
    rw [lS_app l k]; omega
theorem lS_map {f : Int → Nat} (g : Int → Int) : ∀ l : List Int, lS (l.map g) f = lS l (fun t => f (g t))
  | [] => rfl
  | t :: l => by
    show f (g t) + lS (l.map g) f = f (g t) + lS l (fun t => f (g t))
    rw [lS_map g l]
theorem lS_c {f g : Int → Nat} : ∀ l : List Int, (∀ t, t ∈ l → f t = g t) → lS l f = lS l g
  | [], _ => rfl
  | t :: l, h => by
    show f t + lS l f = g t + lS l g
    rw [h t (List.mem_cons_self ..), lS_c l (fun s hs => h s (List.mem_cons_of_mem t hs))]
theorem lS_0 {f : Int → Nat} : ∀ l : List Int, (∀ t, t ∈ l → f t = 0) → lS l f = 0
  | [], _ => rfl
  | t :: l, h => by
    show f t + lS l f = 0
    rw [h t (List.mem_cons_self ..), lS_0 l (fun s hs => h s (List.mem_cons_of_mem t hs))]
theorem lS_one : ∀ l : List Int, lS l one = l.length
  | [] => rfl
  | t :: l => by
    show 1 + lS l one = l.length + 1
    rw [lS_one l]; omega
theorem lS_sN {f : Int → Nat → Nat} : ∀ l : List Int, ∀ n, lS l (fun t => sN n (f t)) = sN n (fun x => lS l (fun t => f t x))
  | [], n => by
    show 0 = sN n (fun _ => 0)
    rw [sN_0 n (fun _ _ => rfl)]
  | t :: l, n => by
    show sN n (f t) + lS l (fun t => sN n (f t)) = sN n (fun x => f t x + lS l (fun t => f t x))
    rw [lS_sN l n, sN_add]
/-! the rests of the first values -/
section LY
variable {H : (Nat → Nat) → Prop} {w : Nat → Int} {m : Nat → Nat}
noncomputable def Cm (H : (Nat → Nat) → Prop) (w : Nat → Int) (m : Nat → Nat) : Nat → (Nat → Nat) → (Int → Nat) → Nat
  | 0, y, h => iz (H y) (h 0) 0
  | r + 1, y, h => sN 6 (fun x => iz ((m (3 - r)).testBit x = true) (Cm H w m r (uN4 y (3 - r) x) (fun s => h (w (3 - r) * (x : Int) + s))) 0)
theorem Cm_s {r : Nat} {y : Nat → Nat} {h : Int → Nat} : Cm H w m (r + 1) y h = sN 6 (fun x => iz ((m (3 - r)).testBit x = true) (Cm H w m r (uN4 y (3 - r) x) (fun s => h (w (3 - r) * (x : Int) + s))) 0) := rfl
theorem Cm_0 {y : Nat → Nat} {h : Int → Nat} : Cm H w m 0 y h = iz (H y) (h 0) 0 := rfl
def EQ (H : (Nat → Nat) → Prop) (v : Nat) (y y' : Nat → Nat) : Prop := ∀ z, H (mx v y z) ↔ H (mx v y' z)
theorem Cm_eq (hx : ∀ x y : Nat → Nat, (∀ v, v < 4 → x v = y v) → H x → H y) : ∀ r, r ≤ 4 → ∀ (y y' : Nat → Nat) (h : Int → Nat), EQ H (4 - r) y y' → Cm H w m r y h = Cm H w m r y' h
  | 0, _, y, y', h, e => by
    rw [Cm_0, Cm_0]
    have q := e y
    have e1 : H (mx 4 y y) ↔ H y := ⟨hx _ _ (fun v hv => mx_l hv), hx _ _ (fun v hv => (mx_l hv).symm)⟩
    have e2 : H (mx 4 y' y) ↔ H y' := ⟨hx _ _ (fun v hv => mx_l hv), hx _ _ (fun v hv => (mx_l hv).symm)⟩
    by_cases c : H y
    · rw [iz_t c, iz_t (e2.mp (q.mp (e1.mpr c)))]
    · rw [iz_f c, iz_f (fun z => c (e1.mp (q.mpr (e2.mpr z))))]
  | r + 1, hr, y, y', h, e => by
    rw [Cm_s, Cm_s]
    refine sN_c 6 (fun x _ => ?_)
    by_cases c : (m (3 - r)).testBit x = true
    · rw [iz_t c, iz_t c]
      refine Cm_eq hx r (by omega) _ _ _ (fun z => ?_)
      have hv : 4 - r = (3 - r) + 1 := by omega
      rw [hv, mx_u, mx_u]
      have := e (uN4 z (3 - r) x)
      rw [show 4 - (r + 1) = 3 - r by omega] at this
      exact this
    · rw [iz_f c, iz_f c]
theorem Cm_dead (hx : ∀ x y : Nat → Nat, (∀ v, v < 4 → x v = y v) → H x → H y) : ∀ r, r ≤ 4 → ∀ (y : Nat → Nat) (h : Int → Nat), (∀ z, ¬ H (mx (4 - r) y z)) → Cm H w m r y h = 0
  | 0, _, y, h, e => by
    rw [Cm_0]
    exact iz_f (fun c => e y (hx _ _ (fun v hv => (mx_l hv).symm) c))
  | r + 1, hr, y, h, e => by
    rw [Cm_s]
    refine sN_0 6 (fun x _ => ?_)
    by_cases c : (m (3 - r)).testBit x = true
    · rw [iz_t c]
      refine Cm_dead hx r (by omega) _ _ (fun z => ?_)
      have hv : 4 - r = (3 - r) + 1 := by omega
      rw [hv, mx_u]
      have := e (uN4 z (3 - r) x)
      rw [show 4 - (r + 1) = 3 - r by omega] at this
      exact this
    · exact iz_f c
/-- all of them: the solutions of the box -/
theorem Cm_all (hx : ∀ x y : Nat → Nat, (∀ v, v < 4 → x v = y v) → H x → H y) (y : Nat → Nat) (h : Int → Nat) : Cm H w m 4 y h = CB H w m h := by
  unfold CB
  rw [sN_1296, Cm_s]
  refine sN_c 6 (fun x0 h0 => ?_)
  have step : ∀ {p : Prop} {F G : Nat → Nat}, (p → ∀ x, x < 6 → F x = G x) → (¬ p → ∀ x, x < 6 → G x = 0) → iz p (sN 6 F) 0 = sN 6 G := by
    intro p F G h1 h2
    by_cases c : p
    · rw [iz_t c]; exact sN_c 6 (h1 c)
    · rw [iz_f c]; exact (sN_0 6 (h2 c)).symm
  rw [Cm_s]
  refine step (fun b0 x1 h1 => ?_) (fun b0 x1 h1 => ?_)
  · rw [Cm_s]
    refine step (fun b1 x2 h2 => ?_) (fun b1 x2 h2 => ?_)
    · rw [Cm_s]
      refine step (fun b2 x3 h3 => ?_) (fun b2 x3 h3 => ?_)
      · have e := av_of h0 h1 h2 h3
        have ev : ∀ v, v < 4 → uN4 (uN4 (uN4 (uN4 y 0 x0) 1 x1) 2 x2) 3 x3 v = av (216 * x0 + 36 * x1 + 6 * x2 + x3) v := z4 e.1.symm e.2.1.symm e.2.2.1.symm e.2.2.2.symm
        have eps : w 0 * (x0 : Int) + (w 1 * (x1 : Int) + (w 2 * (x2 : Int) + (w 3 * (x3 : Int) + 0))) = ps w (av (216 * x0 + 36 * x1 + 6 * x2 + x3)) 4 := by
          rw [ps_4, e.1, e.2.1, e.2.2.1, e.2.2.2]; omega
        show iz ((m 3).testBit x3 = true) (iz (H (uN4 (uN4 (uN4 (uN4 y 0 x0) 1 x1) 2 x2) 3 x3)) (h (w 0 * (x0 : Int) + (w 1 * (x1 : Int) + (w 2 * (x2 : Int) + (w 3 * (x3 : Int) + 0))))) 0) 0 = _
        rw [eps]
        by_cases b3 : (m 3).testBit x3 = true
        · have hIB : IB m (av (216 * x0 + 36 * x1 + 6 * x2 + x3)) := z4 (by rw [e.1]; exact b0) (by rw [e.2.1]; exact b1) (by rw [e.2.2.1]; exact b2) (by rw [e.2.2.2]; exact b3)
          rw [iz_t b3]
          by_cases c : H (uN4 (uN4 (uN4 (uN4 y 0 x0) 1 x1) 2 x2) 3 x3)
          · rw [iz_t c, iz_t ⟨hIB, hx _ _ ev c⟩]
          · rw [iz_f c, iz_f (fun z => c (hx _ _ (fun v hv => (ev v hv).symm) z.2))]
        · rw [iz_f b3, iz_f (fun z => b3 (by have := z.1 3 (by omega); rw [e.2.2.2] at this; exact this))]
      · exact iz_f (fun z => b2 (by have := z.1 2 (by omega); rw [(av_of h0 h1 h2 h3).2.2.1] at this; exact this))
    · refine sN_0 6 (fun x3 h3 => ?_)
      exact iz_f (fun z => b1 (by have := z.1 1 (by omega); rw [(av_of h0 h1 h2 h3).2.1] at this; exact this))
  · refine sN_0 6 (fun x2 h2 => sN_0 6 (fun x3 h3 => ?_))
    exact iz_f (fun z => b0 (by have := z.1 0 (by omega); rw [(av_of h0 h1 h2 h3).1] at this; exact this))
/-- what a layer is worth -/
noncomputable def Vl (H : (Nat → Nat) → Prop) (w : Nat → Int) (m : Nat → Nat) (r cnt : Nat) (Y : Nat → Nat → Nat) (L : Nat → List Int) (h : Int → Nat) : Nat :=
  sN cnt (fun k => lS (L k) (fun t => Cm H w m r (Y k) (fun s => h (t + s))))
/-- what a node gives with one value of the next variable -/
noncomputable def Gx (H : (Nat → Nat) → Prop) (w : Nat → Int) (m : Nat → Nat) (r : Nat) (y : Nat → Nat) (l : List Int) (x : Nat) (h : Int → Nat) : Nat :=
  lS l (fun t => iz ((m (3 - r)).testBit x = true) (Cm H w m r (uN4 y (3 - r) x) (fun s => h (t + (w (3 - r) * (x : Int) + s)))) 0)
theorem Vl_s {r cnt : Nat} {Y : Nat → Nat → Nat} {L : Nat → List Int} {h : Int → Nat} : Vl H w m (r + 1) cnt Y L h = sN (6 * cnt) (fun a => Gx H w m r (Y (a / 6)) (L (a / 6)) (a % 6) h) := by
  rw [sN_6]
  refine sN_c cnt (fun k _ => ?_)
  have e : ∀ t, Cm H w m (r + 1) (Y k) (fun s => h (t + s)) = sN 6 (fun x => iz ((m (3 - r)).testBit x = true) (Cm H w m r (uN4 (Y k) (3 - r) x) (fun s => h (t + (w (3 - r) * (x : Int) + s)))) 0) := fun t => Cm_s
  rw [lS_c (L k) (fun t _ => e t), lS_sN]
  refine sN_c 6 (fun x hx => ?_)
  show _ = Gx H w m r (Y ((6 * k + x) / 6)) (L ((6 * k + x) / 6)) ((6 * k + x) % 6) h
  rw [show (6 * k + x) / 6 = k by omega, show (6 * k + x) % 6 = x by omega]
  rfl
theorem Gx_0 {r : Nat} {y : Nat → Nat} {l : List Int} {x : Nat} {h : Int → Nat} (hb : (m (3 - r)).testBit x = false) : Gx H w m r y l x h = 0 :=
  lS_0 l (fun t _ => iz_f (by rw [hb]; decide))
theorem Gx_d {r : Nat} {y : Nat → Nat} {l : List Int} {x : Nat} {h : Int → Nat} (hd : ∀ f, Cm H w m r (uN4 y (3 - r) x) f = 0) : Gx H w m r y l x h = 0 := by
  refine lS_0 l (fun t _ => ?_)
  by_cases c : (m (3 - r)).testBit x = true
  · rw [iz_t c]; exact hd _
  · exact iz_f c
theorem Gx_t {r : Nat} {y y' : Nat → Nat} {l : List Int} {x : Nat} {h : Int → Nat} (hb : (m (3 - r)).testBit x = true) (e : ∀ f, Cm H w m r (uN4 y (3 - r) x) f = Cm H w m r y' f) :
    Gx H w m r y l x h = lS (l.map (fun t => t + w (3 - r) * (x : Int))) (fun t => Cm H w m r y' (fun s => h (t + s))) := by
  rw [lS_map]
  refine lS_c l (fun t _ => ?_)
  rw [iz_t hb, e]
  exact congrArg (Cm H w m r y') (funext (fun s => congrArg h (by omega)))
end LY
/-! sums from a place on -/
def tS (c : Nat) (f : Nat → Nat) (b : Nat) : Nat := sN c (fun a => if b ≤ a then f a else 0)
theorem tS_0 {c : Nat} {f : Nat → Nat} : tS c f 0 = sN c f := sN_c c (fun a _ => if_pos (Nat.zero_le a))
theorem tS_e {c : Nat} {f : Nat → Nat} : tS c f c = 0 := sN_0 c (fun a ha => if_neg (by omega))
theorem tS_s {c : Nat} {f : Nat → Nat} {b : Nat} (hb : b < c) : tS c f b = tS c f (b + 1) + f b := by
  have e : f b = sN c (fun a => if a = b then f a else 0) := by
    rw [sN_one c hb (fun a _ hne => if_neg hne)]
    exact (if_pos rfl).symm
  unfold tS
  rw [e, ← sN_add]
  refine sN_c c (fun a _ => ?_)
  by_cases ea : a = b
  · subst ea
    rw [if_pos (Nat.le_refl a), if_neg (by omega), if_pos rfl]; omega
  · rw [if_neg ea]
    by_cases l : b + 1 ≤ a
    · rw [if_pos l, if_pos (by omega)]; rfl
    · rw [if_neg l, if_neg (by omega)]
end
section
/-! X: layers: the moves of states -/
section W11
variable {cC wN rU mO tO bS dE iC : Int32} {aD aK aP aQ aR aN aW aC aG aV aS aI aT aY aU aB aM aA : Nat → Int32}
theorem dT_lt {D : Nat → Nat} (h : ∀ j, D j ≤ 6) : ∀ f k, dT D f k < 7 ^ f
  | 0, k => by show 0 < 1; omega
  | f + 1, k => by
    have ih := dT_lt h f (k + 1)
    have a := h k
    show D k + 7 * dT D f (k + 1) < 7 ^ f * 7
    omega
set_option maxHeartbeats 1600000 in
theorem wx_ml23 {post : Int32 → SX → Prop} {i v x st c : Nat} {D N e : Nat → Nat} (hi : i < 10) (hv : v < 4) (hx : x < 6) (hc : c ≤ 4) (hI : ∀ k, k < c → aI k = nI (e k)) (he : ∀ k, k < c → e k < 4) (hD : ∀ k, D k ≤ 6) (hN : ∀ k, k < c → N k = if e k = v then x + 1 else D k)
    (hcon : ∀ j k, j < c → k < c → e j = e k → N j = N k)
    (hA : ¬ (∃ j, j < c ∧ e j = v) → ∀ aC' : Nat → Int32, post (nI st) (cC, wN, rU, mO, tO, bS, dE, nI c, aD, aK, aP, aQ, aR, aN, aW, aC', aG, aV, aS, aI, aT, aY, aU, aB, aM, aA))
    (hB : (∃ j, j < c ∧ e j = v) → ¬ (∀ j, j < c → N j ≠ 0) → ∀ aC' : Nat → Int32, post (nI (dU N c)) (cC, wN, rU, mO, tO, bS, dE, nI c, aD, aK, aP, aQ, aR, aN, aW, aC', aG, aV, aS, aI, aT, aY, aU, aB, aM, aA))
    (hC : (∃ j, j < c ∧ e j = v) → (∀ j, j < c → N j ≠ 0) → ∀ aC' : Nat → Int32, (∀ j, j < c → aC' (e j) = nI (N j - 1)) → wpX_holds (fun r u => match u with | (cC, wN, rU, mO, tO, bS, dE, iC, aD, aK, aP, aQ, aR, aN, aW, aC, aG, aV, aS, aI, aT, aY, aU, aB, aM, aA) => ((r = 0 → post (-1) (cC, wN, rU, mO, tO, bS, dE, iC, aD, aK, aP, aQ, aR, aN, aW, aC, aG, aV, aS, aI, aT, aY, aU, aB, aM, aA)) ∧ (¬ r = 0 → post 0 (cC, wN, rU, mO, tO, bS, dE, iC, aD, aK, aP, aQ, aR, aN, aW, aC, aG, aV, aS, aI, aT, aY, aU, aB, aM, aA)))) (cC, wN, rU, mO, tO, bS, dE, nI c, aD, aK, aP, aQ, aR, aN, aW, aC', aG, aV, aS, aI, aT, aY, aU, aB, aM, aA) (nI i)) :
    ∃ n, wX_moveListed_23 post (nI i) (nI st) (nI v) (nI x) cC wN rU mO tO bS dE (nI c) n (nI (dT D c 0)) 1 0 1 0 0 aD aK aP aQ aR aN aW aC aG aV aS aI aT aY aU aB aM aA := by
  have K : ∃ n, wX_moveListed_23 post (nI i) (nI st) (nI v) (nI x) cC wN rU mO tO bS dE (nI c) n (nI (dT D (c - 0) 0)) (nI (7 ^ 0)) (nI (dU N 0)) (bI (∀ j, j < 0 → N j ≠ 0)) (bI (∃ j, j < 0 ∧ e j = v)) (nI 0) aD aK aP aQ aR aN aW aC aG aV aS aI aT aY aU aB aM aA := by
    refine pk_loop (σ := Nat → Int32) (fun n k s => wX_moveListed_23 post (nI i) (nI st) (nI v) (nI x) cC wN rU mO tO bS dE (nI c) n (nI (dT D (c - k) k)) (nI (7 ^ k)) (nI (dU N k)) (bI (∀ j, j < k → N j ≠ 0)) (bI (∃ j, j < k ∧ e j = v)) (nI k) aD aK aP aQ aR aN aW s aG aV aS aI aT aY aU aB aM aA) (fun k s => ∀ j, j < k → N j ≠ 0 → s (e j) = nI (N j - 1)) c 0 aC (by omega) (fun j hj => absurd hj (by omega))
      (fun n s hS => br_t (nI_le (by omega) (by omega)) ?_) (fun n k s hk hS K => br_f (nI_ge hk (by omega)) ?_)
    · by_cases nm : ∃ j, j < c ∧ e j = v
      · refine br_f (fun z => bI_0.mp z nm) ?_
        by_cases cp : ∀ j, j < c → N j ≠ 0
        · exact br_f (fun z => bI_0.mp z cp) (hC nm cp s (fun j hj => hS j hj (cp j hj)))
        · exact br_t (bI_0.mpr cp) (hB nm cp s)
      · exact br_t (bI_0.mpr nm) (hA nm s)
    · obtain ⟨f, hf⟩ : ∃ f, c - k = f + 1 := ⟨c - k - 1, by omega⟩
      have hb := dT_lt hD (c - k) k
      have hb2 : 7 ^ (c - k) ≤ 7 ^ 4 := Nat.pow_le_pow_right (by decide) (by omega)
      have er : dT D (c - k) k = D k + 7 * dT D f (k + 1) := by rw [hf]; rfl
      have hDk := hD k
      have e1 : dT D (c - k) k % 7 = D k := by omega
      have e2 : dT D (c - k) k / 7 = dT D (c - (k + 1)) (k + 1) := by rw [show c - (k + 1) = f by omega]; omega
      have hek := he k hk
      have hNk := hN k hk
      have eI : aI (nI k).toNatClampNeg = nI (e k) := by rw [zcl (by omega)]; exact hI k hk
      have fin : ∀ (x8 : Int32) (s' : Nat → Int32), x8 = bI (∀ j, j < k + 1 → N j ≠ 0) → (∀ j, j < k + 1 → N j ≠ 0 → s' (e j) = nI (N j - 1)) →
          wX_moveListed_94 post (wX_moveListed_23 post (nI i) (nI st) (nI v) (nI x) cC wN rU mO tO bS dE (nI c) n) (nI i) (nI st) (nI v) (nI x) (nI (dT D (c - (k + 1)) (k + 1))) (nI (7 ^ k)) (nI (dU N k)) x8 (bI (∃ j, j < k + 1 ∧ e j = v)) (nI k) (nI (N k)) cC wN rU mO tO bS dE (nI c) aD aK aP aQ aR aN aW s' aG aV aS aI aT aY aU aB aM aA := by
        intro x8 s' e8 hs'
        subst e8
        unfold wX_moveListed_94
        exact nm_r (e' := nI (dU N (k + 1))) (by rw [pk_mul, nI_add]; rfl) (nm_r (e' := nI (7 ^ (k + 1))) (pk_mul _ 7) (nm_r (nI_1 k) (K s' hs')))
      have mid : wX_moveListed_66 post (wX_moveListed_23 post (nI i) (nI st) (nI v) (nI x) cC wN rU mO tO bS dE (nI c) n) (nI i) (nI st) (nI v) (nI x) (nI (dT D (c - (k + 1)) (k + 1))) (nI (7 ^ k)) (nI (dU N k)) (bI (∀ j, j < k → N j ≠ 0)) (bI (∃ j, j < k + 1 ∧ e j = v)) (nI k) (nI (N k)) cC wN rU mO tO bS dE (nI c) aD aK aP aQ aR aN aW s aG aV aS aI aT aY aU aB aM aA := by
        unfold wX_moveListed_66
        by_cases n0 : N k = 0
        · refine br_t (by rw [n0]; rfl) (fin 0 s (bI_f (fun z => z k (by omega) n0)).symm (fun j hj hn => ?_))
          by_cases ej : j = k
          · subst ej; exact absurd n0 hn
          · exact hS j (by omega) hn
        · have hN6 : N k ≤ 6 := by rw [hNk]; split <;> omega
          refine br_f (nI_ne0 (by omega) (by omega)) ⟨zi4 (by omega), ?_, nm_r (e' := upd s (e k) (nI (N k - 1))) ?_ (fin _ _ (bI_c ⟨fun z => lt_s z n0, fun z j hj => z j (by omega)⟩) (fun j hj hn => ?_))⟩
          · rw [eI]; exact zi4 hek
          · rw [eI, zcl (by omega), show nI (N k) - 1 = nI (N k - 1) from pk_sub (b := 1) (by omega), zb_n8 (by omega)]
          · by_cases ee : e j = e k
            · rw [ee, pk_us]
              have : N j = N k := by
                by_cases ej : j = k
                · rw [ej]
                · exact hcon j k (by omega) hk ee
              rw [this]
            · rw [pk_un ee]
              have : j ≠ k := fun z => ee (by rw [z])
              exact hS j (by omega) hn
      refine ⟨ze7, nm_r (e' := nI (D k)) (by rw [zd_r7 (by omega), e1]) ⟨ze7, nm_r (e' := nI (dT D (c - (k + 1)) (k + 1))) (by rw [zd_d7 (by omega), e2]) ⟨zi4 (by omega), ?_⟩⟩⟩
      rw [eI]
      by_cases ev : e k = v
      · refine br_t (congrArg nI ev) (nm_r (e' := nI (N k)) (by rw [nI_1, hNk, if_pos ev]) ?_)
        have e9 : bI (∃ j, j < k + 1 ∧ e j = v) = 1 := bI_t ⟨k, by omega, ev⟩
        rw [e9] at mid
        exact mid
      · refine br_f (fun z => ev ((nI_eq (by omega) (by omega)).mp z)) ?_
        have e9 : bI (∃ j, j < k + 1 ∧ e j = v) = bI (∃ j, j < k ∧ e j = v) := bI_c ⟨fun ⟨j, hj, z⟩ => ⟨j, by have : j ≠ k := (fun q => ev (by rw [← q]; exact z)); omega, z⟩, fun ⟨j, hj, z⟩ => ⟨j, by omega, z⟩⟩
        rw [e9] at mid
        rw [if_neg ev] at hNk
        rw [hNk] at mid
        exact mid
  rw [show bI (∀ j, j < 0 → N j ≠ 0) = 1 from bI_t (fun j hj => absurd hj (by omega)), show bI (∃ j, j < 0 ∧ e j = v) = 0 from bI_f (fun ⟨j, hj, _⟩ => absurd hj (by omega)), Nat.sub_zero] at K
  exact K
set_option maxHeartbeats 1600000 in
theorem wx_moveListed {post : Int32 → SX → Prop} {i v x : Nat} {y : Nat → Nat} (hi : i < 10) (hv : v < 4) (hx : x < 6) (hL : FL (aK i) (aP i) (aQ i) (aR i)) (hy : ∀ u, u < v → y u < 6) (ha : alv (aK i) (aP i) (aQ i) (aR i) v y)
    (h1 : alv (aK i) (aP i) (aQ i) (aR i) (v + 1) (uN4 y v x) → ∀ (iC' : Int32) (aC' aI' : Nat → Int32), post (nI (stc (aK i) (aP i) (aQ i) (aR i) (v + 1) (uN4 y v x))) (cC, wN, rU, mO, tO, bS, dE, iC', aD, aK, aP, aQ, aR, aN, aW, aC', aG, aV, aS, aI', aT, aY, aU, aB, aM, aA))
    (h0 : ¬ alv (aK i) (aP i) (aQ i) (aR i) (v + 1) (uN4 y v x) → ∀ (iC' : Int32) (aC' aI' : Nat → Int32), post (-1) (cC, wN, rU, mO, tO, bS, dE, iC', aD, aK, aP, aQ, aR, aN, aW, aC', aG, aV, aS, aI', aT, aY, aU, aB, aM, aA)) : wpX_moveListed post (cC, wN, rU, mO, tO, bS, dE, iC, aD, aK, aP, aQ, aR, aN, aW, aC, aG, aV, aS, aI, aT, aY, aU, aB, aM, aA) (nI i) (nI (stc (aK i) (aP i) (aQ i) (aR i) v y)) (nI v) (nI x) := by
  have hiL := FL_is hL
  rw [stc_L hiL]
  rw [stc_L hiL] at h1
  rw [alv_L hiL] at ha h1 h0
  have hlt := ej_lt hL
  have hle := lc_le (aK i)
  unfold wpX_moveListed
  refine wx_listInv hi hL (fun aI' hI => ?_)
  have hu : ∀ u, u < v + 1 → uN4 y v x u < 6 := by
    intro u hu
    by_cases e : u = v
    · subst e; rw [uN4_s]; exact hx
    · rw [uN4_n e]; exact hy u (by omega)
  by_cases c : aL (aK i) (aP i) (aQ i) (aR i) v
  · have hn : ∀ k, k < lc (aK i) → ej (aK i) (aP i) (aQ i) (aR i) k ≠ v := fun k hk z => by have := c k hk; omega
    have c' : aL (aK i) (aP i) (aQ i) (aR i) (v + 1) := fun k hk => by have := c k hk; omega
    have es : stL (aK i) (aP i) (aQ i) (aR i) v y = 0 := iz_t c
    have es' : stL (aK i) (aP i) (aQ i) (aR i) (v + 1) (uN4 y v x) = 0 := iz_t c'
    rw [es]
    rw [es'] at h1
    have K := wx_ml23 (post := post) (aC := aC) (D := fun _ => 0) (N := fun _ => 0) (e := ej (aK i) (aP i) (aQ i) (aR i)) (st := 0) (c := lc (aK i)) hi hv hx hle hI hlt (fun _ => by omega) (fun k hk => by rw [if_neg (hn k hk)]) (fun _ _ _ _ _ => rfl)
      (fun _ aC' => h1 (fun _ => (hs_loc hL (fun k hk => (uN4_n (hn k hk)).symm)).mp (ha c)) _ _ _) (fun ⟨j, hj, z⟩ => absurd z (hn j hj)) (fun ⟨j, hj, z⟩ => absurd z (hn j hj))
    rw [dT_0, dU_z] at K
    exact K
  · have es : stL (aK i) (aP i) (aQ i) (aR i) v y = dU (fun k => dv v y (ej (aK i) (aP i) (aQ i) (aR i) k)) (lc (aK i)) := iz_f c
    have d6 : ∀ k, (fun k => dv v y (ej (aK i) (aP i) (aQ i) (aR i) k)) k ≤ 6 := by
      intro k
      show dv v y (ej (aK i) (aP i) (aQ i) (aR i) k) ≤ 6
      unfold dv
      by_cases c : ej (aK i) (aP i) (aQ i) (aR i) k < v
      · rw [if_pos c]; have := hy _ c; omega
      · rw [if_neg c]; omega
    have eN : ∀ k, dv (v + 1) (uN4 y v x) (ej (aK i) (aP i) (aQ i) (aR i) k) = if ej (aK i) (aP i) (aQ i) (aR i) k = v then x + 1 else dv v y (ej (aK i) (aP i) (aQ i) (aR i) k) := by
      intro k
      unfold dv
      by_cases z : ej (aK i) (aP i) (aQ i) (aR i) k = v
      · rw [if_pos z, if_pos (by omega), z, uN4_s]
      · rw [if_neg z, uN4_n z]
        by_cases l : ej (aK i) (aP i) (aQ i) (aR i) k < v
        · rw [if_pos l, if_pos (by omega)]
        · rw [if_neg l, if_neg (by omega)]
    have comp : (∀ j, j < lc (aK i) → dv (v + 1) (uN4 y v x) (ej (aK i) (aP i) (aQ i) (aR i) j) ≠ 0) ↔ aL (aK i) (aP i) (aQ i) (aR i) (v + 1) := by
      constructor
      · intro z j hj
        have := z j hj
        unfold dv at this
        by_cases l : ej (aK i) (aP i) (aQ i) (aR i) j < v + 1
        · exact l
        · rw [if_neg l] at this
          exact absurd rfl this
      · intro z j hj
        unfold dv
        rw [if_pos (z j hj)]
        omega
    rw [es]
    have hA : (¬ ∃ j, j < lc (aK i) ∧ ej (aK i) (aP i) (aQ i) (aR i) j = v) → ∀ aC' : Nat → Int32, post (nI (dU (fun k => dv v y (ej (aK i) (aP i) (aQ i) (aR i) k)) (lc (aK i)))) (cC, wN, rU, mO, tO, bS, dE, nI (lc (aK i)), aD, aK, aP, aQ, aR, aN, aW, aC', aG, aV, aS, aI', aT, aY, aU, aB, aM, aA) := by
      intro nm aC'
      have nn' : ¬ aL (aK i) (aP i) (aQ i) (aR i) (v + 1) := fun z => c (fun k hk => by
        have := z k hk
        have : ej (aK i) (aP i) (aQ i) (aR i) k ≠ v := fun q => nm ⟨k, hk, q⟩
        omega)
      have e' : stL (aK i) (aP i) (aQ i) (aR i) (v + 1) (uN4 y v x) = dU (fun k => dv v y (ej (aK i) (aP i) (aQ i) (aR i) k)) (lc (aK i)) := by
        unfold stL
        rw [iz_f nn']
        refine dU_c _ (fun k hk => ?_)
        show dv (v + 1) (uN4 y v x) (ej (aK i) (aP i) (aQ i) (aR i) k) = _
        rw [eN k, if_neg (fun q => nm ⟨k, hk, q⟩)]
      rw [e'] at h1
      exact h1 (fun z => absurd z nn') _ _ _
    have hB : (∃ j, j < lc (aK i) ∧ ej (aK i) (aP i) (aQ i) (aR i) j = v) → ¬ (∀ j, j < lc (aK i) → (fun k => dv (v + 1) (uN4 y v x) (ej (aK i) (aP i) (aQ i) (aR i) k)) j ≠ 0) → ∀ aC' : Nat → Int32, post (nI (dU (fun k => dv (v + 1) (uN4 y v x) (ej (aK i) (aP i) (aQ i) (aR i) k)) (lc (aK i)))) (cC, wN, rU, mO, tO, bS, dE, nI (lc (aK i)), aD, aK, aP, aQ, aR, aN, aW, aC', aG, aV, aS, aI', aT, aY, aU, aB, aM, aA) := by
      intro nm cp aC'
      have nn' : ¬ aL (aK i) (aP i) (aQ i) (aR i) (v + 1) := fun z => cp (comp.mpr z)
      have e' : stL (aK i) (aP i) (aQ i) (aR i) (v + 1) (uN4 y v x) = dU (fun k => dv (v + 1) (uN4 y v x) (ej (aK i) (aP i) (aQ i) (aR i) k)) (lc (aK i)) := iz_f nn'
      rw [e'] at h1
      exact h1 (fun z => absurd z nn') _ _ _
    have hC : (∃ j, j < lc (aK i) ∧ ej (aK i) (aP i) (aQ i) (aR i) j = v) → (∀ j, j < lc (aK i) → (fun k => dv (v + 1) (uN4 y v x) (ej (aK i) (aP i) (aQ i) (aR i) k)) j ≠ 0) → ∀ aC' : Nat → Int32, (∀ j, j < lc (aK i) → aC' (ej (aK i) (aP i) (aQ i) (aR i) j) = nI ((fun k => dv (v + 1) (uN4 y v x) (ej (aK i) (aP i) (aQ i) (aR i) k)) j - 1)) → wpX_holds (fun r u => match u with | (cC, wN, rU, mO, tO, bS, dE, iC, aD, aK, aP, aQ, aR, aN, aW, aC, aG, aV, aS, aI, aT, aY, aU, aB, aM, aA) => ((r = 0 → post (-1) (cC, wN, rU, mO, tO, bS, dE, iC, aD, aK, aP, aQ, aR, aN, aW, aC, aG, aV, aS, aI, aT, aY, aU, aB, aM, aA)) ∧ (¬ r = 0 → post 0 (cC, wN, rU, mO, tO, bS, dE, iC, aD, aK, aP, aQ, aR, aN, aW, aC, aG, aV, aS, aI, aT, aY, aU, aB, aM, aA)))) (cC, wN, rU, mO, tO, bS, dE, nI (lc (aK i)), aD, aK, aP, aQ, aR, aN, aW, aC', aG, aV, aS, aI', aT, aY, aU, aB, aM, aA) (nI i) := by
      intro nm cp aC' hC
      have c' := comp.mp cp
      have e' : stL (aK i) (aP i) (aQ i) (aR i) (v + 1) (uN4 y v x) = 0 := iz_t c'
      rw [e'] at h1
      refine wx_holdsL (x := uN4 y v x) hi hL (fun k hk => ⟨?_, hu _ (c' k hk)⟩) ?_
      · rw [hC k hk]
        show nI (dv (v + 1) (uN4 y v x) (ej (aK i) (aP i) (aQ i) (aR i) k) - 1) = _
        unfold dv
        rw [if_pos (c' k hk)]
        rfl
      · by_cases hh : hs (aK i) (aP i) (aQ i) (aR i) (uN4 y v x)
        · exact br_f (fun z => bI_0.mp z hh) (h1 (fun _ => hh) _ _ _)
        · exact br_t (bI_0.mpr hh) (h0 (fun z => hh (z c')) _ _ _)
    have K := wx_ml23 (post := post) (aC := aC) (D := fun k => dv v y (ej (aK i) (aP i) (aQ i) (aR i) k)) (N := fun k => dv (v + 1) (uN4 y v x) (ej (aK i) (aP i) (aQ i) (aR i) k)) (e := ej (aK i) (aP i) (aQ i) (aR i)) (st := dU (fun k => dv v y (ej (aK i) (aP i) (aQ i) (aR i) k)) (lc (aK i))) (c := lc (aK i)) hi hv hx hle hI hlt d6 (fun k _ => eN k) (fun j k _ _ z => by show dv _ _ (ej (aK i) (aP i) (aQ i) (aR i) j) = dv _ _ (ej (aK i) (aP i) (aQ i) (aR i) k); rw [z]) hA hB hC
    rw [dT_0] at K
    exact K
set_option maxHeartbeats 1600000 in
theorem wx_moveState {post : Int32 → SX → Prop} {i v x : Nat} {y : Nat → Nat} (hi : i < 10) (hv : v < 4) (hx : x < 6) (hF : FT (aK i) (aP i) (aQ i) (aR i)) (hy : ∀ u, u < v → y u < 6) (ha : alv (aK i) (aP i) (aQ i) (aR i) v y)
    (h1 : alv (aK i) (aP i) (aQ i) (aR i) (v + 1) (uN4 y v x) → ∀ (iC' : Int32) (aC' aG' aI' : Nat → Int32), post (nI (stc (aK i) (aP i) (aQ i) (aR i) (v + 1) (uN4 y v x))) (cC, wN, rU, mO, tO, bS, dE, iC', aD, aK, aP, aQ, aR, aN, aW, aC', aG', aV, aS, aI', aT, aY, aU, aB, aM, aA))
    (h0 : ¬ alv (aK i) (aP i) (aQ i) (aR i) (v + 1) (uN4 y v x) → ∀ (iC' : Int32) (aC' aG' aI' : Nat → Int32), post (-1) (cC, wN, rU, mO, tO, bS, dE, iC', aD, aK, aP, aQ, aR, aN, aW, aC', aG', aV, aS, aI', aT, aY, aU, aB, aM, aA)) : wpX_moveState post (cC, wN, rU, mO, tO, bS, dE, iC, aD, aK, aP, aQ, aR, aN, aW, aC, aG, aV, aS, aI, aT, aY, aU, aB, aM, aA) (nI i) (nI (stc (aK i) (aP i) (aQ i) (aR i) v y)) (nI v) (nI x) := by
  have eP : aP (nI i).toNatClampNeg = aP i := congrArg aP (zcl (by omega))
  have eR : aR (nI i).toNatClampNeg = aR i := congrArg aR (zcl (by omega))
  have hu : ∀ u, u < v → uN4 y v x u = y u := fun u hu => uN4_n (by omega)
  have hu6 : ∀ u, u < v + 1 → uN4 y v x u < 6 := by
    intro u hu
    by_cases e : u = v
    · subst e; rw [uN4_s]; exact hx
    · rw [uN4_n e]; exact hy u (by omega)
  refine And.intro (zi10 hi) (nm_r (congrArg aK (zcl (by omega))) ?_)
  rcases hF with ⟨hk, p, hp, hP, q1, q2⟩ | ⟨hk, p, hp, hP⟩ | ⟨hk, p, q, r, hp, hq, hr, hP, hQ, hR⟩ | hL
  · have hS : wX_moveState_19 post (nI i) (nI (stc (aK i) (aP i) (aQ i) (aR i) v y)) (nI v) (nI x) cC wN rU mO tO bS dE iC aD aK aP aQ aR aN aW aC aG aV aS aI aT aY aU aB aM aA := by
      unfold wX_moveState_19
      have b1 := sS_bd (p := p) (by omega) hy
      have b2 := sS_bd (p := p) (v := v + 1) (by omega) hu6
      have e1 : nI (stc (aK i) (aP i) (aQ i) (aR i) v y) = zI (60 + ps (dg p) y v) := by
        rw [stc_S hk, hP, nn_n (by omega), zn_n, Int.toNat_of_nonneg b1.1]
      have e2 : nI (stc (aK i) (aP i) (aQ i) (aR i) (v + 1) (uN4 y v x)) = zI (60 + ps (dg p) (uN4 y v x) (v + 1)) := by
        rw [stc_S hk, hP, nn_n (by omega), zn_n, Int.toNat_of_nonneg b2.1]
      have e3 : ps (dg p) (uN4 y v x) (v + 1) = ps (dg p) y v + dg p v * (x : Int) := by
        show ps (dg p) (uN4 y v x) v + dg p v * ((uN4 y v x v : Nat) : Int) = _
        rw [ps_ext v hu, uN4_s]
      rw [e1, eP, hP]
      refine And.intro (zi10 hi) (wx_unpack hp (fun aG' hG => And.intro (zi4 hv) ?_))
      have K := h1 (alv_S (by rcases hk with e | e; exact Or.inl e; exact Or.inr (Or.inl e))) iC aC aG' aI
      rw [e2, e3] at K
      rw [zcl (by omega), hG v hv, zn_mulN, zn_add, show 60 + ps (dg p) y v + dg p v * (x : Int) = 60 + (ps (dg p) y v + dg p v * (x : Int)) by omega]
      exact K
    rcases hk with e | e
    · exact br_t e hS
    · exact br_f (by rw [e]; decide) (br_t e hS)
  · refine br_f (by rw [hk]; decide) (br_f (by rw [hk]; decide) (br_t hk ?_))
    unfold wX_moveState_54
    rw [hk] at ha h1 h0
    rw [alv_2, hP, nn_n (by omega)] at ha h1 h0
    rw [stc_2, nn_n (by omega)] at h1
    have es : stc (aK i) (aP i) (aQ i) (aR i) v y = sn p y v := by rw [hk, stc_2, hP, nn_n (by omega)]
    have esn : sn p (uN4 y v x) v = sn p y v := sn_ext v (fun u hu' _ => hu u hu')
    have hdf : df p (uN4 y v x) v := df_ext (fun u hu' _ => (hu u hu').symm) ha
    have hsl := sn_lt (p := p) (x := y) v (fun u hu' _ => hy u hu')
    rw [es, eP, hP]
    refine And.intro (zi10 hi) ?_
    cases hb : p.testBit v
    · have e : sn p (uN4 y v x) (v + 1) = sn p y v := by
        show (if p.testBit v = true then _ else _) = _
        rw [if_neg (by rw [hb]; decide)]; exact esn
      rw [e] at h1
      exact br_t ((zx_b0 (by omega) (by omega)).mpr hb) (h1 (df_step hdf (fun z => absurd z (by rw [hb]; decide))) _ _ _ _)
    · refine br_f (fun z => by rw [zx_b0 (by omega) (by omega), hb] at z; exact absurd z (by decide)) (br_f (by rw [hk]; decide) ?_)
      cases hs : (sn p y v).testBit x
      · have e : sn p (uN4 y v x) (v + 1) = sn p y v ||| 2 ^ x := by
          show (if p.testBit v = true then sn p (uN4 y v x) v ||| 2 ^ uN4 y v x v else _) = _
          rw [if_pos hb, esn, uN4_s]
        refine br_t ((zx_b0 (by omega) (by omega)).mpr hs) ?_
        rw [zx_shl (by omega), zx_or, ← e]
        exact h1 (df_step hdf (fun _ => by rw [esn, uN4_s]; exact hs)) _ _ _ _
      · exact br_f (fun z => by rw [zx_b0 (by omega) (by omega), hs] at z; exact absurd z (by decide)) (h0 (df_bad hb (by rw [esn, uN4_s]; exact hs) (by omega)) _ _ _ _)
  · refine br_f (by rw [hk]; decide) (br_f (by rw [hk]; decide) (br_f (by rw [hk]; decide) (br_t hk ?_)))
    unfold wX_moveState_54
    have K := h1 (alv_S (Or.inr (Or.inr hk))) iC aC aG aI
    have es : stc (aK i) (aP i) (aQ i) (aR i) v y = hm p r y v := by rw [hk, stc_7, hP, hR, nn_n (by omega), nn_n (by omega)]
    have es' : stc (aK i) (aP i) (aQ i) (aR i) (v + 1) (uN4 y v x) = hm p r y v + ib (p.testBit v = true ∧ x = r) := by
      rw [hk, stc_7, hP, hR, nn_n (by omega), nn_n (by omega)]
      show hm p r (uN4 y v x) v + ib (p.testBit v = true ∧ uN4 y v x v = r) = _
      rw [hm_ext v (fun u hu' _ => hu u hu'), uN4_s]
    rw [es'] at K
    rw [es, eP, eR, hP, hR]
    refine And.intro (zi10 hi) ?_
    cases hb : p.testBit v
    · rw [ib_f (fun z => by rw [hb] at z; exact absurd z.1 (by decide))] at K
      exact br_t ((zx_b0 (by omega) (by omega)).mpr hb) K
    · refine br_f (fun z => by rw [zx_b0 (by omega) (by omega), hb] at z; exact absurd z (by decide)) (br_t hk ⟨zi10 hi, ?_⟩)
      by_cases e : x = r
      · rw [ib_t ⟨hb, e⟩] at K
        refine br_t (congrArg nI e) ?_
        rw [nI_1]
        exact K
      · rw [ib_f (fun z => e z.2)] at K
        exact br_f (fun z => e ((nI_eq (by omega) (by omega)).mp z)) K
  · have hk := isL_n (FL_is hL)
    exact br_f hk.1 (br_f hk.2.1 (br_f hk.2.2.1 (br_f hk.2.2.2 (wx_moveListed hi hv hx hL hy ha (fun z iC' aC' aI' => h1 z iC' aC' aG aI') (fun z iC' aC' aI' => h0 z iC' aC' aG aI')))))
/-- the states after a move -/
noncomputable def mvd (n rl : Nat) (K P Q R : Nat → Int32) (v : Nat) (y : Nat → Nat) (i : Nat) : Nat := iz (i < n ∧ rl.testBit i = true) (stc (K i) (P i) (Q i) (R i) v y) 0
theorem wx_moveStates {post : Int32 → SX → Prop} {n rl nd v x : Nat} {y : Nat → Nat} (hn : n ≤ 10) (hr : rl < 1024) (hnd : nd < 252) (hv : v < 4) (hx : x < 6) (hF : ∀ i, i < n → FT (aK i) (aP i) (aQ i) (aR i)) (hy : ∀ u, u < v → y u < 6)
    (hS : ∀ i, i < n → rl.testBit i = true → aT (10 * nd + i) = nI (stc (aK i) (aP i) (aQ i) (aR i) v y) ∧ alv (aK i) (aP i) (aQ i) (aR i) v y)
    (h1 : (∀ i, i < n → rl.testBit i = true → alv (aK i) (aP i) (aQ i) (aR i) (v + 1) (uN4 y v x)) → ∀ (iC' : Int32) (aC' aG' aI' aM' : Nat → Int32), (∀ i, i < 10 → aM' i = nI (mvd n rl aK aP aQ aR (v + 1) (uN4 y v x) i)) → post 1 (nI n, wN, nI rl, mO, tO, bS, dE, iC', aD, aK, aP, aQ, aR, aN, aW, aC', aG', aV, aS, aI', aT, aY, aU, aB, aM', aA))
    (h0 : (∃ i, i < n ∧ rl.testBit i = true ∧ ¬ alv (aK i) (aP i) (aQ i) (aR i) (v + 1) (uN4 y v x)) → ∀ (iC' : Int32) (aC' aG' aI' aM' : Nat → Int32), post 0 (nI n, wN, nI rl, mO, tO, bS, dE, iC', aD, aK, aP, aQ, aR, aN, aW, aC', aG', aV, aS, aI', aT, aY, aU, aB, aM', aA)) : wpX_moveStates post (nI n, wN, nI rl, mO, tO, bS, dE, iC, aD, aK, aP, aQ, aR, aN, aW, aC, aG, aV, aS, aI, aT, aY, aU, aB, aM, aA) (nI nd) (nI v) (nI x) := by
  have hu6 : ∀ u, u < v + 1 → uN4 y v x u < 6 := by
    intro u hu
    by_cases e : u = v
    · subst e; rw [uN4_s]; exact hx
    · rw [uN4_n e]; exact hy u (by omega)
  refine pk_loop (σ := Int32 × (Nat → Int32) × (Nat → Int32) × (Nat → Int32) × (Nat → Int32)) (fun k i s => wX_moveStates_3 post (nI nd) (nI v) (nI x) k (nI i) (nI n) wN (nI rl) mO tO bS dE s.1 aD aK aP aQ aR aN aW s.2.1 s.2.2.1 aV aS s.2.2.2.1 aT aY aU aB s.2.2.2.2 aA)
    (fun j s => (∀ i, i < n → i < j → rl.testBit i = true → alv (aK i) (aP i) (aQ i) (aR i) (v + 1) (uN4 y v x)) ∧ ∀ i, i < j → s.2.2.2.2 i = nI (mvd n rl aK aP aQ aR (v + 1) (uN4 y v x) i)) 10 0 (iC, aC, aG, aI, aM) (by omega) ⟨fun i _ hi => absurd hi (by omega), fun i hi => absurd hi (by omega)⟩
    (fun k s hI => br_t (nI_le (a := 10) (b := 10) (by omega) (by omega)) (h1 (fun i hi hb => hI.1 i hi (by omega) hb) _ _ _ _ _ hI.2))
    (fun k i s hi hI K => br_f (zc10 hi) ⟨zi10 hi, nm_r (e' := upd s.2.2.2.2 i (nI 0)) (by rw [zcl (by omega)]; exact congrArg (upd s.2.2.2.2 i) (zs_n (m := 0) (by omega))) ?_⟩)
  obtain ⟨i1, c1, g1, v1, m1⟩ := s
  dsimp only at hI ⊢
  obtain ⟨hA, hM⟩ := hI
  have hM' : ∀ j, j < i → m1 j = nI (mvd n rl aK aP aQ aR (v + 1) (uN4 y v x) j) := hM
  have non : ¬ (i < n ∧ rl.testBit i = true) → wX_moveStates_3 post (nI nd) (nI v) (nI x) k (nI (i + 1)) (nI n) wN (nI rl) mO tO bS dE i1 aD aK aP aQ aR aN aW c1 g1 aV aS v1 aT aY aU aB (upd m1 i (nI 0)) aA := by
    intro z
    refine K (i1, c1, g1, v1, upd m1 i (nI 0)) ⟨fun j hj hj' hb => ?_, zu_s (f := fun j => nI (mvd n rl aK aP aQ aR (v + 1) (uN4 y v x) j)) hM' ?_⟩
    · by_cases e : j = i
      · subst e; exact absurd ⟨hj, hb⟩ z
      · exact hA j hj (by omega) hb
    · show nI 0 = nI (mvd n rl aK aP aQ aR (v + 1) (uN4 y v x) i)
      unfold mvd
      rw [iz_f z]
  by_cases hin : i < n
  · refine br_f (nI_ge hin (by omega)) (wx_isRule hr hi ?_)
    by_cases hb : rl.testBit i = true
    · have eix : (10 : Int32) * nI nd + nI i = nI (10 * nd + i) := by rw [show (10 : Int32) = nI 10 from rfl, pk_mul, nI_add]
      refine br_f (fun z => bI_0.mp z hb) ⟨?_, ?_⟩
      · rw [eix]; exact vp_in_nI (by omega) (by omega)
      · rw [eix, zcl (i := 10 * nd + i) (by omega), (hS i hin hb).1]
        have hlt := stc_lt (v := v + 1) (hF i hin) (by omega) hu6
        refine wx_moveState hi hv hx (hF i hin) hy (hS i hin hb).2 (fun z iC' aC' aG' aI' => ?_) (fun z iC' aC' aG' aI' => ?_)
        · refine br_f (fun q => ?_) ⟨zi10 hi, nm_r (e' := upd (upd m1 i (nI 0)) i (nI (stc (aK i) (aP i) (aQ i) (aR i) (v + 1) (uN4 y v x)))) (by rw [zcl (by omega), zs_n16 (by omega)]) (nm_r (nI_1 i) (K (iC', aC', aG', aI', upd (upd m1 i (nI 0)) i (nI (stc (aK i) (aP i) (aQ i) (aR i) (v + 1) (uN4 y v x)))) ⟨fun j hj hj' hb' => ?_, zu_s (f := fun j => nI (mvd n rl aK aP aQ aR (v + 1) (uN4 y v x) j)) (fun j hj => ?_) ?_⟩))⟩
          · have := nI_pos (n := stc (aK i) (aP i) (aQ i) (aR i) (v + 1) (uN4 y v x)) (by omega)
            rw [q] at this
            exact this (by decide)
          · by_cases e : j = i
            · subst e; exact z
            · exact hA j hj (by omega) hb'
          · rw [pk_un (by omega)]; exact hM' j hj
          · show nI (stc (aK i) (aP i) (aQ i) (aR i) (v + 1) (uN4 y v x)) = nI (mvd n rl aK aP aQ aR (v + 1) (uN4 y v x) i)
            unfold mvd
            rw [iz_t ⟨hin, hb⟩]
        · exact br_t rfl (h0 ⟨i, hin, hb, z⟩ _ _ _ _ _)
    · exact br_t (bI_0.mpr hb) (nm_r (nI_1 i) (non (fun z => hb z.2)))
  · exact br_t (nI_le (by omega) (by omega)) (nm_r (nI_1 i) (non (fun z => hin z.1)))
end W11
end
section
/-! X: layers: nodes -/
section W12
variable {cC wN rU mO tO bS dE iC : Int32} {aD aK aP aQ aR aN aW aC aG aV aS aI aT aY aU aB aM aA : Nat → Int32}
set_option maxHeartbeats 1600000 in
theorem wx_allAccept {post : Int32 → Prop} {n rl : Nat} {y : Nat → Nat} (hn : n ≤ 10) (hr : rl < 1024) (hF : ∀ i, i < n → FT (aK i) (aP i) (aQ i) (aR i)) (hy : ∀ u, u < 4 → y u < 6)
    (hM : ∀ i, i < n → rl.testBit i = true → aM i = nI (stc (aK i) (aP i) (aQ i) (aR i) 4 y) ∧ alv (aK i) (aP i) (aQ i) (aR i) 4 y) (h : post (bI (HA n rl aK aP aQ aR y))) : wpX_allAccept post (nI n, wN, nI rl, mO, tO, bS, dE, iC, aD, aK, aP, aQ, aR, aN, aW, aC, aG, aV, aS, aI, aT, aY, aU, aB, aM, aA) := by
  refine pk_loop (σ := Unit) (fun k i _ => wX_allAccept_2 post (nI n) wN (nI rl) mO tO bS dE iC aD aK aP aQ aR aN aW aC aG aV aS aI aT aY aU aB aM aA k (nI i)) (fun i _ => ∀ j, j < i → rl.testBit j = true → hs (aK j) (aP j) (aQ j) (aR j) y) n 0 () (by omega) (fun j hj => absurd hj (by omega))
    (fun k _ hI => br_t (nI_le (by omega) (by omega)) (by rw [bI_t (p := HA n rl aK aP aQ aR y) hI] at h; exact h))
    (fun k i _ hi hI K => br_f (nI_ge hi (by omega)) (wx_isRule hr (by omega) ?_))
  by_cases hb : rl.testBit i = true
  · have i10 : i < 10 := by omega
    have eQ : aQ (nI i).toNatClampNeg = aQ i := congrArg aQ (zcl (by omega))
    have eM : aM (nI i).toNatClampNeg = nI (stc (aK i) (aP i) (aQ i) (aR i) 4 y) := (congrArg aM (zcl (by omega))).trans (hM i hi hb).1
    have yes : hs (aK i) (aP i) (aQ i) (aR i) y → wX_allAccept_2 post (nI n) wN (nI rl) mO tO bS dE iC aD aK aP aQ aR aN aW aC aG aV aS aI aT aY aU aB aM aA k (nI (i + 1)) := fun z => K () (lt_s hI (fun _ => z))
    have no : ¬ hs (aK i) (aP i) (aQ i) (aR i) y → post 0 := fun z => by rw [bI_f (fun q : HA n rl aK aP aQ aR y => z (q i hi hb))] at h; exact h
    refine br_f (fun z => bI_0.mp z hb) ⟨zi10 i10, nm_r (congrArg aK (zcl (by omega))) ⟨zi10 i10, nm_e ?_⟩⟩
    rw [eM]
    have hFi := hF i hi
    by_cases k0 : aK i = 0 ∨ aK i = 1
    · rcases hFi with ⟨hk, p, hp, hP, q1, q2⟩ | ⟨hk, -⟩ | ⟨hk, -⟩ | hL
      · have bd := sS_bd (p := p) (v := 4) (by omega) hy
        have e60 : nI (stc (aK i) (aP i) (aQ i) (aR i) 4 y) - 60 = zI (ps (dg p) y 4) := by
          rw [stc_S hk, hP, nn_n (by omega), zn_n, Int.toNat_of_nonneg bd.1, show (60 : Int32) = zI 60 from rfl, zn_sub]
          exact congrArg zI (by omega)
        rw [e60]
        rcases hk with e | e
        · refine br_t e ⟨zi10 i10, ?_⟩
          have hq : hs (aK i) (aP i) (aQ i) (aR i) y ↔ ps (dg p) y 4 ≤ (aQ i).toInt := by rw [e, hs_0, hP, nn_n (by omega)]
          rw [eQ]
          by_cases c : ps (dg p) y 4 ≤ (aQ i).toInt
          · refine br_t ((zn_lel (by omega) (by omega)).mpr c) ?_
            unfold wX_allAccept_54 wX_allAccept_71
            exact br_f (by rw [e]; decide) (br_f (by rw [e]; decide) (nm_r (nI_1 i) (yes (hq.mpr c))))
          · exact br_f (fun z => c ((zn_lel (by omega) (by omega)).mp z)) (no (fun z => c (hq.mp z)))
        · refine br_f (by rw [e]; decide) ?_
          unfold wX_allAccept_54
          refine br_t e ⟨zi10 i10, ?_⟩
          have hq : hs (aK i) (aP i) (aQ i) (aR i) y ↔ ps (dg p) y 4 = (aQ i).toInt := by rw [e, hs_1, hP, nn_n (by omega)]
          rw [eQ]
          by_cases c : ps (dg p) y 4 = (aQ i).toInt
          · refine br_t ((zn_eqr (by omega) (by omega)).mpr c) ?_
            unfold wX_allAccept_71
            exact br_f (by rw [e]; decide) (nm_r (nI_1 i) (yes (hq.mpr c)))
          · exact br_f (fun z => c ((zn_eqr (by omega) (by omega)).mp z)) (no (fun z => c (hq.mp z)))
      · rw [hk] at k0; exact absurd k0 (by decide)
      · rw [hk] at k0; exact absurd k0 (by decide)
      · have := isL_n (FL_is hL)
        rcases k0 with e | e
        · exact absurd e this.1
        · exact absurd e this.2.1
    · refine br_f (fun z => k0 (Or.inl z)) ?_
      unfold wX_allAccept_54
      refine br_f (fun z => k0 (Or.inr z)) ?_
      unfold wX_allAccept_71
      by_cases k7 : aK i = 7
      · refine br_t k7 ⟨zi10 i10, zi10 i10, ?_⟩
        rw [eM, eQ]
        rcases hFi with ⟨hk, -⟩ | ⟨hk, -⟩ | ⟨hk, p, q, r, hp, hq, hr', hP, hQ, hR⟩ | hL
        · exact absurd hk k0
        · rw [hk] at k7; exact absurd k7 (by decide)
        · have es : stc (aK i) (aP i) (aQ i) (aR i) 4 y = hm p r y 4 := by rw [hk, stc_7, hP, hR, nn_n (by omega), nn_n (by omega)]
          have hq' : hs (aK i) (aP i) (aQ i) (aR i) y ↔ hm p r y 4 = q := by rw [hk, hs_7, hP, hQ, hR, nn_n (by omega), nn_n (by omega), nn_n (by omega)]
          have hml := hm_le (p := p) (r := r) (x := y) 4
          rw [es, hQ]
          by_cases c : hm p r y 4 = q
          · exact br_t (congrArg nI c) (nm_r (nI_1 i) (yes (hq'.mpr c)))
          · exact br_f (fun z => c ((nI_eq (by omega) (by omega)).mp z)) (no (fun z => c (hq'.mp z)))
        · exact absurd k7 (isL_n (FL_is hL)).2.2.2
      · exact br_f k7 (nm_r (nI_1 i) (yes ((alv_4 hFi ⟨fun z => k0 (Or.inl z), fun z => k0 (Or.inr z), k7⟩).mp (hM i hi hb).2)))
  · exact br_t (bI_0.mpr hb) (nm_r (nI_1 i) (K () (lt_s hI (fun z => absurd z hb))))
theorem e10 (a b : Nat) : (10 : Int32) * nI a + nI b = nI (10 * a + b) := by rw [show (10 : Int32) = nI 10 from rfl, pk_mul, nI_add]
theorem wx_findNode {post : Int32 → Prop} {n to made : Nat} (hn : n ≤ 10) (ht : to + made ≤ 252) (h1 : ∀ j, j < made → (∀ i, i < n → aT (10 * (to + j) + i) = aM i) → post (nI (to + j))) (h0 : post (nI (to + made))) : wpX_findNode post (nI n, wN, rU, mO, tO, bS, dE, iC, aD, aK, aP, aQ, aR, aN, aW, aC, aG, aV, aS, aI, aT, aY, aU, aB, aM, aA) (nI to) (nI made) := by
  have K : ∃ k, wX_findNode_2 post (nI to) (nI made) (nI n) wN rU mO tO bS dE iC aD aK aP aQ aR aN aW aC aG aV aS aI aT aY aU aB aM aA k (nI (to + 0)) := by
    refine pk_loop (σ := Unit) (fun k j _ => wX_findNode_2 post (nI to) (nI made) (nI n) wN rU mO tO bS dE iC aD aK aP aQ aR aN aW aC aG aV aS aI aT aY aU aB aM aA k (nI (to + j))) (fun _ _ => True) made 0 () (by omega) trivial
      (fun k _ _ => ?_) (fun k j _ hj _ K => ?_)
    · refine br_t (by rw [nI_add]; exact nI_le (by omega) (by omega)) ?_
      rw [nI_add]; exact h0
    · refine br_f (by rw [nI_add]; exact nI_ge (by omega) (by omega)) ?_
      have fin : ∀ (x4 : Int32), (x4 = 0 ∨ (x4 = 1 ∧ ∀ i, i < n → aT (10 * (to + j) + i) = aM i)) → wX_findNode_64 post (wX_findNode_2 post (nI to) (nI made) (nI n) wN rU mO tO bS dE iC aD aK aP aQ aR aN aW aC aG aV aS aI aT aY aU aB aM aA k) (nI to) (nI made) (nI (to + j)) x4 (nI n) wN rU mO tO bS dE iC aD aK aP aQ aR aN aW aC aG aV aS aI aT aY aU aB aM aA := by
        intro x4 hx
        unfold wX_findNode_64
        rcases hx with rfl | ⟨rfl, e⟩
        · exact br_t rfl (nm_r (e' := nI (to + (j + 1))) (nI_1 _) (K () trivial))
        · exact br_f (by decide) (h1 j hj e)
      exact pk_loop (σ := Int32) (fun k2 i s => wX_findNode_15 post (wX_findNode_2 post (nI to) (nI made) (nI n) wN rU mO tO bS dE iC aD aK aP aQ aR aN aW aC aG aV aS aI aT aY aU aB aM aA k) (nI to) (nI made) (nI (to + j)) (nI n) wN rU mO tO bS dE iC aD aK aP aQ aR aN aW aC aG aV aS aI aT aY aU aB aM aA k2 s (nI i)) (fun i s => s = 0 ∨ (s = 1 ∧ ∀ u, u < i → aT (10 * (to + j) + u) = aM u)) n 0 1 (by omega) (Or.inr ⟨rfl, fun u hu => absurd hu (by omega)⟩)
        (fun k2 s hI => br_t (nI_le (by omega) (by omega)) (fin s hI))
        (fun k2 i s hi hI K2 => br_f (nI_ge hi (by omega)) (by
          rcases hI with rfl | ⟨rfl, e⟩
          · exact br_t rfl (fin 0 (Or.inl rfl))
          · refine br_f (by decide) ⟨?_, zi10 (by omega), ?_⟩
            · rw [e10]; exact vp_in_nI (by omega) (by omega)
            · rw [e10, zcl (i := 10 * (to + j) + i) (by omega), zcl (i := i) (by omega)]
              by_cases c : aT (10 * (to + j) + i) = aM i
              · exact br_t c (nm_r (nI_1 i) (K2 1 (Or.inr ⟨rfl, lt_s e c⟩)))
              · exact br_f c (nm_r (nI_1 i) (K2 0 (Or.inl rfl)))))
  exact K
theorem wx_openNode {post : SX → Prop} {pl : Nat} {mv : Nat → Nat} (hp : pl < 252) (hM : ∀ i, i < 10 → aM i = nI (mv i) ∧ mv i < 32768)
    (h : ∀ aT' : Nat → Int32, (∀ i, i < 10 → aT' (10 * pl + i) = nI (mv i)) → (∀ j, j < 10 * pl ∨ 10 * pl + 10 ≤ j → aT' j = aT j) → post (cC, wN, rU, mO, tO, bS, dE, iC, aD, aK, aP, aQ, aR, aN, aW, aC, aG, aV, aS, aI, aT', upd aY pl 0, upd aU pl 1000, upd aB pl 0, aM, aA)) : wpX_openNode post (cC, wN, rU, mO, tO, bS, dE, iC, aD, aK, aP, aQ, aR, aN, aW, aC, aG, aV, aS, aI, aT, aY, aU, aB, aM, aA) (nI pl) := by
  have vp : vp_in (nI pl) 252 := vp_in_nI hp (by omega)
  refine pk_loop (σ := Nat → Int32) (fun n i s => wX_openNode_2 post (nI pl) cC wN rU mO tO bS dE iC n (nI i) aD aK aP aQ aR aN aW aC aG aV aS aI s aY aU aB aM aA) (fun i s => (∀ u, u < i → s (10 * pl + u) = nI (mv u)) ∧ ∀ j, j < 10 * pl ∨ 10 * pl + 10 ≤ j → s j = aT j) 10 0 aT (by omega) ⟨fun u hu => absurd hu (by omega), fun _ _ => rfl⟩
    (fun n s hI => br_t (nI_le (a := 10) (b := 10) (by omega) (by omega)) ⟨vp, nm_r (e' := upd aY pl 0) (by rw [zcl (by omega)]) ⟨vp, nm_r (e' := upd aU pl 1000) (by rw [zcl (by omega)]) ⟨vp, nm_r (e' := upd aB pl 0) (by rw [zcl (by omega)]) (h s hI.1 hI.2)⟩⟩⟩)
    (fun n i s hi hI K => br_f (zc10 hi) ⟨zi10 hi, ?_, nm_r (e' := upd s (10 * pl + i) (nI (mv i))) ?_ (nm_r (nI_1 i) (K _ ⟨fun u hu => ?_, fun j hj => ?_⟩))⟩)
  · rw [e10]; exact vp_in_nI (by omega) (by omega)
  · rw [e10, zcl (i := 10 * pl + i) (by omega), zcl (i := i) (by omega), (hM i hi).1, zs_n (hM i hi).2]
  · by_cases e : u = i
    · subst e; rw [pk_us]
    · rw [pk_un (by omega)]; exact hI.1 u (by omega)
  · rw [pk_un (by omega)]; exact hI.2 j hj
/-- what adding one node's ways to another's does to the sums -/
def AW (s c s2 c2 s' c' : Int32) : Prop := (¬ s2 ≤ s ∧ s' = s ∧ c' = c) ∨ (s2 ≤ s ∧ s ≤ s2 ∧ s' = s2 ∧ c' = c + c2) ∨ (s2 ≤ s ∧ ¬ s ≤ s2 ∧ s' = s2 ∧ c' = 0 + c2)
theorem wx_addWays {post : SX → Prop} {pl nd : Nat} {mo : Int32} (hp : pl < 252) (hd : nd < 252) (hne : nd ≠ pl)
    (h : ∀ aU' aB' : Nat → Int32, (∀ j, j ≠ pl → aU' j = aU j ∧ aB' j = aB j) → AW (aU pl) (aB pl) (aU nd + mo) (aB nd) (aU' pl) (aB' pl) → post (cC, wN, rU, mO, tO, bS, dE, iC, aD, aK, aP, aQ, aR, aN, aW, aC, aG, aV, aS, aI, aT, upd aY pl (aY pl + aY nd), aU', aB', aM, aA)) : wpX_addWays post (cC, wN, rU, mO, tO, bS, dE, iC, aD, aK, aP, aQ, aR, aN, aW, aC, aG, aV, aS, aI, aT, aY, aU, aB, aM, aA) (nI pl) (nI nd) mo := by
  have vp : vp_in (nI pl) 252 := vp_in_nI hp (by omega)
  have vd : vp_in (nI nd) 252 := vp_in_nI hd (by omega)
  have ep : (nI pl).toNatClampNeg = pl := zcl (by omega)
  have ed : (nI nd).toNatClampNeg = nd := zcl (by omega)
  refine And.intro vp ⟨vd, vp, nm_r (e' := upd aY pl (aY pl + aY nd)) (by rw [ep, ed]) ⟨vd, nm_r (e' := aU nd + mo) (by rw [ed]) ⟨vp, ?_⟩⟩⟩
  rw [ep]
  by_cases c1 : aU nd + mo ≤ aU pl
  · refine br_t c1 ⟨vp, ?_⟩
    by_cases c2 : aU pl ≤ aU nd + mo
    · refine br_t c2 (And.intro vp (nm_r (e' := upd aU pl (aU nd + mo)) (by rw [ep]) ⟨vp, vd, vp, nm_r (e' := upd aB pl (aB pl + aB nd)) (by rw [ep, ed]) (h _ _ (fun j hj => ⟨pk_un hj, pk_un hj⟩) (Or.inr (Or.inl ⟨c1, c2, pk_us, pk_us⟩)))⟩))
    · refine br_f c2 ⟨vp, nm_r (e' := upd aB pl 0) rfl (And.intro vp (nm_r (e' := upd aU pl (aU nd + mo)) (by rw [ep]) ⟨vp, vd, vp, nm_r (e' := upd (upd aB pl 0) pl (0 + aB nd)) (by rw [ep, ed, pk_us, pk_un hne]) (h _ _ (fun j hj => ⟨pk_un hj, (pk_un hj).trans (pk_un hj)⟩) (Or.inr (Or.inr ⟨c1, c2, pk_us, pk_us⟩)))⟩))⟩
  · exact br_f c1 (h _ _ (fun j hj => ⟨rfl, rfl⟩) (Or.inl ⟨c1, rfl, rfl⟩))
set_option maxHeartbeats 1600000 in
theorem wx_copyLayer {post : SX → Prop} {cnt : Nat} (hc : cnt ≤ 6)
    (h : ∀ aT' aY' aU' aB' : Nat → Int32, (∀ k, k < cnt → (∀ i, i < 10 → aT' (10 * k + i) = vp_nar .short (aT (10 * (216 + k) + i))) ∧ aY' k = aY (216 + k) ∧ aU' k = aU (216 + k) ∧ aB' k = aB (216 + k)) → post (cC, wN, rU, mO, tO, bS, dE, iC, aD, aK, aP, aQ, aR, aN, aW, aC, aG, aV, aS, aI, aT', aY', aU', aB', aM, aA)) :
    wpX_copyLayer post (cC, wN, rU, mO, tO, bS, dE, iC, aD, aK, aP, aQ, aR, aN, aW, aC, aG, aV, aS, aI, aT, aY, aU, aB, aM, aA) 216 0 (nI cnt) := by
  have z0 : ∀ k, (0 : Int32) + nI k = nI k := fun k => by rw [show (0 : Int32) = nI 0 from rfl, nI_add, Nat.zero_add]
  have z2 : ∀ k, (216 : Int32) + nI k = nI (216 + k) := fun k => by rw [show (216 : Int32) = nI 216 from rfl, nI_add]
  refine pk_loop (σ := (Nat → Int32) × (Nat → Int32) × (Nat → Int32) × (Nat → Int32)) (fun n k s => wX_copyLayer_3 post 216 0 (nI cnt) cC wN rU mO tO bS dE iC n (nI k) aD aK aP aQ aR aN aW aC aG aV aS aI s.1 s.2.1 s.2.2.1 s.2.2.2 aM aA)
    (fun k s => (∀ j, j < k → (∀ i, i < 10 → s.1 (10 * j + i) = vp_nar .short (aT (10 * (216 + j) + i))) ∧ s.2.1 j = aY (216 + j) ∧ s.2.2.1 j = aU (216 + j) ∧ s.2.2.2 j = aB (216 + j)) ∧ (∀ j, 100 ≤ j → s.1 j = aT j ∧ s.2.1 j = aY j ∧ s.2.2.1 j = aU j ∧ s.2.2.2 j = aB j)) cnt 0 (aT, aY, aU, aB) (by omega)
    ⟨fun j hj => absurd hj (by omega), fun j hj => ⟨rfl, rfl, rfl, rfl⟩⟩
    (fun n s hI => br_t (nI_le (by omega) (by omega)) (h s.1 s.2.1 s.2.2.1 s.2.2.2 hI.1)) (fun n k s hk hI K => br_f (nI_ge hk (by omega)) ?_)
  obtain ⟨t1, y1, u1, b1⟩ := s
  obtain ⟨hI1, hI2⟩ := hI
  have hI1' : ∀ j, j < k → (∀ i, i < 10 → t1 (10 * j + i) = vp_nar .short (aT (10 * (216 + j) + i))) ∧ y1 j = aY (216 + j) ∧ u1 j = aU (216 + j) ∧ b1 j = aB (216 + j) := hI1
  have hI2' : ∀ j, 100 ≤ j → t1 j = aT j ∧ y1 j = aY j ∧ u1 j = aU j ∧ b1 j = aB j := hI2
  have vp : vp_in (nI k) 252 := vp_in_nI (by omega) (by omega)
  have vq : vp_in (nI (216 + k)) 252 := vp_in_nI (by omega) (by omega)
  refine pk_loop (σ := Nat → Int32) (fun n2 i s => wX_copyLayer_12 post (wX_copyLayer_3 post 216 0 (nI cnt) cC wN rU mO tO bS dE iC n) 216 0 (nI cnt) (nI k) cC wN rU mO tO bS dE iC n2 (nI i) aD aK aP aQ aR aN aW aC aG aV aS aI s y1 u1 b1 aM aA)
    (fun i s => (∀ j, j < k → ∀ u, u < 10 → s (10 * j + u) = vp_nar .short (aT (10 * (216 + j) + u))) ∧ (∀ u, u < i → s (10 * k + u) = vp_nar .short (aT (10 * (216 + k) + u))) ∧ ∀ j, 100 ≤ j → s j = aT j) 10 0 t1 (by omega)
    ⟨fun j hj => (hI1' j hj).1, fun u hu => absurd hu (by omega), fun j hj => (hI2' j hj).1⟩
    (fun n2 s hS => br_t (nI_le (a := 10) (b := 10) (by omega) (by omega)) ?_) (fun n2 i s hi hS K2 => br_f (zc10 hi) ?_)
  · rw [z0, z2]
    have e1 : (nI k).toNatClampNeg = k := zcl (by omega)
    have e2 : (nI (216 + k)).toNatClampNeg = 216 + k := zcl (by omega)
    refine ⟨vq, vp, nm_r (e' := upd y1 k (aY (216 + k))) (by rw [e1, e2, (hI2' (216 + k) (by omega)).2.1]) ⟨vq, vp, nm_r (e' := upd u1 k (aU (216 + k))) (by rw [e1, e2, (hI2' (216 + k) (by omega)).2.2.1]) ⟨vq, vp, nm_r (e' := upd b1 k (aB (216 + k))) (by rw [e1, e2, (hI2' (216 + k) (by omega)).2.2.2]) (nm_r (nI_1 k) (K (s, upd y1 k (aY (216 + k)), upd u1 k (aU (216 + k)), upd b1 k (aB (216 + k))) ⟨fun j hj => ?_, fun j hj => ?_⟩))⟩⟩⟩
    · show (∀ i, i < 10 → s (10 * j + i) = vp_nar .short (aT (10 * (216 + j) + i))) ∧ upd y1 k (aY (216 + k)) j = aY (216 + j) ∧ upd u1 k (aU (216 + k)) j = aU (216 + j) ∧ upd b1 k (aB (216 + k)) j = aB (216 + j)
      by_cases e : j = k
      · subst e
        rw [pk_us, pk_us, pk_us]
        exact ⟨hS.2.1, rfl, rfl, rfl⟩
      · rw [pk_un e, pk_un e, pk_un e]
        exact ⟨hS.1 j (by omega), (hI1' j (by omega)).2⟩
    · show s j = aT j ∧ upd y1 k (aY (216 + k)) j = aY j ∧ upd u1 k (aU (216 + k)) j = aU j ∧ upd b1 k (aB (216 + k)) j = aB j
      rw [pk_un (by omega), pk_un (by omega), pk_un (by omega)]
      exact ⟨hS.2.2 j hj, (hI2' j hj).2⟩
  · rw [z0, z2, e10, e10]
    refine ⟨vp_in_nI (by omega) (by omega), vp_in_nI (by omega) (by omega), nm_r (e' := upd s (10 * k + i) (vp_nar .short (aT (10 * (216 + k) + i)))) ?_ (nm_r (nI_1 i) (K2 _ ⟨fun j hj u hu => ?_, fun u hu => ?_, fun j hj => ?_⟩))⟩
    · rw [zcl (i := 10 * k + i) (by omega), zcl (i := 10 * (216 + k) + i) (by omega), hS.2.2 _ (by omega)]
    · rw [pk_un (by omega)]; exact hS.1 j hj u hu
    · by_cases e : u = i
      · subst e; rw [pk_us]
      · rw [pk_un (by omega)]; exact hS.2.1 u (by omega)
    · rw [pk_un (by omega)]; exact hS.2.2 j hj
end W12
end
section
/-! X: layers: the next layer -/
section W13
variable {cC wN rU mO tO bS dE iC : Int32} {aD aK aP aQ aR aN aW aC aG aV aS aI aT aY aU aB aM aA : Nat → Int32}
def NDb (md v : Nat) (aU aB : Nat → Int32) (nd : Nat) (l : List Int) : Prop :=
  md = 2 → ∃ (s : Int) (c : Nat), aU nd = zI s ∧ aB nd = nI c ∧ (∀ t, t ∈ l → s ≤ t) ∧ lS l (dl s) = c ∧ 0 < c ∧ -15 * (v : Int) ≤ s ∧ s ≤ 15 * (v : Int)
/-- a node: the states of the first values y, the sums l of all that lead to it -/
def ND (n rl md : Nat) (K P Q R : Nat → Int32) (v : Nat) (aT aY aU aB : Nat → Int32) (nd : Nat) (y : Nat → Nat) (l : List Int) : Prop :=
  (∀ i, i < n → rl.testBit i = true → aT (10 * nd + i) = nI (stc (K i) (P i) (Q i) (R i) v y) ∧ alv (K i) (P i) (Q i) (R i) v y) ∧ (∀ u, u < v → y u < 6) ∧ aY nd = nI l.length ∧ NDb md v aU aB nd l
theorem ND_fr {n rl md : Nat} {K P Q R : Nat → Int32} {v : Nat} {aT aY aU aB aT' aY' aU' aB' : Nat → Int32} {nd : Nat} {y : Nat → Nat} {l : List Int} (hn : n ≤ 10) (h : ND n rl md K P Q R v aT aY aU aB nd y l)
    (eT : ∀ i, i < 10 → aT' (10 * nd + i) = aT (10 * nd + i)) (eY : aY' nd = aY nd) (eU : aU' nd = aU nd) (eB : aB' nd = aB nd) : ND n rl md K P Q R v aT' aY' aU' aB' nd y l := by
  obtain ⟨h1, h2, h3, h4⟩ := h
  refine ⟨fun i hi hb => ?_, h2, by rw [eY]; exact h3, fun e => ?_⟩
  · rw [eT i (by omega)]; exact h1 i hi hb
  · rw [eU, eB]; exact h4 e
theorem EQ_of {n rl v : Nat} {K P Q R : Nat → Int32} {y y' : Nat → Nat} (hF : ∀ i, i < n → FT (K i) (P i) (Q i) (R i)) (hv : v ≤ 4) (hy : ∀ u, u < v → y u < 6) (hy' : ∀ u, u < v → y' u < 6)
    (h : ∀ i, i < n → rl.testBit i = true → alv (K i) (P i) (Q i) (R i) v y ∧ alv (K i) (P i) (Q i) (R i) v y' ∧ stc (K i) (P i) (Q i) (R i) v y = stc (K i) (P i) (Q i) (R i) v y') : EQ (HA n rl K P Q R) v y y' := by
  intro z
  constructor
  · intro q i hi hb
    obtain ⟨a, a', e⟩ := h i hi hb
    exact hs_mx (hF i hi) hv hy hy' a a' e (q i hi hb)
  · intro q i hi hb
    obtain ⟨a, a', e⟩ := h i hi hb
    exact hs_mx (hF i hi) hv hy' hy a' a e.symm (q i hi hb)
/-- adding ways, by numbers -/
theorem AW_m {s1 s2 mo : Int} {c1 c2 : Nat} {l1 l2 : List Int} {U' B' : Int32} (h : AW (zI s1) (nI c1) (zI s2 + zI mo) (nI c2) U' B') (b1 : -1000 ≤ s1 ∧ s1 ≤ 1000) (b2 : -60 ≤ s2 + mo ∧ s2 + mo ≤ 60)
    (m1 : ∀ t, t ∈ l1 → s1 ≤ t) (m2 : ∀ t, t ∈ l2 → s2 ≤ t) (k1 : lS l1 (dl s1) = c1) (k2 : lS l2 (dl s2) = c2) (p2 : 0 < c2) (p1 : 0 < c1 ∨ s1 = 1000) :
    ∃ (s : Int) (c : Nat), U' = zI s ∧ B' = nI c ∧ (∀ t, t ∈ l1 ++ l2.map (fun t => t + mo) → s ≤ t) ∧ lS (l1 ++ l2.map (fun t => t + mo)) (dl s) = c ∧ 0 < c ∧ s ≤ s2 + mo ∧ (s = s1 ∨ s = s2 + mo) := by
  have e2 : ∀ s, lS (l2.map (fun t => t + mo)) (dl s) = lS l2 (fun t => dl s (t + mo)) := fun s => lS_map (fun t => t + mo) l2
  have e3 : lS (l2.map (fun t => t + mo)) (dl (s2 + mo)) = c2 := by
    rw [e2, ← k2]
    refine lS_c l2 (fun t _ => ?_)
    unfold dl
    by_cases q : t = s2
    · rw [if_pos q, if_pos (by omega)]
    · rw [if_neg q, if_neg (by omega)]
  have m3 : ∀ t, t ∈ l2.map (fun t => t + mo) → s2 + mo ≤ t := by
    intro t ht
    obtain ⟨u, hu, rfl⟩ := List.mem_map.mp ht
    have := m2 u hu
    show s2 + mo ≤ u + mo
    omega
  unfold AW at h
  rw [zn_add, zn_le (by omega) (by omega) (by omega) (by omega), zn_le (by omega) (by omega) (by omega) (by omega)] at h
  rcases h with ⟨c, eU, eB⟩ | ⟨c, d, eU, eB⟩ | ⟨c, d, eU, eB⟩
  · refine ⟨s1, c1, eU, eB, fun t ht => ?_, ?_, ?_, by omega, Or.inl rfl⟩
    · rcases List.mem_append.mp ht with q | q
      · exact m1 t q
      · have := m3 t q; omega
    · rw [lS_app, k1, lS_0 _ (fun t ht => dl_n (by have := m3 t ht; omega))]
      rfl
    · rcases p1 with q | q <;> omega
  · have ee : s1 = s2 + mo := by omega
    refine ⟨s2 + mo, c1 + c2, eU, by rw [eB, nI_add], fun t ht => ?_, ?_, by omega, by omega, Or.inr rfl⟩
    · rcases List.mem_append.mp ht with q | q
      · have := m1 t q; omega
      · exact m3 t q
    · rw [lS_app, e3, ← ee, k1]
  · refine ⟨s2 + mo, c2, eU, by rw [eB, show (0 : Int32) = nI 0 from rfl, nI_add, Nat.zero_add], fun t ht => ?_, ?_, p2, by omega, Or.inr rfl⟩
    · rcases List.mem_append.mp ht with q | q
      · have := m1 t q; omega
      · exact m3 t q
    · rw [lS_app, e3, lS_0 l1 (fun t ht => dl_n (by have := m1 t ht; omega)), Nat.zero_add]
def uY (Y : Nat → Nat → Nat) (j : Nat) (y : Nat → Nat) : Nat → Nat → Nat := fun k => if k = j then y else Y k
def uL (L : Nat → List Int) (j : Nat) (l : List Int) : Nat → List Int := fun k => if k = j then l else L k
theorem uY_s {Y : Nat → Nat → Nat} {j : Nat} {y : Nat → Nat} : uY Y j y j = y := if_pos rfl
theorem uY_n {Y : Nat → Nat → Nat} {j k : Nat} {y : Nat → Nat} (h : k ≠ j) : uY Y j y k = Y k := if_neg h
theorem uL_s {L : Nat → List Int} {j : Nat} {l : List Int} : uL L j l j = l := if_pos rfl
theorem uL_n {L : Nat → List Int} {j k : Nat} {l : List Int} (h : k ≠ j) : uL L j l k = L k := if_neg h
theorem Vl_add {H : (Nat → Nat) → Prop} {w : Nat → Int} {m : Nat → Nat} {r cnt j : Nat} {Y : Nat → Nat → Nat} {L : Nat → List Int} {l : List Int} {f : Int → Nat} (hj : j < cnt) :
    Vl H w m r cnt Y (uL L j (L j ++ l)) f = Vl H w m r cnt Y L f + lS l (fun t => Cm H w m r (Y j) (fun s => f (t + s))) := by
  have e : lS l (fun t => Cm H w m r (Y j) (fun s => f (t + s))) = sN cnt (fun k => if k = j then lS l (fun t => Cm H w m r (Y j) (fun s => f (t + s))) else 0) := by
    rw [sN_one cnt hj (fun a _ hne => if_neg hne)]
    exact (if_pos rfl).symm
  unfold Vl
  rw [e, ← sN_add]
  refine sN_c cnt (fun k _ => ?_)
  by_cases ek : k = j
  · subst ek
    rw [uL_s, lS_app, if_pos rfl]
  · rw [uL_n ek, if_neg ek, Nat.add_zero]
theorem Vl_new {H : (Nat → Nat) → Prop} {w : Nat → Int} {m : Nat → Nat} {r cnt : Nat} {Y : Nat → Nat → Nat} {L : Nat → List Int} {y : Nat → Nat} {l : List Int} {f : Int → Nat} :
    Vl H w m r (cnt + 1) (uY Y cnt y) (uL L cnt l) f = Vl H w m r cnt Y L f + lS l (fun t => Cm H w m r y (fun s => f (t + s))) := by
  show sN cnt (fun k => lS (uL L cnt l k) (fun t => Cm H w m r (uY Y cnt y k) (fun s => f (t + s)))) + lS (uL L cnt l cnt) (fun t => Cm H w m r (uY Y cnt y cnt) (fun s => f (t + s))) = _
  rw [uL_s, uY_s, sN_c cnt (g := fun k => lS (L k) (fun t => Cm H w m r (Y k) (fun s => f (t + s)))) (fun k hk => by show lS (uL L cnt l k) (fun t => Cm H w m r (uY Y cnt y k) (fun s => f (t + s))) = _; rw [uL_n (by omega), uY_n (by omega)])]
  rfl
/-- between two values: b of the pairs of a node and a value are done -/
def NI (n rl md : Nat) (K P Q R : Nat → Int32) (w : Nat → Int) (m : Nat → Nat) (A : (Int → Nat) → Nat) (v fr cnt to : Nat) (Y : Nat → Nat → Nat) (L : Nat → List Int) (b made : Nat) (Y' : Nat → Nat → Nat) (L' : Nat → List Int) (aT aY aU aB : Nat → Int32) : Prop :=
  made ≤ b ∧ (∀ k, k < cnt → ND n rl md K P Q R v aT aY aU aB (fr + k) (Y k) (L k)) ∧ (∀ k, k < made → ND n rl md K P Q R (v + 1) aT aY aU aB (to + k) (Y' k) (L' k)) ∧
  ∀ f, A f = Vl (HA n rl K P Q R) w m (3 - v) made Y' L' f + tS (6 * cnt) (fun a => Gx (HA n rl K P Q R) w m (3 - v) (Y (a / 6)) (L (a / 6)) (a % 6) f) b
set_option maxHeartbeats 3200000 in
theorem wx_nL17 {post : Int32 → SX → Prop} {J : Int32 → Int32 → Int32 → Int32 → Int32 → Int32 → Int32 → Int32 → Int32 → Int32 → (Nat → Int32) → (Nat → Int32) → (Nat → Int32) → (Nat → Int32) → (Nat → Int32) → (Nat → Int32) → (Nat → Int32) → (Nat → Int32) → (Nat → Int32) → (Nat → Int32) → (Nat → Int32) → (Nat → Int32) → (Nat → Int32) → (Nat → Int32) → (Nat → Int32) → (Nat → Int32) → (Nat → Int32) → (Nat → Int32) → Prop} {n rl md v fr cnt to k : Nat} {m : Nat → Nat} {w : Nat → Int} {A : (Int → Nat) → Nat} {Y : Nat → Nat → Nat} {L : Nat → List Int} (hn : n ≤ 10) (hr : rl < 1024) (hF : ∀ i, i < n → FT (aK i) (aP i) (aQ i) (aR i)) (hN : NN m aN) (hm : ∀ v, v < 4 → m v < 64)
    (hw : md = 2 → ∀ v, v < 4 → aW v = zI (w v) ∧ -3 ≤ w v ∧ w v ≤ 3) (hv : v < 3) (hdis : (fr + cnt ≤ to ∧ to + 6 * cnt ≤ 252) ∨ (to + 6 * cnt ≤ fr ∧ fr + cnt ≤ 252)) (hk : k < cnt)
    (hJ : ∀ (made : Nat) (Y' : Nat → Nat → Nat) (L' : Nat → List Int) (iC : Int32) (aC aG aI aT aY aU aB aM : Nat → Int32), NI n rl md aK aP aQ aR w m A v fr cnt to Y L (6 * k + 6) made Y' L' aT aY aU aB → J (nI made) (nI (fr + (k + 1))) (nI n) wN (nI rl) mO tO bS dE iC aD aK aP aQ aR aN aW aC aG aV aS aI aT aY aU aB aM aA) :
    ∀ (d x made : Nat) (Y' : Nat → Nat → Nat) (L' : Nat → List Int) (iC : Int32) (aC aG aI aT aY aU aB aM : Nat → Int32), x + d = 6 → NI n rl md aK aP aQ aR w m A v fr cnt to Y L (6 * k + x) made Y' L' aT aY aU aB →
      wX_nextLayer_17 post J (nI v) (nI fr) (nI cnt) (nI to) (nI (fr + k)) (d + 1) (nI made) (nI x) (nI n) wN (nI rl) mO tO bS dE iC aD aK aP aQ aR aN aW aC aG aV aS aI aT aY aU aB aM aA := by
  have hx : ∀ x y : Nat → Nat, (∀ v, v < 4 → x v = y v) → (HA n rl aK aP aQ aR) x → (HA n rl aK aP aQ aR) y := fun x y e => HA_ext hF e
  have e3 : 3 - (3 - v) = v := by omega
  have e4 : 4 - (3 - v) = v + 1 := by omega
  intro d
  induction d with
  | zero =>
    intro x made Y' L' iC aC aG aI aT aY aU aB aM hxd hI
    have e6 : x = 6 := by omega
    subst e6
    exact br_t (nI_le (a := 6) (b := 6) (by omega) (by omega)) (nm_r (e' := nI (fr + (k + 1))) (nI_1 _) (hJ made Y' L' iC aC aG aI aT aY aU aB aM hI))
  | succ d ih =>
    intro x made Y' L' iC aC aG aI aT aY aU aB aM hxd hI
    obtain ⟨hmd, hS, hT, hV⟩ := hI
    have hx6 : x < 6 := by omega
    have hb : 6 * k + x < 6 * cnt := by omega
    have ev : ∀ f, tS (6 * cnt) (fun a => Gx (HA n rl aK aP aQ aR) w m (3 - v) (Y (a / 6)) (L (a / 6)) (a % 6) f) (6 * k + x) = tS (6 * cnt) (fun a => Gx (HA n rl aK aP aQ aR) w m (3 - v) (Y (a / 6)) (L (a / 6)) (a % 6) f) (6 * k + (x + 1)) + Gx (HA n rl aK aP aQ aR) w m (3 - v) (Y k) (L k) x f := by
      intro f
      rw [tS_s hb, show (6 * k + x) / 6 = k by omega, show (6 * k + x) % 6 = x by omega]
      rfl
    have skip : (∀ f, Gx (HA n rl aK aP aQ aR) w m (3 - v) (Y k) (L k) x f = 0) → NI n rl md aK aP aQ aR w m A v fr cnt to Y L (6 * k + (x + 1)) made Y' L' aT aY aU aB := fun z => ⟨by omega, hS, hT, fun f => by rw [hV f, ev f, z f]; rfl⟩
    have eN : aN (nI v).toNatClampNeg = nI (m v) := by rw [zcl (by omega)]; exact hN v (by omega)
    have hmv := hm v (by omega)
    obtain ⟨s1, s2, s3, s4⟩ := hS k hk
    refine br_f (zc6 hx6) ⟨zi4 (by omega), ?_⟩
    rw [eN]
    cases hbit : (m v).testBit x
    · exact br_t ((zx_b0 (by omega) (by omega)).mpr hbit) (nm_r (nI_1 x) (ih (x + 1) made Y' L' iC aC aG aI aT aY aU aB aM (by omega) (skip (fun f => Gx_0 (by rw [e3]; exact hbit)))))
    · refine br_f (fun z => by rw [zx_b0 (by omega) (by omega), hbit] at z; exact absurd z (by decide)) ?_
      have hu6 : ∀ u, u < v + 1 → uN4 (Y k) v x u < 6 := by
        intro u hu
        by_cases e : u = v
        · subst e; rw [uN4_s]; exact hx6
        · rw [uN4_n e]; exact s2 u (by omega)
      refine wx_moveStates (y := Y k) hn hr (by omega) (by omega) hx6 hF s2 s1 (fun hal iC' aC' aG' aI' aM' hM => ?_) (fun hdead iC' aC' aG' aI' aM' => ?_)
      · refine br_f (by decide) ?_
        have hto : to + made < 252 := by omega
        have h10 : ∀ i, i < n → rl.testBit i = true → mvd n rl aK aP aQ aR (v + 1) (uN4 (Y k) v x) i = stc (aK i) (aP i) (aQ i) (aR i) (v + 1) (uN4 (Y k) v x) := fun i hi hbi => iz_t ⟨hi, hbi⟩
        have hM3 : ∀ i, i < 10 → aM' i = nI (mvd n rl aK aP aQ aR (v + 1) (uN4 (Y k) v x) i) ∧ mvd n rl aK aP aQ aR (v + 1) (uN4 (Y k) v x) i < 32768 := by
          intro i hi
          refine ⟨hM i hi, ?_⟩
          unfold mvd
          by_cases z : i < n ∧ rl.testBit i = true
          · rw [iz_t z]
            have := stc_lt (v := v + 1) (hF i z.1) (by omega) hu6
            omega
          · rw [iz_f z]; omega
        have tw : ∀ f, Gx (HA n rl aK aP aQ aR) w m (3 - v) (Y k) (L k) x f = lS ((L k).map (fun t => t + w v * (x : Int))) (fun t => Cm (HA n rl aK aP aQ aR) w m (3 - v) (uN4 (Y k) v x) (fun s => f (t + s))) := by
          intro f
          have := Gx_t (H := (HA n rl aK aP aQ aR)) (w := w) (m := m) (r := 3 - v) (y := Y k) (y' := uN4 (Y k) v x) (l := L k) (x := x) (h := f) (by rw [e3]; exact hbit) (fun f => by rw [e3])
          rw [e3] at this
          exact this
        have emo : md = 2 → aW (nI v).toNatClampNeg * nI x = zI (w v * (x : Int)) := fun e => by rw [zcl (by omega), (hw e v (by omega)).1, zn_mulN]
        have bmo : md = 2 → -15 ≤ w v * (x : Int) ∧ w v * (x : Int) ≤ 15 := fun e => mul_bd (hw e v (by omega)).2.1 (hw e v (by omega)).2.2 hx6
        refine wx_findNode hn (by omega) (fun j hj hsame => ?_) ?_
        · refine br_f (fun z => ?_) ?_
          · rw [nI_add, nI_eq (by omega) (by omega)] at z; omega
          · unfold wX_nextLayer_82
            obtain ⟨t1, t2, t3, t4⟩ := hT j hj
            have heq : EQ (HA n rl aK aP aQ aR) (v + 1) (uN4 (Y k) v x) (Y' j) := by
              refine EQ_of hF (by omega) hu6 t2 (fun i hi hbi => ⟨hal i hi hbi, (t1 i hi hbi).2, ?_⟩)
              have q := hsame i hi
              rw [(t1 i hi hbi).1, hM i (by omega), h10 i hi hbi] at q
              exact ((nI_eq (by have := stc_lt (v := v + 1) (hF i hi) (by omega) t2; omega) (by have := stc_lt (v := v + 1) (hF i hi) (by omega) hu6; omega)).mp q).symm
            refine And.intro (zi4 (by omega)) (wx_addWays (by omega) (by omega) (by omega) (fun aU' aB' hfr hAW => nm_r (nI_1 x) (ih (x + 1) made Y' (uL L' j (L' j ++ (L k).map (fun t => t + w v * (x : Int)))) iC' aC' aG' aI' aT (upd aY (to + j) (aY (to + j) + aY (fr + k))) aU' aB' aM' (by omega) ⟨by omega, fun k' hk' => ?_, fun k' hk' => ?_, fun f => ?_⟩)))
            · exact ND_fr hn (hS k' hk') (fun _ _ => rfl) (pk_un (by omega)) (hfr _ (by omega)).1 (hfr _ (by omega)).2
            · by_cases ej : k' = j
              · subst ej
                rw [uL_s]
                refine ⟨t1, t2, ?_, fun e => ?_⟩
                · rw [pk_us, t3, s3, nI_add, List.length_append, List.length_map]
                · obtain ⟨sa, ca, a1, a2, a3, a4, a5, a6, a7⟩ := t4 e
                  obtain ⟨sb, cb', b1, b2, b3, b4, b5, b6, b7⟩ := s4 e
                  have bm := bmo e
                  rw [a1, a2, b1, b2, emo e] at hAW
                  obtain ⟨s', c', r1, r2, r3, r4, r5, r6, r7⟩ := AW_m hAW (by omega) (by omega) a3 b3 a4 b4 b5 (Or.inl a5)
                  refine ⟨s', c', r1, r2, r3, r4, r5, ?_, ?_⟩
                  · rcases r7 with q | q <;> omega
                  · omega
              · rw [uL_n ej]
                exact ND_fr hn (hT k' hk') (fun _ _ => rfl) (pk_un (by omega)) (hfr _ (by omega)).1 (hfr _ (by omega)).2
            · rw [hV f, ev f, Vl_add hj, tw f]
              have : ∀ g, Cm (HA n rl aK aP aQ aR) w m (3 - v) (uN4 (Y k) v x) g = Cm (HA n rl aK aP aQ aR) w m (3 - v) (Y' j) g := fun g => Cm_eq hx (3 - v) (by omega) _ _ g (by rw [e4]; exact heq)
              rw [lS_c ((L k).map (fun t => t + w v * (x : Int))) (fun t _ => this (fun s => f (t + s)))]
              omega
        · refine br_t (by rw [nI_add]) (nm_r (nI_1 made) (wx_openNode hto hM3 (fun aT' hT1 hT2 => ?_)))
          unfold wX_nextLayer_82
          refine And.intro (zi4 (by omega)) (wx_addWays (by omega) (by omega) (by omega) (fun aU' aB' hfr hAW => nm_r (nI_1 x) (ih (x + 1) (made + 1) (uY Y' made (uN4 (Y k) v x)) (uL L' made ((L k).map (fun t => t + w v * (x : Int)))) iC' aC' aG' aI' aT' (upd (upd aY (to + made) 0) (to + made) (upd aY (to + made) 0 (to + made) + upd aY (to + made) 0 (fr + k))) aU' aB' aM' (by omega) ⟨by omega, fun k' hk' => ?_, fun k' hk' => ?_, fun f => ?_⟩)))
          · refine ND_fr hn (hS k' hk') (fun i hi => hT2 _ (by omega)) ((pk_un (by omega)).trans (pk_un (by omega))) ((hfr _ (by omega)).1.trans (pk_un (by omega))) ((hfr _ (by omega)).2.trans (pk_un (by omega)))
          · by_cases ej : k' = made
            · subst ej
              rw [uL_s, uY_s]
              refine ⟨fun i hi hbi => ⟨?_, hal i hi hbi⟩, hu6, ?_, fun e => ?_⟩
              · rw [hT1 i (by omega), h10 i hi hbi]
              · rw [pk_us, pk_us, pk_un (by omega), s3, List.length_map, show (0 : Int32) = nI 0 from rfl, nI_add, Nat.zero_add]
              · obtain ⟨sb, cb', b1, b2, b3, b4, b5, b6, b7⟩ := s4 e
                have bm := bmo e
                rw [pk_us, pk_us, pk_un (by omega), pk_un (by omega), b1, b2, emo e] at hAW
                obtain ⟨s', c', r1, r2, r3, r4, r5, r6, r7⟩ := AW_m (s1 := 1000) (c1 := 0) (l1 := []) hAW (by omega) (by omega) (fun t ht => absurd ht (List.not_mem_nil)) b3 rfl b4 b5 (Or.inr rfl)
                refine ⟨s', c', r1, r2, r3, r4, r5, ?_, ?_⟩
                · rcases r7 with q | q <;> omega
                · omega
            · rw [uL_n ej, uY_n ej]
              refine ND_fr hn (hT k' (by omega)) (fun i hi => hT2 _ (by omega)) ((pk_un (by omega)).trans (pk_un (by omega))) ((hfr _ (by omega)).1.trans (pk_un (by omega))) ((hfr _ (by omega)).2.trans (pk_un (by omega)))
          · rw [hV f, ev f, Vl_new, tw f]
            omega
      · refine br_t rfl (nm_r (nI_1 x) (ih (x + 1) made Y' L' iC' aC' aG' aI' aT aY aU aB aM' (by omega) (skip (fun f => Gx_d (fun g => ?_)))))
        rw [e3]
        obtain ⟨i, hi, hbi, hd⟩ := hdead
        refine Cm_dead hx (3 - v) (by omega) _ g (fun z hz => ?_)
        rw [e4] at hz
        exact alv_dead (hF i hi) (by omega) hd (hz i hi hbi)
set_option maxHeartbeats 1600000 in
theorem wx_nextLayer {post : Int32 → SX → Prop} {n rl md v fr cnt to : Nat} {m : Nat → Nat} {w : Nat → Int} {A : (Int → Nat) → Nat} {Y : Nat → Nat → Nat} {L : Nat → List Int} (hn : n ≤ 10) (hr : rl < 1024) (hF : ∀ i, i < n → FT (aK i) (aP i) (aQ i) (aR i)) (hN : NN m aN) (hm : ∀ v, v < 4 → m v < 64)
    (hw : md = 2 → ∀ v, v < 4 → aW v = zI (w v) ∧ -3 ≤ w v ∧ w v ≤ 3) (hv : v < 3) (hdis : (fr + cnt ≤ to ∧ to + 6 * cnt ≤ 252) ∨ (to + 6 * cnt ≤ fr ∧ fr + cnt ≤ 252))
    (hS : ∀ k, k < cnt → ND n rl md aK aP aQ aR v aT aY aU aB (fr + k) (Y k) (L k)) (hA : ∀ f, A f = Vl (HA n rl aK aP aQ aR) w m (4 - v) cnt Y L f)
    (h : ∀ (made : Nat) (Y' : Nat → Nat → Nat) (L' : Nat → List Int) (iC' : Int32) (aC' aG' aI' aT' aY' aU' aB' aM' : Nat → Int32), made ≤ 6 * cnt → (∀ k, k < made → ND n rl md aK aP aQ aR (v + 1) aT' aY' aU' aB' (to + k) (Y' k) (L' k)) → (∀ f, A f = Vl (HA n rl aK aP aQ aR) w m (3 - v) made Y' L' f) →
      post (nI made) (nI n, wN, nI rl, mO, tO, bS, dE, iC', aD, aK, aP, aQ, aR, aN, aW, aC', aG', aV, aS, aI', aT', aY', aU', aB', aM', aA)) : wpX_nextLayer post (nI n, wN, nI rl, mO, tO, bS, dE, iC, aD, aK, aP, aQ, aR, aN, aW, aC, aG, aV, aS, aI, aT, aY, aU, aB, aM, aA) (nI v) (nI fr) (nI cnt) (nI to) := by
  have main : ∀ (d k made : Nat) (Y' : Nat → Nat → Nat) (L' : Nat → List Int) (iC : Int32) (aC aG aI aT aY aU aB aM : Nat → Int32), k + d = cnt → NI n rl md aK aP aQ aR w m A v fr cnt to Y L (6 * k) made Y' L' aT aY aU aB →
      wX_nextLayer_6 post (nI v) (nI fr) (nI cnt) (nI to) (d + 1) (nI made) (nI (fr + k)) (nI n) wN (nI rl) mO tO bS dE iC aD aK aP aQ aR aN aW aC aG aV aS aI aT aY aU aB aM aA := by
    intro d
    induction d with
    | zero =>
      intro k made Y' L' iC aC aG aI aT aY aU aB aM hkd hI
      have e : k = cnt := by omega
      subst e
      refine br_t (by rw [nI_add]; exact nI_le (by omega) (by omega)) (h made Y' L' _ _ _ _ _ _ _ _ _ hI.1 hI.2.2.1 (fun f => ?_))
      rw [hI.2.2.2 f, tS_e]
      rfl
    | succ d ih =>
      intro k made Y' L' iC aC aG aI aT aY aU aB aM hkd hI
      refine br_f (by rw [nI_add]; exact nI_ge (by omega) (by omega)) ⟨6 + 1, ?_⟩
      exact wx_nL17 hn hr hF hN hm hw hv hdis (by omega) (fun made2 Y2 L2 iC2 aC2 aG2 aI2 aT2 aY2 aU2 aB2 aM2 hI2 => ih (k + 1) made2 Y2 L2 iC2 aC2 aG2 aI2 aT2 aY2 aU2 aB2 aM2 (by omega) hI2) 6 0 made Y' L' iC aC aG aI aT aY aU aB aM (by omega) hI
  refine ⟨cnt + 1, main cnt 0 0 (fun _ => fun _ => 0) (fun _ => []) iC aC aG aI aT aY aU aB aM (by omega) ⟨by omega, hS, fun k hk => absurd hk (by omega), fun f => ?_⟩⟩
  rw [hA f, show 4 - v = (3 - v) + 1 by omega, Vl_s, tS_0]
  show _ = 0 + _
  omega
end W13
end
section
/-! X: layers: the last variable, the whole; solve -/
section W14
variable {cC wN rU mO tO bS dE iC : Int32} {aD aK aP aQ aR aN aW aC aG aV aS aI aT aY aU aB aM aA : Nat → Int32}
def FI (md : Nat) (A R : (Int → Nat) → Nat) (tt : Nat) (bb : Int) (x3 x4 bS : Int32) : Prop := Ac md A R tt bb ∧ (md = 2 → x4 = nI tt ∧ bS = zI bb) ∧ (md ≠ 2 → x3 = nI tt)
theorem FI_skip {md : Nat} {A R R' : (Int → Nat) → Nat} {tt : Nat} {bb : Int} {x3 x4 bS : Int32} (h : FI md A R tt bb x3 x4 bS) (e : ∀ f, R f = R' f) : FI md A R' tt bb x3 x4 bS := ⟨Ac_c h.1 e, h.2⟩
set_option maxHeartbeats 3200000 in
theorem wx_fin19 {post : SX → Prop} {J : Int32 → Int32 → Int32 → Int32 → Int32 → Int32 → Int32 → Int32 → Int32 → Int32 → Int32 → (Nat → Int32) → (Nat → Int32) → (Nat → Int32) → (Nat → Int32) → (Nat → Int32) → (Nat → Int32) → (Nat → Int32) → (Nat → Int32) → (Nat → Int32) → (Nat → Int32) → (Nat → Int32) → (Nat → Int32) → (Nat → Int32) → (Nat → Int32) → (Nat → Int32) → (Nat → Int32) → (Nat → Int32) → (Nat → Int32) → Prop} {n rl md fr cnt k : Nat} {m : Nat → Nat} {w : Nat → Int} {A : (Int → Nat) → Nat} {Y : Nat → Nat → Nat} {L : Nat → List Int} (hn : n ≤ 10) (hr : rl < 1024) (hF : ∀ i, i < n → FT (aK i) (aP i) (aQ i) (aR i)) (hN : NN m aN) (hm : ∀ v, v < 4 → m v < 64)
    (hw : md = 2 → ∀ v, v < 4 → aW v = zI (w v) ∧ -3 ≤ w v ∧ w v ≤ 3) (hfr : fr + cnt ≤ 252) (hk : k < cnt) (hS : ND n rl md aK aP aQ aR 3 aT aY aU aB (fr + k) (Y k) (L k))
    (hJ : ∀ (tt : Nat) (bb : Int) (x3 x4 : Int32) (bS iC : Int32) (aC aG aI aM : Nat → Int32), FI md A (fun f => tS (6 * cnt) (fun a => Gx (HA n rl aK aP aQ aR) w m 0 (Y (a / 6)) (L (a / 6)) (a % 6) f) (6 * k + 6)) tt bb x3 x4 bS → J x3 x4 (nI (fr + (k + 1))) (nI n) wN (nI rl) mO tO bS dE iC aD aK aP aQ aR aN aW aC aG aV aS aI aT aY aU aB aM aA) :
    ∀ (d x tt : Nat) (bb : Int) (x3 x4 : Int32) (bS iC : Int32) (aC aG aI aM : Nat → Int32), x + d = 6 → FI md A (fun f => tS (6 * cnt) (fun a => Gx (HA n rl aK aP aQ aR) w m 0 (Y (a / 6)) (L (a / 6)) (a % 6) f) (6 * k + x)) tt bb x3 x4 bS →
      wX_finish_19 post J (nI fr) (nI cnt) (nI (fr + k)) (d + 1) x3 x4 (nI x) (nI n) wN (nI rl) mO tO bS dE iC aD aK aP aQ aR aN aW aC aG aV aS aI aT aY aU aB aM aA := by
  have hx : ∀ x y : Nat → Nat, (∀ v, v < 4 → x v = y v) → (HA n rl aK aP aQ aR) x → (HA n rl aK aP aQ aR) y := fun x y e => HA_ext hF e
  intro d
  induction d with
  | zero =>
    intro x tt bb x3 x4 bS iC aC aG aI aM hxd hI
    have e6 : x = 6 := by omega
    subst e6
    exact br_t (nI_le (a := 6) (b := 6) (by omega) (by omega)) (nm_r (e' := nI (fr + (k + 1))) (nI_1 _) (hJ tt bb x3 x4 bS iC aC aG aI aM hI))
  | succ d ih =>
    intro x tt bb x3 x4 bS iC aC aG aI aM hxd hI
    have hx6 : x < 6 := by omega
    have hb : 6 * k + x < 6 * cnt := by omega
    have ev : ∀ f, tS (6 * cnt) (fun a => Gx (HA n rl aK aP aQ aR) w m 0 (Y (a / 6)) (L (a / 6)) (a % 6) f) (6 * k + x) = tS (6 * cnt) (fun a => Gx (HA n rl aK aP aQ aR) w m 0 (Y (a / 6)) (L (a / 6)) (a % 6) f) (6 * k + (x + 1)) + Gx (HA n rl aK aP aQ aR) w m 0 (Y k) (L k) x f := by
      intro f
      rw [tS_s hb, show (6 * k + x) / 6 = k by omega, show (6 * k + x) % 6 = x by omega]
      rfl
    have skip : (∀ f, Gx (HA n rl aK aP aQ aR) w m 0 (Y k) (L k) x f = 0) → FI md A (fun f => tS (6 * cnt) (fun a => Gx (HA n rl aK aP aQ aR) w m 0 (Y (a / 6)) (L (a / 6)) (a % 6) f) (6 * k + (x + 1))) tt bb x3 x4 bS := fun z => FI_skip hI (fun f => by rw [ev f, z f]; rfl)
    obtain ⟨s1, s2, s3, s4⟩ := hS
    have eN : aN 3 = nI (m 3) := hN 3 (by omega)
    have hmv := hm 3 (by omega)
    refine br_f (zc6 hx6) ?_
    rw [eN]
    cases hbit : (m 3).testBit x
    · exact br_t ((zx_b0 (by omega) (by omega)).mpr hbit) (nm_r (nI_1 x) (ih (x + 1) tt bb x3 x4 bS iC aC aG aI aM (by omega) (skip (fun f => Gx_0 hbit))))
    · refine br_f (fun z => by rw [zx_b0 (by omega) (by omega), hbit] at z; exact absurd z (by decide)) ?_
      have hu6 : ∀ u, u < 4 → uN4 (Y k) 3 x u < 6 := by
        intro u hu
        by_cases e : u = 3
        · subst e; rw [uN4_s]; exact hx6
        · rw [uN4_n e]; exact s2 u (by omega)
      refine wx_moveStates (y := Y k) (v := 3) hn hr (by omega) (by omega) hx6 hF s2 s1 (fun hal iC' aC' aG' aI' aM' hM => ?_) (fun hdead iC' aC' aG' aI' aM' => ?_)
      · refine br_f (by decide) (wx_allAccept (y := uN4 (Y k) 3 x) hn hr hF hu6 (fun i hi hbi => ⟨?_, hal i hi hbi⟩) ?_)
        · rw [hM i (by omega)]
          exact congrArg nI (iz_t ⟨hi, hbi⟩)
        · by_cases hh : (HA n rl aK aP aQ aR) (uN4 (Y k) 3 x)
          · have vp : vp_in (nI (fr + k)) 252 := vp_in_nI (by omega) (by omega)
            have ep : (nI (fr + k)).toNatClampNeg = fr + k := zcl (by omega)
            have eG : ∀ f, Gx (HA n rl aK aP aQ aR) w m 0 (Y k) (L k) x f = lS ((L k).map (fun t => t + w 3 * (x : Int))) f := by
              intro f
              have := Gx_t (H := (HA n rl aK aP aQ aR)) (w := w) (m := m) (r := 0) (y := Y k) (y' := uN4 (Y k) 3 x) (l := L k) (x := x) (h := f) hbit (fun f => rfl)
              rw [this]
              refine lS_c _ (fun t _ => ?_)
              rw [Cm_0, iz_t hh]
              exact congrArg f (by omega)
            have eA : ∀ f, (fun f => tS (6 * cnt) (fun a => Gx (HA n rl aK aP aQ aR) w m 0 (Y (a / 6)) (L (a / 6)) (a % 6) f) (6 * k + x)) f = (fun f => tS (6 * cnt) (fun a => Gx (HA n rl aK aP aQ aR) w m 0 (Y (a / 6)) (L (a / 6)) (a % 6) f) (6 * k + (x + 1))) f + (fun f => lS ((L k).map (fun t => t + w 3 * (x : Int))) f) f := by
              intro f
              show tS (6 * cnt) (fun a => Gx (HA n rl aK aP aQ aR) w m 0 (Y (a / 6)) (L (a / 6)) (a % 6) f) (6 * k + x) = tS (6 * cnt) (fun a => Gx (HA n rl aK aP aQ aR) w m 0 (Y (a / 6)) (L (a / 6)) (a % 6) f) (6 * k + (x + 1)) + lS ((L k).map (fun t => t + w 3 * (x : Int))) f
              rw [ev f, eG f]
            have e1 : lS ((L k).map (fun t => t + w 3 * (x : Int))) one = (L k).length := by rw [lS_one, List.length_map]
            refine br_f (fun z => bI_0.mp z hh) ⟨vp, nm_r (e' := x3 + aY (fr + k)) (by rw [ep]) ⟨vp, nm_r (e' := aU (fr + k) + aW 3 * nI x) (by rw [ep]) ?_⟩⟩
            by_cases m2 : md = 2
            · obtain ⟨sb, cb', b1, b2, b3, b4, b5, b6, b7⟩ := s4 m2
              have hW := hw m2 3 (by omega)
              have bm := mul_bd hW.2.1 hW.2.2 hx6
              have eX : aU (fr + k) + aW 3 * nI x = zI (sb + w 3 * (x : Int)) := by rw [b1, hW.1, zn_mulN, zn_add]
              obtain ⟨i1, i2⟩ := hI.2.1 m2
              have hbb := Ac_b (by rw [← m2]; exact hI.1)
              have mem : ∀ t, t ∈ (L k).map (fun t => t + w 3 * (x : Int)) → sb + w 3 * (x : Int) ≤ t := by
                intro t ht
                obtain ⟨u, hu, rfl⟩ := List.mem_map.mp ht
                have := b3 u hu
                show sb + w 3 * (x : Int) ≤ u + w 3 * (x : Int)
                omega
              have cnt1 : lS ((L k).map (fun t => t + w 3 * (x : Int))) (dl (sb + w 3 * (x : Int))) = cb' := by
                rw [lS_map, ← b4]
                refine lS_c (L k) (fun t _ => ?_)
                unfold dl
                by_cases q : t = sb
                · rw [if_pos q, if_pos (by omega)]
                · rw [if_neg q, if_neg (by omega)]
              obtain ⟨g1, g2, g3⟩ := Ac_grp (s := sb + w 3 * (x : Int)) (c := cb') hI.1 eA m2 (fun t ht => lS_0 _ (fun u hu => dl_n (by have := mem u hu; omega))) cnt1 b5 (by omega) (by omega)
              rw [eX, i2]
              by_cases c1 : sb + w 3 * (x : Int) ≤ bb
              · refine br_t ((zn_le (by omega) (by omega) (by omega) (by omega)).mpr c1) ?_
                by_cases c2 : bb ≤ sb + w 3 * (x : Int)
                · refine br_t ((zn_le (by omega) (by omega) (by omega) (by omega)).mpr c2) ?_
                  unfold wX_finish_115
                  refine And.intro vp (nm_r (e' := nI (tt + cb')) (by rw [ep, i1, b2, nI_add]) (nm_r (nI_1 x) (ih (x + 1) (tt + cb') bb _ _ _ _ _ _ _ _ (by omega) ⟨g3 (by omega), fun _ => ⟨rfl, congrArg zI (by omega)⟩, fun z => absurd m2 z⟩)))
                · refine br_f (fun z => c2 ((zn_le (by omega) (by omega) (by omega) (by omega)).mp z)) ?_
                  unfold wX_finish_115
                  refine And.intro vp (nm_r (e' := nI cb') (by rw [ep, b2, show (0 : Int32) = nI 0 from rfl, nI_add, Nat.zero_add]) (nm_r (nI_1 x) (ih (x + 1) cb' (sb + w 3 * (x : Int)) _ _ _ _ _ _ _ _ (by omega) ⟨g2 (by omega), fun _ => ⟨rfl, rfl⟩, fun z => absurd m2 z⟩)))
              · refine br_f (fun z => c1 ((zn_le (by omega) (by omega) (by omega) (by omega)).mp z)) (nm_r (nI_1 x) (ih (x + 1) tt bb _ _ _ _ _ _ _ _ (by omega) ⟨g1 (by omega), fun _ => ⟨i1, rfl⟩, fun z => absurd m2 z⟩))
            · have i1 := hI.2.2 m2
              have go : ∀ (x4' bS' : Int32), FI md A (fun f => tS (6 * cnt) (fun a => Gx (HA n rl aK aP aQ aR) w m 0 (Y (a / 6)) (L (a / 6)) (a % 6) f) (6 * k + (x + 1))) (tt + (L k).length) bb (x3 + aY (fr + k)) x4' bS' := by
                intro x4' bS'
                refine ⟨?_, fun z => absurd z m2, fun _ => by rw [i1, s3, nI_add]⟩
                have := Ac_cnt (b' := bb) hI.1 eA m2
                rw [← e1]
                exact this
              by_cases c1 : aU (fr + k) + aW 3 * nI x ≤ bS
              · refine br_t c1 ?_
                by_cases c2 : bS ≤ aU (fr + k) + aW 3 * nI x
                · refine br_t c2 ?_
                  unfold wX_finish_115
                  exact And.intro vp (nm_e (nm_r (nI_1 x) (ih (x + 1) (tt + (L k).length) bb _ _ _ _ _ _ _ _ (by omega) (go _ _))))
                · refine br_f c2 ?_
                  unfold wX_finish_115
                  exact And.intro vp (nm_e (nm_r (nI_1 x) (ih (x + 1) (tt + (L k).length) bb _ _ _ _ _ _ _ _ (by omega) (go _ _))))
              · exact br_f c1 (nm_r (nI_1 x) (ih (x + 1) (tt + (L k).length) bb _ _ _ _ _ _ _ _ (by omega) (go _ _)))
          · refine br_t (bI_0.mpr hh) (nm_r (nI_1 x) (ih (x + 1) tt bb x3 x4 bS iC' aC' aG' aI' aM' (by omega) (skip (fun f => Gx_d (fun g => ?_)))))
            show Cm (HA n rl aK aP aQ aR) w m 0 (uN4 (Y k) 3 x) g = 0
            rw [Cm_0]
            exact iz_f hh
      · refine br_t rfl (nm_r (nI_1 x) (ih (x + 1) tt bb x3 x4 bS iC' aC' aG' aI' aM' (by omega) (skip (fun f => Gx_d (fun g => ?_)))))
        obtain ⟨i, hi, hbi, hd⟩ := hdead
        refine Cm_dead hx 0 (by omega) _ g (fun z hz => ?_)
        exact alv_dead (hF i hi) (by omega) hd (hz i hi hbi)
set_option maxHeartbeats 1600000 in
theorem wx_finish {post : SX → Prop} {n rl md fr cnt : Nat} {m : Nat → Nat} {w : Nat → Int} {A : (Int → Nat) → Nat} {Y : Nat → Nat → Nat} {L : Nat → List Int} (hn : n ≤ 10) (hr : rl < 1024) (hmd : md ≤ 2) (hF : ∀ i, i < n → FT (aK i) (aP i) (aQ i) (aR i)) (hN : NN m aN) (hm : ∀ v, v < 4 → m v < 64)
    (hw : md = 2 → ∀ v, v < 4 → aW v = zI (w v) ∧ -3 ≤ w v ∧ w v ≤ 3) (hfr : fr + cnt ≤ 252) (hS : ∀ k, k < cnt → ND n rl md aK aP aQ aR 3 aT aY aU aB (fr + k) (Y k) (L k)) (hA : ∀ f, A f = Vl (HA n rl aK aP aQ aR) w m 1 cnt Y L f)
    (h : ∀ (tt : Nat) (bb : Int) (bS' iC' : Int32) (aC' aG' aI' aM' : Nat → Int32), Sp md A tt bb → (md = 2 → bS' = zI bb) → post (nI n, wN, nI rl, nI md, nI tt, bS', dE, iC', aD, aK, aP, aQ, aR, aN, aW, aC', aG', aV, aS, aI', aT, aY, aU, aB, aM', aA)) :
    wpX_finish post (nI n, wN, nI rl, nI md, tO, 1000, dE, iC, aD, aK, aP, aQ, aR, aN, aW, aC, aG, aV, aS, aI, aT, aY, aU, aB, aM, aA) (nI fr) (nI cnt) := by
  have main : ∀ (d k tt : Nat) (bb : Int) (x3 x4 : Int32) (bS iC : Int32) (aC aG aI aM : Nat → Int32), k + d = cnt → FI md A (fun f => tS (6 * cnt) (fun a => Gx (HA n rl aK aP aQ aR) w m 0 (Y (a / 6)) (L (a / 6)) (a % 6) f) (6 * k)) tt bb x3 x4 bS →
      wX_finish_8 post (nI fr) (nI cnt) (d + 1) x3 x4 (nI (fr + k)) (nI n) wN (nI rl) (nI md) tO bS dE iC aD aK aP aQ aR aN aW aC aG aV aS aI aT aY aU aB aM aA := by
    intro d
    induction d with
    | zero =>
      intro k tt bb x3 x4 bS iC aC aG aI aM hkd hI
      have e : k = cnt := by omega
      subst e
      have hsp : Sp md A tt bb := Ac_end hI.1 (fun f => tS_e)
      refine br_t (by rw [nI_add]; exact nI_le (by omega) (by omega)) ?_
      by_cases m2 : md = 2
      · obtain ⟨i1, i2⟩ := hI.2.1 m2
        have e2 : nI md = 2 := by rw [m2]; rfl
        refine br_t e2 ?_
        rw [i1]
        exact h tt bb bS iC aC aG aI aM hsp (fun _ => i2)
      · refine br_f (fun z => m2 ((nI_eq (b := 2) (by omega) (by omega)).mp z)) ?_
        rw [hI.2.2 m2]
        exact h tt bb bS iC aC aG aI aM hsp (fun z => absurd z m2)
    | succ d ih =>
      intro k tt bb x3 x4 bS iC aC aG aI aM hkd hI
      refine br_f (by rw [nI_add]; exact nI_ge (by omega) (by omega)) ⟨6 + 1, ?_⟩
      exact wx_fin19 hn hr hF hN hm hw hfr (by omega) (hS k (by omega)) (fun tt2 bb2 y3 y4 bS2 iC2 aC2 aG2 aI2 aM2 hI2 => ih (k + 1) tt2 bb2 y3 y4 bS2 iC2 aC2 aG2 aI2 aM2 (by omega) hI2) 6 0 tt bb x3 x4 bS iC aC aG aI aM (by omega) hI
  refine ⟨cnt + 1, main cnt 0 0 1000 0 0 1000 iC aC aG aI aM (by omega) ⟨?_, fun _ => ⟨rfl, rfl⟩, fun _ => rfl⟩⟩
  refine Ac_c Ac_0 (fun f => ?_)
  rw [hA f, show 1 = 0 + 1 from rfl, Vl_s, tS_0]
theorem lc_pos (K : Int32) : 0 < lc K := by unfold lc; split <;> (try split) <;> omega
theorem ND_0 {n rl md : Nat} {aT aY aU aB : Nat → Int32} (hF : ∀ i, i < n → FT (aK i) (aP i) (aQ i) (aR i)) (hT : ∀ i, i < n → aT i = if 1 < aK i then nI 0 else nI 60) (hY : aY 0 = 1) (hU : aU 0 = 0) (hB : aB 0 = 1) : ND n rl md aK aP aQ aR 0 aT aY aU aB 0 (fun _ => 0) [0] := by
  refine ⟨fun i hi _ => ?_, fun u hu => absurd hu (by omega), hY, fun _ => ⟨0, 1, hU, hB, fun t ht => ?_, rfl, by omega, by omega, by omega⟩⟩
  · rw [show 10 * 0 + i = i by omega, hT i hi]
    rcases hF i hi with ⟨hk, -⟩ | ⟨hk, -⟩ | ⟨hk, -⟩ | hL
    · refine ⟨?_, alv_S (by rcases hk with e | e; exact Or.inl e; exact Or.inr (Or.inl e))⟩
      rw [if_neg (by rcases hk with e | e <;> rw [e] <;> decide), stc_S hk]
      rfl
    · rw [hk, if_pos (by decide), stc_2]
      exact ⟨rfl, alv_2.mpr (fun v hv => absurd hv (by omega))⟩
    · rw [hk, if_pos (by decide), stc_7]
      exact ⟨rfl, alv_S (Or.inr (Or.inr rfl))⟩
    · have hi' := FL_is hL
      have na : ¬ aL (aK i) (aP i) (aQ i) (aR i) 0 := fun z => absurd (z 0 (lc_pos _)) (by omega)
      have h1 : 1 < aK i := by
        rcases hi' with e | e | e | e | e <;> rw [e] <;> decide
      rw [if_pos h1, stc_L hi']
      refine ⟨?_, (alv_L hi').mpr (fun z => absurd z na)⟩
      unfold stL
      rw [iz_f na, dU_c (E := fun _ => 0) _ (fun j _ => by show dv 0 (fun _ => 0) _ = 0; exact if_neg (by omega)), dU_z]
  · rcases List.mem_singleton.mp ht with rfl
    omega
set_option maxHeartbeats 3200000 in
theorem wx_layers {post : SX → Prop} {n rl md : Nat} {m : Nat → Nat} {w : Nat → Int} (hn : n ≤ 10) (hr : rl < 1024) (hmd : md ≤ 2) (hF : ∀ i, i < n → FT (aK i) (aP i) (aQ i) (aR i)) (hN : NN m aN) (hm : ∀ v, v < 4 → m v < 64)
    (hw : md = 2 → ∀ v, v < 4 → aW v = zI (w v) ∧ -3 ≤ w v ∧ w v ≤ 3)
    (h : ∀ (tt : Nat) (bb : Int) (bS' iC' : Int32) (aC' aG' aI' aT' aY' aU' aB' aM' : Nat → Int32), Sp md (CB (HA n rl aK aP aQ aR) w m) tt bb → (md = 2 → bS' = zI bb) → post (nI n, wN, nI rl, nI md, nI tt, bS', dE, iC', aD, aK, aP, aQ, aR, aN, aW, aC', aG', aV, aS, aI', aT', aY', aU', aB', aM', aA)) :
    wpX_solveByLayers post (nI n, wN, nI rl, nI md, tO, 1000, dE, iC, aD, aK, aP, aQ, aR, aN, aW, aC, aG, aV, aS, aI, aT, aY, aU, aB, aM, aA) := by
  have hx : ∀ x y : Nat → Nat, (∀ v, v < 4 → x v = y v) → (HA n rl aK aP aQ aR) x → (HA n rl aK aP aQ aR) y := fun x y e => HA_ext hF e
  have main : ∀ aT' : Nat → Int32, (∀ i, i < 10 → aT' i = if 1 < aK i then nI 0 else nI 60) → ∃ n64, wX_solveByLayers_64 post n64 0 1 0 (nI n) wN (nI rl) (nI md) tO 1000 dE iC aD aK aP aQ aR aN aW aC aG aV aS aI aT' (upd aY 0 1) (upd aU 0 0) (upd aB 0 1) aM aA := by
    intro aT0 hT0
    have nd0 : ND n rl md aK aP aQ aR 0 aT0 (upd aY 0 1) (upd aU 0 0) (upd aB 0 1) 0 (fun _ => 0) [0] := ND_0 hF (fun i hi => hT0 i (by omega)) pk_us pk_us pk_us
    refine ⟨3 + 1, br_f (by decide) (br_t rfl (br_f (by decide) (br_f (by decide) ?_)))⟩
    unfold wX_solveByLayers_118
    refine wx_nextLayer (n := n) (rl := rl) (md := md) (v := 0) (fr := 0) (cnt := 1) (to := 216) (m := m) (w := w) (A := CB (HA n rl aK aP aQ aR) w m) (Y := fun _ => fun _ => 0) (L := fun _ => [0]) hn hr hF hN hm hw (by omega) (by omega) (fun k hk => ?_) (fun f => ?_) (fun made1 Y1 L1 i1 c1 g1 v1 t1 y1 u1 b1 m1 hm1 hS1 hA1 => nm_r (e' := 1) rfl ?_)
    · have e : k = 0 := by omega
      subst e
      exact nd0
    · show CB (HA n rl aK aP aQ aR) w m f = 0 + (Cm (HA n rl aK aP aQ aR) w m 4 (fun _ => 0) (fun s => f (0 + s)) + 0)
      rw [show (fun s => f (0 + s)) = f from funext (fun s => congrArg f (Int.zero_add s)), Cm_all hx]
      omega
    · refine br_f (by decide) (br_f (by decide) (br_t rfl (br_t rfl (wx_copyLayer (cnt := made1) (by omega) (fun t2 y2 u2 b2 hC => br_f (by decide) ?_)))))
      unfold wX_solveByLayers_118
      refine wx_nextLayer (n := n) (rl := rl) (md := md) (v := 1) (fr := 0) (cnt := made1) (to := 216) (m := m) (w := w) (A := CB (HA n rl aK aP aQ aR) w m) (Y := Y1) (L := L1) hn hr hF hN hm hw (by omega) (by omega) (fun k hk => ?_) hA1 (fun made2 Y2 L2 i3 c3 g3 v3 t3 y3 u3 b3 m3 hm3 hS3 hA3 => nm_r (e' := 2) rfl ?_)
      · obtain ⟨s1, s2, s3, s4⟩ := hS1 k hk
        obtain ⟨q1, q2, q3, q4⟩ := hC k hk
        rw [Nat.zero_add]
        refine ⟨fun i hi hb => ⟨?_, (s1 i hi hb).2⟩, s2, by rw [q2]; exact s3, fun e => ?_⟩
        · rw [q1 i (by omega), (s1 i hi hb).1]
          have := stc_lt (v := 0 + 1) (hF i hi) (by omega) s2
          exact zs_n (by omega)
        · rw [q3, q4]; exact s4 e
      · refine br_f (by decide) (br_f (by decide) (br_f (by decide) (br_f (by decide) (br_t rfl ?_))))
        unfold wX_solveByLayers_118
        refine wx_nextLayer (n := n) (rl := rl) (md := md) (v := 2) (fr := 216) (cnt := made2) (to := 0) (m := m) (w := w) (A := CB (HA n rl aK aP aQ aR) w m) (Y := Y2) (L := L2) hn hr hF hN hm hw (by omega) (by omega) hS3 hA3 (fun made4 Y4 L4 i4 c4 g4 v4 t4 y4 u4 b4 m4 hm4 hS4 hA4 => nm_r (e' := 3) rfl ?_)
        refine br_t (by decide) ?_
        exact wx_finish (n := n) (rl := rl) (md := md) (fr := 0) (cnt := made4) (m := m) (w := w) (A := CB (HA n rl aK aP aQ aR) w m) (Y := Y4) (L := L4) hn hr hmd hF hN hm hw (by omega) hS4 hA4 (fun tt bb bS' iC' aC' aG' aI' aM' hsp hb => h tt bb bS' iC' aC' aG' aI' _ _ _ _ aM' hsp hb)
  refine pk_loop (σ := Nat → Int32) (fun k i s => wX_solveByLayers_6 post 0 1 (nI n) wN (nI rl) (nI md) tO 1000 dE iC k (nI i) aD aK aP aQ aR aN aW aC aG aV aS aI s aY aU aB aM aA) (fun i s => ∀ u, u < i → s u = if 1 < aK u then nI 0 else nI 60) 10 0 aT (by omega) (fun u hu => absurd hu (by omega))
    (fun k s hI => br_t (nI_le (a := 10) (b := 10) (by omega) (by omega)) (nm_e (nm_e (nm_e (main s hI))))) (fun k i s hi hI K => br_f (zc10 hi) ⟨zi10 hi, ?_⟩)
  rw [show aK (nI i).toNatClampNeg = aK i from congrArg aK (zcl (by omega))]
  by_cases c : 1 < aK i
  · refine br_t c ⟨vp_in_nI (by omega) (by omega), nm_r (e' := upd s i (nI 0)) (by rw [zcl (by omega)]; exact congrArg (upd s i) (zs_n16 (m := 0) (by omega))) (nm_r (nI_1 i) (K _ (zu_s (f := fun u => if 1 < aK u then nI 0 else nI 60) hI (if_pos c).symm)))⟩
  · refine br_f c ⟨vp_in_nI (by omega) (by omega), nm_r (e' := upd s i (nI 60)) (by rw [zcl (by omega)]; exact congrArg (upd s i) (zs_n16 (m := 60) (by omega))) (nm_r (nI_1 i) (K _ (zu_s (f := fun u => if 1 < aK u then nI 0 else nI 60) hI (if_neg c).symm)))⟩
set_option maxHeartbeats 1600000 in
theorem wx_solve {post : SX → Prop} {n rl md wy : Nat} {m : Nat → Nat} {w : Nat → Int} (hn : n ≤ 10) (hr : rl < 1024) (hmd : md ≤ 2) (hwy : wy ≤ 2) (hF : ∀ i, i < n → FT (aK i) (aP i) (aQ i) (aR i)) (hN : NN m aN) (hm : ∀ v, v < 4 → m v < 64)
    (hw : md = 2 → ∀ v, v < 4 → aW v = zI (w v) ∧ -3 ≤ w v ∧ w v ≤ 3)
    (h : ∀ (tt : Nat) (bb : Int) (bS' dE' iC' : Int32) (aN' aC' aG' aV' aS' aI' aT' aY' aU' aB' aM' aA' : Nat → Int32), Sp md (CB (HA n rl aK aP aQ aR) w m) tt bb → (md = 2 → bS' = zI bb) → NN m aN' → post (nI n, nI wy, nI rl, nI md, nI tt, bS', dE', iC', aD, aK, aP, aQ, aR, aN', aW, aC', aG', aV', aS', aI', aT', aY', aU', aB', aM', aA')) :
    wpX_solve post (nI n, nI wy, nI rl, mO, tO, bS, dE, iC, aD, aK, aP, aQ, aR, aN, aW, aC, aG, aV, aS, aI, aT, aY, aU, aB, aM, aA) (nI md) := by
  refine pk_loop (σ := Unit) (fun k v _ => wX_solve_19 post (nI n) (nI wy) (nI rl) (nI md) 0 1000 dE iC aD aK aP aQ aR aN aW aC aG aV aS aI aT aY aU aB aM aA k (nI v)) (fun v _ => ∀ u, u < v → 0 < m u) 4 0 () (by omega) (fun u hu => absurd hu (by omega))
    (fun k _ hI => br_t (nI_le (a := 4) (b := 4) (by omega) (by omega)) ?_) (fun k v _ hv hI K => br_f (zc4 hv) ⟨zi4 hv, ?_⟩)
  · by_cases w0 : wy = 0
    · subst w0
      exact br_t rfl (wx_trying (m := m) (w := w) hn hr hmd hF hN (fun v hv => ⟨hm v hv, hI v hv⟩) hw (fun tt bb iC' aC' aG' aI' hsp => h tt bb _ _ _ _ _ _ _ _ _ _ _ _ _ _ _ hsp (fun _ => rfl) hN))
    · refine br_f (nI_ne0 (by omega) (by omega)) ?_
      by_cases w1 : wy = 1
      · subst w1
        exact br_t rfl (wx_rules (m := m) (w := w) hn hr hmd hF hN (fun v hv => ⟨hm v hv, hI v hv⟩) hw (fun tt bb dE' iC' aN' aC' aG' aV' aS' aI' aA' hsp hN' => h tt bb _ _ _ _ _ _ _ _ _ _ _ _ _ _ _ hsp (fun _ => rfl) hN'))
      · exact br_f (fun z => w1 ((nI_eq (b := 1) (by omega) (by omega)).mp z)) (wx_layers (m := m) (w := w) hn hr hmd hF hN hm hw (fun tt bb bS' iC' aC' aG' aI' aT' aY' aU' aB' aM' hsp hb => h tt bb _ _ _ _ _ _ _ _ _ _ _ _ _ _ _ hsp hb hN))
  · have hmv := hm v hv
    rw [zcl (by omega : v < 100000), hN v hv]
    by_cases e : m v = 0
    · refine br_t (by rw [e]; rfl) (h 0 1000 _ _ _ _ _ _ _ _ _ _ _ _ _ _ _ ?_ (fun _ => rfl) hN)
      exact Ac_end Ac_0 (fun f => CB_0 (fun x _ hx _ => by
        have := hx v hv
        rw [e, Nat.zero_testBit] at this
        exact absurd this (by decide)))
    · exact br_f (nI_ne0 (by omega) (by omega)) (nm_r (nI_1 v) (K () (lt_s hI (by omega))))
end W14
end
section
/-! Y: the reference -/
section WY
variable {fN : Int32} {yK yP yQ yR yD yV : Nat → Int32}
theorem wy_in {post : Int32 → Prop} {p0 p1 p2 : Int32} (h : post (bI (p1 ≤ p0 ∧ p0 ≤ p2))) : wpY_in post (fN, yK, yP, yQ, yR, yD, yV) p0 p1 p2 := by
  by_cases c1 : p0 < p1
  · refine br_t c1 ?_
    rw [bI_f (fun z => Int32.not_le.mpr c1 z.1)] at h
    exact h
  · refine br_f c1 ?_
    by_cases c2 : p2 < p0
    · refine br_t c2 ?_
      rw [bI_f (fun z => Int32.not_le.mpr c2 z.2)] at h
      exact h
    · refine br_f c2 ?_
      rw [bI_t ⟨Int32.not_lt.mp c1, Int32.not_lt.mp c2⟩] at h
      exact h
theorem wy_sum {post : Int32 → Prop} {p : Nat} {x : Nat → Nat} (hp : p ≤ 2400) (hx : ∀ v, v < 4 → yV v = nI (x v)) (h : post (zI (ps (dg p) x 4))) : wpY_sum post (fN, yK, yP, yQ, yR, yD, yV) (nI p) := by
  have K : ∃ n, wY_sum_7 post fN yK yP yQ yR yD yV n (nI (p / 7 ^ 0)) (zI (ps (dg p) x 0)) (nI 0) :=
    pk_loop (σ := Unit) (fun n i _ => wY_sum_7 post fN yK yP yQ yR yD yV n (nI (p / 7 ^ i)) (zI (ps (dg p) x i)) (nI i)) (fun _ _ => True) 4 0 () (by omega) trivial
      (fun n _ _ => br_t (nI_le (a := 4) (b := 4) (by omega) (by omega)) h)
      (fun n i _ hi _ K => br_f (zc4 hi) ⟨ze7, zi4 hi, nm_r (e' := zI (ps (dg p) x (i + 1))) (by rw [zcl (by omega), hx i hi, zd_dig hp, zn_mulN, zn_add]; rfl) ⟨ze7, nm_r (e' := nI (p / 7 ^ (i + 1))) (by rw [zd_d7 (by have := zd_le p (7 ^ i); omega), zd_p7]) (nm_r (nI_1 i) (K () trivial))⟩⟩)
  rw [show p / 7 ^ 0 = p from Nat.div_one p] at K
  exact K
theorem wy_digit {post : Int32 → Prop} {r q : Nat} (hr : r ≤ 46655) (hq : q < 6) (h : post (nI (r / 6 ^ q % 6))) : wpY_digit post (fN, yK, yP, yQ, yR, yD, yV) (nI r) (nI q) := by
  have K : ∃ n, wY_digit_5 post (nI q) fN yK yP yQ yR yD yV n (nI (r / 6 ^ 0)) (nI 0) :=
    pk_loop (σ := Unit) (fun n i _ => wY_digit_5 post (nI q) fN yK yP yQ yR yD yV n (nI (r / 6 ^ i)) (nI i)) (fun i _ => True) q 0 () (by omega) trivial
      (fun n _ hI => br_t (nI_le (by omega) (by omega)) ⟨ze6, by rw [zd_r6 (by have := zd_le r (6 ^ q); omega)]; exact h⟩)
      (fun n i _ hi hI K => br_f (nI_ge hi (by omega)) ⟨ze6, nm_r (e' := nI (r / 6 ^ (i + 1))) (by rw [zd_d6 (by have := zd_le r (6 ^ i); omega), zd_p6]) (nm_r (nI_1 i) (K () trivial))⟩)
  rw [show r / 6 ^ 0 = r from Nat.div_one r] at K
  exact K
theorem wy_having {post : Int32 → Prop} {p r : Nat} {x : Nat → Nat} (hp : p ≤ 15) (hr : r ≤ 5) (hx : ∀ v, v < 4 → yV v = nI (x v) ∧ x v < 6) (h : post (nI (hm p r x 4))) : wpY_having post (fN, yK, yP, yQ, yR, yD, yV) (nI p) (nI r) := by
  have K : ∃ n, wY_having_5 post (nI p) (nI r) fN yK yP yQ yR yD yV n (nI (hm p r x 0)) (nI 0) :=
    pk_loop (σ := Unit) (fun n i _ => wY_having_5 post (nI p) (nI r) fN yK yP yQ yR yD yV n (nI (hm p r x i)) (nI i)) (fun i _ => True) 4 0 () (by omega) trivial
      (fun n _ hI => br_t (nI_le (a := 4) (b := 4) (by omega) (by omega)) h)
      (fun n i _ hi hI K => br_f (zc4 hi) (by
        have K' := K () trivial
        have eh : hm p r x (i + 1) = hm p r x i + ib (p.testBit i = true ∧ x i = r) := rfl
        obtain ⟨e1, e2⟩ := hx i hi
        by_cases hb : p.testBit i = true
        · refine br_t ((zx_b1 (by omega) (by omega)).mpr hb) ⟨zi4 hi, ?_⟩
          rw [zcl (by omega : i < 100000), e1]
          by_cases e : x i = r
          · rw [ib_t ⟨hb, e⟩] at eh
            rw [eh] at K'
            exact br_t (by rw [e]) (nm_r (nI_1 _) (nm_r (nI_1 i) K'))
          · rw [ib_f (fun z => e z.2), Nat.add_zero] at eh
            rw [eh] at K'
            exact br_f (fun z => e ((nI_eq (by omega) (by omega)).mp z)) (nm_r (nI_1 i) K')
        · refine br_f (fun z => hb ((zx_b1 (by omega) (by omega)).mp z)) (nm_r (nI_1 i) ?_)
          rw [ib_f (fun z => hb z.1), Nat.add_zero] at eh
          rw [eh] at K'
          exact K'))
  exact K
theorem wy_diff {post : Int32 → Prop} {p : Nat} {x : Nat → Nat} (hp : p ≤ 15) (hx : ∀ v, v < 4 → yV v = nI (x v) ∧ x v < 6) (h : post (bI (df p x 4))) : wpY_isDifferent post (fN, yK, yP, yQ, yR, yD, yV) (nI p) :=
  pk_loop (σ := Unit) (fun n v _ => wY_isDifferent_2 post (nI p) fN yK yP yQ yR yD yV n (nI v)) (fun v _ => df p x v) 4 0 () (by omega) (fun v hv => absurd hv (by omega))
    (fun n _ hI => br_t (nI_le (a := 4) (b := 4) (by omega) (by omega)) (by rw [bI_t hI] at h; exact h))
    (fun n v _ hv hI K => br_f (zc4 hv) (pk_loop (σ := Unit) (fun n2 u _ => wY_isDifferent_9 post (wY_isDifferent_2 post (nI p) fN yK yP yQ yR yD yV n) (nI p) (nI v) fN yK yP yQ yR yD yV n2 (nI u)) (fun u _ => ∀ t, t < u → p.testBit v = true → p.testBit t = true → x v ≠ x t) v 0 () (by omega) (fun t ht => absurd ht (by omega))
      (fun n2 _ hJ => br_t (nI_le (by omega) (by omega)) (nm_r (nI_1 v) (K () (fun a ha b hb pa pb => by
        by_cases e : a = v
        · subst e; exact hJ b hb pa pb
        · exact hI a (by omega) b hb pa pb))))
      (fun n2 u _ hu hJ K2 => br_f (nI_ge hu (by omega)) (by
        obtain ⟨e1, e2⟩ := hx v hv
        obtain ⟨f1, f2⟩ := hx u (by omega)
        by_cases hb : p.testBit v = true ∧ p.testBit u = true
        · refine br_t ((zx_bb (by omega) (by omega) (by omega)).mpr hb) ⟨zi4 hv, zi4 (by omega), ?_⟩
          rw [zcl (i := v) (by omega), zcl (i := u) (by omega), e1, f1]
          by_cases e : x v = x u
          · refine br_t (congrArg nI e) ?_
            rw [bI_f (fun z => z v hv u hu hb.1 hb.2 e)] at h
            exact h
          · exact br_f (fun z => e ((nI_eq (by omega) (by omega)).mp z)) (nm_r (nI_1 u) (K2 () (lt_s hJ (fun _ _ => e))))
        · exact br_f (fun z => hb ((zx_bb (by omega) (by omega) (by omega)).mp z)) (nm_r (nI_1 u) (K2 () (lt_s hJ (fun a b => absurd ⟨a, b⟩ hb))))))))
set_option maxHeartbeats 1600000 in
theorem wy_holds {post : Int32 → Prop} {i : Nat} {x : Nat → Nat} (hi : i < 10) (hF : FT (yK i) (yP i) (yQ i) (yR i)) (hx : ∀ v, v < 4 → yV v = nI (x v) ∧ x v < 6) (h : post (bI (hs (yK i) (yP i) (yQ i) (yR i) x))) : wpY_holds post (fN, yK, yP, yQ, yR, yD, yV) (nI i) := by
  refine And.intro (zi10 hi) (nm_r (congrArg yK (zcl (by omega))) ⟨zi10 hi, nm_r (congrArg yP (zcl (by omega))) ⟨zi10 hi, nm_r (congrArg yQ (zcl (by omega))) ⟨zi10 hi, nm_r (congrArg yR (zcl (by omega))) ?_⟩⟩⟩)
  have ex : ∀ v, v < 4 → yV (nI v).toNatClampNeg = nI (x v) := fun v hv => by rw [zcl (by omega)]; exact (hx v hv).1
  have e6 : ∀ v, v < 4 → x v < 6 := fun v hv => (hx v hv).2
  revert hF h
  generalize yK i = K
  generalize yP i = P
  generalize yQ i = Q
  generalize yR i = R
  intro hF h
  rcases hF with ⟨hk, p, hp, rfl, q1, q2⟩ | ⟨rfl, p, hp, rfl⟩ | ⟨rfl, p, q, r, hp, hq, hr, rfl, rfl, rfl⟩ | hL
  · have bd := ps_bd (w := dg p) (x := x) 4 (fun v _ => dg_bd p v) e6
    rcases hk with rfl | rfl
    · refine br_t rfl (wy_sum hp (fun v hv => (hx v hv).1) (bI_br' (f := post) ?_ h))
      rw [zn_ltr (by omega) (by omega), hs_0, nn_n (by omega)]; omega
    · refine br_f (by decide) (br_t rfl (wy_sum hp (fun v hv => (hx v hv).1) (bI_br (f := post) ?_ h)))
      rw [zn_eqr (by omega) (by omega), hs_1, nn_n (by omega)]
  · refine br_f (by decide) (br_f (by decide) (br_t rfl (wy_diff hp hx ⟨bI_n _, ?_⟩)))
    rw [bI_c hs_2, nn_n (by omega)] at h
    exact h
  · refine br_f (by decide) (br_f (by decide) (br_f (by decide) (br_f (by decide) (br_t rfl (wy_having hp hr hx (bI_br (f := post) ?_ h))))))
    have := hm_le (p := p) (r := r) (x := x) 4
    rw [hs_7, nn_n (by omega), nn_n (by omega), nn_n (by omega), nI_eq (by omega) (by omega)]
  · rcases hL with ⟨rfl, p, q, r, hp, hq, hr, rfl, rfl, rfl⟩ | ⟨rfl, p, q, r, hp, hq, hr, rfl, rfl, rfl⟩ | ⟨rfl, p, q, hp, hq, rfl, rfl⟩ | ⟨rfl, p, q, r, hp, hq, hr, rfl, rfl, rfl⟩ | ⟨rfl, p, q, r, hp, hq, hr, rfl, rfl, rfl⟩
    · refine br_f (by decide) (br_f (by decide) (br_f (by decide) (br_f (by decide) (br_f (by decide) ⟨zi4n hp, nm_r (ex p (by omega)) ⟨zi4n hq, nm_r (ex q (by omega)) (br_t rfl (wy_digit hr (e6 q (by omega)) (bI_br (f := post) ?_ h)))⟩⟩))))
      have := e6 p (by omega)
      rw [hs_3, nn_n (by omega), nn_n (by omega), nn_n (by omega), nI_eq (by omega) (by omega)]
    · refine br_f (by decide) (br_f (by decide) (br_f (by decide) (br_f (by decide) (br_f (by decide) ⟨zi4n hp, nm_r (ex p (by omega)) ⟨zi4n hq, nm_r (ex q (by omega)) (br_f (by decide) (br_t rfl ⟨zi4n hr, bI_br (f := post) ?_ h⟩))⟩⟩))))
      have := mul25 (e6 p (by omega)) (e6 q (by omega))
      have := e6 r (by omega)
      rw [ex r (by omega), hs_4, nn_n (by omega), nn_n (by omega), nn_n (by omega), pk_mul, nI_eq (by omega) (by omega)]
    · have hs5 : hs 5 (nI p) (nI q) R x ↔ (x (p / 6) = p % 6 ↔ q % 6 ≤ x (q / 6)) := by
        rw [hs_5, nn_n (n := p) (by omega), nn_n (n := q) (by omega)]
      rw [bI_c hs5] at h
      have ep : yV (nI p / 6).toNatClampNeg = nI (x (p / 6)) := by rw [zd_d6 (by omega)]; exact ex _ (by omega)
      have eq : yV (nI q / 6).toNatClampNeg = nI (x (q / 6)) := by rw [zd_d6 (by omega)]; exact ex _ (by omega)
      have vp : vp_in (nI p / 6) 4 := by rw [zd_d6 (by omega)]; exact zi4n (by omega)
      have vq : vp_in (nI q / 6) 4 := by rw [zd_d6 (by omega)]; exact zi4n (by omega)
      have l1 := e6 (p / 6) (by omega)
      have l2 := e6 (q / 6) (by omega)
      have cp : (yV (nI p / 6).toNatClampNeg = nI p - nI p / 6 * 6) ↔ x (p / 6) = p % 6 := by rw [ep, zd_r6 (by omega), nI_eq (by omega) (by omega)]
      have cq : (yV (nI q / 6).toNatClampNeg < nI q - nI q / 6 * 6) ↔ x (q / 6) < q % 6 := by rw [eq, zd_r6 (by omega), nI_ltI (by omega) (by omega)]
      refine br_f (by decide) (br_f (by decide) (br_f (by decide) (br_t rfl ⟨ze6, vp, ze6, ?_⟩)))
      by_cases a : x (p / 6) = p % 6
      · refine br_t (cp.mpr a) (And.intro ze6 ⟨vq, ze6, ?_⟩)
        by_cases b : x (q / 6) < q % 6
        · refine br_t (cq.mpr b) (br_f (by decide) ?_)
          rw [bI_f (fun z => by have := z.mp a; omega)] at h
          exact h
        · refine br_f (fun z => b (cq.mp z)) (br_t rfl ?_)
          rw [bI_t ⟨fun _ => by omega, fun _ => a⟩] at h
          exact h
      · refine br_f (fun z => a (cp.mp z)) (And.intro ze6 ⟨vq, ze6, ?_⟩)
        by_cases b : x (q / 6) < q % 6
        · refine br_t (cq.mpr b) (br_t rfl ?_)
          rw [bI_t ⟨fun z => absurd z a, fun z => absurd z (by omega)⟩] at h
          exact h
        · refine br_f (fun z => b (cq.mp z)) (br_f (by decide) ?_)
          rw [bI_f (fun z => a (z.mpr (by omega)))] at h
          exact h
    · have l1 := e6 p (by omega)
      have l2 := e6 q (by omega)
      rw [bI_c hs_6, nn_n (n := r) (by omega), nn_n (n := p) (by omega), nn_n (n := q) (by omega)] at h
      refine br_f (by decide) (br_f (by decide) (br_f (by decide) (br_f (by decide) (br_f (by decide) ⟨zi4n hp, nm_r (ex p (by omega)) ⟨zi4n hq, nm_r (ex q (by omega)) (br_f (by decide) (br_f (by decide) (br_t rfl ?_)))⟩⟩))))
      rw [zn_subN, zn_subN, zn_n r]
      by_cases c1 : r + x q ≤ x p
      · refine br_t ((zn_le (by omega) (by omega) (by omega) (by omega)).mpr (by omega)) ?_
        rw [bI_t (Or.inl c1)] at h
        exact h
      · refine br_f (fun z => by rw [zn_le (by omega) (by omega) (by omega) (by omega)] at z; omega) ?_
        by_cases c2 : r + x p ≤ x q
        · refine br_f (fun z => by rw [zn_lt (by omega) (by omega) (by omega) (by omega)] at z; omega) ?_
          rw [bI_t (Or.inr c2)] at h
          exact h
        · refine br_t ((zn_lt (by omega) (by omega) (by omega) (by omega)).mpr (by omega)) ?_
          rw [bI_f (fun z => by omega)] at h
          exact h
    · have l0 := e6 p (by omega)
      have l1 := e6 q (by omega)
      have l2 := e6 (r % 4) (by omega)
      have l3 := e6 (r / 4) (by omega)
      rw [bI_c hs_8, nn_n (n := r) (by omega), nn_n (n := p) (by omega), nn_n (n := q) (by omega)] at h
      have e2 : yV (nI r - nI r / 4 * 4).toNatClampNeg = nI (x (r % 4)) := by rw [zd_r4 (by omega)]; exact ex _ (by omega)
      have e3 : yV (nI r / 4).toNatClampNeg = nI (x (r / 4)) := by rw [zd_d4 (by omega)]; exact ex _ (by omega)
      have v2 : vp_in (nI r - nI r / 4 * 4) 4 := by rw [zd_r4 (by omega)]; exact zi4n (by omega)
      have v3 : vp_in (nI r / 4) 4 := by rw [zd_d4 (by omega)]; exact zi4n (by omega)
      refine br_f (by decide) (br_f (by decide) (br_f (by decide) (br_f (by decide) (br_f (by decide) ⟨zi4n hp, nm_r (ex p (by omega)) ⟨zi4n hq, nm_r (ex q (by omega)) (br_f (by decide) (br_f (by decide) (br_f (by decide) ?_)))⟩⟩))))
      rw [e2, e3]
      by_cases c1 : x p < x q
      · refine br_t ((nI_ltI (by omega) (by omega)).mpr c1) ?_
        rw [bI_t (Or.inl c1)] at h
        exact h
      · refine br_f (fun z => c1 ((nI_ltI (by omega) (by omega)).mp z)) ?_
        by_cases c2 : x p = x q
        · refine br_t (congrArg nI c2) ⟨ze4, v2, ze4, v3, ?_⟩
          by_cases c3 : x (r / 4) < x (r % 4)
          · refine br_t ((nI_ltI (by omega) (by omega)).mpr c3) ?_
            rw [bI_f (fun z => by omega)] at h
            exact h
          · refine br_f (fun z => c3 ((nI_ltI (by omega) (by omega)).mp z)) ?_
            rw [bI_t (Or.inr ⟨c2, by omega⟩)] at h
            exact h
        · refine br_f (fun z => c2 ((nI_eq (by omega) (by omega)).mp z)) ?_
          rw [bI_f (fun z => by omega)] at h
          exact h
/-- assignment number a is a solution -/
def SO (m : Nat → Nat) (H : (Nat → Nat) → Prop) (a : Nat) : Prop := IB m (av a) ∧ H (av a)
theorem ze36 : ¬ (36 : Int32) = 0 := by decide
theorem ze216 : ¬ (216 : Int32) = 0 := by decide
theorem wy_isSol {post : Int32 → SY → Prop} {n rl a : Nat} {m : Nat → Nat} (hn : n ≤ 10) (hr : rl < 1024) (ha : a < 1296) (hF : ∀ i, i < n → FT (yK i) (yP i) (yQ i) (yR i)) (hD : NN m yD) (hm : ∀ v, v < 4 → m v < 64)
    (h : ∀ yV' : Nat → Int32, (∀ v, v < 4 → yV' v = nI (av a v)) → post (bI (SO m (HA n rl yK yP yQ yR) a)) (nI n, yK, yP, yQ, yR, yD, yV')) : wpY_isSolution post (nI n, yK, yP, yQ, yR, yD, yV) (nI a) (nI rl) := by
  have d36 : nI a / 36 = nI (a / 36) := pk_div (d := 36) (by omega) (by decide) (by decide)
  have d216 : nI a / 216 = nI (a / 216) := pk_div (d := 216) (by omega) (by decide) (by decide)
  refine And.intro ze6 (nm_r (e' := upd yV 3 (nI (av a 3))) (by rw [zd_r6 (by omega), av_3]) ⟨ze6, ze6, nm_r (e' := upd (upd yV 3 (nI (av a 3))) 2 (nI (av a 2))) (by rw [zd_d6 (by omega), zd_r6 (by omega), av_2]) ⟨ze36, ze6, nm_r (e' := upd (upd (upd yV 3 (nI (av a 3))) 2 (nI (av a 2))) 1 (nI (av a 1))) (by rw [d36, zd_r6 (by omega), av_1]) ⟨ze216, nm_r (e' := upd (upd (upd (upd yV 3 (nI (av a 3))) 2 (nI (av a 2))) 1 (nI (av a 1))) 0 (nI (av a 0))) (by rw [d216, av_0, Nat.mod_eq_of_lt (by omega)]) ?_⟩⟩⟩)
  have hV : ∀ v, v < 4 → upd (upd (upd (upd yV 3 (nI (av a 3))) 2 (nI (av a 2))) 1 (nI (av a 1))) 0 (nI (av a 0)) v = nI (av a v) := z4 rfl rfl rfl rfl
  revert hV
  generalize upd (upd (upd (upd yV 3 (nI (av a 3))) 2 (nI (av a 2))) 1 (nI (av a 1))) 0 (nI (av a 0)) = V
  intro hV
  have h' := h V hV
  have main : IB m (av a) → ∃ n82, wY_isSolution_82 post (nI rl) (nI n) yK yP yQ yR yD V n82 0 := by
    intro hIB
    refine pk_loop (σ := Unit) (fun k i _ => wY_isSolution_82 post (nI rl) (nI n) yK yP yQ yR yD V k (nI i)) (fun i _ => ∀ j, j < i → rl.testBit j = true → hs (yK j) (yP j) (yQ j) (yR j) (av a)) n 0 () (by omega) (fun j hj => absurd hj (by omega))
      (fun k _ hI => br_t (nI_le (by omega) (by omega)) (by rw [bI_t (p := SO m (HA n rl yK yP yQ yR) a) ⟨hIB, hI⟩] at h'; exact h'))
      (fun k i _ hi hI K => br_f (nI_ge hi (by omega)) ?_)
    by_cases hb : rl.testBit i = true
    · refine br_t ((zx_b1 (by omega) (by omega)).mpr hb) (wy_holds (x := av a) (by omega) (hF i hi) (fun v hv => ⟨hV v hv, av_lt a v⟩) ?_)
      by_cases hh : hs (yK i) (yP i) (yQ i) (yR i) (av a)
      · exact br_f (fun z => bI_0.mp z hh) (nm_r (nI_1 i) (K () (lt_s hI (fun _ => hh))))
      · refine br_t (bI_0.mpr hh) ?_
        rw [bI_f (fun z : SO m (HA n rl yK yP yQ yR) a => hh (z.2 i hi hb))] at h'
        exact h'
    · exact br_f (fun z => hb ((zx_b1 (by omega) (by omega)).mp z)) (nm_r (nI_1 i) (K () (lt_s hI (fun z => absurd z hb))))
  refine pk_loop (σ := Unit) (fun k v _ => wY_isSolution_49 post (nI rl) (nI n) yK yP yQ yR yD V k (nI v)) (fun v _ => ∀ u, u < v → (m u).testBit (av a u) = true) 4 0 () (by omega) (fun u hu => absurd hu (by omega))
    (fun k _ hI => br_t (nI_le (a := 4) (b := 4) (by omega) (by omega)) (main hI)) (fun k v _ hv hI K => br_f (zc4 hv) ⟨zi4 hv, zi4 hv, ?_⟩)
  have hmv := hm v hv
  have hav := av_lt a v
  rw [zcl (by omega : v < 100000), hD v hv, hV v hv]
  cases hb : (m v).testBit (av a v)
  · refine br_t ((zx_b0 (by omega) (by omega)).mpr hb) ?_
    rw [bI_f (fun z : SO m (HA n rl yK yP yQ yR) a => by have := z.1 v hv; rw [hb] at this; exact absurd this (by decide))] at h'
    exact h'
  · exact br_f (fun z => by rw [zx_b0 (by omega) (by omega), hb] at z; exact absurd z (by decide)) (nm_r (nI_1 v) (K () (lt_s hI hb)))
theorem wy_all {post : Int32 → Prop} {n : Nat} (hn : n ≤ 10) (h : post (nI (2 ^ n - 1))) : wpY_all post (nI n, yK, yP, yQ, yR, yD, yV) := by
  unfold wpY_all
  dsimp only
  rw [zx_shl (by omega), show nI (2 ^ n) - 1 = nI (2 ^ n - 1) from pk_sub (b := 1) Nat.one_le_two_pow]
  exact h
theorem wy_countOf {post : Int32 → SY → Prop} {n rl : Nat} {m : Nat → Nat} {w : Nat → Int} (hn : n ≤ 10) (hr : rl < 1024) (hF : ∀ i, i < n → FT (yK i) (yP i) (yQ i) (yR i)) (hD : NN m yD) (hm : ∀ v, v < 4 → m v < 64)
    (h : ∀ yV' : Nat → Int32, post (nI (CB (HA n rl yK yP yQ yR) w m one)) (nI n, yK, yP, yQ, yR, yD, yV')) : wpY_countOf post (nI n, yK, yP, yQ, yR, yD, yV) (nI rl) := by
  refine pk_loop (σ := Nat → Int32) (fun k a s => wY_countOf_4 post (nI rl) k (nI (sN a (fun a => iz (SO m (HA n rl yK yP yQ yR) a) 1 0))) (nI a) (nI n) yK yP yQ yR yD s) (fun _ _ => True) 1296 0 yV (by omega) trivial
    (fun k s _ => br_t (nI_le (a := 1296) (b := 1296) (by omega) (by omega)) (h s)) (fun k a s ha _ K => br_f (nI_ge (b := 1296) ha (by omega)) (wy_isSol (m := m) hn hr ha hF hD hm (fun yV' _ => ?_)))
  have K' := K yV' trivial
  have e : sN (a + 1) (fun a => iz (SO m (HA n rl yK yP yQ yR) a) 1 0) = sN a (fun a => iz (SO m (HA n rl yK yP yQ yR) a) 1 0) + iz (SO m (HA n rl yK yP yQ yR) a) 1 0 := rfl
  by_cases c : SO m (HA n rl yK yP yQ yR) a
  · rw [iz_t c] at e
    rw [e] at K'
    exact br_f (fun z => bI_0.mp z c) (nm_r (nI_1 _) (nm_r (nI_1 a) K'))
  · rw [iz_f c, Nat.add_zero] at e
    rw [e] at K'
    exact br_t (bI_0.mpr c) (nm_r (nI_1 a) K')
end WY
end
section
/-! Y: first, possible, optimum, countWith -/
section WY2
variable {fN : Int32} {yK yP yQ yR yD yV : Nat → Int32}
theorem n1296 {a : Nat} (h : a < 1296) : ¬ (1296 : Int32) ≤ nI a := nI_ge (b := 1296) h (by decide)
theorem l1296 : (1296 : Int32) ≤ nI 1296 := nI_le (a := 1296) (b := 1296) (by omega) (by decide)
theorem wy_first {post : Int32 → SY → Prop} {n rl v : Nat} {m : Nat → Nat} (hn : n ≤ 10) (hr : rl < 1024) (hF : ∀ i, i < n → FT (yK i) (yP i) (yQ i) (yR i)) (hD : NN m yD) (hm : ∀ v, v < 4 → m v < 64) (hv : v < 4)
    (h1 : ∀ a, a < 1296 → SO m (HA n rl yK yP yQ yR) a → (∀ b, b < a → ¬ SO m (HA n rl yK yP yQ yR) b) → ∀ yV' : Nat → Int32, post (nI (av a v)) (nI n, yK, yP, yQ, yR, yD, yV'))
    (h0 : (∀ a, a < 1296 → ¬ SO m (HA n rl yK yP yQ yR) a) → ∀ yV' : Nat → Int32, post (-1002) (nI n, yK, yP, yQ, yR, yD, yV')) : ∃ k, wY_first_21 post (nI v) (nI rl) k 0 (nI n) yK yP yQ yR yD yV := by
  refine pk_loop (σ := Nat → Int32) (fun k a s => wY_first_21 post (nI v) (nI rl) k (nI a) (nI n) yK yP yQ yR yD s) (fun a _ => ∀ b, b < a → ¬ SO m (HA n rl yK yP yQ yR) b) 1296 0 yV (by omega) (fun b hb => absurd hb (by omega))
    (fun k s hI => br_t l1296 (h0 hI s)) (fun k a s ha hI K => br_f (n1296 ha) (wy_isSol (m := m) hn hr ha hF hD hm (fun yV' hV => ?_)))
  by_cases c : SO m (HA n rl yK yP yQ yR) a
  · refine br_f (fun z => bI_0.mp z c) ⟨zi4 hv, ?_⟩
    rw [zcl (by omega), hV v hv]
    exact h1 a ha c hI yV'
  · exact br_t (bI_0.mpr c) (nm_r (nI_1 a) (K yV' (lt_s hI c)))
theorem wy_possible {post : Int32 → SY → Prop} {n rl v : Nat} {m : Nat → Nat} (hn : n ≤ 10) (hr : rl < 1024) (hF : ∀ i, i < n → FT (yK i) (yP i) (yQ i) (yR i)) (hD : NN m yD) (hm : ∀ v, v < 4 → m v < 64) (hv : v < 4)
    (h : ∀ (M : Nat) (yV' : Nat → Int32), M < 64 → (∀ x, M.testBit x = true ↔ ∃ a, a < 1296 ∧ SO m (HA n rl yK yP yQ yR) a ∧ av a v = x) → post (nI M) (nI n, yK, yP, yQ, yR, yD, yV')) : ∃ k, wY_possible_24 post (nI v) (nI rl) k 0 0 (nI n) yK yP yQ yR yD yV := by
  refine pk_loop (σ := Nat × (Nat → Int32)) (fun k a s => wY_possible_24 post (nI v) (nI rl) k (nI s.1) (nI a) (nI n) yK yP yQ yR yD s.2) (fun a s => s.1 < 64 ∧ ∀ x, s.1.testBit x = true ↔ ∃ b, b < a ∧ SO m (HA n rl yK yP yQ yR) b ∧ av b v = x) 1296 0 (0, yV) (by omega)
    ⟨by show 0 < 64; omega, fun x => ⟨fun z => by have z' : (0 : Nat).testBit x = true := z; rw [Nat.zero_testBit] at z'; exact absurd z' (by decide), fun ⟨b, hb, _⟩ => absurd hb (by omega)⟩⟩
    (fun k s hI => br_t l1296 (h s.1 s.2 hI.1 hI.2)) (fun k a s ha hI K => br_f (n1296 ha) (wy_isSol (m := m) hn hr ha hF hD hm (fun yV' hV => ?_)))
  obtain ⟨M, s2⟩ := s
  have hM : M < 64 := hI.1
  have hB : ∀ x, M.testBit x = true ↔ ∃ b, b < a ∧ SO m (HA n rl yK yP yQ yR) b ∧ av b v = x := hI.2
  have h6 := av_lt a v
  by_cases c : SO m (HA n rl yK yP yQ yR) a
  · refine br_f (fun z => bI_0.mp z c) ⟨zi4 hv, nm_r (e' := nI (M ||| 2 ^ av a v)) ?_ (nm_r (nI_1 a) (K (M ||| 2 ^ av a v, yV') ⟨?_, fun x => ?_⟩))⟩
    · rw [zcl (by omega), hV v hv, zx_shl (by omega), zx_or]
    · exact Nat.or_lt_two_pow (n := 6) hM (Nat.pow_lt_pow_right (by decide) h6)
    · show (M ||| 2 ^ av a v).testBit x = true ↔ _
      rw [Nat.testBit_or, Bool.or_eq_true, hB x, Nat.testBit_two_pow, decide_eq_true_iff]
      constructor
      · rintro (⟨b, hb, z1, z2⟩ | z)
        · exact ⟨b, by omega, z1, z2⟩
        · exact ⟨a, by omega, c, z⟩
      · rintro ⟨b, hb, z1, z2⟩
        by_cases e : b = a
        · subst e; exact Or.inr z2
        · exact Or.inl ⟨b, by omega, z1, z2⟩
  · refine br_t (bI_0.mpr c) (nm_r (nI_1 a) (K (M, yV') ⟨hM, fun x => ?_⟩))
    show M.testBit x = true ↔ _
    rw [hB x]
    constructor
    · rintro ⟨b, hb, z1, z2⟩
      exact ⟨b, by omega, z1, z2⟩
    · rintro ⟨b, hb, z1, z2⟩
      by_cases e : b = a
      · subst e; exact absurd z1 c
      · exact ⟨b, by omega, z1, z2⟩
/-- the smallest sum s below assignment a, how many have it, the first of them -/
def OP (m : Nat → Nat) (H : (Nat → Nat) → Prop) (w : Nat → Int) (a : Nat) (s : Int) (c o : Nat) : Prop :=
  (∀ b, b < a → SO m H b → s ≤ ps w (av b) 4) ∧ c = sN a (fun b => iz (SO m H b) (dl s (ps w (av b) 4)) 0) ∧
  ((s = 61 ∧ c = 0) ∨ (-60 ≤ s ∧ s ≤ 60 ∧ o < a ∧ SO m H o ∧ ps w (av o) 4 = s ∧ ∀ b, b < o → SO m H b → ps w (av b) 4 ≠ s))
theorem OP_0 {m : Nat → Nat} {H : (Nat → Nat) → Prop} {w : Nat → Int} : OP m H w 0 61 0 0 := ⟨fun b hb => absurd hb (by omega), rfl, Or.inl ⟨rfl, rfl⟩⟩
theorem OP_n {m : Nat → Nat} {H : (Nat → Nat) → Prop} {w : Nat → Int} {a : Nat} {s : Int} {c o : Nat} (h : OP m H w a s c o) (n : ¬ SO m H a) : OP m H w (a + 1) s c o := by
  obtain ⟨h1, h2, h3⟩ := h
  refine ⟨fun b hb z => ?_, ?_, ?_⟩
  · by_cases e : b = a
    · subst e; exact absurd z n
    · exact h1 b (by omega) z
  · show c = sN a _ + iz (SO m H a) _ 0
    rw [iz_f n, ← h2]; rfl
  · rcases h3 with z | ⟨z1, z2, z3, z4⟩
    · exact Or.inl z
    · exact Or.inr ⟨z1, z2, by omega, z4⟩
theorem OP_y {m : Nat → Nat} {H : (Nat → Nat) → Prop} {w : Nat → Int} {a : Nat} {s : Int} {c o : Nat} (h : OP m H w a s c o) (y : SO m H a) (b1 : -60 ≤ ps w (av a) 4) (b2 : ps w (av a) 4 ≤ 60) :
    (s < ps w (av a) 4 → OP m H w (a + 1) s c o) ∧ (ps w (av a) 4 = s → OP m H w (a + 1) s (c + 1) o) ∧ (ps w (av a) 4 < s → OP m H w (a + 1) (ps w (av a) 4) 1 a) := by
  obtain ⟨h1, h2, h3⟩ := h
  refine ⟨fun l => ⟨fun b hb z => ?_, ?_, ?_⟩, fun l => ⟨fun b hb z => ?_, ?_, ?_⟩, fun l => ⟨fun b hb z => ?_, ?_, ?_⟩⟩
  · by_cases e : b = a
    · subst e; omega
    · exact h1 b (by omega) z
  · show c = sN a _ + iz (SO m H a) _ 0
    rw [iz_t y, dl_n (by omega), ← h2]; rfl
  · rcases h3 with z | ⟨z1, z2, z3, z4⟩
    · omega
    · exact Or.inr ⟨z1, z2, by omega, z4⟩
  · by_cases e : b = a
    · subst e; omega
    · exact h1 b (by omega) z
  · show c + 1 = sN a _ + iz (SO m H a) _ 0
    rw [iz_t y, l, dl_s, ← h2]
  · rcases h3 with z | ⟨z1, z2, z3, z4⟩
    · omega
    · exact Or.inr ⟨z1, z2, by omega, z4⟩
  · by_cases e : b = a
    · subst e; omega
    · have := h1 b (by omega) z; omega
  · show 1 = sN a _ + iz (SO m H a) _ 0
    rw [iz_t y, dl_s, sN_0 a (fun b hb => ?_)]
    by_cases z : SO m H b
    · rw [iz_t z]
      have := h1 b hb z
      exact dl_n (by omega)
    · exact iz_f z
  · exact Or.inr ⟨b1, b2, by omega, y, rfl, fun b hb z => by have := h1 b hb z; omega⟩
set_option maxHeartbeats 1600000 in
theorem wy_opt {post : Int32 → SY → Prop} {n rl p : Nat} {x2 : Int32} {m : Nat → Nat} (hn : n ≤ 10) (hr : rl < 1024) (hF : ∀ i, i < n → FT (yK i) (yP i) (yQ i) (yR i)) (hD : NN m yD) (hm : ∀ v, v < 4 → m v < 64) (hp : p ≤ 2400)
    (h : ∀ (s : Int) (c o : Nat) (yV' : Nat → Int32), OP m (HA n rl yK yP yQ yR) (dg p) 1296 s c o → (x2 = 0 → post (zI s) (nI n, yK, yP, yQ, yR, yD, yV')) ∧ (¬ x2 = 0 → ((x2 = 1 → post (nI c) (nI n, yK, yP, yQ, yR, yD, yV')) ∧ (¬ x2 = 1 → ((zI s = 61 → post (-1002) (nI n, yK, yP, yQ, yR, yD, yV')) ∧ (¬ zI s = 61 → post (nI o) (nI n, yK, yP, yQ, yR, yD, yV'))))))) :
    ∃ k, wY_optimum_18 post (nI p) x2 (nI rl) k 61 0 0 0 (nI n) yK yP yQ yR yD yV := by
  refine pk_loop (σ := Int × Nat × Nat × (Nat → Int32)) (fun k a s => wY_optimum_18 post (nI p) x2 (nI rl) k (zI s.1) (nI s.2.1) (nI s.2.2.1) (nI a) (nI n) yK yP yQ yR yD s.2.2.2) (fun a s => OP m (HA n rl yK yP yQ yR) (dg p) a s.1 s.2.1 s.2.2.1) 1296 0 (61, 0, 0, yV) (by omega) OP_0
    (fun k s hI => br_t l1296 (h s.1 s.2.1 s.2.2.1 s.2.2.2 hI)) (fun k a s ha hI K => br_f (n1296 ha) (wy_isSol (m := m) hn hr ha hF hD hm (fun yV' hV => ?_)))
  obtain ⟨s1, c1, o1, v1⟩ := s
  have hO : OP m (HA n rl yK yP yQ yR) (dg p) a s1 c1 o1 := hI
  by_cases c : SO m (HA n rl yK yP yQ yR) a
  · refine br_f (fun z => bI_0.mp z c) (wy_sum (x := av a) hp hV ?_)
    have bd := ps_bd (w := dg p) (x := av a) 4 (fun v _ => dg_bd p v) (fun v _ => av_lt a v)
    obtain ⟨g1, g2, g3⟩ := OP_y hO c (by omega) (by omega)
    have bs : -60 ≤ s1 ∧ s1 ≤ 61 := by rcases hO.2.2 with z | z <;> omega
    show (zI s1 ≤ zI (ps (dg p) (av a) 4) → _) ∧ (¬ zI s1 ≤ zI (ps (dg p) (av a) 4) → _)
    by_cases l : s1 ≤ ps (dg p) (av a) 4
    · refine br_t ((zn_le (by omega) (by omega) (by omega) (by omega)).mpr l) ?_
      unfold wY_optimum_61
      by_cases e : ps (dg p) (av a) 4 = s1
      · exact br_t (by rw [e]) (nm_r (nI_1 c1) (nm_r (nI_1 a) (K (s1, c1 + 1, o1, yV') (g2 e))))
      · exact br_f (fun z => e ((zn_eq (by omega) (by omega) (by omega) (by omega)).mp z)) (nm_r (nI_1 a) (K (s1, c1, o1, yV') (g1 (by omega))))
    · refine br_f (fun z => l ((zn_le (by omega) (by omega) (by omega) (by omega)).mp z)) ?_
      unfold wY_optimum_61
      exact br_t rfl (nm_r (e' := nI 1) rfl (nm_r (nI_1 a) (K (ps (dg p) (av a) 4, 1, a, yV') (g3 (by omega)))))
  · exact br_t (bI_0.mpr c) (nm_r (nI_1 a) (K (s1, c1, o1, yV') (OP_n hO c)))
theorem wy_countWith {post : Int32 → SY → Prop} {n rl v x : Nat} {m : Nat → Nat} (hn : n ≤ 10) (hr : rl < 1024) (hF : ∀ i, i < n → FT (yK i) (yP i) (yQ i) (yR i)) (hD : NN m yD) (hm : ∀ v, v < 4 → m v < 64) (hv : v < 4) (hx : x < 6)
    (h : ∀ yV' : Nat → Int32, post (nI (sN 1296 (fun a => iz (SO m (HA n rl yK yP yQ yR) a ∧ av a v = x) 1 0))) (nI n, yK, yP, yQ, yR, yD, yV')) : ∃ k, wY_countWith_35 post (nI v) (nI x) (nI rl) k 0 0 (nI n) yK yP yQ yR yD yV := by
  refine pk_loop (σ := Nat → Int32) (fun k a s => wY_countWith_35 post (nI v) (nI x) (nI rl) k (nI (sN a (fun a => iz (SO m (HA n rl yK yP yQ yR) a ∧ av a v = x) 1 0))) (nI a) (nI n) yK yP yQ yR yD s) (fun _ _ => True) 1296 0 yV (by omega) trivial
    (fun k s _ => br_t l1296 (h s)) (fun k a s ha _ K => br_f (n1296 ha) (wy_isSol (m := m) hn hr ha hF hD hm (fun yV' hV => ?_)))
  have K' := K yV' trivial
  have e : sN (a + 1) (fun a => iz (SO m (HA n rl yK yP yQ yR) a ∧ av a v = x) 1 0) = sN a (fun a => iz (SO m (HA n rl yK yP yQ yR) a ∧ av a v = x) 1 0) + iz (SO m (HA n rl yK yP yQ yR) a ∧ av a v = x) 1 0 := rfl
  have h6 := av_lt a v
  by_cases c : SO m (HA n rl yK yP yQ yR) a
  · refine br_f (fun z => bI_0.mp z c) ⟨zi4 hv, ?_⟩
    rw [zcl (i := v) (by omega), hV v hv]
    by_cases ex : av a v = x
    · rw [iz_t ⟨c, ex⟩] at e
      rw [e] at K'
      exact br_t (congrArg nI ex) (nm_r (nI_1 _) (nm_r (nI_1 a) K'))
    · rw [iz_f (fun z => ex z.2), Nat.add_zero] at e
      rw [e] at K'
      exact br_f (fun z => ex ((nI_eq (by omega) (by omega)).mp z)) (nm_r (nI_1 a) K')
  · rw [iz_f (fun z => c z.1), Nat.add_zero] at e
    rw [e] at K'
    exact br_t (bI_0.mpr c) (nm_r (nI_1 a) K')
end WY2
end
section
/-! X: questions -/
section W15
variable {cC wN rU mO tO bS dE iC : Int32} {aD aK aP aQ aR aN aW aC aG aV aS aI aT aY aU aB aM aA : Nat → Int32}
theorem wx_isWithin {post : Int32 → Prop} {p0 p1 : Int32} (h : post (bI (0 ≤ p0 ∧ p0 ≤ p1))) : wpX_isWithin post (cC, wN, rU, mO, tO, bS, dE, iC, aD, aK, aP, aQ, aR, aN, aW, aC, aG, aV, aS, aI, aT, aY, aU, aB, aM, aA) p0 p1 := by
  by_cases c1 : p0 < 0
  · refine br_t c1 ?_
    rw [bI_f (fun z => Int32.not_le.mpr c1 z.1)] at h
    exact h
  · refine br_f c1 ?_
    by_cases c2 : p1 < p0
    · refine br_t c2 ?_
      rw [bI_f (fun z => Int32.not_le.mpr c2 z.2)] at h
      exact h
    · refine br_f c2 ?_
      rw [bI_t ⟨Int32.not_lt.mp c1, Int32.not_lt.mp c2⟩] at h
      exact h
theorem wx_start {post : SX → Prop} {n : Nat} {m : Nat → Nat} (hn : n ≤ 10) (hD : NN m aD) (hm : ∀ v, v < 4 → m v < 64) (h : ∀ aN' : Nat → Int32, NN m aN' → post (nI n, wN, nI (2 ^ n - 1), mO, tO, bS, dE, iC, aD, aK, aP, aQ, aR, aN', aW, aC, aG, aV, aS, aI, aT, aY, aU, aB, aM, aA)) : wpX_start post (nI n, wN, rU, mO, tO, bS, dE, iC, aD, aK, aP, aQ, aR, aN, aW, aC, aG, aV, aS, aI, aT, aY, aU, aB, aM, aA) := by
  refine nm_r (e' := nI (2 ^ n - 1)) (by rw [zx_shl (by omega)]; exact pk_sub (b := 1) Nat.one_le_two_pow) ?_
  refine pk_loop (σ := Nat → Int32) (fun k v s => wX_start_14 post (nI n) wN (nI (2 ^ n - 1)) mO tO bS dE iC k (nI v) aD aK aP aQ aR s aW aC aG aV aS aI aT aY aU aB aM aA) (fun v s => ∀ u, u < v → s u = nI (m u)) 4 0 aN (by omega) (fun u hu => absurd hu (by omega))
    (fun k s hI => br_t (nI_le (a := 4) (b := 4) (by omega) (by omega)) (h s hI)) (fun k v s hv hI K => br_f (zc4 hv) ⟨zi4 hv, zi4 hv, nm_r (e' := upd s v (nI (m v))) ?_ (nm_r (nI_1 v) (K _ (zu_s (f := fun u => nI (m u)) hI rfl)))⟩)
  rw [zcl (by omega), hD v hv, zb_n (by have := hm v hv; omega)]
theorem rl_lt {n : Nat} (hn : n ≤ 10) : 2 ^ n - 1 < 1024 := by
  have : 2 ^ n ≤ 2 ^ 10 := Nat.pow_le_pow_right (by decide) hn
  omega
/-- some solution -/
def EX (m : Nat → Nat) (H : (Nat → Nat) → Prop) : Prop := ∃ a, a < 1296 ∧ SO m H a
theorem EX_CB {m : Nat → Nat} {H : (Nat → Nat) → Prop} {w : Nat → Int} : 0 < CB H w m one ↔ EX m H := by
  constructor
  · intro h
    obtain ⟨a, ha, h1, h2, _⟩ := CB_ex h
    exact ⟨a, ha, h1, h2⟩
  · rintro ⟨a, ha, h1, h2⟩
    have := CB_pos (w := w) (h := one) ha h1 h2
    have e : one (ps w (av a) 4) = 1 := rfl
    omega
theorem wx_has {post : Int32 → SX → Prop} {n rl wy : Nat} {m : Nat → Nat} (hn : n ≤ 10) (hr : rl < 1024) (hwy : wy ≤ 2) (hF : ∀ i, i < n → FT (aK i) (aP i) (aQ i) (aR i)) (hN : NN m aN) (hm : ∀ v, v < 4 → m v < 64)
    (h : ∀ (mO' tO' bS' dE' iC' : Int32) (aN' aW' aC' aG' aV' aS' aI' aT' aY' aU' aB' aM' aA' : Nat → Int32), NN m aN' → post (bI (EX m (HA n rl aK aP aQ aR))) (nI n, nI wy, nI rl, mO', tO', bS', dE', iC', aD, aK, aP, aQ, aR, aN', aW', aC', aG', aV', aS', aI', aT', aY', aU', aB', aM', aA')) : wpX_hasSolution post (nI n, nI wy, nI rl, mO, tO, bS, dE, iC, aD, aK, aP, aQ, aR, aN, aW, aC, aG, aV, aS, aI, aT, aY, aU, aB, aM, aA) := by
  unfold wpX_hasSolution
  refine wx_solve (md := 0) (m := m) (w := fun _ => 0) hn hr (by omega) hwy hF hN hm (fun e => absurd e (by omega)) (fun tt bb bS' dE' iC' aN' aC' aG' aV' aS' aI' aT' aY' aU' aB' aM' aA' hsp _ hN' => ?_)
  have hb := Sp_bd hsp (by omega) (fun f hf => CB_le hf)
  have hs := (hsp.1 rfl).1
  by_cases c : EX m (HA n rl aK aP aQ aR)
  · have t : 0 < tt := hs.mpr (EX_CB.mpr c)
    refine br_f (nI_nle t (by omega)) ?_
    have := h (nI 0) (nI tt) bS' dE' iC' aN' aW aC' aG' aV' aS' aI' aT' aY' aU' aB' aM' aA' hN'
    rw [bI_t c] at this
    exact this
  · have t : tt = 0 := by
      have : ¬ 0 < tt := fun z => c (EX_CB.mp (hs.mp z))
      omega
    subst t
    refine br_t (by decide) ?_
    have := h (nI 0) (nI 0) bS' dE' iC' aN' aW aC' aG' aV' aS' aI' aT' aY' aU' aB' aM' aA' hN'
    rw [bI_f c] at this
    exact this
theorem wx_count {post : SX → Prop} {n rl wy : Nat} {m : Nat → Nat} (hn : n ≤ 10) (hr : rl < 1024) (hwy : wy ≤ 2) (hF : ∀ i, i < n → FT (aK i) (aP i) (aQ i) (aR i)) (hN : NN m aN) (hm : ∀ v, v < 4 → m v < 64)
    (h : ∀ (mO' bS' dE' iC' : Int32) (aN' aW' aC' aG' aV' aS' aI' aT' aY' aU' aB' aM' aA' : Nat → Int32), NN m aN' → post (nI n, nI wy, nI rl, mO', nI (CB (HA n rl aK aP aQ aR) (fun _ => 0) m one), bS', dE', iC', aD, aK, aP, aQ, aR, aN', aW', aC', aG', aV', aS', aI', aT', aY', aU', aB', aM', aA')) : wpX_solve post (nI n, nI wy, nI rl, mO, tO, bS, dE, iC, aD, aK, aP, aQ, aR, aN, aW, aC, aG, aV, aS, aI, aT, aY, aU, aB, aM, aA) 1 := by
  refine wx_solve (md := 1) (m := m) (w := fun _ => 0) hn hr (by omega) hwy hF hN hm (fun e => absurd e (by omega)) (fun tt bb bS' dE' iC' aN' aC' aG' aV' aS' aI' aT' aY' aU' aB' aM' aA' hsp _ hN' => ?_)
  have hs := hsp.2.1 rfl
  subst hs
  exact h (nI 1) bS' dE' iC' aN' aW aC' aG' aV' aS' aI' aT' aY' aU' aB' aM' aA' hN'
theorem wx_best {post : SX → Prop} {n rl wy p : Nat} {m : Nat → Nat} (hn : n ≤ 10) (hr : rl < 1024) (hwy : wy ≤ 2) (hF : ∀ i, i < n → FT (aK i) (aP i) (aQ i) (aR i)) (hp : p ≤ 2400) (hN : NN m aN) (hm : ∀ v, v < 4 → m v < 64)
    (h : ∀ (tt : Nat) (bb : Int) (mO' dE' iC' : Int32) (aN' aW' aC' aG' aV' aS' aI' aT' aY' aU' aB' aM' aA' : Nat → Int32), NN m aN' → Sp 2 (CB (HA n rl aK aP aQ aR) (dg p) m) tt bb → tt ≤ 1296 → post (nI n, nI wy, nI rl, mO', nI tt, zI bb, dE', iC', aD, aK, aP, aQ, aR, aN', aW', aC', aG', aV', aS', aI', aT', aY', aU', aB', aM', aA')) : wpX_solveBest post (nI n, nI wy, nI rl, mO, tO, bS, dE, iC, aD, aK, aP, aQ, aR, aN, aW, aC, aG, aV, aS, aI, aT, aY, aU, aB, aM, aA) (nI p) := by
  unfold wpX_solveBest
  refine wx_unpack hp (fun aG1 hG => ?_)
  refine pk_loop (σ := Nat → Int32) (fun k v s => wX_solveBest_7 post (nI n) (nI wy) (nI rl) mO tO bS dE iC k (nI v) aD aK aP aQ aR aN s aC aG1 aV aS aI aT aY aU aB aM aA) (fun v s => ∀ u, u < v → s u = zI (dg p u)) 4 0 aW (by omega) (fun u hu => absurd hu (by omega))
    (fun k s hI => br_t (nI_le (a := 4) (b := 4) (by omega) (by omega)) ?_) (fun k v s hv hI K => br_f (zc4 hv) ⟨zi4 hv, zi4 hv, nm_r (e' := upd s v (zI (dg p v))) ?_ (nm_r (nI_1 v) (K _ (zu_s (f := fun u => zI (dg p u)) hI rfl)))⟩)
  · refine wx_solve (md := 2) (m := m) (w := dg p) hn hr (by omega) hwy hF hN hm (fun _ v hv => ⟨hI v hv, dg_bd p v⟩) (fun tt bb bS' dE' iC' aN' aC' aG' aV' aS' aI' aT' aY' aU' aB' aM' aA' hsp hb hN' => ?_)
    rw [hb rfl]
    exact h tt bb (nI 2) dE' iC' aN' s aC' aG' aV' aS' aI' aT' aY' aU' aB' aM' aA' hN' hsp (Sp_bd hsp (by omega) (fun f hf => CB_le hf))
  · have := dg_bd p v
    rw [zcl (by omega), hG v hv, zb_z (by omega) (by omega)]
theorem p2_64 {x : Nat} (h : x < 6) : 2 ^ x < 64 := (Nat.pow_lt_pow_right (by decide) h : 2 ^ x < 2 ^ 6)
theorem NN_o {m : Nat → Nat} {a : Nat → Int32} {u z : Nat} (h : ∀ v, v < 4 → v ≠ u → a v = nI (m v)) : NN (uN4 m u z) (upd a u (nI z)) := by
  intro v hv
  by_cases e : v = u
  · subst e; rw [uN4_s, pk_us]
  · rw [uN4_n e, pk_un e]; exact h v hv e
theorem um_64 {m : Nat → Nat} {u z : Nat} (hm : ∀ v, v < 4 → m v < 64) (hz : z < 64) : ∀ v, v < 4 → uN4 m u z v < 64 := by
  intro v hv
  by_cases e : v = u
  · subst e; rw [uN4_s]; exact hz
  · rw [uN4_n e]; exact hm v hv
set_option maxHeartbeats 1600000 in
/-- the smallest value with which there is a solution -/
theorem wx_chooseFirst {post : SX → Prop} {n rl wy u x0 : Nat} {m : Nat → Nat} (hn : n ≤ 10) (hr : rl < 1024) (hwy : wy ≤ 2) (hF : ∀ i, i < n → FT (aK i) (aP i) (aQ i) (aR i)) (hu : u < 4) (hN : NN m aN) (hm : ∀ v, v < 4 → m v < 64) (hx0 : x0 < 6) (hb : (m u).testBit x0 = true) (hT : EX (uN4 m u (2 ^ x0)) (HA n rl aK aP aQ aR)) (hl : ∀ x, x < x0 → (m u).testBit x = true → ¬ EX (uN4 m u (2 ^ x)) (HA n rl aK aP aQ aR))
    (h : ∀ (mO' tO' bS' dE' iC' : Int32) (aN' aW' aC' aG' aV' aS' aI' aT' aY' aU' aB' aM' aA' : Nat → Int32), NN (uN4 m u (2 ^ x0)) aN' → post (nI n, nI wy, nI rl, mO', tO', bS', dE', iC', aD, aK, aP, aQ, aR, aN', aW', aC', aG', aV', aS', aI', aT', aY', aU', aB', aM', aA')) : wpX_chooseFirst post (nI n, nI wy, nI rl, mO, tO, bS, dE, iC, aD, aK, aP, aQ, aR, aN, aW, aC, aG, aV, aS, aI, aT, aY, aU, aB, aM, aA) (nI u) := by
  have main : ∀ (d x : Nat) (mO tO bS dE iC : Int32) (aN aW aC aG aV aS aI aT aY aU aB aM aA : Nat → Int32), x + d = x0 → (∀ v, v < 4 → v ≠ u → aN v = nI (m v)) → wX_chooseFirst_12 post (nI u) (nI (m u)) (d + 2) 0 (nI x) (nI n) (nI wy) (nI rl) mO tO bS dE iC aD aK aP aQ aR aN aW aC aG aV aS aI aT aY aU aB aM aA := by
    have hmu := hm u hu
    intro d
    induction d with
    | zero =>
      intro x mO tO bS dE iC aN aW aC aG aV aS aI aT aY aU aB aM aA hx hA
      have e : x = x0 := by omega
      subst e
      have h64 := p2_64 hx0
      refine br_f (zc6 hx0) (br_t rfl (br_f (fun z => by rw [zx_b0 (by omega) (by omega), hb] at z; exact absurd z (by decide)) ⟨zi4 hu, nm_r (e' := upd aN u (nI (2 ^ x))) (by rw [zcl (by omega), zx_shl (by omega), zb_n8 (by omega)]) ?_⟩))
      refine wx_has (m := uN4 m u (2 ^ x)) hn hr hwy hF (NN_o hA) (um_64 hm h64) (fun mO' tO' bS' dE' iC' aN' aW' aC' aG' aV' aS' aI' aT' aY' aU' aB' aM' aA' hN' => nm_r (nI_1 x) ?_)
      rw [bI_t hT]
      by_cases c : x + 1 = 6
      · exact br_t (nI_le (a := 6) (by omega) (by omega)) (h _ _ _ _ _ _ _ _ _ _ _ _ _ _ _ _ _ _ hN')
      · exact br_f (zc6 (by omega)) (br_f (by decide) (h _ _ _ _ _ _ _ _ _ _ _ _ _ _ _ _ _ _ hN'))
    | succ d ih =>
      intro x mO tO bS dE iC aN aW aC aG aV aS aI aT aY aU aB aM aA hx hA
      refine br_f (zc6 (by omega)) (br_t rfl ?_)
      cases hbx : (m u).testBit x
      · exact br_t ((zx_b0 (by omega) (by omega)).mpr hbx) (nm_r (nI_1 x) (ih (x + 1) _ _ _ _ _ _ _ _ _ _ _ _ _ _ _ _ _ _ (by omega) hA))
      · have h64 := p2_64 (by omega : x < 6)
        refine br_f (fun z => by rw [zx_b0 (by omega) (by omega), hbx] at z; exact absurd z (by decide)) ⟨zi4 hu, nm_r (e' := upd aN u (nI (2 ^ x))) (by rw [zcl (by omega), zx_shl (by omega), zb_n8 (by omega)]) ?_⟩
        refine wx_has (m := uN4 m u (2 ^ x)) hn hr hwy hF (NN_o hA) (um_64 hm h64) (fun mO' tO' bS' dE' iC' aN' aW' aC' aG' aV' aS' aI' aT' aY' aU' aB' aM' aA' hN' => nm_r (nI_1 x) ?_)
        rw [bI_f (hl x (by omega) hbx)]
        exact ih (x + 1) _ _ _ _ _ _ _ _ _ _ _ _ _ _ _ _ _ _ (by omega) (fun v hv hne => by rw [hN' v hv, uN4_n hne])
  refine And.intro (zi4 hu) (nm_r (e' := nI (m u)) (by rw [zcl (by omega)]; exact hN u hu) ⟨x0 + 2, main x0 0 _ _ _ _ _ _ _ _ _ _ _ _ _ _ _ _ _ _ (by omega) (fun v hv _ => hN v hv)⟩)
/-- a solution with the sum g -/
def EXg (m : Nat → Nat) (H : (Nat → Nat) → Prop) (w : Nat → Int) (g : Int) : Prop := ∃ a, a < 1296 ∧ SO m H a ∧ ps w (av a) 4 = g
theorem dl_pos {s t : Int} (h : 0 < dl s t) : t = s := by
  apply Classical.byContradiction
  intro e
  rw [dl_n e] at h
  omega
theorem EXg_CB {m : Nat → Nat} {H : (Nat → Nat) → Prop} {w : Nat → Int} {g : Int} : 0 < CB H w m (dl g) ↔ EXg m H w g := by
  constructor
  · intro h
    obtain ⟨a, ha, h1, h2, h3⟩ := CB_ex h
    exact ⟨a, ha, ⟨h1, h2⟩, dl_pos h3⟩
  · rintro ⟨a, ha, h1, h2⟩
    have := CB_pos (w := w) (h := dl g) ha h1.1 h1.2
    rw [h2, dl_s] at this
    exact this
/-- g is the smallest sum: it is found, or not -/
theorem Sp_g {m : Nat → Nat} {H : (Nat → Nat) → Prop} {w : Nat → Int} {g bb : Int} {tt : Nat} (h : Sp 2 (CB H w m) tt bb) (hg : -60 ≤ g ∧ g ≤ 60) (hmin : ∀ s, s < g → ¬ EXg m H w s) : (0 < tt ∧ bb = g) ↔ EXg m H w g := by
  obtain ⟨h1, h2, h3⟩ := h.2.2 rfl
  constructor
  · rintro ⟨a, rfl⟩
    rw [h2] at a
    exact EXg_CB.mp a
  · intro z
    have p := EXg_CB.mpr z
    have l : ¬ g < bb := fun q => by rw [h1 g q] at p; exact absurd p (by omega)
    rcases h3 with ⟨e1, e2⟩ | ⟨e1, e2, e3⟩
    · omega
    · have : ¬ bb < g := fun q => hmin bb q (EXg_CB.mp (by rw [← h2]; exact e3))
      omega
set_option maxHeartbeats 1600000 in
/-- the smallest value with which the smallest sum can be had -/
theorem wx_chooseBest {post : SX → Prop} {n rl wy u x0 p : Nat} {g : Int} {m : Nat → Nat} (hn : n ≤ 10) (hr : rl < 1024) (hwy : wy ≤ 2) (hF : ∀ i, i < n → FT (aK i) (aP i) (aQ i) (aR i)) (hp : p ≤ 2400) (hg : -60 ≤ g ∧ g ≤ 60) (hu : u < 4) (hN : NN m aN) (hm : ∀ v, v < 4 → m v < 64) (hx0 : x0 < 6) (hb : (m u).testBit x0 = true) (hT : EXg (uN4 m u (2 ^ x0)) (HA n rl aK aP aQ aR) (dg p) g)
    (hl : ∀ x, x < x0 → (m u).testBit x = true → ¬ EXg (uN4 m u (2 ^ x)) (HA n rl aK aP aQ aR) (dg p) g) (hmin : ∀ x, (m u).testBit x = true → ∀ s, s < g → ¬ EXg (uN4 m u (2 ^ x)) (HA n rl aK aP aQ aR) (dg p) s)
    (h : ∀ (mO' tO' bS' dE' iC' : Int32) (aN' aW' aC' aG' aV' aS' aI' aT' aY' aU' aB' aM' aA' : Nat → Int32), NN (uN4 m u (2 ^ x0)) aN' → post (nI n, nI wy, nI rl, mO', tO', bS', dE', iC', aD, aK, aP, aQ, aR, aN', aW', aC', aG', aV', aS', aI', aT', aY', aU', aB', aM', aA')) : wpX_chooseBest post (nI n, nI wy, nI rl, mO, tO, bS, dE, iC, aD, aK, aP, aQ, aR, aN, aW, aC, aG, aV, aS, aI, aT, aY, aU, aB, aM, aA) (nI u) (nI p) (zI g) := by
  have main : ∀ (d x : Nat) (mO tO bS dE iC : Int32) (aN aW aC aG aV aS aI aT aY aU aB aM aA : Nat → Int32), x + d = x0 → (∀ v, v < 4 → v ≠ u → aN v = nI (m v)) → wX_chooseBest_14 post (nI u) (nI p) (zI g) (nI (m u)) (d + 2) 0 (nI x) (nI n) (nI wy) (nI rl) mO tO bS dE iC aD aK aP aQ aR aN aW aC aG aV aS aI aT aY aU aB aM aA := by
    have hmu := hm u hu
    intro d
    induction d with
    | zero =>
      intro x mO tO bS dE iC aN aW aC aG aV aS aI aT aY aU aB aM aA hx hA
      have e : x = x0 := by omega
      subst e
      have h64 := p2_64 hx0
      refine br_f (zc6 hx0) (br_t rfl (br_f (fun z => by rw [zx_b0 (by omega) (by omega), hb] at z; exact absurd z (by decide)) ⟨zi4 hu, nm_r (e' := upd aN u (nI (2 ^ x))) (by rw [zcl (by omega), zx_shl (by omega), zb_n8 (by omega)]) ?_⟩))
      refine wx_best (m := uN4 m u (2 ^ x)) hn hr hwy hF hp (NN_o hA) (um_64 hm h64) (fun tt bb mO' dE' iC' aN' aW' aC' aG' aV' aS' aI' aT' aY' aU' aB' aM' aA' hN' hsp ht => ?_)
      obtain ⟨t1, t2⟩ := (Sp_g hsp hg (hmin x hb)).mpr hT
      refine br_f (nI_nle t1 (by omega)) (br_t (by rw [t2]) (nm_r (nI_1 x) ?_))
      by_cases c : x + 1 = 6
      · exact br_t (nI_le (a := 6) (by omega) (by omega)) (h _ _ _ _ _ _ _ _ _ _ _ _ _ _ _ _ _ _ hN')
      · exact br_f (zc6 (by omega)) (br_f (by decide) (h _ _ _ _ _ _ _ _ _ _ _ _ _ _ _ _ _ _ hN'))
    | succ d ih =>
      intro x mO tO bS dE iC aN aW aC aG aV aS aI aT aY aU aB aM aA hx hA
      refine br_f (zc6 (by omega)) (br_t rfl ?_)
      cases hbx : (m u).testBit x
      · exact br_t ((zx_b0 (by omega) (by omega)).mpr hbx) (nm_r (nI_1 x) (ih (x + 1) _ _ _ _ _ _ _ _ _ _ _ _ _ _ _ _ _ _ (by omega) hA))
      · have h64 := p2_64 (by omega : x < 6)
        refine br_f (fun z => by rw [zx_b0 (by omega) (by omega), hbx] at z; exact absurd z (by decide)) ⟨zi4 hu, nm_r (e' := upd aN u (nI (2 ^ x))) (by rw [zcl (by omega), zx_shl (by omega), zb_n8 (by omega)]) ?_⟩
        refine wx_best (m := uN4 m u (2 ^ x)) hn hr hwy hF hp (NN_o hA) (um_64 hm h64) (fun tt bb mO' dE' iC' aN' aW' aC' aG' aV' aS' aI' aT' aY' aU' aB' aM' aA' hN' hsp ht => ?_)
        have no : ¬ (0 < tt ∧ bb = g) := fun z => hl x (by omega) hbx ((Sp_g hsp hg (hmin x hbx)).mp z)
        have bbd : -60 ≤ bb ∧ bb ≤ 1000 := by rcases (hsp.2.2 rfl).2.2 with z | z <;> omega
        have go := ih (x + 1) mO' (nI tt) (zI bb) dE' iC' aN' aW' aC' aG' aV' aS' aI' aT' aY' aU' aB' aM' aA' (by omega) (fun v hv hne => by rw [hN' v hv, uN4_n hne])
        by_cases t0 : tt = 0
        · subst t0
          exact br_t (by decide) (nm_r (nI_1 x) go)
        · refine br_f (nI_nle (by omega) (by omega)) (br_f (fun z => no ⟨by omega, (zn_eq (by omega) (by omega) (by omega) (by omega)).mp z⟩) (nm_r (nI_1 x) go))
  refine And.intro (zi4 hu) (nm_r (e' := nI (m u)) (by rw [zcl (by omega)]; exact hN u hu) ⟨x0 + 2, main x0 0 _ _ _ _ _ _ _ _ _ _ _ _ _ _ _ _ _ _ (by omega) (fun v hv _ => hN v hv)⟩)
/-! the first values of an assignment -/
def pf (m : Nat → Nat) (a v : Nat) : Nat → Nat := fun u => if u < v then 2 ^ av a u else m u
theorem pf_l {m : Nat → Nat} {a v u : Nat} (h : u < v) : pf m a v u = 2 ^ av a u := if_pos h
theorem pf_r {m : Nat → Nat} {a v u : Nat} (h : ¬ u < v) : pf m a v u = m u := if_neg h
theorem pf_64 {m : Nat → Nat} {a v : Nat} (hm : ∀ u, u < 4 → m u < 64) : ∀ u, u < 4 → pf m a v u < 64 := by
  intro u hu
  by_cases h : u < v
  · rw [pf_l h]; exact p2_64 (av_lt a u)
  · rw [pf_r h]; exact hm u hu
theorem pf_s {m : Nat → Nat} {a v : Nat} : uN4 (pf m a v) v (2 ^ av a v) = pf m a (v + 1) := by
  funext u
  by_cases e : u = v
  · subst e; rw [uN4_s, pf_l (by omega)]
  · rw [uN4_n e]
    by_cases h : u < v
    · rw [pf_l h, pf_l (by omega)]
    · rw [pf_r h, pf_r (by omega)]
theorem pf_IB {m : Nat → Nat} {a v : Nat} (h : IB m (av a)) : IB (pf m a v) (av a) := by
  intro u hu
  by_cases c : u < v
  · rw [pf_l c, Nat.testBit_two_pow]; exact decide_eq_true rfl
  · rw [pf_r c]; exact h u hu
theorem pf_x {m : Nat → Nat} {a b v x : Nat} (hv : v < 4) (hb : (m v).testBit x = true) (ha : IB m (av a)) (h : IB (uN4 (pf m a v) v (2 ^ x)) (av b)) : IB m (av b) ∧ (∀ u, u < v → av b u = av a u) ∧ av b v = x := by
  have q := (IB_u hv).mp h
  have e : av b v = x := by
    have := q.1
    rw [Nat.testBit_two_pow, decide_eq_true_iff] at this
    exact this.symm
  have p : ∀ u, u < v → av b u = av a u := by
    intro u hu
    have := q.2 u (by omega) (by omega)
    rw [pf_l hu, Nat.testBit_two_pow, decide_eq_true_iff] at this
    exact this.symm
  refine ⟨fun u hu => ?_, p, e⟩
  by_cases c : u < v
  · rw [p u c]; exact ha u hu
  · by_cases d : u = v
    · subst d; rw [e]; exact hb
    · have := q.2 u hu d
      rw [pf_r c] at this
      exact this
theorem av_lex {a b v : Nat} (ha : a < 1296) (hb : b < 1296) (hv : v < 4) (p : ∀ u, u < v → av b u = av a u) (l : av b v < av a v) : b < a := by
  have ea := av_eq ha
  have eb := av_eq hb
  have a1 := av_lt b 1; have a2 := av_lt b 2; have a3 := av_lt b 3
  rcases z4c hv with rfl | rfl | rfl | rfl
  · omega
  · have := p 0 (by omega); omega
  · have := p 0 (by omega); have := p 1 (by omega); omega
  · have := p 0 (by omega); have := p 1 (by omega); have := p 2 (by omega); omega
theorem zlo_p2 : ∀ x, x < 6 → zlo (2 ^ x) = x := by decide +kernel
end W15
end
section
/-! operands that fit, in both; the relation; the methods that only store -/
theorem rg_i {x : Int32} {b : Nat} (hb : b < 100000) : (0 ≤ x ∧ x ≤ nI b) ↔ ∃ p : Nat, p ≤ b ∧ x = nI p := by
  constructor
  · rintro ⟨h1, h2⟩
    exact nI_of2 (nI_toInt (by omega)) (Int32.not_lt.mpr h1) h2
  · rintro ⟨p, hp, rfl⟩
    exact ⟨nI_pos' (by omega), nI_le hp (by omega)⟩
theorem q60 {x : Int32} : (-60 ≤ x ∧ x ≤ 60) ↔ (-60 ≤ x.toInt ∧ x.toInt ≤ 60) := by
  rw [Int32.le_iff_toInt_le, Int32.le_iff_toInt_le]
  exact Iff.rfl
theorem FT_0 {P Q R : Int32} : FT 0 P Q R ↔ ((0 ≤ P ∧ P ≤ 2400) ∧ (-60 ≤ Q ∧ Q ≤ 60)) := by
  constructor
  · rintro (⟨h, p, hp, e, q1, q2⟩ | ⟨h, p, hp, e⟩ | ⟨h, p, q, r, hp, hq, hr, e1, e2, e3⟩ | ⟨h, p, q, r, hp, hq, hr, e1, e2, e3⟩ | ⟨h, p, q, r, hp, hq, hr, e1, e2, e3⟩ | ⟨h, p, q, hp, hq, e1, e2⟩ | ⟨h, p, q, r, hp, hq, hr, e1, e2, e3⟩ | ⟨h, p, q, r, hp, hq, hr, e1, e2, e3⟩)
    · exact ⟨(rg_i (b := 2400) (by omega)).mpr ⟨p, hp, e⟩, q60.mpr ⟨q1, q2⟩⟩
    · exact absurd h (by decide)
    · exact absurd h (by decide)
    · exact absurd h (by decide)
    · exact absurd h (by decide)
    · exact absurd h (by decide)
    · exact absurd h (by decide)
    · exact absurd h (by decide)
  · rintro ⟨h1, h2⟩
    obtain ⟨p, hp, e⟩ := (rg_i (b := 2400) (by omega)).mp h1
    have := q60.mp h2
    exact Or.inl ⟨Or.inl rfl, p, hp, e, this.1, this.2⟩
theorem FT_1 {P Q R : Int32} : FT 1 P Q R ↔ ((0 ≤ P ∧ P ≤ 2400) ∧ (-60 ≤ Q ∧ Q ≤ 60)) := by
  constructor
  · rintro (⟨h, p, hp, e, q1, q2⟩ | ⟨h, p, hp, e⟩ | ⟨h, p, q, r, hp, hq, hr, e1, e2, e3⟩ | ⟨h, p, q, r, hp, hq, hr, e1, e2, e3⟩ | ⟨h, p, q, r, hp, hq, hr, e1, e2, e3⟩ | ⟨h, p, q, hp, hq, e1, e2⟩ | ⟨h, p, q, r, hp, hq, hr, e1, e2, e3⟩ | ⟨h, p, q, r, hp, hq, hr, e1, e2, e3⟩)
    · exact ⟨(rg_i (b := 2400) (by omega)).mpr ⟨p, hp, e⟩, q60.mpr ⟨q1, q2⟩⟩
    · exact absurd h (by decide)
    · exact absurd h (by decide)
    · exact absurd h (by decide)
    · exact absurd h (by decide)
    · exact absurd h (by decide)
    · exact absurd h (by decide)
    · exact absurd h (by decide)
  · rintro ⟨h1, h2⟩
    obtain ⟨p, hp, e⟩ := (rg_i (b := 2400) (by omega)).mp h1
    have := q60.mp h2
    exact Or.inl ⟨Or.inr rfl, p, hp, e, this.1, this.2⟩
theorem FT_2 {P Q R : Int32} : FT 2 P Q R ↔ ((0 ≤ P ∧ P ≤ 15)) := by
  constructor
  · rintro (⟨h, p, hp, e, q1, q2⟩ | ⟨h, p, hp, e⟩ | ⟨h, p, q, r, hp, hq, hr, e1, e2, e3⟩ | ⟨h, p, q, r, hp, hq, hr, e1, e2, e3⟩ | ⟨h, p, q, r, hp, hq, hr, e1, e2, e3⟩ | ⟨h, p, q, hp, hq, e1, e2⟩ | ⟨h, p, q, r, hp, hq, hr, e1, e2, e3⟩ | ⟨h, p, q, r, hp, hq, hr, e1, e2, e3⟩)
    · exact absurd h (by decide)
    · exact (rg_i (b := 15) (by omega)).mpr ⟨p, hp, e⟩
    · exact absurd h (by decide)
    · exact absurd h (by decide)
    · exact absurd h (by decide)
    · exact absurd h (by decide)
    · exact absurd h (by decide)
    · exact absurd h (by decide)
  · intro h1
    obtain ⟨p, hp, e⟩ := (rg_i (b := 15) (by omega)).mp h1
    exact Or.inr (Or.inl ⟨rfl, p, hp, e⟩)
theorem FT_3 {P Q R : Int32} : FT 3 P Q R ↔ ((0 ≤ P ∧ P ≤ 3) ∧ (0 ≤ Q ∧ Q ≤ 3) ∧ (0 ≤ R ∧ R ≤ 46655)) := by
  constructor
  · rintro (⟨h, p, hp, e, q1, q2⟩ | ⟨h, p, hp, e⟩ | ⟨h, p, q, r, hp, hq, hr, e1, e2, e3⟩ | ⟨h, p, q, r, hp, hq, hr, e1, e2, e3⟩ | ⟨h, p, q, r, hp, hq, hr, e1, e2, e3⟩ | ⟨h, p, q, hp, hq, e1, e2⟩ | ⟨h, p, q, r, hp, hq, hr, e1, e2, e3⟩ | ⟨h, p, q, r, hp, hq, hr, e1, e2, e3⟩)
    · exact absurd h (by decide)
    · exact absurd h (by decide)
    · exact absurd h (by decide)
    · exact ⟨(rg_i (b := 3) (by omega)).mpr ⟨p, hp, e1⟩, (rg_i (b := 3) (by omega)).mpr ⟨q, hq, e2⟩, (rg_i (b := 46655) (by omega)).mpr ⟨r, hr, e3⟩⟩
    · exact absurd h (by decide)
    · exact absurd h (by decide)
    · exact absurd h (by decide)
    · exact absurd h (by decide)
  · rintro ⟨h1, h2, h3⟩
    obtain ⟨p, hp, e1⟩ := (rg_i (b := 3) (by omega)).mp h1
    obtain ⟨q, hq, e2⟩ := (rg_i (b := 3) (by omega)).mp h2
    obtain ⟨r, hr, e3⟩ := (rg_i (b := 46655) (by omega)).mp h3
    exact Or.inr (Or.inr (Or.inr (Or.inl ⟨rfl, p, q, r, hp, hq, hr, e1, e2, e3⟩)))
theorem FT_4 {P Q R : Int32} : FT 4 P Q R ↔ ((0 ≤ P ∧ P ≤ 3) ∧ (0 ≤ Q ∧ Q ≤ 3) ∧ (0 ≤ R ∧ R ≤ 3)) := by
  constructor
  · rintro (⟨h, p, hp, e, q1, q2⟩ | ⟨h, p, hp, e⟩ | ⟨h, p, q, r, hp, hq, hr, e1, e2, e3⟩ | ⟨h, p, q, r, hp, hq, hr, e1, e2, e3⟩ | ⟨h, p, q, r, hp, hq, hr, e1, e2, e3⟩ | ⟨h, p, q, hp, hq, e1, e2⟩ | ⟨h, p, q, r, hp, hq, hr, e1, e2, e3⟩ | ⟨h, p, q, r, hp, hq, hr, e1, e2, e3⟩)
    · exact absurd h (by decide)
    · exact absurd h (by decide)
    · exact absurd h (by decide)
    · exact absurd h (by decide)
    · exact ⟨(rg_i (b := 3) (by omega)).mpr ⟨p, hp, e1⟩, (rg_i (b := 3) (by omega)).mpr ⟨q, hq, e2⟩, (rg_i (b := 3) (by omega)).mpr ⟨r, hr, e3⟩⟩
    · exact absurd h (by decide)
    · exact absurd h (by decide)
    · exact absurd h (by decide)
  · rintro ⟨h1, h2, h3⟩
    obtain ⟨p, hp, e1⟩ := (rg_i (b := 3) (by omega)).mp h1
    obtain ⟨q, hq, e2⟩ := (rg_i (b := 3) (by omega)).mp h2
    obtain ⟨r, hr, e3⟩ := (rg_i (b := 3) (by omega)).mp h3
    exact Or.inr (Or.inr (Or.inr (Or.inr (Or.inl ⟨rfl, p, q, r, hp, hq, hr, e1, e2, e3⟩))))
theorem FT_5 {P Q R : Int32} : FT 5 P Q R ↔ ((0 ≤ P ∧ P ≤ 23) ∧ (0 ≤ Q ∧ Q ≤ 23)) := by
  constructor
  · rintro (⟨h, p, hp, e, q1, q2⟩ | ⟨h, p, hp, e⟩ | ⟨h, p, q, r, hp, hq, hr, e1, e2, e3⟩ | ⟨h, p, q, r, hp, hq, hr, e1, e2, e3⟩ | ⟨h, p, q, r, hp, hq, hr, e1, e2, e3⟩ | ⟨h, p, q, hp, hq, e1, e2⟩ | ⟨h, p, q, r, hp, hq, hr, e1, e2, e3⟩ | ⟨h, p, q, r, hp, hq, hr, e1, e2, e3⟩)
    · exact absurd h (by decide)
    · exact absurd h (by decide)
    · exact absurd h (by decide)
    · exact absurd h (by decide)
    · exact absurd h (by decide)
    · exact ⟨(rg_i (b := 23) (by omega)).mpr ⟨p, hp, e1⟩, (rg_i (b := 23) (by omega)).mpr ⟨q, hq, e2⟩⟩
    · exact absurd h (by decide)
    · exact absurd h (by decide)
  · rintro ⟨h1, h2⟩
    obtain ⟨p, hp, e1⟩ := (rg_i (b := 23) (by omega)).mp h1
    obtain ⟨q, hq, e2⟩ := (rg_i (b := 23) (by omega)).mp h2
    exact Or.inr (Or.inr (Or.inr (Or.inr (Or.inr (Or.inl ⟨rfl, p, q, hp, hq, e1, e2⟩)))))
theorem FT_6 {P Q R : Int32} : FT 6 P Q R ↔ ((0 ≤ P ∧ P ≤ 3) ∧ (0 ≤ Q ∧ Q ≤ 3) ∧ (0 ≤ R ∧ R ≤ 5)) := by
  constructor
  · rintro (⟨h, p, hp, e, q1, q2⟩ | ⟨h, p, hp, e⟩ | ⟨h, p, q, r, hp, hq, hr, e1, e2, e3⟩ | ⟨h, p, q, r, hp, hq, hr, e1, e2, e3⟩ | ⟨h, p, q, r, hp, hq, hr, e1, e2, e3⟩ | ⟨h, p, q, hp, hq, e1, e2⟩ | ⟨h, p, q, r, hp, hq, hr, e1, e2, e3⟩ | ⟨h, p, q, r, hp, hq, hr, e1, e2, e3⟩)
    · exact absurd h (by decide)
    · exact absurd h (by decide)
    · exact absurd h (by decide)
    · exact absurd h (by decide)
    · exact absurd h (by decide)
    · exact absurd h (by decide)
    · exact ⟨(rg_i (b := 3) (by omega)).mpr ⟨p, hp, e1⟩, (rg_i (b := 3) (by omega)).mpr ⟨q, hq, e2⟩, (rg_i (b := 5) (by omega)).mpr ⟨r, hr, e3⟩⟩
    · exact absurd h (by decide)
  · rintro ⟨h1, h2, h3⟩
    obtain ⟨p, hp, e1⟩ := (rg_i (b := 3) (by omega)).mp h1
    obtain ⟨q, hq, e2⟩ := (rg_i (b := 3) (by omega)).mp h2
    obtain ⟨r, hr, e3⟩ := (rg_i (b := 5) (by omega)).mp h3
    exact Or.inr (Or.inr (Or.inr (Or.inr (Or.inr (Or.inr (Or.inl ⟨rfl, p, q, r, hp, hq, hr, e1, e2, e3⟩))))))
theorem FT_7 {P Q R : Int32} : FT 7 P Q R ↔ ((0 ≤ P ∧ P ≤ 15) ∧ (0 ≤ Q ∧ Q ≤ 4) ∧ (0 ≤ R ∧ R ≤ 5)) := by
  constructor
  · rintro (⟨h, p, hp, e, q1, q2⟩ | ⟨h, p, hp, e⟩ | ⟨h, p, q, r, hp, hq, hr, e1, e2, e3⟩ | ⟨h, p, q, r, hp, hq, hr, e1, e2, e3⟩ | ⟨h, p, q, r, hp, hq, hr, e1, e2, e3⟩ | ⟨h, p, q, hp, hq, e1, e2⟩ | ⟨h, p, q, r, hp, hq, hr, e1, e2, e3⟩ | ⟨h, p, q, r, hp, hq, hr, e1, e2, e3⟩)
    · exact absurd h (by decide)
    · exact absurd h (by decide)
    · exact ⟨(rg_i (b := 15) (by omega)).mpr ⟨p, hp, e1⟩, (rg_i (b := 4) (by omega)).mpr ⟨q, hq, e2⟩, (rg_i (b := 5) (by omega)).mpr ⟨r, hr, e3⟩⟩
    · exact absurd h (by decide)
    · exact absurd h (by decide)
    · exact absurd h (by decide)
    · exact absurd h (by decide)
    · exact absurd h (by decide)
  · rintro ⟨h1, h2, h3⟩
    obtain ⟨p, hp, e1⟩ := (rg_i (b := 15) (by omega)).mp h1
    obtain ⟨q, hq, e2⟩ := (rg_i (b := 4) (by omega)).mp h2
    obtain ⟨r, hr, e3⟩ := (rg_i (b := 5) (by omega)).mp h3
    exact Or.inr (Or.inr (Or.inl ⟨rfl, p, q, r, hp, hq, hr, e1, e2, e3⟩))
theorem FT_8 {P Q R : Int32} : FT 8 P Q R ↔ ((0 ≤ P ∧ P ≤ 3) ∧ (0 ≤ Q ∧ Q ≤ 3) ∧ (0 ≤ R ∧ R ≤ 15)) := by
  constructor
  · rintro (⟨h, p, hp, e, q1, q2⟩ | ⟨h, p, hp, e⟩ | ⟨h, p, q, r, hp, hq, hr, e1, e2, e3⟩ | ⟨h, p, q, r, hp, hq, hr, e1, e2, e3⟩ | ⟨h, p, q, r, hp, hq, hr, e1, e2, e3⟩ | ⟨h, p, q, hp, hq, e1, e2⟩ | ⟨h, p, q, r, hp, hq, hr, e1, e2, e3⟩ | ⟨h, p, q, r, hp, hq, hr, e1, e2, e3⟩)
    · exact absurd h (by decide)
    · exact absurd h (by decide)
    · exact absurd h (by decide)
    · exact absurd h (by decide)
    · exact absurd h (by decide)
    · exact absurd h (by decide)
    · exact absurd h (by decide)
    · exact ⟨(rg_i (b := 3) (by omega)).mpr ⟨p, hp, e1⟩, (rg_i (b := 3) (by omega)).mpr ⟨q, hq, e2⟩, (rg_i (b := 15) (by omega)).mpr ⟨r, hr, e3⟩⟩
  · rintro ⟨h1, h2, h3⟩
    obtain ⟨p, hp, e1⟩ := (rg_i (b := 3) (by omega)).mp h1
    obtain ⟨q, hq, e2⟩ := (rg_i (b := 3) (by omega)).mp h2
    obtain ⟨r, hr, e3⟩ := (rg_i (b := 15) (by omega)).mp h3
    exact Or.inr (Or.inr (Or.inr (Or.inr (Or.inr (Or.inr (Or.inr ⟨rfl, p, q, r, hp, hq, hr, e1, e2, e3⟩))))))
section W16
variable {cC wN rU mO tO bS dE iC : Int32} {aD aK aP aQ aR aN aW aC aG aV aS aI aT aY aU aB aM aA : Nat → Int32}
theorem wx_in2 {A B : Prop} {x b : Int32} (h1 : (0 ≤ x ∧ x ≤ b) → B) (h0 : ¬ (0 ≤ x ∧ x ≤ b) → A) : wpX_isWithin (fun r => (r = 0 → A) ∧ (¬ r = 0 → B)) (cC, wN, rU, mO, tO, bS, dE, iC, aD, aK, aP, aQ, aR, aN, aW, aC, aG, aV, aS, aI, aT, aY, aU, aB, aM, aA) x b := by
  refine wx_isWithin ?_
  by_cases c : 0 ≤ x ∧ x ≤ b
  · exact br_f (fun z => bI_0.mp z c) (h1 c)
  · exact br_t (bI_0.mpr c) (h0 c)
set_option maxHeartbeats 1600000 in
theorem wx_fit {post : Int32 → Prop} {k : Nat} {P Q R : Int32} (hk : k ≤ 8) (h : post (bI (FT (nI k) P Q R))) : wpX_operandsFit post (cC, wN, rU, mO, tO, bS, dE, iC, aD, aK, aP, aQ, aR, aN, aW, aC, aG, aV, aS, aI, aT, aY, aU, aB, aM, aA) (nI k) P Q R := by
  have hc : k = 0 ∨ k = 1 ∨ k = 2 ∨ k = 3 ∨ k = 4 ∨ k = 5 ∨ k = 6 ∨ k = 7 ∨ k = 8 := by omega
  have y : FT (nI k) P Q R → post 1 := fun z => by rw [bI_t z] at h; exact h
  have n : ¬ FT (nI k) P Q R → post 0 := fun z => by rw [bI_f z] at h; exact h
  have s9 : (((0 ≤ P ∧ P ≤ 2400) ∧ (-60 ≤ Q ∧ Q ≤ 60)) → post 1) → (¬ ((0 ≤ P ∧ P ≤ 2400) ∧ (-60 ≤ Q ∧ Q ≤ 60)) → post 0) → wX_operandsFit_9 post P Q cC wN rU mO tO bS dE iC aD aK aP aQ aR aN aW aC aG aV aS aI aT aY aU aB aM aA := by
    intro y n
    unfold wX_operandsFit_9
    refine wx_in2 (fun a => ?_) (fun a => n (fun z => a z.1))
    by_cases c1 : Q < -60
    · exact br_t c1 (n (fun z => Int32.not_le.mpr c1 z.2.1))
    · refine br_f c1 ?_
      by_cases c2 : 60 < Q
      · exact br_t c2 (n (fun z => Int32.not_le.mpr c2 z.2.2))
      · exact br_f c2 (y ⟨a, Int32.not_lt.mp c1, Int32.not_lt.mp c2⟩)
  rcases hc with rfl | rfl | rfl | rfl | rfl | rfl | rfl | rfl | rfl
  · exact br_t rfl (s9 (fun z => y (FT_0.mpr z)) (fun z => n (fun q => z (FT_0.mp q))))
  · exact br_f (by decide) (br_t rfl (s9 (fun z => y (FT_1.mpr z)) (fun z => n (fun q => z (FT_1.mp q)))))
  · exact br_f (by decide) (br_f (by decide) (br_t rfl (wx_isWithin (And.intro (bI_n _) (by rw [show bI (FT (nI 2) P Q R) = bI (0 ≤ P ∧ P ≤ 15) from bI_c FT_2] at h; exact h)))))
  · exact br_f (by decide) (br_f (by decide) (br_f (by decide) (br_t rfl (wx_in2 (fun a => wx_in2 (fun b => wx_in2 (fun c => y (FT_3.mpr ⟨a, b, c⟩)) (fun c => n (fun q => c (FT_3.mp q).2.2))) (fun b => n (fun q => b (FT_3.mp q).2.1))) (fun a => n (fun q => a (FT_3.mp q).1))))))
  · exact br_f (by decide) (br_f (by decide) (br_f (by decide) (br_f (by decide) (br_t rfl (wx_in2 (fun a => wx_in2 (fun b => wx_in2 (fun c => y (FT_4.mpr ⟨a, b, c⟩)) (fun c => n (fun q => c (FT_4.mp q).2.2))) (fun b => n (fun q => b (FT_4.mp q).2.1))) (fun a => n (fun q => a (FT_4.mp q).1)))))))
  · exact br_f (by decide) (br_f (by decide) (br_f (by decide) (br_f (by decide) (br_f (by decide) (br_t rfl (wx_in2 (fun a => wx_in2 (fun b => y (FT_5.mpr ⟨a, b⟩)) (fun b => n (fun q => b (FT_5.mp q).2))) (fun a => n (fun q => a (FT_5.mp q).1))))))))
  · exact br_f (by decide) (br_f (by decide) (br_f (by decide) (br_f (by decide) (br_f (by decide) (br_f (by decide) (br_t rfl (wx_in2 (fun a => wx_in2 (fun b => wx_in2 (fun c => y (FT_6.mpr ⟨a, b, c⟩)) (fun c => n (fun q => c (FT_6.mp q).2.2))) (fun b => n (fun q => b (FT_6.mp q).2.1))) (fun a => n (fun q => a (FT_6.mp q).1)))))))))
  · exact br_f (by decide) (br_f (by decide) (br_f (by decide) (br_f (by decide) (br_f (by decide) (br_f (by decide) (br_f (by decide) (br_t rfl (wx_in2 (fun a => wx_in2 (fun b => wx_in2 (fun c => y (FT_7.mpr ⟨a, b, c⟩)) (fun c => n (fun q => c (FT_7.mp q).2.2))) (fun b => n (fun q => b (FT_7.mp q).2.1))) (fun a => n (fun q => a (FT_7.mp q).1))))))))))
  · exact br_f (by decide) (br_f (by decide) (br_f (by decide) (br_f (by decide) (br_f (by decide) (br_f (by decide) (br_f (by decide) (br_f (by decide) (wx_in2 (fun a => wx_in2 (fun b => wx_in2 (fun c => y (FT_8.mpr ⟨a, b, c⟩)) (fun c => n (fun q => c (FT_8.mp q).2.2))) (fun b => n (fun q => b (FT_8.mp q).2.1))) (fun a => n (fun q => a (FT_8.mp q).1))))))))))
end W16
section WY3
variable {fN : Int32} {yK yP yQ yR yD yV : Nat → Int32}
theorem wy_in2 {A B : Prop} {x a b : Int32} (h1 : (a ≤ x ∧ x ≤ b) → B) (h0 : ¬ (a ≤ x ∧ x ≤ b) → A) : wpY_in (fun r => (r = 0 → A) ∧ (¬ r = 0 → B)) (fN, yK, yP, yQ, yR, yD, yV) x a b := by
  refine wy_in ?_
  by_cases c : a ≤ x ∧ x ≤ b
  · exact br_f (fun z => bI_0.mp z c) (h1 c)
  · exact br_t (bI_0.mpr c) (h0 c)
set_option maxHeartbeats 1600000 in
theorem wy_fit {post : Int32 → Prop} {k : Nat} {P Q R : Int32} (hk : k ≤ 8) (h : post (bI (FT (nI k) P Q R))) : wpY_fits post (fN, yK, yP, yQ, yR, yD, yV) (nI k) P Q R := by
  have hc : k = 0 ∨ k = 1 ∨ k = 2 ∨ k = 3 ∨ k = 4 ∨ k = 5 ∨ k = 6 ∨ k = 7 ∨ k = 8 := by omega
  have y : FT (nI k) P Q R → post 1 := fun z => by rw [bI_t z] at h; exact h
  have n : ¬ FT (nI k) P Q R → post 0 := fun z => by rw [bI_f z] at h; exact h
  rcases hc with rfl | rfl | rfl | rfl | rfl | rfl | rfl | rfl | rfl
  · exact br_f (by decide) (wy_in2 (fun a => wy_in2 (fun b => y (FT_0.mpr ⟨a, b⟩)) (fun b => n (fun q => b (FT_0.mp q).2))) (fun a => n (fun q => a (FT_0.mp q).1)))
  · exact br_f (by decide) (wy_in2 (fun a => wy_in2 (fun b => y (FT_1.mpr ⟨a, b⟩)) (fun b => n (fun q => b (FT_1.mp q).2))) (fun a => n (fun q => a (FT_1.mp q).1)))
  · exact br_t (by decide) (br_t rfl (wy_in (And.intro (bI_n _) (by rw [show bI (FT (nI 2) P Q R) = bI (0 ≤ P ∧ P ≤ 15) from bI_c FT_2] at h; exact h))))
  · exact br_t (by decide) (br_f (by decide) (br_t rfl (wy_in2 (fun a => wy_in2 (fun b => wy_in2 (fun c => y (FT_3.mpr ⟨a, b, c⟩)) (fun c => n (fun q => c (FT_3.mp q).2.2))) (fun b => n (fun q => b (FT_3.mp q).2.1))) (fun a => n (fun q => a (FT_3.mp q).1)))))
  · exact br_t (by decide) (br_f (by decide) (br_f (by decide) (br_t rfl (wy_in2 (fun a => wy_in2 (fun b => wy_in2 (fun c => y (FT_4.mpr ⟨a, b, c⟩)) (fun c => n (fun q => c (FT_4.mp q).2.2))) (fun b => n (fun q => b (FT_4.mp q).2.1))) (fun a => n (fun q => a (FT_4.mp q).1))))))
  · exact br_t (by decide) (br_f (by decide) (br_f (by decide) (br_f (by decide) (br_t rfl (wy_in2 (fun a => wy_in2 (fun b => y (FT_5.mpr ⟨a, b⟩)) (fun b => n (fun q => b (FT_5.mp q).2))) (fun a => n (fun q => a (FT_5.mp q).1)))))))
  · exact br_t (by decide) (br_f (by decide) (br_f (by decide) (br_f (by decide) (br_f (by decide) (br_t rfl (wy_in2 (fun a => wy_in2 (fun b => wy_in2 (fun c => y (FT_6.mpr ⟨a, b, c⟩)) (fun c => n (fun q => c (FT_6.mp q).2.2))) (fun b => n (fun q => b (FT_6.mp q).2.1))) (fun a => n (fun q => a (FT_6.mp q).1))))))))
  · exact br_t (by decide) (br_f (by decide) (br_f (by decide) (br_f (by decide) (br_f (by decide) (br_f (by decide) (br_t rfl (wy_in2 (fun a => wy_in2 (fun b => wy_in2 (fun c => y (FT_7.mpr ⟨a, b, c⟩)) (fun c => n (fun q => c (FT_7.mp q).2.2))) (fun b => n (fun q => b (FT_7.mp q).2.1))) (fun a => n (fun q => a (FT_7.mp q).1)))))))))
  · exact br_t (by decide) (br_f (by decide) (br_f (by decide) (br_f (by decide) (br_f (by decide) (br_f (by decide) (br_f (by decide) (wy_in2 (fun a => wy_in2 (fun b => wy_in2 (fun c => y (FT_8.mpr ⟨a, b, c⟩)) (fun c => n (fun q => c (FT_8.mp q).2.2))) (fun b => n (fun q => b (FT_8.mp q).2.1))) (fun a => n (fun q => a (FT_8.mp q).1)))))))))
end WY3
/-! the relation -/
def RL (cC wN : Int32) (aD aK aP aQ aR : Nat → Int32) : Prop := ∃ (n wy : Nat) (m : Nat → Nat), cC = nI n ∧ n ≤ 10 ∧ wN = nI wy ∧ wy ≤ 2 ∧ (∀ i, i < n → FT (aK i) (aP i) (aQ i) (aR i)) ∧ NN m aD ∧ ∀ v, v < 4 → m v < 64
/-- both hold the same variables and constraints, whose operands fit -/
def i_Rel (k : Nat) (u : SX) (v : SY) : Prop := match u, v with
  | (cC, wN, rU, mO, tO, bS, dE, iC, aD, aK, aP, aQ, aR, aN, aW, aC, aG, aV, aS, aI, aT, aY, aU, aB, aM, aA), (fN, yK, yP, yQ, yR, yD, yV) => fN = cC ∧ yK = aK ∧ yP = aP ∧ yQ = aQ ∧ yR = aR ∧ yD = aD ∧ RL cC wN aD aK aP aQ aR
theorem zz_el {P : SX → SY → Prop} {k : Nat} {u : SX} {v : SY} (I : i_Rel k u v)
    (h : ∀ (n wy : Nat) (m : Nat → Nat) (rU mO tO bS dE iC : Int32) (aD aK aP aQ aR aN aW aC aG aV aS aI aT aY aU aB aM aA yV : Nat → Int32), n ≤ 10 → wy ≤ 2 → (∀ i, i < n → FT (aK i) (aP i) (aQ i) (aR i)) → NN m aD → (∀ v, v < 4 → m v < 64) →
      P (nI n, nI wy, rU, mO, tO, bS, dE, iC, aD, aK, aP, aQ, aR, aN, aW, aC, aG, aV, aS, aI, aT, aY, aU, aB, aM, aA) (nI n, aK, aP, aQ, aR, aD, yV)) : P u v := by
  obtain ⟨cC, wN, rU, mO, tO, bS, dE, iC, aD, aK, aP, aQ, aR, aN, aW, aC, aG, aV, aS, aI, aT, aY, aU, aB, aM, aA⟩ := u
  obtain ⟨fN, yK, yP, yQ, yR, yD, yV⟩ := v
  obtain ⟨e1, e2, e3, e4, e5, e6, n, wy, m, f1, f2, f3, f4, f5, f6, f7⟩ := I
  subst e1 e2 e3 e4 e5 e6 f1 f3
  exact h n wy m _ _ _ _ _ _ _ _ _ _ _ _ _ _ _ _ _ _ _ _ _ _ _ _ _ f2 f4 f5 f6 f7
section W17
variable {cC wN rU mO tO bS dE iC : Int32} {aD aK aP aQ aR aN aW aC aG aV aS aI aT aY aU aB aM aA : Nat → Int32}
theorem zz_in {k n wy : Nat} {m : Nat → Nat} {yV : Nat → Int32} (hn : n ≤ 10) (hwy : wy ≤ 2) (hF : ∀ i, i < n → FT (aK i) (aP i) (aQ i) (aR i)) (hD : NN m aD) (hm : ∀ v, v < 4 → m v < 64) :
    i_Rel k (nI n, nI wy, rU, mO, tO, bS, dE, iC, aD, aK, aP, aQ, aR, aN, aW, aC, aG, aV, aS, aI, aT, aY, aU, aB, aM, aA) (nI n, aK, aP, aQ, aR, aD, yV) :=
  And.intro rfl ⟨rfl, rfl, rfl, rfl, rfl, n, wy, m, rfl, hn, rfl, hwy, hF, hD, hm⟩
end W17
theorem i_up {k : Nat} {u : SX} {v : SY} (h : i_Rel k u v) : i_Rel (k + 5) u v := h
end
section
/-! the methods that only store -/
theorem fz0 : ∀ x : Int32, (0 ≤ x ∧ x ≤ 3) → ∃ j : Nat, j < 4 ∧ x = nI j := fun x h => by
  obtain ⟨j, hj, e⟩ := (rg_i (b := 3) (by omega)).mp h
  exact ⟨j, by omega, e⟩
theorem i_vc0 : wpX_init (fun u => wpY_init (fun v => i_Rel 0 u v)) := by
  have e63 : vp_nar .byte 63 = 63 := zb_n (m := 63) (by omega)
  have l4 : (4 : Int32) ≤ nI 4 := nI_le (a := 4) (b := 4) (by omega) (by omega)
  have X : ∀ a : Nat → Int32, a = upd (upd (upd (upd (fun _ => 0) 0 63) 1 63) 2 63) 3 63 → i_Rel 0 (0, 2, 0, 0, 0, 0, 0, 0, a, (fun _ => 0), (fun _ => 0), (fun _ => 0), (fun _ => 0), (fun _ => 0), (fun _ => 0), (fun _ => 0), (fun _ => 0), (fun _ => 0), (fun _ => 0), (fun _ => 0), (fun _ => 0), (fun _ => 0), (fun _ => 0), (fun _ => 0), (fun _ => 0), (fun _ => 0)) (0, (fun _ => 0), (fun _ => 0), (fun _ => 0), (fun _ => 0), a, (fun _ => 0)) := by
    intro a ea
    refine And.intro rfl ⟨rfl, rfl, rfl, rfl, rfl, 0, 2, fun _ => 63, rfl, by omega, rfl, by omega, fun i hi => absurd hi (by omega), ?_, fun v _ => by show 63 < 64; omega⟩
    rw [ea]
    exact z4 rfl rfl rfl rfl
  refine ⟨5, br_f (by decide) ⟨zi4 (i := 0) (by omega), nm_r (e' := upd (fun _ => 0) 0 63) (by rw [e63]; rfl) (nm_r (e' := 1) rfl (br_f (by decide) ⟨zi4 (i := 1) (by omega), nm_r (e' := upd (upd (fun _ => 0) 0 63) 1 63) (by rw [e63]; rfl) (nm_r (e' := 2) rfl (br_f (by decide) ⟨zi4 (i := 2) (by omega), nm_r (e' := upd (upd (upd (fun _ => 0) 0 63) 1 63) 2 63) (by rw [e63]; rfl) (nm_r (e' := 3) rfl (br_f (by decide) ⟨zi4 (i := 3) (by omega), nm_r (e' := upd (upd (upd (upd (fun _ => 0) 0 63) 1 63) 2 63) 3 63) (by rw [e63]; rfl) (nm_r (e' := 4) rfl (br_t (by decide) ?_))⟩))⟩))⟩))⟩⟩
  exact ⟨5, br_f (by decide) ⟨zi4 (i := 0) (by omega), nm_r (e' := upd (fun _ => 0) 0 63) rfl (nm_r (e' := 1) rfl (br_f (by decide) ⟨zi4 (i := 1) (by omega), nm_r (e' := upd (upd (fun _ => 0) 0 63) 1 63) rfl (nm_r (e' := 2) rfl (br_f (by decide) ⟨zi4 (i := 2) (by omega), nm_r (e' := upd (upd (upd (fun _ => 0) 0 63) 1 63) 2 63) rfl (nm_r (e' := 3) rfl (br_f (by decide) ⟨zi4 (i := 3) (by omega), nm_r (e' := upd (upd (upd (upd (fun _ => 0) 0 63) 1 63) 2 63) 3 63) rfl (nm_r (e' := 4) rfl (br_t (by decide) (X _ rfl)))⟩))⟩))⟩))⟩⟩
theorem i_vc_way {k : Nat} {u : SX} {v : SY} (I : i_Rel k u v) (hk : k + 5 ≤ 2560) (v1 : Int32) : wpX_way (fun r u' => wpY_way (fun r' => r' = r ∧ i_Rel (k + 5) u' v) v v1) u v1 := by
  refine zz_el (P := fun u v => wpX_way (fun r u' => wpY_way (fun r' => r' = r ∧ i_Rel (k + 5) u' v) v v1) u v1) I ?_
  intro n wy m rU mO tO bS dE iC aD aK aP aQ aR aN aW aC aG aV aS aI aT aY aU aB aM aA yV hn hwy hF hD hm
  by_cases c : 0 ≤ v1 ∧ v1 ≤ 2
  · obtain ⟨j, hj, rfl⟩ := (rg_i (b := 2) (by omega)).mp c
    refine br_f (Int32.not_lt.mpr c.1) (br_t c.2 ?_)
    unfold wpY_way
    refine wy_in (And.intro (bI_n _) ⟨bI_t c, zz_in hn hj hF hD hm⟩)
  · have Y : wpY_way (fun r' => r' = 0 ∧ i_Rel (k + 5) (nI n, nI wy, rU, mO, tO, bS, dE, iC, aD, aK, aP, aQ, aR, aN, aW, aC, aG, aV, aS, aI, aT, aY, aU, aB, aM, aA) (nI n, aK, aP, aQ, aR, aD, yV)) (nI n, aK, aP, aQ, aR, aD, yV) v1 := by
      unfold wpY_way
      exact wy_in (And.intro (bI_n _) ⟨bI_f c, zz_in hn hwy hF hD hm⟩)
    by_cases c1 : v1 < 0
    · exact br_t c1 Y
    · exact br_f c1 (br_f (fun z => c ⟨Int32.not_lt.mp c1, z⟩) Y)
theorem i_vc_domain {k : Nat} {u : SX} {v : SY} (I : i_Rel k u v) (hk : k + 5 ≤ 2560) (v1 : Int32) (v2 : Int32) : wpX_domain (fun r u' => wpY_domain (fun r' v' => r' = r ∧ i_Rel (k + 5) u' v') v v1 v2) u v1 v2 := by
  refine zz_el (P := fun u v => wpX_domain (fun r u' => wpY_domain (fun r' v' => r' = r ∧ i_Rel (k + 5) u' v') v v1 v2) u v1 v2) I ?_
  intro n wy m rU mO tO bS dE iC aD aK aP aQ aR aN aW aC aG aV aS aI aT aY aU aB aM aA yV hn hwy hF hD hm
  by_cases c : (0 ≤ v1 ∧ v1 ≤ 3) ∧ (0 ≤ v2 ∧ v2 ≤ 63)
  · obtain ⟨j, hj, rfl⟩ := fz0 v1 c.1
    obtain ⟨d, hd, rfl⟩ := (rg_i (b := 63) (by omega)).mp c.2
    refine br_f (Int32.not_lt.mpr c.1.1) (br_f (Int32.not_lt.mpr c.1.2) (br_f (Int32.not_lt.mpr c.2.1) (br_t c.2.2 ⟨zi4 hj, nm_r (e' := upd aD j (nI d)) (by rw [zcl (by omega), zb_n8 (by omega)]) ?_⟩)))
    unfold wpY_domain
    refine wy_in2 (fun _ => wy_in2 (fun _ => ⟨zi4 hj, nm_r (e' := upd aD j (nI d)) (by rw [zcl (by omega)]) ⟨rfl, zz_in (m := uN4 m j d) hn hwy hF (NN_u hD) (um_64 hm (by omega))⟩⟩) (fun z => absurd c.2 z)) (fun z => absurd c.1 z)
  · have Y : wpY_domain (fun r' v' => r' = 0 ∧ i_Rel (k + 5) (nI n, nI wy, rU, mO, tO, bS, dE, iC, aD, aK, aP, aQ, aR, aN, aW, aC, aG, aV, aS, aI, aT, aY, aU, aB, aM, aA) v') (nI n, aK, aP, aQ, aR, aD, yV) v1 v2 := by
      unfold wpY_domain
      exact wy_in2 (fun a => wy_in2 (fun b => absurd ⟨a, b⟩ c) (fun _ => ⟨rfl, zz_in hn hwy hF hD hm⟩)) (fun _ => ⟨rfl, zz_in hn hwy hF hD hm⟩)
    by_cases c1 : v1 < 0
    · exact br_t c1 Y
    · refine br_f c1 ?_
      by_cases c2 : 3 < v1
      · exact br_t c2 Y
      · refine br_f c2 ?_
        by_cases c3 : v2 < 0
        · exact br_t c3 Y
        · exact br_f c3 (br_f (fun z => c ⟨⟨Int32.not_lt.mp c1, Int32.not_lt.mp c2⟩, Int32.not_lt.mp c3, z⟩) Y)
theorem FT_u {n : Nat} {aK aP aQ aR : Nat → Int32} {K P Q R : Int32} (hF : ∀ i, i < n → FT (aK i) (aP i) (aQ i) (aR i)) (h : FT K P Q R) : ∀ i, i < n + 1 → FT (upd aK n K i) (upd aP n P i) (upd aQ n Q i) (upd aR n R i) := by
  intro i hi
  by_cases e : i = n
  · subst e; rw [pk_us, pk_us, pk_us, pk_us]; exact h
  · rw [pk_un e, pk_un e, pk_un e, pk_un e]; exact hF i (by omega)
theorem i_vc_constraint {k : Nat} {u : SX} {v : SY} (I : i_Rel k u v) (hk : k + 5 ≤ 2560) (v1 : Int32) (v2 : Int32) (v3 : Int32) (v4 : Int32) : wpX_constraint (fun r u' => wpY_constraint (fun r' v' => r' = r ∧ i_Rel (k + 5) u' v') v v1 v2 v3 v4) u v1 v2 v3 v4 := by
  refine zz_el (P := fun u v => wpX_constraint (fun r u' => wpY_constraint (fun r' v' => r' = r ∧ i_Rel (k + 5) u' v') v v1 v2 v3 v4) u v1 v2 v3 v4) I ?_
  intro n wy m rU mO tO bS dE iC aD aK aP aQ aR aN aW aC aG aV aS aI aT aY aU aB aM aA yV hn hwy hF hD hm
  by_cases c10 : n = 10
  · subst c10
    exact br_f (by decide) (br_t rfl ⟨rfl, zz_in hn hwy hF hD hm⟩)
  · have l10 : nI n < 10 := nI_lt (b := 10) (by omega) (by omega)
    have n10 : ¬ nI n = 10 := fun z => c10 ((nI_eq (b := 10) (by omega) (by omega)).mp z)
    refine br_t l10 ?_
    by_cases c : 0 ≤ v1 ∧ v1 ≤ 8
    · obtain ⟨q, hq, rfl⟩ := (rg_i (b := 8) (by omega)).mp c
      refine br_f (Int32.not_lt.mpr c.1) (br_f (Int32.not_lt.mpr c.2) (wx_fit hq ?_))
      have i10 : vp_in (nI n) 10 := zi10 (by omega)
      by_cases f : FT (nI q) v2 v3 v4
      · refine br_f (fun z => bI_0.mp z f) ⟨i10, nm_r (e' := upd aK n (nI q)) (by rw [zcl (by omega), zb_n8 (by omega)]) ⟨i10, nm_r (e' := upd aP n v2) (by rw [zcl (by omega)]) ⟨i10, nm_r (e' := upd aQ n v3) (by rw [zcl (by omega)]) ⟨i10, nm_r (e' := upd aR n v4) (by rw [zcl (by omega)]) (nm_r (nI_1 n) ?_)⟩⟩⟩⟩
        refine br_f n10 (wy_in2 (fun _ => wy_fit hq (br_f (fun z => bI_0.mp z f) ⟨i10, nm_r (e' := upd aK n (nI q)) (by rw [zcl (by omega)]) ⟨i10, nm_r (e' := upd aP n v2) (by rw [zcl (by omega)]) ⟨i10, nm_r (e' := upd aQ n v3) (by rw [zcl (by omega)]) ⟨i10, nm_r (e' := upd aR n v4) (by rw [zcl (by omega)]) (nm_r (nI_1 n) ⟨rfl, zz_in (by omega) hwy (FT_u hF f) hD hm⟩)⟩⟩⟩⟩)) (fun z => absurd c z))
      · refine br_t (bI_0.mpr f) (br_f n10 (wy_in2 (fun _ => wy_fit hq (br_t (bI_0.mpr f) ⟨rfl, zz_in hn hwy hF hD hm⟩)) (fun z => absurd c z)))
    · have Y : wpY_constraint (fun r' v' => r' = -1000 ∧ i_Rel (k + 5) (nI n, nI wy, rU, mO, tO, bS, dE, iC, aD, aK, aP, aQ, aR, aN, aW, aC, aG, aV, aS, aI, aT, aY, aU, aB, aM, aA) v') (nI n, aK, aP, aQ, aR, aD, yV) v1 v2 v3 v4 := br_f n10 (wy_in2 (fun a => absurd a c) (fun _ => ⟨rfl, zz_in hn hwy hF hD hm⟩))
      by_cases c1 : v1 < 0
      · exact br_t c1 Y
      · exact br_f c1 (br_t (Int32.not_le.mp (fun z => c ⟨Int32.not_lt.mp c1, z⟩)) Y)
/-! drop -/
def drp (f : Nat → Int32) (k : Nat) : Nat → Nat → Int32
  | 0 => f
  | d + 1 => drp (upd f k (f (k + 1))) (k + 1) d
theorem drp_v : ∀ (d k : Nat) (f : Nat → Int32) (j : Nat), drp f k d j = if k ≤ j ∧ j < k + d then f (j + 1) else f j
  | 0, k, f, j => by rw [if_neg (by omega)]; rfl
  | d + 1, k, f, j => by
    show drp (upd f k (f (k + 1))) (k + 1) d j = _
    rw [drp_v d (k + 1)]
    by_cases e : j = k
    · subst e
      rw [if_neg (by omega), if_pos (by omega), pk_us]
    · by_cases c : k + 1 ≤ j ∧ j < k + 1 + d
      · rw [if_pos c, if_pos (by omega), pk_un (by omega)]
      · rw [if_neg c, if_neg (by omega), pk_un e]
section W18
variable {cC wN rU mO tO bS dE iC : Int32} {aD aK aP aQ aR aN aW aC aG aV aS aI aT aY aU aB aM aA : Nat → Int32}
theorem wx_drop28 {post : Int32 → SX → Prop} {c : Nat} (hc : c ≤ 9) : ∀ (d k : Nat) (aK aP aQ aR : Nat → Int32), k + d = c → (∀ j, k < j → j ≤ c → vp_nar .byte (aK j) = aK j) → post (nI c) (nI c, wN, rU, mO, tO, bS, dE, iC, aD, drp aK k d, drp aP k d, drp aQ k d, drp aR k d, aN, aW, aC, aG, aV, aS, aI, aT, aY, aU, aB, aM, aA) → wX_drop_28 post (nI c) wN rU mO tO bS dE iC (d + 1) (nI k) aD aK aP aQ aR aN aW aC aG aV aS aI aT aY aU aB aM aA := by
  intro d
  induction d with
  | zero =>
    intro k aK aP aQ aR hk _ h
    exact br_t (nI_le (by omega) (by omega)) h
  | succ d ih =>
    intro k aK aP aQ aR hk hb h
    have e0 : (nI k).toNatClampNeg = k := zcl (by omega)
    have e1 : (nI (k + 1)).toNatClampNeg = k + 1 := zcl (by omega)
    refine br_f (nI_ge (by omega) (by omega)) ?_
    rw [nI_1 k]
    refine ⟨zi10 (by omega), zi10 (by omega), nm_r (e' := upd aK k (aK (k + 1))) (by rw [e0, e1, hb (k + 1) (by omega) (by omega)]) ⟨zi10 (by omega), zi10 (by omega), nm_r (e' := upd aP k (aP (k + 1))) (by rw [e0, e1]) ⟨zi10 (by omega), zi10 (by omega), nm_r (e' := upd aQ k (aQ (k + 1))) (by rw [e0, e1]) ⟨zi10 (by omega), zi10 (by omega), nm_r (e' := upd aR k (aR (k + 1))) (by rw [e0, e1]) (nm_e (ih (k + 1) _ _ _ _ (by omega) (fun j hj hj' => ?_) h))⟩⟩⟩⟩
    rw [pk_un (by omega)]
    exact hb j (by omega) hj'
end W18
section WY4
variable {fN : Int32} {yK yP yQ yR yD yV : Nat → Int32}
theorem wy_drop21 {post : Int32 → SY → Prop} {c : Nat} (hc : c ≤ 9) : ∀ (d k : Nat) (yK yP yQ yR : Nat → Int32), k + d = c → post (nI c) (nI c, drp yK k d, drp yP k d, drp yQ k d, drp yR k d, yD, yV) → wY_drop_21 post (nI (c + 1)) (d + 1) (nI k) yK yP yQ yR yD yV := by
  intro d
  induction d with
  | zero =>
    intro k yK yP yQ yR hk h
    exact br_t (by rw [nI_pred]; exact nI_le (by omega) (by omega)) (nm_r (nI_pred c) h)
  | succ d ih =>
    intro k yK yP yQ yR hk h
    have e0 : (nI k).toNatClampNeg = k := zcl (by omega)
    have e1 : (nI (k + 1)).toNatClampNeg = k + 1 := zcl (by omega)
    refine br_f (by rw [nI_pred]; exact nI_ge (by omega) (by omega)) ?_
    rw [nI_1 k]
    exact ⟨zi10 (by omega), zi10 (by omega), nm_r (e' := upd yK k (yK (k + 1))) (by rw [e0, e1]) ⟨zi10 (by omega), zi10 (by omega), nm_r (e' := upd yP k (yP (k + 1))) (by rw [e0, e1]) ⟨zi10 (by omega), zi10 (by omega), nm_r (e' := upd yQ k (yQ (k + 1))) (by rw [e0, e1]) ⟨zi10 (by omega), zi10 (by omega), nm_r (e' := upd yR k (yR (k + 1))) (by rw [e0, e1]) (nm_e (ih (k + 1) _ _ _ _ (by omega) h))⟩⟩⟩⟩
end WY4
theorem FT_b {K P Q R : Int32} (h : FT K P Q R) : vp_nar .byte K = K := by
  have t : K = 0 ∨ K = 1 ∨ K = 2 ∨ K = 7 ∨ isL K := by
    rcases h with ⟨h, -⟩ | ⟨h, -⟩ | ⟨h, -⟩ | h
    · rcases h with h | h
      · exact Or.inl h
      · exact Or.inr (Or.inl h)
    · exact Or.inr (Or.inr (Or.inl h))
    · exact Or.inr (Or.inr (Or.inr (Or.inl h)))
    · exact Or.inr (Or.inr (Or.inr (Or.inr (FL_is h))))
  rcases t with e | e | e | e | e | e | e | e | e <;> rw [e] <;> exact zb_v (by decide) (by decide)
theorem i_vc_drop {k : Nat} {u : SX} {v : SY} (I : i_Rel k u v) (hk : k + 5 ≤ 2560) (v1 : Int32) : wpX_drop (fun r u' => wpY_drop (fun r' v' => r' = r ∧ i_Rel (k + 5) u' v') v v1) u v1 := by
  refine zz_el (P := fun u v => wpX_drop (fun r u' => wpY_drop (fun r' v' => r' = r ∧ i_Rel (k + 5) u' v') v v1) u v1) I ?_
  intro n wy m rU mO tO bS dE iC aD aK aP aQ aR aN aW aC aG aV aS aI aT aY aU aB aM aA yV hn hwy hF hD hm
  have Y : ¬ (0 ≤ v1 ∧ v1 ≤ nI n - 1) → wpY_drop (fun r' v' => r' = -1000 ∧ i_Rel (k + 5) (nI n, nI wy, rU, mO, tO, bS, dE, iC, aD, aK, aP, aQ, aR, aN, aW, aC, aG, aV, aS, aI, aT, aY, aU, aB, aM, aA) v') (nI n, aK, aP, aQ, aR, aD, yV) v1 := by
    intro c
    unfold wpY_drop
    exact wy_in2 (fun a => absurd a c) (fun _ => ⟨rfl, zz_in hn hwy hF hD hm⟩)
  by_cases c0 : v1 < 0
  · exact br_t c0 (Y (fun z => Int32.not_le.mpr c0 z.1))
  · refine br_f c0 ?_
    obtain ⟨j, hj, rfl⟩ := nI_of c0
    by_cases cn : j < n
    · obtain ⟨c, rfl⟩ : ∃ c, n = c + 1 := ⟨n - 1, by omega⟩
      refine br_t (nI_lt cn (by omega)) (nm_r (nI_pred c) ⟨c - j + 1, wx_drop28 (by omega) (c - j) j aK aP aQ aR (by omega) (fun i _ hi => FT_b (hF i (by omega))) ?_⟩)
      unfold wpY_drop
      refine wy_in2 (fun _ => ⟨c - j + 1, wy_drop21 (by omega) (c - j) j aK aP aQ aR (by omega) ⟨rfl, zz_in (by omega) hwy (fun i hi => ?_) hD hm⟩⟩) (fun z => absurd ⟨nI_pos' hj, by rw [nI_pred]; exact nI_le (by omega) (by omega)⟩ z)
      rw [drp_v, drp_v, drp_v, drp_v]
      by_cases q : j ≤ i ∧ i < j + (c - j)
      · rw [if_pos q, if_pos q, if_pos q, if_pos q]; exact hF (i + 1) (by omega)
      · rw [if_neg q, if_neg q, if_neg q, if_neg q]; exact hF i (by omega)
    · refine br_f (nI_nlt (by omega) hj) (Y (fun z => ?_))
      by_cases n0 : n = 0
      · subst n0
        have := z.2
        rw [Int32.le_iff_toInt_le, nI_toInt hj] at this
        have e : (nI 0 - 1).toInt = -1 := by decide
        omega
      · have e : nI n - 1 = nI (n - 1) := pk_sub (b := 1) (by omega)
        rw [e, nI_leI hj (by omega)] at z
        omega
end
section
/-! the methods that ask -/
theorem i_vc_count {k : Nat} {u : SX} {v : SY} (I : i_Rel k u v) (hk : k + 5 ≤ 2560) : wpX_count (fun r u' => wpY_count (fun r' v' => r' = r ∧ i_Rel (k + 5) u' v') v) u := by
  refine zz_el (P := fun u v => wpX_count (fun r u' => wpY_count (fun r' v' => r' = r ∧ i_Rel (k + 5) u' v') v) u) I ?_
  intro n wy m rU mO tO bS dE iC aD aK aP aQ aR aN aW aC aG aV aS aI aT aY aU aB aM aA yV hn hwy hF hD hm
  have hr := rl_lt hn
  unfold wpX_count wpY_count
  refine wx_start hn hD hm (fun aN1 hN1 => ?_)
  refine wx_count hn hr hwy hF hN1 hm (fun mO' bS' dE' iC' aN' aW' aC' aG' aV' aS' aI' aT' aY' aU' aB' aM' aA' hN' => ?_)
  refine wy_all hn (wy_countOf (w := fun _ => 0) hn hr hF hD hm (fun yV' => ?_))
  exact ⟨rfl, zz_in hn hwy hF hD hm⟩
theorem i_vc_solvable {k : Nat} {u : SX} {v : SY} (I : i_Rel k u v) (hk : k + 5 ≤ 2560) : wpX_solvable (fun r u' => wpY_solvable (fun r' v' => r' = r ∧ i_Rel (k + 5) u' v') v) u := by
  refine zz_el (P := fun u v => wpX_solvable (fun r u' => wpY_solvable (fun r' v' => r' = r ∧ i_Rel (k + 5) u' v') v) u) I ?_
  intro n wy m rU mO tO bS dE iC aD aK aP aQ aR aN aW aC aG aV aS aI aT aY aU aB aM aA yV hn hwy hF hD hm
  have hr := rl_lt hn
  unfold wpX_solvable wpY_solvable wpY_count
  refine wx_start hn hD hm (fun aN1 hN1 => ?_)
  refine wx_has hn hr hwy hF hN1 hm (fun mO' tO' bS' dE' iC' aN' aW' aC' aG' aV' aS' aI' aT' aY' aU' aB' aM' aA' hN' => ?_)
  refine And.intro (bI_n _) ?_
  refine wy_all hn (wy_countOf (w := fun _ => 0) hn hr hF hD hm (fun yV' => ?_))
  have hb : CB (HA n (2 ^ n - 1) aK aP aQ aR) (fun _ => 0) m one ≤ 1296 := CB_le (fun _ => Nat.le_refl 1)
  by_cases c : EX m (HA n (2 ^ n - 1) aK aP aQ aR)
  · have t := (EX_CB (w := fun _ => 0)).mpr c
    exact br_f (nI_nle t (by omega)) ⟨(bI_t c).symm, zz_in hn hwy hF hD hm⟩
  · have t : CB (HA n (2 ^ n - 1) aK aP aQ aR) (fun _ => 0) m one = 0 := by
      have : ¬ 0 < CB (HA n (2 ^ n - 1) aK aP aQ aR) (fun _ => 0) m one := fun z => c (EX_CB.mp z)
      omega
    refine br_t (by rw [t]; decide) ⟨(bI_f c).symm, zz_in hn hwy hF hD hm⟩
theorem i_vc_countWith {k : Nat} {u : SX} {v : SY} (I : i_Rel k u v) (hk : k + 5 ≤ 2560) (v1 : Int32) (v2 : Int32) : wpX_countWith (fun r u' => wpY_countWith (fun r' v' => r' = r ∧ i_Rel (k + 5) u' v') v v1 v2) u v1 v2 := by
  refine zz_el (P := fun u v => wpX_countWith (fun r u' => wpY_countWith (fun r' v' => r' = r ∧ i_Rel (k + 5) u' v') v v1 v2) u v1 v2) I ?_
  intro n wy m rU mO tO bS dE iC aD aK aP aQ aR aN aW aC aG aV aS aI aT aY aU aB aM aA yV hn hwy hF hD hm
  have hr := rl_lt hn
  by_cases c : (0 ≤ v1 ∧ v1 ≤ 3) ∧ (0 ≤ v2 ∧ v2 ≤ 5)
  · obtain ⟨j, hj, rfl⟩ := fz0 v1 c.1
    obtain ⟨x, hx, rfl⟩ := (rg_i (b := 5) (by omega)).mp c.2
    refine br_f (Int32.not_lt.mpr c.1.1) (br_f (Int32.not_lt.mpr c.1.2) (br_f (Int32.not_lt.mpr c.2.1) (br_t c.2.2 ?_)))
    refine wx_start hn hD hm (fun aN1 hN1 => ?_)
    have hml : (m j &&& 2 ^ x) ≤ m j := Nat.and_le_left
    have hmj := hm j hj
    refine ⟨zi4 hj, zi4 hj, nm_r (e' := upd aN1 j (nI (m j &&& 2 ^ x))) (by rw [zcl (by omega), hN1 j hj, zx_shl (by omega), nx_and, zb_n8 (by omega)]) ?_⟩
    refine wx_count (m := uN4 m j (m j &&& 2 ^ x)) hn hr hwy hF (NN_u hN1) (um_64 hm (by omega)) (fun mO' bS' dE' iC' aN' aW' aC' aG' aV' aS' aI' aT' aY' aU' aB' aM' aA' hN' => ?_)
    have ec : sN 1296 (fun a => iz (SO m (HA n (2 ^ n - 1) aK aP aQ aR) a ∧ av a j = x) 1 0) = CB (HA n (2 ^ n - 1) aK aP aQ aR) (fun _ => 0) (uN4 m j (m j &&& 2 ^ x)) one := by
      refine sN_c 1296 (fun a _ => ?_)
      have e : (SO m (HA n (2 ^ n - 1) aK aP aQ aR) a ∧ av a j = x) ↔ (IB (uN4 m j (m j &&& 2 ^ x)) (av a) ∧ (HA n (2 ^ n - 1) aK aP aQ aR) (av a)) := by
        rw [IB_u hj, Nat.testBit_and, Bool.and_eq_true, Nat.testBit_two_pow, decide_eq_true_iff]
        constructor
        · rintro ⟨⟨h1, h2⟩, h3⟩
          exact ⟨⟨⟨h1 j hj, h3.symm⟩, fun v hv _ => h1 v hv⟩, h2⟩
        · rintro ⟨⟨⟨h1, h3⟩, h4⟩, h2⟩
          refine ⟨⟨fun v hv => ?_, h2⟩, h3.symm⟩
          by_cases ev : v = j
          · subst ev; exact h1
          · exact h4 v hv ev
      by_cases q : SO m (HA n (2 ^ n - 1) aK aP aQ aR) a ∧ av a j = x
      · rw [iz_t q, iz_t (e.mp q)]; rfl
      · rw [iz_f q, iz_f (fun z => q (e.mpr z))]
    unfold wpY_countWith
    refine wy_in2 (fun _ => wy_in2 (fun _ => wy_all hn (wy_countWith hn hr hF hD hm hj (by omega) (fun yV' => ⟨by rw [ec], zz_in hn hwy hF hD hm⟩))) (fun z => absurd c.2 z)) (fun z => absurd c.1 z)
  · have Y : wpY_countWith (fun r' v' => r' = -1000 ∧ i_Rel (k + 5) (nI n, nI wy, rU, mO, tO, bS, dE, iC, aD, aK, aP, aQ, aR, aN, aW, aC, aG, aV, aS, aI, aT, aY, aU, aB, aM, aA) v') (nI n, aK, aP, aQ, aR, aD, yV) v1 v2 := by
      unfold wpY_countWith
      exact wy_in2 (fun a => wy_in2 (fun b => absurd ⟨a, b⟩ c) (fun _ => ⟨rfl, zz_in hn hwy hF hD hm⟩)) (fun _ => ⟨rfl, zz_in hn hwy hF hD hm⟩)
    by_cases c1 : v1 < 0
    · exact br_t c1 Y
    · refine br_f c1 ?_
      by_cases c2 : 3 < v1
      · exact br_t c2 Y
      · refine br_f c2 ?_
        by_cases c3 : v2 < 0
        · exact br_t c3 Y
        · exact br_f c3 (br_f (fun z => c ⟨⟨Int32.not_lt.mp c1, Int32.not_lt.mp c2⟩, Int32.not_lt.mp c3, z⟩) Y)
set_option maxHeartbeats 1600000 in
theorem i_vc_first {k : Nat} {u : SX} {v : SY} (I : i_Rel k u v) (hk : k + 5 ≤ 2560) (v1 : Int32) : wpX_first (fun r u' => wpY_first (fun r' v' => r' = r ∧ i_Rel (k + 5) u' v') v v1) u v1 := by
  refine zz_el (P := fun u v => wpX_first (fun r u' => wpY_first (fun r' v' => r' = r ∧ i_Rel (k + 5) u' v') v v1) u v1) I ?_
  intro n wy m rU mO tO bS dE iC aD aK aP aQ aR aN aW aC aG aV aS aI aT aY aU aB aM aA yV hn hwy hF hD hm
  have hr := rl_lt hn
  by_cases c : 0 ≤ v1 ∧ v1 ≤ 3
  · obtain ⟨j, hj, rfl⟩ := fz0 v1 c
    refine br_f (Int32.not_lt.mpr c.1) (br_t c.2 ?_)
    refine wx_start hn hD hm (fun aN1 hN1 => ?_)
    refine wx_has hn hr hwy hF hN1 hm (fun mO' tO' bS' dE' iC' aN' aW' aC' aG' aV' aS' aI' aT' aY' aU' aB' aM' aA' hN' => ?_)
    by_cases e : EX m (HA n (2 ^ n - 1) aK aP aQ aR)
    · refine br_f (fun z => bI_0.mp z e) ?_
      obtain ⟨a, ⟨ha, hS⟩, hl⟩ := pk_least (fun a => a < 1296 ∧ SO m (HA n (2 ^ n - 1) aK aP aQ aR) a) e
      have fin : ∀ (mO tO bS dE iC : Int32) (aN aW aC aG aV aS aI aT aY aU aB aM aA : Nat → Int32), NN (pf m a (j + 1)) aN → wX_first_30 (fun r u' => wpY_first (fun r' v' => r' = r ∧ i_Rel (k + 5) u' v') (nI n, aK, aP, aQ, aR, aD, yV) (nI j)) (nI j) 1 (nI (j + 1)) (nI n) (nI wy) (nI (2 ^ n - 1)) mO tO bS dE iC aD aK aP aQ aR aN aW aC aG aV aS aI aT aY aU aB aM aA := by
        intro mO tO bS dE iC aN aW aC aG aV aS aI aT aY aU aB aM aA hN
        refine br_t (nI_lt (by omega) (by omega)) ⟨zi4 hj, ?_⟩
        have h6 := av_lt a j
        rw [zcl (by omega), hN j hj, pf_l (by omega)]
        refine wx_lo (p2_64 h6) (Nat.two_pow_pos _) ?_
        rw [zlo_p2 _ h6]
        unfold wpY_first
        refine wy_in2 (fun _ => wy_all hn (wy_first hn hr hF hD hm hj (fun b hb hSb hlb yV' => ⟨?_, zz_in hn hwy hF hD hm⟩) (fun z => absurd hS (z a ha)))) (fun z => absurd c z)
        have e : b = a := by
          by_cases l1 : b < a
          · exact absurd ⟨hb, hSb⟩ (hl b l1)
          · by_cases l2 : a < b
            · exact absurd hS (hlb a l2)
            · omega
        rw [e]
      have main : ∀ (d t : Nat) (mO tO bS dE iC : Int32) (aN aW aC aG aV aS aI aT aY aU aB aM aA : Nat → Int32), t + d = j + 1 → NN (pf m a t) aN → wX_first_30 (fun r u' => wpY_first (fun r' v' => r' = r ∧ i_Rel (k + 5) u' v') (nI n, aK, aP, aQ, aR, aD, yV) (nI j)) (nI j) (d + 1) (nI t) (nI n) (nI wy) (nI (2 ^ n - 1)) mO tO bS dE iC aD aK aP aQ aR aN aW aC aG aV aS aI aT aY aU aB aM aA := by
        intro d
        induction d with
        | zero =>
          intro t mO tO bS dE iC aN aW aC aG aV aS aI aT aY aU aB aM aA ht hN
          have et : t = j + 1 := by omega
          subst et
          exact fin mO tO bS dE iC aN aW aC aG aV aS aI aT aY aU aB aM aA hN
        | succ d ih =>
          intro t mO tO bS dE iC aN aW aC aG aV aS aI aT aY aU aB aM aA ht hN
          have ht4 : t < 4 := by omega
          have hbit : (pf m a t t).testBit (av a t) = true := by rw [pf_r (by omega)]; exact hS.1 t ht4
          refine br_f (nI_nlt (by omega) (by omega)) (wx_chooseFirst (m := pf m a t) (x0 := av a t) hn hr hwy hF ht4 hN (pf_64 hm) (av_lt a t) hbit ?_ (fun x hx hb => ?_) (fun mO' tO' bS' dE' iC' aN' aW' aC' aG' aV' aS' aI' aT' aY' aU' aB' aM' aA' hN' => ?_))
          · rw [pf_s]
            exact ⟨a, ha, pf_IB hS.1, hS.2⟩
          · rintro ⟨b, hb', h1, h2⟩
            rw [pf_r (by omega)] at hb
            obtain ⟨q1, q2, q3⟩ := pf_x ht4 hb hS.1 h1
            exact hl b (av_lex ha hb' ht4 q2 (by omega)) ⟨hb', q1, h2⟩
          · rw [pf_s] at hN'
            exact nm_r (nI_1 t) (ih (t + 1) _ _ _ _ _ _ _ _ _ _ _ _ _ _ _ _ _ _ (by omega) hN')
      refine ⟨j + 2, main (j + 1) 0 _ _ _ _ _ _ _ _ _ _ _ _ _ _ _ _ _ _ (by omega) (fun v hv => ?_)⟩
      rw [pf_r (by omega)]
      exact hN' v hv
    · refine br_t (bI_0.mpr e) ?_
      unfold wpY_first
      refine wy_in2 (fun _ => wy_all hn (wy_first hn hr hF hD hm hj (fun b hb hSb _ => absurd ⟨b, hb, hSb⟩ e) (fun _ yV' => ⟨rfl, zz_in hn hwy hF hD hm⟩))) (fun z => absurd c z)
  · have Y : wpY_first (fun r' v' => r' = -1000 ∧ i_Rel (k + 5) (nI n, nI wy, rU, mO, tO, bS, dE, iC, aD, aK, aP, aQ, aR, aN, aW, aC, aG, aV, aS, aI, aT, aY, aU, aB, aM, aA) v') (nI n, aK, aP, aQ, aR, aD, yV) v1 := by
      unfold wpY_first
      exact wy_in2 (fun a => absurd a c) (fun _ => ⟨rfl, zz_in hn hwy hF hD hm⟩)
    by_cases c1 : v1 < 0
    · exact br_t c1 Y
    · exact br_f c1 (br_f (fun z => c ⟨Int32.not_lt.mp c1, z⟩) Y)
set_option maxHeartbeats 1600000 in
theorem i_vc_possible {k : Nat} {u : SX} {v : SY} (I : i_Rel k u v) (hk : k + 5 ≤ 2560) (v1 : Int32) : wpX_possible (fun r u' => wpY_possible (fun r' v' => r' = r ∧ i_Rel (k + 5) u' v') v v1) u v1 := by
  refine zz_el (P := fun u v => wpX_possible (fun r u' => wpY_possible (fun r' v' => r' = r ∧ i_Rel (k + 5) u' v') v v1) u v1) I ?_
  intro n wy m rU mO tO bS dE iC aD aK aP aQ aR aN aW aC aG aV aS aI aT aY aU aB aM aA yV hn hwy hF hD hm
  have hr := rl_lt hn
  by_cases c : 0 ≤ v1 ∧ v1 ≤ 3
  · obtain ⟨j, hj, rfl⟩ := fz0 v1 c
    refine br_f (Int32.not_lt.mpr c.1) (br_t c.2 ?_)
    refine wx_start hn hD hm (fun aN1 hN1 => ?_)
    have hmj := hm j hj
    have eD : aD (nI j).toNatClampNeg = nI (m j) := by rw [zcl (by omega)]; exact hD j hj
    have main : ∀ (d x : Nat) (mO tO bS dE iC : Int32) (aN aW aC aG aV aS aI aT aY aU aB aM aA : Nat → Int32), x + d = 6 → (∀ v, v < 4 → v ≠ j → aN v = nI (m v)) →
        wX_possible_21 (fun r u' => wpY_possible (fun r' v' => r' = r ∧ i_Rel (k + 5) u' v') (nI n, aK, aP, aQ, aR, aD, yV) (nI j)) (nI j) (d + 1) (nI (kp (fun x => (m j).testBit x = true ∧ EX (uN4 m j (2 ^ x)) (HA n (2 ^ n - 1) aK aP aQ aR)) x)) (nI x) (nI n) (nI wy) (nI (2 ^ n - 1)) mO tO bS dE iC aD aK aP aQ aR aN aW aC aG aV aS aI aT aY aU aB aM aA := by
      intro d
      induction d with
      | zero =>
        intro x mO tO bS dE iC aN aW aC aG aV aS aI aT aY aU aB aM aA hx hA
        have e6 : x = 6 := by omega
        subst e6
        refine br_t (nI_le (a := 6) (b := 6) (by omega) (by omega)) ?_
        unfold wpY_possible
        refine wy_in2 (fun _ => wy_all hn (wy_possible hn hr hF hD hm hj (fun M yV' hM hB => ⟨?_, zz_in hn hwy hF hD hm⟩))) (fun z => absurd c z)
        refine congrArg nI (zm_ext hM (kp_lt 6 (by omega)) (fun x hx => ?_))
        have e : M.testBit x = true ↔ (kp (fun x => (m j).testBit x = true ∧ EX (uN4 m j (2 ^ x)) (HA n (2 ^ n - 1) aK aP aQ aR)) 6).testBit x = true := by
          rw [hB x, kp_bit]
          constructor
          · rintro ⟨a, ha, hS, ea⟩
            subst ea
            refine ⟨hx, hS.1 j hj, a, ha, (IB_u hj).mpr ⟨?_, fun v hv _ => hS.1 v hv⟩, hS.2⟩
            rw [Nat.testBit_two_pow]; exact decide_eq_true rfl
          · rintro ⟨_, hb, a, ha, h1, h2⟩
            have q := (IB_u hj).mp h1
            have ex : av a j = x := by
              have := q.1
              rw [Nat.testBit_two_pow, decide_eq_true_iff] at this
              exact this.symm
            refine ⟨a, ha, ⟨fun v hv => ?_, h2⟩, ex⟩
            by_cases ev : v = j
            · subst ev; rw [ex]; exact hb
            · exact q.2 v hv ev
        cases h1 : M.testBit x
        · cases h2 : (kp (fun x => (m j).testBit x = true ∧ EX (uN4 m j (2 ^ x)) (HA n (2 ^ n - 1) aK aP aQ aR)) 6).testBit x
          · rfl
          · rw [e.mpr h2] at h1; exact absurd h1 (by decide)
        · exact (e.mp h1).symm
      | succ d ih =>
        intro x mO tO bS dE iC aN aW aC aG aV aS aI aT aY aU aB aM aA hx hA
        have hx6 : x < 6 := by omega
        have ek : kp (fun x => (m j).testBit x = true ∧ EX (uN4 m j (2 ^ x)) (HA n (2 ^ n - 1) aK aP aQ aR)) (x + 1) = iz ((m j).testBit x = true ∧ EX (uN4 m j (2 ^ x)) (HA n (2 ^ n - 1) aK aP aQ aR)) (kp (fun x => (m j).testBit x = true ∧ EX (uN4 m j (2 ^ x)) (HA n (2 ^ n - 1) aK aP aQ aR)) x ||| 2 ^ x) (kp (fun x => (m j).testBit x = true ∧ EX (uN4 m j (2 ^ x)) (HA n (2 ^ n - 1) aK aP aQ aR)) x) := rfl
        refine br_f (zc6 hx6) ⟨zi4 hj, ?_⟩
        rw [eD]
        cases hb : (m j).testBit x
        · rw [iz_f (fun z => by rw [hb] at z; exact absurd z.1 (by decide))] at ek
          have K := ih (x + 1) mO tO bS dE iC aN aW aC aG aV aS aI aT aY aU aB aM aA (by omega) hA
          rw [ek] at K
          exact br_t ((zx_b0 (by omega) (by omega)).mpr hb) (nm_r (nI_1 x) K)
        · have h64 := p2_64 hx6
          refine br_f (fun z => by rw [zx_b0 (by omega) (by omega), hb] at z; exact absurd z (by decide)) ⟨zi4 hj, nm_r (e' := upd aN j (nI (2 ^ x))) (by rw [zcl (by omega), zx_shl (by omega), zb_n8 (by omega)]) ?_⟩
          refine wx_has (m := uN4 m j (2 ^ x)) hn hr hwy hF (NN_o hA) (um_64 hm h64) (fun mO' tO' bS' dE' iC' aN' aW' aC' aG' aV' aS' aI' aT' aY' aU' aB' aM' aA' hN' => ?_)
          have K := ih (x + 1) mO' tO' bS' dE' iC' aN' aW' aC' aG' aV' aS' aI' aT' aY' aU' aB' aM' aA' (by omega) (fun v hv hne => by rw [hN' v hv, uN4_n hne])
          by_cases e : EX (uN4 m j (2 ^ x)) (HA n (2 ^ n - 1) aK aP aQ aR)
          · rw [iz_t ⟨hb, e⟩] at ek
            rw [ek] at K
            exact br_f (fun z => bI_0.mp z e) (nm_r (e' := nI (kp (fun x => (m j).testBit x = true ∧ EX (uN4 m j (2 ^ x)) (HA n (2 ^ n - 1) aK aP aQ aR)) x ||| 2 ^ x)) (by rw [zx_shl (by omega), zx_or]) (nm_r (nI_1 x) K))
          · rw [iz_f (fun z => e z.2)] at ek
            rw [ek] at K
            exact br_t (bI_0.mpr e) (nm_r (nI_1 x) K)
    exact ⟨7, main 6 0 _ _ _ _ _ _ _ _ _ _ _ _ _ _ _ _ _ _ (by omega) (fun v hv _ => hN1 v hv)⟩
  · have Y : wpY_possible (fun r' v' => r' = -1000 ∧ i_Rel (k + 5) (nI n, nI wy, rU, mO, tO, bS, dE, iC, aD, aK, aP, aQ, aR, aN, aW, aC, aG, aV, aS, aI, aT, aY, aU, aB, aM, aA) v') (nI n, aK, aP, aQ, aR, aD, yV) v1 := by
      unfold wpY_possible
      exact wy_in2 (fun a => absurd a c) (fun _ => ⟨rfl, zz_in hn hwy hF hD hm⟩)
    by_cases c1 : v1 < 0
    · exact br_t c1 Y
    · exact br_f c1 (br_f (fun z => c ⟨Int32.not_lt.mp c1, z⟩) Y)
end
section
/-! the methods that ask for the best, and the last two -/
theorem SpOP {H : (Nat → Nat) → Prop} {m : Nat → Nat} {p tt c o : Nat} {bb s : Int} (h : Sp 2 (CB H (dg p) m) tt bb) (g : OP m H (dg p) 1296 s c o) : tt = c ∧ ((tt = 0 ∧ s = 61) ∨ (0 < tt ∧ s = bb ∧ -60 ≤ s ∧ s ≤ 60)) := by
  obtain ⟨h1, h2, h3⟩ := h.2.2 rfl
  obtain ⟨g1, g2, g3⟩ := g
  have bd : ∀ a, ps (dg p) (av a) 4 ≤ 60 := fun a => by
    have := ps_bd (w := dg p) (x := av a) 4 (fun v _ => dg_bd p v) (fun v _ => av_lt a v)
    omega
  rcases g3 with ⟨e1, e2⟩ | ⟨e1, e2, e3, e4, e5, e6⟩
  · have z : tt = 0 := by
      rw [h2]
      refine sN_0 1296 (fun a ha => iz_f (fun q => ?_))
      have := g1 a ha q
      have := bd a
      omega
    exact ⟨by omega, Or.inl ⟨z, e1⟩⟩
  · have pp : 0 < CB H (dg p) m (dl s) := EXg_CB.mpr ⟨o, e3, e4, e5⟩
    have l : ¬ s < bb := fun q => by rw [h1 s q] at pp; exact absurd pp (by omega)
    rcases h3 with ⟨f1, f2⟩ | ⟨f1, f2, f3⟩
    · omega
    · have hx : EXg m H (dg p) bb := EXg_CB.mp (by rw [← h2]; exact f3)
      obtain ⟨b, hb, hS, eb⟩ := hx
      have := g1 b hb hS
      have es : s = bb := by omega
      refine ⟨?_, Or.inr ⟨f3, es, e1, e2⟩⟩
      rw [h2, g2, es]
      rfl
theorem p24 {v1 : Int32} (c : 0 ≤ v1 ∧ v1 ≤ 2400) : ∃ p : Nat, p ≤ 2400 ∧ v1 = nI p := (rg_i (b := 2400) (by omega)).mp c
theorem i_vc_least {k : Nat} {u : SX} {v : SY} (I : i_Rel k u v) (hk : k + 5 ≤ 2560) (v1 : Int32) : wpX_least (fun r u' => wpY_least (fun r' v' => r' = r ∧ i_Rel (k + 5) u' v') v v1) u v1 := by
  refine zz_el (P := fun u v => wpX_least (fun r u' => wpY_least (fun r' v' => r' = r ∧ i_Rel (k + 5) u' v') v v1) u v1) I ?_
  intro n wy m rU mO tO bS dE iC aD aK aP aQ aR aN aW aC aG aV aS aI aT aY aU aB aM aA yV hn hwy hF hD hm
  have hr := rl_lt hn
  unfold wpX_least wpY_least
  refine wx_in2 (fun c => ?_) (fun c => wy_in2 (fun z => absurd z c) (fun _ => ⟨rfl, zz_in hn hwy hF hD hm⟩))
  obtain ⟨p, hp, rfl⟩ := p24 c
  refine wx_start hn hD hm (fun aN1 hN1 => ?_)
  refine wx_best hn hr hwy hF hp hN1 hm (fun tt bb mO' dE' iC' aN' aW' aC' aG' aV' aS' aI' aT' aY' aU' aB' aM' aA' hN' hsp ht => ?_)
  have Y : ∀ (r : Int32) (u' : SX), (∀ (s : Int) (q o : Nat) (yV' : Nat → Int32), OP m (HA n (2 ^ n - 1) aK aP aQ aR) (dg p) 1296 s q o → (zI s = 61 → (-1002 : Int32) = r ∧ i_Rel (k + 5) u' (nI n, aK, aP, aQ, aR, aD, yV')) ∧ (¬ zI s = 61 → zI s = r ∧ i_Rel (k + 5) u' (nI n, aK, aP, aQ, aR, aD, yV'))) →
      wpY_in (fun r_1 => (r_1 = 0 → (-1000 : Int32) = r ∧ i_Rel (k + 5) u' (nI n, aK, aP, aQ, aR, aD, yV)) ∧ (¬ r_1 = 0 → wpY_optimum (fun r_10 u => match u with | (fN, yK, yP, yQ, yR, yD, yV) => ((r_10 = 61 → (-1002 : Int32) = r ∧ i_Rel (k + 5) u' (fN, yK, yP, yQ, yR, yD, yV)) ∧ (¬ r_10 = 61 → r_10 = r ∧ i_Rel (k + 5) u' (fN, yK, yP, yQ, yR, yD, yV)))) (nI n, aK, aP, aQ, aR, aD, yV) (nI p) 0)) (nI n, aK, aP, aQ, aR, aD, yV) (nI p) 0 2400 := by
    intro r u' hh
    refine wy_in2 (fun _ => ?_) (fun z => absurd c z)
    unfold wpY_optimum
    refine wy_all hn (wy_opt hn hr hF hD hm hp (fun s q o yV' hO => br_t rfl (hh s q o yV' hO)))
  by_cases t0 : tt = 0
  · subst t0
    refine br_t rfl (Y _ _ (fun s q o yV' hO => ?_))
    obtain ⟨e, z⟩ := SpOP hsp hO
    have es : s = 61 := by rcases z with z | z <;> omega
    exact br_t (by rw [es]; rfl) ⟨rfl, zz_in hn hwy hF hD hm⟩
  · refine br_f (nI_ne0 (by omega) (by omega)) (Y _ _ (fun s q o yV' hO => ?_))
    obtain ⟨e, z⟩ := SpOP hsp hO
    have es : s = bb ∧ -60 ≤ s ∧ s ≤ 60 := by rcases z with z | z <;> omega
    exact br_f (fun q => by rw [show (61 : Int32) = zI 61 from rfl, zn_eq (by omega) (by omega) (by omega) (by omega)] at q; omega) ⟨by rw [es.1], zz_in hn hwy hF hD hm⟩
theorem i_vc_best {k : Nat} {u : SX} {v : SY} (I : i_Rel k u v) (hk : k + 5 ≤ 2560) (v1 : Int32) : wpX_best (fun r u' => wpY_best (fun r' v' => r' = r ∧ i_Rel (k + 5) u' v') v v1) u v1 := by
  refine zz_el (P := fun u v => wpX_best (fun r u' => wpY_best (fun r' v' => r' = r ∧ i_Rel (k + 5) u' v') v v1) u v1) I ?_
  intro n wy m rU mO tO bS dE iC aD aK aP aQ aR aN aW aC aG aV aS aI aT aY aU aB aM aA yV hn hwy hF hD hm
  have hr := rl_lt hn
  unfold wpX_best wpY_best
  refine wx_in2 (fun c => ?_) (fun c => wy_in2 (fun z => absurd z c) (fun _ => ⟨rfl, zz_in hn hwy hF hD hm⟩))
  obtain ⟨p, hp, rfl⟩ := p24 c
  refine wx_start hn hD hm (fun aN1 hN1 => ?_)
  refine wx_best hn hr hwy hF hp hN1 hm (fun tt bb mO' dE' iC' aN' aW' aC' aG' aV' aS' aI' aT' aY' aU' aB' aM' aA' hN' hsp ht => ?_)
  refine wy_in2 (fun _ => ?_) (fun z => absurd c z)
  unfold wpY_optimum
  refine wy_all hn (wy_opt hn hr hF hD hm hp (fun s q o yV' hO => br_f (by decide) (br_t rfl ⟨?_, zz_in hn hwy hF hD hm⟩)))
  rw [(SpOP hsp hO).1]
/-- the number of an assignment, digit by digit -/
def pn (a : Nat) : Nat → Nat
  | 0 => 0
  | v + 1 => 6 * pn a v + av a v
theorem pn_4 {a : Nat} (h : a < 1296) : pn a 4 = a := by
  have e : pn a 4 = 6 * (6 * (6 * (6 * 0 + av a 0) + av a 1) + av a 2) + av a 3 := rfl
  have := av_eq h
  omega
set_option maxHeartbeats 1600000 in
theorem i_vc_bestOne {k : Nat} {u : SX} {v : SY} (I : i_Rel k u v) (hk : k + 5 ≤ 2560) (v1 : Int32) : wpX_bestOne (fun r u' => wpY_bestOne (fun r' v' => r' = r ∧ i_Rel (k + 5) u' v') v v1) u v1 := by
  refine zz_el (P := fun u v => wpX_bestOne (fun r u' => wpY_bestOne (fun r' v' => r' = r ∧ i_Rel (k + 5) u' v') v v1) u v1) I ?_
  intro n wy m rU mO tO bS dE iC aD aK aP aQ aR aN aW aC aG aV aS aI aT aY aU aB aM aA yV hn hwy hF hD hm
  have hr := rl_lt hn
  unfold wpX_bestOne wpY_bestOne
  refine wx_in2 (fun c => ?_) (fun c => wy_in2 (fun z => absurd z c) (fun _ => ⟨rfl, zz_in hn hwy hF hD hm⟩))
  obtain ⟨p, hp, rfl⟩ := p24 c
  refine wx_start hn hD hm (fun aN1 hN1 => ?_)
  refine wx_best hn hr hwy hF hp hN1 hm (fun tt bb mO' dE' iC' aN' aW' aC' aG' aV' aS' aI' aT' aY' aU' aB' aM' aA' hN' hsp ht => ?_)
  have Y : ∀ (r : Int32) (u' : SX), (∀ (s : Int) (q o : Nat) (yV' : Nat → Int32), OP m (HA n (2 ^ n - 1) aK aP aQ aR) (dg p) 1296 s q o → (zI s = 61 → (-1002 : Int32) = r ∧ i_Rel (k + 5) u' (nI n, aK, aP, aQ, aR, aD, yV')) ∧ (¬ zI s = 61 → nI o = r ∧ i_Rel (k + 5) u' (nI n, aK, aP, aQ, aR, aD, yV'))) →
      wpY_in (fun r_1 => (r_1 = 0 → (-1000 : Int32) = r ∧ i_Rel (k + 5) u' (nI n, aK, aP, aQ, aR, aD, yV)) ∧ (¬ r_1 = 0 → wpY_optimum (fun r_10 u => match u with | (fN, yK, yP, yQ, yR, yD, yV) => (r_10 = r ∧ i_Rel (k + 5) u' (fN, yK, yP, yQ, yR, yD, yV))) (nI n, aK, aP, aQ, aR, aD, yV) (nI p) 2)) (nI n, aK, aP, aQ, aR, aD, yV) (nI p) 0 2400 := by
    intro r u' hh
    refine wy_in2 (fun _ => ?_) (fun z => absurd c z)
    unfold wpY_optimum
    refine wy_all hn (wy_opt hn hr hF hD hm hp (fun s q o yV' hO => br_f (by decide) (br_f (by decide) (hh s q o yV' hO))))
  by_cases t0 : tt = 0
  · subst t0
    refine br_t rfl (Y _ _ (fun s q o yV' hO => ?_))
    obtain ⟨e, z⟩ := SpOP hsp hO
    have es : s = 61 := by rcases z with z | z <;> omega
    exact br_t (by rw [es]; rfl) ⟨rfl, zz_in hn hwy hF hD hm⟩
  · refine br_f (nI_ne0 (by omega) (by omega)) ?_
    obtain ⟨z1, z2, z3⟩ := hsp.2.2 rfl
    have hg : -60 ≤ bb ∧ bb ≤ 60 := by rcases z3 with q | q <;> omega
    have hex : EXg m (HA n (2 ^ n - 1) aK aP aQ aR) (dg p) bb := EXg_CB.mp (by rw [← z2]; omega)
    have hmin : ∀ s, s < bb → ¬ EXg m (HA n (2 ^ n - 1) aK aP aQ aR) (dg p) s := fun s hs q => by
      have := EXg_CB.mpr q
      rw [z1 s hs] at this
      exact absurd this (by omega)
    obtain ⟨a, ⟨ha, hS, hsum⟩, hl⟩ := pk_least (fun a => a < 1296 ∧ SO m (HA n (2 ^ n - 1) aK aP aQ aR) a ∧ ps (dg p) (av a) 4 = bb) hex
    have main : ∀ (d t : Nat) (mO tO bS dE iC : Int32) (aN aW aC aG aV aS aI aT aY aU aB aM aA : Nat → Int32), t + d = 4 → NN (pf m a t) aN →
        wX_bestOne_45 (fun r u' => wpY_in (fun r_1 => (r_1 = 0 → (-1000 : Int32) = r ∧ i_Rel (k + 5) u' (nI n, aK, aP, aQ, aR, aD, yV)) ∧ (¬ r_1 = 0 → wpY_optimum (fun r_10 u => match u with | (fN, yK, yP, yQ, yR, yD, yV) => (r_10 = r ∧ i_Rel (k + 5) u' (fN, yK, yP, yQ, yR, yD, yV))) (nI n, aK, aP, aQ, aR, aD, yV) (nI p) 2)) (nI n, aK, aP, aQ, aR, aD, yV) (nI p) 0 2400) (nI p) (zI bb) (d + 1) (nI (pn a t)) (nI t) (nI n) (nI wy) (nI (2 ^ n - 1)) mO tO bS dE iC aD aK aP aQ aR aN aW aC aG aV aS aI aT aY aU aB aM aA := by
      intro d
      induction d with
      | zero =>
        intro t mO tO bS dE iC aN aW aC aG aV aS aI aT aY aU aB aM aA ht hN
        have et : t = 4 := by omega
        subst et
        refine br_t (nI_le (a := 4) (b := 4) (by omega) (by omega)) (Y _ _ (fun s q o yV' hO => ?_))
        obtain ⟨e, z⟩ := SpOP hsp hO
        have es : s = bb ∧ -60 ≤ s ∧ s ≤ 60 := by rcases z with z | z <;> omega
        refine br_f (fun q => by rw [show (61 : Int32) = zI 61 from rfl, zn_eq (by omega) (by omega) (by omega) (by omega)] at q; omega) ⟨?_, zz_in hn hwy hF hD hm⟩
        rw [pn_4 ha]
        refine congrArg nI ?_
        rcases hO.2.2 with q | ⟨q1, q2, q3, q4, q5, q6⟩
        · omega
        · by_cases l1 : o < a
          · exact absurd ⟨q3, q4, by rw [q5]; exact es.1⟩ (hl o l1)
          · by_cases l2 : a < o
            · exact absurd (by rw [hsum]; exact es.1.symm) (q6 a l2 hS)
            · omega
      | succ d ih =>
        intro t mO tO bS dE iC aN aW aC aG aV aS aI aT aY aU aB aM aA ht hN
        have ht4 : t < 4 := by omega
        have h6 := av_lt a t
        have hbit : (pf m a t t).testBit (av a t) = true := by rw [pf_r (by omega)]; exact hS.1 t ht4
        refine br_f (zc4 ht4) (wx_chooseBest (m := pf m a t) (x0 := av a t) (g := bb) hn hr hwy hF hp hg ht4 hN (pf_64 hm) h6 hbit ?_ (fun x hx hb => ?_) (fun x hb s hs => ?_) (fun mO' tO' bS' dE' iC' aN' aW' aC' aG' aV' aS' aI' aT' aY' aU' aB' aM' aA' hN' => ?_))
        · rw [pf_s]
          exact ⟨a, ha, ⟨pf_IB hS.1, hS.2⟩, hsum⟩
        · rintro ⟨b, hb', ⟨h1, h2⟩, h3⟩
          rw [pf_r (by omega)] at hb
          obtain ⟨q1, q2, q3⟩ := pf_x ht4 hb hS.1 h1
          exact hl b (av_lex ha hb' ht4 q2 (by omega)) ⟨hb', ⟨q1, h2⟩, h3⟩
        · rintro ⟨b, hb', ⟨h1, h2⟩, h3⟩
          rw [pf_r (by omega)] at hb
          obtain ⟨q1, q2, q3⟩ := pf_x ht4 hb hS.1 h1
          exact hmin s hs ⟨b, hb', ⟨q1, h2⟩, h3⟩
        · rw [pf_s] at hN'
          refine ⟨zi4 ht4, ?_⟩
          rw [zcl (by omega), hN' t ht4, pf_l (by omega)]
          refine wx_lo (p2_64 h6) (Nat.two_pow_pos _) (nm_r (e' := nI (pn a (t + 1))) ?_ (nm_r (nI_1 t) (ih (t + 1) _ _ _ _ _ _ _ _ _ _ _ _ _ _ _ _ _ _ (by omega) hN')))
          rw [zlo_p2 _ h6, show (6 : Int32) = nI 6 from rfl, pk_mul, nI_add]
          rfl
    refine ⟨5, main 4 0 _ _ _ _ _ _ _ _ _ _ _ _ _ _ _ _ _ _ (by omega) (fun v hv => ?_)⟩
    rw [pf_r (by omega)]
    exact hN' v hv
theorem an_lt {a b : Nat} (h : a < 1024) : zx_an a b < 1024 := by
  have := zx_anle a b
  omega
theorem in_n {v1 : Int32} {n : Nat} (hn : n ≤ 10) : (0 ≤ v1 ∧ v1 ≤ nI n - 1) ↔ ∃ j : Nat, j < n ∧ v1 = nI j := by
  constructor
  · rintro ⟨h1, h2⟩
    obtain ⟨j, hj, rfl⟩ := nI_of (Int32.not_lt.mpr h1)
    refine ⟨j, ?_, rfl⟩
    by_cases n0 : n = 0
    · subst n0
      rw [Int32.le_iff_toInt_le, nI_toInt hj] at h2
      have e : (nI 0 - 1).toInt = -1 := by decide
      omega
    · have e : nI n - 1 = nI (n - 1) := pk_sub (b := 1) (by omega)
      rw [e, nI_leI hj (by omega)] at h2
      omega
  · rintro ⟨j, hj, rfl⟩
    have e : nI n - 1 = nI (n - 1) := pk_sub (b := 1) (by omega)
    exact ⟨nI_pos' (by omega), by rw [e]; exact nI_le (by omega) (by omega)⟩
set_option maxHeartbeats 1600000 in
theorem i_vc_needless {k : Nat} {u : SX} {v : SY} (I : i_Rel k u v) (hk : k + 5 ≤ 2560) (v1 : Int32) : wpX_needless (fun r u' => wpY_needless (fun r' v' => r' = r ∧ i_Rel (k + 5) u' v') v v1) u v1 := by
  refine zz_el (P := fun u v => wpX_needless (fun r u' => wpY_needless (fun r' v' => r' = r ∧ i_Rel (k + 5) u' v') v v1) u v1) I ?_
  intro n wy m rU mO tO bS dE iC aD aK aP aQ aR aN aW aC aG aV aS aI aT aY aU aB aM aA yV hn hwy hF hD hm
  have hr := rl_lt hn
  have Y : ¬ (0 ≤ v1 ∧ v1 ≤ nI n - 1) → wpY_needless (fun r' v' => r' = 0 ∧ i_Rel (k + 5) (nI n, nI wy, rU, mO, tO, bS, dE, iC, aD, aK, aP, aQ, aR, aN, aW, aC, aG, aV, aS, aI, aT, aY, aU, aB, aM, aA) v') (nI n, aK, aP, aQ, aR, aD, yV) v1 := by
    intro c
    unfold wpY_needless
    exact wy_in2 (fun a => absurd a c) (fun _ => ⟨rfl, zz_in hn hwy hF hD hm⟩)
  by_cases c : 0 ≤ v1 ∧ v1 ≤ nI n - 1
  · obtain ⟨j, hj, rfl⟩ := (in_n hn).mp c
    refine br_f (Int32.not_lt.mpr c.1) (br_t (nI_lt hj (by omega)) ?_)
    have er : nI (2 ^ n - 1) &&& (((1 : Int32) <<< (nI j &&& 31)) ^^^ (-1)) = nI (zx_an (2 ^ n - 1) (2 ^ j)) := by rw [zx_shl (by omega), zx_and]
    have hr2 : zx_an (2 ^ n - 1) (2 ^ j) < 1024 := an_lt hr
    refine wx_start hn hD hm (fun aN1 hN1 => ?_)
    refine wx_count hn hr hwy hF hN1 hm (fun mO' bS' dE' iC' aN' aW' aC' aG' aV' aS' aI' aT' aY' aU' aB' aM' aA' hN' => ?_)
    refine nm_r er ?_
    refine wx_count hn hr2 hwy hF hN' hm (fun mO2 bS2 dE2 iC2 aN2 aW2 aC2 aG2 aV2 aS2 aI2 aT2 aY2 aU2 aB2 aM2 aA2 hN2 => ?_)
    have Z : ∀ (r : Int32) (u' : SX), (∀ yV' : Nat → Int32, (nI (CB (HA n (zx_an (2 ^ n - 1) (2 ^ j)) aK aP aQ aR) (fun _ => 0) m one) = nI (CB (HA n (2 ^ n - 1) aK aP aQ aR) (fun _ => 0) m one) → (1 : Int32) = r ∧ i_Rel (k + 5) u' (nI n, aK, aP, aQ, aR, aD, yV')) ∧ (¬ nI (CB (HA n (zx_an (2 ^ n - 1) (2 ^ j)) aK aP aQ aR) (fun _ => 0) m one) = nI (CB (HA n (2 ^ n - 1) aK aP aQ aR) (fun _ => 0) m one) → (0 : Int32) = r ∧ i_Rel (k + 5) u' (nI n, aK, aP, aQ, aR, aD, yV'))) →
        wpY_needless (fun r' v' => r' = r ∧ i_Rel (k + 5) u' v') (nI n, aK, aP, aQ, aR, aD, yV) (nI j) := by
      intro r u' hh
      unfold wpY_needless
      refine wy_in2 (fun _ => wy_all hn (nm_r er (wy_countOf (w := fun _ => 0) hn hr2 hF hD hm (fun yV1 => ?_)))) (fun z => absurd c z)
      unfold wpY_count
      exact wy_all hn (wy_countOf (w := fun _ => 0) hn hr hF hD hm (fun yV2 => hh yV2))
    by_cases e : nI (CB (HA n (zx_an (2 ^ n - 1) (2 ^ j)) aK aP aQ aR) (fun _ => 0) m one) = nI (CB (HA n (2 ^ n - 1) aK aP aQ aR) (fun _ => 0) m one)
    · exact br_t e (Z _ _ (fun yV' => br_t e ⟨rfl, zz_in hn hwy hF hD hm⟩))
    · exact br_f e (Z _ _ (fun yV' => br_f e ⟨rfl, zz_in hn hwy hF hD hm⟩))
  · by_cases c1 : v1 < 0
    · exact br_t c1 (Y c)
    · refine br_f c1 ?_
      obtain ⟨j, hj, rfl⟩ := nI_of c1
      exact br_f (fun z => c ((in_n hn).mpr ⟨j, (nI_ltI hj (by omega)).mp z, rfl⟩)) (Y c)
/-- what is kept after i constraints have been looked at -/
noncomputable def bk (n : Nat) (aK aP aQ aR : Nat → Int32) (m : Nat → Nat) : Nat → Nat
  | 0 => 2 ^ n - 1
  | i + 1 => iz (EX m (HA n (zx_an (bk n aK aP aQ aR m i) (2 ^ i)) aK aP aQ aR)) (bk n aK aP aQ aR m i) (zx_an (bk n aK aP aQ aR m i) (2 ^ i))
theorem bk_lt {n : Nat} {aK aP aQ aR : Nat → Int32} {m : Nat → Nat} (hn : n ≤ 10) : ∀ i, bk n aK aP aQ aR m i < 1024
  | 0 => rl_lt hn
  | i + 1 => by
    have ih := bk_lt (aK := aK) (aP := aP) (aQ := aQ) (aR := aR) (m := m) hn i
    show iz (EX m (HA n (zx_an (bk n aK aP aQ aR m i) (2 ^ i)) aK aP aQ aR)) (bk n aK aP aQ aR m i) (zx_an (bk n aK aP aQ aR m i) (2 ^ i)) < 1024
    by_cases c : EX m (HA n (zx_an (bk n aK aP aQ aR m i) (2 ^ i)) aK aP aQ aR)
    · rw [iz_t c]; exact ih
    · rw [iz_f c]; exact an_lt ih
section W19
variable {cC wN rU mO tO bS dE iC : Int32} {aD aK aP aQ aR aN aW aC aG aV aS aI aT aY aU aB aM aA : Nat → Int32}
theorem wx_blame20 {post : Int32 → SX → Prop} {n wy : Nat} {m : Nat → Nat} (hn : n ≤ 10) (hwy : wy ≤ 2) (hF : ∀ i, i < n → FT (aK i) (aP i) (aQ i) (aR i)) (hm : ∀ v, v < 4 → m v < 64)
    (h : ∀ (rU mO tO bS dE iC : Int32) (aN aW aC aG aV aS aI aT aY aU aB aM aA : Nat → Int32), post (nI (bk n aK aP aQ aR m n)) (nI n, nI wy, rU, mO, tO, bS, dE, iC, aD, aK, aP, aQ, aR, aN, aW, aC, aG, aV, aS, aI, aT, aY, aU, aB, aM, aA)) :
    ∀ (d i : Nat) (rU mO tO bS dE iC : Int32) (aN aW aC aG aV aS aI aT aY aU aB aM aA : Nat → Int32), i + d = n → NN m aN → wX_blame_20 post (d + 1) (nI (bk n aK aP aQ aR m i)) (nI i) (nI n) (nI wy) rU mO tO bS dE iC aD aK aP aQ aR aN aW aC aG aV aS aI aT aY aU aB aM aA := by
  intro d
  induction d with
  | zero =>
    intro i rU mO tO bS dE iC aN aW aC aG aV aS aI aT aY aU aB aM aA hi hN
    have e : i = n := by omega
    subst e
    exact br_t (nI_le (by omega) (by omega)) (h rU mO tO bS dE iC aN aW aC aG aV aS aI aT aY aU aB aM aA)
  | succ d ih =>
    intro i rU mO tO bS dE iC aN aW aC aG aV aS aI aT aY aU aB aM aA hi hN
    have hb := bk_lt (aK := aK) (aP := aP) (aQ := aQ) (aR := aR) (m := m) hn i
    have er : nI (bk n aK aP aQ aR m i) &&& (((1 : Int32) <<< (nI i &&& 31)) ^^^ (-1)) = nI (zx_an (bk n aK aP aQ aR m i) (2 ^ i)) := by rw [zx_shl (by omega), zx_and]
    have eb : bk n aK aP aQ aR m (i + 1) = iz (EX m (HA n (zx_an (bk n aK aP aQ aR m i) (2 ^ i)) aK aP aQ aR)) (bk n aK aP aQ aR m i) (zx_an (bk n aK aP aQ aR m i) (2 ^ i)) := rfl
    refine br_f (nI_ge (by omega) (by omega)) (nm_r er (wx_has hn (an_lt hb) hwy hF hN hm (fun mO' tO' bS' dE' iC' aN' aW' aC' aG' aV' aS' aI' aT' aY' aU' aB' aM' aA' hN' => ?_)))
    by_cases c : EX m (HA n (zx_an (bk n aK aP aQ aR m i) (2 ^ i)) aK aP aQ aR)
    · rw [iz_t c] at eb
      have K := ih (i + 1) (nI (zx_an (bk n aK aP aQ aR m i) (2 ^ i))) mO' tO' bS' dE' iC' aN' aW' aC' aG' aV' aS' aI' aT' aY' aU' aB' aM' aA' (by omega) hN'
      rw [eb] at K
      exact br_f (fun z => bI_0.mp z c) (nm_r (nI_1 i) K)
    · rw [iz_f c] at eb
      have K := ih (i + 1) (nI (zx_an (bk n aK aP aQ aR m i) (2 ^ i))) mO' tO' bS' dE' iC' aN' aW' aC' aG' aV' aS' aI' aT' aY' aU' aB' aM' aA' (by omega) hN'
      rw [eb] at K
      exact br_t (bI_0.mpr c) (nm_r (nI_1 i) K)
end W19
section WY5
variable {fN : Int32} {yK yP yQ yR yD yV : Nat → Int32}
theorem wy_blame17 {post : Int32 → SY → Prop} {n : Nat} {m : Nat → Nat} (hn : n ≤ 10) (hF : ∀ i, i < n → FT (yK i) (yP i) (yQ i) (yR i)) (hD : NN m yD) (hm : ∀ v, v < 4 → m v < 64)
    (h : ∀ yV : Nat → Int32, post (nI (bk n yK yP yQ yR m n)) (nI n, yK, yP, yQ, yR, yD, yV)) :
    ∀ (d i : Nat) (yV : Nat → Int32), i + d = n → wY_blame_17 post (d + 1) (nI (bk n yK yP yQ yR m i)) (nI i) (nI n) yK yP yQ yR yD yV := by
  intro d
  induction d with
  | zero =>
    intro i yV hi
    have e : i = n := by omega
    subst e
    exact br_t (nI_le (by omega) (by omega)) (h yV)
  | succ d ih =>
    intro i yV hi
    have hb := bk_lt (aK := yK) (aP := yP) (aQ := yQ) (aR := yR) (m := m) hn i
    have er : nI (bk n yK yP yQ yR m i) &&& (((1 : Int32) <<< (nI i &&& 31)) ^^^ (-1)) = nI (zx_an (bk n yK yP yQ yR m i) (2 ^ i)) := by rw [zx_shl (by omega), zx_and]
    have eb : bk n yK yP yQ yR m (i + 1) = iz (EX m (HA n (zx_an (bk n yK yP yQ yR m i) (2 ^ i)) yK yP yQ yR)) (bk n yK yP yQ yR m i) (zx_an (bk n yK yP yQ yR m i) (2 ^ i)) := rfl
    have hle : CB (HA n (zx_an (bk n yK yP yQ yR m i) (2 ^ i)) yK yP yQ yR) (fun _ => 0) m one ≤ 1296 := CB_le (fun _ => Nat.le_refl 1)
    refine br_f (nI_ge (by omega) (by omega)) (nm_r er (wy_countOf (w := fun _ => 0) hn (an_lt hb) hF hD hm (fun yV' => ?_)))
    have K := ih (i + 1) yV' (by omega)
    by_cases c : EX m (HA n (zx_an (bk n yK yP yQ yR m i) (2 ^ i)) yK yP yQ yR)
    · rw [iz_t c] at eb
      rw [eb] at K
      exact br_f (nI_ne0 (EX_CB.mpr c) (by omega)) (nm_r (nI_1 i) K)
    · rw [iz_f c] at eb
      rw [eb] at K
      have t : CB (HA n (zx_an (bk n yK yP yQ yR m i) (2 ^ i)) yK yP yQ yR) (fun _ => 0) m one = 0 := by
        have : ¬ 0 < CB (HA n (zx_an (bk n yK yP yQ yR m i) (2 ^ i)) yK yP yQ yR) (fun _ => 0) m one := fun z => c (EX_CB.mp z)
        omega
      exact br_t (by rw [t]; rfl) (nm_r (nI_1 i) K)
end WY5
set_option maxHeartbeats 1600000 in
theorem i_vc_blame {k : Nat} {u : SX} {v : SY} (I : i_Rel k u v) (hk : k + 5 ≤ 2560) : wpX_blame (fun r u' => wpY_blame (fun r' v' => r' = r ∧ i_Rel (k + 5) u' v') v) u := by
  refine zz_el (P := fun u v => wpX_blame (fun r u' => wpY_blame (fun r' v' => r' = r ∧ i_Rel (k + 5) u' v') v) u) I ?_
  intro n wy m rU mO tO bS dE iC aD aK aP aQ aR aN aW aC aG aV aS aI aT aY aU aB aM aA yV hn hwy hF hD hm
  have hr := rl_lt hn
  have hle : CB (HA n (2 ^ n - 1) aK aP aQ aR) (fun _ => 0) m one ≤ 1296 := CB_le (fun _ => Nat.le_refl 1)
  unfold wpX_blame
  refine wx_start hn hD hm (fun aN1 hN1 => ?_)
  refine wx_has hn hr hwy hF hN1 hm (fun mO' tO' bS' dE' iC' aN' aW' aC' aG' aV' aS' aI' aT' aY' aU' aB' aM' aA' hN' => ?_)
  by_cases c : EX m (HA n (2 ^ n - 1) aK aP aQ aR)
  · refine br_f (fun z => bI_0.mp z c) ?_
    unfold wpY_blame
    exact wy_all hn (wy_countOf (w := fun _ => 0) hn hr hF hD hm (fun yV' => br_f (nI_nle (EX_CB.mpr c) (by omega)) ⟨rfl, zz_in hn hwy hF hD hm⟩))
  · refine br_t (bI_0.mpr c) ⟨n + 1, wx_blame20 hn hwy hF hm (fun rU2 mO2 tO2 bS2 dE2 iC2 aN2 aW2 aC2 aG2 aV2 aS2 aI2 aT2 aY2 aU2 aB2 aM2 aA2 => ?_) n 0 _ _ _ _ _ _ _ _ _ _ _ _ _ _ _ _ _ _ _ (by omega) hN'⟩
    unfold wpY_blame
    have t : CB (HA n (2 ^ n - 1) aK aP aQ aR) (fun _ => 0) m one = 0 := by
      have : ¬ 0 < CB (HA n (2 ^ n - 1) aK aP aQ aR) (fun _ => 0) m one := fun z => c (EX_CB.mp z)
      omega
    exact wy_all hn (wy_countOf (w := fun _ => 0) hn hr hF hD hm (fun yV' => br_t (by rw [t]; decide) ⟨n + 1, wy_blame17 hn hF hD hm (fun yV2 => ⟨rfl, zz_in hn hwy hF hD hm⟩) n 0 yV' (by omega)⟩))
end
