section
/-! pure rows to paste: stores, nI and lN arithmetic, masks, shifts, narrowing, branches by naturals (pk_le, pk_lt, pk_eq), loops (lp1 .. lp16: the measure of the state; rp1 ..: recursion), negatives. Take what you need -/
theorem pk_us {f : Nat → Int32} {k : Nat} {x : Int32} : upd f k x k = x := if_pos rfl
theorem pk_un {f : Nat → Int32} {k j : Nat} {x : Int32} (h : j ≠ k) : upd f k x j = f j := if_neg h
theorem pk_uLs {f : Nat → Int64} {k : Nat} {x : Int64} : vp_updL f k x k = x := if_pos rfl
theorem pk_uLn {f : Nat → Int64} {k j : Nat} {x : Int64} (h : j ≠ k) : vp_updL f k x j = f j := if_neg h
theorem pk_sub {a b : Nat} (h : b ≤ a) : nI a - nI b = nI (a - b) := by
  obtain ⟨c, rfl⟩ : ∃ c, a = c + b := ⟨a - b, by omega⟩
  rw [← nI_add, Int32.add_sub_cancel, Nat.add_sub_cancel]
theorem pk_m1 (n : Nat) : nI (n + 1) + (-1) = nI n := by
  rw [← nI_1, Int32.add_assoc, show (1 : Int32) + (-1) = 0 from rfl, Int32.add_zero]
theorem pk_mul (a b : Nat) : nI a * nI b = nI (a * b) := (Int32.ofNat_mul a b).symm
theorem pk_div {a d : Nat} (ha : a < 2 ^ 31) (h0 : 0 < d) (hd : d < 2 ^ 31) : nI a / nI d = nI (a / d) := by
  apply Int32.toInt_inj.mp
  rw [lg_idiv_nonneg (by rw [nI_toInt ha]; omega) (by rw [nI_toInt hd]; omega), nI_toInt ha, nI_toInt hd, nI_toInt (Nat.lt_of_le_of_lt (Nat.div_le_self a d) ha)]
  first | rfl | exact (Int.natCast_ediv _ _).symm
theorem pk_rem {a d : Nat} (ha : a < 2 ^ 31) (h0 : 0 < d) (hd : d < 2 ^ 31) : nI a - nI a / nI d * nI d = nI (a % d) := by
  rw [pk_div ha h0 hd, pk_mul, pk_sub (Nat.div_mul_le_self a d)]
  exact congrArg nI (by have := Nat.div_add_mod' a d; omega)
theorem pk_sub_toInt {a b : Nat} (ha : a < 2 ^ 30) (hb : b < 2 ^ 30) : (nI a - nI b).toInt = (a : Int) - b := by
  rw [Int32.toInt_sub, nI_toInt (by omega), nI_toInt (by omega)]
  exact Int.bmod_eq_of_le (by omega) (by omega)
theorem pk_sneg {a b : Nat} (hb : b < 2 ^ 30) (h : a < b) : nI a - nI b < 0 := by
  rw [Int32.lt_iff_toInt_lt, pk_sub_toInt (by omega) hb, show (0 : Int32).toInt = 0 from by decide]
  omega
theorem pk_ix (x : Int32) {n : Nat} (hn : n < 2 ^ 31) : x < 0 ∨ nI n ≤ x ∨ ∃ j : Nat, j < n ∧ x = nI j := by
  by_cases h : x < 0
  · exact Or.inl h
  · obtain ⟨j, hj, rfl⟩ := nI_of h
    by_cases h2 : j < n
    · exact Or.inr (Or.inr ⟨j, h2, rfl⟩)
    · exact Or.inr (Or.inl (nI_le (by omega) hj))
theorem pk_le {x y : Int32} {A B : Prop} (a b : Nat) (f : a ≤ b → A) (g : b < a → B) (hx : x = nI a := by rfl) (hy : y = nI b := by rfl) (ha : a < 2 ^ 31 := by omega) (hb : b < 2 ^ 31 := by omega) : (x ≤ y → A) ∧ (¬ x ≤ y → B) := by
  subst hx hy
  rw [nI_leI ha hb]
  exact ⟨f, fun z => g (by omega)⟩
theorem pk_lt {x y : Int32} {A B : Prop} (a b : Nat) (f : a < b → A) (g : b ≤ a → B) (hx : x = nI a := by rfl) (hy : y = nI b := by rfl) (ha : a < 2 ^ 31 := by omega) (hb : b < 2 ^ 31 := by omega) : (x < y → A) ∧ (¬ x < y → B) := by
  subst hx hy
  rw [nI_ltI ha hb]
  exact ⟨f, fun z => g (by omega)⟩
theorem pk_eq {x y : Int32} {A B : Prop} (a b : Nat) (f : a = b → A) (g : a ≠ b → B) (hx : x = nI a := by rfl) (hy : y = nI b := by rfl) (ha : a < 2 ^ 31 := by omega) (hb : b < 2 ^ 31 := by omega) : (x = y → A) ∧ (¬ x = y → B) := by
  subst hx hy
  rw [nI_eq ha hb]
  exact ⟨f, g⟩
theorem pk_in {x : Int32} (n N : Nat) (h : n < N) (hx : x = nI n := by rfl) (hN : N < 2 ^ 31 := by omega) : vp_in x N := by
  subst hx
  exact vp_in_nI h hN
theorem pk_cl {x : Int32} (n : Nat) (hx : x = nI n := by rfl) (h : n < 2 ^ 31 := by omega) : x.toNatClampNeg = n := by
  subst hx
  exact nI_clamp h
theorem pk_tn {n : Nat} (h : n < 2 ^ 32) : (nI n).toBitVec.toNat = n := Nat.mod_eq_of_lt h
theorem pk_and (x : Int32) {m : Int32} (k : Nat) (hm : m.toBitVec.toNat = 2 ^ k - 1) : x &&& m = nI (x.toBitVec.toNat % 2 ^ k) := by
  apply Int32.toBitVec_inj.mp
  apply BitVec.eq_of_toNat_eq
  rw [Int32.toBitVec_and, BitVec.toNat_and, hm, Nat.and_two_pow_sub_one_eq_mod]
  show _ = (BitVec.ofNat 32 _).toNat
  rw [BitVec.toNat_ofNat]
  exact (Nat.mod_eq_of_lt (Nat.lt_of_le_of_lt (Nat.mod_le _ _) x.toBitVec.isLt)).symm
theorem pk_andN {n : Nat} (h : n < 2 ^ 32) {m : Int32} (k : Nat) (hm : m.toBitVec.toNat = 2 ^ k - 1) : nI n &&& m = nI (n % 2 ^ k) := by
  rw [pk_and _ k hm, pk_tn h]
theorem pk_andE (x : Int32) {m : Int32} (k : Nat) (hm : m.toBitVec.toNat = 2 ^ k - 1) : ∃ j : Nat, j < 2 ^ k ∧ x &&& m = nI j := ⟨_, Nat.mod_lt _ (Nat.two_pow_pos k), pk_and x k hm⟩
theorem pk_andIn (x : Int32) {m : Int32} (k : Nat) (hm : m.toBitVec.toNat = 2 ^ k - 1) (hk : k ≤ 30) : vp_in (x &&& m) (2 ^ k) := by
  obtain ⟨j, hj, e⟩ := pk_andE x k hm
  rw [e]
  exact vp_in_nI hj (Nat.lt_of_le_of_lt (Nat.pow_le_pow_right (by decide) hk) (by decide))
theorem pk_shl (a s : Int32) (k : Nat) (hs : (s.toBitVec.smod 32).toNat = k) : (a <<< s).toBitVec.toNat = a.toBitVec.toNat * 2 ^ k % 2 ^ 32 := by
  show (a.toBitVec <<< (s.toBitVec.smod 32).toNat).toNat = _
  rw [hs, BitVec.toNat_shiftLeft, Nat.shiftLeft_eq]
theorem pk_shlN {n : Nat} (s : Int32) (k : Nat) (hs : (s.toBitVec.smod 32).toNat = k) (h : n * 2 ^ k < 2 ^ 32) : nI n <<< s = nI (n * 2 ^ k) := by
  apply Int32.toBitVec_inj.mp
  apply BitVec.eq_of_toNat_eq
  have hn : n < 2 ^ 32 := Nat.lt_of_le_of_lt (Nat.le_mul_of_pos_right n (Nat.two_pow_pos k)) h
  rw [pk_shl _ _ k hs, pk_tn hn, pk_tn h, Nat.mod_eq_of_lt h]
theorem pk_shr (a s : Int32) (k : Nat) (hs : (s.toBitVec.smod 32).toNat = k) : (a >>> s).toInt = a.toInt >>> k := by
  show (a.toBitVec.sshiftRight (s.toBitVec.smod 32).toNat).toInt = _
  rw [hs, BitVec.toInt_sshiftRight]
  rfl
theorem pk_shrN {n : Nat} (h : n < 2 ^ 31) (s : Int32) (k : Nat) (hs : (s.toBitVec.smod 32).toNat = k) : nI n >>> s = nI (n / 2 ^ k) := by
  apply Int32.toInt_inj.mp
  have h2 : n / 2 ^ k ≤ n := Nat.div_le_self _ _
  rw [pk_shr _ _ k hs, nI_toInt h, nI_toInt (by omega), Int.shiftRight_eq_div_pow]
  rfl
theorem pk_ushr (x s : Int32) (k : Nat) (hs : ((s.toUInt32 &&& Int32.toUInt32 31).toBitVec % 32).toNat = k) : (x.toUInt32 >>> (s.toUInt32 &&& Int32.toUInt32 31)).toInt32.toBitVec.toNat = x.toBitVec.toNat / 2 ^ k := by
  have e : (x.toUInt32 >>> (s.toUInt32 &&& Int32.toUInt32 31)).toInt32.toBitVec = x.toBitVec >>> k := by
    rw [← hs]
    exact UInt32.toBitVec_shiftRight _ _
  rw [e, BitVec.toNat_ushiftRight, Nat.shiftRight_eq_div_pow]
theorem pk_ushrN {n : Nat} (hn : n < 2 ^ 32) (s : Int32) (k : Nat) (hs : ((s.toUInt32 &&& Int32.toUInt32 31).toBitVec % 32).toNat = k) : ((nI n).toUInt32 >>> (s.toUInt32 &&& Int32.toUInt32 31)).toInt32 = nI (n / 2 ^ k) := by
  apply Int32.toBitVec_inj.mp
  apply BitVec.eq_of_toNat_eq
  rw [pk_ushr _ s k hs, pk_tn hn, pk_tn (Nat.lt_of_le_of_lt (Nat.div_le_self _ _) hn)]
theorem pk_nb (z : Int32) : narrow .byte (.int z.toInt8.toInt32) = .int z.toInt8.toInt32 := congrArg Value.int (by simp)
theorem pk_ns (z : Int32) : narrow .short (.int z.toInt16.toInt32) = .int z.toInt16.toInt32 := congrArg Value.int (by simp)
theorem pk_fb (r : Int32) : fits .byte (.int r.toInt8.toInt32) = true := by
  have ⟨a, b⟩ := lg_i2b_range r
  have h1 : (-128 : Int32).toInt = -128 := by decide
  have h2 : (127 : Int32).toInt = 127 := by decide
  simp only [fits, Bool.and_eq_true, decide_eq_true_eq, Int32.le_iff_toInt_le, h1, h2]
  omega
theorem pk_fs (r : Int32) : fits .short (.int r.toInt16.toInt32) = true := by
  have ⟨a, b⟩ := lg_i2s_range r
  have h1 : (-32768 : Int32).toInt = -32768 := by decide
  have h2 : (32767 : Int32).toInt = 32767 := by decide
  simp only [fits, Bool.and_eq_true, decide_eq_true_eq, Int32.le_iff_toInt_le, h1, h2]
  omega
theorem pk_charN {q : Nat} (hq : q < 65536) : narrow .char (.int (nI q)) = .int (nI q) ∧ fits .char (.int (nI q)) = true := by
  constructor
  · have e : (nI q).toUInt32.toUInt16.toUInt32.toInt32 = nI q := by
      apply Int32.toBitVec_inj.mp
      apply BitVec.eq_of_toNat_eq
      show (nI q).toUInt32.toUInt16.toUInt32.toNat = q % 2 ^ 32
      rw [UInt16.toNat_toUInt32, UInt32.toNat_toUInt16, show (nI q).toUInt32.toNat = q % 2 ^ 32 from rfl]
      omega
    exact congrArg Value.int e
  · have a : (0 : Int32) ≤ nI q := nI_pos' (by omega)
    have b : nI q ≤ 65535 := nI_le (b := 65535) (by omega) (by decide)
    show (decide ((0 : Int32) ≤ nI q) && decide (nI q ≤ 65535)) = true
    rw [decide_eq_true a, decide_eq_true b]
    rfl
theorem pk_char (x : Int32) : (x.toUInt32 % 65536).toInt32 = nI (x.toBitVec.toNat % 65536) := by
  apply Int32.toBitVec_inj.mp
  apply BitVec.eq_of_toNat_eq
  rw [pk_tn (by omega)]
  show (x.toUInt32 % 65536).toNat = _
  rw [UInt32.toNat_mod]
  rfl
theorem pk_nc (x : Int32) : narrow .char (.int (x.toUInt32 % 65536).toInt32) = .int (x.toUInt32 % 65536).toInt32 := by
  rw [pk_char]
  exact (pk_charN (Nat.mod_lt _ (by decide))).1
theorem pk_fc (x : Int32) : fits .char (.int (x.toUInt32 % 65536).toInt32) = true := by
  rw [pk_char]
  exact (pk_charN (Nat.mod_lt _ (by decide))).2
theorem pk_vb (z : Int32) : vp_nar .byte z.toInt8.toInt32 = z.toInt8.toInt32 := by rw [vp_nar_byte]; simp
theorem pk_vs (z : Int32) : vp_nar .short z.toInt16.toInt32 = z.toInt16.toInt32 := by rw [vp_nar_short]; simp
theorem pk_vc (z : Int32) : vp_nar .char (z.toUInt32 % 65536).toInt32 = (z.toUInt32 % 65536).toInt32 := Value.int.inj (pk_nc z)
theorem pk_lT {n : Nat} (h : n < 2 ^ 63) : (lN n).toInt = (n : Int) := lg_ofNat_toInt h
theorem pk_lLT {a b : Nat} (ha : a < 2 ^ 63) (hb : b < 2 ^ 63) : lN a < lN b ↔ a < b := by
  rw [Int64.lt_iff_toInt_lt, pk_lT ha, pk_lT hb]; omega
theorem pk_lLE {a b : Nat} (ha : a < 2 ^ 63) (hb : b < 2 ^ 63) : lN a ≤ lN b ↔ a ≤ b := by
  rw [Int64.le_iff_toInt_le, pk_lT ha, pk_lT hb]; omega
theorem pk_lEQ {a b : Nat} (ha : a < 2 ^ 63) (hb : b < 2 ^ 63) : lN a = lN b ↔ a = b := by
  rw [← Int64.toInt_inj, pk_lT ha, pk_lT hb]; omega
theorem pk_lOf {x : Int64} (h : ¬ x < 0) : ∃ k : Nat, k < 2 ^ 63 ∧ x = lN k := by
  rw [Int64.lt_iff_toInt_lt] at h
  have h0 : (0 : Int64).toInt = 0 := by decide
  have hx := Int64.toInt_lt x
  refine ⟨x.toInt.toNat, by omega, Int64.toInt_inj.mp ?_⟩
  rw [pk_lT (by omega)]
  omega
theorem pk_lDiv {a b : Nat} (ha : a < 2 ^ 63) (h0 : 0 < b) (hb : b < 2 ^ 63) : lN a / lN b = lN (a / b) := by
  apply Int64.toInt_inj.mp
  rw [lg_ldiv_nonneg (by rw [pk_lT ha]; omega) (by rw [pk_lT hb]; omega), pk_lT ha, pk_lT hb, pk_lT (Nat.lt_of_le_of_lt (Nat.div_le_self a b) ha)]
  rfl
theorem pk_lRem {a b : Nat} (ha : a < 2 ^ 63) (h0 : 0 < b) (hb : b < 2 ^ 63) : lN a - lN a / lN b * lN b = lN (a % b) := by
  rw [pk_lDiv ha h0 hb, lN_mul, lN_sub (Nat.div_mul_le_self a b)]
  exact congrArg lN (by have := Nat.div_add_mod' a b; omega)
theorem pk_loop {σ : Type} (W : Nat → Nat → σ → Prop) (I : Nat → σ → Prop) (e i0 : Nat) (s : σ) (hi : i0 ≤ e) (h0 : I i0 s) (hx : ∀ n s, I e s → W (n + 1) e s)
    (hs : ∀ n i s, i < e → I i s → (∀ s', I (i + 1) s' → W n (i + 1) s') → W (n + 1) i s) : ∃ n, W n i0 s :=
  ⟨e + 1, loop_i W I e hx hs (e + 1) i0 s hi (by omega) h0⟩
theorem pk_loopD {σ : Type} (W : Nat → Nat → σ → Prop) (I : Nat → σ → Prop) (hx : ∀ n s, I 0 s → W (n + 1) 0 s)
    (hs : ∀ n i s, I (i + 1) s → (∀ s', I i s' → W n i s') → W (n + 1) (i + 1) s) : ∀ (e : Nat) (s : σ), I e s → W (e + 1) e s := by
  intro e
  induction e with
  | zero => exact fun s h => hx 0 s h
  | succ e ih => exact fun s h => hs (e + 1) e s h (fun s' h' => ih s' h')
theorem lp1 {A1 : Type} (W : Nat → A1 → Prop) (I : A1 → Prop) (μ : A1 → Nat) (hs : ∀ (n : Nat) (a1 : A1), I a1 → (∀ (b1 : A1), I b1 → μ b1 < μ a1 → W n b1) → W (n + 1) a1) (a1 : A1) (h : I a1) : ∃ n, W n a1 :=
  loop_m (σ := A1) (fun n s => W n s) (fun s => I s) (fun s => μ s) (fun n s hI hk => hs n s hI (fun b1 h9 hm => hk b1 h9 hm)) a1 h
theorem lp2 {A1 A2 : Type} (W : Nat → A1 → A2 → Prop) (I : A1 → A2 → Prop) (μ : A1 → A2 → Nat) (hs : ∀ (n : Nat) (a1 : A1) (a2 : A2), I a1 a2 → (∀ (b1 : A1) (b2 : A2), I b1 b2 → μ b1 b2 < μ a1 a2 → W n b1 b2) → W (n + 1) a1 a2) (a1 : A1) (a2 : A2) (h : I a1 a2) : ∃ n, W n a1 a2 :=
  loop_m (σ := A1 × A2) (fun n s => W n s.1 s.2) (fun s => I s.1 s.2) (fun s => μ s.1 s.2) (fun n s hI hk => hs n s.1 s.2 hI (fun b1 b2 h9 hm => hk (b1, b2) h9 hm)) (a1, a2) h
theorem lp3 {A1 A2 A3 : Type} (W : Nat → A1 → A2 → A3 → Prop) (I : A1 → A2 → A3 → Prop) (μ : A1 → A2 → A3 → Nat) (hs : ∀ (n : Nat) (a1 : A1) (a2 : A2) (a3 : A3), I a1 a2 a3 → (∀ (b1 : A1) (b2 : A2) (b3 : A3), I b1 b2 b3 → μ b1 b2 b3 < μ a1 a2 a3 → W n b1 b2 b3) → W (n + 1) a1 a2 a3) (a1 : A1) (a2 : A2) (a3 : A3) (h : I a1 a2 a3) : ∃ n, W n a1 a2 a3 :=
  loop_m (σ := A1 × A2 × A3) (fun n s => W n s.1 s.2.1 s.2.2) (fun s => I s.1 s.2.1 s.2.2) (fun s => μ s.1 s.2.1 s.2.2) (fun n s hI hk => hs n s.1 s.2.1 s.2.2 hI (fun b1 b2 b3 h9 hm => hk (b1, b2, b3) h9 hm)) (a1, a2, a3) h
theorem lp4 {A1 A2 A3 A4 : Type} (W : Nat → A1 → A2 → A3 → A4 → Prop) (I : A1 → A2 → A3 → A4 → Prop) (μ : A1 → A2 → A3 → A4 → Nat) (hs : ∀ (n : Nat) (a1 : A1) (a2 : A2) (a3 : A3) (a4 : A4), I a1 a2 a3 a4 → (∀ (b1 : A1) (b2 : A2) (b3 : A3) (b4 : A4), I b1 b2 b3 b4 → μ b1 b2 b3 b4 < μ a1 a2 a3 a4 → W n b1 b2 b3 b4) → W (n + 1) a1 a2 a3 a4) (a1 : A1) (a2 : A2) (a3 : A3) (a4 : A4) (h : I a1 a2 a3 a4) : ∃ n, W n a1 a2 a3 a4 :=
  loop_m (σ := A1 × A2 × A3 × A4) (fun n s => W n s.1 s.2.1 s.2.2.1 s.2.2.2) (fun s => I s.1 s.2.1 s.2.2.1 s.2.2.2) (fun s => μ s.1 s.2.1 s.2.2.1 s.2.2.2) (fun n s hI hk => hs n s.1 s.2.1 s.2.2.1 s.2.2.2 hI (fun b1 b2 b3 b4 h9 hm => hk (b1, b2, b3, b4) h9 hm)) (a1, a2, a3, a4) h
theorem lp5 {A1 A2 A3 A4 A5 : Type} (W : Nat → A1 → A2 → A3 → A4 → A5 → Prop) (I : A1 → A2 → A3 → A4 → A5 → Prop) (μ : A1 → A2 → A3 → A4 → A5 → Nat) (hs : ∀ (n : Nat) (a1 : A1) (a2 : A2) (a3 : A3) (a4 : A4) (a5 : A5), I a1 a2 a3 a4 a5 → (∀ (b1 : A1) (b2 : A2) (b3 : A3) (b4 : A4) (b5 : A5), I b1 b2 b3 b4 b5 → μ b1 b2 b3 b4 b5 < μ a1 a2 a3 a4 a5 → W n b1 b2 b3 b4 b5) → W (n + 1) a1 a2 a3 a4 a5) (a1 : A1) (a2 : A2) (a3 : A3) (a4 : A4) (a5 : A5) (h : I a1 a2 a3 a4 a5) : ∃ n, W n a1 a2 a3 a4 a5 :=
  loop_m (σ := A1 × A2 × A3 × A4 × A5) (fun n s => W n s.1 s.2.1 s.2.2.1 s.2.2.2.1 s.2.2.2.2) (fun s => I s.1 s.2.1 s.2.2.1 s.2.2.2.1 s.2.2.2.2) (fun s => μ s.1 s.2.1 s.2.2.1 s.2.2.2.1 s.2.2.2.2) (fun n s hI hk => hs n s.1 s.2.1 s.2.2.1 s.2.2.2.1 s.2.2.2.2 hI (fun b1 b2 b3 b4 b5 h9 hm => hk (b1, b2, b3, b4, b5) h9 hm)) (a1, a2, a3, a4, a5) h
theorem lp6 {A1 A2 A3 A4 A5 A6 : Type} (W : Nat → A1 → A2 → A3 → A4 → A5 → A6 → Prop) (I : A1 → A2 → A3 → A4 → A5 → A6 → Prop) (μ : A1 → A2 → A3 → A4 → A5 → A6 → Nat) (hs : ∀ (n : Nat) (a1 : A1) (a2 : A2) (a3 : A3) (a4 : A4) (a5 : A5) (a6 : A6), I a1 a2 a3 a4 a5 a6 → (∀ (b1 : A1) (b2 : A2) (b3 : A3) (b4 : A4) (b5 : A5) (b6 : A6), I b1 b2 b3 b4 b5 b6 → μ b1 b2 b3 b4 b5 b6 < μ a1 a2 a3 a4 a5 a6 → W n b1 b2 b3 b4 b5 b6) → W (n + 1) a1 a2 a3 a4 a5 a6) (a1 : A1) (a2 : A2) (a3 : A3) (a4 : A4) (a5 : A5) (a6 : A6) (h : I a1 a2 a3 a4 a5 a6) : ∃ n, W n a1 a2 a3 a4 a5 a6 :=
  loop_m (σ := A1 × A2 × A3 × A4 × A5 × A6) (fun n s => W n s.1 s.2.1 s.2.2.1 s.2.2.2.1 s.2.2.2.2.1 s.2.2.2.2.2) (fun s => I s.1 s.2.1 s.2.2.1 s.2.2.2.1 s.2.2.2.2.1 s.2.2.2.2.2) (fun s => μ s.1 s.2.1 s.2.2.1 s.2.2.2.1 s.2.2.2.2.1 s.2.2.2.2.2) (fun n s hI hk => hs n s.1 s.2.1 s.2.2.1 s.2.2.2.1 s.2.2.2.2.1 s.2.2.2.2.2 hI (fun b1 b2 b3 b4 b5 b6 h9 hm => hk (b1, b2, b3, b4, b5, b6) h9 hm)) (a1, a2, a3, a4, a5, a6) h
theorem lp7 {A1 A2 A3 A4 A5 A6 A7 : Type} (W : Nat → A1 → A2 → A3 → A4 → A5 → A6 → A7 → Prop) (I : A1 → A2 → A3 → A4 → A5 → A6 → A7 → Prop) (μ : A1 → A2 → A3 → A4 → A5 → A6 → A7 → Nat) (hs : ∀ (n : Nat) (a1 : A1) (a2 : A2) (a3 : A3) (a4 : A4) (a5 : A5) (a6 : A6) (a7 : A7), I a1 a2 a3 a4 a5 a6 a7 → (∀ (b1 : A1) (b2 : A2) (b3 : A3) (b4 : A4) (b5 : A5) (b6 : A6) (b7 : A7), I b1 b2 b3 b4 b5 b6 b7 → μ b1 b2 b3 b4 b5 b6 b7 < μ a1 a2 a3 a4 a5 a6 a7 → W n b1 b2 b3 b4 b5 b6 b7) → W (n + 1) a1 a2 a3 a4 a5 a6 a7) (a1 : A1) (a2 : A2) (a3 : A3) (a4 : A4) (a5 : A5) (a6 : A6) (a7 : A7) (h : I a1 a2 a3 a4 a5 a6 a7) : ∃ n, W n a1 a2 a3 a4 a5 a6 a7 :=
  loop_m (σ := A1 × A2 × A3 × A4 × A5 × A6 × A7) (fun n s => W n s.1 s.2.1 s.2.2.1 s.2.2.2.1 s.2.2.2.2.1 s.2.2.2.2.2.1 s.2.2.2.2.2.2) (fun s => I s.1 s.2.1 s.2.2.1 s.2.2.2.1 s.2.2.2.2.1 s.2.2.2.2.2.1 s.2.2.2.2.2.2) (fun s => μ s.1 s.2.1 s.2.2.1 s.2.2.2.1 s.2.2.2.2.1 s.2.2.2.2.2.1 s.2.2.2.2.2.2) (fun n s hI hk => hs n s.1 s.2.1 s.2.2.1 s.2.2.2.1 s.2.2.2.2.1 s.2.2.2.2.2.1 s.2.2.2.2.2.2 hI (fun b1 b2 b3 b4 b5 b6 b7 h9 hm => hk (b1, b2, b3, b4, b5, b6, b7) h9 hm)) (a1, a2, a3, a4, a5, a6, a7) h
theorem lp8 {A1 A2 A3 A4 A5 A6 A7 A8 : Type} (W : Nat → A1 → A2 → A3 → A4 → A5 → A6 → A7 → A8 → Prop) (I : A1 → A2 → A3 → A4 → A5 → A6 → A7 → A8 → Prop) (μ : A1 → A2 → A3 → A4 → A5 → A6 → A7 → A8 → Nat) (hs : ∀ (n : Nat) (a1 : A1) (a2 : A2) (a3 : A3) (a4 : A4) (a5 : A5) (a6 : A6) (a7 : A7) (a8 : A8), I a1 a2 a3 a4 a5 a6 a7 a8 → (∀ (b1 : A1) (b2 : A2) (b3 : A3) (b4 : A4) (b5 : A5) (b6 : A6) (b7 : A7) (b8 : A8), I b1 b2 b3 b4 b5 b6 b7 b8 → μ b1 b2 b3 b4 b5 b6 b7 b8 < μ a1 a2 a3 a4 a5 a6 a7 a8 → W n b1 b2 b3 b4 b5 b6 b7 b8) → W (n + 1) a1 a2 a3 a4 a5 a6 a7 a8) (a1 : A1) (a2 : A2) (a3 : A3) (a4 : A4) (a5 : A5) (a6 : A6) (a7 : A7) (a8 : A8) (h : I a1 a2 a3 a4 a5 a6 a7 a8) : ∃ n, W n a1 a2 a3 a4 a5 a6 a7 a8 :=
  loop_m (σ := A1 × A2 × A3 × A4 × A5 × A6 × A7 × A8) (fun n s => W n s.1 s.2.1 s.2.2.1 s.2.2.2.1 s.2.2.2.2.1 s.2.2.2.2.2.1 s.2.2.2.2.2.2.1 s.2.2.2.2.2.2.2) (fun s => I s.1 s.2.1 s.2.2.1 s.2.2.2.1 s.2.2.2.2.1 s.2.2.2.2.2.1 s.2.2.2.2.2.2.1 s.2.2.2.2.2.2.2) (fun s => μ s.1 s.2.1 s.2.2.1 s.2.2.2.1 s.2.2.2.2.1 s.2.2.2.2.2.1 s.2.2.2.2.2.2.1 s.2.2.2.2.2.2.2) (fun n s hI hk => hs n s.1 s.2.1 s.2.2.1 s.2.2.2.1 s.2.2.2.2.1 s.2.2.2.2.2.1 s.2.2.2.2.2.2.1 s.2.2.2.2.2.2.2 hI (fun b1 b2 b3 b4 b5 b6 b7 b8 h9 hm => hk (b1, b2, b3, b4, b5, b6, b7, b8) h9 hm)) (a1, a2, a3, a4, a5, a6, a7, a8) h
theorem lp9 {A1 A2 A3 A4 A5 A6 A7 A8 A9 : Type} (W : Nat → A1 → A2 → A3 → A4 → A5 → A6 → A7 → A8 → A9 → Prop) (I : A1 → A2 → A3 → A4 → A5 → A6 → A7 → A8 → A9 → Prop) (μ : A1 → A2 → A3 → A4 → A5 → A6 → A7 → A8 → A9 → Nat) (hs : ∀ (n : Nat) (a1 : A1) (a2 : A2) (a3 : A3) (a4 : A4) (a5 : A5) (a6 : A6) (a7 : A7) (a8 : A8) (a9 : A9), I a1 a2 a3 a4 a5 a6 a7 a8 a9 → (∀ (b1 : A1) (b2 : A2) (b3 : A3) (b4 : A4) (b5 : A5) (b6 : A6) (b7 : A7) (b8 : A8) (b9 : A9), I b1 b2 b3 b4 b5 b6 b7 b8 b9 → μ b1 b2 b3 b4 b5 b6 b7 b8 b9 < μ a1 a2 a3 a4 a5 a6 a7 a8 a9 → W n b1 b2 b3 b4 b5 b6 b7 b8 b9) → W (n + 1) a1 a2 a3 a4 a5 a6 a7 a8 a9) (a1 : A1) (a2 : A2) (a3 : A3) (a4 : A4) (a5 : A5) (a6 : A6) (a7 : A7) (a8 : A8) (a9 : A9) (h : I a1 a2 a3 a4 a5 a6 a7 a8 a9) : ∃ n, W n a1 a2 a3 a4 a5 a6 a7 a8 a9 :=
  loop_m (σ := A1 × A2 × A3 × A4 × A5 × A6 × A7 × A8 × A9) (fun n s => W n s.1 s.2.1 s.2.2.1 s.2.2.2.1 s.2.2.2.2.1 s.2.2.2.2.2.1 s.2.2.2.2.2.2.1 s.2.2.2.2.2.2.2.1 s.2.2.2.2.2.2.2.2) (fun s => I s.1 s.2.1 s.2.2.1 s.2.2.2.1 s.2.2.2.2.1 s.2.2.2.2.2.1 s.2.2.2.2.2.2.1 s.2.2.2.2.2.2.2.1 s.2.2.2.2.2.2.2.2) (fun s => μ s.1 s.2.1 s.2.2.1 s.2.2.2.1 s.2.2.2.2.1 s.2.2.2.2.2.1 s.2.2.2.2.2.2.1 s.2.2.2.2.2.2.2.1 s.2.2.2.2.2.2.2.2) (fun n s hI hk => hs n s.1 s.2.1 s.2.2.1 s.2.2.2.1 s.2.2.2.2.1 s.2.2.2.2.2.1 s.2.2.2.2.2.2.1 s.2.2.2.2.2.2.2.1 s.2.2.2.2.2.2.2.2 hI (fun b1 b2 b3 b4 b5 b6 b7 b8 b9 h9 hm => hk (b1, b2, b3, b4, b5, b6, b7, b8, b9) h9 hm)) (a1, a2, a3, a4, a5, a6, a7, a8, a9) h
theorem lp10 {A1 A2 A3 A4 A5 A6 A7 A8 A9 A10 : Type} (W : Nat → A1 → A2 → A3 → A4 → A5 → A6 → A7 → A8 → A9 → A10 → Prop) (I : A1 → A2 → A3 → A4 → A5 → A6 → A7 → A8 → A9 → A10 → Prop) (μ : A1 → A2 → A3 → A4 → A5 → A6 → A7 → A8 → A9 → A10 → Nat) (hs : ∀ (n : Nat) (a1 : A1) (a2 : A2) (a3 : A3) (a4 : A4) (a5 : A5) (a6 : A6) (a7 : A7) (a8 : A8) (a9 : A9) (a10 : A10), I a1 a2 a3 a4 a5 a6 a7 a8 a9 a10 → (∀ (b1 : A1) (b2 : A2) (b3 : A3) (b4 : A4) (b5 : A5) (b6 : A6) (b7 : A7) (b8 : A8) (b9 : A9) (b10 : A10), I b1 b2 b3 b4 b5 b6 b7 b8 b9 b10 → μ b1 b2 b3 b4 b5 b6 b7 b8 b9 b10 < μ a1 a2 a3 a4 a5 a6 a7 a8 a9 a10 → W n b1 b2 b3 b4 b5 b6 b7 b8 b9 b10) → W (n + 1) a1 a2 a3 a4 a5 a6 a7 a8 a9 a10) (a1 : A1) (a2 : A2) (a3 : A3) (a4 : A4) (a5 : A5) (a6 : A6) (a7 : A7) (a8 : A8) (a9 : A9) (a10 : A10) (h : I a1 a2 a3 a4 a5 a6 a7 a8 a9 a10) : ∃ n, W n a1 a2 a3 a4 a5 a6 a7 a8 a9 a10 :=
  loop_m (σ := A1 × A2 × A3 × A4 × A5 × A6 × A7 × A8 × A9 × A10) (fun n s => W n s.1 s.2.1 s.2.2.1 s.2.2.2.1 s.2.2.2.2.1 s.2.2.2.2.2.1 s.2.2.2.2.2.2.1 s.2.2.2.2.2.2.2.1 s.2.2.2.2.2.2.2.2.1 s.2.2.2.2.2.2.2.2.2) (fun s => I s.1 s.2.1 s.2.2.1 s.2.2.2.1 s.2.2.2.2.1 s.2.2.2.2.2.1 s.2.2.2.2.2.2.1 s.2.2.2.2.2.2.2.1 s.2.2.2.2.2.2.2.2.1 s.2.2.2.2.2.2.2.2.2) (fun s => μ s.1 s.2.1 s.2.2.1 s.2.2.2.1 s.2.2.2.2.1 s.2.2.2.2.2.1 s.2.2.2.2.2.2.1 s.2.2.2.2.2.2.2.1 s.2.2.2.2.2.2.2.2.1 s.2.2.2.2.2.2.2.2.2) (fun n s hI hk => hs n s.1 s.2.1 s.2.2.1 s.2.2.2.1 s.2.2.2.2.1 s.2.2.2.2.2.1 s.2.2.2.2.2.2.1 s.2.2.2.2.2.2.2.1 s.2.2.2.2.2.2.2.2.1 s.2.2.2.2.2.2.2.2.2 hI (fun b1 b2 b3 b4 b5 b6 b7 b8 b9 b10 h9 hm => hk (b1, b2, b3, b4, b5, b6, b7, b8, b9, b10) h9 hm)) (a1, a2, a3, a4, a5, a6, a7, a8, a9, a10) h
theorem lp11 {A1 A2 A3 A4 A5 A6 A7 A8 A9 A10 A11 : Type} (W : Nat → A1 → A2 → A3 → A4 → A5 → A6 → A7 → A8 → A9 → A10 → A11 → Prop) (I : A1 → A2 → A3 → A4 → A5 → A6 → A7 → A8 → A9 → A10 → A11 → Prop) (μ : A1 → A2 → A3 → A4 → A5 → A6 → A7 → A8 → A9 → A10 → A11 → Nat) (hs : ∀ (n : Nat) (a1 : A1) (a2 : A2) (a3 : A3) (a4 : A4) (a5 : A5) (a6 : A6) (a7 : A7) (a8 : A8) (a9 : A9) (a10 : A10) (a11 : A11), I a1 a2 a3 a4 a5 a6 a7 a8 a9 a10 a11 → (∀ (b1 : A1) (b2 : A2) (b3 : A3) (b4 : A4) (b5 : A5) (b6 : A6) (b7 : A7) (b8 : A8) (b9 : A9) (b10 : A10) (b11 : A11), I b1 b2 b3 b4 b5 b6 b7 b8 b9 b10 b11 → μ b1 b2 b3 b4 b5 b6 b7 b8 b9 b10 b11 < μ a1 a2 a3 a4 a5 a6 a7 a8 a9 a10 a11 → W n b1 b2 b3 b4 b5 b6 b7 b8 b9 b10 b11) → W (n + 1) a1 a2 a3 a4 a5 a6 a7 a8 a9 a10 a11) (a1 : A1) (a2 : A2) (a3 : A3) (a4 : A4) (a5 : A5) (a6 : A6) (a7 : A7) (a8 : A8) (a9 : A9) (a10 : A10) (a11 : A11) (h : I a1 a2 a3 a4 a5 a6 a7 a8 a9 a10 a11) : ∃ n, W n a1 a2 a3 a4 a5 a6 a7 a8 a9 a10 a11 :=
  loop_m (σ := A1 × A2 × A3 × A4 × A5 × A6 × A7 × A8 × A9 × A10 × A11) (fun n s => W n s.1 s.2.1 s.2.2.1 s.2.2.2.1 s.2.2.2.2.1 s.2.2.2.2.2.1 s.2.2.2.2.2.2.1 s.2.2.2.2.2.2.2.1 s.2.2.2.2.2.2.2.2.1 s.2.2.2.2.2.2.2.2.2.1 s.2.2.2.2.2.2.2.2.2.2) (fun s => I s.1 s.2.1 s.2.2.1 s.2.2.2.1 s.2.2.2.2.1 s.2.2.2.2.2.1 s.2.2.2.2.2.2.1 s.2.2.2.2.2.2.2.1 s.2.2.2.2.2.2.2.2.1 s.2.2.2.2.2.2.2.2.2.1 s.2.2.2.2.2.2.2.2.2.2) (fun s => μ s.1 s.2.1 s.2.2.1 s.2.2.2.1 s.2.2.2.2.1 s.2.2.2.2.2.1 s.2.2.2.2.2.2.1 s.2.2.2.2.2.2.2.1 s.2.2.2.2.2.2.2.2.1 s.2.2.2.2.2.2.2.2.2.1 s.2.2.2.2.2.2.2.2.2.2) (fun n s hI hk => hs n s.1 s.2.1 s.2.2.1 s.2.2.2.1 s.2.2.2.2.1 s.2.2.2.2.2.1 s.2.2.2.2.2.2.1 s.2.2.2.2.2.2.2.1 s.2.2.2.2.2.2.2.2.1 s.2.2.2.2.2.2.2.2.2.1 s.2.2.2.2.2.2.2.2.2.2 hI (fun b1 b2 b3 b4 b5 b6 b7 b8 b9 b10 b11 h9 hm => hk (b1, b2, b3, b4, b5, b6, b7, b8, b9, b10, b11) h9 hm)) (a1, a2, a3, a4, a5, a6, a7, a8, a9, a10, a11) h
theorem lp12 {A1 A2 A3 A4 A5 A6 A7 A8 A9 A10 A11 A12 : Type} (W : Nat → A1 → A2 → A3 → A4 → A5 → A6 → A7 → A8 → A9 → A10 → A11 → A12 → Prop) (I : A1 → A2 → A3 → A4 → A5 → A6 → A7 → A8 → A9 → A10 → A11 → A12 → Prop) (μ : A1 → A2 → A3 → A4 → A5 → A6 → A7 → A8 → A9 → A10 → A11 → A12 → Nat) (hs : ∀ (n : Nat) (a1 : A1) (a2 : A2) (a3 : A3) (a4 : A4) (a5 : A5) (a6 : A6) (a7 : A7) (a8 : A8) (a9 : A9) (a10 : A10) (a11 : A11) (a12 : A12), I a1 a2 a3 a4 a5 a6 a7 a8 a9 a10 a11 a12 → (∀ (b1 : A1) (b2 : A2) (b3 : A3) (b4 : A4) (b5 : A5) (b6 : A6) (b7 : A7) (b8 : A8) (b9 : A9) (b10 : A10) (b11 : A11) (b12 : A12), I b1 b2 b3 b4 b5 b6 b7 b8 b9 b10 b11 b12 → μ b1 b2 b3 b4 b5 b6 b7 b8 b9 b10 b11 b12 < μ a1 a2 a3 a4 a5 a6 a7 a8 a9 a10 a11 a12 → W n b1 b2 b3 b4 b5 b6 b7 b8 b9 b10 b11 b12) → W (n + 1) a1 a2 a3 a4 a5 a6 a7 a8 a9 a10 a11 a12) (a1 : A1) (a2 : A2) (a3 : A3) (a4 : A4) (a5 : A5) (a6 : A6) (a7 : A7) (a8 : A8) (a9 : A9) (a10 : A10) (a11 : A11) (a12 : A12) (h : I a1 a2 a3 a4 a5 a6 a7 a8 a9 a10 a11 a12) : ∃ n, W n a1 a2 a3 a4 a5 a6 a7 a8 a9 a10 a11 a12 :=
  loop_m (σ := A1 × A2 × A3 × A4 × A5 × A6 × A7 × A8 × A9 × A10 × A11 × A12) (fun n s => W n s.1 s.2.1 s.2.2.1 s.2.2.2.1 s.2.2.2.2.1 s.2.2.2.2.2.1 s.2.2.2.2.2.2.1 s.2.2.2.2.2.2.2.1 s.2.2.2.2.2.2.2.2.1 s.2.2.2.2.2.2.2.2.2.1 s.2.2.2.2.2.2.2.2.2.2.1 s.2.2.2.2.2.2.2.2.2.2.2) (fun s => I s.1 s.2.1 s.2.2.1 s.2.2.2.1 s.2.2.2.2.1 s.2.2.2.2.2.1 s.2.2.2.2.2.2.1 s.2.2.2.2.2.2.2.1 s.2.2.2.2.2.2.2.2.1 s.2.2.2.2.2.2.2.2.2.1 s.2.2.2.2.2.2.2.2.2.2.1 s.2.2.2.2.2.2.2.2.2.2.2) (fun s => μ s.1 s.2.1 s.2.2.1 s.2.2.2.1 s.2.2.2.2.1 s.2.2.2.2.2.1 s.2.2.2.2.2.2.1 s.2.2.2.2.2.2.2.1 s.2.2.2.2.2.2.2.2.1 s.2.2.2.2.2.2.2.2.2.1 s.2.2.2.2.2.2.2.2.2.2.1 s.2.2.2.2.2.2.2.2.2.2.2) (fun n s hI hk => hs n s.1 s.2.1 s.2.2.1 s.2.2.2.1 s.2.2.2.2.1 s.2.2.2.2.2.1 s.2.2.2.2.2.2.1 s.2.2.2.2.2.2.2.1 s.2.2.2.2.2.2.2.2.1 s.2.2.2.2.2.2.2.2.2.1 s.2.2.2.2.2.2.2.2.2.2.1 s.2.2.2.2.2.2.2.2.2.2.2 hI (fun b1 b2 b3 b4 b5 b6 b7 b8 b9 b10 b11 b12 h9 hm => hk (b1, b2, b3, b4, b5, b6, b7, b8, b9, b10, b11, b12) h9 hm)) (a1, a2, a3, a4, a5, a6, a7, a8, a9, a10, a11, a12) h
theorem lp13 {A1 A2 A3 A4 A5 A6 A7 A8 A9 A10 A11 A12 A13 : Type} (W : Nat → A1 → A2 → A3 → A4 → A5 → A6 → A7 → A8 → A9 → A10 → A11 → A12 → A13 → Prop) (I : A1 → A2 → A3 → A4 → A5 → A6 → A7 → A8 → A9 → A10 → A11 → A12 → A13 → Prop) (μ : A1 → A2 → A3 → A4 → A5 → A6 → A7 → A8 → A9 → A10 → A11 → A12 → A13 → Nat) (hs : ∀ (n : Nat) (a1 : A1) (a2 : A2) (a3 : A3) (a4 : A4) (a5 : A5) (a6 : A6) (a7 : A7) (a8 : A8) (a9 : A9) (a10 : A10) (a11 : A11) (a12 : A12) (a13 : A13), I a1 a2 a3 a4 a5 a6 a7 a8 a9 a10 a11 a12 a13 → (∀ (b1 : A1) (b2 : A2) (b3 : A3) (b4 : A4) (b5 : A5) (b6 : A6) (b7 : A7) (b8 : A8) (b9 : A9) (b10 : A10) (b11 : A11) (b12 : A12) (b13 : A13), I b1 b2 b3 b4 b5 b6 b7 b8 b9 b10 b11 b12 b13 → μ b1 b2 b3 b4 b5 b6 b7 b8 b9 b10 b11 b12 b13 < μ a1 a2 a3 a4 a5 a6 a7 a8 a9 a10 a11 a12 a13 → W n b1 b2 b3 b4 b5 b6 b7 b8 b9 b10 b11 b12 b13) → W (n + 1) a1 a2 a3 a4 a5 a6 a7 a8 a9 a10 a11 a12 a13) (a1 : A1) (a2 : A2) (a3 : A3) (a4 : A4) (a5 : A5) (a6 : A6) (a7 : A7) (a8 : A8) (a9 : A9) (a10 : A10) (a11 : A11) (a12 : A12) (a13 : A13) (h : I a1 a2 a3 a4 a5 a6 a7 a8 a9 a10 a11 a12 a13) : ∃ n, W n a1 a2 a3 a4 a5 a6 a7 a8 a9 a10 a11 a12 a13 :=
  loop_m (σ := A1 × A2 × A3 × A4 × A5 × A6 × A7 × A8 × A9 × A10 × A11 × A12 × A13) (fun n s => W n s.1 s.2.1 s.2.2.1 s.2.2.2.1 s.2.2.2.2.1 s.2.2.2.2.2.1 s.2.2.2.2.2.2.1 s.2.2.2.2.2.2.2.1 s.2.2.2.2.2.2.2.2.1 s.2.2.2.2.2.2.2.2.2.1 s.2.2.2.2.2.2.2.2.2.2.1 s.2.2.2.2.2.2.2.2.2.2.2.1 s.2.2.2.2.2.2.2.2.2.2.2.2) (fun s => I s.1 s.2.1 s.2.2.1 s.2.2.2.1 s.2.2.2.2.1 s.2.2.2.2.2.1 s.2.2.2.2.2.2.1 s.2.2.2.2.2.2.2.1 s.2.2.2.2.2.2.2.2.1 s.2.2.2.2.2.2.2.2.2.1 s.2.2.2.2.2.2.2.2.2.2.1 s.2.2.2.2.2.2.2.2.2.2.2.1 s.2.2.2.2.2.2.2.2.2.2.2.2) (fun s => μ s.1 s.2.1 s.2.2.1 s.2.2.2.1 s.2.2.2.2.1 s.2.2.2.2.2.1 s.2.2.2.2.2.2.1 s.2.2.2.2.2.2.2.1 s.2.2.2.2.2.2.2.2.1 s.2.2.2.2.2.2.2.2.2.1 s.2.2.2.2.2.2.2.2.2.2.1 s.2.2.2.2.2.2.2.2.2.2.2.1 s.2.2.2.2.2.2.2.2.2.2.2.2) (fun n s hI hk => hs n s.1 s.2.1 s.2.2.1 s.2.2.2.1 s.2.2.2.2.1 s.2.2.2.2.2.1 s.2.2.2.2.2.2.1 s.2.2.2.2.2.2.2.1 s.2.2.2.2.2.2.2.2.1 s.2.2.2.2.2.2.2.2.2.1 s.2.2.2.2.2.2.2.2.2.2.1 s.2.2.2.2.2.2.2.2.2.2.2.1 s.2.2.2.2.2.2.2.2.2.2.2.2 hI (fun b1 b2 b3 b4 b5 b6 b7 b8 b9 b10 b11 b12 b13 h9 hm => hk (b1, b2, b3, b4, b5, b6, b7, b8, b9, b10, b11, b12, b13) h9 hm)) (a1, a2, a3, a4, a5, a6, a7, a8, a9, a10, a11, a12, a13) h
theorem lp14 {A1 A2 A3 A4 A5 A6 A7 A8 A9 A10 A11 A12 A13 A14 : Type} (W : Nat → A1 → A2 → A3 → A4 → A5 → A6 → A7 → A8 → A9 → A10 → A11 → A12 → A13 → A14 → Prop) (I : A1 → A2 → A3 → A4 → A5 → A6 → A7 → A8 → A9 → A10 → A11 → A12 → A13 → A14 → Prop) (μ : A1 → A2 → A3 → A4 → A5 → A6 → A7 → A8 → A9 → A10 → A11 → A12 → A13 → A14 → Nat) (hs : ∀ (n : Nat) (a1 : A1) (a2 : A2) (a3 : A3) (a4 : A4) (a5 : A5) (a6 : A6) (a7 : A7) (a8 : A8) (a9 : A9) (a10 : A10) (a11 : A11) (a12 : A12) (a13 : A13) (a14 : A14), I a1 a2 a3 a4 a5 a6 a7 a8 a9 a10 a11 a12 a13 a14 → (∀ (b1 : A1) (b2 : A2) (b3 : A3) (b4 : A4) (b5 : A5) (b6 : A6) (b7 : A7) (b8 : A8) (b9 : A9) (b10 : A10) (b11 : A11) (b12 : A12) (b13 : A13) (b14 : A14), I b1 b2 b3 b4 b5 b6 b7 b8 b9 b10 b11 b12 b13 b14 → μ b1 b2 b3 b4 b5 b6 b7 b8 b9 b10 b11 b12 b13 b14 < μ a1 a2 a3 a4 a5 a6 a7 a8 a9 a10 a11 a12 a13 a14 → W n b1 b2 b3 b4 b5 b6 b7 b8 b9 b10 b11 b12 b13 b14) → W (n + 1) a1 a2 a3 a4 a5 a6 a7 a8 a9 a10 a11 a12 a13 a14) (a1 : A1) (a2 : A2) (a3 : A3) (a4 : A4) (a5 : A5) (a6 : A6) (a7 : A7) (a8 : A8) (a9 : A9) (a10 : A10) (a11 : A11) (a12 : A12) (a13 : A13) (a14 : A14) (h : I a1 a2 a3 a4 a5 a6 a7 a8 a9 a10 a11 a12 a13 a14) : ∃ n, W n a1 a2 a3 a4 a5 a6 a7 a8 a9 a10 a11 a12 a13 a14 :=
  loop_m (σ := A1 × A2 × A3 × A4 × A5 × A6 × A7 × A8 × A9 × A10 × A11 × A12 × A13 × A14) (fun n s => W n s.1 s.2.1 s.2.2.1 s.2.2.2.1 s.2.2.2.2.1 s.2.2.2.2.2.1 s.2.2.2.2.2.2.1 s.2.2.2.2.2.2.2.1 s.2.2.2.2.2.2.2.2.1 s.2.2.2.2.2.2.2.2.2.1 s.2.2.2.2.2.2.2.2.2.2.1 s.2.2.2.2.2.2.2.2.2.2.2.1 s.2.2.2.2.2.2.2.2.2.2.2.2.1 s.2.2.2.2.2.2.2.2.2.2.2.2.2) (fun s => I s.1 s.2.1 s.2.2.1 s.2.2.2.1 s.2.2.2.2.1 s.2.2.2.2.2.1 s.2.2.2.2.2.2.1 s.2.2.2.2.2.2.2.1 s.2.2.2.2.2.2.2.2.1 s.2.2.2.2.2.2.2.2.2.1 s.2.2.2.2.2.2.2.2.2.2.1 s.2.2.2.2.2.2.2.2.2.2.2.1 s.2.2.2.2.2.2.2.2.2.2.2.2.1 s.2.2.2.2.2.2.2.2.2.2.2.2.2) (fun s => μ s.1 s.2.1 s.2.2.1 s.2.2.2.1 s.2.2.2.2.1 s.2.2.2.2.2.1 s.2.2.2.2.2.2.1 s.2.2.2.2.2.2.2.1 s.2.2.2.2.2.2.2.2.1 s.2.2.2.2.2.2.2.2.2.1 s.2.2.2.2.2.2.2.2.2.2.1 s.2.2.2.2.2.2.2.2.2.2.2.1 s.2.2.2.2.2.2.2.2.2.2.2.2.1 s.2.2.2.2.2.2.2.2.2.2.2.2.2) (fun n s hI hk => hs n s.1 s.2.1 s.2.2.1 s.2.2.2.1 s.2.2.2.2.1 s.2.2.2.2.2.1 s.2.2.2.2.2.2.1 s.2.2.2.2.2.2.2.1 s.2.2.2.2.2.2.2.2.1 s.2.2.2.2.2.2.2.2.2.1 s.2.2.2.2.2.2.2.2.2.2.1 s.2.2.2.2.2.2.2.2.2.2.2.1 s.2.2.2.2.2.2.2.2.2.2.2.2.1 s.2.2.2.2.2.2.2.2.2.2.2.2.2 hI (fun b1 b2 b3 b4 b5 b6 b7 b8 b9 b10 b11 b12 b13 b14 h9 hm => hk (b1, b2, b3, b4, b5, b6, b7, b8, b9, b10, b11, b12, b13, b14) h9 hm)) (a1, a2, a3, a4, a5, a6, a7, a8, a9, a10, a11, a12, a13, a14) h
theorem lp15 {A1 A2 A3 A4 A5 A6 A7 A8 A9 A10 A11 A12 A13 A14 A15 : Type} (W : Nat → A1 → A2 → A3 → A4 → A5 → A6 → A7 → A8 → A9 → A10 → A11 → A12 → A13 → A14 → A15 → Prop) (I : A1 → A2 → A3 → A4 → A5 → A6 → A7 → A8 → A9 → A10 → A11 → A12 → A13 → A14 → A15 → Prop) (μ : A1 → A2 → A3 → A4 → A5 → A6 → A7 → A8 → A9 → A10 → A11 → A12 → A13 → A14 → A15 → Nat) (hs : ∀ (n : Nat) (a1 : A1) (a2 : A2) (a3 : A3) (a4 : A4) (a5 : A5) (a6 : A6) (a7 : A7) (a8 : A8) (a9 : A9) (a10 : A10) (a11 : A11) (a12 : A12) (a13 : A13) (a14 : A14) (a15 : A15), I a1 a2 a3 a4 a5 a6 a7 a8 a9 a10 a11 a12 a13 a14 a15 → (∀ (b1 : A1) (b2 : A2) (b3 : A3) (b4 : A4) (b5 : A5) (b6 : A6) (b7 : A7) (b8 : A8) (b9 : A9) (b10 : A10) (b11 : A11) (b12 : A12) (b13 : A13) (b14 : A14) (b15 : A15), I b1 b2 b3 b4 b5 b6 b7 b8 b9 b10 b11 b12 b13 b14 b15 → μ b1 b2 b3 b4 b5 b6 b7 b8 b9 b10 b11 b12 b13 b14 b15 < μ a1 a2 a3 a4 a5 a6 a7 a8 a9 a10 a11 a12 a13 a14 a15 → W n b1 b2 b3 b4 b5 b6 b7 b8 b9 b10 b11 b12 b13 b14 b15) → W (n + 1) a1 a2 a3 a4 a5 a6 a7 a8 a9 a10 a11 a12 a13 a14 a15) (a1 : A1) (a2 : A2) (a3 : A3) (a4 : A4) (a5 : A5) (a6 : A6) (a7 : A7) (a8 : A8) (a9 : A9) (a10 : A10) (a11 : A11) (a12 : A12) (a13 : A13) (a14 : A14) (a15 : A15) (h : I a1 a2 a3 a4 a5 a6 a7 a8 a9 a10 a11 a12 a13 a14 a15) : ∃ n, W n a1 a2 a3 a4 a5 a6 a7 a8 a9 a10 a11 a12 a13 a14 a15 :=
  loop_m (σ := A1 × A2 × A3 × A4 × A5 × A6 × A7 × A8 × A9 × A10 × A11 × A12 × A13 × A14 × A15) (fun n s => W n s.1 s.2.1 s.2.2.1 s.2.2.2.1 s.2.2.2.2.1 s.2.2.2.2.2.1 s.2.2.2.2.2.2.1 s.2.2.2.2.2.2.2.1 s.2.2.2.2.2.2.2.2.1 s.2.2.2.2.2.2.2.2.2.1 s.2.2.2.2.2.2.2.2.2.2.1 s.2.2.2.2.2.2.2.2.2.2.2.1 s.2.2.2.2.2.2.2.2.2.2.2.2.1 s.2.2.2.2.2.2.2.2.2.2.2.2.2.1 s.2.2.2.2.2.2.2.2.2.2.2.2.2.2) (fun s => I s.1 s.2.1 s.2.2.1 s.2.2.2.1 s.2.2.2.2.1 s.2.2.2.2.2.1 s.2.2.2.2.2.2.1 s.2.2.2.2.2.2.2.1 s.2.2.2.2.2.2.2.2.1 s.2.2.2.2.2.2.2.2.2.1 s.2.2.2.2.2.2.2.2.2.2.1 s.2.2.2.2.2.2.2.2.2.2.2.1 s.2.2.2.2.2.2.2.2.2.2.2.2.1 s.2.2.2.2.2.2.2.2.2.2.2.2.2.1 s.2.2.2.2.2.2.2.2.2.2.2.2.2.2) (fun s => μ s.1 s.2.1 s.2.2.1 s.2.2.2.1 s.2.2.2.2.1 s.2.2.2.2.2.1 s.2.2.2.2.2.2.1 s.2.2.2.2.2.2.2.1 s.2.2.2.2.2.2.2.2.1 s.2.2.2.2.2.2.2.2.2.1 s.2.2.2.2.2.2.2.2.2.2.1 s.2.2.2.2.2.2.2.2.2.2.2.1 s.2.2.2.2.2.2.2.2.2.2.2.2.1 s.2.2.2.2.2.2.2.2.2.2.2.2.2.1 s.2.2.2.2.2.2.2.2.2.2.2.2.2.2) (fun n s hI hk => hs n s.1 s.2.1 s.2.2.1 s.2.2.2.1 s.2.2.2.2.1 s.2.2.2.2.2.1 s.2.2.2.2.2.2.1 s.2.2.2.2.2.2.2.1 s.2.2.2.2.2.2.2.2.1 s.2.2.2.2.2.2.2.2.2.1 s.2.2.2.2.2.2.2.2.2.2.1 s.2.2.2.2.2.2.2.2.2.2.2.1 s.2.2.2.2.2.2.2.2.2.2.2.2.1 s.2.2.2.2.2.2.2.2.2.2.2.2.2.1 s.2.2.2.2.2.2.2.2.2.2.2.2.2.2 hI (fun b1 b2 b3 b4 b5 b6 b7 b8 b9 b10 b11 b12 b13 b14 b15 h9 hm => hk (b1, b2, b3, b4, b5, b6, b7, b8, b9, b10, b11, b12, b13, b14, b15) h9 hm)) (a1, a2, a3, a4, a5, a6, a7, a8, a9, a10, a11, a12, a13, a14, a15) h
theorem lp16 {A1 A2 A3 A4 A5 A6 A7 A8 A9 A10 A11 A12 A13 A14 A15 A16 : Type} (W : Nat → A1 → A2 → A3 → A4 → A5 → A6 → A7 → A8 → A9 → A10 → A11 → A12 → A13 → A14 → A15 → A16 → Prop) (I : A1 → A2 → A3 → A4 → A5 → A6 → A7 → A8 → A9 → A10 → A11 → A12 → A13 → A14 → A15 → A16 → Prop) (μ : A1 → A2 → A3 → A4 → A5 → A6 → A7 → A8 → A9 → A10 → A11 → A12 → A13 → A14 → A15 → A16 → Nat) (hs : ∀ (n : Nat) (a1 : A1) (a2 : A2) (a3 : A3) (a4 : A4) (a5 : A5) (a6 : A6) (a7 : A7) (a8 : A8) (a9 : A9) (a10 : A10) (a11 : A11) (a12 : A12) (a13 : A13) (a14 : A14) (a15 : A15) (a16 : A16), I a1 a2 a3 a4 a5 a6 a7 a8 a9 a10 a11 a12 a13 a14 a15 a16 → (∀ (b1 : A1) (b2 : A2) (b3 : A3) (b4 : A4) (b5 : A5) (b6 : A6) (b7 : A7) (b8 : A8) (b9 : A9) (b10 : A10) (b11 : A11) (b12 : A12) (b13 : A13) (b14 : A14) (b15 : A15) (b16 : A16), I b1 b2 b3 b4 b5 b6 b7 b8 b9 b10 b11 b12 b13 b14 b15 b16 → μ b1 b2 b3 b4 b5 b6 b7 b8 b9 b10 b11 b12 b13 b14 b15 b16 < μ a1 a2 a3 a4 a5 a6 a7 a8 a9 a10 a11 a12 a13 a14 a15 a16 → W n b1 b2 b3 b4 b5 b6 b7 b8 b9 b10 b11 b12 b13 b14 b15 b16) → W (n + 1) a1 a2 a3 a4 a5 a6 a7 a8 a9 a10 a11 a12 a13 a14 a15 a16) (a1 : A1) (a2 : A2) (a3 : A3) (a4 : A4) (a5 : A5) (a6 : A6) (a7 : A7) (a8 : A8) (a9 : A9) (a10 : A10) (a11 : A11) (a12 : A12) (a13 : A13) (a14 : A14) (a15 : A15) (a16 : A16) (h : I a1 a2 a3 a4 a5 a6 a7 a8 a9 a10 a11 a12 a13 a14 a15 a16) : ∃ n, W n a1 a2 a3 a4 a5 a6 a7 a8 a9 a10 a11 a12 a13 a14 a15 a16 :=
  loop_m (σ := A1 × A2 × A3 × A4 × A5 × A6 × A7 × A8 × A9 × A10 × A11 × A12 × A13 × A14 × A15 × A16) (fun n s => W n s.1 s.2.1 s.2.2.1 s.2.2.2.1 s.2.2.2.2.1 s.2.2.2.2.2.1 s.2.2.2.2.2.2.1 s.2.2.2.2.2.2.2.1 s.2.2.2.2.2.2.2.2.1 s.2.2.2.2.2.2.2.2.2.1 s.2.2.2.2.2.2.2.2.2.2.1 s.2.2.2.2.2.2.2.2.2.2.2.1 s.2.2.2.2.2.2.2.2.2.2.2.2.1 s.2.2.2.2.2.2.2.2.2.2.2.2.2.1 s.2.2.2.2.2.2.2.2.2.2.2.2.2.2.1 s.2.2.2.2.2.2.2.2.2.2.2.2.2.2.2) (fun s => I s.1 s.2.1 s.2.2.1 s.2.2.2.1 s.2.2.2.2.1 s.2.2.2.2.2.1 s.2.2.2.2.2.2.1 s.2.2.2.2.2.2.2.1 s.2.2.2.2.2.2.2.2.1 s.2.2.2.2.2.2.2.2.2.1 s.2.2.2.2.2.2.2.2.2.2.1 s.2.2.2.2.2.2.2.2.2.2.2.1 s.2.2.2.2.2.2.2.2.2.2.2.2.1 s.2.2.2.2.2.2.2.2.2.2.2.2.2.1 s.2.2.2.2.2.2.2.2.2.2.2.2.2.2.1 s.2.2.2.2.2.2.2.2.2.2.2.2.2.2.2) (fun s => μ s.1 s.2.1 s.2.2.1 s.2.2.2.1 s.2.2.2.2.1 s.2.2.2.2.2.1 s.2.2.2.2.2.2.1 s.2.2.2.2.2.2.2.1 s.2.2.2.2.2.2.2.2.1 s.2.2.2.2.2.2.2.2.2.1 s.2.2.2.2.2.2.2.2.2.2.1 s.2.2.2.2.2.2.2.2.2.2.2.1 s.2.2.2.2.2.2.2.2.2.2.2.2.1 s.2.2.2.2.2.2.2.2.2.2.2.2.2.1 s.2.2.2.2.2.2.2.2.2.2.2.2.2.2.1 s.2.2.2.2.2.2.2.2.2.2.2.2.2.2.2) (fun n s hI hk => hs n s.1 s.2.1 s.2.2.1 s.2.2.2.1 s.2.2.2.2.1 s.2.2.2.2.2.1 s.2.2.2.2.2.2.1 s.2.2.2.2.2.2.2.1 s.2.2.2.2.2.2.2.2.1 s.2.2.2.2.2.2.2.2.2.1 s.2.2.2.2.2.2.2.2.2.2.1 s.2.2.2.2.2.2.2.2.2.2.2.1 s.2.2.2.2.2.2.2.2.2.2.2.2.1 s.2.2.2.2.2.2.2.2.2.2.2.2.2.1 s.2.2.2.2.2.2.2.2.2.2.2.2.2.2.1 s.2.2.2.2.2.2.2.2.2.2.2.2.2.2.2 hI (fun b1 b2 b3 b4 b5 b6 b7 b8 b9 b10 b11 b12 b13 b14 b15 b16 h9 hm => hk (b1, b2, b3, b4, b5, b6, b7, b8, b9, b10, b11, b12, b13, b14, b15, b16) h9 hm)) (a1, a2, a3, a4, a5, a6, a7, a8, a9, a10, a11, a12, a13, a14, a15, a16) h
theorem pk_least (P : Nat → Prop) (h : ∃ k, P k) : ∃ k, P k ∧ ∀ j, j < k → ¬ P j := by
  obtain ⟨k, hk⟩ := h
  induction k using Nat.strongRecOn with
  | ind k ih =>
    by_cases e : ∃ j, j < k ∧ P j
    · obtain ⟨j, hj, pj⟩ := e
      exact ih j hj pj
    · exact ⟨k, hk, fun j hj pj => e ⟨j, hj, pj⟩⟩
theorem rp1 {ρ A1 : Type} (W : Nat → (ρ → Prop) → A1 → Prop) (ok : A1 → Prop) (μ : A1 → Nat) (val : A1 → ρ)
    (hs : ∀ (d : Nat) (post : ρ → Prop) (a1 : A1), ok a1 → post (val a1) → (∀ (post' : ρ → Prop) (b1 : A1), ok b1 → μ b1 < μ a1 → post' (val b1) → W d post' b1) → W (d + 1) post a1) :
    ∀ (d : Nat) (post : ρ → Prop) (a1 : A1), ok a1 → μ a1 < d → post (val a1) → W d post a1 := by
  intro d
  induction d with
  | zero => intro post a1 _ h; omega
  | succ d ih =>
    intro post a1 ho hm hp
    exact hs d post a1 ho hp (fun post' b1 ho' hm' hp' => ih post' b1 ho' (by omega) hp')
theorem rp2 {ρ A1 A2 : Type} (W : Nat → (ρ → Prop) → A1 → A2 → Prop) (ok : A1 → A2 → Prop) (μ : A1 → A2 → Nat) (val : A1 → A2 → ρ)
    (hs : ∀ (d : Nat) (post : ρ → Prop) (a1 : A1) (a2 : A2), ok a1 a2 → post (val a1 a2) → (∀ (post' : ρ → Prop) (b1 : A1) (b2 : A2), ok b1 b2 → μ b1 b2 < μ a1 a2 → post' (val b1 b2) → W d post' b1 b2) → W (d + 1) post a1 a2) :
    ∀ (d : Nat) (post : ρ → Prop) (a1 : A1) (a2 : A2), ok a1 a2 → μ a1 a2 < d → post (val a1 a2) → W d post a1 a2 := by
  intro d
  induction d with
  | zero => intro post a1 a2 _ h; omega
  | succ d ih =>
    intro post a1 a2 ho hm hp
    exact hs d post a1 a2 ho hp (fun post' b1 b2 ho' hm' hp' => ih post' b1 b2 ho' (by omega) hp')
theorem rp3 {ρ A1 A2 A3 : Type} (W : Nat → (ρ → Prop) → A1 → A2 → A3 → Prop) (ok : A1 → A2 → A3 → Prop) (μ : A1 → A2 → A3 → Nat) (val : A1 → A2 → A3 → ρ)
    (hs : ∀ (d : Nat) (post : ρ → Prop) (a1 : A1) (a2 : A2) (a3 : A3), ok a1 a2 a3 → post (val a1 a2 a3) → (∀ (post' : ρ → Prop) (b1 : A1) (b2 : A2) (b3 : A3), ok b1 b2 b3 → μ b1 b2 b3 < μ a1 a2 a3 → post' (val b1 b2 b3) → W d post' b1 b2 b3) → W (d + 1) post a1 a2 a3) :
    ∀ (d : Nat) (post : ρ → Prop) (a1 : A1) (a2 : A2) (a3 : A3), ok a1 a2 a3 → μ a1 a2 a3 < d → post (val a1 a2 a3) → W d post a1 a2 a3 := by
  intro d
  induction d with
  | zero => intro post a1 a2 a3 _ h; omega
  | succ d ih =>
    intro post a1 a2 a3 ho hm hp
    exact hs d post a1 a2 a3 ho hp (fun post' b1 b2 b3 ho' hm' hp' => ih post' b1 b2 b3 ho' (by omega) hp')
theorem rp4 {ρ A1 A2 A3 A4 : Type} (W : Nat → (ρ → Prop) → A1 → A2 → A3 → A4 → Prop) (ok : A1 → A2 → A3 → A4 → Prop) (μ : A1 → A2 → A3 → A4 → Nat) (val : A1 → A2 → A3 → A4 → ρ)
    (hs : ∀ (d : Nat) (post : ρ → Prop) (a1 : A1) (a2 : A2) (a3 : A3) (a4 : A4), ok a1 a2 a3 a4 → post (val a1 a2 a3 a4) → (∀ (post' : ρ → Prop) (b1 : A1) (b2 : A2) (b3 : A3) (b4 : A4), ok b1 b2 b3 b4 → μ b1 b2 b3 b4 < μ a1 a2 a3 a4 → post' (val b1 b2 b3 b4) → W d post' b1 b2 b3 b4) → W (d + 1) post a1 a2 a3 a4) :
    ∀ (d : Nat) (post : ρ → Prop) (a1 : A1) (a2 : A2) (a3 : A3) (a4 : A4), ok a1 a2 a3 a4 → μ a1 a2 a3 a4 < d → post (val a1 a2 a3 a4) → W d post a1 a2 a3 a4 := by
  intro d
  induction d with
  | zero => intro post a1 a2 a3 a4 _ h; omega
  | succ d ih =>
    intro post a1 a2 a3 a4 ho hm hp
    exact hs d post a1 a2 a3 a4 ho hp (fun post' b1 b2 b3 b4 ho' hm' hp' => ih post' b1 b2 b3 b4 ho' (by omega) hp')
theorem rp5 {ρ A1 A2 A3 A4 A5 : Type} (W : Nat → (ρ → Prop) → A1 → A2 → A3 → A4 → A5 → Prop) (ok : A1 → A2 → A3 → A4 → A5 → Prop) (μ : A1 → A2 → A3 → A4 → A5 → Nat) (val : A1 → A2 → A3 → A4 → A5 → ρ)
    (hs : ∀ (d : Nat) (post : ρ → Prop) (a1 : A1) (a2 : A2) (a3 : A3) (a4 : A4) (a5 : A5), ok a1 a2 a3 a4 a5 → post (val a1 a2 a3 a4 a5) → (∀ (post' : ρ → Prop) (b1 : A1) (b2 : A2) (b3 : A3) (b4 : A4) (b5 : A5), ok b1 b2 b3 b4 b5 → μ b1 b2 b3 b4 b5 < μ a1 a2 a3 a4 a5 → post' (val b1 b2 b3 b4 b5) → W d post' b1 b2 b3 b4 b5) → W (d + 1) post a1 a2 a3 a4 a5) :
    ∀ (d : Nat) (post : ρ → Prop) (a1 : A1) (a2 : A2) (a3 : A3) (a4 : A4) (a5 : A5), ok a1 a2 a3 a4 a5 → μ a1 a2 a3 a4 a5 < d → post (val a1 a2 a3 a4 a5) → W d post a1 a2 a3 a4 a5 := by
  intro d
  induction d with
  | zero => intro post a1 a2 a3 a4 a5 _ h; omega
  | succ d ih =>
    intro post a1 a2 a3 a4 a5 ho hm hp
    exact hs d post a1 a2 a3 a4 a5 ho hp (fun post' b1 b2 b3 b4 b5 ho' hm' hp' => ih post' b1 b2 b3 b4 b5 ho' (by omega) hp')
theorem rp6 {ρ A1 A2 A3 A4 A5 A6 : Type} (W : Nat → (ρ → Prop) → A1 → A2 → A3 → A4 → A5 → A6 → Prop) (ok : A1 → A2 → A3 → A4 → A5 → A6 → Prop) (μ : A1 → A2 → A3 → A4 → A5 → A6 → Nat) (val : A1 → A2 → A3 → A4 → A5 → A6 → ρ)
    (hs : ∀ (d : Nat) (post : ρ → Prop) (a1 : A1) (a2 : A2) (a3 : A3) (a4 : A4) (a5 : A5) (a6 : A6), ok a1 a2 a3 a4 a5 a6 → post (val a1 a2 a3 a4 a5 a6) → (∀ (post' : ρ → Prop) (b1 : A1) (b2 : A2) (b3 : A3) (b4 : A4) (b5 : A5) (b6 : A6), ok b1 b2 b3 b4 b5 b6 → μ b1 b2 b3 b4 b5 b6 < μ a1 a2 a3 a4 a5 a6 → post' (val b1 b2 b3 b4 b5 b6) → W d post' b1 b2 b3 b4 b5 b6) → W (d + 1) post a1 a2 a3 a4 a5 a6) :
    ∀ (d : Nat) (post : ρ → Prop) (a1 : A1) (a2 : A2) (a3 : A3) (a4 : A4) (a5 : A5) (a6 : A6), ok a1 a2 a3 a4 a5 a6 → μ a1 a2 a3 a4 a5 a6 < d → post (val a1 a2 a3 a4 a5 a6) → W d post a1 a2 a3 a4 a5 a6 := by
  intro d
  induction d with
  | zero => intro post a1 a2 a3 a4 a5 a6 _ h; omega
  | succ d ih =>
    intro post a1 a2 a3 a4 a5 a6 ho hm hp
    exact hs d post a1 a2 a3 a4 a5 a6 ho hp (fun post' b1 b2 b3 b4 b5 b6 ho' hm' hp' => ih post' b1 b2 b3 b4 b5 b6 ho' (by omega) hp')
theorem rec_p {σ ρ : Type} (W : Nat → (ρ → Prop) → σ → Prop) (ok : σ → Prop) (μ : σ → Nat) (val : σ → ρ)
    (hs : ∀ d s post, ok s → post (val s) → (∀ s' post', ok s' → μ s' < μ s → post' (val s') → W d post' s') → W (d + 1) post s) :
    ∀ d s post, ok s → μ s < d → post (val s) → W d post s := by
  intro d
  induction d with
  | zero => intro s post _ h; omega
  | succ d ih =>
    intro s post ho hm hp
    exact hs d s post ho hp (fun s' post' ho' hm' hp' => ih s' post' ho' (by omega) hp')
theorem rec_q {σ ρ : Type} (W : Nat → (ρ → Prop) → σ → Prop) (ok : σ → Prop) (μ : σ → Nat) (Q : σ → ρ → Prop)
    (hs : ∀ d s post, ok s → (∀ r, Q s r → post r) → (∀ s' post', ok s' → μ s' < μ s → (∀ r, Q s' r → post' r) → W d post' s') → W (d + 1) post s) :
    ∀ d s post, ok s → μ s < d → (∀ r, Q s r → post r) → W d post s := by
  intro d
  induction d with
  | zero => intro s post _ h; omega
  | succ d ih =>
    intro s post ho hm hp
    exact hs d s post ho hp (fun s' post' ho' hm' hp' => ih s' post' ho' (by omega) hp')
def bx_sum (f : Nat → Int32) : Nat → Int32
  | 0 => 0
  | n + 1 => bx_sum f n + f n
theorem ek_u {A : Prop} {B : Nat → Prop} {k N : Nat} (hk : k < N) (h : B k) : (some k = none → A) ∧ (∀ y : Nat, some k = some y → (y < N ∧ B y)) :=
  ⟨fun z => absurd z (Option.some_ne_none k), fun _ e => (by cases e; exact ⟨hk, h⟩)⟩
theorem ek_nu {A : Prop} {B : Nat → Prop} (h : A) : ((none : Option Nat) = none → A) ∧ (∀ y : Nat, (none : Option Nat) = some y → B y) :=
  ⟨fun _ => h, fun _ e => (by cases e)⟩
theorem ek_if {c d A B : Prop} (e : c ↔ d) (f : d → A) (g : ¬ d → B) : (c → A) ∧ (¬ c → B) :=
  ⟨fun z => f (e.mp z), fun z => g (fun y => z (e.mpr y))⟩
theorem ek_v {α : Sort _} {P : α → Prop} {a b : α} (e : a = b) (h : P b) : P a := e ▸ h
theorem co_some {x : Option Nat} {A : Prop} {B : Nat → Prop} (i : Nat) (h : B i) (hx : x = some i := by rfl) : (x = none → A) ∧ (∀ y : Nat, x = some y → B y) := by
  subst hx
  exact ⟨fun e => (nomatch e), fun y e => Option.some.inj e ▸ h⟩
theorem co_none {x : Option Nat} {A : Prop} {B : Nat → Prop} (h : A) (hx : x = none := by rfl) : (x = none → A) ∧ (∀ y : Nat, x = some y → B y) := by
  subst hx
  exact ⟨fun _ => h, fun y e => (nomatch e)⟩
theorem co_any {x : Option Nat} {A : Prop} {B : Nat → Prop} (hn : x = none → A) (hs : ∀ i : Nat, x = some i → B i) : (x = none → A) ∧ (∀ y : Nat, x = some y → B y) := ⟨hn, hs⟩
theorem co_2 {P : Nat → Prop} (h0 : P 0) (h1 : P 1) {i : Nat} (hi : i < 2) : P i :=
  match i, hi with
  | 0, _ => h0
  | 1, _ => h1
theorem co_3 {P : Nat → Prop} (h0 : P 0) (h1 : P 1) (h2 : P 2) {i : Nat} (hi : i < 3) : P i :=
  match i, hi with
  | 0, _ => h0
  | 1, _ => h1
  | 2, _ => h2
theorem co_4 {P : Nat → Prop} (h0 : P 0) (h1 : P 1) (h2 : P 2) (h3 : P 3) {i : Nat} (hi : i < 4) : P i :=
  match i, hi with
  | 0, _ => h0
  | 1, _ => h1
  | 2, _ => h2
  | 3, _ => h3
theorem co_dec {N : Nat} {P : Nat → Prop} [DecidablePred P] (h : (List.range N).all (fun i => decide (P i)) = true) {i : Nat} (hi : i < N) : P i := by
  have := List.all_eq_true.mp h i (List.mem_range.mpr hi)
  exact of_decide_eq_true this
theorem co_tab {α : Type} {l : List α} {d : α} {P : α → Prop} (h : ∀ a, a ∈ l → P a) {i : Nat} (hi : i < l.length) : P (l.getD i d) := by
  rw [List.getD_eq_getElem?_getD, List.getElem?_eq_getElem hi]
  exact h _ (List.getElem_mem hi)
theorem pk_mu {x : Int32} {L : Nat} (h0 : ¬ x < 0) (h : ¬ nI L ≤ x) (hL : L < 2 ^ 31) : ∃ j : Nat, j < L ∧ x = nI j ∧ x + 1 = nI (j + 1) ∧ x.toNatClampNeg = j ∧ L - (x + 1).toNatClampNeg < L - x.toNatClampNeg := by
  obtain ⟨j, hj, rfl⟩ := nI_of h0
  have hl : j < L := Nat.not_le.mp fun q => h (nI_le q hj)
  refine ⟨j, hl, rfl, nI_1 j, nI_clamp hj, ?_⟩
  rw [nI_1, nI_clamp (by omega), nI_clamp hj]
  omega
theorem op_s {α : Type} {r : Option α} {A : Prop} {B : α → Prop} {y : α} (h : r = some y) (b : B y) : (r = none → A) ∧ ∀ z, r = some z → B z :=
  ⟨fun e => (by rw [h] at e; cases e), fun z e => (by rw [h] at e; cases e; exact b)⟩
def l_holds {α : Type} (a : Nat → Option Nat) (LP : List Nat) (p : Nat → α) (c : Nat) (b : Nat → α) : Prop :=
  ∀ j, j < c → ∃ y, a j = some y ∧ y ∈ LP ∧ p y = b j
theorem l_holds_0 {α : Type} {a : Nat → Option Nat} {LP : List Nat} {p b : Nat → α} : l_holds a LP p 0 b := fun j h => absurd h (Nat.not_lt_zero j)
theorem l_in_new (LP : List Nat) (q : Nat) : q ∈ LP ++ [q] := List.mem_append.mpr (Or.inr (List.mem_singleton.mpr rfl))
def l_sum (b : Nat → Int32) : Nat → Int32
  | 0 => 0
  | k + 1 => l_sum b k + b k
theorem sb_shr0 (x : Int32) : x >>> ((0 : Int32) &&& 31) = x := by
  rw [show ((0 : Int32) &&& 31) = 0 by decide]
  simp
theorem sb_shl0 (x : Int32) : x <<< ((0 : Int32) &&& 31) = x := by
  rw [show ((0 : Int32) &&& 31) = 0 by decide]
  simp
theorem sb_cl0 : (0 : Int32).toNatClampNeg = 0 := by decide
theorem sb_m1 {p : Nat} (h : 0 < p) : nI p + (-1) = nI (p - 1) := by
  obtain ⟨q, rfl⟩ : ∃ q, p = q + 1 := ⟨p - 1, by omega⟩
  exact pk_m1 q
def sb_b (c : Nat) : Int32 := (nI c).toInt8.toInt32
theorem sb_byte : ∀ c, c < 256 → sb_b c &&& 255 = nI c ∧ ((nI c).toUInt32 % 65536).toInt32 = nI c ∧ nI c ≤ 255 := by decide +kernel
def sb_Fit (a : Nat → Int32) : Prop := ∀ j, fits .byte (.int (a j)) = true
def sb_Lat (t : Nat → Nat) (n : Nat) (a : Nat → Int32) : Prop := ∀ j, j < n → t j < 256 ∧ a j = sb_b (t j)
theorem sb_fitB (c : Nat) : fits .byte (.int (sb_b c)) = true := pk_fb _
theorem sb_fit0 : sb_Fit (fun _ => 0) := fun _ => by
  show fits .byte (.int 0) = true
  decide
theorem sb_fitU {a : Nat → Int32} {k : Nat} {x : Int32} (h : sb_Fit a) (hx : fits .byte (.int x) = true) : sb_Fit (upd a k x) := by
  intro j
  by_cases e : j = k
  · subst e
    rw [pk_us]
    exact hx
  · rw [pk_un e]
    exact h j
def sb_cat (t : Nat → Nat) (n : Nat) (s : Nat → Nat) : Nat → Nat := fun j => if j < n then t j else s (j - n)
theorem sb_cat_lo {t s : Nat → Nat} {n j : Nat} (h : j < n) : sb_cat t n s j = t j := if_pos h
theorem sb_cat_hi {t s : Nat → Nat} {n j : Nat} : sb_cat t n s (n + j) = s j := by
  show (if n + j < n then t (n + j) else s (n + j - n)) = s j
  rw [if_neg (by omega), Nat.add_sub_cancel_left]
theorem sb_latPut {t s : Nat → Nat} {n w : Nat} {a a' : Nat → Int32} (h : sb_Lat t n a) (hk : ∀ j, j < n → a' j = a j) (hs : ∀ i, i < w → s i < 256 ∧ a' (n + i) = sb_b (s i)) : sb_Lat (sb_cat t n s) (n + w) a' := by
  intro j hj
  by_cases e : j < n
  · rw [sb_cat_lo e, hk j e]
    exact h j e
  · obtain ⟨i, rfl⟩ : ∃ i, j = n + i := ⟨j - n, by omega⟩
    rw [sb_cat_hi]
    exact hs i (by omega)
theorem sb_latKeep {t : Nat → Nat} {n : Nat} {a a' : Nat → Int32} (h : sb_Lat t n a) (hk : ∀ j, j < n → a' j = a j) : sb_Lat t n a' := fun j hj => by
  rw [hk j hj]
  exact h j hj
def sb_cap (q m : Nat) : Nat := if q ≤ m then m else if 2 * m + 2 < q then q else 2 * m + 2
def sb_Room (q m mc ms : Nat) : Prop := q ≤ m ∨ (1 ≤ mc ∧ sb_cap q m ≤ ms ∧ sb_cap q m ≤ 65536)
theorem sb_cap_ge (q m : Nat) : q ≤ sb_cap q m := by
  unfold sb_cap
  split
  · omega
  · split <;> omega
theorem sb_cap_gem (q m : Nat) : m ≤ sb_cap q m := by
  unfold sb_cap
  split
  · omega
  · split <;> omega
theorem sb_cap_le {q m mc ms : Nat} (hm : m ≤ 65536) (hr : sb_Room q m mc ms) : sb_cap q m ≤ 65536 := by
  rcases hr with h | h
  · rw [sb_cap, if_pos h]
    exact hm
  · exact h.2.2
theorem sb_at {P : Int32 → Prop} {x y : Int32} (e : x = y) (h : P y) : P x := e ▸ h
def sb_dg (w : Nat) : Nat := if w < 10 then 1 else if w < 100 then 2 else if w < 1000 then 3 else if w < 10000 then 4 else if w < 100000 then 5 else if w < 1000000 then 6 else if w < 10000000 then 7 else if w < 100000000 then 8 else if w < 1000000000 then 9 else 10
def sb_dec (v : Nat) : Nat → Nat := fun i => 48 + v / 10 ^ (sb_dg v - 1 - i) % 10
theorem sb_dg_in (w : Nat) : 1 ≤ sb_dg w ∧ sb_dg w ≤ 10 := by
  unfold sb_dg
  constructor <;> (repeat' split) <;> omega
theorem sb_dg100 {w : Nat} (h : 100 ≤ w) (hw : w < 2 ^ 31) : sb_dg w = sb_dg (w / 100) + 2 := by
  rw [sb_dg, sb_dg, if_neg (show ¬ w < 10 by omega), if_neg (show ¬ w < 100 by omega)]
  by_cases h3 : w < 1000
  · rw [if_pos h3, if_pos (show w / 100 < 10 by omega)]
  rw [if_neg h3, if_neg (show ¬ w / 100 < 10 by omega)]
  by_cases h4 : w < 10000
  · rw [if_pos h4, if_pos (show w / 100 < 100 by omega)]
  rw [if_neg h4, if_neg (show ¬ w / 100 < 100 by omega)]
  by_cases h5 : w < 100000
  · rw [if_pos h5, if_pos (show w / 100 < 1000 by omega)]
  rw [if_neg h5, if_neg (show ¬ w / 100 < 1000 by omega)]
  by_cases h6 : w < 1000000
  · rw [if_pos h6, if_pos (show w / 100 < 10000 by omega)]
  rw [if_neg h6, if_neg (show ¬ w / 100 < 10000 by omega)]
  by_cases h7 : w < 10000000
  · rw [if_pos h7, if_pos (show w / 100 < 100000 by omega)]
  rw [if_neg h7, if_neg (show ¬ w / 100 < 100000 by omega)]
  by_cases h8 : w < 100000000
  · rw [if_pos h8, if_pos (show w / 100 < 1000000 by omega)]
  rw [if_neg h8, if_neg (show ¬ w / 100 < 1000000 by omega)]
  by_cases h9 : w < 1000000000
  · rw [if_pos h9, if_pos (show w / 100 < 10000000 by omega)]
  rw [if_neg h9, if_neg (show ¬ w / 100 < 10000000 by omega)]
  rw [if_pos (show w / 100 < 100000000 by omega)]
theorem sb_negT {w : Nat} (h : w < 2 ^ 31) : (-nI w).toInt = -(w : Int) := by
  rw [Int32.toInt_neg, nI_toInt h]
  exact Int.bmod_eq_of_le (by omega) (by omega)
theorem sb_nle {a b : Nat} (ha : a < 2 ^ 31) (hb : b < 2 ^ 31) : -nI a ≤ -nI b ↔ b ≤ a := by
  rw [Int32.le_iff_toInt_le, sb_negT ha, sb_negT hb]
  omega
theorem sb_nlt {a b : Nat} (ha : a < 2 ^ 31) (hb : b < 2 ^ 31) : -nI a < -nI b ↔ b < a := by
  rw [Int32.lt_iff_toInt_lt, sb_negT ha, sb_negT hb]
  omega
theorem sb_cmp {A B : Prop} {x : Int32} (v c : Nat) (f : c ≤ v → A) (g : v < c → B) (hv : v < 2 ^ 31) (hx : x = -nI c := by rfl) (hc : c < 2 ^ 31 := by omega) : (-nI v ≤ x → A) ∧ (¬ -nI v ≤ x → B) := by
  subst hx
  rw [sb_nle hv hc]
  exact ⟨f, fun z => g (by omega)⟩
theorem sb_ndiv {w : Nat} (hw : w < 2 ^ 31) : (-nI w) / 100 = -nI (w / 100) := by
  apply Int32.toInt_inj.mp
  have h100 : (100 : Int32).toInt = 100 := by decide
  rw [Int32.toInt_div, sb_negT hw, h100, sb_negT (by omega), Int.neg_tdiv, Int.tdiv_eq_ediv_of_nonneg (by omega), Int.bmod_eq_of_le (by omega) (by omega)]
  omega
theorem sb_nrem {w : Nat} (hw : w < 2 ^ 31) : (-nI (w / 100)) * 100 - (-nI w) = nI (w % 100) := by
  have h := pk_rem (a := w) (d := 100) hw (by decide) (by decide)
  rw [pk_div hw (by decide) (by decide)] at h
  rw [← h]
  show (-nI (w / 100)) * nI 100 - (-nI w) = nI w - nI (w / 100) * nI 100
  rw [Int32.neg_mul, Int32.sub_neg, Int32.add_comm, ← Int32.sub_eq_add_neg]
end
section
/-! rows on bits, shifts and unsigned numbers, to paste: each family out of a closed proof of our own, whole with what it rests on; each by itself clean at Lean in its own claim (generation 39, form 5). Take a family whole -/
/-! ===== Int32 by its bits: bt x i ===== -/
def bt (x : Int32) (i : Nat) : Bool := x.toBitVec.getLsbD i
theorem b_ext {x y : Int32} (h : ∀ i, i < 32 → bt x i = bt y i) : x = y := Int32.toBitVec_inj.mp (BitVec.eq_of_getLsbD_eq (fun i hi => h i hi))
theorem b_or (x y : Int32) (i : Nat) : bt (x ||| y) i = (bt x i || bt y i) := by unfold bt; rw [Int32.toBitVec_or, BitVec.getLsbD_or]
theorem b_and (x y : Int32) (i : Nat) : bt (x &&& y) i = (bt x i && bt y i) := by unfold bt; rw [Int32.toBitVec_and, BitVec.getLsbD_and]
theorem b_xor (x y : Int32) (i : Nat) : bt (x ^^^ y) i = (bt x i ^^ bt y i) := by unfold bt; rw [Int32.toBitVec_xor, BitVec.getLsbD_xor]
theorem b_big {x : Int32} {i : Nat} (h : 32 ≤ i) : bt x i = false := BitVec.getLsbD_of_ge _ _ h
theorem b_255 (i : Nat) : bt 255 i = decide (i < 8) := by
  rcases Nat.lt_or_ge i 32 with h | h
  · exact (by decide +kernel : ∀ i, i < 32 → bt 255 i = decide (i < 8)) i h
  · rw [b_big h, decide_eq_false (by omega)]
theorem b_65535 (i : Nat) : bt 65535 i = decide (i < 16) := by
  rcases Nat.lt_or_ge i 32 with h | h
  · exact (by decide +kernel : ∀ i, i < 32 → bt 65535 i = decide (i < 16)) i h
  · rw [b_big h, decide_eq_false (by omega)]
theorem b_m1 : ∀ i, i < 32 → bt (-1) i = true := by decide +kernel
theorem b_0 (i : Nat) : bt 0 i = false := BitVec.getLsbD_zero
theorem s_l : ∀ n, n < 32 → ((nI n &&& 31).toBitVec.smod 32).toNat = n := by decide +kernel
theorem s_u : ∀ n, n < 32 → (((nI n).toUInt32 &&& Int32.toUInt32 31).toBitVec % 32).toNat = n := by decide +kernel
theorem b_shl (n : Nat) (hn : n < 32) (x : Int32) {i : Nat} (hi : i < 32) : bt (x <<< (nI n &&& 31)) i = (decide (n ≤ i) && bt x (i - n)) := by
  unfold bt
  rw [Int32.toBitVec_shiftLeft]
  show (x.toBitVec <<< ((nI n &&& 31).toBitVec.smod 32).toNat).getLsbD i = _
  rw [s_l n hn, BitVec.getLsbD_shiftLeft]
  rcases Nat.lt_or_ge i n with h | h
  · simp [h, Nat.not_le.mpr h]
  · simp [hi, h, Nat.not_lt.mpr h]
theorem b_ushr (n : Nat) (hn : n < 32) (x : Int32) (i : Nat) : bt ((x.toUInt32 >>> ((nI n).toUInt32 &&& Int32.toUInt32 31)).toInt32) i = bt x (n + i) := by
  show (x.toUInt32 >>> ((nI n).toUInt32 &&& Int32.toUInt32 31)).toBitVec.getLsbD i = x.toUInt32.toBitVec.getLsbD (n + i)
  rw [UInt32.toBitVec_shiftRight]
  show (x.toUInt32.toBitVec >>> (((nI n).toUInt32 &&& Int32.toUInt32 31).toBitVec % 32).toNat).getLsbD i = _
  rw [s_u n hn, BitVec.getLsbD_ushiftRight]
theorem b_sshr (n : Nat) (hn : n < 32) (x : Int32) {i : Nat} (hi : i < 32) : bt (x >>> (nI n &&& 31)) i = if n + i < 32 then bt x (n + i) else bt x 31 := by
  unfold bt
  rw [Int32.toBitVec_shiftRight]
  show (x.toBitVec.sshiftRight ((nI n &&& 31).toBitVec.smod 32).toNat).getLsbD i = _
  rw [s_l n hn, BitVec.getLsbD_sshiftRight, BitVec.msb_eq_getLsbD_last]
  simp [hi]
theorem b_shl8 (x : Int32) {i : Nat} (hi : i < 32) : bt (x <<< ((8 : Int32) &&& 31)) i = (decide (8 ≤ i) && bt x (i - 8)) := b_shl 8 (by omega) x hi
theorem b_shl16 (x : Int32) {i : Nat} (hi : i < 32) : bt (x <<< ((16 : Int32) &&& 31)) i = (decide (16 ≤ i) && bt x (i - 16)) := b_shl 16 (by omega) x hi
theorem b_shl24 (x : Int32) {i : Nat} (hi : i < 32) : bt (x <<< ((24 : Int32) &&& 31)) i = (decide (24 ≤ i) && bt x (i - 24)) := b_shl 24 (by omega) x hi
theorem b_sshr8 (x : Int32) {i : Nat} (hi : i < 32) : bt (x >>> ((8 : Int32) &&& 31)) i = if 8 + i < 32 then bt x (8 + i) else bt x 31 := b_sshr 8 (by omega) x hi
/-! ===== nI under and, xor, >>>, one bit, 65535 ===== -/
theorem nx_and (a b : Nat) : nI a &&& nI b = nI (a &&& b) := by
  apply Int32.toBitVec_inj.1
  show BitVec.ofNat 32 a &&& BitVec.ofNat 32 b = BitVec.ofNat 32 (a &&& b)
  apply BitVec.eq_of_getLsbD_eq
  intro i hi
  simp [hi]
theorem nx_xor (a b : Nat) : nI a ^^^ nI b = nI (a ^^^ b) := by
  apply Int32.toBitVec_inj.1
  show BitVec.ofNat 32 a ^^^ BitVec.ofNat 32 b = BitVec.ofNat 32 (a ^^^ b)
  apply BitVec.eq_of_getLsbD_eq
  intro i hi
  simp [hi]
end
section
/-! arrays and fields as naturals -/
abbrev nF (A : Nat → Nat) : Nat → Int32 := fun i => nI (A i)
def cd_up (A : Nat → Nat) (k v : Nat) : Nat → Nat := fun j => if j = k then v else A j
theorem cd_us {A : Nat → Nat} {k v : Nat} : cd_up A k v k = v := if_pos rfl
theorem cd_un {A : Nat → Nat} {k v j : Nat} (h : j ≠ k) : cd_up A k v j = A j := if_neg h
theorem cd_upd (A : Nat → Nat) (k v : Nat) : upd (nF A) k (nI v) = nF (cd_up A k v) := by
  funext j
  by_cases h : j = k
  · subst h; exact (pk_us).trans (congrArg nI cd_us.symm)
  · exact (pk_un h).trans (congrArg nI (cd_un h).symm)
theorem cd_updE {A : Nat → Nat} {x y : Int32} {m k v : Nat} (hx : x = nI k) (hk : k < 2 ^ 31) (hy : y = nI v) : upd (nF A) x.toNatClampNeg y = nF (cd_up A k v) := by
  rw [hx, nI_clamp hk, hy, cd_upd]
/-! truth values -/
noncomputable def cd_b (P : Prop) : Nat := @ite Nat P (Classical.propDecidable P) 1 0
theorem cd_bt {P : Prop} (h : P) : cd_b P = 1 := by unfold cd_b; rw [if_pos h]
theorem cd_bf {P : Prop} (h : ¬ P) : cd_b P = 0 := by unfold cd_b; rw [if_neg h]
theorem cd_be {P Q : Prop} (h : P ↔ Q) : cd_b P = cd_b Q := by rw [propext h]
theorem cd_ble (P : Prop) : cd_b P ≤ 1 := by
  rcases Classical.em P with h | h
  · rw [cd_bt h]; exact Nat.le_refl _
  · rw [cd_bf h]; omega
theorem cd_1 {P : Prop} (h : P) : nI (cd_b P) = 1 := by rw [cd_bt h]; rfl
theorem cd_0 {P : Prop} (h : ¬ P) : nI (cd_b P) = 0 := by rw [cd_bf h]; rfl
theorem cd_br {P X Y : Prop} (f : ¬ P → X) (g : P → Y) : (nI (cd_b P) = 0 → X) ∧ (¬ nI (cd_b P) = 0 → Y) := by
  rcases Classical.em P with h | h
  · rw [cd_bt h]; exact ⟨fun z => absurd z (by decide), fun _ => g h⟩
  · rw [cd_bf h]; exact ⟨fun _ => f h, fun z => absurd rfl z⟩
theorem cd_brN {X Y : Prop} (v : Nat) (hv : v < 2 ^ 31) (f : v = 0 → X) (g : v ≠ 0 → Y) : (nI v = 0 → X) ∧ (¬ nI v = 0 → Y) :=
  pk_eq v 0 f g rfl rfl hv (by decide)
theorem cd_nar {v : Nat} (h : v ≤ 1) : narrow .boolean (.int (nI v)) = .int (nI v) := by
  rcases (by omega : v = 0 ∨ v = 1) with rfl | rfl <;> rfl
theorem cd_vn {v : Nat} (h : v ≤ 1) : vp_nar .boolean (nI v) = nI v := by
  rcases (by omega : v = 0 ∨ v = 1) with rfl | rfl <;> rfl
theorem cd_vn0 : vp_nar .boolean 0 = nI 0 := rfl
theorem cd_vn1 : vp_nar .boolean 1 = nI 1 := rfl
/-! masks -/
def cd_Su (a b : Nat) : Prop := ∀ i, a.testBit i = true → b.testBit i = true
theorem cd_Su_le {a b : Nat} (h : cd_Su a b) : a ≤ b := Nat.le_of_testBit h
theorem cd_Su_rf (a : Nat) : cd_Su a a := fun _ h => h
theorem cd_Su_tr {a b c : Nat} (h : cd_Su a b) (g : cd_Su b c) : cd_Su a c := fun i z => g i (h i z)
theorem cd_Su_as {a b : Nat} (h : cd_Su a b) (g : cd_Su b a) : a = b := Nat.le_antisymm (cd_Su_le h) (cd_Su_le g)
theorem cd_Su_orl (a b : Nat) : cd_Su a (a ||| b) := fun i h => by rw [Nat.testBit_or, h]; rfl
theorem cd_Su_orr (a b : Nat) : cd_Su b (a ||| b) := fun i h => by rw [Nat.testBit_or, h, Bool.or_true]
theorem cd_Su_or {a b c : Nat} (h : cd_Su a c) (g : cd_Su b c) : cd_Su (a ||| b) c := fun i z => by
  rw [Nat.testBit_or, Bool.or_eq_true] at z
  exact z.elim (h i) (g i)
theorem cd_Su_andl (a b : Nat) : cd_Su (a &&& b) a := fun i z => by
  rw [Nat.testBit_and, Bool.and_eq_true] at z; exact z.1
theorem cd_Su_andr (a b : Nat) : cd_Su (a &&& b) b := fun i z => by
  rw [Nat.testBit_and, Bool.and_eq_true] at z; exact z.2
theorem cd_Su_and {a b c : Nat} (h : cd_Su c a) (g : cd_Su c b) : cd_Su c (a &&& b) := fun i z => by
  rw [Nat.testBit_and, h i z, g i z]; rfl
theorem cd_Su_0 (a : Nat) : cd_Su 0 a := fun i z => by rw [Nat.zero_testBit] at z; exact absurd z (by decide)
theorem cd_Su_0e {a : Nat} (h : cd_Su a 0) : a = 0 := cd_Su_as h (cd_Su_0 a)
theorem cd_Su_iff {a b : Nat} : cd_Su a b ↔ a &&& b = a :=
  ⟨fun h => cd_Su_as (cd_Su_andl a b) (cd_Su_and (cd_Su_rf a) h), fun h => h ▸ cd_Su_andr a b⟩
theorem cd_Su_all {x n : Nat} (h : x < 2 ^ n) : cd_Su x (2 ^ n - 1) := fun i z => by
  rw [Nat.testBit_two_pow_sub_one]
  refine decide_eq_true (Nat.lt_of_not_le fun q => ?_)
  have := Nat.ge_two_pow_of_testBit z
  have : 2 ^ n ≤ 2 ^ i := Nat.pow_le_pow_right (by decide) q
  omega
theorem cd_bitlt {x n i : Nat} (h : x < 2 ^ n) (z : x.testBit i = true) : i < n := by
  refine Nat.lt_of_not_le fun q => ?_
  have := Nat.ge_two_pow_of_testBit z
  have : 2 ^ n ≤ 2 ^ i := Nat.pow_le_pow_right (by decide) q
  omega
theorem cd_Su_eq {a b : Nat} (h : cd_Su a b) (g : b ≤ a) : a = b := Nat.le_antisymm (cd_Su_le h) g
theorem cd_Su_oreq {a b : Nat} : cd_Su b a ↔ a ||| b = a :=
  ⟨fun h => cd_Su_as (cd_Su_or (cd_Su_rf a) h) (cd_Su_orl a b), fun h => h ▸ cd_Su_orr a b⟩
theorem cd_Su_pow {a b : Nat} : cd_Su (2 ^ a) b ↔ b.testBit a = true :=
  ⟨fun h => h a Nat.testBit_two_pow_self, fun h i z => by
    rw [Nat.testBit_two_pow] at z
    rw [← of_decide_eq_true z]; exact h⟩
def cd_df (a b : Nat) : Nat := a ^^^ (a &&& b)
theorem cd_df_t (a b i : Nat) : (cd_df a b).testBit i = (a.testBit i && !b.testBit i) := by
  unfold cd_df
  rw [Nat.testBit_xor, Nat.testBit_and]
  cases a.testBit i <;> cases b.testBit i <;> rfl
theorem cd_df_Su (a b : Nat) : cd_Su (cd_df a b) a := fun i z => by
  rw [cd_df_t, Bool.and_eq_true] at z; exact z.1
theorem cd_df_le (a b : Nat) : cd_df a b ≤ a := cd_Su_le (cd_df_Su a b)
theorem cd_df_n {a b i : Nat} (h : (cd_df a b).testBit i = true) : b.testBit i = false := by
  rw [cd_df_t, Bool.and_eq_true] at h
  have := h.2
  cases hb : b.testBit i
  · rfl
  · rw [hb] at this; exact absurd this (by decide)
theorem cd_df_mk {a b i : Nat} (h : a.testBit i = true) (g : b.testBit i = false) : (cd_df a b).testBit i = true := by
  rw [cd_df_t, h, g]; rfl
theorem cd_df0 {a b : Nat} : cd_df a b = 0 ↔ cd_Su a b := by
  constructor
  · intro h i z
    cases hb : b.testBit i
    · have := cd_df_mk z hb
      rw [h, Nat.zero_testBit] at this
      exact absurd this (by decide)
    · rfl
  · intro h
    apply Nat.eq_of_testBit_eq
    intro i
    rw [cd_df_t, Nat.zero_testBit]
    cases ha : a.testBit i
    · rfl
    · rw [h i ha]; rfl
theorem cd_nz {a : Nat} (h : a ≠ 0) : ∃ i, a.testBit i = true := Nat.exists_testBit_of_ne_zero h
/-! the Int32 forms -/
theorem cd_btn (a : Nat) {i : Nat} (h : i < 32) : bt (nI a) i = a.testBit i := by
  show (BitVec.ofNat 32 a).getLsbD i = _
  rw [BitVec.getLsbD_ofNat, decide_eq_true h, Bool.true_and]
theorem cd_or (a b : Nat) : nI a ||| nI b = nI (a ||| b) := b_ext fun i hi => by
  rw [b_or, cd_btn a hi, cd_btn b hi, cd_btn _ hi, Nat.testBit_or]
theorem cd_dfI (a b : Nat) : nI a &&& (nI b ^^^ (-1)) = nI (cd_df a b) := b_ext fun i hi => by
  rw [b_and, b_xor, cd_btn a hi, cd_btn b hi, cd_btn _ hi, b_m1 i hi, cd_df_t]
  cases a.testBit i <;> cases b.testBit i <;> rfl
theorem cd_in {X Y : Prop} {x y : Int32} (a b : Nat) (f : cd_Su a b → X) (g : ¬ cd_Su a b → Y) (hx : x = nI a := by rfl) (hy : y = nI b := by rfl) (ha : a < 2 ^ 31 := by omega) : ((x &&& (y ^^^ (-1))) = 0 → X) ∧ (¬ (x &&& (y ^^^ (-1))) = 0 → Y) := by
  subst hx hy
  rw [cd_dfI]
  have := cd_df_le a b
  refine cd_brN _ (by omega) (fun h => f (cd_df0.mp h)) (fun h => g fun z => h (cd_df0.mpr z))
theorem cd_shl1 {a : Nat} (h : a < 31) : (1 : Int32) <<< (nI a &&& 31) = nI (2 ^ a) := by
  have := pk_shlN (n := 1) (nI a &&& 31) a (s_l a (by omega)) (by rw [Nat.one_mul]; exact Nat.pow_lt_pow_right (by decide) (by omega))
  rw [Nat.one_mul] at this
  exact this
theorem cd_bt1 : ∀ j, j < 32 → j ≠ 0 → bt 1 j = false := by decide +kernel
theorem cd_tbE {x y : Int32} {m a : Nat} (hx : x = nI m) (hy : y = nI a) (ha : a < 32) : (x &&& ((1 : Int32) <<< (y &&& 31))) = 0 ↔ m.testBit a = false := by
  subst hx hy
  constructor
  · intro h
    have e := congrArg (fun z => bt z a) h
    rw [b_and, cd_btn m ha, b_shl a ha 1 ha, b_0, Nat.sub_self, decide_eq_true (Nat.le_refl a), show bt 1 0 = true from by decide +kernel, Bool.true_and, Bool.and_true] at e
    exact e
  · intro h
    refine b_ext fun i hi => ?_
    rw [b_and, cd_btn m hi, b_shl a ha 1 hi, b_0]
    by_cases e : i = a
    · subst e; rw [h]; rfl
    · by_cases q : a ≤ i
      · rw [cd_bt1 (i - a) (by omega) (by omega), Bool.and_false, Bool.and_false]
      · rw [decide_eq_false q, Bool.false_and, Bool.and_false]
theorem cd_tb {X Y : Prop} {x y : Int32} (m a : Nat) (f : m.testBit a = false → X) (g : m.testBit a = true → Y) (hx : x = nI m := by rfl) (hy : y = nI a := by rfl) (ha : a < 32 := by omega) : ((x &&& ((1 : Int32) <<< (y &&& 31))) = 0 → X) ∧ (¬ (x &&& ((1 : Int32) <<< (y &&& 31))) = 0 → Y) := by
  have e := cd_tbE hx hy ha
  refine ⟨fun h => f (e.mp h), fun h => g ?_⟩
  cases z : m.testBit a
  · exact absurd (e.mpr z) h
  · rfl
/-! symbols -/
def cd_sy (t a : Nat) : Nat := t / 2 ^ (25 - 5 * a) % 32
def cd_st (t a v : Nat) : Nat := t - cd_sy t a * 2 ^ (25 - 5 * a) + v * 2 ^ (25 - 5 * a)
theorem cd_sy_lt (t a : Nat) : cd_sy t a < 32 := Nat.mod_lt _ (by decide)
theorem cd_6 {a : Nat} (h : a < 6) : a = 0 ∨ a = 1 ∨ a = 2 ∨ a = 3 ∨ a = 4 ∨ a = 5 := by omega
theorem cd_sy_ext {t u : Nat} (ht : t < 2 ^ 30) (hu : u < 2 ^ 30) (h : ∀ a, a < 6 → cd_sy t a = cd_sy u a) : t = u := by
  have h0 : t / 33554432 % 32 = u / 33554432 % 32 := h 0 (by decide)
  have h1 : t / 1048576 % 32 = u / 1048576 % 32 := h 1 (by decide)
  have h2 : t / 32768 % 32 = u / 32768 % 32 := h 2 (by decide)
  have h3 : t / 1024 % 32 = u / 1024 % 32 := h 3 (by decide)
  have h4 : t / 32 % 32 = u / 32 % 32 := h 4 (by decide)
  have h5 : t / 1 % 32 = u / 1 % 32 := h 5 (by decide)
  omega
theorem cd_arith (t d : Nat) (hd : 0 < d) (v : Nat) (hv : v < 32) : (t - t / d % 32 * d + v * d) / d = t / d / 32 * 32 + v ∧ (t - t / d % 32 * d + v * d) % d = t % d := by
  have e : t - t / d % 32 * d + v * d = (t / d / 32 * 32 + v) * d + t % d := by
    have h1 := Nat.div_add_mod' t d
    have h2 := Nat.div_add_mod' (t / d) 32
    have h3 : t / d * d = t / d / 32 * 32 * d + t / d % 32 * d := by rw [← Nat.add_mul, h2]
    rw [Nat.add_mul]
    omega
  rw [e]
  constructor
  · rw [Nat.mul_comm, Nat.mul_add_div hd, Nat.div_eq_of_lt (Nat.mod_lt _ hd), Nat.add_zero]
  · rw [Nat.mul_comm, Nat.mul_add_mod, Nat.mod_mod]
theorem cd_st_s {t a v : Nat} (hv : v < 32) : cd_sy (cd_st t a v) a = v := by
  unfold cd_st
  show (t - t / 2 ^ (25 - 5 * a) % 32 * 2 ^ (25 - 5 * a) + v * 2 ^ (25 - 5 * a)) / 2 ^ (25 - 5 * a) % 32 = v
  rw [(cd_arith t _ (Nat.two_pow_pos _) v hv).1]
  omega
theorem cd_st_lt {t a v : Nat} (ht : t < 2 ^ 30) (ha : a < 6) (hv : v < 32) : cd_st t a v < 2 ^ 30 := by
  unfold cd_st cd_sy
  rcases cd_6 ha with rfl | rfl | rfl | rfl | rfl | rfl <;> simp only [Nat.reduceMul, Nat.reduceSub, Nat.reducePow] <;> omega
theorem cd_st_n {t a b v : Nat} (hv : v < 32) (ha : a < 6) (hb : b < 6) (h : b ≠ a) : cd_sy (cd_st t a v) b = cd_sy t b := by
  rcases cd_6 ha with rfl | rfl | rfl | rfl | rfl | rfl <;> rcases cd_6 hb with rfl | rfl | rfl | rfl | rfl | rfl <;>
    first
    | exact absurd rfl h
    | (unfold cd_st cd_sy; simp only [Nat.reduceMul, Nat.reduceSub, Nat.reducePow]; omega)
theorem cd_sy0 (a : Nat) : cd_sy 0 a = 0 := by unfold cd_sy; rw [Nat.zero_div]
theorem cd_sh {a : Nat} (h : a < 6) : (25 : Int32) - (5 * nI a) = nI (25 - 5 * a) := by
  rw [show (5 : Int32) * nI a = nI (5 * a) from pk_mul 5 a]
  exact pk_sub (a := 25) (by omega)
theorem cd_syI {t a : Nat} (ht : t < 2 ^ 31) (h : a < 6) : (nI t >>> (((25 : Int32) - (5 * nI a)) &&& 31)) &&& 31 = nI (cd_sy t a) := by
  rw [cd_sh h, pk_shrN ht _ (25 - 5 * a) (s_l _ (by omega))]
  exact pk_andN (Nat.lt_of_le_of_lt (Nat.div_le_self _ _) (by omega)) 5 (by decide)
theorem cd_shlI {v a : Nat} (hv : v < 32) (h : a < 6) : nI v <<< (((25 : Int32) - (5 * nI a)) &&& 31) = nI (v * 2 ^ (25 - 5 * a)) := by
  rw [cd_sh h]
  refine pk_shlN _ (25 - 5 * a) (s_l _ (by omega)) ?_
  rcases cd_6 h with rfl | rfl | rfl | rfl | rfl | rfl <;> simp only [Nat.reduceMul, Nat.reduceSub, Nat.reducePow] <;> omega
theorem cd_sy_t (t a i : Nat) : (cd_sy t a).testBit i = (decide (i < 5) && t.testBit (i + (25 - 5 * a))) := by
  show (t / 2 ^ (25 - 5 * a) % 2 ^ 5).testBit i = _
  rw [Nat.testBit_mod_two_pow, Nat.testBit_div_two_pow]
/-! ones and field -/
def cd_onk (m : Nat) : Nat → Nat
  | 0 => 0
  | k + 1 => if m.testBit k then cd_onk m k ||| 2 ^ (25 - 5 * k) else cd_onk m k
def cd_on (m : Nat) : Nat := cd_onk m 6
def cd_fi (m : Nat) : Nat := cd_on m * 31
theorem cd_on_lt : ∀ m, m < 64 → cd_on m < 2 ^ 26 ∧ cd_fi m < 2 ^ 30 := by decide +kernel
theorem cd_on_sy : ∀ m, m < 64 → ∀ a, a < 6 → ∀ v, v < 32 → cd_sy (cd_on m * v) a = if m.testBit a then v else 0 := by decide +kernel
theorem cd_on_v : ∀ m, m < 64 → ∀ v, v < 32 → cd_on m * v < 2 ^ 30 := by
  intro m hm v hv
  have h := (cd_on_lt m hm).2
  unfold cd_fi at h
  exact Nat.lt_of_le_of_lt (Nat.mul_le_mul_left _ (by omega : v ≤ 31)) h
theorem cd_fi_t : ∀ m, m < 64 → ∀ j, j < 30 → (cd_fi m).testBit j = m.testBit (5 - j / 5) := by decide +kernel
theorem cd_agf {t u m : Nat} (hm : m < 64) : (t ^^^ u) &&& cd_fi m = 0 ↔ ∀ a, a < 6 → m.testBit a = true → cd_sy t a = cd_sy u a := by
  constructor
  · intro h a ha hb
    apply Nat.eq_of_testBit_eq
    intro i
    rw [cd_sy_t, cd_sy_t]
    by_cases hi : i < 5
    · have z : ((t ^^^ u) &&& cd_fi m).testBit (i + (25 - 5 * a)) = false := by rw [h, Nat.zero_testBit]
      rw [Nat.testBit_and, Nat.testBit_xor, cd_fi_t m hm _ (by omega), show 5 - (i + (25 - 5 * a)) / 5 = a by omega, hb, Bool.and_true] at z
      revert z
      cases t.testBit (i + (25 - 5 * a)) <;> cases u.testBit (i + (25 - 5 * a)) <;> intro z <;> first | rfl | exact absurd z (by decide)
    · rw [decide_eq_false hi]; rfl
  · intro h
    apply Nat.eq_of_testBit_eq
    intro j
    rw [Nat.testBit_and, Nat.testBit_xor, Nat.zero_testBit]
    by_cases hj : j < 30
    · rw [cd_fi_t m hm j hj]
      cases hb : m.testBit (5 - j / 5)
      · rw [Bool.and_false]
      · have e := congrArg (fun z => Nat.testBit z (j % 5)) (h (5 - j / 5) (by omega) hb)
        rw [cd_sy_t, cd_sy_t, show j % 5 + (25 - 5 * (5 - j / 5)) = j by omega, decide_eq_true (by omega : j % 5 < 5), Bool.true_and, Bool.true_and] at e
        rw [e, Bool.xor_self]; rfl
    · have : (cd_fi m).testBit j = false := Nat.testBit_lt_two_pow (Nat.lt_of_lt_of_le (cd_on_lt m hm).2 (Nat.pow_le_pow_right (by decide) (by omega)))
      rw [this, Bool.and_false]
theorem cd_zf {t m : Nat} (hm : m < 64) : t &&& cd_fi m = 0 ↔ ∀ a, a < 6 → m.testBit a = true → cd_sy t a = 0 := by
  have := cd_agf (t := t) (u := 0) hm
  rw [Nat.xor_zero] at this
  rw [this]
  exact ⟨fun h a ha hb => (h a ha hb).trans (cd_sy0 a), fun h a ha hb => (h a ha hb).trans (cd_sy0 a).symm⟩
theorem cd_p0 {post : Int32 → Prop} {P : Prop} (h : ¬ P) (hp : post (nI (cd_b P))) : post 0 := by rw [cd_0 h] at hp; exact hp
theorem cd_p1 {post : Int32 → Prop} {P : Prop} (h : P) (hp : post (nI (cd_b P))) : post 1 := by rw [cd_1 h] at hp; exact hp
theorem cd_pv {post : Int32 → Prop} {x y : Int32} (h : x = y) (hp : post y) : post x := by rw [h]; exact hp
end
section
/-! the search for the first number that has P -/
noncomputable def cd_sc (P : Nat → Prop) : Nat → Nat → Nat
  | 0, z => z
  | k + 1, z => @ite Nat (P z) (Classical.propDecidable _) z (cd_sc P k (z + 1))
theorem cd_sc_t {P : Nat → Prop} {z : Nat} (h : P z) : ∀ k, cd_sc P k z = z
  | 0 => rfl
  | k + 1 => by unfold cd_sc; rw [if_pos h]
theorem cd_sc_f {P : Nat → Prop} {z k : Nat} (h : ¬ P z) : cd_sc P (k + 1) z = cd_sc P k (z + 1) := by
  show @ite Nat (P z) (Classical.propDecidable _) z (cd_sc P k (z + 1)) = _
  rw [if_neg h]
theorem cd_sc_eq {P : Nat → Prop} {w : Nat} : ∀ k z, z ≤ w → w ≤ z + k → (∀ y, z ≤ y → y < w → ¬ P y) → (w < z + k → P w) → cd_sc P k z = w
  | 0, z, h1, h2, _, _ => by show z = w; omega
  | k + 1, z, h1, h2, h3, h4 => by
    by_cases e : z = w
    · subst e; exact cd_sc_t (h4 (by omega)) _
    · rw [cd_sc_f (h3 z (Nat.le_refl _) (by omega))]
      exact cd_sc_eq k (z + 1) (by omega) (by omega) (fun y hy => h3 y (by omega)) (fun q => h4 (by omega))
theorem cd_sc_congr {P Q : Nat → Prop} : ∀ k z, (∀ y, z ≤ y → y < z + k → (P y ↔ Q y)) → cd_sc P k z = cd_sc Q k z
  | 0, _, _ => rfl
  | k + 1, z, h => by
    by_cases e : P z
    · rw [cd_sc_t e, cd_sc_t ((h z (Nat.le_refl _) (by omega)).mp e)]
    · rw [cd_sc_f e, cd_sc_f (fun q => e ((h z (Nat.le_refl _) (by omega)).mpr q))]
      exact cd_sc_congr k (z + 1) (fun y h1 h2 => h y (by omega) (by omega))
/-! rounds of steps -/
def cd_gr (h : Nat → Nat → Nat) : Nat → Nat → Nat
  | 0, z => z
  | i + 1, z => h i (cd_gr h i z)
def cd_it (h : Nat → Nat → Nat) (c : Nat) : Nat → Nat → Nat
  | 0, z => z
  | k + 1, z => cd_gr h c (cd_it h c k z)
def cd_Ck (h : Nat → Nat → Nat) (c z : Nat) : Prop := ∀ i, i < c → h i z = z
def cd_pc (z : Nat) : Nat := z % 2 + z / 2 % 2 + z / 4 % 2 + z / 8 % 2 + z / 16 % 2 + z / 32 % 2
theorem cd_pc_d : ∀ a, a < 64 → ∀ b, b < 64 → a &&& b = a → a ≠ b → cd_pc a < cd_pc b := by decide +kernel
theorem cd_pc_lt {a b : Nat} (ha : a < 64) (hb : b < 64) (h : cd_Su a b) (e : a ≠ b) : cd_pc a < cd_pc b := cd_pc_d a ha b hb (cd_Su_iff.mp h) e
theorem cd_pc_6 (z : Nat) : cd_pc z ≤ 6 := by unfold cd_pc; omega
def cd_Inf (h : Nat → Nat → Nat) (c al : Nat) : Prop := ∀ i, i < c → ∀ z, z ≤ al → cd_Su z (h i z) ∧ h i z ≤ al
def cd_Mon (h : Nat → Nat → Nat) (c al : Nat) : Prop := ∀ i, i < c → ∀ z w, z ≤ al → w ≤ al → cd_Su z w → h i w = w → cd_Su (h i z) w
section
variable {h : Nat → Nat → Nat} {c al : Nat}
theorem cd_gr_in (H : cd_Inf h c al) {z : Nat} (hz : z ≤ al) : ∀ i, i ≤ c → cd_Su z (cd_gr h i z) ∧ cd_gr h i z ≤ al
  | 0, _ => ⟨cd_Su_rf z, hz⟩
  | i + 1, hi => by
    have a := cd_gr_in H hz i (by omega)
    have b := H i (by omega) _ a.2
    exact ⟨cd_Su_tr a.1 b.1, b.2⟩
theorem cd_gr_mo (H : cd_Inf h c al) {z : Nat} (hz : z ≤ al) (i : Nat) : ∀ d, i + d ≤ c → cd_Su (cd_gr h i z) (cd_gr h (i + d) z)
  | 0, _ => cd_Su_rf _
  | d + 1, hd => cd_Su_tr (cd_gr_mo H hz i d (by omega)) (H (i + d) (by omega) _ (cd_gr_in H hz (i + d) (by omega)).2).1
theorem cd_gr_fix (H : cd_Inf h c al) {z : Nat} (hz : z ≤ al) (e : cd_gr h c z = z) : cd_Ck h c z := by
  have key : ∀ i, i ≤ c → cd_gr h i z = z := fun i hi => by
    have a := cd_gr_in H hz i hi
    have b := cd_gr_mo H hz i (c - i) (by omega)
    rw [show i + (c - i) = c by omega, e] at b
    exact (cd_Su_as a.1 b).symm
  intro i hi
  have a := key i (by omega)
  have b : h i (cd_gr h i z) = z := key (i + 1) (by omega)
  rw [a] at b
  exact b
theorem cd_gr_ck {z : Nat} (e : cd_Ck h c z) : ∀ i, i ≤ c → cd_gr h i z = z
  | 0, _ => rfl
  | i + 1, hi => by show h i (cd_gr h i z) = z; rw [cd_gr_ck e i (by omega)]; exact e i (by omega)
theorem cd_gr_up (H : cd_Inf h c al) (M : cd_Mon h c al) {z w : Nat} (hz : z ≤ al) (hw : w ≤ al) (s : cd_Su z w) (e : cd_Ck h c w) : ∀ i, i ≤ c → cd_Su (cd_gr h i z) w
  | 0, _ => s
  | i + 1, hi => M i (by omega) _ w (cd_gr_in H hz i (by omega)).2 hw (cd_gr_up H M hz hw s e i (by omega)) (e i (by omega))
theorem cd_it_in (H : cd_Inf h c al) {x : Nat} (hx : x ≤ al) : ∀ k, cd_Su x (cd_it h c k x) ∧ cd_it h c k x ≤ al
  | 0 => ⟨cd_Su_rf x, hx⟩
  | k + 1 => by
    have a := cd_it_in H hx k
    have b := cd_gr_in H a.2 c (Nat.le_refl _)
    exact ⟨cd_Su_tr a.1 b.1, b.2⟩
theorem cd_it_up (H : cd_Inf h c al) (M : cd_Mon h c al) {x w : Nat} (hx : x ≤ al) (hw : w ≤ al) (s : cd_Su x w) (e : cd_Ck h c w) : ∀ k, cd_Su (cd_it h c k x) w
  | 0 => s
  | k + 1 => cd_gr_up H M (cd_it_in H hx k).2 hw (cd_it_up H M hx hw s e k) e c (Nat.le_refl _)
theorem cd_it_pc (H : cd_Inf h c al) (hal : al < 64) {x : Nat} (hx : x ≤ al) : ∀ k, cd_Ck h c (cd_it h c k x) ∨ k ≤ cd_pc (cd_it h c k x)
  | 0 => Or.inr (Nat.zero_le _)
  | k + 1 => by
    have a := cd_it_in H hx k
    have b := cd_gr_in H a.2 c (Nat.le_refl _)
    by_cases e : cd_gr h c (cd_it h c k x) = cd_it h c k x
    · left
      show cd_Ck h c (cd_gr h c (cd_it h c k x))
      rw [e]
      exact cd_gr_fix H a.2 e
    · rcases cd_it_pc H hal hx k with q | q
      · exact absurd (cd_gr_ck q c (Nat.le_refl _)) e
      · right
        have := cd_pc_lt (by omega) (by omega) b.1 (Ne.symm e)
        show k + 1 ≤ cd_pc (cd_gr h c (cd_it h c k x))
        omega
theorem cd_it_ck (H : cd_Inf h c al) (hal : al < 64) {x : Nat} (hx : x ≤ al) : cd_Ck h c (cd_it h c 6 x) := by
  have a := cd_it_in H hx 6
  by_cases e : cd_gr h c (cd_it h c 6 x) = cd_it h c 6 x
  · exact cd_gr_fix H a.2 e
  · rcases cd_it_pc H hal hx 6 with q | q
    · exact q
    · have b := cd_gr_in H a.2 c (Nat.le_refl _)
      have := cd_pc_lt (by omega) (by omega) b.1 (Ne.symm e)
      have := cd_pc_6 (cd_gr h c (cd_it h c 6 x))
      omega
theorem cd_it_sc (H : cd_Inf h c al) (M : cd_Mon h c al) (hal : al < 64) {x : Nat} (hx : x ≤ al) : cd_it h c 6 x = cd_sc (fun z => cd_Su x z ∧ cd_Ck h c z) (al - x) x := by
  have a := cd_it_in H hx 6
  have k := cd_it_ck H hal hx
  refine (cd_sc_eq (al - x) x (cd_Su_le a.1) (by omega) (fun y h1 h2 q => ?_) (fun _ => ⟨a.1, k⟩)).symm
  have := cd_Su_le (cd_it_up H M hx (by omega) q.1 q.2 6)
  omega
end
/-! the closure under functional dependencies -/
noncomputable def cd_hF (L R : Nat → Nat) (i z : Nat) : Nat := @ite Nat (cd_Su (L i) z) (Classical.propDecidable _) (z ||| R i) z
theorem cd_hF_t {L R : Nat → Nat} {i z : Nat} (e : cd_Su (L i) z) : cd_hF L R i z = z ||| R i := by unfold cd_hF; rw [if_pos e]
theorem cd_hF_f {L R : Nat → Nat} {i z : Nat} (e : ¬ cd_Su (L i) z) : cd_hF L R i z = z := by unfold cd_hF; rw [if_neg e]
theorem cd_hF_ck {L R : Nat → Nat} {i z : Nat} : cd_hF L R i z = z ↔ (cd_Su (L i) z → cd_Su (R i) z) := by
  by_cases e : cd_Su (L i) z
  · rw [cd_hF_t e]; exact ⟨fun h _ => cd_Su_oreq.mpr h, fun h => cd_Su_oreq.mp (h e)⟩
  · rw [cd_hF_f e]; exact ⟨fun _ h => absurd h e, fun _ => rfl⟩
/-- the number of attributes and the mask of all -/
def cd_N (n al : Nat) : Prop := 2 ≤ n ∧ n ≤ 6 ∧ al + 1 = 2 ^ n
theorem cd_N_al {n al : Nat} (h : cd_N n al) : al < 64 ∧ 3 ≤ al := by
  obtain ⟨h1, h2, h3⟩ := h
  rcases (by omega : n = 2 ∨ n = 3 ∨ n = 4 ∨ n = 5 ∨ n = 6) with rfl | rfl | rfl | rfl | rfl <;> simp only [Nat.reducePow] at h3 <;> omega
theorem cd_N_le {n al z : Nat} (h : cd_N n al) : z ≤ al ↔ z < 2 ^ n := by
  obtain ⟨h1, h2, h3⟩ := h; omega
theorem cd_N_Su {n al z : Nat} (h : cd_N n al) : z ≤ al ↔ cd_Su z al := by
  rw [cd_N_le h]
  have e : al = 2 ^ n - 1 := by have := h.2.2; omega
  constructor
  · intro q; rw [e]; exact cd_Su_all q
  · intro q; have := cd_Su_le q; have := h.2.2; omega
theorem cd_N_or {n al z w : Nat} (h : cd_N n al) (a : z ≤ al) (b : w ≤ al) : z ||| w ≤ al :=
  (cd_N_Su h).mpr (cd_Su_or ((cd_N_Su h).mp a) ((cd_N_Su h).mp b))
theorem cd_N_bit {n al z i : Nat} (h : cd_N n al) (a : z ≤ al) (b : z.testBit i = true) : i < n := cd_bitlt ((cd_N_le h).mp a) b
theorem cd_N_pow {n al a : Nat} (h : cd_N n al) (ha : a < n) : 2 ^ a ≤ al := by
  have : 2 ^ a < 2 ^ n := Nat.pow_lt_pow_right (by decide) ha
  have := h.2.2
  omega
theorem cd_N_tb {n al a : Nat} (h : cd_N n al) : al.testBit a = decide (a < n) := by
  have e : al = 2 ^ n - 1 := by have := h.2.2; omega
  rw [e, Nat.testBit_two_pow_sub_one]
def cd_FD (al c : Nat) (L R : Nat → Nat) : Prop := ∀ i, i < c → L i ≤ al ∧ R i ≤ al
theorem cd_hF_inf {n al c : Nat} {L R : Nat → Nat} (h : cd_N n al) (F : ∀ i, i < c → R i ≤ al) : cd_Inf (cd_hF L R) c al := by
  intro i hi z hz
  by_cases e : cd_Su (L i) z
  · rw [cd_hF_t e]; exact ⟨cd_Su_orl _ _, cd_N_or h hz (F i hi)⟩
  · rw [cd_hF_f e]; exact ⟨cd_Su_rf _, hz⟩
theorem cd_hF_mon {al c : Nat} {L R : Nat → Nat} : cd_Mon (cd_hF L R) c al := by
  intro i hi z w hz hw s q
  rw [cd_hF_ck] at q
  by_cases e : cd_Su (L i) z
  · rw [cd_hF_t e]; exact cd_Su_or s (q (cd_Su_tr e s))
  · rw [cd_hF_f e]; exact s
def cd_FC (L R : Nat → Nat) (c z : Nat) : Prop := ∀ i, i < c → cd_Su (L i) z → cd_Su (R i) z
theorem cd_FC_ck {L R : Nat → Nat} {c z : Nat} : cd_Ck (cd_hF L R) c z ↔ cd_FC L R c z :=
  ⟨fun h i hi => cd_hF_ck.mp (h i hi), fun h i hi => cd_hF_ck.mpr (h i hi)⟩
noncomputable def cd_cl (al : Nat) (L R : Nat → Nat) (c x : Nat) : Nat := cd_sc (fun z => cd_Su x z ∧ cd_FC L R c z) (al - x) x
theorem cd_cl_it {n al c x : Nat} {L R : Nat → Nat} (h : cd_N n al) (F : ∀ i, i < c → R i ≤ al) (hx : x ≤ al) : cd_it (cd_hF L R) c 6 x = cd_cl al L R c x := by
  rw [cd_it_sc (cd_hF_inf h F) cd_hF_mon (cd_N_al h).1 hx]
  exact cd_sc_congr _ _ (fun y _ _ => by rw [cd_FC_ck])
section
variable {n al c x : Nat} {L R : Nat → Nat}
theorem cd_cl_ext (h : cd_N n al) (F : ∀ i, i < c → R i ≤ al) (hx : x ≤ al) : cd_Su x (cd_cl al L R c x) := by
  rw [← cd_cl_it h F hx]; exact (cd_it_in (cd_hF_inf h F) hx 6).1
theorem cd_cl_le (h : cd_N n al) (F : ∀ i, i < c → R i ≤ al) (hx : x ≤ al) : cd_cl al L R c x ≤ al := by
  rw [← cd_cl_it h F hx]; exact (cd_it_in (cd_hF_inf h F) hx 6).2
theorem cd_cl_clo (h : cd_N n al) (F : ∀ i, i < c → R i ≤ al) (hx : x ≤ al) : cd_FC L R c (cd_cl al L R c x) := by
  rw [← cd_cl_it h F hx, ← cd_FC_ck]; exact cd_it_ck (cd_hF_inf h F) (cd_N_al h).1 hx
theorem cd_cl_min (h : cd_N n al) (F : ∀ i, i < c → R i ≤ al) (hx : x ≤ al) {w : Nat} (hw : w ≤ al) (s : cd_Su x w) (e : cd_FC L R c w) : cd_Su (cd_cl al L R c x) w := by
  rw [← cd_cl_it h F hx]; exact cd_it_up (cd_hF_inf h F) cd_hF_mon hx hw s (cd_FC_ck.mpr e) 6
theorem cd_cl_mono (h : cd_N n al) (F : ∀ i, i < c → R i ≤ al) {y : Nat} (hy : y ≤ al) (s : cd_Su x y) : cd_Su (cd_cl al L R c x) (cd_cl al L R c y) := by
  have hx : x ≤ al := Nat.le_trans (cd_Su_le s) hy
  exact cd_cl_min h F hx (cd_cl_le h F hy) (cd_Su_tr s (cd_cl_ext h F hy)) (cd_cl_clo h F hy)
end
/-! the closure of preservation: G is a monotone closure function on masks, D the parts -/
def cd_hP (G D : Nat → Nat) (i z : Nat) : Nat := z ||| (G (D i &&& z) &&& D i)
def cd_Mo (al : Nat) (G : Nat → Nat) : Prop := ∀ x y, y ≤ al → cd_Su x y → cd_Su (G x) (G y)
theorem cd_hP_inf {n al c : Nat} {G D : Nat → Nat} (h : cd_N n al) (F : ∀ i, i < c → D i ≤ al) : cd_Inf (cd_hP G D) c al := by
  intro i hi z hz
  exact ⟨cd_Su_orl _ _, cd_N_or h hz (Nat.le_trans Nat.and_le_right (F i hi))⟩
theorem cd_hP_ck {G D : Nat → Nat} {i z : Nat} : cd_hP G D i z = z ↔ cd_Su (G (D i &&& z) &&& D i) z := cd_Su_oreq.symm
theorem cd_hP_mon {n al c : Nat} {G D : Nat → Nat} (h : cd_N n al) (F : ∀ i, i < c → D i ≤ al) (M : cd_Mo al G) : cd_Mon (cd_hP G D) c al := by
  intro i hi z w hz hw s q
  rw [cd_hP_ck] at q
  refine cd_Su_or s (cd_Su_tr ?_ q)
  have m := M (D i &&& z) (D i &&& w) (Nat.le_trans Nat.and_le_left (F i hi)) (cd_Su_and (cd_Su_andl _ _) (cd_Su_tr (cd_Su_andr _ _) s))
  exact cd_Su_and (cd_Su_tr (cd_Su_andl _ _) m) (cd_Su_andr _ _)
def cd_PC (G D : Nat → Nat) (al c z : Nat) : Prop := ∀ i, i < c → ∀ w, w ≤ al → cd_Su w (D i &&& z) → cd_Su (G w &&& D i) z
theorem cd_PC_ck {n al c z : Nat} {G D : Nat → Nat} (h : cd_N n al) (F : ∀ i, i < c → D i ≤ al) (M : cd_Mo al G) : cd_Ck (cd_hP G D) c z ↔ cd_PC G D al c z := by
  constructor
  · intro q i hi w hw s
    refine cd_Su_tr (cd_Su_and (cd_Su_tr (cd_Su_andl _ _) ?_) (cd_Su_andr _ _)) (cd_hP_ck.mp (q i hi))
    exact M w _ (Nat.le_trans Nat.and_le_left (F i hi)) s
  · intro q i hi
    exact cd_hP_ck.mpr (q i hi (D i &&& z) (Nat.le_trans Nat.and_le_left (F i hi)) (cd_Su_rf _))
noncomputable def cd_pr (al : Nat) (G D : Nat → Nat) (c x : Nat) : Nat := cd_sc (fun z => cd_Su x z ∧ cd_PC G D al c z) (al - x) x
theorem cd_pr_it {n al c x : Nat} {G D : Nat → Nat} (h : cd_N n al) (F : ∀ i, i < c → D i ≤ al) (M : cd_Mo al G) (hx : x ≤ al) : cd_it (cd_hP G D) c 6 x = cd_pr al G D c x := by
  rw [cd_it_sc (cd_hP_inf h F) (cd_hP_mon h F M) (cd_N_al h).1 hx]
  exact cd_sc_congr _ _ (fun y _ _ => by rw [cd_PC_ck h F M])
end
section
/-! counting -/
noncomputable def cd_cn (P : Nat → Prop) : Nat → Nat
  | 0 => 0
  | k + 1 => cd_cn P k + cd_b (P k)
theorem cd_bmono {P Q : Prop} (h : P → Q) : cd_b P ≤ cd_b Q := by
  rcases Classical.em P with hp | hp
  · rw [cd_bt hp, cd_bt (h hp)]; exact Nat.le_refl _
  · rw [cd_bf hp]; exact Nat.zero_le _
theorem cd_cn_mono {P Q : Nat → Prop} : ∀ {N : Nat}, (∀ k, k < N → P k → Q k) → cd_cn P N ≤ cd_cn Q N
  | 0, _ => Nat.le_refl _
  | N + 1, h => by
    have a := cd_cn_mono (P := P) (Q := Q) (N := N) (fun k hk => h k (by omega))
    have b := cd_bmono (h N (by omega))
    simp only [cd_cn]; omega
theorem cd_cn_lt {P Q : Nat → Prop} {a : Nat} (hp : ¬ P a) (hq : Q a) : ∀ {N : Nat}, (∀ k, k < N → P k → Q k) → a < N → cd_cn P N < cd_cn Q N
  | 0, _, h => by omega
  | N + 1, h, ha => by
    simp only [cd_cn]
    rcases Nat.lt_or_ge a N with z | z
    · have x := cd_cn_lt hp hq (N := N) (fun k hk => h k (by omega)) z
      have b := cd_bmono (h N (by omega))
      omega
    · have e : a = N := by omega
      subst e
      have x := cd_cn_mono (P := P) (Q := Q) (N := a) (fun k hk => h k (by omega))
      rw [cd_bt hq, cd_bf hp]; omega
theorem cd_cn_le (P : Nat → Prop) : ∀ N, cd_cn P N ≤ N
  | 0 => Nat.le_refl _
  | N + 1 => by have := cd_cn_le P N; have := cd_ble (P N); simp only [cd_cn]; omega
theorem cd_cn_eq {P Q : Nat → Prop} {N : Nat} (h : ∀ k, k < N → (P k ↔ Q k)) : cd_cn P N = cd_cn Q N :=
  Nat.le_antisymm (cd_cn_mono fun k hk => (h k hk).mp) (cd_cn_mono fun k hk => (h k hk).mpr)
theorem cd_cn_up {P : Nat → Prop} {a : Nat} : ∀ {b : Nat}, a ≤ b → cd_cn P a ≤ cd_cn P b
  | 0, h => by rw [Nat.le_zero.mp h]; exact Nat.le_refl _
  | b + 1, h => by
    by_cases e : a = b + 1
    · subst e; exact Nat.le_refl _
    · have := cd_cn_up (P := P) (a := a) (b := b) (by omega)
      simp only [cd_cn]; omega
theorem cd_cn_s {P : Nat → Prop} {a : Nat} (h : P a) : cd_cn P (a + 1) = cd_cn P a + 1 := by
  show cd_cn P a + cd_b (P a) = _; rw [cd_bt h]
theorem cd_cn_ns {P : Nat → Prop} {a : Nat} (h : ¬ P a) : cd_cn P (a + 1) = cd_cn P a := by
  show cd_cn P a + cd_b (P a) = _; rw [cd_bf h]; rfl
theorem cd_cn_skip {P : Nat → Prop} {a : Nat} : ∀ d, (∀ j, a ≤ j → j < a + d → ¬ P j) → cd_cn P (a + d) = cd_cn P a
  | 0, _ => rfl
  | d + 1, h => by
    rw [← Nat.add_assoc, cd_cn_ns (h (a + d) (by omega) (by omega))]
    exact cd_cn_skip d (fun j h1 h2 => h j h1 (by omega))
theorem cd_php : ∀ (N c : Nat) (φ : Nat → Nat), (∀ i, i < c → φ i < N) → (∀ i j, i < j → j < c → φ i ≠ φ j) → c ≤ N
  | 0, c, φ, h, _ => by
    rcases Nat.eq_zero_or_pos c with e | e
    · omega
    · exact absurd (h 0 e) (by omega)
  | N + 1, 0, _, _, _ => by omega
  | N + 1, c + 1, φ, h, g => by
    have := cd_php N c (fun i => if φ i = N then φ c else φ i) (fun i hi => by
      have a := h i (by omega)
      have b := h c (by omega)
      have d := g i c hi (by omega)
      split <;> omega) (fun i j hij hj => by
      have a := g i j hij (by omega)
      have b := g i c (by omega) (by omega)
      have d := g j c (by omega) (by omega)
      split <;> split <;> omega)
    omega
/-! sets of rows in arrays -/
def cd_Set (A : Nat → Nat) (c t : Nat) : Prop := ∃ i, i < c ∧ A i = t
def cd_Srt (A : Nat → Nat) (c : Nat) : Prop := ∀ i j, i < j → j < c → A i < A j
def cd_Dst (A : Nat → Nat) (c : Nat) : Prop := ∀ i j, i < j → j < c → A i ≠ A j
theorem cd_srt_dst {A : Nat → Nat} {c : Nat} (h : cd_Srt A c) : cd_Dst A c := fun i j hij hj => Nat.ne_of_lt (h i j hij hj)
theorem cd_srt_half {A B : Nat → Nat} {c d : Nat} (hA : cd_Srt A c) (hB : cd_Srt B d) (s : ∀ t, cd_Set A c t → cd_Set B d t) (i : Nat) (ih : ∀ j, j < i → j < c → A j = B j) (hi : i < c) : i < d ∧ B i ≤ A i := by
  obtain ⟨k, hk, e⟩ := s (A i) ⟨i, hi, rfl⟩
  have hki : i ≤ k := by
    refine Nat.le_of_not_lt fun q => ?_
    have a := ih k q (by omega)
    have b := hA k i q hi
    omega
  refine ⟨by omega, ?_⟩
  rcases Nat.eq_or_lt_of_le hki with q | q
  · subst q; omega
  · have := hB i k q hk; omega
theorem cd_srt_eq {A B : Nat → Nat} {c d : Nat} (hA : cd_Srt A c) (hB : cd_Srt B d) (s : ∀ t, cd_Set A c t ↔ cd_Set B d t) : c = d ∧ ∀ i, i < c → A i = B i := by
  have key : ∀ m i, i < m → (i < c → i < d ∧ A i = B i) ∧ (i < d → i < c) := by
    intro m
    induction m with
    | zero => intro i h; omega
    | succ m ih =>
      intro i him
      have l1 : i < c → i < d ∧ B i ≤ A i := cd_srt_half hA hB (fun t => (s t).mp) i (fun j hj hc => ((ih j (by omega)).1 hc).2)
      have l2 : i < d → i < c ∧ A i ≤ B i := cd_srt_half hB hA (fun t => (s t).mpr) i (fun j hj hd => ((ih j (by omega)).1 ((ih j (by omega)).2 hd)).2.symm)
      exact ⟨fun h => ⟨(l1 h).1, Nat.le_antisymm (l2 (l1 h).1).2 (l1 h).2⟩, fun h => (l2 h).1⟩
  refine ⟨?_, fun i hi => ((key (i + 1) i (by omega)).1 hi).2⟩
  have a : ¬ c < d := fun q => by have := (key (c + 1) c (by omega)).2 q; omega
  have b : ¬ d < c := fun q => by have := ((key (d + 1) d (by omega)).1 q).1; omega
  omega
/-! rows -/
def cd_Ok (n t : Nat) : Prop := t < 2 ^ 30 ∧ ∀ a, a < 6 → cd_sy t a ≤ 20 ∧ (n ≤ a → cd_sy t a = 0)
theorem cd_Ok_ext {n t u : Nat} (ht : cd_Ok n t) (hu : cd_Ok n u) (h : ∀ a, a < n → cd_sy t a = cd_sy u a) : t = u := by
  refine cd_sy_ext ht.1 hu.1 fun a ha => ?_
  rcases Nat.lt_or_ge a n with q | q
  · exact h a q
  · rw [(ht.2 a ha).2 q, (hu.2 a ha).2 q]
def cd_ag (n x t u : Nat) : Prop := ∀ a, a < n → x.testBit a = true → cd_sy t a = cd_sy u a
theorem cd_ag_sym {n x t u : Nat} (h : cd_ag n x t u) : cd_ag n x u t := fun a ha hb => (h a ha hb).symm
def cd_rp (b p q t : Nat) : Nat := if cd_sy t b = q then cd_st t b p else t
theorem cd_rp_t {b p q t : Nat} (h : cd_sy t b = q) : cd_rp b p q t = cd_st t b p := if_pos h
theorem cd_rp_f {b p q t : Nat} (h : cd_sy t b ≠ q) : cd_rp b p q t = t := if_neg h
theorem cd_rp_b {b p q t : Nat} (hp : p < 32) (h : cd_sy t b = q) : cd_sy (cd_rp b p q t) b = p := by
  rw [cd_rp_t h, cd_st_s hp]
theorem cd_rp_n {a b p q t : Nat} (hp : p < 32) (ha : a < 6) (hb : b < 6) (h : a ≠ b) : cd_sy (cd_rp b p q t) a = cd_sy t a := by
  by_cases e : cd_sy t b = q
  · rw [cd_rp_t e, cd_st_n hp hb ha h]
  · rw [cd_rp_f e]
/-! models and the invariant of a chase -/
def cd_ClF (n fc : Nat) (L R : Nat → Nat) (G : Nat → Prop) : Prop := ∀ f, f < fc → ∀ u w, G u → G w → cd_ag n (L f) u w → cd_ag n (R f) u w
def cd_ClJ (n jc : Nat) (Z P : Nat → Nat) (G : Nat → Prop) : Prop := ∀ d, d < jc → ∀ ρ : Nat → Nat, (∀ p, p < Z d → ∃ u, G u ∧ ∀ a, a < n → (P (d * 4 + p)).testBit a = true → cd_sy u a = ρ a) → ∃ u, G u ∧ ∀ a, a < n → cd_sy u a = ρ a
def cd_Im (n : Nat) (g : Nat → Nat → Nat) (t : Nat) (G : Nat → Prop) : Prop := ∃ w, G w ∧ ∀ a, a < n → cd_sy w a = g a (cd_sy t a)
def cd_Mod (n fc jc : Nat) (L R Z P : Nat → Nat) (T0 G : Nat → Prop) (g : Nat → Nat → Nat) : Prop := cd_ClF n fc L R G ∧ cd_ClJ n jc Z P G ∧ ∀ t, T0 t → cd_Im n g t G
def cd_Inv (n fc jc : Nat) (L R Z P : Nat → Nat) (T0 : Nat → Prop) (h : Nat → Nat → Nat) (T : Nat → Prop) : Prop :=
  (∀ t, T0 t → cd_Im n h t T) ∧ (∀ u, T u → cd_Ok n u ∧ ∀ a, a < n → h a (cd_sy u a) = cd_sy u a) ∧ (∀ a s, h a s ≤ s) ∧
  (∀ G g, cd_Mod n fc jc L R Z P T0 G g → (∀ a, a < n → ∀ s, g a (h a s) = g a s) ∧ ∀ u, T u → cd_Im n g u G) ∧
  (∀ u, T u → ∀ a, a < n → ∃ t, T0 t ∧ cd_sy t a = cd_sy u a)
noncomputable def cd_fx (h : Nat → Nat → Nat) : Nat := cd_cn (fun k => h (k / 21) (k % 21) = k % 21) 126
def cd_CS (n fc jc : Nat) (L R Z P : Nat → Nat) (T0 : Nat → Prop) (μ : Nat) (T : Nat → Prop) : Prop := ∃ h, cd_Inv n fc jc L R Z P T0 h T ∧ cd_fx h ≤ μ
section
variable {n fc jc : Nat} {L R Z P : Nat → Nat} {T0 T T1 T2 : Nat → Prop} {h h1 h2 : Nat → Nat → Nat} {μ : Nat}
theorem cd_uniq (I1 : cd_Inv n fc jc L R Z P T0 h1 T1) (I2 : cd_Inv n fc jc L R Z P T0 h2 T2) (F1 : cd_ClF n fc L R T1) (J1 : cd_ClJ n jc Z P T1) (F2 : cd_ClF n fc L R T2) (J2 : cd_ClJ n jc Z P T2) (t : Nat) : T1 t → T2 t := by
  intro ht
  obtain ⟨a1, b1, c1, d1, -⟩ := I1
  obtain ⟨a2, b2, c2, d2, -⟩ := I2
  have A := d2 T1 h1 ⟨F1, J1, a1⟩
  have B := d1 T2 h2 ⟨F2, J2, a2⟩
  have e : ∀ a, a < n → ∀ s, h1 a s = h2 a s := fun a ha s => by
    have x := A.1 a ha s
    have y := B.1 a ha s
    have p := c1 a (h2 a s)
    have q := c2 a (h1 a s)
    omega
  obtain ⟨w, hw, ew⟩ := B.2 t ht
  have : w = t := cd_Ok_ext (b2 w hw).1 (b1 t ht).1 fun a ha => by
    rw [ew a ha, ← e a ha]; exact (b1 t ht).2 a ha
  rw [← this]; exact hw
theorem cd_CS_uniq {μ1 μ2 : Nat} (I1 : cd_CS n fc jc L R Z P T0 μ1 T1) (I2 : cd_CS n fc jc L R Z P T0 μ2 T2) (F1 : cd_ClF n fc L R T1) (J1 : cd_ClJ n jc Z P T1) (F2 : cd_ClF n fc L R T2) (J2 : cd_ClJ n jc Z P T2) (t : Nat) : T1 t ↔ T2 t := by
  obtain ⟨_, i1, -⟩ := I1
  obtain ⟨_, i2, -⟩ := I2
  exact ⟨cd_uniq i1 i2 F1 J1 F2 J2 t, cd_uniq i2 i1 F2 J2 F1 J1 t⟩
theorem cd_CS_init (hO : ∀ t, T0 t → cd_Ok n t) : cd_CS n fc jc L R Z P T0 126 T0 :=
  ⟨fun _ s => s, ⟨fun t ht => ⟨t, ht, fun _ _ => rfl⟩, fun u hu => ⟨hO u hu, fun _ _ => rfl⟩, fun _ _ => Nat.le_refl _,
    fun G g M => ⟨fun _ _ _ => rfl, M.2.2⟩, fun u hu a _ => ⟨u, hu, rfl⟩⟩, cd_cn_le _ _⟩
theorem cd_CS_congr {T' : Nat → Prop} (e : ∀ t, T t ↔ T' t) (I : cd_CS n fc jc L R Z P T0 μ T) : cd_CS n fc jc L R Z P T0 μ T' := by
  have : T = T' := funext fun t => propext (e t)
  rw [← this]; exact I
theorem cd_CS_congr0 {T0' : Nat → Prop} (e : ∀ t, T0 t ↔ T0' t) (I : cd_CS n fc jc L R Z P T0 μ T) : cd_CS n fc jc L R Z P T0' μ T := by
  have : T0 = T0' := funext fun t => propext (e t)
  rw [← this]; exact I
theorem cd_CS_ok (I : cd_CS n fc jc L R Z P T0 μ T) {u : Nat} (hu : T u) : cd_Ok n u := by
  obtain ⟨h, i, -⟩ := I
  exact (i.2.1 u hu).1
theorem cd_CS_sy (I : cd_CS n fc jc L R Z P T0 μ T) {u a : Nat} (hu : T u) (ha : a < n) : ∃ t, T0 t ∧ cd_sy t a = cd_sy u a := by
  obtain ⟨h, i, -⟩ := I
  exact i.2.2.2.2 u hu a ha
theorem cd_CS_0 (I : cd_CS n fc jc L R Z P T0 μ T) {a : Nat} (ha : a < n) (z : ∃ t, T0 t ∧ cd_sy t a = 0) : ∃ t, T t ∧ cd_sy t a = 0 := by
  obtain ⟨h, i, -⟩ := I
  obtain ⟨t, ht, e⟩ := z
  obtain ⟨w, hw, ew⟩ := i.1 t ht
  refine ⟨w, hw, ?_⟩
  have := i.2.2.1 a (cd_sy t a)
  rw [ew a ha]; omega
theorem cd_merge (hn : n ≤ 6) {b f p q u w : Nat} (hb : b < n) (hf : f < fc) (hu : T u) (hw : T w) (hag : cd_ag n (L f) u w) (hR : (R f).testBit b = true) (ep : cd_sy u b = p) (eq : cd_sy w b = q) (hpq : p < q)
    (I : cd_CS n fc jc L R Z P T0 μ T) : 1 ≤ μ ∧ cd_CS n fc jc L R Z P T0 (μ - 1) (fun t => ∃ s, T s ∧ t = cd_rp b p q s) := by
  obtain ⟨h, ⟨ia, ib, ic, id, ie⟩, hx⟩ := I
  have ou := ib u hu
  have ow := ib w hw
  have hp20 : p ≤ 20 := ep ▸ (ou.1.2 b (by omega)).1
  have hq20 : q ≤ 20 := eq ▸ (ow.1.2 b (by omega)).1
  have fp : h b p = p := ep ▸ ou.2 b hb
  have fq : h b q = q := eq ▸ ow.2 b hb
  let h' : Nat → Nat → Nat := fun a s => if a = b ∧ h a s = q then p else h a s
  have h't : ∀ s, h b s = q → h' b s = p := fun s e => if_pos ⟨rfl, e⟩
  have h'f : ∀ s, h b s ≠ q → h' b s = h b s := fun s e => if_neg fun z => e z.2
  have h'n : ∀ a s, a ≠ b → h' a s = h a s := fun a s e => if_neg fun z => e z.1
  have hlt : cd_fx h' < cd_fx h := by
    refine cd_cn_lt (a := b * 21 + q) ?_ ?_ (fun k hk => ?_) (by omega)
    · rw [show (b * 21 + q) / 21 = b by omega, show (b * 21 + q) % 21 = q by omega, h't q fq]; omega
    · rw [show (b * 21 + q) / 21 = b by omega, show (b * 21 + q) % 21 = q by omega]; exact fq
    · intro z
      by_cases e : k / 21 = b
      · rw [e] at z ⊢
        by_cases g : h b (k % 21) = q
        · rw [h't _ g] at z
          rw [← z, fp] at g
          omega
        · rw [h'f _ g] at z; exact z
      · rw [h'n _ _ e] at z; exact z
  refine ⟨by omega, h', ⟨fun t ht => ?_, fun t ht => ?_, fun a s => ?_, fun G g M => ?_, fun t ht a ha => ?_⟩, by omega⟩
  · obtain ⟨s, hs, es⟩ := ia t ht
    refine ⟨cd_rp b p q s, ⟨s, hs, rfl⟩, fun a ha => ?_⟩
    by_cases e : a = b
    · subst e
      by_cases g : cd_sy s a = q
      · rw [cd_rp_b (by omega) g, h't _ (by rw [← es a ha]; exact g)]
      · rw [cd_rp_f g, h'f _ (by rw [← es a ha]; exact g)]; exact es a ha
    · rw [cd_rp_n (by omega) (by omega) (by omega) e, h'n _ _ e]; exact es a ha
  · obtain ⟨s, hs, rfl⟩ := ht
    have os := ib s hs
    refine ⟨⟨?_, fun a ha => ?_⟩, fun a ha => ?_⟩
    · by_cases g : cd_sy s b = q
      · rw [cd_rp_t g]; exact cd_st_lt os.1.1 (by omega) (by omega)
      · rw [cd_rp_f g]; exact os.1.1
    · by_cases e : a = b
      · subst e
        by_cases g : cd_sy s a = q
        · rw [cd_rp_b (by omega) g]; exact ⟨hp20, fun z => by omega⟩
        · rw [cd_rp_f g]; exact os.1.2 a ha
      · rw [cd_rp_n (by omega) ha (by omega) e]; exact os.1.2 a ha
    · by_cases e : a = b
      · subst e
        by_cases g : cd_sy s a = q
        · rw [cd_rp_b (by omega) g, h'f _ (by rw [fp]; omega), fp]
        · rw [cd_rp_f g, h'f _ (by rw [os.2 a ha]; exact g)]; exact os.2 a ha
      · rw [cd_rp_n (by omega) (by omega) (by omega) e, h'n _ _ e]; exact os.2 a ha
  · have c := ic a s
    by_cases e : a = b
    · subst e
      by_cases g : h a s = q
      · rw [h't _ g]; omega
      · rw [h'f _ g]; exact c
    · rw [h'n _ _ e]; exact c
  · have A := id G g M
    obtain ⟨u1, hu1, eu1⟩ := A.2 u hu
    obtain ⟨w1, hw1, ew1⟩ := A.2 w hw
    have gpq : g b p = g b q := by
      have := M.1 f hf u1 w1 hu1 hw1 (fun a ha hL => by rw [eu1 a ha, ew1 a ha, hag a ha hL]) b hb hR
      rw [eu1 b hb, ew1 b hb, ep, eq] at this
      exact this
    refine ⟨fun a ha s => ?_, fun t ht => ?_⟩
    · by_cases e : a = b
      · subst e
        by_cases k : h a s = q
        · rw [h't _ k, gpq, ← k]; exact A.1 a ha s
        · rw [h'f _ k]; exact A.1 a ha s
      · rw [h'n _ _ e]; exact A.1 a ha s
    · obtain ⟨s, hs, rfl⟩ := ht
      obtain ⟨x, hx, ex⟩ := A.2 s hs
      refine ⟨x, hx, fun a ha => ?_⟩
      by_cases e : a = b
      · subst e
        by_cases k : cd_sy s a = q
        · rw [cd_rp_b (by omega) k, gpq, ← k]; exact ex a ha
        · rw [cd_rp_f k]; exact ex a ha
      · rw [cd_rp_n (by omega) (by omega) (by omega) e]; exact ex a ha
  · obtain ⟨s, hs, rfl⟩ := ht
    by_cases e : a = b
    · subst e
      by_cases g : cd_sy s a = q
      · rw [cd_rp_b (by omega) g]
        obtain ⟨t, h1, h2⟩ := ie u hu a ha
        exact ⟨t, h1, h2.trans ep⟩
      · rw [cd_rp_f g]; exact ie s hs a ha
    · rw [cd_rp_n (by omega) (by omega) (by omega) e]; exact ie s hs a ha
theorem cd_addrow (hn : n ≤ 6) {d t : Nat} (hd : d < jc) (ht : t < 2 ^ 30) (h0 : ∀ a, a < 6 → n ≤ a → cd_sy t a = 0) (hc : ∀ a, a < n → ∃ p, p < Z d ∧ (P (d * 4 + p)).testBit a = true)
    (hp : ∀ p, p < Z d → ∃ u, T u ∧ cd_ag n (P (d * 4 + p)) u t) (I : cd_CS n fc jc L R Z P T0 μ T) : cd_CS n fc jc L R Z P T0 μ (fun s => T s ∨ s = t) := by
  obtain ⟨h, ⟨ia, ib, ic, id, ie⟩, hx⟩ := I
  have col : ∀ a, a < n → ∃ u, T u ∧ cd_sy u a = cd_sy t a := fun a ha => by
    obtain ⟨p, hp1, hp2⟩ := hc a ha
    obtain ⟨u, hu, eu⟩ := hp p hp1
    exact ⟨u, hu, eu a ha hp2⟩
  refine ⟨h, ⟨fun s hs => ?_, fun s hs => ?_, ic, fun G g M => ?_, fun s hs a ha => ?_⟩, hx⟩
  · obtain ⟨w, hw, ew⟩ := ia s hs
    exact ⟨w, Or.inl hw, ew⟩
  · rcases hs with hs | rfl
    · exact ib s hs
    · refine ⟨⟨ht, fun a ha => ?_⟩, fun a ha => ?_⟩
      · rcases Nat.lt_or_ge a n with q | q
        · obtain ⟨u, hu, eu⟩ := col a q
          rw [← eu]; exact ⟨((ib u hu).1.2 a ha).1, fun z => by omega⟩
        · rw [h0 a ha q]; exact ⟨by omega, fun _ => rfl⟩
      · obtain ⟨u, hu, eu⟩ := col a ha
        rw [← eu]; exact (ib u hu).2 a ha
  · have A := id G g M
    refine ⟨A.1, fun s hs => ?_⟩
    rcases hs with hs | rfl
    · exact A.2 s hs
    · refine M.2.1 d hd (fun a => g a (cd_sy s a)) fun p hp1 => ?_
      obtain ⟨u, hu, eu⟩ := hp p hp1
      obtain ⟨w, hw, ew⟩ := A.2 u hu
      exact ⟨w, hw, fun a ha hb => by rw [ew a ha, eu a ha hb]⟩
  · rcases hs with hs | rfl
    · exact ie s hs a ha
    · obtain ⟨u, hu, eu⟩ := col a ha
      rw [← eu]; exact ie u hu a ha
end
/-! the number of rows over the symbols present -/
def cd_pr_ (T : Nat → Prop) (a s : Nat) : Prop := ∃ t, T t ∧ cd_sy t a = s
noncomputable def cd_W (T : Nat → Prop) : Nat → Nat
  | 0 => 1
  | a + 1 => cd_W T a * cd_cn (cd_pr_ T a) 21
theorem cd_W_mono {T T' : Nat → Prop} : ∀ a, (∀ b, b < a → ∀ s, cd_pr_ T b s → cd_pr_ T' b s) → cd_W T a ≤ cd_W T' a
  | 0, _ => Nat.le_refl _
  | a + 1, h => Nat.mul_le_mul (cd_W_mono a (fun b hb => h b (by omega))) (cd_cn_mono fun k _ => h a (by omega) k)
theorem cd_W_up {T : Nat → Prop} {n : Nat} (h : ∀ a, a < n → cd_pr_ T a 0) (a : Nat) : ∀ d, a + d ≤ n → cd_W T a ≤ cd_W T (a + d)
  | 0, _ => Nat.le_refl _
  | d + 1, hd => by
    have i := cd_W_up h a d (by omega)
    have p : 0 < cd_cn (cd_pr_ T (a + d)) 21 := by
      have := cd_cn_s (P := cd_pr_ T (a + d)) (h (a + d) (by omega))
      have := cd_cn_up (P := cd_pr_ T (a + d)) (a := 0 + 1) (b := 21) (by omega)
      omega
    exact Nat.le_trans i (Nat.le_mul_of_pos_right _ p)
end
section
section
variable {n al mf mj fc jc dc fD kc vc sc fT rc qc : Nat} {aL aR aC aP aZ aD aK aV aW aS aU aI aA aQ aO aF : Nat → Nat}
theorem cd_xclamp {post : Int32 → Prop} {u : SX} {x a b : Int32} (f : ¬ a ≤ x → post a) (g : a ≤ x → x ≤ b → post x) (h : a ≤ x → ¬ x ≤ b → post b) : wpX_clamp post u x a b := br_c (fun p => br_c (fun q => g p q) (fun q => h p q)) f
theorem cd_xFF12 {post : SX → Prop} {J2 : Int32 → (Nat → Int32) → (Nat → Int32) → (Nat → Int32) → (Nat → Int32) → (Nat → Int32) → (Nat → Int32) → (Nat → Int32) → (Nat → Int32) → (Nat → Int32) → (Nat → Int32) → (Nat → Int32) → (Nat → Int32) → (Nat → Int32) → (Nat → Int32) → (Nat → Int32) → (Nat → Int32) → Prop} {m : Nat} (hm : m < 64)
    (hJ : J2 (nI (m + 1)) (nF aL) (nF aR) (nF aC) (nF aP) (nF aZ) (nF aD) (nF aK) (nF aV) (nF aW) (nF aS) (nF aU) (nF aI) (nF aA) (nF aQ) (nF (cd_up aO m (cd_on m))) (nF (cd_up aF m (cd_fi m)))) : ∀ k a, a + k = 6 → wX_fillFields_12 post J2 (nI m) (nI n) (nI al) (nI mf) (nI mj) (nI fc) (nI jc) (nI dc) (nI fD) (nI kc) (nI vc) (nI sc) (nI fT) (nI rc) (nI qc) (nF aL) (nF aR) (nF aC) (nF aP) (nF aZ) (nF aD) (nF aK) (nF aV) (nF aW) (nF aS) (nF aU) (nF aI) (nF aA) (nF aQ) (nF aO) (nF aF) (k + 1) (nI (cd_onk m a)) (nI a) := by
  intro k
  induction k with
  | zero =>
    intro a h
    have e : a = 6 := by omega
    subst e
    have c : (nI m).toNatClampNeg = m := nI_clamp (by omega)
    rw [wX_fillFields_12]
    dsimp only
    rw [c]
    exact br_t (show (6 : Int32) ≤ nI 6 from by decide) ⟨vp_in_nI hm (by decide), nm_r (cd_upd _ _ _) ⟨vp_in_nI hm (by decide), nm_r ((congrArg (upd (nF aF) m) (pk_mul (cd_onk m 6) 31)).trans (cd_upd _ _ _)) (nm_r (nI_1 m) hJ)⟩⟩
  | succ k ih =>
    intro a h
    rw [wX_fillFields_12]
    refine br_f (nI_ge (b := 6) (by omega) (by decide)) (cd_tb m a (fun z => nm_r (nI_1 a) ?_) (fun z => nm_r (e' := nI (cd_onk m (a + 1))) ?_ (nm_r (nI_1 a) (ih (a + 1) (by omega)))))
    · have := ih (a + 1) (by omega)
      rw [show cd_onk m (a + 1) = cd_onk m a from if_neg (by rw [z]; decide)] at this
      exact this
    · rw [show cd_onk m (a + 1) = cd_onk m a ||| 2 ^ (25 - 5 * a) from if_pos z, cd_sh (by omega), cd_shl1 (by omega), cd_or]
theorem cd_xFF2 {post : SX → Prop} (hp : ∀ O F : Nat → Nat, (∀ m, m < 64 → O m = cd_on m ∧ F m = cd_fi m) → post ((nI n), (nI al), (nI mf), (nI mj), (nI fc), (nI jc), (nI dc), (nI fD), (nI kc), (nI vc), (nI sc), (nI fT), (nI rc), (nI qc), (nF aL), (nF aR), (nF aC), (nF aP), (nF aZ), (nF aD), (nF aK), (nF aV), (nF aW), (nF aS), (nF aU), (nF aI), (nF aA), (nF aQ), (nF (O)), (nF (F)))) : ∀ k i, i + k = 64 → ∀ O F : Nat → Nat, (∀ m, m < i → O m = cd_on m ∧ F m = cd_fi m) → wX_fillFields_2 post (nI n) (nI al) (nI mf) (nI mj) (nI fc) (nI jc) (nI dc) (nI fD) (nI kc) (nI vc) (nI sc) (nI fT) (nI rc) (nI qc) (k + 1) (nI i) (nF aL) (nF aR) (nF aC) (nF aP) (nF aZ) (nF aD) (nF aK) (nF aV) (nF aW) (nF aS) (nF aU) (nF aI) (nF aA) (nF aQ) (nF (O)) (nF (F)) := by
  intro k
  induction k with
  | zero =>
    intro i h O F H
    have e : i = 64 := by omega
    subst e
    rw [wX_fillFields_2]
    exact br_t (show (64 : Int32) ≤ nI 64 from by decide) (hp O F H)
  | succ k ih =>
    intro i h O F H
    rw [wX_fillFields_2]
    refine br_f (nI_ge (b := 64) (by omega) (by decide)) ⟨7, cd_xFF12 (m := i) (by omega) (ih (i + 1) (by omega) _ _ fun m hm => ?_) 6 0 rfl⟩
    by_cases e : m = i
    · subst e; rw [cd_us, cd_us]; exact ⟨rfl, rfl⟩
    · rw [cd_un e, cd_un e]; exact H m (by omega)
theorem cd_xFF {post : SX → Prop} (hp : ∀ O F : Nat → Nat, (∀ m, m < 64 → O m = cd_on m ∧ F m = cd_fi m) → post ((nI n), (nI al), (nI mf), (nI mj), (nI fc), (nI jc), (nI dc), (nI fD), (nI kc), (nI vc), (nI sc), (nI fT), (nI rc), (nI qc), (nF aL), (nF aR), (nF aC), (nF aP), (nF aZ), (nF aD), (nF aK), (nF aV), (nF aW), (nF aS), (nF aU), (nF aI), (nF aA), (nF aQ), (nF (O)), (nF (F)))) : wpX_fillFields post ((nI n), (nI al), (nI mf), (nI mj), (nI fc), (nI jc), (nI dc), (nI fD), (nI kc), (nI vc), (nI sc), (nI fT), (nI rc), (nI qc), (nF aL), (nF aR), (nF aC), (nF aP), (nF aZ), (nF aD), (nF aK), (nF aV), (nF aW), (nF aS), (nF aU), (nF aI), (nF aA), (nF aQ), (nF aO), (nF aF)) :=
  Exists.intro 65 (cd_xFF2 hp 64 0 rfl aO aF (fun m h => absurd h (by omega)))
/-! the closure under the dependencies -/
theorem cd_xCF13 {post : Int32 → Prop} {J4 : Int32 → Int32 → Prop} {r z : Nat} (hfc : fc ≤ 8) (hal : al < 64) (F : cd_FD al fc aL aR) (hJ : J4 (nI (cd_gr (cd_hF aL aR) fc z)) (nI (r + 1))) :
    ∀ k i, i + k = fc → wX_closeUnderFds_13 post J4 (nI r) (nI n) (nI al) (nI mf) (nI mj) (nI fc) (nI jc) (nI dc) (nI fD) (nI kc) (nI vc) (nI sc) (nI fT) (nI rc) (nI qc) (nF aL) (nF aR) (nF aC) (nF aP) (nF aZ) (nF aD) (nF aK) (nF aV) (nF aW) (nF aS) (nF aU) (nF aI) (nF aA) (nF aQ) (nF aO) (nF aF) (k + 1) (nI (cd_gr (cd_hF aL aR) i z)) (nI i) := by
  intro k
  induction k with
  | zero =>
    intro i h
    have e : i = fc := by omega
    subst e
    rw [wX_closeUnderFds_13]
    exact br_t (nI_le (Nat.le_refl _) (by omega)) (nm_r (nI_1 r) hJ)
  | succ k ih =>
    intro i h
    have c : (nI i).toNatClampNeg = i := nI_clamp (by omega)
    have Fi := F i (by omega)
    have I := ih (i + 1) (by omega)
    rw [wX_closeUnderFds_13]
    dsimp only
    rw [c]
    refine br_f (nI_ge (by omega) (by omega)) ⟨vp_in_nI (by omega) (by omega), cd_in (aL i) (cd_gr (cd_hF aL aR) i z) (fun e => ⟨vp_in_nI (by omega) (by omega), nm_r (cd_or _ _) (nm_r (nI_1 i) ?_)⟩) (fun e => nm_r (nI_1 i) ?_)⟩
    · rw [show cd_gr (cd_hF aL aR) (i + 1) z = cd_gr (cd_hF aL aR) i z ||| aR i from cd_hF_t e] at I
      exact I
    · rw [show cd_gr (cd_hF aL aR) (i + 1) z = cd_gr (cd_hF aL aR) i z from cd_hF_f e] at I
      exact I
theorem cd_xCF4 {post : Int32 → Prop} {z : Nat} (hfc : fc ≤ 8) (hal : al < 64) (F : cd_FD al fc aL aR) (hp : post (nI (cd_it (cd_hF aL aR) fc 6 z))) :
    ∀ k r, r + k = 6 → wX_closeUnderFds_4 post (nI n) (nI al) (nI mf) (nI mj) (nI fc) (nI jc) (nI dc) (nI fD) (nI kc) (nI vc) (nI sc) (nI fT) (nI rc) (nI qc) (nF aL) (nF aR) (nF aC) (nF aP) (nF aZ) (nF aD) (nF aK) (nF aV) (nF aW) (nF aS) (nF aU) (nF aI) (nF aA) (nF aQ) (nF aO) (nF aF) (k + 1) (nI (cd_it (cd_hF aL aR) fc r z)) (nI r) := by
  intro k
  induction k with
  | zero =>
    intro r h
    have e : r = 6 := by omega
    subst e
    rw [wX_closeUnderFds_4]
    exact br_t (show (6 : Int32) ≤ nI 6 from by decide) hp
  | succ k ih =>
    intro r h
    rw [wX_closeUnderFds_4]
    exact br_f (nI_ge (b := 6) (by omega) (by decide)) ⟨fc + 1, cd_xCF13 (z := cd_it (cd_hF aL aR) fc r z) hfc hal F (ih (r + 1) (by omega)) fc 0 (by omega)⟩
theorem cd_xCF {post : Int32 → Prop} {m : Nat} (hN : cd_N n al) (hfc : fc ≤ 8) (F : cd_FD al fc aL aR) (hm : m ≤ al) (hp : post (nI (cd_cl al aL aR fc m))) : wpX_closeUnderFds post ((nI n), (nI al), (nI mf), (nI mj), (nI fc), (nI jc), (nI dc), (nI fD), (nI kc), (nI vc), (nI sc), (nI fT), (nI rc), (nI qc), (nF aL), (nF aR), (nF aC), (nF aP), (nF aZ), (nF aD), (nF aK), (nF aV), (nF aW), (nF aS), (nF aU), (nF aI), (nF aA), (nF aQ), (nF aO), (nF aF)) (nI m) := by
  rw [← cd_cl_it hN (fun i hi => (F i hi).2) hm] at hp
  exact Exists.intro 7 (cd_xCF4 hfc (cd_N_al hN).1 F hp 6 0 rfl)
theorem cd_xRC2 {post : SX → Prop} (hN : cd_N n al) (hfc : fc ≤ 8) (F : cd_FD al fc aL aR) (hp : ∀ C : Nat → Nat, (∀ m, m ≤ al → C m = cd_cl al aL aR fc m) → post ((nI n), (nI al), (nI mf), (nI mj), (nI fc), (nI jc), (nI dc), (nI fD), (nI kc), (nI vc), (nI sc), (nI fT), (nI rc), (nI qc), (nF aL), (nF aR), (nF (C)), (nF aP), (nF aZ), (nF aD), (nF aK), (nF aV), (nF aW), (nF aS), (nF aU), (nF aI), (nF aA), (nF aQ), (nF aO), (nF aF))) :
    ∀ k i, i + k = al + 1 → ∀ C : Nat → Nat, (∀ m, m < i → C m = cd_cl al aL aR fc m) → wX_rebuildClosures_2 post (nI n) (nI al) (nI mf) (nI mj) (nI fc) (nI jc) (nI dc) (nI fD) (nI kc) (nI vc) (nI sc) (nI fT) (nI rc) (nI qc) (k + 1) (nI i) (nF aL) (nF aR) (nF (C)) (nF aP) (nF aZ) (nF aD) (nF aK) (nF aV) (nF aW) (nF aS) (nF aU) (nF aI) (nF aA) (nF aQ) (nF aO) (nF aF) := by
  have hal := (cd_N_al hN).1
  intro k
  induction k with
  | zero =>
    intro i h C H
    rw [wX_rebuildClosures_2]
    exact br_t (nI_lt (by omega) (by omega)) (hp C fun m hm => H m (by omega))
  | succ k ih =>
    intro i h C H
    rw [wX_rebuildClosures_2]
    refine br_f (nI_nlt (by omega) (by omega)) (cd_xCF hN hfc F (by omega) ⟨vp_in_nI (by omega) (by decide), nm_r (e' := nF (cd_up C i (cd_cl al aL aR fc i))) ?_ (nm_r (nI_1 i) (ih (i + 1) (by omega) _ fun m hm => ?_))⟩)
    · rw [nI_clamp (by omega), cd_upd]
    · by_cases e : m = i
      · subst e; rw [cd_us]
      · rw [cd_un e]; exact H m (by omega)
theorem cd_xRC {post : SX → Prop} (hN : cd_N n al) (hfc : fc ≤ 8) (F : cd_FD al fc aL aR) (hp : ∀ C : Nat → Nat, (∀ m, m ≤ al → C m = cd_cl al aL aR fc m) → post ((nI n), (nI al), (nI mf), (nI mj), (nI fc), (nI jc), (nI dc), (nI fD), (nI kc), (nI vc), (nI sc), (nI fT), (nI rc), (nI qc), (nF aL), (nF aR), (nF (C)), (nF aP), (nF aZ), (nF aD), (nF aK), (nF aV), (nF aW), (nF aS), (nF aU), (nF aI), (nF aA), (nF aQ), (nF aO), (nF aF))) : wpX_rebuildClosures post ((nI n), (nI al), (nI mf), (nI mj), (nI fc), (nI jc), (nI dc), (nI fD), (nI kc), (nI vc), (nI sc), (nI fT), (nI rc), (nI qc), (nF aL), (nF aR), (nF aC), (nF aP), (nF aZ), (nF aD), (nF aK), (nF aV), (nF aW), (nF aS), (nF aU), (nF aI), (nF aA), (nF aQ), (nF aO), (nF aF)) :=
  Exists.intro (al + 1 + 1) (cd_xRC2 hN hfc F hp (al + 1) 0 (by omega) aC (fun m h => absurd h (by omega)))
/-! masks as arguments -/
def cd_IM (al : Nat) (p : Int32) : Prop := ∃ m, m ≤ al ∧ p = nI m
def cd_IP (al : Nat) (p : Int32) : Prop := ∃ m, 0 < m ∧ m ≤ al ∧ p = nI m
theorem cd_IM_n {a : Nat} {p : Int32} (h : p < 0) (ha : a < 2 ^ 31) : ¬ cd_IM a p := fun ⟨m, hm, e⟩ => by subst e; exact nI_pos (by omega) h
theorem cd_IM_g {a j : Nat} (h : a < j) (hj : j < 2 ^ 31) : ¬ cd_IM a (nI j) := fun ⟨m, hm, e⟩ => by
  rw [nI_eq hj (by omega)] at e; omega
theorem cd_IP_iff {a : Nat} {p : Int32} (ha : a < 2 ^ 31) : cd_IP a p ↔ cd_IM a p ∧ ¬ p = 0 :=
  ⟨fun ⟨m, h1, h2, e⟩ => ⟨⟨m, h2, e⟩, fun z => by rw [e] at z; exact nI_ne0 h1 (by omega) z⟩, fun ⟨⟨m, h2, e⟩, z⟩ => ⟨m, by
    rcases Nat.eq_zero_or_pos m with q | q
    · subst q; exact absurd e z
    · exact q, h2, e⟩⟩
theorem cd_xIM {post : Int32 → Prop} {p : Int32} (hal : al < 64) (hp : post (nI (cd_b (cd_IM al p)))) : wpX_isMask post ((nI n), (nI al), (nI mf), (nI mj), (nI fc), (nI jc), (nI dc), (nI fD), (nI kc), (nI vc), (nI sc), (nI fT), (nI rc), (nI qc), (nF aL), (nF aR), (nF aC), (nF aP), (nF aZ), (nF aD), (nF aK), (nF aV), (nF aW), (nF aS), (nF aU), (nF aI), (nF aA), (nF aQ), (nF aO), (nF aF)) p := by
  by_cases h : p < 0
  · exact br_t h (cd_0 (cd_IM_n (a := al) h (by omega)) ▸ hp)
  · refine br_f h ?_
    obtain ⟨j, hj, rfl⟩ := nI_of h
    exact pk_lt al j (fun q => cd_0 (cd_IM_g q hj) ▸ hp) (fun q => cd_1 (P := cd_IM al (nI j)) ⟨j, q, rfl⟩ ▸ hp)
theorem cd_xIP {post : Int32 → Prop} {p : Int32} (hal : al < 64) (hp : post (nI (cd_b (cd_IP al p)))) : wpX_isFullMask post ((nI n), (nI al), (nI mf), (nI mj), (nI fc), (nI jc), (nI dc), (nI fD), (nI kc), (nI vc), (nI sc), (nI fT), (nI rc), (nI qc), (nF aL), (nF aR), (nF aC), (nF aP), (nF aZ), (nF aD), (nF aK), (nF aV), (nF aW), (nF aS), (nF aU), (nF aI), (nF aA), (nF aQ), (nF aO), (nF aF)) p := by
  by_cases h : p ≤ 0
  · refine br_t h (cd_0 (P := cd_IP al p) (fun ⟨m, h1, h2, e⟩ => ?_) ▸ hp)
    subst e; exact nI_nle h1 (by omega) h
  · refine br_f h ?_
    obtain ⟨j, hj, rfl⟩ := nI_of (x := p) (fun q => h (Int32.le_of_lt q))
    have hj0 : 0 < j := by
      rcases Nat.eq_zero_or_pos j with q | q
      · subst q; exact absurd (Int32.le_refl _) h
      · exact q
    exact pk_lt al j (fun q => cd_0 (P := cd_IP al (nI j)) (fun ⟨m, _, h2, e⟩ => cd_IM_g q hj ⟨m, h2, e⟩) ▸ hp) (fun q => cd_1 (P := cd_IP al (nI j)) ⟨j, hj0, q, rfl⟩ ▸ hp)
end
end
section
/-! keys and normal forms, over a closure function G -/
def cd_SK (G : Nat → Nat) (s x : Nat) : Prop := cd_Su x s ∧ cd_Su s (G x)
def cd_Key (G : Nat → Nat) (s x : Nat) : Prop := cd_SK G s x ∧ ∀ y, y < x → cd_Su y x → ¬ cd_SK G s y
theorem cd_key_iff {n al s x : Nat} {G : Nat → Nat} (hN : cd_N n al) (M : cd_Mo al G) (hx : x ≤ al) :
    (cd_SK G s x ∧ ∀ a, a < n → x.testBit a = true → ¬ cd_SK G s (cd_df x (2 ^ a))) ↔ cd_Key G s x := by
  constructor
  · rintro ⟨h, g⟩
    refine ⟨h, fun y hy sy k => ?_⟩
    have : cd_df x y ≠ 0 := fun z => by have := cd_Su_le (cd_df0.mp z); omega
    obtain ⟨a, ha⟩ := cd_nz this
    have xa := cd_df_Su x y a ha
    have ya := cd_df_n ha
    have sub : cd_Su y (cd_df x (2 ^ a)) := fun i hi => by
      refine cd_df_mk (sy i hi) ?_
      rw [Nat.testBit_two_pow]
      refine decide_eq_false fun e => ?_
      subst e; rw [ya] at hi; exact absurd hi (by decide)
    refine g a (cd_N_bit hN hx xa) xa ⟨cd_Su_tr (cd_df_Su _ _) h.1, cd_Su_tr k.2 (M y _ (Nat.le_trans (cd_df_le _ _) hx) sub)⟩
  · rintro ⟨h, g⟩
    refine ⟨h, fun a ha xa k => g _ ?_ (cd_df_Su _ _) k⟩
    refine Nat.lt_of_le_of_ne (cd_df_le _ _) fun e => ?_
    rw [← e] at xa
    have := cd_df_n xa
    rw [Nat.testBit_two_pow_self] at this
    exact absurd this (by decide)
theorem cd_key_le {G : Nat → Nat} {s x : Nat} (h : cd_Key G s x) : x ≤ s := cd_Su_le h.1.1
def cd_IK (G : Nat → Nat) (s x : Nat) : Prop := ∃ k, cd_Key G s k ∧ cd_Su x k
noncomputable def cd_pm (G : Nat → Nat) (s : Nat) : Nat → Nat
  | 0 => 0
  | k + 1 => @ite Nat (cd_Key G s k) (Classical.propDecidable _) (cd_pm G s k ||| k) (cd_pm G s k)
theorem cd_pm_t {G : Nat → Nat} {s k : Nat} (h : cd_Key G s k) : cd_pm G s (k + 1) = cd_pm G s k ||| k := by
  exact if_pos h
theorem cd_pm_f {G : Nat → Nat} {s k : Nat} (h : ¬ cd_Key G s k) : cd_pm G s (k + 1) = cd_pm G s k := by
  exact if_neg h
theorem cd_pm_bit {G : Nat → Nat} {s a : Nat} : ∀ k, (cd_pm G s k).testBit a = true ↔ ∃ x, x < k ∧ cd_Key G s x ∧ x.testBit a = true
  | 0 => ⟨fun h => by rw [show cd_pm G s 0 = 0 from rfl, Nat.zero_testBit] at h; exact absurd h (by decide), fun ⟨x, h, _⟩ => by omega⟩
  | k + 1 => by
    have ih := cd_pm_bit (G := G) (s := s) (a := a) k
    by_cases e : cd_Key G s k
    · rw [cd_pm_t e, Nat.testBit_or, Bool.or_eq_true, ih]
      constructor
      · rintro (⟨x, h1, h2⟩ | h)
        · exact ⟨x, by omega, h2⟩
        · exact ⟨k, by omega, e, h⟩
      · rintro ⟨x, h1, h2⟩
        by_cases q : x = k
        · subst q; exact Or.inr h2.2
        · exact Or.inl ⟨x, by omega, h2⟩
    · rw [cd_pm_f e, ih]
      constructor
      · rintro ⟨x, h1, h2⟩; exact ⟨x, by omega, h2⟩
      · rintro ⟨x, h1, h2⟩
        by_cases q : x = k
        · subst q; exact absurd h2.1 e
        · exact ⟨x, by omega, h2⟩
theorem cd_pm_le {n al s : Nat} {G : Nat → Nat} (hN : cd_N n al) (hs : s ≤ al) : ∀ k, cd_pm G s k ≤ al
  | 0 => Nat.zero_le _
  | k + 1 => by
    by_cases e : cd_Key G s k
    · rw [cd_pm_t e]; exact cd_N_or hN (cd_pm_le hN hs k) (Nat.le_trans (cd_key_le e) hs)
    · rw [cd_pm_f e]; exact cd_pm_le hN hs k
theorem cd_pm_IK {G : Nat → Nat} {s a : Nat} : (cd_pm G s (s + 1)).testBit a = true ↔ cd_IK G s (2 ^ a) := by
  rw [cd_pm_bit]
  constructor
  · rintro ⟨x, _, h2, h3⟩; exact ⟨x, h2, cd_Su_pow.mpr h3⟩
  · rintro ⟨x, h2, h3⟩; exact ⟨x, by have := cd_key_le h2; omega, h2, cd_Su_pow.mp h3⟩
noncomputable def cd_vb (G : Nat → Nat) (s x : Nat) : Nat := @ite Nat (cd_Su x s ∧ ¬ cd_SK G s x) (Classical.propDecidable _) (cd_df (G x &&& s) x) 0
theorem cd_vb_t {G : Nat → Nat} {s x : Nat} (h : cd_Su x s) (g : ¬ cd_SK G s x) : cd_vb G s x = cd_df (G x &&& s) x := by unfold cd_vb; rw [if_pos ⟨h, g⟩]
theorem cd_vb_f {G : Nat → Nat} {s x : Nat} (h : ¬ (cd_Su x s ∧ ¬ cd_SK G s x)) : cd_vb G s x = 0 := by unfold cd_vb; rw [if_neg h]
theorem cd_vb_le {G : Nat → Nat} {s x : Nat} : cd_vb G s x ≤ s := by
  by_cases h : cd_Su x s ∧ ¬ cd_SK G s x
  · rw [cd_vb_t h.1 h.2]; exact Nat.le_trans (cd_df_le _ _) Nat.and_le_right
  · rw [cd_vb_f h]; exact Nat.zero_le _
def cd_Vi (G : Nat → Nat) (s x a : Nat) : Prop := (cd_vb G s x).testBit a = true
theorem cd_Vi_iff {G : Nat → Nat} {s x a : Nat} : cd_Vi G s x a ↔ cd_Su x s ∧ ¬ cd_SK G s x ∧ cd_Su (2 ^ a) (cd_df s x &&& G x) := by
  unfold cd_Vi
  rw [cd_Su_pow]
  by_cases h : cd_Su x s ∧ ¬ cd_SK G s x
  · rw [cd_vb_t h.1 h.2, cd_df_t, Nat.testBit_and, Nat.testBit_and, cd_df_t]
    refine ⟨fun z => ⟨h.1, h.2, ?_⟩, fun z => ?_⟩
    · revert z; cases (G x).testBit a <;> cases s.testBit a <;> cases x.testBit a <;> intro z <;> first | rfl | exact z
    · have z := z.2.2
      revert z; cases (G x).testBit a <;> cases s.testBit a <;> cases x.testBit a <;> intro z <;> first | rfl | exact z
  · rw [cd_vb_f h, Nat.zero_testBit]
    exact ⟨fun z => absurd z (by decide), fun z => absurd ⟨z.1, z.2.1⟩ h⟩
/-- the level of x: 4 without a violation -/
noncomputable def cd_lv (G : Nat → Nat) (s x : Nat) : Nat := if cd_vb G s x = 0 then 4 else @ite Nat (cd_Su (cd_vb G s x) (cd_pm G s (s + 1))) (Classical.propDecidable _) 3 (@ite Nat (cd_IK G s x) (Classical.propDecidable _) 1 2)
noncomputable def cd_hr (G : Nat → Nat) (s x a : Nat) : Nat := @ite Nat (cd_Vi G s x a) (Classical.propDecidable _) (@ite Nat (cd_IK G s (2 ^ a)) (Classical.propDecidable _) 3 (@ite Nat (cd_IK G s x) (Classical.propDecidable _) 1 2)) 4
theorem cd_lv_4 {G : Nat → Nat} {s x : Nat} (h : cd_vb G s x = 0) : cd_lv G s x = 4 := if_pos h
theorem cd_lv_3 {G : Nat → Nat} {s x : Nat} (h : ¬ cd_vb G s x = 0) (g : cd_Su (cd_vb G s x) (cd_pm G s (s + 1))) : cd_lv G s x = 3 := by unfold cd_lv; rw [if_neg h, if_pos g]
theorem cd_lv_1 {G : Nat → Nat} {s x : Nat} (h : ¬ cd_vb G s x = 0) (g : ¬ cd_Su (cd_vb G s x) (cd_pm G s (s + 1))) (k : cd_IK G s x) : cd_lv G s x = 1 := by unfold cd_lv; rw [if_neg h, if_neg g, if_pos k]
theorem cd_lv_2 {G : Nat → Nat} {s x : Nat} (h : ¬ cd_vb G s x = 0) (g : ¬ cd_Su (cd_vb G s x) (cd_pm G s (s + 1))) (k : ¬ cd_IK G s x) : cd_lv G s x = 2 := by unfold cd_lv; rw [if_neg h, if_neg g, if_neg k]
theorem cd_hr_4 {G : Nat → Nat} {s x a : Nat} (h : ¬ cd_Vi G s x a) : cd_hr G s x a = 4 := by unfold cd_hr; rw [if_neg h]
theorem cd_hr_3 {G : Nat → Nat} {s x a : Nat} (h : cd_Vi G s x a) (g : cd_IK G s (2 ^ a)) : cd_hr G s x a = 3 := by unfold cd_hr; rw [if_pos h, if_pos g]
theorem cd_hr_1 {G : Nat → Nat} {s x a : Nat} (h : cd_Vi G s x a) (g : ¬ cd_IK G s (2 ^ a)) (k : cd_IK G s x) : cd_hr G s x a = 1 := by unfold cd_hr; rw [if_pos h, if_neg g, if_pos k]
theorem cd_hr_2 {G : Nat → Nat} {s x a : Nat} (h : cd_Vi G s x a) (g : ¬ cd_IK G s (2 ^ a)) (k : ¬ cd_IK G s x) : cd_hr G s x a = 2 := by unfold cd_hr; rw [if_pos h, if_neg g, if_neg k]
theorem cd_lv_min {n al s x : Nat} {G : Nat → Nat} (hN : cd_N n al) (hs : s ≤ al) : (∀ a, a < n → cd_lv G s x ≤ cd_hr G s x a) ∧ (cd_lv G s x = 4 ∨ ∃ a, a < n ∧ cd_lv G s x = cd_hr G s x a) := by
  by_cases h : cd_vb G s x = 0
  · rw [cd_lv_4 h]
    refine ⟨fun a _ => ?_, Or.inl rfl⟩
    rw [cd_hr_4 (fun z => by unfold cd_Vi at z; rw [h, Nat.zero_testBit] at z; exact absurd z (by decide))]
    exact Nat.le_refl _
  · by_cases g : cd_Su (cd_vb G s x) (cd_pm G s (s + 1))
    · rw [cd_lv_3 h g]
      refine ⟨fun a _ => ?_, Or.inr ?_⟩
      · by_cases v : cd_Vi G s x a
        · rw [cd_hr_3 v (cd_pm_IK.mp (g a v))]; exact Nat.le_refl _
        · rw [cd_hr_4 v]; omega
      · obtain ⟨a, v⟩ := cd_nz h
        exact ⟨a, cd_N_bit hN (Nat.le_trans cd_vb_le hs) v, (cd_hr_3 v (cd_pm_IK.mp (g a v))).symm⟩
    · obtain ⟨a, ha⟩ := cd_nz (fun z => g (cd_df0.mp z))
      have v : cd_Vi G s x a := cd_df_Su _ _ a ha
      have w : ¬ cd_IK G s (2 ^ a) := fun z => by
        have := cd_df_n ha
        rw [cd_pm_IK.mpr z] at this
        exact absurd this (by decide)
      have han : a < n := cd_N_bit hN (Nat.le_trans cd_vb_le hs) v
      by_cases k : cd_IK G s x
      · rw [cd_lv_1 h g k]
        refine ⟨fun b _ => ?_, Or.inr ⟨a, han, (cd_hr_1 v w k).symm⟩⟩
        by_cases v' : cd_Vi G s x b
        · by_cases w' : cd_IK G s (2 ^ b)
          · rw [cd_hr_3 v' w']; omega
          · rw [cd_hr_1 v' w' k]; omega
        · rw [cd_hr_4 v']; omega
      · rw [cd_lv_2 h g k]
        refine ⟨fun b _ => ?_, Or.inr ⟨a, han, (cd_hr_2 v w k).symm⟩⟩
        by_cases v' : cd_Vi G s x b
        · by_cases w' : cd_IK G s (2 ^ b)
          · rw [cd_hr_3 v' w']; omega
          · rw [cd_hr_2 v' w' k]; omega
        · rw [cd_hr_4 v']; omega
noncomputable def cd_nf (G : Nat → Nat) (s : Nat) : Nat → Nat
  | 0 => 4
  | k + 1 => if cd_nf G s k ≤ cd_lv G s k then cd_nf G s k else cd_lv G s k
theorem cd_nf_t {G : Nat → Nat} {s k : Nat} (h : cd_nf G s k ≤ cd_lv G s k) : cd_nf G s (k + 1) = cd_nf G s k := if_pos h
theorem cd_nf_f {G : Nat → Nat} {s k : Nat} (h : ¬ cd_nf G s k ≤ cd_lv G s k) : cd_nf G s (k + 1) = cd_lv G s k := if_neg h
theorem cd_nf_s {G : Nat → Nat} {s k v : Nat} (h : cd_lv G s k = v) : cd_nf G s (k + 1) = if cd_nf G s k ≤ v then cd_nf G s k else v := by subst h; rfl
theorem cd_nf_4 {G : Nat → Nat} {s : Nat} : ∀ k, cd_nf G s k ≤ 4
  | 0 => Nat.le_refl _
  | k + 1 => by
    have := cd_nf_4 (G := G) (s := s) k
    by_cases h : cd_nf G s k ≤ cd_lv G s k
    · rw [cd_nf_t h]; exact this
    · rw [cd_nf_f h]; omega
theorem cd_nf_hi {G : Nat → Nat} {s : Nat} : ∀ d, cd_nf G s (s + 1 + d) = cd_nf G s (s + 1)
  | 0 => rfl
  | d + 1 => by
    rw [← Nat.add_assoc, cd_nf_t, cd_nf_hi d]
    rw [cd_lv_4 (cd_vb_f fun z => ?_)]
    · exact cd_nf_4 _
    · have := cd_Su_le z.1; omega
/-! the first violation -/
def cd_v1 (v x : Nat) : Nat → Nat → Option Nat
  | 0, _ => none
  | k + 1, a => if v.testBit a = true then some (x * 8 + a) else cd_v1 v x k (a + 1)
theorem cd_v1_t {v x k a : Nat} (h : v.testBit a = true) : cd_v1 v x (k + 1) a = some (x * 8 + a) := if_pos h
theorem cd_v1_f {v x k a : Nat} (h : ¬ v.testBit a = true) : cd_v1 v x (k + 1) a = cd_v1 v x k (a + 1) := if_neg h
theorem cd_v1_0 {x : Nat} : ∀ k a, cd_v1 0 x k a = none
  | 0, _ => rfl
  | k + 1, a => by rw [cd_v1_f (by rw [Nat.zero_testBit]; decide)]; exact cd_v1_0 k _
def cd_vo (o : Option Nat) (e : Int32) : Int32 := match o with
  | some r => nI r
  | none => e
noncomputable def cd_v2 (f : Nat → Nat) (n : Nat) : Nat → Nat → Int32
  | 0, _ => -7
  | k + 1, x => cd_vo (cd_v1 (f x) x n 0) (cd_v2 f n k (x + 1))
theorem cd_v2_hi {f : Nat → Nat} {n : Nat} : ∀ k x, (∀ y, x ≤ y → f y = 0) → cd_v2 f n k x = -7
  | 0, _, _ => rfl
  | k + 1, x, h => by
    show cd_vo (cd_v1 (f x) x n 0) (cd_v2 f n k (x + 1)) = -7
    rw [h x (Nat.le_refl _), cd_v1_0, cd_v2_hi k (x + 1) (fun y hy => h y (by omega))]
    rfl
theorem cd_v2_ext {f : Nat → Nat} {n : Nat} : ∀ k d x, (∀ y, x + k ≤ y → f y = 0) → cd_v2 f n (k + d) x = cd_v2 f n k x
  | 0, d, x, h => by rw [Nat.zero_add, cd_v2_hi d x (fun y hy => h y (by omega))]; rfl
  | k + 1, d, x, h => by
    rw [show k + 1 + d = k + d + 1 by omega]
    show cd_vo _ (cd_v2 f n (k + d) (x + 1)) = cd_vo _ (cd_v2 f n k (x + 1))
    rw [cd_v2_ext k d (x + 1) (fun y hy => h y (by omega))]
/-! the first lost dependency -/
noncomputable def cd_lf (P : Nat → Prop) : Nat → Nat → Int32
  | 0, _ => -7
  | k + 1, i => @ite Int32 (P i) (Classical.propDecidable _) (nI i) (cd_lf P k (i + 1))
theorem cd_lf_t {P : Nat → Prop} {k i : Nat} (h : P i) : cd_lf P (k + 1) i = nI i := if_pos h
theorem cd_lf_f {P : Nat → Prop} {k i : Nat} (h : ¬ P i) : cd_lf P (k + 1) i = cd_lf P k (i + 1) := if_neg h
end
section
section
variable {n al mf mj fc jc dc fD kc vc sc fT rc qc : Nat} {aL aR aC aP aZ aD aK aV aW aS aU aI aA aQ aO aF : Nat → Nat}
variable {G : Nat → Nat}
theorem cd_xSK {post : Int32 → Prop} {x s : Nat} (hN : cd_N n al) (hC : ∀ m, m ≤ al → aC m = G m) (hx : x ≤ al) (hs : s ≤ al) (hp : post (nI (cd_b (cd_SK G s x)))) : wpX_isSuperkey post ((nI n), (nI al), (nI mf), (nI mj), (nI fc), (nI jc), (nI dc), (nI fD), (nI kc), (nI vc), (nI sc), (nI fT), (nI rc), (nI qc), (nF aL), (nF aR), (nF aC), (nF aP), (nF aZ), (nF aD), (nF aK), (nF aV), (nF aW), (nF aS), (nF aU), (nF aI), (nF aA), (nF aQ), (nF aO), (nF aF)) (nI x) (nI s) := by
  have hal := (cd_N_al hN).1
  have c : (nI x).toNatClampNeg = x := nI_clamp (by omega)
  unfold wpX_isSuperkey
  rw [c]
  exact cd_in x s (fun e => ⟨vp_in_nI (by omega) (by decide), cd_in s (G x) (fun g => cd_p1 (P := cd_SK G s x) ⟨e, g⟩ hp) (fun g => cd_p0 (P := cd_SK G s x) (fun z => g z.2) hp) rfl (congrArg nI (hC x hx))⟩) (fun e => cd_p0 (P := cd_SK G s x) (fun z => e z.1) hp)
theorem cd_xKey13 {post : Int32 → Prop} {x s : Nat} (hN : cd_N n al) (hC : ∀ m, m ≤ al → aC m = G m) (M : cd_Mo al G) (hx : x ≤ al) (hs : s ≤ al) (hk : cd_SK G s x) (hp : post (nI (cd_b (cd_Key G s x)))) :
    ∀ k a, a + k = n → (∀ b, b < a → x.testBit b = true → ¬ cd_SK G s (cd_df x (2 ^ b))) → wX_isKey_13 post (nI x) (nI s) (nI n) (nI al) (nI mf) (nI mj) (nI fc) (nI jc) (nI dc) (nI fD) (nI kc) (nI vc) (nI sc) (nI fT) (nI rc) (nI qc) (nF aL) (nF aR) (nF aC) (nF aP) (nF aZ) (nF aD) (nF aK) (nF aV) (nF aW) (nF aS) (nF aU) (nF aI) (nF aA) (nF aQ) (nF aO) (nF aF) (k + 1) (nI a) := by
  have hal := (cd_N_al hN).1
  have hn := hN.2.1
  intro k
  induction k with
  | zero =>
    intro a h H
    rw [wX_isKey_13]
    exact br_t (nI_le (by omega) (by omega)) (cd_p1 ((cd_key_iff hN M hx).mp ⟨hk, fun b hb => H b (by omega)⟩) hp)
  | succ k ih =>
    intro a h H
    rw [wX_isKey_13]
    refine br_f (nI_ge (by omega) (by omega)) (cd_tb x a (fun z => nm_r (nI_1 a) (ih (a + 1) (by omega) fun b hb q => ?_)) (fun z => ?_))
    · by_cases e : b = a
      · subst e; rw [z] at q; exact absurd q (by decide)
      · exact H b (by omega) q
    · rw [cd_shl1 (by omega), cd_dfI]
      refine cd_xSK hN hC (Nat.le_trans (cd_df_le _ _) hx) hs (cd_br (fun g => nm_r (nI_1 a) (ih (a + 1) (by omega) fun b hb q => ?_)) (fun g => cd_p0 (P := cd_Key G s x) (fun z' => ((cd_key_iff hN M hx).mpr z').2 a (by omega) z g) hp))
      by_cases e : b = a
      · subst e; exact g
      · exact H b (by omega) q
theorem cd_xKey {post : Int32 → Prop} {x s : Nat} (hN : cd_N n al) (hC : ∀ m, m ≤ al → aC m = G m) (M : cd_Mo al G) (hx : x ≤ al) (hs : s ≤ al) (hp : post (nI (cd_b (cd_Key G s x)))) : wpX_isKey post ((nI n), (nI al), (nI mf), (nI mj), (nI fc), (nI jc), (nI dc), (nI fD), (nI kc), (nI vc), (nI sc), (nI fT), (nI rc), (nI qc), (nF aL), (nF aR), (nF aC), (nF aP), (nF aZ), (nF aD), (nF aK), (nF aV), (nF aW), (nF aS), (nF aU), (nF aI), (nF aA), (nF aQ), (nF aO), (nF aF)) (nI x) (nI s) := by
  unfold wpX_isKey
  exact cd_xSK hN hC hx hs (cd_br (fun g => cd_p0 (P := cd_Key G s x) (fun z => g z.1) hp) (fun g => ⟨n + 1, cd_xKey13 hN hC M hx hs g hp n 0 (by omega) (fun b hb => absurd hb (by omega))⟩))
theorem cd_xPA4 {post : Int32 → Prop} {s : Nat} (hN : cd_N n al) (hC : ∀ m, m ≤ al → aC m = G m) (M : cd_Mo al G) (hs : s ≤ al) (hp : post (nI (cd_pm G s (s + 1)))) :
    ∀ k i, i + k = s + 1 → wX_primeAttributes_4 post (nI s) (nI n) (nI al) (nI mf) (nI mj) (nI fc) (nI jc) (nI dc) (nI fD) (nI kc) (nI vc) (nI sc) (nI fT) (nI rc) (nI qc) (nF aL) (nF aR) (nF aC) (nF aP) (nF aZ) (nF aD) (nF aK) (nF aV) (nF aW) (nF aS) (nF aU) (nF aI) (nF aA) (nF aQ) (nF aO) (nF aF) (k + 1) (nI (cd_pm G s i)) (nI i) := by
  have hal := (cd_N_al hN).1
  intro k
  induction k with
  | zero =>
    intro i h
    have e : i = s + 1 := by omega
    subst e
    rw [wX_primeAttributes_4]
    exact br_t (nI_lt (by omega) (by omega)) hp
  | succ k ih =>
    intro i h
    have I := ih (i + 1) (by omega)
    rw [wX_primeAttributes_4]
    refine br_f (nI_nlt (by omega) (by omega)) (cd_xKey hN hC M (by omega) hs (cd_br (fun g => nm_r (nI_1 i) ?_) (fun g => nm_r (cd_or _ _) (nm_r (nI_1 i) ?_))))
    · rw [cd_pm_f g] at I; exact I
    · rw [cd_pm_t g] at I; exact I
theorem cd_xPA {post : Int32 → Prop} {s : Nat} (hN : cd_N n al) (hC : ∀ m, m ≤ al → aC m = G m) (M : cd_Mo al G) (hs : s ≤ al) (hp : post (nI (cd_pm G s (s + 1)))) : wpX_primeAttributes post ((nI n), (nI al), (nI mf), (nI mj), (nI fc), (nI jc), (nI dc), (nI fD), (nI kc), (nI vc), (nI sc), (nI fT), (nI rc), (nI qc), (nF aL), (nF aR), (nF aC), (nF aP), (nF aZ), (nF aD), (nF aK), (nF aV), (nF aW), (nF aS), (nF aU), (nF aI), (nF aA), (nF aQ), (nF aO), (nF aF)) (nI s) :=
  Exists.intro (s + 1 + 1) (cd_xPA4 hN hC M hs hp (s + 1) 0 (by omega))
theorem cd_xVB {post : Int32 → Prop} {x s : Nat} (hN : cd_N n al) (hC : ∀ m, m ≤ al → aC m = G m) (hx : x ≤ al) (hs : s ≤ al) (hp : post (nI (cd_vb G s x))) : wpX_violatedBy post ((nI n), (nI al), (nI mf), (nI mj), (nI fc), (nI jc), (nI dc), (nI fD), (nI kc), (nI vc), (nI sc), (nI fT), (nI rc), (nI qc), (nF aL), (nF aR), (nF aC), (nF aP), (nF aZ), (nF aD), (nF aK), (nF aV), (nF aW), (nF aS), (nF aU), (nF aI), (nF aA), (nF aQ), (nF aO), (nF aF)) (nI x) (nI s) := by
  have hal := (cd_N_al hN).1
  have c : (nI x).toNatClampNeg = x := nI_clamp (by omega)
  unfold wpX_violatedBy
  rw [c]
  refine cd_in x s (fun e => cd_xSK hN hC hx hs (cd_br (fun g => ⟨vp_in_nI (by omega) (by decide), ?_⟩) (fun g => ?_))) (fun e => ?_)
  · rw [show nF aC x = nI (G x) from congrArg nI (hC x hx), nx_and, cd_dfI, ← cd_vb_t e g]; exact hp
  · rw [cd_vb_f (fun z => z.2 g)] at hp; exact hp
  · rw [cd_vb_f (fun z => e z.1)] at hp; exact hp
theorem cd_xIK2 {post : Int32 → Prop} {x s : Nat} (hN : cd_N n al) (hC : ∀ m, m ≤ al → aC m = G m) (M : cd_Mo al G) (hx : x ≤ al) (hs : s ≤ al) (hp : post (nI (cd_b (cd_IK G s x)))) :
    ∀ k i, i + k = s + 1 → x ≤ i → (∀ y, y < i → ¬ (cd_Key G s y ∧ cd_Su x y)) → wX_isInsideKey_2 post (nI x) (nI s) (nI n) (nI al) (nI mf) (nI mj) (nI fc) (nI jc) (nI dc) (nI fD) (nI kc) (nI vc) (nI sc) (nI fT) (nI rc) (nI qc) (nF aL) (nF aR) (nF aC) (nF aP) (nF aZ) (nF aD) (nF aK) (nF aV) (nF aW) (nF aS) (nF aU) (nF aI) (nF aA) (nF aQ) (nF aO) (nF aF) (k + 1) (nI i) := by
  have hal := (cd_N_al hN).1
  intro k
  induction k with
  | zero =>
    intro i h hi H
    rw [wX_isInsideKey_2]
    refine br_t (nI_lt (by omega) (by omega)) (cd_p0 (P := cd_IK G s x) (fun ⟨y, h1, h2⟩ => H y ?_ ⟨h1, h2⟩) hp)
    have := cd_key_le h1; omega
  | succ k ih =>
    intro i h hi H
    have S : ¬ (cd_Key G s i ∧ cd_Su x i) → ∀ y, y < i + 1 → ¬ (cd_Key G s y ∧ cd_Su x y) := fun g y hy => by
      by_cases e : y = i
      · subst e; exact g
      · exact H y (by omega)
    rw [wX_isInsideKey_2]
    exact br_f (nI_nlt (by omega) (by omega)) (cd_in x i (fun e => cd_xKey hN hC M (by omega) hs (cd_br (fun g => nm_r (nI_1 i) (ih (i + 1) (by omega) (by omega) (S fun z => g z.1))) (fun g => cd_p1 (P := cd_IK G s x) ⟨i, g, e⟩ hp))) (fun e => nm_r (nI_1 i) (ih (i + 1) (by omega) (by omega) (S fun z => e z.2))))
theorem cd_xIK {post : Int32 → Prop} {x s : Nat} (hN : cd_N n al) (hC : ∀ m, m ≤ al → aC m = G m) (M : cd_Mo al G) (hx : x ≤ s) (hs : s ≤ al) (hp : post (nI (cd_b (cd_IK G s x)))) : wpX_isInsideKey post ((nI n), (nI al), (nI mf), (nI mj), (nI fc), (nI jc), (nI dc), (nI fD), (nI kc), (nI vc), (nI sc), (nI fT), (nI rc), (nI qc), (nF aL), (nF aR), (nF aC), (nF aP), (nF aZ), (nF aD), (nF aK), (nF aV), (nF aW), (nF aS), (nF aU), (nF aI), (nF aA), (nF aQ), (nF aO), (nF aF)) (nI x) (nI s) :=
  Exists.intro (s + 1 - x + 1) (cd_xIK2 hN hC M (by omega) hs hp (s + 1 - x) x (by omega) (Nat.le_refl _) (fun y hy z => by have := cd_Su_le z.2; omega))
theorem cd_xNF69 {post : Int32 → Prop} {J : Int32 → Int32 → Prop} {x1 x2 : Int32} {f v i g : Nat} (hf : f < 2 ^ 31) (hv : v < 2 ^ 31) (hi : i < 2 ^ 31) (e : g = if f ≤ v then f else v) (hJ : J (nI g) (nI (i + 1))) : wX_normalForm_69 post J x1 x2 (nI f) (nI i) (nI v) (nI n) (nI al) (nI mf) (nI mj) (nI fc) (nI jc) (nI dc) (nI fD) (nI kc) (nI vc) (nI sc) (nI fT) (nI rc) (nI qc) (nF aL) (nF aR) (nF aC) (nF aP) (nF aZ) (nF aD) (nF aK) (nF aV) (nF aW) (nF aS) (nF aU) (nF aI) (nF aA) (nF aQ) (nF aO) (nF aF) := by
  unfold wX_normalForm_69
  exact pk_le f v (fun h => nm_r (nI_1 i) (by rw [e, if_pos h] at hJ; exact hJ)) (fun h => nm_r (nI_1 i) (by rw [e, if_neg (by omega)] at hJ; exact hJ))
theorem cd_xNF21 {post : Int32 → Prop} {s : Nat} (hN : cd_N n al) (hC : ∀ m, m ≤ al → aC m = G m) (M : cd_Mo al G) (hs : s ≤ al) (hp : post (nI (cd_nf G s (s + 1)))) :
    ∀ k i, i + k = s + 1 → wX_normalForm_21 post (nI s) (nI (cd_pm G s (s + 1))) (nI n) (nI al) (nI mf) (nI mj) (nI fc) (nI jc) (nI dc) (nI fD) (nI kc) (nI vc) (nI sc) (nI fT) (nI rc) (nI qc) (nF aL) (nF aR) (nF aC) (nF aP) (nF aZ) (nF aD) (nF aK) (nF aV) (nF aW) (nF aS) (nF aU) (nF aI) (nF aA) (nF aQ) (nF aO) (nF aF) (k + 1) (nI (cd_nf G s i)) (nI i) := by
  have hal := (cd_N_al hN).1
  intro k
  induction k with
  | zero =>
    intro i h
    have e : i = s + 1 := by omega
    subst e
    rw [wX_normalForm_21]
    exact br_t (nI_lt (by omega) (by omega)) hp
  | succ k ih =>
    intro i h
    have I := ih (i + 1) (by omega)
    have h4 := cd_nf_4 (G := G) (s := s) i
    have hv : cd_vb G s i ≤ s := cd_vb_le
    rw [wX_normalForm_21]
    refine br_f (nI_nlt (by omega) (by omega)) (cd_xVB hN hC (by omega) hs (cd_brN _ (by omega) (fun g => nm_r (nI_1 i) ?_) (fun g => cd_in (cd_vb G s i) (cd_pm G s (s + 1)) (fun e => ?_) (fun e => cd_xIK hN hC M (by omega) hs (cd_br (fun k => ?_) (fun k => ?_))))))
    · rw [cd_nf_t (by rw [cd_lv_4 g]; exact h4)] at I; exact I
    · exact cd_xNF69 (v := 3) (by omega) (by omega) (by omega) (cd_nf_s (cd_lv_3 g e)) I
    · exact cd_xNF69 (v := 2) (by omega) (by omega) (by omega) (cd_nf_s (cd_lv_2 g e k)) I
    · exact cd_xNF69 (v := 1) (by omega) (by omega) (by omega) (cd_nf_s (cd_lv_1 g e k)) I
theorem cd_xVi27 {post : Int32 → Prop} {J12 : Int32 → Prop} {x1 : Int32} {x v : Nat} (hN : cd_N n al) (hx : x < 64) (hv : v < 64) : ∀ k a, a + k = n → (cd_v1 v x k a = none → J12 (nI (x + 1))) → (∀ r, cd_v1 v x k a = some r → post (nI r)) → wX_violation_27 post J12 x1 (nI x) (nI v) (nI n) (nI al) (nI mf) (nI mj) (nI fc) (nI jc) (nI dc) (nI fD) (nI kc) (nI vc) (nI sc) (nI fT) (nI rc) (nI qc) (nF aL) (nF aR) (nF aC) (nF aP) (nF aZ) (nF aD) (nF aK) (nF aV) (nF aW) (nF aS) (nF aU) (nF aI) (nF aA) (nF aQ) (nF aO) (nF aF) (k + 1) (nI a) := by
  have hn := hN.2.1
  intro k
  induction k with
  | zero =>
    intro a h H1 H2
    rw [wX_violation_27]
    exact br_t (nI_le (by omega) (by omega)) (nm_r (nI_1 x) (H1 rfl))
  | succ k ih =>
    intro a h H1 H2
    rw [wX_violation_27]
    refine br_f (nI_ge (by omega) (by omega)) (cd_tb v a (fun z => nm_r (nI_1 a) ?_) (fun z => ?_))
    · have e := cd_v1_f (v := v) (x := x) (k := k) (a := a) (by rw [z]; decide)
      rw [e] at H1 H2
      exact ih (a + 1) (by omega) H1 H2
    · have := H2 _ (cd_v1_t z)
      rw [← nI_add, ← pk_mul] at this
      exact this
theorem cd_xVi12 {post : Int32 → Prop} {s : Nat} (hN : cd_N n al) (hC : ∀ m, m ≤ al → aC m = G m) (hs : s ≤ al) : ∀ k i, i + k = s + 1 → post (cd_v2 (cd_vb G s) n k i) → wX_violation_12 post (nI s) (nI n) (nI al) (nI mf) (nI mj) (nI fc) (nI jc) (nI dc) (nI fD) (nI kc) (nI vc) (nI sc) (nI fT) (nI rc) (nI qc) (nF aL) (nF aR) (nF aC) (nF aP) (nF aZ) (nF aD) (nF aK) (nF aV) (nF aW) (nF aS) (nF aU) (nF aI) (nF aA) (nF aQ) (nF aO) (nF aF) (k + 1) (nI i) := by
  have hal := (cd_N_al hN).1
  intro k
  induction k with
  | zero =>
    intro i h hp
    rw [wX_violation_12]
    exact br_t (nI_lt (by omega) (by omega)) hp
  | succ k ih =>
    intro i h hp
    have hv : cd_vb G s i ≤ s := cd_vb_le
    rw [wX_violation_12]
    refine br_f (nI_nlt (by omega) (by omega)) (cd_xVB hN hC (by omega) hs ⟨n + 1, cd_xVi27 hN (by omega) (by omega) n 0 (by omega) (fun e => ih (i + 1) (by omega) ?_) (fun r e => ?_)⟩)
    · have : post (cd_vo (cd_v1 (cd_vb G s i) i n 0) (cd_v2 (cd_vb G s) n k (i + 1))) := hp
      rw [e] at this; exact this
    · have : post (cd_vo (cd_v1 (cd_vb G s i) i n 0) (cd_v2 (cd_vb G s) n k (i + 1))) := hp
      rw [e] at this; exact this
/-! preservation -/
theorem cd_xPC13 {post : Int32 → Prop} {J4 : Int32 → Int32 → Prop} {r z : Nat} (hN : cd_N n al) (hdc : dc ≤ 20) (hC : ∀ m, m ≤ al → aC m = G m) (hD : ∀ i, i < dc → aD i ≤ al) (hz : z ≤ al) (hJ : J4 (nI (cd_gr (cd_hP G aD) dc z)) (nI (r + 1))) :
    ∀ k i, i + k = dc → wX_preservedClosure_13 post J4 (nI r) (nI n) (nI al) (nI mf) (nI mj) (nI fc) (nI jc) (nI dc) (nI fD) (nI kc) (nI vc) (nI sc) (nI fT) (nI rc) (nI qc) (nF aL) (nF aR) (nF aC) (nF aP) (nF aZ) (nF aD) (nF aK) (nF aV) (nF aW) (nF aS) (nF aU) (nF aI) (nF aA) (nF aQ) (nF aO) (nF aF) (k + 1) (nI (cd_gr (cd_hP G aD) i z)) (nI i) := by
  have hal := (cd_N_al hN).1
  intro k
  induction k with
  | zero =>
    intro i h
    have e : i = dc := by omega
    subst e
    rw [wX_preservedClosure_13]
    exact br_t (nI_le (Nat.le_refl _) (by omega)) (nm_r (nI_1 r) hJ)
  | succ k ih =>
    intro i h
    have I := ih (i + 1) (by omega)
    have c : (nI i).toNatClampNeg = i := nI_clamp (by omega)
    have le : aD i &&& cd_gr (cd_hP G aD) i z ≤ al := Nat.le_trans Nat.and_le_left (hD i (by omega))
    have c2 : (nI (aD i &&& cd_gr (cd_hP G aD) i z)).toNatClampNeg = aD i &&& cd_gr (cd_hP G aD) i z := nI_clamp (by omega)
    rw [wX_preservedClosure_13]
    dsimp only
    rw [c, show nF aD i &&& nI (cd_gr (cd_hP G aD) i z) = nI (aD i &&& cd_gr (cd_hP G aD) i z) from nx_and _ _, c2]
    refine br_f (nI_ge (by omega) (by omega)) ⟨vp_in_nI (by omega) (by omega), vp_in_nI (by omega) (by omega), vp_in_nI (by omega) (by omega), nm_r (e' := nI (cd_gr (cd_hP G aD) (i + 1) z)) ?_ (nm_r (nI_1 i) I)⟩
    show nI _ ||| (nI (aC _) &&& nI (aD i)) = _
    rw [hC _ le, nx_and, cd_or]
    rfl
theorem cd_xPC4 {post : Int32 → Prop} {z : Nat} (hN : cd_N n al) (hdc : dc ≤ 20) (hC : ∀ m, m ≤ al → aC m = G m) (hD : ∀ i, i < dc → aD i ≤ al) (hz : z ≤ al) (hp : post (nI (cd_it (cd_hP G aD) dc 6 z))) :
    ∀ k r, r + k = 6 → wX_preservedClosure_4 post (nI n) (nI al) (nI mf) (nI mj) (nI fc) (nI jc) (nI dc) (nI fD) (nI kc) (nI vc) (nI sc) (nI fT) (nI rc) (nI qc) (nF aL) (nF aR) (nF aC) (nF aP) (nF aZ) (nF aD) (nF aK) (nF aV) (nF aW) (nF aS) (nF aU) (nF aI) (nF aA) (nF aQ) (nF aO) (nF aF) (k + 1) (nI (cd_it (cd_hP G aD) dc r z)) (nI r) := by
  intro k
  induction k with
  | zero =>
    intro r h
    have e : r = 6 := by omega
    subst e
    rw [wX_preservedClosure_4]
    exact br_t (show (6 : Int32) ≤ nI 6 from by decide) hp
  | succ k ih =>
    intro r h
    rw [wX_preservedClosure_4]
    exact br_f (nI_ge (b := 6) (by omega) (by decide)) ⟨dc + 1, cd_xPC13 (z := cd_it (cd_hP G aD) dc r z) hN hdc hC hD (cd_it_in (cd_hP_inf hN hD) hz r).2 (ih (r + 1) (by omega)) dc 0 (by omega)⟩
theorem cd_xPC {post : Int32 → Prop} {z : Nat} (hN : cd_N n al) (hdc : dc ≤ 20) (hC : ∀ m, m ≤ al → aC m = G m) (M : cd_Mo al G) (hD : ∀ i, i < dc → aD i ≤ al) (hz : z ≤ al) (hp : post (nI (cd_pr al G aD dc z))) : wpX_preservedClosure post ((nI n), (nI al), (nI mf), (nI mj), (nI fc), (nI jc), (nI dc), (nI fD), (nI kc), (nI vc), (nI sc), (nI fT), (nI rc), (nI qc), (nF aL), (nF aR), (nF aC), (nF aP), (nF aZ), (nF aD), (nF aK), (nF aV), (nF aW), (nF aS), (nF aU), (nF aI), (nF aA), (nF aQ), (nF aO), (nF aF)) (nI z) := by
  rw [← cd_pr_it hN hD M hz] at hp
  exact Exists.intro 7 (cd_xPC4 hN hdc hC hD hz hp 6 0 rfl)
def cd_LP (al : Nat) (G D L R : Nat → Nat) (dc f : Nat) : Prop := ¬ cd_Su (R f) (cd_pr al G D dc (L f))
theorem cd_xLF2 {post : Int32 → Prop} (hN : cd_N n al) (hfc : fc ≤ 8) (hdc : dc ≤ 20) (F : cd_FD al fc aL aR) (hC : ∀ m, m ≤ al → aC m = G m) (M : cd_Mo al G) (hD : ∀ i, i < dc → aD i ≤ al) :
    ∀ k i, i + k = fc → post (cd_lf (cd_LP al G aD aL aR dc) k i) → wX_lostFd_2 post (nI n) (nI al) (nI mf) (nI mj) (nI fc) (nI jc) (nI dc) (nI fD) (nI kc) (nI vc) (nI sc) (nI fT) (nI rc) (nI qc) (nF aL) (nF aR) (nF aC) (nF aP) (nF aZ) (nF aD) (nF aK) (nF aV) (nF aW) (nF aS) (nF aU) (nF aI) (nF aA) (nF aQ) (nF aO) (nF aF) (k + 1) (nI i) := by
  have hal := (cd_N_al hN).1
  intro k
  induction k with
  | zero =>
    intro i h hp
    rw [wX_lostFd_2]
    exact br_t (nI_le (by omega) (by omega)) hp
  | succ k ih =>
    intro i h hp
    have c : (nI i).toNatClampNeg = i := nI_clamp (by omega)
    have Fi := F i (by omega)
    rw [wX_lostFd_2]
    dsimp only
    rw [c]
    refine br_f (nI_ge (by omega) (by omega)) ⟨vp_in_nI (by omega) (by omega), cd_xPC hN hdc hC M hD Fi.1 ⟨vp_in_nI (by omega) (by omega), cd_in (aR i) _ (fun e => nm_r (nI_1 i) (ih (i + 1) (by omega) ?_)) (fun e => ?_)⟩⟩
    · rw [cd_lf_f (fun z => z e)] at hp; exact hp
    · rw [cd_lf_t (P := cd_LP al G aD aL aR dc) e] at hp; exact hp
end
end
section
section
variable {n al mf mj : Nat}
variable {yL yP yC yK yS yU : Nat → Nat} {ys : Nat → Int32}
variable {G L R D : Nat → Nat} {fc dc : Nat}
theorem cd_yin {post : Int32 → Prop} {x y : Int32} (a b : Nat) (hp : post (nI (cd_b (cd_Su a b)))) (hx : x = nI a := by rfl) (hy : y = nI b := by rfl) (ha : a < 2 ^ 31 := by omega) : wpY_inside post ((nI n), (nI al), (nI mf), (nI mj), (nF yL), ys, (nF yP), (nF yC), (nF yK), (nF yS), (nF yU)) x y :=
  cd_in a b (fun e => cd_p1 e hp) (fun e => cd_p0 e hp) hx hy ha
/-- the dependencies as the list holds them -/
def cd_YF (al fc : Nat) (L R yL : Nat → Nat) : Prop := ∀ i, i < fc → yL i = L i * 64 + R i ∧ L i ≤ al ∧ R i ≤ al
theorem cd_YF_l {al i : Nat} (hal : al < 64) (F : cd_YF al fc L R yL) (hi : i < fc) : nF yL i >>> ((6 : Int32) &&& 31) = nI (L i) := by
  obtain ⟨e, h1, h2⟩ := F i hi
  show nI (yL i) >>> ((6 : Int32) &&& 31) = _
  rw [pk_shrN (by omega) _ 6 (by decide), show yL i / 2 ^ 6 = L i by omega]
theorem cd_YF_r {al i : Nat} (hal : al < 64) (F : cd_YF al fc L R yL) (hi : i < fc) : nF yL i &&& 63 = nI (R i) := by
  obtain ⟨e, h1, h2⟩ := F i hi
  show nI (yL i) &&& 63 = _
  rw [pk_andN (by omega) 6 (by decide), show yL i % 2 ^ 6 = R i by omega]
theorem cd_yC117 {post : Int32 → Prop} {x1 x2 : Int32} (h : ¬ x1 = 2) (hp : post 1) : ∃ m, wY_closed_117 post x1 x2 (nI n) (nI al) (nI mf) (nI mj) (nF yL) ys (nF yP) (nF yC) (nF yK) (nF yS) (nF yU) m 64 := by
  refine ⟨1, ?_⟩
  rw [wY_closed_117]
  exact br_c (fun _ => hp) (fun _ => br_f h hp)
theorem cd_yC60 {post : Int32 → Prop} {x1 x2 : Int32} (h : ¬ x1 = 1) (hp : ∃ m, wY_closed_117 post x1 x2 (nI n) (nI al) (nI mf) (nI mj) (nF yL) ys (nF yP) (nF yC) (nF yK) (nF yS) (nF yU) m 64) : ∃ m, wY_closed_60 post x1 x2 (nI n) (nI al) (nI mf) (nI mj) (nF yL) ys (nF yP) (nF yC) (nF yK) (nF yS) (nF yU) m 0 := by
  refine ⟨1, ?_⟩
  rw [wY_closed_60]
  exact br_f (by decide) (br_f h hp)
theorem cd_yC2n {post : Int32 → Prop} {x1 x2 : Int32} (h : ¬ x1 = 0) (hp : ∃ m, wY_closed_60 post x1 x2 (nI n) (nI al) (nI mf) (nI mj) (nF yL) ys (nF yP) (nF yC) (nF yK) (nF yS) (nF yU) m 0) : wpY_closed post ((nI n), (nI al), (nI mf), (nI mj), (nF yL), ys, (nF yP), (nF yC), (nF yK), (nF yS), (nF yU)) x1 x2 := by
  refine Exists.intro 1 ?_
  show wY_closed_2 post x1 x2 (nI n) (nI al) (nI mf) (nI mj) (nF yL) ys (nF yP) (nF yC) (nF yK) (nF yS) (nF yU) 1 0
  rw [wY_closed_2]
  exact br_c (fun _ => hp) (fun _ => br_f h hp)
theorem cd_yC2 {post : Int32 → Prop} {z : Nat} (hal : al < 64) (hfc : fc ≤ 8) (hz : z ≤ al) (h0 : ys 0 = nI fc) (F : cd_YF al fc L R yL) (hp : post (nI (cd_b (cd_FC L R fc z)))) :
    ∀ k i, i + k = fc → (∀ j, j < i → cd_Su (L j) z → cd_Su (R j) z) → wY_closed_2 post 0 (nI z) (nI n) (nI al) (nI mf) (nI mj) (nF yL) ys (nF yP) (nF yC) (nF yK) (nF yS) (nF yU) (k + 1) (nI i) := by
  intro k
  induction k with
  | zero =>
    intro i h H
    rw [wY_closed_2]
    dsimp only
    rw [h0]
    exact br_t (nI_le (by omega) (by omega)) (cd_yC60 (by decide) (cd_yC117 (by decide) (cd_p1 (P := cd_FC L R fc z) (fun j hj => H j (by omega)) hp)))
  | succ k ih =>
    intro i h H
    have c : (nI i).toNatClampNeg = i := nI_clamp (by omega)
    have Fi := F i (by omega)
    have S : (cd_Su (L i) z → cd_Su (R i) z) → wY_closed_2 post 0 (nI z) (nI n) (nI al) (nI mf) (nI mj) (nF yL) ys (nF yP) (nF yC) (nF yK) (nF yS) (nF yU) (k + 1) (nI (i + 1)) := fun q => ih (i + 1) (by omega) fun j hj => by
      by_cases e : j = i
      · subst e; exact q
      · exact H j (by omega)
    rw [wY_closed_2]
    dsimp only
    rw [h0, c, cd_YF_l hal F (by omega), cd_YF_r hal F (by omega)]
    exact br_f (nI_ge (by omega) (by omega)) (br_t rfl ⟨vp_in_nI (by omega) (by omega), cd_yin (L i) z (cd_br (fun g => nm_r (nI_1 i) (S fun q => absurd q g)) (fun g => ⟨vp_in_nI (by omega) (by omega), cd_yin (R i) z (cd_br (fun g' => cd_p0 (P := cd_FC L R fc z) (fun q => g' (q i (by omega) g)) hp) (fun g' => nm_r (nI_1 i) (S fun _ => g')))⟩))⟩)
theorem cd_yCl0 {post : Int32 → Prop} {z : Nat} (hal : al < 64) (hfc : fc ≤ 8) (hz : z ≤ al) (h0 : ys 0 = nI fc) (F : cd_YF al fc L R yL) (hp : post (nI (cd_b (cd_FC L R fc z)))) : wpY_closed post ((nI n), (nI al), (nI mf), (nI mj), (nF yL), ys, (nF yP), (nF yC), (nF yK), (nF yS), (nF yU)) 0 (nI z) :=
  Exists.intro (fc + 1) (cd_yC2 hal hfc hz h0 F hp fc 0 (by omega) (fun j hj => absurd hj (by omega)))
/-! rule 1: the units -/
def cd_UC (T : Nat → Nat) (z : Nat) : Prop := ∀ u, u < 512 → T u ≠ 0 → cd_Su (u / 8) z → cd_Su (2 ^ (u % 8)) z
theorem cd_u8 {u : Nat} (h : u < 512) : nI u >>> ((3 : Int32) &&& 31) = nI (u / 8) := pk_shrN (by omega) _ 3 (by decide)
theorem cd_m8 {u : Nat} (h : u < 512) : nI u &&& 7 = nI (u % 8) := pk_andN (by omega) 3 (by decide)
theorem cd_yC60u {post : Int32 → Prop} {z : Nat} (hal : al < 64) (hz : z ≤ al) (hU : ∀ u, u < 512 → yU u ≤ 1) (hp : post (nI (cd_b (cd_UC yU z)))) :
    ∀ k u, u + k = 512 → (∀ j, j < u → yU j ≠ 0 → cd_Su (j / 8) z → cd_Su (2 ^ (j % 8)) z) → wY_closed_60 post 1 (nI z) (nI n) (nI al) (nI mf) (nI mj) (nF yL) ys (nF yP) (nF yC) (nF yK) (nF yS) (nF yU) (k + 1) (nI u) := by
  intro k
  induction k with
  | zero =>
    intro u h H
    have e : u = 512 := by omega
    subst e
    rw [wY_closed_60]
    exact br_t (show (512 : Int32) ≤ nI 512 from by decide) (cd_yC117 (by decide) (cd_p1 (P := cd_UC yU z) H hp))
  | succ k ih =>
    intro u h H
    have c : (nI u).toNatClampNeg = u := nI_clamp (by omega)
    have hu := hU u (by omega)
    have S : (yU u ≠ 0 → cd_Su (u / 8) z → cd_Su (2 ^ (u % 8)) z) → wY_closed_60 post 1 (nI z) (nI n) (nI al) (nI mf) (nI mj) (nF yL) ys (nF yP) (nF yC) (nF yK) (nF yS) (nF yU) (k + 1) (nI (u + 1)) := fun q => ih (u + 1) (by omega) fun j hj => by
      by_cases e : j = u
      · subst e; exact q
      · exact H j (by omega)
    have p8 : 2 ^ (u % 8) < 2 ^ 8 := Nat.pow_lt_pow_right (by decide) (Nat.mod_lt _ (by decide))
    rw [wY_closed_60]
    dsimp only
    rw [c, cd_u8 (by omega), cd_m8 (by omega), cd_shl1 (by omega)]
    exact br_f (nI_ge (b := 512) (by omega) (by omega)) (br_t rfl ⟨vp_in_nI (by omega) (by omega), cd_brN (yU u) (by omega) (fun g => nm_r (nI_1 u) (S fun q => absurd g q)) (fun g => cd_yin (u / 8) z (cd_br (fun g' => nm_r (nI_1 u) (S fun _ q => absurd q g')) (fun g' => cd_yin (2 ^ (u % 8)) z (cd_br (fun g2 => cd_p0 (P := cd_UC yU z) (fun q => g2 (q u (by omega) g g')) hp) (fun g2 => nm_r (nI_1 u) (S fun _ _ => g2))) rfl rfl (by omega))))⟩)
theorem cd_yCl1 {post : Int32 → Prop} {z : Nat} (hal : al < 64) (hz : z ≤ al) (hU : ∀ u, u < 512 → yU u ≤ 1) (hp : post (nI (cd_b (cd_UC yU z)))) : wpY_closed post ((nI n), (nI al), (nI mf), (nI mj), (nF yL), ys, (nF yP), (nF yC), (nF yK), (nF yS), (nF yU)) 1 (nI z) :=
  cd_yC2n (by decide) ⟨513, cd_yC60u hal hz hU hp 512 0 rfl (fun j hj => absurd hj (by omega))⟩
/-! rule 2: preservation -/
theorem cd_yC138 {post : Int32 → Prop} {J : Int32 → Prop} {p z : Nat} (hN : cd_N n al) (hz : z ≤ al) (hp64 : p < 20) (hC : ∀ m, m ≤ al → yC m = G m) (hG : ∀ m, m ≤ al → G m ≤ al) (hD : yL (64 + p) = D p) (hDl : D p ≤ al)
    (hn : ¬ (∀ w, w ≤ al → cd_Su w (D p &&& z) → cd_Su (G w &&& D p) z) → post 0) (hJ : (∀ w, w ≤ al → cd_Su w (D p &&& z) → cd_Su (G w &&& D p) z) → J (nI (64 + p + 1))) :
    ∀ k i, i + k = al + 1 → (∀ w, w < i → cd_Su w (D p &&& z) → cd_Su (G w &&& D p) z) → wY_closed_138 post J 2 (nI z) (nI (64 + p)) (nI n) (nI al) (nI mf) (nI mj) (nF yL) ys (nF yP) (nF yC) (nF yK) (nF yS) (nF yU) (k + 1) (nI i) := by
  have hal := (cd_N_al hN).1
  intro k
  induction k with
  | zero =>
    intro i h H
    rw [wY_closed_138]
    exact br_t (nI_lt (by omega) (by omega)) (nm_r (nI_1 _) (hJ fun w hw => H w (by omega)))
  | succ k ih =>
    intro i h H
    have c : (nI i).toNatClampNeg = i := nI_clamp (by omega)
    have c2 : (nI (64 + p)).toNatClampNeg = 64 + p := nI_clamp (by omega)
    have S : (cd_Su i (D p &&& z) → cd_Su (G i &&& D p) z) → wY_closed_138 post J 2 (nI z) (nI (64 + p)) (nI n) (nI al) (nI mf) (nI mj) (nF yL) ys (nF yP) (nF yC) (nF yK) (nF yS) (nF yU) (k + 1) (nI (i + 1)) := fun q => ih (i + 1) (by omega) fun j hj => by
      by_cases e : j = i
      · subst e; exact q
      · exact H j (by omega)
    have gl := hG i (by omega)
    have gd : G i &&& D p ≤ al := Nat.le_trans Nat.and_le_left gl
    rw [wY_closed_138]
    dsimp only
    rw [c, c2, show nF yL (64 + p) = nI (D p) from congrArg nI hD, show nF yC i = nI (G i) from congrArg nI (hC i (by omega)), nx_and, nx_and]
    exact br_f (nI_nlt (by omega) (by omega)) ⟨vp_in_nI (by omega) (by omega), cd_yin i (D p &&& z) (cd_br (fun g => nm_r (nI_1 i) (S fun q => absurd q g)) (fun g => ⟨vp_in_nI (by omega) (by omega), vp_in_nI (by omega) (by omega), cd_yin (G i &&& D p) z (cd_br (fun g' => hn fun q => g' (q i (by omega) g)) (fun g' => nm_r (nI_1 i) (S fun _ => g')))⟩))⟩
theorem cd_yC117p {post : Int32 → Prop} {z : Nat} (hN : cd_N n al) (hz : z ≤ al) (hdc : dc ≤ 20) (h1 : ys 1 = nI dc) (hC : ∀ m, m ≤ al → yC m = G m) (hG : ∀ m, m ≤ al → G m ≤ al) (hD : ∀ p, p < dc → yL (64 + p) = D p ∧ D p ≤ al) (hp : post (nI (cd_b (cd_PC G D al dc z)))) :
    ∀ k p, p + k = dc → (∀ i, i < p → ∀ w, w ≤ al → cd_Su w (D i &&& z) → cd_Su (G w &&& D i) z) → wY_closed_117 post 2 (nI z) (nI n) (nI al) (nI mf) (nI mj) (nF yL) ys (nF yP) (nF yC) (nF yK) (nF yS) (nF yU) (k + 1) (nI (64 + p)) := by
  intro k
  induction k with
  | zero =>
    intro p h H
    rw [wY_closed_117]
    dsimp only
    rw [h1]
    exact br_t (show (64 : Int32) + nI dc ≤ _ from by rw [show (64 : Int32) + nI dc = nI (64 + dc) from nI_add 64 dc]; exact nI_le (by omega) (by omega)) (cd_p1 (P := cd_PC G D al dc z) (fun i hi => H i (by omega)) hp)
  | succ k ih =>
    intro p h H
    rw [wY_closed_117]
    dsimp only
    rw [h1]
    refine br_f (show ¬ (64 : Int32) + nI dc ≤ _ from by rw [show (64 : Int32) + nI dc = nI (64 + dc) from nI_add 64 dc]; exact nI_ge (by omega) (by omega)) (br_t rfl ⟨al + 1 + 1, cd_yC138 hN hz (by omega) hC hG (hD p (by omega)).1 (hD p (by omega)).2 (fun q => cd_p0 (P := cd_PC G D al dc z) (fun z' => q (z' p (by omega))) hp) (fun q => ih (p + 1) (by omega) fun i hi => ?_) (al + 1) 0 (by omega) (fun w hw => absurd hw (by omega))⟩)
    by_cases e : i = p
    · subst e; exact q
    · exact H i (by omega)
theorem cd_yCl2 {post : Int32 → Prop} {z : Nat} (hN : cd_N n al) (hz : z ≤ al) (hdc : dc ≤ 20) (h1 : ys 1 = nI dc) (hC : ∀ m, m ≤ al → yC m = G m) (hG : ∀ m, m ≤ al → G m ≤ al) (hD : ∀ p, p < dc → yL (64 + p) = D p ∧ D p ≤ al) (hp : post (nI (cd_b (cd_PC G D al dc z)))) : wpY_closed post ((nI n), (nI al), (nI mf), (nI mj), (nF yL), ys, (nF yP), (nF yC), (nF yK), (nF yS), (nF yU)) 2 (nI z) :=
  cd_yC2n (by decide) (cd_yC60 (by decide) ⟨dc + 1, cd_yC117p hN hz hdc h1 hC hG hD hp dc 0 (by omega) (fun j hj => absurd hj (by omega))⟩)
/-! least -/
theorem cd_yLe2 {post : Int32 → Prop} {x1 : Int32} {C : Nat → Prop} {x : Nat} (hal : al < 64) (hc : ∀ z, z ≤ al → ∀ q : Int32 → Prop, q (nI (cd_b (C z))) → wpY_closed q ((nI n), (nI al), (nI mf), (nI mj), (nF yL), ys, (nF yP), (nF yC), (nF yK), (nF yS), (nF yU)) x1 (nI z)) :
    ∀ k z, z + k = al → post (nI (cd_sc (fun z => cd_Su x z ∧ C z) k z)) → x < 64 → wY_least_2 post x1 (nI x) (nI n) (nI al) (nI mf) (nI mj) (nF yL) ys (nF yP) (nF yC) (nF yK) (nF yS) (nF yU) (k + 1) (nI z) := by
  intro k
  induction k with
  | zero =>
    intro z h hp hx
    have e : z = al := by omega
    subst e
    rw [wY_least_2]
    exact br_t (nI_le (Nat.le_refl _) (by omega)) hp
  | succ k ih =>
    intro z h hp hx
    rw [wY_least_2]
    refine br_f (nI_ge (by omega) (by omega)) (cd_yin x z (cd_br (fun g => nm_r (nI_1 z) (ih (z + 1) (by omega) ?_ hx)) (fun g => hc z (by omega) _ (cd_br (fun g' => nm_r (nI_1 z) (ih (z + 1) (by omega) ?_ hx)) (fun g' => ?_)))))
    · rw [cd_sc_f (P := fun z => cd_Su x z ∧ C z) (fun q => g q.1)] at hp; exact hp
    · rw [cd_sc_f (P := fun z => cd_Su x z ∧ C z) (fun q => g' q.2)] at hp; exact hp
    · rw [cd_sc_t (P := fun z => cd_Su x z ∧ C z) ⟨g, g'⟩] at hp; exact hp
theorem cd_yLe {post : Int32 → Prop} {x1 : Int32} {C : Nat → Prop} {x : Nat} (hal : al < 64) (hx : x ≤ al) (hc : ∀ z, z ≤ al → ∀ q : Int32 → Prop, q (nI (cd_b (C z))) → wpY_closed q ((nI n), (nI al), (nI mf), (nI mj), (nF yL), ys, (nF yP), (nF yC), (nF yK), (nF yS), (nF yU)) x1 (nI z))
    (hp : post (nI (cd_sc (fun z => cd_Su x z ∧ C z) (al - x) x))) : wpY_least post ((nI n), (nI al), (nI mf), (nI mj), (nF yL), ys, (nF yP), (nF yC), (nF yK), (nF yS), (nF yU)) x1 (nI x) :=
  Exists.intro (al - x + 1) (cd_yLe2 hal hc (al - x) x (by omega) hp (by omega))
theorem cd_yL0 {post : Int32 → Prop} {x : Nat} (hal : al < 64) (hfc : fc ≤ 8) (hx : x ≤ al) (h0 : ys 0 = nI fc) (F : cd_YF al fc L R yL) (hp : post (nI (cd_cl al L R fc x))) : wpY_least post ((nI n), (nI al), (nI mf), (nI mj), (nF yL), ys, (nF yP), (nF yC), (nF yK), (nF yS), (nF yU)) 0 (nI x) :=
  cd_yLe hal hx (fun z hz q hq => cd_yCl0 hal hfc hz h0 F hq) hp
theorem cd_yL1 {post : Int32 → Prop} {x : Nat} (hal : al < 64) (hx : x ≤ al) (hU : ∀ u, u < 512 → yU u ≤ 1) (hp : post (nI (cd_sc (fun z => cd_Su x z ∧ cd_UC yU z) (al - x) x))) : wpY_least post ((nI n), (nI al), (nI mf), (nI mj), (nF yL), ys, (nF yP), (nF yC), (nF yK), (nF yS), (nF yU)) 1 (nI x) :=
  cd_yLe hal hx (fun z hz q hq => cd_yCl1 hal hz hU hq) hp
theorem cd_yL2 {post : Int32 → Prop} {x : Nat} (hN : cd_N n al) (hx : x ≤ al) (hdc : dc ≤ 20) (h1 : ys 1 = nI dc) (hC : ∀ m, m ≤ al → yC m = G m) (hG : ∀ m, m ≤ al → G m ≤ al) (hD : ∀ p, p < dc → yL (64 + p) = D p ∧ D p ≤ al) (hp : post (nI (cd_pr al G D dc x))) : wpY_least post ((nI n), (nI al), (nI mf), (nI mj), (nF yL), ys, (nF yP), (nF yC), (nF yK), (nF yS), (nF yU)) 2 (nI x) :=
  cd_yLe (cd_N_al hN).1 hx (fun z hz q hq => cd_yCl2 hN hz hdc h1 hC hG hD hq) hp
/-! all closures -/
theorem cd_yCA2 {post : SY → Prop} (hal : al < 64) (hfc : fc ≤ 8) (h0 : ys 0 = nI fc) (F : cd_YF al fc L R yL) (hp : ∀ C : Nat → Nat, (∀ m, m ≤ al → C m = cd_cl al L R fc m) → post ((nI n), (nI al), (nI mf), (nI mj), (nF yL), ys, (nF yP), (nF (C)), (nF yK), (nF yS), (nF yU))) :
    ∀ k i, i + k = al + 1 → ∀ C : Nat → Nat, (∀ m, m < i → C m = cd_cl al L R fc m) → wY_closeAll_2 post (nI n) (nI al) (nI mf) (nI mj) (k + 1) (nI i) (nF yL) ys (nF yP) (nF (C)) (nF yK) (nF yS) (nF yU) := by
  intro k
  induction k with
  | zero =>
    intro i h C H
    rw [wY_closeAll_2]
    exact br_t (nI_lt (by omega) (by omega)) (hp C fun m hm => H m (by omega))
  | succ k ih =>
    intro i h C H
    rw [wY_closeAll_2]
    refine br_f (nI_nlt (by omega) (by omega)) (cd_yL0 hal hfc (by omega) h0 F ⟨vp_in_nI (by omega) (by decide), nm_r (e' := nF (cd_up C i (cd_cl al L R fc i))) ?_ (nm_r (nI_1 i) (ih (i + 1) (by omega) _ fun m hm => ?_))⟩)
    · rw [nI_clamp (by omega), cd_upd]
    · by_cases e : m = i
      · subst e; rw [cd_us]
      · rw [cd_un e]; exact H m (by omega)
theorem cd_yCA {post : SY → Prop} (hal : al < 64) (hfc : fc ≤ 8) (h0 : ys 0 = nI fc) (F : cd_YF al fc L R yL) (hp : ∀ C : Nat → Nat, (∀ m, m ≤ al → C m = cd_cl al L R fc m) → post ((nI n), (nI al), (nI mf), (nI mj), (nF yL), ys, (nF yP), (nF (C)), (nF yK), (nF yS), (nF yU))) : wpY_closeAll post ((nI n), (nI al), (nI mf), (nI mj), (nF yL), ys, (nF yP), (nF yC), (nF yK), (nF yS), (nF yU)) :=
  Exists.intro (al + 1 + 1) (cd_yCA2 hal hfc h0 F hp (al + 1) 0 (by omega) yC (fun m h => absurd h (by omega)))
/-! keys -/
theorem cd_ySK {post : Int32 → Prop} {x s : Nat} (hal : al < 64) (hC : ∀ m, m ≤ al → yC m = G m) (hx : x ≤ al) (hs : s ≤ al) (hp : post (nI (cd_b (cd_SK G s x)))) : wpY_superkey post ((nI n), (nI al), (nI mf), (nI mj), (nF yL), ys, (nF yP), (nF yC), (nF yK), (nF yS), (nF yU)) (nI s) (nI x) := by
  have c : (nI x).toNatClampNeg = x := nI_clamp (by omega)
  unfold wpY_superkey
  rw [c]
  exact cd_yin x s (cd_br (fun g => cd_p0 (P := cd_SK G s x) (fun z => g z.1) hp) (fun g => ⟨vp_in_nI (by omega) (by decide), cd_yin s (G x) (cd_br (fun g' => cd_p0 (P := cd_SK G s x) (fun z => g' z.2) hp) (fun g' => cd_p1 (P := cd_SK G s x) ⟨g, g'⟩ hp)) rfl (congrArg nI (hC x hx))⟩))
theorem cd_yMK28 {post : SY → Prop} {J : Int32 → (Nat → Int32) → (Nat → Int32) → (Nat → Int32) → (Nat → Int32) → (Nat → Int32) → (Nat → Int32) → (Nat → Int32) → Prop} {x s : Nat} (hal : al < 64) (hC : ∀ m, m ≤ al → yC m = G m) (hx : x ≤ al) (hs : s ≤ al)
    (hJ : ∀ K : Nat → Nat, K x = cd_b (cd_Key G s x) → (∀ m, m ≠ x → K m = yK m) → J (nI (x + 1)) (nF yL) ys (nF yP) (nF yC) (nF (K)) (nF yS) (nF yU)) :
    ∀ k i, i + k = x → ∀ K : Nat → Nat, K x = cd_b (cd_SK G s x ∧ ∀ y, y < i → cd_Su y x → ¬ cd_SK G s y) → (∀ m, m ≠ x → K m = yK m) → wY_markKeys_28 post J (nI s) (nI x) (nI n) (nI al) (nI mf) (nI mj) (k + 1) (nI i) (nF yL) ys (nF yP) (nF yC) (nF (K)) (nF yS) (nF yU) := by
  intro k
  induction k with
  | zero =>
    intro i h K H1 H2
    have e : i = x := by omega
    subst e
    rw [wY_markKeys_28]
    exact br_t (nI_le (Nat.le_refl _) (by omega)) (nm_r (nI_1 _) (hJ K H1 H2))
  | succ k ih =>
    intro i h K H1 H2
    have S : ¬ (cd_Su i x ∧ cd_SK G s i) → wY_markKeys_28 post J (nI s) (nI x) (nI n) (nI al) (nI mf) (nI mj) (k + 1) (nI (i + 1)) (nF yL) ys (nF yP) (nF yC) (nF (K)) (nF yS) (nF yU) := fun q => ih (i + 1) (by omega) K (H1.trans (cd_be ⟨fun z => ⟨z.1, fun y hy sy => by
      by_cases e : y = i
      · subst e; exact fun z' => q ⟨sy, z'⟩
      · exact z.2 y (by omega) sy⟩, fun z => ⟨z.1, fun y hy => z.2 y (by omega)⟩⟩)) H2
    rw [wY_markKeys_28]
    refine br_f (nI_ge (by omega) (by omega)) (cd_yin i x (cd_br (fun g => nm_r (nI_1 i) (S fun z => g z.1)) (fun g => cd_ySK hal hC (by omega) hs (cd_br (fun g' => nm_r (nI_1 i) (S fun z => g' z.2)) (fun g' => ⟨vp_in_nI (by omega) (by decide), nm_r (e' := nF (cd_up K x 0)) ?_ (nm_r (nI_1 i) (ih (i + 1) (by omega) _ ?_ fun m hm => ?_))⟩)))))
    · rw [nI_clamp (by omega), cd_vn0, cd_upd]
    · rw [cd_us]; exact (cd_bf fun z => z.2 i (by omega) g g').symm
    · rw [cd_un hm]; exact H2 m hm
theorem cd_yMK6 {post : SY → Prop} {s : Nat} (hal : al < 64) (hC : ∀ m, m ≤ al → yC m = G m) (hs : s ≤ al) (hp : ∀ K : Nat → Nat, (∀ m, m ≤ al → K m = cd_b (cd_Key G s m)) → post ((nI n), (nI al), (nI mf), (nI mj), (nF yL), ys, (nF yP), (nF yC), (nF (K)), (nF yS), (nF yU))) :
    ∀ k i, i + k = al + 1 → ∀ K : Nat → Nat, (∀ m, m < i → K m = cd_b (cd_Key G s m)) → wY_markKeys_6 post (nI s) (nI n) (nI al) (nI mf) (nI mj) (k + 1) (nI i) (nF yL) ys (nF yP) (nF yC) (nF (K)) (nF yS) (nF yU) := by
  intro k
  induction k with
  | zero =>
    intro i h K H
    rw [wY_markKeys_6]
    exact br_t (nI_lt (by omega) (by omega)) (hp K fun m hm => H m (by omega))
  | succ k ih =>
    intro i h K H
    rw [wY_markKeys_6]
    refine br_f (nI_nlt (by omega) (by omega)) (cd_ySK hal hC (by omega) hs ⟨vp_in_nI (by omega) (by decide), nm_r (e' := nF (cd_up K i (cd_b (cd_SK G s i)))) ?_ ⟨i + 1, cd_yMK28 (x := i) hal hC (by omega) hs (fun K' h1 h2 => ih (i + 1) (by omega) K' fun m hm => ?_) i 0 (by omega) _ ?_ (fun _ _ => rfl)⟩⟩)
    · rw [nI_clamp (by omega), cd_vn (cd_ble _), cd_upd]
    · by_cases e : m = i
      · subst e; exact h1
      · rw [h2 m e, cd_un e]; exact H m (by omega)
    · rw [cd_us]; exact cd_be ⟨fun z => ⟨z, fun y hy => absurd hy (by omega)⟩, fun z => z.1⟩
theorem cd_yMK {post : SY → Prop} {s : Nat} (hal : al < 64) (hfc : fc ≤ 8) (h0 : ys 0 = nI fc) (F : cd_YF al fc L R yL) (hs : s ≤ al)
    (hp : ∀ C K : Nat → Nat, (∀ m, m ≤ al → C m = cd_cl al L R fc m) → (∀ m, m ≤ al → K m = cd_b (cd_Key (cd_cl al L R fc) s m)) → post ((nI n), (nI al), (nI mf), (nI mj), (nF yL), ys, (nF yP), (nF (C)), (nF (K)), (nF yS), (nF yU))) : wpY_markKeys post ((nI n), (nI al), (nI mf), (nI mj), (nF yL), ys, (nF yP), (nF yC), (nF yK), (nF yS), (nF yU)) (nI s) := by
  unfold wpY_markKeys
  exact cd_yCA hal hfc h0 F fun C hC => ⟨al + 1 + 1, cd_yMK6 (G := cd_cl al L R fc) hal hC hs (fun K hK => hp C K hC hK) (al + 1) 0 (by omega) yK (fun m h => absurd h (by omega))⟩
theorem cd_yIK2 {post : Int32 → Prop} {x s : Nat} (hal : al < 64) (hx : x < 64) (hs : s ≤ al) (hK : ∀ m, m ≤ al → yK m = cd_b (cd_Key G s m)) (hp : post (nI (cd_b (cd_IK G s x)))) :
    ∀ k i, i + k = al + 1 → (∀ y, y < i → ¬ (cd_Key G s y ∧ cd_Su x y)) → wY_inSomeKey_2 post (nI x) (nI n) (nI al) (nI mf) (nI mj) (nF yL) ys (nF yP) (nF yC) (nF yK) (nF yS) (nF yU) (k + 1) (nI i) := by
  intro k
  induction k with
  | zero =>
    intro i h H
    rw [wY_inSomeKey_2]
    refine br_t (nI_lt (by omega) (by omega)) (cd_p0 (P := cd_IK G s x) (fun ⟨y, h1, h2⟩ => H y ?_ ⟨h1, h2⟩) hp)
    have := cd_key_le h1; omega
  | succ k ih =>
    intro i h H
    have c : (nI i).toNatClampNeg = i := nI_clamp (by omega)
    have S : ¬ (cd_Key G s i ∧ cd_Su x i) → wY_inSomeKey_2 post (nI x) (nI n) (nI al) (nI mf) (nI mj) (nF yL) ys (nF yP) (nF yC) (nF yK) (nF yS) (nF yU) (k + 1) (nI (i + 1)) := fun g => ih (i + 1) (by omega) fun y hy => by
      by_cases e : y = i
      · subst e; exact g
      · exact H y (by omega)
    rw [wY_inSomeKey_2]
    dsimp only
    rw [c, show nF yK i = nI (cd_b (cd_Key G s i)) from congrArg nI (hK i (by omega))]
    exact br_f (nI_nlt (by omega) (by omega)) ⟨vp_in_nI (by omega) (by decide), cd_br (fun g => nm_r (nI_1 i) (S fun z => g z.1)) (fun g => cd_yin x i (cd_br (fun g' => nm_r (nI_1 i) (S fun z => g' z.2)) (fun g' => cd_p1 (P := cd_IK G s x) ⟨i, g, g'⟩ hp)))⟩
theorem cd_yIK {post : Int32 → Prop} {s : Nat} {y : Int32} (x : Nat) (hal : al < 64) (hx : x < 64) (hs : s ≤ al) (hK : ∀ m, m ≤ al → yK m = cd_b (cd_Key G s m)) (hp : post (nI (cd_b (cd_IK G s x)))) (hy : y = nI x) : wpY_inSomeKey post ((nI n), (nI al), (nI mf), (nI mj), (nF yL), ys, (nF yP), (nF yC), (nF yK), (nF yS), (nF yU)) y := by
  subst hy
  exact Exists.intro (al + 1 + 1) (cd_yIK2 hal hx hs hK hp (al + 1) 0 (by omega) (fun y hy => absurd hy (by omega)))
theorem cd_yVi {post : Int32 → Prop} {x s a : Nat} (hal : al < 64) (hC : ∀ m, m ≤ al → yC m = G m) (hx : x ≤ al) (hs : s ≤ al) (ha : a < 6) (hp : post (nI (cd_b (cd_Vi G s x a)))) : wpY_violates post ((nI n), (nI al), (nI mf), (nI mj), (nF yL), ys, (nF yP), (nF yC), (nF yK), (nF yS), (nF yU)) (nI s) (nI x) (nI a) := by
  have c : (nI x).toNatClampNeg = x := nI_clamp (by omega)
  have p8 : 2 ^ a < 2 ^ 6 := Nat.pow_lt_pow_right (by decide) ha
  unfold wpY_violates
  rw [c]
  refine cd_yin x s (cd_br (fun g => cd_p0 (P := cd_Vi G s x a) (fun z => g (cd_Vi_iff.mp z).1) hp) (fun g => cd_ySK hal hC hx hs (cd_br (fun g' => ⟨vp_in_nI (by omega) (by decide), ?_⟩) (fun g' => cd_p0 (P := cd_Vi G s x a) (fun z => (cd_Vi_iff.mp z).2.1 g') hp))))
  rw [cd_shl1 (by omega), cd_dfI, show nF yC x = nI (G x) from congrArg nI (hC x hx), nx_and]
  exact cd_yin (2 ^ a) (cd_df s x &&& G x) (cd_br (fun h => cd_p0 (P := cd_Vi G s x a) (fun z => h (cd_Vi_iff.mp z).2.2) hp) (fun h => cd_p1 (P := cd_Vi G s x a) (cd_Vi_iff.mpr ⟨g, g', h⟩) hp)) rfl rfl (by omega)
/-! the normal form -/
theorem cd_yNF86 {post : Int32 → SY → Prop} {J23 J34 : Int32 → Int32 → Prop} {x1 x3 : Int32} {f v i g : Nat} (hf : f < 2 ^ 31) (hv : v < 2 ^ 31) (hi : i < 2 ^ 31) (e : g = if f ≤ v then f else v) (hJ : J34 (nI g) (nI (i + 1))) : wY_normalForm_86 post J23 J34 x1 (nI f) x3 (nI i) (nI v) (nI n) (nI al) (nI mf) (nI mj) (nF yL) ys (nF yP) (nF yC) (nF yK) (nF yS) (nF yU) := by
  unfold wY_normalForm_86
  exact pk_le f v (fun h => nm_r (nI_1 i) (by rw [e, if_pos h] at hJ; exact hJ)) (fun h => nm_r (nI_1 i) (by rw [e, if_neg (by omega)] at hJ; exact hJ))
theorem cd_yNF34 {post : Int32 → SY → Prop} {J23 : Int32 → Int32 → Prop} {x s f : Nat} (hN : cd_N n al) (hC : ∀ m, m ≤ al → yC m = G m) (hK : ∀ m, m ≤ al → yK m = cd_b (cd_Key G s m)) (hx : x ≤ al) (hs : s ≤ al) (hf : f ≤ 4)
    (hJ : J23 (nI (if f ≤ cd_lv G s x then f else cd_lv G s x)) (nI (x + 1))) :
    ∀ k a, a + k = n → ∀ g, g ≤ f → (∀ b, b < a → g ≤ cd_hr G s x b) → (g = f ∨ ∃ b, b < a ∧ g = cd_hr G s x b) → wY_normalForm_34 post J23 (nI s) (nI x) (nI n) (nI al) (nI mf) (nI mj) (nF yL) ys (nF yP) (nF yC) (nF yK) (nF yS) (nF yU) (k + 1) (nI g) (nI a) := by
  have hal := (cd_N_al hN).1
  have hn := hN.2.1
  have mm := cd_lv_min (G := G) (x := x) hN hs
  intro k
  induction k with
  | zero =>
    intro a h g h1 h2 h3
    have e : a = n := by omega
    subst e
    rw [wY_normalForm_34]
    refine br_t (nI_le (Nat.le_refl _) (by omega)) (nm_r (nI_1 _) ?_)
    have : g = if f ≤ cd_lv G s x then f else cd_lv G s x := by
      have q1 : g ≤ cd_lv G s x := by
        rcases mm.2 with q | ⟨b, hb, q⟩
        · omega
        · rw [q]; exact h2 b hb
      split
      · rcases h3 with q | ⟨b, hb, q⟩
        · exact q
        · have := mm.1 b hb; clear mm; omega
      · rcases h3 with q | ⟨b, hb, q⟩
        · clear mm; omega
        · have := mm.1 b hb; clear mm; omega
    rw [this]; exact hJ
  | succ k ih =>
    intro a h g h1 h2 h3
    have S : ∀ v, v = cd_hr G s x a → wY_normalForm_86 post J23 (wY_normalForm_34 post J23 (nI s) (nI x) (nI n) (nI al) (nI mf) (nI mj) (nF yL) ys (nF yP) (nF yC) (nF yK) (nF yS) (nF yU) (k + 1)) (nI s) (nI g) (nI x) (nI a) (nI v) (nI n) (nI al) (nI mf) (nI mj) (nF yL) ys (nF yP) (nF yC) (nF yK) (nF yS) (nF yU) := fun v hv => by
      have v4 : v ≤ 4 := by
        rw [hv]; unfold cd_hr
        split
        · split
          · omega
          · split <;> omega
        · omega
      refine cd_yNF86 (g := if g ≤ v then g else v) (by omega) (by omega) (by omega) rfl (ih (a + 1) (by omega) _ (by split <;> omega) (fun b hb => ?_) ?_)
      · by_cases e : b = a
        · subst e; rw [← hv]; split <;> omega
        · have := h2 b (by omega); split <;> omega
      · split
        · rcases h3 with q | ⟨b, hb, q⟩
          · exact Or.inl q
          · exact Or.inr ⟨b, by omega, q⟩
        · exact Or.inr ⟨a, by omega, hv⟩
    have p6 : 2 ^ a < 2 ^ 6 := Nat.pow_lt_pow_right (by decide) (by omega)
    rw [wY_normalForm_34]
    exact br_f (nI_ge (by omega) (by omega)) (cd_yVi hal hC hx hs (by omega) (cd_br (fun q => S 4 (cd_hr_4 q).symm) (fun q => cd_yIK (2 ^ a) hal (by omega) hs hK (cd_br (fun q' => cd_yIK x hal (by omega) hs hK (cd_br (fun q2 => S 2 (cd_hr_2 q q' q2).symm) (fun q2 => S 1 (cd_hr_1 q q' q2).symm)) rfl) (fun q' => S 3 (cd_hr_3 q q').symm)) (cd_shl1 (by omega)))))
theorem cd_yNF23 {post : Int32 → SY → Prop} {s : Nat} (hN : cd_N n al) (hC : ∀ m, m ≤ al → yC m = G m) (hK : ∀ m, m ≤ al → yK m = cd_b (cd_Key G s m)) (hs : s ≤ al) (hp : post (nI (cd_nf G s (al + 1))) ((nI n), (nI al), (nI mf), (nI mj), (nF yL), ys, (nF yP), (nF yC), (nF yK), (nF yS), (nF yU))) :
    ∀ k i, i + k = al + 1 → wY_normalForm_23 post (nI s) (nI n) (nI al) (nI mf) (nI mj) (nF yL) ys (nF yP) (nF yC) (nF yK) (nF yS) (nF yU) (k + 1) (nI (cd_nf G s i)) (nI i) := by
  have hal := (cd_N_al hN).1
  intro k
  induction k with
  | zero =>
    intro i h
    have e : i = al + 1 := by omega
    subst e
    rw [wY_normalForm_23]
    exact br_t (nI_lt (by omega) (by omega)) hp
  | succ k ih =>
    intro i h
    rw [wY_normalForm_23]
    exact br_f (nI_nlt (by omega) (by omega)) ⟨n + 1, cd_yNF34 hN hC hK (by omega) hs (cd_nf_4 i) (ih (i + 1) (by omega)) n 0 (by omega) _ (Nat.le_refl _) (fun b hb => absurd hb (by omega)) (Or.inl rfl)⟩
/-! the first violation -/
theorem cd_yVi30 {post : Int32 → SY → Prop} {J : Int32 → Prop} {x s : Nat} (hN : cd_N n al) (hC : ∀ m, m ≤ al → yC m = G m) (hx : x ≤ al) (hs : s ≤ al) : ∀ k a, a + k = n → (cd_v1 (cd_vb G s x) x k a = none → J (nI (x + 1))) → (∀ r, cd_v1 (cd_vb G s x) x k a = some r → post (nI r) ((nI n), (nI al), (nI mf), (nI mj), (nF yL), ys, (nF yP), (nF yC), (nF yK), (nF yS), (nF yU))) → wY_violation_30 post J (nI s) (nI x) (nI n) (nI al) (nI mf) (nI mj) (nF yL) ys (nF yP) (nF yC) (nF yK) (nF yS) (nF yU) (k + 1) (nI a) := by
  have hal := (cd_N_al hN).1
  have hn := hN.2.1
  intro k
  induction k with
  | zero =>
    intro a h H1 H2
    rw [wY_violation_30]
    exact br_t (nI_le (by omega) (by omega)) (nm_r (nI_1 x) (H1 rfl))
  | succ k ih =>
    intro a h H1 H2
    rw [wY_violation_30]
    refine br_f (nI_ge (by omega) (by omega)) (cd_yVi hal hC hx hs (by omega) (cd_br (fun z => nm_r (nI_1 a) ?_) (fun z => ?_)))
    · rw [cd_v1_f z] at H1 H2
      exact ih (a + 1) (by omega) H1 H2
    · have := H2 _ (cd_v1_t z)
      rw [← nI_add, ← pk_mul] at this
      exact this
theorem cd_yVi20 {post : Int32 → SY → Prop} {s : Nat} (hN : cd_N n al) (hC : ∀ m, m ≤ al → yC m = G m) (hs : s ≤ al) : ∀ k i, i + k = al + 1 → post (cd_v2 (cd_vb G s) n k i) ((nI n), (nI al), (nI mf), (nI mj), (nF yL), ys, (nF yP), (nF yC), (nF yK), (nF yS), (nF yU)) → wY_violation_20 post (nI s) (nI n) (nI al) (nI mf) (nI mj) (nF yL) ys (nF yP) (nF yC) (nF yK) (nF yS) (nF yU) (k + 1) (nI i) := by
  have hal := (cd_N_al hN).1
  intro k
  induction k with
  | zero =>
    intro i h hp
    rw [wY_violation_20]
    exact br_t (nI_lt (by omega) (by omega)) hp
  | succ k ih =>
    intro i h hp
    rw [wY_violation_20]
    refine br_f (nI_nlt (by omega) (by omega)) ⟨n + 1, cd_yVi30 hN hC (by omega) hs n 0 (by omega) (fun e => ih (i + 1) (by omega) ?_) (fun r e => ?_)⟩
    · have : post (cd_vo (cd_v1 (cd_vb G s i) i n 0) (cd_v2 (cd_vb G s) n k (i + 1))) ((nI n), (nI al), (nI mf), (nI mj), (nF yL), ys, (nF yP), (nF yC), (nF yK), (nF yS), (nF yU)) := hp
      rw [e] at this; exact this
    · have : post (cd_vo (cd_v1 (cd_vb G s i) i n 0) (cd_v2 (cd_vb G s) n k (i + 1))) ((nI n), (nI al), (nI mf), (nI mj), (nF yL), ys, (nF yP), (nF yC), (nF yK), (nF yS), (nF yU)) := hp
      rw [e] at this; exact this
theorem cd_yLF6 {post : Int32 → SY → Prop} (hN : cd_N n al) (hfc : fc ≤ 8) (hdc : dc ≤ 20) (h0 : ys 0 = nI fc) (h1 : ys 1 = nI dc) (F : cd_YF al fc L R yL) (hC : ∀ m, m ≤ al → yC m = G m) (hG : ∀ m, m ≤ al → G m ≤ al) (hD : ∀ p, p < dc → yL (64 + p) = D p ∧ D p ≤ al) :
    ∀ k i, i + k = fc → post (cd_lf (cd_LP al G D L R dc) k i) ((nI n), (nI al), (nI mf), (nI mj), (nF yL), ys, (nF yP), (nF yC), (nF yK), (nF yS), (nF yU)) → wY_lostFd_6 post (nI n) (nI al) (nI mf) (nI mj) (nF yL) ys (nF yP) (nF yC) (nF yK) (nF yS) (nF yU) (k + 1) (nI i) := by
  have hal := (cd_N_al hN).1
  intro k
  induction k with
  | zero =>
    intro i h hp
    rw [wY_lostFd_6]
    dsimp only
    rw [h0]
    exact br_t (nI_le (by omega) (by omega)) hp
  | succ k ih =>
    intro i h hp
    have c : (nI i).toNatClampNeg = i := nI_clamp (by omega)
    obtain ⟨-, l1, l2⟩ := F i (by omega)
    rw [wY_lostFd_6]
    dsimp only
    rw [h0, c, cd_YF_l hal F (by omega), cd_YF_r hal F (by omega)]
    refine br_f (nI_ge (by omega) (by omega)) ⟨vp_in_nI (by omega) (by omega), vp_in_nI (by omega) (by omega), cd_yL2 hN l1 hdc h1 hC hG hD (cd_in (R i) _ (fun e => nm_r (nI_1 i) (ih (i + 1) (by omega) ?_)) (fun e => ?_))⟩
    · rw [cd_lf_f (P := cd_LP al G D L R dc) (fun z => z e)] at hp; exact hp
    · rw [cd_lf_t (P := cd_LP al G D L R dc) e] at hp; exact hp
end
end
section
/-! setting a column, in bits -/
theorem cd_st_bits {t b p : Nat} (ht : t < 2 ^ 30) (hb : b < 6) (hp : p < 32) : cd_df t (31 * 2 ^ (25 - 5 * b)) ||| p * 2 ^ (25 - 5 * b) = cd_st t b p := by
  have hlt : p * 2 ^ (25 - 5 * b) < 2 ^ 30 := by
    rcases cd_6 hb with rfl | rfl | rfl | rfl | rfl | rfl <;> simp only [Nat.reduceMul, Nat.reduceSub, Nat.reducePow] <;> omega
  have t31 : ∀ i, i < 5 → Nat.testBit 31 i = true := by decide
  have f31 : ∀ i, 5 ≤ i → Nat.testBit 31 i = false := fun i hi => Nat.testBit_lt_two_pow (Nat.lt_of_lt_of_le (by decide : 31 < 2 ^ 5) (Nat.pow_le_pow_right (by decide) hi))
  have fp : ∀ i, 5 ≤ i → p.testBit i = false := fun i hi => Nat.testBit_lt_two_pow (Nat.lt_of_lt_of_le (show p < 2 ^ 5 from hp) (Nat.pow_le_pow_right (by decide) hi))
  refine cd_sy_ext (Nat.or_lt_two_pow (Nat.lt_of_le_of_lt (cd_df_le _ _) ht) hlt) (cd_st_lt ht hb hp) fun a ha => ?_
  by_cases e : a = b
  · subst e
    rw [cd_st_s hp]
    apply Nat.eq_of_testBit_eq
    intro i
    rw [cd_sy_t, Nat.testBit_or, cd_df_t, Nat.testBit_mul_two_pow, Nat.testBit_mul_two_pow, Nat.add_sub_cancel]
    by_cases hi : i < 5
    · rw [t31 i hi, decide_eq_true hi, decide_eq_true (by omega : i + (25 - 5 * a) ≥ 25 - 5 * a)]
      simp
    · rw [decide_eq_false hi, fp i (by omega)]; rfl
  · rw [cd_st_n hp hb ha e]
    apply Nat.eq_of_testBit_eq
    intro i
    rw [cd_sy_t, cd_sy_t, Nat.testBit_or, cd_df_t, Nat.testBit_mul_two_pow, Nat.testBit_mul_two_pow]
    by_cases hi : i < 5
    · by_cases hj : i + (25 - 5 * a) ≥ 25 - 5 * b
      · rw [f31 _ (by omega), fp _ (by omega)]; simp
      · rw [decide_eq_false hj]; simp
    · rw [decide_eq_false hi]; rfl
theorem cd_stI {t b p : Nat} (ht : t < 2 ^ 30) (hb : b < 6) (hp : p < 32) : (nI t &&& (((31 : Int32) <<< (((25 : Int32) - (5 * nI b)) &&& 31)) ^^^ (-1))) ||| (nI p <<< (((25 : Int32) - (5 * nI b)) &&& 31)) = nI (cd_st t b p) := by
  rw [show (31 : Int32) <<< (((25 : Int32) - (5 * nI b)) &&& 31) = nI (31 * 2 ^ (25 - 5 * b)) from cd_shlI (v := 31) (by decide) hb, cd_shlI hp hb, cd_dfI, cd_or, cd_st_bits ht hb hp]
theorem cd_set_rp {A A' : Nat → Nat} {c b p q : Nat} (h : ∀ r, r < c → A' r = cd_rp b p q (A r)) (t : Nat) : (∃ s, cd_Set A c s ∧ t = cd_rp b p q s) ↔ cd_Set A' c t := by
  constructor
  · rintro ⟨s, ⟨i, hi, rfl⟩, rfl⟩; exact ⟨i, hi, h i hi⟩
  · rintro ⟨i, hi, rfl⟩; exact ⟨A i, ⟨i, hi, rfl⟩, h i hi⟩
/-- a pass of merges: flag, measure, rows -/
def cd_FI (Q : Nat → (Nat → Nat) → Prop) (A0 : Nat → Nat) (μ : Nat) (tst : Prop) (x μ1 : Nat) (A : Nat → Nat) : Prop := Q μ1 A ∧ ((x = 0 ∧ A = A0 ∧ μ1 = μ ∧ tst) ∨ (x = 1 ∧ μ1 < μ))
theorem cd_FI_to {Q : Nat → (Nat → Nat) → Prop} {A0 A : Nat → Nat} {μ x μ1 : Nat} {t t' : Prop} (h : cd_FI Q A0 μ t x μ1 A) (g : x = 0 → A = A0 → t → t') : cd_FI Q A0 μ t' x μ1 A :=
  ⟨h.1, h.2.elim (fun z => Or.inl ⟨z.1, z.2.1, z.2.2.1, g z.1 z.2.1 z.2.2.2⟩) Or.inr⟩
theorem cd_FI_le {Q : Nat → (Nat → Nat) → Prop} {A0 A : Nat → Nat} {μ x μ1 : Nat} {t : Prop} (h : cd_FI Q A0 μ t x μ1 A) : x ≤ 1 ∧ μ1 ≤ μ := by
  rcases h.2 with z | z <;> omega
theorem cd_FI_1 {Q : Nat → (Nat → Nat) → Prop} {A0 A A' : Nat → Nat} {μ x μ1 μ2 : Nat} {t t' : Prop} (h : cd_FI Q A0 μ t x μ1 A) (g : μ2 < μ1) (q : Q μ2 A') : cd_FI Q A0 μ t' 1 μ2 A' :=
  ⟨q, Or.inr ⟨rfl, by have := (cd_FI_le h).2; omega⟩⟩
section
variable {n al mf mj fc jc dc fD kc vc sc fT rc qc : Nat} {aL aR aC aP aZ aD aK aV aW aS aU aI aA aQ aO aF : Nat → Nat}
variable {T0 : Nat → Prop}
theorem cd_xsy {post : Int32 → Prop} {t a : Nat} {x : Int32} (hx : x = nI t) (ht : t < 2 ^ 31) (ha : a < 6) (hp : post (nI (cd_sy t a))) : wpX_symbol post ((nI n), (nI al), (nI mf), (nI mj), (nI fc), (nI jc), (nI dc), (nI fD), (nI kc), (nI vc), (nI sc), (nI fT), (nI rc), (nI qc), (nF aL), (nF aR), (nF aC), (nF aP), (nF aZ), (nF aD), (nF aK), (nF aV), (nF aW), (nF aS), (nF aU), (nF aI), (nF aA), (nF aQ), (nF aO), (nF aF)) x (nI a) := by
  subst hx
  unfold wpX_symbol
  rw [cd_syI ht ha]
  exact hp
theorem cd_xRS11 {post : SX → Prop} {b p q : Nat} {A0 : Nat → Nat} (hb : b < 6) (hp : p < 32) (hq : q < 32) (hrc : rc ≤ 64) (hA : ∀ r, r < rc → A0 r < 2 ^ 30) (K : ∀ A : Nat → Nat, (∀ r, r < rc → A r = cd_rp b p q (A0 r)) → post ((nI n), (nI al), (nI mf), (nI mj), (nI fc), (nI jc), (nI dc), (nI fD), (nI kc), (nI vc), (nI sc), (nI fT), (nI rc), (nI qc), (nF aL), (nF aR), (nF aC), (nF aP), (nF aZ), (nF aD), (nF aK), (nF aV), (nF aW), (nF aS), (nF aU), (nF aI), (nF (A)), (nF aQ), (nF aO), (nF aF))) :
    ∀ k i, i + k = rc → ∀ A : Nat → Nat, (∀ r, r < i → A r = cd_rp b p q (A0 r)) → (∀ r, i ≤ r → r < rc → A r = A0 r) → wX_replaceSymbol_11 post (nI q) (nI p) ((25 : Int32) - (5 * nI b)) (nI n) (nI al) (nI mf) (nI mj) (nI fc) (nI jc) (nI dc) (nI fD) (nI kc) (nI vc) (nI sc) (nI fT) (nI rc) (nI qc) (k + 1) (nI i) (nF aL) (nF aR) (nF aC) (nF aP) (nF aZ) (nF aD) (nF aK) (nF aV) (nF aW) (nF aS) (nF aU) (nF aI) (nF (A)) (nF aQ) (nF aO) (nF aF) := by
  intro k
  induction k with
  | zero =>
    intro i h A h1 h2
    have e : i = rc := by omega
    subst e
    rw [wX_replaceSymbol_11]
    exact br_t (nI_le (Nat.le_refl _) (by omega)) (K A h1)
  | succ k ih =>
    intro i h A h1 h2
    have c : (nI i).toNatClampNeg = i := nI_clamp (by omega)
    have hAi := hA i (by omega)
    have ei := h2 i (Nat.le_refl _) (by omega)
    rw [wX_replaceSymbol_11]
    dsimp only
    rw [c, show nF A i = nI (A0 i) from congrArg nI ei, cd_syI (by omega) hb]
    refine br_f (nI_ge (by omega) (by omega)) ⟨vp_in_nI (by omega) (by omega), pk_eq (cd_sy (A0 i) b) q (fun e => ⟨vp_in_nI (by omega) (by omega), vp_in_nI (by omega) (by omega), nm_r (e' := nF (cd_up A i (cd_st (A0 i) b p))) ?_ (nm_r (nI_1 i) (ih (i + 1) (by omega) _ (fun r hr => ?_) (fun r hr1 hr2 => ?_)))⟩) (fun e => nm_r (nI_1 i) (ih (i + 1) (by omega) A (fun r hr => ?_) (fun r hr1 hr2 => h2 r (by omega) hr2))) rfl rfl (Nat.lt_trans (cd_sy_lt _ _) (by decide)) (by omega)⟩
    · rw [cd_stI hAi hb hp, cd_upd]
    · by_cases z : r = i
      · subst z; rw [cd_us, cd_rp_t e]
      · rw [cd_un z]; exact h1 r (by omega)
    · rw [cd_un (by omega)]; exact h2 r (by omega) hr2
    · by_cases z : r = i
      · subst z; rw [cd_rp_f e]; exact ei
      · exact h1 r (by omega)
theorem cd_xRS {post : SX → Prop} {b p q : Nat} (hb : b < 6) (hp : p < 32) (hq : q < 32) (hrc : rc ≤ 64) (hA : ∀ r, r < rc → aA r < 2 ^ 30) (K : ∀ A : Nat → Nat, (∀ r, r < rc → A r = cd_rp b p q (aA r)) → post ((nI n), (nI al), (nI mf), (nI mj), (nI fc), (nI jc), (nI dc), (nI fD), (nI kc), (nI vc), (nI sc), (nI fT), (nI rc), (nI qc), (nF aL), (nF aR), (nF aC), (nF aP), (nF aZ), (nF aD), (nF aK), (nF aV), (nF aW), (nF aS), (nF aU), (nF aI), (nF (A)), (nF aQ), (nF aO), (nF aF))) : wpX_replaceSymbol post ((nI n), (nI al), (nI mf), (nI mj), (nI fc), (nI jc), (nI dc), (nI fD), (nI kc), (nI vc), (nI sc), (nI fT), (nI rc), (nI qc), (nF aL), (nF aR), (nF aC), (nF aP), (nF aZ), (nF aD), (nF aK), (nF aV), (nF aW), (nF aS), (nF aU), (nF aI), (nF aA), (nF aQ), (nF aO), (nF aF)) (nI b) (nI q) (nI p) :=
  nm_e ⟨rc + 1, cd_xRS11 hb hp hq hrc hA K rc 0 (by omega) aA (fun r h => absurd h (by omega)) (fun r _ _ => rfl)⟩
theorem cd_xEq3 {post : SX → Prop} {f i j μ : Nat} (hN : cd_N n al) (hrc : rc ≤ 64) (hf : f < fc) (hR : aR f ≤ al) (hi : i < rc) (hj : j < rc)
    (K : ∀ (A : Nat → Nat) (μ' : Nat), μ' < μ → cd_CS n fc jc aL aR aZ aP T0 μ' (cd_Set A rc) → post ((nI n), (nI al), (nI mf), (nI mj), (nI fc), (nI jc), (nI dc), (nI fD), (nI kc), (nI vc), (nI sc), (nI fT), (nI rc), (nI qc), (nF aL), (nF aR), (nF aC), (nF aP), (nF aZ), (nF aD), (nF aK), (nF aV), (nF aW), (nF aS), (nF aU), (nF aI), (nF (A)), (nF aQ), (nF aO), (nF aF))) :
    ∀ k a, a + k = n → ∀ (A : Nat → Nat) (μ1 : Nat), cd_CS n fc jc aL aR aZ aP T0 μ1 (cd_Set A rc) → cd_ag n (aL f) (A i) (A j) → (μ1 < μ ∨ (μ1 = μ ∧ ∃ b, a ≤ b ∧ b < n ∧ (aR f).testBit b = true ∧ cd_sy (A i) b ≠ cd_sy (A j) b)) →
      wX_equate_3 post (nI i) (nI j) (nI (aR f)) (k + 1) (nI a) (nI n) (nI al) (nI mf) (nI mj) (nI fc) (nI jc) (nI dc) (nI fD) (nI kc) (nI vc) (nI sc) (nI fT) (nI rc) (nI qc) (nF aL) (nF aR) (nF aC) (nF aP) (nF aZ) (nF aD) (nF aK) (nF aV) (nF aW) (nF aS) (nF aU) (nF aI) (nF (A)) (nF aQ) (nF aO) (nF aF) := by
  have hal := (cd_N_al hN).1
  have hn := hN.2.1
  intro k
  induction k with
  | zero =>
    intro a h A μ1 hC hag hm
    rw [wX_equate_3]
    refine br_t (nI_le (by omega) (by omega)) (K A μ1 ?_ hC)
    rcases hm with z | ⟨_, b, h1, h2, _⟩
    · exact z
    · omega
  | succ k ih =>
    intro a h A μ1 hC hag hm
    have ci : (nI i).toNatClampNeg = i := nI_clamp (by omega)
    have cj : (nI j).toNatClampNeg = j := nI_clamp (by omega)
    have oi : ∀ r, r < rc → cd_Ok n (A r) := fun r hr => cd_CS_ok hC ⟨r, hr, rfl⟩
    have ti := (oi i hi).1
    have tj := (oi j hj).1
    have li := cd_sy_lt (A i) a
    have lj := cd_sy_lt (A j) a
    have E : (¬ ((aR f).testBit a = true ∧ cd_sy (A i) a ≠ cd_sy (A j) a)) → wX_equate_3 post (nI i) (nI j) (nI (aR f)) (k + 1) (nI (a + 1)) (nI n) (nI al) (nI mf) (nI mj) (nI fc) (nI jc) (nI dc) (nI fD) (nI kc) (nI vc) (nI sc) (nI fT) (nI rc) (nI qc) (nF aL) (nF aR) (nF aC) (nF aP) (nF aZ) (nF aD) (nF aK) (nF aV) (nF aW) (nF aS) (nF aU) (nF aI) (nF (A)) (nF aQ) (nF aO) (nF aF) := fun z => by
      refine ih (a + 1) (by omega) A μ1 hC hag (hm.elim Or.inl fun ⟨e, b, h1, h2, h3, h4⟩ => Or.inr ⟨e, b, ?_, h2, h3, h4⟩)
      by_cases q : b = a
      · subst q; exact absurd ⟨h3, h4⟩ z
      · omega
    have Mg : ∀ (u w p q : Nat), (aR f).testBit a = true → cd_Set A rc u → cd_Set A rc w → cd_ag n (aL f) u w → cd_sy u a = p → cd_sy w a = q → p < q → ∀ A' : Nat → Nat, (∀ r, r < rc → A' r = cd_rp a p q (A r)) → wX_equate_3 post (nI i) (nI j) (nI (aR f)) (k + 1) (nI (a + 1)) (nI n) (nI al) (nI mf) (nI mj) (nI fc) (nI jc) (nI dc) (nI fD) (nI kc) (nI vc) (nI sc) (nI fT) (nI rc) (nI qc) (nF aL) (nF aR) (nF aC) (nF aP) (nF aZ) (nF aD) (nF aK) (nF aV) (nF aW) (nF aS) (nF aU) (nF aI) (nF (A')) (nF aQ) (nF aO) (nF aF) := fun u w p q hb hu hw huw ep eq hpq A' hA' => by
      have mg := cd_merge hn (by omega) hf hu hw huw hb ep eq hpq hC
      have p32 : p < 32 := ep ▸ cd_sy_lt u a
      refine ih (a + 1) (by omega) A' (μ1 - 1) (cd_CS_congr (cd_set_rp hA') mg.2) (fun c hc hL => ?_) (Or.inl ?_)
      · rw [hA' i hi, hA' j hj]
        have g := hag c hc hL
        by_cases e : c = a
        · subst e
          by_cases z : cd_sy (A i) c = q
          · rw [cd_rp_b p32 z, cd_rp_b p32 (g ▸ z)]
          · rw [cd_rp_f z, cd_rp_f (g ▸ z)]; exact g
        · rw [cd_rp_n p32 (by omega) (by omega) e, cd_rp_n p32 (by omega) (by omega) e]; exact g
      · rcases hm with z | z
        · omega
        · omega
    rw [wX_equate_3]
    dsimp only
    rw [ci, cj]
    refine br_f (nI_ge (by omega) (by omega)) (cd_tb (aR f) a (fun z => nm_r (nI_1 a) (E fun q => by rw [z] at q; exact absurd q.1 (by decide))) (fun z => ⟨vp_in_nI (by omega) (by omega), cd_xsy rfl (by omega) (by omega) ⟨vp_in_nI (by omega) (by omega), cd_xsy rfl (by omega) (by omega)
      (pk_le (cd_sy (A j) a) (cd_sy (A i) a) (fun h1 => pk_le (cd_sy (A i) a) (cd_sy (A j) a) (fun h2 => nm_r (nI_1 a) (E fun q => q.2 (by omega)))
        (fun h2 => cd_xRS (by omega) lj li hrc (fun r hr => (oi r hr).1) fun A' hA' => nm_r (nI_1 a) (Mg (A j) (A i) _ _ z ⟨j, hj, rfl⟩ ⟨i, hi, rfl⟩ (cd_ag_sym hag) rfl rfl h2 A' hA')) rfl rfl (by omega) (by omega))
        (fun h1 => cd_xRS (by omega) li lj hrc (fun r hr => (oi r hr).1) fun A' hA' => nm_r (nI_1 a) (Mg (A i) (A j) _ _ z ⟨i, hi, rfl⟩ ⟨j, hj, rfl⟩ hag rfl rfl h1 A' hA')) rfl rfl (by omega) (by omega))⟩⟩))
theorem cd_xEq {post : SX → Prop} {f i j μ : Nat} (hN : cd_N n al) (hrc : rc ≤ 64) (hf : f < fc) (hR : aR f ≤ al) (hi : i < rc) (hj : j < rc) (hC : cd_CS n fc jc aL aR aZ aP T0 μ (cd_Set aA rc)) (hag : cd_ag n (aL f) (aA i) (aA j)) (hd : ¬ cd_ag n (aR f) (aA i) (aA j))
    (K : ∀ (A : Nat → Nat) (μ' : Nat), μ' < μ → cd_CS n fc jc aL aR aZ aP T0 μ' (cd_Set A rc) → post ((nI n), (nI al), (nI mf), (nI mj), (nI fc), (nI jc), (nI dc), (nI fD), (nI kc), (nI vc), (nI sc), (nI fT), (nI rc), (nI qc), (nF aL), (nF aR), (nF aC), (nF aP), (nF aZ), (nF aD), (nF aK), (nF aV), (nF aW), (nF aS), (nF aU), (nF aI), (nF (A)), (nF aQ), (nF aO), (nF aF))) : wpX_equate post ((nI n), (nI al), (nI mf), (nI mj), (nI fc), (nI jc), (nI dc), (nI fD), (nI kc), (nI vc), (nI sc), (nI fT), (nI rc), (nI qc), (nF aL), (nF aR), (nF aC), (nF aP), (nF aZ), (nF aD), (nF aK), (nF aV), (nF aW), (nF aS), (nF aU), (nF aI), (nF aA), (nF aQ), (nF aO), (nF aF)) (nI i) (nI j) (nI (aR f)) := by
  refine Exists.intro (n + 1) (cd_xEq3 hN hrc hf hR hi hj K n 0 (by omega) aA μ hC hag (Or.inr ⟨rfl, ?_⟩))
  refine Classical.byContradiction fun z => hd fun b hb hR' => Classical.byContradiction fun q => z ⟨b, by omega, hb, hR', q⟩
end
end
section
section
variable {n al mf mj fc jc dc fD kc vc sc fT rc qc : Nat} {aL aR aC aP aZ aD aK aV aW aS aU aI aA aQ aO aF : Nat → Nat}
variable {T0 : Nat → Prop}
def cd_qf (n : Nat) (L R A : Nat → Nat) (f i j : Nat) : Prop := cd_ag n (L f) (A i) (A j) → cd_ag n (R f) (A i) (A j)
theorem cd_agN {m t u : Nat} (hN : cd_N n al) (hm : m ≤ al) : (t ^^^ u) &&& cd_fi m = 0 ↔ cd_ag n m t u := by
  have hn := hN.2.1
  have hal := (cd_N_al hN).1
  rw [cd_agf (by omega)]
  exact ⟨fun h a ha => h a (by omega), fun h a ha hb => h a (cd_N_bit hN hm hb) hb⟩
theorem cd_xAF55 {post : Int32 → SX → Prop} {J4 J40 : Int32 → Int32 → Int32 → Int32 → Int32 → Int32 → Int32 → Int32 → Int32 → Int32 → Int32 → Int32 → Int32 → Int32 → Int32 → Int32 → (Nat → Int32) → (Nat → Int32) → (Nat → Int32) → (Nat → Int32) → (Nat → Int32) → (Nat → Int32) → (Nat → Int32) → (Nat → Int32) → (Nat → Int32) → (Nat → Int32) → (Nat → Int32) → (Nat → Int32) → (Nat → Int32) → (Nat → Int32) → (Nat → Int32) → (Nat → Int32) → Prop} {f i μ : Nat} {A0 : Nat → Nat} (hN : cd_N n al) (hrc : rc ≤ 64) (hfc : fc ≤ 8) (hf : f < fc) (hL : aL f ≤ al) (hR : aR f ≤ al) (hi : i < rc)
    {tst : Prop} (hJ : ∀ x μ1 A, cd_FI (fun μ A => cd_CS n fc jc aL aR aZ aP T0 μ (cd_Set A rc)) A0 μ (tst ∧ ∀ j, i < j → j < rc → cd_qf n aL aR A0 f i j) x μ1 A → J40 (nI x) (nI (i + 1)) (nI n) (nI al) (nI mf) (nI mj) (nI fc) (nI jc) (nI dc) (nI fD) (nI kc) (nI vc) (nI sc) (nI fT) (nI rc) (nI qc) (nF aL) (nF aR) (nF aC) (nF aP) (nF aZ) (nF aD) (nF aK) (nF aV) (nF aW) (nF aS) (nF aU) (nF aI) (nF (A)) (nF aQ) (nF aO) (nF aF)) :
    ∀ k j, j + k = rc → i < j → ∀ x μ1 A, cd_FI (fun μ A => cd_CS n fc jc aL aR aZ aP T0 μ (cd_Set A rc)) A0 μ (tst ∧ ∀ j', i < j' → j' < j → cd_qf n aL aR A0 f i j') x μ1 A →
      wX_applyFds_55 post J4 J40 (nI f) (nI (cd_fi (aL f))) (nI (cd_fi (aR f))) (nI i) (k + 1) (nI x) (nI j) (nI n) (nI al) (nI mf) (nI mj) (nI fc) (nI jc) (nI dc) (nI fD) (nI kc) (nI vc) (nI sc) (nI fT) (nI rc) (nI qc) (nF aL) (nF aR) (nF aC) (nF aP) (nF aZ) (nF aD) (nF aK) (nF aV) (nF aW) (nF aS) (nF aU) (nF aI) (nF (A)) (nF aQ) (nF aO) (nF aF) := by
  have hal := (cd_N_al hN).1
  intro k
  induction k with
  | zero =>
    intro j h hij x μ1 A hI
    have e : j = rc := by omega
    subst e
    rw [wX_applyFds_55]
    exact br_t (nI_le (Nat.le_refl _) (by omega)) (nm_r (nI_1 i) (hJ x μ1 A hI))
  | succ k ih =>
    intro j h hij x μ1 A hI
    have ci : (nI i).toNatClampNeg = i := nI_clamp (by omega)
    have cj : (nI j).toNatClampNeg = j := nI_clamp (by omega)
    have cf : (nI f).toNatClampNeg = f := nI_clamp (by omega)
    have gL := (cd_on_lt (aL f) (by omega)).2
    have gR := (cd_on_lt (aR f) (by omega)).2
    have b1 : (A i ^^^ A j) &&& cd_fi (aL f) ≤ cd_fi (aL f) := Nat.and_le_right
    have b2 : (A i ^^^ A j) &&& cd_fi (aR f) ≤ cd_fi (aR f) := Nat.and_le_right
    have E : (cd_qf n aL aR A f i j) → wX_applyFds_55 post J4 J40 (nI f) (nI (cd_fi (aL f))) (nI (cd_fi (aR f))) (nI i) (k + 1) (nI x) (nI (j + 1)) (nI n) (nI al) (nI mf) (nI mj) (nI fc) (nI jc) (nI dc) (nI fD) (nI kc) (nI vc) (nI sc) (nI fT) (nI rc) (nI qc) (nF aL) (nF aR) (nF aC) (nF aP) (nF aZ) (nF aD) (nF aK) (nF aV) (nF aW) (nF aS) (nF aU) (nF aI) (nF (A)) (nF aQ) (nF aO) (nF aF) := fun z => by
      refine ih (j + 1) (by omega) (by omega) x μ1 A (cd_FI_to hI fun _ e t => ⟨t.1, fun j' h1 h2 => ?_⟩)
      by_cases q : j' = j
      · subst q; subst e; exact z
      · exact t.2 j' h1 (by omega)
    rw [wX_applyFds_55]
    dsimp only
    rw [ci, cj, cf]
    refine br_f (nI_ge (by omega) (by omega)) ⟨vp_in_nI (by omega) (by omega), vp_in_nI (by omega) (by omega), nm_r (nx_xor (A i) (A j)) ?_⟩
    rw [nx_and, nx_and]
    refine cd_brN _ (by omega) (fun z1 => cd_brN _ (by omega) (fun z2 => nm_r (nI_1 j) (E fun _ => (cd_agN hN hR).mp z2)) (fun z2 => ⟨vp_in_nI (by omega) (by omega), cd_xEq hN hrc hf hR hi (by omega) hI.1 ((cd_agN hN hL).mp z1) (fun q => z2 ((cd_agN hN hR).mpr q)) fun A' μ' hμ hC => nm_r (nI_1 j) (ih (j + 1) (by omega) (by omega) 1 μ' A' (cd_FI_1 hI hμ hC))⟩)) (fun z1 => nm_r (nI_1 j) (E fun q => absurd ((cd_agN hN hL).mpr q) z1))
theorem cd_xAF40 {post : Int32 → SX → Prop} {J4 : Int32 → Int32 → Int32 → Int32 → Int32 → Int32 → Int32 → Int32 → Int32 → Int32 → Int32 → Int32 → Int32 → Int32 → Int32 → Int32 → (Nat → Int32) → (Nat → Int32) → (Nat → Int32) → (Nat → Int32) → (Nat → Int32) → (Nat → Int32) → (Nat → Int32) → (Nat → Int32) → (Nat → Int32) → (Nat → Int32) → (Nat → Int32) → (Nat → Int32) → (Nat → Int32) → (Nat → Int32) → (Nat → Int32) → (Nat → Int32) → Prop} {f μ : Nat} {A0 : Nat → Nat} (hN : cd_N n al) (hrc : rc ≤ 64) (hfc : fc ≤ 8) (hf : f < fc) (hL : aL f ≤ al) (hR : aR f ≤ al)
    {tst : Prop} (hJ : ∀ x μ1 A, cd_FI (fun μ A => cd_CS n fc jc aL aR aZ aP T0 μ (cd_Set A rc)) A0 μ (tst ∧ ∀ i j, i < j → j < rc → cd_qf n aL aR A0 f i j) x μ1 A → J4 (nI x) (nI (f + 1)) (nI n) (nI al) (nI mf) (nI mj) (nI fc) (nI jc) (nI dc) (nI fD) (nI kc) (nI vc) (nI sc) (nI fT) (nI rc) (nI qc) (nF aL) (nF aR) (nF aC) (nF aP) (nF aZ) (nF aD) (nF aK) (nF aV) (nF aW) (nF aS) (nF aU) (nF aI) (nF (A)) (nF aQ) (nF aO) (nF aF)) :
    ∀ k i, i + k = rc → ∀ x μ1 A, cd_FI (fun μ A => cd_CS n fc jc aL aR aZ aP T0 μ (cd_Set A rc)) A0 μ (tst ∧ ∀ i' j, i' < i → i' < j → j < rc → cd_qf n aL aR A0 f i' j) x μ1 A →
      wX_applyFds_40 post J4 (nI f) (nI (cd_fi (aL f))) (nI (cd_fi (aR f))) (k + 1) (nI x) (nI i) (nI n) (nI al) (nI mf) (nI mj) (nI fc) (nI jc) (nI dc) (nI fD) (nI kc) (nI vc) (nI sc) (nI fT) (nI rc) (nI qc) (nF aL) (nF aR) (nF aC) (nF aP) (nF aZ) (nF aD) (nF aK) (nF aV) (nF aW) (nF aS) (nF aU) (nF aI) (nF (A)) (nF aQ) (nF aO) (nF aF) := by
  intro k
  induction k with
  | zero =>
    intro i h x μ1 A hI
    have e : i = rc := by omega
    subst e
    rw [wX_applyFds_40]
    exact br_t (nI_le (Nat.le_refl _) (by omega)) (nm_r (nI_1 f) (hJ x μ1 A (cd_FI_to hI fun _ _ t => ⟨t.1, fun i' j h1 h2 => t.2 i' j (by omega) h1 h2⟩)))
  | succ k ih =>
    intro i h x μ1 A hI
    rw [wX_applyFds_40]
    refine br_f (nI_ge (by omega) (by omega)) (nm_r (nI_1 i) ⟨rc - (i + 1) + 1, cd_xAF55 (A0 := A0) (μ := μ) hN hrc hfc hf hL hR (by omega) (fun x' μ' A' hI' => ih (i + 1) (by omega) x' μ' A' (cd_FI_to hI' fun _ _ t => ⟨t.1.1, fun i' j h1 h2 h3 => ?_⟩)) (rc - (i + 1)) (i + 1) (by omega) (by omega) x μ1 A (cd_FI_to hI fun _ _ t => ⟨t, fun j' h1 h2 => absurd h1 (by omega)⟩)⟩)
    by_cases q : i' = i
    · subst q; exact t.2 j h2 h3
    · exact t.1.2 i' j (by omega) h2 h3
theorem cd_xAF4 {post : Int32 → SX → Prop} {μ : Nat} {A0 : Nat → Nat} (hN : cd_N n al) (hrc : rc ≤ 64) (hfc : fc ≤ 8) (F : cd_FD al fc aL aR) (hF : ∀ m, m < 64 → aF m = cd_fi m)
    (hp : ∀ x μ1 A, cd_FI (fun μ A => cd_CS n fc jc aL aR aZ aP T0 μ (cd_Set A rc)) A0 μ (∀ f, f < fc → ∀ i j, i < j → j < rc → cd_qf n aL aR A0 f i j) x μ1 A → post (nI x) ((nI n), (nI al), (nI mf), (nI mj), (nI fc), (nI jc), (nI dc), (nI fD), (nI kc), (nI vc), (nI sc), (nI fT), (nI rc), (nI qc), (nF aL), (nF aR), (nF aC), (nF aP), (nF aZ), (nF aD), (nF aK), (nF aV), (nF aW), (nF aS), (nF aU), (nF aI), (nF (A)), (nF aQ), (nF aO), (nF aF))) :
    ∀ k f, f + k = fc → ∀ x μ1 A, cd_FI (fun μ A => cd_CS n fc jc aL aR aZ aP T0 μ (cd_Set A rc)) A0 μ (∀ f', f' < f → ∀ i j, i < j → j < rc → cd_qf n aL aR A0 f' i j) x μ1 A →
      wX_applyFds_4 post (k + 1) (nI x) (nI f) (nI n) (nI al) (nI mf) (nI mj) (nI fc) (nI jc) (nI dc) (nI fD) (nI kc) (nI vc) (nI sc) (nI fT) (nI rc) (nI qc) (nF aL) (nF aR) (nF aC) (nF aP) (nF aZ) (nF aD) (nF aK) (nF aV) (nF aW) (nF aS) (nF aU) (nF aI) (nF (A)) (nF aQ) (nF aO) (nF aF) := by
  have hal := (cd_N_al hN).1
  intro k
  induction k with
  | zero =>
    intro f h x μ1 A hI
    have e : f = fc := by omega
    subst e
    rw [wX_applyFds_4]
    exact br_t (nI_le (Nat.le_refl _) (by omega)) ⟨cd_nar (cd_FI_le hI).1, hp x μ1 A hI⟩
  | succ k ih =>
    intro f h x μ1 A hI
    have cf : (nI f).toNatClampNeg = f := nI_clamp (by omega)
    have Ff := F f (by omega)
    have cL : (nF aL f).toNatClampNeg = aL f := nI_clamp (by omega)
    have cR : (nF aR f).toNatClampNeg = aR f := nI_clamp (by omega)
    rw [wX_applyFds_4]
    dsimp only
    rw [cf, cL, cR]
    refine br_f (nI_ge (by omega) (by omega)) ⟨vp_in_nI (by omega) (by omega), vp_in_nI (by omega) (by omega), nm_r (congrArg nI (hF (aL f) (by omega))) ⟨vp_in_nI (by omega) (by omega), vp_in_nI (by omega) (by omega), nm_r (congrArg nI (hF (aR f) (by omega))) ⟨rc + 1, cd_xAF40 (A0 := A0) (μ := μ) hN hrc hfc (by omega) Ff.1 Ff.2 (fun x' μ' A' hI' => ih (f + 1) (by omega) x' μ' A' (cd_FI_to hI' fun _ _ t f' hf' => ?_)) rc 0 (by omega) x μ1 A (cd_FI_to hI fun _ _ t => ⟨t, fun i' j h1 => absurd h1 (by omega)⟩)⟩⟩⟩
    by_cases q : f' = f
    · subst q; exact t.2
    · exact t.1 f' (by omega)
theorem cd_xAF {post : Int32 → SX → Prop} {μ : Nat} (hN : cd_N n al) (hrc : rc ≤ 64) (hfc : fc ≤ 8) (F : cd_FD al fc aL aR) (hF : ∀ m, m < 64 → aF m = cd_fi m) (hC : cd_CS n fc jc aL aR aZ aP T0 μ (cd_Set aA rc))
    (h0 : cd_ClF n fc aL aR (cd_Set aA rc) → post 0 ((nI n), (nI al), (nI mf), (nI mj), (nI fc), (nI jc), (nI dc), (nI fD), (nI kc), (nI vc), (nI sc), (nI fT), (nI rc), (nI qc), (nF aL), (nF aR), (nF aC), (nF aP), (nF aZ), (nF aD), (nF aK), (nF aV), (nF aW), (nF aS), (nF aU), (nF aI), (nF aA), (nF aQ), (nF aO), (nF aF))) (h1 : ∀ (A : Nat → Nat) (μ' : Nat), μ' < μ → cd_CS n fc jc aL aR aZ aP T0 μ' (cd_Set A rc) → post 1 ((nI n), (nI al), (nI mf), (nI mj), (nI fc), (nI jc), (nI dc), (nI fD), (nI kc), (nI vc), (nI sc), (nI fT), (nI rc), (nI qc), (nF aL), (nF aR), (nF aC), (nF aP), (nF aZ), (nF aD), (nF aK), (nF aV), (nF aW), (nF aS), (nF aU), (nF aI), (nF (A)), (nF aQ), (nF aO), (nF aF))) : wpX_applyFds post ((nI n), (nI al), (nI mf), (nI mj), (nI fc), (nI jc), (nI dc), (nI fD), (nI kc), (nI vc), (nI sc), (nI fT), (nI rc), (nI qc), (nF aL), (nF aR), (nF aC), (nF aP), (nF aZ), (nF aD), (nF aK), (nF aV), (nF aW), (nF aS), (nF aU), (nF aI), (nF aA), (nF aQ), (nF aO), (nF aF)) := by
  refine Exists.intro (fc + 1) (cd_xAF4 (A0 := aA) (μ := μ) hN hrc hfc F hF (fun x μ1 A hI => ?_) fc 0 (by omega) 0 μ aA ⟨hC, Or.inl ⟨rfl, rfl, rfl, fun f' h => absurd h (by omega)⟩⟩)
  rcases hI.2 with ⟨rfl, rfl, _, t⟩ | ⟨rfl, hμ⟩
  · refine h0 fun f hf u w ⟨i, hi, hu⟩ ⟨j, hj, hw⟩ hag => ?_
    subst hu; subst hw
    rcases Nat.lt_trichotomy i j with q | q | q
    · exact t f hf i j q hj hag
    · subst q; exact fun _ _ _ => rfl
    · exact cd_ag_sym (t f hf j i q hi (cd_ag_sym hag))
  · exact h1 A μ1 hμ hI.1
/-! sorting -/
def cd_Sle (A : Nat → Nat) (c : Nat) : Prop := ∀ a b, a < b → b < c → A a ≤ A b
theorem cd_swap_set {A : Nat → Nat} {c i j : Nat} (hi : i < c) (hj : j < c) (h : i ≠ j) (t : Nat) : cd_Set (cd_up (cd_up A j (A i)) i (A j)) c t ↔ cd_Set A c t := by
  constructor
  · rintro ⟨r, hr, rfl⟩
    by_cases e : r = i
    · subst e; rw [cd_us]; exact ⟨j, hj, rfl⟩
    · rw [cd_un e]
      by_cases e' : r = j
      · subst e'; rw [cd_us]; exact ⟨i, hi, rfl⟩
      · rw [cd_un e']; exact ⟨r, hr, rfl⟩
  · rintro ⟨r, hr, rfl⟩
    by_cases e : r = i
    · subst e
      refine ⟨j, hj, ?_⟩
      rw [cd_un (Ne.symm h), cd_us]
    · by_cases e' : r = j
      · subst e'
        exact ⟨i, hi, cd_us⟩
      · exact ⟨r, hr, by rw [cd_un e, cd_un e']⟩
theorem cd_xN12 {post : SX → Prop} {J2 : Int32 → (Nat → Int32) → (Nat → Int32) → (Nat → Int32) → (Nat → Int32) → (Nat → Int32) → (Nat → Int32) → (Nat → Int32) → (Nat → Int32) → (Nat → Int32) → (Nat → Int32) → (Nat → Int32) → (Nat → Int32) → (Nat → Int32) → (Nat → Int32) → (Nat → Int32) → (Nat → Int32) → Prop} {S0 : Nat → Prop} {i : Nat} (hrc : rc ≤ 64) (hS : ∀ t, S0 t → t < 2 ^ 30) (hi : i < rc)
    (hJ : ∀ A : Nat → Nat, (∀ t, cd_Set A rc t ↔ S0 t) → cd_Sle A (i + 1) → J2 (nI (i + 1)) (nF aL) (nF aR) (nF aC) (nF aP) (nF aZ) (nF aD) (nF aK) (nF aV) (nF aW) (nF aS) (nF aU) (nF aI) (nF (A)) (nF aQ) (nF aO) (nF aF)) :
    ∀ j, j ≤ i → ∀ A : Nat → Nat, (∀ t, cd_Set A rc t ↔ S0 t) → (∀ a b, a < b → b ≤ i → b ≠ j → A a ≤ A b) → wX_normalizeRows_12 post J2 (nI i) (nI n) (nI al) (nI mf) (nI mj) (nI fc) (nI jc) (nI dc) (nI fD) (nI kc) (nI vc) (nI sc) (nI fT) (nI rc) (nI qc) (j + 1) (nI j) (nF aL) (nF aR) (nF aC) (nF aP) (nF aZ) (nF aD) (nF aK) (nF aV) (nF aW) (nF aS) (nF aU) (nF aI) (nF (A)) (nF aQ) (nF aO) (nF aF) := by
  intro j
  induction j with
  | zero =>
    intro hj A h1 h2
    rw [wX_normalizeRows_12]
    exact br_t (show nI 0 ≤ 0 from by decide) (nm_r (nI_1 i) (hJ A h1 fun a b hab hb => h2 a b hab (by omega) (by omega)))
  | succ j ih =>
    intro hj A h1 h2
    have cj : (nI j).toNatClampNeg = j := nI_clamp (by omega)
    have cj1 : (nI (j + 1)).toNatClampNeg = j + 1 := nI_clamp (by omega)
    have bd : ∀ r, r < rc → A r < 2 ^ 30 := fun r hr => hS _ ((h1 _).mp ⟨r, hr, rfl⟩)
    have b0 := bd j (by omega)
    have b1 := bd (j + 1) (by omega)
    rw [wX_normalizeRows_12]
    dsimp only
    rw [nI_pred, cj, cj1]
    refine br_f (nI_nle (by omega) (by omega)) ⟨vp_in_nI (by omega) (by omega), vp_in_nI (by omega) (by omega), pk_le (A j) (A (j + 1)) (fun h => nm_r (nI_1 i) (hJ A h1 fun a b hab hb => ?_)) (fun h => ⟨vp_in_nI (by omega) (by omega), nm_e ⟨vp_in_nI (by omega) (by omega), vp_in_nI (by omega) (by omega), nm_r (cd_upd A (j + 1) (A j)) ⟨vp_in_nI (by omega) (by omega), nm_r (cd_upd _ j (A (j + 1))) (nm_r (pk_m1 j) (ih (by omega) _ (fun t => (cd_swap_set (A := A) (i := j) (j := j + 1) (by omega) (by omega) (by omega) t).trans (h1 t)) fun a b hab hb hbj => ?_))⟩⟩⟩)⟩
    · by_cases e : b = j + 1
      · subst e
        by_cases e' : a = j
        · subst e'; exact h
        · have := h2 a j (by omega) (by omega) (by omega)
          omega
      · exact h2 a b hab (by omega) e
    · by_cases e : b = j + 1
      · subst e
        rw [cd_un (show j + 1 ≠ j by omega), cd_us]
        by_cases e' : a = j
        · subst e'; rw [cd_us]; omega
        · rw [cd_un e', cd_un (by omega)]; exact h2 a j (by omega) (by omega) (by omega)
      · rw [cd_un hbj, cd_un e]
        by_cases e' : a = j
        · subst e'; rw [cd_us]; exact h2 (a + 1) b (by omega) hb e
        · rw [cd_un e']
          by_cases e2 : a = j + 1
          · subst e2; rw [cd_us]; exact h2 j b (by omega) hb e
          · rw [cd_un e2]; exact h2 a b hab hb e
theorem cd_xN79 {post : SX → Prop} {B : Nat → Nat} (hrc : rc ≤ 64) (hB : ∀ r, r < rc → B r < 2 ^ 30) (hS : cd_Sle B rc)
    (hp : ∀ (A : Nat → Nat) (c : Nat), c ≤ rc → cd_Srt A c → (∀ t, cd_Set A c t ↔ cd_Set B rc t) → post ((nI n), (nI al), (nI mf), (nI mj), (nI fc), (nI jc), (nI dc), (nI fD), (nI kc), (nI vc), (nI sc), (nI fT), (nI (c)), (nI qc), (nF aL), (nF aR), (nF aC), (nF aP), (nF aZ), (nF aD), (nF aK), (nF aV), (nF aW), (nF aS), (nF aU), (nF aI), (nF (A)), (nF aQ), (nF aO), (nF aF))) :
    ∀ k i, i + k = rc → ∀ (c : Nat) (A : Nat → Nat), c ≤ i → cd_Srt A c → (∀ t, cd_Set A c t ↔ cd_Set B i t) → (∀ r, i ≤ r → r < rc → A r = B r) → (0 < c → A (c - 1) = B (i - 1)) → wX_normalizeRows_79 post (nI n) (nI al) (nI mf) (nI mj) (nI fc) (nI jc) (nI dc) (nI fD) (nI kc) (nI vc) (nI sc) (nI fT) (nI rc) (nI qc) (k + 1) (nI c) (nI i) (nF aL) (nF aR) (nF aC) (nF aP) (nF aZ) (nF aD) (nF aK) (nF aV) (nF aW) (nF aS) (nF aU) (nF aI) (nF (A)) (nF aQ) (nF aO) (nF aF) := by
  intro k
  induction k with
  | zero =>
    intro i h c A h1 h2 h3 h4 h5
    have e : i = rc := by omega
    subst e
    rw [wX_normalizeRows_79]
    exact br_t (nI_le (Nat.le_refl _) (by omega)) (hp A c h1 h2 h3)
  | succ k ih =>
    intro i h c A h1 h2 h3 h4 h5
    have ci : (nI i).toNatClampNeg = i := nI_clamp (by omega)
    have cc : (nI c).toNatClampNeg = c := nI_clamp (by omega)
    have ei := h4 i (Nat.le_refl _) (by omega)
    have W : (0 < c → A (c - 1) < B i) → wX_normalizeRows_108 post (wX_normalizeRows_79 post (nI n) (nI al) (nI mf) (nI mj) (nI fc) (nI jc) (nI dc) (nI fD) (nI kc) (nI vc) (nI sc) (nI fT) (nI rc) (nI qc) (k + 1)) (nI c) (nI i) (nI n) (nI al) (nI mf) (nI mj) (nI fc) (nI jc) (nI dc) (nI fD) (nI kc) (nI vc) (nI sc) (nI fT) (nI rc) (nI qc) (nF aL) (nF aR) (nF aC) (nF aP) (nF aZ) (nF aD) (nF aK) (nF aV) (nF aW) (nF aS) (nF aU) (nF aI) (nF (A)) (nF aQ) (nF aO) (nF aF) := fun hlt => by
      unfold wX_normalizeRows_108
      rw [ci, cc]
      have low : ∀ r, r < c → A r < B i := fun r hr => by
        by_cases e : r = c - 1
        · subst e; exact hlt (by omega)
        · have := h2 r (c - 1) (by omega) (by omega); have := hlt (by omega); omega
      refine ⟨vp_in_nI (by omega) (by omega), vp_in_nI (by omega) (by omega), nm_r (cd_upd A c (A i)) (nm_r (nI_1 c) (nm_r (nI_1 i) (ih (i + 1) (by omega) (c + 1) _ (by omega) (fun a b hab hb => ?_) (fun t => ?_) (fun r hr1 hr2 => ?_) (fun _ => ?_))))⟩
      · by_cases e : b = c
        · subst e; rw [cd_us, cd_un (by omega), ei]; exact low a hab
        · rw [cd_un e, cd_un (by omega)]; exact h2 a b hab (by omega)
      · constructor
        · rintro ⟨r, hr, rfl⟩
          by_cases e : r = c
          · subst e; rw [cd_us]; exact ⟨i, by omega, ei.symm⟩
          · rw [cd_un e]
            obtain ⟨s, hs, es⟩ := (h3 (A r)).mp ⟨r, by omega, rfl⟩
            exact ⟨s, by omega, es⟩
        · rintro ⟨s, hs, rfl⟩
          by_cases e : s = i
          · subst e; exact ⟨c, by omega, by rw [cd_us]; exact ei⟩
          · obtain ⟨r, hr, er⟩ := (h3 (B s)).mpr ⟨s, by omega, rfl⟩
            exact ⟨r, by omega, by rw [cd_un (by omega)]; exact er⟩
      · rw [cd_un (by omega)]; exact h4 r (by omega) hr2
      · rw [show c + 1 - 1 = c by omega, cd_us, show i + 1 - 1 = i by omega]; exact ei
    rw [wX_normalizeRows_79]
    refine br_f (nI_ge (by omega) (by omega)) (cd_brN c (by omega) (fun z => W fun q => absurd q (by omega)) (fun z => ?_))
    obtain ⟨c', rfl⟩ : ∃ c', c = c' + 1 := ⟨c - 1, by omega⟩
    have cc' : (nI c').toNatClampNeg = c' := nI_clamp (by omega)
    have l5 := h5 (by omega)
    rw [show c' + 1 - 1 = c' by omega] at l5
    have hi0 : 0 < i := by omega
    have Bi := hB i (by omega)
    have Bi' := hB (i - 1) (by omega)
    rw [nI_pred, cc', ci]
    refine ⟨vp_in_nI (by omega) (by omega), vp_in_nI (by omega) (by omega), pk_eq (A c') (A i) (fun e => nm_r (nI_1 i) (ih (i + 1) (by omega) (c' + 1) A (by omega) h2 (fun t => (h3 t).trans ⟨fun ⟨s, hs, es⟩ => ⟨s, by omega, es⟩, fun ⟨s, hs, es⟩ => ?_⟩) (fun r hr1 hr2 => h4 r (by omega) hr2) (fun _ => ?_))) (fun e => W fun _ => ?_) rfl rfl (by omega) (by omega)⟩
    · by_cases q : s = i
      · subst q; exact ⟨s - 1, by omega, by rw [← es, ← ei, ← e, l5]⟩
      · exact ⟨s, by omega, es⟩
    · rw [show c' + 1 - 1 = c' by omega, show i + 1 - 1 = i by omega, e, ei]
    · rw [show c' + 1 - 1 = c' by omega]
      have := hS (i - 1) i (by omega) (by omega)
      omega
theorem cd_xN2 {post : SX → Prop} {S0 : Nat → Prop} (hrc : rc ≤ 64) (hS : ∀ t, S0 t → t < 2 ^ 30)
    (hp : ∀ (A : Nat → Nat) (c : Nat), c ≤ rc → cd_Srt A c → (∀ t, cd_Set A c t ↔ S0 t) → post ((nI n), (nI al), (nI mf), (nI mj), (nI fc), (nI jc), (nI dc), (nI fD), (nI kc), (nI vc), (nI sc), (nI fT), (nI (c)), (nI qc), (nF aL), (nF aR), (nF aC), (nF aP), (nF aZ), (nF aD), (nF aK), (nF aV), (nF aW), (nF aS), (nF aU), (nF aI), (nF (A)), (nF aQ), (nF aO), (nF aF))) :
    ∀ k i, i ≤ 64 → rc ≤ i + k → ∀ A : Nat → Nat, (∀ t, cd_Set A rc t ↔ S0 t) → (∀ a b, a < b → b < i → b < rc → A a ≤ A b) → wX_normalizeRows_2 post (nI n) (nI al) (nI mf) (nI mj) (nI fc) (nI jc) (nI dc) (nI fD) (nI kc) (nI vc) (nI sc) (nI fT) (nI rc) (nI qc) (k + 1) (nI i) (nF aL) (nF aR) (nF aC) (nF aP) (nF aZ) (nF aD) (nF aK) (nF aV) (nF aW) (nF aS) (nF aU) (nF aI) (nF (A)) (nF aQ) (nF aO) (nF aF) := by
  intro k
  have fin : ∀ (m i : Nat) (A : Nat → Nat), i ≤ 64 → rc ≤ i → (∀ t, cd_Set A rc t ↔ S0 t) → (∀ a b, a < b → b < i → b < rc → A a ≤ A b) → wX_normalizeRows_2 post (nI n) (nI al) (nI mf) (nI mj) (nI fc) (nI jc) (nI dc) (nI fD) (nI kc) (nI vc) (nI sc) (nI fT) (nI rc) (nI qc) (m + 1) (nI i) (nF aL) (nF aR) (nF aC) (nF aP) (nF aZ) (nF aD) (nF aK) (nF aV) (nF aW) (nF aS) (nF aU) (nF aI) (nF (A)) (nF aQ) (nF aO) (nF aF) := by
    intro m i A hi h h1 h2
    rw [wX_normalizeRows_2]
    exact br_t (nI_le h (by omega)) ⟨rc + 1, cd_xN79 (B := A) hrc (fun r hr => hS _ ((h1 _).mp ⟨r, hr, rfl⟩)) (fun a b hab hb => h2 a b hab (by omega) hb) (fun A' c g1 g2 g3 => hp A' c g1 g2 fun t => (g3 t).trans (h1 t)) rc 0 (by omega) 0 A (Nat.le_refl _) (fun a b _ hb => absurd hb (by omega)) (fun t => Iff.rfl) (fun _ _ _ => rfl) (fun z => absurd z (by omega))⟩
  induction k with
  | zero =>
    intro i hi h A h1 h2
    exact fin 0 i A hi h h1 h2
  | succ k ih =>
    intro i hi h A h1 h2
    by_cases e : rc ≤ i
    · exact fin (k + 1) i A hi e h1 h2
    · rw [wX_normalizeRows_2]
      exact br_f (nI_ge (by omega) (by omega)) ⟨i + 1, cd_xN12 hrc hS (by omega) (fun A' g1 g2 => ih (i + 1) (by omega) (by omega) A' g1 fun a b hab hb _ => g2 a b hab hb) i (Nat.le_refl _) A h1 (fun a b hab hb hbj => h2 a b hab (by omega) (by omega))⟩
theorem cd_xNR {post : SX → Prop} (hrc : rc ≤ 64) (hS : ∀ t, cd_Set aA rc t → t < 2 ^ 30)
    (hp : ∀ (A : Nat → Nat) (c : Nat), c ≤ rc → cd_Srt A c → (∀ t, cd_Set A c t ↔ cd_Set aA rc t) → post ((nI n), (nI al), (nI mf), (nI mj), (nI fc), (nI jc), (nI dc), (nI fD), (nI kc), (nI vc), (nI sc), (nI fT), (nI (c)), (nI qc), (nF aL), (nF aR), (nF aC), (nF aP), (nF aZ), (nF aD), (nF aK), (nF aV), (nF aW), (nF aS), (nF aU), (nF aI), (nF (A)), (nF aQ), (nF aO), (nF aF))) : wpX_normalizeRows post ((nI n), (nI al), (nI mf), (nI mj), (nI fc), (nI jc), (nI dc), (nI fD), (nI kc), (nI vc), (nI sc), (nI fT), (nI rc), (nI qc), (nF aL), (nF aR), (nF aC), (nF aP), (nF aZ), (nF aD), (nF aK), (nF aV), (nF aW), (nF aS), (nF aU), (nF aI), (nF aA), (nF aQ), (nF aO), (nF aF)) :=
  Exists.intro (rc + 1) (cd_xN2 hrc hS hp rc 1 (by decide) (by omega) aA (fun t => Iff.rfl) (fun a b h1 h2 => absurd h2 (by omega)))
end
end
section
theorem cd_st0 {t a : Nat} (h : cd_sy t a = 0) : cd_st t a 0 = t := by unfold cd_st; rw [h]; omega
theorem cd_st_or {t b p : Nat} (ht : t < 2 ^ 30) (hb : b < 6) (hp : p < 32) (h : cd_sy t b = 0) : t ||| p * 2 ^ (25 - 5 * b) = cd_st t b p := by
  rw [← cd_st_bits ht hb hp]
  have : cd_df t (31 * 2 ^ (25 - 5 * b)) = t := by
    apply Nat.eq_of_testBit_eq
    intro j
    rw [cd_df_t, Nat.testBit_mul_two_pow]
    by_cases q : j ≥ 25 - 5 * b
    · by_cases w : j - (25 - 5 * b) < 5
      · have e := cd_sy_t t b (j - (25 - 5 * b))
        rw [h, Nat.zero_testBit, decide_eq_true w, Bool.true_and, show j - (25 - 5 * b) + (25 - 5 * b) = j by omega] at e
        rw [← e]; rfl
      · rw [Nat.testBit_lt_two_pow (x := 31) (Nat.lt_of_lt_of_le (by decide : 31 < 2 ^ 5) (Nat.pow_le_pow_right (by decide) (by omega)))]; simp
    · rw [decide_eq_false q]; simp
  rw [this]
def cd_pmk (A : Nat → Nat) (a : Nat) : Nat → Nat
  | 0 => 0
  | r + 1 => cd_pmk A a r ||| 2 ^ cd_sy (A r) a
theorem cd_pmk_t {A : Nat → Nat} {a s : Nat} : ∀ r, (cd_pmk A a r).testBit s = true ↔ cd_pr_ (cd_Set A r) a s
  | 0 => ⟨fun h => by rw [show cd_pmk A a 0 = 0 from rfl, Nat.zero_testBit] at h; exact absurd h (by decide), fun ⟨t, ⟨i, hi, _⟩, _⟩ => absurd hi (by omega)⟩
  | r + 1 => by
    have ih := cd_pmk_t (A := A) (a := a) (s := s) r
    show (cd_pmk A a r ||| 2 ^ cd_sy (A r) a).testBit s = true ↔ _
    rw [Nat.testBit_or, Bool.or_eq_true, ih, Nat.testBit_two_pow, decide_eq_true_iff]
    constructor
    · rintro (⟨t, ⟨i, hi, e⟩, h⟩ | h)
      · exact ⟨t, ⟨i, by omega, e⟩, h⟩
      · exact ⟨A r, ⟨r, by omega, rfl⟩, h⟩
    · rintro ⟨t, ⟨i, hi, e⟩, h⟩
      by_cases q : i = r
      · subst q; subst e; exact Or.inr h
      · exact Or.inl ⟨t, ⟨i, by omega, e⟩, h⟩
def cd_EI (a q0 : Nat) (Q0 : Nat → Nat) (pres : Nat → Prop) (s i : Nat) (Q : Nat → Nat) (c : Nat) : Prop :=
  c = q0 * cd_cn pres s + i ∧ (∀ k, k < q0 → Q k = Q0 k) ∧ (∀ k, k < c → ∃ k0 s', k0 < q0 ∧ s' < 32 ∧ Q k = cd_st (Q0 k0) a s') ∧ (∀ s' k0, k0 < q0 → (s' < s ∧ pres s' ∨ s' = s ∧ k0 < i) → ∃ k, k < c ∧ Q k = cd_st (Q0 k0) a s')
section
variable {n al mf mj fc jc dc fD kc vc sc fT rc qc : Nat} {aL aR aC aP aZ aD aK aV aW aS aU aI aA aQ aO aF : Nat → Nat}
theorem cd_xE87 {post : SX → Prop} {J56 : Int32 → Int32 → Int32 → (Nat → Int32) → (Nat → Int32) → (Nat → Int32) → (Nat → Int32) → (Nat → Int32) → (Nat → Int32) → (Nat → Int32) → (Nat → Int32) → (Nat → Int32) → (Nat → Int32) → (Nat → Int32) → (Nat → Int32) → (Nat → Int32) → (Nat → Int32) → (Nat → Int32) → (Nat → Int32) → Prop} {a s q0 pm : Nat} {Q0 : Nat → Nat} {pres : Nat → Prop} (ha : a < 6) (hs : s < 32) (h1s : 1 ≤ s) (hp0 : pres 0) (hps : pres s) (hb : q0 * cd_cn pres 32 ≤ 64) (hQ : ∀ k, k < q0 → Q0 k < 2 ^ 30 ∧ cd_sy (Q0 k) a = 0)
    (hJ : ∀ Q c, cd_EI a q0 Q0 pres (s + 1) 0 Q c → J56 (nI 0) (nI (s + 1)) (nI (c)) (nF aL) (nF aR) (nF aC) (nF aP) (nF aZ) (nF aD) (nF aK) (nF aV) (nF aW) (nF aS) (nF aU) (nF aI) (nF aA) (nF (Q)) (nF aO) (nF aF)) :
    ∀ k i, i + k = q0 → ∀ Q c, cd_EI a q0 Q0 pres s i Q c → wX_expandCandidates_87 post J56 ((25 : Int32) - (5 * nI a)) (nI pm) (nI q0) (nI 0) (nI s) (nI n) (nI al) (nI mf) (nI mj) (nI fc) (nI jc) (nI dc) (nI fD) (nI kc) (nI vc) (nI sc) (nI fT) (nI rc) (k + 1) (nI i) (nI (c)) (nF aL) (nF aR) (nF aC) (nF aP) (nF aZ) (nF aD) (nF aK) (nF aV) (nF aW) (nF aS) (nF aU) (nF aI) (nF aA) (nF (Q)) (nF aO) (nF aF) := by
  have c1 : 1 ≤ cd_cn pres s := by
    have := cd_cn_s (P := pres) hp0
    have := cd_cn_up (P := pres) (a := 0 + 1) (b := s) (by omega)
    omega
  have c2 : cd_cn pres s + 1 ≤ cd_cn pres 32 := by
    have := cd_cn_s (P := pres) hps
    have := cd_cn_up (P := pres) (a := s + 1) (b := 32) (by omega)
    omega
  have m1 : q0 ≤ q0 * cd_cn pres s := Nat.le_mul_of_pos_right _ c1
  have m2 : q0 * cd_cn pres s + q0 ≤ 64 := by
    have := Nat.mul_le_mul_left q0 c2
    rw [Nat.mul_add, Nat.mul_one] at this
    omega
  intro k
  induction k with
  | zero =>
    intro i h Q c hI
    have e : i = q0 := by omega
    subst e
    obtain ⟨e1, e2, e3, e4⟩ := hI
    rw [wX_expandCandidates_87]
    refine br_t (nI_le (Nat.le_refl _) (by omega)) (nm_r (nI_1 s) (hJ Q c ⟨?_, e2, e3, fun s' k0 hk z => e4 s' k0 hk ?_⟩))
    · rw [cd_cn_s hps, e1, Nat.mul_add, Nat.mul_one]; rfl
    · rcases z with z | z
      · by_cases q : s' = s
        · exact Or.inr ⟨q, hk⟩
        · exact Or.inl ⟨by omega, z.2⟩
      · omega
  | succ k ih =>
    intro i h Q c hI
    obtain ⟨e1, e2, e3, e4⟩ := hI
    have ci : (nI i).toNatClampNeg = i := nI_clamp (by omega)
    have cc : (nI c).toNatClampNeg = c := nI_clamp (by omega)
    have Qi := hQ i (by omega)
    have ei := e2 i (by omega)
    rw [wX_expandCandidates_87]
    dsimp only
    rw [ci, cc]
    refine br_f (nI_ge (by omega) (by omega)) (br_f (nI_ge (b := 64) (by omega) (by decide)) ⟨vp_in_nI (by omega) (by omega), vp_in_nI (by omega) (by omega), nm_r (e' := nF (cd_up Q c (cd_st (Q0 i) a s))) ?_ (nm_r (nI_1 c) (nm_r (nI_1 i) (ih (i + 1) (by omega) _ (c + 1) ⟨by omega, fun k hk => ?_, fun k hk => ?_, fun s' k0 hk z => ?_⟩)))⟩)
    · rw [show nF Q i = nI (Q0 i) from congrArg nI ei, cd_shlI hs ha, cd_or, cd_st_or Qi.1 ha hs Qi.2, cd_upd]
    · rw [cd_un (by omega)]; exact e2 k hk
    · by_cases q : k = c
      · subst q; rw [cd_us]; exact ⟨i, s, by omega, hs, rfl⟩
      · rw [cd_un q]; exact e3 k (by omega)
    · by_cases q : s' = s ∧ k0 = i
      · obtain ⟨rfl, rfl⟩ := q
        exact ⟨c, by omega, cd_us⟩
      · obtain ⟨k', h1, h2⟩ := e4 s' k0 hk (z.imp id fun w => ⟨w.1, by omega⟩)
        exact ⟨k', by omega, by rw [cd_un (by omega)]; exact h2⟩
theorem cd_xE56 {post : SX → Prop} {a q0 pm : Nat} {Q0 : Nat → Nat} (ha : a < 6) (hp0 : pm.testBit 0 = true) (hb : q0 * cd_cn (fun s => pm.testBit s = true) 32 ≤ 64) (hq0 : q0 ≤ 64) (hQ : ∀ k, k < q0 → Q0 k < 2 ^ 30 ∧ cd_sy (Q0 k) a = 0)
    (hp : ∀ Q c, cd_EI a q0 Q0 (fun s => pm.testBit s = true) 32 0 Q c → post ((nI n), (nI al), (nI mf), (nI mj), (nI fc), (nI jc), (nI dc), (nI fD), (nI kc), (nI vc), (nI sc), (nI fT), (nI rc), (nI (c)), (nF aL), (nF aR), (nF aC), (nF aP), (nF aZ), (nF aD), (nF aK), (nF aV), (nF aW), (nF aS), (nF aU), (nF aI), (nF aA), (nF (Q)), (nF aO), (nF aF))) :
    ∀ k s, s + k = 32 → 1 ≤ s → ∀ Q c, cd_EI a q0 Q0 (fun s => pm.testBit s = true) s 0 Q c → wX_expandCandidates_56 post ((25 : Int32) - (5 * nI a)) (nI pm) (nI q0) (nI n) (nI al) (nI mf) (nI mj) (nI fc) (nI jc) (nI dc) (nI fD) (nI kc) (nI vc) (nI sc) (nI fT) (nI rc) (k + 1) (nI 0) (nI s) (nI (c)) (nF aL) (nF aR) (nF aC) (nF aP) (nF aZ) (nF aD) (nF aK) (nF aV) (nF aW) (nF aS) (nF aU) (nF aI) (nF aA) (nF (Q)) (nF aO) (nF aF) := by
  intro k
  induction k with
  | zero =>
    intro s h h1s Q c hI
    have e : s = 32 := by omega
    subst e
    rw [wX_expandCandidates_56]
    exact br_t (show (32 : Int32) ≤ nI 32 from by decide) (br_t (show nI 0 ≤ 0 from by decide) (hp Q c hI))
  | succ k ih =>
    intro s h h1s Q c hI
    rw [wX_expandCandidates_56]
    refine br_f (nI_ge (b := 32) (by omega) (by decide)) (cd_tb pm s (fun z => nm_r (nI_1 s) (ih (s + 1) (by omega) (by omega) Q c ?_)) (fun z => br_t (show (0 : Int32) ≤ nI 0 from by decide) ⟨q0 + 1, cd_xE87 (pres := fun s => pm.testBit s = true) ha (by omega) h1s hp0 z hb hQ (fun Q' c' hI' => ih (s + 1) (by omega) (by omega) Q' c' hI') q0 0 (by omega) Q c hI⟩))
    obtain ⟨e1, e2, e3, e4⟩ := hI
    refine ⟨?_, e2, e3, fun s' k0 hk z' => e4 s' k0 hk ?_⟩
    · rw [cd_cn_ns (P := fun s => pm.testBit s = true) (by rw [z]; decide)]; exact e1
    · rcases z' with q | q
      · by_cases w : s' = s
        · subst w; have q2 : pm.testBit s' = true := q.2; rw [z] at q2; exact absurd q2 (by decide)
        · exact Or.inl ⟨by omega, q.2⟩
      · omega
theorem cd_xE12 {post : SX → Prop} {a : Nat} (ha : a < 6) (hrc : rc ≤ 64) (hqc : qc ≤ 64) (hA : ∀ r, r < rc → aA r < 2 ^ 30 ∧ cd_sy (aA r) a ≤ 20) (hp0 : cd_pr_ (cd_Set aA rc) a 0) (hb : qc * cd_cn (cd_pr_ (cd_Set aA rc) a) 21 ≤ 64) (hQ : ∀ k, k < qc → aQ k < 2 ^ 30 ∧ cd_sy (aQ k) a = 0)
    (hp : ∀ Q c, cd_EI a qc aQ (cd_pr_ (cd_Set aA rc) a) 21 0 Q c → post ((nI n), (nI al), (nI mf), (nI mj), (nI fc), (nI jc), (nI dc), (nI fD), (nI kc), (nI vc), (nI sc), (nI fT), (nI rc), (nI (c)), (nF aL), (nF aR), (nF aC), (nF aP), (nF aZ), (nF aD), (nF aK), (nF aV), (nF aW), (nF aS), (nF aU), (nF aI), (nF aA), (nF (Q)), (nF aO), (nF aF))) :
    ∀ k r, r + k = rc → wX_expandCandidates_12 post ((25 : Int32) - (5 * nI a)) (nI n) (nI al) (nI mf) (nI mj) (nI fc) (nI jc) (nI dc) (nI fD) (nI kc) (nI vc) (nI sc) (nI fT) (nI rc) (nI qc) (nF aL) (nF aR) (nF aC) (nF aP) (nF aZ) (nF aD) (nF aK) (nF aV) (nF aW) (nF aS) (nF aU) (nF aI) (nF aA) (nF aQ) (nF aO) (nF aF) (k + 1) (nI (cd_pmk aA a r)) (nI r) := by
  have h21 : cd_cn (cd_pr_ (cd_Set aA rc) a) 32 = cd_cn (cd_pr_ (cd_Set aA rc) a) 21 := cd_cn_skip (a := 21) 11 fun j h1 h2 ⟨t, ⟨i, hi, e⟩, h⟩ => by
    have := (hA i hi).2
    rw [e] at this; omega
  have eqP : (fun s => (cd_pmk aA a rc).testBit s = true) = cd_pr_ (cd_Set aA rc) a := funext fun s => propext (cd_pmk_t rc)
  intro k
  induction k with
  | zero =>
    intro r h
    have e : r = rc := by omega
    subst e
    rw [wX_expandCandidates_12]
    refine br_t (nI_le (Nat.le_refl _) (by omega)) ⟨33, ?_⟩
    rw [wX_expandCandidates_56]
    have hp00 : (cd_pmk aA a r).testBit 0 = true := (cd_pmk_t r).mpr hp0
    refine br_f (show ¬ (32 : Int32) ≤ 0 from by decide) (cd_tb (cd_pmk aA a r) 0 (fun z => by rw [hp00] at z; exact absurd z (by decide)) (fun z => br_f (show ¬ (0 : Int32) ≤ -1 from by decide) (nm_r (e' := nI 1) (by decide) (cd_xE56 (post := post) (q0 := qc) (Q0 := aQ) ha hp00 (by rw [eqP, h21]; exact hb) hqc hQ (fun Q c hI => hp Q c ?_) 31 1 rfl (Nat.le_refl _) aQ qc ?_))))
    · rw [eqP] at hI
      obtain ⟨e1, e2, e3, e4⟩ := hI
      refine ⟨by rw [← h21]; exact e1, e2, e3, fun s' k0 hk z' => e4 s' k0 hk ?_⟩
      rcases z' with q | q
      · exact Or.inl ⟨by omega, q.2⟩
      · omega
    · rw [eqP]
      refine ⟨?_, fun _ _ => rfl, fun k hk => ⟨k, 0, hk, by decide, (cd_st0 (hQ k hk).2).symm⟩, fun s' k0 hk z' => ⟨k0, hk, ?_⟩⟩
      · rw [show (1 : Nat) = 0 + 1 from rfl, cd_cn_s hp0]; show qc = qc * (0 + 1) + 0; omega
      · have : s' = 0 := by omega
        subst this
        exact (cd_st0 (hQ k0 hk).2).symm
  | succ k ih =>
    intro r h
    have cr : (nI r).toNatClampNeg = r := nI_clamp (by omega)
    have Ar := hA r (by omega)
    rw [wX_expandCandidates_12]
    dsimp only
    rw [cr]
    refine br_f (nI_ge (by omega) (by omega)) ⟨vp_in_nI (by omega) (by omega), nm_r (e' := nI (cd_pmk aA a (r + 1))) ?_ (nm_r (nI_1 r) (ih (r + 1) (by omega)))⟩
    rw [show ((nF aA r >>> (((25 : Int32) - (5 * nI a)) &&& 31)) &&& 31) = nI (cd_sy (aA r) a) from cd_syI (by omega) ha, cd_shl1 (by omega), cd_or]
    rfl
theorem cd_xEC {post : SX → Prop} {a : Nat} (ha : a < 6) (hrc : rc ≤ 64) (hqc : qc ≤ 64) (hA : ∀ r, r < rc → aA r < 2 ^ 30 ∧ cd_sy (aA r) a ≤ 20) (hp0 : cd_pr_ (cd_Set aA rc) a 0) (hb : qc * cd_cn (cd_pr_ (cd_Set aA rc) a) 21 ≤ 64) (hQ : ∀ k, k < qc → aQ k < 2 ^ 30 ∧ cd_sy (aQ k) a = 0)
    (hp : ∀ Q c, cd_EI a qc aQ (cd_pr_ (cd_Set aA rc) a) 21 0 Q c → post ((nI n), (nI al), (nI mf), (nI mj), (nI fc), (nI jc), (nI dc), (nI fD), (nI kc), (nI vc), (nI sc), (nI fT), (nI rc), (nI (c)), (nF aL), (nF aR), (nF aC), (nF aP), (nF aZ), (nF aD), (nF aK), (nF aV), (nF aW), (nF aS), (nF aU), (nF aI), (nF aA), (nF (Q)), (nF aO), (nF aF))) : wpX_expandCandidates post ((nI n), (nI al), (nI mf), (nI mj), (nI fc), (nI jc), (nI dc), (nI fD), (nI kc), (nI vc), (nI sc), (nI fT), (nI rc), (nI qc), (nF aL), (nF aR), (nF aC), (nF aP), (nF aZ), (nF aD), (nF aK), (nF aV), (nF aW), (nF aS), (nF aU), (nF aI), (nF aA), (nF aQ), (nF aO), (nF aF)) (nI a) :=
  nm_e ⟨rc + 1, cd_xE12 ha hrc hqc hA hp0 hb hQ hp rc 0 (by omega)⟩
/-- the candidates: all rows over the symbols present in the first a columns -/
def cd_CI (T : Nat → Prop) (a : Nat) (Q : Nat → Nat) (c : Nat) : Prop :=
  c = cd_W T a ∧ (∀ k, k < c → Q k < 2 ^ 30 ∧ ∀ b, a ≤ b → b < 6 → cd_sy (Q k) b = 0) ∧ (∀ ρ : Nat → Nat, (∀ b, b < a → cd_pr_ T b (ρ b)) → ∃ k, k < c ∧ ∀ b, b < a → cd_sy (Q k) b = ρ b)
theorem cd_CI_s {T : Nat → Prop} {a c c' : Nat} {Q Q' : Nat → Nat} (ha : a < 6) (h20 : ∀ s, cd_pr_ T a s → s < 21) (h : cd_CI T a Q c) (g : cd_EI a c Q (cd_pr_ T a) 21 0 Q' c') : cd_CI T (a + 1) Q' c' := by
  obtain ⟨h1, h2, h3⟩ := h
  obtain ⟨g1, g2, g3, g4⟩ := g
  refine ⟨by rw [g1, h1]; rfl, fun k hk => ?_, fun ρ hρ => ?_⟩
  · obtain ⟨k0, s', q1, q2, e⟩ := g3 k hk
    have o := h2 k0 q1
    rw [e]
    exact ⟨cd_st_lt o.1 ha q2, fun b hb hb6 => by rw [cd_st_n q2 ha hb6 (by omega)]; exact o.2 b (by omega) hb6⟩
  · obtain ⟨k0, q1, q2⟩ := h3 ρ (fun b hb => hρ b (by omega))
    have l := h20 _ (hρ a (by omega))
    obtain ⟨k, q3, e⟩ := g4 (ρ a) k0 q1 (Or.inl ⟨l, hρ a (by omega)⟩)
    refine ⟨k, q3, fun b hb => ?_⟩
    rw [e]
    by_cases z : b = a
    · subst z; exact cd_st_s (by omega)
    · rw [cd_st_n (by omega) ha (by omega) z]; exact q2 b (by omega)
theorem cd_xMC14 {post : SX → Prop} (hN : cd_N n al) (hrc : rc ≤ 64) (hA : ∀ t, cd_Set aA rc t → cd_Ok n t) (hp0 : ∀ a, a < n → cd_pr_ (cd_Set aA rc) a 0) (hW : cd_W (cd_Set aA rc) n ≤ 64) (hp : ∀ Q c, cd_CI (cd_Set aA rc) n Q c → post ((nI n), (nI al), (nI mf), (nI mj), (nI fc), (nI jc), (nI dc), (nI fD), (nI kc), (nI vc), (nI sc), (nI fT), (nI rc), (nI (c)), (nF aL), (nF aR), (nF aC), (nF aP), (nF aZ), (nF aD), (nF aK), (nF aV), (nF aW), (nF aS), (nF aU), (nF aI), (nF aA), (nF (Q)), (nF aO), (nF aF))) :
    ∀ k a, a + k = n → ∀ Q c, cd_CI (cd_Set aA rc) a Q c → wX_makeCandidates_14 post (k + 1) (nI a) (nI n) (nI al) (nI mf) (nI mj) (nI fc) (nI jc) (nI dc) (nI fD) (nI kc) (nI vc) (nI sc) (nI fT) (nI rc) (nI (c)) (nF aL) (nF aR) (nF aC) (nF aP) (nF aZ) (nF aD) (nF aK) (nF aV) (nF aW) (nF aS) (nF aU) (nF aI) (nF aA) (nF (Q)) (nF aO) (nF aF) := by
  have hn := hN.2.1
  intro k
  induction k with
  | zero =>
    intro a h Q c hI
    have e : a = n := by omega
    subst e
    rw [wX_makeCandidates_14]
    exact br_t (nI_le (Nat.le_refl _) (by omega)) (hp Q c hI)
  | succ k ih =>
    intro a h Q c hI
    have h20 : ∀ s, cd_pr_ (cd_Set aA rc) a s → s < 21 := fun s ⟨t, ht, e⟩ => by have := ((hA t ht).2 a (by omega)).1; omega
    have w1 : cd_W (cd_Set aA rc) a ≤ 64 := Nat.le_trans (by have := cd_W_up hp0 a (n - a) (by omega); rw [show a + (n - a) = n by omega] at this; exact this) hW
    have w2 : cd_W (cd_Set aA rc) (a + 1) ≤ 64 := Nat.le_trans (by have := cd_W_up hp0 (a + 1) (n - (a + 1)) (by omega); rw [show a + 1 + (n - (a + 1)) = n by omega] at this; exact this) hW
    rw [wX_makeCandidates_14]
    exact br_f (nI_ge (by omega) (by omega)) (cd_xEC (by omega) hrc (by rw [hI.1]; exact w1) (fun r hr => ⟨(hA _ ⟨r, hr, rfl⟩).1, ((hA _ ⟨r, hr, rfl⟩).2 a (by omega)).1⟩) (hp0 a (by omega)) (by rw [hI.1]; exact w2) (fun k hk => ⟨(hI.2.1 k hk).1, (hI.2.1 k hk).2 a (Nat.le_refl _) (by omega)⟩) fun Q' c' hE => nm_r (nI_1 a) (ih (a + 1) (by omega) Q' c' (cd_CI_s (by omega) h20 hI hE)))
theorem cd_xMC {post : SX → Prop} (hN : cd_N n al) (hrc : rc ≤ 64) (hA : ∀ t, cd_Set aA rc t → cd_Ok n t) (hp0 : ∀ a, a < n → cd_pr_ (cd_Set aA rc) a 0) (hW : cd_W (cd_Set aA rc) n ≤ 64) (hp : ∀ Q c, cd_CI (cd_Set aA rc) n Q c → post ((nI n), (nI al), (nI mf), (nI mj), (nI fc), (nI jc), (nI dc), (nI fD), (nI kc), (nI vc), (nI sc), (nI fT), (nI rc), (nI (c)), (nF aL), (nF aR), (nF aC), (nF aP), (nF aZ), (nF aD), (nF aK), (nF aV), (nF aW), (nF aS), (nF aU), (nF aI), (nF aA), (nF (Q)), (nF aO), (nF aF))) : wpX_makeCandidates post ((nI n), (nI al), (nI mf), (nI mj), (nI fc), (nI jc), (nI dc), (nI fD), (nI kc), (nI vc), (nI sc), (nI fT), (nI rc), (nI qc), (nF aL), (nF aR), (nF aC), (nF aP), (nF aZ), (nF aD), (nF aK), (nF aV), (nF aW), (nF aS), (nF aU), (nF aI), (nF aA), (nF aQ), (nF aO), (nF aF)) :=
  nm_r (cd_upd aQ 0 0) ⟨n + 1, cd_xMC14 hN hrc hA hp0 hW hp n 0 (by omega) (cd_up aQ 0 0) 1 ⟨rfl, fun k hk => by
    have : k = 0 := by omega
    subst this
    rw [cd_us]; exact ⟨by decide, fun b _ _ => cd_sy0 b⟩, fun ρ _ => ⟨0, by decide, fun b hb => absurd hb (by omega)⟩⟩⟩
/-! rows present, rows forced -/
theorem cd_xHR2 {post : Int32 → Prop} {t : Nat} (hrc : rc ≤ 64) (ht : t < 2 ^ 31) (hA : ∀ r, r < rc → aA r < 2 ^ 31) (hp : post (nI (cd_b (cd_Set aA rc t)))) :
    ∀ k i, i + k = rc → (∀ r, r < i → aA r ≠ t) → wX_hasRow_2 post (nI t) (nI n) (nI al) (nI mf) (nI mj) (nI fc) (nI jc) (nI dc) (nI fD) (nI kc) (nI vc) (nI sc) (nI fT) (nI rc) (nI qc) (nF aL) (nF aR) (nF aC) (nF aP) (nF aZ) (nF aD) (nF aK) (nF aV) (nF aW) (nF aS) (nF aU) (nF aI) (nF aA) (nF aQ) (nF aO) (nF aF) (k + 1) (nI i) := by
  intro k
  induction k with
  | zero =>
    intro i h H
    rw [wX_hasRow_2]
    exact br_t (nI_le (by omega) (by omega)) (cd_p0 (P := cd_Set aA rc t) (fun ⟨r, hr, e⟩ => H r (by omega) e) hp)
  | succ k ih =>
    intro i h H
    have c : (nI i).toNatClampNeg = i := nI_clamp (by omega)
    rw [wX_hasRow_2]
    dsimp only
    rw [c]
    refine br_f (nI_ge (by omega) (by omega)) ⟨vp_in_nI (by omega) (by omega), pk_eq (aA i) t (fun e => cd_p1 (P := cd_Set aA rc t) ⟨i, by omega, e⟩ hp) (fun e => nm_r (nI_1 i) (ih (i + 1) (by omega) fun r hr => ?_)) rfl rfl (hA i (by omega)) ht⟩
    by_cases q : r = i
    · subst q; exact e
    · exact H r (by omega)
theorem cd_xHR {post : Int32 → Prop} {t : Nat} (hrc : rc ≤ 64) (ht : t < 2 ^ 31) (hA : ∀ r, r < rc → aA r < 2 ^ 31) (hp : post (nI (cd_b (cd_Set aA rc t)))) : wpX_hasRow post ((nI n), (nI al), (nI mf), (nI mj), (nI fc), (nI jc), (nI dc), (nI fD), (nI kc), (nI vc), (nI sc), (nI fT), (nI rc), (nI qc), (nF aL), (nF aR), (nF aC), (nF aP), (nF aZ), (nF aD), (nF aK), (nF aV), (nF aW), (nF aS), (nF aU), (nF aI), (nF aA), (nF aQ), (nF aO), (nF aF)) (nI t) :=
  Exists.intro (rc + 1) (cd_xHR2 hrc ht hA hp rc 0 (by omega) (fun r hr => absurd hr (by omega)))
def cd_Agr (n : Nat) (T : Nat → Prop) (t m : Nat) : Prop := ∃ u, T u ∧ cd_ag n m u t
theorem cd_xSR2 {post : Int32 → Prop} {t m : Nat} (hN : cd_N n al) (hrc : rc ≤ 64) (hm : m ≤ al) (hF : ∀ m, m < 64 → aF m = cd_fi m) (hp : post (nI (cd_b (cd_Agr n (cd_Set aA rc) t m)))) :
    ∀ k i, i + k = rc → (∀ r, r < i → ¬ cd_ag n m (aA r) t) → wX_someRowAgrees_2 post (nI t) (nI m) (nI n) (nI al) (nI mf) (nI mj) (nI fc) (nI jc) (nI dc) (nI fD) (nI kc) (nI vc) (nI sc) (nI fT) (nI rc) (nI qc) (nF aL) (nF aR) (nF aC) (nF aP) (nF aZ) (nF aD) (nF aK) (nF aV) (nF aW) (nF aS) (nF aU) (nF aI) (nF aA) (nF aQ) (nF aO) (nF aF) (k + 1) (nI i) := by
  have hal := (cd_N_al hN).1
  intro k
  induction k with
  | zero =>
    intro i h H
    rw [wX_someRowAgrees_2]
    exact br_t (nI_le (by omega) (by omega)) (cd_p0 (P := cd_Agr n (cd_Set aA rc) t m) (fun ⟨u, ⟨r, hr, e⟩, g⟩ => H r (by omega) (e ▸ g)) hp)
  | succ k ih =>
    intro i h H
    have c : (nI i).toNatClampNeg = i := nI_clamp (by omega)
    have cm : (nI m).toNatClampNeg = m := nI_clamp (by omega)
    have gR := (cd_on_lt m (by omega)).2
    have b2 : (aA i ^^^ t) &&& cd_fi m ≤ cd_fi m := Nat.and_le_right
    rw [wX_someRowAgrees_2]
    dsimp only
    rw [c, cm, show nF aF m = nI (cd_fi m) from congrArg nI (hF m (by omega)), nx_xor, nx_and]
    refine br_f (nI_ge (by omega) (by omega)) ⟨vp_in_nI (by omega) (by omega), vp_in_nI (by omega) (by omega), cd_brN _ (by omega) (fun z => cd_p1 (P := cd_Agr n (cd_Set aA rc) t m) ⟨aA i, ⟨i, by omega, rfl⟩, (cd_agN hN hm).mp z⟩ hp) (fun z => nm_r (nI_1 i) (ih (i + 1) (by omega) fun r hr => ?_))⟩
    by_cases q : r = i
    · subst q; exact fun w => z ((cd_agN hN hm).mpr w)
    · exact H r (by omega)
theorem cd_xSR {post : Int32 → Prop} {t m : Nat} {y : Int32} (hN : cd_N n al) (hrc : rc ≤ 64) (hm : m ≤ al) (hF : ∀ m, m < 64 → aF m = cd_fi m) (hp : post (nI (cd_b (cd_Agr n (cd_Set aA rc) t m)))) (hy : y = nI m) : wpX_someRowAgrees post ((nI n), (nI al), (nI mf), (nI mj), (nI fc), (nI jc), (nI dc), (nI fD), (nI kc), (nI vc), (nI sc), (nI fT), (nI rc), (nI qc), (nF aL), (nF aR), (nF aC), (nF aP), (nF aZ), (nF aD), (nF aK), (nF aV), (nF aW), (nF aS), (nF aU), (nF aI), (nF aA), (nF aQ), (nF aO), (nF aF)) (nI t) y := by
  subst hy
  exact Exists.intro (rc + 1) (cd_xSR2 hN hrc hm hF hp rc 0 (by omega) (fun r hr => absurd hr (by omega)))
/-- the join dependencies held -/
def cd_JD (n al jc : Nat) (Z P : Nat → Nat) : Prop := ∀ d, d < jc → Z d ≤ 4 ∧ (∀ p, p < Z d → P (d * 4 + p) ≤ al) ∧ ∀ a, a < n → ∃ p, p < Z d ∧ (P (d * 4 + p)).testBit a = true
def cd_Jn (n : Nat) (Z P : Nat → Nat) (T : Nat → Prop) (t d : Nat) : Prop := ∀ p, p < Z d → cd_Agr n T t (P (d * 4 + p))
theorem cd_xF15 {post : Int32 → Prop} {J2 : Int32 → Prop} {t d : Nat} (hN : cd_N n al) (hrc : rc ≤ 64) (hF : ∀ m, m < 64 → aF m = cd_fi m) (hJD : cd_JD n al jc aZ aP) (hjc : jc ≤ 3) (hd : d < jc)
    (h1 : cd_Jn n aZ aP (cd_Set aA rc) t d → post 1) (h0 : ¬ cd_Jn n aZ aP (cd_Set aA rc) t d → J2 (nI (d + 1))) :
    ∀ k p, p + k = aZ d → wX_isForced_15 post J2 (nI t) (nI d) (nI n) (nI al) (nI mf) (nI mj) (nI fc) (nI jc) (nI dc) (nI fD) (nI kc) (nI vc) (nI sc) (nI fT) (nI rc) (nI qc) (nF aL) (nF aR) (nF aC) (nF aP) (nF aZ) (nF aD) (nF aK) (nF aV) (nF aW) (nF aS) (nF aU) (nF aI) (nF aA) (nF aQ) (nF aO) (nF aF) (k + 1) (nI (cd_b (∀ p', p' < p → cd_Agr n (cd_Set aA rc) t (aP (d * 4 + p'))))) (nI p) := by
  obtain ⟨z4, zp, _⟩ := hJD d hd
  have c : (nI d).toNatClampNeg = d := nI_clamp (by omega)
  intro k
  induction k with
  | zero =>
    intro p h
    have e : p = aZ d := by omega
    subst e
    rw [wX_isForced_15]
    dsimp only
    rw [c]
    refine ⟨vp_in_nI (by omega) (by omega), br_t (nI_le (Nat.le_refl _) (by omega)) ?_⟩
    unfold wX_isForced_53
    exact cd_br (fun q => nm_r (nI_1 d) (h0 q)) (fun q => h1 q)
  | succ k ih =>
    intro p h
    have I := ih (p + 1) (by omega)
    have ix : nI d * 4 + nI p = nI (d * 4 + p) := by rw [show nI d * 4 = nI (d * 4) from pk_mul d 4, nI_add]
    have cp : (nI (d * 4 + p)).toNatClampNeg = d * 4 + p := nI_clamp (by omega)
    rw [wX_isForced_15]
    dsimp only
    rw [c, ix, cp]
    refine ⟨vp_in_nI (by omega) (by omega), br_f (nI_ge (by omega) (by omega)) (cd_br (fun q => ?_) (fun q => ⟨vp_in_nI (by omega) (by omega), cd_xSR hN hrc (zp p (by omega)) hF (nm_r (nI_1 p) ?_) rfl⟩))⟩
    · unfold wX_isForced_53
      rw [cd_bf q]
      exact br_t rfl (nm_r (nI_1 d) (h0 fun w => q fun p' hp' => w p' (by omega)))
    · rw [cd_be (P := cd_Agr n (cd_Set aA rc) t (aP (d * 4 + p))) (Q := ∀ p', p' < p + 1 → cd_Agr n (cd_Set aA rc) t (aP (d * 4 + p'))) ⟨fun w p' hp' => by
        by_cases e : p' = p
        · subst e; exact w
        · exact q p' (by omega), fun w => w p (by omega)⟩]
      exact I
def cd_Fo (n jc : Nat) (Z P : Nat → Nat) (T : Nat → Prop) (t : Nat) : Prop := ∃ d, d < jc ∧ cd_Jn n Z P T t d
theorem cd_xF2 {post : Int32 → Prop} {t : Nat} (hN : cd_N n al) (hrc : rc ≤ 64) (hF : ∀ m, m < 64 → aF m = cd_fi m) (hJD : cd_JD n al jc aZ aP) (hjc : jc ≤ 3) (hp : post (nI (cd_b (cd_Fo n jc aZ aP (cd_Set aA rc) t)))) :
    ∀ k d, d + k = jc → (∀ d', d' < d → ¬ cd_Jn n aZ aP (cd_Set aA rc) t d') → wX_isForced_2 post (nI t) (nI n) (nI al) (nI mf) (nI mj) (nI fc) (nI jc) (nI dc) (nI fD) (nI kc) (nI vc) (nI sc) (nI fT) (nI rc) (nI qc) (nF aL) (nF aR) (nF aC) (nF aP) (nF aZ) (nF aD) (nF aK) (nF aV) (nF aW) (nF aS) (nF aU) (nF aI) (nF aA) (nF aQ) (nF aO) (nF aF) (k + 1) (nI d) := by
  intro k
  induction k with
  | zero =>
    intro d h H
    rw [wX_isForced_2]
    exact br_t (nI_le (by omega) (by omega)) (cd_p0 (P := cd_Fo n jc aZ aP (cd_Set aA rc) t) (fun ⟨d', h1, h2⟩ => H d' (by omega) h2) hp)
  | succ k ih =>
    intro d h H
    rw [wX_isForced_2]
    refine br_f (nI_ge (by omega) (by omega)) ⟨aZ d + 1, ?_⟩
    have this : wX_isForced_15 post (wX_isForced_2 post (nI t) (nI n) (nI al) (nI mf) (nI mj) (nI fc) (nI jc) (nI dc) (nI fD) (nI kc) (nI vc) (nI sc) (nI fT) (nI rc) (nI qc) (nF aL) (nF aR) (nF aC) (nF aP) (nF aZ) (nF aD) (nF aK) (nF aV) (nF aW) (nF aS) (nF aU) (nF aI) (nF aA) (nF aQ) (nF aO) (nF aF) (k + 1)) (nI t) (nI d) (nI n) (nI al) (nI mf) (nI mj) (nI fc) (nI jc) (nI dc) (nI fD) (nI kc) (nI vc) (nI sc) (nI fT) (nI rc) (nI qc) (nF aL) (nF aR) (nF aC) (nF aP) (nF aZ) (nF aD) (nF aK) (nF aV) (nF aW) (nF aS) (nF aU) (nF aI) (nF aA) (nF aQ) (nF aO) (nF aF) (aZ d + 1) (nI (cd_b (∀ p', p' < 0 → cd_Agr n (cd_Set aA rc) t (aP (d * 4 + p'))))) (nI 0) := cd_xF15 hN hrc hF hJD hjc (by omega) (fun q => cd_p1 (P := cd_Fo n jc aZ aP (cd_Set aA rc) t) ⟨d, by omega, q⟩ hp) (fun q => ih (d + 1) (by omega) fun d' hd' => by
      by_cases e : d' = d
      · subst e; exact q
      · exact H d' (by omega)) (aZ d) 0 (by omega)
    rw [cd_bt (fun p' h => absurd h (by omega))] at this
    exact this
theorem cd_xF {post : Int32 → Prop} {t : Nat} (hN : cd_N n al) (hrc : rc ≤ 64) (hF : ∀ m, m < 64 → aF m = cd_fi m) (hJD : cd_JD n al jc aZ aP) (hjc : jc ≤ 3) (hp : post (nI (cd_b (cd_Fo n jc aZ aP (cd_Set aA rc) t)))) : wpX_isForced post ((nI n), (nI al), (nI mf), (nI mj), (nI fc), (nI jc), (nI dc), (nI fD), (nI kc), (nI vc), (nI sc), (nI fT), (nI rc), (nI qc), (nF aL), (nF aR), (nF aC), (nF aP), (nF aZ), (nF aD), (nF aK), (nF aV), (nF aW), (nF aS), (nF aU), (nF aI), (nF aA), (nF aQ), (nF aO), (nF aF)) (nI t) :=
  Exists.intro (jc + 1) (cd_xF2 hN hrc hF hJD hjc hp jc 0 (by omega) (fun r hr => absurd hr (by omega)))
end
end
section
theorem cd_full {A Q : Nat → Nat} {r q c : Nat} (hr : q ≤ r) (hD : cd_Dst A r) (hQ : ∀ i, i < r → ∃ k, k < q ∧ Q k = A i) (hc : c < q) : cd_Set A r (Q c) := by
  refine Classical.byContradiction fun z => ?_
  have H : ∀ i, ∃ k, i < r → k < q ∧ Q k = A i := fun i => by
    by_cases h : i < r
    · obtain ⟨k, hk⟩ := hQ i h; exact ⟨k, fun _ => hk⟩
    · exact ⟨0, fun w => absurd w h⟩
  have E : ∃ φ : Nat → Nat, ∀ i, (i < r → φ i < q ∧ Q (φ i) = A i) ∧ (¬ i < r → φ i = c) := ⟨fun i => if i < r then Classical.choose (H i) else c, fun i => ⟨fun h => by
    show (if i < r then Classical.choose (H i) else c) < q ∧ Q (if i < r then Classical.choose (H i) else c) = A i
    rw [if_pos h]; exact Classical.choose_spec (H i) h, fun h => if_neg h⟩⟩
  obtain ⟨φ, hφ⟩ := E
  have := cd_php q (r + 1) φ (fun i hi => by
    by_cases h : i < r
    · exact ((hφ i).1 h).1
    · rw [(hφ i).2 h]; exact hc) (fun i j hij hj e => by
    have a := (hφ i).1 (by omega)
    by_cases h : j < r
    · have b := (hφ j).1 h
      exact hD i j hij h (by rw [← a.2, ← b.2, e])
    · have b := (hφ j).2 h
      exact z ⟨i, by omega, by rw [← a.2, e, b]⟩)
  omega
theorem cd_set_app {A : Nat → Nat} {r t : Nat} (s : Nat) : (cd_Set A r s ∨ s = t) ↔ cd_Set (cd_up A r t) (r + 1) s := by
  constructor
  · rintro (⟨i, hi, e⟩ | e)
    · exact ⟨i, by omega, by rw [cd_un (by omega)]; exact e⟩
    · exact ⟨r, by omega, by rw [cd_us]; exact e.symm⟩
  · rintro ⟨i, hi, e⟩
    by_cases q : i = r
    · subst q; rw [cd_us] at e; exact Or.inr e.symm
    · rw [cd_un q] at e; exact Or.inl ⟨i, by omega, e⟩
theorem cd_dst_app {A : Nat → Nat} {r t : Nat} (h : cd_Dst A r) (g : ¬ cd_Set A r t) : cd_Dst (cd_up A r t) (r + 1) := fun i j hij hj => by
  rw [cd_un (by omega)]
  by_cases q : j = r
  · subst q; rw [cd_us]; exact fun e => g ⟨i, hij, e⟩
  · rw [cd_un q]; exact h i j hij (by omega)
/-- every demanded row over the candidates is there: the set is closed -/
theorem cd_ClJ_mk {n al jc q : Nat} {Z P Q : Nat → Nat} {T : Nat → Prop} (hJD : cd_JD n al jc Z P) (hO : ∀ t, T t → cd_Ok n t) (hQ : ∀ k, k < q → Q k < 2 ^ 30) (hc : ∀ ρ : Nat → Nat, (∀ b, b < n → cd_pr_ T b (ρ b)) → ∃ k, k < q ∧ ∀ b, b < n → cd_sy (Q k) b = ρ b)
    (h : ∀ k, k < q → cd_Fo n jc Z P T (Q k) → T (Q k)) : cd_ClJ n jc Z P T := by
  intro d hd ρ hρ
  obtain ⟨k, hk, e⟩ := hc ρ fun b hb => by
    obtain ⟨p, hp, hbit⟩ := (hJD d hd).2.2 b hb
    obtain ⟨u, hu, g⟩ := hρ p hp
    exact ⟨u, hu, g b hb hbit⟩
  refine ⟨Q k, h k hk ⟨d, hd, fun p hp => ?_⟩, e⟩
  obtain ⟨u, hu, g⟩ := hρ p hp
  exact ⟨u, hu, fun a ha hb => by rw [g a ha hb, e a ha]⟩
section
variable {n al mf mj fc jc dc fD kc vc sc fT rc qc : Nat} {aL aR aC aP aZ aD aK aV aW aS aU aI aA aQ aO aF : Nat → Nat}
variable {T0 : Nat → Prop}
def cd_JI (CS : (Nat → Prop) → Prop) (Fo : (Nat → Prop) → Nat → Prop) (Q : Nat → Nat) (q : Nat) (A0 : Nat → Nat) (rc0 c x : Nat) (A : Nat → Nat) (r : Nat) : Prop :=
  r ≤ 64 ∧ cd_Dst A r ∧ CS (cd_Set A r) ∧ (∀ i, i < r → ∃ k, k < q ∧ Q k = A i) ∧ ((x = 0 ∧ A = A0 ∧ r = rc0 ∧ ∀ k, k < c → Fo (cd_Set A0 rc0) (Q k) → cd_Set A0 rc0 (Q k)) ∨ (x = 1 ∧ rc0 < r))
theorem cd_xJ17 {post : Int32 → SX → Prop} {μ q rc0 : Nat} {A0 Q : Nat → Nat} (hN : cd_N n al) (hF : ∀ m, m < 64 → aF m = cd_fi m) (hJD : cd_JD n al jc aZ aP) (hjc : jc ≤ 3) (hq : q ≤ 64) (hQ : ∀ k, k < q → Q k < 2 ^ 30 ∧ ∀ b, n ≤ b → b < 6 → cd_sy (Q k) b = 0)
    (hp : ∀ x A r, cd_JI (cd_CS n fc jc aL aR aZ aP T0 μ) (cd_Fo n jc aZ aP) Q q A0 rc0 q x A r → post (nI x) ((nI n), (nI al), (nI mf), (nI mj), (nI fc), (nI jc), (nI dc), (nI fD), (nI kc), (nI vc), (nI sc), (nI fT), (nI (r)), (nI (q)), (nF aL), (nF aR), (nF aC), (nF aP), (nF aZ), (nF aD), (nF aK), (nF aV), (nF aW), (nF aS), (nF aU), (nF aI), (nF (A)), (nF (Q)), (nF aO), (nF aF))) :
    ∀ k c, c + k = q → ∀ x A r, cd_JI (cd_CS n fc jc aL aR aZ aP T0 μ) (cd_Fo n jc aZ aP) Q q A0 rc0 c x A r → wX_applyJds_17 post (nI n) (nI al) (nI mf) (nI mj) (nI fc) (nI jc) (nI dc) (nI fD) (nI kc) (nI vc) (nI sc) (nI fT) (nI q) (k + 1) (nI x) (nI c) (nI r) (nF aL) (nF aR) (nF aC) (nF aP) (nF aZ) (nF aD) (nF aK) (nF aV) (nF aW) (nF aS) (nF aU) (nF aI) (nF (A)) (nF (Q)) (nF aO) (nF aF) := by
  have hn := hN.2.1
  intro k
  induction k with
  | zero =>
    intro c h x A r hI
    have e : c = q := by omega
    subst e
    rw [wX_applyJds_17]
    exact br_t (nI_le (Nat.le_refl _) (by omega)) ⟨cd_nar (by rcases hI.2.2.2.2 with z | z <;> omega), hp x A r hI⟩
  | succ k ih =>
    intro c h x A r hI
    have cc : (nI c).toNatClampNeg = c := nI_clamp (by omega)
    obtain ⟨i1, i2, i3, i4, i5⟩ := hI
    have bd : ∀ i, i < r → A i < 2 ^ 31 := fun i hi => by have := (cd_CS_ok i3 ⟨i, hi, rfl⟩).1; omega
    have Qc := hQ c (by omega)
    have E : (cd_Fo n jc aZ aP (cd_Set A r) (Q c) → cd_Set A r (Q c)) → wX_applyJds_17 post (nI n) (nI al) (nI mf) (nI mj) (nI fc) (nI jc) (nI dc) (nI fD) (nI kc) (nI vc) (nI sc) (nI fT) (nI q) (k + 1) (nI x) (nI (c + 1)) (nI r) (nF aL) (nF aR) (nF aC) (nF aP) (nF aZ) (nF aD) (nF aK) (nF aV) (nF aW) (nF aS) (nF aU) (nF aI) (nF (A)) (nF (Q)) (nF aO) (nF aF) := fun z => by
      refine ih (c + 1) (by omega) x A r ⟨i1, i2, i3, i4, i5.imp (fun ⟨a1, a2, a3, a4⟩ => ⟨a1, a2, a3, fun k hk => ?_⟩) id⟩
      by_cases w : k = c
      · subst w; subst a2; subst a3; exact z
      · exact a4 k (by omega)
    rw [wX_applyJds_17]
    dsimp only
    rw [cc]
    refine br_f (nI_ge (by omega) (by omega)) ⟨vp_in_nI (by omega) (by omega), nm_e (pk_le 64 r (fun h64 => nm_r (nI_1 c) (E fun _ => cd_full (q := q) (by omega) i2 i4 (by omega))) (fun h64 => ?_))⟩
    refine cd_xHR (t := Q c) i1 (by omega) bd (cd_br (fun g => cd_xF (t := Q c) hN i1 hF hJD hjc (cd_br (fun g' => nm_r (nI_1 c) (E fun w => absurd w g')) (fun g' => ⟨vp_in_nI (by omega) (by omega), ?_⟩))) (fun g => nm_r (nI_1 c) (E fun _ => g)))
    have cr : (nI r).toNatClampNeg = r := nI_clamp (by omega)
    rw [cr]
    refine nm_r (cd_upd A r (Q c)) (nm_r (nI_1 r) (nm_r (nI_1 c) (ih (c + 1) (by omega) 1 _ (r + 1) ⟨by omega, cd_dst_app i2 g, ?_, fun i hi => ?_, Or.inr ⟨rfl, by rcases i5 with z | z <;> omega⟩⟩)))
    · obtain ⟨d, hd, hj⟩ := g'
      exact cd_CS_congr (fun s => cd_set_app s) (cd_addrow hn hd Qc.1 (fun a h6 ha => Qc.2 a ha h6) (hJD d hd).2.2 hj i3)
    · by_cases w : i = r
      · subst w; rw [cd_us]; exact ⟨c, by omega, rfl⟩
      · rw [cd_un w]; exact i4 i (by omega)
theorem cd_xAJ {post : Int32 → SX → Prop} {μ : Nat} (hN : cd_N n al) (hrc : rc ≤ 64) (hF : ∀ m, m < 64 → aF m = cd_fi m) (hJD : cd_JD n al jc aZ aP) (hjc : jc ≤ 3) (hC : cd_CS n fc jc aL aR aZ aP T0 μ (cd_Set aA rc)) (hD : cd_Dst aA rc)
    (h00 : ∀ a, a < n → cd_pr_ T0 a 0) (hW0 : jc ≠ 0 → cd_W T0 n ≤ 64)
    (h0 : cd_ClJ n jc aZ aP (cd_Set aA rc) → ∀ Q q, post 0 ((nI n), (nI al), (nI mf), (nI mj), (nI fc), (nI jc), (nI dc), (nI fD), (nI kc), (nI vc), (nI sc), (nI fT), (nI rc), (nI (q)), (nF aL), (nF aR), (nF aC), (nF aP), (nF aZ), (nF aD), (nF aK), (nF aV), (nF aW), (nF aS), (nF aU), (nF aI), (nF aA), (nF (Q)), (nF aO), (nF aF))) (h1 : ∀ A r Q q, rc < r → r ≤ 64 → cd_Dst A r → cd_CS n fc jc aL aR aZ aP T0 μ (cd_Set A r) → post 1 ((nI n), (nI al), (nI mf), (nI mj), (nI fc), (nI jc), (nI dc), (nI fD), (nI kc), (nI vc), (nI sc), (nI fT), (nI (r)), (nI (q)), (nF aL), (nF aR), (nF aC), (nF aP), (nF aZ), (nF aD), (nF aK), (nF aV), (nF aW), (nF aS), (nF aU), (nF aI), (nF (A)), (nF (Q)), (nF aO), (nF aF))) : wpX_applyJds post ((nI n), (nI al), (nI mf), (nI mj), (nI fc), (nI jc), (nI dc), (nI fD), (nI kc), (nI vc), (nI sc), (nI fT), (nI rc), (nI qc), (nF aL), (nF aR), (nF aC), (nF aP), (nF aZ), (nF aD), (nF aK), (nF aV), (nF aW), (nF aS), (nF aU), (nF aI), (nF aA), (nF aQ), (nF aO), (nF aF)) := by
  have hn := hN.2.1
  refine cd_brN jc (by omega) (fun z => h0 (fun d hd => absurd hd (by omega)) aQ qc) (fun z => ?_)
  have hO : ∀ t, cd_Set aA rc t → cd_Ok n t := fun t ht => cd_CS_ok hC ht
  have W1 : cd_W (cd_Set aA rc) n ≤ 64 := Nat.le_trans (cd_W_mono n fun b hb s ⟨t, ht, e⟩ => by
    obtain ⟨t', h1, h2⟩ := cd_CS_sy hC ht hb
    exact ⟨t', h1, h2.trans e⟩) (hW0 z)
  refine cd_xMC hN hrc hO (fun a ha => cd_CS_0 hC ha (h00 a ha)) W1 fun Q q hI => ?_
  have hq : q ≤ 64 := by rw [hI.1]; exact W1
  have hQ : ∀ k, k < q → Q k < 2 ^ 30 ∧ ∀ b, n ≤ b → b < 6 → cd_sy (Q k) b = 0 := hI.2.1
  refine ⟨q + 1, cd_xJ17 (μ := μ) (A0 := aA) (rc0 := rc) (Q := Q) hN hF hJD hjc hq hQ (fun x A r hJ => ?_) q 0 (by omega) 0 aA rc ⟨hrc, hD, hC, fun i hi => ?_, Or.inl ⟨rfl, rfl, rfl, fun k hk => absurd hk (by omega)⟩⟩⟩
  · rcases hJ.2.2.2.2 with ⟨rfl, rfl, rfl, t⟩ | ⟨rfl, hr⟩
    · exact h0 (cd_ClJ_mk hJD hO (fun k hk => (hQ k hk).1) hI.2.2 t) Q q
    · exact h1 A r Q q hr hJ.1 hJ.2.1 hJ.2.2.1
  · have oi := hO (aA i) ⟨i, hi, rfl⟩
    obtain ⟨k, hk, e⟩ := hI.2.2 (fun b => cd_sy (aA i) b) (fun b _ => ⟨aA i, ⟨i, hi, rfl⟩, rfl⟩)
    refine ⟨k, hk, cd_sy_ext (hQ k hk).1 oi.1 fun a ha => ?_⟩
    rcases Nat.lt_or_ge a n with w | w
    · exact e a w
    · rw [(hQ k hk).2 a w ha, (oi.2 a ha).2 w]
theorem cd_xC34 {post : SX → Prop} {J8 : Int32 → Int32 → Int32 → Int32 → Int32 → Int32 → Int32 → Int32 → Int32 → Int32 → Int32 → Int32 → Int32 → Int32 → Int32 → Int32 → (Nat → Int32) → (Nat → Int32) → (Nat → Int32) → (Nat → Int32) → (Nat → Int32) → (Nat → Int32) → (Nat → Int32) → (Nat → Int32) → (Nat → Int32) → (Nat → Int32) → (Nat → Int32) → (Nat → Int32) → (Nat → Int32) → (Nat → Int32) → (Nat → Int32) → (Nat → Int32) → Prop} {μ x r : Nat} (hN : cd_N n al) (hrc : rc ≤ 64) (hF : ∀ m, m < 64 → aF m = cd_fi m) (hJD : cd_JD n al jc aZ aP) (hjc : jc ≤ 3) (hC : cd_CS n fc jc aL aR aZ aP T0 μ (cd_Set aA rc)) (hD : cd_Dst aA rc)
    (h00 : ∀ a, a < n → cd_pr_ T0 a 0) (hW0 : jc ≠ 0 → cd_W T0 n ≤ 64)
    (h0 : cd_ClJ n jc aZ aP (cd_Set aA rc) → ∀ Q q, J8 (nI x) (nI (r + 1)) (nI n) (nI al) (nI mf) (nI mj) (nI fc) (nI jc) (nI dc) (nI fD) (nI kc) (nI vc) (nI sc) (nI fT) (nI rc) (nI (q)) (nF aL) (nF aR) (nF aC) (nF aP) (nF aZ) (nF aD) (nF aK) (nF aV) (nF aW) (nF aS) (nF aU) (nF aI) (nF aA) (nF (Q)) (nF aO) (nF aF)) (h1 : ∀ A c Q q, rc < c → c ≤ 64 → cd_Dst A c → cd_CS n fc jc aL aR aZ aP T0 μ (cd_Set A c) → J8 1 (nI (r + 1)) (nI n) (nI al) (nI mf) (nI mj) (nI fc) (nI jc) (nI dc) (nI fD) (nI kc) (nI vc) (nI sc) (nI fT) (nI (c)) (nI (q)) (nF aL) (nF aR) (nF aC) (nF aP) (nF aZ) (nF aD) (nF aK) (nF aV) (nF aW) (nF aS) (nF aU) (nF aI) (nF (A)) (nF (Q)) (nF aO) (nF aF)) : wX_chase_34 post J8 (nI x) (nI r) (nI n) (nI al) (nI mf) (nI mj) (nI fc) (nI jc) (nI dc) (nI fD) (nI kc) (nI vc) (nI sc) (nI fT) (nI rc) (nI qc) (nF aL) (nF aR) (nF aC) (nF aP) (nF aZ) (nF aD) (nF aK) (nF aV) (nF aW) (nF aS) (nF aU) (nF aI) (nF aA) (nF aQ) (nF aO) (nF aF) := by
  unfold wX_chase_34
  exact cd_xAJ hN hrc hF hJD hjc hC hD h00 hW0 (fun z Q q => br_t rfl (nm_r (nI_1 r) (h0 z Q q))) (fun A c Q q g1 g2 g3 g4 => br_f (by decide) (nm_r (nI_1 r) (h1 A c Q q g1 g2 g3 g4)))
theorem cd_seteq {A B : Nat → Nat} {c d : Nat} (h : ∀ t, cd_Set A c t ↔ cd_Set B d t) : cd_Set A c = cd_Set B d := funext fun t => propext (h t)
theorem cd_xC49 {post : SX → Prop} {μ : Nat} (hrc : rc ≤ 64) (hC : cd_CS n fc jc aL aR aZ aP T0 μ (cd_Set aA rc)) (hCF : cd_ClF n fc aL aR (cd_Set aA rc)) (hCJ : cd_ClJ n jc aZ aP (cd_Set aA rc))
    (hp : ∀ A c Q q μ, c ≤ 64 → cd_Srt A c → cd_CS n fc jc aL aR aZ aP T0 μ (cd_Set A c) → cd_ClF n fc aL aR (cd_Set A c) → cd_ClJ n jc aZ aP (cd_Set A c) → post ((nI n), (nI al), (nI mf), (nI mj), (nI fc), (nI jc), (nI dc), (nI fD), (nI kc), (nI vc), (nI sc), (nI (1)), (nI (c)), (nI (q)), (nF aL), (nF aR), (nF aC), (nF aP), (nF aZ), (nF aD), (nF aK), (nF aV), (nF aW), (nF aS), (nF aU), (nF aI), (nF (A)), (nF (Q)), (nF aO), (nF aF))) : wX_chase_49 post (nI n) (nI al) (nI mf) (nI mj) (nI fc) (nI jc) (nI dc) (nI fD) (nI kc) (nI vc) (nI sc) (nI fT) (nI rc) (nI qc) (nF aL) (nF aR) (nF aC) (nF aP) (nF aZ) (nF aD) (nF aK) (nF aV) (nF aW) (nF aS) (nF aU) (nF aI) (nF aA) (nF aQ) (nF aO) (nF aF) := by
  unfold wX_chase_49
  refine cd_xNR hrc (fun t ht => (cd_CS_ok hC ht).1) fun A c g1 g2 g3 => ?_
  have e := cd_seteq g3
  exact hp A c aQ qc μ (by omega) g2 (by rw [e]; exact hC) (by rw [e]; exact hCF) (by rw [e]; exact hCJ)
theorem cd_xC8 {post : SX → Prop} (hN : cd_N n al) (hfc : fc ≤ 8) (F : cd_FD al fc aL aR) (hF : ∀ m, m < 64 → aF m = cd_fi m) (hJD : cd_JD n al jc aZ aP) (hjc : jc ≤ 3) (h00 : ∀ a, a < n → cd_pr_ T0 a 0) (hW0 : jc ≠ 0 → cd_W T0 n ≤ 64)
    (hp : ∀ A c Q q μ, c ≤ 64 → cd_Srt A c → cd_CS n fc jc aL aR aZ aP T0 μ (cd_Set A c) → cd_ClF n fc aL aR (cd_Set A c) → cd_ClJ n jc aZ aP (cd_Set A c) → post ((nI n), (nI al), (nI mf), (nI mj), (nI fc), (nI jc), (nI dc), (nI fD), (nI kc), (nI vc), (nI sc), (nI (1)), (nI (c)), (nI (q)), (nF aL), (nF aR), (nF aC), (nF aP), (nF aZ), (nF aD), (nF aK), (nF aV), (nF aW), (nF aS), (nF aU), (nF aI), (nF (A)), (nF (Q)), (nF aO), (nF aF))) :
    ∀ k μ x r A c Q q, c ≤ 64 → cd_Dst A c → cd_CS n fc jc aL aR aZ aP T0 μ (cd_Set A c) → ((x = 1 ∧ r + (65 * μ + (64 - c)) ≤ 8300 ∧ 65 * μ + (64 - c) < k) ∨ (x = 0 ∧ r ≤ 8301 ∧ cd_ClF n fc aL aR (cd_Set A c) ∧ cd_ClJ n jc aZ aP (cd_Set A c))) →
      wX_chase_8 post (k + 1) (nI x) (nI r) (nI n) (nI al) (nI mf) (nI mj) (nI fc) (nI jc) (nI dc) (nI fD) (nI kc) (nI vc) (nI sc) (nI fT) (nI (c)) (nI (q)) (nF aL) (nF aR) (nF aC) (nF aP) (nF aZ) (nF aD) (nF aK) (nF aV) (nF aW) (nF aS) (nF aU) (nF aI) (nF (A)) (nF (Q)) (nF aO) (nF aF) := by
  intro k
  induction k with
  | zero =>
    intro μ x r A c Q q g1 g2 g3 g4
    rcases g4 with ⟨_, _, z⟩ | ⟨rfl, hr, hCF, hCJ⟩
    · omega
    · rw [wX_chase_8]
      exact br_f (nI_ge (b := 10000) (by omega) (by decide)) (br_t rfl (cd_xC49 g1 g3 hCF hCJ hp))
  | succ k ih =>
    intro μ x r A c Q q g1 g2 g3 g4
    rcases g4 with ⟨rfl, hr, hk⟩ | ⟨rfl, hr, hCF, hCJ⟩
    · rw [wX_chase_8]
      refine br_f (nI_ge (b := 10000) (by omega) (by decide)) (br_f (by decide) (cd_xAF hN g1 hfc F hF g3 (fun hCF => br_t rfl ?_) (fun A' μ' hμ hC' => br_f (by decide) (cd_xNR g1 (fun t ht => (cd_CS_ok hC' ht).1) fun A2 c2 s1 s2 s3 => ?_))))
      · exact cd_xC34 (x := 0) hN g1 hF hJD hjc g3 g2 h00 hW0 (fun hCJ Q' q' => ih μ 0 (r + 1) A c Q' q' g1 g2 g3 (Or.inr ⟨rfl, by omega, hCF, hCJ⟩)) (fun A' c' Q' q' t1 t2 t3 t4 => ih μ 1 (r + 1) A' c' Q' q' t2 t3 t4 (Or.inl ⟨rfl, by omega, by omega⟩))
      · have hC2 : cd_CS n fc jc aL aR aZ aP T0 μ' (cd_Set A2 c2) := by rw [cd_seteq s3]; exact hC'
        exact cd_xC34 (x := 1) hN (by omega) hF hJD hjc hC2 (cd_srt_dst s2) h00 hW0 (fun hCJ Q' q' => ih μ' 1 (r + 1) A2 c2 Q' q' (by omega) (cd_srt_dst s2) hC2 (Or.inl ⟨rfl, by omega, by omega⟩)) (fun A' c' Q' q' t1 t2 t3 t4 => ih μ' 1 (r + 1) A' c' Q' q' t2 t3 t4 (Or.inl ⟨rfl, by omega, by omega⟩))
    · rw [wX_chase_8]
      exact br_f (nI_ge (b := 10000) (by omega) (by decide)) (br_t rfl (cd_xC49 g1 g3 hCF hCJ hp))
theorem cd_xCh {post : SX → Prop} (hN : cd_N n al) (hfc : fc ≤ 8) (F : cd_FD al fc aL aR) (hF : ∀ m, m < 64 → aF m = cd_fi m) (hJD : cd_JD n al jc aZ aP) (hjc : jc ≤ 3) (hrc : rc ≤ 64) (hO : ∀ t, cd_Set aA rc t → cd_Ok n t) (h00 : ∀ a, a < n → cd_pr_ (cd_Set aA rc) a 0) (hW0 : jc ≠ 0 → cd_W (cd_Set aA rc) n ≤ 64)
    (hp : ∀ A c Q q μ, c ≤ 64 → cd_Srt A c → cd_CS n fc jc aL aR aZ aP (cd_Set aA rc) μ (cd_Set A c) → cd_ClF n fc aL aR (cd_Set A c) → cd_ClJ n jc aZ aP (cd_Set A c) → post ((nI n), (nI al), (nI mf), (nI mj), (nI fc), (nI jc), (nI dc), (nI fD), (nI kc), (nI vc), (nI sc), (nI (1)), (nI (c)), (nI (q)), (nF aL), (nF aR), (nF aC), (nF aP), (nF aZ), (nF aD), (nF aK), (nF aV), (nF aW), (nF aS), (nF aU), (nF aI), (nF (A)), (nF (Q)), (nF aO), (nF aF))) : wpX_chase post ((nI n), (nI al), (nI mf), (nI mj), (nI fc), (nI jc), (nI dc), (nI fD), (nI kc), (nI vc), (nI sc), (nI fT), (nI rc), (nI qc), (nF aL), (nF aR), (nF aC), (nF aP), (nF aZ), (nF aD), (nF aK), (nF aV), (nF aW), (nF aS), (nF aU), (nF aI), (nF aA), (nF aQ), (nF aO), (nF aF)) := by
  unfold wpX_chase
  refine cd_xNR hrc (fun t ht => (hO t ht).1) fun A c s1 s2 s3 => ⟨8300 + 1, ?_⟩
  refine cd_xC8 (T0 := cd_Set aA rc) hN hfc F hF hJD hjc h00 hW0 hp 8300 126 1 0 A c aQ qc (by omega) (cd_srt_dst s2) (cd_CS_congr (fun t => (s3 t).symm) (cd_CS_init hO)) (Or.inl ⟨rfl, by omega, by omega⟩)
end
end
section
def cd_rw (y : Nat → Nat) : Nat → Nat := fun i => y (384 + i)
def cd_Fr (y0 : Nat → Nat) (s0 : Nat → Int32) (y : Nat → Nat) (s : Nat → Int32) (r : Nat) : Prop := (∀ i, i < 384 → y i = y0 i) ∧ (∀ j, j ≠ 6 → s j = s0 j) ∧ s 6 = nI r
theorem cd_sy_ge (t b : Nat) : cd_sy t b * 2 ^ (25 - 5 * b) ≤ t := by
  unfold cd_sy
  exact Nat.le_trans (Nat.mul_le_mul_right _ (Nat.mod_le _ _)) (Nat.div_mul_le_self _ _)
theorem cd_stsub {t b p q : Nat} (hb : b < 6) (hq : q < 32) (hpq : p ≤ q) (e : cd_sy t b = q) : nI t - ((nI q - nI p) <<< (((25 : Int32) - (5 * nI b)) &&& 31)) = nI (cd_st t b p) := by
  rw [pk_sub hpq, cd_shlI (by omega) hb]
  have h1 := cd_sy_ge t b
  rw [e] at h1
  have h2 : (q - p) * 2 ^ (25 - 5 * b) + p * 2 ^ (25 - 5 * b) = q * 2 ^ (25 - 5 * b) := by rw [← Nat.add_mul]; congr 1; omega
  rw [pk_sub (by omega)]
  refine congrArg nI ?_
  unfold cd_st
  rw [e]; omega
theorem cd_stadd {t b v s : Nat} (hb : b < 6) (hv : v < 32) (hs : s ≤ v) (e : cd_sy t b = s) : nI t + ((nI v - nI s) <<< (((25 : Int32) - (5 * nI b)) &&& 31)) = nI (cd_st t b v) := by
  rw [pk_sub hs, cd_shlI (by omega) hb, nI_add]
  have h1 := cd_sy_ge t b
  rw [e] at h1
  have h2 : (v - s) * 2 ^ (25 - 5 * b) + s * 2 ^ (25 - 5 * b) = v * 2 ^ (25 - 5 * b) := by rw [← Nat.add_mul]; congr 1; omega
  refine congrArg nI ?_
  unfold cd_st
  rw [e]; omega
theorem cd_stclr {t b : Nat} (hb : b < 6) : nI t - (nI (cd_sy t b) <<< (((25 : Int32) - (5 * nI b)) &&& 31)) = nI (cd_st t b 0) := by
  rw [cd_shlI (cd_sy_lt _ _) hb, pk_sub (cd_sy_ge t b)]
  refine congrArg nI ?_
  unfold cd_st; omega
theorem cd_syv {v a : Nat} (hv : v < 32) : cd_sy (v * 2 ^ (25 - 5 * a)) a = v := by
  unfold cd_sy
  rw [Nat.mul_div_cancel _ (Nat.two_pow_pos _), Nat.mod_eq_of_lt hv]
section
variable {n al mf mj : Nat}
variable {yL yP yC yK yS yU : Nat → Nat} {ys : Nat → Int32}
theorem cd_ysy {post : Int32 → Prop} {t a : Nat} {x : Int32} (hx : x = nI t) (ht : t < 2 ^ 31) (ha : a < 6) (hp : post (nI (cd_sy t a))) : wpY_symbol post ((nI n), (nI al), (nI mf), (nI mj), (nF yL), ys, (nF yP), (nF yC), (nF yK), (nF yS), (nF yU)) x (nI a) := by
  subst hx
  unfold wpY_symbol
  rw [cd_syI ht ha]
  exact hp
theorem cd_yag3 {post : Int32 → Prop} {t u x : Nat} (hn : n ≤ 6) (ht : t < 2 ^ 31) (hu : u < 2 ^ 31) (hp : post (nI (cd_b (cd_ag n x t u)))) :
    ∀ k a, a + k = n → (∀ b, b < a → x.testBit b = true → cd_sy t b = cd_sy u b) → wY_agree_3 post (nI t) (nI u) (nI x) (nI n) (nI al) (nI mf) (nI mj) (nF yL) ys (nF yP) (nF yC) (nF yK) (nF yS) (nF yU) (k + 1) (nI a) := by
  intro k
  induction k with
  | zero =>
    intro a h H
    rw [wY_agree_3]
    exact br_t (nI_le (by omega) (by omega)) (cd_p1 (P := cd_ag n x t u) (fun b hb => H b (by omega)) hp)
  | succ k ih =>
    intro a h H
    have S : (x.testBit a = true → cd_sy t a = cd_sy u a) → wY_agree_3 post (nI t) (nI u) (nI x) (nI n) (nI al) (nI mf) (nI mj) (nF yL) ys (nF yP) (nF yC) (nF yK) (nF yS) (nF yU) (k + 1) (nI (a + 1)) := fun z => ih (a + 1) (by omega) fun b hb => by
      by_cases e : b = a
      · subst e; exact z
      · exact H b (by omega)
    have p6 : 2 ^ a < 2 ^ 6 := Nat.pow_lt_pow_right (by decide) (by omega)
    have l1 := cd_sy_lt t a
    have l2 := cd_sy_lt u a
    rw [wY_agree_3]
    exact br_f (nI_ge (by omega) (by omega)) (cd_yin (2 ^ a) x (cd_br (fun g => nm_r (nI_1 a) (S fun z => absurd (cd_Su_pow.mpr z) g)) (fun g => cd_ysy rfl ht (by omega) (cd_ysy rfl hu (by omega) (pk_eq (cd_sy t a) (cd_sy u a) (fun e => nm_r (nI_1 a) (S fun _ => e)) (fun e => cd_p0 (P := cd_ag n x t u) (fun z => e (z a (by omega) (cd_Su_pow.mp g))) hp) rfl rfl (by omega) (by omega))))) (cd_shl1 (by omega)) rfl (by omega))
theorem cd_yag {post : Int32 → Prop} {x1 x2 x3 : Int32} (t u x : Nat) (hn : n ≤ 6) (ht : t < 2 ^ 31) (hu : u < 2 ^ 31) (hp : post (nI (cd_b (cd_ag n x t u)))) (e1 : x1 = nI t := by rfl) (e2 : x2 = nI u := by rfl) (e3 : x3 = nI x := by rfl) : wpY_agree post ((nI n), (nI al), (nI mf), (nI mj), (nF yL), ys, (nF yP), (nF yC), (nF yK), (nF yS), (nF yU)) x1 x2 x3 := by
  subst e1 e2 e3
  exact Exists.intro (n + 1) (cd_yag3 hn ht hu hp n 0 (by omega) (fun b hb => absurd hb (by omega)))
theorem cd_384 (r : Nat) : (384 : Int32) + nI r = nI (384 + r) := nI_add 384 r
theorem cd_yhe4 {post : Int32 → Prop} {t x r : Nat} (hn : n ≤ 6) (h6 : ys 6 = nI r) (hr : r ≤ 64) (ht : t < 2 ^ 31) (hA : ∀ i, i < r → cd_rw yL i < 2 ^ 31) (hp : post (nI (cd_b (cd_Agr n (cd_Set (cd_rw yL) r) t x)))) :
    ∀ k i, i + k = r → (∀ j, j < i → ¬ cd_ag n x (cd_rw yL j) t) → wY_held_4 post (nI t) (nI x) (nI n) (nI al) (nI mf) (nI mj) (nF yL) ys (nF yP) (nF yC) (nF yK) (nF yS) (nF yU) (k + 1) (nI (384 + i)) := by
  intro k
  induction k with
  | zero =>
    intro i h H
    rw [wY_held_4, h6, cd_384]
    exact br_t (nI_le (by omega) (by omega)) (cd_p0 (P := cd_Agr n (cd_Set (cd_rw yL) r) t x) (fun ⟨u, ⟨j, hj, e⟩, g⟩ => H j (by omega) (e ▸ g)) hp)
  | succ k ih =>
    intro i h H
    have c : (nI (384 + i)).toNatClampNeg = 384 + i := nI_clamp (by omega)
    rw [wY_held_4, h6, cd_384]
    dsimp only
    rw [c]
    refine br_f (nI_ge (by omega) (by omega)) ⟨vp_in_nI (by omega) (by omega), cd_yag (cd_rw yL i) t x hn (hA i (by omega)) ht (cd_br (fun g => nm_r (nI_1 _) (ih (i + 1) (by omega) fun j hj => ?_)) (fun g => cd_p1 (P := cd_Agr n (cd_Set (cd_rw yL) r) t x) ⟨_, ⟨i, by omega, rfl⟩, g⟩ hp))⟩
    by_cases e : j = i
    · subst e; exact g
    · exact H j (by omega)
theorem cd_yhe {post : Int32 → Prop} {x1 x2 : Int32} (t x : Nat) {r : Nat} (hn : n ≤ 6) (h6 : ys 6 = nI r) (hr : r ≤ 64) (ht : t < 2 ^ 31) (hA : ∀ i, i < r → cd_rw yL i < 2 ^ 31) (hp : post (nI (cd_b (cd_Agr n (cd_Set (cd_rw yL) r) t x)))) (e1 : x1 = nI t := by rfl) (e2 : x2 = nI x := by rfl) : wpY_held post ((nI n), (nI al), (nI mf), (nI mj), (nF yL), ys, (nF yP), (nF yC), (nF yK), (nF yS), (nF yU)) x1 x2 := by
  subst e1 e2
  exact Exists.intro (r + 1) (cd_yhe4 hn h6 hr ht hA hp r 0 (by omega) (fun b hb => absurd hb (by omega)))
/-! append -/
theorem cd_yAp {post : Int32 → SY → Prop} {x1 x2 : Int32} (κ c v : Nat) (hκ : κ < 7) (hc : c < 64) (h : ys κ = nI c) (hp : post (nI c) ((nI n), (nI al), (nI mf), (nI mj), (nF (cd_up yL (κ * 64 + c) v)), (upd ys κ (nI (c + 1))), (nF yP), (nF yC), (nF yK), (nF yS), (nF yU))) (e1 : x1 = nI κ := by rfl) (e2 : x2 = nI v := by rfl) : wpY_append post ((nI n), (nI al), (nI mf), (nI mj), (nF yL), ys, (nF yP), (nF yC), (nF yK), (nF yS), (nF yU)) x1 x2 := by
  subst e1 e2
  have ck : (nI κ).toNatClampNeg = κ := nI_clamp (by omega)
  have ix : nI κ * 64 + nI c = nI (κ * 64 + c) := by rw [show nI κ * 64 = nI (κ * 64) from pk_mul κ 64, nI_add]
  have ci : (nI (κ * 64 + c)).toNatClampNeg = κ * 64 + c := nI_clamp (by omega)
  unfold wpY_append
  dsimp only
  rw [ck, h, ix, ci]
  exact ⟨vp_in_nI (by omega) (by omega), vp_in_nI (by omega) (by omega), nm_r (cd_upd _ _ _) ⟨vp_in_nI (by omega) (by omega), vp_in_nI (by omega) (by omega), nm_r (congrArg (upd ys κ) (nI_1 c)) ⟨vp_in_nI (by omega) (by omega), by rw [pk_us, nI_pred]; exact hp⟩⟩⟩
/-! a row is put -/
theorem cd_yAR40 {post : Int32 → SY → Prop} {t r : Nat} {S0 : Nat → Prop} {y0 : Nat → Nat} (hr : r < 64) (ht : t < 2 ^ 30) (hS : ∀ s, S0 s → s < 2 ^ 30)
    (hp : ∀ y : Nat → Nat, (∀ i, i < 384 ∨ 384 + r < i → y i = y0 i) → cd_Srt (cd_rw y) (r + 1) → (∀ s, cd_Set (cd_rw y) (r + 1) s ↔ S0 s) → post 1 ((nI n), (nI al), (nI mf), (nI mj), (nF (y)), ys, (nF yP), (nF yC), (nF yK), (nF yS), (nF yU))) :
    ∀ j, j ≤ r → ∀ y : Nat → Nat, (∀ i, i < 384 ∨ 384 + r < i → y i = y0 i) → (∀ s, cd_Set (cd_rw y) (r + 1) s ↔ S0 s) → cd_rw y j = t → (∀ i, i ≤ r → i ≠ j → cd_rw y i ≠ t) → (∀ a b, a < b → b ≤ r → b ≠ j → cd_rw y a < cd_rw y b) →
      wY_addRow_40 post (nI t) (nI n) (nI al) (nI mf) (nI mj) (j + 1) (nI (384 + j)) (nF (y)) ys (nF yP) (nF yC) (nF yK) (nF yS) (nF yU) := by
  intro j
  induction j with
  | zero =>
    intro hj y h1 h2 h3 h4 h5
    rw [wY_addRow_40]
    exact br_t (show nI (384 + 0) ≤ 384 from by decide) (hp y h1 (fun a b hab hb => h5 a b hab (by omega) (by omega)) h2)
  | succ j ih =>
    intro hj y h1 h2 h3 h4 h5
    have cj : (nI (384 + j)).toNatClampNeg = 384 + j := nI_clamp (by omega)
    have cj1 : (nI (384 + (j + 1))).toNatClampNeg = 384 + j + 1 := nI_clamp (by omega)
    have bj : cd_rw y j < 2 ^ 30 := hS _ ((h2 _).mp ⟨j, by omega, rfl⟩)
    rw [wY_addRow_40]
    dsimp only
    rw [show nI (384 + (j + 1)) - 1 = nI (384 + j) from nI_pred (384 + j), cj, cj1]
    refine br_f (show ¬ nI (384 + (j + 1)) ≤ nI 384 from nI_ge (by omega) (by omega)) ⟨vp_in_nI (by omega) (by omega), pk_le (cd_rw y j) t (fun h => hp y h1 (fun a b hab hb => ?_) h2) (fun h => ⟨vp_in_nI (by omega) (by omega), vp_in_nI (by omega) (by omega), nm_r (cd_upd y (384 + j + 1) (y (384 + j))) ⟨vp_in_nI (by omega) (by omega), nm_r (cd_upd _ (384 + j) t) (nm_r (show nI (384 + j + 1) + (-1) = nI (384 + j) from pk_m1 _) (ih (by omega) _ (fun i hi => ?_) (fun s => ?_) ?_ (fun i hi hij => ?_) (fun a b hab hb hbj => ?_)))⟩⟩)⟩
    · by_cases e : b = j + 1
      · subst e
        have q : cd_rw y j < cd_rw y (j + 1) := by
          have := h4 j (by omega) (by omega)
          omega
        by_cases e' : a = j
        · subst e'; exact q
        · have := h5 a j (by omega) (by omega) (by omega)
          omega
      · exact h5 a b hab (by omega) e
    · rw [cd_un (by omega), cd_un (by omega)]; exact h1 i hi
    · have E : cd_rw (cd_up (cd_up y (384 + j + 1) (y (384 + j))) (384 + j) t) = cd_up (cd_up (cd_rw y) (j + 1) (cd_rw y j)) j (cd_rw y (j + 1)) := by
        funext i
        show cd_up (cd_up y (384 + j + 1) (y (384 + j))) (384 + j) t (384 + i) = _
        by_cases e : i = j
        · subst e; rw [cd_us, cd_us, h3]
        · rw [cd_un (by omega), cd_un e]
          by_cases e' : i = j + 1
          · subst e'; rw [show 384 + (j + 1) = 384 + j + 1 by omega, cd_us, cd_us]; rfl
          · rw [cd_un (by omega), cd_un e']; rfl
      rw [E]
      exact (cd_swap_set (A := cd_rw y) (i := j) (j := j + 1) (by omega) (by omega) (by omega) s).trans (h2 s)
    · show cd_up (cd_up y (384 + j + 1) (y (384 + j))) (384 + j) t (384 + j) = t
      exact cd_us
    · show cd_up (cd_up y (384 + j + 1) (y (384 + j))) (384 + j) t (384 + i) ≠ t
      rw [cd_un (by omega)]
      by_cases e' : i = j + 1
      · subst e'; rw [show 384 + (j + 1) = 384 + j + 1 by omega, cd_us]; exact h4 j (by omega) (by omega)
      · rw [cd_un (by omega)]; exact h4 i hi e'
    · show cd_up (cd_up y (384 + j + 1) (y (384 + j))) (384 + j) t (384 + a) < cd_up (cd_up y (384 + j + 1) (y (384 + j))) (384 + j) t (384 + b)
      rw [cd_un (show 384 + b ≠ 384 + j by omega)]
      by_cases e : b = j + 1
      · subst e
        rw [show 384 + (j + 1) = 384 + j + 1 by omega, cd_us]
        by_cases e' : a = j
        · subst e'; rw [cd_us]; exact h
        · rw [cd_un (by omega), cd_un (by omega)]; exact h5 a j (by omega) (by omega) (by omega)
      · rw [cd_un (show 384 + b ≠ 384 + j + 1 by omega)]
        by_cases e' : a = j
        · subst e'; rw [cd_us, ← h3]; exact h5 (a + 1) b (by omega) hb e
        · rw [cd_un (by omega)]
          by_cases e2 : a = j + 1
          · subst e2; rw [show 384 + (j + 1) = 384 + j + 1 by omega, cd_us]; exact h5 j b (by omega) hb e
          · rw [cd_un (by omega)]; exact h5 a b hab hb e
/-- rows with nothing beyond the columns -/
def cd_Zr (n t : Nat) : Prop := t < 2 ^ 30 ∧ ∀ a, n ≤ a → a < 6 → cd_sy t a = 0
theorem cd_Zr_ok {n t : Nat} (h : cd_Ok n t) : cd_Zr n t := ⟨h.1, fun a h1 h2 => (h.2 a h2).2 h1⟩
theorem cd_Zr_ext {n t u : Nat} (ht : cd_Zr n t) (hu : cd_Zr n u) (h : ∀ a, a < n → cd_sy t a = cd_sy u a) : t = u := by
  refine cd_sy_ext ht.1 hu.1 fun a ha => ?_
  rcases Nat.lt_or_ge a n with q | q
  · exact h a q
  · rw [ht.2 a q ha, hu.2 a q ha]
theorem cd_Agr_set {T : Nat → Prop} {t : Nat} (hN : cd_N n al) (hT : ∀ s, T s → cd_Zr n s) (ht : cd_Zr n t) : cd_Agr n T t al ↔ T t := by
  constructor
  · rintro ⟨u, hu, g⟩
    have : u = t := cd_Zr_ext (hT u hu) ht fun a ha => g a ha (by rw [cd_N_tb hN]; exact decide_eq_true ha)
    exact this ▸ hu
  · exact fun h => ⟨t, h, fun _ _ _ => rfl⟩
theorem cd_yAR {post : Int32 → SY → Prop} {x1 : Int32} {r : Nat} (t : Nat) (hN : cd_N n al) (h6 : ys 6 = nI r) (hr : r ≤ 64) (ht : cd_Zr n t) (hT : ∀ s, cd_Set (cd_rw yL) r s → cd_Zr n s) (hS : cd_Srt (cd_rw yL) r)
    (hp0 : 64 ≤ r ∨ cd_Set (cd_rw yL) r t → post 0 ((nI n), (nI al), (nI mf), (nI mj), (nF yL), ys, (nF yP), (nF yC), (nF yK), (nF yS), (nF yU)))
    (hp1 : r < 64 → ¬ cd_Set (cd_rw yL) r t → ∀ (y : Nat → Nat) (s : Nat → Int32), (∀ i, i < 384 ∨ 384 + r < i → y i = yL i) → (∀ j, j ≠ 6 → s j = ys j) → s 6 = nI (r + 1) → cd_Srt (cd_rw y) (r + 1) → (∀ s, cd_Set (cd_rw y) (r + 1) s ↔ (cd_Set (cd_rw yL) r s ∨ s = t)) → post 1 ((nI n), (nI al), (nI mf), (nI mj), (nF (y)), (s), (nF yP), (nF yC), (nF yK), (nF yS), (nF yU))) (e1 : x1 = nI t := by rfl) : wpY_addRow post ((nI n), (nI al), (nI mf), (nI mj), (nF yL), ys, (nF yP), (nF yC), (nF yK), (nF yS), (nF yU)) x1 := by
  subst e1
  have hn := hN.2.1
  have ht1 := ht.1
  unfold wpY_addRow
  dsimp only
  rw [h6]
  refine pk_le 64 r (fun z => hp0 (Or.inl z)) (fun z => cd_yhe t al hn h6 hr (by omega) (fun i hi => by have := (hT _ ⟨i, hi, rfl⟩).1; omega) (cd_br (fun g => cd_yAp 6 r t (by decide) (by omega) h6 (nm_r (cd_384 r) ⟨r + 1, ?_⟩)) (fun g => hp0 (Or.inr ((cd_Agr_set hN hT ht).mp g)))))
  have nt : ¬ cd_Set (cd_rw yL) r t := fun w => g ((cd_Agr_set hN hT ht).mpr w)
  have E : cd_rw (cd_up yL (6 * 64 + r) t) = cd_up (cd_rw yL) r t := by
    funext i
    show cd_up yL (6 * 64 + r) t (384 + i) = _
    by_cases e : i = r
    · subst e; rw [show 6 * 64 + i = 384 + i by omega, cd_us, cd_us]
    · rw [cd_un (by omega), cd_un e]; rfl
  refine cd_yAR40 (S0 := fun s => cd_Set (cd_rw yL) r s ∨ s = t) (y0 := yL) z ht1 (fun s hs => hs.elim (fun w => (hT s w).1) (fun w => w ▸ ht1)) (fun y h1 h2 h3 => hp1 z nt y _ h1 (fun j hj => pk_un hj) pk_us h2 h3) r (Nat.le_refl _) _ (fun i hi => cd_un (by omega)) (fun s => ?_) ?_ (fun i hi hir => ?_) (fun a b hab hb hbr => ?_)
  · rw [E]; exact (cd_set_app s).symm
  · rw [E]; exact cd_us
  · rw [E, cd_un hir]; exact fun w => nt ⟨i, by omega, w⟩
  · rw [E, cd_un (by omega), cd_un hbr]; exact hS a b hab (by omega)
/-! start rows -/
def cd_ts (x s : Nat) : Nat → Nat
  | 0 => 0
  | k + 1 => if x.testBit k then cd_ts x s k else cd_ts x s k + s * 2 ^ (25 - 5 * k)
theorem cd_ts_on : ∀ n, n < 7 → ∀ x, x < 64 → ∀ s, s < 32 → cd_ts x s n = cd_on (cd_df (2 ^ n - 1) x) * s := by decide +kernel
theorem cd_yAS5 {post : SY → Prop} {x s : Nat} (hn : n ≤ 6) (hs : s < 32) (hx : x < 64) (hp : wpY_addRow (fun _ u => post u) ((nI n), (nI al), (nI mf), (nI mj), (nF yL), ys, (nF yP), (nF yC), (nF yK), (nF yS), (nF yU)) (nI (cd_ts x s n))) :
    ∀ k a, a + k = n → wY_addStart_5 post (nI x) (nI s) (nI n) (nI al) (nI mf) (nI mj) (nF yL) ys (nF yP) (nF yC) (nF yK) (nF yS) (nF yU) (k + 1) (nI (cd_ts x s a)) (nI a) := by
  intro k
  induction k with
  | zero =>
    intro a h
    have e : a = n := by omega
    subst e
    rw [wY_addStart_5]
    exact br_t (nI_le (Nat.le_refl _) (by omega)) hp
  | succ k ih =>
    intro a h
    have I := ih (a + 1) (by omega)
    have p6 : 2 ^ a < 2 ^ 6 := Nat.pow_lt_pow_right (by decide) (by omega)
    rw [wY_addStart_5]
    refine br_f (nI_ge (by omega) (by omega)) (cd_yin (2 ^ a) x (cd_br (fun g => nm_r (e' := nI (cd_ts x s (a + 1))) ?_ (nm_r (nI_1 a) I)) (fun g => nm_r (nI_1 a) ?_)) (cd_shl1 (by omega)) rfl (by omega))
    · rw [cd_shlI hs (by omega), nI_add, show cd_ts x s (a + 1) = cd_ts x s a + s * 2 ^ (25 - 5 * a) from if_neg fun w => g (cd_Su_pow.mpr w)]
    · rw [show cd_ts x s (a + 1) = cd_ts x s a from if_pos (cd_Su_pow.mp g)] at I
      exact I
theorem cd_yAS {post : SY → Prop} {x1 x2 : Int32} (x s : Nat) (hN : cd_N n al) (hs : s < 32) (hx : x ≤ al) (hp : wpY_addRow (fun _ u => post u) ((nI n), (nI al), (nI mf), (nI mj), (nF yL), ys, (nF yP), (nF yC), (nF yK), (nF yS), (nF yU)) (nI (cd_on (cd_df al x) * s))) (e1 : x1 = nI x := by rfl) (e2 : x2 = nI s := by rfl) : wpY_addStart post ((nI n), (nI al), (nI mf), (nI mj), (nF yL), ys, (nF yP), (nF yC), (nF yK), (nF yS), (nF yU)) x1 x2 := by
  subst e1 e2
  have hn := hN.2.1
  have hal := (cd_N_al hN).1
  have e := cd_ts_on n (by omega) x (by omega) s hs
  rw [show 2 ^ n - 1 = al by have := hN.2.2; omega] at e
  rw [← e] at hp
  exact Exists.intro (n + 1) (cd_yAS5 hn hs (by omega) hp n 0 (by omega))
/-! merge -/
theorem cd_yMg62 {post : Int32 → SY → Prop} {b p q r : Nat} {y0 : Nat → Nat} (hb : b < 6) (hq : q < 32) (hpq : p < q) (h6 : ys 6 = nI r) (hr : r ≤ 64) (hA : ∀ i, i < r → cd_rw y0 i < 2 ^ 30)
    (hp : ∀ y : Nat → Nat, (∀ i, i < 384 → y i = y0 i) → (∀ i, i < r → cd_rw y i = cd_rp b p q (cd_rw y0 i)) → post 1 ((nI n), (nI al), (nI mf), (nI mj), (nF (y)), ys, (nF yP), (nF yC), (nF yK), (nF yS), (nF yU))) :
    ∀ k i, i + k = r → ∀ y : Nat → Nat, (∀ j, j < 384 → y j = y0 j) → (∀ j, j < i → cd_rw y j = cd_rp b p q (cd_rw y0 j)) → (∀ j, i ≤ j → j < r → cd_rw y j = cd_rw y0 j) → wY_merge_62 post (nI b) (nI p) (nI q) (nI n) (nI al) (nI mf) (nI mj) (k + 1) (nI (384 + i)) (nF (y)) ys (nF yP) (nF yC) (nF yK) (nF yS) (nF yU) := by
  intro k
  induction k with
  | zero =>
    intro i h y h1 h2 h3
    have e : i = r := by omega
    subst e
    rw [wY_merge_62]
    dsimp only
    rw [h6, cd_384]
    exact br_t (nI_le (Nat.le_refl _) (by omega)) (hp y h1 h2)
  | succ k ih =>
    intro i h y h1 h2 h3
    have c : (nI (384 + i)).toNatClampNeg = 384 + i := nI_clamp (by omega)
    have ei : y (384 + i) = cd_rw y0 i := h3 i (Nat.le_refl _) (by omega)
    have Ai := hA i (by omega)
    have sl := cd_sy_lt (cd_rw y0 i) b
    rw [wY_merge_62]
    dsimp only
    rw [h6, cd_384, c, show nF y (384 + i) = nI (cd_rw y0 i) from congrArg nI ei]
    refine br_f (nI_ge (by omega) (by omega)) ⟨vp_in_nI (by omega) (by omega), cd_ysy rfl (by omega) hb (pk_eq (cd_sy (cd_rw y0 i) b) q (fun e => ⟨vp_in_nI (by omega) (by omega), vp_in_nI (by omega) (by omega), nm_r (e' := nF (cd_up y (384 + i) (cd_st (cd_rw y0 i) b p))) ?_ (nm_r (nI_1 _) (ih (i + 1) (by omega) _ (fun j hj => ?_) (fun j hj => ?_) (fun j hj1 hj2 => ?_)))⟩) (fun e => nm_r (nI_1 _) (ih (i + 1) (by omega) y h1 (fun j hj => ?_) (fun j hj1 hj2 => h3 j (by omega) hj2))) rfl rfl (by omega) (by omega))⟩
    · rw [cd_stsub hb hq (by omega) e, cd_upd]
    · rw [cd_un (by omega)]; exact h1 j hj
    · show cd_up y (384 + i) _ (384 + j) = _
      by_cases z : j = i
      · subst z; rw [cd_us, cd_rp_t e]
      · rw [cd_un (by omega)]; exact h2 j (by omega)
    · show cd_up y (384 + i) _ (384 + j) = _
      rw [cd_un (by omega)]; exact h3 j (by omega) hj2
    · by_cases z : j = i
      · subst z; rw [cd_rp_f e]; exact ei
      · exact h2 j (by omega)
theorem cd_yMg {post : Int32 → SY → Prop} {x1 x2 x3 x4 : Int32} {r : Nat} (x i j b : Nat) (hn : n ≤ 6) (hb : b < 6) (h6 : ys 6 = nI r) (hr : r ≤ 64) (hi : i < r) (hj : j < r) (hA : ∀ i, i < r → cd_rw yL i < 2 ^ 30)
    (hp0 : ¬ (cd_sy (cd_rw yL i) b < cd_sy (cd_rw yL j) b ∧ cd_ag n x (cd_rw yL i) (cd_rw yL j)) → post 0 ((nI n), (nI al), (nI mf), (nI mj), (nF yL), ys, (nF yP), (nF yC), (nF yK), (nF yS), (nF yU)))
    (hp1 : cd_sy (cd_rw yL i) b < cd_sy (cd_rw yL j) b → cd_ag n x (cd_rw yL i) (cd_rw yL j) → ∀ y : Nat → Nat, (∀ i, i < 384 → y i = yL i) → (∀ k, k < r → cd_rw y k = cd_rp b (cd_sy (cd_rw yL i) b) (cd_sy (cd_rw yL j) b) (cd_rw yL k)) → post 1 ((nI n), (nI al), (nI mf), (nI mj), (nF (y)), ys, (nF yP), (nF yC), (nF yK), (nF yS), (nF yU)))
    (e1 : x1 = nI x := by rfl) (e2 : x2 = nI (384 + i) := by rfl) (e3 : x3 = nI (384 + j) := by rfl) (e4 : x4 = nI b := by rfl) : wpY_merge post ((nI n), (nI al), (nI mf), (nI mj), (nF yL), ys, (nF yP), (nF yC), (nF yK), (nF yS), (nF yU)) x1 x2 x3 x4 := by
  subst e1 e2 e3 e4
  have ci : (nI (384 + i)).toNatClampNeg = 384 + i := nI_clamp (by omega)
  have cj : (nI (384 + j)).toNatClampNeg = 384 + j := nI_clamp (by omega)
  have Ai := hA i hi
  have Aj := hA j hj
  have l1 := cd_sy_lt (cd_rw yL i) b
  have l2 := cd_sy_lt (cd_rw yL j) b
  unfold wpY_merge
  rw [ci, cj]
  exact ⟨vp_in_nI (by omega) (by omega), cd_ysy (t := cd_rw yL i) rfl (by omega) hb ⟨vp_in_nI (by omega) (by omega), cd_ysy (t := cd_rw yL j) rfl (by omega) hb (pk_le (cd_sy (cd_rw yL j) b) (cd_sy (cd_rw yL i) b) (fun h => hp0 fun z => by omega) (fun h => ⟨vp_in_nI (by omega) (by omega), vp_in_nI (by omega) (by omega), cd_yag (cd_rw yL i) (cd_rw yL j) x hn (by omega) (by omega) (cd_br (fun g => hp0 fun z => g z.2) (fun g => ⟨r + 1, cd_yMg62 (y0 := yL) hb l2 h h6 hr hA (fun y h1 h2 => hp1 h g y h1 h2) r 0 (by omega) yL (fun _ _ => rfl) (fun j hj => absurd hj (by omega)) (fun _ _ _ => rfl)⟩))⟩) rfl rfl (by omega) (by omega))⟩⟩
end
end
section
/-! the order in which the reference counts through the rows -/
noncomputable def cd_rk (T : Nat → Prop) (t : Nat) : Nat → Nat
  | 0 => 0
  | a + 1 => cd_rk T t a + cd_cn (cd_pr_ T a) (cd_sy t a) * cd_W T a
/-- all symbols of t occur in their columns -/
def cd_Cb (n : Nat) (T : Nat → Prop) (t : Nat) : Prop := cd_Zr n t ∧ ∀ a, a < n → cd_pr_ T a (cd_sy t a) ∧ cd_sy t a ≤ 20
theorem cd_rk_lt {n t : Nat} {T : Nat → Prop} (h : cd_Cb n T t) : ∀ a, a ≤ n → cd_rk T t a < cd_W T a
  | 0, _ => by show 0 < 1; omega
  | a + 1, ha => by
    have ih := cd_rk_lt h a (by omega)
    obtain ⟨p, l⟩ := h.2 a (by omega)
    have e := cd_cn_s (P := cd_pr_ T a) p
    have u := cd_cn_up (P := cd_pr_ T a) (a := cd_sy t a + 1) (b := 21) (by omega)
    show cd_rk T t a + cd_cn (cd_pr_ T a) (cd_sy t a) * cd_W T a < cd_W T a * cd_cn (cd_pr_ T a) 21
    have m := Nat.mul_le_mul_left (cd_W T a) (show cd_cn (cd_pr_ T a) (cd_sy t a) + 1 ≤ cd_cn (cd_pr_ T a) 21 by omega)
    rw [Nat.mul_add, Nat.mul_one, Nat.mul_comm] at m
    omega
theorem cd_cn_inj {P : Nat → Prop} {s t : Nat} (hs : P s) (ht : P t) (e : cd_cn P s = cd_cn P t) : s = t := by
  rcases Nat.lt_trichotomy s t with q | q | q
  · have a := cd_cn_s hs
    have b := cd_cn_up (P := P) (a := s + 1) (b := t) q
    omega
  · exact q
  · have a := cd_cn_s ht
    have b := cd_cn_up (P := P) (a := t + 1) (b := s) q
    omega
theorem cd_rk_inj {n t u : Nat} {T : Nat → Prop} (h : cd_Cb n T t) (g : cd_Cb n T u) : ∀ a, a ≤ n → cd_rk T t a = cd_rk T u a → ∀ b, b < a → cd_sy t b = cd_sy u b
  | 0, _, _ => fun b hb => absurd hb (by omega)
  | a + 1, ha, e => by
    have l1 := cd_rk_lt h a (by omega)
    have l2 := cd_rk_lt g a (by omega)
    have e : cd_rk T t a + cd_cn (cd_pr_ T a) (cd_sy t a) * cd_W T a = cd_rk T u a + cd_cn (cd_pr_ T a) (cd_sy u a) * cd_W T a := e
    have W0 : 0 < cd_W T a := by omega
    have d1 := congrArg (fun z => z / cd_W T a) e
    have d2 := congrArg (fun z => z % cd_W T a) e
    simp only [Nat.add_mul_div_right _ _ W0, Nat.div_eq_of_lt l1, Nat.div_eq_of_lt l2, Nat.zero_add] at d1
    simp only [Nat.add_mul_mod_self_right, Nat.mod_eq_of_lt l1, Nat.mod_eq_of_lt l2] at d2
    have s := cd_cn_inj (h.2 a (by omega)).1 (g.2 a (by omega)).1 d1
    intro b hb
    by_cases q : b = a
    · subst q; exact s
    · exact cd_rk_inj h g a (by omega) d2 b (by omega)
theorem cd_rk_eq {n t u : Nat} {T : Nat → Prop} (h : cd_Cb n T t) (g : cd_Cb n T u) (e : cd_rk T t n = cd_rk T u n) : t = u :=
  cd_Zr_ext h.1 g.1 (cd_rk_inj h g n (Nat.le_refl _) e)
theorem cd_rk_hi {t u : Nat} {T : Nat → Prop} {a : Nat} : ∀ d, (∀ b, a ≤ b → b < a + d → cd_sy t b = cd_sy u b) → cd_rk T t (a + d) + cd_rk T u a = cd_rk T u (a + d) + cd_rk T t a
  | 0, _ => by rw [Nat.add_zero]; omega
  | d + 1, h => by
    have ih := cd_rk_hi (T := T) d (fun b h1 h2 => h b h1 (by omega))
    show cd_rk T t (a + d) + cd_cn (cd_pr_ T (a + d)) (cd_sy t (a + d)) * cd_W T (a + d) + _ = cd_rk T u (a + d) + cd_cn (cd_pr_ T (a + d)) (cd_sy u (a + d)) * cd_W T (a + d) + _
    rw [h (a + d) (by omega) (by omega)]
    omega
theorem cd_rk_0 {t : Nat} {T : Nat → Prop} : ∀ a, (∀ b, b < a → cd_sy t b = 0) → cd_rk T t a = 0
  | 0, _ => rfl
  | a + 1, h => by
    show cd_rk T t a + cd_cn (cd_pr_ T a) (cd_sy t a) * cd_W T a = 0
    rw [cd_rk_0 a (fun b hb => h b (by omega)), h a (by omega)]
    show 0 + 0 * _ = 0
    omega
/-- one step of the count: column a is next, the columns below are done -/
noncomputable def cd_nx (T : Nat → Prop) : Nat → Nat → Nat → Nat
  | 0, _, t => t
  | k + 1, a, t => if cd_sc (cd_pr_ T a) (20 - cd_sy t a) (cd_sy t a + 1) ≤ 20 then cd_st t a (cd_sc (cd_pr_ T a) (20 - cd_sy t a) (cd_sy t a + 1)) else cd_nx T k (a + 1) (cd_st t a 0)
theorem cd_nx_t {T : Nat → Prop} {k a t v : Nat} (h : cd_sc (cd_pr_ T a) (20 - cd_sy t a) (cd_sy t a + 1) = v) (g : v ≤ 20) : cd_nx T (k + 1) a t = cd_st t a v := by
  subst h; exact if_pos g
theorem cd_nx_f {T : Nat → Prop} {k a t : Nat} (h : ¬ cd_sc (cd_pr_ T a) (20 - cd_sy t a) (cd_sy t a + 1) ≤ 20) : cd_nx T (k + 1) a t = cd_nx T k (a + 1) (cd_st t a 0) := if_neg h
theorem cd_sc_spec {P : Nat → Prop} : ∀ k z, (∀ y, z ≤ y → y < cd_sc P k z → ¬ P y) ∧ z ≤ cd_sc P k z ∧ cd_sc P k z ≤ z + k ∧ (cd_sc P k z < z + k → P (cd_sc P k z))
  | 0, z => ⟨fun y h1 h2 => by have h2 : y < z := h2; omega, Nat.le_refl _, Nat.le_refl _, fun h => by have h : z < z + 0 := h; omega⟩
  | k + 1, z => by
    by_cases e : P z
    · rw [cd_sc_t e]; exact ⟨fun y h1 h2 => by omega, Nat.le_refl _, by omega, fun _ => e⟩
    · rw [cd_sc_f e]
      obtain ⟨a, b, c, d⟩ := cd_sc_spec (P := P) k (z + 1)
      refine ⟨fun y h1 h2 => ?_, by omega, by omega, fun h => d (by omega)⟩
      by_cases q : y = z
      · subst q; exact e
      · exact a y (by omega) h2
theorem cd_nx_spec {n t0 : Nat} {T : Nat → Prop} (hn : n ≤ 6) (h0 : ∀ a, a < n → cd_pr_ T a 0) (hc : cd_Cb n T t0) :
    ∀ k a t, a + k = n → cd_Zr n t → (∀ b, b < a → cd_sy t b = 0) → (∀ b, a ≤ b → b < n → cd_sy t b = cd_sy t0 b) → cd_rk T t0 a + 1 = cd_W T a →
      cd_Cb n T (cd_nx T k a t) ∧ (cd_rk T t0 n + 1 < cd_W T n → cd_rk T (cd_nx T k a t) n = cd_rk T t0 n + 1)
  | 0, a, t, h, z, h1, h2, h3 => by
    have e : a = n := by omega
    subst e
    refine ⟨⟨z, fun b hb => ?_⟩, fun q => ?_⟩
    · show cd_pr_ T b (cd_sy t b) ∧ cd_sy t b ≤ 20
      rw [h1 b hb]; exact ⟨h0 b hb, by omega⟩
    · omega
  | k + 1, a, t, h, z, h1, h2, h3 => by
    have ca := hc.2 a (by omega)
    have ea := h2 a (Nat.le_refl _) (by omega)
    obtain ⟨s1, s2, s3, s4⟩ := cd_sc_spec (P := cd_pr_ T a) (20 - cd_sy t a) (cd_sy t a + 1)
    have e0 := cd_cn_s ca.1
    by_cases q : cd_sc (cd_pr_ T a) (20 - cd_sy t a) (cd_sy t a + 1) ≤ 20
    · rw [cd_nx_t rfl q]
      generalize hv : cd_sc (cd_pr_ T a) (20 - cd_sy t a) (cd_sy t a + 1) = v at *
      have pv : cd_pr_ T a v := s4 (by omega)
      have sv : ∀ b, b < 6 → b ≠ a → cd_sy (cd_st t a v) b = cd_sy t b := fun b hb hba => cd_st_n (by omega) (by omega) hb hba
      have va : cd_sy (cd_st t a v) a = v := cd_st_s (by omega)
      refine ⟨⟨⟨cd_st_lt z.1 (by omega) (by omega), fun b hb1 hb2 => by rw [sv b hb2 (by omega)]; exact z.2 b hb1 hb2⟩, fun b hb => ?_⟩, fun _ => ?_⟩
      · by_cases w : b = a
        · subst w; rw [va]; exact ⟨pv, q⟩
        · rw [sv b (by omega) w]
          rcases Nat.lt_or_ge b a with w' | w'
          · rw [h1 b w']; exact ⟨h0 b hb, by omega⟩
          · rw [h2 b w' hb]; exact hc.2 b hb
      · have hi := cd_rk_hi (T := T) (t := cd_st t a v) (u := t0) (a := a + 1) (n - (a + 1)) (fun b hb1 hb2 => by
          rw [sv b (by omega) (by omega)]; exact h2 b (by omega) (by omega))
        rw [show a + 1 + (n - (a + 1)) = n by omega] at hi
        have l1 : cd_rk T (cd_st t a v) (a + 1) = cd_cn (cd_pr_ T a) v * cd_W T a := by
          show cd_rk T (cd_st t a v) a + cd_cn (cd_pr_ T a) (cd_sy (cd_st t a v) a) * cd_W T a = _
          rw [cd_rk_0 a (fun b hb => by rw [sv b (by omega) (by omega)]; exact h1 b hb), va, Nat.zero_add]
        have l2 : cd_rk T t0 (a + 1) = cd_rk T t0 a + cd_cn (cd_pr_ T a) (cd_sy t0 a) * cd_W T a := rfl
        have l3 : cd_cn (cd_pr_ T a) v = cd_cn (cd_pr_ T a) (cd_sy t0 a) + 1 := by
          rw [← e0, ← ea]
          have := cd_cn_skip (P := cd_pr_ T a) (a := cd_sy t a + 1) (v - (cd_sy t a + 1)) (fun j hj1 hj2 => s1 j hj1 (by omega))
          rw [show cd_sy t a + 1 + (v - (cd_sy t a + 1)) = v by omega] at this
          exact this
        rw [l3, Nat.add_mul, Nat.one_mul] at l1
        omega
    · rw [cd_nx_f q]
      have sv : ∀ b, b < 6 → b ≠ a → cd_sy (cd_st t a 0) b = cd_sy t b := fun b hb hba => cd_st_n (by omega) (by omega) hb hba
      have va : cd_sy (cd_st t a 0) a = 0 := cd_st_s (by omega)
      refine cd_nx_spec hn h0 hc k (a + 1) _ (by omega) ⟨cd_st_lt z.1 (by omega) (by omega), fun b hb1 hb2 => by rw [sv b hb2 (by omega)]; exact z.2 b hb1 hb2⟩ (fun b hb => ?_) (fun b hb1 hb2 => by rw [sv b (by omega) (by omega)]; exact h2 b (by omega) hb2) ?_
      · by_cases w : b = a
        · subst w; exact va
        · rw [sv b (by omega) w]; exact h1 b (by omega)
      · have l2 : cd_rk T t0 (a + 1) = cd_rk T t0 a + cd_cn (cd_pr_ T a) (cd_sy t0 a) * cd_W T a := rfl
        have l3 : cd_cn (cd_pr_ T a) 21 = cd_cn (cd_pr_ T a) (cd_sy t0 a) + 1 := by
          rw [← e0, ← ea]
          have := cd_cn_skip (P := cd_pr_ T a) (a := cd_sy t a + 1) (20 - cd_sy t a) (fun j hj1 hj2 => s1 j hj1 (by omega))
          rw [show cd_sy t a + 1 + (20 - cd_sy t a) = 21 by omega] at this
          exact this
        have l4 : cd_W T (a + 1) = cd_W T a * cd_cn (cd_pr_ T a) 21 := rfl
        rw [l3, Nat.mul_add, Nat.mul_one, Nat.mul_comm] at l4
        omega
theorem cd_full2 {n r t : Nat} {A : Nat → Nat} {T : Nat → Prop} (hD : cd_Dst A r) (hA : ∀ i, i < r → cd_Cb n T (A i)) (ht : cd_Cb n T t) (hW : cd_W T n ≤ r) : cd_Set A r t := by
  refine Classical.byContradiction fun z => ?_
  have := cd_php (cd_W T n) (r + 1) (fun i => if i < r then cd_rk T (A i) n else cd_rk T t n) (fun i hi => by
    show (if i < r then cd_rk T (A i) n else cd_rk T t n) < _
    split
    · rename_i h; exact cd_rk_lt (hA i h) n (Nat.le_refl _)
    · exact cd_rk_lt ht n (Nat.le_refl _)) (fun i j hij hj => by
    show (if i < r then cd_rk T (A i) n else cd_rk T t n) ≠ (if j < r then cd_rk T (A j) n else cd_rk T t n)
    rw [if_pos (by omega)]
    split
    · rename_i h; exact fun e => hD i j hij h (cd_rk_eq (hA i (by omega)) (hA j h) e)
    · exact fun e => z ⟨i, by omega, cd_rk_eq (hA i (by omega)) ht e⟩)
  omega
end
section
theorem cd_pack {n : Nat} (hn : n ≤ 6) (ρ : Nat → Nat) (h : ∀ a, a < n → ρ a < 32) : ∀ m, m ≤ n → ∃ t, cd_Zr m t ∧ ∀ a, a < m → cd_sy t a = ρ a
  | 0, _ => ⟨0, ⟨by decide, fun a _ _ => cd_sy0 a⟩, fun a ha => absurd ha (by omega)⟩
  | m + 1, hm => by
    obtain ⟨t, z, e⟩ := cd_pack hn ρ h m (by omega)
    have l := h m (by omega)
    refine ⟨cd_st t m (ρ m), ⟨cd_st_lt z.1 (by omega) l, fun a h1 h2 => ?_⟩, fun a ha => ?_⟩
    · rw [cd_st_n l (by omega) h2 (by omega)]; exact z.2 a (by omega) h2
    · by_cases q : a = m
      · subst q; exact cd_st_s l
      · rw [cd_st_n l (by omega) (by omega) q]; exact e a (by omega)
section
variable {n al mf mj : Nat}
variable {yL yP yC yK yS yU : Nat → Nat} {ys : Nat → Int32}
variable {fc jc : Nat} {L R Z : Nat → Nat} {T0 : Nat → Prop}
theorem cd_yJo2 {post : Int32 → Prop} {t d r : Nat} (hN : cd_N n al) (hjc : jc ≤ 3) (hd : d < jc) (hJD : cd_JD n al jc Z yP) (hZ : yL (320 + d) = Z d) (h6 : ys 6 = nI r) (hr : r ≤ 64) (ht : t < 2 ^ 31) (hA : ∀ i, i < r → cd_rw yL i < 2 ^ 31) (hp : post (nI (cd_b (cd_Jn n Z yP (cd_Set (cd_rw yL) r) t d)))) :
    ∀ k p, p + k = Z d → (∀ p', p' < p → cd_Agr n (cd_Set (cd_rw yL) r) t (yP (d * 4 + p'))) → wY_joins_2 post (nI d) (nI t) (nI n) (nI al) (nI mf) (nI mj) (nF yL) ys (nF yP) (nF yC) (nF yK) (nF yS) (nF yU) (k + 1) (nI p) := by
  obtain ⟨z4, zp, _⟩ := hJD d hd
  have cd : (nI (320 + d)).toNatClampNeg = 320 + d := nI_clamp (by omega)
  have e320 : (320 : Int32) + nI d = nI (320 + d) := nI_add 320 d
  intro k
  induction k with
  | zero =>
    intro p h H
    rw [wY_joins_2]
    dsimp only
    rw [e320, cd, show nF yL (320 + d) = nI (Z d) from congrArg nI hZ]
    exact ⟨vp_in_nI (by omega) (by omega), br_t (nI_le (by omega) (by omega)) (cd_p1 (P := cd_Jn n Z yP (cd_Set (cd_rw yL) r) t d) (fun p' hp' => H p' (by omega)) hp)⟩
  | succ k ih =>
    intro p h H
    have ix : nI d * 4 + nI p = nI (d * 4 + p) := by rw [show nI d * 4 = nI (d * 4) from pk_mul d 4, nI_add]
    have cp : (nI (d * 4 + p)).toNatClampNeg = d * 4 + p := nI_clamp (by omega)
    rw [wY_joins_2]
    dsimp only
    rw [e320, cd, show nF yL (320 + d) = nI (Z d) from congrArg nI hZ, ix, cp]
    refine ⟨vp_in_nI (by omega) (by omega), br_f (nI_ge (by omega) (by omega)) ⟨vp_in_nI (by omega) (by omega), cd_yhe t (yP (d * 4 + p)) hN.2.1 h6 hr ht hA (cd_br (fun g => cd_p0 (P := cd_Jn n Z yP (cd_Set (cd_rw yL) r) t d) (fun w => g (w p (by omega))) hp) (fun g => nm_r (nI_1 p) (ih (p + 1) (by omega) fun p' hp' => ?_)))⟩⟩
    by_cases e : p' = p
    · subst e; exact g
    · exact H p' (by omega)
theorem cd_yJo {post : Int32 → Prop} {t d r : Nat} (hN : cd_N n al) (hjc : jc ≤ 3) (hd : d < jc) (hJD : cd_JD n al jc Z yP) (hZ : yL (320 + d) = Z d) (h6 : ys 6 = nI r) (hr : r ≤ 64) (ht : t < 2 ^ 31) (hA : ∀ i, i < r → cd_rw yL i < 2 ^ 31) (hp : post (nI (cd_b (cd_Jn n Z yP (cd_Set (cd_rw yL) r) t d)))) : wpY_joins post ((nI n), (nI al), (nI mf), (nI mj), (nF yL), ys, (nF yP), (nF yC), (nF yK), (nF yS), (nF yU)) (nI d) (nI t) :=
  Exists.intro (Z d + 1) (cd_yJo2 hN hjc hd hJD hZ h6 hr ht hA hp (Z d) 0 (by omega) (fun p hp => absurd hp (by omega)))
/-! the next row -/
theorem cd_Agr_pr {T : Nat → Prop} {a v : Nat} (ha : a < n) (hv : v < 32) : cd_Agr n T (v * 2 ^ (25 - 5 * a)) (2 ^ a) ↔ cd_pr_ T a v := by
  constructor
  · rintro ⟨u, hu, g⟩
    have := g a ha Nat.testBit_two_pow_self
    rw [cd_syv hv] at this
    exact ⟨u, hu, this⟩
  · rintro ⟨u, hu, e⟩
    refine ⟨u, hu, fun b hb hbit => ?_⟩
    rw [Nat.testBit_two_pow, decide_eq_true_iff] at hbit
    subst hbit
    rw [cd_syv hv, e]
theorem cd_yNx19 {post : Int32 → Prop} {J2 : Int32 → Int32 → Prop} {t a r : Nat} {T : Nat → Prop} (hn : n ≤ 6) (ha : a < n) (h6 : ys 6 = nI r) (hr : r ≤ 64) (ht : t < 2 ^ 30) (hA : ∀ i, i < r → cd_rw yL i < 2 ^ 31) (hT : ∀ v, cd_pr_ (cd_Set (cd_rw yL) r) a v ↔ cd_pr_ T a v) :
    ∀ k v, v + k = 21 → cd_sy t a < v → (cd_sc (cd_pr_ T a) k v ≤ 20 → post (nI (cd_st t a (cd_sc (cd_pr_ T a) k v)))) → (¬ cd_sc (cd_pr_ T a) k v ≤ 20 → J2 (nI (cd_st t a 0)) (nI (a + 1))) → wY_next_19 post J2 (nI t) (nI a) (nI n) (nI al) (nI mf) (nI mj) (nF yL) ys (nF yP) (nF yC) (nF yK) (nF yS) (nF yU) (k + 1) (nI v) := by
  intro k
  induction k with
  | zero =>
    intro v h hv H1 H2
    have e : v = 21 := by omega
    subst e
    rw [wY_next_19]
    exact br_t (show (20 : Int32) < nI 21 from by decide) (cd_ysy rfl (by omega) (by omega) (nm_r (cd_stclr (by omega)) (nm_r (nI_1 a) (H2 (by show ¬ 21 ≤ 20; omega)))))
  | succ k ih =>
    intro v h hv H1 H2
    have p6 : 2 ^ a < 2 ^ 6 := Nat.pow_lt_pow_right (by decide) (by omega)
    have vb : v * 2 ^ (25 - 5 * a) < 2 ^ 30 := by
      have := cd_st_lt (t := 0) (a := a) (v := v) (by decide) (by omega) (by omega)
      unfold cd_st at this
      rw [cd_sy0] at this
      omega
    rw [wY_next_19]
    refine br_f (show ¬ (20 : Int32) < nI v from nI_nlt (a := 20) (by omega) (by omega)) (cd_yhe (v * 2 ^ (25 - 5 * a)) (2 ^ a) hn h6 hr (by omega) hA (cd_br (fun g => nm_r (nI_1 v) ?_) (fun g => cd_ysy rfl (by omega) (by omega) ?_)) (cd_shlI (by omega) (by omega)) (cd_shl1 (by omega)))
    · have np : ¬ cd_pr_ T a v := fun w => g ((cd_Agr_pr ha (by omega)).mpr ((hT v).mpr w))
      rw [cd_sc_f np] at H1 H2
      exact ih (v + 1) (by omega) (by omega) H1 H2
    · have pv : cd_pr_ T a v := (hT v).mp ((cd_Agr_pr ha (by omega)).mp g)
      rw [cd_sc_t pv] at H1
      rw [cd_stadd (by omega) (by omega) (by omega) rfl]
      exact H1 (by omega)
theorem cd_yNx2 {post : Int32 → Prop} {r : Nat} {T : Nat → Prop} (hn : n ≤ 6) (h6 : ys 6 = nI r) (hr : r ≤ 64) (hA : ∀ i, i < r → cd_rw yL i < 2 ^ 31) (hT : ∀ a, a < n → ∀ v, cd_pr_ (cd_Set (cd_rw yL) r) a v ↔ cd_pr_ T a v) :
    ∀ k a t, a + k = n → t < 2 ^ 30 → (∀ b, b < n → cd_sy t b ≤ 20) → post (nI (cd_nx T k a t)) → wY_next_2 post (nI n) (nI al) (nI mf) (nI mj) (nF yL) ys (nF yP) (nF yC) (nF yK) (nF yS) (nF yU) (k + 1) (nI t) (nI a) := by
  intro k
  induction k with
  | zero =>
    intro a t h ht h20 hp
    rw [wY_next_2]
    exact br_t (nI_le (by omega) (by omega)) hp
  | succ k ih =>
    intro a t h ht h20 hp
    have l := h20 a (by omega)
    rw [wY_next_2]
    refine br_f (nI_ge (by omega) (by omega)) (cd_ysy rfl (by omega) (by omega) (nm_r (nI_1 _) ⟨20 - cd_sy t a + 1, cd_yNx19 (T := T) hn (by omega) h6 hr ht hA (hT a (by omega)) (20 - cd_sy t a) (cd_sy t a + 1) (by omega) (by omega) (fun q => ?_) (fun q => ih (a + 1) _ (by omega) (cd_st_lt ht (by omega) (by omega)) (fun b hb => ?_) ?_)⟩))
    · rw [cd_nx_t rfl q] at hp; exact hp
    · by_cases e : b = a
      · subst e; rw [cd_st_s (by omega)]; omega
      · rw [cd_st_n (by omega) (by omega) (by omega) e]; exact h20 b hb
    · rw [cd_nx_f q] at hp; exact hp
theorem cd_yNx {post : Int32 → Prop} {r t : Nat} {T : Nat → Prop} (hn : n ≤ 6) (h6 : ys 6 = nI r) (hr : r ≤ 64) (hA : ∀ i, i < r → cd_rw yL i < 2 ^ 31) (hT : ∀ a, a < n → ∀ v, cd_pr_ (cd_Set (cd_rw yL) r) a v ↔ cd_pr_ T a v) (ht : t < 2 ^ 30) (h20 : ∀ b, b < n → cd_sy t b ≤ 20) (hp : post (nI (cd_nx T n 0 t))) : wpY_next post ((nI n), (nI al), (nI mf), (nI mj), (nF yL), ys, (nF yP), (nF yC), (nF yK), (nF yS), (nF yU)) (nI t) :=
  Exists.intro (n + 1) (cd_yNx2 hn h6 hr hA hT n 0 t (by omega) ht h20 hp)
/-! merges -/
def cd_qY (n : Nat) (L R y : Nat → Nat) (f b i j : Nat) : Prop := (R f).testBit b = true → ¬ (cd_sy (cd_rw y i) b < cd_sy (cd_rw y j) b ∧ cd_ag n (L f) (cd_rw y i) (cd_rw y j))
def cd_QY (CS : Nat → (Nat → Prop) → Prop) (y0 : Nat → Nat) (r : Nat) (μ : Nat) (y : Nat → Nat) : Prop := (∀ i, i < 384 → y i = y0 i) ∧ CS μ (cd_Set (cd_rw y) r)
theorem cd_yC67 {post : SY → Prop} {J4 J19 J32 J46 : Int32 → Int32 → Int32 → Int32 → Int32 → Int32 → (Nat → Int32) → (Nat → Int32) → (Nat → Int32) → (Nat → Int32) → (Nat → Int32) → (Nat → Int32) → (Nat → Int32) → Prop} {x2 : Int32} {f b i r μ : Nat} {y0 : Nat → Nat} {tst : Prop} (hN : cd_N n al) (hfc : fc ≤ 8) (hf : f < fc) (hb : b < n) (h6 : ys 6 = nI r) (hr : r ≤ 64) (hi : i < r) (F : cd_YF al fc L R y0)
    (hJ : ∀ x μ1 y, cd_FI (cd_QY (cd_CS n fc jc L R Z yP T0) y0 r) y0 μ (tst ∧ ∀ j, j < r → cd_qY n L R y0 f b i j) x μ1 y → J46 (nI x) (nI (384 + (i + 1))) (nI n) (nI al) (nI mf) (nI mj) (nF (y)) ys (nF yP) (nF yC) (nF yK) (nF yS) (nF yU)) :
    ∀ k j, j + k = r → ∀ x μ1 y, cd_FI (cd_QY (cd_CS n fc jc L R Z yP T0) y0 r) y0 μ (tst ∧ ∀ j', j' < j → cd_qY n L R y0 f b i j') x μ1 y → wY_chase_67 post J4 J19 J32 J46 x2 (nI f) (nI b) (nI (384 + i)) (k + 1) (nI x) (nI (384 + j)) (nI n) (nI al) (nI mf) (nI mj) (nF (y)) ys (nF yP) (nF yC) (nF yK) (nF yS) (nF yU) := by
  have hal := (cd_N_al hN).1
  have hn := hN.2.1
  intro k
  induction k with
  | zero =>
    intro j h x μ1 y hI
    have e : j = r := by omega
    subst e
    rw [wY_chase_67]
    dsimp only
    rw [h6, cd_384]
    exact br_t (nI_le (Nat.le_refl _) (by omega)) (nm_r (nI_1 _) (hJ x μ1 y hI))
  | succ k ih =>
    intro j h x μ1 y hI
    have cf : (nI f).toNatClampNeg = f := nI_clamp (by omega)
    have p6 : 2 ^ b < 2 ^ 6 := Nat.pow_lt_pow_right (by decide) (by omega)
    have Fy : cd_YF al fc L R y := fun i hi => by rw [hI.1.1 i (by omega)]; exact F i hi
    have ok : ∀ k, k < r → cd_rw y k < 2 ^ 30 := fun k hk => (cd_CS_ok hI.1.2 ⟨k, hk, rfl⟩).1
    have E : cd_qY n L R y f b i j → wY_chase_67 post J4 J19 J32 J46 x2 (nI f) (nI b) (nI (384 + i)) (k + 1) (nI x) (nI (384 + (j + 1))) (nI n) (nI al) (nI mf) (nI mj) (nF (y)) ys (nF yP) (nF yC) (nF yK) (nF yS) (nF yU) := fun z => by
      refine ih (j + 1) (by omega) x μ1 y (cd_FI_to hI fun _ e t => ⟨t.1, fun j' hj' => ?_⟩)
      by_cases q : j' = j
      · subst q; subst e; exact z
      · exact t.2 j' (by omega)
    rw [wY_chase_67]
    dsimp only
    rw [h6, cd_384, cf, cd_YF_l hal Fy hf, cd_YF_r hal Fy hf]
    refine br_f (nI_ge (by omega) (by omega)) ⟨vp_in_nI (by omega) (by omega), cd_yin (2 ^ b) (R f) (cd_br (fun g => nm_r (nI_1 _) (E fun w => absurd (cd_Su_pow.mpr w) g)) (fun g => ⟨vp_in_nI (by omega) (by omega), cd_yMg (L f) i j b hn (by omega) h6 hr hi (by omega) ok (fun w => br_t rfl (nm_r (nI_1 _) (E fun _ => w))) (fun w1 w2 y' g1 g2 => br_f (by decide) (nm_r (nI_1 _) (ih (j + 1) (by omega) 1 (μ1 - 1) y' ?_)))⟩)) (cd_shl1 (by omega)) rfl (by omega)⟩
    have mg := cd_merge hn hb hf (u := cd_rw y i) (w := cd_rw y j) ⟨i, hi, rfl⟩ ⟨j, by omega, rfl⟩ w2 (cd_Su_pow.mp g) rfl rfl w1 hI.1.2
    exact cd_FI_1 hI (by omega) ⟨fun i hi => (g1 i hi).trans (hI.1.1 i hi), cd_CS_congr (cd_set_rp g2) mg.2⟩
theorem cd_yC46 {post : SY → Prop} {J4 J19 J32 : Int32 → Int32 → Int32 → Int32 → Int32 → Int32 → (Nat → Int32) → (Nat → Int32) → (Nat → Int32) → (Nat → Int32) → (Nat → Int32) → (Nat → Int32) → (Nat → Int32) → Prop} {x2 : Int32} {f b r μ : Nat} {y0 : Nat → Nat} {tst : Prop} (hN : cd_N n al) (hfc : fc ≤ 8) (hf : f < fc) (hb : b < n) (h6 : ys 6 = nI r) (hr : r ≤ 64) (F : cd_YF al fc L R y0)
    (hJ : ∀ x μ1 y, cd_FI (cd_QY (cd_CS n fc jc L R Z yP T0) y0 r) y0 μ (tst ∧ ∀ i j, i < r → j < r → cd_qY n L R y0 f b i j) x μ1 y → J32 (nI x) (nI (b + 1)) (nI n) (nI al) (nI mf) (nI mj) (nF (y)) ys (nF yP) (nF yC) (nF yK) (nF yS) (nF yU)) :
    ∀ k i, i + k = r → ∀ x μ1 y, cd_FI (cd_QY (cd_CS n fc jc L R Z yP T0) y0 r) y0 μ (tst ∧ ∀ i' j, i' < i → j < r → cd_qY n L R y0 f b i' j) x μ1 y → wY_chase_46 post J4 J19 J32 x2 (nI f) (nI b) (k + 1) (nI x) (nI (384 + i)) (nI n) (nI al) (nI mf) (nI mj) (nF (y)) ys (nF yP) (nF yC) (nF yK) (nF yS) (nF yU) := by
  intro k
  induction k with
  | zero =>
    intro i h x μ1 y hI
    have e : i = r := by omega
    subst e
    rw [wY_chase_46]
    dsimp only
    rw [h6, cd_384]
    exact br_t (nI_le (Nat.le_refl _) (by omega)) (nm_r (nI_1 _) (hJ x μ1 y hI))
  | succ k ih =>
    intro i h x μ1 y hI
    rw [wY_chase_46]
    dsimp only
    rw [h6, cd_384]
    refine br_f (nI_ge (by omega) (by omega)) ⟨r + 1, cd_yC67 (y0 := y0) (μ := μ) (tst := tst ∧ ∀ i' j, i' < i → j < r → cd_qY n L R y0 f b i' j) hN hfc hf hb h6 hr (by omega) F (fun x' μ' y' hI' => ih (i + 1) (by omega) x' μ' y' (cd_FI_to hI' fun _ _ t => ⟨t.1.1, fun i' j h1 h2 => ?_⟩)) r 0 (by omega) x μ1 y (cd_FI_to hI fun _ _ t => ⟨t, fun j hj => absurd hj (by omega)⟩)⟩
    by_cases q : i' = i
    · subst q; exact t.2 j h2
    · exact t.1.2 i' j (by omega) h2
theorem cd_yC32 {post : SY → Prop} {J4 J19 : Int32 → Int32 → Int32 → Int32 → Int32 → Int32 → (Nat → Int32) → (Nat → Int32) → (Nat → Int32) → (Nat → Int32) → (Nat → Int32) → (Nat → Int32) → (Nat → Int32) → Prop} {x2 : Int32} {f r μ : Nat} {y0 : Nat → Nat} {tst : Prop} (hN : cd_N n al) (hfc : fc ≤ 8) (hf : f < fc) (h6 : ys 6 = nI r) (hr : r ≤ 64) (F : cd_YF al fc L R y0)
    (hJ : ∀ x μ1 y, cd_FI (cd_QY (cd_CS n fc jc L R Z yP T0) y0 r) y0 μ (tst ∧ ∀ b, b < n → ∀ i j, i < r → j < r → cd_qY n L R y0 f b i j) x μ1 y → J19 (nI x) (nI (f + 1)) (nI n) (nI al) (nI mf) (nI mj) (nF (y)) ys (nF yP) (nF yC) (nF yK) (nF yS) (nF yU)) :
    ∀ k b, b + k = n → ∀ x μ1 y, cd_FI (cd_QY (cd_CS n fc jc L R Z yP T0) y0 r) y0 μ (tst ∧ ∀ b', b' < b → ∀ i j, i < r → j < r → cd_qY n L R y0 f b' i j) x μ1 y → wY_chase_32 post J4 J19 x2 (nI f) (k + 1) (nI x) (nI b) (nI n) (nI al) (nI mf) (nI mj) (nF (y)) ys (nF yP) (nF yC) (nF yK) (nF yS) (nF yU) := by
  have hn := hN.2.1
  intro k
  induction k with
  | zero =>
    intro b h x μ1 y hI
    have e : b = n := by omega
    subst e
    rw [wY_chase_32]
    exact br_t (nI_le (Nat.le_refl _) (by omega)) (nm_r (nI_1 _) (hJ x μ1 y hI))
  | succ k ih =>
    intro b h x μ1 y hI
    rw [wY_chase_32]
    refine br_f (nI_ge (by omega) (by omega)) ⟨r + 1, cd_yC46 (y0 := y0) (μ := μ) (tst := tst ∧ ∀ b', b' < b → ∀ i j, i < r → j < r → cd_qY n L R y0 f b' i j) hN hfc hf (by omega) h6 hr F (fun x' μ' y' hI' => ih (b + 1) (by omega) x' μ' y' (cd_FI_to hI' fun _ _ t => ⟨t.1.1, fun b' hb' => ?_⟩)) r 0 (by omega) x μ1 y (cd_FI_to hI fun _ _ t => ⟨t, fun i' j hj => absurd hj (by omega)⟩)⟩
    by_cases q : b' = b
    · subst q; exact t.2
    · exact t.1.2 b' (by omega)
theorem cd_yC19 {post : SY → Prop} {J4 : Int32 → Int32 → Int32 → Int32 → Int32 → Int32 → (Nat → Int32) → (Nat → Int32) → (Nat → Int32) → (Nat → Int32) → (Nat → Int32) → (Nat → Int32) → (Nat → Int32) → Prop} {x2 : Int32} {r μ : Nat} {y0 : Nat → Nat} (hN : cd_N n al) (hfc : fc ≤ 8) (h0 : ys 0 = nI fc) (h6 : ys 6 = nI r) (hr : r ≤ 64) (F : cd_YF al fc L R y0)
    (hK : ∀ x μ1 y, cd_FI (cd_QY (cd_CS n fc jc L R Z yP T0) y0 r) y0 μ (∀ f, f < fc → ∀ b, b < n → ∀ i j, i < r → j < r → cd_qY n L R y0 f b i j) x μ1 y → ∃ m, wY_chase_161 post J4 (nI x) x2 (nI r) m 384 (nI n) (nI al) (nI mf) (nI mj) (nF (y)) (upd ys 6 0) (nF yP) (nF yC) (nF yK) (nF yS) (nF yU)) :
    ∀ k f, f + k = fc → ∀ x μ1 y, cd_FI (cd_QY (cd_CS n fc jc L R Z yP T0) y0 r) y0 μ (∀ f', f' < f → ∀ b, b < n → ∀ i j, i < r → j < r → cd_qY n L R y0 f' b i j) x μ1 y → wY_chase_19 post J4 x2 (k + 1) (nI x) (nI f) (nI n) (nI al) (nI mf) (nI mj) (nF (y)) ys (nF yP) (nF yC) (nF yK) (nF yS) (nF yU) := by
  intro k
  induction k with
  | zero =>
    intro f h x μ1 y hI
    have e : f = fc := by omega
    subst e
    rw [wY_chase_19]
    dsimp only
    rw [h0]
    exact br_t (nI_le (Nat.le_refl _) (by omega)) (nm_r h6 (nm_e (hK x μ1 y hI)))
  | succ k ih =>
    intro f h x μ1 y hI
    rw [wY_chase_19]
    dsimp only
    rw [h0]
    refine br_f (nI_ge (by omega) (by omega)) ⟨n + 1, cd_yC32 (y0 := y0) (μ := μ) (tst := ∀ f', f' < f → ∀ b, b < n → ∀ i j, i < r → j < r → cd_qY n L R y0 f' b i j) hN hfc (by omega) h6 hr F (fun x' μ' y' hI' => ih (f + 1) (by omega) x' μ' y' (cd_FI_to hI' fun _ _ t f' hf' => ?_)) n 0 (by omega) x μ1 y (cd_FI_to hI fun _ _ t => ⟨t, fun b hb => absurd hb (by omega)⟩)⟩
    by_cases q : f' = f
    · subst q; exact t.2
    · exact t.1 f' (by omega)
theorem cd_qY_ClF {y : Nat → Nat} {r : Nat} (h : ∀ f, f < fc → ∀ b, b < n → ∀ i j, i < r → j < r → cd_qY n L R y f b i j) : cd_ClF n fc L R (cd_Set (cd_rw y) r) := by
  intro f hf u w ⟨i, hi, hu⟩ ⟨j, hj, hw⟩ hag b hb hR
  subst hu; subst hw
  have a := h f hf b hb i j hi hj hR
  have c := h f hf b hb j i hj hi hR
  have a' : ¬ cd_sy (cd_rw y i) b < cd_sy (cd_rw y j) b := fun z => a ⟨z, hag⟩
  have c' : ¬ cd_sy (cd_rw y j) b < cd_sy (cd_rw y i) b := fun z => c ⟨z, cd_ag_sym hag⟩
  omega
/-! the rows put anew -/
theorem cd_yC161 {post : SY → Prop} {J4 : Int32 → Int32 → Int32 → Int32 → Int32 → Int32 → (Nat → Int32) → (Nat → Int32) → (Nat → Int32) → (Nat → Int32) → (Nat → Int32) → (Nat → Int32) → (Nat → Int32) → Prop} {x1 x2 : Int32} {r : Nat} {y1 : Nat → Nat} {s0 : Nat → Int32} (hN : cd_N n al) (hr : r ≤ 64) (hA : ∀ i, i < r → cd_Zr n (cd_rw y1 i))
    (hK : ∀ y s c, cd_Fr y1 s0 y s c → c ≤ r → cd_Srt (cd_rw y) c → (∀ t, cd_Set (cd_rw y) c t ↔ cd_Set (cd_rw y1) r t) → ∃ m, wY_chase_192 post J4 x2 m x1 0 (nI n) (nI al) (nI mf) (nI mj) (nF (y)) (s) (nF yP) (nF yC) (nF yK) (nF yS) (nF yU)) :
    ∀ k i, i + k = r → ∀ y s c, cd_Fr y1 s0 y s c → c ≤ i → cd_Srt (cd_rw y) c → (∀ t, cd_Set (cd_rw y) c t ↔ cd_Set (cd_rw y1) i t) → (∀ j, i ≤ j → j < r → cd_rw y j = cd_rw y1 j) → wY_chase_161 post J4 x1 x2 (nI r) (k + 1) (nI (384 + i)) (nI n) (nI al) (nI mf) (nI mj) (nF (y)) (s) (nF yP) (nF yC) (nF yK) (nF yS) (nF yU) := by
  intro k
  induction k with
  | zero =>
    intro i h y s c g1 g2 g3 g4 g5
    have e : i = r := by omega
    subst e
    rw [wY_chase_161]
    dsimp only
    rw [cd_384]
    exact br_t (nI_le (Nat.le_refl _) (by omega)) (hK y s c g1 g2 g3 g4)
  | succ k ih =>
    intro i h y s c g1 g2 g3 g4 g5
    have ci : (nI (384 + i)).toNatClampNeg = 384 + i := nI_clamp (by omega)
    have ei : y (384 + i) = cd_rw y1 i := g5 i (Nat.le_refl _) (by omega)
    have S1 : ∀ t, cd_Set (cd_rw y1) (i + 1) t ↔ (cd_Set (cd_rw y1) i t ∨ t = cd_rw y1 i) := fun t => ⟨fun ⟨j, hj, e⟩ => by
      by_cases q : j = i
      · subst q; exact Or.inr e.symm
      · exact Or.inl ⟨j, by omega, e⟩, fun z => z.elim (fun ⟨j, hj, e⟩ => ⟨j, by omega, e⟩) (fun e => ⟨i, by omega, e.symm⟩)⟩
    rw [wY_chase_161]
    dsimp only
    rw [cd_384, ci]
    refine br_f (nI_ge (by omega) (by omega)) ⟨vp_in_nI (by omega) (by omega), cd_yAR (cd_rw y1 i) hN g1.2.2 (by omega) (hA i (by omega)) (fun t ht => ?_) g3 (fun z => nm_r (nI_1 _) (ih (i + 1) (by omega) y s c g1 (by omega) g3 (fun t => (g4 t).trans ?_) (fun j h1 h2 => g5 j (by omega) h2))) (fun z1 z2 y' s' f1 f2 f3 f4 f5 => nm_r (nI_1 _) (ih (i + 1) (by omega) y' s' (c + 1) ⟨fun j hj => (f1 j (Or.inl hj)).trans (g1.1 j hj), fun j hj => (f2 j hj).trans (g1.2.1 j hj), f3⟩ (by omega) f4 (fun t => (f5 t).trans ?_) (fun j h1 h2 => ?_))) (congrArg nI ei)⟩
    · obtain ⟨j, hj, e⟩ := (g4 t).mp ht
      exact e ▸ hA j (by omega)
    · rw [S1]
      have st : cd_Set (cd_rw y1) i (cd_rw y1 i) := by
        rcases z with z | z
        · omega
        · exact (g4 _).mp z
      exact ⟨Or.inl, fun w => w.elim id (fun e => e ▸ st)⟩
    · rw [S1, g4]
    · show y' (384 + j) = _
      rw [f1 (384 + j) (Or.inr (by omega))]; exact g5 j (by omega) h2
end
end
section
section
variable {n al mf mj : Nat}
variable {yL yP yC yK yS yU : Nat → Nat} {ys : Nat → Int32}
variable {fc jc : Nat} {L R Z : Nat → Nat} {T0 : Nat → Prop}
/-- the pass of joins: T the rows at its start -/
def cd_YJ (CS : (Nat → Prop) → Prop) (n : Nat) (y0 : Nat → Nat) (s0 : Nat → Int32) (y1 : Nat → Nat) (s1 : Nat → Int32) (r1 x0 : Nat) (tst : Prop) (x : Nat) (y : Nat → Nat) (s : Nat → Int32) (r : Nat) : Prop :=
  cd_Fr y0 s0 y s r ∧ r ≤ 64 ∧ cd_Srt (cd_rw y) r ∧ CS (cd_Set (cd_rw y) r) ∧ (∀ t, cd_Set (cd_rw y) r t → cd_Cb n (cd_Set (cd_rw y1) r1) t) ∧ (∀ t, cd_Set (cd_rw y1) r1 t → cd_Set (cd_rw y) r t) ∧ ((x = x0 ∧ y = y1 ∧ s = s1 ∧ r = r1 ∧ tst) ∨ (x = 1 ∧ r1 < r))
theorem cd_YJ_to {CS : (Nat → Prop) → Prop} {y0 : Nat → Nat} {s0 : Nat → Int32} {y1 : Nat → Nat} {s1 : Nat → Int32} {r1 x0 : Nat} {tst tst' : Prop} {x : Nat} {y : Nat → Nat} {s : Nat → Int32} {r : Nat} (h : cd_YJ CS n y0 s0 y1 s1 r1 x0 tst x y s r) (g : y = y1 → r = r1 → tst → tst') : cd_YJ CS n y0 s0 y1 s1 r1 x0 tst' x y s r :=
  ⟨h.1, h.2.1, h.2.2.1, h.2.2.2.1, h.2.2.2.2.1, h.2.2.2.2.2.1, h.2.2.2.2.2.2.imp (fun z => ⟨z.1, z.2.1, z.2.2.1, z.2.2.2.1, g z.2.1 z.2.2.2.1 z.2.2.2.2⟩) id⟩
theorem cd_yC238 {post : SY → Prop} {J4 J192 : Int32 → Int32 → Int32 → Int32 → Int32 → Int32 → (Nat → Int32) → (Nat → Int32) → (Nat → Int32) → (Nat → Int32) → (Nat → Int32) → (Nat → Int32) → (Nat → Int32) → Prop} {J209 : Int32 → Int32 → Int32 → Int32 → Int32 → Int32 → Int32 → (Nat → Int32) → (Nat → Int32) → (Nat → Int32) → (Nat → Int32) → (Nat → Int32) → (Nat → Int32) → (Nat → Int32) → Prop} {x1 x2 x4 : Int32} {k t r : Nat} {T : Nat → Prop} (hn : n ≤ 6) (h6 : ys 6 = nI r) (hr : r ≤ 64) (hA : ∀ i, i < r → cd_rw yL i < 2 ^ 31) (hT : ∀ a, a < n → ∀ v, cd_pr_ (cd_Set (cd_rw yL) r) a v ↔ cd_pr_ T a v) (ht : t < 2 ^ 30) (h20 : ∀ b, b < n → cd_sy t b ≤ 20)
    (hJ : J209 x1 (nI (k + 1)) (nI (cd_nx T n 0 t)) (nI n) (nI al) (nI mf) (nI mj) (nF yL) ys (nF yP) (nF yC) (nF yK) (nF yS) (nF yU)) : wY_chase_238 post J4 J192 J209 x1 x2 x4 (nI k) (nI t) (nI n) (nI al) (nI mf) (nI mj) (nF yL) ys (nF yP) (nF yC) (nF yK) (nF yS) (nF yU) := by
  unfold wY_chase_238
  exact nm_r (nI_1 k) (cd_yNx hn h6 hr hA hT ht h20 hJ)
theorem cd_yC209 {post : SY → Prop} {J4 J192 : Int32 → Int32 → Int32 → Int32 → Int32 → Int32 → (Nat → Int32) → (Nat → Int32) → (Nat → Int32) → (Nat → Int32) → (Nat → Int32) → (Nat → Int32) → (Nat → Int32) → Prop} {x2 : Int32} {d r1 x0 μ : Nat} {y0 y1 : Nat → Nat} {s0 s1 : Nat → Int32} {tst : Prop} (hN : cd_N n al) (hjc : jc ≤ 3) (hd : d < jc) (hJD : cd_JD n al jc Z yP) (hZ : ∀ d, d < jc → y0 (320 + d) = Z d)
    (hp0 : ∀ a, a < n → cd_pr_ (cd_Set (cd_rw y1) r1) a 0) (hW : cd_W (cd_Set (cd_rw y1) r1) n ≤ 64)
    (hJ : ∀ x y s r, cd_YJ (cd_CS n fc jc L R Z yP T0 μ) n y0 s0 y1 s1 r1 x0 (tst ∧ ∀ u, cd_Cb n (cd_Set (cd_rw y1) r1) u → cd_Jn n Z yP (cd_Set (cd_rw y1) r1) u d → cd_Set (cd_rw y1) r1 u) x y s r → J192 (nI x) (nI (d + 1)) (nI n) (nI al) (nI mf) (nI mj) (nF (y)) (s) (nF yP) (nF yC) (nF yK) (nF yS) (nF yU)) :
    ∀ k' k, k + k' = 64 → ∀ t x y s r, cd_Cb n (cd_Set (cd_rw y1) r1) t → (k < cd_W (cd_Set (cd_rw y1) r1) n → cd_rk (cd_Set (cd_rw y1) r1) t n = k) →
      cd_YJ (cd_CS n fc jc L R Z yP T0 μ) n y0 s0 y1 s1 r1 x0 (tst ∧ ∀ u, cd_Cb n (cd_Set (cd_rw y1) r1) u → cd_rk (cd_Set (cd_rw y1) r1) u n < k → cd_Jn n Z yP (cd_Set (cd_rw y1) r1) u d → cd_Set (cd_rw y1) r1 u) x y s r →
      wY_chase_209 post J4 J192 x2 (nI d) (k' + 1) (nI x) (nI k) (nI t) (nI n) (nI al) (nI mf) (nI mj) (nF (y)) (s) (nF yP) (nF yC) (nF yK) (nF yS) (nF yU) := by
  have hn := hN.2.1
  intro k'
  induction k' with
  | zero =>
    intro k h t x y s r ht hk hI
    have e : k = 64 := by omega
    subst e
    rw [wY_chase_209]
    exact br_t (show (64 : Int32) ≤ nI 64 from by decide) (nm_r (nI_1 d) (hJ x y s r (cd_YJ_to hI fun _ _ w => ⟨w.1, fun u hu hj => w.2 u hu (by have := cd_rk_lt hu n (Nat.le_refl _); omega) hj⟩)))
  | succ k' ih =>
    intro k h t x y s r ht hk hI
    have ht1 := ht.1.1
    obtain ⟨i1, i2, i3, i4, i5, i6, i7⟩ := hI
    -- one step on, whatever was done
    have St : ∀ x' y' s' r', (cd_Jn n Z yP (cd_Set (cd_rw y1) r1) t d → y' = y1 → r' = r1 → cd_Set (cd_rw y1) r1 t) → cd_YJ (cd_CS n fc jc L R Z yP T0 μ) n y0 s0 y1 s1 r1 x0 (tst ∧ ∀ u, cd_Cb n (cd_Set (cd_rw y1) r1) u → cd_rk (cd_Set (cd_rw y1) r1) u n < k → cd_Jn n Z yP (cd_Set (cd_rw y1) r1) u d → cd_Set (cd_rw y1) r1 u) x' y' s' r' →
        wY_chase_238 post J4 J192 (wY_chase_209 post J4 J192 x2 (nI d) (k' + 1)) (nI x') x2 (nI d) (nI k) (nI t) (nI n) (nI al) (nI mf) (nI mj) (nF (y')) (s') (nF yP) (nF yC) (nF yK) (nF yS) (nF yU) := fun x' y' s' r' hz hI' => by
      obtain ⟨nc, nr⟩ := cd_nx_spec (T := cd_Set (cd_rw y1) r1) hn hp0 ht n 0 t (by omega) ht.1 (fun b hb => absurd hb (by omega)) (fun _ _ _ => rfl) rfl
      refine cd_yC238 (T := cd_Set (cd_rw y1) r1) hn hI'.1.2.2 hI'.2.1 (fun i hi => by have := (cd_CS_ok hI'.2.2.2.1 ⟨i, hi, rfl⟩).1; omega) (fun a ha v => ⟨fun ⟨w, hw, e⟩ => e ▸ ((hI'.2.2.2.2.1 w hw).2 a ha).1, fun ⟨w, hw, e⟩ => ⟨w, hI'.2.2.2.2.2.1 w hw, e⟩⟩) ht1 (fun b hb => (ht.2 b hb).2) (ih (k + 1) (by omega) _ x' y' s' r' nc (fun q => ?_) (cd_YJ_to hI' fun e1 e2 w => ⟨w.1, fun u hu hlt hj => ?_⟩))
      · have := hk (by omega)
        rw [nr (by omega), this]
      · by_cases q : cd_rk (cd_Set (cd_rw y1) r1) u n < k
        · exact w.2 u hu q hj
        · have l := cd_rk_lt hu n (Nat.le_refl _)
          have : u = t := cd_rk_eq hu ht (by have := hk (by omega); omega)
          subst this
          exact hz hj e1 e2
    have I0 : cd_YJ (cd_CS n fc jc L R Z yP T0 μ) n y0 s0 y1 s1 r1 x0 (tst ∧ ∀ u, cd_Cb n (cd_Set (cd_rw y1) r1) u → cd_rk (cd_Set (cd_rw y1) r1) u n < k → cd_Jn n Z yP (cd_Set (cd_rw y1) r1) u d → cd_Set (cd_rw y1) r1 u) x y s r := ⟨i1, i2, i3, i4, i5, i6, i7⟩
    have ok : ∀ u, cd_Set (cd_rw y) r u → cd_Ok n u := fun u hu => cd_CS_ok i4 hu
    rw [wY_chase_209]
    refine br_f (nI_ge (b := 64) (by omega) (by decide)) (cd_yJo hN hjc hd hJD (by rw [i1.1 _ (by omega)]; exact hZ d hd) i1.2.2 i2 (by omega) (fun i hi => by have := (ok _ ⟨i, hi, rfl⟩).1; omega) (cd_br (fun g => St x y s r (fun hj e1 e2 => absurd hj (by subst e1; subst e2; exact g)) I0) (fun g => cd_yAR t hN i1.2.2 i2 ht.1 (fun u hu => cd_Zr_ok (ok u hu)) i3 (fun z => br_t rfl (St x y s r (fun _ e1 e2 => ?_) I0)) (fun z1 z2 y' s' f1 f2 f3 f4 f5 => br_f (by decide) (St 1 y' s' (r + 1) (fun _ _ e2 => ?_) ⟨⟨fun j hj => (f1 j (Or.inl hj)).trans (i1.1 j hj), fun j hj => (f2 j hj).trans (i1.2.1 j hj), f3⟩, by omega, f4, ?_, fun u hu => ?_, fun u hu => (f5 u).mpr (Or.inl (i6 u hu)), Or.inr ⟨rfl, by rcases i7 with w | w <;> omega⟩⟩)))))
    · subst e1; subst e2
      rcases z with z | z
      · exact cd_full2 (T := cd_Set (cd_rw y) r) (cd_srt_dst i3) (fun i hi => i5 _ ⟨i, hi, rfl⟩) ht (by omega)
      · exact z
    · rcases i7 with w | w <;> omega
    · refine cd_CS_congr (fun u => (f5 u).symm) (cd_addrow hn hd ht1 (fun a h1 h2 => ht.1.2 a h2 h1) (hJD d hd).2.2 g i4)
    · rcases (f5 u).mp hu with w | w
      · exact i5 u w
      · exact w ▸ ht
theorem cd_yC192 {post : SY → Prop} {J4 : Int32 → Int32 → Int32 → Int32 → Int32 → Int32 → (Nat → Int32) → (Nat → Int32) → (Nat → Int32) → (Nat → Int32) → (Nat → Int32) → (Nat → Int32) → (Nat → Int32) → Prop} {ρ r1 x0 μ : Nat} {y0 y1 : Nat → Nat} {s0 s1 : Nat → Int32} (hN : cd_N n al) (hjc : jc ≤ 3) (h5 : s0 5 = nI jc) (hJD : cd_JD n al jc Z yP) (hZ : ∀ d, d < jc → y0 (320 + d) = Z d)
    (hp0 : ∀ a, a < n → cd_pr_ (cd_Set (cd_rw y1) r1) a 0) (hW : jc ≠ 0 → cd_W (cd_Set (cd_rw y1) r1) n ≤ 64)
    (hJ : ∀ x y s r, cd_YJ (cd_CS n fc jc L R Z yP T0 μ) n y0 s0 y1 s1 r1 x0 (∀ d, d < jc → ∀ u, cd_Cb n (cd_Set (cd_rw y1) r1) u → cd_Jn n Z yP (cd_Set (cd_rw y1) r1) u d → cd_Set (cd_rw y1) r1 u) x y s r → J4 (nI x) (nI (ρ + 1)) (nI n) (nI al) (nI mf) (nI mj) (nF (y)) (s) (nF yP) (nF yC) (nF yK) (nF yS) (nF yU)) :
    ∀ k d, d + k = jc → ∀ x y s r, cd_YJ (cd_CS n fc jc L R Z yP T0 μ) n y0 s0 y1 s1 r1 x0 (∀ d', d' < d → ∀ u, cd_Cb n (cd_Set (cd_rw y1) r1) u → cd_Jn n Z yP (cd_Set (cd_rw y1) r1) u d' → cd_Set (cd_rw y1) r1 u) x y s r →
      wY_chase_192 post J4 (nI ρ) (k + 1) (nI x) (nI d) (nI n) (nI al) (nI mf) (nI mj) (nF (y)) (s) (nF yP) (nF yC) (nF yK) (nF yS) (nF yU) := by
  intro k
  induction k with
  | zero =>
    intro d h x y s r hI
    have e : d = jc := by omega
    subst e
    rw [wY_chase_192]
    dsimp only
    rw [hI.1.2.1 5 (by decide), h5]
    exact br_t (nI_le (Nat.le_refl _) (by omega)) (nm_r (nI_1 ρ) (hJ x y s r hI))
  | succ k ih =>
    intro d h x y s r hI
    have c0 : cd_Cb n (cd_Set (cd_rw y1) r1) 0 := ⟨⟨by decide, fun a _ _ => cd_sy0 a⟩, fun a ha => by rw [cd_sy0]; exact ⟨hp0 a ha, by omega⟩⟩
    rw [wY_chase_192]
    dsimp only
    rw [hI.1.2.1 5 (by decide), h5]
    refine br_f (nI_ge (by omega) (by omega)) ⟨65, cd_yC209 (y1 := y1) (r1 := r1) (μ := μ) (x0 := x0) (s1 := s1) (tst := ∀ d', d' < d → ∀ u, cd_Cb n (cd_Set (cd_rw y1) r1) u → cd_Jn n Z yP (cd_Set (cd_rw y1) r1) u d' → cd_Set (cd_rw y1) r1 u) hN hjc (by omega) hJD hZ hp0 (hW (by omega)) (fun x' y' s' r' hI' => ih (d + 1) (by omega) x' y' s' r' (cd_YJ_to hI' fun _ _ w d' hd' => ?_)) 64 0 rfl 0 x y s r c0 (fun _ => cd_rk_0 n fun b _ => cd_sy0 b) (cd_YJ_to hI fun _ _ w => ⟨w, fun u hu hlt => absurd hlt (by omega)⟩)⟩
    by_cases q : d' = d
    · subst q; exact w.2
    · exact w.1 d' (by omega)
theorem cd_ClJ_mk2 {T : Nat → Prop} (hN : cd_N n al) (hJD : cd_JD n al jc Z yP) (hO : ∀ t, T t → cd_Ok n t) (h : ∀ d, d < jc → ∀ u, cd_Cb n T u → cd_Jn n Z yP T u d → T u) : cd_ClJ n jc Z yP T := by
  intro d hd ρ hρ
  have hn := hN.2.1
  have col : ∀ b, b < n → ∃ u, T u ∧ cd_sy u b = ρ b := fun b hb => by
    obtain ⟨p, hp, hbit⟩ := (hJD d hd).2.2 b hb
    obtain ⟨u, hu, g⟩ := hρ p hp
    exact ⟨u, hu, g b hb hbit⟩
  obtain ⟨t, z, e⟩ := cd_pack hn ρ (fun a ha => by
    obtain ⟨u, hu, g⟩ := col a ha
    rw [← g]; exact cd_sy_lt u a) n (Nat.le_refl _)
  refine ⟨t, h d hd t ⟨z, fun a ha => ?_⟩ (fun p hp => ?_), e⟩
  · rw [e a ha]
    obtain ⟨u, hu, g⟩ := col a ha
    exact ⟨⟨u, hu, g⟩, by rw [← g]; exact ((hO u hu).2 a (by omega)).1⟩
  · obtain ⟨u, hu, g⟩ := hρ p hp
    exact ⟨u, hu, fun a ha hb => by rw [g a ha hb, e a ha]⟩
theorem cd_yC4 {post : SY → Prop} {y0 : Nat → Nat} {s0 : Nat → Int32} (hN : cd_N n al) (hfc : fc ≤ 8) (hjc : jc ≤ 3) (h0 : s0 0 = nI fc) (h5 : s0 5 = nI jc) (F : cd_YF al fc L R y0) (hJD : cd_JD n al jc Z yP) (hZ : ∀ d, d < jc → y0 (320 + d) = Z d) (h00 : ∀ a, a < n → cd_pr_ T0 a 0) (hW0 : jc ≠ 0 → cd_W T0 n ≤ 64)
    (hp : ∀ y s r μ, cd_Fr y0 s0 y s r → r ≤ 64 → cd_Srt (cd_rw y) r → cd_CS n fc jc L R Z yP T0 μ (cd_Set (cd_rw y) r) → cd_ClF n fc L R (cd_Set (cd_rw y) r) → cd_ClJ n jc Z yP (cd_Set (cd_rw y) r) → post ((nI n), (nI al), (nI mf), (nI mj), (nF (y)), (s), (nF yP), (nF yC), (nF yK), (nF yS), (nF yU))) :
    ∀ k μ x ρ y s r, cd_Fr y0 s0 y s r → r ≤ 64 → cd_Srt (cd_rw y) r → cd_CS n fc jc L R Z yP T0 μ (cd_Set (cd_rw y) r) → ((x = 1 ∧ ρ + (65 * μ + (64 - r)) ≤ 8300 ∧ 65 * μ + (64 - r) < k) ∨ (x = 0 ∧ ρ ≤ 8301 ∧ cd_ClF n fc L R (cd_Set (cd_rw y) r) ∧ cd_ClJ n jc Z yP (cd_Set (cd_rw y) r))) →
      wY_chase_4 post (k + 1) (nI x) (nI ρ) (nI n) (nI al) (nI mf) (nI mj) (nF (y)) (s) (nF yP) (nF yC) (nF yK) (nF yS) (nF yU) := by
  intro k
  induction k with
  | zero =>
    intro μ x ρ y s r g1 g2 g3 g4 g5
    rcases g5 with ⟨_, _, z⟩ | ⟨rfl, hr, hCF, hCJ⟩
    · omega
    · rw [wY_chase_4]
      exact br_f (nI_ge (b := 10000) (by omega) (by decide)) (br_t rfl (hp y s r μ g1 g2 g3 g4 hCF hCJ))
  | succ k ih =>
    intro μ x ρ y s r g1 g2 g3 g4 g5
    rcases g5 with ⟨rfl, hr, hk⟩ | ⟨rfl, hr, hCF, hCJ⟩
    · rw [wY_chase_4]
      refine br_f (nI_ge (b := 10000) (by omega) (by decide)) (br_f (by decide) ⟨fc + 1, cd_yC19 (ys := s) (y0 := y) (μ := μ) (jc := jc) (Z := Z) (T0 := T0) hN hfc ((g1.2.1 0 (by decide)).trans h0) g1.2.2 g2 (fun i hi => by rw [g1.1 i (by omega)]; exact F i hi) (fun x1 μ1 y1 hI => ⟨r + 1, ?_⟩) fc 0 (by omega) 0 μ y ⟨⟨fun _ _ => rfl, g4⟩, Or.inl ⟨rfl, rfl, rfl, fun f hf => absurd hf (by omega)⟩⟩⟩)
      have C1 := hI.1.2
      refine cd_yC161 (y1 := y1) (s0 := s) hN g2 (fun i hi => cd_Zr_ok (cd_CS_ok C1 ⟨i, hi, rfl⟩)) (fun y2 s2 c f1 f2 f3 f4 => ⟨jc + 1, ?_⟩) r 0 (by omega) y1 (upd s 6 0) 0 ⟨fun _ _ => rfl, fun j hj => pk_un hj, pk_us⟩ (Nat.le_refl _) (fun i j _ hj => absurd hj (by omega)) (fun t => Iff.rfl) (fun _ _ _ => rfl)
      have C2 : cd_CS n fc jc L R Z yP T0 μ1 (cd_Set (cd_rw y2) c) := by rw [cd_seteq f4]; exact C1
      have fr2 : cd_Fr y0 s0 y2 s2 c := ⟨fun i hi => (f1.1 i hi).trans ((hI.1.1 i hi).trans (g1.1 i hi)), fun j hj => (f1.2.1 j hj).trans (g1.2.1 j hj), f1.2.2⟩
      have z2 : ∀ a, a < n → cd_pr_ (cd_Set (cd_rw y2) c) a 0 := fun a ha => cd_CS_0 C2 ha (h00 a ha)
      have cb2 : ∀ t, cd_Set (cd_rw y2) c t → cd_Cb n (cd_Set (cd_rw y2) c) t := fun t ht => ⟨cd_Zr_ok (cd_CS_ok C2 ht), fun a ha => ⟨⟨t, ht, rfl⟩, ((cd_CS_ok C2 ht).2 a (by have := hN.2.1; omega)).1⟩⟩
      have W2 : jc ≠ 0 → cd_W (cd_Set (cd_rw y2) c) n ≤ 64 := fun q => Nat.le_trans (cd_W_mono n fun b hb v ⟨t, ht, e⟩ => by
        obtain ⟨t', q1, q2⟩ := cd_CS_sy C2 ht hb
        exact ⟨t', q1, q2.trans e⟩) (hW0 q)
      refine cd_yC192 (y0 := y0) (s0 := s0) (y1 := y2) (s1 := s2) (r1 := c) (x0 := x1) (μ := μ1) (fc := fc) (L := L) (R := R) (T0 := T0) hN hjc h5 hJD hZ z2 W2 (fun x' y' s' r' hJ' => ?_) jc 0 (by omega) x1 y2 s2 c ⟨fr2, by omega, f3, C2, cb2, fun _ w => w, Or.inl ⟨rfl, rfl, rfl, rfl, fun d hd => absurd hd (by omega)⟩⟩
      obtain ⟨j1, j2, j3, j4, -, -, j7⟩ := hJ'
      rcases hI.2 with ⟨ex, ey, em, tF⟩ | ⟨ex, hμ⟩
      · subst ey
        have eq := cd_srt_eq f3 g3 f4
        rcases j7 with ⟨e1, e2, e3, e4, tJ⟩ | ⟨e1, e2⟩
        · subst e2; subst e4
          refine ih μ1 x' (ρ + 1) y' s' r' j1 j2 j3 j4 (Or.inr ⟨by omega, by omega, ?_, cd_ClJ_mk2 hN hJD (fun t ht => cd_CS_ok C2 ht) tJ⟩)
          rw [cd_seteq f4]; exact cd_qY_ClF tF
        · subst e1
          exact ih μ1 1 (ρ + 1) y' s' r' j1 j2 j3 j4 (Or.inl ⟨rfl, by omega, by omega⟩)
      · have ex' : x' = 1 := by rcases j7 with w | w <;> omega
        subst ex'
        exact ih μ1 1 (ρ + 1) y' s' r' j1 j2 j3 j4 (Or.inl ⟨rfl, by omega, by omega⟩)
    · rw [wY_chase_4]
      exact br_f (nI_ge (b := 10000) (by omega) (by decide)) (br_t rfl (hp y s r μ g1 g2 g3 g4 hCF hCJ))
theorem cd_yCh {post : SY → Prop} {r : Nat} (hN : cd_N n al) (hfc : fc ≤ 8) (hjc : jc ≤ 3) (h0 : ys 0 = nI fc) (h5 : ys 5 = nI jc) (h6 : ys 6 = nI r) (hr : r ≤ 64) (F : cd_YF al fc L R yL) (hJD : cd_JD n al jc Z yP) (hZ : ∀ d, d < jc → yL (320 + d) = Z d) (hS : cd_Srt (cd_rw yL) r) (hO : ∀ t, cd_Set (cd_rw yL) r t → cd_Ok n t)
    (h00 : ∀ a, a < n → cd_pr_ (cd_Set (cd_rw yL) r) a 0) (hW0 : jc ≠ 0 → cd_W (cd_Set (cd_rw yL) r) n ≤ 64)
    (hp : ∀ y s c μ, cd_Fr yL ys y s c → c ≤ 64 → cd_Srt (cd_rw y) c → cd_CS n fc jc L R Z yP (cd_Set (cd_rw yL) r) μ (cd_Set (cd_rw y) c) → cd_ClF n fc L R (cd_Set (cd_rw y) c) → cd_ClJ n jc Z yP (cd_Set (cd_rw y) c) → post ((nI n), (nI al), (nI mf), (nI mj), (nF (y)), (s), (nF yP), (nF yC), (nF yK), (nF yS), (nF yU))) : wpY_chase post ((nI n), (nI al), (nI mf), (nI mj), (nF yL), ys, (nF yP), (nF yC), (nF yK), (nF yS), (nF yU)) :=
  Exists.intro (8300 + 1) (cd_yC4 (T0 := cd_Set (cd_rw yL) r) hN hfc hjc h0 h5 F hJD hZ h00 hW0 hp 8300 126 1 0 yL ys r ⟨fun _ _ => rfl, fun _ _ => rfl, h6⟩ hr hS (cd_CS_init hO) (Or.inl ⟨rfl, by omega, by omega⟩))
end
end
section
/-! the design, pure -/
noncomputable def cd_ll (G : Nat → Nat) (x a : Nat) : Nat := cd_sc (fun m => cd_Su m x ∧ (G m).testBit a = true) x 0
theorem cd_ll_le {G : Nat → Nat} {x a : Nat} : cd_ll G x a ≤ x := by
  have := (cd_sc_spec (P := fun m => cd_Su m x ∧ (G m).testBit a = true) x 0).2.2.1
  unfold cd_ll; omega
noncomputable def cd_u1 (G L R : Nat → Nat) (f : Nat) (U : Nat → Nat) : Nat → (Nat → Nat)
  | 0 => U
  | a + 1 => if (cd_df (R f) (L f)).testBit a = true then cd_up (cd_u1 G L R f U a) (cd_ll G (L f) a) (cd_u1 G L R f U a (cd_ll G (L f) a) ||| 2 ^ a) else cd_u1 G L R f U a
noncomputable def cd_u2 (G L R : Nat → Nat) (n : Nat) : Nat → (Nat → Nat)
  | 0 => fun _ => 0
  | f + 1 => cd_u1 G L R f (cd_u2 G L R n f) n
theorem cd_u1_t {G L R U : Nat → Nat} {f a : Nat} (h : (cd_df (R f) (L f)).testBit a = true) : cd_u1 G L R f U (a + 1) = cd_up (cd_u1 G L R f U a) (cd_ll G (L f) a) (cd_u1 G L R f U a (cd_ll G (L f) a) ||| 2 ^ a) := if_pos h
theorem cd_u1_f {G L R U : Nat → Nat} {f a : Nat} (h : ¬ (cd_df (R f) (L f)).testBit a = true) : cd_u1 G L R f U (a + 1) = cd_u1 G L R f U a := if_neg h
/-- units within the masks -/
def cd_UW (al : Nat) (U : Nat → Nat) : Prop := ∀ m, U m ≤ al ∧ (al < m → U m = 0)
theorem cd_u1_W {n al f : Nat} {G L R U : Nat → Nat} (hN : cd_N n al) (hL : L f ≤ al) (hU : cd_UW al U) : ∀ a, a ≤ n → cd_UW al (cd_u1 G L R f U a)
  | 0, _ => hU
  | a + 1, ha => by
    have ih := cd_u1_W (G := G) (R := R) hN hL hU a (by omega)
    by_cases h : (cd_df (R f) (L f)).testBit a = true
    · rw [cd_u1_t h]
      have l := cd_ll_le (G := G) (x := L f) (a := a)
      intro m
      by_cases e : m = cd_ll G (L f) a
      · subst e; rw [cd_us]; exact ⟨cd_N_or hN (ih _).1 (cd_N_pow hN (by omega)), fun q => by omega⟩
      · rw [cd_un e]; exact ih m
    · rw [cd_u1_f h]; exact ih
theorem cd_u2_W {n al c : Nat} {G L R : Nat → Nat} (hN : cd_N n al) (hL : ∀ i, i < c → L i ≤ al) : ∀ f, f ≤ c → cd_UW al (cd_u2 G L R n f)
  | 0, _ => fun _ => ⟨Nat.zero_le _, fun _ => rfl⟩
  | f + 1, hf => cd_u1_W hN (hL f (by omega)) (cd_u2_W hN hL f (by omega)) n (Nat.le_refl _)
/-- the closure under units -/
noncomputable def cd_lu (al : Nat) (U : Nat → Nat) (x : Nat) : Nat := cd_cl al id U (al + 1) x
theorem cd_cl_congr {al c x : Nat} {L R L' R' : Nat → Nat} (hL : ∀ i, i < c → L i = L' i) (hR : ∀ i, i < c → R i = R' i) : cd_cl al L R c x = cd_cl al L' R' c x :=
  cd_sc_congr _ _ fun y _ _ => ⟨fun h => ⟨h.1, fun i hi => by rw [← hL i hi, ← hR i hi]; exact h.2 i hi⟩, fun h => ⟨h.1, fun i hi => by rw [hL i hi, hR i hi]; exact h.2 i hi⟩⟩
noncomputable def cd_rs (al : Nat) (U : Nat → Nat) (u : Nat) : Nat → Nat :=
  if (U (u / 8)).testBit (u % 8) = true then (if (cd_lu al (cd_up U (u / 8) (cd_df (U (u / 8)) (2 ^ (u % 8)))) (u / 8)).testBit (u % 8) = true then cd_up U (u / 8) (cd_df (U (u / 8)) (2 ^ (u % 8))) else U) else U
theorem cd_rs_n {al u : Nat} {U : Nat → Nat} (h : ¬ (U (u / 8)).testBit (u % 8) = true) : cd_rs al U u = U := if_neg h
theorem cd_rs_t {al u : Nat} {U : Nat → Nat} (h : (U (u / 8)).testBit (u % 8) = true) (g : (cd_lu al (cd_up U (u / 8) (cd_df (U (u / 8)) (2 ^ (u % 8)))) (u / 8)).testBit (u % 8) = true) : cd_rs al U u = cd_up U (u / 8) (cd_df (U (u / 8)) (2 ^ (u % 8))) := by
  unfold cd_rs; rw [if_pos h, if_pos g]
theorem cd_rs_f {al u : Nat} {U : Nat → Nat} (h : (U (u / 8)).testBit (u % 8) = true) (g : ¬ (cd_lu al (cd_up U (u / 8) (cd_df (U (u / 8)) (2 ^ (u % 8)))) (u / 8)).testBit (u % 8) = true) : cd_rs al U u = U := by
  unfold cd_rs; rw [if_pos h, if_neg g]
theorem cd_up_W {al m v : Nat} {U : Nat → Nat} (hU : cd_UW al U) (hv : v ≤ U m) : cd_UW al (cd_up U m v) := fun k => by
  by_cases e : k = m
  · subst e; rw [cd_us]; exact ⟨Nat.le_trans hv (hU k).1, fun q => by have := (hU k).2 q; omega⟩
  · rw [cd_un e]; exact hU k
theorem cd_rs_W {al u : Nat} {U : Nat → Nat} (hU : cd_UW al U) : cd_UW al (cd_rs al U u) := by
  by_cases h : (U (u / 8)).testBit (u % 8) = true
  · by_cases g : (cd_lu al (cd_up U (u / 8) (cd_df (U (u / 8)) (2 ^ (u % 8)))) (u / 8)).testBit (u % 8) = true
    · rw [cd_rs_t h g]; exact cd_up_W hU (cd_df_le _ _)
    · rw [cd_rs_f h g]; exact hU
  · rw [cd_rs_n h]; exact hU
noncomputable def cd_rD (al : Nat) : Nat → (Nat → Nat) → (Nat → Nat)
  | 0, U => U
  | k + 1, U => cd_rD al k (cd_rs al U k)
theorem cd_rD_W {al : Nat} : ∀ k U, cd_UW al U → cd_UW al (cd_rD al k U)
  | 0, _, h => h
  | k + 1, U, h => cd_rD_W k _ (cd_rs_W h)
theorem cd_rD_skip {al : Nat} {U : Nat → Nat} (k : Nat) : ∀ d, (∀ u, k ≤ u → u < k + d → ¬ (U (u / 8)).testBit (u % 8) = true) → cd_rD al (k + d) U = cd_rD al k U
  | 0, _ => rfl
  | d + 1, h => by
    show cd_rD al (k + d) (cd_rs al U (k + d)) = _
    rw [cd_rs_n (h (k + d) (by omega) (by omega))]
    exact cd_rD_skip k d (fun u h1 h2 => h u h1 (by omega))
noncomputable def cd_UF (n al : Nat) (L R : Nat → Nat) (c : Nat) : Nat → Nat := cd_rD al 512 (cd_u2 (cd_cl al L R c) L R n c)
theorem cd_UF_W {n al c : Nat} {L R : Nat → Nat} (hN : cd_N n al) (hL : ∀ i, i < c → L i ≤ al) : cd_UW al (cd_UF n al L R c) := cd_rD_W _ _ (cd_u2_W hN hL c (Nat.le_refl _))
/-- the units in the reference's table -/
def cd_UT (U T : Nat → Nat) : Prop := ∀ u, u < 512 → T u = cd_b ((U (u / 8)).testBit (u % 8) = true)
theorem cd_UC_iff {n al z : Nat} {U T : Nat → Nat} (hN : cd_N n al) (hU : cd_UW al U) (h : cd_UT U T) : cd_UC T z ↔ cd_FC id U (al + 1) z := by
  have hal := (cd_N_al hN).1
  constructor
  · intro H m hm s a ha
    have a6 : a < 6 := Nat.lt_of_lt_of_le (cd_N_bit hN (hU m).1 ha) hN.2.1
    have e := h (m * 8 + a) (by omega)
    rw [show (m * 8 + a) / 8 = m by omega, show (m * 8 + a) % 8 = a by omega, cd_bt ha] at e
    have := H (m * 8 + a) (by omega) (by omega) (by rw [show (m * 8 + a) / 8 = m by omega]; exact s)
    rw [show (m * 8 + a) % 8 = a by omega, cd_Su_pow] at this
    exact this
  · intro H u hu t s
    have e := h u hu
    have b : (U (u / 8)).testBit (u % 8) = true := Classical.byContradiction fun q => t (by rw [e, cd_bf q])
    rw [cd_Su_pow]
    refine H (u / 8) ?_ s _ b
    have := (hU (u / 8)).2
    refine Nat.lt_of_not_le fun q => ?_
    rw [this (by omega), Nat.zero_testBit] at b
    exact absurd b (by decide)
/-! lists of numbers with a property -/
def cd_En (P : Nat → Prop) (f : Nat → Nat) (k : Nat) (A : Nat → Nat) : Prop := ∀ x, x < k → P x → A (cd_cn P x) = f x
theorem cd_En_t {P : Nat → Prop} {f : Nat → Nat} {k : Nat} {A : Nat → Nat} (h : cd_En P f k A) {v : Nat} (hv : v = f k) : cd_En P f (k + 1) (cd_up A (cd_cn P k) v) := fun x hx px => by
  by_cases e : x = k
  · subst e; rw [cd_us]; exact hv
  · have a := cd_cn_s px
    have b := cd_cn_up (P := P) (a := x + 1) (b := k) (by omega)
    rw [cd_un (by omega)]
    exact h x (by omega) px
theorem cd_En_f {P : Nat → Prop} {f : Nat → Nat} {k : Nat} {A : Nat → Nat} (h : cd_En P f k A) (hk : ¬ P k) : cd_En P f (k + 1) A := fun x hx px => by
  by_cases e : x = k
  · subst e; exact absurd px hk
  · exact h x (by omega) px
theorem cd_cn_hit {P : Nat → Prop} {i : Nat} : ∀ k, i < cd_cn P k → ∃ x, x < k ∧ P x ∧ cd_cn P x = i
  | 0, h => by have h : i < 0 := h; omega
  | k + 1, h => by
    by_cases p : P k
    · rw [cd_cn_s p] at h
      by_cases e : i = cd_cn P k
      · exact ⟨k, by omega, p, e.symm⟩
      · obtain ⟨x, h1, h2⟩ := cd_cn_hit (P := P) (i := i) k (by omega)
        exact ⟨x, by omega, h2⟩
    · rw [cd_cn_ns p] at h
      obtain ⟨x, h1, h2⟩ := cd_cn_hit (P := P) (i := i) k h
      exact ⟨x, by omega, h2⟩
theorem cd_En_eq {P : Nat → Prop} {f g : Nat → Nat} {k : Nat} {A B : Nat → Nat} (h : cd_En P f k A) (h' : cd_En P g k B) {i : Nat} (hi : i < cd_cn P k) : ∃ x, x < k ∧ P x ∧ A i = f x ∧ B i = g x := by
  obtain ⟨x, h1, h2, h3⟩ := cd_cn_hit k hi
  exact ⟨x, h1, h2, h3 ▸ h x h1 h2, h3 ▸ h' x h1 h2⟩
/-! keys exist -/
theorem cd_key0 {al : Nat} {G : Nat → Nat} (h : cd_Su al (G al)) : ∃ x, x ≤ al ∧ cd_Key G al x ∧ cd_cn (cd_Key G al) x = 0 := by
  obtain ⟨x, h1, h2⟩ := pk_least (cd_SK G al) ⟨al, cd_Su_rf al, h⟩
  have kx : cd_Key G al x := ⟨h1, fun y hy _ => h2 y hy⟩
  refine ⟨x, cd_key_le kx, kx, ?_⟩
  have := cd_cn_skip (P := cd_Key G al) (a := 0) x (fun j _ hj k => h2 j (by omega) k.1)
  rw [Nat.zero_add] at this
  exact this
/-! schemas -/
def cd_S0 (al : Nat) (U : Nat → Nat) (s : Nat) : Prop := ∃ x, x ≤ al ∧ U x ≠ 0 ∧ s = x ||| U x
def cd_S1 (al : Nat) (U : Nat → Nat) (s : Nat) : Prop := cd_S0 al U s ∧ ¬ ∃ t, t ≤ al ∧ s ≠ t ∧ cd_S0 al U t ∧ cd_Su s t
def cd_Kd (al : Nat) (G U : Nat → Nat) (k : Nat) : Prop := ∃ s, s < k ∧ cd_S1 al U s ∧ G s = al
def cd_S2 (al : Nat) (G U : Nat → Nat) (x0 s : Nat) : Prop := cd_S1 al U s ∨ (¬ cd_Kd al G U (al + 1) ∧ s = x0)
theorem cd_S0_le {n al s : Nat} {U : Nat → Nat} (hN : cd_N n al) (hU : cd_UW al U) (h : cd_S0 al U s) : s ≤ al := by
  obtain ⟨x, h1, h2, rfl⟩ := h
  exact cd_N_or hN h1 (hU x).1
theorem cd_S1_iff {al s : Nat} {U : Nat → Nat} : cd_S1 al U s ↔ cd_S0 al U s ∧ ¬ ∃ t, t ≤ al ∧ s < t ∧ cd_S0 al U t ∧ cd_Su s t := by
  unfold cd_S1
  constructor
  · rintro ⟨h1, h2⟩; exact ⟨h1, fun ⟨t, a, b, c⟩ => h2 ⟨t, a, by omega, c⟩⟩
  · rintro ⟨h1, h2⟩; exact ⟨h1, fun ⟨t, a, b, c, d⟩ => h2 ⟨t, a, by have := cd_Su_le d; omega, c, d⟩⟩
/-- while schemas are struck out in ascending order -/
def cd_Sm (al : Nat) (U : Nat → Nat) (m s : Nat) : Prop := (s < m → cd_S1 al U s) ∧ (m ≤ s → cd_S0 al U s)
theorem cd_Sm_ge {al m s : Nat} {U : Nat → Nat} (h : m ≤ s) : cd_Sm al U m s ↔ cd_S0 al U s := ⟨fun z => z.2 h, fun z => ⟨fun q => by omega, fun _ => z⟩⟩
theorem cd_Sm_lt {al m s : Nat} {U : Nat → Nat} (h : s < m) : cd_Sm al U m s ↔ cd_S1 al U s := ⟨fun z => z.1 h, fun z => ⟨fun _ => z, fun q => by omega⟩⟩
theorem cd_Sm_ne {al m s : Nat} {U : Nat → Nat} (h : s ≠ m) : cd_Sm al U (m + 1) s ↔ cd_Sm al U m s := by
  rcases Nat.lt_or_ge s m with q | q
  · rw [cd_Sm_lt q, cd_Sm_lt (by omega)]
  · rw [cd_Sm_ge q, cd_Sm_ge (by omega)]
end
section
section
variable {n al mf mj fc jc dc fD kc vc sc fT rc qc : Nat} {aL aR aC aP aZ aD aK aV aW aS aU aI aA aQ aO aF : Nat → Nat}
variable {G : Nat → Nat}
theorem cd_xMKs {post : SX → Prop} (hN : cd_N n al) (hC : ∀ m, m ≤ al → aC m = G m) (M : cd_Mo al G) (hp : ∀ K : Nat → Nat, cd_En (cd_Key G al) id (al + 1) K → post ((nI n), (nI al), (nI mf), (nI mj), (nI fc), (nI jc), (nI dc), (nI fD), (nI (cd_cn (cd_Key G al) (al + 1))), (nI vc), (nI sc), (nI fT), (nI rc), (nI qc), (nF aL), (nF aR), (nF aC), (nF aP), (nF aZ), (nF aD), (nF (K)), (nF aV), (nF aW), (nF aS), (nF aU), (nF aI), (nF aA), (nF aQ), (nF aO), (nF aF))) :
    ∀ k x, x + k = al + 1 → ∀ K : Nat → Nat, cd_En (cd_Key G al) id x K → wX_makeKeys_7 post (nI n) (nI al) (nI mf) (nI mj) (nI fc) (nI jc) (nI dc) (nI fD) (nI vc) (nI sc) (nI fT) (nI rc) (nI qc) (k + 1) (nI x) (nI (cd_cn (cd_Key G al) x)) (nF aL) (nF aR) (nF aC) (nF aP) (nF aZ) (nF aD) (nF (K)) (nF aV) (nF aW) (nF aS) (nF aU) (nF aI) (nF aA) (nF aQ) (nF aO) (nF aF) := by
  have hal := (cd_N_al hN).1
  intro k
  induction k with
  | zero =>
    intro x h K hK
    have e : x = al + 1 := by omega
    subst e
    rw [wX_makeKeys_7]
    exact br_t (nI_lt (by omega) (by omega)) (hp K hK)
  | succ k ih =>
    intro x h K hK
    have l := cd_cn_le (cd_Key G al) x
    have I := ih (x + 1) (by omega)
    have cc : (nI (cd_cn (cd_Key G al) x)).toNatClampNeg = cd_cn (cd_Key G al) x := nI_clamp (by omega)
    rw [wX_makeKeys_7]
    dsimp only
    rw [cc]
    refine br_f (nI_nlt (by omega) (by omega)) (cd_xKey (x := x) (s := al) hN hC M (by omega) (Nat.le_refl _) (cd_br (fun g => nm_r (nI_1 x) ?_) (fun g => ⟨vp_in_nI (by omega) (by omega), nm_r (cd_upd K _ x) (nm_r (nI_1 _) (nm_r (nI_1 x) ?_))⟩)))
    · have := I K (cd_En_f hK g)
      rw [cd_cn_ns g] at this; exact this
    · have := I _ (cd_En_t hK rfl)
      rw [cd_cn_s g] at this; exact this
theorem cd_xMK {post : SX → Prop} (hN : cd_N n al) (hC : ∀ m, m ≤ al → aC m = G m) (M : cd_Mo al G) (hp : ∀ K : Nat → Nat, cd_En (cd_Key G al) id (al + 1) K → post ((nI n), (nI al), (nI mf), (nI mj), (nI fc), (nI jc), (nI dc), (nI fD), (nI (cd_cn (cd_Key G al) (al + 1))), (nI vc), (nI sc), (nI fT), (nI rc), (nI qc), (nF aL), (nF aR), (nF aC), (nF aP), (nF aZ), (nF aD), (nF (K)), (nF aV), (nF aW), (nF aS), (nF aU), (nF aI), (nF aA), (nF aQ), (nF aO), (nF aF))) : wpX_makeKeys post ((nI n), (nI al), (nI mf), (nI mj), (nI fc), (nI jc), (nI dc), (nI fD), (nI kc), (nI vc), (nI sc), (nI fT), (nI rc), (nI qc), (nF aL), (nF aR), (nF aC), (nF aP), (nF aZ), (nF aD), (nF aK), (nF aV), (nF aW), (nF aS), (nF aU), (nF aI), (nF aA), (nF aQ), (nF aO), (nF aF)) :=
  Exists.intro (al + 1 + 1) (cd_xMKs hN hC M hp (al + 1) 0 (by omega) aK (fun x hx => absurd hx (by omega)))
theorem cd_xLL2 {post : Int32 → Prop} {x a : Nat} (hN : cd_N n al) (hC : ∀ m, m ≤ al → aC m = G m) (hx : x ≤ al) (ha : a < 6) :
    ∀ k m, m + k = x → post (nI (cd_sc (fun m => cd_Su m x ∧ (G m).testBit a = true) k m)) → wX_leastLhs_2 post (nI x) (nI a) (nI n) (nI al) (nI mf) (nI mj) (nI fc) (nI jc) (nI dc) (nI fD) (nI kc) (nI vc) (nI sc) (nI fT) (nI rc) (nI qc) (nF aL) (nF aR) (nF aC) (nF aP) (nF aZ) (nF aD) (nF aK) (nF aV) (nF aW) (nF aS) (nF aU) (nF aI) (nF aA) (nF aQ) (nF aO) (nF aF) (k + 1) (nI m) := by
  have hal := (cd_N_al hN).1
  intro k
  induction k with
  | zero =>
    intro m h hp
    have e : m = x := by omega
    subst e
    rw [wX_leastLhs_2]
    exact br_t (nI_le (Nat.le_refl _) (by omega)) hp
  | succ k ih =>
    intro m h hp
    have cm : (nI m).toNatClampNeg = m := nI_clamp (by omega)
    have N : ¬ (cd_Su m x ∧ (G m).testBit a = true) → wX_leastLhs_2 post (nI x) (nI a) (nI n) (nI al) (nI mf) (nI mj) (nI fc) (nI jc) (nI dc) (nI fD) (nI kc) (nI vc) (nI sc) (nI fT) (nI rc) (nI qc) (nF aL) (nF aR) (nF aC) (nF aP) (nF aZ) (nF aD) (nF aK) (nF aV) (nF aW) (nF aS) (nF aU) (nF aI) (nF aA) (nF aQ) (nF aO) (nF aF) (k + 1) (nI (m + 1)) := fun z => by
      rw [cd_sc_f (P := fun m => cd_Su m x ∧ (G m).testBit a = true) z] at hp
      exact ih (m + 1) (by omega) hp
    rw [wX_leastLhs_2]
    dsimp only
    rw [cm, show nF aC m = nI (G m) from congrArg nI (hC m (by omega))]
    exact br_f (nI_ge (by omega) (by omega)) (cd_in m x (fun e => ⟨vp_in_nI (by omega) (by omega), cd_tb (G m) a (fun z => nm_r (nI_1 m) (N fun w => by rw [z] at w; exact absurd w.2 (by decide))) (fun z => by rw [cd_sc_t (P := fun m => cd_Su m x ∧ (G m).testBit a = true) ⟨e, z⟩] at hp; exact hp)⟩) (fun e => nm_r (nI_1 m) (N fun w => e w.1)))
theorem cd_xLL {post : Int32 → Prop} {y : Int32} (x a : Nat) (hN : cd_N n al) (hC : ∀ m, m ≤ al → aC m = G m) (hx : x ≤ al) (ha : a < 6) (hp : post (nI (cd_ll G x a))) (hy : y = nI x) : wpX_leastLhs post ((nI n), (nI al), (nI mf), (nI mj), (nI fc), (nI jc), (nI dc), (nI fD), (nI kc), (nI vc), (nI sc), (nI fT), (nI rc), (nI qc), (nF aL), (nF aR), (nF aC), (nF aP), (nF aZ), (nF aD), (nF aK), (nF aV), (nF aW), (nF aS), (nF aU), (nF aI), (nF aA), (nF aQ), (nF aO), (nF aF)) y (nI a) := by
  subst hy
  exact Exists.intro (x + 1) (cd_xLL2 hN hC hx ha x 0 (by omega) hp)
theorem cd_xSU49 {post : SX → Prop} {J : Int32 → (Nat → Int32) → (Nat → Int32) → (Nat → Int32) → (Nat → Int32) → (Nat → Int32) → (Nat → Int32) → (Nat → Int32) → (Nat → Int32) → (Nat → Int32) → (Nat → Int32) → (Nat → Int32) → (Nat → Int32) → (Nat → Int32) → (Nat → Int32) → (Nat → Int32) → (Nat → Int32) → Prop} {f : Nat} {U0 : Nat → Nat} (hN : cd_N n al) (hC : ∀ m, m ≤ al → aC m = G m) (hfc : fc ≤ 8) (hf : f < fc) (F : cd_FD al fc aL aR)
    (hJ : ∀ U : Nat → Nat, (∀ m, m < 64 → U m = cd_u1 G aL aR f U0 n m) → J (nI (f + 1)) (nF aL) (nF aR) (nF aC) (nF aP) (nF aZ) (nF aD) (nF aK) (nF aV) (nF aW) (nF aS) (nF (U)) (nF aI) (nF aA) (nF aQ) (nF aO) (nF aF)) :
    ∀ k a, a + k = n → ∀ U : Nat → Nat, (∀ m, m < 64 → U m = cd_u1 G aL aR f U0 a m) → wX_makeStartingUnits_49 post J (nI f) (nI (cd_df (aR f) (aL f))) (nI n) (nI al) (nI mf) (nI mj) (nI fc) (nI jc) (nI dc) (nI fD) (nI kc) (nI vc) (nI sc) (nI fT) (nI rc) (nI qc) (k + 1) (nI a) (nF aL) (nF aR) (nF aC) (nF aP) (nF aZ) (nF aD) (nF aK) (nF aV) (nF aW) (nF aS) (nF (U)) (nF aI) (nF aA) (nF aQ) (nF aO) (nF aF) := by
  have hal := (cd_N_al hN).1
  have hn := hN.2.1
  obtain ⟨fl, fr⟩ := F f hf
  intro k
  induction k with
  | zero =>
    intro a h U hU
    have e : a = n := by omega
    subst e
    rw [wX_makeStartingUnits_49]
    exact br_t (nI_le (Nat.le_refl _) (by omega)) (nm_r (nI_1 f) (hJ U hU))
  | succ k ih =>
    intro a h U hU
    have cf : (nI f).toNatClampNeg = f := nI_clamp (by omega)
    have l := cd_ll_le (G := G) (x := aL f) (a := a)
    have cl : (nI (cd_ll G (aL f) a)).toNatClampNeg = cd_ll G (aL f) a := nI_clamp (by omega)
    rw [wX_makeStartingUnits_49]
    dsimp only
    rw [cf]
    refine br_f (nI_ge (by omega) (by omega)) (cd_tb (cd_df (aR f) (aL f)) a (fun z => nm_r (nI_1 a) (ih (a + 1) (by omega) U fun m hm => ?_)) (fun z => ⟨vp_in_nI (by omega) (by omega), cd_xLL (aL f) a hN hC fl (by omega) ⟨vp_in_nI (by omega) (by omega), vp_in_nI (by omega) (by omega), ?_⟩ rfl⟩))
    · rw [cd_u1_f (by rw [z]; decide)]; exact hU m hm
    · rw [cl, cd_shl1 (by omega)]
      refine nm_r (e' := nF (cd_up U (cd_ll G (aL f) a) (U (cd_ll G (aL f) a) ||| 2 ^ a))) ?_ (nm_r (nI_1 a) (ih (a + 1) (by omega) _ fun m hm => ?_))
      · rw [show nF U (cd_ll G (aL f) a) ||| nI (2 ^ a) = nI (U (cd_ll G (aL f) a) ||| 2 ^ a) from cd_or _ _, cd_upd]
      · rw [cd_u1_t z]
        by_cases e : m = cd_ll G (aL f) a
        · subst e; rw [cd_us, cd_us, hU _ hm]
        · rw [cd_un e, cd_un e]; exact hU m hm
theorem cd_xSU23 {post : SX → Prop} (hN : cd_N n al) (hC : ∀ m, m ≤ al → aC m = G m) (hfc : fc ≤ 8) (F : cd_FD al fc aL aR) (hp : ∀ U : Nat → Nat, (∀ m, m < 64 → U m = cd_u2 G aL aR n fc m) → post ((nI n), (nI al), (nI mf), (nI mj), (nI fc), (nI jc), (nI dc), (nI fD), (nI kc), (nI vc), (nI sc), (nI fT), (nI rc), (nI qc), (nF aL), (nF aR), (nF aC), (nF aP), (nF aZ), (nF aD), (nF aK), (nF aV), (nF aW), (nF aS), (nF (U)), (nF aI), (nF aA), (nF aQ), (nF aO), (nF aF))) :
    ∀ k f, f + k = fc → ∀ U : Nat → Nat, (∀ m, m < 64 → U m = cd_u2 G aL aR n f m) → wX_makeStartingUnits_23 post (nI n) (nI al) (nI mf) (nI mj) (nI fc) (nI jc) (nI dc) (nI fD) (nI kc) (nI vc) (nI sc) (nI fT) (nI rc) (nI qc) (k + 1) (nI f) (nF aL) (nF aR) (nF aC) (nF aP) (nF aZ) (nF aD) (nF aK) (nF aV) (nF aW) (nF aS) (nF (U)) (nF aI) (nF aA) (nF aQ) (nF aO) (nF aF) := by
  intro k
  induction k with
  | zero =>
    intro f h U hU
    have e : f = fc := by omega
    subst e
    rw [wX_makeStartingUnits_23]
    exact br_t (nI_le (Nat.le_refl _) (by omega)) (hp U hU)
  | succ k ih =>
    intro f h U hU
    have cf : (nI f).toNatClampNeg = f := nI_clamp (by omega)
    rw [wX_makeStartingUnits_23]
    dsimp only
    rw [cf]
    exact br_f (nI_ge (by omega) (by omega)) ⟨vp_in_nI (by omega) (by omega), vp_in_nI (by omega) (by omega), nm_r (cd_dfI (aR f) (aL f)) ⟨n + 1, cd_xSU49 (U0 := cd_u2 G aL aR n f) hN hC hfc (by omega) F (fun U' hU' => ih (f + 1) (by omega) U' hU') n 0 (by omega) U hU⟩⟩
theorem cd_xSU2 {post : SX → Prop} (hK : ∀ U : Nat → Nat, (∀ m, m < 64 → U m = 0) → ∃ j, wX_makeStartingUnits_23 post (nI n) (nI al) (nI mf) (nI mj) (nI fc) (nI jc) (nI dc) (nI fD) (nI kc) (nI vc) (nI sc) (nI fT) (nI rc) (nI qc) j 0 (nF aL) (nF aR) (nF aC) (nF aP) (nF aZ) (nF aD) (nF aK) (nF aV) (nF aW) (nF aS) (nF (U)) (nF aI) (nF aA) (nF aQ) (nF aO) (nF aF)) :
    ∀ k i, i + k = 64 → ∀ U : Nat → Nat, (∀ m, m < i → U m = 0) → wX_makeStartingUnits_2 post (nI n) (nI al) (nI mf) (nI mj) (nI fc) (nI jc) (nI dc) (nI fD) (nI kc) (nI vc) (nI sc) (nI fT) (nI rc) (nI qc) (k + 1) (nI i) (nF aL) (nF aR) (nF aC) (nF aP) (nF aZ) (nF aD) (nF aK) (nF aV) (nF aW) (nF aS) (nF (U)) (nF aI) (nF aA) (nF aQ) (nF aO) (nF aF) := by
  intro k
  induction k with
  | zero =>
    intro i h U hU
    have e : i = 64 := by omega
    subst e
    rw [wX_makeStartingUnits_2]
    exact br_t (show (64 : Int32) ≤ nI 64 from by decide) (hK U hU)
  | succ k ih =>
    intro i h U hU
    have ci : (nI i).toNatClampNeg = i := nI_clamp (by omega)
    rw [wX_makeStartingUnits_2]
    dsimp only
    rw [ci]
    refine br_f (nI_ge (b := 64) (by omega) (by decide)) ⟨vp_in_nI (by omega) (by omega), nm_r (cd_upd U i 0) (nm_r (nI_1 i) (ih (i + 1) (by omega) _ fun m hm => ?_))⟩
    by_cases e : m = i
    · subst e; exact cd_us
    · rw [cd_un e]; exact hU m (by omega)
theorem cd_xSU {post : SX → Prop} (hN : cd_N n al) (hC : ∀ m, m ≤ al → aC m = G m) (hfc : fc ≤ 8) (F : cd_FD al fc aL aR) (hp : ∀ U : Nat → Nat, (∀ m, m < 64 → U m = cd_u2 G aL aR n fc m) → post ((nI n), (nI al), (nI mf), (nI mj), (nI fc), (nI jc), (nI dc), (nI fD), (nI kc), (nI vc), (nI sc), (nI fT), (nI rc), (nI qc), (nF aL), (nF aR), (nF aC), (nF aP), (nF aZ), (nF aD), (nF aK), (nF aV), (nF aW), (nF aS), (nF (U)), (nF aI), (nF aA), (nF aQ), (nF aO), (nF aF))) : wpX_makeStartingUnits post ((nI n), (nI al), (nI mf), (nI mj), (nI fc), (nI jc), (nI dc), (nI fD), (nI kc), (nI vc), (nI sc), (nI fT), (nI rc), (nI qc), (nF aL), (nF aR), (nF aC), (nF aP), (nF aZ), (nF aD), (nF aK), (nF aV), (nF aW), (nF aS), (nF aU), (nF aI), (nF aA), (nF aQ), (nF aO), (nF aF)) :=
  Exists.intro 65 (cd_xSU2 (fun U hU => ⟨fc + 1, cd_xSU23 hN hC hfc F hp fc 0 (by omega) U hU⟩) 64 0 rfl aU (fun m hm => absurd hm (by omega)))
/-! the closure under units -/
theorem cd_xCU13 {post : Int32 → Prop} {J4 : Int32 → Int32 → Prop} {r z : Nat} (hal : al < 64) (hJ : J4 (nI (cd_gr (cd_hF id aU) (al + 1) z)) (nI (r + 1))) :
    ∀ k i, i + k = al + 1 → wX_closeUnderUnits_13 post J4 (nI r) (nI n) (nI al) (nI mf) (nI mj) (nI fc) (nI jc) (nI dc) (nI fD) (nI kc) (nI vc) (nI sc) (nI fT) (nI rc) (nI qc) (nF aL) (nF aR) (nF aC) (nF aP) (nF aZ) (nF aD) (nF aK) (nF aV) (nF aW) (nF aS) (nF aU) (nF aI) (nF aA) (nF aQ) (nF aO) (nF aF) (k + 1) (nI (cd_gr (cd_hF id aU) i z)) (nI i) := by
  intro k
  induction k with
  | zero =>
    intro i h
    have e : i = al + 1 := by omega
    subst e
    rw [wX_closeUnderUnits_13]
    exact br_t (nI_lt (by omega) (by omega)) (nm_r (nI_1 r) hJ)
  | succ k ih =>
    intro i h
    have c : (nI i).toNatClampNeg = i := nI_clamp (by omega)
    have I := ih (i + 1) (by omega)
    rw [wX_closeUnderUnits_13]
    dsimp only
    rw [c]
    refine br_f (nI_nlt (by omega) (by omega)) (cd_in i (cd_gr (cd_hF id aU) i z) (fun e => ⟨vp_in_nI (by omega) (by omega), nm_r (cd_or _ _) (nm_r (nI_1 i) ?_)⟩) (fun e => nm_r (nI_1 i) ?_))
    · rw [show cd_gr (cd_hF id aU) (i + 1) z = cd_gr (cd_hF id aU) i z ||| aU i from cd_hF_t (L := id) e] at I
      exact I
    · rw [show cd_gr (cd_hF id aU) (i + 1) z = cd_gr (cd_hF id aU) i z from cd_hF_f (L := id) e] at I
      exact I
theorem cd_xCU4 {post : Int32 → Prop} {z : Nat} (hal : al < 64) (hp : post (nI (cd_it (cd_hF id aU) (al + 1) 6 z))) :
    ∀ k r, r + k = 6 → wX_closeUnderUnits_4 post (nI n) (nI al) (nI mf) (nI mj) (nI fc) (nI jc) (nI dc) (nI fD) (nI kc) (nI vc) (nI sc) (nI fT) (nI rc) (nI qc) (nF aL) (nF aR) (nF aC) (nF aP) (nF aZ) (nF aD) (nF aK) (nF aV) (nF aW) (nF aS) (nF aU) (nF aI) (nF aA) (nF aQ) (nF aO) (nF aF) (k + 1) (nI (cd_it (cd_hF id aU) (al + 1) r z)) (nI r) := by
  intro k
  induction k with
  | zero =>
    intro r h
    have e : r = 6 := by omega
    subst e
    rw [wX_closeUnderUnits_4]
    exact br_t (show (6 : Int32) ≤ nI 6 from by decide) hp
  | succ k ih =>
    intro r h
    rw [wX_closeUnderUnits_4]
    exact br_f (nI_ge (b := 6) (by omega) (by decide)) ⟨al + 1 + 1, cd_xCU13 (z := cd_it (cd_hF id aU) (al + 1) r z) hal (ih (r + 1) (by omega)) (al + 1) 0 (by omega)⟩
theorem cd_xCU {post : Int32 → Prop} {m : Nat} {U : Nat → Nat} (hN : cd_N n al) (hU : ∀ i, i < 64 → aU i = U i) (W : cd_UW al U) (hm : m ≤ al) (hp : post (nI (cd_lu al U m))) : wpX_closeUnderUnits post ((nI n), (nI al), (nI mf), (nI mj), (nI fc), (nI jc), (nI dc), (nI fD), (nI kc), (nI vc), (nI sc), (nI fT), (nI rc), (nI qc), (nF aL), (nF aR), (nF aC), (nF aP), (nF aZ), (nF aD), (nF aK), (nF aV), (nF aW), (nF aS), (nF aU), (nF aI), (nF aA), (nF aQ), (nF aO), (nF aF)) (nI m) := by
  have hal := (cd_N_al hN).1
  unfold cd_lu at hp
  rw [cd_cl_congr (L' := id) (R' := aU) (fun _ _ => rfl) (fun i hi => (hU i (by omega)).symm), ← cd_cl_it hN (fun i hi => by rw [hU i (by omega)]; exact (W i).1) hm] at hp
  exact Exists.intro 7 (cd_xCU4 hal hp 6 0 rfl)
/-! the removal -/
theorem cd_xRR16 {post : SX → Prop} {J5 : Int32 → (Nat → Int32) → (Nat → Int32) → (Nat → Int32) → (Nat → Int32) → (Nat → Int32) → (Nat → Int32) → (Nat → Int32) → (Nat → Int32) → (Nat → Int32) → (Nat → Int32) → (Nat → Int32) → (Nat → Int32) → (Nat → Int32) → (Nat → Int32) → (Nat → Int32) → (Nat → Int32) → Prop} {m : Nat} {UF : Nat → Nat} (hN : cd_N n al) (hm : m ≤ al)
    (hJ : ∀ U V : Nat → Nat, (∀ i, i < 64 → U i = V i) → cd_UW al V → cd_rD al (m * 8) V = UF → J5 (nI m + (-1)) (nF aL) (nF aR) (nF aC) (nF aP) (nF aZ) (nF aD) (nF aK) (nF aV) (nF aW) (nF aS) (nF (U)) (nF aI) (nF aA) (nF aQ) (nF aO) (nF aF)) :
    ∀ k, k ≤ n → ∀ U V : Nat → Nat, (∀ i, i < 64 → U i = V i) → cd_UW al V → cd_rD al (m * 8 + k) V = UF → wX_removeRedundantUnits_16 post J5 (nI m) (nI n) (nI al) (nI mf) (nI mj) (nI fc) (nI jc) (nI dc) (nI fD) (nI kc) (nI vc) (nI sc) (nI fT) (nI rc) (nI qc) (k + 1) (nI k + (-1)) (nF aL) (nF aR) (nF aC) (nF aP) (nF aZ) (nF aD) (nF aK) (nF aV) (nF aW) (nF aS) (nF (U)) (nF aI) (nF aA) (nF aQ) (nF aO) (nF aF) := by
  have hal := (cd_N_al hN).1
  have hn := hN.2.1
  have cm : (nI m).toNatClampNeg = m := nI_clamp (by omega)
  intro k
  induction k with
  | zero =>
    intro hk U V h1 h2 h3
    rw [wX_removeRedundantUnits_16]
    exact br_t (show nI 0 + (-1) < 0 from by decide) (nm_e (hJ U V h1 h2 h3))
  | succ k ih =>
    intro hk U V h1 h2 h3
    have em := h1 m (by omega)
    have vl := (h2 m).1
    have h3' : cd_rD al (m * 8 + k) (cd_rs al V (m * 8 + k)) = UF := h3
    have e8 : (m * 8 + k) / 8 = m := by omega
    have m8 : (m * 8 + k) % 8 = k := by omega
    rw [pk_m1, wX_removeRedundantUnits_16]
    dsimp only
    rw [cm, cd_shl1 (by omega)]
    refine br_f (nI_pos (by omega)) (nm_e ⟨vp_in_nI (by omega) (by omega), ?_⟩)
    rw [show nF U m = nI (V m) from congrArg nI em, nx_and, cd_dfI]
    have tb : V m &&& 2 ^ k = 0 ↔ ¬ (V m).testBit k = true := by
      constructor
      · intro z w
        have : (V m &&& 2 ^ k).testBit k = true := by rw [Nat.testBit_and, w, Nat.testBit_two_pow_self]; rfl
        rw [z, Nat.zero_testBit] at this
        exact absurd this (by decide)
      · intro w
        refine Classical.byContradiction fun z => w ?_
        obtain ⟨i, hi⟩ := cd_nz z
        have a := cd_Su_andl _ _ i hi
        have b := cd_Su_andr _ _ i hi
        rw [Nat.testBit_two_pow, decide_eq_true_iff] at b
        subst b; exact a
    have b1 : V m &&& 2 ^ k ≤ V m := Nat.and_le_left
    refine cd_brN _ (by omega) (fun z => nm_e (ih (by omega) U V h1 h2 ?_)) (fun z => ⟨vp_in_nI (by omega) (by omega), vp_in_nI (by omega) (by omega), nm_r (cd_upd U m _) ?_⟩)
    · rw [cd_rs_n (by rw [e8, m8]; exact tb.mp z)] at h3'; exact h3'
    have bit : (V m).testBit k = true := Classical.byContradiction fun w => z (tb.mpr w)
    have w1 : cd_UW al (cd_up V m (cd_df (V m) (2 ^ k))) := cd_up_W h2 (cd_df_le _ _)
    have u1 : ∀ i, i < 64 → cd_up U m (cd_df (V m) (2 ^ k)) i = cd_up V m (cd_df (V m) (2 ^ k)) i := fun i hi => by
      by_cases e : i = m
      · subst e; rw [cd_us, cd_us]
      · rw [cd_un e, cd_un e]; exact h1 i hi
    have bit' : (V ((m * 8 + k) / 8)).testBit ((m * 8 + k) % 8) = true := by rw [e8, m8]; exact bit
    refine cd_xCU (U := cd_up V m (cd_df (V m) (2 ^ k))) hN u1 w1 hm ?_
    rw [nx_and]
    have b2 : cd_lu al (cd_up V m (cd_df (V m) (2 ^ k))) m &&& 2 ^ k ≤ 2 ^ k := Nat.and_le_right
    have p6 : 2 ^ k < 2 ^ 6 := Nat.pow_lt_pow_right (by decide) (by omega)
    have tb2 : cd_lu al (cd_up V m (cd_df (V m) (2 ^ k))) m &&& 2 ^ k = 0 ↔ ¬ (cd_lu al (cd_up V m (cd_df (V m) (2 ^ k))) m).testBit k = true := by
      constructor
      · intro z w
        have : (cd_lu al (cd_up V m (cd_df (V m) (2 ^ k))) m &&& 2 ^ k).testBit k = true := by rw [Nat.testBit_and, w, Nat.testBit_two_pow_self]; rfl
        rw [z, Nat.zero_testBit] at this
        exact absurd this (by decide)
      · intro w
        refine Classical.byContradiction fun z => w ?_
        obtain ⟨i, hi⟩ := cd_nz z
        have a := cd_Su_andl _ _ i hi
        have b := cd_Su_andr _ _ i hi
        rw [Nat.testBit_two_pow, decide_eq_true_iff] at b
        subst b; exact a
    refine cd_brN _ (by omega) (fun y => ⟨vp_in_nI (by omega) (by omega), vp_in_nI (by omega) (by omega), nm_r (e' := nF (cd_up (cd_up U m (cd_df (V m) (2 ^ k))) m (V m))) ?_ (nm_e (ih (by omega) _ V (fun i hi => ?_) h2 ?_))⟩) (fun y => nm_e (ih (by omega) _ _ u1 w1 ?_))
    · rw [show nF (cd_up U m (cd_df (V m) (2 ^ k))) m = nI (cd_df (V m) (2 ^ k)) from congrArg nI cd_us, cd_or, cd_upd]
      congr 2
      refine cd_Su_as (cd_Su_or (cd_df_Su _ _) (cd_Su_pow.mpr bit)) fun i hi => ?_
      rw [Nat.testBit_or, cd_df_t, Nat.testBit_two_pow, hi]
      by_cases e : k = i
      · rw [decide_eq_true e]; simp
      · rw [decide_eq_false e]; rfl
    · by_cases e : i = m
      · subst e; rw [cd_us]
      · rw [cd_un e, cd_un e]; exact h1 i hi
    · rw [cd_rs_f bit' (by rw [e8, m8]; exact tb2.mp y)] at h3'; exact h3'
    · have := cd_rs_t (al := al) bit' (by rw [e8, m8]; exact Classical.byContradiction fun w => y (tb2.mpr w))
      rw [this, e8, m8] at h3'; exact h3'
theorem cd_xRR5 {post : SX → Prop} {UF : Nat → Nat} (hN : cd_N n al) (hp : ∀ U : Nat → Nat, (∀ i, i < 64 → U i = UF i) → post ((nI n), (nI al), (nI mf), (nI mj), (nI fc), (nI jc), (nI dc), (nI fD), (nI kc), (nI vc), (nI sc), (nI fT), (nI rc), (nI qc), (nF aL), (nF aR), (nF aC), (nF aP), (nF aZ), (nF aD), (nF aK), (nF aV), (nF aW), (nF aS), (nF (U)), (nF aI), (nF aA), (nF aQ), (nF aO), (nF aF))) :
    ∀ k, k ≤ al + 1 → ∀ U V : Nat → Nat, (∀ i, i < 64 → U i = V i) → cd_UW al V → cd_rD al (k * 8) V = UF → wX_removeRedundantUnits_5 post (nI n) (nI al) (nI mf) (nI mj) (nI fc) (nI jc) (nI dc) (nI fD) (nI kc) (nI vc) (nI sc) (nI fT) (nI rc) (nI qc) (k + 1) (nI k + (-1)) (nF aL) (nF aR) (nF aC) (nF aP) (nF aZ) (nF aD) (nF aK) (nF aV) (nF aW) (nF aS) (nF (U)) (nF aI) (nF aA) (nF aQ) (nF aO) (nF aF) := by
  have hal := (cd_N_al hN).1
  have hn := hN.2.1
  intro k
  induction k with
  | zero =>
    intro hk U V h1 h2 h3
    rw [wX_removeRedundantUnits_5]
    refine br_t (show nI 0 + (-1) < 0 from by decide) (hp U fun i hi => ?_)
    rw [← h3]; exact h1 i hi
  | succ k ih =>
    intro hk U V h1 h2 h3
    rw [pk_m1, wX_removeRedundantUnits_5]
    refine br_f (nI_pos (by omega)) (nm_r (e' := nI n + (-1)) (Int32.sub_eq_add_neg _ _) ⟨n + 1, cd_xRR16 (UF := UF) hN (by omega) (fun U' V' g1 g2 g3 => ih (by omega) U' V' g1 g2 g3) n (Nat.le_refl _) U V h1 h2 ?_⟩)
    rw [← h3, show (k + 1) * 8 = k * 8 + n + (8 - n) by omega]
    refine (cd_rD_skip (k * 8 + n) (8 - n) fun u hu1 hu2 w => ?_).symm
    have := cd_N_bit hN (h2 _).1 w
    omega
theorem cd_xRR {post : SX → Prop} {V : Nat → Nat} (hN : cd_N n al) (hU : ∀ i, i < 64 → aU i = V i) (W : cd_UW al V) (hp : ∀ U : Nat → Nat, (∀ i, i < 64 → U i = cd_rD al 512 V i) → post ((nI n), (nI al), (nI mf), (nI mj), (nI fc), (nI jc), (nI dc), (nI fD), (nI kc), (nI vc), (nI sc), (nI fT), (nI rc), (nI qc), (nF aL), (nF aR), (nF aC), (nF aP), (nF aZ), (nF aD), (nF aK), (nF aV), (nF aW), (nF aS), (nF (U)), (nF aI), (nF aA), (nF aQ), (nF aO), (nF aF))) : wpX_removeRedundantUnits post ((nI n), (nI al), (nI mf), (nI mj), (nI fc), (nI jc), (nI dc), (nI fD), (nI kc), (nI vc), (nI sc), (nI fT), (nI rc), (nI qc), (nF aL), (nF aR), (nF aC), (nF aP), (nF aZ), (nF aD), (nF aK), (nF aV), (nF aW), (nF aS), (nF aU), (nF aI), (nF aA), (nF aQ), (nF aO), (nF aF)) := by
  have hal := (cd_N_al hN).1
  refine Exists.intro (al + 1 + 1) ?_
  have := cd_xRR5 (UF := cd_rD al 512 V) hN hp (al + 1) (Nat.le_refl _) aU V hU W (by
    rw [show 512 = (al + 1) * 8 + (512 - (al + 1) * 8) by omega]
    refine (cd_rD_skip ((al + 1) * 8) (512 - (al + 1) * 8) fun u hu1 hu2 w => ?_).symm
    rw [(W (u / 8)).2 (by omega), Nat.zero_testBit] at w
    exact absurd w (by decide))
  rw [pk_m1] at this
  exact this
/-! the cover -/
theorem cd_xMV7 {post : SX → Prop} {UF : Nat → Nat} (hN : cd_N n al) (hU : ∀ i, i < 64 → aU i = UF i) (W : cd_UW al UF)
    (hp : ∀ V X : Nat → Nat, cd_En (fun x => UF x ≠ 0) id (al + 1) V → cd_En (fun x => UF x ≠ 0) UF (al + 1) X → post ((nI n), (nI al), (nI mf), (nI mj), (nI fc), (nI jc), (nI dc), (nI fD), (nI kc), (nI (cd_cn (fun x => UF x ≠ 0) (al + 1))), (nI sc), (nI fT), (nI rc), (nI qc), (nF aL), (nF aR), (nF aC), (nF aP), (nF aZ), (nF aD), (nF aK), (nF (V)), (nF (X)), (nF aS), (nF aU), (nF aI), (nF aA), (nF aQ), (nF aO), (nF aF))) :
    ∀ k x, x + k = al + 1 → ∀ V X : Nat → Nat, cd_En (fun x => UF x ≠ 0) id x V → cd_En (fun x => UF x ≠ 0) UF x X → wX_makeCover_7 post (nI n) (nI al) (nI mf) (nI mj) (nI fc) (nI jc) (nI dc) (nI fD) (nI kc) (nI sc) (nI fT) (nI rc) (nI qc) (k + 1) (nI x) (nI (cd_cn (fun x => UF x ≠ 0) x)) (nF aL) (nF aR) (nF aC) (nF aP) (nF aZ) (nF aD) (nF aK) (nF (V)) (nF (X)) (nF aS) (nF aU) (nF aI) (nF aA) (nF aQ) (nF aO) (nF aF) := by
  have hal := (cd_N_al hN).1
  intro k
  induction k with
  | zero =>
    intro x h V X h1 h2
    have e : x = al + 1 := by omega
    subst e
    rw [wX_makeCover_7]
    exact br_t (nI_lt (by omega) (by omega)) (hp V X h1 h2)
  | succ k ih =>
    intro x h V X h1 h2
    have l := cd_cn_le (fun x => UF x ≠ 0) x
    have I := ih (x + 1) (by omega)
    have cx : (nI x).toNatClampNeg = x := nI_clamp (by omega)
    have cc : (nI (cd_cn (fun x => UF x ≠ 0) x)).toNatClampNeg = cd_cn (fun x => UF x ≠ 0) x := nI_clamp (by omega)
    have ul := (W x).1
    rw [wX_makeCover_7]
    dsimp only
    rw [cc, cx, show nF aU x = nI (UF x) from congrArg nI (hU x (by omega))]
    refine br_f (nI_nlt (by omega) (by omega)) ⟨vp_in_nI (by omega) (by omega), cd_brN (UF x) (by omega) (fun g => nm_r (nI_1 x) ?_) (fun g => ⟨vp_in_nI (by omega) (by omega), nm_r (cd_upd V _ x) ⟨vp_in_nI (by omega) (by omega), vp_in_nI (by omega) (by omega), nm_r (cd_upd X _ (UF x)) (nm_r (nI_1 _) (nm_r (nI_1 x) ?_))⟩⟩)⟩
    · have := I V X (cd_En_f h1 (fun w => w g)) (cd_En_f h2 (fun w => w g))
      rw [cd_cn_ns (P := fun x => UF x ≠ 0) (fun w => w g)] at this; exact this
    · have := I _ _ (cd_En_t h1 rfl) (cd_En_t h2 rfl)
      rw [cd_cn_s (P := fun x => UF x ≠ 0) g] at this; exact this
theorem cd_xMV {post : SX → Prop} {UF : Nat → Nat} (hN : cd_N n al) (hU : ∀ i, i < 64 → aU i = UF i) (W : cd_UW al UF)
    (hp : ∀ V X : Nat → Nat, cd_En (fun x => UF x ≠ 0) id (al + 1) V → cd_En (fun x => UF x ≠ 0) UF (al + 1) X → post ((nI n), (nI al), (nI mf), (nI mj), (nI fc), (nI jc), (nI dc), (nI fD), (nI kc), (nI (cd_cn (fun x => UF x ≠ 0) (al + 1))), (nI sc), (nI fT), (nI rc), (nI qc), (nF aL), (nF aR), (nF aC), (nF aP), (nF aZ), (nF aD), (nF aK), (nF (V)), (nF (X)), (nF aS), (nF aU), (nF aI), (nF aA), (nF aQ), (nF aO), (nF aF))) : wpX_makeCover post ((nI n), (nI al), (nI mf), (nI mj), (nI fc), (nI jc), (nI dc), (nI fD), (nI kc), (nI vc), (nI sc), (nI fT), (nI rc), (nI qc), (nF aL), (nF aR), (nF aC), (nF aP), (nF aZ), (nF aD), (nF aK), (nF aV), (nF aW), (nF aS), (nF aU), (nF aI), (nF aA), (nF aQ), (nF aO), (nF aF)) :=
  Exists.intro (al + 1 + 1) (cd_xMV7 hN hU W hp (al + 1) 0 (by omega) aV aW (fun x hx => absurd hx (by omega)) (fun x hx => absurd hx (by omega)))
/-! the schemas -/
theorem cd_xBA4 {post : Int32 → Prop} {m : Nat} {P : Nat → Prop} (hal : al < 64) (hm : m ≤ al) (hI : ∀ s, s < 64 → aI s = cd_b (P s)) (hp : post (nI (cd_b (∃ t, t ≤ al ∧ m < t ∧ P t ∧ cd_Su m t)))) :
    ∀ k i, i + k = al + 1 → m < i → (∀ t, t < i → ¬ (m < t ∧ P t ∧ cd_Su m t)) → wX_isBelowAnother_4 post (nI m) (nI n) (nI al) (nI mf) (nI mj) (nI fc) (nI jc) (nI dc) (nI fD) (nI kc) (nI vc) (nI sc) (nI fT) (nI rc) (nI qc) (nF aL) (nF aR) (nF aC) (nF aP) (nF aZ) (nF aD) (nF aK) (nF aV) (nF aW) (nF aS) (nF aU) (nF aI) (nF aA) (nF aQ) (nF aO) (nF aF) (k + 1) (nI i) := by
  intro k
  induction k with
  | zero =>
    intro i h hi H
    rw [wX_isBelowAnother_4]
    exact br_t (nI_lt (by omega) (by omega)) (cd_p0 (P := ∃ t, t ≤ al ∧ m < t ∧ P t ∧ cd_Su m t) (fun ⟨t, h1, h2⟩ => H t (by omega) h2) hp)
  | succ k ih =>
    intro i h hi H
    have ci : (nI i).toNatClampNeg = i := nI_clamp (by omega)
    have N : ¬ (m < i ∧ P i ∧ cd_Su m i) → wX_isBelowAnother_4 post (nI m) (nI n) (nI al) (nI mf) (nI mj) (nI fc) (nI jc) (nI dc) (nI fD) (nI kc) (nI vc) (nI sc) (nI fT) (nI rc) (nI qc) (nF aL) (nF aR) (nF aC) (nF aP) (nF aZ) (nF aD) (nF aK) (nF aV) (nF aW) (nF aS) (nF aU) (nF aI) (nF aA) (nF aQ) (nF aO) (nF aF) (k + 1) (nI (i + 1)) := fun z => ih (i + 1) (by omega) (by omega) fun t ht => by
      by_cases e : t = i
      · subst e; exact z
      · exact H t (by omega)
    rw [wX_isBelowAnother_4]
    dsimp only
    rw [ci, show nF aI i = nI (cd_b (P i)) from congrArg nI (hI i (by omega))]
    exact br_f (nI_nlt (by omega) (by omega)) ⟨vp_in_nI (by omega) (by omega), cd_br (fun g => nm_r (nI_1 i) (N fun w => g w.2.1)) (fun g => cd_in m i (fun e => cd_p1 (P := ∃ t, t ≤ al ∧ m < t ∧ P t ∧ cd_Su m t) ⟨i, by omega, hi, g, e⟩ hp) (fun e => nm_r (nI_1 i) (N fun w => e w.2.2)))⟩
theorem cd_xBA {post : Int32 → Prop} {m : Nat} {P : Nat → Prop} (hal : al < 64) (hm : m ≤ al) (hI : ∀ s, s < 64 → aI s = cd_b (P s)) (hp : post (nI (cd_b (∃ t, t ≤ al ∧ m < t ∧ P t ∧ cd_Su m t)))) : wpX_isBelowAnother post ((nI n), (nI al), (nI mf), (nI mj), (nI fc), (nI jc), (nI dc), (nI fD), (nI kc), (nI vc), (nI sc), (nI fT), (nI rc), (nI qc), (nF aL), (nF aR), (nF aC), (nF aP), (nF aZ), (nF aD), (nF aK), (nF aV), (nF aW), (nF aS), (nF aU), (nF aI), (nF aA), (nF aQ), (nF aO), (nF aF)) (nI m) :=
  nm_r (nI_1 m) ⟨al - m + 1, cd_xBA4 hal hm hI hp (al - m) (m + 1) (by omega) (by omega) (fun t h1 h2 => by omega)⟩
theorem cd_xS152 {post : SX → Prop} {P : Nat → Prop} (hal : al < 64) (hI : ∀ s, s < 64 → aI s = cd_b (P s)) (hp : ∀ S : Nat → Nat, cd_En P id (al + 1) S → post ((nI n), (nI al), (nI mf), (nI mj), (nI fc), (nI jc), (nI dc), (nI fD), (nI kc), (nI vc), (nI (cd_cn P (al + 1))), (nI fT), (nI rc), (nI qc), (nF aL), (nF aR), (nF aC), (nF aP), (nF aZ), (nF aD), (nF aK), (nF aV), (nF aW), (nF (S)), (nF aU), (nF aI), (nF aA), (nF aQ), (nF aO), (nF aF))) :
    ∀ k x, x + k = al + 1 → ∀ S : Nat → Nat, cd_En P id x S → wX_makeSchemas_152 post (nI n) (nI al) (nI mf) (nI mj) (nI fc) (nI jc) (nI dc) (nI fD) (nI kc) (nI vc) (nI fT) (nI rc) (nI qc) (k + 1) (nI x) (nI (cd_cn P x)) (nF aL) (nF aR) (nF aC) (nF aP) (nF aZ) (nF aD) (nF aK) (nF aV) (nF aW) (nF (S)) (nF aU) (nF aI) (nF aA) (nF aQ) (nF aO) (nF aF) := by
  intro k
  induction k with
  | zero =>
    intro x h S hS
    have e : x = al + 1 := by omega
    subst e
    rw [wX_makeSchemas_152]
    exact br_t (nI_lt (by omega) (by omega)) (hp S hS)
  | succ k ih =>
    intro x h S hS
    have l := cd_cn_le P x
    have I := ih (x + 1) (by omega)
    have cx : (nI x).toNatClampNeg = x := nI_clamp (by omega)
    have cc : (nI (cd_cn P x)).toNatClampNeg = cd_cn P x := nI_clamp (by omega)
    rw [wX_makeSchemas_152]
    dsimp only
    rw [cc, cx, show nF aI x = nI (cd_b (P x)) from congrArg nI (hI x (by omega))]
    refine br_f (nI_nlt (by omega) (by omega)) ⟨vp_in_nI (by omega) (by omega), cd_br (fun g => nm_r (nI_1 x) ?_) (fun g => ⟨vp_in_nI (by omega) (by omega), nm_r (cd_upd S _ x) (nm_r (nI_1 _) (nm_r (nI_1 x) ?_))⟩)⟩
    · have := I S (cd_En_f hS g)
      rw [cd_cn_ns g] at this; exact this
    · have := I _ (cd_En_t hS rfl)
      rw [cd_cn_s g] at this; exact this
theorem cd_xS92 {post : SX → Prop} {J : Int32 → Int32 → (Nat → Int32) → (Nat → Int32) → (Nat → Int32) → (Nat → Int32) → (Nat → Int32) → (Nat → Int32) → (Nat → Int32) → (Nat → Int32) → (Nat → Int32) → (Nat → Int32) → (Nat → Int32) → (Nat → Int32) → (Nat → Int32) → (Nat → Int32) → (Nat → Int32) → (Nat → Int32) → Prop} {m x : Nat} {P : Prop} (hal : al < 64) (hm : m ≤ al) (hx : x ≤ 1) (hIm : aI m = cd_b P) (hC : ∀ m, m ≤ al → aC m = G m) (hG : G m ≤ al)
    (hJ : J (nI (cd_b (x = 1 ∨ (P ∧ G m = al)))) (nI (m + 1)) (nF aL) (nF aR) (nF aC) (nF aP) (nF aZ) (nF aD) (nF aK) (nF aV) (nF aW) (nF aS) (nF aU) (nF aI) (nF aA) (nF aQ) (nF aO) (nF aF)) : wX_makeSchemas_92 post J (nI x) (nI m) (nI n) (nI al) (nI mf) (nI mj) (nI fc) (nI jc) (nI dc) (nI fD) (nI kc) (nI vc) (nI sc) (nI fT) (nI rc) (nI qc) (nF aL) (nF aR) (nF aC) (nF aP) (nF aZ) (nF aD) (nF aK) (nF aV) (nF aW) (nF aS) (nF aU) (nF aI) (nF aA) (nF aQ) (nF aO) (nF aF) := by
  have cm : (nI m).toNatClampNeg = m := nI_clamp (by omega)
  have N : ¬ (P ∧ G m = al) → J (nI x) (nI (m + 1)) (nF aL) (nF aR) (nF aC) (nF aP) (nF aZ) (nF aD) (nF aK) (nF aV) (nF aW) (nF aS) (nF aU) (nF aI) (nF aA) (nF aQ) (nF aO) (nF aF) := fun z => by
    have : cd_b (x = 1 ∨ (P ∧ G m = al)) = x := by
      rcases (by omega : x = 0 ∨ x = 1) with rfl | rfl
      · exact cd_bf fun w => w.elim (fun q => absurd q (by omega)) z
      · exact cd_bt (Or.inl rfl)
    rw [this] at hJ; exact hJ
  unfold wX_makeSchemas_92
  rw [cm, show nF aI m = nI (cd_b P) from congrArg nI hIm, show nF aC m = nI (G m) from congrArg nI (hC m hm)]
  refine ⟨vp_in_nI (by omega) (by omega), cd_br (fun g => nm_r (nI_1 m) (N fun w => g w.1)) (fun g => ⟨vp_in_nI (by omega) (by omega), pk_eq (G m) al (fun e => nm_r (nI_1 m) ?_) (fun e => nm_r (nI_1 m) (N fun w => e w.2)) rfl rfl (by omega) (by omega)⟩)⟩
  rw [cd_bt (Or.inr ⟨g, e⟩)] at hJ; exact hJ
theorem cd_xS60 {post : SX → Prop} {UF : Nat → Nat} {x0 : Nat} (hN : cd_N n al) (W : cd_UW al UF) (hkc : 0 < kc ∧ kc ≤ 64) (hK0 : aK 0 = x0) (hx0 : x0 ≤ al) (hC : ∀ m, m ≤ al → aC m = G m) (hG : ∀ m, m ≤ al → G m ≤ al)
    (hp : ∀ S I : Nat → Nat, cd_En (cd_S2 al G UF x0) id (al + 1) S → post ((nI n), (nI al), (nI mf), (nI mj), (nI fc), (nI jc), (nI dc), (nI fD), (nI kc), (nI vc), (nI (cd_cn (cd_S2 al G UF x0) (al + 1))), (nI fT), (nI rc), (nI qc), (nF aL), (nF aR), (nF aC), (nF aP), (nF aZ), (nF aD), (nF aK), (nF aV), (nF aW), (nF (S)), (nF aU), (nF (I)), (nF aA), (nF aQ), (nF aO), (nF aF))) :
    ∀ k m, m + k = al + 1 → ∀ I : Nat → Nat, (∀ s, s < 64 → I s = cd_b (cd_Sm al UF m s)) → wX_makeSchemas_60 post (nI n) (nI al) (nI mf) (nI mj) (nI fc) (nI jc) (nI dc) (nI fD) (nI kc) (nI vc) (nI sc) (nI fT) (nI rc) (nI qc) (k + 1) (nI (cd_b (cd_Kd al G UF m))) (nI m) (nF aL) (nF aR) (nF aC) (nF aP) (nF aZ) (nF aD) (nF aK) (nF aV) (nF aW) (nF aS) (nF aU) (nF (I)) (nF aA) (nF aQ) (nF aO) (nF aF) := by
  have hal := (cd_N_al hN).1
  intro k
  induction k with
  | zero =>
    intro m h I hI
    have e : m = al + 1 := by omega
    subst e
    have H1 : ∀ s, cd_Sm al UF (al + 1) s ↔ cd_S1 al UF s := fun s => by
      rcases Nat.lt_or_ge s (al + 1) with q | q
      · exact cd_Sm_lt q
      · rw [cd_Sm_ge q]
        exact ⟨fun z => by have := cd_S0_le hN W z; omega, fun z => z.1⟩
    rw [wX_makeSchemas_60]
    refine br_t (nI_lt (by omega) (by omega)) (cd_br (fun g => br_f (nI_nle hkc.1 (by omega)) ⟨?_, ?_⟩) (fun g => ⟨al + 1 + 1, cd_xS152 (P := cd_S2 al G UF x0) hal (fun s hs => (hI s hs).trans (cd_be ?_)) (fun S hS => hp S I hS) (al + 1) 0 (by omega) aS (fun x hx => absurd hx (by omega))⟩))
    · exact pk_in x0 64 (by omega) (congrArg nI hK0)
    · have c0 : (nF aK 0).toNatClampNeg = x0 := (congrArg (fun z => (nI z).toNatClampNeg) hK0).trans (nI_clamp (by omega))
      rw [c0, cd_vn1]
      refine nm_r (cd_upd I x0 1) ⟨al + 1 + 1, cd_xS152 (P := cd_S2 al G UF x0) hal (fun s hs => ?_) (fun S hS => hp S _ hS) (al + 1) 0 (by omega) aS (fun x hx => absurd hx (by omega))⟩
      by_cases e : s = x0
      · subst e; rw [cd_us]; exact (cd_bt (Or.inr ⟨g, rfl⟩)).symm
      · rw [cd_un e, hI s hs]
        exact cd_be ((H1 s).trans ⟨Or.inl, fun z => z.elim id fun w => absurd w.2 e⟩)
    · exact (H1 s).trans ⟨Or.inl, fun z => z.elim id fun w => absurd g w.1⟩
  | succ k ih =>
    intro m h I hI
    have cm : (nI m).toNatClampNeg = m := nI_clamp (by omega)
    have kd : cd_b (cd_b (cd_Kd al G UF m) = 1 ∨ (cd_S1 al UF m ∧ G m = al)) = cd_b (cd_Kd al G UF (m + 1)) := cd_be (by
      constructor
      · rintro (z | z)
        · have : cd_Kd al G UF m := Classical.byContradiction fun w => by rw [cd_bf w] at z; omega
          obtain ⟨s, h1, h2⟩ := this
          exact ⟨s, by omega, h2⟩
        · exact ⟨m, by omega, z⟩
      · rintro ⟨s, h1, h2⟩
        by_cases e : s = m
        · subst e; exact Or.inr h2
        · exact Or.inl (cd_bt ⟨s, by omega, h2⟩))
    have fin : ∀ I' : Nat → Nat, (∀ s, s < 64 → I' s = cd_b (cd_Sm al UF (m + 1) s)) → wX_makeSchemas_92 post (wX_makeSchemas_60 post (nI n) (nI al) (nI mf) (nI mj) (nI fc) (nI jc) (nI dc) (nI fD) (nI kc) (nI vc) (nI sc) (nI fT) (nI rc) (nI qc) (k + 1)) (nI (cd_b (cd_Kd al G UF m))) (nI m) (nI n) (nI al) (nI mf) (nI mj) (nI fc) (nI jc) (nI dc) (nI fD) (nI kc) (nI vc) (nI sc) (nI fT) (nI rc) (nI qc) (nF aL) (nF aR) (nF aC) (nF aP) (nF aZ) (nF aD) (nF aK) (nF aV) (nF aW) (nF aS) (nF aU) (nF (I')) (nF aA) (nF aQ) (nF aO) (nF aF) := fun I' hI' => by
      refine cd_xS92 (P := cd_S1 al UF m) hal (by omega) (cd_ble _) ((hI' m (by omega)).trans (cd_be (cd_Sm_lt (by omega)))) hC (hG m (by omega)) ?_
      rw [kd]; exact ih (m + 1) (by omega) I' hI'
    have same : (cd_S0 al UF m → cd_S1 al UF m) → ∀ s, s < 64 → I s = cd_b (cd_Sm al UF (m + 1) s) := fun z s hs => by
      rw [hI s hs]
      by_cases e : s = m
      · subst e
        refine cd_be ?_
        rw [cd_Sm_ge (Nat.le_refl _), cd_Sm_lt (by omega)]
        exact ⟨z, fun w => w.1⟩
      · exact cd_be (cd_Sm_ne e).symm
    have em : I m = cd_b (cd_S0 al UF m) := (hI m (by omega)).trans (cd_be (cd_Sm_ge (Nat.le_refl _)))
    rw [wX_makeSchemas_60]
    dsimp only
    rw [cm, show nF I m = nI (cd_b (cd_S0 al UF m)) from congrArg nI em]
    refine br_f (nI_nlt (by omega) (by omega)) ⟨vp_in_nI (by omega) (by omega), cd_br (fun g => fin I (same fun w => absurd w g)) (fun g => cd_xBA (P := cd_Sm al UF m) hal (by omega) hI (cd_br (fun g' => fin I (same fun w => cd_S1_iff.mpr ⟨w, fun ⟨t, a, b, c, d⟩ => g' ⟨t, a, b, (cd_Sm_ge (by omega)).mpr c, d⟩⟩)) (fun g' => ⟨vp_in_nI (by omega) (by omega), ?_⟩)))⟩
    rw [cd_vn0]
    refine nm_r (cd_upd I m 0) (fin _ fun s hs => ?_)
    by_cases e : s = m
    · subst e
      rw [cd_us]
      refine (cd_bf fun w => ?_).symm
      obtain ⟨t, a, b, c, d⟩ := g'
      exact (cd_S1_iff.mp ((cd_Sm_lt (by omega)).mp w)).2 ⟨t, a, b, (cd_Sm_ge (by omega)).mp c, d⟩
    · rw [cd_un e, hI s hs]
      exact cd_be (cd_Sm_ne e).symm
theorem cd_xS23 {post : SX → Prop} (hN : cd_N n al) (hvc : vc ≤ 64) (hVW : ∀ i, i < vc → aV i ≤ al ∧ aW i ≤ al)
    (hK : ∀ I : Nat → Nat, (∀ s, s < 64 → I s = cd_b (∃ i, i < vc ∧ s = aV i ||| aW i)) → ∃ j, wX_makeSchemas_60 post (nI n) (nI al) (nI mf) (nI mj) (nI fc) (nI jc) (nI dc) (nI fD) (nI kc) (nI vc) (nI sc) (nI fT) (nI rc) (nI qc) j 0 0 (nF aL) (nF aR) (nF aC) (nF aP) (nF aZ) (nF aD) (nF aK) (nF aV) (nF aW) (nF aS) (nF aU) (nF (I)) (nF aA) (nF aQ) (nF aO) (nF aF)) :
    ∀ k i, i + k = vc → ∀ I : Nat → Nat, (∀ s, s < 64 → I s = cd_b (∃ j, j < i ∧ s = aV j ||| aW j)) → wX_makeSchemas_23 post (nI n) (nI al) (nI mf) (nI mj) (nI fc) (nI jc) (nI dc) (nI fD) (nI kc) (nI vc) (nI sc) (nI fT) (nI rc) (nI qc) (k + 1) (nI i) (nF aL) (nF aR) (nF aC) (nF aP) (nF aZ) (nF aD) (nF aK) (nF aV) (nF aW) (nF aS) (nF aU) (nF (I)) (nF aA) (nF aQ) (nF aO) (nF aF) := by
  have hal := (cd_N_al hN).1
  intro k
  induction k with
  | zero =>
    intro i h I hI
    have e : i = vc := by omega
    subst e
    rw [wX_makeSchemas_23]
    exact br_t (nI_le (Nat.le_refl _) (by omega)) (hK I hI)
  | succ k ih =>
    intro i h I hI
    have ci : (nI i).toNatClampNeg = i := nI_clamp (by omega)
    obtain ⟨v1, v2⟩ := hVW i (by omega)
    have vw := cd_N_or hN v1 v2
    have cv : (nI (aV i ||| aW i)).toNatClampNeg = aV i ||| aW i := nI_clamp (by omega)
    rw [wX_makeSchemas_23]
    dsimp only
    rw [ci, show nF aV i ||| nF aW i = nI (aV i ||| aW i) from cd_or _ _, cv, cd_vn1]
    refine br_f (nI_ge (by omega) (by omega)) ⟨vp_in_nI (by omega) (by omega), vp_in_nI (by omega) (by omega), vp_in_nI (by omega) (by omega), nm_r (cd_upd I _ 1) (nm_r (nI_1 i) (ih (i + 1) (by omega) _ fun s hs => ?_))⟩
    by_cases e : s = aV i ||| aW i
    · subst e; rw [cd_us]; exact (cd_bt ⟨i, by omega, rfl⟩).symm
    · rw [cd_un e, hI s hs]
      refine cd_be ⟨fun ⟨j, h1, h2⟩ => ⟨j, by omega, h2⟩, fun ⟨j, h1, h2⟩ => ⟨j, ?_, h2⟩⟩
      by_cases q : j = i
      · subst q; exact absurd h2 e
      · omega
theorem cd_xS2 {post : SX → Prop} (hK : ∀ I : Nat → Nat, (∀ m, m < 64 → I m = 0) → ∃ j, wX_makeSchemas_23 post (nI n) (nI al) (nI mf) (nI mj) (nI fc) (nI jc) (nI dc) (nI fD) (nI kc) (nI vc) (nI sc) (nI fT) (nI rc) (nI qc) j 0 (nF aL) (nF aR) (nF aC) (nF aP) (nF aZ) (nF aD) (nF aK) (nF aV) (nF aW) (nF aS) (nF aU) (nF (I)) (nF aA) (nF aQ) (nF aO) (nF aF)) :
    ∀ k i, i + k = 64 → ∀ I : Nat → Nat, (∀ m, m < i → I m = 0) → wX_makeSchemas_2 post (nI n) (nI al) (nI mf) (nI mj) (nI fc) (nI jc) (nI dc) (nI fD) (nI kc) (nI vc) (nI sc) (nI fT) (nI rc) (nI qc) (k + 1) (nI i) (nF aL) (nF aR) (nF aC) (nF aP) (nF aZ) (nF aD) (nF aK) (nF aV) (nF aW) (nF aS) (nF aU) (nF (I)) (nF aA) (nF aQ) (nF aO) (nF aF) := by
  intro k
  induction k with
  | zero =>
    intro i h U hU
    have e : i = 64 := by omega
    subst e
    rw [wX_makeSchemas_2]
    exact br_t (show (64 : Int32) ≤ nI 64 from by decide) (hK U hU)
  | succ k ih =>
    intro i h U hU
    have ci : (nI i).toNatClampNeg = i := nI_clamp (by omega)
    rw [wX_makeSchemas_2]
    dsimp only
    rw [ci, cd_vn0]
    refine br_f (nI_ge (b := 64) (by omega) (by decide)) ⟨vp_in_nI (by omega) (by omega), nm_r (cd_upd U i 0) (nm_r (nI_1 i) (ih (i + 1) (by omega) _ fun m hm => ?_))⟩
    by_cases e : m = i
    · subst e; exact cd_us
    · rw [cd_un e]; exact hU m (by omega)
theorem cd_xMS {post : SX → Prop} {UF : Nat → Nat} {x0 : Nat} (hN : cd_N n al) (W : cd_UW al UF) (hkc : 0 < kc ∧ kc ≤ 64) (hK0 : aK 0 = x0) (hx0 : x0 ≤ al) (hC : ∀ m, m ≤ al → aC m = G m) (hG : ∀ m, m ≤ al → G m ≤ al)
    (hvc : vc = cd_cn (fun x => UF x ≠ 0) (al + 1)) (hV : cd_En (fun x => UF x ≠ 0) id (al + 1) aV) (hW : cd_En (fun x => UF x ≠ 0) UF (al + 1) aW)
    (hp : ∀ S I : Nat → Nat, cd_En (cd_S2 al G UF x0) id (al + 1) S → post ((nI n), (nI al), (nI mf), (nI mj), (nI fc), (nI jc), (nI dc), (nI fD), (nI kc), (nI vc), (nI (cd_cn (cd_S2 al G UF x0) (al + 1))), (nI fT), (nI rc), (nI qc), (nF aL), (nF aR), (nF aC), (nF aP), (nF aZ), (nF aD), (nF aK), (nF aV), (nF aW), (nF (S)), (nF aU), (nF (I)), (nF aA), (nF aQ), (nF aO), (nF aF))) : wpX_makeSchemas post ((nI n), (nI al), (nI mf), (nI mj), (nI fc), (nI jc), (nI dc), (nI fD), (nI kc), (nI vc), (nI sc), (nI fT), (nI rc), (nI qc), (nF aL), (nF aR), (nF aC), (nF aP), (nF aZ), (nF aD), (nF aK), (nF aV), (nF aW), (nF aS), (nF aU), (nF aI), (nF aA), (nF aQ), (nF aO), (nF aF)) := by
  have hal := (cd_N_al hN).1
  have hv64 : vc ≤ 64 := by rw [hvc]; exact Nat.le_trans (cd_cn_le _ _) (by omega)
  refine Exists.intro 65 (cd_xS2 (fun I hI => ⟨vc + 1, cd_xS23 hN hv64 (fun i hi => ?_) (fun I' hI' => ⟨al + 1 + 1, ?_⟩) vc 0 (by omega) I (fun s hs => ?_)⟩) 64 0 rfl aI (fun m hm => absurd hm (by omega)))
  · obtain ⟨x, h1, h2, h3, h4⟩ := cd_En_eq hV hW (by omega : i < _)
    rw [h3, h4]; exact ⟨by show x ≤ al; omega, (W x).1⟩
  · have Q : ∀ s, s < 64 → I' s = cd_b (cd_Sm al UF 0 s) := fun s hs => by
      rw [hI' s hs]
      refine cd_be ?_
      rw [cd_Sm_ge (Nat.zero_le _)]
      constructor
      · rintro ⟨i, h1, h2⟩
        obtain ⟨x, g1, g2, g3, g4⟩ := cd_En_eq hV hW (by omega : i < _)
        exact ⟨x, by omega, g2, by rw [h2, g3, g4]; rfl⟩
      · rintro ⟨x, h1, h2, h3⟩
        have a := cd_cn_s (P := fun x => UF x ≠ 0) h2
        have b := cd_cn_up (P := fun x => UF x ≠ 0) (a := x + 1) (b := al + 1) (by omega)
        exact ⟨cd_cn (fun x => UF x ≠ 0) x, by omega, by rw [hV x (by omega) h2, hW x (by omega) h2]; exact h3⟩
    have := cd_xS60 (post := post) (UF := UF) (x0 := x0) (aS := aS) (sc := sc) hN W hkc hK0 hx0 hC hG hp (al + 1) 0 (by omega) I' Q
    rw [cd_bf (fun ⟨s, h, _⟩ => absurd h (by omega))] at this
    exact this
  · rw [hI s hs]; exact (cd_bf fun ⟨j, h, _⟩ => absurd h (by omega)).symm
/-! the design -/
theorem cd_xDes {post : Int32 → SX → Prop} {x0 : Nat} (hN : cd_N n al) (hfc : fc ≤ 8) (F : cd_FD al fc aL aR) (hC : ∀ m, m ≤ al → aC m = cd_cl al aL aR fc m) (hx0 : x0 ≤ al) (hkx : cd_Key (cd_cl al aL aR fc) al x0) (hk0 : cd_cn (cd_Key (cd_cl al aL aR fc) al) x0 = 0)
    (hp : ∀ K V X S U I : Nat → Nat, cd_En (cd_Key (cd_cl al aL aR fc) al) id (al + 1) K → cd_En (fun x => cd_UF n al aL aR fc x ≠ 0) id (al + 1) V → cd_En (fun x => cd_UF n al aL aR fc x ≠ 0) (cd_UF n al aL aR fc) (al + 1) X → cd_En (cd_S2 al (cd_cl al aL aR fc) (cd_UF n al aL aR fc) x0) id (al + 1) S →
      post (nI (cd_cn (cd_S2 al (cd_cl al aL aR fc) (cd_UF n al aL aR fc) x0) (al + 1))) ((nI n), (nI al), (nI mf), (nI mj), (nI fc), (nI jc), (nI dc), (nI (1)), (nI (cd_cn (cd_Key (cd_cl al aL aR fc) al) (al + 1))), (nI (cd_cn (fun x => cd_UF n al aL aR fc x ≠ 0) (al + 1))), (nI (cd_cn (cd_S2 al (cd_cl al aL aR fc) (cd_UF n al aL aR fc) x0) (al + 1))), (nI fT), (nI rc), (nI qc), (nF aL), (nF aR), (nF aC), (nF aP), (nF aZ), (nF aD), (nF (K)), (nF (V)), (nF (X)), (nF (S)), (nF (U)), (nF (I)), (nF aA), (nF aQ), (nF aO), (nF aF))) : wpX_design post ((nI n), (nI al), (nI mf), (nI mj), (nI fc), (nI jc), (nI dc), (nI fD), (nI kc), (nI vc), (nI sc), (nI fT), (nI rc), (nI qc), (nF aL), (nF aR), (nF aC), (nF aP), (nF aZ), (nF aD), (nF aK), (nF aV), (nF aW), (nF aS), (nF aU), (nF aI), (nF aA), (nF aQ), (nF aO), (nF aF)) := by
  have hal := (cd_N_al hN).1
  have FR : ∀ i, i < fc → aR i ≤ al := fun i hi => (F i hi).2
  have FL : ∀ i, i < fc → aL i ≤ al := fun i hi => (F i hi).1
  have M : cd_Mo al (cd_cl al aL aR fc) := fun x y hy s => cd_cl_mono hN FR hy s
  have hG : ∀ m, m ≤ al → cd_cl al aL aR fc m ≤ al := fun m hm => cd_cl_le hN FR hm
  unfold wpX_design
  refine cd_xMK hN hC M fun K hK => ?_
  refine cd_xSU hN hC hfc F fun U1 hU1 => ?_
  refine cd_xRR (V := cd_u2 (cd_cl al aL aR fc) aL aR n fc) hN hU1 (cd_u2_W hN FL fc (Nat.le_refl _)) fun U2 hU2 => ?_
  refine cd_xMV (UF := cd_UF n al aL aR fc) hN hU2 (cd_UF_W hN FL) fun V X hV hX => ?_
  refine cd_xMS (UF := cd_UF n al aL aR fc) (x0 := x0) hN (cd_UF_W hN FL) ⟨?_, Nat.le_trans (cd_cn_le _ _) (by omega)⟩ ?_ hx0 hC hG rfl hV hX fun S I hS => hp K V X S U2 I hK hV hX hS
  · have a := cd_cn_s hkx
    have b := cd_cn_up (P := cd_Key (cd_cl al aL aR fc) al) (a := x0 + 1) (b := al + 1) (by omega)
    omega
  · have := hK x0 (by omega) hkx
    rw [hk0] at this
    exact this
end
end
section
theorem cd_upS (y : Nat → Nat) (b c v : Nat) : (fun i => cd_up y (b + c) v (b + i)) = cd_up (fun i => y (b + i)) c v := by
  funext i
  by_cases e : i = c
  · subst e; rw [cd_us, cd_us]
  · rw [cd_un e, cd_un (by omega)]
theorem cd_En_fr {P : Nat → Prop} {f A B : Nat → Nat} {k : Nat} (hk : k ≤ 64) (h : ∀ i, i < 64 → B i = A i) (g : cd_En P f k A) : cd_En P f k B := fun x hx px => by
  have := cd_cn_le P x
  rw [h _ (by omega)]; exact g x hx px
theorem cd_UT_t {U T : Nat → Nat} {l a : Nat} (h : cd_UT U T) (ha : a < 8) : cd_UT (cd_up U l (U l ||| 2 ^ a)) (cd_up T (l * 8 + a) 1) := fun u hu => by
  by_cases e : u = l * 8 + a
  · subst e
    rw [cd_us, show (l * 8 + a) / 8 = l by omega, show (l * 8 + a) % 8 = a by omega, cd_us]
    exact (cd_bt (by rw [Nat.testBit_or, Nat.testBit_two_pow_self, Bool.or_true])).symm
  · rw [cd_un e, h u hu]
    by_cases q : u / 8 = l
    · rw [q, cd_us, Nat.testBit_or, Nat.testBit_two_pow, decide_eq_false (by omega), Bool.or_false]
    · rw [cd_un q]
theorem cd_UT_c {U T : Nat → Nat} {u : Nat} (h : cd_UT U T) : cd_UT (cd_up U (u / 8) (cd_df (U (u / 8)) (2 ^ (u % 8)))) (cd_up T u 0) := fun v hv => by
  by_cases e : v = u
  · subst e
    rw [cd_us, cd_us]
    refine (cd_bf fun z => ?_).symm
    have := cd_df_n z
    rw [Nat.testBit_two_pow_self] at this
    exact absurd this (by decide)
  · rw [cd_un e, h v hv]
    by_cases q : v / 8 = u / 8
    · rw [q, cd_us, cd_df_t, Nat.testBit_two_pow, decide_eq_false (by omega)]
      simp
    · rw [cd_un q]
section
variable {n al mf mj : Nat}
variable {yL yP yC yK yS yU : Nat → Nat} {ys : Nat → Int32}
variable {fc : Nat} {L R G UF : Nat → Nat}
theorem cd_yLL2 {post : Int32 → Prop} {x a : Nat} (hN : cd_N n al) (hC : ∀ m, m ≤ al → yC m = G m) (hx : x ≤ al) (ha : a < 6) :
    ∀ k m, m + k = x → post (nI (cd_sc (fun m => cd_Su m x ∧ (G m).testBit a = true) k m)) → wY_leastLeft_2 post (nI x) (nI a) (nI n) (nI al) (nI mf) (nI mj) (nF yL) ys (nF yP) (nF yC) (nF yK) (nF yS) (nF yU) (k + 1) (nI m) := by
  have hal := (cd_N_al hN).1
  have p6 : 2 ^ a < 2 ^ 6 := Nat.pow_lt_pow_right (by decide) ha
  intro k
  induction k with
  | zero =>
    intro m h hp
    have e : m = x := by omega
    subst e
    rw [wY_leastLeft_2]
    exact br_t (nI_le (Nat.le_refl _) (by omega)) hp
  | succ k ih =>
    intro m h hp
    have cm : (nI m).toNatClampNeg = m := nI_clamp (by omega)
    have N : ¬ (cd_Su m x ∧ (G m).testBit a = true) → wY_leastLeft_2 post (nI x) (nI a) (nI n) (nI al) (nI mf) (nI mj) (nF yL) ys (nF yP) (nF yC) (nF yK) (nF yS) (nF yU) (k + 1) (nI (m + 1)) := fun z => by
      rw [cd_sc_f (P := fun m => cd_Su m x ∧ (G m).testBit a = true) z] at hp
      exact ih (m + 1) (by omega) hp
    rw [wY_leastLeft_2]
    dsimp only
    rw [cm]
    exact br_f (nI_ge (by omega) (by omega)) (cd_yin m x (cd_br (fun e => nm_r (nI_1 m) (N fun w => e w.1)) (fun e => ⟨vp_in_nI (by omega) (by omega), cd_yin (2 ^ a) (G m) (cd_br (fun z => nm_r (nI_1 m) (N fun w => z (cd_Su_pow.mpr w.2))) (fun z => by rw [cd_sc_t (P := fun m => cd_Su m x ∧ (G m).testBit a = true) ⟨e, cd_Su_pow.mp z⟩] at hp; exact hp)) (cd_shl1 (by omega)) (congrArg nI (hC m (by omega))) (by omega)⟩)))
theorem cd_yLL {post : Int32 → Prop} {x a : Nat} (hN : cd_N n al) (hC : ∀ m, m ≤ al → yC m = G m) (hx : x ≤ al) (ha : a < 6) (hp : post (nI (cd_ll G x a))) : wpY_leastLeft post ((nI n), (nI al), (nI mf), (nI mj), (nF yL), ys, (nF yP), (nF yC), (nF yK), (nF yS), (nF yU)) (nI x) (nI a) :=
  Exists.intro (x + 1) (cd_yLL2 hN hC hx ha x 0 (by omega) hp)
/-! the last list -/
theorem cd_yD443 {post : Int32 → SY → Prop} {P : Nat → Prop} {y0 : Nat → Nat} {s0 : Nat → Int32} (hal : al < 64) (hS : ∀ s, s < 64 → yS s = cd_b (P s))
    (hp : ∀ y s, (∀ i, i < 256 ∨ 320 ≤ i → y i = y0 i) → (∀ j, j ≠ 4 → s j = s0 j) → s 4 = nI (cd_cn P (al + 1)) → cd_En P id (al + 1) (fun i => y (256 + i)) → post (nI (cd_cn P (al + 1))) ((nI n), (nI al), (nI mf), (nI mj), (nF (y)), (s), (nF yP), (nF yC), (nF yK), (nF yS), (nF yU))) :
    ∀ k x, x + k = al + 1 → ∀ y s, (∀ i, i < 256 ∨ 320 ≤ i → y i = y0 i) → (∀ j, j ≠ 4 → s j = s0 j) → s 4 = nI (cd_cn P x) → cd_En P id x (fun i => y (256 + i)) → wY_design_443 post (k + 1) (nI x) (nI n) (nI al) (nI mf) (nI mj) (nF (y)) (s) (nF yP) (nF yC) (nF yK) (nF yS) (nF yU) := by
  intro k
  induction k with
  | zero =>
    intro x h y s h1 h2 h3 h4
    have e : x = al + 1 := by omega
    subst e
    rw [wY_design_443]
    dsimp only
    rw [h3]
    exact br_t (nI_lt (by omega) (by omega)) (hp y s h1 h2 h3 h4)
  | succ k ih =>
    intro x h y s h1 h2 h3 h4
    have l := cd_cn_le P x
    have cx : (nI x).toNatClampNeg = x := nI_clamp (by omega)
    rw [wY_design_443]
    dsimp only
    rw [cx, show nF yS x = nI (cd_b (P x)) from congrArg nI (hS x (by omega))]
    refine br_f (nI_nlt (by omega) (by omega)) ⟨vp_in_nI (by omega) (by omega), cd_br (fun g => nm_r (nI_1 x) (ih (x + 1) (by omega) y s h1 h2 (by rw [cd_cn_ns g]; exact h3) (cd_En_f h4 g))) (fun g => cd_yAp 4 (cd_cn P x) x (by decide) (by omega) h3 (nm_r (nI_1 x) (ih (x + 1) (by omega) (cd_up y (4 * 64 + cd_cn P x) x) (upd s 4 (nI (cd_cn P x + 1))) (fun i hi => ?_) (fun j hj => ?_) ?_ ?_)))⟩
    · rw [cd_un (by omega)]; exact h1 i hi
    · rw [pk_un hj]; exact h2 j hj
    · rw [pk_us, cd_cn_s g]
    · rw [show 4 * 64 + cd_cn P x = 256 + cd_cn P x by omega, cd_upS]; exact cd_En_t h4 rfl
theorem cd_yD385 {post : Int32 → SY → Prop} {x0 : Nat} (hN : cd_N n al) (W : cd_UW al UF) (hC : ∀ m, m ≤ al → yC m = G m) (hG : ∀ m, m ≤ al → G m ≤ al) (hS : ∀ s, s < 64 → yS s = cd_b (cd_S1 al UF s)) (hk : yL 128 = x0) (hx0 : x0 ≤ al)
    (hK : ∀ S : Nat → Nat, (∀ s, s < 64 → S s = cd_b (cd_S2 al G UF x0 s)) → ∃ m, wY_design_443 post m 0 (nI n) (nI al) (nI mf) (nI mj) (nF yL) ys (nF yP) (nF yC) (nF yK) (nF (S)) (nF yU)) :
    ∀ k m, m + k = al + 1 → wY_design_385 post (nI n) (nI al) (nI mf) (nI mj) (nF yL) ys (nF yP) (nF yC) (nF yK) (nF yS) (nF yU) (k + 1) (nI (cd_b (cd_Kd al G UF m))) (nI m) := by
  have hal := (cd_N_al hN).1
  intro k
  induction k with
  | zero =>
    intro m h
    have e : m = al + 1 := by omega
    subst e
    have c0 : (nF yL 128).toNatClampNeg = x0 := (congrArg (fun z => (nI z).toNatClampNeg) hk).trans (nI_clamp (by omega))
    rw [wY_design_385]
    dsimp only
    rw [c0, cd_vn1]
    refine br_t (nI_lt (by omega) (by omega)) (cd_br (fun g => ⟨pk_in x0 64 (by omega) (congrArg nI hk), nm_r (cd_upd yS x0 1) (hK _ fun s hs => ?_)⟩) (fun g => hK _ fun s hs => ?_))
    · by_cases e : s = x0
      · subst e; rw [cd_us]; exact (cd_bt (Or.inr ⟨g, rfl⟩)).symm
      · rw [cd_un e, hS s hs]
        exact cd_be ⟨Or.inl, fun z => z.elim id fun w => absurd w.2 e⟩
    · rw [hS s hs]; exact cd_be ⟨Or.inl, fun z => z.elim id fun w => absurd g w.1⟩
  | succ k ih =>
    intro m h
    have cm : (nI m).toNatClampNeg = m := nI_clamp (by omega)
    have I := ih (m + 1) (by omega)
    have gm := hG m (by omega)
    have N : ¬ (cd_S1 al UF m ∧ G m = al) → wY_design_385 post (nI n) (nI al) (nI mf) (nI mj) (nF yL) ys (nF yP) (nF yC) (nF yK) (nF yS) (nF yU) (k + 1) (nI (cd_b (cd_Kd al G UF m))) (nI (m + 1)) := fun z => by
      rw [cd_be (P := cd_Kd al G UF m) (Q := cd_Kd al G UF (m + 1)) ⟨fun ⟨s, h1, h2⟩ => ⟨s, by omega, h2⟩, fun ⟨s, h1, h2⟩ => ⟨s, by
        by_cases e : s = m
        · subst e; exact absurd h2 z
        · omega, h2⟩⟩]
      exact I
    rw [wY_design_385]
    dsimp only
    rw [cm, show nF yS m = nI (cd_b (cd_S1 al UF m)) from congrArg nI (hS m (by omega)), show nF yC m = nI (G m) from congrArg nI (hC m (by omega))]
    refine br_f (nI_nlt (by omega) (by omega)) ⟨vp_in_nI (by omega) (by omega), cd_br (fun g => nm_r (nI_1 m) (N fun w => g w.1)) (fun g => ⟨vp_in_nI (by omega) (by omega), pk_eq (G m) al (fun e => nm_r (nI_1 m) ?_) (fun e => nm_r (nI_1 m) (N fun w => e w.2)) rfl rfl (by omega) (by omega)⟩)⟩
    rw [cd_bt (P := cd_Kd al G UF (m + 1)) ⟨m, by omega, g, e⟩] at I
    exact I
/-- a schema is struck out -/
def cd_Bl (al : Nat) (U : Nat → Nat) (s t : Nat) : Prop := ∃ t', t' < t ∧ s ≠ t' ∧ cd_Sm al U s t' ∧ cd_Su s t'
theorem cd_Bl_end {al s : Nat} {U : Nat → Nat} : (cd_S0 al U s ∧ ¬ cd_Bl al U s (al + 1)) ↔ cd_S1 al U s := by
  unfold cd_S1 cd_Bl
  constructor
  · rintro ⟨h1, h2⟩
    refine ⟨h1, fun ⟨t, a, b, c, d⟩ => h2 ⟨t, by omega, b, (cd_Sm_ge (cd_Su_le d)).mpr c, d⟩⟩
  · rintro ⟨h1, h2⟩
    exact ⟨h1, fun ⟨t, a, b, c, d⟩ => h2 ⟨t, by omega, b, (cd_Sm_ge (cd_Su_le d)).mp c, d⟩⟩
theorem cd_yD322 {post : Int32 → SY → Prop} {J : Int32 → (Nat → Int32) → (Nat → Int32) → (Nat → Int32) → (Nat → Int32) → (Nat → Int32) → (Nat → Int32) → (Nat → Int32) → Prop} {s : Nat} (hal : al < 64) (hs : s ≤ al)
    (hJ : ∀ S : Nat → Nat, (∀ t, t < 64 → S t = cd_b (cd_Sm al UF (s + 1) t)) → J (nI (s + 1)) (nF yL) ys (nF yP) (nF yC) (nF yK) (nF (S)) (nF yU)) :
    ∀ k t, t + k = al + 1 → ∀ S : Nat → Nat, S s = cd_b (cd_S0 al UF s ∧ ¬ cd_Bl al UF s t) → (∀ t', t' < 64 → t' ≠ s → S t' = cd_b (cd_Sm al UF s t')) → wY_design_322 post J (nI s) (nI n) (nI al) (nI mf) (nI mj) (k + 1) (nI t) (nF yL) ys (nF yP) (nF yC) (nF yK) (nF (S)) (nF yU) := by
  have cs : (nI s).toNatClampNeg = s := nI_clamp (by omega)
  intro k
  induction k with
  | zero =>
    intro t h S h1 h2
    have e : t = al + 1 := by omega
    subst e
    rw [wY_design_322]
    refine br_t (nI_lt (by omega) (by omega)) (nm_r (nI_1 s) (hJ S fun t' ht' => ?_))
    by_cases e : t' = s
    · subst e; rw [h1]; exact cd_be (cd_Bl_end.trans (cd_Sm_lt (by omega)).symm)
    · rw [h2 t' ht' e]; exact cd_be (cd_Sm_ne e).symm
  | succ k ih =>
    intro t h S h1 h2
    have ct : (nI t).toNatClampNeg = t := nI_clamp (by omega)
    have N : (cd_S0 al UF s → ¬ cd_Bl al UF s t → ¬ (s ≠ t ∧ cd_Sm al UF s t ∧ cd_Su s t)) → wY_design_322 post J (nI s) (nI n) (nI al) (nI mf) (nI mj) (k + 1) (nI (t + 1)) (nF yL) ys (nF yP) (nF yC) (nF yK) (nF (S)) (nF yU) := fun z => by
      refine ih (t + 1) (by omega) S (h1.trans (cd_be ⟨fun ⟨a, b⟩ => ⟨a, fun ⟨t', q1, q2⟩ => ?_⟩, fun ⟨a, b⟩ => ⟨a, fun ⟨t', q1, q2⟩ => b ⟨t', by omega, q2⟩⟩⟩)) h2
      by_cases e : t' = t
      · subst e; exact z a b q2
      · exact b ⟨t', by omega, q2⟩
    rw [wY_design_322]
    dsimp only
    rw [cs, ct]
    refine br_f (nI_nlt (by omega) (by omega)) (pk_eq s t (fun e => nm_r (nI_1 t) (N fun _ _ w => w.1 e)) (fun e => ?_) rfl rfl (by omega) (by omega))
    rw [show nF S s = nI (cd_b (cd_S0 al UF s ∧ ¬ cd_Bl al UF s t)) from congrArg nI h1, show nF S t = nI (cd_b (cd_Sm al UF s t)) from congrArg nI (h2 t (by omega) (Ne.symm e))]
    refine ⟨vp_in_nI (by omega) (by omega), cd_br (fun g => nm_r (nI_1 t) (N fun a b => absurd ⟨a, b⟩ g)) (fun g => ⟨vp_in_nI (by omega) (by omega), cd_br (fun g' => nm_r (nI_1 t) (N fun _ _ w => g' w.2.1)) (fun g' => cd_yin s t (cd_br (fun g2 => nm_r (nI_1 t) (N fun _ _ w => g2 w.2.2)) (fun g2 => ⟨vp_in_nI (by omega) (by omega), ?_⟩)))⟩)⟩
    rw [cd_vn0]
    refine nm_r (cd_upd S s 0) (nm_r (nI_1 t) (ih (t + 1) (by omega) _ ?_ fun t' ht' hne => ?_))
    · rw [cd_us]; exact (cd_bf fun w => w.2 ⟨t, by omega, e, g', g2⟩).symm
    · rw [cd_un hne]; exact h2 t' ht' hne
theorem cd_yD312 {post : Int32 → SY → Prop} (hN : cd_N n al) (W : cd_UW al UF) (hK : ∀ S : Nat → Nat, (∀ t, t < 64 → S t = cd_b (cd_S1 al UF t)) → ∃ m, wY_design_385 post (nI n) (nI al) (nI mf) (nI mj) (nF yL) ys (nF yP) (nF yC) (nF yK) (nF (S)) (nF yU) m 0 0) :
    ∀ k s, s + k = al + 1 → ∀ S : Nat → Nat, (∀ t, t < 64 → S t = cd_b (cd_Sm al UF s t)) → wY_design_312 post (nI n) (nI al) (nI mf) (nI mj) (k + 1) (nI s) (nF yL) ys (nF yP) (nF yC) (nF yK) (nF (S)) (nF yU) := by
  have hal := (cd_N_al hN).1
  intro k
  induction k with
  | zero =>
    intro s h S hS
    have e : s = al + 1 := by omega
    subst e
    rw [wY_design_312]
    refine br_t (nI_lt (by omega) (by omega)) (hK S fun t ht => (hS t ht).trans (cd_be ?_))
    rcases Nat.lt_or_ge t (al + 1) with q | q
    · exact cd_Sm_lt q
    · rw [cd_Sm_ge q]
      exact ⟨fun z => by have := cd_S0_le hN W z; omega, fun z => z.1⟩
  | succ k ih =>
    intro s h S hS
    rw [wY_design_312]
    exact br_f (nI_nlt (by omega) (by omega)) ⟨al + 1 + 1, cd_yD322 (UF := UF) hal (by omega) (fun S' hS' => ih (s + 1) (by omega) S' hS') (al + 1) 0 (by omega) S ((hS s (by omega)).trans (cd_be ((cd_Sm_ge (Nat.le_refl _)).trans ⟨fun z => ⟨z, fun ⟨t', q, _⟩ => absurd q (by omega)⟩, fun z => z.1⟩))) (fun t' ht' _ => hS t' ht')⟩
/-! covers, keys -/
def cd_DI (al : Nat) (G UF : Nat → Nat) (y0 : Nat → Nat) (s0 : Nat → Int32) (x x' : Nat) (y : Nat → Nat) (s : Nat → Int32) (S : Nat → Nat) : Prop :=
  (∀ i, i < 128 ∨ 256 ≤ i → y i = y0 i) ∧ (∀ j, j ≠ 2 → j ≠ 3 → s j = s0 j) ∧ s 2 = nI (cd_cn (cd_Key G al) x') ∧ s 3 = nI (cd_cn (fun x => UF x ≠ 0) x) ∧ cd_En (cd_Key G al) id x' (fun i => y (128 + i)) ∧ cd_En (fun x => UF x ≠ 0) (fun x => x * 64 + UF x) x (fun i => y (192 + i)) ∧ (∀ t, t < 64 → S t = cd_b (∃ z, z < x ∧ UF z ≠ 0 ∧ t = z ||| UF z))
theorem cd_yD288 {post : Int32 → SY → Prop} {J : Int32 → Int32 → Int32 → Int32 → Int32 → (Nat → Int32) → (Nat → Int32) → (Nat → Int32) → (Nat → Int32) → (Nat → Int32) → (Nat → Int32) → (Nat → Int32) → Prop} {x : Nat} {y0 : Nat → Nat} {s0 : Nat → Int32} (hal : al < 64) (hx : x ≤ al) (hKf : ∀ m, m ≤ al → yK m = cd_b (cd_Key G al m)) (hI : cd_DI al G UF y0 s0 (x + 1) x yL ys yS)
    (hJ : ∀ y s, cd_DI al G UF y0 s0 (x + 1) (x + 1) y s yS → J (nI (x + 1)) (nI n) (nI al) (nI mf) (nI mj) (nF (y)) (s) (nF yP) (nF yC) (nF yK) (nF yS) (nF yU)) : wY_design_288 post J (nI x) (nI n) (nI al) (nI mf) (nI mj) (nF yL) ys (nF yP) (nF yC) (nF yK) (nF yS) (nF yU) := by
  obtain ⟨h1, h2, h3, h4, h5, h6, h7⟩ := hI
  have cx : (nI x).toNatClampNeg = x := nI_clamp (by omega)
  have l := cd_cn_le (cd_Key G al) x
  unfold wY_design_288
  rw [cx, show nF yK x = nI (cd_b (cd_Key G al x)) from congrArg nI (hKf x hx)]
  refine ⟨vp_in_nI (by omega) (by omega), cd_br (fun g => nm_r (nI_1 x) (hJ yL ys ⟨h1, h2, by rw [cd_cn_ns g]; exact h3, h4, cd_En_f h5 g, h6, h7⟩)) (fun g => cd_yAp 2 (cd_cn (cd_Key G al) x) x (by decide) (by omega) h3 (nm_r (nI_1 x) (hJ _ _ ⟨fun i hi => ?_, fun j hj1 hj2 => ?_, ?_, ?_, ?_, cd_En_fr (by omega) (fun i hi => ?_) h6, h7⟩)))⟩
  · rw [cd_un (by omega)]; exact h1 i hi
  · rw [pk_un hj1]; exact h2 j hj1 hj2
  · rw [pk_us, cd_cn_s g]
  · rw [pk_un (by decide)]; exact h4
  · rw [show 2 * 64 + cd_cn (cd_Key G al) x = 128 + cd_cn (cd_Key G al) x by omega, cd_upS]; exact cd_En_t h5 rfl
  · exact cd_un (by omega)
theorem cd_yD275 {post : Int32 → SY → Prop} {J : Int32 → Int32 → Int32 → Int32 → Int32 → (Nat → Int32) → (Nat → Int32) → (Nat → Int32) → (Nat → Int32) → (Nat → Int32) → (Nat → Int32) → (Nat → Int32) → Prop} {x : Nat} {y0 : Nat → Nat} {s0 : Nat → Int32} (hN : cd_N n al) (W : cd_UW al UF) (hx : x ≤ al) (hKf : ∀ m, m ≤ al → yK m = cd_b (cd_Key G al m))
    (hI : ∀ S, (∀ t, t < 64 → S t = cd_b (∃ z, z < x + 1 ∧ UF z ≠ 0 ∧ t = z ||| UF z)) → cd_DI al G UF y0 s0 (x + 1) x yL ys S) (hS : ∀ t, t < 64 → yS t = cd_b (∃ z, z < x ∧ UF z ≠ 0 ∧ t = z ||| UF z))
    (hJ : ∀ y s S, cd_DI al G UF y0 s0 (x + 1) (x + 1) y s S → J (nI (x + 1)) (nI n) (nI al) (nI mf) (nI mj) (nF (y)) (s) (nF yP) (nF yC) (nF yK) (nF (S)) (nF yU)) : wY_design_275 post J (nI x) (nI (UF x)) (nI n) (nI al) (nI mf) (nI mj) (nF yL) ys (nF yP) (nF yC) (nF yK) (nF yS) (nF yU) := by
  have hal := (cd_N_al hN).1
  have ux := (W x).1
  have ol := cd_N_or hN hx ux
  unfold wY_design_275
  refine cd_brN (UF x) (by omega) (fun g => ?_) (fun g => ?_)
  · refine cd_yD288 hal hx hKf (hI yS fun t ht => ?_) (fun y s h => hJ y s yS h)
    rw [hS t ht]
    exact cd_be ⟨fun ⟨z, a, b⟩ => ⟨z, by omega, b⟩, fun ⟨z, a, b⟩ => ⟨z, by
      by_cases e : z = x
      · subst e; exact absurd g b.1
      · omega, b⟩⟩
  · rw [cd_or, nI_clamp (by omega), cd_vn1]
    refine ⟨vp_in_nI (by omega) (by omega), nm_r (cd_upd yS _ 1) (cd_yD288 hal hx hKf (hI _ fun t ht => ?_) (fun y s h => hJ y s _ h))⟩
    by_cases e : t = x ||| UF x
    · subst e; rw [cd_us]; exact (cd_bt ⟨x, by omega, g, rfl⟩).symm
    · rw [cd_un e, hS t ht]
      exact cd_be ⟨fun ⟨z, a, b⟩ => ⟨z, by omega, b⟩, fun ⟨z, a, b⟩ => ⟨z, by
        by_cases q : z = x
        · subst q; exact absurd b.2 e
        · omega, b⟩⟩
theorem cd_yD225 {post : Int32 → SY → Prop} {J : Int32 → Int32 → Int32 → Int32 → Int32 → (Nat → Int32) → (Nat → Int32) → (Nat → Int32) → (Nat → Int32) → (Nat → Int32) → (Nat → Int32) → (Nat → Int32) → Prop} {x : Nat} {y0 : Nat → Nat} {s0 : Nat → Int32} (hN : cd_N n al) (W : cd_UW al UF) (hx : x ≤ al) (hKf : ∀ m, m ≤ al → yK m = cd_b (cd_Key G al m)) (hU : cd_UT UF yU) (hI : cd_DI al G UF y0 s0 x x yL ys yS)
    (hJ : ∀ y s S, cd_DI al G UF y0 s0 (x + 1) (x + 1) y s S → J (nI (x + 1)) (nI n) (nI al) (nI mf) (nI mj) (nF (y)) (s) (nF yP) (nF yC) (nF yK) (nF (S)) (nF yU)) :
    ∀ k a, a + k = n → wY_design_225 post J (nI x) (nI n) (nI al) (nI mf) (nI mj) (nF yL) ys (nF yP) (nF yC) (nF yK) (nF yS) (nF yU) (k + 1) (nI (UF x % 2 ^ a)) (nI a) := by
  have hal := (cd_N_al hN).1
  have hn := hN.2.1
  have ux := (W x).1
  obtain ⟨h1, h2, h3, h4, h5, h6, h7⟩ := hI
  intro k
  induction k with
  | zero =>
    intro a h
    have e : a = n := by omega
    subst e
    have ue : UF x % 2 ^ a = UF x := Nat.mod_eq_of_lt ((cd_N_le hN).mp ux)
    have l := cd_cn_le (fun x => UF x ≠ 0) x
    rw [wY_design_225, ue]
    refine br_t (nI_le (Nat.le_refl _) (by omega)) (cd_brN (UF x) (by omega) (fun g => ?_) (fun g => cd_yAp 3 (cd_cn (fun x => UF x ≠ 0) x) (x * 64 + UF x) (by decide) (by omega) h4 ?_ rfl ?_))
    · refine cd_yD275 hN W hx hKf (fun S hS => ⟨h1, h2, h3, ?_, h5, cd_En_f h6 (fun w => w g), hS⟩) h7 hJ
      rw [cd_cn_ns (P := fun x => UF x ≠ 0) (fun w => w g)]; exact h4
    · refine cd_yD275 hN W hx hKf (fun S hS => ⟨fun i hi => ?_, fun j hj1 hj2 => ?_, ?_, ?_, cd_En_fr (by omega) (fun i hi => ?_) h5, ?_, hS⟩) h7 hJ
      · rw [cd_un (by omega)]; exact h1 i hi
      · rw [pk_un hj2]; exact h2 j hj1 hj2
      · rw [pk_un (by decide)]; exact h3
      · rw [pk_us, cd_cn_s (P := fun x => UF x ≠ 0) g]
      · exact cd_un (by omega)
      · rw [show 3 * 64 + cd_cn (fun x => UF x ≠ 0) x = 192 + cd_cn (fun x => UF x ≠ 0) x by omega, cd_upS]; exact cd_En_t h6 rfl
    · rw [show nI x * 64 = nI (x * 64) from pk_mul x 64, nI_add]
  | succ k ih =>
    intro a h
    have I := ih (a + 1) (by omega)
    have ix : nI x * 8 + nI a = nI (x * 8 + a) := by rw [show nI x * 8 = nI (x * 8) from pk_mul x 8, nI_add]
    have ci : (nI (x * 8 + a)).toNatClampNeg = x * 8 + a := nI_clamp (by omega)
    have eU : yU (x * 8 + a) = cd_b ((UF x).testBit a = true) := by
      have := hU (x * 8 + a) (by omega)
      rw [show (x * 8 + a) / 8 = x by omega, show (x * 8 + a) % 8 = a by omega] at this
      exact this
    rw [wY_design_225]
    dsimp only
    rw [ix, ci, show nF yU (x * 8 + a) = nI (cd_b ((UF x).testBit a = true)) from congrArg nI eU]
    refine br_f (nI_ge (by omega) (by omega)) ⟨vp_in_nI (by omega) (by omega), cd_br (fun g => nm_r (nI_1 a) ?_) (fun g => nm_r (e' := nI (UF x % 2 ^ (a + 1))) ?_ (nm_r (nI_1 a) I))⟩
    · have : UF x % 2 ^ (a + 1) = UF x % 2 ^ a := by
        apply Nat.eq_of_testBit_eq
        intro j
        rw [Nat.testBit_mod_two_pow, Nat.testBit_mod_two_pow]
        by_cases e : j = a
        · subst e
          have : (UF x).testBit j = false := by
            cases z : (UF x).testBit j
            · rfl
            · exact absurd z g
          rw [this]; simp
        · rw [show decide (j < a + 1) = decide (j < a) from decide_eq_decide.mpr (by omega)]
      rw [this] at I; exact I
    · rw [cd_shl1 (by omega), cd_or]
      refine congrArg nI ?_
      apply Nat.eq_of_testBit_eq
      intro j
      rw [Nat.testBit_or, Nat.testBit_mod_two_pow, Nat.testBit_mod_two_pow, Nat.testBit_two_pow]
      by_cases e : j = a
      · subst e; rw [g]; simp
      · rw [show decide (j < a + 1) = decide (j < a) from decide_eq_decide.mpr (by omega), decide_eq_false (Ne.symm e), Bool.or_false]
theorem cd_yD213 {post : Int32 → SY → Prop} {y0 : Nat → Nat} {s0 : Nat → Int32} (hN : cd_N n al) (W : cd_UW al UF) (hKf : ∀ m, m ≤ al → yK m = cd_b (cd_Key G al m)) (hU : cd_UT UF yU)
    (hK : ∀ y s S, cd_DI al G UF y0 s0 (al + 1) (al + 1) y s S → ∃ m, wY_design_312 post (nI n) (nI al) (nI mf) (nI mj) m 0 (nF (y)) (s) (nF yP) (nF yC) (nF yK) (nF (S)) (nF yU)) :
    ∀ k x, x + k = al + 1 → ∀ y s S, cd_DI al G UF y0 s0 x x y s S → wY_design_213 post (k + 1) (nI x) (nI n) (nI al) (nI mf) (nI mj) (nF (y)) (s) (nF yP) (nF yC) (nF yK) (nF (S)) (nF yU) := by
  have hal := (cd_N_al hN).1
  intro k
  induction k with
  | zero =>
    intro x h y s S hI
    have e : x = al + 1 := by omega
    subst e
    rw [wY_design_213]
    exact br_t (nI_lt (by omega) (by omega)) (hK y s S hI)
  | succ k ih =>
    intro x h y s S hI
    rw [wY_design_213]
    refine br_f (nI_nlt (by omega) (by omega)) ⟨n + 1, ?_⟩
    have := cd_yD225 (post := post) (J := wY_design_213 post (k + 1)) (mf := mf) (mj := mj) (yP := yP) (yC := yC) (yL := y) (ys := s) (yS := S) hN W (by omega : x ≤ al) hKf hU hI (fun y' s' S' h => ih (x + 1) (by omega) y' s' S' h) n 0 (by omega)
    rw [Nat.pow_zero, Nat.mod_one] at this
    exact this
theorem cd_yD193 {post : Int32 → SY → Prop} (hK : ∃ m, wY_design_213 post m 0 (nI n) (nI al) (nI mf) (nI mj) (nF yL) (upd (upd (upd ys 2 0) 3 0) 4 0) (nF yP) (nF yC) (nF yK) (nF yS) (nF yU)) : ∃ m, wY_design_193 post (nI n) (nI al) (nI mf) (nI mj) m 2 (nF yL) ys (nF yP) (nF yC) (nF yK) (nF yS) (nF yU) := by
  refine ⟨4, ?_⟩
  rw [wY_design_193]
  refine br_f (by decide) ⟨pk_in 2 7 (by decide), nm_e (nm_r (e' := nI 3) (by decide) ?_)⟩
  rw [wY_design_193]
  refine br_f (by decide) ⟨pk_in 3 7 (by decide), nm_e (nm_r (e' := nI 4) (by decide) ?_)⟩
  rw [wY_design_193]
  refine br_f (by decide) ⟨pk_in 4 7 (by decide), nm_e (nm_r (e' := nI 5) (by decide) ?_)⟩
  rw [wY_design_193]
  exact br_t (by decide) hK
/-! the removal -/
theorem cd_shb {r a : Nat} (hr : r < 2 ^ 31) (ha : a < 8) : (nI r >>> (nI a &&& 31)) &&& 1 = 0 ↔ ¬ r.testBit a = true := by
  rw [pk_shrN hr _ a (s_l a (by omega)), pk_andN (Nat.lt_of_le_of_lt (Nat.div_le_self _ _) (by omega)) 1 (by decide), Nat.testBit_eq_decide_div_mod_eq, decide_eq_true_iff, show (0 : Int32) = nI 0 from rfl, nI_eq (by omega) (by decide)]
  omega
theorem cd_yD134 {post : Int32 → SY → Prop} (hN : cd_N n al) (hK : ∀ T : Nat → Nat, cd_UT UF T → ∃ m, wY_design_193 post (nI n) (nI al) (nI mf) (nI mj) m 2 (nF yL) ys (nF yP) (nF yC) (nF yK) (nF yS) (nF (T))) :
    ∀ k, k ≤ 512 → ∀ T V : Nat → Nat, cd_UT V T → cd_UW al V → cd_rD al k V = UF → wY_design_134 post (nI n) (nI al) (nI mf) (nI mj) (k + 1) (nI k + (-1)) (nF yL) ys (nF yP) (nF yC) (nF yK) (nF yS) (nF (T)) := by
  have hal := (cd_N_al hN).1
  intro k
  induction k with
  | zero =>
    intro hk T V h1 h2 h3
    rw [wY_design_134]
    have h3 : V = UF := h3
    subst h3
    exact br_t (show nI 0 + (-1) < 0 from by decide) (hK T h1)
  | succ k ih =>
    intro hk T V h1 h2 h3
    have h3' : cd_rD al k (cd_rs al V k) = UF := h3
    have ck : (nI k).toNatClampNeg = k := nI_clamp (by omega)
    have ek := h1 k (by omega)
    have T1 : ∀ u, u < 512 → cd_up T k 0 u ≤ 1 := fun u hu => by
      by_cases e : u = k
      · subst e; rw [cd_us]; omega
      · rw [cd_un e, h1 u hu]; exact cd_ble _
    have back : cd_UT V (cd_up (cd_up T k 0) k (cd_b ((V (k / 8)).testBit (k % 8) = true))) := fun u hu => by
      by_cases e : u = k
      · subst e; rw [cd_us]
      · rw [cd_un e, cd_un e]; exact h1 u hu
    rw [pk_m1, wY_design_134]
    dsimp only
    rw [ck, cd_vn0, cd_vn1, cd_u8 (by omega), cd_m8 (by omega)]
    refine br_f (nI_pos (by omega)) ⟨vp_in_nI (by omega) (by omega), nm_r (congrArg nI ek) ⟨vp_in_nI (by omega) (by omega), nm_r (cd_upd T k 0) (cd_br (fun g => ⟨vp_in_nI (by omega) (by omega), nm_r (cd_upd _ k 0) (nm_e (ih (by omega) _ V ?_ h2 ?_))⟩) (fun g => ?_))⟩⟩
    · rw [cd_bf g] at back; exact back
    · rw [cd_rs_n g] at h3'; exact h3'
    · have hm : k / 8 ≤ al := Nat.le_of_not_lt fun w => by rw [(h2 _).2 w, Nat.zero_testBit] at g; exact absurd g (by decide)
      have w1 : cd_UW al (cd_up V (k / 8) (cd_df (V (k / 8)) (2 ^ (k % 8)))) := cd_up_W h2 (cd_df_le _ _)
      have u1 := cd_UT_c (u := k) h1
      have hl : cd_sc (fun z => cd_Su (k / 8) z ∧ cd_UC (cd_up T k 0) z) (al - k / 8) (k / 8) = cd_lu al (cd_up V (k / 8) (cd_df (V (k / 8)) (2 ^ (k % 8)))) (k / 8) :=
        cd_sc_congr _ _ fun y _ _ => and_congr Iff.rfl (cd_UC_iff hN w1 u1)
      have ll : cd_lu al (cd_up V (k / 8) (cd_df (V (k / 8)) (2 ^ (k % 8)))) (k / 8) ≤ al := cd_cl_le hN (fun i _ => (w1 i).1) hm
      refine cd_yL1 hal hm T1 ?_
      rw [hl]
      have sb := cd_shb (r := cd_lu al (cd_up V (k / 8) (cd_df (V (k / 8)) (2 ^ (k % 8)))) (k / 8)) (a := k % 8) (by omega) (by omega)
      refine br_c (fun z => ⟨vp_in_nI (by omega) (by omega), nm_r (cd_upd _ k 1) (nm_e (ih (by omega) _ V ?_ h2 ?_))⟩) (fun z => ⟨vp_in_nI (by omega) (by omega), nm_r (cd_upd _ k 0) (nm_e (ih (by omega) _ _ ?_ w1 ?_))⟩)
      · rw [cd_bt g] at back; exact back
      · rw [cd_rs_f g (sb.mp z)] at h3'; exact h3'
      · intro u hu
        have := u1 u hu
        by_cases e : u = k
        · subst e; rw [cd_us] at this ⊢; exact this
        · rw [cd_un e]; exact this
      · rw [cd_rs_t g (Classical.byContradiction fun w => z (sb.mpr w))] at h3'; exact h3'
/-! the starting units -/
theorem cd_yD54 {post : Int32 → SY → Prop} {J : Int32 → (Nat → Int32) → (Nat → Int32) → (Nat → Int32) → (Nat → Int32) → (Nat → Int32) → (Nat → Int32) → (Nat → Int32) → Prop} {f : Nat} {U0 : Nat → Nat} (hN : cd_N n al) (hC : ∀ m, m ≤ al → yC m = G m) (hfc : fc ≤ 8) (hf : f < fc) (F : cd_YF al fc L R yL)
    (hJ : ∀ T : Nat → Nat, cd_UT (cd_u1 G L R f U0 n) T → J (nI (f + 1)) (nF yL) ys (nF yP) (nF yC) (nF yK) (nF yS) (nF (T))) :
    ∀ k a, a + k = n → ∀ T : Nat → Nat, cd_UT (cd_u1 G L R f U0 a) T → wY_design_54 post J (nI f) (nI n) (nI al) (nI mf) (nI mj) (k + 1) (nI a) (nF yL) ys (nF yP) (nF yC) (nF yK) (nF yS) (nF (T)) := by
  have hal := (cd_N_al hN).1
  have hn := hN.2.1
  obtain ⟨_, fl, fr⟩ := F f hf
  intro k
  induction k with
  | zero =>
    intro a h T hT
    have e : a = n := by omega
    subst e
    rw [wY_design_54]
    exact br_t (nI_le (Nat.le_refl _) (by omega)) (nm_r (nI_1 f) (hJ T hT))
  | succ k ih =>
    intro a h T hT
    have cf : (nI f).toNatClampNeg = f := nI_clamp (by omega)
    have l := cd_ll_le (G := G) (x := L f) (a := a)
    have p6 : 2 ^ a < 2 ^ 6 := Nat.pow_lt_pow_right (by decide) (by omega)
    have ix : nI (cd_ll G (L f) a) * 8 + nI a = nI (cd_ll G (L f) a * 8 + a) := by rw [show nI (cd_ll G (L f) a) * 8 = nI (cd_ll G (L f) a * 8) from pk_mul _ 8, nI_add]
    have ci : (nI (cd_ll G (L f) a * 8 + a)).toNatClampNeg = cd_ll G (L f) a * 8 + a := nI_clamp (by omega)
    rw [wY_design_54]
    dsimp only
    rw [cf, cd_YF_l hal F hf, cd_YF_r hal F hf, cd_dfI]
    refine br_f (nI_ge (by omega) (by omega)) ⟨vp_in_nI (by omega) (by omega), vp_in_nI (by omega) (by omega), cd_yin (2 ^ a) (cd_df (R f) (L f)) (cd_br (fun g => nm_r (nI_1 a) (ih (a + 1) (by omega) T ?_)) (fun g => ⟨vp_in_nI (by omega) (by omega), cd_yLL hN hC fl (by omega) ?_⟩)) (cd_shl1 (by omega)) rfl (by omega)⟩
    · rw [cd_u1_f (fun w => g (cd_Su_pow.mpr w))]; exact hT
    · rw [ix, ci, cd_vn1]
      refine ⟨vp_in_nI (by omega) (by omega), nm_r (cd_upd T _ 1) (nm_r (nI_1 a) (ih (a + 1) (by omega) _ ?_))⟩
      rw [cd_u1_t (cd_Su_pow.mp g)]
      exact cd_UT_t hT (by omega)
theorem cd_yD42 {post : Int32 → SY → Prop} (hN : cd_N n al) (hC : ∀ m, m ≤ al → yC m = G m) (hfc : fc ≤ 8) (h0 : ys 0 = nI fc) (F : cd_YF al fc L R yL)
    (hK : ∀ T : Nat → Nat, cd_UT (cd_u2 G L R n fc) T → ∃ m, wY_design_134 post (nI n) (nI al) (nI mf) (nI mj) m 511 (nF yL) ys (nF yP) (nF yC) (nF yK) (nF yS) (nF (T))) :
    ∀ k f, f + k = fc → ∀ T : Nat → Nat, cd_UT (cd_u2 G L R n f) T → wY_design_42 post (nI n) (nI al) (nI mf) (nI mj) (k + 1) (nI f) (nF yL) ys (nF yP) (nF yC) (nF yK) (nF yS) (nF (T)) := by
  intro k
  induction k with
  | zero =>
    intro f h T hT
    have e : f = fc := by omega
    subst e
    rw [wY_design_42]
    dsimp only
    rw [h0]
    exact br_t (nI_le (Nat.le_refl _) (by omega)) (hK T hT)
  | succ k ih =>
    intro f h T hT
    rw [wY_design_42]
    dsimp only
    rw [h0]
    exact br_f (nI_ge (by omega) (by omega)) ⟨n + 1, cd_yD54 (U0 := cd_u2 G L R n f) hN hC hfc (by omega) F (fun T' hT' => ih (f + 1) (by omega) T' hT') n 0 (by omega) T hT⟩
theorem cd_yD10 {post : Int32 → SY → Prop} (hK : ∀ T S : Nat → Nat, (∀ u, u < 512 → T u = 0) → (∀ s, s < 64 → S s = 0) → ∃ m, wY_design_42 post (nI n) (nI al) (nI mf) (nI mj) m 0 (nF yL) ys (nF yP) (nF yC) (nF yK) (nF (S)) (nF (T))) :
    ∀ k i, i + k = 512 → ∀ T S : Nat → Nat, (∀ u, u < i → T u = 0) → (∀ s, s < 64 → s < i → S s = 0) → wY_design_10 post (nI n) (nI al) (nI mf) (nI mj) (k + 1) (nI i) (nF yL) ys (nF yP) (nF yC) (nF yK) (nF (S)) (nF (T)) := by
  intro k
  induction k with
  | zero =>
    intro i h T S h1 h2
    have e : i = 512 := by omega
    subst e
    rw [wY_design_10]
    exact br_t (show (512 : Int32) ≤ nI 512 from by decide) (hK T S h1 fun s hs => h2 s hs (by omega))
  | succ k ih =>
    intro i h T S h1 h2
    have ci : (nI i).toNatClampNeg = i := nI_clamp (by omega)
    have e63 : nI i &&& 63 = nI (i % 64) := pk_andN (by omega) 6 (by decide)
    have cm : (nI (i % 64)).toNatClampNeg = i % 64 := nI_clamp (by omega)
    rw [wY_design_10]
    dsimp only
    rw [ci, e63, cm, cd_vn0]
    refine br_f (nI_ge (b := 512) (by omega) (by decide)) ⟨vp_in_nI (by omega) (by omega), nm_r (cd_upd T i 0) ⟨vp_in_nI (by omega) (by omega), nm_r (cd_upd S _ 0) (nm_r (nI_1 i) (ih (i + 1) (by omega) _ _ (fun u hu => ?_) (fun s hs1 hs2 => ?_)))⟩⟩
    · by_cases e : u = i
      · subst e; exact cd_us
      · rw [cd_un e]; exact h1 u (by omega)
    · by_cases e : s = i % 64
      · subst e; exact cd_us
      · rw [cd_un e]; exact h2 s hs1 (by omega)
theorem cd_yDes {post : Int32 → SY → Prop} {x0 : Nat} (hN : cd_N n al) (hfc : fc ≤ 8) (h0 : ys 0 = nI fc) (F : cd_YF al fc L R yL) (hx0 : x0 ≤ al) (hkx : cd_Key (cd_cl al L R fc) al x0) (hk0 : cd_cn (cd_Key (cd_cl al L R fc) al) x0 = 0)
    (hp : ∀ (y : Nat → Nat) (s : Nat → Int32) (C K S T : Nat → Nat), (∀ i, i < 128 ∨ 320 ≤ i → y i = yL i) → (∀ j, j ≠ 2 → j ≠ 3 → j ≠ 4 → s j = ys j) → s 2 = nI (cd_cn (cd_Key (cd_cl al L R fc) al) (al + 1)) → s 3 = nI (cd_cn (fun x => cd_UF n al L R fc x ≠ 0) (al + 1)) → s 4 = nI (cd_cn (cd_S2 al (cd_cl al L R fc) (cd_UF n al L R fc) x0) (al + 1)) →
      cd_En (cd_Key (cd_cl al L R fc) al) id (al + 1) (fun i => y (128 + i)) → cd_En (fun x => cd_UF n al L R fc x ≠ 0) (fun x => x * 64 + cd_UF n al L R fc x) (al + 1) (fun i => y (192 + i)) → cd_En (cd_S2 al (cd_cl al L R fc) (cd_UF n al L R fc) x0) id (al + 1) (fun i => y (256 + i)) →
      post (nI (cd_cn (cd_S2 al (cd_cl al L R fc) (cd_UF n al L R fc) x0) (al + 1))) ((nI n), (nI al), (nI mf), (nI mj), (nF (y)), (s), (nF yP), (nF (C)), (nF (K)), (nF (S)), (nF (T)))) : wpY_design post ((nI n), (nI al), (nI mf), (nI mj), (nF yL), ys, (nF yP), (nF yC), (nF yK), (nF yS), (nF yU)) := by
  have hal := (cd_N_al hN).1
  have FR : ∀ i, i < fc → R i ≤ al := fun i hi => (F i hi).2.2
  have FL : ∀ i, i < fc → L i ≤ al := fun i hi => (F i hi).2.1
  have hG : ∀ m, m ≤ al → cd_cl al L R fc m ≤ al := fun m hm => cd_cl_le hN FR hm
  have W := cd_UF_W (R := R) hN FL
  unfold wpY_design
  refine cd_yMK hal hfc h0 F (Nat.le_refl _) fun C K hC hKf => ⟨513, ?_⟩
  refine cd_yD10 (fun T S hT hS => ⟨fc + 1, ?_⟩) 512 0 rfl yU yS (fun u hu => absurd hu (by omega)) (fun s _ hs => absurd hs (by omega))
  refine cd_yD42 (G := cd_cl al L R fc) (L := L) (R := R) hN hC hfc h0 F (fun T1 hT1 => ⟨513, ?_⟩) fc 0 (by omega) T (fun u hu => by rw [hT u hu]; exact (cd_bf (by show ¬ Nat.testBit 0 _ = true; rw [Nat.zero_testBit]; decide)).symm)
  refine cd_yD134 (UF := cd_UF n al L R fc) hN (fun T2 hT2 => cd_yD193 ⟨al + 1 + 1, ?_⟩) 512 (Nat.le_refl _) T1 _ hT1 (cd_u2_W hN FL fc (Nat.le_refl _)) rfl
  refine cd_yD213 (G := cd_cl al L R fc) (UF := cd_UF n al L R fc) (y0 := yL) (s0 := upd (upd (upd ys 2 0) 3 0) 4 0) hN W hKf hT2 (fun y s S2 hI => ⟨al + 1 + 1, ?_⟩) (al + 1) 0 (by omega) yL _ S ⟨fun _ _ => rfl, fun _ _ _ => rfl, ?_, ?_, fun x hx => absurd hx (by omega), fun x hx => absurd hx (by omega), fun t ht => ?_⟩
  · obtain ⟨i1, i2, i3, i4, i5, i6, i7⟩ := hI
    refine cd_yD312 (UF := cd_UF n al L R fc) hN W (fun S3 hS3 => ⟨al + 1 + 1, ?_⟩) (al + 1) 0 (by omega) S2 (fun t ht => ?_)
    · have k0 : y 128 = x0 := by
        have := i5 x0 (by omega) hkx
        rw [hk0] at this; exact this
      have := cd_yD385 (post := post) (x0 := x0) (mf := mf) (mj := mj) (yL := y) (ys := s) (yP := yP) (yC := C) (yK := K) (yS := S3) (yU := T2) (G := cd_cl al L R fc) (UF := cd_UF n al L R fc) hN W hC hG hS3 k0 hx0 (fun S4 hS4 => ⟨al + 1 + 1, cd_yD443 (P := cd_S2 al (cd_cl al L R fc) (cd_UF n al L R fc) x0) (y0 := y) (s0 := s) hal hS4 (fun y' s' g1 g2 g3 g4 => hp y' s' C K S4 T2 (fun i hi => ?_) (fun j j2 j3 j4 => ?_) ?_ ?_ g3 (cd_En_fr (by omega) (fun i hi => ?_) i5) (cd_En_fr (by omega) (fun i hi => ?_) i6) g4) (al + 1) 0 (by omega) y s (fun _ _ => rfl) (fun _ _ => rfl) ?_ (fun x hx => absurd hx (by omega))⟩) (al + 1) 0 (by omega)
      · rw [cd_bf (fun ⟨s, h, _⟩ => absurd h (by omega))] at this
        exact this
      · rw [g1 i (by omega)]; exact i1 i (by omega)
      · rw [g2 j j4, i2 j j2 j3, pk_un j4, pk_un j3, pk_un j2]
      · rw [g2 2 (by decide)]; exact i3
      · rw [g2 3 (by decide)]; exact i4
      · exact g1 _ (by omega)
      · exact g1 _ (by omega)
      · rw [i2 4 (by decide) (by decide), pk_us]; rfl
    · rw [i7 t ht]
      refine cd_be ?_
      rw [cd_Sm_ge (Nat.zero_le _)]
      exact ⟨fun ⟨z, a, b⟩ => ⟨z, by omega, b⟩, fun ⟨z, a, b⟩ => ⟨z, by omega, b⟩⟩
  · rw [pk_un (by decide), pk_un (by decide), pk_us]; rfl
  · rw [pk_un (by decide), pk_us]; rfl
  · rw [hS t ht]; exact (cd_bf fun ⟨z, h, _⟩ => absurd h (by omega)).symm
end
end
section
def cd_RA (n al mf mj : Nat) : Prop := cd_N n al ∧ mf ≤ 8 ∧ mj ≤ 3
def cd_RF (al mf fc : Nat) (aL aR aC yL : Nat → Nat) (ys : Nat → Int32) : Prop := fc ≤ mf ∧ cd_FD al fc aL aR ∧ (∀ m, m ≤ al → aC m = cd_cl al aL aR fc m) ∧ ys 0 = nI fc ∧ (∀ i, i < fc → yL i = aL i * 64 + aR i)
def cd_RJ (n al mj jc : Nat) (aP aZ yL : Nat → Nat) (ys : Nat → Int32) : Prop := jc ≤ mj ∧ cd_JD n al jc aZ aP ∧ ys 5 = nI jc ∧ (∀ d, d < jc → yL (320 + d) = aZ d)
def cd_RD (al dc : Nat) (aD yL : Nat → Nat) (ys : Nat → Int32) : Prop := dc ≤ 20 ∧ ys 1 = nI dc ∧ (∀ i, i < dc → yL (64 + i) = aD i ∧ aD i ≤ al)
def cd_RG (al fD kc vc sc : Nat) (aK aV aW aS yL : Nat → Nat) (ys : Nat → Int32) : Prop :=
  (fD = 0 ∧ ys 2 = -7 ∧ ys 3 = -7 ∧ ys 4 = -7) ∨ (fD = 1 ∧ kc ≤ 64 ∧ vc ≤ 64 ∧ sc ≤ 64 ∧ ys 2 = nI kc ∧ ys 3 = nI vc ∧ ys 4 = nI sc ∧ (∀ i, i < kc → yL (128 + i) = aK i) ∧ (∀ i, i < vc → yL (192 + i) = aV i * 64 + aW i) ∧ (∀ i, i < sc → yL (256 + i) = aS i ∧ aS i ≤ al))
def cd_RT (fT rc : Nat) (aA yL : Nat → Nat) (ys : Nat → Int32) : Prop := (fT = 0 ∧ ys 6 = -7) ∨ (fT = 1 ∧ rc ≤ 64 ∧ ys 6 = nI rc ∧ (∀ i, i < rc → yL (384 + i) = aA i ∧ aA i < 2 ^ 30))
def cd_RO (aO aF : Nat → Nat) : Prop := ∀ m, m < 64 → aO m = cd_on m ∧ aF m = cd_fi m
/-- the relation: all of the component is naturals; the reference's list holds the same -/
def i_Rel (k : Nat) (u : SX) (v : SY) : Prop := ∃ (n al mf mj fc jc dc fD kc vc sc fT rc qc : Nat) (aL aR aC aP aZ aD aK aV aW aS aU aI aA aQ aO aF yL : Nat → Nat) (ys : Nat → Int32) (yC yK yS yU : Nat → Nat), u = ((nI n), (nI al), (nI mf), (nI mj), (nI fc), (nI jc), (nI dc), (nI fD), (nI kc), (nI vc), (nI sc), (nI fT), (nI rc), (nI qc), (nF aL), (nF aR), (nF aC), (nF aP), (nF aZ), (nF aD), (nF aK), (nF aV), (nF aW), (nF aS), (nF aU), (nF aI), (nF aA), (nF aQ), (nF aO), (nF aF)) ∧ v = ((nI n), (nI al), (nI mf), (nI mj), (nF yL), ys, (nF (aP)), (nF yC), (nF yK), (nF yS), (nF yU)) ∧ cd_RA n al mf mj ∧ cd_RF al mf fc aL aR aC yL ys ∧ cd_RJ n al mj jc aP aZ yL ys ∧ cd_RD al dc aD yL ys ∧ cd_RG al fD kc vc sc aK aV aW aS yL ys ∧ cd_RT fT rc aA yL ys ∧ cd_RO aO aF
theorem i_up {k : Nat} {u : SX} {v : SY} (h : i_Rel k u v) : i_Rel (k + 3) u v := h
section
variable {n al mf mj fc jc dc fD kc vc sc fT rc qc : Nat} {aL aR aC aP aZ aD aK aV aW aS aU aI aA aQ aO aF : Nat → Nat}
variable {yL yC yK yS yU : Nat → Nat} {ys : Nat → Int32}
theorem cd_mk {k : Nat} (h1 : cd_RA n al mf mj) (h2 : cd_RF al mf fc aL aR aC yL ys) (h3 : cd_RJ n al mj jc aP aZ yL ys) (h4 : cd_RD al dc aD yL ys) (h5 : cd_RG al fD kc vc sc aK aV aW aS yL ys) (h6 : cd_RT fT rc aA yL ys) (h7 : cd_RO aO aF) : i_Rel k ((nI n), (nI al), (nI mf), (nI mj), (nI fc), (nI jc), (nI dc), (nI fD), (nI kc), (nI vc), (nI sc), (nI fT), (nI rc), (nI qc), (nF aL), (nF aR), (nF aC), (nF aP), (nF aZ), (nF aD), (nF aK), (nF aV), (nF aW), (nF aS), (nF aU), (nF aI), (nF aA), (nF aQ), (nF aO), (nF aF)) ((nI n), (nI al), (nI mf), (nI mj), (nF yL), ys, (nF (aP)), (nF yC), (nF yK), (nF yS), (nF yU)) :=
  ⟨n, al, mf, mj, fc, jc, dc, fD, kc, vc, sc, fT, rc, qc, aL, aR, aC, aP, aZ, aD, aK, aV, aW, aS, aU, aI, aA, aQ, aO, aF, yL, ys, yC, yK, yS, yU, rfl, rfl, h1, h2, h3, h4, h5, h6, h7⟩
end
theorem cd_el {P : SX → SY → Prop} {k : Nat} {u : SX} {v : SY} (I : i_Rel k u v) (h : ∀ (n al mf mj fc jc dc fD kc vc sc fT rc qc : Nat) (aL aR aC aP aZ aD aK aV aW aS aU aI aA aQ aO aF yL : Nat → Nat) (ys : Nat → Int32) (yC yK yS yU : Nat → Nat), cd_RA n al mf mj → cd_RF al mf fc aL aR aC yL ys → cd_RJ n al mj jc aP aZ yL ys → cd_RD al dc aD yL ys → cd_RG al fD kc vc sc aK aV aW aS yL ys → cd_RT fT rc aA yL ys → cd_RO aO aF → P ((nI n), (nI al), (nI mf), (nI mj), (nI fc), (nI jc), (nI dc), (nI fD), (nI kc), (nI vc), (nI sc), (nI fT), (nI rc), (nI qc), (nF aL), (nF aR), (nF aC), (nF aP), (nF aZ), (nF aD), (nF aK), (nF aV), (nF aW), (nF aS), (nF aU), (nF aI), (nF aA), (nF aQ), (nF aO), (nF aF)) ((nI n), (nI al), (nI mf), (nI mj), (nF yL), ys, (nF (aP)), (nF yC), (nF yK), (nF yS), (nF yU))) : P u v :=
  Exists.elim I fun n I => Exists.elim I fun al I => Exists.elim I fun mf I => Exists.elim I fun mj I => Exists.elim I fun fc I => Exists.elim I fun jc I => Exists.elim I fun dc I => Exists.elim I fun fD I => Exists.elim I fun kc I => Exists.elim I fun vc I => Exists.elim I fun sc I => Exists.elim I fun fT I => Exists.elim I fun rc I => Exists.elim I fun qc I => Exists.elim I fun aL I => Exists.elim I fun aR I => Exists.elim I fun aC I => Exists.elim I fun aP I => Exists.elim I fun aZ I => Exists.elim I fun aD I => Exists.elim I fun aK I => Exists.elim I fun aV I => Exists.elim I fun aW I => Exists.elim I fun aS I => Exists.elim I fun aU I => Exists.elim I fun aI I => Exists.elim I fun aA I => Exists.elim I fun aQ I => Exists.elim I fun aO I => Exists.elim I fun aF I => Exists.elim I fun yL I => Exists.elim I fun ys I => Exists.elim I fun yC I => Exists.elim I fun yK I => Exists.elim I fun yS I => Exists.elim I fun yU I => by
    rw [I.1, I.2.1]
    exact h n al mf mj fc jc dc fD kc vc sc fT rc qc aL aR aC aP aZ aD aK aV aW aS aU aI aA aQ aO aF yL ys yC yK yS yU I.2.2.1 I.2.2.2.1 I.2.2.2.2.1 I.2.2.2.2.2.1 I.2.2.2.2.2.2.1 I.2.2.2.2.2.2.2.1 I.2.2.2.2.2.2.2.2
theorem i_vc_attributes {k : Nat} {u : SX} {v : SY} (I : i_Rel k u v) (hk : k + 3 ≤ 1539) : wpX_attributes (fun r => wpY_attributes (fun r' => r' = r ∧ i_Rel (k + 3) u v) v) u := by
  refine cd_el (P := fun u v => wpX_attributes (fun r => wpY_attributes (fun r' => r' = r ∧ i_Rel (k + 3) u v) v) u) I ?_
  intro n al mf mj fc jc dc fD kc vc sc fT rc qc aL aR aC aP aZ aD aK aV aW aS aU aI aA aQ aO aF yL ys yC yK yS yU h1 h2 h3 h4 h5 h6 h7
  exact ⟨rfl, cd_mk h1 h2 h3 h4 h5 h6 h7⟩
end
section
theorem cd_RF_fr {al mf fc : Nat} {aL aR aC yL yL' : Nat → Nat} {ys ys' : Nat → Int32} (hf : mf ≤ 8) (a : ∀ i, i < 8 → yL' i = yL i) (b : ys' 0 = ys 0) (h : cd_RF al mf fc aL aR aC yL ys) : cd_RF al mf fc aL aR aC yL' ys' := by
  obtain ⟨h1, h2, h3, h4, h5⟩ := h
  exact ⟨h1, h2, h3, b.trans h4, fun i hi => (a i (by omega)).trans (h5 i hi)⟩
theorem cd_RJ_fr {n al mj jc : Nat} {aP aZ yL yL' : Nat → Nat} {ys ys' : Nat → Int32} (hj : mj ≤ 3) (a : ∀ i, i < 3 → yL' (320 + i) = yL (320 + i)) (b : ys' 5 = ys 5) (h : cd_RJ n al mj jc aP aZ yL ys) : cd_RJ n al mj jc aP aZ yL' ys' := by
  obtain ⟨h1, h2, h3, h4⟩ := h
  exact ⟨h1, h2, b.trans h3, fun i hi => (a i (by omega)).trans (h4 i hi)⟩
theorem cd_RD_fr {al dc : Nat} {aD yL yL' : Nat → Nat} {ys ys' : Nat → Int32} (a : ∀ i, i < 20 → yL' (64 + i) = yL (64 + i)) (b : ys' 1 = ys 1) (h : cd_RD al dc aD yL ys) : cd_RD al dc aD yL' ys' := by
  obtain ⟨h1, h2, h3⟩ := h
  exact ⟨h1, b.trans h2, fun i hi => ⟨(a i (by omega)).trans (h3 i hi).1, (h3 i hi).2⟩⟩
theorem cd_RG_fr {al fD kc vc sc : Nat} {aK aV aW aS yL yL' : Nat → Nat} {ys ys' : Nat → Int32} (a : ∀ i, i < 192 → yL' (128 + i) = yL (128 + i)) (b2 : ys' 2 = ys 2) (b3 : ys' 3 = ys 3) (b4 : ys' 4 = ys 4) (h : cd_RG al fD kc vc sc aK aV aW aS yL ys) : cd_RG al fD kc vc sc aK aV aW aS yL' ys' := by
  rcases h with ⟨h1, h2, h3, h4⟩ | ⟨h0, h1, h2, h3, h4, h5, h6, h7, h8, h9⟩
  · exact Or.inl ⟨h1, b2.trans h2, b3.trans h3, b4.trans h4⟩
  · refine Or.inr ⟨h0, h1, h2, h3, b2.trans h4, b3.trans h5, b4.trans h6, fun i hi => (a i (by omega)).trans (h7 i hi), fun i hi => ?_, fun i hi => ⟨?_, (h9 i hi).2⟩⟩
    · have := a (64 + i) (by omega)
      rw [show 128 + (64 + i) = 192 + i by omega] at this
      exact this.trans (h8 i hi)
    · have := a (128 + i) (by omega)
      rw [show 128 + (128 + i) = 256 + i by omega] at this
      exact this.trans (h9 i hi).1
theorem cd_RT_fr {fT rc : Nat} {aA yL yL' : Nat → Nat} {ys ys' : Nat → Int32} (a : ∀ i, i < 64 → yL' (384 + i) = yL (384 + i)) (b : ys' 6 = ys 6) (h : cd_RT fT rc aA yL ys) : cd_RT fT rc aA yL' ys' := by
  rcases h with ⟨h1, h2⟩ | ⟨h0, h1, h2, h3⟩
  · exact Or.inl ⟨h1, b.trans h2⟩
  · exact Or.inr ⟨h0, h1, b.trans h2, fun i hi => ⟨(a i (by omega)).trans (h3 i hi).1, (h3 i hi).2⟩⟩
theorem cd_RF_Y {al mf fc : Nat} {aL aR aC yL : Nat → Nat} {ys : Nat → Int32} (h : cd_RF al mf fc aL aR aC yL ys) : cd_YF al fc aL aR yL := fun i hi => ⟨h.2.2.2.2 i hi, (h.2.1 i hi).1, (h.2.1 i hi).2⟩
def cd_ds (s : Nat → Int32) : Nat → Int32 := upd (upd (upd (upd s 2 (-7)) 3 (-7)) 4 (-7)) 6 (-7)
theorem cd_ds2 (s : Nat → Int32) : cd_ds s 2 = -7 := rfl
theorem cd_ds3 (s : Nat → Int32) : cd_ds s 3 = -7 := rfl
theorem cd_ds4 (s : Nat → Int32) : cd_ds s 4 = -7 := rfl
theorem cd_ds6 (s : Nat → Int32) : cd_ds s 6 = -7 := rfl
theorem cd_ds0 (s : Nat → Int32) : cd_ds s 0 = s 0 := rfl
theorem cd_ds1 (s : Nat → Int32) : cd_ds s 1 = s 1 := rfl
theorem cd_ds5 (s : Nat → Int32) : cd_ds s 5 = s 5 := rfl
section
variable {n al mf mj : Nat}
variable {yL yP yC yK yS yU : Nat → Nat} {ys : Nat → Int32}
theorem cd_yDi {post : SY → Prop} (hp : post ((nI n), (nI al), (nI mf), (nI mj), (nF yL), (cd_ds ys), (nF yP), (nF yC), (nF yK), (nF yS), (nF yU))) : wpY_discard post ((nI n), (nI al), (nI mf), (nI mj), (nF yL), ys, (nF yP), (nF yC), (nF yK), (nF yS), (nF yU)) := by
  refine Exists.intro 6 ?_
  show wY_discard_2 post (nI n) (nI al) (nI mf) (nI mj) 6 2 (nF yL) ys (nF yP) (nF yC) (nF yK) (nF yS) (nF yU)
  rw [wY_discard_2]
  refine br_f (by decide) (br_f (by decide) ⟨pk_in 2 7 (by decide), nm_e (nm_r (e' := nI 3) (by decide) ?_)⟩)
  rw [wY_discard_2]
  refine br_f (by decide) (br_f (by decide) ⟨pk_in 3 7 (by decide), nm_e (nm_r (e' := nI 4) (by decide) ?_)⟩)
  rw [wY_discard_2]
  refine br_f (by decide) (br_f (by decide) ⟨pk_in 4 7 (by decide), nm_e (nm_r (e' := nI 5) (by decide) ?_)⟩)
  rw [wY_discard_2]
  refine br_f (by decide) (br_t (by decide) (nm_r (e' := nI 6) (by decide) ?_))
  rw [wY_discard_2]
  refine br_f (by decide) (br_f (by decide) ⟨pk_in 6 7 (by decide), nm_e (nm_r (e' := nI 7) (by decide) ?_)⟩)
  rw [wY_discard_2]
  exact br_t (by decide) hp
theorem cd_yIM {post : Int32 → Prop} {p : Int32} (hal : al < 64) (hp : post (nI (cd_b (cd_IM al p)))) : wpY_isMask post ((nI n), (nI al), (nI mf), (nI mj), (nF yL), ys, (nF yP), (nF yC), (nF yK), (nF yS), (nF yU)) p := by
  by_cases h : p < 0
  · exact br_t h (cd_p0 (cd_IM_n (a := al) h (by omega)) hp)
  · refine br_f h ?_
    obtain ⟨j, hj, rfl⟩ := nI_of h
    exact pk_lt al j (fun q => cd_p0 (cd_IM_g q hj) hp) (fun q => cd_p1 (P := cd_IM al (nI j)) ⟨j, q, rfl⟩ hp)
/-! an entry is taken out -/
def cd_del (A : Nat → Nat) (j i : Nat) : Nat := if i < j then A i else A (i + 1)
theorem cd_del_lt {A : Nat → Nat} {j i : Nat} (h : i < j) : cd_del A j i = A i := if_pos h
theorem cd_del_ge {A : Nat → Nat} {j i : Nat} (h : ¬ i < j) : cd_del A j i = A (i + 1) := if_neg h
theorem cd_yRm12 {post : Int32 → SY → Prop} {κ c j : Nat} {y0 : Nat → Nat} (hκ : κ < 7) (hc : c < 64) (hs : ys κ = nI c)
    (hp : ∀ y : Nat → Nat, (∀ i, i < κ * 64 ∨ κ * 64 + 64 ≤ i → y i = y0 i) → (∀ i, i < c → y (κ * 64 + i) = cd_del (fun i => y0 (κ * 64 + i)) j i) → post (nI c) ((nI n), (nI al), (nI mf), (nI mj), (nF (y)), ys, (nF yP), (nF yC), (nF yK), (nF yS), (nF yU))) :
    ∀ k i, i + k = c → j ≤ i → ∀ y : Nat → Nat, (∀ i, i < κ * 64 ∨ κ * 64 + 64 ≤ i → y i = y0 i) → (∀ i', i' < i → y (κ * 64 + i') = cd_del (fun i => y0 (κ * 64 + i)) j i') → (∀ i', i ≤ i' → i' < 64 → y (κ * 64 + i') = y0 (κ * 64 + i')) → wY_remove_12 post (nI κ) (nI n) (nI al) (nI mf) (nI mj) (k + 1) (nI i) (nF (y)) ys (nF yP) (nF yC) (nF yK) (nF yS) (nF yU) := by
  have ck : (nI κ).toNatClampNeg = κ := nI_clamp (by omega)
  intro k
  induction k with
  | zero =>
    intro i h hj y h1 h2 h3
    have e : i = c := by omega
    subst e
    rw [wY_remove_12]
    dsimp only
    rw [ck, hs]
    exact ⟨vp_in_nI (by omega) (by omega), br_t (nI_le (Nat.le_refl _) (by omega)) ⟨vp_in_nI (by omega) (by omega), hp y h1 h2⟩⟩
  | succ k ih =>
    intro i h hj y h1 h2 h3
    have ix : nI κ * 64 + nI i = nI (κ * 64 + i) := by rw [show nI κ * 64 = nI (κ * 64) from pk_mul κ 64, nI_add]
    have c1 : (nI (κ * 64 + i)).toNatClampNeg = κ * 64 + i := nI_clamp (by omega)
    have c2 : (nI (κ * 64 + i + 1)).toNatClampNeg = κ * 64 + i + 1 := nI_clamp (by omega)
    rw [wY_remove_12]
    dsimp only
    rw [ck, hs, ix, nI_1 (κ * 64 + i), c1, c2]
    refine ⟨vp_in_nI (by omega) (by omega), br_f (nI_ge (by omega) (by omega)) ⟨vp_in_nI (by omega) (by omega), vp_in_nI (by omega) (by omega), nm_r (cd_upd y (κ * 64 + i) (y (κ * 64 + i + 1))) (nm_r (nI_1 i) (ih (i + 1) (by omega) (by omega) _ (fun i' hi' => ?_) (fun i' hi' => ?_) (fun i' h4 h5 => ?_)))⟩⟩
    · rw [cd_un (by omega)]; exact h1 i' hi'
    · by_cases e : i' = i
      · subst e; rw [cd_us, cd_del_ge (by omega)]; exact h3 (i' + 1) (by omega) (by omega)
      · rw [cd_un (by omega)]; exact h2 i' (by omega)
    · rw [cd_un (by omega)]; exact h3 i' (by omega) h5
theorem cd_yRm {post : Int32 → SY → Prop} {x1 : Int32} (κ c j : Nat) (hκ : κ < 7) (hc : c < 64) (hj : j ≤ c) (hs : ys κ = nI (c + 1))
    (hp : ∀ y s, (∀ i, i < κ * 64 ∨ κ * 64 + 64 ≤ i → y i = yL i) → (∀ i, i < c → y (κ * 64 + i) = cd_del (fun i => yL (κ * 64 + i)) j i) → (∀ i, i ≠ κ → s i = ys i) → s κ = nI c → post (nI c) ((nI n), (nI al), (nI mf), (nI mj), (nF (y)), (s), (nF yP), (nF yC), (nF yK), (nF yS), (nF yU))) (e1 : x1 = nI κ := by rfl) : wpY_remove post ((nI n), (nI al), (nI mf), (nI mj), (nF yL), ys, (nF yP), (nF yC), (nF yK), (nF yS), (nF yU)) x1 (nI j) := by
  subst e1
  have ck : (nI κ).toNatClampNeg = κ := nI_clamp (by omega)
  unfold wpY_remove
  dsimp only
  rw [ck, hs, nI_pred]
  exact ⟨vp_in_nI (by omega) (by omega), vp_in_nI (by omega) (by omega), nm_e ⟨c - j + 1, cd_yRm12 (y0 := yL) hκ hc pk_us (fun y h1 h2 => hp y _ h1 h2 (fun i hi => pk_un hi) pk_us) (c - j) j (by omega) (Nat.le_refl _) yL (fun _ _ => rfl) (fun i' hi' => (cd_del_lt (A := fun i => yL (κ * 64 + i)) hi').symm) (fun _ _ _ => rfl)⟩⟩
end
section
variable {n al mf mj fc jc dc fD kc vc sc fT rc qc : Nat} {aL aR aC aP aZ aD aK aV aW aS aU aI aA aQ aO aF : Nat → Nat}
theorem cd_xFC {post : SX → Prop} (hN : cd_N n al) (hfc : fc ≤ 8) (F : cd_FD al fc aL aR) (hp : ∀ C : Nat → Nat, (∀ m, m ≤ al → C m = cd_cl al aL aR fc m) → post ((nI n), (nI al), (nI mf), (nI mj), (nI fc), (nI jc), (nI dc), (nI (0)), (nI (0)), (nI (0)), (nI (0)), (nI (0)), (nI (0)), (nI qc), (nF aL), (nF aR), (nF (C)), (nF aP), (nF aZ), (nF aD), (nF aK), (nF aV), (nF aW), (nF aS), (nF aU), (nF aI), (nF aA), (nF aQ), (nF aO), (nF aF))) : wpX_fdsChanged post ((nI n), (nI al), (nI mf), (nI mj), (nI fc), (nI jc), (nI dc), (nI fD), (nI kc), (nI vc), (nI sc), (nI fT), (nI rc), (nI qc), (nF aL), (nF aR), (nF aC), (nF aP), (nF aZ), (nF aD), (nF aK), (nF aV), (nF aW), (nF aS), (nF aU), (nF aI), (nF aA), (nF aQ), (nF aO), (nF aF)) := by
  unfold wpX_fdsChanged
  exact cd_xRC hN hfc F fun C hC => hp C hC
theorem cd_xDF16 {post : Int32 → SX → Prop} {j c : Nat} (hN : cd_N n al) (hc : c < 8) (hj : j ≤ c) (hfc : fc = c + 1) (F : cd_FD al fc aL aR)
    (hp : ∀ L R C : Nat → Nat, (∀ i, i < c → L i = cd_del aL j i ∧ R i = cd_del aR j i) → (∀ m, m ≤ al → C m = cd_cl al L R c m) → post (nI c) ((nI n), (nI al), (nI mf), (nI mj), (nI (c)), (nI jc), (nI dc), (nI (0)), (nI (0)), (nI (0)), (nI (0)), (nI (0)), (nI (0)), (nI qc), (nF (L)), (nF (R)), (nF (C)), (nF aP), (nF aZ), (nF aD), (nF aK), (nF aV), (nF aW), (nF aS), (nF aU), (nF aI), (nF aA), (nF aQ), (nF aO), (nF aF))) :
    ∀ k i, i + k = c → j ≤ i → ∀ L R : Nat → Nat, (∀ i', i' < i → L i' = cd_del aL j i' ∧ R i' = cd_del aR j i') → (∀ i', i ≤ i' → L i' = aL i' ∧ R i' = aR i') → wX_dropFd_16 post (nI n) (nI al) (nI mf) (nI mj) (nI fc) (nI jc) (nI dc) (nI fD) (nI kc) (nI vc) (nI sc) (nI fT) (nI rc) (nI qc) (k + 1) (nI i) (nF (L)) (nF (R)) (nF aC) (nF aP) (nF aZ) (nF aD) (nF aK) (nF aV) (nF aW) (nF aS) (nF aU) (nF aI) (nF aA) (nF aQ) (nF aO) (nF aF) := by
  subst hfc
  intro k
  induction k with
  | zero =>
    intro i h hj' L R h1 h2
    have e : i = c := by omega
    subst e
    rw [wX_dropFd_16]
    dsimp only
    rw [nI_pred]
    refine br_t (nI_le (Nat.le_refl _) (by omega)) (nm_e (cd_xFC hN (by omega) (fun i' hi' => ?_) fun C hC => hp L R C h1 hC))
    rw [(h1 i' hi').1, (h1 i' hi').2]
    by_cases q : i' < j
    · rw [cd_del_lt q, cd_del_lt q]; exact F i' (by omega)
    · rw [cd_del_ge q, cd_del_ge q]; exact F (i' + 1) (by omega)
  | succ k ih =>
    intro i h hj' L R h1 h2
    have c1 : (nI i).toNatClampNeg = i := nI_clamp (by omega)
    have c2 : (nI (i + 1)).toNatClampNeg = i + 1 := nI_clamp (by omega)
    rw [wX_dropFd_16]
    dsimp only
    rw [nI_pred, nI_1 i, c1, c2]
    refine br_f (nI_ge (by omega) (by omega)) ⟨vp_in_nI (by omega) (by omega), vp_in_nI (by omega) (by omega), nm_r (cd_upd L i (L (i + 1))) ⟨vp_in_nI (by omega) (by omega), vp_in_nI (by omega) (by omega), nm_r (cd_upd R i (R (i + 1))) (nm_e (ih (i + 1) (by omega) (by omega) _ _ (fun i' hi' => ?_) (fun i' hi' => ?_)))⟩⟩
    · by_cases e : i' = i
      · subst e; rw [cd_us, cd_us, cd_del_ge (by omega), cd_del_ge (by omega)]; exact h2 (i' + 1) (by omega)
      · rw [cd_un e, cd_un e]; exact h1 i' (by omega)
    · rw [cd_un (by omega), cd_un (by omega)]; exact h2 i' (by omega)
end
theorem i_vc_addFd {k : Nat} {u : SX} {v : SY} (I : i_Rel k u v) (hk : k + 3 ≤ 1539) (v1 : Int32) (v2 : Int32) : wpX_addFd (fun r u' => wpY_addFd (fun r' v' => r' = r ∧ i_Rel (k + 3) u' v') v v1 v2) u v1 v2 := by
  refine cd_el (P := fun u v => wpX_addFd (fun r u' => wpY_addFd (fun r' v' => r' = r ∧ i_Rel (k + 3) u' v') v v1 v2) u v1 v2) I ?_
  intro n al mf mj fc jc dc fD kc vc sc fT rc qc aL aR aC aP aZ aD aK aV aW aS aU aI aA aQ aO aF yL ys yC yK yS yU h1 h2 h3 h4 h5 h6 h7
  have hN := h1.1
  have hal := (cd_N_al hN).1
  have bad : ¬ (cd_IM al v1 ∧ cd_IP al v2) → wpY_addFd (fun r' v' => r' = -1 ∧ i_Rel (k + 3) ((nI n), (nI al), (nI mf), (nI mj), (nI fc), (nI jc), (nI dc), (nI fD), (nI kc), (nI vc), (nI sc), (nI fT), (nI rc), (nI qc), (nF aL), (nF aR), (nF aC), (nF aP), (nF aZ), (nF aD), (nF aK), (nF aV), (nF aW), (nF aS), (nF aU), (nF aI), (nF aA), (nF aQ), (nF aO), (nF aF)) v') ((nI n), (nI al), (nI mf), (nI mj), (nF yL), ys, (nF (aP)), (nF yC), (nF yK), (nF yS), (nF yU)) v1 v2 := fun z => by
    unfold wpY_addFd
    refine cd_yIM hal (cd_br (fun _ => ⟨rfl, cd_mk h1 h2 h3 h4 h5 h6 h7⟩) (fun g => cd_yIM hal (cd_br (fun _ => ⟨rfl, cd_mk h1 h2 h3 h4 h5 h6 h7⟩) (fun g' => br_t (Classical.byContradiction fun w => z ⟨g, (cd_IP_iff (by omega)).mpr ⟨g', w⟩⟩) ⟨rfl, cd_mk h1 h2 h3 h4 h5 h6 h7⟩))))
  unfold wpX_addFd
  refine cd_xIM hal (cd_br (fun g => bad fun z => g z.1) (fun g1 => cd_xIP hal (cd_br (fun g => bad fun z => g z.2) (fun g2 => ?_))))
  have g2' := (cd_IP_iff (by omega)).mp g2
  obtain ⟨l, hl, rfl⟩ := g1
  obtain ⟨r, hr0, hr, rfl⟩ := g2
  obtain ⟨f1, f2, f3, f4, f5⟩ := h2
  have hmf := h1.2.1
  have cf : (nI fc).toNatClampNeg = fc := nI_clamp (by omega)
  have H2 : cd_RF al mf fc aL aR aC yL ys := ⟨f1, f2, f3, f4, f5⟩
  refine pk_lt fc mf (fun hlt => ⟨vp_in_nI (by omega) (by omega), ?_⟩) (fun hge => ?_)
  · rw [cf]
    have FD' : cd_FD al (fc + 1) (cd_up aL fc l) (cd_up aR fc r) := fun i hi => by
      by_cases e : i = fc
      · subst e; rw [cd_us, cd_us]; exact ⟨hl, hr⟩
      · rw [cd_un e, cd_un e]; exact f2 i (by omega)
    refine nm_r (cd_upd aL fc l) ⟨vp_in_nI (by omega) (by omega), nm_r (cd_upd aR fc r) (nm_r (nI_1 fc) (cd_xFC hN (by omega) FD' fun C hC => ?_))⟩
    dsimp only
    rw [nI_pred]
    unfold wpY_addFd
    refine cd_yIM hal (cd_br (fun g => absurd ⟨l, hl, rfl⟩ g) (fun _ => cd_yIM hal (cd_br (fun g => absurd ⟨r, hr, rfl⟩ g) (fun _ => br_f g2'.2 ?_))))
    dsimp only
    rw [f4]
    refine br_t (nI_lt hlt (by omega)) (cd_yDi (cd_yAp 0 fc (l * 64 + r) (by decide) (by omega) ((cd_ds0 ys).trans f4) ⟨rfl, ?_⟩ rfl (by rw [show nI l * 64 = nI (l * 64) from pk_mul l 64, nI_add])))
    refine cd_mk h1 ⟨by omega, FD', hC, rfl, fun i hi => ?_⟩ (cd_RJ_fr h1.2.2 (fun i hi => cd_un (by omega)) rfl h3) (cd_RD_fr (fun i hi => cd_un (by omega)) rfl h4) (Or.inl ⟨rfl, rfl, rfl, rfl⟩) (Or.inl ⟨rfl, rfl⟩) h7
    rw [show 0 * 64 + fc = fc by omega]
    by_cases e : i = fc
    · subst e; rw [cd_us, cd_us, cd_us]
    · rw [cd_un e, cd_un e, cd_un e]; exact f5 i (by omega)
  · unfold wpY_addFd
    refine cd_yIM hal (cd_br (fun g => absurd ⟨l, hl, rfl⟩ g) (fun _ => cd_yIM hal (cd_br (fun g => absurd ⟨r, hr, rfl⟩ g) (fun _ => br_f g2'.2 ?_))))
    dsimp only
    rw [f4]
    exact br_f (nI_nlt hge (by omega)) ⟨rfl, cd_mk h1 H2 h3 h4 h5 h6 h7⟩
theorem i_vc_dropFd {k : Nat} {u : SX} {v : SY} (I : i_Rel k u v) (hk : k + 3 ≤ 1539) (v1 : Int32) : wpX_dropFd (fun r u' => wpY_dropFd (fun r' v' => r' = r ∧ i_Rel (k + 3) u' v') v v1) u v1 := by
  refine cd_el (P := fun u v => wpX_dropFd (fun r u' => wpY_dropFd (fun r' v' => r' = r ∧ i_Rel (k + 3) u' v') v v1) u v1) I ?_
  intro n al mf mj fc jc dc fD kc vc sc fT rc qc aL aR aC aP aZ aD aK aV aW aS aU aI aA aQ aO aF yL ys yC yK yS yU h1 h2 h3 h4 h5 h6 h7
  have hN := h1.1
  have hal := (cd_N_al hN).1
  have hmf := h1.2.1
  obtain ⟨f1, f2, f3, f4, f5⟩ := h2
  have H2 : cd_RF al mf fc aL aR aC yL ys := ⟨f1, f2, f3, f4, f5⟩
  unfold wpX_dropFd
  by_cases hneg : v1 < 0
  · refine br_t hneg ?_
    unfold wpY_dropFd
    exact br_t hneg ⟨rfl, cd_mk h1 H2 h3 h4 h5 h6 h7⟩
  refine br_f hneg ?_
  obtain ⟨j, hj, rfl⟩ := nI_of hneg
  refine pk_lt j fc (fun hlt => ?_) (fun hge => ?_)
  · obtain ⟨c, rfl⟩ : ∃ c, fc = c + 1 := ⟨fc - 1, by omega⟩
    refine ⟨c - j + 1, cd_xDF16 (j := j) (c := c) hN (by omega) (by omega) rfl f2 (fun L R C hLR hC => ?_) (c - j) j (by omega) (Nat.le_refl _) aL aR (fun i' hi' => by rw [cd_del_lt hi', cd_del_lt hi']; exact ⟨rfl, rfl⟩) (fun _ _ => ⟨rfl, rfl⟩)⟩
    unfold wpY_dropFd
    refine br_f hneg ?_
    dsimp only
    rw [f4]
    refine br_t (nI_lt hlt (by omega)) (cd_yDi (cd_yRm 0 c j (by decide) (by omega) (by omega) ((cd_ds0 ys).trans f4) fun y s g1 g2 g3 g4 => ⟨rfl, ?_⟩))
    have dl : ∀ i, i < c → L i ≤ al ∧ R i ≤ al := fun i hi => by
      rw [(hLR i hi).1, (hLR i hi).2]
      by_cases q : i < j
      · rw [cd_del_lt q, cd_del_lt q]; exact f2 i (by omega)
      · rw [cd_del_ge q, cd_del_ge q]; exact f2 (i + 1) (by omega)
    refine cd_mk h1 ⟨by omega, dl, hC, g4, fun i hi => ?_⟩ (cd_RJ_fr h1.2.2 (fun i hi => g1 _ (by omega)) (g3 5 (by decide)) h3) (cd_RD_fr (fun i hi => g1 _ (by omega)) (g3 1 (by decide)) h4) (Or.inl ⟨rfl, g3 2 (by decide), g3 3 (by decide), g3 4 (by decide)⟩) (Or.inl ⟨rfl, g3 6 (by decide)⟩) h7
    have := g2 i hi
    rw [show 0 * 64 + i = i by omega] at this
    rw [this, (hLR i hi).1, (hLR i hi).2]
    by_cases q : i < j
    · rw [cd_del_lt q, cd_del_lt q, cd_del_lt q, show 0 * 64 + i = i by omega]; exact f5 i (by omega)
    · rw [cd_del_ge q, cd_del_ge q, cd_del_ge q, show 0 * 64 + (i + 1) = i + 1 by omega]; exact f5 (i + 1) (by omega)
  · unfold wpY_dropFd
    refine br_f hneg ?_
    dsimp only
    rw [f4]
    exact br_f (nI_nlt hge (by omega)) ⟨rfl, cd_mk h1 H2 h3 h4 h5 h6 h7⟩
end
section
/-! the constructors -/
theorem cd_clm (x : Int32) (a b : Nat) (hab : a ≤ b) (hb : b < 2 ^ 31) : ∃ m, a ≤ m ∧ m ≤ b ∧ (∀ (post : Int32 → Prop) (u : SX), post (nI m) → wpX_clamp post u x (nI a) (nI b)) ∧ (∀ (post : Int32 → Prop) (v : SY), post (nI m) → wpY_clamp post v x (nI a) (nI b)) := by
  by_cases h : nI a ≤ x
  · obtain ⟨j, hj, rfl⟩ := nI_of (x := x) (fun q => nI_pos (n := a) (by omega) (Int32.lt_of_le_of_lt h q))
    rw [nI_leI (by omega) hj] at h
    by_cases g : j ≤ b
    · exact ⟨j, h, g, fun post u hp => br_t (nI_le h hj) (br_t (nI_le g hb) hp), fun post u hp => br_t (nI_le h hj) (br_t (nI_le g hb) hp)⟩
    · exact ⟨b, hab, Nat.le_refl _, fun post u hp => br_t (nI_le h hj) (br_f (nI_ge (by omega) hj) hp), fun post u hp => br_t (nI_le h hj) (br_f (nI_ge (by omega) hj) hp)⟩
  · exact ⟨a, Nat.le_refl _, hab, fun post u hp => br_f h hp, fun post u hp => br_f h hp⟩
theorem cd_all {m : Nat} (h : m ≤ 6) : ((1 : Int32) <<< (nI m &&& 31)) - 1 = nI (2 ^ m - 1) := by
  rw [cd_shl1 (by omega)]
  exact pk_sub (b := 1) (Nat.one_le_two_pow)
theorem i_vc0 (k0 : Int32) (k1 : Int32) (k2 : Int32) : wpX_init (fun u => wpY_init (fun v => i_Rel 3 u v) k0 k1 k2) k0 k1 k2 := by
  obtain ⟨n, hn1, hn2, nX, nY⟩ := cd_clm k0 2 6 (by decide) (by decide)
  obtain ⟨mf, hf1, hf2, fX, fY⟩ := cd_clm k1 1 8 (by decide) (by decide)
  obtain ⟨mj, hj1, hj2, jX, jY⟩ := cd_clm k2 0 3 (by decide) (by decide)
  have hN : cd_N n (2 ^ n - 1) := ⟨hn1, hn2, by have : 1 ≤ 2 ^ n := Nat.one_le_two_pow; omega⟩
  unfold wpX_init
  refine nX _ _ (nm_r (cd_all hn2) (fX _ _ (jX _ _ ?_)))
  refine cd_xFF (n := n) (al := 2 ^ n - 1) (mf := mf) (mj := mj) (fc := 0) (jc := 0) (dc := 0) (fD := 0) (kc := 0) (vc := 0) (sc := 0) (fT := 0) (rc := 0) (qc := 0) (aL := fun _ => 0) (aR := fun _ => 0) (aC := fun _ => 0) (aP := fun _ => 0) (aZ := fun _ => 0) (aD := fun _ => 0) (aK := fun _ => 0) (aV := fun _ => 0) (aW := fun _ => 0) (aS := fun _ => 0) (aU := fun _ => 0) (aI := fun _ => 0) (aA := fun _ => 0) (aQ := fun _ => 0) (aO := fun _ => 0) (aF := fun _ => 0) fun O F hOF => ?_
  refine cd_xRC (n := n) (al := 2 ^ n - 1) (mf := mf) (mj := mj) (aO := O) (aF := F) (fc := 0) (jc := 0) (dc := 0) (fD := 0) (kc := 0) (vc := 0) (sc := 0) (fT := 0) (rc := 0) (qc := 0) (aL := fun _ => 0) (aR := fun _ => 0) (aC := fun _ => 0) (aP := fun _ => 0) (aZ := fun _ => 0) (aD := fun _ => 0) (aK := fun _ => 0) (aV := fun _ => 0) (aW := fun _ => 0) (aS := fun _ => 0) (aU := fun _ => 0) (aI := fun _ => 0) (aA := fun _ => 0) (aQ := fun _ => 0) hN (by decide) (fun i hi => absurd hi (by omega)) fun C hC => ?_
  show wpY_init _ k0 k1 k2
  unfold wpY_init
  refine nY _ _ (nm_r (cd_all hn2) (fY _ _ (jY _ _ ?_)))
  refine cd_yDi (n := n) (al := 2 ^ n - 1) (mf := mf) (mj := mj) (yL := fun _ => 0) (ys := fun _ => 0) (yP := fun _ => 0) (yC := fun _ => 0) (yK := fun _ => 0) (yS := fun _ => 0) (yU := fun _ => 0) ?_
  exact cd_mk (n := n) (al := 2 ^ n - 1) (mf := mf) (mj := mj) (aC := C) (aO := O) (aF := F) (fc := 0) (jc := 0) (dc := 0) (fD := 0) (kc := 0) (vc := 0) (sc := 0) (fT := 0) (rc := 0) (qc := 0) (aL := fun _ => 0) (aR := fun _ => 0) (aP := fun _ => 0) (aZ := fun _ => 0) (aD := fun _ => 0) (aK := fun _ => 0) (aV := fun _ => 0) (aW := fun _ => 0) (aS := fun _ => 0) (aU := fun _ => 0) (aI := fun _ => 0) (aA := fun _ => 0) (aQ := fun _ => 0) (yL := fun _ => 0) (ys := cd_ds (fun _ => 0)) (yC := fun _ => 0) (yK := fun _ => 0) (yS := fun _ => 0) (yU := fun _ => 0) ⟨hN, hf2, hj2⟩ ⟨Nat.zero_le _, fun i hi => absurd hi (by omega), hC, rfl, fun i hi => absurd hi (by omega)⟩ ⟨Nat.zero_le _, fun i hi => absurd hi (by omega), rfl, fun i hi => absurd hi (by omega)⟩ ⟨Nat.zero_le _, rfl, fun i hi => absurd hi (by omega)⟩ (Or.inl ⟨rfl, rfl, rfl, rfl⟩) (Or.inl ⟨rfl, rfl⟩) hOF
/-! the draft -/
def cd_dU (D : Nat → Nat) : Nat → Nat
  | 0 => 0
  | k + 1 => cd_dU D k ||| D k
theorem cd_dU_le {n al : Nat} {D : Nat → Nat} (hN : cd_N n al) : ∀ k, (∀ i, i < k → D i ≤ al) → cd_dU D k ≤ al
  | 0, _ => Nat.zero_le _
  | k + 1, h => cd_N_or hN (cd_dU_le hN k fun i hi => h i (by omega)) (h k (by omega))
theorem cd_dU_bit {D : Nat → Nat} {a : Nat} : ∀ k, (cd_dU D k).testBit a = true → ∃ i, i < k ∧ (D i).testBit a = true
  | 0, h => by rw [show cd_dU D 0 = 0 from rfl, Nat.zero_testBit] at h; exact absurd h (by decide)
  | k + 1, h => by
    rw [show cd_dU D (k + 1) = cd_dU D k ||| D k from rfl, Nat.testBit_or, Bool.or_eq_true] at h
    rcases h with h | h
    · obtain ⟨i, h1, h2⟩ := cd_dU_bit k h; exact ⟨i, by omega, h2⟩
    · exact ⟨k, by omega, h⟩
theorem cd_64 (r : Nat) : (64 : Int32) + nI r = nI (64 + r) := nI_add 64 r
theorem cd_256 (r : Nat) : (256 : Int32) + nI r = nI (256 + r) := nI_add 256 r
def cd_cp (P : Nat → Nat) (b : Nat) (D : Nat → Nat) : Nat → (Nat → Nat)
  | 0 => P
  | i + 1 => cd_up (cd_cp P b D i) (b + i) (D i)
theorem cd_cp_lo {P D : Nat → Nat} {b q : Nat} : ∀ k, q < b → cd_cp P b D k q = P q
  | 0, _ => rfl
  | k + 1, h => by show cd_up (cd_cp P b D k) (b + k) (D k) q = _; rw [cd_un (by omega)]; exact cd_cp_lo k h
theorem cd_cp_hi {P D : Nat → Nat} {b i : Nat} : ∀ k, i < k → cd_cp P b D k (b + i) = D i
  | 0, h => by omega
  | k + 1, h => by
    show cd_up (cd_cp P b D k) (b + k) (D k) (b + i) = _
    by_cases e : i = k
    · subst e; exact cd_us
    · rw [cd_un (by omega)]; exact cd_cp_hi k (by omega)
section
variable {n al mf mj fc jc dc fD kc vc sc fT rc qc : Nat} {aL aR aC aP aZ aD aK aV aW aS aU aI aA aQ aO aF : Nat → Nat}
theorem cd_xPut12 {post : Int32 → SX → Prop} {m : Nat} (hm : m < 64) (hdc : dc ≤ 20) (hD : ∀ i, i < dc → aD i < 64) (hd : (∃ i, i < dc ∧ aD i = m) → post (-3) ((nI n), (nI al), (nI mf), (nI mj), (nI fc), (nI jc), (nI dc), (nI fD), (nI kc), (nI vc), (nI sc), (nI fT), (nI rc), (nI qc), (nF aL), (nF aR), (nF aC), (nF aP), (nF aZ), (nF aD), (nF aK), (nF aV), (nF aW), (nF aS), (nF aU), (nF aI), (nF aA), (nF aQ), (nF aO), (nF aF))) (hf : ¬ (∃ i, i < dc ∧ aD i = m) → 20 ≤ dc → post (-2) ((nI n), (nI al), (nI mf), (nI mj), (nI fc), (nI jc), (nI dc), (nI fD), (nI kc), (nI vc), (nI sc), (nI fT), (nI rc), (nI qc), (nF aL), (nF aR), (nF aC), (nF aP), (nF aZ), (nF aD), (nF aK), (nF aV), (nF aW), (nF aS), (nF aU), (nF aI), (nF aA), (nF aQ), (nF aO), (nF aF))) (ho : ¬ (∃ i, i < dc ∧ aD i = m) → dc < 20 → post (nI dc) ((nI n), (nI al), (nI mf), (nI mj), (nI fc), (nI jc), (nI (dc + 1)), (nI fD), (nI kc), (nI vc), (nI sc), (nI fT), (nI rc), (nI qc), (nF aL), (nF aR), (nF aC), (nF aP), (nF aZ), (nF (cd_up aD dc m)), (nF aK), (nF aV), (nF aW), (nF aS), (nF aU), (nF aI), (nF aA), (nF aQ), (nF aO), (nF aF))) :
    ∀ k i, i + k = dc → (∀ j, j < i → aD j ≠ m) → wX_put_12 post (nI m) (nI n) (nI al) (nI mf) (nI mj) (nI fc) (nI jc) (nI dc) (nI fD) (nI kc) (nI vc) (nI sc) (nI fT) (nI rc) (nI qc) (nF aL) (nF aR) (nF aC) (nF aP) (nF aZ) (nF aD) (nF aK) (nF aV) (nF aW) (nF aS) (nF aU) (nF aI) (nF aA) (nF aQ) (nF aO) (nF aF) (k + 1) (nI i) := by
  intro k
  induction k with
  | zero =>
    intro i h H
    have e : i = dc := by omega
    subst e
    have cd : (nI i).toNatClampNeg = i := nI_clamp (by omega)
    have N : ¬ (∃ j, j < i ∧ aD j = m) := fun ⟨j, h1, h2⟩ => H j h1 h2
    rw [wX_put_12]
    dsimp only
    rw [cd]
    refine br_t (nI_le (Nat.le_refl _) (by omega)) (pk_lt i 20 (fun q => ⟨vp_in_nI (by omega) (by omega), nm_r (cd_upd aD i m) (nm_r (nI_1 i) ?_)⟩) (fun q => hf N q))
    rw [nI_pred]; exact ho N q
  | succ k ih =>
    intro i h H
    have ci : (nI i).toNatClampNeg = i := nI_clamp (by omega)
    have bi := hD i (by omega)
    rw [wX_put_12]
    dsimp only
    rw [ci]
    refine br_f (nI_ge (by omega) (by omega)) ⟨vp_in_nI (by omega) (by omega), pk_eq (aD i) m (fun e => hd ⟨i, by omega, e⟩) (fun e => nm_r (nI_1 i) (ih (i + 1) (by omega) fun j hj => ?_)) rfl rfl (by omega) (by omega)⟩
    by_cases q : j = i
    · subst q; exact e
    · exact H j (by omega)
theorem cd_xTS24 {post : Int32 → SX → Prop} (hsc : sc ≤ 20) (hp : ∀ D : Nat → Nat, (∀ i, i < sc → D i = aS i) → post (nI sc) ((nI n), (nI al), (nI mf), (nI mj), (nI fc), (nI jc), (nI (sc)), (nI fD), (nI kc), (nI vc), (nI sc), (nI fT), (nI rc), (nI qc), (nF aL), (nF aR), (nF aC), (nF aP), (nF aZ), (nF (D)), (nF aK), (nF aV), (nF aW), (nF aS), (nF aU), (nF aI), (nF aA), (nF aQ), (nF aO), (nF aF))) :
    ∀ k i, i + k = sc → ∀ D : Nat → Nat, (∀ j, j < i → D j = aS j) → wX_takeSchemas_24 post (nI n) (nI al) (nI mf) (nI mj) (nI fc) (nI jc) (nI dc) (nI fD) (nI kc) (nI vc) (nI sc) (nI fT) (nI rc) (nI qc) (k + 1) (nI i) (nF aL) (nF aR) (nF aC) (nF aP) (nF aZ) (nF (D)) (nF aK) (nF aV) (nF aW) (nF aS) (nF aU) (nF aI) (nF aA) (nF aQ) (nF aO) (nF aF) := by
  intro k
  induction k with
  | zero =>
    intro i h D hD
    have e : i = sc := by omega
    subst e
    rw [wX_takeSchemas_24]
    exact br_t (nI_le (Nat.le_refl _) (by omega)) (hp D hD)
  | succ k ih =>
    intro i h D hD
    have ci : (nI i).toNatClampNeg = i := nI_clamp (by omega)
    rw [wX_takeSchemas_24]
    dsimp only
    rw [ci]
    refine br_f (nI_ge (by omega) (by omega)) ⟨vp_in_nI (by omega) (by omega), vp_in_nI (by omega) (by omega), nm_r (cd_upd D i (aS i)) (nm_r (nI_1 i) (ih (i + 1) (by omega) _ fun j hj => ?_))⟩
    by_cases e : j = i
    · subst e; exact cd_us
    · rw [cd_un e]; exact hD j (by omega)
theorem cd_xDU4 {post : Int32 → Prop} (hdc : dc ≤ 20) (hp : post (nI (cd_dU aD dc))) : ∀ k i, i + k = dc → wX_draftUnion_4 post (nI n) (nI al) (nI mf) (nI mj) (nI fc) (nI jc) (nI dc) (nI fD) (nI kc) (nI vc) (nI sc) (nI fT) (nI rc) (nI qc) (nF aL) (nF aR) (nF aC) (nF aP) (nF aZ) (nF aD) (nF aK) (nF aV) (nF aW) (nF aS) (nF aU) (nF aI) (nF aA) (nF aQ) (nF aO) (nF aF) (k + 1) (nI (cd_dU aD i)) (nI i) := by
  intro k
  induction k with
  | zero =>
    intro i h
    have e : i = dc := by omega
    subst e
    rw [wX_draftUnion_4]
    exact br_t (nI_le (Nat.le_refl _) (by omega)) hp
  | succ k ih =>
    intro i h
    have ci : (nI i).toNatClampNeg = i := nI_clamp (by omega)
    rw [wX_draftUnion_4]
    dsimp only
    rw [ci]
    exact br_f (nI_ge (by omega) (by omega)) ⟨vp_in_nI (by omega) (by omega), nm_r (cd_or _ _) (nm_r (nI_1 i) (ih (i + 1) (by omega)))⟩
theorem cd_xDU {post : Int32 → Prop} (hdc : dc ≤ 20) (hp : post (nI (cd_dU aD dc))) : wpX_draftUnion post ((nI n), (nI al), (nI mf), (nI mj), (nI fc), (nI jc), (nI dc), (nI fD), (nI kc), (nI vc), (nI sc), (nI fT), (nI rc), (nI qc), (nF aL), (nF aR), (nF aC), (nF aP), (nF aZ), (nF aD), (nF aK), (nF aV), (nF aW), (nF aS), (nF aU), (nF aI), (nF aA), (nF aQ), (nF aO), (nF aF)) :=
  Exists.intro (dc + 1) (cd_xDU4 hdc hp dc 0 (by omega))
theorem cd_xAJ49 {post : Int32 → SX → Prop} (hdc : dc ≤ 4) (hjc : jc < 3) (hp : post (nI jc) ((nI n), (nI al), (nI mf), (nI mj), (nI fc), (nI (jc + 1)), (nI (0)), (nI fD), (nI kc), (nI vc), (nI sc), (nI (0)), (nI (0)), (nI qc), (nF aL), (nF aR), (nF aC), (nF (cd_cp aP (jc * 4) aD dc)), (nF (cd_up aZ jc dc)), (nF aD), (nF aK), (nF aV), (nF aW), (nF aS), (nF aU), (nF aI), (nF aA), (nF aQ), (nF aO), (nF aF))) :
    ∀ k i, i + k = dc → wX_addJd_49 post (nI n) (nI al) (nI mf) (nI mj) (nI fc) (nI jc) (nI dc) (nI fD) (nI kc) (nI vc) (nI sc) (nI fT) (nI rc) (nI qc) (k + 1) (nI i) (nF aL) (nF aR) (nF aC) (nF (cd_cp aP (jc * 4) aD i)) (nF aZ) (nF aD) (nF aK) (nF aV) (nF aW) (nF aS) (nF aU) (nF aI) (nF aA) (nF aQ) (nF aO) (nF aF) := by
  intro k
  induction k with
  | zero =>
    intro i h
    have e : i = dc := by omega
    subst e
    have cj : (nI jc).toNatClampNeg = jc := nI_clamp (by omega)
    rw [wX_addJd_49]
    dsimp only
    rw [cj]
    refine br_t (nI_le (Nat.le_refl _) (by omega)) ⟨vp_in_nI (by omega) (by omega), nm_r (cd_upd aZ jc i) (nm_r (nI_1 jc) ?_)⟩
    unfold wpX_discardTableau
    dsimp only
    rw [nI_pred]
    exact hp
  | succ k ih =>
    intro i h
    have ci : (nI i).toNatClampNeg = i := nI_clamp (by omega)
    have ix : nI jc * 4 + nI i = nI (jc * 4 + i) := by rw [show nI jc * 4 = nI (jc * 4) from pk_mul jc 4, nI_add]
    have cx : (nI (jc * 4 + i)).toNatClampNeg = jc * 4 + i := nI_clamp (by omega)
    rw [wX_addJd_49]
    dsimp only
    rw [ci, ix, cx]
    exact br_f (nI_ge (by omega) (by omega)) ⟨vp_in_nI (by omega) (by omega), vp_in_nI (by omega) (by omega), nm_r (cd_upd _ (jc * 4 + i) (aD i)) (nm_r (nI_1 i) (ih (i + 1) (by omega)))⟩
end
section
variable {n al mf mj : Nat}
variable {yL yP yC yK yS yU : Nat → Nat} {ys : Nat → Int32}
variable {D Z : Nat → Nat} {dc sc jc : Nat}
theorem cd_yPut16 {post : Int32 → SY → Prop} {m : Nat} (hm : m < 64) (hdc : dc ≤ 20) (h1 : ys 1 = nI dc) (hD : ∀ i, i < dc → yL (64 + i) = D i ∧ D i < 64) (hd : (∃ i, i < dc ∧ D i = m) → post (-3) ((nI n), (nI al), (nI mf), (nI mj), (nF yL), ys, (nF yP), (nF yC), (nF yK), (nF yS), (nF yU))) (hf : ¬ (∃ i, i < dc ∧ D i = m) → 20 ≤ dc → post (-2) ((nI n), (nI al), (nI mf), (nI mj), (nF yL), ys, (nF yP), (nF yC), (nF yK), (nF yS), (nF yU))) (ho : ¬ (∃ i, i < dc ∧ D i = m) → dc < 20 → post (nI dc) ((nI n), (nI al), (nI mf), (nI mj), (nF (cd_up yL (1 * 64 + dc) m)), (upd ys 1 (nI (dc + 1))), (nF yP), (nF yC), (nF yK), (nF yS), (nF yU))) :
    ∀ k i, i + k = dc → (∀ j, j < i → D j ≠ m) → wY_put_16 post (nI m) (nI n) (nI al) (nI mf) (nI mj) (nF yL) ys (nF yP) (nF yC) (nF yK) (nF yS) (nF yU) (k + 1) (nI i) := by
  intro k
  induction k with
  | zero =>
    intro i h H
    have e : i = dc := by omega
    subst e
    have N : ¬ (∃ j, j < i ∧ D j = m) := fun ⟨j, h1, h2⟩ => H j h1 h2
    rw [wY_put_16]
    dsimp only
    rw [h1]
    exact br_t (nI_le (Nat.le_refl _) (by omega)) (pk_lt i 20 (fun q => cd_yAp 1 i m (by decide) (by omega) h1 (ho N q)) (fun q => hf N q))
  | succ k ih =>
    intro i h H
    have ci : (nI (64 + i)).toNatClampNeg = 64 + i := nI_clamp (by omega)
    obtain ⟨e1, bi⟩ := hD i (by omega)
    rw [wY_put_16]
    dsimp only
    rw [h1, cd_64, ci]
    refine br_f (nI_ge (by omega) (by omega)) ⟨vp_in_nI (by omega) (by omega), pk_eq (D i) m (fun e => hd ⟨i, by omega, e⟩) (fun e => nm_r (nI_1 i) (ih (i + 1) (by omega) fun j hj => ?_)) (congrArg nI e1) rfl (by omega) (by omega)⟩
    by_cases q : j = i
    · subst q; exact e
    · exact H j (by omega)
theorem cd_yTS28 {post : Int32 → SY → Prop} {y0 : Nat → Nat} (hsc : sc ≤ 20) (h4 : ys 4 = nI sc) (hp : ∀ y : Nat → Nat, (∀ i, i < 64 ∨ 84 ≤ i → y i = y0 i) → (∀ i, i < sc → y (64 + i) = y0 (256 + i)) → post (nI sc) ((nI n), (nI al), (nI mf), (nI mj), (nF (y)), (upd ys 1 (nI sc)), (nF yP), (nF yC), (nF yK), (nF yS), (nF yU))) :
    ∀ k i, i + k = sc → ∀ y : Nat → Nat, (∀ i, i < 64 ∨ 84 ≤ i → y i = y0 i) → (∀ j, j < i → y (64 + j) = y0 (256 + j)) → wY_takeSchemas_28 post (nI n) (nI al) (nI mf) (nI mj) (k + 1) (nI i) (nF (y)) ys (nF yP) (nF yC) (nF yK) (nF yS) (nF yU) := by
  intro k
  induction k with
  | zero =>
    intro i h y h1 h2
    have e : i = sc := by omega
    subst e
    rw [wY_takeSchemas_28]
    dsimp only
    rw [h4]
    exact br_t (nI_le (Nat.le_refl _) (by omega)) (nm_e (hp y h1 h2))
  | succ k ih =>
    intro i h y h1 h2
    have c1 : (nI (64 + i)).toNatClampNeg = 64 + i := nI_clamp (by omega)
    have c2 : (nI (256 + i)).toNatClampNeg = 256 + i := nI_clamp (by omega)
    rw [wY_takeSchemas_28]
    dsimp only
    rw [h4, cd_64, cd_256, c1, c2]
    refine br_f (nI_ge (by omega) (by omega)) ⟨vp_in_nI (by omega) (by omega), vp_in_nI (by omega) (by omega), nm_r (cd_upd y (64 + i) (y (256 + i))) (nm_r (nI_1 i) (ih (i + 1) (by omega) _ (fun j hj => ?_) (fun j hj => ?_)))⟩
    · rw [cd_un (by omega)]; exact h1 j hj
    · by_cases e : j = i
      · subst e; rw [cd_us]; exact h1 _ (by omega)
      · rw [cd_un (by omega)]; exact h2 j (by omega)
theorem cd_yDU4 {post : Int32 → Prop} (hdc : dc ≤ 20) (h1 : ys 1 = nI dc) (hD : ∀ i, i < dc → yL (64 + i) = D i) (hp : post (nI (cd_dU D dc))) : ∀ k i, i + k = dc → wY_draftUnion_4 post (nI n) (nI al) (nI mf) (nI mj) (nF yL) ys (nF yP) (nF yC) (nF yK) (nF yS) (nF yU) (k + 1) (nI (cd_dU D i)) (nI i) := by
  intro k
  induction k with
  | zero =>
    intro i h
    have e : i = dc := by omega
    subst e
    rw [wY_draftUnion_4]
    dsimp only
    rw [h1]
    exact br_t (nI_le (Nat.le_refl _) (by omega)) hp
  | succ k ih =>
    intro i h
    have ci : (nI (64 + i)).toNatClampNeg = 64 + i := nI_clamp (by omega)
    rw [wY_draftUnion_4]
    dsimp only
    rw [h1, cd_64, ci, show nF yL (64 + i) = nI (D i) from congrArg nI (hD i (by omega))]
    exact br_f (nI_ge (by omega) (by omega)) ⟨vp_in_nI (by omega) (by omega), nm_r (cd_or _ _) (nm_r (nI_1 i) (ih (i + 1) (by omega)))⟩
theorem cd_yDU {post : Int32 → Prop} (hdc : dc ≤ 20) (h1 : ys 1 = nI dc) (hD : ∀ i, i < dc → yL (64 + i) = D i) (hp : post (nI (cd_dU D dc))) : wpY_draftUnion post ((nI n), (nI al), (nI mf), (nI mj), (nF yL), ys, (nF yP), (nF yC), (nF yK), (nF yS), (nF yU)) :=
  Exists.intro (dc + 1) (cd_yDU4 hdc h1 hD hp dc 0 (by omega))
theorem cd_yAJ55 {post : Int32 → SY → Prop} (hdc : dc ≤ 4) (hjc : jc < 3) (h1 : ys 1 = nI dc) (h5 : ys 5 = nI jc) (hD : ∀ i, i < dc → yL (64 + i) = D i)
    (hp : post (nI jc) ((nI n), (nI al), (nI mf), (nI mj), (nF (cd_up yL (5 * 64 + jc) dc)), (upd (upd (upd ys 6 (-7)) 1 0) 5 (nI (jc + 1))), (nF (cd_cp yP (jc * 4) D dc)), (nF yC), (nF yK), (nF yS), (nF yU))) :
    ∀ k i, i + k = dc → wY_addJd_55 post (nI n) (nI al) (nI mf) (nI mj) (k + 1) (nI i) (nF yL) ys (nF (cd_cp yP (jc * 4) D i)) (nF yC) (nF yK) (nF yS) (nF yU) := by
  intro k
  induction k with
  | zero =>
    intro i h
    have e : i = dc := by omega
    subst e
    rw [wY_addJd_55]
    dsimp only
    rw [h1]
    refine br_t (nI_le (Nat.le_refl _) (by omega)) (nm_e ?_)
    unfold wpY_clearDraft
    dsimp only
    refine nm_r (e' := nI i) ((pk_un (by decide)).trans h1) (nm_e ?_)
    exact cd_yAp 5 jc i (by decide) (by omega) ((pk_un (by decide)).trans ((pk_un (by decide)).trans h5)) hp
  | succ k ih =>
    intro i h
    have ci : (nI (64 + i)).toNatClampNeg = 64 + i := nI_clamp (by omega)
    have ix : nI jc * 4 + nI i = nI (jc * 4 + i) := by rw [show nI jc * 4 = nI (jc * 4) from pk_mul jc 4, nI_add]
    have cx : (nI (jc * 4 + i)).toNatClampNeg = jc * 4 + i := nI_clamp (by omega)
    rw [wY_addJd_55]
    dsimp only
    rw [h1, h5, cd_64, ci, ix, cx, show nF yL (64 + i) = nI (D i) from congrArg nI (hD i (by omega))]
    exact br_f (nI_ge (by omega) (by omega)) ⟨vp_in_nI (by omega) (by omega), vp_in_nI (by omega) (by omega), nm_r (cd_upd _ (jc * 4 + i) (D i)) (nm_r (nI_1 i) (ih (i + 1) (by omega)))⟩
end
theorem i_vc_put {k : Nat} {u : SX} {v : SY} (I : i_Rel k u v) (hk : k + 3 ≤ 1539) (v1 : Int32) : wpX_put (fun r u' => wpY_put (fun r' v' => r' = r ∧ i_Rel (k + 3) u' v') v v1) u v1 := by
  refine cd_el (P := fun u v => wpX_put (fun r u' => wpY_put (fun r' v' => r' = r ∧ i_Rel (k + 3) u' v') v v1) u v1) I ?_
  intro n al mf mj fc jc dc fD kc vc sc fT rc qc aL aR aC aP aZ aD aK aV aW aS aU aI aA aQ aO aF yL ys yC yK yS yU h1 h2 h3 h4 h5 h6 h7
  have hN := h1.1
  have hal := (cd_N_al hN).1
  obtain ⟨d1, d2, d3⟩ := h4
  have H4 : cd_RD al dc aD yL ys := ⟨d1, d2, d3⟩
  have dl : ∀ i, i < dc → aD i < 64 := fun i hi => by have := (d3 i hi).2; omega
  have dl' : ∀ i, i < dc → yL (64 + i) = aD i ∧ aD i < 64 := fun i hi => ⟨(d3 i hi).1, dl i hi⟩
  unfold wpX_put
  refine cd_xIP hal (cd_br (fun g => ?_) (fun g => ?_))
  · unfold wpY_put
    exact cd_yIM hal (cd_br (fun _ => ⟨rfl, cd_mk h1 h2 h3 H4 h5 h6 h7⟩) (fun g' => br_t (Classical.byContradiction fun w => g ((cd_IP_iff (by omega)).mpr ⟨g', w⟩)) ⟨rfl, cd_mk h1 h2 h3 H4 h5 h6 h7⟩))
  · have g2 := (cd_IP_iff (by omega)).mp g
    obtain ⟨m, m0, ml, rfl⟩ := g
    have Y : ∀ (q : Int32 → SY → Prop), ((∃ i, i < dc ∧ aD i = m) → q (-3) ((nI n), (nI al), (nI mf), (nI mj), (nF yL), ys, (nF (aP)), (nF yC), (nF yK), (nF yS), (nF yU))) → (¬ (∃ i, i < dc ∧ aD i = m) → 20 ≤ dc → q (-2) ((nI n), (nI al), (nI mf), (nI mj), (nF yL), ys, (nF (aP)), (nF yC), (nF yK), (nF yS), (nF yU))) → (¬ (∃ i, i < dc ∧ aD i = m) → dc < 20 → q (nI dc) ((nI n), (nI al), (nI mf), (nI mj), (nF (cd_up yL (1 * 64 + dc) m)), (upd ys 1 (nI (dc + 1))), (nF (aP)), (nF yC), (nF yK), (nF yS), (nF yU))) → wpY_put q ((nI n), (nI al), (nI mf), (nI mj), (nF yL), ys, (nF (aP)), (nF yC), (nF yK), (nF yS), (nF yU)) (nI m) := fun q q1 q2 q3 => by
      unfold wpY_put
      exact cd_yIM hal (cd_br (fun w => absurd ⟨m, ml, rfl⟩ w) (fun _ => br_f g2.2 ⟨dc + 1, cd_yPut16 (by omega) d1 d2 dl' q1 q2 q3 dc 0 (by omega) (fun j hj => absurd hj (by omega))⟩))
    refine ⟨dc + 1, cd_xPut12 (by omega) d1 dl (fun w => Y _ (fun _ => ⟨rfl, cd_mk h1 h2 h3 H4 h5 h6 h7⟩) (fun w' => absurd w w') (fun w' => absurd w w')) (fun w w2 => Y _ (fun w' => absurd w' w) (fun _ _ => ⟨rfl, cd_mk h1 h2 h3 H4 h5 h6 h7⟩) (fun _ w' => absurd w' (by omega))) (fun w w2 => Y _ (fun w' => absurd w' w) (fun _ w' => absurd w' (by omega)) (fun _ _ => ⟨rfl, ?_⟩)) dc 0 (by omega) (fun j hj => absurd hj (by omega))⟩
    refine cd_mk h1 (cd_RF_fr h1.2.1 (fun i hi => cd_un (by omega)) rfl h2) (cd_RJ_fr h1.2.2 (fun i hi => cd_un (by omega)) rfl h3) ⟨by omega, rfl, fun i hi => ?_⟩ (cd_RG_fr (fun i hi => cd_un (by omega)) rfl rfl rfl h5) (cd_RT_fr (fun i hi => cd_un (by omega)) rfl h6) h7
    by_cases e : i = dc
    · subst e; rw [show 1 * 64 + i = 64 + i by omega, cd_us, cd_us]; exact ⟨rfl, ml⟩
    · rw [cd_un (by omega), cd_un e]; exact d3 i (by omega)
theorem i_vc_clearDraft {k : Nat} {u : SX} {v : SY} (I : i_Rel k u v) (hk : k + 3 ≤ 1539) : wpX_clearDraft (fun r u' => wpY_clearDraft (fun r' v' => r' = r ∧ i_Rel (k + 3) u' v') v) u := by
  refine cd_el (P := fun u v => wpX_clearDraft (fun r u' => wpY_clearDraft (fun r' v' => r' = r ∧ i_Rel (k + 3) u' v') v) u) I ?_
  intro n al mf mj fc jc dc fD kc vc sc fT rc qc aL aR aC aP aZ aD aK aV aW aS aU aI aA aQ aO aF yL ys yC yK yS yU h1 h2 h3 h4 h5 h6 h7
  obtain ⟨d1, d2, d3⟩ := h4
  refine nm_r d2 (nm_e ⟨rfl, ?_⟩)
  exact cd_mk (dc := 0) (ys := upd ys 1 0) h1 (cd_RF_fr h1.2.1 (fun _ _ => rfl) rfl h2) (cd_RJ_fr h1.2.2 (fun _ _ => rfl) rfl h3) ⟨by omega, rfl, fun i hi => absurd hi (by omega)⟩ (cd_RG_fr (fun _ _ => rfl) rfl rfl rfl h5) (cd_RT_fr (fun _ _ => rfl) rfl h6) h7
theorem i_vc_takeSchemas {k : Nat} {u : SX} {v : SY} (I : i_Rel k u v) (hk : k + 3 ≤ 1539) : wpX_takeSchemas (fun r u' => wpY_takeSchemas (fun r' v' => r' = r ∧ i_Rel (k + 3) u' v') v) u := by
  refine cd_el (P := fun u v => wpX_takeSchemas (fun r u' => wpY_takeSchemas (fun r' v' => r' = r ∧ i_Rel (k + 3) u' v') v) u) I ?_
  intro n al mf mj fc jc dc fD kc vc sc fT rc qc aL aR aC aP aZ aD aK aV aW aS aU aI aA aQ aO aF yL ys yC yK yS yU h1 h2 h3 h4 h5 h6 h7
  rcases h5 with ⟨rfl, g2, g3, g4⟩ | ⟨rfl, g1, g2, g3, g4, g5, g6, g7, g8, g9⟩
  · refine br_t rfl ?_
    unfold wpY_takeSchemas
    dsimp only
    rw [g4]
    exact br_f (by decide) ⟨rfl, cd_mk h1 h2 h3 h4 (Or.inl ⟨rfl, g2, g3, g4⟩) h6 h7⟩
  · have H5 : cd_RG al 1 kc vc sc aK aV aW aS yL ys := Or.inr ⟨rfl, g1, g2, g3, g4, g5, g6, g7, g8, g9⟩
    refine br_f (by decide) (pk_le sc 20 (fun hs => ⟨sc + 1, cd_xTS24 hs (fun D hD => ?_) sc 0 (by omega) aD (fun j hj => absurd hj (by omega))⟩) (fun hs => ?_))
    · unfold wpY_takeSchemas
      dsimp only
      rw [g6]
      refine br_t (nI_pos' (by omega)) (br_t (show nI sc ≤ nI 20 from nI_le hs (by decide)) ⟨sc + 1, cd_yTS28 (y0 := yL) hs g6 (fun y f1 f2 => ⟨rfl, ?_⟩) sc 0 (by omega) yL (fun _ _ => rfl) (fun j hj => absurd hj (by omega))⟩)
      refine cd_mk h1 (cd_RF_fr h1.2.1 (fun i hi => f1 i (by omega)) rfl h2) (cd_RJ_fr h1.2.2 (fun i hi => f1 _ (by omega)) rfl h3) ⟨hs, rfl, fun i hi => ?_⟩ (cd_RG_fr (fun i hi => f1 _ (by omega)) rfl rfl rfl H5) (cd_RT_fr (fun i hi => f1 _ (by omega)) rfl h6) h7
      rw [f2 i hi, hD i hi]; exact g9 i hi
    · unfold wpY_takeSchemas
      dsimp only
      rw [g6]
      exact br_t (nI_pos' (by omega)) (br_f (show ¬ nI sc ≤ nI 20 from nI_ge hs (by omega)) ⟨rfl, cd_mk h1 h2 h3 h4 H5 h6 h7⟩)
theorem i_vc_addJd {k : Nat} {u : SX} {v : SY} (I : i_Rel k u v) (hk : k + 3 ≤ 1539) : wpX_addJd (fun r u' => wpY_addJd (fun r' v' => r' = r ∧ i_Rel (k + 3) u' v') v) u := by
  refine cd_el (P := fun u v => wpX_addJd (fun r u' => wpY_addJd (fun r' v' => r' = r ∧ i_Rel (k + 3) u' v') v) u) I ?_
  intro n al mf mj fc jc dc fD kc vc sc fT rc qc aL aR aC aP aZ aD aK aV aW aS aU aI aA aQ aO aF yL ys yC yK yS yU h1 h2 h3 h4 h5 h6 h7
  have hN := h1.1
  have hal := (cd_N_al hN).1
  obtain ⟨d1, d2, d3⟩ := h4
  have H4 : cd_RD al dc aD yL ys := ⟨d1, d2, d3⟩
  obtain ⟨j1, j2, j3, j4⟩ := h3
  have H3 : cd_RJ n al mj jc aP aZ yL ys := ⟨j1, j2, j3, j4⟩
  have hmj := h1.2.2
  have ul := cd_dU_le hN dc fun i hi => (d3 i hi).2
  have R : i_Rel (k + 3) ((nI n), (nI al), (nI mf), (nI mj), (nI fc), (nI jc), (nI dc), (nI fD), (nI kc), (nI vc), (nI sc), (nI fT), (nI rc), (nI qc), (nF aL), (nF aR), (nF aC), (nF aP), (nF aZ), (nF aD), (nF aK), (nF aV), (nF aW), (nF aS), (nF aU), (nF aI), (nF aA), (nF aQ), (nF aO), (nF aF)) ((nI n), (nI al), (nI mf), (nI mj), (nF yL), ys, (nF (aP)), (nF yC), (nF yK), (nF yS), (nF yU)) := cd_mk h1 h2 H3 H4 h5 h6 h7
  unfold wpX_addJd
  refine pk_lt dc 2 (fun q => ?_) (fun q => pk_le dc 4 (fun q2 => cd_xDU d1 (pk_eq (cd_dU aD dc) al (fun e => pk_lt jc mj (fun q3 => ⟨dc + 1, cd_xAJ49 q2 (by omega) ?_ dc 0 (by omega)⟩) (fun q3 => ?_)) (fun e => ?_) rfl rfl (by omega) (by omega))) (fun q2 => ?_))
  · unfold wpY_addJd
    dsimp only
    rw [d2]
    exact br_t (show nI dc < nI 2 from nI_lt q (by decide)) ⟨rfl, R⟩
  · unfold wpY_addJd
    dsimp only
    rw [d2, j3]
    refine br_f (show ¬ nI dc < nI 2 from nI_nlt q (by omega)) (br_t (show nI dc ≤ nI 4 from nI_le q2 (by decide)) (cd_yDU d1 d2 (fun i hi => (d3 i hi).1) (br_t (congrArg nI e) (br_t (nI_lt q3 (by omega)) ⟨dc + 1, cd_yAJ55 (D := aD) q2 (by omega) d2 j3 (fun i hi => (d3 i hi).1) ⟨rfl, ?_⟩ dc 0 (by omega)⟩))))
    refine cd_mk h1 (cd_RF_fr h1.2.1 (fun i hi => cd_un (by omega)) rfl h2) ⟨by omega, fun d hd => ?_, rfl, fun d hd => ?_⟩ ⟨by omega, rfl, fun i hi => absurd hi (by omega)⟩ (cd_RG_fr (fun i hi => cd_un (by omega)) rfl rfl rfl h5) (Or.inl ⟨rfl, rfl⟩) h7
    · by_cases e' : d = jc
      · subst e'
        rw [cd_us]
        refine ⟨q2, fun p hp => ?_, fun a ha => ?_⟩
        · rw [cd_cp_hi dc hp]; exact (d3 p hp).2
        · have : (cd_dU aD dc).testBit a = true := by rw [e, cd_N_tb hN]; exact decide_eq_true ha
          obtain ⟨i, i1, i2⟩ := cd_dU_bit dc this
          exact ⟨i, i1, by rw [cd_cp_hi dc i1]; exact i2⟩
      · rw [cd_un e']
        obtain ⟨z1, z2, z3⟩ := j2 d (by omega)
        refine ⟨z1, fun p hp => ?_, fun a ha => ?_⟩
        · rw [cd_cp_lo dc (by omega)]; exact z2 p hp
        · obtain ⟨p, p1, p2⟩ := z3 a ha
          exact ⟨p, p1, by rw [cd_cp_lo dc (by omega)]; exact p2⟩
    · by_cases e' : d = jc
      · subst e'; rw [show 5 * 64 + d = 320 + d by omega, cd_us, cd_us]
      · rw [cd_un (by omega), cd_un e']; exact j4 d (by omega)
  · unfold wpY_addJd
    dsimp only
    rw [d2, j3]
    exact br_f (show ¬ nI dc < nI 2 from nI_nlt q (by omega)) (br_t (show nI dc ≤ nI 4 from nI_le q2 (by decide)) (cd_yDU d1 d2 (fun i hi => (d3 i hi).1) (br_t (congrArg nI e) (br_f (nI_nlt q3 (by omega)) ⟨rfl, R⟩))))
  · unfold wpY_addJd
    dsimp only
    rw [d2, j3]
    exact br_f (show ¬ nI dc < nI 2 from nI_nlt q (by omega)) (br_t (show nI dc ≤ nI 4 from nI_le q2 (by decide)) (cd_yDU d1 d2 (fun i hi => (d3 i hi).1) (br_f (fun w => e ((nI_eq (by omega) (by omega)).mp w)) ⟨rfl, R⟩)))
  · unfold wpY_addJd
    dsimp only
    rw [d2]
    exact br_f (show ¬ nI dc < nI 2 from nI_nlt q (by omega)) (br_f (show ¬ nI dc ≤ nI 4 from nI_ge q2 (by omega)) ⟨rfl, R⟩)
end
section
def cd_sh4 (P : Nat → Nat) (lo hi : Nat) : Nat → Nat := fun i => if lo ≤ i ∧ i < hi then P (i + 4) else P i
theorem cd_sh4_in {P : Nat → Nat} {lo hi i : Nat} (h : lo ≤ i ∧ i < hi) : cd_sh4 P lo hi i = P (i + 4) := if_pos h
theorem cd_sh4_out {P : Nat → Nat} {lo hi i : Nat} (h : ¬ (lo ≤ i ∧ i < hi)) : cd_sh4 P lo hi i = P i := if_neg h
theorem cd_sh4_s {P : Nat → Nat} {lo q : Nat} (h : lo ≤ q) : cd_up (cd_sh4 P lo q) q (cd_sh4 P lo q (q + 4)) = cd_sh4 P lo (q + 1) := by
  funext i
  rw [cd_sh4_out (by omega)]
  by_cases e : i = q
  · subst e; rw [cd_us, cd_sh4_in (by omega)]
  · rw [cd_un e]
    by_cases w : lo ≤ i ∧ i < q
    · rw [cd_sh4_in w, cd_sh4_in (by omega)]
    · rw [cd_sh4_out w, cd_sh4_out (by omega)]
theorem cd_sh4_0 (P : Nat → Nat) (lo : Nat) : cd_sh4 P lo lo = P := by
  funext i; exact cd_sh4_out (by omega)
section
variable {n al mf mj fc jc dc fD kc vc sc fT rc qc : Nat} {aL aR aC aP aZ aD aK aV aW aS aU aI aA aQ aO aF : Nat → Nat}
theorem cd_xDJ42 {post : Int32 → SX → Prop} {J : Int32 → (Nat → Int32) → (Nat → Int32) → (Nat → Int32) → (Nat → Int32) → (Nat → Int32) → (Nat → Int32) → (Nat → Int32) → (Nat → Int32) → (Nat → Int32) → (Nat → Int32) → (Nat → Int32) → (Nat → Int32) → (Nat → Int32) → (Nat → Int32) → (Nat → Int32) → (Nat → Int32) → Prop} {i lo : Nat} {P : Nat → Nat} (hi : i < 2) (hlo : lo ≤ i * 4) (hJ : J (nI (i + 1)) (nF aL) (nF aR) (nF aC) (nF (cd_sh4 P lo ((i + 1) * 4))) (nF aZ) (nF aD) (nF aK) (nF aV) (nF aW) (nF aS) (nF aU) (nF aI) (nF aA) (nF aQ) (nF aO) (nF aF)) :
    ∀ k p, p + k = 4 → wX_dropJd_42 post J (nI i) (nI n) (nI al) (nI mf) (nI mj) (nI fc) (nI jc) (nI dc) (nI fD) (nI kc) (nI vc) (nI sc) (nI fT) (nI rc) (nI qc) (k + 1) (nI p) (nF aL) (nF aR) (nF aC) (nF (cd_sh4 P lo (i * 4 + p))) (nF aZ) (nF aD) (nF aK) (nF aV) (nF aW) (nF aS) (nF aU) (nF aI) (nF aA) (nF aQ) (nF aO) (nF aF) := by
  intro k
  induction k with
  | zero =>
    intro p h
    have e : p = 4 := by omega
    subst e
    rw [wX_dropJd_42]
    rw [show (i + 1) * 4 = i * 4 + 4 by omega] at hJ
    exact br_t (show (4 : Int32) ≤ nI 4 from by decide) (nm_r (nI_1 i) hJ)
  | succ k ih =>
    intro p h
    have i1 : nI i * 4 = nI (i * 4) := pk_mul i 4
    have ix : nI (i * 4) + nI p = nI (i * 4 + p) := nI_add _ _
    have iy : nI (i * 4) + 4 + nI p = nI (i * 4 + p + 4) := by
      rw [show nI (i * 4) + 4 = nI (i * 4 + 4) from nI_add _ 4, nI_add]; exact congrArg nI (by omega)
    have c1 : (nI (i * 4 + p)).toNatClampNeg = i * 4 + p := nI_clamp (by omega)
    have c2 : (nI (i * 4 + p + 4)).toNatClampNeg = i * 4 + p + 4 := nI_clamp (by omega)
    have I := ih (p + 1) (by omega)
    rw [show i * 4 + (p + 1) = i * 4 + p + 1 by omega, ← cd_sh4_s (by omega)] at I
    rw [wX_dropJd_42]
    dsimp only
    rw [i1, ix, iy, c1, c2]
    exact br_f (nI_ge (b := 4) (by omega) (by decide)) ⟨vp_in_nI (by omega) (by omega), vp_in_nI (by omega) (by omega), nm_r (cd_upd _ _ _) (nm_r (nI_1 p) I)⟩
theorem cd_xDJ16 {post : Int32 → SX → Prop} {j c : Nat} {P Z : Nat → Nat} (hc : c < 3) (hj : j ≤ c) (hjc : jc = c + 1)
    (hp : ∀ Z' : Nat → Nat, (∀ i, i < c → Z' i = cd_del Z j i) → post (nI c) ((nI n), (nI al), (nI mf), (nI mj), (nI fc), (nI (c)), (nI dc), (nI fD), (nI kc), (nI vc), (nI sc), (nI (0)), (nI (0)), (nI qc), (nF aL), (nF aR), (nF aC), (nF (cd_sh4 P (j * 4) (c * 4))), (nF (Z')), (nF aD), (nF aK), (nF aV), (nF aW), (nF aS), (nF aU), (nF aI), (nF aA), (nF aQ), (nF aO), (nF aF))) :
    ∀ k i, i + k = c → j ≤ i → ∀ Z' : Nat → Nat, (∀ i', i' < i → Z' i' = cd_del Z j i') → (∀ i', i ≤ i' → Z' i' = Z i') → wX_dropJd_16 post (nI n) (nI al) (nI mf) (nI mj) (nI fc) (nI jc) (nI dc) (nI fD) (nI kc) (nI vc) (nI sc) (nI fT) (nI rc) (nI qc) (k + 1) (nI i) (nF aL) (nF aR) (nF aC) (nF (cd_sh4 P (j * 4) (i * 4))) (nF (Z')) (nF aD) (nF aK) (nF aV) (nF aW) (nF aS) (nF aU) (nF aI) (nF aA) (nF aQ) (nF aO) (nF aF) := by
  subst hjc
  intro k
  induction k with
  | zero =>
    intro i h hj' Z' h1 h2
    have e : i = c := by omega
    subst e
    rw [wX_dropJd_16]
    dsimp only
    rw [nI_pred]
    exact br_t (nI_le (Nat.le_refl _) (by omega)) (nm_e (hp Z' h1))
  | succ k ih =>
    intro i h hj' Z' h1 h2
    have c1 : (nI i).toNatClampNeg = i := nI_clamp (by omega)
    have c2 : (nI (i + 1)).toNatClampNeg = i + 1 := nI_clamp (by omega)
    rw [wX_dropJd_16]
    dsimp only
    rw [nI_pred, nI_1 i, c1, c2]
    refine br_f (nI_ge (by omega) (by omega)) ⟨vp_in_nI (by omega) (by omega), vp_in_nI (by omega) (by omega), nm_r (cd_upd Z' i (Z' (i + 1))) ⟨5, cd_xDJ42 (by omega) (by omega) (ih (i + 1) (by omega) (by omega) _ (fun i' hi' => ?_) (fun i' hi' => ?_)) 4 0 rfl⟩⟩
    · by_cases e : i' = i
      · subst e; rw [cd_us, cd_del_ge (by omega)]; exact h2 (i' + 1) (by omega)
      · rw [cd_un e]; exact h1 i' (by omega)
    · rw [cd_un (by omega)]; exact h2 i' (by omega)
end
section
variable {n al mf mj : Nat}
variable {yL yP yC yK yS yU : Nat → Nat} {ys : Nat → Int32}
theorem cd_yDJ20 {post : Int32 → SY → Prop} {j c : Nat} {P : Nat → Nat} (hc : c < 3) (hj : j ≤ c) (h5 : ys 5 = nI (c + 1))
    (hp : ∀ y s, (∀ i, i < 320 ∨ 384 ≤ i → y i = yL i) → (∀ i, i < c → y (320 + i) = cd_del (fun i => yL (320 + i)) j i) → (∀ i, i ≠ 5 → i ≠ 6 → s i = ys i) → s 5 = nI c → s 6 = -7 → post (nI c) ((nI n), (nI al), (nI mf), (nI mj), (nF (y)), (s), (nF (cd_sh4 P (j * 4) (c * 4))), (nF yC), (nF yK), (nF yS), (nF yU))) :
    ∀ k q, q + k = c * 4 → j * 4 ≤ q → wY_dropJd_20 post (nI j) (nI n) (nI al) (nI mf) (nI mj) (k + 1) (nI q) (nF yL) ys (nF (cd_sh4 P (j * 4) q)) (nF yC) (nF yK) (nF yS) (nF yU) := by
  intro k
  induction k with
  | zero =>
    intro q h hq
    have e : q = c * 4 := by omega
    subst e
    rw [wY_dropJd_20]
    dsimp only
    rw [h5, show nI (c + 1) * 4 = nI ((c + 1) * 4) from pk_mul _ 4, show nI (c * 4) + 4 = nI (c * 4 + 4) from nI_add _ 4]
    exact br_t (nI_le (by omega) (by omega)) (nm_e (cd_yRm 5 c j (by decide) (by omega) hj ((pk_un (by decide)).trans h5) fun y s g1 g2 g3 g4 => hp y s g1 g2 (fun i h5 h6 => (g3 i h5).trans (pk_un h6)) g4 ((g3 6 (by decide)).trans pk_us)))
  | succ k ih =>
    intro q h hq
    have c1 : (nI q).toNatClampNeg = q := nI_clamp (by omega)
    have c2 : (nI (q + 4)).toNatClampNeg = q + 4 := nI_clamp (by omega)
    have I := ih (q + 1) (by omega) (by omega)
    rw [← cd_sh4_s hq] at I
    rw [wY_dropJd_20]
    dsimp only
    rw [h5, show nI (c + 1) * 4 = nI ((c + 1) * 4) from pk_mul _ 4, show nI q + 4 = nI (q + 4) from nI_add _ 4, c1, c2]
    exact br_f (nI_ge (by omega) (by omega)) ⟨vp_in_nI (by omega) (by omega), vp_in_nI (by omega) (by omega), nm_r (cd_upd _ _ _) (nm_r (nI_1 q) I)⟩
end
theorem i_vc_dropJd {k : Nat} {u : SX} {v : SY} (I : i_Rel k u v) (hk : k + 3 ≤ 1539) (v1 : Int32) : wpX_dropJd (fun r u' => wpY_dropJd (fun r' v' => r' = r ∧ i_Rel (k + 3) u' v') v v1) u v1 := by
  refine cd_el (P := fun u v => wpX_dropJd (fun r u' => wpY_dropJd (fun r' v' => r' = r ∧ i_Rel (k + 3) u' v') v v1) u v1) I ?_
  intro n al mf mj fc jc dc fD kc vc sc fT rc qc aL aR aC aP aZ aD aK aV aW aS aU aI aA aQ aO aF yL ys yC yK yS yU h1 h2 h3 h4 h5 h6 h7
  obtain ⟨j1, j2, j3, j4⟩ := h3
  have H3 : cd_RJ n al mj jc aP aZ yL ys := ⟨j1, j2, j3, j4⟩
  have hmj := h1.2.2
  have R : i_Rel (k + 3) ((nI n), (nI al), (nI mf), (nI mj), (nI fc), (nI jc), (nI dc), (nI fD), (nI kc), (nI vc), (nI sc), (nI fT), (nI rc), (nI qc), (nF aL), (nF aR), (nF aC), (nF aP), (nF aZ), (nF aD), (nF aK), (nF aV), (nF aW), (nF aS), (nF aU), (nF aI), (nF aA), (nF aQ), (nF aO), (nF aF)) ((nI n), (nI al), (nI mf), (nI mj), (nF yL), ys, (nF (aP)), (nF yC), (nF yK), (nF yS), (nF yU)) := cd_mk h1 h2 H3 h4 h5 h6 h7
  unfold wpX_dropJd
  by_cases hneg : v1 < 0
  · refine br_t hneg ?_
    unfold wpY_dropJd
    exact br_t hneg ⟨rfl, R⟩
  refine br_f hneg ?_
  obtain ⟨j, hj, rfl⟩ := nI_of hneg
  refine pk_lt j jc (fun hlt => ?_) (fun hge => ?_)
  · obtain ⟨c, rfl⟩ : ∃ c, jc = c + 1 := ⟨jc - 1, by omega⟩
    refine ⟨c - j + 1, ?_⟩
    have X := cd_xDJ16 (post := fun r u' => wpY_dropJd (fun r' v' => r' = r ∧ i_Rel (k + 3) u' v') ((nI n), (nI al), (nI mf), (nI mj), (nF yL), ys, (nF (aP)), (nF yC), (nF yK), (nF yS), (nF yU)) (nI j)) (j := j) (c := c) (P := aP) (Z := aZ) (mf := mf) (mj := mj) (fc := fc) (dc := dc) (fD := fD) (kc := kc) (vc := vc) (sc := sc) (fT := fT) (rc := rc) (qc := qc) (n := n) (al := al) (aL := aL) (aR := aR) (aC := aC) (aD := aD) (aK := aK) (aV := aV) (aW := aW) (aS := aS) (aU := aU) (aI := aI) (aA := aA) (aQ := aQ) (aO := aO) (aF := aF) (by omega) (by omega) rfl (fun Z' hZ' => ?_) (c - j) j (by omega) (Nat.le_refl _) aZ (fun i' hi' => (cd_del_lt hi').symm) (fun _ _ => rfl)
    · rw [cd_sh4_0] at X; exact X
    unfold wpY_dropJd
    refine br_f hneg ?_
    dsimp only
    rw [j3]
    refine br_t (nI_lt hlt (by omega)) (nm_r (pk_mul j 4) ⟨c * 4 - j * 4 + 1, ?_⟩)
    have Y := cd_yDJ20 (post := fun r' v' => r' = nI c ∧ i_Rel (k + 3) ((nI n), (nI al), (nI mf), (nI mj), (nI fc), (nI (c)), (nI dc), (nI fD), (nI kc), (nI vc), (nI sc), (nI (0)), (nI (0)), (nI qc), (nF aL), (nF aR), (nF aC), (nF (cd_sh4 aP (j * 4) (c * 4))), (nF (Z')), (nF aD), (nF aK), (nF aV), (nF aW), (nF aS), (nF aU), (nF aI), (nF aA), (nF aQ), (nF aO), (nF aF)) v') (n := n) (al := al) (mf := mf) (mj := mj) (yL := yL) (ys := ys) (yC := yC) (yK := yK) (yS := yS) (yU := yU) (j := j) (c := c) (P := aP) (by omega) (by omega) j3 (fun y s g1 g2 g3 g4 g5 => ⟨rfl, ?_⟩) (c * 4 - j * 4) (j * 4) (by omega) (Nat.le_refl _)
    · rw [cd_sh4_0] at Y; exact Y
    refine cd_mk h1 (cd_RF_fr h1.2.1 (fun i hi => g1 i (by omega)) (g3 0 (by decide) (by decide)) h2) ⟨by omega, fun d hd => ?_, g4, fun d hd => ?_⟩ (cd_RD_fr (fun i hi => g1 _ (by omega)) (g3 1 (by decide) (by decide)) h4) (cd_RG_fr (fun i hi => g1 _ (by omega)) (g3 2 (by decide) (by decide)) (g3 3 (by decide) (by decide)) (g3 4 (by decide) (by decide)) h5) (Or.inl ⟨rfl, g5⟩) h7
    · rw [hZ' d hd]
      by_cases q : d < j
      · rw [cd_del_lt q]
        obtain ⟨z1, z2, z3⟩ := j2 d (by omega)
        refine ⟨z1, fun p hp => ?_, fun a ha => ?_⟩
        · rw [cd_sh4_out (by omega)]; exact z2 p hp
        · obtain ⟨p, p1, p2⟩ := z3 a ha
          exact ⟨p, p1, by rw [cd_sh4_out (by omega)]; exact p2⟩
      · rw [cd_del_ge q]
        obtain ⟨z1, z2, z3⟩ := j2 (d + 1) (by omega)
        have e : ∀ p, p < aZ (d + 1) → cd_sh4 aP (j * 4) (c * 4) (d * 4 + p) = aP ((d + 1) * 4 + p) := fun p hp => by
          rw [cd_sh4_in (by omega)]; exact congrArg aP (by omega)
        refine ⟨z1, fun p hp => ?_, fun a ha => ?_⟩
        · rw [e p hp]; exact z2 p hp
        · obtain ⟨p, p1, p2⟩ := z3 a ha
          exact ⟨p, p1, by rw [e p p1]; exact p2⟩
    · rw [g2 d hd, hZ' d hd]
      by_cases q : d < j
      · rw [cd_del_lt q, cd_del_lt q]; exact j4 d (by omega)
      · rw [cd_del_ge q, cd_del_ge q]; exact j4 (d + 1) (by omega)
  · unfold wpY_dropJd
    refine br_f hneg ?_
    dsimp only
    rw [j3]
    exact br_f (nI_nlt hge (by omega)) ⟨rfl, R⟩
theorem i_vc_jdPart {k : Nat} {u : SX} {v : SY} (I : i_Rel k u v) (hk : k + 3 ≤ 1539) (v1 : Int32) (v2 : Int32) : wpX_jdPart (fun r => wpY_jdPart (fun r' => r' = r ∧ i_Rel (k + 3) u v) v v1 v2) u v1 v2 := by
  refine cd_el (P := fun u v => wpX_jdPart (fun r => wpY_jdPart (fun r' => r' = r ∧ i_Rel (k + 3) u v) v v1 v2) u v1 v2) I ?_
  intro n al mf mj fc jc dc fD kc vc sc fT rc qc aL aR aC aP aZ aD aK aV aW aS aU aI aA aQ aO aF yL ys yC yK yS yU h1 h2 h3 h4 h5 h6 h7
  obtain ⟨j1, j2, j3, j4⟩ := h3
  have R : i_Rel (k + 3) ((nI n), (nI al), (nI mf), (nI mj), (nI fc), (nI jc), (nI dc), (nI fD), (nI kc), (nI vc), (nI sc), (nI fT), (nI rc), (nI qc), (nF aL), (nF aR), (nF aC), (nF aP), (nF aZ), (nF aD), (nF aK), (nF aV), (nF aW), (nF aS), (nF aU), (nF aI), (nF aA), (nF aQ), (nF aO), (nF aF)) ((nI n), (nI al), (nI mf), (nI mj), (nF yL), ys, (nF (aP)), (nF yC), (nF yK), (nF yS), (nF yU)) := cd_mk h1 h2 ⟨j1, j2, j3, j4⟩ h4 h5 h6 h7
  have hmj := h1.2.2
  unfold wpX_jdPart wpY_jdPart
  dsimp only
  rw [j3]
  by_cases hneg : v1 < 0
  · exact br_t hneg (br_t hneg ⟨rfl, R⟩)
  refine br_f hneg ?_
  obtain ⟨d, hd, rfl⟩ := nI_of hneg
  refine pk_lt d jc (fun hlt => ?_) (fun hge => br_f hneg (br_t (nI_le hge hd) ⟨rfl, R⟩))
  have cd : (nI d).toNatClampNeg = d := nI_clamp hd
  have e320 : (320 : Int32) + nI d = nI (320 + d) := nI_add 320 d
  have c3 : (nI (320 + d)).toNatClampNeg = 320 + d := nI_clamp (by omega)
  have i1 : nI d * 4 = nI (d * 4) := pk_mul d 4
  obtain ⟨z1, z2, z3⟩ := j2 d hlt
  rw [cd, e320, c3, i1, show nF yL (320 + d) = nI (aZ d) from congrArg nI (j4 d hlt)]
  by_cases hn2 : v2 < 0
  · exact br_t hn2 (br_f hneg (br_f (nI_ge hlt (by omega)) (br_t hn2 ⟨rfl, R⟩)))
  refine br_f hn2 ⟨vp_in_nI (by omega) (by omega), ?_⟩
  obtain ⟨p, hp, rfl⟩ := nI_of hn2
  rw [nI_add]
  refine pk_lt p (aZ d) (fun hlp => ?_) (fun hgp => br_f hneg (br_f (nI_ge hlt (by omega)) (br_f hn2 ⟨vp_in_nI (by omega) (by omega), br_f (nI_nlt hgp hp) ⟨rfl, R⟩⟩)))
  have cp : (nI (d * 4 + p)).toNatClampNeg = d * 4 + p := nI_clamp (by omega)
  exact ⟨vp_in_nI (by omega) (by omega), br_f hneg (br_f (nI_ge hlt (by omega)) (br_f hn2 ⟨vp_in_nI (by omega) (by omega), br_t (nI_lt hlp (by omega)) ⟨vp_in_nI (by omega) (by omega), rfl, R⟩⟩))⟩
theorem i_vc_closure {k : Nat} {u : SX} {v : SY} (I : i_Rel k u v) (hk : k + 3 ≤ 1539) (v1 : Int32) : wpX_closure (fun r => wpY_closure (fun r' => r' = r ∧ i_Rel (k + 3) u v) v v1) u v1 := by
  refine cd_el (P := fun u v => wpX_closure (fun r => wpY_closure (fun r' => r' = r ∧ i_Rel (k + 3) u v) v v1) u v1) I ?_
  intro n al mf mj fc jc dc fD kc vc sc fT rc qc aL aR aC aP aZ aD aK aV aW aS aU aI aA aQ aO aF yL ys yC yK yS yU h1 h2 h3 h4 h5 h6 h7
  have hal := (cd_N_al h1.1).1
  have R : i_Rel (k + 3) ((nI n), (nI al), (nI mf), (nI mj), (nI fc), (nI jc), (nI dc), (nI fD), (nI kc), (nI vc), (nI sc), (nI fT), (nI rc), (nI qc), (nF aL), (nF aR), (nF aC), (nF aP), (nF aZ), (nF aD), (nF aK), (nF aV), (nF aW), (nF aS), (nF aU), (nF aI), (nF aA), (nF aQ), (nF aO), (nF aF)) ((nI n), (nI al), (nI mf), (nI mj), (nF yL), ys, (nF (aP)), (nF yC), (nF yK), (nF yS), (nF yU)) := cd_mk h1 h2 h3 h4 h5 h6 h7
  have hmf := h1.2.1
  obtain ⟨f1, f2, f3, f4, f5⟩ := id h2
  unfold wpX_closure
  refine cd_xIM hal (cd_br (fun g => ?_) (fun g => ?_))
  · unfold wpY_closure
    exact cd_yIM hal (cd_br (fun _ => ⟨rfl, R⟩) (fun g' => absurd g' g))
  · obtain ⟨m, hm, rfl⟩ := id g
    rw [nI_clamp (by omega), show nF aC m = nI (cd_cl al aL aR fc m) from congrArg nI (f3 m hm)]
    refine ⟨vp_in_nI (by omega) (by omega), ?_⟩
    unfold wpY_closure
    exact cd_yIM hal (cd_br (fun g' => absurd g g') (fun _ => cd_yL0 hal (by omega) hm f4 (cd_RF_Y h2) ⟨rfl, R⟩))
theorem i_vc_normalForm {k : Nat} {u : SX} {v : SY} (I : i_Rel k u v) (hk : k + 3 ≤ 1539) (v1 : Int32) : wpX_normalForm (fun r => wpY_normalForm (fun r' v' => r' = r ∧ i_Rel (k + 3) u v') v v1) u v1 := by
  refine cd_el (P := fun u v => wpX_normalForm (fun r => wpY_normalForm (fun r' v' => r' = r ∧ i_Rel (k + 3) u v') v v1) u v1) I ?_
  intro n al mf mj fc jc dc fD kc vc sc fT rc qc aL aR aC aP aZ aD aK aV aW aS aU aI aA aQ aO aF yL ys yC yK yS yU h1 h2 h3 h4 h5 h6 h7
  have hN := h1.1
  have hal := (cd_N_al hN).1
  have R : ∀ C K : Nat → Nat, i_Rel (k + 3) ((nI n), (nI al), (nI mf), (nI mj), (nI fc), (nI jc), (nI dc), (nI fD), (nI kc), (nI vc), (nI sc), (nI fT), (nI rc), (nI qc), (nF aL), (nF aR), (nF aC), (nF aP), (nF aZ), (nF aD), (nF aK), (nF aV), (nF aW), (nF aS), (nF aU), (nF aI), (nF aA), (nF aQ), (nF aO), (nF aF)) ((nI n), (nI al), (nI mf), (nI mj), (nF yL), ys, (nF (aP)), (nF (C)), (nF (K)), (nF yS), (nF yU)) := fun C K => cd_mk h1 h2 h3 h4 h5 h6 h7
  have hmf := h1.2.1
  obtain ⟨f1, f2, f3, f4, f5⟩ := id h2
  have M : cd_Mo al (cd_cl al aL aR fc) := fun x y hy s => cd_cl_mono hN (fun i hi => (f2 i hi).2) hy s
  unfold wpX_normalForm
  refine cd_xIP hal (cd_br (fun g => ?_) (fun g => ?_))
  · unfold wpY_normalForm
    exact cd_yIM hal (cd_br (fun _ => ⟨rfl, R _ _⟩) (fun g' => br_t (Classical.byContradiction fun w => g ((cd_IP_iff (by omega)).mpr ⟨g', w⟩)) ⟨rfl, R _ _⟩))
  · have g2 := (cd_IP_iff (by omega)).mp g
    obtain ⟨s, s0, sl, rfl⟩ := g
    refine cd_xPA hN f3 M sl ⟨s + 1 + 1, cd_xNF21 hN f3 M sl ?_ (s + 1) 0 (by omega)⟩
    unfold wpY_normalForm
    refine cd_yIM hal (cd_br (fun g' => absurd g2.1 g') (fun _ => br_f g2.2 (cd_yMK hal (by omega) f4 (cd_RF_Y h2) sl fun C K hC hK => ⟨al + 1 + 1, cd_yNF23 hN hC hK sl ⟨?_, R C K⟩ (al + 1) 0 (by omega)⟩)))
    have := cd_nf_hi (G := cd_cl al aL aR fc) (s := s) (al - s)
    rw [show s + 1 + (al - s) = al + 1 by omega] at this
    rw [this]
theorem i_vc_violation {k : Nat} {u : SX} {v : SY} (I : i_Rel k u v) (hk : k + 3 ≤ 1539) (v1 : Int32) : wpX_violation (fun r => wpY_violation (fun r' v' => r' = r ∧ i_Rel (k + 3) u v') v v1) u v1 := by
  refine cd_el (P := fun u v => wpX_violation (fun r => wpY_violation (fun r' v' => r' = r ∧ i_Rel (k + 3) u v') v v1) u v1) I ?_
  intro n al mf mj fc jc dc fD kc vc sc fT rc qc aL aR aC aP aZ aD aK aV aW aS aU aI aA aQ aO aF yL ys yC yK yS yU h1 h2 h3 h4 h5 h6 h7
  have hN := h1.1
  have hal := (cd_N_al hN).1
  have R : ∀ C : Nat → Nat, i_Rel (k + 3) ((nI n), (nI al), (nI mf), (nI mj), (nI fc), (nI jc), (nI dc), (nI fD), (nI kc), (nI vc), (nI sc), (nI fT), (nI rc), (nI qc), (nF aL), (nF aR), (nF aC), (nF aP), (nF aZ), (nF aD), (nF aK), (nF aV), (nF aW), (nF aS), (nF aU), (nF aI), (nF aA), (nF aQ), (nF aO), (nF aF)) ((nI n), (nI al), (nI mf), (nI mj), (nF yL), ys, (nF (aP)), (nF (C)), (nF yK), (nF yS), (nF yU)) := fun C => cd_mk h1 h2 h3 h4 h5 h6 h7
  have hmf := h1.2.1
  obtain ⟨f1, f2, f3, f4, f5⟩ := id h2
  unfold wpX_violation
  refine cd_xIP hal (cd_br (fun g => ?_) (fun g => ?_))
  · unfold wpY_violation
    exact cd_yIM hal (cd_br (fun _ => ⟨rfl, R _⟩) (fun g' => br_t (Classical.byContradiction fun w => g ((cd_IP_iff (by omega)).mpr ⟨g', w⟩)) ⟨rfl, R _⟩))
  · have g2 := (cd_IP_iff (by omega)).mp g
    obtain ⟨s, s0, sl, rfl⟩ := g
    refine ⟨s + 1 + 1, cd_xVi12 (G := cd_cl al aL aR fc) hN f3 sl (s + 1) 0 (by omega) ?_⟩
    unfold wpY_violation
    refine cd_yIM hal (cd_br (fun g' => absurd g2.1 g') (fun _ => br_f g2.2 (cd_yCA hal (by omega) f4 (cd_RF_Y h2) fun C hC => ⟨al + 1 + 1, cd_yVi20 (G := cd_cl al aL aR fc) hN hC sl (al + 1) 0 (by omega) ⟨?_, R C⟩⟩)))
    have := cd_v2_ext (f := cd_vb (cd_cl al aL aR fc) s) (n := n) (s + 1) (al - s) 0 (fun y hy => cd_vb_f fun z => by have := cd_Su_le z.1; omega)
    rw [show s + 1 + (al - s) = al + 1 by omega] at this
    exact this
theorem i_vc_lostFd {k : Nat} {u : SX} {v : SY} (I : i_Rel k u v) (hk : k + 3 ≤ 1539) : wpX_lostFd (fun r => wpY_lostFd (fun r' v' => r' = r ∧ i_Rel (k + 3) u v') v) u := by
  refine cd_el (P := fun u v => wpX_lostFd (fun r => wpY_lostFd (fun r' v' => r' = r ∧ i_Rel (k + 3) u v') v) u) I ?_
  intro n al mf mj fc jc dc fD kc vc sc fT rc qc aL aR aC aP aZ aD aK aV aW aS aU aI aA aQ aO aF yL ys yC yK yS yU h1 h2 h3 h4 h5 h6 h7
  have hN := h1.1
  have hal := (cd_N_al hN).1
  have R : ∀ C : Nat → Nat, i_Rel (k + 3) ((nI n), (nI al), (nI mf), (nI mj), (nI fc), (nI jc), (nI dc), (nI fD), (nI kc), (nI vc), (nI sc), (nI fT), (nI rc), (nI qc), (nF aL), (nF aR), (nF aC), (nF aP), (nF aZ), (nF aD), (nF aK), (nF aV), (nF aW), (nF aS), (nF aU), (nF aI), (nF aA), (nF aQ), (nF aO), (nF aF)) ((nI n), (nI al), (nI mf), (nI mj), (nF yL), ys, (nF (aP)), (nF (C)), (nF yK), (nF yS), (nF yU)) := fun C => cd_mk h1 h2 h3 h4 h5 h6 h7
  have hmf := h1.2.1
  obtain ⟨f1, f2, f3, f4, f5⟩ := id h2
  obtain ⟨d1, d2, d3⟩ := id h4
  have FR : ∀ i, i < fc → aR i ≤ al := fun i hi => (f2 i hi).2
  have M : cd_Mo al (cd_cl al aL aR fc) := fun x y hy s => cd_cl_mono hN FR hy s
  refine Exists.intro (fc + 1) (cd_xLF2 hN (by omega) d1 f2 f3 M (fun i hi => (d3 i hi).2) fc 0 (by omega) ?_)
  unfold wpY_lostFd
  exact cd_yCA hal (by omega) f4 (cd_RF_Y h2) fun C hC => ⟨fc + 1, cd_yLF6 (G := cd_cl al aL aR fc) hN (by omega) d1 f4 d2 (cd_RF_Y h2) hC (fun m hm => cd_cl_le hN FR hm) d3 fc 0 (by omega) ⟨rfl, R C⟩⟩
theorem i_vc_design {k : Nat} {u : SX} {v : SY} (I : i_Rel k u v) (hk : k + 3 ≤ 1539) : wpX_design (fun r u' => wpY_design (fun r' v' => r' = r ∧ i_Rel (k + 3) u' v') v) u := by
  refine cd_el (P := fun u v => wpX_design (fun r u' => wpY_design (fun r' v' => r' = r ∧ i_Rel (k + 3) u' v') v) u) I ?_
  intro n al mf mj fc jc dc fD kc vc sc fT rc qc aL aR aC aP aZ aD aK aV aW aS aU aI aA aQ aO aF yL ys yC yK yS yU h1 h2 h3 h4 h5 h6 h7
  have hN := h1.1
  have hal := (cd_N_al hN).1
  have hmf := h1.2.1
  obtain ⟨f1, f2, f3, f4, f5⟩ := id h2
  have FR : ∀ i, i < fc → aR i ≤ al := fun i hi => (f2 i hi).2
  obtain ⟨x0, a1, a2, a3⟩ := cd_key0 (G := cd_cl al aL aR fc) (cd_cl_ext hN FR (Nat.le_refl _))
  refine cd_xDes hN (by omega) f2 f3 a1 a2 a3 fun K V X S U I' hK hV hX hS => ?_
  refine cd_yDes (L := aL) (R := aR) hN (by omega) f4 (cd_RF_Y h2) a1 a2 a3 fun y s C K' S' T g1 g2 g3 g4 g5 g6 g7 g8 => ⟨rfl, ?_⟩
  refine cd_mk h1 (cd_RF_fr hmf (fun i hi => g1 i (by omega)) (g2 0 (by decide) (by decide) (by decide)) h2) (cd_RJ_fr h1.2.2 (fun i hi => g1 _ (by omega)) (g2 5 (by decide) (by decide) (by decide)) h3) (cd_RD_fr (fun i hi => g1 _ (by omega)) (g2 1 (by decide) (by decide) (by decide)) h4) (Or.inr ⟨rfl, Nat.le_trans (cd_cn_le _ _) (by omega), Nat.le_trans (cd_cn_le _ _) (by omega), Nat.le_trans (cd_cn_le _ _) (by omega), g3, g4, g5, fun i hi => ?_, fun i hi => ?_, fun i hi => ?_⟩) (cd_RT_fr (fun i hi => g1 _ (by omega)) (g2 6 (by decide) (by decide) (by decide)) h6) h7
  · obtain ⟨x, q1, q2, q3, q4⟩ := cd_En_eq hK g6 hi
    exact q4.trans q3.symm
  · obtain ⟨x, q1, q2, q3⟩ := cd_cn_hit (al + 1) hi
    have e1 := hV x q1 q2
    have e2 := hX x q1 q2
    have e3 := g7 x q1 q2
    rw [q3] at e1 e2 e3
    rw [e1, e2]; exact e3
  · obtain ⟨x, q1, q2, q3, q4⟩ := cd_En_eq hS g8 hi
    exact ⟨q4.trans q3.symm, by rw [q3]; show x ≤ al; omega⟩
end
section
theorem cd_fin {n fc jc c r μ1 μ2 : Nat} {L R Z P A y : Nat → Nat} {T1 T2 : Nat → Prop} (e : ∀ t, T1 t ↔ T2 t) (C1 : cd_CS n fc jc L R Z P T1 μ1 (cd_Set A c)) (C2 : cd_CS n fc jc L R Z P T2 μ2 (cd_Set (cd_rw y) r)) (S1 : cd_Srt A c) (S2 : cd_Srt (cd_rw y) r) (F1 : cd_ClF n fc L R (cd_Set A c)) (J1 : cd_ClJ n jc Z P (cd_Set A c)) (F2 : cd_ClF n fc L R (cd_Set (cd_rw y) r)) (J2 : cd_ClJ n jc Z P (cd_Set (cd_rw y) r)) : c = r ∧ ∀ i, i < c → A i = cd_rw y i :=
  cd_srt_eq S1 S2 (cd_CS_uniq C1 (cd_CS_congr0 (fun t => (e t).symm) C2) F1 J1 F2 J2)
theorem cd_cn_sk {P : Nat → Prop} {a b : Nat} (h : a ≤ b) (g : ∀ j, a ≤ j → j < b → ¬ P j) : cd_cn P b = cd_cn P a := by
  have := cd_cn_skip (P := P) (a := a) (b - a) (fun j h1 h2 => g j h1 (by omega))
  rw [show a + (b - a) = b by omega] at this
  exact this
theorem cd_W_2 {T : Nat → Prop} : ∀ n, (∀ a, a < n → ∀ s, cd_pr_ T a s → s < 2) → cd_W T n ≤ 2 ^ n
  | 0, _ => Nat.le_refl _
  | n + 1, h => by
    have ih := cd_W_2 n (fun a ha => h a (by omega))
    have e := cd_cn_sk (P := cd_pr_ T n) (a := 2) (b := 21) (by omega) (fun j h1 _ q => by have := h n (by omega) j q; omega)
    have l := cd_cn_le (cd_pr_ T n) 2
    show cd_W T n * cd_cn (cd_pr_ T n) 21 ≤ 2 ^ n * 2
    exact Nat.mul_le_mul ih (by omega)
/-- a start row -/
theorem cd_start_ok {n al x v : Nat} (hN : cd_N n al) (hv : v ≤ 20) : cd_Ok n (cd_on (cd_df al x) * v) ∧ ∀ a, a < 6 → cd_sy (cd_on (cd_df al x) * v) a = if (cd_df al x).testBit a then v else 0 := by
  have hal := (cd_N_al hN).1
  have l := cd_df_le al x
  have s := cd_on_sy (cd_df al x) (by omega)
  refine ⟨⟨cd_on_v _ (by omega) v (by omega), fun a ha => ?_⟩, fun a ha => s a ha v (by omega)⟩
  rw [s a ha v (by omega)]
  constructor
  · split <;> omega
  · intro hna
    have : (cd_df al x).testBit a = false := by
      rw [cd_df_t, cd_N_tb hN, decide_eq_false (by omega)]; rfl
    rw [this]; rfl
section
variable {n al mf mj fc jc dc fD kc vc sc fT rc qc : Nat} {aL aR aC aP aZ aD aK aV aW aS aU aI aA aQ aO aF : Nat → Nat}
theorem cd_xC57 {post : Int32 → SX → Prop} {x : Nat} (hN : cd_N n al) (hrc : rc ≤ 64) (hx : x ≤ al) (hF : ∀ m, m < 64 → aF m = cd_fi m) (hp : post (nI (cd_b (∀ i, i < rc → cd_ag n x (aA i) 0))) ((nI n), (nI al), (nI mf), (nI mj), (nI fc), (nI jc), (nI dc), (nI fD), (nI kc), (nI vc), (nI sc), (nI fT), (nI rc), (nI qc), (nF aL), (nF aR), (nF aC), (nF aP), (nF aZ), (nF aD), (nF aK), (nF aV), (nF aW), (nF aS), (nF aU), (nF aI), (nF aA), (nF aQ), (nF aO), (nF aF))) :
    ∀ k i, i + k = rc → (∀ j, j < i → cd_ag n x (aA j) 0) → wX_chaseFd_57 post (nI x) (nI n) (nI al) (nI mf) (nI mj) (nI fc) (nI jc) (nI dc) (nI fD) (nI kc) (nI vc) (nI sc) (nI fT) (nI rc) (nI qc) (nF aL) (nF aR) (nF aC) (nF aP) (nF aZ) (nF aD) (nF aK) (nF aV) (nF aW) (nF aS) (nF aU) (nF aI) (nF aA) (nF aQ) (nF aO) (nF aF) (k + 1) (nI i) := by
  have hal := (cd_N_al hN).1
  intro k
  induction k with
  | zero =>
    intro i h H
    rw [wX_chaseFd_57]
    exact br_t (nI_le (by omega) (by omega)) (cd_p1 (post := fun r => post r ((nI n), (nI al), (nI mf), (nI mj), (nI fc), (nI jc), (nI dc), (nI fD), (nI kc), (nI vc), (nI sc), (nI fT), (nI rc), (nI qc), (nF aL), (nF aR), (nF aC), (nF aP), (nF aZ), (nF aD), (nF aK), (nF aV), (nF aW), (nF aS), (nF aU), (nF aI), (nF aA), (nF aQ), (nF aO), (nF aF))) (P := ∀ i, i < rc → cd_ag n x (aA i) 0) (fun j hj => H j (by omega)) hp)
  | succ k ih =>
    intro i h H
    have ci : (nI i).toNatClampNeg = i := nI_clamp (by omega)
    have cx : (nI x).toNatClampNeg = x := nI_clamp (by omega)
    have gR := (cd_on_lt x (by omega)).2
    have b2 : aA i &&& cd_fi x ≤ cd_fi x := Nat.and_le_right
    have E : aA i &&& cd_fi x = 0 ↔ cd_ag n x (aA i) 0 := by
      have := cd_agN (t := aA i) (u := 0) hN hx
      rw [Nat.xor_zero] at this
      exact this
    rw [wX_chaseFd_57]
    dsimp only
    rw [ci, cx, show nF aF x = nI (cd_fi x) from congrArg nI (hF x (by omega)), nx_and]
    refine br_f (nI_ge (by omega) (by omega)) ⟨vp_in_nI (by omega) (by omega), vp_in_nI (by omega) (by omega), cd_brN _ (by omega) (fun z => nm_r (nI_1 i) (ih (i + 1) (by omega) fun j hj => ?_)) (fun z => cd_p0 (post := fun r => post r ((nI n), (nI al), (nI mf), (nI mj), (nI fc), (nI jc), (nI dc), (nI fD), (nI kc), (nI vc), (nI sc), (nI fT), (nI rc), (nI qc), (nF aL), (nF aR), (nF aC), (nF aP), (nF aZ), (nF aD), (nF aK), (nF aV), (nF aW), (nF aS), (nF aU), (nF aI), (nF aA), (nF aQ), (nF aO), (nF aF))) (P := ∀ i, i < rc → cd_ag n x (aA i) 0) (fun w => z (E.mpr (w i (by omega)))) hp)⟩
    by_cases q : j = i
    · subst q; exact E.mp z
    · exact H j (by omega)
end
section
variable {n al mf mj : Nat}
variable {yL yP yC yK yS yU : Nat → Nat} {ys : Nat → Int32}
theorem cd_yC53 {post : Int32 → SY → Prop} {x r : Nat} (hN : cd_N n al) (hr : r ≤ 64) (h6 : ys 6 = nI r) (hA : ∀ i, i < r → cd_rw yL i < 2 ^ 31) (hp : post (nI (cd_b (∀ i, i < r → cd_ag n x (cd_rw yL i) 0))) ((nI n), (nI al), (nI mf), (nI mj), (nF yL), ys, (nF yP), (nF yC), (nF yK), (nF yS), (nF yU))) :
    ∀ k i, i + k = r → (∀ j, j < i → cd_ag n x (cd_rw yL j) 0) → wY_chaseFd_53 post (nI x) (nI n) (nI al) (nI mf) (nI mj) (nF yL) ys (nF yP) (nF yC) (nF yK) (nF yS) (nF yU) (k + 1) (nI (384 + i)) := by
  intro k
  induction k with
  | zero =>
    intro i h H
    rw [wY_chaseFd_53]
    dsimp only
    rw [h6, cd_384]
    exact br_t (nI_le (by omega) (by omega)) (cd_p1 (post := fun r => post r ((nI n), (nI al), (nI mf), (nI mj), (nF yL), ys, (nF yP), (nF yC), (nF yK), (nF yS), (nF yU))) (P := ∀ i, i < r → cd_ag n x (cd_rw yL i) 0) (fun j hj => H j (by omega)) hp)
  | succ k ih =>
    intro i h H
    have ci : (nI (384 + i)).toNatClampNeg = 384 + i := nI_clamp (by omega)
    rw [wY_chaseFd_53]
    dsimp only
    rw [h6, cd_384, ci]
    refine br_f (nI_ge (by omega) (by omega)) ⟨vp_in_nI (by omega) (by omega), cd_yag (cd_rw yL i) 0 x hN.2.1 (hA i (by omega)) (by decide) (cd_br (fun z => cd_p0 (post := fun r => post r ((nI n), (nI al), (nI mf), (nI mj), (nF yL), ys, (nF yP), (nF yC), (nF yK), (nF yS), (nF yU))) (P := ∀ i, i < r → cd_ag n x (cd_rw yL i) 0) (fun w => z (w i (by omega))) hp) (fun z => nm_r (nI_1 _) (ih (i + 1) (by omega) fun j hj => ?_)))⟩
    by_cases q : j = i
    · subst q; exact z
    · exact H j (by omega)
/-- a start row is put -/
theorem cd_yAS1 {post : SY → Prop} {x1 x2 : Int32} {y0 : Nat → Nat} {s0 : Nat → Int32} {c : Nat} (x v : Nat) (hN : cd_N n al) (hv : v ≤ 20) (hx : x ≤ al) (hc : c < 64) (Fr : cd_Fr y0 s0 yL ys c) (hS : cd_Srt (cd_rw yL) c) (hO : ∀ t, cd_Set (cd_rw yL) c t → cd_Ok n t)
    (hp : ∀ y s c', c' ≤ c + 1 → cd_Fr y0 s0 y s c' → cd_Srt (cd_rw y) c' → (∀ t, cd_Set (cd_rw y) c' t ↔ (cd_Set (cd_rw yL) c t ∨ t = cd_on (cd_df al x) * v)) → post ((nI n), (nI al), (nI mf), (nI mj), (nF (y)), (s), (nF yP), (nF yC), (nF yK), (nF yS), (nF yU))) (e1 : x1 = nI x := by rfl) (e2 : x2 = nI v := by rfl) : wpY_addStart post ((nI n), (nI al), (nI mf), (nI mj), (nF yL), ys, (nF yP), (nF yC), (nF yK), (nF yS), (nF yU)) x1 x2 := by
  have so := cd_start_ok (x := x) hN hv
  refine cd_yAS x v hN (by omega) hx ?_ e1 e2
  refine cd_yAR _ hN Fr.2.2 (by omega) (cd_Zr_ok so.1) (fun t ht => cd_Zr_ok (hO t ht)) hS (fun z => ?_) (fun z1 z2 y s f1 f2 f3 f4 f5 => ?_)
  · refine hp yL ys c (by omega) Fr hS fun t => ⟨Or.inl, fun w => w.elim id fun e => ?_⟩
    rcases z with z | z
    · omega
    · rw [e]; exact z
  · exact hp y s (c + 1) (Nat.le_refl _) ⟨fun i hi => (f1 i (Or.inl hi)).trans (Fr.1 i hi), fun j hj => (f2 j hj).trans (Fr.2.1 j hj), f3⟩ f4 f5
end
theorem cd_RT_new {c r : Nat} {A y : Nat → Nat} {s : Nat → Int32} {P : Nat → Prop} (hc : c ≤ 64) (h : c = r ∧ ∀ i, i < c → A i = cd_rw y i) (h6 : s 6 = nI r) (hA : ∀ t, cd_Set A c t → t < 2 ^ 30) : cd_RT 1 c A y s :=
  Or.inr ⟨rfl, hc, by rw [h6, h.1], fun i hi => ⟨(h.2 i hi).symm, hA _ ⟨i, hi, rfl⟩⟩⟩
theorem i_vc_chaseFd {k : Nat} {u : SX} {v : SY} (I : i_Rel k u v) (hk : k + 3 ≤ 1539) (v1 : Int32) (v2 : Int32) : wpX_chaseFd (fun r u' => wpY_chaseFd (fun r' v' => r' = r ∧ i_Rel (k + 3) u' v') v v1 v2) u v1 v2 := by
  refine cd_el (P := fun u v => wpX_chaseFd (fun r u' => wpY_chaseFd (fun r' v' => r' = r ∧ i_Rel (k + 3) u' v') v v1 v2) u v1 v2) I ?_
  intro n al mf mj fc jc dc fD kc vc sc fT rc qc aL aR aC aP aZ aD aK aV aW aS aU aI aA aQ aO aF yL ys yC yK yS yU h1 h2 h3 h4 h5 h6 h7
  have hN := h1.1
  have hn := hN.2.1
  have hal := (cd_N_al hN).1
  have R : i_Rel (k + 3) ((nI n), (nI al), (nI mf), (nI mj), (nI fc), (nI jc), (nI dc), (nI fD), (nI kc), (nI vc), (nI sc), (nI fT), (nI rc), (nI qc), (nF aL), (nF aR), (nF aC), (nF aP), (nF aZ), (nF aD), (nF aK), (nF aV), (nF aW), (nF aS), (nF aU), (nF aI), (nF aA), (nF aQ), (nF aO), (nF aF)) ((nI n), (nI al), (nI mf), (nI mj), (nF yL), ys, (nF (aP)), (nF yC), (nF yK), (nF yS), (nF yU)) := cd_mk h1 h2 h3 h4 h5 h6 h7
  have bad : ¬ (cd_IM al v1 ∧ cd_IP al v2) → wpY_chaseFd (fun r' v' => r' = -1 ∧ i_Rel (k + 3) ((nI n), (nI al), (nI mf), (nI mj), (nI fc), (nI jc), (nI dc), (nI fD), (nI kc), (nI vc), (nI sc), (nI fT), (nI rc), (nI qc), (nF aL), (nF aR), (nF aC), (nF aP), (nF aZ), (nF aD), (nF aK), (nF aV), (nF aW), (nF aS), (nF aU), (nF aI), (nF aA), (nF aQ), (nF aO), (nF aF)) v') ((nI n), (nI al), (nI mf), (nI mj), (nF yL), ys, (nF (aP)), (nF yC), (nF yK), (nF yS), (nF yU)) v1 v2 := fun z => by
    unfold wpY_chaseFd
    exact cd_yIM hal (cd_br (fun _ => ⟨rfl, R⟩) (fun g => cd_yIM hal (cd_br (fun _ => ⟨rfl, R⟩) (fun g' => br_t (Classical.byContradiction fun w => z ⟨g, (cd_IP_iff (by omega)).mpr ⟨g', w⟩⟩) ⟨rfl, R⟩))))
  unfold wpX_chaseFd
  refine cd_xIM hal (cd_br (fun g => bad fun z => g z.1) (fun g1 => cd_xIP hal (cd_br (fun g => bad fun z => g z.2) (fun g2 => ?_))))
  have g2' := (cd_IP_iff (by omega)).mp g2
  have g1' := g1
  obtain ⟨l, hl, rfl⟩ := g1
  obtain ⟨x, hx0, hx, rfl⟩ := g2
  obtain ⟨f1, f2, f3, f4, f5⟩ := id h2
  obtain ⟨j1, j2, j3, j4⟩ := id h3
  have hmf := h1.2.1
  have hmj := h1.2.2
  have dl := cd_df_le al l
  have cdf : (nI (cd_df al l)).toNatClampNeg = cd_df al l := nI_clamp (by omega)
  have hF : ∀ m, m < 64 → aF m = cd_fi m := fun m hm => (h7 m hm).2
  rw [cd_dfI, cdf, show nF aO (cd_df al l) = nI (cd_on (cd_df al l)) from congrArg nI (h7 _ (by omega)).1]
  refine nm_r (cd_upd aA 0 0) ⟨vp_in_nI (by omega) (by decide), nm_r (cd_upd _ 1 _) ?_⟩
  have so := cd_start_ok (x := l) hN (show 1 ≤ 20 by decide)
  rw [Nat.mul_one] at so
  have o0 : cd_Ok n 0 := ⟨by decide, fun a _ => by rw [cd_sy0]; exact ⟨by omega, fun _ => rfl⟩⟩
  have E0 : ∀ t, cd_Set (cd_up (cd_up aA 0 0) 1 (cd_on (cd_df al l))) 2 t ↔ (t = 0 ∨ t = cd_on (cd_df al l)) := fun t => by
    constructor
    · rintro ⟨i, hi, e⟩
      rcases (by omega : i = 0 ∨ i = 1) with rfl | rfl
      · rw [cd_un (by decide), cd_us] at e; exact Or.inl e.symm
      · rw [cd_us] at e; exact Or.inr e.symm
    · rintro (e | e)
      · exact ⟨0, by decide, by rw [cd_un (by decide), cd_us]; exact e.symm⟩
      · exact ⟨1, by decide, by rw [cd_us]; exact e.symm⟩
  have ok0 : ∀ t, (t = 0 ∨ t = cd_on (cd_df al l)) → cd_Ok n t := fun t ht => ht.elim (fun e => e ▸ o0) (fun e => e ▸ so.1)
  have p00 : ∀ T : Nat → Prop, T 0 → ∀ a, a < n → cd_pr_ T a 0 := fun T h a _ => ⟨0, h, cd_sy0 a⟩
  have w0 : ∀ T : Nat → Prop, (∀ t, T t → (t = 0 ∨ t = cd_on (cd_df al l))) → cd_W T n ≤ 64 := fun T h => by
    refine Nat.le_trans (cd_W_2 n fun a ha s ⟨t, ht, e⟩ => ?_) (Nat.le_trans (Nat.pow_le_pow_right (by decide) hn) (by decide))
    rcases h t ht with w | w
    · subst w; rw [cd_sy0] at e; omega
    · subst w; rw [so.2 a (by omega)] at e; rw [← e]; split <;> omega
  refine cd_xCh (rc := 2) (aA := cd_up (cd_up aA 0 0) 1 (cd_on (cd_df al l))) hN (by omega) f2 hF j2 (by omega) (by decide) (fun t ht => ok0 t ((E0 t).mp ht)) (p00 _ ((E0 0).mpr (Or.inl rfl))) (fun _ => w0 _ fun t ht => (E0 t).mp ht) fun A c Q q μ hc sA cA fA jA => ?_
  refine ⟨c + 1, cd_xC57 hN hc hx hF ?_ c 0 (by omega) (fun j hj => absurd hj (by omega))⟩
  unfold wpY_chaseFd
  refine cd_yIM hal (cd_br (fun g => absurd g1' g) (fun _ => cd_yIM hal (cd_br (fun g => absurd g2'.1 g) (fun _ => br_f g2'.2 (nm_e ?_)))))
  refine cd_yAS1 (y0 := yL) (s0 := ys) (c := 0) al 0 hN (by decide) (Nat.le_refl _) (by decide) ⟨fun _ _ => rfl, fun j hj => pk_un hj, rfl⟩ (fun i j _ hj => absurd hj (by omega)) (fun t ⟨i, hi, _⟩ => absurd hi (by omega)) fun y1 s1 c1 k1 k2 k3 k4 => ?_
  have k4' : ∀ t, cd_Set (cd_rw y1) c1 t ↔ t = 0 := fun t => by
    rw [k4, Nat.mul_zero]
    exact ⟨fun w => w.elim (fun ⟨i, hi, _⟩ => absurd hi (by omega)) id, Or.inr⟩
  refine cd_yAS1 (y0 := yL) (s0 := ys) (c := c1) l 1 hN (by decide) hl (by omega) k2 k3 (fun t ht => ok0 t (Or.inl ((k4' t).mp ht))) fun y2 s2 c2 l1 l2 l3 l4 => ?_
  have E2 : ∀ t, cd_Set (cd_rw y2) c2 t ↔ (t = 0 ∨ t = cd_on (cd_df al l)) := fun t => by rw [l4, k4', Nat.mul_one]
  refine cd_yCh (r := c2) (fc := fc) (jc := jc) (L := aL) (R := aR) (Z := aZ) hN (by omega) (by omega) ((l2.2.1 0 (by decide)).trans f4) ((l2.2.1 5 (by decide)).trans j3) l2.2.2 (by omega) (fun i hi => by rw [l2.1 i (by omega)]; exact cd_RF_Y h2 i hi) j2 (fun d hd => by rw [l2.1 _ (by omega)]; exact j4 d hd) l3 (fun t ht => ok0 t ((E2 t).mp ht)) (p00 _ ((E2 0).mpr (Or.inl rfl))) (fun _ => w0 _ fun t ht => (E2 t).mp ht) fun y s r μ' fr hr sY cY fY jY => ?_
  have E := cd_fin (fun t => (E0 t).trans (E2 t).symm) cA cY sA sY fA jA fY jY
  have oA : ∀ t, cd_Set A c t → t < 2 ^ 30 := fun t ht => (cd_CS_ok cA ht).1
  have oY : ∀ i, i < r → cd_rw y i < 2 ^ 31 := fun i hi => by have := (cd_CS_ok cY ⟨i, hi, rfl⟩).1; omega
  refine ⟨r + 1, cd_yC53 hN hr fr.2.2 oY ⟨congrArg nI (cd_be ?_), ?_⟩ r 0 (by omega) (fun j hj => absurd hj (by omega))⟩
  · obtain ⟨rfl, e⟩ := E
    exact ⟨fun w i hi => by rw [e i hi]; exact w i hi, fun w i hi => by rw [← e i hi]; exact w i hi⟩
  · have FL : ∀ i, i < 384 → y i = yL i := fun i hi => (fr.1 i hi).trans (l2.1 i hi)
    have FS : ∀ j, j ≠ 6 → s j = ys j := fun j hj => (fr.2.1 j hj).trans (l2.2.1 j hj)
    exact cd_mk h1 (cd_RF_fr hmf (fun i hi => FL i (by omega)) (FS 0 (by decide)) h2) (cd_RJ_fr hmj (fun i hi => FL _ (by omega)) (FS 5 (by decide)) h3) (cd_RD_fr (fun i hi => FL _ (by omega)) (FS 1 (by decide)) h4) (cd_RG_fr (fun i hi => FL _ (by omega)) (FS 2 (by decide)) (FS 3 (by decide)) (FS 4 (by decide)) h5) (cd_RT_new (P := fun _ => True) hc E fr.2.2 oA) h7
end
section
/-! the product over the attributes -/
noncomputable def cd_fa (D : Nat → Nat) (dc a : Nat) : Nat := 1 + cd_cn (fun i => ¬ (D i).testBit a = true) dc
noncomputable def cd_dp (D : Nat → Nat) (dc : Nat) : Nat → Nat
  | 0 => 1
  | a + 1 => cd_dp D dc a * cd_fa D dc a
theorem cd_dp_le {D : Nat → Nat} {dc : Nat} (h : dc ≤ 20) : ∀ a, cd_dp D dc a ≤ 21 ^ a
  | 0 => Nat.le_refl _
  | a + 1 => by
    have l := cd_cn_le (fun i => ¬ (D i).testBit a = true) dc
    show cd_dp D dc a * cd_fa D dc a ≤ 21 ^ a * 21
    exact Nat.mul_le_mul (cd_dp_le h a) (by unfold cd_fa; omega)
theorem cd_dp_lt {D : Nat → Nat} {dc a : Nat} (h : dc ≤ 20) (ha : a ≤ 6) : cd_dp D dc a < 2 ^ 31 :=
  Nat.lt_of_le_of_lt (cd_dp_le h a) (Nat.lt_of_le_of_lt (Nat.pow_le_pow_right (by decide) ha) (by decide))
theorem cd_cn_sh {Q : Nat → Prop} : ∀ k, cd_cn (fun s => s = 0 ∨ (1 ≤ s ∧ Q (s - 1))) (k + 1) ≤ 1 + cd_cn Q k
  | 0 => by
    have := cd_cn_le (fun s => s = 0 ∨ (1 ≤ s ∧ Q (s - 1))) 1
    exact Nat.le_trans this (by omega)
  | k + 1 => by
    have ih := cd_cn_sh (Q := Q) k
    have b := cd_bmono (P := k + 1 = 0 ∨ (1 ≤ k + 1 ∧ Q (k + 1 - 1))) (Q := Q k) (fun z => z.elim (fun e => by omega) (fun w => w.2))
    show cd_cn (fun s => s = 0 ∨ (1 ≤ s ∧ Q (s - 1))) (k + 1) + cd_b (k + 1 = 0 ∨ (1 ≤ k + 1 ∧ Q (k + 1 - 1))) ≤ 1 + (cd_cn Q k + cd_b (Q k))
    omega
theorem cd_W_dp {T : Nat → Prop} {D : Nat → Nat} {dc : Nat} (hdc : dc ≤ 20) : ∀ n, (∀ a, a < n → ∀ s, cd_pr_ T a s → s = 0 ∨ (1 ≤ s ∧ (s - 1 < dc ∧ ¬ (D (s - 1)).testBit a = true))) → cd_W T n ≤ cd_dp D dc n
  | 0, _ => Nat.le_refl _
  | n + 1, h => by
    have ih := cd_W_dp (T := T) (D := D) hdc n (fun a ha => h a (by omega))
    have l1 : cd_cn (cd_pr_ T n) 21 ≤ cd_cn (fun s => s = 0 ∨ (1 ≤ s ∧ (s - 1 < dc ∧ ¬ (D (s - 1)).testBit n = true))) 21 := cd_cn_mono fun s _ hs => h n (by omega) s hs
    have l2 : cd_cn (fun s => s = 0 ∨ (1 ≤ s ∧ (s - 1 < dc ∧ ¬ (D (s - 1)).testBit n = true))) 21 ≤ 1 + cd_cn (fun i => i < dc ∧ ¬ (D i).testBit n = true) 20 := cd_cn_sh (Q := fun i => i < dc ∧ ¬ (D i).testBit n = true) 20
    have l3 := cd_cn_sk (P := fun i => i < dc ∧ ¬ (D i).testBit n = true) (a := dc) (b := 20) hdc (fun j h1 _ q => by omega)
    have l4 : cd_cn (fun i => i < dc ∧ ¬ (D i).testBit n = true) dc ≤ cd_cn (fun i => ¬ (D i).testBit n = true) dc := cd_cn_mono fun i _ hi => hi.2
    show cd_W T n * cd_cn (cd_pr_ T n) 21 ≤ cd_dp D dc n * cd_fa D dc n
    exact Nat.mul_le_mul ih (by unfold cd_fa; omega)
def cd_row (al : Nat) (D : Nat → Nat) (i : Nat) : Nat := cd_on (cd_df al (D i)) * (i + 1)
def cd_R0 (al : Nat) (D : Nat → Nat) (k t : Nat) : Prop := ∃ i, i < k ∧ t = cd_row al D i
theorem cd_R0_s {al : Nat} {D : Nat → Nat} {k t : Nat} : cd_R0 al D (k + 1) t ↔ (cd_R0 al D k t ∨ t = cd_row al D k) := by
  constructor
  · rintro ⟨i, hi, e⟩
    by_cases q : i = k
    · subst q; exact Or.inr e
    · exact Or.inl ⟨i, by omega, e⟩
  · rintro (⟨i, hi, e⟩ | e)
    · exact ⟨i, by omega, e⟩
    · exact ⟨k, by omega, e⟩
section
variable {n al mf mj fc jc dc fD kc vc sc fT rc qc : Nat} {aL aR aC aP aZ aD aK aV aW aS aU aI aA aQ aO aF : Nat → Nat}
theorem cd_xDP17 {post : Int32 → Prop} {J4 : Int32 → Int32 → Prop} {a p : Nat} (hdc : dc ≤ 20) (ha : a < 6) (hJ : J4 (nI (p * cd_fa aD dc a)) (nI (a + 1))) :
    ∀ k i, i + k = dc → wX_draftProduct_17 post J4 (nI p) (nI a) (nI n) (nI al) (nI mf) (nI mj) (nI fc) (nI jc) (nI dc) (nI fD) (nI kc) (nI vc) (nI sc) (nI fT) (nI rc) (nI qc) (nF aL) (nF aR) (nF aC) (nF aP) (nF aZ) (nF aD) (nF aK) (nF aV) (nF aW) (nF aS) (nF aU) (nF aI) (nF aA) (nF aQ) (nF aO) (nF aF) (k + 1) (nI (1 + cd_cn (fun i => ¬ (aD i).testBit a = true) i)) (nI i) := by
  intro k
  induction k with
  | zero =>
    intro i h
    have e : i = dc := by omega
    subst e
    rw [wX_draftProduct_17]
    exact br_t (nI_le (Nat.le_refl _) (by omega)) (nm_r (pk_mul _ _) (nm_r (nI_1 a) hJ))
  | succ k ih =>
    intro i h
    have ci : (nI i).toNatClampNeg = i := nI_clamp (by omega)
    have I := ih (i + 1) (by omega)
    rw [wX_draftProduct_17]
    dsimp only
    rw [ci]
    refine br_f (nI_ge (by omega) (by omega)) ⟨vp_in_nI (by omega) (by omega), cd_tb (aD i) a (fun z => nm_r (nI_1 _) (nm_r (nI_1 i) ?_)) (fun z => nm_r (nI_1 i) ?_)⟩
    · rw [cd_cn_s (P := fun i => ¬ (aD i).testBit a = true) (by rw [z]; decide), ← Nat.add_assoc] at I; exact I
    · rw [cd_cn_ns (P := fun i => ¬ (aD i).testBit a = true) (fun w => w z)] at I; exact I
theorem cd_xDP4 {post : Int32 → Prop} (hn : n ≤ 6) (hdc : dc ≤ 20) (hp : post (nI (cd_dp aD dc n))) : ∀ k a, a + k = n → wX_draftProduct_4 post (nI n) (nI al) (nI mf) (nI mj) (nI fc) (nI jc) (nI dc) (nI fD) (nI kc) (nI vc) (nI sc) (nI fT) (nI rc) (nI qc) (nF aL) (nF aR) (nF aC) (nF aP) (nF aZ) (nF aD) (nF aK) (nF aV) (nF aW) (nF aS) (nF aU) (nF aI) (nF aA) (nF aQ) (nF aO) (nF aF) (k + 1) (nI (cd_dp aD dc a)) (nI a) := by
  intro k
  induction k with
  | zero =>
    intro a h
    have e : a = n := by omega
    subst e
    rw [wX_draftProduct_4]
    exact br_t (nI_le (Nat.le_refl _) (by omega)) hp
  | succ k ih =>
    intro a h
    rw [wX_draftProduct_4]
    exact br_f (nI_ge (by omega) (by omega)) ⟨dc + 1, cd_xDP17 hdc (by omega) (ih (a + 1) (by omega)) dc 0 (by omega)⟩
theorem cd_xDP {post : Int32 → Prop} (hn : n ≤ 6) (hdc : dc ≤ 20) (hp : post (nI (cd_dp aD dc n))) : wpX_draftProduct post ((nI n), (nI al), (nI mf), (nI mj), (nI fc), (nI jc), (nI dc), (nI fD), (nI kc), (nI vc), (nI sc), (nI fT), (nI rc), (nI qc), (nF aL), (nF aR), (nF aC), (nF aP), (nF aZ), (nF aD), (nF aK), (nF aV), (nF aW), (nF aS), (nF aU), (nF aI), (nF aA), (nF aQ), (nF aO), (nF aF)) :=
  Exists.intro (n + 1) (cd_xDP4 hn hdc hp n 0 (by omega))
theorem cd_xCD45 {post : Int32 → SX → Prop} (hN : cd_N n al) (hdc : dc ≤ 20) (hD : ∀ i, i < dc → aD i ≤ al) (hO : ∀ m, m < 64 → aO m = cd_on m)
    (hp : ∀ A : Nat → Nat, (∀ i, i < dc → A i = cd_row al aD i) → wpX_chase (fun u => wpX_hasRow (fun r => (r = 0 → post 0 u) ∧ (¬ r = 0 → post 1 u)) u 0) ((nI n), (nI al), (nI mf), (nI mj), (nI fc), (nI jc), (nI dc), (nI fD), (nI kc), (nI vc), (nI sc), (nI fT), (nI (dc)), (nI qc), (nF aL), (nF aR), (nF aC), (nF aP), (nF aZ), (nF aD), (nF aK), (nF aV), (nF aW), (nF aS), (nF aU), (nF aI), (nF (A)), (nF aQ), (nF aO), (nF aF))) :
    ∀ k i, i + k = dc → ∀ A : Nat → Nat, (∀ j, j < i → A j = cd_row al aD j) → wX_chaseDraft_45 post (nI n) (nI al) (nI mf) (nI mj) (nI fc) (nI jc) (nI dc) (nI fD) (nI kc) (nI vc) (nI sc) (nI fT) (nI rc) (nI qc) (k + 1) (nI i) (nF aL) (nF aR) (nF aC) (nF aP) (nF aZ) (nF aD) (nF aK) (nF aV) (nF aW) (nF aS) (nF aU) (nF aI) (nF (A)) (nF aQ) (nF aO) (nF aF) := by
  have hal := (cd_N_al hN).1
  intro k
  induction k with
  | zero =>
    intro i h A hA
    have e : i = dc := by omega
    subst e
    rw [wX_chaseDraft_45]
    exact br_t (nI_le (Nat.le_refl _) (by omega)) (hp A hA)
  | succ k ih =>
    intro i h A hA
    have ci : (nI i).toNatClampNeg = i := nI_clamp (by omega)
    have dl := cd_df_le al (aD i)
    have cd : (nI (cd_df al (aD i))).toNatClampNeg = cd_df al (aD i) := nI_clamp (by omega)
    rw [wX_chaseDraft_45]
    dsimp only
    rw [ci, show nI al &&& (nF aD i ^^^ (-1)) = nI (cd_df al (aD i)) from cd_dfI al (aD i), cd, show nF aO (cd_df al (aD i)) = nI (cd_on (cd_df al (aD i))) from congrArg nI (hO _ (by omega)), nI_1 i, pk_mul]
    refine br_f (nI_ge (by omega) (by omega)) ⟨vp_in_nI (by omega) (by omega), vp_in_nI (by omega) (by omega), vp_in_nI (by omega) (by omega), nm_r (cd_upd A i _) (nm_e (ih (i + 1) (by omega) _ fun j hj => ?_))⟩
    by_cases e : j = i
    · subst e; exact cd_us
    · rw [cd_un e]; exact hA j (by omega)
end
section
variable {n al mf mj : Nat}
variable {yL yP yC yK yS yU : Nat → Nat} {ys : Nat → Int32}
variable {D : Nat → Nat} {dc : Nat}
theorem cd_yDP43 {post : Int32 → SY → Prop} {J : Int32 → Int32 → Prop} {a p : Nat} (hdc : dc ≤ 20) (ha : a < 6) (h1 : ys 1 = nI dc) (hD : ∀ i, i < dc → yL (64 + i) = D i) (hJ : J (nI (p * cd_fa D dc a)) (nI (a + 1))) :
    ∀ k i, i + k = dc → wY_chaseDraft_43 post J (nI p) (nI a) (nI n) (nI al) (nI mf) (nI mj) (nF yL) ys (nF yP) (nF yC) (nF yK) (nF yS) (nF yU) (k + 1) (nI (1 + cd_cn (fun i => ¬ (D i).testBit a = true) i)) (nI i) := by
  have p6 : 2 ^ a < 2 ^ 6 := Nat.pow_lt_pow_right (by decide) ha
  intro k
  induction k with
  | zero =>
    intro i h
    have e : i = dc := by omega
    subst e
    rw [wY_chaseDraft_43]
    dsimp only
    rw [h1]
    exact br_t (nI_le (Nat.le_refl _) (by omega)) (nm_r (pk_mul _ _) (nm_r (nI_1 a) hJ))
  | succ k ih =>
    intro i h
    have ci : (nI (64 + i)).toNatClampNeg = 64 + i := nI_clamp (by omega)
    have I := ih (i + 1) (by omega)
    rw [wY_chaseDraft_43]
    dsimp only
    rw [h1, cd_64, ci]
    refine br_f (nI_ge (by omega) (by omega)) ⟨vp_in_nI (by omega) (by omega), cd_yin (2 ^ a) (D i) (cd_br (fun z => nm_r (nI_1 _) (nm_r (nI_1 i) ?_)) (fun z => nm_r (nI_1 i) ?_)) (cd_shl1 (by omega)) (congrArg nI (hD i (by omega))) (by omega)⟩
    · rw [cd_cn_s (P := fun i => ¬ (D i).testBit a = true) (fun w => z (cd_Su_pow.mpr w)), ← Nat.add_assoc] at I; exact I
    · rw [cd_cn_ns (P := fun i => ¬ (D i).testBit a = true) (fun w => w (cd_Su_pow.mp z))] at I; exact I
theorem cd_yDP30 {post : Int32 → SY → Prop} {jc : Nat} (hn : n ≤ 6) (hdc : dc ≤ 20) (hjc : jc ≤ 3) (h1 : ys 1 = nI dc) (h5 : ys 5 = nI jc) (hD : ∀ i, i < dc → yL (64 + i) = D i)
    (hlim : jc ≠ 0 → 64 < cd_dp D dc n → post (-6) ((nI n), (nI al), (nI mf), (nI mj), (nF yL), ys, (nF yP), (nF yC), (nF yK), (nF yS), (nF yU))) (hgo : (jc ≠ 0 → cd_dp D dc n ≤ 64) → ∃ m, wY_chaseDraft_121 post m 0 (nI n) (nI al) (nI mf) (nI mj) (nF yL) (upd ys 6 0) (nF yP) (nF yC) (nF yK) (nF yS) (nF yU)) : ∀ k a, a + k = n → wY_chaseDraft_30 post (nI n) (nI al) (nI mf) (nI mj) (nF yL) ys (nF yP) (nF yC) (nF yK) (nF yS) (nF yU) (k + 1) (nI (cd_dp D dc a)) (nI a) := by
  intro k
  induction k with
  | zero =>
    intro a h
    have e : a = n := by omega
    subst e
    have pl := cd_dp_lt (D := D) hdc hn
    rw [wY_chaseDraft_30]
    dsimp only
    rw [h5]
    exact br_t (nI_le (Nat.le_refl _) (by omega)) (pk_le jc 0 (fun z => nm_e (hgo fun w => absurd z (by omega))) (fun z => pk_le (cd_dp D dc a) 64 (fun q => nm_e (hgo fun _ => q)) (fun q => hlim (by omega) q)))
  | succ k ih =>
    intro a h
    rw [wY_chaseDraft_30]
    exact br_f (nI_ge (by omega) (by omega)) ⟨dc + 1, cd_yDP43 hdc (by omega) h1 hD (ih (a + 1) (by omega)) dc 0 (by omega)⟩
theorem cd_yCD121 {post : Int32 → SY → Prop} {y0 : Nat → Nat} {s0 : Nat → Int32} (hN : cd_N n al) (hdc : dc ≤ 20) (h1 : s0 1 = nI dc) (hD : ∀ i, i < dc → y0 (64 + i) = D i ∧ D i ≤ al)
    (hp : ∀ y s c, c ≤ dc → cd_Fr y0 s0 y s c → cd_Srt (cd_rw y) c → (∀ t, cd_Set (cd_rw y) c t ↔ cd_R0 al D dc t) → wpY_chase (fun u => match u with | (a, b, c, d, e, f, g, h, i, j, l) => wpY_held (fun r => (r = 0 → post 0 (a, b, c, d, e, f, g, h, i, j, l)) ∧ (¬ r = 0 → post 1 (a, b, c, d, e, f, g, h, i, j, l))) (a, b, c, d, e, f, g, h, i, j, l) 0 b) ((nI n), (nI al), (nI mf), (nI mj), (nF (y)), (s), (nF yP), (nF yC), (nF yK), (nF yS), (nF yU))) :
    ∀ k p, p + k = dc → ∀ y s c, c ≤ p → cd_Fr y0 s0 y s c → cd_Srt (cd_rw y) c → (∀ t, cd_Set (cd_rw y) c t ↔ cd_R0 al D p t) → wY_chaseDraft_121 post (k + 1) (nI p) (nI n) (nI al) (nI mf) (nI mj) (nF (y)) (s) (nF yP) (nF yC) (nF yK) (nF yS) (nF yU) := by
  intro k
  induction k with
  | zero =>
    intro p h y s c f1 f2 f3 f4
    have e : p = dc := by omega
    subst e
    rw [wY_chaseDraft_121]
    dsimp only
    rw [f2.2.1 1 (by decide), h1]
    exact br_t (nI_le (Nat.le_refl _) (by omega)) (hp y s c f1 f2 f3 f4)
  | succ k ih =>
    intro p h y s c f1 f2 f3 f4
    have cp : (nI (64 + p)).toNatClampNeg = 64 + p := nI_clamp (by omega)
    have dp := hD p (by omega)
    rw [wY_chaseDraft_121]
    dsimp only
    rw [f2.2.1 1 (by decide), h1, cd_64, cp, nI_1 p]
    refine br_f (nI_ge (by omega) (by omega)) ⟨vp_in_nI (by omega) (by omega), cd_yAS1 (y0 := y0) (s0 := s0) (c := c) (D p) (p + 1) hN (by omega) dp.2 (by omega) f2 f3 (fun t ht => ?_) (fun y' s' c' g1 g2 g3 g4 => nm_e (ih (p + 1) (by omega) y' s' c' (by omega) g2 g3 fun t => ?_)) (congrArg nI ((f2.1 _ (by omega)).trans dp.1))⟩
    · obtain ⟨i, hi, e⟩ := (f4 t).mp ht
      rw [e]; exact (cd_start_ok hN (by omega)).1
    · rw [g4, f4, cd_R0_s]; exact Iff.rfl
end
theorem i_vc_chaseDraft {k : Nat} {u : SX} {v : SY} (I : i_Rel k u v) (hk : k + 3 ≤ 1539) : wpX_chaseDraft (fun r u' => wpY_chaseDraft (fun r' v' => r' = r ∧ i_Rel (k + 3) u' v') v) u := by
  refine cd_el (P := fun u v => wpX_chaseDraft (fun r u' => wpY_chaseDraft (fun r' v' => r' = r ∧ i_Rel (k + 3) u' v') v) u) I ?_
  intro n al mf mj fc jc dc fD kc vc sc fT rc qc aL aR aC aP aZ aD aK aV aW aS aU aI aA aQ aO aF yL ys yC yK yS yU h1 h2 h3 h4 h5 h6 h7
  have hN := h1.1
  have hn := hN.2.1
  have hal := (cd_N_al hN).1
  have R : i_Rel (k + 3) ((nI n), (nI al), (nI mf), (nI mj), (nI fc), (nI jc), (nI dc), (nI fD), (nI kc), (nI vc), (nI sc), (nI fT), (nI rc), (nI qc), (nF aL), (nF aR), (nF aC), (nF aP), (nF aZ), (nF aD), (nF aK), (nF aV), (nF aW), (nF aS), (nF aU), (nF aI), (nF aA), (nF aQ), (nF aO), (nF aF)) ((nI n), (nI al), (nI mf), (nI mj), (nF yL), ys, (nF (aP)), (nF yC), (nF yK), (nF yS), (nF yU)) := cd_mk h1 h2 h3 h4 h5 h6 h7
  obtain ⟨f1, f2, f3, f4, f5⟩ := id h2
  obtain ⟨j1, j2, j3, j4⟩ := id h3
  obtain ⟨d1, d2, d3⟩ := id h4
  have hmf := h1.2.1
  have hmj := h1.2.2
  have hF : ∀ m, m < 64 → aF m = cd_fi m := fun m hm => (h7 m hm).2
  have ul := cd_dU_le hN dc fun i hi => (d3 i hi).2
  have dD : ∀ i, i < dc → yL (64 + i) = aD i := fun i hi => (d3 i hi).1
  have pl := cd_dp_lt (D := aD) (a := n) d1 hn
  -- the reference, up to the rows
  have Y : ∀ (q : Int32 → SY → Prop), ¬ dc = 0 → cd_dU aD dc = al → (jc ≠ 0 → 64 < cd_dp aD dc n → q (-6) ((nI n), (nI al), (nI mf), (nI mj), (nF yL), ys, (nF (aP)), (nF yC), (nF yK), (nF yS), (nF yU))) → ((jc ≠ 0 → cd_dp aD dc n ≤ 64) → ∃ m, wY_chaseDraft_121 q m 0 (nI n) (nI al) (nI mf) (nI mj) (nF yL) (upd ys 6 0) (nF (aP)) (nF yC) (nF yK) (nF yS) (nF yU)) → wpY_chaseDraft q ((nI n), (nI al), (nI mf), (nI mj), (nF yL), ys, (nF (aP)), (nF yC), (nF yK), (nF yS), (nF yU)) := fun q z e q1 q2 => by
    unfold wpY_chaseDraft
    dsimp only
    rw [d2]
    exact cd_brN dc (by omega) (fun w => absurd w z) (fun _ => cd_yDU d1 d2 dD (br_t (congrArg nI e) ⟨n + 1, cd_yDP30 (D := aD) (jc := jc) hn d1 (by omega) d2 j3 dD q1 q2 n 0 (by omega)⟩))
  have go : ¬ dc = 0 → cd_dU aD dc = al → (jc ≠ 0 → cd_dp aD dc n ≤ 64) → ∃ m, wX_chaseDraft_45 (fun r u' => wpY_chaseDraft (fun r' v' => r' = r ∧ i_Rel (k + 3) u' v') ((nI n), (nI al), (nI mf), (nI mj), (nF yL), ys, (nF (aP)), (nF yC), (nF yK), (nF yS), (nF yU))) (nI n) (nI al) (nI mf) (nI mj) (nI fc) (nI jc) (nI dc) (nI fD) (nI kc) (nI vc) (nI sc) (nI fT) (nI rc) (nI qc) m 0 (nF aL) (nF aR) (nF aC) (nF aP) (nF aZ) (nF aD) (nF aK) (nF aV) (nF aW) (nF aS) (nF aU) (nF aI) (nF aA) (nF aQ) (nF aO) (nF aF) := fun z e lim => by
    have rok : ∀ i, i < dc → cd_Ok n (cd_row al aD i) ∧ ∀ a, a < 6 → cd_sy (cd_row al aD i) a = if (cd_df al (aD i)).testBit a then i + 1 else 0 := fun i hi => cd_start_ok (x := aD i) hN (show i + 1 ≤ 20 by omega)
    have ok0 : ∀ t, cd_R0 al aD dc t → cd_Ok n t := fun t ⟨i, hi, e⟩ => by rw [e]; exact (rok i hi).1
    have p00 : ∀ T : Nat → Prop, (∀ t, cd_R0 al aD dc t → T t) → ∀ a, a < n → cd_pr_ T a 0 := fun T h a ha => by
      have : (cd_dU aD dc).testBit a = true := by rw [e, cd_N_tb hN]; exact decide_eq_true ha
      obtain ⟨i, i1, i2⟩ := cd_dU_bit dc this
      refine ⟨cd_row al aD i, h _ ⟨i, i1, rfl⟩, ?_⟩
      rw [(rok i i1).2 a (by omega), cd_df_t, i2, Bool.not_true, Bool.and_false]; rfl
    have w0 : ∀ T : Nat → Prop, (∀ t, T t → cd_R0 al aD dc t) → jc ≠ 0 → cd_W T n ≤ 64 := fun T h hj => by
      refine Nat.le_trans (cd_W_dp (D := aD) d1 n fun a ha s ⟨t, ht, es⟩ => ?_) (lim hj)
      obtain ⟨i, hi, et⟩ := h t ht
      subst et
      rw [(rok i hi).2 a (by omega)] at es
      cases hb : (cd_df al (aD i)).testBit a
      · rw [hb] at es; exact Or.inl es.symm
      · rw [hb, if_pos rfl] at es
        subst es
        refine Or.inr ⟨by omega, by omega, ?_⟩
        rw [show i + 1 - 1 = i by omega, cd_df_n hb]; decide
    refine ⟨dc + 1, cd_xCD45 hN d1 (fun i hi => (d3 i hi).2) (fun m hm => (h7 m hm).1) (fun A hA => ?_) dc 0 (by omega) aA (fun j hj => absurd hj (by omega))⟩
    have E0 : ∀ t, cd_Set A dc t ↔ cd_R0 al aD dc t := fun t => ⟨fun ⟨i, hi, e⟩ => ⟨i, hi, by rw [← e]; exact hA i hi⟩, fun ⟨i, hi, e⟩ => ⟨i, hi, by rw [e]; exact hA i hi⟩⟩
    refine cd_xCh (rc := dc) (aA := A) hN (by omega) f2 hF j2 (by omega) (by omega) (fun t ht => ok0 t ((E0 t).mp ht)) (p00 _ fun t => (E0 t).mpr) (w0 _ fun t => (E0 t).mp) fun A' c Q q μ hc sA cA fA jA => ?_
    have bA : ∀ r, r < c → A' r < 2 ^ 31 := fun r hr => by have := (cd_CS_ok cA ⟨r, hr, rfl⟩).1; omega
    have oA : ∀ t, cd_Set A' c t → t < 2 ^ 30 := fun t ht => (cd_CS_ok cA ht).1
    have F : ∀ rr : Int32, rr = nI (cd_b (cd_Set A' c 0)) → wpY_chaseDraft (fun r' v' => r' = rr ∧ i_Rel (k + 3) ((nI n), (nI al), (nI mf), (nI mj), (nI fc), (nI jc), (nI dc), (nI fD), (nI kc), (nI vc), (nI sc), (nI (1)), (nI (c)), (nI (q)), (nF aL), (nF aR), (nF aC), (nF aP), (nF aZ), (nF aD), (nF aK), (nF aV), (nF aW), (nF aS), (nF aU), (nF aI), (nF (A')), (nF (Q)), (nF aO), (nF aF)) v') ((nI n), (nI al), (nI mf), (nI mj), (nF yL), ys, (nF (aP)), (nF yC), (nF yK), (nF yS), (nF yU)) := fun rr hrr => by
      refine Y _ z e (fun w1 w2 => absurd (lim w1) (by omega)) fun _ => ⟨dc + 1, cd_yCD121 (D := aD) (y0 := yL) (s0 := ys) hN d1 d2 d3 (fun y2 s2 c2 l1 l2 l3 l4 => ?_) dc 0 (by omega) yL (upd ys 6 0) 0 (Nat.le_refl _) ⟨fun _ _ => rfl, fun j hj => pk_un hj, rfl⟩ (fun i j _ hj => absurd hj (by omega)) (fun t => ⟨fun ⟨i, hi, _⟩ => absurd hi (by omega), fun ⟨i, hi, _⟩ => absurd hi (by omega)⟩)⟩
      refine cd_yCh (r := c2) (fc := fc) (jc := jc) (L := aL) (R := aR) (Z := aZ) hN (by omega) (by omega) ((l2.2.1 0 (by decide)).trans f4) ((l2.2.1 5 (by decide)).trans j3) l2.2.2 (by omega) (fun i hi => by rw [l2.1 i (by omega)]; exact cd_RF_Y h2 i hi) j2 (fun d hd => by rw [l2.1 _ (by omega)]; exact j4 d hd) l3 (fun t ht => ok0 t ((l4 t).mp ht)) (p00 _ fun t => (l4 t).mpr) (w0 _ fun t => (l4 t).mp) fun y s r μ' fr hr sY cY fY jY => ?_
      have E := cd_fin (fun t => (E0 t).trans (l4 t).symm) cA cY sA sY fA jA fY jY
      have oY : ∀ i, i < r → cd_rw y i < 2 ^ 31 := fun i hi => by have := (cd_CS_ok cY ⟨i, hi, rfl⟩).1; omega
      have FL : ∀ i, i < 384 → y i = yL i := fun i hi => (fr.1 i hi).trans (l2.1 i hi)
      have FS : ∀ j, j ≠ 6 → s j = ys j := fun j hj => (fr.2.1 j hj).trans (l2.2.1 j hj)
      have RR : i_Rel (k + 3) ((nI n), (nI al), (nI mf), (nI mj), (nI fc), (nI jc), (nI dc), (nI fD), (nI kc), (nI vc), (nI sc), (nI (1)), (nI (c)), (nI (q)), (nF aL), (nF aR), (nF aC), (nF aP), (nF aZ), (nF aD), (nF aK), (nF aV), (nF aW), (nF aS), (nF aU), (nF aI), (nF (A')), (nF (Q)), (nF aO), (nF aF)) ((nI n), (nI al), (nI mf), (nI mj), (nF (y)), (s), (nF (aP)), (nF yC), (nF yK), (nF yS), (nF yU)) := cd_mk h1 (cd_RF_fr hmf (fun i hi => FL i (by omega)) (FS 0 (by decide)) h2) (cd_RJ_fr hmj (fun i hi => FL _ (by omega)) (FS 5 (by decide)) h3) (cd_RD_fr (fun i hi => FL _ (by omega)) (FS 1 (by decide)) h4) (cd_RG_fr (fun i hi => FL _ (by omega)) (FS 2 (by decide)) (FS 3 (by decide)) (FS 4 (by decide)) h5) (cd_RT_new (P := fun _ => True) hc E fr.2.2 oA) h7
      have z0 : cd_Zr n 0 := ⟨by decide, fun a _ _ => cd_sy0 a⟩
      have eqv : cd_Agr n (cd_Set (cd_rw y) r) 0 al ↔ cd_Set A' c 0 := by
        rw [cd_Agr_set hN (fun t ht => cd_Zr_ok (cd_CS_ok cY ht)) z0]
        obtain ⟨rfl, ee⟩ := E
        exact ⟨fun ⟨i, hi, w⟩ => ⟨i, hi, by rw [ee i hi]; exact w⟩, fun ⟨i, hi, w⟩ => ⟨i, hi, by rw [← ee i hi]; exact w⟩⟩
      exact cd_yhe 0 al hn fr.2.2 hr (by decide) oY (cd_br (fun g => ⟨by rw [hrr, cd_bf (fun w => g (eqv.mpr w))]; rfl, RR⟩) (fun g => ⟨by rw [hrr, cd_bt (eqv.mp g)]; rfl, RR⟩))
    exact cd_xHR (t := 0) hc (by decide) bA (cd_br (fun g => F 0 (by rw [cd_bf g]; rfl)) (fun g => F 1 (by rw [cd_bt g]; rfl)))
  unfold wpX_chaseDraft
  refine cd_brN dc (by omega) (fun z => ?_) (fun z => cd_xDU d1 (pk_eq (cd_dU aD dc) al (fun e => pk_le jc 0 (fun q => go z e fun w => absurd q (by omega)) (fun q => cd_xDP hn d1 (pk_le (cd_dp aD dc n) 64 (fun q2 => go z e fun _ => q2) (fun q2 => Y _ z e (fun _ _ => ⟨rfl, R⟩) fun w => absurd (w (by omega)) (by omega))))) (fun e => ?_) rfl rfl (by omega) (by omega)))
  · unfold wpY_chaseDraft
    dsimp only
    rw [d2]
    exact cd_brN dc (by omega) (fun _ => ⟨rfl, R⟩) (fun w => absurd z w)
  · unfold wpY_chaseDraft
    dsimp only
    rw [d2]
    exact cd_brN dc (by omega) (fun w => absurd w z) (fun _ => cd_yDU d1 d2 dD (br_f (fun w => e ((nI_eq (by omega) (by omega)).mp w)) ⟨rfl, R⟩))
end
section
theorem cd_7 {x : Nat} (h : x ≤ 6) : x = 0 ∨ x = 1 ∨ x = 2 ∨ x = 3 ∨ x = 4 ∨ x = 5 ∨ x = 6 := by omega
noncomputable def cd_zc (t : Nat) : Nat → Nat
  | 0 => 0
  | a + 1 => if cd_sy t a = 0 then cd_zc t a ||| 2 ^ a else cd_zc t a
theorem cd_zc_t {t a : Nat} (h : cd_sy t a = 0) : cd_zc t (a + 1) = cd_zc t a ||| 2 ^ a := if_pos h
theorem cd_zc_f {t a : Nat} (h : ¬ cd_sy t a = 0) : cd_zc t (a + 1) = cd_zc t a := if_neg h
section
variable {n al mf mj fc jc dc fD kc vc sc fT rc qc : Nat} {aL aR aC aP aZ aD aK aV aW aS aU aI aA aQ aO aF : Nat → Nat}
theorem cd_xCt {post : Int32 → Prop} {p : Int32} {yL : Nat → Nat} {ys : Nat → Int32} (h2 : cd_RF al mf fc aL aR aC yL ys) (h3 : cd_RJ n al mj jc aP aZ yL ys) (h4 : cd_RD al dc aD yL ys) (h5 : cd_RG al fD kc vc sc aK aV aW aS yL ys) (h6 : cd_RT fT rc aA yL ys)
    (hb : ¬ (∃ κ, κ ≤ 6 ∧ p = nI κ) → post (-1)) (hg : ∀ κ, κ ≤ 6 → p = nI κ → post (ys κ)) : wpX_count post ((nI n), (nI al), (nI mf), (nI mj), (nI fc), (nI jc), (nI dc), (nI fD), (nI kc), (nI vc), (nI sc), (nI fT), (nI rc), (nI qc), (nF aL), (nF aR), (nF aC), (nF aP), (nF aZ), (nF aD), (nF aK), (nF aV), (nF aW), (nF aS), (nF aU), (nF aI), (nF aA), (nF aQ), (nF aO), (nF aF)) p := by
  by_cases hneg : p < 0
  · exact br_t hneg (hb fun ⟨κ, h1, h2⟩ => by subst h2; exact nI_pos (by omega) hneg)
  refine br_f hneg ?_
  obtain ⟨κ, hk, rfl⟩ := nI_of hneg
  refine pk_le κ 6 (fun h => ?_) (fun h => hb fun ⟨j, h1, h2⟩ => by rw [nI_eq hk (by omega)] at h2; omega)
  have G := hg κ h rfl
  have f4 := h2.2.2.2.1
  have d2 := h4.2.1
  have j3 := h3.2.2.1
  rcases cd_7 h with rfl | rfl | rfl | rfl | rfl | rfl | rfl
  · rw [f4] at G; exact br_t (by decide) G
  · rw [d2] at G; exact br_f (by decide) (br_t (by decide) G)
  · refine br_f (by decide) (br_f (by decide) (br_f (by decide) (br_f (by decide) ?_)))
    rcases h5 with ⟨rfl, g2, g3, g4⟩ | ⟨rfl, g1, g2, g3, g4, g5, g6, g7, g8, g9⟩
    · rw [g2] at G; exact br_t rfl G
    · rw [g4] at G; exact br_f (by decide) (br_t (by decide) G)
  · refine br_f (by decide) (br_f (by decide) (br_f (by decide) (br_f (by decide) ?_)))
    rcases h5 with ⟨rfl, g2, g3, g4⟩ | ⟨rfl, g1, g2, g3, g4, g5, g6, g7, g8, g9⟩
    · rw [g3] at G; exact br_t rfl G
    · rw [g5] at G; exact br_f (by decide) (br_f (by decide) (br_t (by decide) G))
  · refine br_f (by decide) (br_f (by decide) (br_f (by decide) (br_f (by decide) ?_)))
    rcases h5 with ⟨rfl, g2, g3, g4⟩ | ⟨rfl, g1, g2, g3, g4, g5, g6, g7, g8, g9⟩
    · rw [g4] at G; exact br_t rfl G
    · rw [g6] at G; exact br_f (by decide) (br_f (by decide) (br_f (by decide) G))
  · rw [j3] at G; exact br_f (by decide) (br_f (by decide) (br_t (by decide) G))
  · refine br_f (by decide) (br_f (by decide) (br_f (by decide) (br_t (by decide) ?_)))
    rcases h6 with ⟨rfl, g2⟩ | ⟨rfl, g1, g2, g3⟩
    · rw [g2] at G; exact br_t rfl G
    · rw [g2] at G; exact br_f (by decide) G
theorem cd_xZC4 {post : Int32 → Prop} {t : Nat} (hN : cd_N n al) (hF : ∀ m, m < 64 → aF m = cd_fi m) (hp : post (nI (cd_zc t n))) : ∀ k a, a + k = n → wX_zeroColumns_4 post (nI t) (nI n) (nI al) (nI mf) (nI mj) (nI fc) (nI jc) (nI dc) (nI fD) (nI kc) (nI vc) (nI sc) (nI fT) (nI rc) (nI qc) (nF aL) (nF aR) (nF aC) (nF aP) (nF aZ) (nF aD) (nF aK) (nF aV) (nF aW) (nF aS) (nF aU) (nF aI) (nF aA) (nF aQ) (nF aO) (nF aF) (k + 1) (nI (cd_zc t a)) (nI a) := by
  have hal := (cd_N_al hN).1
  have hn := hN.2.1
  intro k
  induction k with
  | zero =>
    intro a h
    have e : a = n := by omega
    subst e
    rw [wX_zeroColumns_4]
    exact br_t (nI_le (Nat.le_refl _) (by omega)) hp
  | succ k ih =>
    intro a h
    have p6 : 2 ^ a < 2 ^ 6 := Nat.pow_lt_pow_right (by decide) (by omega)
    have c : (nI (2 ^ a)).toNatClampNeg = 2 ^ a := nI_clamp (by omega)
    have I := ih (a + 1) (by omega)
    have gR := (cd_on_lt (2 ^ a) (by omega)).2
    have b2 : t &&& cd_fi (2 ^ a) ≤ cd_fi (2 ^ a) := Nat.and_le_right
    have E : t &&& cd_fi (2 ^ a) = 0 ↔ cd_sy t a = 0 := by
      rw [cd_zf (by omega)]
      refine ⟨fun w => w a (by omega) Nat.testBit_two_pow_self, fun w b _ hb => ?_⟩
      rw [Nat.testBit_two_pow, decide_eq_true_iff] at hb
      subst hb; exact w
    rw [wX_zeroColumns_4]
    dsimp only
    rw [cd_shl1 (by omega), c, show nF aF (2 ^ a) = nI (cd_fi (2 ^ a)) from congrArg nI (hF _ (by omega)), nx_and]
    refine br_f (nI_ge (by omega) (by omega)) ⟨vp_in_nI (by omega) (by omega), cd_brN _ (by omega) (fun z => nm_r (cd_or _ _) (nm_r (nI_1 a) ?_)) (fun z => nm_r (nI_1 a) ?_)⟩
    · rw [cd_zc_t (E.mp z)] at I; exact I
    · rw [cd_zc_f (fun w => z (E.mpr w))] at I; exact I
theorem cd_xZC {post : Int32 → Prop} {t : Nat} {x : Int32} (hN : cd_N n al) (hF : ∀ m, m < 64 → aF m = cd_fi m) (hp : post (nI (cd_zc t n))) (hx : x = nI t) : wpX_zeroColumns post ((nI n), (nI al), (nI mf), (nI mj), (nI fc), (nI jc), (nI dc), (nI fD), (nI kc), (nI vc), (nI sc), (nI fT), (nI rc), (nI qc), (nF aL), (nF aR), (nF aC), (nF aP), (nF aZ), (nF aD), (nF aK), (nF aV), (nF aW), (nF aS), (nF aU), (nF aI), (nF aA), (nF aQ), (nF aO), (nF aF)) x := by
  subst hx
  exact Exists.intro (n + 1) (cd_xZC4 hN hF hp n 0 (by omega))
def cd_TF (n l x : Nat) (A : Nat → Nat) (c : Nat) : Prop := ∀ i j, i < j → j < c → cd_ag n l (A i) (A j) → cd_ag n x (A i) (A j)
theorem cd_xTF45 {post : Int32 → Prop} {J : Int32 → Prop} {l x i : Nat} (hN : cd_N n al) (hrc : rc ≤ 64) (hl : l ≤ al) (hx : x ≤ al) (hF : ∀ m, m < 64 → aF m = cd_fi m) (hi : i < rc) (h0 : ¬ cd_TF n l x aA rc → post 0) (hJ : (∀ j, i < j → j < rc → cd_ag n l (aA i) (aA j) → cd_ag n x (aA i) (aA j)) → J (nI (i + 1))) :
    ∀ k j, j + k = rc → i < j → (∀ j', i < j' → j' < j → cd_ag n l (aA i) (aA j') → cd_ag n x (aA i) (aA j')) → wX_tableauFd_45 post J (nI l) (nI x) (nI i) (nI n) (nI al) (nI mf) (nI mj) (nI fc) (nI jc) (nI dc) (nI fD) (nI kc) (nI vc) (nI sc) (nI fT) (nI rc) (nI qc) (nF aL) (nF aR) (nF aC) (nF aP) (nF aZ) (nF aD) (nF aK) (nF aV) (nF aW) (nF aS) (nF aU) (nF aI) (nF aA) (nF aQ) (nF aO) (nF aF) (k + 1) (nI j) := by
  have hal := (cd_N_al hN).1
  intro k
  induction k with
  | zero =>
    intro j h hij H
    rw [wX_tableauFd_45]
    exact br_t (nI_le (by omega) (by omega)) (nm_r (nI_1 i) (hJ fun j' q1 q2 => H j' q1 (by omega)))
  | succ k ih =>
    intro j h hij H
    have ci : (nI i).toNatClampNeg = i := nI_clamp (by omega)
    have cj : (nI j).toNatClampNeg = j := nI_clamp (by omega)
    have cl : (nI l).toNatClampNeg = l := nI_clamp (by omega)
    have cx : (nI x).toNatClampNeg = x := nI_clamp (by omega)
    have gl := (cd_on_lt l (by omega)).2
    have gx := (cd_on_lt x (by omega)).2
    have b1 : (aA i ^^^ aA j) &&& cd_fi l ≤ cd_fi l := Nat.and_le_right
    have b2 : (aA i ^^^ aA j) &&& cd_fi x ≤ cd_fi x := Nat.and_le_right
    have E : (cd_ag n l (aA i) (aA j) → cd_ag n x (aA i) (aA j)) → wX_tableauFd_45 post J (nI l) (nI x) (nI i) (nI n) (nI al) (nI mf) (nI mj) (nI fc) (nI jc) (nI dc) (nI fD) (nI kc) (nI vc) (nI sc) (nI fT) (nI rc) (nI qc) (nF aL) (nF aR) (nF aC) (nF aP) (nF aZ) (nF aD) (nF aK) (nF aV) (nF aW) (nF aS) (nF aU) (nF aI) (nF aA) (nF aQ) (nF aO) (nF aF) (k + 1) (nI (j + 1)) := fun z => ih (j + 1) (by omega) (by omega) fun j' q1 q2 => by
      by_cases e : j' = j
      · subst e; exact z
      · exact H j' q1 (by omega)
    rw [wX_tableauFd_45]
    dsimp only
    rw [ci, cj, cl, cx, show nF aF l = nI (cd_fi l) from congrArg nI (hF l (by omega)), show nF aF x = nI (cd_fi x) from congrArg nI (hF x (by omega))]
    refine br_f (nI_ge (by omega) (by omega)) ⟨vp_in_nI (by omega) (by omega), vp_in_nI (by omega) (by omega), nm_r (nx_xor (aA i) (aA j)) ?_⟩
    rw [nx_and, nx_and]
    exact ⟨vp_in_nI (by omega) (by omega), cd_brN _ (by omega) (fun z1 => ⟨vp_in_nI (by omega) (by omega), cd_brN _ (by omega) (fun z2 => nm_r (nI_1 j) (E fun _ => (cd_agN hN hx).mp z2)) (fun z2 => h0 fun w => z2 ((cd_agN hN hx).mpr (w i j hij (by omega) ((cd_agN hN hl).mp z1))))⟩) (fun z1 => nm_r (nI_1 j) (E fun q => absurd ((cd_agN hN hl).mpr q) z1))⟩
theorem cd_xTF32 {post : Int32 → Prop} {l x : Nat} (hN : cd_N n al) (hrc : rc ≤ 64) (hl : l ≤ al) (hx : x ≤ al) (hF : ∀ m, m < 64 → aF m = cd_fi m) (hp : post (nI (cd_b (cd_TF n l x aA rc)))) :
    ∀ k i, i + k = rc → (∀ i' j, i' < i → i' < j → j < rc → cd_ag n l (aA i') (aA j) → cd_ag n x (aA i') (aA j)) → wX_tableauFd_32 post (nI l) (nI x) (nI n) (nI al) (nI mf) (nI mj) (nI fc) (nI jc) (nI dc) (nI fD) (nI kc) (nI vc) (nI sc) (nI fT) (nI rc) (nI qc) (nF aL) (nF aR) (nF aC) (nF aP) (nF aZ) (nF aD) (nF aK) (nF aV) (nF aW) (nF aS) (nF aU) (nF aI) (nF aA) (nF aQ) (nF aO) (nF aF) (k + 1) (nI i) := by
  intro k
  induction k with
  | zero =>
    intro i h H
    rw [wX_tableauFd_32]
    exact br_t (nI_le (by omega) (by omega)) (cd_p1 (P := cd_TF n l x aA rc) (fun i' j q1 q2 => H i' j (by omega) q1 q2) hp)
  | succ k ih =>
    intro i h H
    rw [wX_tableauFd_32]
    refine br_f (nI_ge (by omega) (by omega)) (nm_r (nI_1 i) ⟨rc - (i + 1) + 1, cd_xTF45 hN hrc hl hx hF (by omega) (fun w => cd_p0 w hp) (fun w => ih (i + 1) (by omega) fun i' j q1 q2 q3 => ?_) (rc - (i + 1)) (i + 1) (by omega) (by omega) (fun j' q1 q2 => absurd q1 (by omega))⟩)
    by_cases e : i' = i
    · subst e; exact w j q2 q3
    · exact H i' j (by omega) q2 q3
end
section
variable {n al mf mj : Nat}
variable {yL yP yC yK yS yU : Nat → Nat} {ys : Nat → Int32}
theorem cd_yCt {post : Int32 → Prop} {p : Int32} (hb : ¬ (∃ κ, κ ≤ 6 ∧ p = nI κ) → post (-1)) (hg : ∀ κ, κ ≤ 6 → p = nI κ → post (ys κ)) : wpY_count post ((nI n), (nI al), (nI mf), (nI mj), (nF yL), ys, (nF yP), (nF yC), (nF yK), (nF yS), (nF yU)) p := by
  by_cases hneg : p < 0
  · exact br_t hneg (hb fun ⟨κ, h1, h2⟩ => by subst h2; exact nI_pos (by omega) hneg)
  refine br_f hneg ?_
  obtain ⟨κ, hk, rfl⟩ := nI_of hneg
  refine pk_le κ 6 (fun h => ⟨vp_in_nI (by omega) (by omega), ?_⟩) (fun h => hb fun ⟨j, h1, h2⟩ => by rw [nI_eq hk (by omega)] at h2; omega)
  rw [nI_clamp hk]
  exact hg κ h rfl
theorem cd_yZC47 {post : Int32 → Prop} {t i : Nat} (hn : n ≤ 6) (hi : i < 64) (ht : yL (384 + i) = t) (htl : t < 2 ^ 31) (hp : post (nI (cd_zc t n))) : ∀ k a, a + k = n → wY_item_47 post (nI i) (nI n) (nI al) (nI mf) (nI mj) (nF yL) ys (nF yP) (nF yC) (nF yK) (nF yS) (nF yU) (k + 1) (nI (cd_zc t a)) (nI a) := by
  intro k
  induction k with
  | zero =>
    intro a h
    have e : a = n := by omega
    subst e
    rw [wY_item_47]
    exact br_t (nI_le (Nat.le_refl _) (by omega)) hp
  | succ k ih =>
    intro a h
    have ci : (nI (384 + i)).toNatClampNeg = 384 + i := nI_clamp (by omega)
    have I := ih (a + 1) (by omega)
    have l := cd_sy_lt t a
    rw [wY_item_47]
    dsimp only
    rw [cd_384, ci]
    refine br_f (nI_ge (by omega) (by omega)) ⟨vp_in_nI (by omega) (by omega), cd_ysy (congrArg nI ht) htl (by omega) (cd_brN _ (by omega) (fun z => nm_r (e' := nI (cd_zc t (a + 1))) ?_ (nm_r (nI_1 a) I)) (fun z => nm_r (nI_1 a) ?_))⟩
    · rw [cd_shl1 (by omega), cd_or, cd_zc_t z]
    · rw [cd_zc_f z] at I; exact I
theorem cd_yTF59 {post : Int32 → Prop} {J : Int32 → Prop} {l x i r : Nat} (hN : cd_N n al) (hr : r ≤ 64) (hi : i < r) (hA : ∀ i, i < r → cd_rw yL i < 2 ^ 31) (h0 : ¬ cd_TF n l x (cd_rw yL) r → post 0) (hJ : (∀ j, j < i → cd_ag n l (cd_rw yL j) (cd_rw yL i) → cd_ag n x (cd_rw yL j) (cd_rw yL i)) → J (nI (384 + (i + 1)))) :
    ∀ k j, j + k = i → (∀ j', j' < j → cd_ag n l (cd_rw yL j') (cd_rw yL i) → cd_ag n x (cd_rw yL j') (cd_rw yL i)) → wY_tableauFd_59 post J (nI l) (nI x) (nI (384 + i)) (nI n) (nI al) (nI mf) (nI mj) (nF yL) ys (nF yP) (nF yC) (nF yK) (nF yS) (nF yU) (k + 1) (nI (384 + j)) := by
  have hn := hN.2.1
  intro k
  induction k with
  | zero =>
    intro j h H
    rw [wY_tableauFd_59]
    exact br_t (nI_le (by omega) (by omega)) (nm_r (nI_1 _) (hJ fun j' q1 => H j' (by omega)))
  | succ k ih =>
    intro j h H
    have ci : (nI (384 + i)).toNatClampNeg = 384 + i := nI_clamp (by omega)
    have cj : (nI (384 + j)).toNatClampNeg = 384 + j := nI_clamp (by omega)
    have Ai := hA i hi
    have Aj := hA j (by omega)
    have E : (cd_ag n l (cd_rw yL j) (cd_rw yL i) → cd_ag n x (cd_rw yL j) (cd_rw yL i)) → wY_tableauFd_59 post J (nI l) (nI x) (nI (384 + i)) (nI n) (nI al) (nI mf) (nI mj) (nF yL) ys (nF yP) (nF yC) (nF yK) (nF yS) (nF yU) (k + 1) (nI (384 + (j + 1))) := fun z => ih (j + 1) (by omega) fun j' q1 => by
      by_cases e : j' = j
      · subst e; exact z
      · exact H j' (by omega)
    rw [wY_tableauFd_59]
    dsimp only
    rw [ci, cj]
    exact br_f (nI_ge (by omega) (by omega)) ⟨vp_in_nI (by omega) (by omega), vp_in_nI (by omega) (by omega), cd_yag (cd_rw yL i) (cd_rw yL j) l hn Ai Aj (cd_br (fun g => nm_r (nI_1 _) (E fun q => absurd (cd_ag_sym q) g)) (fun g => ⟨vp_in_nI (by omega) (by omega), vp_in_nI (by omega) (by omega), cd_yag (cd_rw yL i) (cd_rw yL j) x hn Ai Aj (cd_br (fun g' => h0 fun w => g' (cd_ag_sym (w j i (by omega) hi (cd_ag_sym g)))) (fun g' => nm_r (nI_1 _) (E fun _ => cd_ag_sym g')))⟩))⟩
theorem cd_yTF39 {post : Int32 → Prop} {l x r : Nat} (hN : cd_N n al) (hr : r ≤ 64) (h6 : ys 6 = nI r) (hA : ∀ i, i < r → cd_rw yL i < 2 ^ 31) (hp : post (nI (cd_b (cd_TF n l x (cd_rw yL) r)))) :
    ∀ k i, i + k = r → (∀ i' j, i' < i → j < i' → cd_ag n l (cd_rw yL j) (cd_rw yL i') → cd_ag n x (cd_rw yL j) (cd_rw yL i')) → wY_tableauFd_39 post (nI l) (nI x) (nI n) (nI al) (nI mf) (nI mj) (nF yL) ys (nF yP) (nF yC) (nF yK) (nF yS) (nF yU) (k + 1) (nI (384 + i)) := by
  intro k
  induction k with
  | zero =>
    intro i h H
    rw [wY_tableauFd_39]
    dsimp only
    rw [h6, cd_384]
    exact br_t (nI_le (by omega) (by omega)) (cd_p1 (P := cd_TF n l x (cd_rw yL) r) (fun i' j q1 q2 => H j i' (by omega) q1) hp)
  | succ k ih =>
    intro i h H
    rw [wY_tableauFd_39]
    dsimp only
    rw [h6, cd_384]
    refine br_f (nI_ge (by omega) (by omega)) ⟨i + 1, cd_yTF59 hN hr (by omega) hA (fun w => cd_p0 w hp) (fun w => ih (i + 1) (by omega) fun i' j q1 q2 => ?_) i 0 (by omega) (fun j' q1 => absurd q1 (by omega))⟩
    by_cases e : i' = i
    · subst e; exact w j q2
    · exact H i' j (by omega) q2
end
theorem i_vc_count {k : Nat} {u : SX} {v : SY} (I : i_Rel k u v) (hk : k + 3 ≤ 1539) (v1 : Int32) : wpX_count (fun r => wpY_count (fun r' => r' = r ∧ i_Rel (k + 3) u v) v v1) u v1 := by
  refine cd_el (P := fun u v => wpX_count (fun r => wpY_count (fun r' => r' = r ∧ i_Rel (k + 3) u v) v v1) u v1) I ?_
  intro n al mf mj fc jc dc fD kc vc sc fT rc qc aL aR aC aP aZ aD aK aV aW aS aU aI aA aQ aO aF yL ys yC yK yS yU h1 h2 h3 h4 h5 h6 h7
  have R : i_Rel (k + 3) ((nI n), (nI al), (nI mf), (nI mj), (nI fc), (nI jc), (nI dc), (nI fD), (nI kc), (nI vc), (nI sc), (nI fT), (nI rc), (nI qc), (nF aL), (nF aR), (nF aC), (nF aP), (nF aZ), (nF aD), (nF aK), (nF aV), (nF aW), (nF aS), (nF aU), (nF aI), (nF aA), (nF aQ), (nF aO), (nF aF)) ((nI n), (nI al), (nI mf), (nI mj), (nF yL), ys, (nF (aP)), (nF yC), (nF yK), (nF yS), (nF yU)) := cd_mk h1 h2 h3 h4 h5 h6 h7
  refine cd_xCt h2 h3 h4 h5 h6 (fun g => cd_yCt (fun _ => ⟨rfl, R⟩) (fun κ q1 q2 => absurd ⟨κ, q1, q2⟩ g)) (fun κ q1 q2 => cd_yCt (fun g => absurd ⟨κ, q1, q2⟩ g) (fun κ' q1' q2' => ?_))
  have : κ = κ' := (nI_eq (by omega) (by omega)).mp (q2.symm.trans q2')
  subst this
  exact ⟨rfl, R⟩
theorem i_vc_item {k : Nat} {u : SX} {v : SY} (I : i_Rel k u v) (hk : k + 3 ≤ 1539) (v1 : Int32) (v2 : Int32) : wpX_item (fun r => wpY_item (fun r' => r' = r ∧ i_Rel (k + 3) u v) v v1 v2) u v1 v2 := by
  refine cd_el (P := fun u v => wpX_item (fun r => wpY_item (fun r' => r' = r ∧ i_Rel (k + 3) u v) v v1 v2) u v1 v2) I ?_
  intro n al mf mj fc jc dc fD kc vc sc fT rc qc aL aR aC aP aZ aD aK aV aW aS aU aI aA aQ aO aF yL ys yC yK yS yU h1 h2 h3 h4 h5 h6 h7
  have hN := h1.1
  have R : i_Rel (k + 3) ((nI n), (nI al), (nI mf), (nI mj), (nI fc), (nI jc), (nI dc), (nI fD), (nI kc), (nI vc), (nI sc), (nI fT), (nI rc), (nI qc), (nF aL), (nF aR), (nF aC), (nF aP), (nF aZ), (nF aD), (nF aK), (nF aV), (nF aW), (nF aS), (nF aU), (nF aI), (nF aA), (nF aQ), (nF aO), (nF aF)) ((nI n), (nI al), (nI mf), (nI mj), (nF yL), ys, (nF (aP)), (nF yC), (nF yK), (nF yS), (nF yU)) := cd_mk h1 h2 h3 h4 h5 h6 h7
  have hmf := h1.2.1
  have hmj := h1.2.2
  unfold wpX_item
  refine cd_xCt h2 h3 h4 h5 h6 (fun g => ?_) (fun κ q1 q2 => ?_)
  · refine br_f (by decide) ?_
    unfold wpY_item
    exact cd_yCt (fun _ => br_f (by decide) ⟨rfl, R⟩) (fun κ q1 q2 => absurd ⟨κ, q1, q2⟩ g)
  subst q2
  have Y : ∀ q : Int32 → Prop, ((0 ≤ ys κ → (v2 < 0 → q (-1)) ∧ (¬ v2 < 0 → (v2 < ys κ → (nI κ = 6 → ∃ m, wY_item_47 q v2 (nI n) (nI al) (nI mf) (nI mj) (nF yL) ys (nF (aP)) (nF yC) (nF yK) (nF yS) (nF yU) m 0 0) ∧ (¬ nI κ = 6 → vp_in ((nI κ * 64) + v2) 448 ∧ q (nF yL ((nI κ * 64) + v2).toNatClampNeg))) ∧ (¬ v2 < ys κ → q (-1)))) ∧ (¬ 0 ≤ ys κ → q (ys κ))) → wpY_item q ((nI n), (nI al), (nI mf), (nI mj), (nF yL), ys, (nF (aP)), (nF yC), (nF yK), (nF yS), (nF yU)) (nI κ) v2 := fun q hq => by
    unfold wpY_item
    refine cd_yCt (fun g => absurd ⟨κ, q1, rfl⟩ g) (fun κ' q1' q2' => ?_)
    have : κ = κ' := (nI_eq (by omega) (by omega)).mp q2'
    subst this
    exact hq
  -- none of the kind
  by_cases hs' : ¬ 0 ≤ ys κ
  · exact br_f hs' (Y _ (br_f hs' ⟨rfl, R⟩))
  have hs : 0 ≤ ys κ := Classical.byContradiction hs'
  refine br_t hs ?_
  by_cases hn2 : v2 < 0
  · exact br_t hn2 (Y _ (br_t hs (br_t hn2 ⟨rfl, R⟩)))
  refine br_f hn2 ?_
  by_cases hlt' : ¬ v2 < ys κ
  · exact br_f hlt' (Y _ (br_t hs (br_f hn2 (br_f hlt' ⟨rfl, R⟩))))
  have hlt : v2 < ys κ := Classical.byContradiction hlt'
  refine br_t hlt ?_
  obtain ⟨i, hi, rfl⟩ := nI_of hn2
  have ci : (nI i).toNatClampNeg = i := nI_clamp hi
  rw [ci]
  -- the reference's answer for all kinds but rows
  have Z : ∀ (a : Nat), κ ≠ 6 → i < 64 → yL (κ * 64 + i) = a → wpY_item (fun r' => r' = nI a ∧ i_Rel (k + 3) ((nI n), (nI al), (nI mf), (nI mj), (nI fc), (nI jc), (nI dc), (nI fD), (nI kc), (nI vc), (nI sc), (nI fT), (nI rc), (nI qc), (nF aL), (nF aR), (nF aC), (nF aP), (nF aZ), (nF aD), (nF aK), (nF aV), (nF aW), (nF aS), (nF aU), (nF aI), (nF aA), (nF aQ), (nF aO), (nF aF)) ((nI n), (nI al), (nI mf), (nI mj), (nF yL), ys, (nF (aP)), (nF yC), (nF yK), (nF yS), (nF yU))) ((nI n), (nI al), (nI mf), (nI mj), (nF yL), ys, (nF (aP)), (nF yC), (nF yK), (nF yS), (nF yU)) (nI κ) (nI i) := fun a k6 hi64 e => by
    have ix : nI κ * 64 + nI i = nI (κ * 64 + i) := by rw [show nI κ * 64 = nI (κ * 64) from pk_mul κ 64, nI_add]
    have cx : (nI (κ * 64 + i)).toNatClampNeg = κ * 64 + i := nI_clamp (by omega)
    refine Y _ (br_t hs (br_f hn2 (br_t hlt (br_f (fun w => k6 ((nI_eq (b := 6) (by omega) (by decide)).mp w)) ?_))))
    rw [ix, cx]
    exact ⟨vp_in_nI (by omega) (by omega), congrArg nI e, R⟩
  have ltn : ∀ c, c ≤ 64 → ys κ = nI c → i < c := fun c hc e => by rw [e] at hlt; exact (nI_ltI hi (by omega)).mp hlt
  rcases cd_7 q1 with rfl | rfl | rfl | rfl | rfl | rfl | rfl
  · obtain ⟨f1, f2, f3, f4, f5⟩ := id h2
    have hl := ltn fc (by omega) f4
    refine br_t (by decide) ⟨vp_in_nI (by omega) (by omega), vp_in_nI (by omega) (by omega), ?_⟩
    rw [show nF aL i * 64 + nF aR i = nI (aL i * 64 + aR i) from by rw [show nF aL i * 64 = nI (aL i * 64) from pk_mul _ 64, nI_add]]
    exact Z _ (by decide) (by omega) (by rw [show 0 * 64 + i = i by omega]; exact f5 i hl)
  · obtain ⟨d1, d2, d3⟩ := id h4
    have hl := ltn dc (by omega) d2
    exact br_f (by decide) (br_t (by decide) ⟨vp_in_nI (by omega) (by omega), Z _ (by decide) (by omega) (d3 i hl).1⟩)
  · rcases h5 with ⟨rfl, g2, g3, g4⟩ | ⟨rfl, g1, g2, g3, g4, g5, g6, g7, g8, g9⟩
    · rw [g2] at hs; exact absurd hs (by decide)
    · have hl := ltn kc g1 g4
      exact br_f (by decide) (br_f (by decide) (br_t (by decide) ⟨vp_in_nI (by omega) (by omega), Z _ (by decide) (by omega) (g7 i hl)⟩))
  · rcases h5 with ⟨rfl, g2, g3, g4⟩ | ⟨rfl, g1, g2, g3, g4, g5, g6, g7, g8, g9⟩
    · rw [g3] at hs; exact absurd hs (by decide)
    · have hl := ltn vc g2 g5
      refine br_f (by decide) (br_f (by decide) (br_f (by decide) (br_t (by decide) ⟨vp_in_nI (by omega) (by omega), vp_in_nI (by omega) (by omega), ?_⟩)))
      rw [show nF aV i * 64 + nF aW i = nI (aV i * 64 + aW i) from by rw [show nF aV i * 64 = nI (aV i * 64) from pk_mul _ 64, nI_add]]
      exact Z _ (by decide) (by omega) (g8 i hl)
  · rcases h5 with ⟨rfl, g2, g3, g4⟩ | ⟨rfl, g1, g2, g3, g4, g5, g6, g7, g8, g9⟩
    · rw [g4] at hs; exact absurd hs (by decide)
    · have hl := ltn sc g3 g6
      exact br_f (by decide) (br_f (by decide) (br_f (by decide) (br_f (by decide) (br_t (by decide) ⟨vp_in_nI (by omega) (by omega), Z _ (by decide) (by omega) (g9 i hl).1⟩))))
  · obtain ⟨j1, j2, j3, j4⟩ := id h3
    have hl := ltn jc (by omega) j3
    exact br_f (by decide) (br_f (by decide) (br_f (by decide) (br_f (by decide) (br_f (by decide) (br_t (by decide) ⟨vp_in_nI (by omega) (by omega), Z _ (by decide) (by omega) (j4 i hl)⟩)))))
  · rcases h6 with ⟨rfl, g2⟩ | ⟨rfl, g1, g2, g3⟩
    · rw [g2] at hs; exact absurd hs (by decide)
    · have hl := ltn rc g1 g2
      obtain ⟨e1, e2⟩ := g3 i hl
      refine br_f (by decide) (br_f (by decide) (br_f (by decide) (br_f (by decide) (br_f (by decide) (br_f (by decide) ⟨vp_in_nI (by omega) (by omega), cd_xZC hN (fun m hm => (h7 m hm).2) ?_ rfl⟩)))))
      exact Y _ (br_t hs (br_f hn2 (br_t hlt (br_t (by decide) ⟨n + 1, cd_yZC47 hN.2.1 (by omega) e1 (by omega) ⟨rfl, R⟩ n 0 (by omega)⟩))))
theorem i_vc_cell {k : Nat} {u : SX} {v : SY} (I : i_Rel k u v) (hk : k + 3 ≤ 1539) (v1 : Int32) (v2 : Int32) : wpX_cell (fun r => wpY_cell (fun r' => r' = r ∧ i_Rel (k + 3) u v) v v1 v2) u v1 v2 := by
  refine cd_el (P := fun u v => wpX_cell (fun r => wpY_cell (fun r' => r' = r ∧ i_Rel (k + 3) u v) v v1 v2) u v1 v2) I ?_
  intro n al mf mj fc jc dc fD kc vc sc fT rc qc aL aR aC aP aZ aD aK aV aW aS aU aI aA aQ aO aF yL ys yC yK yS yU h1 h2 h3 h4 h5 h6 h7
  have hN := h1.1
  have hn := hN.2.1
  have R : i_Rel (k + 3) ((nI n), (nI al), (nI mf), (nI mj), (nI fc), (nI jc), (nI dc), (nI fD), (nI kc), (nI vc), (nI sc), (nI fT), (nI rc), (nI qc), (nF aL), (nF aR), (nF aC), (nF aP), (nF aZ), (nF aD), (nF aK), (nF aV), (nF aW), (nF aS), (nF aU), (nF aI), (nF aA), (nF aQ), (nF aO), (nF aF)) ((nI n), (nI al), (nI mf), (nI mj), (nF yL), ys, (nF (aP)), (nF yC), (nF yK), (nF yS), (nF yU)) := cd_mk h1 h2 h3 h4 h5 h6 h7
  unfold wpX_cell wpY_cell
  dsimp only
  rcases h6 with ⟨rfl, g2⟩ | ⟨rfl, g1, g2, g3⟩
  · rw [g2]; exact br_t rfl (br_f (by decide) ⟨rfl, R⟩)
  rw [g2]
  refine br_f (by decide) ?_
  by_cases hneg : v1 < 0
  · exact br_t hneg (br_t (nI_pos' (by omega)) (br_t hneg ⟨rfl, R⟩))
  refine br_f hneg ?_
  obtain ⟨i, hi, rfl⟩ := nI_of hneg
  refine pk_lt i rc (fun hl => ?_) (fun hl => br_t (nI_pos' (by omega)) (br_f hneg (br_t (nI_le hl hi) ⟨rfl, R⟩)))
  by_cases hn2 : v2 < 0
  · exact br_t hn2 (br_t (nI_pos' (by omega)) (br_f hneg (br_f (nI_ge hl (by omega)) (br_t hn2 ⟨rfl, R⟩))))
  refine br_f hn2 ?_
  obtain ⟨a, ha, rfl⟩ := nI_of hn2
  refine pk_lt a n (fun hl2 => ?_) (fun hl2 => br_t (nI_pos' (by omega)) (br_f hneg (br_f (nI_ge hl (by omega)) (br_f hn2 (br_f (nI_nlt hl2 ha) ⟨rfl, R⟩)))))
  obtain ⟨e1, e2⟩ := g3 i hl
  have ci : (nI i).toNatClampNeg = i := nI_clamp hi
  have c3 : (nI (384 + i)).toNatClampNeg = 384 + i := nI_clamp (by omega)
  rw [ci, cd_384, c3]
  exact ⟨vp_in_nI (by omega) (by omega), cd_xsy rfl (by omega) (by omega) (br_t (nI_pos' (by omega)) (br_f hneg (br_f (nI_ge hl (by omega)) (br_f hn2 (br_t (nI_lt hl2 (by omega)) ⟨vp_in_nI (by omega) (by omega), cd_ysy (congrArg nI e1) (by omega) (by omega) ⟨rfl, R⟩⟩)))))⟩
theorem i_vc_tableauFd {k : Nat} {u : SX} {v : SY} (I : i_Rel k u v) (hk : k + 3 ≤ 1539) (v1 : Int32) (v2 : Int32) : wpX_tableauFd (fun r => wpY_tableauFd (fun r' => r' = r ∧ i_Rel (k + 3) u v) v v1 v2) u v1 v2 := by
  refine cd_el (P := fun u v => wpX_tableauFd (fun r => wpY_tableauFd (fun r' => r' = r ∧ i_Rel (k + 3) u v) v v1 v2) u v1 v2) I ?_
  intro n al mf mj fc jc dc fD kc vc sc fT rc qc aL aR aC aP aZ aD aK aV aW aS aU aI aA aQ aO aF yL ys yC yK yS yU h1 h2 h3 h4 h5 h6 h7
  have hN := h1.1
  have hal := (cd_N_al hN).1
  have R : i_Rel (k + 3) ((nI n), (nI al), (nI mf), (nI mj), (nI fc), (nI jc), (nI dc), (nI fD), (nI kc), (nI vc), (nI sc), (nI fT), (nI rc), (nI qc), (nF aL), (nF aR), (nF aC), (nF aP), (nF aZ), (nF aD), (nF aK), (nF aV), (nF aW), (nF aS), (nF aU), (nF aI), (nF aA), (nF aQ), (nF aO), (nF aF)) ((nI n), (nI al), (nI mf), (nI mj), (nF yL), ys, (nF (aP)), (nF yC), (nF yK), (nF yS), (nF yU)) := cd_mk h1 h2 h3 h4 h5 h6 h7
  have bad : ¬ (cd_IM al v1 ∧ cd_IP al v2) → wpY_tableauFd (fun r' => r' = -1 ∧ i_Rel (k + 3) ((nI n), (nI al), (nI mf), (nI mj), (nI fc), (nI jc), (nI dc), (nI fD), (nI kc), (nI vc), (nI sc), (nI fT), (nI rc), (nI qc), (nF aL), (nF aR), (nF aC), (nF aP), (nF aZ), (nF aD), (nF aK), (nF aV), (nF aW), (nF aS), (nF aU), (nF aI), (nF aA), (nF aQ), (nF aO), (nF aF)) ((nI n), (nI al), (nI mf), (nI mj), (nF yL), ys, (nF (aP)), (nF yC), (nF yK), (nF yS), (nF yU))) ((nI n), (nI al), (nI mf), (nI mj), (nF yL), ys, (nF (aP)), (nF yC), (nF yK), (nF yS), (nF yU)) v1 v2 := fun z => by
    unfold wpY_tableauFd
    exact cd_yIM hal (cd_br (fun _ => ⟨rfl, R⟩) (fun g => cd_yIM hal (cd_br (fun _ => ⟨rfl, R⟩) (fun g' => br_t (Classical.byContradiction fun w => z ⟨g, (cd_IP_iff (by omega)).mpr ⟨g', w⟩⟩) ⟨rfl, R⟩))))
  unfold wpX_tableauFd
  refine cd_xIM hal (cd_br (fun g => bad fun z => g z.1) (fun g1 => cd_xIP hal (cd_br (fun g => bad fun z => g z.2) (fun g2 => ?_))))
  have g2' := (cd_IP_iff (by omega)).mp g2
  have good : ∀ q : Int32 → Prop, ((0 ≤ ys 6 → ∃ m, wY_tableauFd_39 q v1 v2 (nI n) (nI al) (nI mf) (nI mj) (nF yL) ys (nF (aP)) (nF yC) (nF yK) (nF yS) (nF yU) m 384) ∧ (¬ 0 ≤ ys 6 → q (-7))) → wpY_tableauFd q ((nI n), (nI al), (nI mf), (nI mj), (nF yL), ys, (nF (aP)), (nF yC), (nF yK), (nF yS), (nF yU)) v1 v2 := fun q hq => by
    unfold wpY_tableauFd
    exact cd_yIM hal (cd_br (fun g => absurd g1 g) (fun _ => cd_yIM hal (cd_br (fun g => absurd g2'.1 g) (fun _ => br_f g2'.2 hq))))
  rcases h6 with ⟨rfl, t2⟩ | ⟨rfl, t1, t2, t3⟩
  · refine br_t rfl (good _ ?_)
    rw [t2]; exact br_f (by decide) ⟨rfl, R⟩
  obtain ⟨l, hl, rfl⟩ := g1
  obtain ⟨x, hx0, hx, rfl⟩ := g2
  refine br_f (by decide) ⟨rc + 1, cd_xTF32 hN t1 hl hx (fun m hm => (h7 m hm).2) (good _ ?_) rc 0 (by omega) (fun i' j q1 => absurd q1 (by omega))⟩
  rw [t2]
  refine br_t (nI_pos' (by omega)) ⟨rc + 1, cd_yTF39 hN t1 t2 (fun i hi => by have := (t3 i hi); have e : cd_rw yL i = aA i := this.1; omega) ⟨congrArg nI (cd_be ?_), R⟩ rc 0 (by omega) (fun i' j q1 => absurd q1 (by omega))⟩
  have e : ∀ i, i < rc → cd_rw yL i = aA i := fun i hi => (t3 i hi).1
  exact ⟨fun w i j q1 q2 => by rw [← e i (by omega), ← e j q2]; exact w i j q1 q2, fun w i j q1 q2 => by rw [e i (by omega), e j q2]; exact w i j q1 q2⟩
end
