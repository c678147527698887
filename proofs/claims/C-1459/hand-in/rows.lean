section
/-! pure rows to paste: stores, nI and lN arithmetic, masks, shifts, narrowing, branches by naturals (pk_le, pk_lt, pk_eq), loops (lp1 .. lp16: the measure of the state; rp1 ..: recursion), negatives. Take what you need -/
theorem pk_us {f : Nat → Int32} {k : Nat} {x : Int32} : upd f k x k = x := if_pos rfl
theorem pk_un {f : Nat → Int32} {k j : Nat} {x : Int32} (h : j ≠ k) : upd f k x j = f j := if_neg h
theorem pk_uLs {f : Nat → Int64} {k : Nat} {x : Int64} : vp_updL f k x k = x := if_pos rfl
theorem pk_uLn {f : Nat → Int64} {k j : Nat} {x : Int64} (h : j ≠ k) : vp_updL f k x j = f j := if_neg h
theorem pk_sub {a b : Nat} (h : b ≤ a) : nI a - nI b = nI (a - b) := by
  obtain ⟨c, rfl⟩ : ∃ c, a = c + b := ⟨a - b, by omega⟩
  rw [← nI_add, Int32.add_sub_cancel, Nat.add_sub_cancel]
theorem pk_m1 (n : Nat) : nI (n + 1) + (-1) = nI n := by
  rw [← nI_1, Int32.add_assoc, show (1 : Int32) + (-1) = 0 from rfl, Int32.add_zero]
theorem pk_mul (a b : Nat) : nI a * nI b = nI (a * b) := (Int32.ofNat_mul a b).symm
theorem pk_div {a d : Nat} (ha : a < 2 ^ 31) (h0 : 0 < d) (hd : d < 2 ^ 31) : nI a / nI d = nI (a / d) := by
  apply Int32.toInt_inj.mp
  rw [lg_idiv_nonneg (by rw [nI_toInt ha]; omega) (by rw [nI_toInt hd]; omega), nI_toInt ha, nI_toInt hd, nI_toInt (Nat.lt_of_le_of_lt (Nat.div_le_self a d) ha)]
  first | rfl | exact (Int.natCast_ediv _ _).symm
theorem pk_rem {a d : Nat} (ha : a < 2 ^ 31) (h0 : 0 < d) (hd : d < 2 ^ 31) : nI a - nI a / nI d * nI d = nI (a % d) := by
  rw [pk_div ha h0 hd, pk_mul, pk_sub (Nat.div_mul_le_self a d)]
  exact congrArg nI (by have := Nat.div_add_mod' a d; omega)
theorem pk_sub_toInt {a b : Nat} (ha : a < 2 ^ 30) (hb : b < 2 ^ 30) : (nI a - nI b).toInt = (a : Int) - b := by
  rw [Int32.toInt_sub, nI_toInt (by omega), nI_toInt (by omega)]
  exact Int.bmod_eq_of_le (by omega) (by omega)
theorem pk_sneg {a b : Nat} (hb : b < 2 ^ 30) (h : a < b) : nI a - nI b < 0 := by
  rw [Int32.lt_iff_toInt_lt, pk_sub_toInt (by omega) hb, show (0 : Int32).toInt = 0 from by decide]
  omega
theorem pk_ix (x : Int32) {n : Nat} (hn : n < 2 ^ 31) : x < 0 ∨ nI n ≤ x ∨ ∃ j : Nat, j < n ∧ x = nI j := by
  by_cases h : x < 0
  · exact Or.inl h
  · obtain ⟨j, hj, rfl⟩ := nI_of h
    by_cases h2 : j < n
    · exact Or.inr (Or.inr ⟨j, h2, rfl⟩)
    · exact Or.inr (Or.inl (nI_le (by omega) hj))
theorem pk_le {x y : Int32} {A B : Prop} (a b : Nat) (f : a ≤ b → A) (g : b < a → B) (hx : x = nI a := by rfl) (hy : y = nI b := by rfl) (ha : a < 2 ^ 31 := by omega) (hb : b < 2 ^ 31 := by omega) : (x ≤ y → A) ∧ (¬ x ≤ y → B) := by
  subst hx hy
  rw [nI_leI ha hb]
  exact ⟨f, fun z => g (by omega)⟩
theorem pk_lt {x y : Int32} {A B : Prop} (a b : Nat) (f : a < b → A) (g : b ≤ a → B) (hx : x = nI a := by rfl) (hy : y = nI b := by rfl) (ha : a < 2 ^ 31 := by omega) (hb : b < 2 ^ 31 := by omega) : (x < y → A) ∧ (¬ x < y → B) := by
  subst hx hy
  rw [nI_ltI ha hb]
  exact ⟨f, fun z => g (by omega)⟩
theorem pk_eq {x y : Int32} {A B : Prop} (a b : Nat) (f : a = b → A) (g : a ≠ b → B) (hx : x = nI a := by rfl) (hy : y = nI b := by rfl) (ha : a < 2 ^ 31 := by omega) (hb : b < 2 ^ 31 := by omega) : (x = y → A) ∧ (¬ x = y → B) := by
  subst hx hy
  rw [nI_eq ha hb]
  exact ⟨f, g⟩
theorem pk_in {x : Int32} (n N : Nat) (h : n < N) (hx : x = nI n := by rfl) (hN : N < 2 ^ 31 := by omega) : vp_in x N := by
  subst hx
  exact vp_in_nI h hN
theorem pk_cl {x : Int32} (n : Nat) (hx : x = nI n := by rfl) (h : n < 2 ^ 31 := by omega) : x.toNatClampNeg = n := by
  subst hx
  exact nI_clamp h
theorem pk_tn {n : Nat} (h : n < 2 ^ 32) : (nI n).toBitVec.toNat = n := Nat.mod_eq_of_lt h
theorem pk_and (x : Int32) {m : Int32} (k : Nat) (hm : m.toBitVec.toNat = 2 ^ k - 1) : x &&& m = nI (x.toBitVec.toNat % 2 ^ k) := by
  apply Int32.toBitVec_inj.mp
  apply BitVec.eq_of_toNat_eq
  rw [Int32.toBitVec_and, BitVec.toNat_and, hm, Nat.and_two_pow_sub_one_eq_mod]
  show _ = (BitVec.ofNat 32 _).toNat
  rw [BitVec.toNat_ofNat]
  exact (Nat.mod_eq_of_lt (Nat.lt_of_le_of_lt (Nat.mod_le _ _) x.toBitVec.isLt)).symm
theorem pk_andN {n : Nat} (h : n < 2 ^ 32) {m : Int32} (k : Nat) (hm : m.toBitVec.toNat = 2 ^ k - 1) : nI n &&& m = nI (n % 2 ^ k) := by
  rw [pk_and _ k hm, pk_tn h]
theorem pk_andE (x : Int32) {m : Int32} (k : Nat) (hm : m.toBitVec.toNat = 2 ^ k - 1) : ∃ j : Nat, j < 2 ^ k ∧ x &&& m = nI j := ⟨_, Nat.mod_lt _ (Nat.two_pow_pos k), pk_and x k hm⟩
theorem pk_andIn (x : Int32) {m : Int32} (k : Nat) (hm : m.toBitVec.toNat = 2 ^ k - 1) (hk : k ≤ 30) : vp_in (x &&& m) (2 ^ k) := by
  obtain ⟨j, hj, e⟩ := pk_andE x k hm
  rw [e]
  exact vp_in_nI hj (Nat.lt_of_le_of_lt (Nat.pow_le_pow_right (by decide) hk) (by decide))
theorem pk_shl (a s : Int32) (k : Nat) (hs : (s.toBitVec.smod 32).toNat = k) : (a <<< s).toBitVec.toNat = a.toBitVec.toNat * 2 ^ k % 2 ^ 32 := by
  show (a.toBitVec <<< (s.toBitVec.smod 32).toNat).toNat = _
  rw [hs, BitVec.toNat_shiftLeft, Nat.shiftLeft_eq]
theorem pk_shlN {n : Nat} (s : Int32) (k : Nat) (hs : (s.toBitVec.smod 32).toNat = k) (h : n * 2 ^ k < 2 ^ 32) : nI n <<< s = nI (n * 2 ^ k) := by
  apply Int32.toBitVec_inj.mp
  apply BitVec.eq_of_toNat_eq
  have hn : n < 2 ^ 32 := Nat.lt_of_le_of_lt (Nat.le_mul_of_pos_right n (Nat.two_pow_pos k)) h
  rw [pk_shl _ _ k hs, pk_tn hn, pk_tn h, Nat.mod_eq_of_lt h]
theorem pk_shr (a s : Int32) (k : Nat) (hs : (s.toBitVec.smod 32).toNat = k) : (a >>> s).toInt = a.toInt >>> k := by
  show (a.toBitVec.sshiftRight (s.toBitVec.smod 32).toNat).toInt = _
  rw [hs, BitVec.toInt_sshiftRight]
  rfl
theorem pk_shrN {n : Nat} (h : n < 2 ^ 31) (s : Int32) (k : Nat) (hs : (s.toBitVec.smod 32).toNat = k) : nI n >>> s = nI (n / 2 ^ k) := by
  apply Int32.toInt_inj.mp
  have h2 : n / 2 ^ k ≤ n := Nat.div_le_self _ _
  rw [pk_shr _ _ k hs, nI_toInt h, nI_toInt (by omega), Int.shiftRight_eq_div_pow]
  rfl
theorem pk_ushr (x s : Int32) (k : Nat) (hs : ((s.toUInt32 &&& Int32.toUInt32 31).toBitVec % 32).toNat = k) : (x.toUInt32 >>> (s.toUInt32 &&& Int32.toUInt32 31)).toInt32.toBitVec.toNat = x.toBitVec.toNat / 2 ^ k := by
  have e : (x.toUInt32 >>> (s.toUInt32 &&& Int32.toUInt32 31)).toInt32.toBitVec = x.toBitVec >>> k := by
    rw [← hs]
    exact UInt32.toBitVec_shiftRight _ _
  rw [e, BitVec.toNat_ushiftRight, Nat.shiftRight_eq_div_pow]
theorem pk_ushrN {n : Nat} (hn : n < 2 ^ 32) (s : Int32) (k : Nat) (hs : ((s.toUInt32 &&& Int32.toUInt32 31).toBitVec % 32).toNat = k) : ((nI n).toUInt32 >>> (s.toUInt32 &&& Int32.toUInt32 31)).toInt32 = nI (n / 2 ^ k) := by
  apply Int32.toBitVec_inj.mp
  apply BitVec.eq_of_toNat_eq
  rw [pk_ushr _ s k hs, pk_tn hn, pk_tn (Nat.lt_of_le_of_lt (Nat.div_le_self _ _) hn)]
theorem pk_nb (z : Int32) : narrow .byte (.int z.toInt8.toInt32) = .int z.toInt8.toInt32 := congrArg Value.int (by simp)
theorem pk_ns (z : Int32) : narrow .short (.int z.toInt16.toInt32) = .int z.toInt16.toInt32 := congrArg Value.int (by simp)
theorem pk_fb (r : Int32) : fits .byte (.int r.toInt8.toInt32) = true := by
  have ⟨a, b⟩ := lg_i2b_range r
  have h1 : (-128 : Int32).toInt = -128 := by decide
  have h2 : (127 : Int32).toInt = 127 := by decide
  simp only [fits, Bool.and_eq_true, decide_eq_true_eq, Int32.le_iff_toInt_le, h1, h2]
  omega
theorem pk_fs (r : Int32) : fits .short (.int r.toInt16.toInt32) = true := by
  have ⟨a, b⟩ := lg_i2s_range r
  have h1 : (-32768 : Int32).toInt = -32768 := by decide
  have h2 : (32767 : Int32).toInt = 32767 := by decide
  simp only [fits, Bool.and_eq_true, decide_eq_true_eq, Int32.le_iff_toInt_le, h1, h2]
  omega
theorem pk_charN {q : Nat} (hq : q < 65536) : narrow .char (.int (nI q)) = .int (nI q) ∧ fits .char (.int (nI q)) = true := by
  constructor
  · have e : (nI q).toUInt32.toUInt16.toUInt32.toInt32 = nI q := by
      apply Int32.toBitVec_inj.mp
      apply BitVec.eq_of_toNat_eq
      show (nI q).toUInt32.toUInt16.toUInt32.toNat = q % 2 ^ 32
      rw [UInt16.toNat_toUInt32, UInt32.toNat_toUInt16, show (nI q).toUInt32.toNat = q % 2 ^ 32 from rfl]
      omega
    exact congrArg Value.int e
  · have a : (0 : Int32) ≤ nI q := nI_pos' (by omega)
    have b : nI q ≤ 65535 := nI_le (b := 65535) (by omega) (by decide)
    show (decide ((0 : Int32) ≤ nI q) && decide (nI q ≤ 65535)) = true
    rw [decide_eq_true a, decide_eq_true b]
    rfl
theorem pk_char (x : Int32) : (x.toUInt32 % 65536).toInt32 = nI (x.toBitVec.toNat % 65536) := by
  apply Int32.toBitVec_inj.mp
  apply BitVec.eq_of_toNat_eq
  rw [pk_tn (by omega)]
  show (x.toUInt32 % 65536).toNat = _
  rw [UInt32.toNat_mod]
  rfl
theorem pk_nc (x : Int32) : narrow .char (.int (x.toUInt32 % 65536).toInt32) = .int (x.toUInt32 % 65536).toInt32 := by
  rw [pk_char]
  exact (pk_charN (Nat.mod_lt _ (by decide))).1
theorem pk_fc (x : Int32) : fits .char (.int (x.toUInt32 % 65536).toInt32) = true := by
  rw [pk_char]
  exact (pk_charN (Nat.mod_lt _ (by decide))).2
theorem pk_vb (z : Int32) : vp_nar .byte z.toInt8.toInt32 = z.toInt8.toInt32 := by rw [vp_nar_byte]; simp
theorem pk_vs (z : Int32) : vp_nar .short z.toInt16.toInt32 = z.toInt16.toInt32 := by rw [vp_nar_short]; simp
theorem pk_vc (z : Int32) : vp_nar .char (z.toUInt32 % 65536).toInt32 = (z.toUInt32 % 65536).toInt32 := Value.int.inj (pk_nc z)
theorem pk_lT {n : Nat} (h : n < 2 ^ 63) : (lN n).toInt = (n : Int) := lg_ofNat_toInt h
theorem pk_lLT {a b : Nat} (ha : a < 2 ^ 63) (hb : b < 2 ^ 63) : lN a < lN b ↔ a < b := by
  rw [Int64.lt_iff_toInt_lt, pk_lT ha, pk_lT hb]; omega
theorem pk_lLE {a b : Nat} (ha : a < 2 ^ 63) (hb : b < 2 ^ 63) : lN a ≤ lN b ↔ a ≤ b := by
  rw [Int64.le_iff_toInt_le, pk_lT ha, pk_lT hb]; omega
theorem pk_lEQ {a b : Nat} (ha : a < 2 ^ 63) (hb : b < 2 ^ 63) : lN a = lN b ↔ a = b := by
  rw [← Int64.toInt_inj, pk_lT ha, pk_lT hb]; omega
theorem pk_lOf {x : Int64} (h : ¬ x < 0) : ∃ k : Nat, k < 2 ^ 63 ∧ x = lN k := by
  rw [Int64.lt_iff_toInt_lt] at h
  have h0 : (0 : Int64).toInt = 0 := by decide
  have hx := Int64.toInt_lt x
  refine ⟨x.toInt.toNat, by omega, Int64.toInt_inj.mp ?_⟩
  rw [pk_lT (by omega)]
  omega
theorem pk_lDiv {a b : Nat} (ha : a < 2 ^ 63) (h0 : 0 < b) (hb : b < 2 ^ 63) : lN a / lN b = lN (a / b) := by
  apply Int64.toInt_inj.mp
  rw [lg_ldiv_nonneg (by rw [pk_lT ha]; omega) (by rw [pk_lT hb]; omega), pk_lT ha, pk_lT hb, pk_lT (Nat.lt_of_le_of_lt (Nat.div_le_self a b) ha)]
  rfl
theorem pk_lRem {a b : Nat} (ha : a < 2 ^ 63) (h0 : 0 < b) (hb : b < 2 ^ 63) : lN a - lN a / lN b * lN b = lN (a % b) := by
  rw [pk_lDiv ha h0 hb, lN_mul, lN_sub (Nat.div_mul_le_self a b)]
  exact congrArg lN (by have := Nat.div_add_mod' a b; omega)
theorem pk_loop {σ : Type} (W : Nat → Nat → σ → Prop) (I : Nat → σ → Prop) (e i0 : Nat) (s : σ) (hi : i0 ≤ e) (h0 : I i0 s) (hx : ∀ n s, I e s → W (n + 1) e s)
    (hs : ∀ n i s, i < e → I i s → (∀ s', I (i + 1) s' → W n (i + 1) s') → W (n + 1) i s) : ∃ n, W n i0 s :=
  ⟨e + 1, loop_i W I e hx hs (e + 1) i0 s hi (by omega) h0⟩
theorem pk_loopD {σ : Type} (W : Nat → Nat → σ → Prop) (I : Nat → σ → Prop) (hx : ∀ n s, I 0 s → W (n + 1) 0 s)
    (hs : ∀ n i s, I (i + 1) s → (∀ s', I i s' → W n i s') → W (n + 1) (i + 1) s) : ∀ (e : Nat) (s : σ), I e s → W (e + 1) e s := by
  intro e
  induction e with
  | zero => exact fun s h => hx 0 s h
  | succ e ih => exact fun s h => hs (e + 1) e s h (fun s' h' => ih s' h')
theorem lp1 {A1 : Type} (W : Nat → A1 → Prop) (I : A1 → Prop) (μ : A1 → Nat) (hs : ∀ (n : Nat) (a1 : A1), I a1 → (∀ (b1 : A1), I b1 → μ b1 < μ a1 → W n b1) → W (n + 1) a1) (a1 : A1) (h : I a1) : ∃ n, W n a1 :=
  loop_m (σ := A1) (fun n s => W n s) (fun s => I s) (fun s => μ s) (fun n s hI hk => hs n s hI (fun b1 h9 hm => hk b1 h9 hm)) a1 h
theorem lp2 {A1 A2 : Type} (W : Nat → A1 → A2 → Prop) (I : A1 → A2 → Prop) (μ : A1 → A2 → Nat) (hs : ∀ (n : Nat) (a1 : A1) (a2 : A2), I a1 a2 → (∀ (b1 : A1) (b2 : A2), I b1 b2 → μ b1 b2 < μ a1 a2 → W n b1 b2) → W (n + 1) a1 a2) (a1 : A1) (a2 : A2) (h : I a1 a2) : ∃ n, W n a1 a2 :=
  loop_m (σ := A1 × A2) (fun n s => W n s.1 s.2) (fun s => I s.1 s.2) (fun s => μ s.1 s.2) (fun n s hI hk => hs n s.1 s.2 hI (fun b1 b2 h9 hm => hk (b1, b2) h9 hm)) (a1, a2) h
theorem lp3 {A1 A2 A3 : Type} (W : Nat → A1 → A2 → A3 → Prop) (I : A1 → A2 → A3 → Prop) (μ : A1 → A2 → A3 → Nat) (hs : ∀ (n : Nat) (a1 : A1) (a2 : A2) (a3 : A3), I a1 a2 a3 → (∀ (b1 : A1) (b2 : A2) (b3 : A3), I b1 b2 b3 → μ b1 b2 b3 < μ a1 a2 a3 → W n b1 b2 b3) → W (n + 1) a1 a2 a3) (a1 : A1) (a2 : A2) (a3 : A3) (h : I a1 a2 a3) : ∃ n, W n a1 a2 a3 :=
  loop_m (σ := A1 × A2 × A3) (fun n s => W n s.1 s.2.1 s.2.2) (fun s => I s.1 s.2.1 s.2.2) (fun s => μ s.1 s.2.1 s.2.2) (fun n s hI hk => hs n s.1 s.2.1 s.2.2 hI (fun b1 b2 b3 h9 hm => hk (b1, b2, b3) h9 hm)) (a1, a2, a3) h
theorem lp4 {A1 A2 A3 A4 : Type} (W : Nat → A1 → A2 → A3 → A4 → Prop) (I : A1 → A2 → A3 → A4 → Prop) (μ : A1 → A2 → A3 → A4 → Nat) (hs : ∀ (n : Nat) (a1 : A1) (a2 : A2) (a3 : A3) (a4 : A4), I a1 a2 a3 a4 → (∀ (b1 : A1) (b2 : A2) (b3 : A3) (b4 : A4), I b1 b2 b3 b4 → μ b1 b2 b3 b4 < μ a1 a2 a3 a4 → W n b1 b2 b3 b4) → W (n + 1) a1 a2 a3 a4) (a1 : A1) (a2 : A2) (a3 : A3) (a4 : A4) (h : I a1 a2 a3 a4) : ∃ n, W n a1 a2 a3 a4 :=
  loop_m (σ := A1 × A2 × A3 × A4) (fun n s => W n s.1 s.2.1 s.2.2.1 s.2.2.2) (fun s => I s.1 s.2.1 s.2.2.1 s.2.2.2) (fun s => μ s.1 s.2.1 s.2.2.1 s.2.2.2) (fun n s hI hk => hs n s.1 s.2.1 s.2.2.1 s.2.2.2 hI (fun b1 b2 b3 b4 h9 hm => hk (b1, b2, b3, b4) h9 hm)) (a1, a2, a3, a4) h
theorem lp5 {A1 A2 A3 A4 A5 : Type} (W : Nat → A1 → A2 → A3 → A4 → A5 → Prop) (I : A1 → A2 → A3 → A4 → A5 → Prop) (μ : A1 → A2 → A3 → A4 → A5 → Nat) (hs : ∀ (n : Nat) (a1 : A1) (a2 : A2) (a3 : A3) (a4 : A4) (a5 : A5), I a1 a2 a3 a4 a5 → (∀ (b1 : A1) (b2 : A2) (b3 : A3) (b4 : A4) (b5 : A5), I b1 b2 b3 b4 b5 → μ b1 b2 b3 b4 b5 < μ a1 a2 a3 a4 a5 → W n b1 b2 b3 b4 b5) → W (n + 1) a1 a2 a3 a4 a5) (a1 : A1) (a2 : A2) (a3 : A3) (a4 : A4) (a5 : A5) (h : I a1 a2 a3 a4 a5) : ∃ n, W n a1 a2 a3 a4 a5 :=
  loop_m (σ := A1 × A2 × A3 × A4 × A5) (fun n s => W n s.1 s.2.1 s.2.2.1 s.2.2.2.1 s.2.2.2.2) (fun s => I s.1 s.2.1 s.2.2.1 s.2.2.2.1 s.2.2.2.2) (fun s => μ s.1 s.2.1 s.2.2.1 s.2.2.2.1 s.2.2.2.2) (fun n s hI hk => hs n s.1 s.2.1 s.2.2.1 s.2.2.2.1 s.2.2.2.2 hI (fun b1 b2 b3 b4 b5 h9 hm => hk (b1, b2, b3, b4, b5) h9 hm)) (a1, a2, a3, a4, a5) h
theorem lp6 {A1 A2 A3 A4 A5 A6 : Type} (W : Nat → A1 → A2 → A3 → A4 → A5 → A6 → Prop) (I : A1 → A2 → A3 → A4 → A5 → A6 → Prop) (μ : A1 → A2 → A3 → A4 → A5 → A6 → Nat) (hs : ∀ (n : Nat) (a1 : A1) (a2 : A2) (a3 : A3) (a4 : A4) (a5 : A5) (a6 : A6), I a1 a2 a3 a4 a5 a6 → (∀ (b1 : A1) (b2 : A2) (b3 : A3) (b4 : A4) (b5 : A5) (b6 : A6), I b1 b2 b3 b4 b5 b6 → μ b1 b2 b3 b4 b5 b6 < μ a1 a2 a3 a4 a5 a6 → W n b1 b2 b3 b4 b5 b6) → W (n + 1) a1 a2 a3 a4 a5 a6) (a1 : A1) (a2 : A2) (a3 : A3) (a4 : A4) (a5 : A5) (a6 : A6) (h : I a1 a2 a3 a4 a5 a6) : ∃ n, W n a1 a2 a3 a4 a5 a6 :=
  loop_m (σ := A1 × A2 × A3 × A4 × A5 × A6) (fun n s => W n s.1 s.2.1 s.2.2.1 s.2.2.2.1 s.2.2.2.2.1 s.2.2.2.2.2) (fun s => I s.1 s.2.1 s.2.2.1 s.2.2.2.1 s.2.2.2.2.1 s.2.2.2.2.2) (fun s => μ s.1 s.2.1 s.2.2.1 s.2.2.2.1 s.2.2.2.2.1 s.2.2.2.2.2) (fun n s hI hk => hs n s.1 s.2.1 s.2.2.1 s.2.2.2.1 s.2.2.2.2.1 s.2.2.2.2.2 hI (fun b1 b2 b3 b4 b5 b6 h9 hm => hk (b1, b2, b3, b4, b5, b6) h9 hm)) (a1, a2, a3, a4, a5, a6) h
theorem lp7 {A1 A2 A3 A4 A5 A6 A7 : Type} (W : Nat → A1 → A2 → A3 → A4 → A5 → A6 → A7 → Prop) (I : A1 → A2 → A3 → A4 → A5 → A6 → A7 → Prop) (μ : A1 → A2 → A3 → A4 → A5 → A6 → A7 → Nat) (hs : ∀ (n : Nat) (a1 : A1) (a2 : A2) (a3 : A3) (a4 : A4) (a5 : A5) (a6 : A6) (a7 : A7), I a1 a2 a3 a4 a5 a6 a7 → (∀ (b1 : A1) (b2 : A2) (b3 : A3) (b4 : A4) (b5 : A5) (b6 : A6) (b7 : A7), I b1 b2 b3 b4 b5 b6 b7 → μ b1 b2 b3 b4 b5 b6 b7 < μ a1 a2 a3 a4 a5 a6 a7 → W n b1 b2 b3 b4 b5 b6 b7) → W (n + 1) a1 a2 a3 a4 a5 a6 a7) (a1 : A1) (a2 : A2) (a3 : A3) (a4 : A4) (a5 : A5) (a6 : A6) (a7 : A7) (h : I a1 a2 a3 a4 a5 a6 a7) : ∃ n, W n a1 a2 a3 a4 a5 a6 a7 :=
  loop_m (σ := A1 × A2 × A3 × A4 × A5 × A6 × A7) (fun n s => W n s.1 s.2.1 s.2.2.1 s.2.2.2.1 s.2.2.2.2.1 s.2.2.2.2.2.1 s.2.2.2.2.2.2) (fun s => I s.1 s.2.1 s.2.2.1 s.2.2.2.1 s.2.2.2.2.1 s.2.2.2.2.2.1 s.2.2.2.2.2.2) (fun s => μ s.1 s.2.1 s.2.2.1 s.2.2.2.1 s.2.2.2.2.1 s.2.2.2.2.2.1 s.2.2.2.2.2.2) (fun n s hI hk => hs n s.1 s.2.1 s.2.2.1 s.2.2.2.1 s.2.2.2.2.1 s.2.2.2.2.2.1 s.2.2.2.2.2.2 hI (fun b1 b2 b3 b4 b5 b6 b7 h9 hm => hk (b1, b2, b3, b4, b5, b6, b7) h9 hm)) (a1, a2, a3, a4, a5, a6, a7) h
theorem lp8 {A1 A2 A3 A4 A5 A6 A7 A8 : Type} (W : Nat → A1 → A2 → A3 → A4 → A5 → A6 → A7 → A8 → Prop) (I : A1 → A2 → A3 → A4 → A5 → A6 → A7 → A8 → Prop) (μ : A1 → A2 → A3 → A4 → A5 → A6 → A7 → A8 → Nat) (hs : ∀ (n : Nat) (a1 : A1) (a2 : A2) (a3 : A3) (a4 : A4) (a5 : A5) (a6 : A6) (a7 : A7) (a8 : A8), I a1 a2 a3 a4 a5 a6 a7 a8 → (∀ (b1 : A1) (b2 : A2) (b3 : A3) (b4 : A4) (b5 : A5) (b6 : A6) (b7 : A7) (b8 : A8), I b1 b2 b3 b4 b5 b6 b7 b8 → μ b1 b2 b3 b4 b5 b6 b7 b8 < μ a1 a2 a3 a4 a5 a6 a7 a8 → W n b1 b2 b3 b4 b5 b6 b7 b8) → W (n + 1) a1 a2 a3 a4 a5 a6 a7 a8) (a1 : A1) (a2 : A2) (a3 : A3) (a4 : A4) (a5 : A5) (a6 : A6) (a7 : A7) (a8 : A8) (h : I a1 a2 a3 a4 a5 a6 a7 a8) : ∃ n, W n a1 a2 a3 a4 a5 a6 a7 a8 :=
  loop_m (σ := A1 × A2 × A3 × A4 × A5 × A6 × A7 × A8) (fun n s => W n s.1 s.2.1 s.2.2.1 s.2.2.2.1 s.2.2.2.2.1 s.2.2.2.2.2.1 s.2.2.2.2.2.2.1 s.2.2.2.2.2.2.2) (fun s => I s.1 s.2.1 s.2.2.1 s.2.2.2.1 s.2.2.2.2.1 s.2.2.2.2.2.1 s.2.2.2.2.2.2.1 s.2.2.2.2.2.2.2) (fun s => μ s.1 s.2.1 s.2.2.1 s.2.2.2.1 s.2.2.2.2.1 s.2.2.2.2.2.1 s.2.2.2.2.2.2.1 s.2.2.2.2.2.2.2) (fun n s hI hk => hs n s.1 s.2.1 s.2.2.1 s.2.2.2.1 s.2.2.2.2.1 s.2.2.2.2.2.1 s.2.2.2.2.2.2.1 s.2.2.2.2.2.2.2 hI (fun b1 b2 b3 b4 b5 b6 b7 b8 h9 hm => hk (b1, b2, b3, b4, b5, b6, b7, b8) h9 hm)) (a1, a2, a3, a4, a5, a6, a7, a8) h
theorem lp9 {A1 A2 A3 A4 A5 A6 A7 A8 A9 : Type} (W : Nat → A1 → A2 → A3 → A4 → A5 → A6 → A7 → A8 → A9 → Prop) (I : A1 → A2 → A3 → A4 → A5 → A6 → A7 → A8 → A9 → Prop) (μ : A1 → A2 → A3 → A4 → A5 → A6 → A7 → A8 → A9 → Nat) (hs : ∀ (n : Nat) (a1 : A1) (a2 : A2) (a3 : A3) (a4 : A4) (a5 : A5) (a6 : A6) (a7 : A7) (a8 : A8) (a9 : A9), I a1 a2 a3 a4 a5 a6 a7 a8 a9 → (∀ (b1 : A1) (b2 : A2) (b3 : A3) (b4 : A4) (b5 : A5) (b6 : A6) (b7 : A7) (b8 : A8) (b9 : A9), I b1 b2 b3 b4 b5 b6 b7 b8 b9 → μ b1 b2 b3 b4 b5 b6 b7 b8 b9 < μ a1 a2 a3 a4 a5 a6 a7 a8 a9 → W n b1 b2 b3 b4 b5 b6 b7 b8 b9) → W (n + 1) a1 a2 a3 a4 a5 a6 a7 a8 a9) (a1 : A1) (a2 : A2) (a3 : A3) (a4 : A4) (a5 : A5) (a6 : A6) (a7 : A7) (a8 : A8) (a9 : A9) (h : I a1 a2 a3 a4 a5 a6 a7 a8 a9) : ∃ n, W n a1 a2 a3 a4 a5 a6 a7 a8 a9 :=
  loop_m (σ := A1 × A2 × A3 × A4 × A5 × A6 × A7 × A8 × A9) (fun n s => W n s.1 s.2.1 s.2.2.1 s.2.2.2.1 s.2.2.2.2.1 s.2.2.2.2.2.1 s.2.2.2.2.2.2.1 s.2.2.2.2.2.2.2.1 s.2.2.2.2.2.2.2.2) (fun s => I s.1 s.2.1 s.2.2.1 s.2.2.2.1 s.2.2.2.2.1 s.2.2.2.2.2.1 s.2.2.2.2.2.2.1 s.2.2.2.2.2.2.2.1 s.2.2.2.2.2.2.2.2) (fun s => μ s.1 s.2.1 s.2.2.1 s.2.2.2.1 s.2.2.2.2.1 s.2.2.2.2.2.1 s.2.2.2.2.2.2.1 s.2.2.2.2.2.2.2.1 s.2.2.2.2.2.2.2.2) (fun n s hI hk => hs n s.1 s.2.1 s.2.2.1 s.2.2.2.1 s.2.2.2.2.1 s.2.2.2.2.2.1 s.2.2.2.2.2.2.1 s.2.2.2.2.2.2.2.1 s.2.2.2.2.2.2.2.2 hI (fun b1 b2 b3 b4 b5 b6 b7 b8 b9 h9 hm => hk (b1, b2, b3, b4, b5, b6, b7, b8, b9) h9 hm)) (a1, a2, a3, a4, a5, a6, a7, a8, a9) h
theorem lp10 {A1 A2 A3 A4 A5 A6 A7 A8 A9 A10 : Type} (W : Nat → A1 → A2 → A3 → A4 → A5 → A6 → A7 → A8 → A9 → A10 → Prop) (I : A1 → A2 → A3 → A4 → A5 → A6 → A7 → A8 → A9 → A10 → Prop) (μ : A1 → A2 → A3 → A4 → A5 → A6 → A7 → A8 → A9 → A10 → Nat) (hs : ∀ (n : Nat) (a1 : A1) (a2 : A2) (a3 : A3) (a4 : A4) (a5 : A5) (a6 : A6) (a7 : A7) (a8 : A8) (a9 : A9) (a10 : A10), I a1 a2 a3 a4 a5 a6 a7 a8 a9 a10 → (∀ (b1 : A1) (b2 : A2) (b3 : A3) (b4 : A4) (b5 : A5) (b6 : A6) (b7 : A7) (b8 : A8) (b9 : A9) (b10 : A10), I b1 b2 b3 b4 b5 b6 b7 b8 b9 b10 → μ b1 b2 b3 b4 b5 b6 b7 b8 b9 b10 < μ a1 a2 a3 a4 a5 a6 a7 a8 a9 a10 → W n b1 b2 b3 b4 b5 b6 b7 b8 b9 b10) → W (n + 1) a1 a2 a3 a4 a5 a6 a7 a8 a9 a10) (a1 : A1) (a2 : A2) (a3 : A3) (a4 : A4) (a5 : A5) (a6 : A6) (a7 : A7) (a8 : A8) (a9 : A9) (a10 : A10) (h : I a1 a2 a3 a4 a5 a6 a7 a8 a9 a10) : ∃ n, W n a1 a2 a3 a4 a5 a6 a7 a8 a9 a10 :=
  loop_m (σ := A1 × A2 × A3 × A4 × A5 × A6 × A7 × A8 × A9 × A10) (fun n s => W n s.1 s.2.1 s.2.2.1 s.2.2.2.1 s.2.2.2.2.1 s.2.2.2.2.2.1 s.2.2.2.2.2.2.1 s.2.2.2.2.2.2.2.1 s.2.2.2.2.2.2.2.2.1 s.2.2.2.2.2.2.2.2.2) (fun s => I s.1 s.2.1 s.2.2.1 s.2.2.2.1 s.2.2.2.2.1 s.2.2.2.2.2.1 s.2.2.2.2.2.2.1 s.2.2.2.2.2.2.2.1 s.2.2.2.2.2.2.2.2.1 s.2.2.2.2.2.2.2.2.2) (fun s => μ s.1 s.2.1 s.2.2.1 s.2.2.2.1 s.2.2.2.2.1 s.2.2.2.2.2.1 s.2.2.2.2.2.2.1 s.2.2.2.2.2.2.2.1 s.2.2.2.2.2.2.2.2.1 s.2.2.2.2.2.2.2.2.2) (fun n s hI hk => hs n s.1 s.2.1 s.2.2.1 s.2.2.2.1 s.2.2.2.2.1 s.2.2.2.2.2.1 s.2.2.2.2.2.2.1 s.2.2.2.2.2.2.2.1 s.2.2.2.2.2.2.2.2.1 s.2.2.2.2.2.2.2.2.2 hI (fun b1 b2 b3 b4 b5 b6 b7 b8 b9 b10 h9 hm => hk (b1, b2, b3, b4, b5, b6, b7, b8, b9, b10) h9 hm)) (a1, a2, a3, a4, a5, a6, a7, a8, a9, a10) h
theorem lp11 {A1 A2 A3 A4 A5 A6 A7 A8 A9 A10 A11 : Type} (W : Nat → A1 → A2 → A3 → A4 → A5 → A6 → A7 → A8 → A9 → A10 → A11 → Prop) (I : A1 → A2 → A3 → A4 → A5 → A6 → A7 → A8 → A9 → A10 → A11 → Prop) (μ : A1 → A2 → A3 → A4 → A5 → A6 → A7 → A8 → A9 → A10 → A11 → Nat) (hs : ∀ (n : Nat) (a1 : A1) (a2 : A2) (a3 : A3) (a4 : A4) (a5 : A5) (a6 : A6) (a7 : A7) (a8 : A8) (a9 : A9) (a10 : A10) (a11 : A11), I a1 a2 a3 a4 a5 a6 a7 a8 a9 a10 a11 → (∀ (b1 : A1) (b2 : A2) (b3 : A3) (b4 : A4) (b5 : A5) (b6 : A6) (b7 : A7) (b8 : A8) (b9 : A9) (b10 : A10) (b11 : A11), I b1 b2 b3 b4 b5 b6 b7 b8 b9 b10 b11 → μ b1 b2 b3 b4 b5 b6 b7 b8 b9 b10 b11 < μ a1 a2 a3 a4 a5 a6 a7 a8 a9 a10 a11 → W n b1 b2 b3 b4 b5 b6 b7 b8 b9 b10 b11) → W (n + 1) a1 a2 a3 a4 a5 a6 a7 a8 a9 a10 a11) (a1 : A1) (a2 : A2) (a3 : A3) (a4 : A4) (a5 : A5) (a6 : A6) (a7 : A7) (a8 : A8) (a9 : A9) (a10 : A10) (a11 : A11) (h : I a1 a2 a3 a4 a5 a6 a7 a8 a9 a10 a11) : ∃ n, W n a1 a2 a3 a4 a5 a6 a7 a8 a9 a10 a11 :=
  loop_m (σ := A1 × A2 × A3 × A4 × A5 × A6 × A7 × A8 × A9 × A10 × A11) (fun n s => W n s.1 s.2.1 s.2.2.1 s.2.2.2.1 s.2.2.2.2.1 s.2.2.2.2.2.1 s.2.2.2.2.2.2.1 s.2.2.2.2.2.2.2.1 s.2.2.2.2.2.2.2.2.1 s.2.2.2.2.2.2.2.2.2.1 s.2.2.2.2.2.2.2.2.2.2) (fun s => I s.1 s.2.1 s.2.2.1 s.2.2.2.1 s.2.2.2.2.1 s.2.2.2.2.2.1 s.2.2.2.2.2.2.1 s.2.2.2.2.2.2.2.1 s.2.2.2.2.2.2.2.2.1 s.2.2.2.2.2.2.2.2.2.1 s.2.2.2.2.2.2.2.2.2.2) (fun s => μ s.1 s.2.1 s.2.2.1 s.2.2.2.1 s.2.2.2.2.1 s.2.2.2.2.2.1 s.2.2.2.2.2.2.1 s.2.2.2.2.2.2.2.1 s.2.2.2.2.2.2.2.2.1 s.2.2.2.2.2.2.2.2.2.1 s.2.2.2.2.2.2.2.2.2.2) (fun n s hI hk => hs n s.1 s.2.1 s.2.2.1 s.2.2.2.1 s.2.2.2.2.1 s.2.2.2.2.2.1 s.2.2.2.2.2.2.1 s.2.2.2.2.2.2.2.1 s.2.2.2.2.2.2.2.2.1 s.2.2.2.2.2.2.2.2.2.1 s.2.2.2.2.2.2.2.2.2.2 hI (fun b1 b2 b3 b4 b5 b6 b7 b8 b9 b10 b11 h9 hm => hk (b1, b2, b3, b4, b5, b6, b7, b8, b9, b10, b11) h9 hm)) (a1, a2, a3, a4, a5, a6, a7, a8, a9, a10, a11) h
theorem lp12 {A1 A2 A3 A4 A5 A6 A7 A8 A9 A10 A11 A12 : Type} (W : Nat → A1 → A2 → A3 → A4 → A5 → A6 → A7 → A8 → A9 → A10 → A11 → A12 → Prop) (I : A1 → A2 → A3 → A4 → A5 → A6 → A7 → A8 → A9 → A10 → A11 → A12 → Prop) (μ : A1 → A2 → A3 → A4 → A5 → A6 → A7 → A8 → A9 → A10 → A11 → A12 → Nat) (hs : ∀ (n : Nat) (a1 : A1) (a2 : A2) (a3 : A3) (a4 : A4) (a5 : A5) (a6 : A6) (a7 : A7) (a8 : A8) (a9 : A9) (a10 : A10) (a11 : A11) (a12 : A12), I a1 a2 a3 a4 a5 a6 a7 a8 a9 a10 a11 a12 → (∀ (b1 : A1) (b2 : A2) (b3 : A3) (b4 : A4) (b5 : A5) (b6 : A6) (b7 : A7) (b8 : A8) (b9 : A9) (b10 : A10) (b11 : A11) (b12 : A12), I b1 b2 b3 b4 b5 b6 b7 b8 b9 b10 b11 b12 → μ b1 b2 b3 b4 b5 b6 b7 b8 b9 b10 b11 b12 < μ a1 a2 a3 a4 a5 a6 a7 a8 a9 a10 a11 a12 → W n b1 b2 b3 b4 b5 b6 b7 b8 b9 b10 b11 b12) → W (n + 1) a1 a2 a3 a4 a5 a6 a7 a8 a9 a10 a11 a12) (a1 : A1) (a2 : A2) (a3 : A3) (a4 : A4) (a5 : A5) (a6 : A6) (a7 : A7) (a8 : A8) (a9 : A9) (a10 : A10) (a11 : A11) (a12 : A12) (h : I a1 a2 a3 a4 a5 a6 a7 a8 a9 a10 a11 a12) : ∃ n, W n a1 a2 a3 a4 a5 a6 a7 a8 a9 a10 a11 a12 :=
  loop_m (σ := A1 × A2 × A3 × A4 × A5 × A6 × A7 × A8 × A9 × A10 × A11 × A12) (fun n s => W n s.1 s.2.1 s.2.2.1 s.2.2.2.1 s.2.2.2.2.1 s.2.2.2.2.2.1 s.2.2.2.2.2.2.1 s.2.2.2.2.2.2.2.1 s.2.2.2.2.2.2.2.2.1 s.2.2.2.2.2.2.2.2.2.1 s.2.2.2.2.2.2.2.2.2.2.1 s.2.2.2.2.2.2.2.2.2.2.2) (fun s => I s.1 s.2.1 s.2.2.1 s.2.2.2.1 s.2.2.2.2.1 s.2.2.2.2.2.1 s.2.2.2.2.2.2.1 s.2.2.2.2.2.2.2.1 s.2.2.2.2.2.2.2.2.1 s.2.2.2.2.2.2.2.2.2.1 s.2.2.2.2.2.2.2.2.2.2.1 s.2.2.2.2.2.2.2.2.2.2.2) (fun s => μ s.1 s.2.1 s.2.2.1 s.2.2.2.1 s.2.2.2.2.1 s.2.2.2.2.2.1 s.2.2.2.2.2.2.1 s.2.2.2.2.2.2.2.1 s.2.2.2.2.2.2.2.2.1 s.2.2.2.2.2.2.2.2.2.1 s.2.2.2.2.2.2.2.2.2.2.1 s.2.2.2.2.2.2.2.2.2.2.2) (fun n s hI hk => hs n s.1 s.2.1 s.2.2.1 s.2.2.2.1 s.2.2.2.2.1 s.2.2.2.2.2.1 s.2.2.2.2.2.2.1 s.2.2.2.2.2.2.2.1 s.2.2.2.2.2.2.2.2.1 s.2.2.2.2.2.2.2.2.2.1 s.2.2.2.2.2.2.2.2.2.2.1 s.2.2.2.2.2.2.2.2.2.2.2 hI (fun b1 b2 b3 b4 b5 b6 b7 b8 b9 b10 b11 b12 h9 hm => hk (b1, b2, b3, b4, b5, b6, b7, b8, b9, b10, b11, b12) h9 hm)) (a1, a2, a3, a4, a5, a6, a7, a8, a9, a10, a11, a12) h
theorem lp13 {A1 A2 A3 A4 A5 A6 A7 A8 A9 A10 A11 A12 A13 : Type} (W : Nat → A1 → A2 → A3 → A4 → A5 → A6 → A7 → A8 → A9 → A10 → A11 → A12 → A13 → Prop) (I : A1 → A2 → A3 → A4 → A5 → A6 → A7 → A8 → A9 → A10 → A11 → A12 → A13 → Prop) (μ : A1 → A2 → A3 → A4 → A5 → A6 → A7 → A8 → A9 → A10 → A11 → A12 → A13 → Nat) (hs : ∀ (n : Nat) (a1 : A1) (a2 : A2) (a3 : A3) (a4 : A4) (a5 : A5) (a6 : A6) (a7 : A7) (a8 : A8) (a9 : A9) (a10 : A10) (a11 : A11) (a12 : A12) (a13 : A13), I a1 a2 a3 a4 a5 a6 a7 a8 a9 a10 a11 a12 a13 → (∀ (b1 : A1) (b2 : A2) (b3 : A3) (b4 : A4) (b5 : A5) (b6 : A6) (b7 : A7) (b8 : A8) (b9 : A9) (b10 : A10) (b11 : A11) (b12 : A12) (b13 : A13), I b1 b2 b3 b4 b5 b6 b7 b8 b9 b10 b11 b12 b13 → μ b1 b2 b3 b4 b5 b6 b7 b8 b9 b10 b11 b12 b13 < μ a1 a2 a3 a4 a5 a6 a7 a8 a9 a10 a11 a12 a13 → W n b1 b2 b3 b4 b5 b6 b7 b8 b9 b10 b11 b12 b13) → W (n + 1) a1 a2 a3 a4 a5 a6 a7 a8 a9 a10 a11 a12 a13) (a1 : A1) (a2 : A2) (a3 : A3) (a4 : A4) (a5 : A5) (a6 : A6) (a7 : A7) (a8 : A8) (a9 : A9) (a10 : A10) (a11 : A11) (a12 : A12) (a13 : A13) (h : I a1 a2 a3 a4 a5 a6 a7 a8 a9 a10 a11 a12 a13) : ∃ n, W n a1 a2 a3 a4 a5 a6 a7 a8 a9 a10 a11 a12 a13 :=
  loop_m (σ := A1 × A2 × A3 × A4 × A5 × A6 × A7 × A8 × A9 × A10 × A11 × A12 × A13) (fun n s => W n s.1 s.2.1 s.2.2.1 s.2.2.2.1 s.2.2.2.2.1 s.2.2.2.2.2.1 s.2.2.2.2.2.2.1 s.2.2.2.2.2.2.2.1 s.2.2.2.2.2.2.2.2.1 s.2.2.2.2.2.2.2.2.2.1 s.2.2.2.2.2.2.2.2.2.2.1 s.2.2.2.2.2.2.2.2.2.2.2.1 s.2.2.2.2.2.2.2.2.2.2.2.2) (fun s => I s.1 s.2.1 s.2.2.1 s.2.2.2.1 s.2.2.2.2.1 s.2.2.2.2.2.1 s.2.2.2.2.2.2.1 s.2.2.2.2.2.2.2.1 s.2.2.2.2.2.2.2.2.1 s.2.2.2.2.2.2.2.2.2.1 s.2.2.2.2.2.2.2.2.2.2.1 s.2.2.2.2.2.2.2.2.2.2.2.1 s.2.2.2.2.2.2.2.2.2.2.2.2) (fun s => μ s.1 s.2.1 s.2.2.1 s.2.2.2.1 s.2.2.2.2.1 s.2.2.2.2.2.1 s.2.2.2.2.2.2.1 s.2.2.2.2.2.2.2.1 s.2.2.2.2.2.2.2.2.1 s.2.2.2.2.2.2.2.2.2.1 s.2.2.2.2.2.2.2.2.2.2.1 s.2.2.2.2.2.2.2.2.2.2.2.1 s.2.2.2.2.2.2.2.2.2.2.2.2) (fun n s hI hk => hs n s.1 s.2.1 s.2.2.1 s.2.2.2.1 s.2.2.2.2.1 s.2.2.2.2.2.1 s.2.2.2.2.2.2.1 s.2.2.2.2.2.2.2.1 s.2.2.2.2.2.2.2.2.1 s.2.2.2.2.2.2.2.2.2.1 s.2.2.2.2.2.2.2.2.2.2.1 s.2.2.2.2.2.2.2.2.2.2.2.1 s.2.2.2.2.2.2.2.2.2.2.2.2 hI (fun b1 b2 b3 b4 b5 b6 b7 b8 b9 b10 b11 b12 b13 h9 hm => hk (b1, b2, b3, b4, b5, b6, b7, b8, b9, b10, b11, b12, b13) h9 hm)) (a1, a2, a3, a4, a5, a6, a7, a8, a9, a10, a11, a12, a13) h
theorem lp14 {A1 A2 A3 A4 A5 A6 A7 A8 A9 A10 A11 A12 A13 A14 : Type} (W : Nat → A1 → A2 → A3 → A4 → A5 → A6 → A7 → A8 → A9 → A10 → A11 → A12 → A13 → A14 → Prop) (I : A1 → A2 → A3 → A4 → A5 → A6 → A7 → A8 → A9 → A10 → A11 → A12 → A13 → A14 → Prop) (μ : A1 → A2 → A3 → A4 → A5 → A6 → A7 → A8 → A9 → A10 → A11 → A12 → A13 → A14 → Nat) (hs : ∀ (n : Nat) (a1 : A1) (a2 : A2) (a3 : A3) (a4 : A4) (a5 : A5) (a6 : A6) (a7 : A7) (a8 : A8) (a9 : A9) (a10 : A10) (a11 : A11) (a12 : A12) (a13 : A13) (a14 : A14), I a1 a2 a3 a4 a5 a6 a7 a8 a9 a10 a11 a12 a13 a14 → (∀ (b1 : A1) (b2 : A2) (b3 : A3) (b4 : A4) (b5 : A5) (b6 : A6) (b7 : A7) (b8 : A8) (b9 : A9) (b10 : A10) (b11 : A11) (b12 : A12) (b13 : A13) (b14 : A14), I b1 b2 b3 b4 b5 b6 b7 b8 b9 b10 b11 b12 b13 b14 → μ b1 b2 b3 b4 b5 b6 b7 b8 b9 b10 b11 b12 b13 b14 < μ a1 a2 a3 a4 a5 a6 a7 a8 a9 a10 a11 a12 a13 a14 → W n b1 b2 b3 b4 b5 b6 b7 b8 b9 b10 b11 b12 b13 b14) → W (n + 1) a1 a2 a3 a4 a5 a6 a7 a8 a9 a10 a11 a12 a13 a14) (a1 : A1) (a2 : A2) (a3 : A3) (a4 : A4) (a5 : A5) (a6 : A6) (a7 : A7) (a8 : A8) (a9 : A9) (a10 : A10) (a11 : A11) (a12 : A12) (a13 : A13) (a14 : A14) (h : I a1 a2 a3 a4 a5 a6 a7 a8 a9 a10 a11 a12 a13 a14) : ∃ n, W n a1 a2 a3 a4 a5 a6 a7 a8 a9 a10 a11 a12 a13 a14 :=
  loop_m (σ := A1 × A2 × A3 × A4 × A5 × A6 × A7 × A8 × A9 × A10 × A11 × A12 × A13 × A14) (fun n s => W n s.1 s.2.1 s.2.2.1 s.2.2.2.1 s.2.2.2.2.1 s.2.2.2.2.2.1 s.2.2.2.2.2.2.1 s.2.2.2.2.2.2.2.1 s.2.2.2.2.2.2.2.2.1 s.2.2.2.2.2.2.2.2.2.1 s.2.2.2.2.2.2.2.2.2.2.1 s.2.2.2.2.2.2.2.2.2.2.2.1 s.2.2.2.2.2.2.2.2.2.2.2.2.1 s.2.2.2.2.2.2.2.2.2.2.2.2.2) (fun s => I s.1 s.2.1 s.2.2.1 s.2.2.2.1 s.2.2.2.2.1 s.2.2.2.2.2.1 s.2.2.2.2.2.2.1 s.2.2.2.2.2.2.2.1 s.2.2.2.2.2.2.2.2.1 s.2.2.2.2.2.2.2.2.2.1 s.2.2.2.2.2.2.2.2.2.2.1 s.2.2.2.2.2.2.2.2.2.2.2.1 s.2.2.2.2.2.2.2.2.2.2.2.2.1 s.2.2.2.2.2.2.2.2.2.2.2.2.2) (fun s => μ s.1 s.2.1 s.2.2.1 s.2.2.2.1 s.2.2.2.2.1 s.2.2.2.2.2.1 s.2.2.2.2.2.2.1 s.2.2.2.2.2.2.2.1 s.2.2.2.2.2.2.2.2.1 s.2.2.2.2.2.2.2.2.2.1 s.2.2.2.2.2.2.2.2.2.2.1 s.2.2.2.2.2.2.2.2.2.2.2.1 s.2.2.2.2.2.2.2.2.2.2.2.2.1 s.2.2.2.2.2.2.2.2.2.2.2.2.2) (fun n s hI hk => hs n s.1 s.2.1 s.2.2.1 s.2.2.2.1 s.2.2.2.2.1 s.2.2.2.2.2.1 s.2.2.2.2.2.2.1 s.2.2.2.2.2.2.2.1 s.2.2.2.2.2.2.2.2.1 s.2.2.2.2.2.2.2.2.2.1 s.2.2.2.2.2.2.2.2.2.2.1 s.2.2.2.2.2.2.2.2.2.2.2.1 s.2.2.2.2.2.2.2.2.2.2.2.2.1 s.2.2.2.2.2.2.2.2.2.2.2.2.2 hI (fun b1 b2 b3 b4 b5 b6 b7 b8 b9 b10 b11 b12 b13 b14 h9 hm => hk (b1, b2, b3, b4, b5, b6, b7, b8, b9, b10, b11, b12, b13, b14) h9 hm)) (a1, a2, a3, a4, a5, a6, a7, a8, a9, a10, a11, a12, a13, a14) h
theorem lp15 {A1 A2 A3 A4 A5 A6 A7 A8 A9 A10 A11 A12 A13 A14 A15 : Type} (W : Nat → A1 → A2 → A3 → A4 → A5 → A6 → A7 → A8 → A9 → A10 → A11 → A12 → A13 → A14 → A15 → Prop) (I : A1 → A2 → A3 → A4 → A5 → A6 → A7 → A8 → A9 → A10 → A11 → A12 → A13 → A14 → A15 → Prop) (μ : A1 → A2 → A3 → A4 → A5 → A6 → A7 → A8 → A9 → A10 → A11 → A12 → A13 → A14 → A15 → Nat) (hs : ∀ (n : Nat) (a1 : A1) (a2 : A2) (a3 : A3) (a4 : A4) (a5 : A5) (a6 : A6) (a7 : A7) (a8 : A8) (a9 : A9) (a10 : A10) (a11 : A11) (a12 : A12) (a13 : A13) (a14 : A14) (a15 : A15), I a1 a2 a3 a4 a5 a6 a7 a8 a9 a10 a11 a12 a13 a14 a15 → (∀ (b1 : A1) (b2 : A2) (b3 : A3) (b4 : A4) (b5 : A5) (b6 : A6) (b7 : A7) (b8 : A8) (b9 : A9) (b10 : A10) (b11 : A11) (b12 : A12) (b13 : A13) (b14 : A14) (b15 : A15), I b1 b2 b3 b4 b5 b6 b7 b8 b9 b10 b11 b12 b13 b14 b15 → μ b1 b2 b3 b4 b5 b6 b7 b8 b9 b10 b11 b12 b13 b14 b15 < μ a1 a2 a3 a4 a5 a6 a7 a8 a9 a10 a11 a12 a13 a14 a15 → W n b1 b2 b3 b4 b5 b6 b7 b8 b9 b10 b11 b12 b13 b14 b15) → W (n + 1) a1 a2 a3 a4 a5 a6 a7 a8 a9 a10 a11 a12 a13 a14 a15) (a1 : A1) (a2 : A2) (a3 : A3) (a4 : A4) (a5 : A5) (a6 : A6) (a7 : A7) (a8 : A8) (a9 : A9) (a10 : A10) (a11 : A11) (a12 : A12) (a13 : A13) (a14 : A14) (a15 : A15) (h : I a1 a2 a3 a4 a5 a6 a7 a8 a9 a10 a11 a12 a13 a14 a15) : ∃ n, W n a1 a2 a3 a4 a5 a6 a7 a8 a9 a10 a11 a12 a13 a14 a15 :=
  loop_m (σ := A1 × A2 × A3 × A4 × A5 × A6 × A7 × A8 × A9 × A10 × A11 × A12 × A13 × A14 × A15) (fun n s => W n s.1 s.2.1 s.2.2.1 s.2.2.2.1 s.2.2.2.2.1 s.2.2.2.2.2.1 s.2.2.2.2.2.2.1 s.2.2.2.2.2.2.2.1 s.2.2.2.2.2.2.2.2.1 s.2.2.2.2.2.2.2.2.2.1 s.2.2.2.2.2.2.2.2.2.2.1 s.2.2.2.2.2.2.2.2.2.2.2.1 s.2.2.2.2.2.2.2.2.2.2.2.2.1 s.2.2.2.2.2.2.2.2.2.2.2.2.2.1 s.2.2.2.2.2.2.2.2.2.2.2.2.2.2) (fun s => I s.1 s.2.1 s.2.2.1 s.2.2.2.1 s.2.2.2.2.1 s.2.2.2.2.2.1 s.2.2.2.2.2.2.1 s.2.2.2.2.2.2.2.1 s.2.2.2.2.2.2.2.2.1 s.2.2.2.2.2.2.2.2.2.1 s.2.2.2.2.2.2.2.2.2.2.1 s.2.2.2.2.2.2.2.2.2.2.2.1 s.2.2.2.2.2.2.2.2.2.2.2.2.1 s.2.2.2.2.2.2.2.2.2.2.2.2.2.1 s.2.2.2.2.2.2.2.2.2.2.2.2.2.2) (fun s => μ s.1 s.2.1 s.2.2.1 s.2.2.2.1 s.2.2.2.2.1 s.2.2.2.2.2.1 s.2.2.2.2.2.2.1 s.2.2.2.2.2.2.2.1 s.2.2.2.2.2.2.2.2.1 s.2.2.2.2.2.2.2.2.2.1 s.2.2.2.2.2.2.2.2.2.2.1 s.2.2.2.2.2.2.2.2.2.2.2.1 s.2.2.2.2.2.2.2.2.2.2.2.2.1 s.2.2.2.2.2.2.2.2.2.2.2.2.2.1 s.2.2.2.2.2.2.2.2.2.2.2.2.2.2) (fun n s hI hk => hs n s.1 s.2.1 s.2.2.1 s.2.2.2.1 s.2.2.2.2.1 s.2.2.2.2.2.1 s.2.2.2.2.2.2.1 s.2.2.2.2.2.2.2.1 s.2.2.2.2.2.2.2.2.1 s.2.2.2.2.2.2.2.2.2.1 s.2.2.2.2.2.2.2.2.2.2.1 s.2.2.2.2.2.2.2.2.2.2.2.1 s.2.2.2.2.2.2.2.2.2.2.2.2.1 s.2.2.2.2.2.2.2.2.2.2.2.2.2.1 s.2.2.2.2.2.2.2.2.2.2.2.2.2.2 hI (fun b1 b2 b3 b4 b5 b6 b7 b8 b9 b10 b11 b12 b13 b14 b15 h9 hm => hk (b1, b2, b3, b4, b5, b6, b7, b8, b9, b10, b11, b12, b13, b14, b15) h9 hm)) (a1, a2, a3, a4, a5, a6, a7, a8, a9, a10, a11, a12, a13, a14, a15) h
theorem lp16 {A1 A2 A3 A4 A5 A6 A7 A8 A9 A10 A11 A12 A13 A14 A15 A16 : Type} (W : Nat → A1 → A2 → A3 → A4 → A5 → A6 → A7 → A8 → A9 → A10 → A11 → A12 → A13 → A14 → A15 → A16 → Prop) (I : A1 → A2 → A3 → A4 → A5 → A6 → A7 → A8 → A9 → A10 → A11 → A12 → A13 → A14 → A15 → A16 → Prop) (μ : A1 → A2 → A3 → A4 → A5 → A6 → A7 → A8 → A9 → A10 → A11 → A12 → A13 → A14 → A15 → A16 → Nat) (hs : ∀ (n : Nat) (a1 : A1) (a2 : A2) (a3 : A3) (a4 : A4) (a5 : A5) (a6 : A6) (a7 : A7) (a8 : A8) (a9 : A9) (a10 : A10) (a11 : A11) (a12 : A12) (a13 : A13) (a14 : A14) (a15 : A15) (a16 : A16), I a1 a2 a3 a4 a5 a6 a7 a8 a9 a10 a11 a12 a13 a14 a15 a16 → (∀ (b1 : A1) (b2 : A2) (b3 : A3) (b4 : A4) (b5 : A5) (b6 : A6) (b7 : A7) (b8 : A8) (b9 : A9) (b10 : A10) (b11 : A11) (b12 : A12) (b13 : A13) (b14 : A14) (b15 : A15) (b16 : A16), I b1 b2 b3 b4 b5 b6 b7 b8 b9 b10 b11 b12 b13 b14 b15 b16 → μ b1 b2 b3 b4 b5 b6 b7 b8 b9 b10 b11 b12 b13 b14 b15 b16 < μ a1 a2 a3 a4 a5 a6 a7 a8 a9 a10 a11 a12 a13 a14 a15 a16 → W n b1 b2 b3 b4 b5 b6 b7 b8 b9 b10 b11 b12 b13 b14 b15 b16) → W (n + 1) a1 a2 a3 a4 a5 a6 a7 a8 a9 a10 a11 a12 a13 a14 a15 a16) (a1 : A1) (a2 : A2) (a3 : A3) (a4 : A4) (a5 : A5) (a6 : A6) (a7 : A7) (a8 : A8) (a9 : A9) (a10 : A10) (a11 : A11) (a12 : A12) (a13 : A13) (a14 : A14) (a15 : A15) (a16 : A16) (h : I a1 a2 a3 a4 a5 a6 a7 a8 a9 a10 a11 a12 a13 a14 a15 a16) : ∃ n, W n a1 a2 a3 a4 a5 a6 a7 a8 a9 a10 a11 a12 a13 a14 a15 a16 :=
  loop_m (σ := A1 × A2 × A3 × A4 × A5 × A6 × A7 × A8 × A9 × A10 × A11 × A12 × A13 × A14 × A15 × A16) (fun n s => W n s.1 s.2.1 s.2.2.1 s.2.2.2.1 s.2.2.2.2.1 s.2.2.2.2.2.1 s.2.2.2.2.2.2.1 s.2.2.2.2.2.2.2.1 s.2.2.2.2.2.2.2.2.1 s.2.2.2.2.2.2.2.2.2.1 s.2.2.2.2.2.2.2.2.2.2.1 s.2.2.2.2.2.2.2.2.2.2.2.1 s.2.2.2.2.2.2.2.2.2.2.2.2.1 s.2.2.2.2.2.2.2.2.2.2.2.2.2.1 s.2.2.2.2.2.2.2.2.2.2.2.2.2.2.1 s.2.2.2.2.2.2.2.2.2.2.2.2.2.2.2) (fun s => I s.1 s.2.1 s.2.2.1 s.2.2.2.1 s.2.2.2.2.1 s.2.2.2.2.2.1 s.2.2.2.2.2.2.1 s.2.2.2.2.2.2.2.1 s.2.2.2.2.2.2.2.2.1 s.2.2.2.2.2.2.2.2.2.1 s.2.2.2.2.2.2.2.2.2.2.1 s.2.2.2.2.2.2.2.2.2.2.2.1 s.2.2.2.2.2.2.2.2.2.2.2.2.1 s.2.2.2.2.2.2.2.2.2.2.2.2.2.1 s.2.2.2.2.2.2.2.2.2.2.2.2.2.2.1 s.2.2.2.2.2.2.2.2.2.2.2.2.2.2.2) (fun s => μ s.1 s.2.1 s.2.2.1 s.2.2.2.1 s.2.2.2.2.1 s.2.2.2.2.2.1 s.2.2.2.2.2.2.1 s.2.2.2.2.2.2.2.1 s.2.2.2.2.2.2.2.2.1 s.2.2.2.2.2.2.2.2.2.1 s.2.2.2.2.2.2.2.2.2.2.1 s.2.2.2.2.2.2.2.2.2.2.2.1 s.2.2.2.2.2.2.2.2.2.2.2.2.1 s.2.2.2.2.2.2.2.2.2.2.2.2.2.1 s.2.2.2.2.2.2.2.2.2.2.2.2.2.2.1 s.2.2.2.2.2.2.2.2.2.2.2.2.2.2.2) (fun n s hI hk => hs n s.1 s.2.1 s.2.2.1 s.2.2.2.1 s.2.2.2.2.1 s.2.2.2.2.2.1 s.2.2.2.2.2.2.1 s.2.2.2.2.2.2.2.1 s.2.2.2.2.2.2.2.2.1 s.2.2.2.2.2.2.2.2.2.1 s.2.2.2.2.2.2.2.2.2.2.1 s.2.2.2.2.2.2.2.2.2.2.2.1 s.2.2.2.2.2.2.2.2.2.2.2.2.1 s.2.2.2.2.2.2.2.2.2.2.2.2.2.1 s.2.2.2.2.2.2.2.2.2.2.2.2.2.2.1 s.2.2.2.2.2.2.2.2.2.2.2.2.2.2.2 hI (fun b1 b2 b3 b4 b5 b6 b7 b8 b9 b10 b11 b12 b13 b14 b15 b16 h9 hm => hk (b1, b2, b3, b4, b5, b6, b7, b8, b9, b10, b11, b12, b13, b14, b15, b16) h9 hm)) (a1, a2, a3, a4, a5, a6, a7, a8, a9, a10, a11, a12, a13, a14, a15, a16) h
theorem pk_least (P : Nat → Prop) (h : ∃ k, P k) : ∃ k, P k ∧ ∀ j, j < k → ¬ P j := by
  obtain ⟨k, hk⟩ := h
  induction k using Nat.strongRecOn with
  | ind k ih =>
    by_cases e : ∃ j, j < k ∧ P j
    · obtain ⟨j, hj, pj⟩ := e
      exact ih j hj pj
    · exact ⟨k, hk, fun j hj pj => e ⟨j, hj, pj⟩⟩
theorem rp1 {ρ A1 : Type} (W : Nat → (ρ → Prop) → A1 → Prop) (ok : A1 → Prop) (μ : A1 → Nat) (val : A1 → ρ)
    (hs : ∀ (d : Nat) (post : ρ → Prop) (a1 : A1), ok a1 → post (val a1) → (∀ (post' : ρ → Prop) (b1 : A1), ok b1 → μ b1 < μ a1 → post' (val b1) → W d post' b1) → W (d + 1) post a1) :
    ∀ (d : Nat) (post : ρ → Prop) (a1 : A1), ok a1 → μ a1 < d → post (val a1) → W d post a1 := by
  intro d
  induction d with
  | zero => intro post a1 _ h; omega
  | succ d ih =>
    intro post a1 ho hm hp
    exact hs d post a1 ho hp (fun post' b1 ho' hm' hp' => ih post' b1 ho' (by omega) hp')
theorem rp2 {ρ A1 A2 : Type} (W : Nat → (ρ → Prop) → A1 → A2 → Prop) (ok : A1 → A2 → Prop) (μ : A1 → A2 → Nat) (val : A1 → A2 → ρ)
    (hs : ∀ (d : Nat) (post : ρ → Prop) (a1 : A1) (a2 : A2), ok a1 a2 → post (val a1 a2) → (∀ (post' : ρ → Prop) (b1 : A1) (b2 : A2), ok b1 b2 → μ b1 b2 < μ a1 a2 → post' (val b1 b2) → W d post' b1 b2) → W (d + 1) post a1 a2) :
    ∀ (d : Nat) (post : ρ → Prop) (a1 : A1) (a2 : A2), ok a1 a2 → μ a1 a2 < d → post (val a1 a2) → W d post a1 a2 := by
  intro d
  induction d with
  | zero => intro post a1 a2 _ h; omega
  | succ d ih =>
    intro post a1 a2 ho hm hp
    exact hs d post a1 a2 ho hp (fun post' b1 b2 ho' hm' hp' => ih post' b1 b2 ho' (by omega) hp')
theorem rp3 {ρ A1 A2 A3 : Type} (W : Nat → (ρ → Prop) → A1 → A2 → A3 → Prop) (ok : A1 → A2 → A3 → Prop) (μ : A1 → A2 → A3 → Nat) (val : A1 → A2 → A3 → ρ)
    (hs : ∀ (d : Nat) (post : ρ → Prop) (a1 : A1) (a2 : A2) (a3 : A3), ok a1 a2 a3 → post (val a1 a2 a3) → (∀ (post' : ρ → Prop) (b1 : A1) (b2 : A2) (b3 : A3), ok b1 b2 b3 → μ b1 b2 b3 < μ a1 a2 a3 → post' (val b1 b2 b3) → W d post' b1 b2 b3) → W (d + 1) post a1 a2 a3) :
    ∀ (d : Nat) (post : ρ → Prop) (a1 : A1) (a2 : A2) (a3 : A3), ok a1 a2 a3 → μ a1 a2 a3 < d → post (val a1 a2 a3) → W d post a1 a2 a3 := by
  intro d
  induction d with
  | zero => intro post a1 a2 a3 _ h; omega
  | succ d ih =>
    intro post a1 a2 a3 ho hm hp
    exact hs d post a1 a2 a3 ho hp (fun post' b1 b2 b3 ho' hm' hp' => ih post' b1 b2 b3 ho' (by omega) hp')
theorem rp4 {ρ A1 A2 A3 A4 : Type} (W : Nat → (ρ → Prop) → A1 → A2 → A3 → A4 → Prop) (ok : A1 → A2 → A3 → A4 → Prop) (μ : A1 → A2 → A3 → A4 → Nat) (val : A1 → A2 → A3 → A4 → ρ)
    (hs : ∀ (d : Nat) (post : ρ → Prop) (a1 : A1) (a2 : A2) (a3 : A3) (a4 : A4), ok a1 a2 a3 a4 → post (val a1 a2 a3 a4) → (∀ (post' : ρ → Prop) (b1 : A1) (b2 : A2) (b3 : A3) (b4 : A4), ok b1 b2 b3 b4 → μ b1 b2 b3 b4 < μ a1 a2 a3 a4 → post' (val b1 b2 b3 b4) → W d post' b1 b2 b3 b4) → W (d + 1) post a1 a2 a3 a4) :
    ∀ (d : Nat) (post : ρ → Prop) (a1 : A1) (a2 : A2) (a3 : A3) (a4 : A4), ok a1 a2 a3 a4 → μ a1 a2 a3 a4 < d → post (val a1 a2 a3 a4) → W d post a1 a2 a3 a4 := by
  intro d
  induction d with
  | zero => intro post a1 a2 a3 a4 _ h; omega
  | succ d ih =>
    intro post a1 a2 a3 a4 ho hm hp
    exact hs d post a1 a2 a3 a4 ho hp (fun post' b1 b2 b3 b4 ho' hm' hp' => ih post' b1 b2 b3 b4 ho' (by omega) hp')
theorem rp5 {ρ A1 A2 A3 A4 A5 : Type} (W : Nat → (ρ → Prop) → A1 → A2 → A3 → A4 → A5 → Prop) (ok : A1 → A2 → A3 → A4 → A5 → Prop) (μ : A1 → A2 → A3 → A4 → A5 → Nat) (val : A1 → A2 → A3 → A4 → A5 → ρ)
    (hs : ∀ (d : Nat) (post : ρ → Prop) (a1 : A1) (a2 : A2) (a3 : A3) (a4 : A4) (a5 : A5), ok a1 a2 a3 a4 a5 → post (val a1 a2 a3 a4 a5) → (∀ (post' : ρ → Prop) (b1 : A1) (b2 : A2) (b3 : A3) (b4 : A4) (b5 : A5), ok b1 b2 b3 b4 b5 → μ b1 b2 b3 b4 b5 < μ a1 a2 a3 a4 a5 → post' (val b1 b2 b3 b4 b5) → W d post' b1 b2 b3 b4 b5) → W (d + 1) post a1 a2 a3 a4 a5) :
    ∀ (d : Nat) (post : ρ → Prop) (a1 : A1) (a2 : A2) (a3 : A3) (a4 : A4) (a5 : A5), ok a1 a2 a3 a4 a5 → μ a1 a2 a3 a4 a5 < d → post (val a1 a2 a3 a4 a5) → W d post a1 a2 a3 a4 a5 := by
  intro d
  induction d with
  | zero => intro post a1 a2 a3 a4 a5 _ h; omega
  | succ d ih =>
    intro post a1 a2 a3 a4 a5 ho hm hp
    exact hs d post a1 a2 a3 a4 a5 ho hp (fun post' b1 b2 b3 b4 b5 ho' hm' hp' => ih post' b1 b2 b3 b4 b5 ho' (by omega) hp')
theorem rp6 {ρ A1 A2 A3 A4 A5 A6 : Type} (W : Nat → (ρ → Prop) → A1 → A2 → A3 → A4 → A5 → A6 → Prop) (ok : A1 → A2 → A3 → A4 → A5 → A6 → Prop) (μ : A1 → A2 → A3 → A4 → A5 → A6 → Nat) (val : A1 → A2 → A3 → A4 → A5 → A6 → ρ)
    (hs : ∀ (d : Nat) (post : ρ → Prop) (a1 : A1) (a2 : A2) (a3 : A3) (a4 : A4) (a5 : A5) (a6 : A6), ok a1 a2 a3 a4 a5 a6 → post (val a1 a2 a3 a4 a5 a6) → (∀ (post' : ρ → Prop) (b1 : A1) (b2 : A2) (b3 : A3) (b4 : A4) (b5 : A5) (b6 : A6), ok b1 b2 b3 b4 b5 b6 → μ b1 b2 b3 b4 b5 b6 < μ a1 a2 a3 a4 a5 a6 → post' (val b1 b2 b3 b4 b5 b6) → W d post' b1 b2 b3 b4 b5 b6) → W (d + 1) post a1 a2 a3 a4 a5 a6) :
    ∀ (d : Nat) (post : ρ → Prop) (a1 : A1) (a2 : A2) (a3 : A3) (a4 : A4) (a5 : A5) (a6 : A6), ok a1 a2 a3 a4 a5 a6 → μ a1 a2 a3 a4 a5 a6 < d → post (val a1 a2 a3 a4 a5 a6) → W d post a1 a2 a3 a4 a5 a6 := by
  intro d
  induction d with
  | zero => intro post a1 a2 a3 a4 a5 a6 _ h; omega
  | succ d ih =>
    intro post a1 a2 a3 a4 a5 a6 ho hm hp
    exact hs d post a1 a2 a3 a4 a5 a6 ho hp (fun post' b1 b2 b3 b4 b5 b6 ho' hm' hp' => ih post' b1 b2 b3 b4 b5 b6 ho' (by omega) hp')
theorem rec_p {σ ρ : Type} (W : Nat → (ρ → Prop) → σ → Prop) (ok : σ → Prop) (μ : σ → Nat) (val : σ → ρ)
    (hs : ∀ d s post, ok s → post (val s) → (∀ s' post', ok s' → μ s' < μ s → post' (val s') → W d post' s') → W (d + 1) post s) :
    ∀ d s post, ok s → μ s < d → post (val s) → W d post s := by
  intro d
  induction d with
  | zero => intro s post _ h; omega
  | succ d ih =>
    intro s post ho hm hp
    exact hs d s post ho hp (fun s' post' ho' hm' hp' => ih s' post' ho' (by omega) hp')
theorem rec_q {σ ρ : Type} (W : Nat → (ρ → Prop) → σ → Prop) (ok : σ → Prop) (μ : σ → Nat) (Q : σ → ρ → Prop)
    (hs : ∀ d s post, ok s → (∀ r, Q s r → post r) → (∀ s' post', ok s' → μ s' < μ s → (∀ r, Q s' r → post' r) → W d post' s') → W (d + 1) post s) :
    ∀ d s post, ok s → μ s < d → (∀ r, Q s r → post r) → W d post s := by
  intro d
  induction d with
  | zero => intro s post _ h; omega
  | succ d ih =>
    intro s post ho hm hp
    exact hs d s post ho hp (fun s' post' ho' hm' hp' => ih s' post' ho' (by omega) hp')
def bx_sum (f : Nat → Int32) : Nat → Int32
  | 0 => 0
  | n + 1 => bx_sum f n + f n
theorem ek_u {A : Prop} {B : Nat → Prop} {k N : Nat} (hk : k < N) (h : B k) : (some k = none → A) ∧ (∀ y : Nat, some k = some y → (y < N ∧ B y)) :=
  ⟨fun z => absurd z (Option.some_ne_none k), fun _ e => (by cases e; exact ⟨hk, h⟩)⟩
theorem ek_nu {A : Prop} {B : Nat → Prop} (h : A) : ((none : Option Nat) = none → A) ∧ (∀ y : Nat, (none : Option Nat) = some y → B y) :=
  ⟨fun _ => h, fun _ e => (by cases e)⟩
theorem ek_if {c d A B : Prop} (e : c ↔ d) (f : d → A) (g : ¬ d → B) : (c → A) ∧ (¬ c → B) :=
  ⟨fun z => f (e.mp z), fun z => g (fun y => z (e.mpr y))⟩
theorem ek_v {α : Sort _} {P : α → Prop} {a b : α} (e : a = b) (h : P b) : P a := e ▸ h
theorem co_some {x : Option Nat} {A : Prop} {B : Nat → Prop} (i : Nat) (h : B i) (hx : x = some i := by rfl) : (x = none → A) ∧ (∀ y : Nat, x = some y → B y) := by
  subst hx
  exact ⟨fun e => (nomatch e), fun y e => Option.some.inj e ▸ h⟩
theorem co_none {x : Option Nat} {A : Prop} {B : Nat → Prop} (h : A) (hx : x = none := by rfl) : (x = none → A) ∧ (∀ y : Nat, x = some y → B y) := by
  subst hx
  exact ⟨fun _ => h, fun y e => (nomatch e)⟩
theorem co_any {x : Option Nat} {A : Prop} {B : Nat → Prop} (hn : x = none → A) (hs : ∀ i : Nat, x = some i → B i) : (x = none → A) ∧ (∀ y : Nat, x = some y → B y) := ⟨hn, hs⟩
theorem co_2 {P : Nat → Prop} (h0 : P 0) (h1 : P 1) {i : Nat} (hi : i < 2) : P i :=
  match i, hi with
  | 0, _ => h0
  | 1, _ => h1
theorem co_3 {P : Nat → Prop} (h0 : P 0) (h1 : P 1) (h2 : P 2) {i : Nat} (hi : i < 3) : P i :=
  match i, hi with
  | 0, _ => h0
  | 1, _ => h1
  | 2, _ => h2
theorem co_4 {P : Nat → Prop} (h0 : P 0) (h1 : P 1) (h2 : P 2) (h3 : P 3) {i : Nat} (hi : i < 4) : P i :=
  match i, hi with
  | 0, _ => h0
  | 1, _ => h1
  | 2, _ => h2
  | 3, _ => h3
theorem co_dec {N : Nat} {P : Nat → Prop} [DecidablePred P] (h : (List.range N).all (fun i => decide (P i)) = true) {i : Nat} (hi : i < N) : P i := by
  have := List.all_eq_true.mp h i (List.mem_range.mpr hi)
  exact of_decide_eq_true this
theorem co_tab {α : Type} {l : List α} {d : α} {P : α → Prop} (h : ∀ a, a ∈ l → P a) {i : Nat} (hi : i < l.length) : P (l.getD i d) := by
  rw [List.getD_eq_getElem?_getD, List.getElem?_eq_getElem hi]
  exact h _ (List.getElem_mem hi)
theorem pk_mu {x : Int32} {L : Nat} (h0 : ¬ x < 0) (h : ¬ nI L ≤ x) (hL : L < 2 ^ 31) : ∃ j : Nat, j < L ∧ x = nI j ∧ x + 1 = nI (j + 1) ∧ x.toNatClampNeg = j ∧ L - (x + 1).toNatClampNeg < L - x.toNatClampNeg := by
  obtain ⟨j, hj, rfl⟩ := nI_of h0
  have hl : j < L := Nat.not_le.mp fun q => h (nI_le q hj)
  refine ⟨j, hl, rfl, nI_1 j, nI_clamp hj, ?_⟩
  rw [nI_1, nI_clamp (by omega), nI_clamp hj]
  omega
theorem op_s {α : Type} {r : Option α} {A : Prop} {B : α → Prop} {y : α} (h : r = some y) (b : B y) : (r = none → A) ∧ ∀ z, r = some z → B z :=
  ⟨fun e => (by rw [h] at e; cases e), fun z e => (by rw [h] at e; cases e; exact b)⟩
def l_holds {α : Type} (a : Nat → Option Nat) (LP : List Nat) (p : Nat → α) (c : Nat) (b : Nat → α) : Prop :=
  ∀ j, j < c → ∃ y, a j = some y ∧ y ∈ LP ∧ p y = b j
theorem l_holds_0 {α : Type} {a : Nat → Option Nat} {LP : List Nat} {p b : Nat → α} : l_holds a LP p 0 b := fun j h => absurd h (Nat.not_lt_zero j)
theorem l_in_new (LP : List Nat) (q : Nat) : q ∈ LP ++ [q] := List.mem_append.mpr (Or.inr (List.mem_singleton.mpr rfl))
def l_sum (b : Nat → Int32) : Nat → Int32
  | 0 => 0
  | k + 1 => l_sum b k + b k
theorem sb_shr0 (x : Int32) : x >>> ((0 : Int32) &&& 31) = x := by
  rw [show ((0 : Int32) &&& 31) = 0 by decide]
  simp
theorem sb_shl0 (x : Int32) : x <<< ((0 : Int32) &&& 31) = x := by
  rw [show ((0 : Int32) &&& 31) = 0 by decide]
  simp
theorem sb_cl0 : (0 : Int32).toNatClampNeg = 0 := by decide
theorem sb_m1 {p : Nat} (h : 0 < p) : nI p + (-1) = nI (p - 1) := by
  obtain ⟨q, rfl⟩ : ∃ q, p = q + 1 := ⟨p - 1, by omega⟩
  exact pk_m1 q
def sb_b (c : Nat) : Int32 := (nI c).toInt8.toInt32
theorem sb_byte : ∀ c, c < 256 → sb_b c &&& 255 = nI c ∧ ((nI c).toUInt32 % 65536).toInt32 = nI c ∧ nI c ≤ 255 := by decide +kernel
def sb_Fit (a : Nat → Int32) : Prop := ∀ j, fits .byte (.int (a j)) = true
def sb_Lat (t : Nat → Nat) (n : Nat) (a : Nat → Int32) : Prop := ∀ j, j < n → t j < 256 ∧ a j = sb_b (t j)
theorem sb_fitB (c : Nat) : fits .byte (.int (sb_b c)) = true := pk_fb _
theorem sb_fit0 : sb_Fit (fun _ => 0) := fun _ => by
  show fits .byte (.int 0) = true
  decide
theorem sb_fitU {a : Nat → Int32} {k : Nat} {x : Int32} (h : sb_Fit a) (hx : fits .byte (.int x) = true) : sb_Fit (upd a k x) := by
  intro j
  by_cases e : j = k
  · subst e
    rw [pk_us]
    exact hx
  · rw [pk_un e]
    exact h j
def sb_cat (t : Nat → Nat) (n : Nat) (s : Nat → Nat) : Nat → Nat := fun j => if j < n then t j else s (j - n)
theorem sb_cat_lo {t s : Nat → Nat} {n j : Nat} (h : j < n) : sb_cat t n s j = t j := if_pos h
theorem sb_cat_hi {t s : Nat → Nat} {n j : Nat} : sb_cat t n s (n + j) = s j := by
  show (if n + j < n then t (n + j) else s (n + j - n)) = s j
  rw [if_neg (by omega), Nat.add_sub_cancel_left]
theorem sb_latPut {t s : Nat → Nat} {n w : Nat} {a a' : Nat → Int32} (h : sb_Lat t n a) (hk : ∀ j, j < n → a' j = a j) (hs : ∀ i, i < w → s i < 256 ∧ a' (n + i) = sb_b (s i)) : sb_Lat (sb_cat t n s) (n + w) a' := by
  intro j hj
  by_cases e : j < n
  · rw [sb_cat_lo e, hk j e]
    exact h j e
  · obtain ⟨i, rfl⟩ : ∃ i, j = n + i := ⟨j - n, by omega⟩
    rw [sb_cat_hi]
    exact hs i (by omega)
theorem sb_latKeep {t : Nat → Nat} {n : Nat} {a a' : Nat → Int32} (h : sb_Lat t n a) (hk : ∀ j, j < n → a' j = a j) : sb_Lat t n a' := fun j hj => by
  rw [hk j hj]
  exact h j hj
def sb_cap (q m : Nat) : Nat := if q ≤ m then m else if 2 * m + 2 < q then q else 2 * m + 2
def sb_Room (q m mc ms : Nat) : Prop := q ≤ m ∨ (1 ≤ mc ∧ sb_cap q m ≤ ms ∧ sb_cap q m ≤ 65536)
theorem sb_cap_ge (q m : Nat) : q ≤ sb_cap q m := by
  unfold sb_cap
  split
  · omega
  · split <;> omega
theorem sb_cap_gem (q m : Nat) : m ≤ sb_cap q m := by
  unfold sb_cap
  split
  · omega
  · split <;> omega
theorem sb_cap_le {q m mc ms : Nat} (hm : m ≤ 65536) (hr : sb_Room q m mc ms) : sb_cap q m ≤ 65536 := by
  rcases hr with h | h
  · rw [sb_cap, if_pos h]
    exact hm
  · exact h.2.2
theorem sb_at {P : Int32 → Prop} {x y : Int32} (e : x = y) (h : P y) : P x := e ▸ h
def sb_dg (w : Nat) : Nat := if w < 10 then 1 else if w < 100 then 2 else if w < 1000 then 3 else if w < 10000 then 4 else if w < 100000 then 5 else if w < 1000000 then 6 else if w < 10000000 then 7 else if w < 100000000 then 8 else if w < 1000000000 then 9 else 10
def sb_dec (v : Nat) : Nat → Nat := fun i => 48 + v / 10 ^ (sb_dg v - 1 - i) % 10
theorem sb_dg_in (w : Nat) : 1 ≤ sb_dg w ∧ sb_dg w ≤ 10 := by
  unfold sb_dg
  constructor <;> (repeat' split) <;> omega
theorem sb_dg100 {w : Nat} (h : 100 ≤ w) (hw : w < 2 ^ 31) : sb_dg w = sb_dg (w / 100) + 2 := by
  rw [sb_dg, sb_dg, if_neg (show ¬ w < 10 by omega), if_neg (show ¬ w < 100 by omega)]
  by_cases h3 : w < 1000
  · rw [if_pos h3, if_pos (show w / 100 < 10 by omega)]
  rw [if_neg h3, if_neg (show ¬ w / 100 < 10 by omega)]
  by_cases h4 : w < 10000
  · rw [if_pos h4, if_pos (show w / 100 < 100 by omega)]
  rw [if_neg h4, if_neg (show ¬ w / 100 < 100 by omega)]
  by_cases h5 : w < 100000
  · rw [if_pos h5, if_pos (show w / 100 < 1000 by omega)]
  rw [if_neg h5, if_neg (show ¬ w / 100 < 1000 by omega)]
  by_cases h6 : w < 1000000
  · rw [if_pos h6, if_pos (show w / 100 < 10000 by omega)]
  rw [if_neg h6, if_neg (show ¬ w / 100 < 10000 by omega)]
  by_cases h7 : w < 10000000
  · rw [if_pos h7, if_pos (show w / 100 < 100000 by omega)]
  rw [if_neg h7, if_neg (show ¬ w / 100 < 100000 by omega)]
  by_cases h8 : w < 100000000
  · rw [if_pos h8, if_pos (show w / 100 < 1000000 by omega)]
  rw [if_neg h8, if_neg (show ¬ w / 100 < 1000000 by omega)]
  by_cases h9 : w < 1000000000
  · rw [if_pos h9, if_pos (show w / 100 < 10000000 by omega)]
  rw [if_neg h9, if_neg (show ¬ w / 100 < 10000000 by omega)]
  rw [if_pos (show w / 100 < 100000000 by omega)]
theorem sb_negT {w : Nat} (h : w < 2 ^ 31) : (-nI w).toInt = -(w : Int) := by
  rw [Int32.toInt_neg, nI_toInt h]
  exact Int.bmod_eq_of_le (by omega) (by omega)
theorem sb_nle {a b : Nat} (ha : a < 2 ^ 31) (hb : b < 2 ^ 31) : -nI a ≤ -nI b ↔ b ≤ a := by
  rw [Int32.le_iff_toInt_le, sb_negT ha, sb_negT hb]
  omega
theorem sb_nlt {a b : Nat} (ha : a < 2 ^ 31) (hb : b < 2 ^ 31) : -nI a < -nI b ↔ b < a := by
  rw [Int32.lt_iff_toInt_lt, sb_negT ha, sb_negT hb]
  omega
theorem sb_cmp {A B : Prop} {x : Int32} (v c : Nat) (f : c ≤ v → A) (g : v < c → B) (hv : v < 2 ^ 31) (hx : x = -nI c := by rfl) (hc : c < 2 ^ 31 := by omega) : (-nI v ≤ x → A) ∧ (¬ -nI v ≤ x → B) := by
  subst hx
  rw [sb_nle hv hc]
  exact ⟨f, fun z => g (by omega)⟩
theorem sb_ndiv {w : Nat} (hw : w < 2 ^ 31) : (-nI w) / 100 = -nI (w / 100) := by
  apply Int32.toInt_inj.mp
  have h100 : (100 : Int32).toInt = 100 := by decide
  rw [Int32.toInt_div, sb_negT hw, h100, sb_negT (by omega), Int.neg_tdiv, Int.tdiv_eq_ediv_of_nonneg (by omega), Int.bmod_eq_of_le (by omega) (by omega)]
  omega
theorem sb_nrem {w : Nat} (hw : w < 2 ^ 31) : (-nI (w / 100)) * 100 - (-nI w) = nI (w % 100) := by
  have h := pk_rem (a := w) (d := 100) hw (by decide) (by decide)
  rw [pk_div hw (by decide) (by decide)] at h
  rw [← h]
  show (-nI (w / 100)) * nI 100 - (-nI w) = nI w - nI (w / 100) * nI 100
  rw [Int32.neg_mul, Int32.sub_neg, Int32.add_comm, ← Int32.sub_eq_add_neg]
end
section
/-! rows on bits, shifts and unsigned numbers, to paste: each family out of a closed proof of our own, whole with what it rests on; each by itself clean at Lean in its own claim (generation 39, form 5). Take a family whole -/
/-! ===== Int32 by its bits: bt x i ===== -/
def bt (x : Int32) (i : Nat) : Bool := x.toBitVec.getLsbD i
theorem b_ext {x y : Int32} (h : ∀ i, i < 32 → bt x i = bt y i) : x = y := Int32.toBitVec_inj.mp (BitVec.eq_of_getLsbD_eq (fun i hi => h i hi))
theorem b_or (x y : Int32) (i : Nat) : bt (x ||| y) i = (bt x i || bt y i) := by unfold bt; rw [Int32.toBitVec_or, BitVec.getLsbD_or]
theorem b_and (x y : Int32) (i : Nat) : bt (x &&& y) i = (bt x i && bt y i) := by unfold bt; rw [Int32.toBitVec_and, BitVec.getLsbD_and]
theorem b_xor (x y : Int32) (i : Nat) : bt (x ^^^ y) i = (bt x i ^^ bt y i) := by unfold bt; rw [Int32.toBitVec_xor, BitVec.getLsbD_xor]
theorem b_big {x : Int32} {i : Nat} (h : 32 ≤ i) : bt x i = false := BitVec.getLsbD_of_ge _ _ h
theorem b_255 (i : Nat) : bt 255 i = decide (i < 8) := by
  rcases Nat.lt_or_ge i 32 with h | h
  · exact (by decide +kernel : ∀ i, i < 32 → bt 255 i = decide (i < 8)) i h
  · rw [b_big h, decide_eq_false (by omega)]
theorem b_65535 (i : Nat) : bt 65535 i = decide (i < 16) := by
  rcases Nat.lt_or_ge i 32 with h | h
  · exact (by decide +kernel : ∀ i, i < 32 → bt 65535 i = decide (i < 16)) i h
  · rw [b_big h, decide_eq_false (by omega)]
theorem b_m1 : ∀ i, i < 32 → bt (-1) i = true := by decide +kernel
theorem b_0 (i : Nat) : bt 0 i = false := BitVec.getLsbD_zero
theorem s_l : ∀ n, n < 32 → ((nI n &&& 31).toBitVec.smod 32).toNat = n := by decide +kernel
theorem s_u : ∀ n, n < 32 → (((nI n).toUInt32 &&& Int32.toUInt32 31).toBitVec % 32).toNat = n := by decide +kernel
theorem b_shl (n : Nat) (hn : n < 32) (x : Int32) {i : Nat} (hi : i < 32) : bt (x <<< (nI n &&& 31)) i = (decide (n ≤ i) && bt x (i - n)) := by
  unfold bt
  rw [Int32.toBitVec_shiftLeft]
  show (x.toBitVec <<< ((nI n &&& 31).toBitVec.smod 32).toNat).getLsbD i = _
  rw [s_l n hn, BitVec.getLsbD_shiftLeft]
  rcases Nat.lt_or_ge i n with h | h
  · simp [h, Nat.not_le.mpr h]
  · simp [hi, h, Nat.not_lt.mpr h]
theorem b_ushr (n : Nat) (hn : n < 32) (x : Int32) (i : Nat) : bt ((x.toUInt32 >>> ((nI n).toUInt32 &&& Int32.toUInt32 31)).toInt32) i = bt x (n + i) := by
  show (x.toUInt32 >>> ((nI n).toUInt32 &&& Int32.toUInt32 31)).toBitVec.getLsbD i = x.toUInt32.toBitVec.getLsbD (n + i)
  rw [UInt32.toBitVec_shiftRight]
  show (x.toUInt32.toBitVec >>> (((nI n).toUInt32 &&& Int32.toUInt32 31).toBitVec % 32).toNat).getLsbD i = _
  rw [s_u n hn, BitVec.getLsbD_ushiftRight]
theorem b_sshr (n : Nat) (hn : n < 32) (x : Int32) {i : Nat} (hi : i < 32) : bt (x >>> (nI n &&& 31)) i = if n + i < 32 then bt x (n + i) else bt x 31 := by
  unfold bt
  rw [Int32.toBitVec_shiftRight]
  show (x.toBitVec.sshiftRight ((nI n &&& 31).toBitVec.smod 32).toNat).getLsbD i = _
  rw [s_l n hn, BitVec.getLsbD_sshiftRight, BitVec.msb_eq_getLsbD_last]
  simp [hi]
theorem b_shl8 (x : Int32) {i : Nat} (hi : i < 32) : bt (x <<< ((8 : Int32) &&& 31)) i = (decide (8 ≤ i) && bt x (i - 8)) := b_shl 8 (by omega) x hi
theorem b_shl16 (x : Int32) {i : Nat} (hi : i < 32) : bt (x <<< ((16 : Int32) &&& 31)) i = (decide (16 ≤ i) && bt x (i - 16)) := b_shl 16 (by omega) x hi
theorem b_shl24 (x : Int32) {i : Nat} (hi : i < 32) : bt (x <<< ((24 : Int32) &&& 31)) i = (decide (24 ≤ i) && bt x (i - 24)) := b_shl 24 (by omega) x hi
theorem b_sshr8 (x : Int32) {i : Nat} (hi : i < 32) : bt (x >>> ((8 : Int32) &&& 31)) i = if 8 + i < 32 then bt x (8 + i) else bt x 31 := b_sshr 8 (by omega) x hi
/-! ===== nI under and, xor, >>>, one bit, 65535 ===== -/
theorem nx_and (a b : Nat) : nI a &&& nI b = nI (a &&& b) := by
  apply Int32.toBitVec_inj.1
  show BitVec.ofNat 32 a &&& BitVec.ofNat 32 b = BitVec.ofNat 32 (a &&& b)
  apply BitVec.eq_of_getLsbD_eq
  intro i hi
  simp [hi]
theorem nx_xor (a b : Nat) : nI a ^^^ nI b = nI (a ^^^ b) := by
  apply Int32.toBitVec_inj.1
  show BitVec.ofNat 32 a ^^^ BitVec.ofNat 32 b = BitVec.ofNat 32 (a ^^^ b)
  apply BitVec.eq_of_getLsbD_eq
  intro i hi
  simp [hi]
theorem nx_cnt : ∀ j : Fin 32, (UInt32.ofNat j.val &&& Int32.toUInt32 31).toNat % 32 = j.val := by decide +kernel
theorem nx_ush {k j : Nat} (hk : k < 65536) (hj : j < 32) : ((nI k).toUInt32 >>> ((nI j).toUInt32 &&& Int32.toUInt32 31)).toInt32 = nI (k >>> j) := by
  have hs : k >>> j ≤ k := by
    rw [Nat.shiftRight_eq_div_pow]
    exact Nat.div_le_self _ _
  have e2 : UInt32.ofNat k >>> (UInt32.ofNat j &&& Int32.toUInt32 31) = UInt32.ofNat (k >>> j) := by
    apply UInt32.toNat_inj.1
    have h1 : (UInt32.ofNat k).toNat = k := Nat.mod_eq_of_lt (by omega)
    have h2 : (UInt32.ofNat (k >>> j)).toNat = k >>> j := Nat.mod_eq_of_lt (by omega)
    rw [UInt32.toNat_shiftRight, nx_cnt ⟨j, hj⟩, h1, h2]
  show (UInt32.ofNat k >>> (UInt32.ofNat j &&& Int32.toUInt32 31)).toInt32 = _
  rw [e2]
  rfl
theorem nx_bit {k j : Nat} (hk : k < 65536) (hj : j < 16) : (((nI k).toUInt32 >>> ((nI j).toUInt32 &&& Int32.toUInt32 31)).toInt32 &&& 1) = 0 ↔ k.testBit j = false := by
  rw [nx_ush hk (by omega)]
  show nI (k >>> j) &&& nI 1 = 0 ↔ _
  rw [nx_and, Nat.and_one_is_mod, ← nI_0, nI_eq (by omega) (by omega), Nat.testBit_eq_decide_div_mod_eq, Nat.shiftRight_eq_div_pow, decide_eq_false_iff_not]
  generalize k / 2 ^ j = z
  omega
theorem nx_mod (k : Nat) : nI k &&& 65535 = nI (k % 65536) := by
  show nI k &&& nI 65535 = _
  rw [nx_and, show (65535 : Nat) = 2 ^ 16 - 1 from rfl, Nat.and_two_pow_sub_one_eq_mod]
theorem nx_m16 {k : Nat} (h : k < 65536) : nI k &&& 65535 = nI k := by rw [nx_mod, Nat.mod_eq_of_lt h]
theorem nx_mask (x : Int32) : ∃ k, k < 65536 ∧ x &&& 65535 = nI k := by
  have e : x = nI x.toBitVec.toNat := by
    apply Int32.toBitVec_inj.1
    show x.toBitVec = BitVec.ofNat 32 x.toBitVec.toNat
    simp
  refine ⟨x.toBitVec.toNat % 65536, Nat.mod_lt _ (by omega), ?_⟩
  rw [← nx_mod, ← e]
/-! ===== Int32 as a set of bits: test, set ===== -/
def nf_M (m : Int32) : Nat := 4294967296 - m.toBitVec.toNat
theorem nf_sh : ∀ l, l < 32 → ((1 : Int32) <<< (nI l &&& 31)).toBitVec = BitVec.twoPow 32 l := by decide +kernel
theorem nf_sl : ∀ l, l < 32 → (((nI l).toUInt32 &&& Int32.toUInt32 31).toBitVec % 32).toNat = l := by decide +kernel
theorem nf_tp : ∀ l, l < 32 → BitVec.twoPow 32 l ≠ 0#32 := by decide +kernel
theorem nf_bit (m : Int32) (l : Nat) (hl : l < 32) : ((m.toUInt32 >>> ((nI l).toUInt32 &&& Int32.toUInt32 31)).toInt32 &&& 1) = 0 ↔ (m &&& ((1 : Int32) <<< (nI l &&& 31))) = 0 := by
  have e : ((m.toUInt32 >>> ((nI l).toUInt32 &&& Int32.toUInt32 31)).toInt32).toBitVec = m.toBitVec >>> l := by
    show m.toBitVec >>> (((nI l).toUInt32 &&& Int32.toUInt32 31).toBitVec % 32) = m.toBitVec >>> l
    rw [BitVec.ushiftRight_eq', nf_sl l hl]
  rw [← Int32.toBitVec_inj, ← Int32.toBitVec_inj, Int32.toBitVec_and, Int32.toBitVec_and, nf_sh l hl, e, BitVec.and_twoPow]
  show (m.toBitVec >>> l &&& 1#32) = 0#32 ↔ _ = 0#32
  rw [BitVec.and_one_eq_setWidth_ofBool_getLsbD, BitVec.getLsbD_ushiftRight, Nat.add_zero]
  cases hb : m.toBitVec.getLsbD l
  · exact ⟨fun _ => by simp, fun _ => by decide⟩
  · exact ⟨fun z => absurd z (by decide), fun z => absurd ((if_pos rfl).symm.trans z) (nf_tp l hl)⟩
theorem nf_gr (m k : Int32) (h : m &&& k = 0) (hk : k ≠ 0) : nf_M (m ||| k) < nf_M m := by
  have hm := m.toBitVec.isLt
  have hm' := (m ||| k).toBitVec.isLt
  have h1 : m.toBitVec.toNat ≤ (m ||| k).toBitVec.toNat := by
    rw [Int32.toBitVec_or, BitVec.toNat_or]
    exact Nat.left_le_or
  have h2 : m.toBitVec.toNat ≠ (m ||| k).toBitVec.toNat := by
    intro e
    have e2 : m = m ||| k := Int32.toBitVec_inj.mp (BitVec.eq_of_toNat_eq e)
    apply hk
    apply Int32.toBitVec_inj.mp
    show k.toBitVec = 0#32
    apply BitVec.eq_of_getLsbD_eq
    intro i hi
    have a : m.toBitVec.getLsbD i = (m.toBitVec.getLsbD i || k.toBitVec.getLsbD i) := by rw [← BitVec.getLsbD_or, ← Int32.toBitVec_or, ← e2]
    have b : (m.toBitVec.getLsbD i && k.toBitVec.getLsbD i) = false := by
      rw [← BitVec.getLsbD_and, ← Int32.toBitVec_and, h]
      exact BitVec.getLsbD_zero
    rw [BitVec.getLsbD_zero]
    revert a b
    cases m.toBitVec.getLsbD i <;> cases k.toBitVec.getLsbD i <;> simp
  unfold nf_M
  omega
/-! ===== a byte read unsigned ===== -/
theorem bp_b (x : Int32) : x.toInt8.toInt32 &&& 255 = x &&& 255 := by
  apply Int32.toBitVec_inj.mp
  rw [Int32.toBitVec_and, Int32.toBitVec_and, Int8.toBitVec_toInt32, Int32.toBitVec_toInt8]
  apply BitVec.eq_of_getLsbD_eq
  intro i hi
  rw [BitVec.getLsbD_and, BitVec.getLsbD_and]
  have hm : ∀ i < 32, 8 ≤ i → (255 : Int32).toBitVec.getLsbD i = false := by decide
  rcases Nat.lt_or_ge i 8 with z | z
  · rw [BitVec.getLsbD_signExtend, BitVec.getLsbD_signExtend, if_pos z, if_pos hi]
    simp only [z, hi, decide_true, Bool.true_and]
  · rw [hm i hi z]; simp
/-! ===== the char cast and 65535 ===== -/
theorem em_w (v : Int32) : ∃ w : Nat, w < 65536 ∧ (v.toUInt32 % 65536).toInt32 = nI w ∧ v &&& 65535 = nI w := by
  have hr := lw_u16_r v
  have h0 : (0 : Int32).toInt = 0 := by decide
  obtain ⟨w, h1, h2⟩ := nI_of (x := lw_u16 v) (by rw [Int32.lt_iff_toInt_lt]; omega)
  have h3 : (v.toUInt32 % 65536).toInt32 = nI w := h2
  rw [h2, nI_toInt h1] at hr
  exact ⟨w, by omega, h3, by rw [← lg_i2c_mask, ← lg_i2c_nf, h3]⟩
/-! ===== Int64 as a set of bits: test, set, clear ===== -/
theorem ts_nf {x : Bool} (h : ¬ x = false) : x = true := by cases x <;> first | rfl | exact absurd rfl h
theorem ts_nt {x : Bool} (h : ¬ x = true) : x = false := by cases x <;> first | rfl | exact absurd rfl h
theorem ts_bit {w : Int64} {s : UInt64} {j : Nat} (hj : j < 64) (hs : s.toNat = j) : ((w.toUInt64 >>> s).toInt64 &&& 1) = 0 ↔ w.toBitVec.getLsbD j = false := by
  have e : (w.toUInt64 >>> s).toInt64.toBitVec = w.toBitVec >>> j := by
    apply BitVec.eq_of_toNat_eq
    show (w.toUInt64 >>> s).toNat = _
    rw [UInt64.toNat_shiftRight, hs, Nat.mod_eq_of_lt hj, BitVec.toNat_ushiftRight]
    rfl
  rw [← Int64.toBitVec_inj, Int64.toBitVec_and, e]
  show w.toBitVec >>> j &&& 1#64 = 0#64 ↔ _
  constructor
  · intro h
    have t := congrArg (fun x => x.getLsbD 0) h
    simpa using t
  · intro h
    apply BitVec.eq_of_getLsbD_eq
    intro i hi
    cases i with
    | zero => simp [h]
    | succ i => simp
theorem ts_or {w m : Int64} {j : Nat} (hj : j < 64) (hm : m.toBitVec = BitVec.twoPow 64 j) : (w ||| m) = w ↔ w.toBitVec.getLsbD j = true := by
  rw [← Int64.toBitVec_inj, Int64.toBitVec_or, hm]
  constructor
  · intro h
    have t := congrArg (fun x => x.getLsbD j) h
    simp only [BitVec.getLsbD_or, BitVec.getLsbD_twoPow] at t
    simpa [hj] using t.symm
  · intro h
    apply BitVec.eq_of_getLsbD_eq
    intro i hi
    rw [BitVec.getLsbD_or, BitVec.getLsbD_twoPow]
    by_cases e : j = i
    · subst e; rw [h, Bool.true_or]
    · simp [e]
theorem ts_and {w m : Int64} {j : Nat} (hj : j < 64) (hm : m.toBitVec = BitVec.twoPow 64 j) : (w &&& (m ^^^ (-1))) = w ↔ w.toBitVec.getLsbD j = false := by
  have ha : (-1 : Int64).toBitVec = BitVec.allOnes 64 := by decide
  rw [← Int64.toBitVec_inj, Int64.toBitVec_and, Int64.toBitVec_xor, hm, ha]
  constructor
  · intro h
    have t := congrArg (fun x => x.getLsbD j) h
    simp only [BitVec.getLsbD_and, BitVec.getLsbD_xor, BitVec.getLsbD_twoPow, BitVec.getLsbD_allOnes] at t
    simpa [hj] using t.symm
  · intro h
    apply BitVec.eq_of_getLsbD_eq
    intro i hi
    rw [BitVec.getLsbD_and, BitVec.getLsbD_xor, BitVec.getLsbD_twoPow, BitVec.getLsbD_allOnes]
    by_cases e : j = i
    · subst e; rw [h, Bool.false_and]
    · simp [e, hi]
/-! ===== lN n to 2^64: shifts, and, or, masks, one bit ===== -/
theorem wb_tb (n : Nat) : (lN n).toBitVec = BitVec.ofNat 64 n := rfl
theorem wb_inj {a b : Int64} (h : a.toBitVec = b.toBitVec) : a = b := Int64.toBitVec_inj.mp h
theorem wb_tn {n : Nat} (h : n < 2 ^ 64) : (lN n).toBitVec.toNat = n := by rw [wb_tb, BitVec.toNat_ofNat, Nat.mod_eq_of_lt h]
theorem wb_of (x : Int64) : ∃ n, n < 2 ^ 64 ∧ x = lN n := ⟨x.toBitVec.toNat, x.toBitVec.isLt, wb_inj (by rw [wb_tb]; simp)⟩
theorem wb_of32 (x : Int32) : ∃ n, n < 2 ^ 32 ∧ x = nI n := ⟨x.toBitVec.toNat, x.toBitVec.isLt, Int32.toBitVec_inj.mp (by show _ = BitVec.ofNat 32 _; simp)⟩
theorem wb_c : ∀ k, k < 64 → ((nI k).toInt64 &&& 63) = lN k := by decide +kernel
theorem wb_cu : ∀ k, k < 64 → ((nI k).toInt64.toUInt64 &&& Int64.toUInt64 63) = UInt64.ofNat k := by decide +kernel
theorem wb_sm : ∀ k, k < 64 → (BitVec.ofNat 64 k).smod 64 = BitVec.ofNat 64 k := by decide +kernel
theorem wb_pw {a b : Nat} (h : a ≤ b) : 2 ^ b = 2 ^ a * 2 ^ (b - a) := by rw [← Nat.pow_add]; congr 1; omega
theorem wb_lt2 {a b : Nat} (h : a < b) : 2 ^ a < 2 ^ b := Nat.pow_lt_pow_right (by decide) h
theorem wb_mod (n : Nat) : lN n = lN (n % 2 ^ 64) := wb_inj (by rw [wb_tb, wb_tb]; apply BitVec.eq_of_toNat_eq; rw [BitVec.toNat_ofNat, BitVec.toNat_ofNat, Nat.mod_mod])
theorem wb_shr {n k : Nat} (hn : n < 2 ^ 64) (hk : k < 64) : ((lN n).toUInt64 >>> ((nI k).toInt64.toUInt64 &&& Int64.toUInt64 63)).toInt64 = lN (n / 2 ^ k) := by
  rw [wb_cu k hk]
  apply wb_inj
  apply BitVec.eq_of_toNat_eq
  show ((lN n).toUInt64 >>> UInt64.ofNat k).toNat = (BitVec.ofNat 64 _).toNat
  have h1 : (UInt64.ofNat k).toNat = k := by
    show (BitVec.ofNat 64 k).toNat = k
    rw [BitVec.toNat_ofNat, Nat.mod_eq_of_lt (by omega)]
  have h2 : (lN n).toUInt64.toNat = n := wb_tn hn
  rw [UInt64.toNat_shiftRight, h1, h2, Nat.mod_eq_of_lt hk, Nat.shiftRight_eq_div_pow, BitVec.toNat_ofNat, Nat.mod_eq_of_lt (Nat.lt_of_le_of_lt (Nat.div_le_self _ _) hn)]
theorem wb_shl (n : Nat) {k : Nat} (hk : k < 64) : lN n <<< ((nI k).toInt64 &&& 63) = lN (n * 2 ^ k) := by
  rw [wb_c k hk]
  apply wb_inj
  rw [Int64.toBitVec_shiftLeft, wb_tb, wb_tb, wb_tb, wb_sm k hk]
  apply BitVec.eq_of_toNat_eq
  rw [BitVec.shiftLeft_eq', BitVec.toNat_shiftLeft, BitVec.toNat_ofNat, BitVec.toNat_ofNat, BitVec.toNat_ofNat, Nat.mod_eq_of_lt (show k < 2 ^ 64 by omega), Nat.shiftLeft_eq, Nat.mul_mod, Nat.mod_mod, ← Nat.mul_mod]
theorem wb_and {a b : Nat} (ha : a < 2 ^ 64) (hb : b < 2 ^ 64) : lN a &&& lN b = lN (a &&& b) := by
  apply wb_inj
  rw [Int64.toBitVec_and, wb_tb, wb_tb, wb_tb]
  apply BitVec.eq_of_toNat_eq
  rw [BitVec.toNat_and, BitVec.toNat_ofNat, BitVec.toNat_ofNat, BitVec.toNat_ofNat, Nat.mod_eq_of_lt ha, Nat.mod_eq_of_lt hb, Nat.mod_eq_of_lt (Nat.and_lt_two_pow _ hb)]
theorem wb_or {a b : Nat} (ha : a < 2 ^ 64) (hb : b < 2 ^ 64) : lN a ||| lN b = lN (a ||| b) := by
  apply wb_inj
  rw [Int64.toBitVec_or, wb_tb, wb_tb, wb_tb]
  apply BitVec.eq_of_toNat_eq
  rw [BitVec.toNat_or, BitVec.toNat_ofNat, BitVec.toNat_ofNat, BitVec.toNat_ofNat, Nat.mod_eq_of_lt ha, Nat.mod_eq_of_lt hb, Nat.mod_eq_of_lt (Nat.or_lt_two_pow ha hb)]
theorem wb_mask {n k : Nat} (hn : n < 2 ^ 64) (hk : k < 64) : lN n &&& lN (2 ^ k - 1) = lN (n % 2 ^ k) := by
  rw [wb_and hn (by have := wb_lt2 hk; omega), Nat.and_two_pow_sub_one_eq_mod]
theorem wb_a1 {n : Nat} (hn : n < 2 ^ 64) : lN n &&& 1 = lN (n % 2) := wb_mask (k := 1) hn (by decide)
theorem wb_bit {n k : Nat} (hn : n < 2 ^ 64) (hk : k < 64) : ((lN n).toUInt64 >>> ((nI k).toInt64.toUInt64 &&& Int64.toUInt64 63)).toInt64 &&& 1 = lN (n / 2 ^ k % 2) := by
  rw [wb_shr hn hk, wb_a1 (Nat.lt_of_le_of_lt (Nat.div_le_self _ _) hn)]
theorem wb_xor {q k : Nat} (hk : k < 63) (h : 2 ^ k ≤ q) (h2 : q < 2 ^ (k + 1)) : lN q ^^^ lN (2 ^ k) = lN (q - 2 ^ k) := by
  obtain ⟨r, rfl⟩ : ∃ r, q = 2 ^ k + r := ⟨q - 2 ^ k, by omega⟩
  have hr : r < 2 ^ k := by rw [Nat.pow_succ] at h2; omega
  have hx : (2 ^ k + r) ^^^ 2 ^ k = r := by
    apply Nat.eq_of_testBit_eq
    intro i
    rw [Nat.testBit_xor, Nat.testBit_two_pow]
    rcases Nat.lt_trichotomy i k with h | h | h
    · rw [Nat.testBit_two_pow_add_gt h]
      simp [show ¬ k = i by omega]
    · subst h
      rw [Nat.testBit_two_pow_add_eq]
      simp
    · have a1 : 2 ^ (k + 1) ≤ 2 ^ i := Nat.pow_le_pow_right (by decide) h
      rw [Nat.testBit_lt_two_pow (show 2 ^ k + r < 2 ^ i by omega), Nat.testBit_lt_two_pow (show r < 2 ^ i by omega)]
      simp [show ¬ k = i by omega]
  have b1 := wb_lt2 (show k + 1 < 64 by omega)
  have b2 := wb_lt2 (show k < 64 by omega)
  apply wb_inj
  rw [Int64.toBitVec_xor, wb_tb, wb_tb, wb_tb]
  apply BitVec.eq_of_toNat_eq
  rw [BitVec.toNat_xor, BitVec.toNat_ofNat, BitVec.toNat_ofNat, BitVec.toNat_ofNat, Nat.mod_eq_of_lt (by omega : 2 ^ k + r < 2 ^ 64), Nat.mod_eq_of_lt b2, hx, Nat.add_sub_cancel_left, Nat.mod_eq_of_lt (by omega)]
/-! ===== lN: masks, 'or' of parts that don't overlap is a sum ===== -/
theorem u_tn {n : Nat} (h : n < 2 ^ 64) : (UInt64.ofNat n).toNat = n := Nat.mod_eq_of_lt h
theorem g_and {a b c : Nat} (ha : a < 2 ^ 64) (hb : b < 2 ^ 64) (hc : a &&& b = c) : lN a &&& lN b = lN c := by
  subst hc
  have h : UInt64.ofNat a &&& UInt64.ofNat b = UInt64.ofNat (a &&& b) := UInt64.toNat_inj.mp (by rw [UInt64.toNat_and, u_tn ha, u_tn hb, u_tn (Nat.and_lt_two_pow a hb)])
  have h2 := congrArg UInt64.toInt64 h
  exact h2
theorem g_and1 {a : Nat} (ha : a < 2 ^ 64) : lN a &&& 1 = lN (a % 2) := g_and (b := 1) ha (by decide) (Nat.and_two_pow_sub_one_eq_mod a 1)
theorem g_mask {a s p : Nat} (hp : 2 ^ s = p) (hs : s < 64) (ha : a < 2 ^ 64) : lN a &&& lN (p - 1) = lN (a % p) := by
  subst hp
  have := Nat.pow_lt_pow_right (show 1 < 2 by decide) hs
  exact g_and ha (by omega) (Nat.and_two_pow_sub_one_eq_mod a s)
theorem g_or {k p a b : Nat} (hp : 2 ^ k = p) (ha : a < p) (h : b * p + a < 2 ^ 64) : lN (b * p) ||| lN a = lN (b * p + a) := by
  subst hp
  have h1 : b * 2 ^ k ||| a = b * 2 ^ k + a := by rw [← Nat.shiftLeft_eq, Nat.shiftLeft_add_eq_or_of_lt ha]
  have h3 : UInt64.ofNat (b * 2 ^ k) ||| UInt64.ofNat a = UInt64.ofNat (b * 2 ^ k + a) := UInt64.toNat_inj.mp (by rw [UInt64.toNat_or, u_tn (by omega), u_tn (by omega), u_tn h, h1])
  have h2 := congrArg UInt64.toInt64 h3
  exact h2
theorem g_or' {k p a b : Nat} (hp : 2 ^ k = p) (ha : a < p) (h : a + b * p < 2 ^ 64) : lN a ||| lN (b * p) = lN (a + b * p) := by
  rw [Int64.or_comm, g_or hp ha (by omega), Nat.add_comm]
theorem g_ushr {a k p : Nat} {y : UInt64} (hy : y = UInt64.ofNat k) (hk : k < 64) (hp : 2 ^ k = p) (ha : a < 2 ^ 64) : ((lN a).toUInt64 >>> y).toInt64 = lN (a / p) := by
  subst hy hp
  have h : UInt64.ofNat a >>> UInt64.ofNat k = UInt64.ofNat (a / 2 ^ k) := UInt64.toNat_inj.mp (by rw [UInt64.toNat_shiftRight, u_tn ha, u_tn (by omega), u_tn (Nat.lt_of_le_of_lt (Nat.div_le_self _ _) ha), Nat.mod_eq_of_lt hk, Nat.shiftRight_eq_div_pow])
  have h2 := congrArg UInt64.toInt64 h
  exact h2
theorem g_shl {a k p : Nat} {y : Int64} (hy : y.toBitVec.smod 64 = BitVec.ofNat 64 k) (hk : k < 64) (hp : 2 ^ k = p) (ha : a < 2 ^ 64) : lN a <<< y = lN (a * p) := by
  subst hp
  apply Int64.toBitVec_inj.mp
  rw [Int64.toBitVec_shiftLeft, hy]
  apply BitVec.eq_of_toNat_eq
  have hb : (lN a).toBitVec.toNat = a := Nat.mod_eq_of_lt ha
  have hk' : (BitVec.ofNat 64 k).toNat = k := Nat.mod_eq_of_lt (by omega)
  have h : ((lN a).toBitVec <<< BitVec.ofNat 64 k).toNat = (a * 2 ^ k) % 2 ^ 64 := by simp only [BitVec.shiftLeft_eq', BitVec.toNat_shiftLeft, hb, hk', Nat.shiftLeft_eq]
  exact h
/-! ===== lN to 2^62 under >> and >>> ===== -/
theorem pf_lI {a : Nat} (h : a < 2 ^ 63) : (lN a).toInt = (a : Int) := lg_ofNat_toInt h
theorem pf_shr {a d : Nat} {D : Int64} (hD : (D.toBitVec.smod 64).toNat = d) (h : a < 2 ^ 62) : lN a >>> D = lN (a / 2 ^ d) := by
  have hd : a / 2 ^ d ≤ a := Nat.div_le_self _ _
  apply Int64.toInt_inj.mp
  have e : (lN a >>> D).toInt = (lN a).toInt >>> d := by
    rw [← hD]
    exact BitVec.toInt_sshiftRight ..
  rw [e, Int.shiftRight_eq_div_pow, pf_lI (by omega), pf_lI (by omega)]
  rfl
theorem pf_ushr {a d : Nat} {D : UInt64} (hD : D.toNat % 64 = d) (h : a < 2 ^ 62) : ((lN a).toUInt64 >>> D).toInt64 = lN (a / 2 ^ d) := by
  have hd : a / 2 ^ d ≤ a := Nat.div_le_self _ _
  have e : (lN a).toUInt64 >>> D = UInt64.ofNat (a / 2 ^ d) := UInt64.toNat_inj.mp (by
    rw [UInt64.toNat_shiftRight, hD, Nat.shiftRight_eq_div_pow, UInt64.toNat_ofNat']
    show (UInt64.ofNat a).toNat / 2 ^ d = _
    rw [UInt64.toNat_ofNat', Nat.mod_eq_of_lt (by omega), Nat.mod_eq_of_lt (by omega)])
  rw [e]
  rfl
theorem pf_andw (x : Int64) : ∃ m, m < 2 ^ 32 ∧ x &&& 4294967295 = lN m := ⟨x.toBitVec.toNat % 2 ^ 32, Nat.mod_lt _ (by decide), Int64.toBitVec_inj.mp (BitVec.eq_of_toNat_eq (by
  show (x.toBitVec &&& 4294967295#64).toNat = (BitVec.ofNat 64 (x.toBitVec.toNat % 2 ^ 32)).toNat
  rw [BitVec.toNat_and, show (4294967295#64).toNat = 2 ^ 32 - 1 from by decide, Nat.and_two_pow_sub_one_eq_mod, BitVec.toNat_ofNat]
  omega))⟩
/-! ===== Int64 as an unsigned number: uN x ===== -/
def uN (x : Int64) : Nat := x.toUInt64.toNat
theorem uN_lt (x : Int64) : uN x < 18446744073709551616 := x.toUInt64.toNat_lt
theorem uN_inj {x y : Int64} (h : uN x = uN y) : x = y := congrArg UInt64.toInt64 (UInt64.toNat_inj.mp h)
theorem uN_add (x y : Int64) : uN (x + y) = (uN x + uN y) % 18446744073709551616 := by
  show (x.toUInt64 + y.toUInt64).toNat = _
  exact UInt64.toNat_add _ _
theorem uN_mul (x y : Int64) : uN (x * y) = (uN x * uN y) % 18446744073709551616 := by
  show (x.toUInt64 * y.toUInt64).toNat = _
  exact UInt64.toNat_mul _ _
theorem uN_shl (x : Int64) : uN (x <<< ((1 : Int32).toInt64 &&& 63)) = (2 * uN x) % 18446744073709551616 := by
  have h : (((1 : Int32).toInt64 &&& 63).toBitVec.smod 64).toNat = 1 := by decide
  show (x.toBitVec <<< (((1 : Int32).toInt64 &&& 63).toBitVec.smod 64).toNat).toNat = _
  rw [h, BitVec.toNat_shiftLeft, Nat.shiftLeft_eq, Nat.mul_comm]
  rfl
theorem uN_shr (x : Int64) (s : UInt64) : uN (x.toUInt64 >>> s).toInt64 = uN x / 2 ^ (s.toNat % 64) := by
  show (x.toUInt64 >>> s).toNat = _
  rw [UInt64.toNat_shiftRight, Nat.shiftRight_eq_div_pow]
  rfl
theorem uN_s32 (x : Int64) : uN (x.toUInt64 >>> ((32 : Int32).toInt64.toUInt64 &&& Int64.toUInt64 63)).toInt64 = uN x / 4294967296 := by
  have h : ((32 : Int32).toInt64.toUInt64 &&& Int64.toUInt64 63).toNat % 64 = 32 := by decide
  rw [uN_shr, h]
theorem uN_s63 (x : Int64) : uN (x.toUInt64 >>> ((63 : Int32).toInt64.toUInt64 &&& Int64.toUInt64 63)).toInt64 = uN x / 9223372036854775808 := by
  have h : ((63 : Int32).toInt64.toUInt64 &&& Int64.toUInt64 63).toNat % 64 = 63 := by decide
  rw [uN_shr, h]
theorem uN_lo (x : Int64) : uN (x &&& 4294967295) = uN x % 4294967296 := by
  show (x.toUInt64 &&& Int64.toUInt64 4294967295).toNat = _
  rw [UInt64.toNat_and]
  exact Nat.and_two_pow_sub_one_eq_mod _ 32
theorem uN_bit (x : Int64) : (x &&& 1) = 0 ↔ uN x % 2 = 0 := by
  have h : uN (x &&& 1) = uN x % 2 := by
    show (x.toUInt64 &&& Int64.toUInt64 1).toNat = _
    rw [UInt64.toNat_and]
    exact Nat.and_two_pow_sub_one_eq_mod _ 1
  rw [← h]
  exact ⟨fun z => by rw [z]; rfl, fun z => uN_inj (z.trans rfl)⟩
theorem uN_or {x y : Int64} (hy : uN y < 2) : uN ((x <<< ((1 : Int32).toInt64 &&& 63)) ||| y) = (2 * uN x) % 18446744073709551616 + uN y := by
  have h1 : uN ((x <<< ((1 : Int32).toInt64 &&& 63)) ||| y) = uN (x <<< ((1 : Int32).toInt64 &&& 63)) ||| uN y := UInt64.toNat_or _ _
  have h2 : (2 * uN x) % 18446744073709551616 = 2 ^ 1 * (uN x % 9223372036854775808) := by omega
  rw [h1, uN_shl, h2]
  exact (Nat.two_pow_add_eq_or_of_lt (i := 1) hy _).symm
theorem nat_xor {a : Nat} (h : a < 18446744073709551616) : a ^^^ 2 ^ 63 = (a + 9223372036854775808) % 18446744073709551616 := by
  have h1 : (a ^^^ 2 ^ 63) % 2 ^ 63 = a % 2 ^ 63 := by rw [Nat.xor_mod_two_pow, Nat.mod_self, Nat.xor_zero]
  have h2 : (a ^^^ 2 ^ 63) / 2 ^ 63 = (a / 2 ^ 63) ^^^ 1 := by rw [Nat.xor_div_two_pow, Nat.div_self (Nat.two_pow_pos 63)]
  have h3 : a / 2 ^ 63 = 0 ∨ a / 2 ^ 63 = 1 := by omega
  generalize a ^^^ 2 ^ 63 = t at h1 h2
  rcases h3 with h3 | h3
  · rw [h3] at h2
    have h2 : t / 2 ^ 63 = 1 := h2
    omega
  · rw [h3] at h2
    have h2 : t / 2 ^ 63 = 0 := h2
    omega
theorem uN_xor (x : Int64) : uN (x ^^^ (-9223372036854775808)) = (uN x + 9223372036854775808) % 18446744073709551616 := by
  rw [← nat_xor (uN_lt x)]
  exact UInt64.toNat_xor _ _
theorem uN_int (x : Int64) : x.toInt = if 2 * uN x < 18446744073709551616 then (uN x : Int) else (uN x : Int) - 18446744073709551616 := BitVec.toInt_eq_toNat_cond _
theorem uN_le (x y : Int64) : (x ^^^ (-9223372036854775808)) ≤ (y ^^^ (-9223372036854775808)) ↔ uN x ≤ uN y := by
  have hx := uN_lt x
  have hy := uN_lt y
  rw [Int64.le_iff_toInt_le, uN_int, uN_int, uN_xor, uN_xor]
  omega
theorem uN_sk (x : Int64) {k : Nat} (hk : k < 64) : uN (x.toUInt64 >>> ((nI k).toInt64.toUInt64 &&& Int64.toUInt64 63)).toInt64 = uN x / 2 ^ k := by
  have h : ((nI k).toInt64.toUInt64 &&& Int64.toUInt64 63).toNat % 64 = k := by
    rw [nI_l (by omega), UInt64.toNat_and]
    have e : (lN k).toUInt64.toNat = k % 2 ^ 64 := rfl
    have e2 : (Int64.toUInt64 63).toNat = 2 ^ 6 - 1 := by decide
    rw [e, e2, Nat.and_two_pow_sub_one_eq_mod]
    omega
  rw [uN_shr, h]
/-! ===== unsigned comparison by xor with the least ===== -/
theorem lN_bv (n : Nat) : (lN n).toBitVec = BitVec.ofNat 64 n := rfl
theorem lN_nat {n : Nat} (h : n < 2 ^ 64) : (lN n).toBitVec.toNat = n := by rw [lN_bv, BitVec.toNat_ofNat]; exact Nat.mod_eq_of_lt h
theorem lN_xor (a b : Nat) : lN a ^^^ lN b = lN (a ^^^ b) := by
  apply Int64.toBitVec_inj.mp; rw [Int64.toBitVec_xor, lN_bv, lN_bv, lN_bv]; apply BitVec.eq_of_getLsbD_eq; intro i hi; simp [BitVec.getLsbD_ofNat, Nat.testBit_xor, hi]
theorem lN_ti {m : Nat} (h : m < 2 ^ 64) : (lN m).toInt = if m < 2 ^ 63 then (m : Int) else (m : Int) - 2 ^ 64 := by
  have c := BitVec.toInt_eq_toNat_cond (lN m).toBitVec
  rw [lN_nat h] at c
  show (lN m).toBitVec.toInt = _
  rw [c]
  split <;> split <;> omega
theorem xor63 {x : Nat} (h : x < 2 ^ 63) : x ^^^ 2 ^ 63 = 2 ^ 63 + x := by
  apply Nat.eq_of_testBit_eq
  intro i
  rw [Nat.testBit_xor, Nat.testBit_two_pow]
  rcases Nat.lt_trichotomy i 63 with z | z | z
  · rw [Nat.testBit_two_pow_add_gt z, decide_eq_false (by omega)]; simp
  · subst z; rw [Nat.testBit_two_pow_add_eq]; simp
  · have hp : 2 ^ 64 ≤ 2 ^ i := Nat.pow_le_pow_right (by decide) z
    rw [Nat.testBit_lt_two_pow (show x < 2 ^ i by omega), Nat.testBit_lt_two_pow (show 2 ^ 63 + x < 2 ^ i by omega), decide_eq_false (by omega)]; rfl
theorem xorS {a : Nat} (h : a < 2 ^ 64) : (lN a ^^^ (-9223372036854775808)).toInt = (a : Int) - 2 ^ 63 := by
  rw [show (-9223372036854775808 : Int64) = lN (2 ^ 63) from by decide +kernel, lN_xor]
  rcases Nat.lt_or_ge a (2 ^ 63) with z | z
  · rw [xor63 z, lN_ti (by omega), if_neg (by omega)]; omega
  · obtain ⟨x, rfl⟩ : ∃ x, a = 2 ^ 63 + x := ⟨a - 2 ^ 63, by omega⟩
    rw [← xor63 (by omega), Nat.xor_assoc, Nat.xor_self, Nat.xor_zero, lN_ti (by omega), if_pos (by omega), xor63 (by omega)]; omega
theorem ultL {a b : Nat} (ha : a < 2 ^ 64) (hb : b < 2 ^ 64) : ((lN b ^^^ (-9223372036854775808)) ≤ (lN a ^^^ (-9223372036854775808))) ↔ b ≤ a := by
  rw [Int64.le_iff_toInt_le, xorS ha, xorS hb]; omega
/-! ===== Int64 masks of n low bits ===== -/
theorem cr_bits (W U M : BitVec 64) : ((W &&& U) &&& (U &&& (M ^^^ BitVec.allOnes 64))) = 0#64 ↔ (W &&& U) &&& M = W &&& U := by
  constructor
  · intro h
    apply BitVec.eq_of_getLsbD_eq
    intro i hi
    have e := congrArg (fun x => BitVec.getLsbD x i) h
    simp only [BitVec.getLsbD_and, BitVec.getLsbD_xor, BitVec.getLsbD_allOnes, BitVec.getLsbD_zero, hi, decide_true] at e ⊢
    revert e
    cases W.getLsbD i <;> cases U.getLsbD i <;> cases M.getLsbD i <;> decide
  · intro h
    apply BitVec.eq_of_getLsbD_eq
    intro i hi
    have e := congrArg (fun x => BitVec.getLsbD x i) h
    simp only [BitVec.getLsbD_and, BitVec.getLsbD_xor, BitVec.getLsbD_allOnes, BitVec.getLsbD_zero, hi, decide_true] at e ⊢
    revert e
    cases W.getLsbD i <;> cases U.getLsbD i <;> cases M.getLsbD i <;> decide
theorem cr_mask (w U m : Int64) (n : Nat) (hm : m.toBitVec.toNat = 2 ^ n - 1) : ((w &&& U) &&& (U &&& (m ^^^ (-1)))) = 0 ↔ (w &&& U).toBitVec.toNat < 2 ^ n := by
  have e0 : (-1 : Int64).toBitVec = BitVec.allOnes 64 := by decide
  have z0 : (0 : Int64).toBitVec = 0#64 := by decide
  rw [← Int64.toBitVec_inj, z0, Int64.toBitVec_and, Int64.toBitVec_and, Int64.toBitVec_and, Int64.toBitVec_xor, e0, cr_bits]
  generalize w.toBitVec &&& U.toBitVec = T
  rw [← BitVec.toNat_inj, BitVec.toNat_and, hm, Nat.and_two_pow_sub_one_eq_mod]
  constructor
  · intro h
    have t := Nat.mod_lt T.toNat (Nat.two_pow_pos n)
    rw [h] at t
    exact t
  · exact Nat.mod_eq_of_lt
theorem cr_shr (t : Int64) (x : UInt64) (n : Nat) (hx : x.toNat % 64 = n) : (t.toUInt64 >>> x).toInt64 = 0 ↔ t.toBitVec.toNat < 2 ^ n := by
  rw [← Int64.toBitVec_inj, ← BitVec.toNat_inj]
  show (t.toUInt64 >>> x).toNat = 0 ↔ t.toUInt64.toNat < 2 ^ n
  rw [UInt64.toNat_shiftRight, hx, Nat.shiftRight_eq_div_pow]
  constructor
  · intro h
    have d : t.toUInt64.toNat / 2 ^ n < 1 := by
      rw [h]
      decide
    have e := (Nat.div_lt_iff_lt_mul (Nat.two_pow_pos n)).mp d
    rw [Nat.one_mul] at e
    exact e
  · exact Nat.div_eq_of_lt
theorem cr_amt (s : Int64) : ∃ n, n < 64 ∧ s &&& 63 = lN n ∧ (s.toUInt64 &&& Int64.toUInt64 63).toNat % 64 = n := by
  have e : (s.toUInt64 &&& Int64.toUInt64 63).toNat = s.toUInt64.toNat % 2 ^ 6 := by
    rw [UInt64.toNat_and, show (Int64.toUInt64 63).toNat = 2 ^ 6 - 1 from by decide, Nat.and_two_pow_sub_one_eq_mod]
  refine ⟨s.toUInt64.toNat % 2 ^ 6, by omega, ?_, by omega⟩
  rw [← Int64.toBitVec_inj, ← BitVec.toNat_inj]
  show (s.toUInt64 &&& Int64.toUInt64 63).toNat = (BitVec.ofNat 64 (s.toUInt64.toNat % 2 ^ 6)).toNat
  rw [e, BitVec.toNat_ofNat]
  omega
end
section
/-! numbers: limbs and bits of an integer (floor division) -/
def zlm (T : Int) (k : Nat) : Nat := (T / 2 ^ (16 * k) % 65536).toNat
def zbb (T : Int) (k : Nat) : Nat := (T / 2 ^ k % 2).toNat
def zLB (n : Nat) (T : Int) (a : Nat → Int32) : Prop := ∀ k, k < n → a k = nI (zlm T k)
def zBB (o n : Nat) (T : Int) (a : Nat → Int32) : Prop := ∀ k, k < n → a (o + k) = nI (zbb T k)
def zb1 (b : Bool) : Int32 := if b then 1 else 0
theorem zlm_lt (T : Int) (k : Nat) : zlm T k < 65536 := by unfold zlm; omega
theorem zbb_lt (T : Int) (k : Nat) : zbb T k < 2 := by unfold zbb; omega
theorem zlm_i (T : Int) (k : Nat) : (zlm T k : Int) = T / 2 ^ (16 * k) % 65536 := by
  unfold zlm
  generalize T / 2 ^ (16 * k) = x
  omega
theorem zbb_i (T : Int) (k : Nat) : (zbb T k : Int) = T / 2 ^ k % 2 := by
  unfold zbb
  generalize T / 2 ^ k = x
  omega
theorem zp_pos (k : Nat) : (0 : Int) < 2 ^ k := Int.pow_pos (by decide)
theorem zp_ne (k : Nat) : (2 : Int) ^ k ≠ 0 := Int.ne_of_gt (zp_pos k)
theorem zp_cast (k : Nat) : ((2 ^ k : Nat) : Int) = (2 : Int) ^ k := by rw [Int.natCast_pow]; rfl
theorem zdd (T : Int) (a b : Nat) : T / 2 ^ (a + b) = T / 2 ^ a / 2 ^ b := by
  rw [Int.ediv_ediv_of_nonneg (Int.le_of_lt (zp_pos a)), Int.pow_add]
theorem zdv (T : Int) (k : Nat) : T / 2 ^ (16 * (k + 1)) = T / 2 ^ (16 * k) / 65536 := by
  rw [show 16 * (k + 1) = 16 * k + 16 from by omega, zdd, show (2 : Int) ^ 16 = 65536 from rfl]
theorem zdb (T : Int) (k : Nat) : T / 2 ^ (k + 1) = T / 2 ^ k / 2 := by
  rw [zdd, show (2 : Int) ^ 1 = 2 from rfl]
/-- one limb of a sum -/
theorem zc16 {A T c : Int} {k : Nat} (h : T / 2 ^ (16 * k) = A / 2 ^ (16 * k) + c) : (zlm T k : Int) = ((zlm A k : Int) + c) % 65536 ∧ T / 2 ^ (16 * (k + 1)) = A / 2 ^ (16 * (k + 1)) + ((zlm A k : Int) + c) / 65536 := by
  rw [zlm_i, zlm_i, zdv, zdv, h]
  generalize A / 2 ^ (16 * k) = x
  omega
theorem zc2 {A B T c : Int} {k : Nat} (h : T / 2 ^ k = A / 2 ^ k + B / 2 ^ k + c) : (zbb T k : Int) = ((zbb A k : Int) + zbb B k + c) % 2 ∧ T / 2 ^ (k + 1) = A / 2 ^ (k + 1) + B / 2 ^ (k + 1) + ((zbb A k : Int) + zbb B k + c) / 2 := by
  rw [zbb_i, zbb_i, zbb_i, zdb, zdb, zdb, h]
  generalize A / 2 ^ k = x
  generalize B / 2 ^ k = y
  omega
theorem zs2 {A B T c : Int} {k : Nat} (h : T / 2 ^ k = A / 2 ^ k - B / 2 ^ k - c) : (zbb T k : Int) = ((zbb A k : Int) - zbb B k - c) % 2 ∧ T / 2 ^ (k + 1) = A / 2 ^ (k + 1) - B / 2 ^ (k + 1) + ((zbb A k : Int) - zbb B k - c) / 2 := by
  rw [zbb_i, zbb_i, zbb_i, zdb, zdb, zdb, h]
  generalize A / 2 ^ k = x
  generalize B / 2 ^ k = y
  omega
theorem zad (T x : Int) (a : Nat) : (T + x * 2 ^ a) / 2 ^ a = T / 2 ^ a + x := Int.add_mul_ediv_right T x (zp_ne a)
theorem zad_lo (T x : Int) {a b : Nat} (h : b ≤ a) : (T + x * 2 ^ a) / 2 ^ b = T / 2 ^ b + x * 2 ^ (a - b) := by
  have e : x * 2 ^ a = x * 2 ^ (a - b) * 2 ^ b := by rw [Int.mul_assoc, ← Int.pow_add, Nat.sub_add_cancel h]
  rw [e, zad]
theorem zlm_low (T x : Int) {k a : Nat} (h : 16 * (k + 1) ≤ a) : zlm (T + x * 2 ^ a) k = zlm T k := by
  have e : x * 2 ^ (a - 16 * k) = x * 2 ^ (a - 16 * (k + 1)) * 65536 := by
    rw [show a - 16 * k = a - 16 * (k + 1) + 16 from by omega, Int.pow_add, Int.mul_assoc]
    rfl
  unfold zlm
  rw [zad_lo T x (by omega), e]
  generalize x * 2 ^ (a - 16 * (k + 1)) = y
  generalize T / 2 ^ (16 * k) = z
  omega
theorem zlm_same {A T : Int} {k j : Nat} (h : T / 2 ^ (16 * k) = A / 2 ^ (16 * k)) (hj : k ≤ j) : zlm T j = zlm A j := by
  unfold zlm
  rw [show 16 * j = 16 * k + (16 * j - 16 * k) from by omega, zdd, zdd A, h]
theorem zbb_low (T x : Int) {k a : Nat} (h : k + 1 ≤ a) : zbb (T + x * 2 ^ a) k = zbb T k := by
  have e : x * 2 ^ (a - k) = x * 2 ^ (a - (k + 1)) * 2 := by
    rw [show a - k = a - (k + 1) + 1 from by omega, Int.pow_add, Int.mul_assoc]
    rfl
  unfold zbb
  rw [zad_lo T x (by omega), e]
  generalize x * 2 ^ (a - (k + 1)) = y
  generalize T / 2 ^ k = z
  omega
theorem zbb_same {A T : Int} {k j : Nat} (h : T / 2 ^ k = A / 2 ^ k) (hj : k ≤ j) : zbb T j = zbb A j := by
  unfold zbb
  rw [show j = k + (j - k) from by omega, zdd, zdd A, h]
theorem zlm_0 (k : Nat) : zlm 0 k = 0 := by unfold zlm; rw [Int.zero_ediv]; rfl
theorem zbb_0 (k : Nat) : zbb 0 k = 0 := by unfold zbb; rw [Int.zero_ediv]; rfl
/-- limbs and bits of naturals -/
theorem zlm_n (N k : Nat) : zlm (N : Int) k = N / 2 ^ (16 * k) % 65536 := by
  unfold zlm
  rw [← zp_cast, ← Int.natCast_ediv, show ((65536 : Int)) = ((65536 : Nat) : Int) from rfl, ← Int.natCast_emod, Int.toNat_natCast]
theorem zbb_n (N k : Nat) : zbb (N : Int) k = N / 2 ^ k % 2 := by
  unfold zbb
  rw [← zp_cast, ← Int.natCast_ediv, show ((2 : Int)) = ((2 : Nat) : Int) from rfl, ← Int.natCast_emod, Int.toNat_natCast]
/-- the bit of a limb -/
theorem zlm_bit (T : Int) (k b : Nat) (hb : b < 16) : zlm T k / 2 ^ b % 2 = zbb T (16 * k + b) := by
  have e : ((zlm T k / 2 ^ b % 2 : Nat) : Int) = ((zbb T (16 * k + b) : Nat) : Int) := by
    rw [zbb_i, zdd, Int.natCast_emod, Int.natCast_ediv, zlm_i, zp_cast]
    generalize T / 2 ^ (16 * k) = x
    have h : (65536 : Int) = 2 ^ b * 2 ^ (16 - b) := by rw [← Int.pow_add, Nat.add_sub_cancel' (by omega)]; rfl
    have h2 : (2 : Int) ^ (16 - b) = 2 ^ (15 - b) * 2 := by rw [show 16 - b = 15 - b + 1 from by omega, Int.pow_add]; rfl
    have hm := Int.mul_ediv_add_emod x 65536
    have hx : x / 2 ^ b = x % 65536 / 2 ^ b + (x / 65536) * 2 ^ (15 - b) * 2 := by
      have e2 : x = x % 65536 + (x / 65536) * 2 ^ (16 - b) * 2 ^ b := by
        rw [Int.mul_assoc, Int.mul_comm (2 ^ (16 - b)), ← h]; omega
      rw [Int.mul_assoc, ← h2, ← Int.add_mul_ediv_right _ _ (zp_ne b), ← e2]
    rw [hx]
    generalize (x / 65536) * 2 ^ (15 - b) = y
    generalize x % 65536 / 2 ^ b = z
    show z % 2 = (z + y * 2) % 2
    omega
  exact Int.ofNat.inj e
theorem zpl_lt {a b : Nat} (h : a < b) : (2 : Nat) ^ a < 2 ^ b := Nat.pow_lt_pow_right (by decide) h
theorem zpl_le {a b : Nat} (h : a ≤ b) : (2 : Nat) ^ a ≤ 2 ^ b := Nat.pow_le_pow_right (by decide) h
theorem zNp (a b : Nat) : (2 : Nat) ^ (a + b) = 2 ^ a * 2 ^ b := Nat.pow_add 2 a b
/-- a natural below 2^(16 n) is given by its limbs -/
theorem zlm_ext {A B : Int} : ∀ n : Nat, (∀ k, k < n → zlm A k = zlm B k) → A % 2 ^ (16 * n) = B % 2 ^ (16 * n) := by
  intro n
  induction n with
  | zero => intro _; rw [Nat.mul_zero, Int.pow_zero, Int.emod_one, Int.emod_one]
  | succ n ih =>
    intro h
    have h1 := ih (fun k hk => h k (by omega))
    have h2 : A / 2 ^ (16 * n) % 65536 = B / 2 ^ (16 * n) % 65536 := by rw [← zlm_i, ← zlm_i, h n (by omega)]
    have e : ∀ C : Int, C % 2 ^ (16 * (n + 1)) = 2 ^ (16 * n) * (C / 2 ^ (16 * n) % 65536) + C % 2 ^ (16 * n) := by
      intro C
      have a1 := Int.mul_ediv_add_emod C (2 ^ (16 * (n + 1)))
      have a2 := Int.mul_ediv_add_emod C (2 ^ (16 * n))
      have a3 := Int.mul_ediv_add_emod (C / 2 ^ (16 * n)) 65536
      rw [zdv] at a1
      have a4 : (2 : Int) ^ (16 * (n + 1)) = 2 ^ (16 * n) * 65536 := by rw [show 16 * (n + 1) = 16 * n + 16 from by omega, Int.pow_add]; rfl
      generalize C / 2 ^ (16 * n) = q at *
      rw [a4] at a1 ⊢
      generalize (2 : Int) ^ (16 * n) = P at *
      have a5 : P * q = P * (65536 * (q / 65536) + q % 65536) := by rw [a3]
      rw [Int.mul_add, ← Int.mul_assoc] at a5
      omega
    rw [e A, e B, h1, h2]
theorem zLB_eq {A B : Int} {n : Nat} {a : Nat → Int32} (hA : zLB n A a) (h : A % 2 ^ (16 * n) = B % 2 ^ (16 * n)) : zLB n B a := by
  intro k hk
  rw [hA k hk]
  have e : ∀ C : Int, zlm C k = zlm (C % 2 ^ (16 * n)) k := by
    intro C
    have h1 : C = C % 2 ^ (16 * n) + (C / 2 ^ (16 * n)) * 2 ^ (16 * n) := by
      have := Int.mul_ediv_add_emod C (2 ^ (16 * n))
      rw [Int.mul_comm] at this
      omega
    rw [h1, zlm_low _ _ (by omega), ← h1]
  rw [e A, e B, h]
/-- stores -/
theorem zLB_up {T : Int} {a : Nat → Int32} {k : Nat} {v : Int32} (h : ∀ j, j < k → a j = nI (zlm T j)) (hv : v = nI (zlm T k)) : ∀ j, j < k + 1 → upd a k v j = nI (zlm T j) := by
  intro j hj
  by_cases e : j = k
  · subst e; rw [pk_us, hv]
  · rw [pk_un e]; exact h j (by omega)
end
section
/-! words: what the operations of ints and longs do to naturals and integers -/
theorem zw_shr {x b : Nat} (hx : x < 2 ^ 31) (hb : b < 32) : nI x >>> (nI b &&& 31) = nI (x / 2 ^ b) := pk_shrN hx _ b (s_l b hb)
theorem zw_shl {x b : Nat} (hb : b < 32) (h : x * 2 ^ b < 2 ^ 32) : nI x <<< (nI b &&& 31) = nI (x * 2 ^ b) := pk_shlN _ b (s_l b hb) h
theorem zw_m15 {x : Nat} (hx : x < 2 ^ 32) : nI x &&& 15 = nI (x % 16) := pk_andN hx 4 (by decide)
theorem zw_m1 {x : Nat} (hx : x < 2 ^ 32) : nI x &&& 1 = nI (x % 2) := pk_andN hx 1 (by decide)
theorem zw_m16 {x : Nat} (hx : x < 2 ^ 32) : nI x &&& 65535 = nI (x % 65536) := pk_andN hx 16 (by decide)
theorem zw_m8 {x : Nat} (hx : x < 2 ^ 32) : nI x &&& 255 = nI (x % 256) := pk_andN hx 8 (by decide)
theorem zw_s4 {x : Nat} (hx : x < 2 ^ 31) : nI x >>> ((4 : Int32) &&& 31) = nI (x / 16) := pk_shrN hx _ 4 (by decide)
theorem zw_s1 {x : Nat} (hx : x < 2 ^ 31) : nI x >>> ((1 : Int32) &&& 31) = nI (x / 2) := pk_shrN hx _ 1 (by decide)
theorem zw_s16 {x : Nat} (hx : x < 2 ^ 31) : nI x >>> ((16 : Int32) &&& 31) = nI (x / 65536) := pk_shrN hx _ 16 (by decide)
theorem zw_u16 {x : Nat} (hx : x < 2 ^ 32) : ((nI x).toUInt32 >>> ((16 : Int32).toUInt32 &&& Int32.toUInt32 31)).toInt32 = nI (x / 65536) := pk_ushrN hx _ 16 (by decide)
theorem zw_cut {x : Nat} {m : Int32} (hx : x < 2 ^ 32) {k : Nat} (hk : k ≤ 31) (hm : m = nI (2 ^ k - 1)) : nI x &&& m = nI (x % 2 ^ k) := by
  refine pk_andN hx k ?_
  rw [hm]
  exact pk_tn (by have := zpl_le hk; omega)
theorem zw_bit {x pl : Nat} (hx : x < 65536) (hp : pl < 2 ^ 31) : (nI x >>> ((nI pl &&& 15) &&& 31)) &&& 1 = nI (x / 2 ^ (pl % 16) % 2) := by
  rw [zw_m15 (by omega), zw_shr (by omega) (by omega), zw_m1]
  have := Nat.div_le_self x (2 ^ (pl % 16))
  omega
theorem zw_p {b : Nat} (hb : b < 31) : (1 : Int32) <<< (nI b &&& 31) = nI (2 ^ b) := by
  have h : 2 ^ b < 2 ^ 31 := zpl_lt hb
  have := zw_shl (x := 1) (b := b) (by omega) (by omega)
  rw [Nat.one_mul] at this
  exact this
theorem zw_msk {pl : Nat} (hp : pl < 2 ^ 31) : ((1 : Int32) <<< ((nI pl &&& 15) &&& 31)) - 1 = nI (2 ^ (pl % 16) - 1) := by
  rw [zw_m15 (by omega), zw_p (by omega)]
  exact pk_sub (b := 1) (Nat.two_pow_pos _)
theorem zw_hi {m : Nat} (hm : m < 65536) : nI m &&& 32768 = 0 ↔ m < 32768 := by
  have e : nI m &&& 32768 = nI (m &&& 32768) := nx_and m 32768
  have h2 : m &&& 32768 ≤ 32768 := Nat.and_le_right
  have h3 : m &&& 32768 = 0 ↔ m.testBit 15 = false := by
    constructor
    · intro h
      have := congrArg (fun z => Nat.testBit z 15) h
      simp only [Nat.testBit_and, Nat.zero_testBit, show Nat.testBit 32768 15 = true from rfl, Bool.and_true] at this
      exact this
    · intro h
      apply Nat.eq_of_testBit_eq
      intro i
      rw [Nat.testBit_and, show (32768 : Nat) = 2 ^ 15 from rfl, Nat.testBit_two_pow, Nat.zero_testBit]
      by_cases hi : 15 = i
      · subst hi; rw [h]; rfl
      · simp [hi]
  rw [e, show (0 : Int32) = nI 0 from rfl, nI_eq (by omega) (by omega), h3, Nat.testBit_eq_decide_div_mod_eq]
  rw [decide_eq_false_iff_not]
  omega
theorem zw_xor {a : Nat} (ha : a < 65536) : nI a ^^^ 65535 = nI (65535 - a) := by
  have e : nI a ^^^ 65535 = nI (a ^^^ 65535) := nx_xor a 65535
  rw [e]
  have h := BitVec.toNat_xor (BitVec.ofNat 16 a) (BitVec.allOnes 16)
  rw [BitVec.xor_allOnes, BitVec.toNat_not, BitVec.toNat_ofNat, BitVec.toNat_allOnes, Nat.mod_eq_of_lt ha] at h
  have h2 : a ^^^ 65535 = 65535 - a := h.symm
  rw [h2]
theorem zw_or {k a b : Nat} (ha : a < 2 ^ k) : nI (b * 2 ^ k) ||| nI a = nI (b * 2 ^ k + a) := by
  have e : nI (b * 2 ^ k) ||| nI a = nI (b * 2 ^ k ||| a) := by
    apply Int32.toBitVec_inj.mp
    show BitVec.ofNat 32 _ ||| BitVec.ofNat 32 _ = BitVec.ofNat 32 _
    apply BitVec.eq_of_toNat_eq
    rw [BitVec.toNat_or, BitVec.toNat_ofNat, BitVec.toNat_ofNat, BitVec.toNat_ofNat, Nat.or_mod_two_pow]
  rw [e, Nat.mul_comm, ← Nat.two_pow_add_eq_or_of_lt ha]
theorem zw_or' {k a b : Nat} (ha : a < 2 ^ k) : nI a ||| nI (b * 2 ^ k) = nI (b * 2 ^ k + a) := by
  rw [Int32.or_comm, zw_or ha]
theorem zw_or0 (x : Int32) : x ||| 0 = x := Int32.or_zero
theorem zw_0or (x : Int32) : 0 ||| x = x := Int32.zero_or
theorem zw_lo64 (x : Int64) : (x &&& 65535).toInt32 = nI (x.toInt % 65536).toNat := by
  have h := Jvm.Kit.i64_mask x 65535 (k := 16) (by decide) (by decide)
  have e : x &&& 65535 = lN (x.toInt % 65536).toNat := by
    apply Int64.toInt_inj.mp
    rw [h, pk_lT (by omega)]
    show x.toInt % 65536 = _
    omega
  rw [e, lN_i]
theorem zw_sr64 (x : Int64) : (x >>> ((16 : Int32).toInt64 &&& 63)).toInt = x.toInt / 65536 := Jvm.Kit.i64_shr x _ (k := 16) (by decide)
/-- signed constants -/
def zI (z : Int) : Int32 := Int32.ofInt z
theorem zI_t {z : Int} (h1 : -2147483648 ≤ z) (h2 : z < 2147483648) : (zI z).toInt = z := Int32.toInt_ofInt_of_le h1 h2
theorem zI_add (a b : Int) : zI a + zI b = zI (a + b) := (Int32.ofInt_add a b).symm
theorem zI_sub (a b : Int) : zI a - zI b = zI (a - b) := (Int32.ofInt_sub a b).symm
theorem zI_mul (a b : Int) : zI a * zI b = zI (a * b) := (Int32.ofInt_mul a b).symm
theorem zI_neg (a : Int) : -zI a = zI (-a) := (Int32.ofInt_neg a).symm
theorem zI_n (n : Nat) : zI (n : Int) = nI n := Int32.ofInt_eq_ofNat
theorem zI_N {z : Int} (h : 0 ≤ z) : zI z = nI z.toNat := by rw [← zI_n, Int.toNat_of_nonneg h]
theorem zI_of (x : Int32) : x = zI x.toInt := (Int32.ofInt_toInt x).symm
theorem zI_le {a b : Int} (ha : -2147483648 ≤ a ∧ a < 2147483648) (hb : -2147483648 ≤ b ∧ b < 2147483648) : zI a ≤ zI b ↔ a ≤ b := by
  rw [Int32.le_iff_toInt_le, zI_t ha.1 ha.2, zI_t hb.1 hb.2]
theorem zI_lt {a b : Int} (ha : -2147483648 ≤ a ∧ a < 2147483648) (hb : -2147483648 ≤ b ∧ b < 2147483648) : zI a < zI b ↔ a < b := by
  rw [Int32.lt_iff_toInt_lt, zI_t ha.1 ha.2, zI_t hb.1 hb.2]
theorem zI_eq {a b : Int} (ha : -2147483648 ≤ a ∧ a < 2147483648) (hb : -2147483648 ≤ b ∧ b < 2147483648) : zI a = zI b ↔ a = b := by
  rw [← Int32.toInt_inj, zI_t ha.1 ha.2, zI_t hb.1 hb.2]
/-- branches by integers -/
theorem zk_le {x y : Int32} {A B : Prop} (a b : Int) (f : a ≤ b → A) (g : b < a → B) (hx : x = zI a := by rfl) (hy : y = zI b := by rfl) (ha : -2147483648 ≤ a ∧ a < 2147483648 := by omega) (hb : -2147483648 ≤ b ∧ b < 2147483648 := by omega) : (x ≤ y → A) ∧ (¬ x ≤ y → B) := by
  subst hx hy
  rw [zI_le ha hb]
  exact ⟨f, fun z => g (by omega)⟩
theorem zk_lt {x y : Int32} {A B : Prop} (a b : Int) (f : a < b → A) (g : b ≤ a → B) (hx : x = zI a := by rfl) (hy : y = zI b := by rfl) (ha : -2147483648 ≤ a ∧ a < 2147483648 := by omega) (hb : -2147483648 ≤ b ∧ b < 2147483648 := by omega) : (x < y → A) ∧ (¬ x < y → B) := by
  subst hx hy
  rw [zI_lt ha hb]
  exact ⟨f, fun z => g (by omega)⟩
theorem zk_eq {x y : Int32} {A B : Prop} (a b : Int) (f : a = b → A) (g : a ≠ b → B) (hx : x = zI a := by rfl) (hy : y = zI b := by rfl) (ha : -2147483648 ≤ a ∧ a < 2147483648 := by omega) (hb : -2147483648 ≤ b ∧ b < 2147483648 := by omega) : (x = y → A) ∧ (¬ x = y → B) := by
  subst hx hy
  rw [zI_eq ha hb]
  exact ⟨f, g⟩
/-- small types -/
theorem zn_s {e : Int} (h : -32768 ≤ e ∧ e < 32768) : vp_nar .short (zI e) = zI e := by
  rw [vp_nar_short]
  exact lg_i2s_small (by rw [zI_t (by omega) (by omega)]; exact h.1) (by rw [zI_t (by omega) (by omega)]; exact h.2)
theorem zn_s2 {e : Int} (h : -32768 ≤ e ∧ e < 32768) : vp_nar .short (zI e).toInt16.toInt32 = zI e := by
  rw [pk_vs]
  exact lg_i2s_small (by rw [zI_t (by omega) (by omega)]; exact h.1) (by rw [zI_t (by omega) (by omega)]; exact h.2)
theorem zn_b {n : Nat} (h : n < 128) : vp_nar .byte (nI n) = nI n := by
  rw [vp_nar_byte]
  exact lg_i2b_small (by rw [nI_toInt (by omega)]; omega) (by rw [nI_toInt (by omega)]; omega)
theorem zn_b2 {n : Nat} (h : n < 128) : vp_nar .byte (nI n).toInt8.toInt32 = nI n := by
  rw [pk_vb]
  exact lg_i2b_small (by rw [nI_toInt (by omega)]; omega) (by rw [nI_toInt (by omega)]; omega)
theorem zb1_v (b : Bool) : vp_nar .boolean (zb1 b) = zb1 b := by cases b <;> rfl
theorem zb1_n (b : Bool) : narrow .boolean (.int (zb1 b)) = .int (zb1 b) := by cases b <;> rfl
theorem zb1_f (b : Bool) : fits .boolean (.int (zb1 b)) = true := by cases b <;> rfl
theorem zb1_0 {b : Bool} : zb1 b = 0 ↔ b = false := by cases b <;> decide
theorem zb1_1 {b : Bool} : zb1 b = 1 ↔ b = true := by cases b <;> decide
theorem zb1_e {a b : Bool} : zb1 a = zb1 b ↔ a = b := by cases a <;> cases b <;> decide
theorem zk_b {b : Bool} {A B : Prop} (f : b = false → A) (g : b = true → B) : (zb1 b = 0 → A) ∧ (¬ zb1 b = 0 → B) := by
  cases b
  · exact br_t rfl (f rfl)
  · exact br_f (by decide) (g rfl)
theorem zk_bb {a b : Bool} {A B : Prop} (f : a = b → A) (g : a ≠ b → B) : (zb1 a = zb1 b → A) ∧ (¬ zb1 a = zb1 b → B) := by
  rw [zb1_e]
  exact ⟨f, g⟩
/-- a branch by any condition that is known to mean d -/
theorem zk_i {c d A B : Prop} (e : c ↔ d) (f : d → A) (g : ¬ d → B) : (c → A) ∧ (¬ c → B) := ⟨fun h => f (e.mp h), fun h => g (fun z => h (e.mpr z))⟩
end
section
/-! the component's row: clear, deposit, settle, bit, top, rest -/
section
variable {f_p f_mode f_flags f_below f_sticky : Int32} {a_kinds a_minus a_exponents a_limb a_row a_one a_two a_roots a_high a_part a_quotient a_square a_guess : Nat → Int32}
theorem xr_clear_l {post : SX → Prop} (h : ∀ r, zLB 54 0 r → post (f_p, f_mode, f_flags, 0, 0, a_kinds, a_minus, a_exponents, a_limb, r, a_one, a_two, a_roots, a_high, a_part, a_quotient, a_square, a_guess)) : ∀ n k r, k ≤ 54 → 54 - k < n → (∀ j, j < k → r j = nI (zlm 0 j)) → wX_clear_2 post f_p f_mode f_flags f_below f_sticky n (nI k) a_kinds a_minus a_exponents a_limb r a_one a_two a_roots a_high a_part a_quotient a_square a_guess := by
  intro n
  induction n with
  | zero => intro k r _ h1; omega
  | succ n ih =>
    intro k r hk hn hr
    refine pk_le 54 k (fun hk2 => h r (fun j hj => hr j (by omega))) (fun hk2 => ⟨vp_in_nI hk2 (by decide), fun r1 e1 y ey => ?_⟩)
    subst e1 ey
    rw [nI_1, nI_clamp (by omega)]
    exact ih (k + 1) _ (by omega) (by omega) (zLB_up hr (by rw [zlm_0]; rfl))
theorem xr_clear {post : SX → Prop} (h : ∀ r, zLB 54 0 r → post (f_p, f_mode, f_flags, 0, 0, a_kinds, a_minus, a_exponents, a_limb, r, a_one, a_two, a_roots, a_high, a_part, a_quotient, a_square, a_guess)) : wpX_clear post (f_p, f_mode, f_flags, f_below, f_sticky, a_kinds, a_minus, a_exponents, a_limb, a_row, a_one, a_two, a_roots, a_high, a_part, a_quotient, a_square, a_guess) :=
  ⟨55, xr_clear_l h 55 0 a_row (by omega) (by omega) (fun j hj => absurd hj (by omega))⟩
theorem xr_dep_l {post : SX → Prop} {A T : Int} (h : ∀ r, zLB 54 T r → post (f_p, f_mode, f_flags, f_below, f_sticky, a_kinds, a_minus, a_exponents, a_limb, r, a_one, a_two, a_roots, a_high, a_part, a_quotient, a_square, a_guess)) : ∀ n k (x : Int64) r, k < 2 ^ 30 → 54 - k < n → -1099511627776 < x.toInt → x.toInt < 1099511627776 → T / 2 ^ (16 * k) = A / 2 ^ (16 * k) + x.toInt → (∀ j, j < k → j < 54 → r j = nI (zlm T j)) → (∀ j, k ≤ j → j < 54 → r j = nI (zlm A j)) → wX_deposit_28 post f_p f_mode f_flags f_below f_sticky n (nI k) x a_kinds a_minus a_exponents a_limb r a_one a_two a_roots a_high a_part a_quotient a_square a_guess := by
  intro n
  induction n with
  | zero => intro k x r _ h1; omega
  | succ n ih =>
    intro k x r hk hn hx1 hx2 hT hlo hhi
    refine pk_le 54 k (fun hk2 => h r (fun j hj => hlo j (by omega) hj)) (fun hk2 => ?_)
    refine br_c (fun e => h r (fun j hj => ?_)) (fun _ => ⟨vp_in_nI hk2 (by decide), fun x9 e9 y ey => ⟨vp_in_nI hk2 (by decide), fun r1 e1 c ec => ?_⟩⟩)
    · by_cases hj2 : j < k
      · exact hlo j hj2 hj
      · rw [hhi j (by omega) hj]
        have h0 : x.toInt = 0 := by rw [e]; rfl
        rw [zlm_same (by rw [hT, h0, Int.add_zero]) (by omega)]
    · subst e1 ey ec
      have hm := zlm_lt A k
      have e9' : x9.toInt = (zlm A k : Int) + x.toInt := by
        rw [e9, nI_clamp (by omega), hhi k (by omega) hk2, Jvm.Kit.i64_add, Int32.toInt_toInt64, nI_toInt (by omega)]
        · rw [Int32.toInt_toInt64, nI_toInt (by omega)]; omega
        · rw [Int32.toInt_toInt64, nI_toInt (by omega)]; omega
      obtain ⟨c1, c2⟩ := zc16 hT
      rw [nI_1, nI_clamp (by omega), zw_lo64]
      have hv : nI (x9.toInt % 65536).toNat = nI (zlm T k) := by rw [e9', ← c1, Int.toNat_natCast]
      refine ih (k + 1) _ _ (by omega) (by omega) (by rw [zw_sr64, e9']; omega) (by rw [zw_sr64, e9']; omega) (by rw [zw_sr64, e9', c2]) ?_ ?_
      · intro j hj hj2
        by_cases e : j = k
        · subst e; rw [pk_us, hv]
        · rw [pk_un e]; exact hlo j (by omega) hj2
      · intro j hj hj2
        rw [pk_un (by omega)]
        exact hhi j (by omega) hj2
theorem xr_neg64 {x : Int64} {v : Int} (h : x.toInt = v) (h1 : -1099511627776 < v) (h2 : v < 1099511627776) : (-x).toInt = -v := by
  rw [Int64.toInt_neg, h]
  exact Int.bmod_eq_of_le (by omega) (by omega)
/-- the amount that a deposit adds -/
def zsg (b : Bool) (v : Int) : Int := if b then -v else v
theorem xr_dep {post : SX → Prop} {A : Int} {v pl : Nat} {off : Bool} (hr : zLB 54 A a_row) (hv : v < 2 ^ 24) (hp : pl < 2 ^ 30) (h : ∀ r, zLB 54 (A + zsg off v * 2 ^ pl) r → post (f_p, f_mode, f_flags, f_below, f_sticky, a_kinds, a_minus, a_exponents, a_limb, r, a_one, a_two, a_roots, a_high, a_part, a_quotient, a_square, a_guess)) : wpX_deposit post (f_p, f_mode, f_flags, f_below, f_sticky, a_kinds, a_minus, a_exponents, a_limb, a_row, a_one, a_two, a_roots, a_high, a_part, a_quotient, a_square, a_guess) (nI v) (nI pl) (zb1 off) := by
  have hs : v * 2 ^ (pl % 16) < 2 ^ 40 := by
    have : 2 ^ (pl % 16) ≤ 2 ^ 15 := zpl_le (by omega)
    calc v * 2 ^ (pl % 16) ≤ v * 2 ^ 15 := Nat.mul_le_mul_left v this
      _ < 2 ^ 40 := by omega
  have e5 : (nI v).toInt64 <<< ((nI pl &&& 15).toInt64 &&& 63) = lN (v * 2 ^ (pl % 16)) := by
    rw [zw_m15 (by omega), nI_l (by omega), wb_shl v (by omega)]
  have t5 : (lN (v * 2 ^ (pl % 16))).toInt = ((v * 2 ^ (pl % 16) : Nat) : Int) := pk_lT (by omega)
  have ep : ∀ w : Int, (A + w * 2 ^ pl) / 2 ^ (16 * (pl / 16)) = A / 2 ^ (16 * (pl / 16)) + w * 2 ^ (pl % 16) := by
    intro w
    rw [zad_lo A w (by omega)]
    exact congrArg (fun z => A / 2 ^ (16 * (pl / 16)) + w * 2 ^ z) (by omega)
  have cs : ((v * 2 ^ (pl % 16) : Nat) : Int) = (v : Int) * 2 ^ (pl % 16) := by rw [Int.natCast_mul, zp_cast]
  have lo : ∀ w : Int, ∀ j, j < pl / 16 → j < 54 → a_row j = nI (zlm (A + w * 2 ^ pl) j) := by
    intro w j hj hj2
    rw [zlm_low A w (by omega)]
    exact hr j hj2
  intro k ek x ex
  rw [zw_s4 (by omega)] at ek
  rw [e5] at ex
  subst ek ex
  refine zk_b (fun e => ?_) (fun e y ey => ?_)
  · subst e
    exact ⟨55, xr_dep_l h 55 _ _ _ (by omega) (by omega) (by rw [t5]; omega) (by rw [t5]; omega) (by rw [ep, t5, cs]; rfl) (lo _) (fun j _ hj => hr j hj)⟩
  · subst e ey
    have t6 := xr_neg64 t5 (by omega) (by omega)
    exact ⟨55, xr_dep_l h 55 _ _ _ (by omega) (by omega) (by rw [t6]; omega) (by rw [t6]; omega) (by rw [ep, t6, cs]; show _ = _ + -_; rw [show zsg true (v : Int) = -(v : Int) from rfl, Int.neg_mul]) (lo _) (fun j _ hj => hr j hj)⟩
/-- settle -/
theorem xr_com (T : Int) (a : Nat) : (-T - 1) / 2 ^ a = -(T / 2 ^ a) - 1 := by
  have h := Int.mul_ediv_add_emod T (2 ^ a)
  have h1 := Int.emod_nonneg T (zp_ne a)
  have h2 := Int.emod_lt_of_pos T (zp_pos a)
  have e : -T - 1 = (2 ^ a - 1 - T % 2 ^ a) + (-(T / 2 ^ a) - 1) * 2 ^ a := by
    rw [Int.sub_mul, Int.neg_mul, Int.mul_comm (T / 2 ^ a)]
    omega
  rw [e, Int.add_mul_ediv_right _ _ (zp_ne a), Int.ediv_eq_zero_of_lt (by omega) (by omega)]
  omega
theorem xr_comL (T : Int) (k : Nat) : zlm (-T - 1) k = 65535 - zlm T k := by
  have h : ((zlm (-T - 1) k : Nat) : Int) = 65535 - ((zlm T k : Nat) : Int) := by
    rw [zlm_i, zlm_i, xr_com]
    generalize T / 2 ^ (16 * k) = x
    omega
  have := zlm_lt T k
  omega
theorem xr_set_l {post : SX → Prop} {T : Int} (h : ∀ r, zLB 54 (-T) r → post (f_p, f_mode, f_flags, f_below, f_sticky, a_kinds, a_minus, a_exponents, a_limb, r, a_one, a_two, a_roots, a_high, a_part, a_quotient, a_square, a_guess)) : ∀ (n k c : Nat) (r : Nat → Int32), k ≤ 54 → 54 - k < n → c ≤ 1 → (-T) / 2 ^ (16 * k) = (-T - 1) / 2 ^ (16 * k) + (c : Int) → (∀ j, j < k → r j = nI (zlm (-T) j)) → (∀ j, k ≤ j → j < 54 → r j = nI (zlm T j)) → wX_settle_23 post f_p f_mode f_flags f_below f_sticky n (nI c) (nI k) a_kinds a_minus a_exponents a_limb r a_one a_two a_roots a_high a_part a_quotient a_square a_guess := by
  intro n
  induction n with
  | zero => intro k c r _ h1; omega
  | succ n ih =>
    intro k c r hk hn hc hT hlo hhi
    refine pk_le 54 k (fun hk2 => h r (fun j hj => hlo j (by omega))) (fun hk2 => ⟨vp_in_nI hk2 (by decide), fun t et => ⟨vp_in_nI hk2 (by decide), fun r1 e1 c1 ec y ey => ?_⟩⟩)
    have hm := zlm_lt T k
    have et' : t = nI (65535 - zlm T k + c) := by
      rw [et, nI_clamp (by omega), hhi k (by omega) hk2, zw_xor (by omega), nI_add]
    subst et'
    subst e1 ec ey
    obtain ⟨c1, c2⟩ := zc16 hT
    rw [xr_comL] at c1 c2
    rw [nI_1, nI_clamp (by omega), zw_m16 (by omega), zw_s16 (by omega)]
    have hv : (65535 - zlm T k + c) % 65536 = zlm (-T) k := by omega
    refine ih (k + 1) _ _ (by omega) (by omega) (by omega) (by rw [c2]; omega) (zLB_up hlo (by rw [hv])) ?_
    intro j hj hj2
    rw [pk_un (by omega)]
    exact hhi j (by omega) hj2
theorem xr_settle {post : SX → Prop} {T : Int} (hr : zLB 54 T a_row) (h1 : -2 ^ 863 ≤ T) (h2 : T < 2 ^ 863) (hp : 0 ≤ T → post (f_p, f_mode, f_flags, f_below, f_sticky, a_kinds, a_minus, a_exponents, a_limb, a_row, a_one, a_two, a_roots, a_high, a_part, a_quotient, a_square, a_guess)) (hn : T < 0 → ∀ r, zLB 54 (-T) r → post (f_p, f_mode, f_flags, 1, f_sticky, a_kinds, a_minus, a_exponents, a_limb, r, a_one, a_two, a_roots, a_high, a_part, a_quotient, a_square, a_guess)) : wpX_settle post (f_p, f_mode, f_flags, f_below, f_sticky, a_kinds, a_minus, a_exponents, a_limb, a_row, a_one, a_two, a_roots, a_high, a_part, a_quotient, a_square, a_guess) := by
  have e : zlm T 53 < 32768 ↔ 0 ≤ T := by
    have hP : (2 : Int) ^ 863 = 2 ^ (16 * 53) * 32768 := by decide
    rw [hP] at h1 h2
    have hp0 := zp_pos (16 * 53)
    have a1 := Int.mul_ediv_add_emod T (2 ^ (16 * 53))
    have a2 := Int.emod_nonneg T (zp_ne (16 * 53))
    have a3 := Int.emod_lt_of_pos T (zp_pos (16 * 53))
    have hz := zlm_i T 53
    generalize (2 : Int) ^ (16 * 53) = P at *
    have q1 : T / P < 32768 := Int.ediv_lt_of_lt_mul hp0 (by rw [Int.mul_comm]; exact h2)
    have q2 : -32768 ≤ T / P := Int.le_ediv_of_mul_le hp0 (by rw [Int.neg_mul, Int.mul_comm]; exact h1)
    have q3 : 0 ≤ T / P ↔ 0 ≤ T := Int.ediv_nonneg_iff_of_pos hp0
    omega
  refine zk_i (d := 0 ≤ T) ?_ (fun d => hp d) (fun d => ?_)
  · rw [hr 53 (by decide), zw_hi (zlm_lt T 53), e]
  · refine ⟨55, xr_set_l (f_below := 1) (hn (by omega)) 55 0 1 a_row (by omega) (by omega) (by omega) ?_ (fun j hj => absurd hj (by omega)) (fun j _ hj => hr j hj)⟩
    rw [Nat.mul_zero, Int.pow_zero, Int.ediv_one, Int.ediv_one]
    omega
/-- the row holds the natural N -/
theorem xr_bit {post : Int32 → Prop} {T : Int} {pl : Nat} (hr : zLB 54 T a_row) (hp : pl < 864) (h : post (nI (zbb T pl))) : wpX_bit post (f_p, f_mode, f_flags, f_below, f_sticky, a_kinds, a_minus, a_exponents, a_limb, a_row, a_one, a_two, a_roots, a_high, a_part, a_quotient, a_square, a_guess) (nI pl) := by
  refine br_t (nI_pos' (by omega)) ?_
  rw [zw_s4 (by omega), nI_clamp (by omega), hr (pl / 16) (by omega), zw_bit (zlm_lt _ _) (by omega), zlm_bit _ _ _ (by omega), show 16 * (pl / 16) + pl % 16 = pl from by omega]
  exact ⟨vp_in_nI (by omega) (by decide), h⟩
theorem xr_lz {N h k : Nat} (h2 : N < 2 ^ (h + 1)) (hk : h < 16 * k) : zlm (N : Int) k = 0 := by
  rw [zlm_n, Nat.div_eq_of_lt (Nat.lt_of_lt_of_le h2 (zpl_le (by omega)))]
theorem xr_bz {N h k : Nat} (h2 : N < 2 ^ (h + 1)) (hk : h < k) : zbb (N : Int) k = 0 := by
  rw [zbb_n, Nat.div_eq_of_lt (Nat.lt_of_lt_of_le h2 (zpl_le (by omega)))]
theorem xr_b1 {N h : Nat} (h1 : 2 ^ h ≤ N) (h2 : N < 2 ^ (h + 1)) : zbb (N : Int) h = 1 := by
  rw [zbb_n]
  have a : N / 2 ^ h < 2 := Nat.div_lt_of_lt_mul (by rw [zNp] at h2; exact h2)
  have b : 1 ≤ N / 2 ^ h := (Nat.le_div_iff_mul_le (Nat.two_pow_pos h)).mpr (by omega)
  omega
theorem xr_l1 {N h : Nat} (h1 : 2 ^ h ≤ N) (h2 : N < 2 ^ (h + 1)) : zlm (N : Int) (h / 16) ≠ 0 := by
  intro e
  have := zlm_bit (N : Int) (h / 16) (h % 16) (by omega)
  rw [e, show 16 * (h / 16) + h % 16 = h from by omega, xr_b1 h1 h2, Nat.zero_div] at this
  omega
theorem xr_top31 {post : Int32 → Prop} {N h : Nat} (hr : zLB 54 (N : Int) a_row) (h1 : 2 ^ h ≤ N) (h2 : N < 2 ^ (h + 1)) (hh : h < 864) (hp : post (nI h)) : ∀ n b, b < 16 → h % 16 ≤ b → b < n → wX_top_31 post (nI (h / 16)) f_p f_mode f_flags f_below f_sticky a_kinds a_minus a_exponents a_limb a_row a_one a_two a_roots a_high a_part a_quotient a_square a_guess n (nI b) := by
  intro n
  induction n with
  | zero => intro b _ _ hn; omega
  | succ n ih =>
    intro b hb hb2 hn
    refine ⟨vp_in_nI (by omega) (by decide), ?_⟩
    have e : (a_row (nI (h / 16)).toNatClampNeg >>> (nI b &&& 31)) &&& 1 = nI (zbb (N : Int) (16 * (h / 16) + b)) := by
      have hz := zlm_lt (N : Int) (h / 16)
      have := Nat.div_le_self (zlm (N : Int) (h / 16)) (2 ^ b)
      rw [nI_clamp (by omega), hr (h / 16) (by omega), zw_shr (by omega) (by omega), zw_m1 (by omega), zlm_bit _ _ _ hb]
    rw [e]
    by_cases hc : b = h % 16
    · subst hc
      rw [show 16 * (h / 16) + h % 16 = h from by omega, xr_b1 h1 h2]
      refine br_f (by decide) ?_
      have e2 : (16 : Int32) * nI (h / 16) + nI (h % 16) = nI h := by
        rw [show (16 : Int32) = nI 16 from rfl, pk_mul, nI_add]
        exact congrArg nI (by omega)
      rw [e2]
      exact hp
    · rw [xr_bz h2 (by omega)]
      refine br_t rfl (fun y ey => ?_)
      subst ey
      obtain ⟨b', rfl⟩ : ∃ b', b = b' + 1 := ⟨b - 1, by omega⟩
      rw [pk_m1]
      exact ih b' (by omega) (by omega) (by omega)
theorem xr_top3 {post : Int32 → Prop} {N h : Nat} (hr : zLB 54 (N : Int) a_row) (h1 : 2 ^ h ≤ N) (h2 : N < 2 ^ (h + 1)) (hh : h < 864) (hp : post (nI h)) : ∀ n k, k < 54 → h / 16 ≤ k → k < n → wX_top_3 post f_p f_mode f_flags f_below f_sticky a_kinds a_minus a_exponents a_limb a_row a_one a_two a_roots a_high a_part a_quotient a_square a_guess n (nI k) := by
  intro n
  induction n with
  | zero => intro k _ _ hn; omega
  | succ n ih =>
    intro k hk hk2 hn
    refine br_f (nI_pos (by omega)) ⟨vp_in_nI hk (by decide), ?_⟩
    rw [nI_clamp (by omega), hr k hk]
    by_cases hc : k = h / 16
    · subst hc
      refine br_f (nI_ne0 (by have := xr_l1 h1 h2; omega) (by have := zlm_lt (N : Int) (h / 16); omega)) ?_
      exact br_t (nI_pos' (by omega)) ⟨16, xr_top31 hr h1 h2 hh hp 16 15 (by omega) (by omega) (by omega)⟩
    · rw [xr_lz h2 (by omega)]
      refine br_t rfl (fun y ey => ?_)
      subst ey
      obtain ⟨k', rfl⟩ : ∃ k', k = k' + 1 := ⟨k - 1, by omega⟩
      rw [pk_m1]
      exact ih k' (by omega) (by omega) (by omega)
theorem xr_top {post : Int32 → Prop} {N h : Nat} (hr : zLB 54 (N : Int) a_row) (h1 : 2 ^ h ≤ N) (h2 : N < 2 ^ (h + 1)) (hh : h < 864) (hp : post (nI h)) : wpX_top post (f_p, f_mode, f_flags, f_below, f_sticky, a_kinds, a_minus, a_exponents, a_limb, a_row, a_one, a_two, a_roots, a_high, a_part, a_quotient, a_square, a_guess) :=
  ⟨55, xr_top3 hr h1 h2 hh hp 55 53 (by omega) (by omega) (by omega)⟩
theorem xr_top30 {post : Int32 → Prop} (hr : zLB 54 0 a_row) (hp : post (-1)) : ∀ n k, k < 54 → k + 1 < n → wX_top_3 post f_p f_mode f_flags f_below f_sticky a_kinds a_minus a_exponents a_limb a_row a_one a_two a_roots a_high a_part a_quotient a_square a_guess n (nI k) := by
  intro n
  induction n with
  | zero => intro k _ hn; omega
  | succ n ih =>
    intro k hk hn
    refine br_f (nI_pos (by omega)) ⟨vp_in_nI hk (by decide), ?_⟩
    rw [nI_clamp (by omega), hr k hk, zlm_0]
    refine br_t rfl (fun y ey => ?_)
    subst ey
    by_cases hc : k = 0
    · subst hc
      obtain ⟨n', rfl⟩ : ∃ n', n = n' + 1 := ⟨n - 1, by omega⟩
      exact br_t (by decide) (br_f (by decide) hp)
    · obtain ⟨k', rfl⟩ : ∃ k', k = k' + 1 := ⟨k - 1, by omega⟩
      rw [pk_m1]
      exact ih k' (by omega) (by omega)
theorem xr_top0 {post : Int32 → Prop} (hr : zLB 54 0 a_row) (hp : post (-1)) : wpX_top post (f_p, f_mode, f_flags, f_below, f_sticky, a_kinds, a_minus, a_exponents, a_limb, a_row, a_one, a_two, a_roots, a_high, a_part, a_quotient, a_square, a_guess) :=
  ⟨56, xr_top30 hr hp 56 53 (by omega) (by omega)⟩
/-- rest -/
theorem xr_rest_l {post : Int32 → Prop} {N pl : Nat} (hr : zLB 54 (N : Int) a_row) (hp : pl < 864) (h : post (zb1 (decide (N % 2 ^ pl ≠ 0)))) : ∀ n k, k ≤ pl / 16 → pl / 16 - k < n → N % 2 ^ (16 * k) = 0 → wX_rest_11 post (nI pl) f_p f_mode f_flags f_below f_sticky a_kinds a_minus a_exponents a_limb a_row a_one a_two a_roots a_high a_part a_quotient a_square a_guess n (nI k) := by
  intro n
  induction n with
  | zero => intro k _ h1; omega
  | succ n ih =>
    intro k hk hn hz
    have hzl := zlm_lt (N : Int) k
    refine pk_le (pl / 16) k (fun hk2 => ?_) (fun hk2 => ⟨vp_in_nI (by omega) (by decide), ?_⟩) (zw_s4 (by omega))
    · have ek : k = pl / 16 := by omega
      subst ek
      rw [zw_s4 (by omega), nI_clamp (by omega), hr (pl / 16) (by omega), zw_msk (by omega), zw_cut (by omega) (k := pl % 16) (by omega) rfl]
      have e1 : N % 2 ^ pl = 2 ^ (16 * (pl / 16)) * (zlm (N : Int) (pl / 16) % 2 ^ (pl % 16)) := by
        have e2 : zlm (N : Int) (pl / 16) % 2 ^ (pl % 16) = N / 2 ^ (16 * (pl / 16)) % 2 ^ (pl % 16) := by
          rw [zlm_n]
          exact Nat.mod_mod_of_dvd _ (Nat.pow_dvd_pow 2 (show pl % 16 ≤ 16 by omega))
        rw [e2]
        have e3 : 2 ^ pl = 2 ^ (16 * (pl / 16)) * 2 ^ (pl % 16) := by rw [← zNp]; exact congrArg (fun z => 2 ^ z) (by omega)
        rw [e3, Nat.mod_mul, hz, Nat.zero_add]
      refine ⟨vp_in_nI (by omega) (by decide), ?_⟩
      have hlt : zlm (N : Int) (pl / 16) % 2 ^ (pl % 16) ≤ zlm (N : Int) (pl / 16) := Nat.mod_le _ _
      generalize zlm (N : Int) (pl / 16) % 2 ^ (pl % 16) = y at *
      refine pk_eq y 0 (fun hy => ?_) (fun hy => ?_)
      · rw [e1, hy, Nat.mul_zero] at h; exact h
      · have : N % 2 ^ pl ≠ 0 := by
          rw [e1]
          exact Nat.mul_ne_zero (Nat.ne_of_gt (Nat.two_pow_pos _)) hy
        rw [decide_eq_true this] at h; exact h
    · rw [nI_clamp (by omega), hr k (by omega)]
      have e3 : N % 2 ^ (16 * (k + 1)) = 2 ^ (16 * k) * zlm (N : Int) k := by
        rw [show 16 * (k + 1) = 16 * k + 16 from by omega, zNp, Nat.mod_mul, hz, Nat.zero_add, zlm_n]
      refine pk_eq (zlm (N : Int) k) 0 (fun hy y ey => ?_) (fun hy => ?_)
      · subst ey
        rw [nI_1]
        exact ih (k + 1) (by omega) (by omega) (by rw [e3, hy, Nat.mul_zero])
      · have : N % 2 ^ pl ≠ 0 := by
          intro e
          have e4 : N % 2 ^ (16 * (k + 1)) = 0 := by
            have hd : 2 ^ (16 * (k + 1)) ∣ 2 ^ pl := Nat.pow_dvd_pow 2 (by omega)
            rw [← Nat.mod_mod_of_dvd N hd, e, Nat.zero_mod]
          rw [e3] at e4
          rcases Nat.mul_eq_zero.mp e4 with e5 | e5
          · exact absurd e5 (Nat.ne_of_gt (Nat.two_pow_pos _))
          · exact hy e5
        rw [decide_eq_true this] at h; exact h
theorem xr_rest {post : Int32 → Prop} {N pl : Nat} {s : Bool} (hr : zLB 54 (N : Int) a_row) (hp : pl < 864) (h : post (zb1 (s || decide (N % 2 ^ pl ≠ 0)))) : wpX_rest post (f_p, f_mode, f_flags, f_below, zb1 s, a_kinds, a_minus, a_exponents, a_limb, a_row, a_one, a_two, a_roots, a_high, a_part, a_quotient, a_square, a_guess) (nI pl) := by
  refine zk_b (fun e => ?_) (fun e => ?_)
  · subst e
    exact ⟨pl / 16 + 1, xr_rest_l hr hp h _ 0 (by omega) (by omega) (by rw [Nat.mul_zero, Nat.pow_zero, Nat.mod_one])⟩
  · subst e
    exact h
end
end
section
/-! the pure picture: values of slots, rounding -/
abbrev ZV : Type := Nat × Bool × Int × Nat
def zra (md : Nat) (ng odd half more : Bool) : Bool := if md = 0 then half && (more || odd) else if md = 1 then false else if md = 4 then half else (half || more) && (ng == decide (md = 3))
def zsy (md : Nat) (ng : Bool) : Bool := md == 1 || (md == 2 && ng) || (md == 3 && !ng)
def zfin (p md : Nat) (ng : Bool) (e : Int) (M : Nat) (f : Int32) : ZV × Int32 := if 100 < e then ((if zsy md ng then (2, ng, 100, 2 ^ p - 1) else (3, ng, 0, 0)), f ||| 5) else ((if M = 0 then (0, ng, 0, 0) else (2, ng, e, M)), f)
def zex (h : Int) : Int := if h < -100 then -100 else h
def zu (L p N : Nat) : Nat := (zex ((N.log2 : Int) - L) - p + 1 + L).toNat
def zhf (N u : Nat) : Bool := decide (N / 2 ^ (u - 1) % 2 = 1)
def zmo (N u : Nat) (s : Bool) : Bool := s || decide (N % 2 ^ (u - 1) ≠ 0)
def zfl (h : Int) (ix : Bool) (f : Int32) : Int32 := if ix then (if h < -100 then f ||| 3 else f ||| 1) else f
def zaw (p md : Nat) (ng : Bool) (e : Int) (M : Nat) (aw : Bool) (f : Int32) : ZV × Int32 := if aw then (if M + 1 = 2 ^ p then zfin p md ng (e + 1) (2 ^ (p - 1)) f else zfin p md ng e (M + 1) f) else zfin p md ng e M f
def zrd (L p md : Nat) (ng : Bool) (N : Nat) (s : Bool) (f : Int32) : ZV × Int32 :=
  zaw p md ng (zex ((N.log2 : Int) - L)) (N / 2 ^ zu L p N) (zra md ng (decide (N / 2 ^ zu L p N % 2 = 1)) (zhf N (zu L p N)) (zmo N (zu L p N) s)) (zfl ((N.log2 : Int) - L) (zhf N (zu L p N) || zmo N (zu L p N) s) f)
def zrd0 (L p md : Nat) (ng : Bool) (N : Nat) (s : Bool) (f : Int32) : ZV × Int32 := if N = 0 then ((0, ng, 0, 0), f) else zrd L p md ng N s f
def zOK (p : Nat) (w : ZV) : Prop := (w.1 = 0 ∨ w.1 = 2 ∨ w.1 = 3 ∨ w.1 = 4) ∧ (w.1 = 2 → 1 ≤ w.2.2.2 ∧ w.2.2.2 < 2 ^ p ∧ -100 ≤ w.2.2.1 ∧ w.2.2.1 ≤ 100 ∧ (2 ^ (p - 1) ≤ w.2.2.2 ∨ w.2.2.1 = -100)) ∧ (w.1 = 4 → w.2.1 = false)
theorem zra_ff (md : Nat) (ng odd : Bool) : zra md ng odd false false = false := by
  unfold zra
  split
  · rfl
  · split
    · rfl
    · split <;> rfl
theorem zex_ge (h : Int) : -100 ≤ zex h := by unfold zex; split <;> omega
theorem zex_le (h : Int) : h ≤ zex h := by unfold zex; split <;> omega
theorem zu_i {L p N : Nat} (hp : p ≤ 64) (hL : 340 ≤ L) : (zu L p N : Int) = zex ((N.log2 : Int) - L) - p + 1 + L := by
  unfold zu
  have := zex_ge ((N.log2 : Int) - L)
  omega
theorem zu_ge {L p N : Nat} (hp : p ≤ 64) (hL : 340 ≤ L) : 177 ≤ zu L p N := by
  have := zu_i (N := N) hp hL
  have := zex_ge ((N.log2 : Int) - L)
  omega
/-- what is below a place: the half and the rest -/
theorem z_hm (N u : Nat) (s : Bool) (hu : 1 ≤ u) : (s || decide (N % 2 ^ u ≠ 0)) = (zhf N u || zmo N u s) := by
  obtain ⟨t, rfl⟩ : ∃ t, u = t + 1 := ⟨u - 1, by omega⟩
  unfold zhf zmo
  rw [Nat.add_sub_cancel, zNp, Nat.mod_mul, Nat.pow_one]
  cases s
  · by_cases h1 : N % 2 ^ t = 0
    · by_cases h2 : N / 2 ^ t % 2 = 1
      · rw [h1, h2]
        have : 2 ^ t ≠ 0 := Nat.ne_of_gt (Nat.two_pow_pos t)
        simp [this]
      · have h3 : N / 2 ^ t % 2 = 0 := by omega
        rw [h1, h3]
        simp
    · simp [h1]
  · simp
theorem z_log {N h : Nat} (h1 : 2 ^ h ≤ N) (h2 : N < 2 ^ (h + 1)) : N.log2 = h := (Nat.log2_eq_iff (by have := Nat.two_pow_pos h; omega)).mpr ⟨h1, h2⟩
theorem z_log1 {N : Nat} (h : N ≠ 0) : 2 ^ N.log2 ≤ N := Nat.log2_self_le h
theorem z_log2 (N : Nat) : N < 2 ^ (N.log2 + 1) := Nat.lt_log2_self
theorem z_logmul {N : Nat} (h : N ≠ 0) (t : Nat) : (N * 2 ^ t).log2 = N.log2 + t := by
  refine z_log ?_ ?_
  · rw [zNp]; exact Nat.mul_le_mul_right _ (z_log1 h)
  · rw [show N.log2 + t + 1 = N.log2 + 1 + t from by omega, zNp]
    exact Nat.mul_lt_mul_of_pos_right (z_log2 N) (Nat.two_pow_pos t)
/-- the mantissa that is taken -/
theorem z_M {L p N : Nat} (hN : N ≠ 0) (hp2 : 2 ≤ p) (hp : p ≤ 64) (hL : 340 ≤ L) : N / 2 ^ zu L p N < 2 ^ p ∧ (2 ^ (p - 1) ≤ N / 2 ^ zu L p N ∨ zex ((N.log2 : Int) - L) = -100) ∧ N.log2 + 1 ≤ zu L p N + p := by
  have hu := zu_i (N := N) hp hL
  have h1 := z_log1 hN
  have h2 := z_log2 N
  have hx := zex_le ((N.log2 : Int) - L)
  have hle : N.log2 + 1 ≤ zu L p N + p := by omega
  refine ⟨?_, ?_, hle⟩
  · refine Nat.div_lt_of_lt_mul ?_
    rw [← zNp]
    exact Nat.lt_of_lt_of_le h2 (zpl_le hle)
  · by_cases hc : (N.log2 : Int) - L < -100
    · right; unfold zex; rw [if_pos hc]
    · left
      have : zex ((N.log2 : Int) - L) = (N.log2 : Int) - L := by unfold zex; rw [if_neg hc]
      rw [Nat.le_div_iff_mul_le (Nat.two_pow_pos _), ← zNp]
      exact Nat.le_trans (zpl_le (by omega)) h1
theorem zfin_ok {p md : Nat} {ng : Bool} {e : Int} {M : Nat} {f : Int32} (hp : 2 ≤ p) (hM : M < 2 ^ p) (he : -100 ≤ e) (h : 2 ^ (p - 1) ≤ M ∨ e = -100) : zOK p (zfin p md ng e M f).1 := by
  have h1 : 2 ^ (p - 1) < 2 ^ p := zpl_lt (by omega)
  have h0 := Nat.two_pow_pos (p - 1)
  unfold zfin
  split
  · show zOK p (if zsy md ng then (2, ng, 100, 2 ^ p - 1) else (3, ng, 0, 0))
    split
    · refine ⟨Or.inr (Or.inl rfl), fun _ => ⟨?_, ?_, ?_, ?_, Or.inl ?_⟩, fun z => absurd z (by show ¬ (2 : Nat) = 4; omega)⟩
      · show 1 ≤ 2 ^ p - 1; omega
      · show 2 ^ p - 1 < 2 ^ p; omega
      · show (-100 : Int) ≤ 100; omega
      · show (100 : Int) ≤ 100; omega
      · show 2 ^ (p - 1) ≤ 2 ^ p - 1; omega
    · exact ⟨Or.inr (Or.inr (Or.inl rfl)), fun z => absurd z (by show ¬ (3 : Nat) = 2; omega), fun z => absurd z (by show ¬ (3 : Nat) = 4; omega)⟩
  · show zOK p (if M = 0 then (0, ng, 0, 0) else (2, ng, e, M))
    split
    · exact ⟨Or.inl rfl, fun z => absurd z (by show ¬ (0 : Nat) = 2; omega), fun z => absurd z (by show ¬ (0 : Nat) = 4; omega)⟩
    · refine ⟨Or.inr (Or.inl rfl), fun _ => ⟨?_, hM, he, ?_, h⟩, fun z => absurd z (by show ¬ (2 : Nat) = 4; omega)⟩
      · show 1 ≤ M; omega
      · show e ≤ 100; omega
theorem zaw_ok {p md : Nat} {ng : Bool} {e : Int} {M : Nat} {aw : Bool} {f : Int32} (hp : 2 ≤ p) (hM : M < 2 ^ p) (he : -100 ≤ e) (h : 2 ^ (p - 1) ≤ M ∨ e = -100) : zOK p (zaw p md ng e M aw f).1 := by
  unfold zaw
  split
  · split
    · exact zfin_ok hp (zpl_lt (by omega)) (by omega) (Or.inl (Nat.le_refl _))
    · refine zfin_ok hp (by omega) he ?_
      rcases h with h | h
      · exact Or.inl (by omega)
      · exact Or.inr h
  · exact zfin_ok hp hM he h
theorem zrd_ok {L p md : Nat} {ng : Bool} {N : Nat} {s : Bool} {f : Int32} (hN : N ≠ 0) (hp2 : 2 ≤ p) (hp : p ≤ 64) (hL : 340 ≤ L) : zOK p (zrd L p md ng N s f).1 :=
  have h := z_M hN hp2 hp hL
  zaw_ok hp2 h.1 (zex_ge _) h.2.1
theorem zOK_0 (p : Nat) (ng : Bool) : zOK p (0, ng, 0, 0) := ⟨Or.inl rfl, fun z => absurd z (by show ¬ (0 : Nat) = 2; omega), fun z => absurd z (by show ¬ (0 : Nat) = 4; omega)⟩
theorem zOK_3 (p : Nat) (ng : Bool) : zOK p (3, ng, 0, 0) := ⟨Or.inr (Or.inr (Or.inl rfl)), fun z => absurd z (by show ¬ (3 : Nat) = 2; omega), fun z => absurd z (by show ¬ (3 : Nat) = 4; omega)⟩
theorem zOK_4 (p : Nat) : zOK p (4, false, 0, 0) := ⟨Or.inr (Or.inr (Or.inr rfl)), fun z => absurd z (by show ¬ (4 : Nat) = 2; omega), fun _ => rfl⟩
theorem zrd0_ok {L p md : Nat} {ng : Bool} {N : Nat} {s : Bool} {f : Int32} (hp2 : 2 ≤ p) (hp : p ≤ 64) (hL : 340 ≤ L) : zOK p (zrd0 L p md ng N s f).1 := by
  unfold zrd0
  split
  · exact zOK_0 p ng
  · rename_i h; exact zrd_ok h hp2 hp hL
/-- two rows that round alike -/
theorem zrd_eq {L L' p md N N' : Nat} {ng s s' : Bool} {f : Int32} (hp : p ≤ 64) (hL : 340 ≤ L) (hL' : 340 ≤ L') (he : (N.log2 : Int) - L = (N'.log2 : Int) - L') (hm : N / 2 ^ (zu L p N - 1) = N' / 2 ^ (zu L' p N' - 1)) (hs : zmo N (zu L p N) s = zmo N' (zu L' p N') s') : zrd L p md ng N s f = zrd L' p md ng N' s' f := by
  have h1 := zu_ge (N := N) hp hL
  have h2 := zu_ge (N := N') hp hL'
  have e : ∀ a u : Nat, 1 ≤ u → a / 2 ^ u = a / 2 ^ (u - 1) / 2 := by
    intro a u hu
    rw [Nat.div_div_eq_div_mul]
    congr 1
    obtain ⟨t, rfl⟩ : ∃ t, u = t + 1 := ⟨u - 1, by omega⟩
    rw [Nat.add_sub_cancel, Nat.pow_succ]
  have eM : N / 2 ^ zu L p N = N' / 2 ^ zu L' p N' := by rw [e N _ (by omega), e N' _ (by omega), hm]
  have eh : zhf N (zu L p N) = zhf N' (zu L' p N') := by unfold zhf; rw [hm]
  unfold zrd
  rw [eM, eh, hs, he]
theorem zu_mul {L p N t : Nat} (hN : N ≠ 0) (hp : p ≤ 64) (hL : 340 ≤ L) : zu (L + t) p (N * 2 ^ t) = zu L p N + t := by
  have a := zu_i (N := N * 2 ^ t) (L := L + t) hp (by omega)
  have b := zu_i (N := N) hp hL
  rw [z_logmul hN, show (((N.log2 + t : Nat)) : Int) - ((L + t : Nat) : Int) = (N.log2 : Int) - L from by omega] at a
  omega
theorem zrd_scale {L p md N t : Nat} {ng s : Bool} {f : Int32} (hN : N ≠ 0) (hp : p ≤ 64) (hL : 340 ≤ L) : zrd (L + t) p md ng (N * 2 ^ t) s f = zrd L p md ng N s f := by
  have h1 := zu_ge (N := N) hp hL
  refine zrd_eq hp (by omega) hL ?_ ?_ ?_
  · rw [z_logmul hN]; omega
  · rw [zu_mul hN hp hL, show zu L p N + t - 1 = (zu L p N - 1) + t from by omega, zNp, Nat.mul_div_mul_right _ _ (Nat.two_pow_pos t)]
  · unfold zmo
    rw [zu_mul hN hp hL, show zu L p N + t - 1 = (zu L p N - 1) + t from by omega, zNp, Nat.mul_mod_mul_right]
    congr 1
    have := Nat.two_pow_pos t
    by_cases h : N % 2 ^ (zu L p N - 1) = 0
    · rw [h, Nat.zero_mul]
    · have h3 : N % 2 ^ (zu L p N - 1) * 2 ^ t ≠ 0 := Nat.mul_ne_zero h (by omega)
      rw [decide_eq_true h, decide_eq_true h3]
theorem zrd_cut {L p md N t : Nat} {ng s : Bool} {f : Int32} (hN : N ≠ 0) (hp2 : 2 ≤ p) (hp : p ≤ 64) (hL : 340 ≤ L) (ht : t + 1 ≤ zu L p N) (htl : t ≤ N.log2) : zrd L p md ng N s f = zrd L p md ng (N / 2 ^ t * 2 ^ t) (s || decide (N % 2 ^ t ≠ 0)) f := by
  have hd := Nat.div_add_mod' N (2 ^ t)
  have hml := Nat.mod_lt N (Nat.two_pow_pos t)
  have h1 := z_log1 hN
  have h2 := z_log2 N
  have hl : (N / 2 ^ t * 2 ^ t).log2 = N.log2 := by
    refine z_log ?_ (by omega)
    have : 2 ^ (N.log2 - t) ≤ N / 2 ^ t := (Nat.le_div_iff_mul_le (Nat.two_pow_pos t)).mpr (by rw [← zNp, Nat.sub_add_cancel htl]; exact h1)
    calc 2 ^ N.log2 = 2 ^ (N.log2 - t) * 2 ^ t := by rw [← zNp, Nat.sub_add_cancel htl]
      _ ≤ N / 2 ^ t * 2 ^ t := Nat.mul_le_mul_right _ this
  have hu : zu L p (N / 2 ^ t * 2 ^ t) = zu L p N := by unfold zu; rw [hl]
  obtain ⟨v, hv⟩ : ∃ v, zu L p N - 1 = t + v := ⟨zu L p N - 1 - t, by omega⟩
  refine zrd_eq hp hL hL (by rw [hl]) ?_ ?_
  · rw [hu, hv, zNp, ← Nat.div_div_eq_div_mul, ← Nat.div_div_eq_div_mul, Nat.mul_div_cancel _ (Nat.two_pow_pos t)]
  · unfold zmo
    rw [hu, hv, zNp, Nat.mod_mul, Nat.mod_mul, Nat.mul_mod_left, Nat.mul_div_cancel _ (Nat.two_pow_pos t), Nat.zero_add, Bool.or_assoc]
    congr 1
    have hz := Nat.two_pow_pos t
    by_cases h3 : N % 2 ^ t = 0
    · simp [h3]
    · have h4 : N % 2 ^ t + 2 ^ t * (N / 2 ^ t % 2 ^ v) ≠ 0 := by omega
      rw [decide_eq_true h4, decide_eq_true h3, Bool.true_or]
/-- all that is far too great rounds alike -/
theorem zrd_big {L p md N : Nat} {ng s : Bool} {f : Int32} (hp2 : 2 ≤ p) (h : (100 : Int) < (N.log2 : Int) - L) : zrd L p md ng N s f = ((if zsy md ng then (2, ng, 100, 2 ^ p - 1) else (3, ng, 0, 0)), f ||| 5) := by
  have e : zex ((N.log2 : Int) - L) = (N.log2 : Int) - L := by unfold zex; rw [if_neg (by omega)]
  have ef : ∀ ix, zfl ((N.log2 : Int) - L) ix f ||| 5 = f ||| 5 := by
    intro ix
    unfold zfl
    cases ix
    · rfl
    · rw [if_pos rfl, if_neg (by omega), Int32.or_assoc]; rfl
  unfold zrd zaw
  rw [e]
  generalize zra _ _ _ _ _ = aw
  cases aw
  · rw [if_neg (by decide)]; unfold zfin; rw [if_pos h, ef]
  · rw [if_pos rfl]
    split
    · unfold zfin; rw [if_pos (by omega), ef]
    · unfold zfin; rw [if_pos h, ef]
/-- all that is far too small rounds alike -/
theorem zrd_tiny {L p md N : Nat} {ng s : Bool} {f : Int32} (hN : N ≠ 0) (hp2 : 2 ≤ p) (hp : p ≤ 64) (hL : 340 ≤ L) (h : (N.log2 : Int) - L < -100 - p) : zrd L p md ng N s f = zaw p md ng (-100) 0 (zra md ng false false true) (f ||| 3) := by
  have hu := zu_i (N := N) hp hL
  have e : zex ((N.log2 : Int) - L) = -100 := by unfold zex; rw [if_pos (by omega)]
  rw [e] at hu
  have h2 := z_log2 N
  have h3 : N < 2 ^ (zu L p N - 1) := Nat.lt_of_lt_of_le h2 (zpl_le (by omega))
  have h4 : N / 2 ^ zu L p N = 0 := Nat.div_eq_of_lt (Nat.lt_of_lt_of_le h3 (zpl_le (by omega)))
  have h5 : zhf N (zu L p N) = false := by unfold zhf; rw [Nat.div_eq_of_lt h3]; rfl
  have h6 : zmo N (zu L p N) s = true := by unfold zmo; rw [Nat.mod_eq_of_lt h3, decide_eq_true hN, Bool.or_true]
  unfold zrd
  rw [e, h4, h5, h6]
  unfold zfl
  rw [if_pos (by rfl), if_pos (by omega)]
  rfl
end
section
/-! the component's slots -/
def zSX (p : Nat) (w : ZV) (k m e : Int32) (l : Nat → Int32) : Prop :=
  m = zb1 w.2.1 ∧ ((w.1 = 0 ∧ k = 0 ∧ (∃ e0 : Int, -100 ≤ e0 ∧ e0 ≤ 100 ∧ e = zI e0) ∧ zLB 4 0 l) ∨ (w.1 = 2 ∧ k = (if 2 ^ (p - 1) ≤ w.2.2.2 then 2 else 1) ∧ e = zI w.2.2.1 ∧ zLB 4 (w.2.2.2 : Int) l) ∨ (w.1 = 3 ∧ k = 3) ∨ (w.1 = 4 ∧ k = 4))
def zst (w : Nat → ZV) (i : Nat) (r : ZV) : Nat → ZV := fun j => if j = i then r else w j
def zXS (p : Nat) (w : Nat → ZV) (K M E L : Nat → Int32) : Prop := ∀ j, j < 8 → zSX p (w j) (K j) (M j) (E j) (fun k => L (4 * j + k))
def zXo (p : Nat) (w : Nat → ZV) (i : Nat) (K M E L : Nat → Int32) : Prop := ∀ j, j < 8 → j ≠ i → zSX p (w j) (K j) (M j) (E j) (fun k => L (4 * j + k))
def zfr (i : Nat) (l l' : Nat → Int32) : Prop := ∀ j, (j < 4 * i ∨ 4 * i + 4 ≤ j) → l' j = l j
def zff (i : Nat) (l l' : Nat → Int32) : Prop := ∀ j, j ≠ i → l' j = l j
theorem zfr_r (i : Nat) (l : Nat → Int32) : zfr i l l := fun _ _ => rfl
theorem zff_r (i : Nat) (l : Nat → Int32) : zff i l l := fun _ _ => rfl
theorem zff_u (i : Nat) (l : Nat → Int32) (v : Int32) : zff i l (upd l i v) := fun _ h => pk_un h
theorem zff_t {i : Nat} {a b c : Nat → Int32} (h : zff i a b) (g : zff i b c) : zff i a c := fun j hj => (g j hj).trans (h j hj)
theorem zfr_t {i : Nat} {a b c : Nat → Int32} (h : zfr i a b) (g : zfr i b c) : zfr i a c := fun j hj => (g j hj).trans (h j hj)
theorem zfr_u {i k : Nat} (l : Nat → Int32) (v : Int32) (hk : k < 4) : zfr i l (upd l (4 * i + k) v) := fun _ h => pk_un (by omega)
theorem zSX_l {p : Nat} {w : ZV} {k m e : Int32} {l l' : Nat → Int32} (h : zSX p w k m e l) (g : ∀ j, j < 4 → l' j = l j) : zSX p w k m e l' := by
  refine ⟨h.1, ?_⟩
  have c : ∀ T, zLB 4 T l → zLB 4 T l' := fun T hT j hj => (g j hj).trans (hT j hj)
  rcases h.2 with ⟨a, b, d, f⟩ | ⟨a, b, d, f⟩ | h2 | h2
  · exact Or.inl ⟨a, b, d, c _ f⟩
  · exact Or.inr (Or.inl ⟨a, b, d, c _ f⟩)
  · exact Or.inr (Or.inr (Or.inl h2))
  · exact Or.inr (Or.inr (Or.inr h2))
theorem zXo_c {p : Nat} {w : Nat → ZV} {i : Nat} {K M E L K' M' E' L' : Nat → Int32} (h : zXo p w i K M E L) (hK : zff i K K') (hM : zff i M M') (hE : zff i E E') (hL : zfr i L L') : zXo p w i K' M' E' L' := by
  intro j hj hji
  rw [hK j hji, hM j hji, hE j hji]
  refine zSX_l (h j hj hji) (fun k hk => hL _ ?_)
  omega
theorem zXS_o {p : Nat} {w : Nat → ZV} {K M E L : Nat → Int32} (h : zXS p w K M E L) (i : Nat) : zXo p w i K M E L := fun j hj _ => h j hj
theorem zXo_s {p : Nat} {w : Nat → ZV} {i : Nat} {K M E L : Nat → Int32} {r : ZV} (h : zXo p w i K M E L) (g : zSX p r (K i) (M i) (E i) (fun k => L (4 * i + k))) : zXS p (zst w i r) K M E L := by
  intro j hj
  unfold zst
  by_cases e : j = i
  · subst e; rw [if_pos rfl]; exact g
  · rw [if_neg e]; exact h j hj e
theorem zx_ix (i k : Nat) : (4 : Int32) * nI i + nI k = nI (4 * i + k) := by
  rw [show (4 : Int32) = nI 4 from rfl, pk_mul, nI_add]
theorem zx_i4 (i : Nat) : (4 : Int32) * nI i = nI (4 * i) := by
  rw [show (4 : Int32) = nI 4 from rfl, pk_mul]
theorem zw_and0 {m c : Nat} (h : m / 2 ^ c % 2 = 0) : m &&& 2 ^ c = 0 := by
  apply Nat.eq_of_testBit_eq
  intro i
  rw [Nat.testBit_and, Nat.testBit_two_pow, Nat.zero_testBit]
  by_cases hi : c = i
  · subst hi
    rw [Nat.testBit_eq_decide_div_mod_eq, h]
    rfl
  · simp [hi]
theorem zw_orb {x c : Nat} (hx : x < 65536) (hc : c < 16) : nI x ||| nI (2 ^ c) = nI (if x / 2 ^ c % 2 = 1 then x else x + 2 ^ c) := by
  by_cases h : x / 2 ^ c % 2 = 1
  · rw [if_pos h]
    have e : x ||| 2 ^ c = x := by
      apply Nat.eq_of_testBit_eq
      intro i
      rw [Nat.testBit_or, Nat.testBit_two_pow]
      by_cases hi : c = i
      · subst hi
        rw [Nat.testBit_eq_decide_div_mod_eq, decide_eq_true h, Bool.true_or]
      · simp [hi]
    have h2 : 2 ^ c < 2 ^ 16 := zpl_lt hc
    apply Int32.toBitVec_inj.mp
    show BitVec.ofNat 32 x ||| BitVec.ofNat 32 (2 ^ c) = BitVec.ofNat 32 x
    apply BitVec.eq_of_toNat_eq
    rw [BitVec.toNat_or, BitVec.toNat_ofNat, BitVec.toNat_ofNat, Nat.mod_eq_of_lt (by omega), Nat.mod_eq_of_lt (by omega), e]
  · rw [if_neg h, ← nI_add]
    have h2 : 2 ^ c < 2 ^ 16 := zpl_lt hc
    apply Int32.toBitVec_inj.mp
    show BitVec.ofNat 32 x ||| BitVec.ofNat 32 (2 ^ c) = BitVec.ofNat 32 x + BitVec.ofNat 32 (2 ^ c)
    rw [BitVec.add_eq_or_of_and_eq_zero]
    apply BitVec.eq_of_toNat_eq
    rw [BitVec.toNat_and, BitVec.toNat_ofNat, BitVec.toNat_ofNat, Nat.mod_eq_of_lt (by omega), Nat.mod_eq_of_lt (by omega), zw_and0 (by omega)]
    rfl
/-- a number with one more bit -/
def zsb (M b : Nat) : Nat := if M / 2 ^ b % 2 = 1 then M else M + 2 ^ b
theorem zsb_l {M b : Nat} : ∀ k, zlm (zsb M b : Int) k = if k = b / 16 then (if zlm (M : Int) k / 2 ^ (b % 16) % 2 = 1 then zlm (M : Int) k else zlm (M : Int) k + 2 ^ (b % 16)) else zlm (M : Int) k := by
  intro k
  have hb : zlm (M : Int) (b / 16) / 2 ^ (b % 16) % 2 = M / 2 ^ b % 2 := by
    rw [zlm_bit _ _ _ (by omega), show 16 * (b / 16) + b % 16 = b from by omega, zbb_n]
  unfold zsb
  by_cases h : M / 2 ^ b % 2 = 1
  · rw [if_pos h]
    by_cases e : k = b / 16
    · subst e; rw [if_pos rfl, if_pos (by rw [hb]; exact h)]
    · rw [if_neg e]
  · rw [if_neg h]
    have hc : ((M + 2 ^ b : Nat) : Int) = (M : Int) + 1 * 2 ^ b := by rw [Int.natCast_add, zp_cast, Int.one_mul]
    rw [hc]
    by_cases e : k = b / 16
    · subst e
      rw [if_pos rfl, if_neg (by rw [hb]; exact h)]
      have hm := zlm_lt (M : Int) (b / 16)
      have e1 : ((M : Int) + 1 * 2 ^ b) / 2 ^ (16 * (b / 16)) = (M : Int) / 2 ^ (16 * (b / 16)) + ((2 ^ (b % 16) : Nat) : Int) := by
        rw [zad_lo _ _ (by omega), Int.one_mul, zp_cast]
        exact congrArg (fun z => (M : Int) / 2 ^ (16 * (b / 16)) + 2 ^ z) (by omega)
      have e2 := (zc16 e1).1
      have e3 : zlm (M : Int) (b / 16) + 2 ^ (b % 16) < 65536 := by
        have h0 : zlm (M : Int) (b / 16) / 2 ^ (b % 16) % 2 = 0 := by omega
        have h1 : (65536 : Nat) = 2 ^ (b % 16) * (2 * 2 ^ (15 - b % 16)) := by
          have : 2 * 2 ^ (15 - b % 16) = 2 ^ (16 - b % 16) := by rw [show 16 - b % 16 = 15 - b % 16 + 1 from by omega, Nat.pow_succ, Nat.mul_comm]
          rw [this, ← zNp, Nat.add_sub_cancel' (by omega)]
        rw [h1] at hm ⊢
        have h2 := Nat.div_lt_of_lt_mul hm
        have h3 := Nat.div_add_mod (zlm (M : Int) (b / 16)) (2 ^ (b % 16))
        have h4 := Nat.mod_lt (zlm (M : Int) (b / 16)) (Nat.two_pow_pos (b % 16))
        generalize zlm (M : Int) (b / 16) / 2 ^ (b % 16) = q at *
        have h5 : q + 2 ≤ 2 * 2 ^ (15 - b % 16) := by omega
        calc zlm (M : Int) (b / 16) + 2 ^ (b % 16) < 2 ^ (b % 16) * q + 2 ^ (b % 16) * 2 := by omega
          _ = 2 ^ (b % 16) * (q + 2) := by rw [Nat.mul_add]
          _ ≤ _ := Nat.mul_le_mul_left _ h5
      generalize (2 : Nat) ^ (b % 16) = Z at e2 e3 ⊢
      omega
    · rw [if_neg e]
      by_cases e2 : k < b / 16
      · exact zlm_low _ _ (by omega)
      · have e1 : ((M : Int) + 1 * 2 ^ b) / 2 ^ (16 * (b / 16 + 1)) = (M : Int) / 2 ^ (16 * (b / 16 + 1)) := by
          have d : ∀ C : Int, C / 2 ^ (16 * (b / 16 + 1)) = C / 2 ^ b / 2 / 2 ^ (15 - b % 16) := by
            intro C
            rw [show 16 * (b / 16 + 1) = b + 1 + (15 - b % 16) from by omega, zdd, zdb]
          have hz : (M : Int) / 2 ^ b % 2 = 0 := by
            have := zbb_i (M : Int) b
            rw [zbb_n] at this
            omega
          rw [d, d, zad]
          congr 1
          omega
        exact zlm_same e1 (by omega)
section
variable {f_p f_mode f_flags f_below f_sticky : Int32} {a_kinds a_minus a_exponents a_limb a_row a_one a_two a_roots a_high a_part a_quotient a_square a_guess : Nat → Int32}
theorem xs_setBit {post : SX → Prop} {M i b : Nat} (hl : zLB 4 (M : Int) (fun k => a_limb (4 * i + k))) (hi : i < 8) (hb : b < 64) (h : ∀ l, zfr i a_limb l → zLB 4 (zsb M b : Int) (fun k => l (4 * i + k)) → post (f_p, f_mode, f_flags, f_below, f_sticky, a_kinds, a_minus, a_exponents, l, a_row, a_one, a_two, a_roots, a_high, a_part, a_quotient, a_square, a_guess)) : wpX_setBit post (f_p, f_mode, f_flags, f_below, f_sticky, a_kinds, a_minus, a_exponents, a_limb, a_row, a_one, a_two, a_roots, a_high, a_part, a_quotient, a_square, a_guess) (nI i) (nI b) := by
  show vp_in _ 32 ∧ (vp_in _ 32 ∧ _)
  rw [zw_s4 (by omega), zx_ix, nI_clamp (by omega)]
  refine ⟨vp_in_nI (by omega) (by decide), vp_in_nI (by omega) (by decide), fun l el => ?_⟩
  have hlb : a_limb (4 * i + b / 16) = nI (zlm (M : Int) (b / 16)) := hl (b / 16) (by omega)
  rw [hlb, zw_m15 (by omega), zw_p (by omega), zw_orb (zlm_lt _ _) (by omega)] at el
  subst el
  refine h _ (zfr_u _ _ (by omega)) (fun k hk => ?_)
  show upd a_limb (4 * i + b / 16) _ (4 * i + k) = _
  rw [zsb_l]
  by_cases e : k = b / 16
  · subst e; rw [pk_us, if_pos rfl]
  · rw [pk_un (by omega), if_neg e]; exact hl k hk
theorem xs_hasBit {post : Int32 → Prop} {M i b : Nat} (hl : zLB 4 (M : Int) (fun k => a_limb (4 * i + k))) (hi : i < 8) (hb : b < 64) (h : post (zb1 (decide (M / 2 ^ b % 2 = 1)))) : wpX_hasBit post (f_p, f_mode, f_flags, f_below, f_sticky, a_kinds, a_minus, a_exponents, a_limb, a_row, a_one, a_two, a_roots, a_high, a_part, a_quotient, a_square, a_guess) (nI i) (nI b) := by
  show vp_in _ 32 ∧ _
  have hlb : a_limb (4 * i + b / 16) = nI (zlm (M : Int) (b / 16)) := hl (b / 16) (by omega)
  rw [zw_s4 (by omega), zx_ix, nI_clamp (by omega), hlb, zw_bit (zlm_lt _ _) (by omega), zlm_bit _ _ _ (by omega), show 16 * (b / 16) + b % 16 = b from by omega, zbb_n]
  refine ⟨vp_in_nI (by omega) (by decide), ?_⟩
  have := Nat.mod_lt (M / 2 ^ b) (show 0 < 2 by decide)
  generalize M / 2 ^ b % 2 = y at *
  refine pk_eq y 0 (fun hy => ?_) (fun hy => ?_)
  · rw [hy] at h; exact h
  · rw [show y = 1 from by omega] at h; exact h
theorem z_4 {M : Nat} (h : M < 2 ^ 64) : M = zlm (M : Int) 0 + 65536 * zlm (M : Int) 1 + 4294967296 * zlm (M : Int) 2 + 281474976710656 * zlm (M : Int) 3 := by
  rw [zlm_n, zlm_n, zlm_n, zlm_n]
  show M = M / 1 % 65536 + 65536 * (M / 65536 % 65536) + 4294967296 * (M / 4294967296 % 65536) + 281474976710656 * (M / 281474976710656 % 65536)
  omega
theorem z_or0 {a b : Nat} (ha : a < 65536) (hb : b < 65536) : ∃ c, nI a ||| nI b = nI c ∧ c < 65536 ∧ (c = 0 ↔ a = 0 ∧ b = 0) := by
  refine ⟨a ||| b, ?_, Nat.or_lt_two_pow (n := 16) ha hb, Nat.or_eq_zero_iff⟩
  apply Int32.toBitVec_inj.mp
  show BitVec.ofNat 32 _ ||| BitVec.ofNat 32 _ = BitVec.ofNat 32 _
  apply BitVec.eq_of_toNat_eq
  rw [BitVec.toNat_or, BitVec.toNat_ofNat, BitVec.toNat_ofNat, BitVec.toNat_ofNat, Nat.or_mod_two_pow]
theorem xs_empty {post : Int32 → Prop} {M i : Nat} (hl : zLB 4 (M : Int) (fun k => a_limb (4 * i + k))) (hi : i < 8) (hM : M < 2 ^ 64) (h : post (zb1 (decide (M = 0)))) : wpX_empty post (f_p, f_mode, f_flags, f_below, f_sticky, a_kinds, a_minus, a_exponents, a_limb, a_row, a_one, a_two, a_roots, a_high, a_part, a_quotient, a_square, a_guess) (nI i) := by
  show vp_in _ 32 ∧ (vp_in _ 32 ∧ (vp_in _ 32 ∧ (vp_in _ 32 ∧ _)))
  have h0 : a_limb (4 * i) = nI (zlm (M : Int) 0) := hl 0 (by omega)
  have h1 : a_limb (4 * i + 1) = nI (zlm (M : Int) 1) := hl 1 (by omega)
  have h2 : a_limb (4 * i + 2) = nI (zlm (M : Int) 2) := hl 2 (by omega)
  have h3 : a_limb (4 * i + 3) = nI (zlm (M : Int) 3) := hl 3 (by omega)
  rw [zx_i4, show nI (4 * i) + 1 = nI (4 * i + 1) from nI_add _ 1, show nI (4 * i) + 2 = nI (4 * i + 2) from nI_add _ 2, show nI (4 * i) + 3 = nI (4 * i + 3) from nI_add _ 3, nI_clamp (by omega), nI_clamp (by omega), nI_clamp (by omega), nI_clamp (by omega), h0, h1, h2, h3]
  refine ⟨vp_in_nI (by omega) (by decide), vp_in_nI (by omega) (by decide), vp_in_nI (by omega) (by decide), vp_in_nI (by omega) (by decide), ?_⟩
  obtain ⟨c1, e1, l1, i1⟩ := z_or0 (zlm_lt (M : Int) 0) (zlm_lt (M : Int) 1)
  obtain ⟨c2, e2, l2, i2⟩ := z_or0 l1 (zlm_lt (M : Int) 2)
  obtain ⟨c3, e3, l3, i3⟩ := z_or0 l2 (zlm_lt (M : Int) 3)
  rw [e1, e2, e3]
  have hz := z_4 hM
  refine pk_eq c3 0 (fun hy => ?_) (fun hy => ?_)
  · have : M = 0 := by
      have a := i3.mp hy
      have b := i2.mp a.1
      have c := i1.mp b.1
      omega
    rw [decide_eq_true this] at h; exact h
  · have : ¬ M = 0 := by
      intro z
      apply hy
      rw [i3, i2, i1]
      subst z
      exact ⟨⟨⟨zlm_0 0, zlm_0 1⟩, zlm_0 2⟩, zlm_0 3⟩
    rw [decide_eq_false this] at h; exact h
/-- four zeros -/
theorem xs_zero_up {i k : Nat} {l l' : Nat → Int32} (hf : zfr i l l') (hz : ∀ j, j < k → l' (4 * i + j) = 0) (hk : k < 4) : zfr i l (upd l' (4 * i + k) 0) ∧ ∀ j, j < k + 1 → upd l' (4 * i + k) 0 (4 * i + j) = 0 := by
  refine ⟨zfr_t hf (zfr_u _ _ hk), fun j hj => ?_⟩
  by_cases e : j = k
  · subst e; exact pk_us
  · rw [pk_un (by omega)]; exact hz j (by omega)
theorem xs_zLB0 {i : Nat} {l : Nat → Int32} (hz : ∀ j, j < 4 → l (4 * i + j) = 0) : zLB 4 0 (fun k => l (4 * i + k)) := fun k hk => by rw [zlm_0]; exact hz k hk
end
end
section
/-! set, invalid, copy, increase, greatest, finite, overflow -/
theorem zn_m100 : vp_nar .short (-100) = zI (-100) := by
  have e : (-100 : Int32) = zI (-100) := by decide
  rw [e]
  exact zn_s (by decide)
theorem zn_100 : vp_nar .short 100 = zI 100 := by
  have e : (100 : Int32) = zI 100 := by decide
  rw [e]
  exact zn_s (by decide)
theorem zSX_set {p k : Nat} {b : Bool} {l : Nat → Int32} (hk : k = 0 ∨ k = 3 ∨ k = 4) (hl : zLB 4 0 l) : zSX p (k, b, 0, 0) (nI k) (zb1 b) (zI (-100)) l := by
  refine ⟨rfl, ?_⟩
  rcases hk with rfl | rfl | rfl
  · exact Or.inl ⟨rfl, rfl, ⟨-100, by decide, by decide, rfl⟩, hl⟩
  · exact Or.inr (Or.inr (Or.inl ⟨rfl, rfl⟩))
  · exact Or.inr (Or.inr (Or.inr ⟨rfl, rfl⟩))
theorem zsb_pow (b : Nat) : zsb (2 ^ b - 1) b = 2 ^ (b + 1) - 1 := by
  have h := Nat.two_pow_pos b
  unfold zsb
  rw [Nat.div_eq_of_lt (by omega), if_neg (by decide), Nat.pow_succ]
  omega
theorem zsb_0 (b : Nat) : zsb 0 b = 2 ^ b := by
  unfold zsb
  rw [Nat.zero_div, if_neg (by decide), Nat.zero_add]
theorem zsb_set {M b : Nat} (h : M / 2 ^ b % 2 = 1) : zsb M b = M := by unfold zsb; rw [if_pos h]
section
variable {f_p f_mode f_flags f_below f_sticky : Int32} {a_kinds a_minus a_exponents a_limb a_row a_one a_two a_roots a_high a_part a_quotient a_square a_guess : Nat → Int32}
theorem xs_set_l {post : SX → Prop} {i : Nat} (hi : i < 8) (h : ∀ l, zfr i a_limb l → zLB 4 0 (fun k => l (4 * i + k)) → post (f_p, f_mode, f_flags, f_below, f_sticky, a_kinds, a_minus, upd a_exponents i (zI (-100)), l, a_row, a_one, a_two, a_roots, a_high, a_part, a_quotient, a_square, a_guess)) : ∀ n k l, k ≤ 4 → 4 - k < n → zfr i a_limb l → (∀ j, j < k → l (4 * i + j) = 0) → wX_set_31 post (nI i) f_p f_mode f_flags f_below f_sticky n (nI k) a_kinds a_minus a_exponents l a_row a_one a_two a_roots a_high a_part a_quotient a_square a_guess := by
  intro n
  induction n with
  | zero => intro k l _ h1; omega
  | succ n ih =>
    intro k l hk hn hf hz
    refine pk_le 4 k (fun hk2 => ⟨vp_in_nI hi (by decide), fun E eE => ?_⟩) (fun hk2 => ⟨?_, fun l1 el y ey => ?_⟩)
    · rw [nI_clamp (by omega), zn_m100] at eE
      subst eE
      exact h l hf (xs_zLB0 (fun j hj => hz j (by omega)))
    · rw [zx_ix]; exact vp_in_nI (by omega) (by decide)
    · rw [zx_ix, nI_clamp (by omega)] at el
      subst el ey
      rw [nI_1]
      have g := xs_zero_up hf hz hk2
      exact ih (k + 1) _ (by omega) (by omega) g.1 g.2
theorem xs_seto {post : SX → Prop} {p i k : Nat} {w : Nat → ZV} {ng : Bool} (hs : zXo p w i a_kinds a_minus a_exponents a_limb) (hi : i < 8) (hk : k = 0 ∨ k = 3 ∨ k = 4) (h : ∀ K M E L, zXS p (zst w i (k, ng && !(k == 4), 0, 0)) K M E L → post (f_p, f_mode, f_flags, f_below, f_sticky, K, M, E, L, a_row, a_one, a_two, a_roots, a_high, a_part, a_quotient, a_square, a_guess)) : wpX_set post (f_p, f_mode, f_flags, f_below, f_sticky, a_kinds, a_minus, a_exponents, a_limb, a_row, a_one, a_two, a_roots, a_high, a_part, a_quotient, a_square, a_guess) (nI i) (nI k) (zb1 ng) := by
  have hk8 : k < 128 := by omega
  have fin : ∀ b : Bool, b = (ng && !(k == 4)) → ∃ n, wX_set_31 post (nI i) f_p f_mode f_flags f_below f_sticky n (nI 0) (upd a_kinds i (nI k)) (upd a_minus i (zb1 b)) a_exponents a_limb a_row a_one a_two a_roots a_high a_part a_quotient a_square a_guess := by
    intro b hb
    refine ⟨5, xs_set_l hi (fun l hf hl => h _ _ _ _ (zXo_s (zXo_c hs (zff_u _ _ _) (zff_u _ _ _) (zff_u _ _ _) hf) ?_)) 5 0 a_limb (by omega) (by omega) (zfr_r _ _) (fun j hj => absurd hj (by omega))⟩
    rw [pk_us, pk_us, pk_us, ← hb]
    exact zSX_set hk hl
  refine ⟨vp_in_nI hi (by decide), fun K eK => ?_⟩
  rw [nI_clamp (by omega), zn_b2 hk8] at eK
  subst eK
  refine zk_b (fun e => ⟨vp_in_nI hi (by decide), fun M eM => ?_⟩) (fun e => ?_)
  · rw [nI_clamp (by omega)] at eM
    subst eM
    exact fin false (by rw [e]; rfl)
  · refine pk_eq k 4 (fun e4 => ⟨vp_in_nI hi (by decide), fun M eM => ?_⟩) (fun e4 => ⟨vp_in_nI hi (by decide), fun M eM => ?_⟩)
    · rw [nI_clamp (by omega)] at eM
      subst eM
      exact fin false (by rw [e, e4]; rfl)
    · rw [nI_clamp (by omega)] at eM
      subst eM
      refine fin true ?_
      rw [e, Bool.true_and]
      simp [e4]
theorem xs_set {post : SX → Prop} {p i k : Nat} {w : Nat → ZV} {ng : Bool} (hs : zXS p w a_kinds a_minus a_exponents a_limb) (hi : i < 8) (hk : k = 0 ∨ k = 3 ∨ k = 4) (h : ∀ K M E L, zXS p (zst w i (k, ng && !(k == 4), 0, 0)) K M E L → post (f_p, f_mode, f_flags, f_below, f_sticky, K, M, E, L, a_row, a_one, a_two, a_roots, a_high, a_part, a_quotient, a_square, a_guess)) : wpX_set post (f_p, f_mode, f_flags, f_below, f_sticky, a_kinds, a_minus, a_exponents, a_limb, a_row, a_one, a_two, a_roots, a_high, a_part, a_quotient, a_square, a_guess) (nI i) (nI k) (zb1 ng) := xs_seto (zXS_o hs i) hi hk h
theorem xs_invalid {post : SX → Prop} {p i : Nat} {w : Nat → ZV} (hs : zXS p w a_kinds a_minus a_exponents a_limb) (hi : i < 8) (h : ∀ K M E L, zXS p (zst w i (4, false, 0, 0)) K M E L → post (f_p, f_mode, f_flags ||| 16, f_below, f_sticky, K, M, E, L, a_row, a_one, a_two, a_roots, a_high, a_part, a_quotient, a_square, a_guess)) : wpX_invalid post (f_p, f_mode, f_flags, f_below, f_sticky, a_kinds, a_minus, a_exponents, a_limb, a_row, a_one, a_two, a_roots, a_high, a_part, a_quotient, a_square, a_guess) (nI i) := by
  intro f ef
  subst ef
  exact xs_set (ng := false) hs hi (Or.inr (Or.inr rfl)) h
/-- copy -/
theorem xs_copy_l {post : SX → Prop} {i x : Nat} (hi : i < 8) (hx : x < 8) (h : ∀ l, zfr i a_limb l → (∀ j, j < 4 → l (4 * i + j) = a_limb (4 * x + j)) → post (f_p, f_mode, f_flags, f_below, f_sticky, a_kinds, a_minus, a_exponents, l, a_row, a_one, a_two, a_roots, a_high, a_part, a_quotient, a_square, a_guess)) : ∀ n k l, k ≤ 4 → 4 - k < n → zfr i a_limb l → (∀ j, j < k → l (4 * i + j) = a_limb (4 * x + j)) → (∀ j, j < 4 → l (4 * x + j) = a_limb (4 * x + j)) → wX_copy_38 post (nI x) (nI i) f_p f_mode f_flags f_below f_sticky n (nI k) a_kinds a_minus a_exponents l a_row a_one a_two a_roots a_high a_part a_quotient a_square a_guess := by
  intro n
  induction n with
  | zero => intro k l _ h1; omega
  | succ n ih =>
    intro k l hk hn hf hz hs
    refine pk_le 4 k (fun hk2 => h l hf (fun j hj => hz j (by omega))) (fun hk2 => ⟨?_, ?_, fun l1 el y ey => ?_⟩)
    · rw [zx_ix]; exact vp_in_nI (by omega) (by decide)
    · rw [zx_ix]; exact vp_in_nI (by omega) (by decide)
    · rw [zx_ix, zx_ix, nI_clamp (by omega), nI_clamp (by omega), hs k hk2] at el
      subst el ey
      rw [nI_1]
      refine ih (k + 1) _ (by omega) (by omega) (zfr_t hf (zfr_u _ _ hk2)) (fun j hj => ?_) (fun j hj => ?_)
      · by_cases e : j = k
        · subst e; rw [pk_us]
        · rw [pk_un (by omega)]; exact hz j (by omega)
      · by_cases e : 4 * x + j = 4 * i + k
        · rw [e, pk_us]; exact congrArg a_limb (by omega)
        · rw [pk_un e]; exact hs j hj
theorem zSX_copy {p : Nat} {w : ZV} {k m e : Int32} {l : Nat → Int32} (h : zSX p w k m e l) (ho : zOK p w) : zSX p w (vp_nar .byte k) (vp_nar .boolean m) (vp_nar .short e) l := by
  refine ⟨by rw [h.1, zb1_v], ?_⟩
  rcases h.2 with ⟨a, b, d, f⟩ | ⟨a, b, d, f⟩ | ⟨a, b⟩ | ⟨a, b⟩
  · refine Or.inl ⟨a, ?_, ?_, f⟩
    · rw [b]; exact zn_b (n := 0) (by decide)
    · obtain ⟨e0, h1, h2, rfl⟩ := d
      exact ⟨e0, h1, h2, zn_s (by omega)⟩
  · refine Or.inr (Or.inl ⟨a, ?_, ?_, f⟩)
    · rw [b]
      split
      · exact zn_b (n := 2) (by decide)
      · exact zn_b (n := 1) (by decide)
    · have := ho.2.1 a
      rw [d]; exact zn_s (by omega)
  · refine Or.inr (Or.inr (Or.inl ⟨a, ?_⟩))
    rw [b]; exact zn_b (n := 3) (by decide)
  · refine Or.inr (Or.inr (Or.inr ⟨a, ?_⟩))
    rw [b]; exact zn_b (n := 4) (by decide)
theorem xs_copy {post : SX → Prop} {p i x : Nat} {w : Nat → ZV} (hs : zXS p w a_kinds a_minus a_exponents a_limb) (ho : zOK p (w x)) (hi : i < 8) (hx : x < 8) (h : ∀ K M E L, zXS p (zst w i (w x)) K M E L → post (f_p, f_mode, f_flags, f_below, f_sticky, K, M, E, L, a_row, a_one, a_two, a_roots, a_high, a_part, a_quotient, a_square, a_guess)) : wpX_copy post (f_p, f_mode, f_flags, f_below, f_sticky, a_kinds, a_minus, a_exponents, a_limb, a_row, a_one, a_two, a_roots, a_high, a_part, a_quotient, a_square, a_guess) (nI x) (nI i) := by
  have vx := vp_in_nI hx (show 8 < 2 ^ 31 by decide)
  have vi := vp_in_nI hi (show 8 < 2 ^ 31 by decide)
  refine ⟨vx, vi, fun K eK => ⟨vx, vi, fun M eM => ⟨vx, vi, fun E eE => ?_⟩⟩⟩
  rw [nI_clamp (by omega), nI_clamp (by omega)] at eK eM eE
  subst eK eM eE
  refine ⟨5, xs_copy_l hi hx (fun l hf hl => h _ _ _ _ (zXo_s (zXo_c (zXS_o hs i) (zff_u _ _ _) (zff_u _ _ _) (zff_u _ _ _) hf) ?_)) 5 0 a_limb (by omega) (by omega) (zfr_r _ _) (fun j hj => absurd hj (by omega)) (fun _ _ => rfl)⟩
  rw [pk_us, pk_us, pk_us]
  exact zSX_l (zSX_copy (hs x hx) ho) hl
/-- increase -/
def zinc (p M : Nat) : Nat := if M + 1 = 2 ^ p then 2 ^ (p - 1) else M + 1
theorem xs_inc118 {post : Int32 → SX → Prop} {p i : Nat} (hp2 : 2 ≤ p) (hp : p ≤ 64) (hi : i < 8) (h : ∀ l, zfr i a_limb l → zLB 4 ((2 ^ (p - 1) : Nat) : Int) (fun k => l (4 * i + k)) → post 1 (nI p, f_mode, f_flags, f_below, f_sticky, a_kinds, a_minus, a_exponents, l, a_row, a_one, a_two, a_roots, a_high, a_part, a_quotient, a_square, a_guess)) : ∀ n k l, k ≤ 4 → 4 - k < n → zfr i a_limb l → (∀ j, j < k → l (4 * i + j) = 0) → wX_increase_118 post (nI i) (nI p) f_mode f_flags f_below f_sticky n (nI k) a_kinds a_minus a_exponents l a_row a_one a_two a_roots a_high a_part a_quotient a_square a_guess := by
  intro n
  induction n with
  | zero => intro k l _ h1; omega
  | succ n ih =>
    intro k l hk hn hf hz
    refine pk_le 4 k (fun hk2 => ?_) (fun hk2 => ⟨?_, fun l1 el y ey => ?_⟩)
    · have e : nI p - 1 = nI (p - 1) := pk_sub (b := 1) (by omega)
      rw [e]
      refine xs_setBit (M := 0) (xs_zLB0 (fun j hj => hz j (by omega))) hi (by omega) (fun l2 hf2 hl2 => ?_)
      rw [zsb_0] at hl2
      exact h l2 (zfr_t hf hf2) hl2
    · rw [zx_ix]; exact vp_in_nI (by omega) (by decide)
    · rw [zx_ix, nI_clamp (by omega)] at el
      subst el ey
      rw [nI_1]
      have g := xs_zero_up hf hz hk2
      exact ih (k + 1) _ (by omega) (by omega) g.1 g.2
theorem xs_inc108 {post : Int32 → SX → Prop} {p i M : Nat} (hp2 : 2 ≤ p) (hp : p ≤ 64) (hi : i < 8) (hl : zLB 4 ((M + 1 : Nat) : Int) (fun k => a_limb (4 * i + k))) (h : ∀ l, zfr i a_limb l → zLB 4 (zinc p M : Int) (fun k => l (4 * i + k)) → post (zb1 (decide (M + 1 = 2 ^ p))) (nI p, f_mode, f_flags, f_below, f_sticky, a_kinds, a_minus, a_exponents, l, a_row, a_one, a_two, a_roots, a_high, a_part, a_quotient, a_square, a_guess)) : wX_increase_108 post (nI i) (zb1 (decide (M + 1 = 2 ^ p))) (nI p) f_mode f_flags f_below f_sticky a_kinds a_minus a_exponents a_limb a_row a_one a_two a_roots a_high a_part a_quotient a_square a_guess := by
  refine zk_b (fun e => ?_) (fun e => ?_)
  · have e2 := of_decide_eq_false e
    have h2 := h a_limb (zfr_r _ _) (by unfold zinc; rw [if_neg e2]; exact hl)
    rw [e] at h2
    exact h2
  · have e2 := of_decide_eq_true e
    refine ⟨5, xs_inc118 hp2 hp hi (fun l hf hl => ?_) 5 0 a_limb (by omega) (by omega) (zfr_r _ _) (fun j hj => absurd hj (by omega))⟩
    have h2 := h l hf (by unfold zinc; rw [if_pos e2]; exact hl)
    rw [e] at h2
    exact h2
theorem xs_inc54 {post : Int32 → SX → Prop} {p i M c : Nat} (hp2 : 2 ≤ p) (hp : p ≤ 64) (hi : i < 8) (hM : M < 2 ^ p) (hl : zLB 4 ((M + 1 : Nat) : Int) (fun k => a_limb (4 * i + k))) (hc : c ≤ 1) (hc2 : c = 1 ↔ M + 1 = 2 ^ 64) (h : ∀ l, zfr i a_limb l → zLB 4 (zinc p M : Int) (fun k => l (4 * i + k)) → post (zb1 (decide (M + 1 = 2 ^ p))) (nI p, f_mode, f_flags, f_below, f_sticky, a_kinds, a_minus, a_exponents, l, a_row, a_one, a_two, a_roots, a_high, a_part, a_quotient, a_square, a_guess)) : wX_increase_54 post (nI i) (nI c) (nI p) f_mode f_flags f_below f_sticky a_kinds a_minus a_exponents a_limb a_row a_one a_two a_roots a_high a_part a_quotient a_square a_guess := by
  have g := xs_inc108 hp2 hp hi hl h
  refine pk_eq p 64 (fun e => ?_) (fun e => ⟨?_, ?_⟩)
  · subst e
    refine pk_le c 0 (fun h0 => ?_) (fun h0 => ?_)
    · rw [decide_eq_false (by omega)] at g; exact g
    · rw [decide_eq_true (by omega)] at g; exact g
  · rw [zw_s4 (by omega), zx_ix]; exact vp_in_nI (by omega) (by decide)
  · have hlb : a_limb (4 * i + p / 16) = nI (zlm ((M + 1 : Nat) : Int) (p / 16)) := hl (p / 16) (by omega)
    rw [zw_s4 (by omega), zx_ix, nI_clamp (by omega), hlb, zw_bit (zlm_lt _ _) (by omega), zlm_bit _ _ _ (by omega), show 16 * (p / 16) + p % 16 = p from by omega, zbb_n]
    have hq : (M + 1) / 2 ^ p % 2 = if M + 1 = 2 ^ p then 1 else 0 := by
      by_cases e2 : M + 1 = 2 ^ p
      · rw [if_pos e2, e2, Nat.div_self (Nat.two_pow_pos p)]
      · rw [if_neg e2, Nat.div_eq_of_lt (by omega)]
    rw [hq]
    by_cases e2 : M + 1 = 2 ^ p
    · rw [if_pos e2]
      rw [decide_eq_true e2] at g
      exact br_f (by decide) g
    · rw [if_neg e2]
      rw [decide_eq_false e2] at g
      exact br_t (by rfl) g
theorem xs_inc_l {post : Int32 → SX → Prop} {p i M : Nat} (hp2 : 2 ≤ p) (hp : p ≤ 64) (hi : i < 8) (hM : M < 2 ^ p) (h : ∀ l, zfr i a_limb l → zLB 4 (zinc p M : Int) (fun k => l (4 * i + k)) → post (zb1 (decide (M + 1 = 2 ^ p))) (nI p, f_mode, f_flags, f_below, f_sticky, a_kinds, a_minus, a_exponents, l, a_row, a_one, a_two, a_roots, a_high, a_part, a_quotient, a_square, a_guess)) : ∀ (n k c : Nat) (l : Nat → Int32), k ≤ 4 → 4 - k < n → c ≤ 1 → ((M + 1 : Nat) : Int) / 2 ^ (16 * k) = (M : Int) / 2 ^ (16 * k) + (c : Int) → zfr i a_limb l → (∀ j, j < k → l (4 * i + j) = nI (zlm ((M + 1 : Nat) : Int) j)) → (∀ j, k ≤ j → j < 4 → l (4 * i + j) = nI (zlm (M : Int) j)) → wX_increase_4 post (nI i) (nI p) f_mode f_flags f_below f_sticky n (nI c) (nI k) a_kinds a_minus a_exponents l a_row a_one a_two a_roots a_high a_part a_quotient a_square a_guess := by
  have h64 : (M : Nat) < 2 ^ 64 := Nat.lt_of_lt_of_le hM (zpl_le hp)
  intro n
  induction n with
  | zero => intro k c l _ h1; omega
  | succ n ih =>
    intro k c l hk hn hc hT hf hlo hhi
    refine pk_le 4 k (fun hk2 => ?_) (fun hk2 => ?_)
    · have ek : k = 4 := by omega
      subst ek
      refine xs_inc54 (M := M) hp2 hp hi hM (fun j hj => hlo j (by omega)) hc ?_ (fun l2 hf2 hl2 => h l2 (zfr_t hf hf2) hl2)
      have e1 : (M : Int) / 2 ^ (16 * 4) = 0 := Int.ediv_eq_zero_of_lt (by omega) (by rw [← zp_cast]; exact Int.ofNat_lt.mpr h64)
      rw [e1] at hT
      have e2 : ((M + 1 : Nat) : Int) / 2 ^ (16 * 4) = (((M + 1) / 2 ^ 64 : Nat) : Int) := by rw [Int.natCast_ediv, zp_cast]
      rw [e2] at hT
      have e3 : (M + 1) / 2 ^ 64 = c := by omega
      constructor
      · intro c1
        rw [c1] at e3
        omega
      · intro e4
        rw [e4] at e3
        rw [← e3]
    · refine pk_le c 0 (fun h0 => ?_) (fun h0 => ⟨?_, fun t et => ⟨?_, fun l1 el c1 ec y ey => ?_⟩⟩)
      · have ec : c = 0 := by omega
        subst ec
        refine xs_inc54 (M := M) (c := 0) hp2 hp hi hM (fun j hj => ?_) hc ?_ (fun l2 hf2 hl2 => h l2 (zfr_t hf hf2) hl2)
        · by_cases hj2 : j < k
          · exact hlo j hj2
          · show l (4 * i + j) = _
            rw [hhi j (by omega) hj, zlm_same (by rw [hT]; simp) (show k ≤ j by omega)]
        · constructor
          · intro z; omega
          · intro z
            rw [z] at hT
            have e2 : (((2 ^ 64 : Nat)) : Int) / 2 ^ (16 * k) = 2 ^ (64 - 16 * k) := by
              rw [zp_cast, show (2 : Int) ^ 64 = 2 ^ (64 - 16 * k) * 2 ^ (16 * k) from by rw [← Int.pow_add, Nat.sub_add_cancel (by omega)], Int.mul_ediv_cancel _ (zp_ne _)]
            rw [e2] at hT
            have e3 : (M : Int) / 2 ^ (16 * k) < 2 ^ (64 - 16 * k) := by
              refine Int.ediv_lt_of_lt_mul (zp_pos _) ?_
              rw [← Int.pow_add, Nat.sub_add_cancel (by omega), ← zp_cast]
              exact Int.ofNat_lt.mpr h64
            omega
      · rw [zx_ix]; exact vp_in_nI (by omega) (by decide)
      · rw [zx_ix]; exact vp_in_nI (by omega) (by decide)
      · have e1 : c = 1 := by omega
        subst e1
        have hm := zlm_lt (M : Int) k
        rw [zx_ix, nI_clamp (by omega), hhi k (by omega) hk2, show nI (zlm (M : Int) k) + 1 = nI (zlm (M : Int) k + 1) from nI_1 _] at et
        subst et
        rw [zx_ix, nI_clamp (by omega), zw_m16 (by omega)] at el
        rw [zw_s16 (by omega)] at ec
        subst el ec ey
        obtain ⟨c1, c2⟩ := zc16 hT
        rw [nI_1]
        have hv : (zlm (M : Int) k + 1) % 65536 = zlm ((M + 1 : Nat) : Int) k := by omega
        refine ih (k + 1) _ _ (by omega) (by omega) (by omega) (by rw [c2]; omega) (zfr_t hf (zfr_u _ _ hk2)) (fun j hj => ?_) (fun j hj hj2 => ?_)
        · by_cases e : j = k
          · subst e; rw [pk_us, hv]
          · rw [pk_un (by omega)]; exact hlo j (by omega)
        · rw [pk_un (by omega)]; exact hhi j (by omega) hj2
theorem xs_increase {post : Int32 → SX → Prop} {p i M : Nat} (hp2 : 2 ≤ p) (hp : p ≤ 64) (hi : i < 8) (hM : M < 2 ^ p) (hl : zLB 4 (M : Int) (fun k => a_limb (4 * i + k))) (h : ∀ l, zfr i a_limb l → zLB 4 (zinc p M : Int) (fun k => l (4 * i + k)) → post (zb1 (decide (M + 1 = 2 ^ p))) (nI p, f_mode, f_flags, f_below, f_sticky, a_kinds, a_minus, a_exponents, l, a_row, a_one, a_two, a_roots, a_high, a_part, a_quotient, a_square, a_guess)) : wpX_increase post (nI p, f_mode, f_flags, f_below, f_sticky, a_kinds, a_minus, a_exponents, a_limb, a_row, a_one, a_two, a_roots, a_high, a_part, a_quotient, a_square, a_guess) (nI i) := by
  refine ⟨5, xs_inc_l hp2 hp hi hM h 5 0 1 a_limb (by omega) (by omega) (by omega) ?_ (zfr_r _ _) (fun j hj => absurd hj (by omega)) (fun j _ hj => hl j hj)⟩
  rw [Nat.mul_zero, Int.pow_zero, Int.ediv_one, Int.ediv_one]
  omega
/-- greatest -/
theorem xs_gr26 {post : SX → Prop} {p i : Nat} (hp : p ≤ 64) (hi : i < 8) (h : ∀ l, zfr i a_limb l → zLB 4 ((2 ^ p - 1 : Nat) : Int) (fun k => l (4 * i + k)) → post (nI p, f_mode, f_flags, f_below, f_sticky, upd a_kinds i 2, a_minus, upd a_exponents i (zI 100), l, a_row, a_one, a_two, a_roots, a_high, a_part, a_quotient, a_square, a_guess)) : ∀ n b l, b ≤ p → p - b < n → zfr i a_limb l → zLB 4 ((2 ^ b - 1 : Nat) : Int) (fun k => l (4 * i + k)) → wX_greatest_26 post (nI i) n (nI b) (nI p) f_mode f_flags f_below f_sticky a_kinds a_minus a_exponents l a_row a_one a_two a_roots a_high a_part a_quotient a_square a_guess := by
  intro n
  induction n with
  | zero => intro b l _ h1; omega
  | succ n ih =>
    intro b l hb hn hf hl
    refine pk_le p b (fun hk2 => ⟨vp_in_nI hi (by decide), fun E eE => ⟨vp_in_nI hi (by decide), fun K eK => ?_⟩⟩) (fun hk2 => ?_)
    · have e : b = p := by omega
      subst e
      rw [nI_clamp (by omega), zn_100] at eE
      rw [nI_clamp (by omega), show vp_nar .byte 2 = (2 : Int32) from zn_b (n := 2) (by decide)] at eK
      subst eE eK
      exact h l hf hl
    · refine xs_setBit hl hi (by omega) (fun l2 hf2 hl2 y ey => ?_)
      subst ey
      rw [nI_1]
      rw [zsb_pow] at hl2
      exact ih (b + 1) l2 (by omega) (by omega) (zfr_t hf hf2) hl2
theorem xs_gr2 {post : SX → Prop} {p i : Nat} (hp : p ≤ 64) (hi : i < 8) (h : ∀ l, zfr i a_limb l → zLB 4 ((2 ^ p - 1 : Nat) : Int) (fun k => l (4 * i + k)) → post (nI p, f_mode, f_flags, f_below, f_sticky, upd a_kinds i 2, a_minus, upd a_exponents i (zI 100), l, a_row, a_one, a_two, a_roots, a_high, a_part, a_quotient, a_square, a_guess)) : ∀ n k l, k ≤ 4 → 4 - k < n → zfr i a_limb l → (∀ j, j < k → l (4 * i + j) = 0) → wX_greatest_2 post (nI i) (nI p) f_mode f_flags f_below f_sticky n (nI k) a_kinds a_minus a_exponents l a_row a_one a_two a_roots a_high a_part a_quotient a_square a_guess := by
  intro n
  induction n with
  | zero => intro k l _ h1; omega
  | succ n ih =>
    intro k l hk hn hf hz
    refine pk_le 4 k (fun hk2 => ?_) (fun hk2 => ⟨?_, fun l1 el y ey => ?_⟩)
    · exact ⟨p + 1, xs_gr26 hp hi h (p + 1) 0 l (by omega) (by omega) hf (xs_zLB0 (fun j hj => hz j (by omega)))⟩
    · rw [zx_ix]; exact vp_in_nI (by omega) (by decide)
    · rw [zx_ix, nI_clamp (by omega)] at el
      subst el ey
      rw [nI_1]
      have g := xs_zero_up hf hz hk2
      exact ih (k + 1) _ (by omega) (by omega) g.1 g.2
theorem xs_greatest {post : SX → Prop} {p i : Nat} {w : Nat → ZV} {ng : Bool} (hs : zXo p w i a_kinds a_minus a_exponents a_limb) (hm : a_minus i = zb1 ng) (hp2 : 2 ≤ p) (hp : p ≤ 64) (hi : i < 8) (h : ∀ K E L, zXS p (zst w i (2, ng, 100, 2 ^ p - 1)) K a_minus E L → post (nI p, f_mode, f_flags, f_below, f_sticky, K, a_minus, E, L, a_row, a_one, a_two, a_roots, a_high, a_part, a_quotient, a_square, a_guess)) : wpX_greatest post (nI p, f_mode, f_flags, f_below, f_sticky, a_kinds, a_minus, a_exponents, a_limb, a_row, a_one, a_two, a_roots, a_high, a_part, a_quotient, a_square, a_guess) (nI i) := by
  refine ⟨5, xs_gr2 hp hi (fun l hf hl => h _ _ _ (zXo_s (zXo_c hs (zff_u _ _ _) (zff_r _ _) (zff_u _ _ _) hf) ?_)) 5 0 a_limb (by omega) (by omega) (zfr_r _ _) (fun j hj => absurd hj (by omega))⟩
  rw [pk_us, pk_us]
  refine ⟨hm, Or.inr (Or.inl ⟨rfl, ?_, rfl, hl⟩)⟩
  have h1 : 2 ^ (p - 1) < 2 ^ p := zpl_lt (by omega)
  rw [if_pos (show 2 ^ (p - 1) ≤ 2 ^ p - 1 by omega)]
/-- finite -/
theorem xs_finite {post : SX → Prop} {p i M : Nat} {w : Nat → ZV} {ng : Bool} {e : Int} (hs : zXo p w i a_kinds a_minus a_exponents a_limb) (hm : a_minus i = zb1 ng) (hl : zLB 4 (M : Int) (fun k => a_limb (4 * i + k))) (hp2 : 2 ≤ p) (hp : p ≤ 64) (hi : i < 8) (hM : M < 2 ^ p) (he : -100 ≤ e) (he2 : e ≤ 100) (h0 : M = 0 → e = -100) (h : ∀ K E, zXS p (zst w i (if M = 0 then (0, ng, 0, 0) else (2, ng, e, M))) K a_minus E a_limb → post (nI p, f_mode, f_flags, f_below, f_sticky, K, a_minus, E, a_limb, a_row, a_one, a_two, a_roots, a_high, a_part, a_quotient, a_square, a_guess)) : wpX_finite post (nI p, f_mode, f_flags, f_below, f_sticky, a_kinds, a_minus, a_exponents, a_limb, a_row, a_one, a_two, a_roots, a_high, a_part, a_quotient, a_square, a_guess) (nI i) (zI e) := by
  have h64 : M < 2 ^ 64 := Nat.lt_of_lt_of_le hM (zpl_le hp)
  refine ⟨vp_in_nI hi (by decide), fun E eE => ?_⟩
  rw [nI_clamp (by omega), zn_s2 (by omega)] at eE
  subst eE
  have e1 : nI p - 1 = nI (p - 1) := pk_sub (b := 1) (by omega)
  rw [e1]
  have hz := Nat.two_pow_pos (p - 1)
  have hpp : 2 ^ p = 2 ^ (p - 1) * 2 := by rw [← Nat.pow_succ]; congr 1; omega
  have hb : M / 2 ^ (p - 1) % 2 = 1 ↔ 2 ^ (p - 1) ≤ M := by
    have a : M / 2 ^ (p - 1) < 2 := Nat.div_lt_of_lt_mul (by omega)
    have b : 1 ≤ M / 2 ^ (p - 1) ↔ 1 * 2 ^ (p - 1) ≤ M := Nat.le_div_iff_mul_le hz
    rw [Nat.one_mul] at b
    rw [← b]
    generalize M / 2 ^ (p - 1) = y at a ⊢
    omega
  refine xs_hasBit hl hi (by omega) (zk_b (fun hb0 => ?_) (fun hb1 => ⟨vp_in_nI hi (by decide), fun K eK => ?_⟩))
  · have hb0 := of_decide_eq_false hb0
    rw [hb] at hb0
    refine xs_empty hl hi h64 (zk_b (fun hz0 => ⟨vp_in_nI hi (by decide), fun K eK => ?_⟩) (fun hz1 => ⟨vp_in_nI hi (by decide), fun K eK => ?_⟩))
    · have hz0 := of_decide_eq_false hz0
      rw [nI_clamp (by omega), show vp_nar .byte ((1 : Int32).toInt8.toInt32) = (1 : Int32) from zn_b2 (n := 1) (by decide)] at eK
      subst eK
      refine h _ _ (zXo_s (zXo_c hs (zff_u _ _ _) (zff_r _ _) (zff_u _ _ _) (zfr_r _ _)) ?_)
      rw [if_neg hz0, pk_us, pk_us]
      exact ⟨hm, Or.inr (Or.inl ⟨rfl, by rw [if_neg hb0], rfl, hl⟩)⟩
    · have hz1 := of_decide_eq_true hz1
      rw [nI_clamp (by omega), show vp_nar .byte ((0 : Int32).toInt8.toInt32) = (0 : Int32) from zn_b2 (n := 0) (by decide)] at eK
      subst eK
      refine h _ _ (zXo_s (zXo_c hs (zff_u _ _ _) (zff_r _ _) (zff_u _ _ _) (zfr_r _ _)) ?_)
      rw [if_pos hz1, pk_us, pk_us]
      rw [hz1] at hl
      exact ⟨hm, Or.inl ⟨rfl, rfl, ⟨e, he, he2, rfl⟩, hl⟩⟩
  · have hb1 := of_decide_eq_true hb1
    rw [hb] at hb1
    rw [nI_clamp (by omega), show vp_nar .byte ((2 : Int32).toInt8.toInt32) = (2 : Int32) from zn_b2 (n := 2) (by decide)] at eK
    subst eK
    refine h _ _ (zXo_s (zXo_c hs (zff_u _ _ _) (zff_r _ _) (zff_u _ _ _) (zfr_r _ _)) ?_)
    rw [if_neg (by omega), pk_us, pk_us]
    exact ⟨hm, Or.inr (Or.inl ⟨rfl, by rw [if_pos hb1], rfl, hl⟩)⟩
/-- overflow -/
theorem xs_over53 {post : SX → Prop} {p i : Nat} {w : Nat → ZV} {ng b : Bool} (hs : zXo p w i a_kinds a_minus a_exponents a_limb) (hm : a_minus i = zb1 ng) (hp2 : 2 ≤ p) (hp : p ≤ 64) (hi : i < 8) (h : ∀ K E L, zXS p (zst w i (if b then (2, ng, 100, 2 ^ p - 1) else (3, ng, 0, 0))) K a_minus E L → post (nI p, f_mode, f_flags, f_below, f_sticky, K, a_minus, E, L, a_row, a_one, a_two, a_roots, a_high, a_part, a_quotient, a_square, a_guess)) : wX_overflow_53 post (nI i) (zb1 b) (nI p) f_mode f_flags f_below f_sticky a_kinds a_minus a_exponents a_limb a_row a_one a_two a_roots a_high a_part a_quotient a_square a_guess := by
  refine zk_b (fun e => ⟨vp_in_nI hi (by decide), fun K eK => ?_⟩) (fun e => ?_)
  · subst e
    rw [nI_clamp (by omega), show vp_nar .byte 3 = (3 : Int32) from zn_b (n := 3) (by decide)] at eK
    subst eK
    refine h _ _ _ (zXo_s (zXo_c hs (zff_u _ _ _) (zff_r _ _) (zff_r _ _) (zfr_r _ _)) ?_)
    rw [pk_us]
    exact ⟨hm, Or.inr (Or.inr (Or.inl ⟨rfl, rfl⟩))⟩
  · subst e
    exact xs_greatest hs hm hp2 hp hi h
theorem z_md {md : Nat} (h : md ≤ 4) : md = 0 ∨ md = 1 ∨ md = 2 ∨ md = 3 ∨ md = 4 := by omega
theorem xs_overflow {post : SX → Prop} {p md i : Nat} {w : Nat → ZV} {ng : Bool} (hmd : md ≤ 4) (hs : zXo p w i a_kinds a_minus a_exponents a_limb) (hm : a_minus i = zb1 ng) (hp2 : 2 ≤ p) (hp : p ≤ 64) (hi : i < 8) (h : ∀ K E L, zXS p (zst w i (if zsy md ng then (2, ng, 100, 2 ^ p - 1) else (3, ng, 0, 0))) K a_minus E L → post (nI p, nI md, f_flags ||| 5, zb1 ng, f_sticky, K, a_minus, E, L, a_row, a_one, a_two, a_roots, a_high, a_part, a_quotient, a_square, a_guess)) : wpX_overflow post (nI p, nI md, f_flags, zb1 ng, f_sticky, a_kinds, a_minus, a_exponents, a_limb, a_row, a_one, a_two, a_roots, a_high, a_part, a_quotient, a_square, a_guess) (nI i) := by
  intro f ef
  subst ef
  have g := xs_over53 (post := post) (b := zsy md ng) (f_mode := nI md) (f_flags := f_flags ||| 5) (f_below := zb1 ng) hs hm hp2 hp hi h
  rcases z_md hmd with rfl | rfl | rfl | rfl | rfl
  · exact br_f (by decide) (br_f (by decide) (br_f (by decide) g))
  · exact br_t (by decide) g
  · cases ng
    · exact br_f (by decide) (br_t (by decide) (br_t (by decide) (br_f (by decide) g)))
    · exact br_f (by decide) (br_t (by decide) (br_f (by decide) g))
  · cases ng
    · exact br_f (by decide) (br_f (by decide) (br_t (by decide) (br_t (by decide) g)))
    · exact br_f (by decide) (br_f (by decide) (br_t (by decide) (br_f (by decide) g)))
  · exact br_f (by decide) (br_f (by decide) (br_f (by decide) g))
end
end
section
/-! up and round of the component -/
section
variable {f_p f_mode f_flags f_below f_sticky : Int32} {a_kinds a_minus a_exponents a_limb a_row a_one a_two a_roots a_high a_part a_quotient a_square a_guess : Nat → Int32}
theorem xo_up35 {post : Int32 → Prop} {md pl N : Nat} {ng half more : Bool} (hmd : md ≤ 4) (hr : zLB 54 (N : Int) a_row) (hp : pl < 864) (h : post (zb1 (zra md ng (decide (N / 2 ^ pl % 2 = 1)) half more))) : wX_up_35 post (nI pl) (zb1 half) (zb1 more) f_p (nI md) f_flags (zb1 ng) f_sticky a_kinds a_minus a_exponents a_limb a_row a_one a_two a_roots a_high a_part a_quotient a_square a_guess := by
  have hb := zbb_lt (N : Int) pl
  have hbn := zbb_n N pl
  rcases z_md hmd with rfl | rfl | rfl | rfl | rfl
  · refine br_f (by decide) (br_f (by decide) (br_t (by decide) ?_))
    cases half
    · exact br_t (by decide) h
    · refine br_f (by decide) ?_
      cases more
      · refine br_t (by decide) (xr_bit hr hp ?_)
        refine pk_eq (zbb (N : Int) pl) 0 (fun e => ?_) (fun e => ?_)
        · rw [decide_eq_false (by omega)] at h; exact h
        · rw [decide_eq_true (by omega)] at h; exact h
      · exact br_f (by decide) h
  · exact br_f (by decide) (br_f (by decide) (br_f (by decide) (br_t (by decide) h)))
  · refine br_f (by decide) (br_f (by decide) (br_f (by decide) (br_f (by decide) (br_t (by decide) ?_))))
    cases ng
    · refine br_t (by decide) ?_
      cases half
      · refine br_t (by decide) ?_
        cases more
        · exact br_t (by decide) h
        · exact br_f (by decide) h
      · refine br_f (by decide) ?_
        cases more <;> exact h
    · refine br_f (by decide) ?_
      cases half <;> cases more <;> exact h
  · refine br_f (by decide) (br_f (by decide) (br_f (by decide) (br_f (by decide) (br_f (by decide) (br_t (by decide) ?_)))))
    cases ng
    · refine br_t (by decide) ?_
      cases half <;> cases more <;> exact h
    · refine br_f (by decide) ?_
      cases half
      · refine br_t (by decide) ?_
        cases more
        · exact br_t (by decide) h
        · exact br_f (by decide) h
      · refine br_f (by decide) ?_
        cases more <;> exact h
  · exact br_f (by decide) (br_t (by decide) ⟨zb1_n half, h⟩)
theorem xo_up {post : Int32 → Prop} {md pl N : Nat} {ng s : Bool} (hmd : md ≤ 4) (hr : zLB 54 (N : Int) a_row) (hp0 : 1 ≤ pl) (hp : pl < 864) (h : post (zb1 (zra md ng (decide (N / 2 ^ pl % 2 = 1)) (zhf N pl) (zmo N pl s)))) : wpX_up post (f_p, nI md, f_flags, zb1 ng, zb1 s, a_kinds, a_minus, a_exponents, a_limb, a_row, a_one, a_two, a_roots, a_high, a_part, a_quotient, a_square, a_guess) (nI pl) := by
  have e1 : nI pl - 1 = nI (pl - 1) := pk_sub (b := 1) (by omega)
  have g : wX_up_15 post (nI pl) (zb1 (zhf N pl)) f_p (nI md) f_flags (zb1 ng) (zb1 s) a_kinds a_minus a_exponents a_limb a_row a_one a_two a_roots a_high a_part a_quotient a_square a_guess := by
    refine br_f (nI_nle (by omega) (by omega)) ?_
    rw [e1]
    refine xr_rest hr (by omega) (zk_b (fun e => ?_) (fun e => ?_))
    · have e2 : zmo N pl s = false := e
      rw [e2] at h
      exact xo_up35 (more := false) hmd hr hp h
    · have e2 : zmo N pl s = true := e
      rw [e2] at h
      exact xo_up35 (more := true) hmd hr hp h
  unfold wpX_up
  dsimp only
  rw [e1]
  refine xr_bit hr (by omega) ?_
  have hb := zbb_lt (N : Int) (pl - 1)
  have hbn := zbb_n N (pl - 1)
  refine pk_eq (zbb (N : Int) (pl - 1)) 0 (fun e => ?_) (fun e => ?_)
  · rw [show zhf N pl = false from decide_eq_false (by omega)] at g; exact g
  · rw [show zhf N pl = true from decide_eq_true (by omega)] at g; exact g
/-- the end of a rounding -/
theorem xo_213 {post : SX → Prop} {p md i M : Nat} {w : Nat → ZV} {ng : Bool} {e : Int} (hmd : md ≤ 4) (hs : zXo p w i a_kinds a_minus a_exponents a_limb) (hm : a_minus i = zb1 ng) (hl : zLB 4 (M : Int) (fun k => a_limb (4 * i + k))) (hp2 : 2 ≤ p) (hp : p ≤ 64) (hi : i < 8) (hM : M < 2 ^ p) (he : -100 ≤ e) (he2 : e < 1000) (h0 : M = 0 → e = -100) (h : ∀ K E L, zXS p (zst w i (zfin p md ng e M f_flags).1) K a_minus E L → post (nI p, nI md, (zfin p md ng e M f_flags).2, zb1 ng, f_sticky, K, a_minus, E, L, a_row, a_one, a_two, a_roots, a_high, a_part, a_quotient, a_square, a_guess)) : wX_round_213 post (nI i) (zI e) (nI p) (nI md) f_flags (zb1 ng) f_sticky a_kinds a_minus a_exponents a_limb a_row a_one a_two a_roots a_high a_part a_quotient a_square a_guess := by
  refine zk_le e 100 (fun hc => ?_) (fun hc => ?_)
  · have ef : zfin p md ng e M f_flags = ((if M = 0 then (0, ng, 0, 0) else (2, ng, e, M)), f_flags) := by unfold zfin; rw [if_neg (by omega)]
    rw [ef] at h
    exact xs_finite hs hm hl hp2 hp hi hM he hc h0 (fun K E hK => h K E a_limb hK)
  · have ef : zfin p md ng e M f_flags = ((if zsy md ng then (2, ng, 100, 2 ^ p - 1) else (3, ng, 0, 0)), f_flags ||| 5) := by unfold zfin; rw [if_pos (by omega)]
    rw [ef] at h
    exact xs_overflow hmd hs hm hp2 hp hi h
theorem xo_180 {post : SX → Prop} {p md i M : Nat} {w : Nat → ZV} {ng tiny exact : Bool} {e : Int} {f : Int32} (hmd : md ≤ 4) (hs : zXo p w i a_kinds a_minus a_exponents a_limb) (hl : zLB 4 (M : Int) (fun k => a_limb (4 * i + k))) (hp2 : 2 ≤ p) (hp : p ≤ 64) (hi : i < 8) (hM : M < 2 ^ p) (he : -100 ≤ e) (he2 : e < 1000) (h0 : M = 0 → e = -100) (hf : f = if exact then f_flags else if tiny then f_flags ||| 3 else f_flags ||| 1) (h : ∀ K Mi E L, zXS p (zst w i (zfin p md ng e M f).1) K Mi E L → post (nI p, nI md, (zfin p md ng e M f).2, zb1 ng, f_sticky, K, Mi, E, L, a_row, a_one, a_two, a_roots, a_high, a_part, a_quotient, a_square, a_guess)) : wX_round_180 post (nI i) (zI e) (zb1 tiny) (zb1 exact) (nI p) (nI md) f_flags (zb1 ng) f_sticky a_kinds a_minus a_exponents a_limb a_row a_one a_two a_roots a_high a_part a_quotient a_square a_guess := by
  refine ⟨vp_in_nI hi (by decide), fun Mi eMi => ?_⟩
  rw [nI_clamp (by omega), zb1_v] at eMi
  subst eMi
  have hs2 := zXo_c hs (zff_r _ _) (zff_u i a_minus (zb1 ng)) (zff_r _ _) (zfr_r _ _)
  have g := fun (f' : Int32) (ef : f = f') => xo_213 (post := post) (f_flags := f') (f_sticky := f_sticky) (a_row := a_row) (a_one := a_one) (a_two := a_two) (a_roots := a_roots) (a_high := a_high) (a_part := a_part) (a_quotient := a_quotient) (a_square := a_square) (a_guess := a_guess) hmd hs2 (pk_us) hl hp2 hp hi hM he he2 h0 (fun K E L hK => by subst ef; exact h K _ E L hK)
  refine zk_b (fun ex => ?_) (fun ex => ?_)
  · subst ex
    refine zk_b (fun ti => ?_) (fun ti => ?_)
    · subst ti
      intro f' ef
      subst ef
      exact g _ hf
    · subst ti
      intro f' ef
      subst ef
      exact g _ hf
  · subst ex
    exact g _ hf
/-- the bits of a limb are gathered -/
theorem xo_94 {post : SX → Prop} {J : Int32 → (Nat → Int32) → (Nat → Int32) → (Nat → Int32) → (Nat → Int32) → (Nat → Int32) → (Nat → Int32) → (Nat → Int32) → (Nat → Int32) → (Nat → Int32) → (Nat → Int32) → (Nat → Int32) → (Nat → Int32) → (Nat → Int32) → Prop} {p i k u N : Nat} {x2 x3 x5 x6 : Int32} (hp : p ≤ 64) (hi : i < 8) (hk : k < 4) (hu : u + p ≤ 864) (hM : N / 2 ^ u < 2 ^ p) (hr : zLB 54 (N : Int) a_row) (h : J (nI (k + 1)) a_kinds a_minus a_exponents (upd a_limb (4 * i + k) (nI (zlm ((N / 2 ^ u : Nat) : Int) k))) a_row a_one a_two a_roots a_high a_part a_quotient a_square a_guess) : ∀ n b, b ≤ 16 → (b = 0 ∨ 16 * k + b ≤ p) → 16 - b < n → wX_round_94 post J (nI i) x2 x3 (nI u) x5 x6 (nI k) (nI p) f_mode f_flags f_below f_sticky a_kinds a_minus a_exponents a_limb a_row a_one a_two a_roots a_high a_part a_quotient a_square a_guess n (nI (N / 2 ^ (u + 16 * k) % 2 ^ b)) (nI b) := by
  have hv : ∀ b, b ≤ 16 → (b = 16 ∨ p ≤ 16 * k + b) → N / 2 ^ (u + 16 * k) % 2 ^ b = zlm ((N / 2 ^ u : Nat) : Int) k := by
    intro b hb hb2
    rw [zlm_n, Nat.div_div_eq_div_mul, ← zNp]
    rcases hb2 with rfl | hb2
    · rfl
    · have h1 : N / 2 ^ (u + 16 * k) < 2 ^ b := by
        rw [zNp, ← Nat.div_div_eq_div_mul]
        refine Nat.div_lt_of_lt_mul ?_
        rw [← zNp]
        exact Nat.lt_of_lt_of_le hM (zpl_le (by omega))
      have h2 : 2 ^ b ≤ 2 ^ 16 := zpl_le hb
      rw [Nat.mod_eq_of_lt h1, Nat.mod_eq_of_lt (by omega)]
  intro n
  induction n with
  | zero => intro b _ _ h1; omega
  | succ n ih =>
    intro b hb hb2 hn
    have fin : (b = 16 ∨ p ≤ 16 * k + b) → wX_round_145 post J (nI i) x2 x3 (nI u) x5 x6 (nI k) (nI (N / 2 ^ (u + 16 * k) % 2 ^ b)) (nI p) f_mode f_flags f_below f_sticky a_kinds a_minus a_exponents a_limb a_row a_one a_two a_roots a_high a_part a_quotient a_square a_guess := by
      intro hc
      refine ⟨by rw [zx_ix]; exact vp_in_nI (by omega) (by decide), fun l el y ey => ?_⟩
      rw [zx_ix, nI_clamp (by omega), hv b hb hc] at el
      subst el ey
      rw [nI_1]
      exact h
    have e16 : (16 : Int32) * nI k + nI b = nI (16 * k + b) := by rw [show (16 : Int32) = nI 16 from rfl, pk_mul, nI_add]
    refine pk_le 16 b (fun hc => fin (Or.inl (by omega))) (fun hc => ?_)
    refine pk_le p (16 * k + b) (fun hc2 => fin (Or.inr hc2)) (fun hc2 => ?_) rfl e16
    have e17 : nI u + (16 : Int32) * nI k + nI b = nI (u + 16 * k + b) := by rw [show (16 : Int32) = nI 16 from rfl, pk_mul, nI_add, nI_add]
    rw [e17]
    refine xr_bit hr (by omega) (fun v ev y ey => ?_)
    have hb1 := zbb_lt (N : Int) (u + 16 * k + b)
    have hb3 : N / 2 ^ (u + 16 * k) % 2 ^ b < 2 ^ b := Nat.mod_lt _ (Nat.two_pow_pos b)
    have hb4 : 2 ^ b < 2 ^ 16 := zpl_lt (by omega)
    have hb5 : zbb (N : Int) (u + 16 * k + b) * 2 ^ b ≤ 1 * 2 ^ b := Nat.mul_le_mul_right _ (by omega)
    rw [zw_shl (by omega) (by omega), zw_or' hb3] at ev
    have e18 : zbb (N : Int) (u + 16 * k + b) * 2 ^ b + N / 2 ^ (u + 16 * k) % 2 ^ b = N / 2 ^ (u + 16 * k) % 2 ^ (b + 1) := by
      rw [zbb_n, zNp (u + 16 * k) b, ← Nat.div_div_eq_div_mul, Nat.pow_succ 2 b, Nat.mod_mul, Nat.mul_comm, Nat.add_comm]
    rw [e18] at ev
    subst ev ey
    rw [nI_1]
    exact ih (b + 1) (by omega) (by omega) (by omega)
theorem xo_82 {post : SX → Prop} {p md i N u : Nat} {w : Nat → ZV} {ng tiny exact gr : Bool} {e : Int} {f : Int32} (hmd : md ≤ 4) (hr : zLB 54 (N : Int) a_row) (hp2 : 2 ≤ p) (hp : p ≤ 64) (hi : i < 8) (hu : u + p ≤ 864) (hM : N / 2 ^ u < 2 ^ p) (he : -100 ≤ e) (he2 : e < 900) (h0 : N / 2 ^ u = 0 → e = -100) (hf : f = if exact then f_flags else if tiny then f_flags ||| 3 else f_flags ||| 1) (h : ∀ K Mi E L, zXS p (zst w i (zaw p md ng e (N / 2 ^ u) gr f).1) K Mi E L → post (nI p, nI md, (zaw p md ng e (N / 2 ^ u) gr f).2, zb1 ng, f_sticky, K, Mi, E, L, a_row, a_one, a_two, a_roots, a_high, a_part, a_quotient, a_square, a_guess)) : ∀ n k l, k ≤ 4 → 4 - k < n → zXo p w i a_kinds a_minus a_exponents l → (∀ j, j < k → l (4 * i + j) = nI (zlm ((N / 2 ^ u : Nat) : Int) j)) → wX_round_82 post (nI i) (zI e) (zb1 tiny) (nI u) (zb1 exact) (zb1 gr) (nI p) (nI md) f_flags (zb1 ng) f_sticky n (nI k) a_kinds a_minus a_exponents l a_row a_one a_two a_roots a_high a_part a_quotient a_square a_guess := by
  intro n
  induction n with
  | zero => intro k l _ h1; omega
  | succ n ih =>
    intro k l hk hn hs hl
    refine pk_le 4 k (fun hk2 => ?_) (fun hk2 => ?_)
    · have hl4 : zLB 4 ((N / 2 ^ u : Nat) : Int) (fun k => l (4 * i + k)) := fun j hj => hl j (by omega)
      refine zk_b (fun eg => ?_) (fun eg => ?_)
      · subst eg
        exact xo_180 hmd hs hl4 hp2 hp hi hM he (by omega) h0 hf h
      · subst eg
        refine xs_increase hp2 hp hi hM hl4 (fun l2 hf2 hl2 => ?_)
        have hs2 := zXo_c hs (zff_r _ _) (zff_r _ _) (zff_r _ _) hf2
        have hz := Nat.two_pow_pos (p - 1)
        refine zk_b (fun eb => ?_) (fun eb => ?_)
        · have eb := of_decide_eq_false eb
          have ea : zaw p md ng e (N / 2 ^ u) true f = zfin p md ng e (N / 2 ^ u + 1) f := by unfold zaw; rw [if_pos rfl, if_neg eb]
          rw [ea] at h
          unfold zinc at hl2
          rw [if_neg eb] at hl2
          exact xo_180 hmd hs2 hl2 hp2 hp hi (by omega) he (by omega) (fun z => absurd z (Nat.succ_ne_zero _)) hf h
        · have eb := of_decide_eq_true eb
          have ea : zaw p md ng e (N / 2 ^ u) true f = zfin p md ng (e + 1) (2 ^ (p - 1)) f := by unfold zaw; rw [if_pos rfl, if_pos eb]
          rw [ea] at h
          unfold zinc at hl2
          rw [if_pos eb] at hl2
          intro y ey
          have ey2 : y = zI (e + 1) := ey.trans (zI_add e 1)
          subst ey2
          exact xo_180 hmd hs2 hl2 hp2 hp hi (zpl_lt (by omega)) (by omega) (by omega) (fun z => by omega) hf h
    · refine ⟨17, ?_⟩
      have g := xo_94 (post := post) (J := wX_round_82 post (nI i) (zI e) (zb1 tiny) (nI u) (zb1 exact) (zb1 gr) (nI p) (nI md) f_flags (zb1 ng) f_sticky n) (x2 := zI e) (x3 := zb1 tiny) (x5 := zb1 exact) (x6 := zb1 gr) (f_mode := nI md) (f_flags := f_flags) (f_below := zb1 ng) (f_sticky := f_sticky) (a_limb := l) hp hi hk2 hu hM hr (ih (k + 1) _ (by omega) (by omega) (zXo_c hs (zff_r _ _) (zff_r _ _) (zff_r _ _) (zfr_u _ _ hk2)) (fun j hj => by
        by_cases ej : j = k
        · subst ej; rw [pk_us]
        · rw [pk_un (by omega)]; exact hl j (by omega))) 17 0 (by omega) (Or.inl rfl) (by omega)
      rw [Nat.pow_zero, Nat.mod_one] at g
      exact g
theorem xo_round {post : SX → Prop} {p md i N : Nat} {w : Nat → ZV} {ng s : Bool} (hmd : md ≤ 4) (hs : zXS p w a_kinds a_minus a_exponents a_limb) (hr : zLB 54 (N : Int) a_row) (hN : N ≠ 0) (hN2 : N < 2 ^ 864) (hp2 : 2 ≤ p) (hp : p ≤ 64) (hi : i < 8) (h : ∀ K Mi E L, zXS p (zst w i (zrd 480 p md ng N s f_flags).1) K Mi E L → post (nI p, nI md, (zrd 480 p md ng N s f_flags).2, zb1 ng, zb1 s, K, Mi, E, L, a_row, a_one, a_two, a_roots, a_high, a_part, a_quotient, a_square, a_guess)) : wpX_round post (nI p, nI md, f_flags, zb1 ng, zb1 s, a_kinds, a_minus, a_exponents, a_limb, a_row, a_one, a_two, a_roots, a_high, a_part, a_quotient, a_square, a_guess) (nI i) := by
  have hh1 := z_log1 hN
  have hh2 := z_log2 N
  have hh3 : N.log2 < 864 := (Nat.log2_lt hN).mpr hN2
  have hzM := z_M (L := 480) hN hp2 hp (by decide)
  have hzu := zu_i (N := N) (L := 480) hp (by decide)
  have hze := zex_ge ((N.log2 : Int) - 480)
  have hze2 : zex ((N.log2 : Int) - 480) ≤ 383 := by unfold zex; split <;> omega
  have hu1 := zu_ge (N := N) (L := 480) hp (by decide)
  have hu2 : zu 480 p N + p ≤ 864 := by
    have hzu2 : (zu 480 p N : Int) = zex ((N.log2 : Int) - 480) - p + 1 + 480 := hzu
    omega
  -- round_28
  have g28 : ∀ tiny : Bool, (tiny = decide ((N.log2 : Int) - 480 < -100)) → wX_round_28 post (nI i) (zI (zex ((N.log2 : Int) - 480))) (zb1 tiny) (nI p) (nI md) f_flags (zb1 ng) (zb1 s) a_kinds a_minus a_exponents a_limb a_row a_one a_two a_roots a_high a_part a_quotient a_square a_guess := by
    intro tiny ht x4 e4
    have e5 : x4 = nI (zu 480 p N) := by
      rw [e4, ← zI_n p, zI_sub, show (1 : Int32) = zI 1 from rfl, zI_add, show (-480 : Int32) = zI (-480) from rfl, zI_sub, ← zI_n]
      have hzu2 : (zu 480 p N : Int) = zex ((N.log2 : Int) - 480) - p + 1 + 480 := hzu
      exact congrArg zI (by omega)
    subst e5
    have hx := z_hm N (zu 480 p N) s (by omega)
    have hzr : zrd 480 p md ng N s f_flags = zaw p md ng (zex ((N.log2 : Int) - 480)) (N / 2 ^ zu 480 p N) (zra md ng (decide (N / 2 ^ zu 480 p N % 2 = 1)) (zhf N (zu 480 p N)) (zmo N (zu 480 p N) s)) (zfl ((N.log2 : Int) - 480) (zhf N (zu 480 p N) || zmo N (zu 480 p N) s) f_flags) := rfl
    have h0 : N / 2 ^ zu 480 p N = 0 → zex ((N.log2 : Int) - 480) = -100 := by
      intro z
      rcases hzM.2.1 with a | a
      · rw [z] at a; have := Nat.two_pow_pos (p - 1); omega
      · exact a
    have g82 : ∀ exact gr : Bool, exact = !(zhf N (zu 480 p N) || zmo N (zu 480 p N) s) → gr = zra md ng (decide (N / 2 ^ zu 480 p N % 2 = 1)) (zhf N (zu 480 p N)) (zmo N (zu 480 p N) s) → ∃ n, wX_round_82 post (nI i) (zI (zex ((N.log2 : Int) - 480))) (zb1 tiny) (nI (zu 480 p N)) (zb1 exact) (zb1 gr) (nI p) (nI md) f_flags (zb1 ng) (zb1 s) n (nI 0) a_kinds a_minus a_exponents a_limb a_row a_one a_two a_roots a_high a_part a_quotient a_square a_guess := by
      intro exact gr hex hgr
      have hf : zfl ((N.log2 : Int) - 480) (zhf N (zu 480 p N) || zmo N (zu 480 p N) s) f_flags = if exact then f_flags else if tiny then f_flags ||| 3 else f_flags ||| 1 := by
        unfold zfl
        rw [hex, ht]
        cases (zhf N (zu 480 p N) || zmo N (zu 480 p N) s)
        · rfl
        · by_cases hc : (N.log2 : Int) - 480 < -100
          · simp [hc]
          · simp [hc]
      rw [hzr, ← hgr] at h
      exact ⟨5, xo_82 hmd hr hp2 hp hi hu2 hzM.1 hze (by omega) h0 hf h 5 0 a_limb (by omega) (by omega) (zXS_o hs i) (fun j hj => absurd hj (by omega))⟩
    refine xr_rest hr (by omega) (zk_b (fun ex => ?_) (fun ex => ?_))
    · rw [hx] at ex
      refine br_f (by decide) ?_
      have ex1 : zhf N (zu 480 p N) = false := by cases hq : zhf N (zu 480 p N) <;> rw [hq] at ex <;> simp_all
      have ex2 : zmo N (zu 480 p N) s = false := by cases hq : zmo N (zu 480 p N) s <;> rw [hq] at ex <;> simp_all
      exact g82 true false (by rw [ex]; rfl) (by rw [ex1, ex2, zra_ff])
    · rw [hx] at ex
      refine br_t (by decide) ?_
      refine xo_up hmd hr (by omega) (by omega) (zk_b (fun eu => ?_) (fun eu => ?_))
      · exact g82 false false (by rw [ex]; rfl) eu.symm
      · exact g82 false true (by rw [ex]; rfl) eu.symm
  refine xr_top hr hh1 hh2 hh3 (fun x ex => ?_)
  have ex2 : x = zI ((N.log2 : Int) - 480) := by
    rw [ex, ← zI_n, show (-480 : Int32) = zI (-480) from rfl, zI_add]
    exact congrArg zI (by omega)
  subst ex2
  refine zk_le (-100) ((N.log2 : Int) - 480) (fun hc => ?_) (fun hc => ?_)
  · have e6 : zex ((N.log2 : Int) - 480) = (N.log2 : Int) - 480 := by unfold zex; rw [if_neg (by omega)]
    rw [e6] at g28
    exact br_t rfl (g28 false (by rw [decide_eq_false (by omega)]))
  · have e6 : zex ((N.log2 : Int) - 480) = -100 := by unfold zex; rw [if_pos (by omega)]
    rw [e6] at g28
    exact br_f (by decide) (g28 true (by rw [decide_eq_true (by omega)]))
end
end
section
/-! the reference's rows -/
def zfY (o n : Nat) (l l' : Nat → Int32) : Prop := ∀ j, (j < o ∨ o + n ≤ j) → l' j = l j
theorem zfY_r (o n : Nat) (l : Nat → Int32) : zfY o n l l := fun _ _ => rfl
theorem zfY_t {o n : Nat} {a b c : Nat → Int32} (h : zfY o n a b) (g : zfY o n b c) : zfY o n a c := fun j hj => (g j hj).trans (h j hj)
theorem zfY_u {o n k : Nat} (l : Nat → Int32) (v : Int32) (hk : k < n) : zfY o n l (upd l (o + k) v) := fun _ h => pk_un (by omega)
theorem zy_ix (r k : Nat) : (720 : Int32) * nI r + nI k = nI (720 * r + k) := by
  rw [show (720 : Int32) = nI 720 from rfl, pk_mul, nI_add]
theorem zy_i0 (r : Nat) : (720 : Int32) * nI r = nI (720 * r) := by
  rw [show (720 : Int32) = nI 720 from rfl, pk_mul]
theorem zBB_f {o n o' n' : Nat} {T : Int} {a a' : Nat → Int32} (h : zBB o n T a) (hf : zfY o' n' a a') (hd : o + n ≤ o' ∨ o' + n' ≤ o) : zBB o n T a' := by
  intro k hk
  rw [hf (o + k) (by omega)]
  exact h k hk
/-- bits below i are those of T, the others those of A -/
def zBm (o n i : Nat) (T A : Int) (a : Nat → Int32) : Prop := (∀ j, j < i → j < n → a (o + j) = nI (zbb T j)) ∧ (∀ j, i ≤ j → j < n → a (o + j) = nI (zbb A j))
theorem zBm_0 {o n : Nat} {T A : Int} {a : Nat → Int32} (h : zBB o n A a) : zBm o n 0 T A a := ⟨fun j hj => absurd hj (by omega), fun j _ hj => h j hj⟩
theorem zBm_n {o n i : Nat} {T A : Int} {a : Nat → Int32} (h : zBm o n i T A a) (hi : n ≤ i) : zBB o n T a := fun j hj => h.1 j (by omega) hj
theorem zBm_u {o n i : Nat} {T A : Int} {a : Nat → Int32} {v : Int32} (h : zBm o n i T A a) (hv : v = nI (zbb T i)) : zBm o n (i + 1) T A (upd a (o + i) v) := by
  refine ⟨fun j hj hn => ?_, fun j hj hn => ?_⟩
  · by_cases e : j = i
    · subst e; rw [pk_us, hv]
    · rw [pk_un (by omega)]; exact h.1 j (by omega) hn
  · rw [pk_un (by omega)]; exact h.2 j (by omega) hn
theorem zBm_e {o n i : Nat} {T A : Int} {a : Nat → Int32} (h : zBm o n i T A a) (he : T / 2 ^ i = A / 2 ^ i) : zBB o n T a := by
  intro j hj
  by_cases c : j < i
  · exact h.1 j c hj
  · rw [h.2 j (by omega) hj, zbb_same he (by omega)]
section
variable {f_precision f_mode f_flags f_sticky f_wide : Int32} {f_rest : Int64} {a_sort a_exponent a_minus a_row : Nat → Int32} {a_mantissa : Nat → Int64}
theorem yr_clear_l {post : SY → Prop} {r : Nat} (hr : r ≤ 2) (h : ∀ l, zBB (720 * r) 720 0 l → zfY (720 * r) 720 a_row l → post (f_precision, f_mode, f_flags, f_sticky, f_wide, f_rest, a_sort, a_exponent, a_minus, a_mantissa, l)) : ∀ n k l, k ≤ 720 → 720 - k < n → zfY (720 * r) 720 a_row l → (∀ j, j < k → l (720 * r + j) = 0) → wY_clear_6 post (nI r) f_precision f_mode f_flags f_sticky f_wide f_rest n (nI (720 * r + k)) a_sort a_exponent a_minus a_mantissa l := by
  intro n
  induction n with
  | zero => intro k l _ h1; omega
  | succ n ih =>
    intro k l hk hn hf hz
    refine pk_le (720 * r + 720) (720 * r + k) (fun hk2 => h l (fun j hj => ?_) hf) (fun hk2 => ⟨vp_in_nI (by omega) (by decide), fun l1 el y ey => ?_⟩) (zy_ix r 720)
    · rw [zbb_0]; exact hz j (by omega)
    · rw [nI_clamp (by omega), show vp_nar .byte 0 = (0 : Int32) from zn_b (n := 0) (by decide)] at el
      subst el ey
      rw [nI_1]
      refine ih (k + 1) _ (by omega) (by omega) (zfY_t hf (zfY_u _ _ (by omega))) (fun j hj => ?_)
      by_cases e : j = k
      · subst e; exact pk_us
      · rw [pk_un (by omega)]; exact hz j (by omega)
theorem yr_clear {post : SY → Prop} {r : Nat} (hr : r ≤ 2) (h : ∀ l, zBB (720 * r) 720 0 l → zfY (720 * r) 720 a_row l → post (f_precision, f_mode, f_flags, f_sticky, f_wide, f_rest, a_sort, a_exponent, a_minus, a_mantissa, l)) : wpY_clear post (f_precision, f_mode, f_flags, f_sticky, f_wide, f_rest, a_sort, a_exponent, a_minus, a_mantissa, a_row) (nI r) := by
  intro x ex
  rw [zy_i0] at ex
  subst ex
  exact ⟨721, yr_clear_l hr h 721 0 a_row (by omega) (by omega) (zfY_r _ _ _) (fun j hj => absurd hj (by omega))⟩
/-- a bit of a long -/
theorem zy_bit {M k : Nat} (hM : M < 2 ^ 64) (hk : k < 64) : ((((lN M).toUInt64 >>> ((nI k).toInt64.toUInt64 &&& Int64.toUInt64 63)).toInt64) &&& 1) = lN (M / 2 ^ k % 2) := wb_bit hM hk
theorem zy_bitI {M k : Nat} (hM : M < 2 ^ 64) (hk : k < 64) : (((((lN M).toUInt64 >>> ((nI k).toInt64.toUInt64 &&& Int64.toUInt64 63)).toInt64) &&& 1).toInt32) = nI (M / 2 ^ k % 2) := by
  rw [zy_bit hM hk, lN_i]
theorem zbb_mul (M o j : Nat) : zbb ((M * 2 ^ o : Nat) : Int) j = if j < o then 0 else M / 2 ^ (j - o) % 2 := by
  rw [zbb_n]
  by_cases h : j < o
  · rw [if_pos h]
    obtain ⟨d, rfl⟩ : ∃ d, o = j + (d + 1) := ⟨o - j - 1, by omega⟩
    rw [zNp, Nat.mul_comm M, Nat.mul_assoc, Nat.mul_div_cancel_left _ (Nat.two_pow_pos j), Nat.pow_succ]
    rw [Nat.mul_comm (2 ^ d) 2, Nat.mul_assoc, Nat.mul_mod_right]
  · rw [if_neg h]
    obtain ⟨d, rfl⟩ : ∃ d, j = o + d := ⟨j - o, by omega⟩
    rw [zNp, Nat.mul_comm M, Nat.mul_div_mul_left _ _ (Nat.two_pow_pos o), Nat.add_sub_cancel_left]
theorem yr_write_l {post : SY → Prop} {r o M : Nat} (hr : r ≤ 2) (hM : M < 2 ^ 64) (ho : o + 64 ≤ 720) (h : ∀ l, zBB (720 * r) 720 ((M * 2 ^ o : Nat) : Int) l → zfY (720 * r) 720 a_row l → post (f_precision, f_mode, f_flags, f_sticky, f_wide, f_rest, a_sort, a_exponent, a_minus, a_mantissa, l)) : ∀ n k l, k ≤ 64 → 64 - k < n → zfY (720 * r) 720 a_row l → (∀ j, j < 720 → l (720 * r + j) = if j < o + k then nI (zbb ((M * 2 ^ o : Nat) : Int) j) else 0) → wY_write_8 post (nI r) (lN M) (zI ((o : Int) - 340)) f_precision f_mode f_flags f_sticky f_wide f_rest n (nI k) a_sort a_exponent a_minus a_mantissa l := by
  intro n
  induction n with
  | zero => intro k l _ h1; omega
  | succ n ih =>
    intro k l hk hn hf hz
    have ei : (((720 : Int32) * nI r + 340) + zI ((o : Int) - 340)) + nI k = nI (720 * r + (o + k)) := by
      rw [zy_i0, ← zI_n, ← zI_n, show (340 : Int32) = zI 340 from rfl, zI_add, zI_add, zI_add, ← zI_n]
      exact congrArg zI (by omega)
    refine pk_le 64 k (fun hk2 => h l (fun j hj => ?_) hf) (fun hk2 => ⟨?_, fun l1 el y ey => ?_⟩)
    · rw [hz j hj]
      by_cases c : j < o + k
      · rw [if_pos c]
      · rw [if_neg c, zbb_mul, if_neg (by omega), Nat.div_eq_of_lt (Nat.lt_of_lt_of_le hM (zpl_le (by omega)))]
        rfl
    · rw [ei]; exact vp_in_nI (by omega) (by decide)
    · rw [ei, nI_clamp (by omega), zy_bitI hM hk2, zn_b2 (by have := Nat.mod_lt (M / 2 ^ k) (show 0 < 2 by decide); omega)] at el
      subst el ey
      rw [nI_1]
      refine ih (k + 1) _ (by omega) (by omega) (zfY_t hf (zfY_u _ _ (by omega))) (fun j hj => ?_)
      by_cases e : j = o + k
      · subst e
        rw [pk_us, if_pos (by omega), zbb_mul, if_neg (by omega), Nat.add_sub_cancel_left]
      · rw [pk_un (by omega), hz j hj]
        by_cases c : j < o + k
        · rw [if_pos c, if_pos (by omega)]
        · rw [if_neg c, if_neg (by omega)]
theorem yr_write {post : SY → Prop} {r o M : Nat} (hr : r ≤ 2) (hM : M < 2 ^ 64) (ho : o + 64 ≤ 720) (h : ∀ l, zBB (720 * r) 720 ((M * 2 ^ o : Nat) : Int) l → zfY (720 * r) 720 a_row l → post (f_precision, f_mode, f_flags, f_sticky, f_wide, f_rest, a_sort, a_exponent, a_minus, a_mantissa, l)) : wpY_write post (f_precision, f_mode, f_flags, f_sticky, f_wide, f_rest, a_sort, a_exponent, a_minus, a_mantissa, a_row) (nI r) (lN M) (zI ((o : Int) - 340)) := by
  refine yr_clear hr (fun l hl hf => ?_)
  refine ⟨65, yr_write_l hr hM ho (fun l2 hl2 hf2 => h l2 hl2 (zfY_t hf hf2)) 65 0 l (by omega) (by omega) (zfY_r _ _ _) (fun j hj => ?_)⟩
  rw [hl j hj, zbb_0]
  by_cases c : j < o + 0
  · rw [if_pos c, zbb_mul, if_pos (by omega)]
  · rw [if_neg c]; rfl
/-- addBits on row 0 -/
theorem yr_ab_l {post : SY → Prop} {N M at' : Nat} (hM : M < 2 ^ 64) (hs : N + M * 2 ^ at' < 2 ^ 720) (ha : at' + 64 ≤ 720) (h : ∀ l, zBB 0 720 ((N + M * 2 ^ at' : Nat) : Int) l → zfY 0 720 a_row l → post (f_precision, f_mode, f_flags, f_sticky, f_wide, f_rest, a_sort, a_exponent, a_minus, a_mantissa, l)) : ∀ (n k c : Nat) (l : Nat → Int32), at' + k ≤ 720 → 720 - (at' + k) < n → c ≤ 1 → ((N + M * 2 ^ at' : Nat) : Int) / 2 ^ (at' + k) = (N : Int) / 2 ^ (at' + k) + ((M * 2 ^ at' : Nat) : Int) / 2 ^ (at' + k) + (c : Int) → zfY 0 720 a_row l → zBm 0 720 (at' + k) ((N + M * 2 ^ at' : Nat) : Int) (N : Int) l → wY_addBits_6 post (lN M) (nI at') f_precision f_mode f_flags f_sticky f_wide f_rest n (nI c) (nI k) a_sort a_exponent a_minus a_mantissa l := by
  intro n
  induction n with
  | zero => intro k c l _ h1; omega
  | succ n ih =>
    intro k c l hk hn hc hT hf hb
    have hi : nI at' + nI k = nI (0 + (at' + k)) := by rw [nI_add, Nat.zero_add]
    have stp : at' + k < 720 → wY_addBits_18 post (wY_addBits_6 post (lN M) (nI at') f_precision f_mode f_flags f_sticky f_wide f_rest n) (lN M) (nI at') (nI c) (nI k) f_precision f_mode f_flags f_sticky f_wide f_rest a_sort a_exponent a_minus a_mantissa l := by
      intro hk3
      have hq := zbb_lt (N : Int) (at' + k)
      have hr0 : l (0 + (at' + k)) = nI (zbb (N : Int) (at' + k)) := hb.2 _ (by omega) hk3
      obtain ⟨c1, c2⟩ := zc2 hT
      have g : ∀ d z0 : Nat, d = zbb ((M * 2 ^ at' : Nat) : Int) (at' + k) → d < 2 → wY_addBits_48 post (wY_addBits_6 post (lN M) (nI at') f_precision f_mode f_flags f_sticky f_wide f_rest n) (lN M) (nI at') (nI k) (nI d) (nI (zbb (N : Int) (at' + k)) + nI c) f_precision f_mode f_flags f_sticky f_wide f_rest a_sort a_exponent a_minus a_mantissa l := by
        intro d _ hd hd2 t et
        rw [nI_add, nI_add] at et
        subst et
        refine ⟨by rw [hi]; exact vp_in_nI (by omega) (by decide), fun l1 el c3 ec y ey => ?_⟩
        rw [hi, nI_clamp (by omega), zw_m1 (by omega), zn_b2 (by omega)] at el
        rw [zw_s1 (by omega)] at ec
        subst el ec ey
        rw [nI_1]
        refine ih (k + 1) _ _ (by omega) (by omega) (by omega) ?_ (zfY_t hf (zfY_u _ _ (by omega))) (zBm_u (i := at' + k) hb ?_)
        · rw [show at' + (k + 1) = at' + k + 1 from by omega, c2, ← hd]; omega
        · exact congrArg nI (by rw [← hd] at c1; omega)
      refine ⟨by rw [hi]; exact vp_in_nI (by omega) (by decide), ?_⟩
      rw [hi, nI_clamp (by omega), hr0]
      refine pk_le 64 k (fun h64 => ?_) (fun h64 => ?_)
      · refine g 0 0 ?_ (by omega)
        rw [zbb_mul, if_neg (by omega), Nat.add_sub_cancel_left, Nat.div_eq_of_lt (Nat.lt_of_lt_of_le hM (zpl_le h64))]
      · rw [zy_bitI hM h64]
        refine g _ 0 ?_ (Nat.mod_lt _ (by decide))
        rw [zbb_mul, if_neg (by omega), Nat.add_sub_cancel_left]
    refine pk_lt k 64 (fun h64 => stp (by omega)) (fun h64 => ?_)
    have hB : ((M * 2 ^ at' : Nat) : Int) / 2 ^ (at' + k) = 0 := by
      rw [← zp_cast, ← Int.natCast_ediv, zNp, Nat.mul_comm M, Nat.mul_div_mul_left _ _ (Nat.two_pow_pos at'), Nat.div_eq_of_lt (Nat.lt_of_lt_of_le hM (zpl_le h64))]
      rfl
    refine pk_le c 0 (fun h0 => h l (zBm_e hb ?_) hf) (fun h0 => stp ?_)
    · rw [hT, hB]; omega
    · rcases Nat.lt_or_ge (at' + k) 720 with h1 | h1
      · exact h1
      · have e7 : at' + k = 720 := by omega
        rw [e7] at hT hB
        have e8 : ((N + M * 2 ^ at' : Nat) : Int) / 2 ^ 720 = 0 := Int.ediv_eq_zero_of_lt (Int.natCast_nonneg _) (by rw [← zp_cast]; exact Int.ofNat_lt.mpr hs)
        have e9 : 0 ≤ (N : Int) / 2 ^ 720 := Int.ediv_nonneg (Int.natCast_nonneg _) (Int.le_of_lt (zp_pos _))
        omega
theorem yr_addBits {post : SY → Prop} {N M at' : Nat} (hb : zBB 0 720 (N : Int) a_row) (hM : M < 2 ^ 64) (hs : N + M * 2 ^ at' < 2 ^ 720) (ha : at' + 64 ≤ 720) (h : ∀ l, zBB 0 720 ((N + M * 2 ^ at' : Nat) : Int) l → zfY 0 720 a_row l → post (f_precision, f_mode, f_flags, f_sticky, f_wide, f_rest, a_sort, a_exponent, a_minus, a_mantissa, l)) : wpY_addBits post (f_precision, f_mode, f_flags, f_sticky, f_wide, f_rest, a_sort, a_exponent, a_minus, a_mantissa, a_row) (lN M) (nI at') := by
  refine ⟨721, yr_ab_l hM hs ha h 721 0 0 a_row (by omega) (by omega) (by omega) ?_ (zfY_r _ _ _) ⟨fun j hj hn => ?_, fun j _ hj => hb j hj⟩⟩
  · rw [Nat.add_zero, Int.natCast_add, Int.natCast_mul, zp_cast, zad, Int.mul_ediv_cancel _ (zp_ne _)]
    simp
  · rw [hb j hn, Int.natCast_add, Int.natCast_mul, zp_cast, zbb_low _ _ (by omega)]
/-- row a becomes a + b -/
theorem yr_add_l {post : SY → Prop} {a b : Nat} {A B : Int} (ha : a ≤ 2) (hb : b ≤ 2) (hab : a ≠ b) (h : ∀ l, zBB (720 * a) 720 (A + B) l → zfY (720 * a) 720 a_row l → post (f_precision, f_mode, f_flags, f_sticky, f_wide, f_rest, a_sort, a_exponent, a_minus, a_mantissa, l)) : ∀ (n k c : Nat) (l : Nat → Int32), k ≤ 720 → 720 - k < n → c ≤ 1 → (A + B) / 2 ^ k = A / 2 ^ k + B / 2 ^ k + (c : Int) → zfY (720 * a) 720 a_row l → zBB (720 * b) 720 B l → zBm (720 * a) 720 k (A + B) A l → wY_add_5 post (nI a) (nI b) f_precision f_mode f_flags f_sticky f_wide f_rest n (nI c) (nI k) a_sort a_exponent a_minus a_mantissa l := by
  intro n
  induction n with
  | zero => intro k c l _ h1; omega
  | succ n ih =>
    intro k c l hk hn hc hT hf hB hm
    refine pk_le 720 k (fun hk2 => h l (zBm_n hm hk2) hf) (fun hk2 => ⟨?_, ?_, fun t et => ⟨?_, fun l1 el c1 ec y ey => ?_⟩⟩)
    · rw [zy_ix]; exact vp_in_nI (by omega) (by decide)
    · rw [zy_ix]; exact vp_in_nI (by omega) (by decide)
    · rw [zy_ix]; exact vp_in_nI (by omega) (by decide)
    · have q1 := zbb_lt A k
      have q2 := zbb_lt B k
      rw [zy_ix, zy_ix, nI_clamp (by omega), nI_clamp (by omega), hm.2 k (by omega) hk2, hB k hk2, nI_add, nI_add] at et
      subst et
      rw [zy_ix, nI_clamp (by omega), zw_m1 (by omega), zn_b2 (by omega)] at el
      rw [zw_s1 (by omega)] at ec
      subst el ec ey
      obtain ⟨c1, c2⟩ := zc2 hT
      rw [nI_1]
      refine ih (k + 1) _ _ (by omega) (by omega) (by omega) (by rw [c2]; omega) (zfY_t hf (zfY_u _ _ hk2)) (zBB_f hB (zfY_u (o := 720 * a) (n := 720) _ _ hk2) (by omega)) (zBm_u hm ?_)
      exact congrArg nI (by omega)
theorem yr_add {post : SY → Prop} {a b : Nat} {A B : Int} (ha : a ≤ 2) (hb : b ≤ 2) (hab : a ≠ b) (hA : zBB (720 * a) 720 A a_row) (hB : zBB (720 * b) 720 B a_row) (h : ∀ l, zBB (720 * a) 720 (A + B) l → zfY (720 * a) 720 a_row l → post (f_precision, f_mode, f_flags, f_sticky, f_wide, f_rest, a_sort, a_exponent, a_minus, a_mantissa, l)) : wpY_add post (f_precision, f_mode, f_flags, f_sticky, f_wide, f_rest, a_sort, a_exponent, a_minus, a_mantissa, a_row) (nI a) (nI b) := by
  refine ⟨721, yr_add_l ha hb hab h 721 0 0 a_row (by omega) (by omega) (by omega) ?_ (zfY_r _ _ _) hB (zBm_0 hA)⟩
  rw [Int.pow_zero, Int.ediv_one, Int.ediv_one, Int.ediv_one]
  simp
/-- row a becomes a - b, in the first W bits -/
theorem yr_sub_l {post : SY → Prop} {a b W : Nat} {A B : Int} (ha : a ≤ 2) (hb : b ≤ 2) (hab : a ≠ b) (hW : W ≤ 720) (h : ∀ l, zBB (720 * a) W (A - B) l → zfY (720 * a) W a_row l → post (f_precision, f_mode, f_flags, f_sticky, nI W, f_rest, a_sort, a_exponent, a_minus, a_mantissa, l)) : ∀ (n k c : Nat) (l : Nat → Int32), k ≤ W → W - k < n → c ≤ 1 → (A - B) / 2 ^ k = A / 2 ^ k - B / 2 ^ k - (c : Int) → zfY (720 * a) W a_row l → zBB (720 * b) W B l → zBm (720 * a) W k (A - B) A l → wY_subtract_5 post (nI a) (nI b) f_precision f_mode f_flags f_sticky (nI W) f_rest n (nI c) (nI k) a_sort a_exponent a_minus a_mantissa l := by
  intro n
  induction n with
  | zero => intro k c l _ h1; omega
  | succ n ih =>
    intro k c l hk hn hc hT hf hB hm
    refine pk_le W k (fun hk2 => h l (zBm_n hm hk2) hf) (fun hk2 => ⟨?_, ?_, fun t et => ⟨?_, fun l1 el => ?_⟩⟩)
    · rw [zy_ix]; exact vp_in_nI (by omega) (by decide)
    · rw [zy_ix]; exact vp_in_nI (by omega) (by decide)
    · rw [zy_ix]; exact vp_in_nI (by omega) (by decide)
    · have q1 := zbb_lt A k
      have q2 := zbb_lt B k
      obtain ⟨c1, c2⟩ := zs2 hT
      rw [zy_ix, zy_ix, nI_clamp (by omega), nI_clamp (by omega), hm.2 k (by omega) hk2, hB k hk2, ← zI_n, ← zI_n, ← zI_n, zI_sub, zI_sub] at et
      subst et
      have e1 : zI ((zbb A k : Int) - (zbb B k : Int) - (c : Int)) &&& 1 = nI (zbb (A - B) k) := by
        have hm1 := Jvm.Kit.i32_mask (zI ((zbb A k : Int) - (zbb B k : Int) - (c : Int))) 1 (k := 1) (by decide) (by decide)
        apply Int32.toInt_inj.mp
        rw [hm1, zI_t (by omega) (by omega), nI_toInt (by have := zbb_lt (A - B) k; omega), c1]
        rfl
      rw [zy_ix, nI_clamp (by omega), e1, zn_b2 (by have := zbb_lt (A - B) k; omega)] at el
      subst el
      have hm2 := zBm_u (v := nI (zbb (A - B) k)) hm rfl
      have hB2 := zBB_f hB (zfY_u (o := 720 * a) (n := W) l (nI (zbb (A - B) k)) hk2) (by omega)
      have hf2 := zfY_t hf (zfY_u (o := 720 * a) (n := W) l (nI (zbb (A - B) k)) hk2)
      refine zk_le 0 ((zbb A k : Int) - (zbb B k : Int) - (c : Int)) (fun hs y ey => ?_) (fun hs y ey => ?_)
      · subst ey
        rw [nI_1]
        exact ih (k + 1) 0 _ (by omega) (by omega) (by omega) (by rw [c2]; omega) hf2 hB2 hm2
      · subst ey
        rw [nI_1]
        exact ih (k + 1) 1 _ (by omega) (by omega) (by omega) (by rw [c2]; omega) hf2 hB2 hm2
theorem yr_sub {post : SY → Prop} {a b W : Nat} {A B : Int} (ha : a ≤ 2) (hb : b ≤ 2) (hab : a ≠ b) (hW : W ≤ 720) (hA : zBB (720 * a) W A a_row) (hB : zBB (720 * b) W B a_row) (h : ∀ l, zBB (720 * a) W (A - B) l → zfY (720 * a) W a_row l → post (f_precision, f_mode, f_flags, f_sticky, nI W, f_rest, a_sort, a_exponent, a_minus, a_mantissa, l)) : wpY_subtract post (f_precision, f_mode, f_flags, f_sticky, nI W, f_rest, a_sort, a_exponent, a_minus, a_mantissa, a_row) (nI a) (nI b) := by
  refine ⟨W + 1, yr_sub_l ha hb hab hW h (W + 1) 0 0 a_row (by omega) (by omega) (by omega) ?_ (zfY_r _ _ _) hB (zBm_0 hA)⟩
  rw [Int.pow_zero, Int.ediv_one, Int.ediv_one, Int.ediv_one]
  simp
/-- compare two rows -/
def zcmp (A B : Nat) : Int32 := if A = B then 0 else if A < B then -1 else 1
theorem yr_cmp_l {post : Int32 → Prop} {a b W A B : Nat} (ha : a ≤ 2) (hb : b ≤ 2) (hW : W ≤ 720) (hA : zBB (720 * a) W (A : Int) a_row) (hB : zBB (720 * b) W (B : Int) a_row) (h : post (zcmp A B)) : ∀ n k, k ≤ W → k < n → A / 2 ^ k = B / 2 ^ k → wY_compareRows_7 post (nI a) (nI b) f_precision f_mode f_flags f_sticky f_wide f_rest a_sort a_exponent a_minus a_mantissa a_row n (zI ((k : Int) - 1)) := by
  intro n
  induction n with
  | zero => intro k _ h1; omega
  | succ n ih =>
    intro k hk hn he
    refine zk_lt ((k : Int) - 1) 0 (fun h0 => ?_) (fun h0 => ?_)
    · have e0 : k = 0 := by omega
      subst e0
      rw [Nat.pow_zero, Nat.div_one, Nat.div_one] at he
      unfold zcmp at h
      rw [if_pos he] at h
      exact h
    · obtain ⟨k', rfl⟩ : ∃ k', k = k' + 1 := ⟨k - 1, by omega⟩
      have e1 : zI (((k' + 1 : Nat) : Int) - 1) = nI k' := by rw [← zI_n]; exact congrArg zI (by omega)
      rw [e1]
      have q1 := zbb_lt (A : Int) k'
      have q2 := zbb_lt (B : Int) k'
      rw [zy_ix, zy_ix, nI_clamp (by omega), nI_clamp (by omega), hA k' (by omega), hB k' (by omega)]
      have vi := vp_in_nI (n := 720 * a + k') (N := 2160) (by omega) (by decide)
      have vj := vp_in_nI (n := 720 * b + k') (N := 2160) (by omega) (by decide)
      rw [zbb_n, zbb_n] at *
      have d : ∀ C : Nat, C / 2 ^ (k' + 1) = C / 2 ^ k' / 2 := fun C => by rw [Nat.pow_succ, Nat.div_div_eq_div_mul]
      rw [d, d] at he
      refine ⟨vi, vj, ?_⟩
      refine pk_eq (A / 2 ^ k' % 2) (B / 2 ^ k' % 2) (fun hq y ey => ?_) (fun hq => ⟨vi, vj, ?_⟩)
      · have e2 : y = zI ((k' : Int) - 1) := by rw [ey, ← zI_n, show (-1 : Int32) = zI (-1) from rfl, zI_add]; exact congrArg zI (by omega)
        subst e2
        exact ih k' (by omega) (by omega) (by omega)
      · have mono : ∀ C D : Nat, C / 2 ^ k' < D / 2 ^ k' → C < D := by
          intro C D hcd
          rcases Nat.lt_or_ge C D with h1 | h1
          · exact h1
          · have := Nat.div_le_div_right (c := 2 ^ k') h1
            omega
        refine pk_le (B / 2 ^ k' % 2) (A / 2 ^ k' % 2) (fun hl => ?_) (fun hl => ?_)
        · have := mono B A (by omega)
          unfold zcmp at h
          rw [if_neg (by omega), if_neg (by omega)] at h
          exact h
        · have := mono A B (by omega)
          unfold zcmp at h
          rw [if_neg (by omega), if_pos (by omega)] at h
          exact h
theorem yr_cmp {post : Int32 → Prop} {a b W A B : Nat} (ha : a ≤ 2) (hb : b ≤ 2) (hW : W ≤ 720) (hA : zBB (720 * a) W (A : Int) a_row) (hB : zBB (720 * b) W (B : Int) a_row) (hA2 : A < 2 ^ W) (hB2 : B < 2 ^ W) (h : post (zcmp A B)) : wpY_compareRows post (f_precision, f_mode, f_flags, f_sticky, nI W, f_rest, a_sort, a_exponent, a_minus, a_mantissa, a_row) (nI a) (nI b) := by
  intro x ex
  have e : x = zI ((W : Int) - 1) := by rw [ex, ← zI_n, show (1 : Int32) = zI 1 from rfl, zI_sub]
  subst e
  exact ⟨W + 1, yr_cmp_l ha hb hW hA hB h (W + 1) W (by omega) (by omega) (by rw [Nat.div_eq_of_lt hA2, Nat.div_eq_of_lt hB2])⟩
/-- row b becomes row a, in the first W bits -/
theorem yr_copy_l {post : SY → Prop} {a b W : Nat} {A : Int} (ha : a ≤ 2) (hb : b ≤ 2) (hab : a ≠ b) (hW : W ≤ 720) (h : ∀ l, zBB (720 * b) W A l → zfY (720 * b) W a_row l → post (f_precision, f_mode, f_flags, f_sticky, nI W, f_rest, a_sort, a_exponent, a_minus, a_mantissa, l)) : ∀ n k l, k ≤ W → W - k < n → zfY (720 * b) W a_row l → zBB (720 * a) W A l → (∀ j, j < k → l (720 * b + j) = nI (zbb A j)) → wY_copy_2 post (nI a) (nI b) f_precision f_mode f_flags f_sticky (nI W) f_rest n (nI k) a_sort a_exponent a_minus a_mantissa l := by
  intro n
  induction n with
  | zero => intro k l _ h1; omega
  | succ n ih =>
    intro k l hk hn hf hA hz
    refine pk_le W k (fun hk2 => h l (fun j hj => hz j (by omega)) hf) (fun hk2 => ⟨?_, ?_, fun l1 el y ey => ?_⟩)
    · rw [zy_ix]; exact vp_in_nI (by omega) (by decide)
    · rw [zy_ix]; exact vp_in_nI (by omega) (by decide)
    · rw [zy_ix, zy_ix, nI_clamp (by omega), nI_clamp (by omega), hA k hk2, zn_b (by have := zbb_lt A k; omega)] at el
      subst el ey
      rw [nI_1]
      refine ih (k + 1) _ (by omega) (by omega) (zfY_t hf (zfY_u _ _ hk2)) (zBB_f hA (zfY_u (o := 720 * b) (n := W) _ _ hk2) (by omega)) (fun j hj => ?_)
      by_cases e : j = k
      · subst e; rw [pk_us]
      · rw [pk_un (by omega)]; exact hz j (by omega)
theorem yr_copy {post : SY → Prop} {a b W : Nat} {A : Int} (ha : a ≤ 2) (hb : b ≤ 2) (hab : a ≠ b) (hW : W ≤ 720) (hA : zBB (720 * a) W A a_row) (h : ∀ l, zBB (720 * b) W A l → zfY (720 * b) W a_row l → post (f_precision, f_mode, f_flags, f_sticky, nI W, f_rest, a_sort, a_exponent, a_minus, a_mantissa, l)) : wpY_copy post (f_precision, f_mode, f_flags, f_sticky, nI W, f_rest, a_sort, a_exponent, a_minus, a_mantissa, a_row) (nI a) (nI b) :=
  ⟨W + 1, yr_copy_l ha hb hab hW h (W + 1) 0 a_row (by omega) (by omega) (zfY_r _ _ _) hA (fun j hj => absurd hj (by omega))⟩
/-- the highest bit of row 0 -/
theorem yr_top_l {post : Int32 → Prop} {N h : Nat} (hb : zBB 0 720 (N : Int) a_row) (h1 : 2 ^ h ≤ N) (h2 : N < 2 ^ (h + 1)) (hp : post (nI h)) : ∀ n k, k < 720 → h ≤ k → k < n → wY_top_4 post f_precision f_mode f_flags f_sticky f_wide f_rest a_sort a_exponent a_minus a_mantissa a_row n (nI k) := by
  intro n
  induction n with
  | zero => intro k _ _ hn; omega
  | succ n ih =>
    intro k hk hk2 hn
    have hr : a_row k = nI (zbb (N : Int) k) := by have := hb k hk; rw [Nat.zero_add] at this; exact this
    refine br_f (nI_pos (by omega)) ⟨vp_in_nI (by omega) (by decide), ?_⟩
    rw [nI_clamp (by omega), hr]
    by_cases hc : k = h
    · subst hc
      rw [xr_b1 h1 h2]
      exact br_f (by decide) hp
    · rw [xr_bz h2 (by omega)]
      refine br_t rfl (fun y ey => ?_)
      subst ey
      obtain ⟨k', rfl⟩ : ∃ k', k = k' + 1 := ⟨k - 1, by omega⟩
      rw [pk_m1]
      exact ih k' (by omega) (by omega) (by omega)
theorem yr_top {post : Int32 → Prop} {N h : Nat} (hb : zBB 0 720 (N : Int) a_row) (h1 : 2 ^ h ≤ N) (h2 : N < 2 ^ (h + 1)) (hh : h < 720) (hp : post (nI h)) : wpY_top post (f_precision, f_mode, f_flags, f_sticky, f_wide, f_rest, a_sort, a_exponent, a_minus, a_mantissa, a_row) :=
  ⟨720, yr_top_l hb h1 h2 hp 720 719 (by omega) (by omega) (by omega)⟩
theorem yr_top0_l {post : Int32 → Prop} (hb : zBB 0 720 0 a_row) (hp : post (-1)) : ∀ n k, k < 720 → k + 1 < n → wY_top_4 post f_precision f_mode f_flags f_sticky f_wide f_rest a_sort a_exponent a_minus a_mantissa a_row n (nI k) := by
  intro n
  induction n with
  | zero => intro k _ hn; omega
  | succ n ih =>
    intro k hk hn
    have hr : a_row k = nI (zbb 0 k) := by have := hb k hk; rw [Nat.zero_add] at this; exact this
    refine br_f (nI_pos (by omega)) ⟨vp_in_nI (by omega) (by decide), ?_⟩
    rw [nI_clamp (by omega), hr, zbb_0]
    refine br_t rfl (fun y ey => ?_)
    subst ey
    by_cases hc : k = 0
    · subst hc
      obtain ⟨n', rfl⟩ : ∃ n', n = n' + 1 := ⟨n - 1, by omega⟩
      exact br_t (by decide) hp
    · obtain ⟨k', rfl⟩ : ∃ k', k = k' + 1 := ⟨k - 1, by omega⟩
      rw [pk_m1]
      exact ih k' (by omega) (by omega)
theorem yr_top0 {post : Int32 → Prop} (hb : zBB 0 720 0 a_row) (hp : post (-1)) : wpY_top post (f_precision, f_mode, f_flags, f_sticky, f_wide, f_rest, a_sort, a_exponent, a_minus, a_mantissa, a_row) :=
  ⟨721, yr_top0_l hb hp 721 719 (by omega) (by omega)⟩
theorem yr_bitAt {post : Int32 → Prop} {N k : Nat} (hb : zBB 0 720 (N : Int) a_row) (hk : k < 720) (h : post (zb1 (decide (N / 2 ^ k % 2 = 1)))) : wpY_bitAt post (f_precision, f_mode, f_flags, f_sticky, f_wide, f_rest, a_sort, a_exponent, a_minus, a_mantissa, a_row) (nI k) := by
  have hr : a_row k = nI (zbb (N : Int) k) := by have := hb k hk; rw [Nat.zero_add] at this; exact this
  refine br_f (nI_pos (by omega)) ⟨vp_in_nI (by omega) (by decide), ?_⟩
  rw [nI_clamp (by omega), hr, zbb_n]
  have := Nat.mod_lt (N / 2 ^ k) (show 0 < 2 by decide)
  refine pk_eq (N / 2 ^ k % 2) 1 (fun e => ?_) (fun e => ?_)
  · rw [decide_eq_true e] at h; exact h
  · rw [decide_eq_false e] at h; exact h
theorem yr_below_l {post : Int32 → Prop} {N k : Nat} {s : Bool} (hb : zBB 0 720 (N : Int) a_row) (hk : k < 720) (h : post (zb1 (s || decide (N % 2 ^ k ≠ 0)))) : ∀ n j, j ≤ k → k - j < n → wY_below_7 post (nI k) f_precision f_mode f_flags f_sticky f_wide f_rest a_sort a_exponent a_minus a_mantissa a_row n (zb1 (s || decide (N % 2 ^ j ≠ 0))) (nI j) := by
  intro n
  induction n with
  | zero => intro j _ hn; omega
  | succ n ih =>
    intro j hj hn
    refine pk_le k j (fun hc => ⟨zb1_n _, ?_⟩) (fun hc => ⟨vp_in_nI (by omega) (by decide), ?_⟩)
    · have e : j = k := by omega
      subst e; exact h
    · have hr : a_row j = nI (zbb (N : Int) j) := by have := hb j (by omega); rw [Nat.zero_add] at this; exact this
      rw [nI_clamp (by omega), hr, zbb_n]
      have hm := Nat.mod_lt (N / 2 ^ j) (show 0 < 2 by decide)
      have e2 : N % 2 ^ (j + 1) = N % 2 ^ j + 2 ^ j * (N / 2 ^ j % 2) := by rw [Nat.pow_succ, Nat.mod_mul]
      have hz := Nat.two_pow_pos j
      refine pk_eq (N / 2 ^ j % 2) 1 (fun e x ex y ey => ?_) (fun e x ex y ey => ?_)
      · have e3 : x = zb1 (s || decide (N % 2 ^ (j + 1) ≠ 0)) := by
          rw [ex, e2, e, decide_eq_true (show N % 2 ^ j + 2 ^ j * 1 ≠ 0 by omega), Bool.or_true]
          generalize (s || decide (N % 2 ^ j ≠ 0)) = b
          cases b <;> rfl
        subst e3 ey
        rw [nI_1]
        exact ih (j + 1) (by omega) (by omega)
      · have e3 : x = zb1 (s || decide (N % 2 ^ (j + 1) ≠ 0)) := by
          rw [ex, e2, show N / 2 ^ j % 2 = 0 from by omega, Nat.mul_zero, Nat.add_zero]
          generalize (s || decide (N % 2 ^ j ≠ 0)) = b
          cases b <;> rfl
        subst e3 ey
        rw [nI_1]
        exact ih (j + 1) (by omega) (by omega)
theorem yr_below {post : Int32 → Prop} {N k : Nat} {s : Bool} (hb : zBB 0 720 (N : Int) a_row) (hk : k < 720) (h : post (zb1 (s || decide (N % 2 ^ k ≠ 0)))) : wpY_below post (f_precision, f_mode, f_flags, zb1 s, f_wide, f_rest, a_sort, a_exponent, a_minus, a_mantissa, a_row) (nI k) := by
  have g := yr_below_l (f_sticky := zb1 s) (f_precision := f_precision) (f_mode := f_mode) (f_flags := f_flags) (f_wide := f_wide) (f_rest := f_rest) (a_sort := a_sort) (a_exponent := a_exponent) (a_minus := a_minus) (a_mantissa := a_mantissa) hb hk h (k + 1) 0 (by omega) (by omega)
  rw [Nat.pow_zero, Nat.mod_one] at g
  refine ⟨k + 1, ?_⟩
  have e : (s || decide ((0 : Nat) ≠ 0)) = s := by simp
  rw [e] at g
  exact g
end
end
section
/-! the reference: give, put, round -/
def zSY (w : ZV) (k m e : Int32) (M : Int64) : Prop := m = zb1 w.2.1 ∧ k = nI w.1 ∧ (w.1 = 2 → e = zI w.2.2.1 ∧ M = lN w.2.2.2)
def zYS (w : Nat → ZV) (S Mi E : Nat → Int32) (Ma : Nat → Int64) : Prop := ∀ j, j < 8 → zSY (w j) (S j) (Mi j) (E j) (Ma j)
theorem zlN_eq {a b : Nat} (ha : a < 2 ^ 64) (hb : b < 2 ^ 64) : lN a = lN b ↔ a = b := by
  constructor
  · intro h
    have := congrArg (fun z => z.toBitVec.toNat) h
    simp only [wb_tn ha, wb_tn hb] at this
    exact this
  · intro h; rw [h]
theorem zYS_s {w : Nat → ZV} {S Mi E : Nat → Int32} {Ma : Nat → Int64} {i : Nat} {r : ZV} {k m e : Int32} {M : Int64} (h : zYS w S Mi E Ma) (g : zSY r k m e M) : zYS (zst w i r) (upd S i k) (upd Mi i m) (upd E i e) (vp_updL Ma i M) := by
  intro j hj
  unfold zst
  by_cases c : j = i
  · subst c; rw [if_pos rfl, pk_us, pk_us, pk_us, pk_uLs]; exact g
  · rw [if_neg c, pk_un c, pk_un c, pk_un c, pk_uLn c]; exact h j hj
section
variable {f_precision f_mode f_flags f_sticky f_wide : Int32} {f_rest : Int64} {a_sort a_exponent a_minus a_row : Nat → Int32} {a_mantissa : Nat → Int64}
theorem yo_give {post : SY → Prop} {i k : Nat} {w : Nat → ZV} {ng : Bool} {e : Int32} {M : Int64} {r : ZV} (hs : zYS w a_sort a_minus a_exponent a_mantissa) (hi : i < 8) (hk : k ≤ 4) (h1 : r.1 = k) (h2 : r.2.1 = (ng && !(k == 4))) (h3 : k = 2 → e = zI r.2.2.1 ∧ M = lN r.2.2.2) (h : ∀ S Mi E Ma, zYS (zst w i r) S Mi E Ma → post (f_precision, f_mode, f_flags, f_sticky, f_wide, f_rest, S, E, Mi, Ma, a_row)) : wpY_give post (f_precision, f_mode, f_flags, f_sticky, f_wide, f_rest, a_sort, a_exponent, a_minus, a_mantissa, a_row) (nI i) (nI k) (zb1 ng) e M := by
  have vi := vp_in_nI hi (show 8 < 2 ^ 31 by decide)
  refine ⟨vi, fun S eS => ?_⟩
  rw [nI_clamp (by omega)] at eS
  subst eS
  have g : ∀ b : Bool, r.2.1 = b → wY_give_26 post (nI i) e M (zb1 b) (nI i) f_precision f_mode f_flags f_sticky f_wide f_rest (upd a_sort i (nI k)) a_exponent a_minus a_mantissa a_row := by
    intro b hb
    refine ⟨vi, fun Mi eM => ⟨vi, fun E eE => ⟨vi, fun Ma eMa => ?_⟩⟩⟩
    rw [nI_clamp (by omega)] at eM eE eMa
    rw [zb1_v] at eM
    subst eM eE eMa
    exact h _ _ _ _ (zYS_s hs ⟨by rw [hb], by rw [h1], fun z => h3 (h1.symm.trans z)⟩)
  refine zk_b (fun en => ?_) (fun en => ?_)
  · subst en
    exact g false h2
  · subst en
    refine pk_eq k 4 (fun e4 => ?_) (fun e4 => ?_)
    · subst e4; exact g false h2
    · exact g true (by rw [h2]; simp [e4])
theorem yo_invalid {post : SY → Prop} {i : Nat} {w : Nat → ZV} (hs : zYS w a_sort a_minus a_exponent a_mantissa) (hi : i < 8) (h : ∀ S Mi E Ma, zYS (zst w i (4, false, 0, 0)) S Mi E Ma → post (f_precision, f_mode, f_flags ||| 16, f_sticky, f_wide, f_rest, S, E, Mi, Ma, a_row)) : wpY_invalid post (f_precision, f_mode, f_flags, f_sticky, f_wide, f_rest, a_sort, a_exponent, a_minus, a_mantissa, a_row) (nI i) := by
  intro f ef
  subst ef
  exact yo_give (k := 4) (ng := false) hs hi (by omega) rfl rfl (fun z => absurd z (by decide)) h
/-- the row of a value -/
def zrow (p : Nat) (w : ZV) : Nat := if w.1 = 2 then w.2.2.2 * 2 ^ (340 + w.2.2.1 - p + 1).toNat else 0
theorem yo_put {post : SY → Prop} {p r x : Nat} {w : Nat → ZV} (hs : zYS w a_sort a_minus a_exponent a_mantissa) (ho : zOK p (w x)) (hp2 : 2 ≤ p) (hp : p ≤ 64) (hx : x < 8) (hr : r ≤ 2) (h : ∀ l, zBB (720 * r) 720 (zrow p (w x) : Int) l → zfY (720 * r) 720 a_row l → post (nI p, f_mode, f_flags, f_sticky, f_wide, f_rest, a_sort, a_exponent, a_minus, a_mantissa, l)) : wpY_put post (nI p, f_mode, f_flags, f_sticky, f_wide, f_rest, a_sort, a_exponent, a_minus, a_mantissa, a_row) (nI r) (nI x) := by
  have vx := vp_in_nI hx (show 8 < 2 ^ 31 by decide)
  have hk : (w x).1 ≤ 4 := by have := ho.1; omega
  refine ⟨vx, ?_⟩
  rw [nI_clamp (by omega), (hs x hx).2.1]
  refine pk_eq (w x).1 2 (fun e => ⟨vx, ⟨vx, ?_⟩⟩) (fun e => ?_)
  · have ⟨h1, h2, h3, h4, h5⟩ := ho.2.1 e
    have ⟨g1, g2⟩ := (hs x hx).2.2 e
    have hM : (w x).2.2.2 < 2 ^ 64 := Nat.lt_of_lt_of_le h2 (zpl_le hp)
    rw [nI_clamp (by omega), g1, g2]
    have ew : zI (w x).2.2.1 - nI p + 1 = zI (((340 + (w x).2.2.1 - p + 1).toNat : Int) - 340) := by
      rw [← zI_n p, zI_sub, show (1 : Int32) = zI 1 from rfl, zI_add]
      exact congrArg zI (by omega)
    rw [ew]
    refine yr_write hr hM (by omega) (fun l hl hf => h l ?_ hf)
    unfold zrow
    rw [if_pos e]
    exact hl
  · refine yr_clear hr (fun l hl hf => h l ?_ hf)
    unfold zrow
    rw [if_neg e]
    exact hl
/-- greatest, away -/
theorem yo_greatest {post : Int64 → Prop} {p : Nat} (hp2 : 2 ≤ p) (hp : p ≤ 64) (h : post (lN (2 ^ p - 1))) : wpY_greatest post (nI p, f_mode, f_flags, f_sticky, f_wide, f_rest, a_sort, a_exponent, a_minus, a_mantissa, a_row) := by
  refine pk_eq p 64 (fun e => ?_) (fun e => ?_)
  · subst e; exact h
  · have e1 : (1 : Int64) <<< ((nI p).toInt64 &&& 63) = lN (2 ^ p) := by
      have := wb_shl 1 (k := p) (by omega)
      rw [Nat.one_mul] at this
      exact this
    rw [e1, show lN (2 ^ p) - 1 = lN (2 ^ p - 1) from lN_sub (b := 1) (Nat.two_pow_pos p)]
    exact h
theorem yo_half {p : Nat} (hp2 : 2 ≤ p) (hp : p ≤ 64) : (1 : Int64) <<< ((nI p - 1).toInt64 &&& 63) = lN (2 ^ (p - 1)) := by
  rw [show nI p - 1 = nI (p - 1) from pk_sub (b := 1) (by omega)]
  have := wb_shl 1 (k := p - 1) (by omega)
  rw [Nat.one_mul] at this
  exact this
theorem yo_away {post : Int32 → Prop} {md : Nat} {ng odd half more : Bool} (hmd : md ≤ 4) (h : post (zb1 (zra md ng odd half more))) : wpY_away post (f_precision, nI md, f_flags, f_sticky, f_wide, f_rest, a_sort, a_exponent, a_minus, a_mantissa, a_row) (zb1 ng) (zb1 odd) (zb1 half) (zb1 more) := by
  rcases z_md hmd with rfl | rfl | rfl | rfl | rfl
  · refine br_t (by decide) ?_
    cases half
    · exact br_t (by decide) h
    · refine br_f (by decide) ?_
      cases more
      · refine br_t (by decide) ?_
        cases odd
        · exact br_t (by decide) h
        · exact br_f (by decide) h
      · exact br_f (by decide) h
  · exact br_f (by decide) (br_t (by decide) h)
  · refine br_f (by decide) (br_f (by decide) (br_f (by decide) ?_))
    cases half
    · refine br_t (by decide) ?_
      cases more
      · exact br_t (by decide) h
      · refine br_f (by decide) (br_f (by decide) ?_)
        cases ng
        · exact br_t (by decide) h
        · exact br_f (by decide) h
    · refine br_f (by decide) (br_f (by decide) ?_)
      cases ng
      · exact br_t (by decide) h
      · exact br_f (by decide) h
  · refine br_f (by decide) (br_f (by decide) (br_f (by decide) ?_))
    cases half
    · refine br_t (by decide) ?_
      cases more
      · exact br_t (by decide) h
      · refine br_f (by decide) (br_t (by decide) ?_)
        cases ng
        · exact br_f (by decide) h
        · exact br_t (by decide) h
    · refine br_f (by decide) (br_t (by decide) ?_)
      cases ng
      · exact br_f (by decide) h
      · exact br_t (by decide) h
  · exact br_f (by decide) (br_f (by decide) (br_t (by decide) ⟨zb1_n half, h⟩))
/-- the end of a rounding -/
theorem yo_219 {post : SY → Prop} {p md i M : Nat} {w : Nat → ZV} {ng : Bool} {e : Int} (hmd : md ≤ 4) (hs : zYS w a_sort a_minus a_exponent a_mantissa) (hp2 : 2 ≤ p) (hp : p ≤ 64) (hi : i < 8) (hM : M < 2 ^ 64) (he : -100 ≤ e) (he2 : e < 1000) (h : ∀ S Mi E Ma, zYS (zst w i (zfin p md ng e M f_flags).1) S Mi E Ma → post (nI p, nI md, (zfin p md ng e M f_flags).2, f_sticky, f_wide, f_rest, S, E, Mi, Ma, a_row)) : wY_round_219 post (nI i) (zb1 ng) (zI e) (lN M) (nI p) (nI md) f_flags f_sticky f_wide f_rest a_sort a_exponent a_minus a_mantissa a_row := by
  refine zk_le e 100 (fun hc => ?_) (fun hc f ef => ?_)
  · have ef : zfin p md ng e M f_flags = ((if M = 0 then (0, ng, 0, 0) else (2, ng, e, M)), f_flags) := by unfold zfin; rw [if_neg (by omega)]
    rw [ef] at h
    refine zk_i (d := M = 0) (by rw [show (0 : Int64) = lN 0 from rfl, zlN_eq hM (by decide)]) (fun d => ?_) (fun d => ?_)
    · rw [if_pos d] at h
      exact yo_give (k := 0) hs hi (by omega) rfl (by simp) (fun z => absurd z (by decide)) h
    · rw [if_neg d] at h
      exact yo_give (k := 2) hs hi (by omega) rfl (by simp) (fun _ => ⟨rfl, rfl⟩) h
  · subst ef
    have ef : zfin p md ng e M f_flags = ((if zsy md ng then (2, ng, 100, 2 ^ p - 1) else (3, ng, 0, 0)), f_flags ||| 5) := by unfold zfin; rw [if_pos (by omega)]
    rw [ef] at h
    have g : ∀ b : Bool, zsy md ng = b → wY_round_273 post (nI i) (zb1 ng) (zb1 b) (nI p) (nI md) (f_flags ||| 5) f_sticky f_wide f_rest a_sort a_exponent a_minus a_mantissa a_row := by
      intro b hb
      rw [hb] at h
      refine zk_b (fun eb => ?_) (fun eb => ?_)
      · subst eb
        refine yo_greatest hp2 hp ?_
        exact yo_give (k := 3) hs hi (by omega) rfl (by simp) (fun z => absurd z (by decide)) h
      · subst eb
        refine yo_greatest hp2 hp ?_
        exact yo_give (k := 2) hs hi (by omega) rfl (by simp) (fun _ => ⟨rfl, rfl⟩) h
    rcases z_md hmd with rfl | rfl | rfl | rfl | rfl
    · exact br_f (by decide) (br_f (by decide) (br_f (by decide) (g false rfl)))
    · exact br_t (by decide) (g true rfl)
    · cases ng
      · exact br_f (by decide) (br_t (by decide) (br_t (by decide) (br_f (by decide) (g false rfl))))
      · exact br_f (by decide) (br_t (by decide) (br_f (by decide) (g true rfl)))
    · cases ng
      · exact br_f (by decide) (br_f (by decide) (br_t (by decide) (br_t (by decide) (g true rfl))))
      · exact br_f (by decide) (br_f (by decide) (br_t (by decide) (br_f (by decide) (g false rfl))))
    · exact br_f (by decide) (br_f (by decide) (br_f (by decide) (g false rfl)))
theorem yo_146 {post : SY → Prop} {p md i M : Nat} {w : Nat → ZV} {ng half more : Bool} {e : Int} (hmd : md ≤ 4) (hs : zYS w a_sort a_minus a_exponent a_mantissa) (hp2 : 2 ≤ p) (hp : p ≤ 64) (hi : i < 8) (hM : M < 2 ^ p) (he : -100 ≤ e) (he2 : e < 900) (h : ∀ S Mi E Ma, zYS (zst w i (zaw p md ng e M (zra md ng (decide (M % 2 = 1)) half more) f_flags).1) S Mi E Ma → post (nI p, nI md, (zaw p md ng e M (zra md ng (decide (M % 2 = 1)) half more) f_flags).2, f_sticky, f_wide, f_rest, S, E, Mi, Ma, a_row)) : wY_round_146 post (nI i) (zb1 ng) (zI e) (lN M) (zb1 half) (zb1 more) (nI p) (nI md) f_flags f_sticky f_wide f_rest a_sort a_exponent a_minus a_mantissa a_row := by
  have h64 : M < 2 ^ 64 := Nat.lt_of_lt_of_le hM (zpl_le hp)
  have hpp : 2 ^ p ≤ 2 ^ 64 := zpl_le hp
  have hz := Nat.two_pow_pos p
  have g : ∀ odd : Bool, decide (M % 2 = 1) = odd → wY_round_162 post (nI i) (zb1 ng) (zI e) (lN M) (zb1 half) (zb1 more) (zb1 odd) (zb1 ng) (nI p) (nI md) f_flags f_sticky f_wide f_rest a_sort a_exponent a_minus a_mantissa a_row := by
    intro odd hodd
    rw [hodd] at h
    refine yo_away hmd (zk_b (fun ea => ?_) (fun ea => ?_))
    · rw [ea] at h
      exact yo_219 hmd hs hp2 hp hi h64 he (by omega) h
    · rw [ea] at h
      refine yo_greatest hp2 hp ?_
      refine zk_i (d := M + 1 = 2 ^ p) (by rw [zlN_eq h64 (by omega)]; omega) (fun d => ?_) (fun d => ?_)
      · have ez : zaw p md ng e M true f_flags = zfin p md ng (e + 1) (2 ^ (p - 1)) f_flags := by unfold zaw; rw [if_pos rfl, if_pos d]
        rw [ez] at h
        refine br_f (by decide) (br_f (by decide) ?_)
        rw [yo_half hp2 hp]
        intro y ey
        have ey2 : y = zI (e + 1) := ey.trans (zI_add e 1)
        subst ey2
        exact yo_219 hmd hs hp2 hp hi (Nat.lt_of_lt_of_le (zpl_lt (by omega)) hpp) (by omega) (by omega) h
      · have ez : zaw p md ng e M true f_flags = zfin p md ng e (M + 1) f_flags := by unfold zaw; rw [if_pos rfl, if_neg d]
        rw [ez] at h
        refine br_t rfl (br_t rfl ?_)
        rw [lN_1]
        exact yo_219 hmd hs hp2 hp hi (by omega) he (by omega) h
  refine zk_i (d := M % 2 = 1) ?_ (fun d => g true (decide_eq_true d)) (fun d => g false (decide_eq_false d))
  rw [wb_a1 h64, show (1 : Int64) = lN 1 from rfl, zlN_eq (by omega) (by decide)]
theorem yo_122 {post : SY → Prop} {p md i M h' : Nat} {w : Nat → ZV} {ng half more : Bool} {e : Int} (hmd : md ≤ 4) (hs : zYS w a_sort a_minus a_exponent a_mantissa) (hp2 : 2 ≤ p) (hp : p ≤ 64) (hi : i < 8) (hM : M < 2 ^ p) (he : -100 ≤ e) (he2 : e < 900) (hh : h' < 720) (hx : (half || more) = true) (h : ∀ S Mi E Ma, zYS (zst w i (zaw p md ng e M (zra md ng (decide (M % 2 = 1)) half more) (zfl ((h' : Int) - 340) (half || more) f_flags)).1) S Mi E Ma → post (nI p, nI md, (zaw p md ng e M (zra md ng (decide (M % 2 = 1)) half more) (zfl ((h' : Int) - 340) (half || more) f_flags)).2, f_sticky, f_wide, f_rest, S, E, Mi, Ma, a_row)) : wY_round_122 post (nI i) (zb1 ng) (nI h') (zI e) (lN M) (zb1 half) (zb1 more) (nI p) (nI md) f_flags f_sticky f_wide f_rest a_sort a_exponent a_minus a_mantissa a_row := by
  have eh : nI h' - 340 = zI ((h' : Int) - 340) := by rw [← zI_n, show (340 : Int32) = zI 340 from rfl, zI_sub]
  unfold zfl at h
  rw [hx, if_pos rfl] at h
  refine zk_le (-100) ((h' : Int) - 340) (fun hc f ef => ?_) (fun hc f ef => ?_) rfl eh
  · subst ef
    rw [if_neg (by omega)] at h
    exact yo_146 hmd hs hp2 hp hi hM he he2 h
  · subst ef
    rw [if_pos (by omega)] at h
    exact yo_146 hmd hs hp2 hp hi hM he he2 h
theorem yo_62 {post : SY → Prop} {p md i N : Nat} {w : Nat → ZV} {ng s : Bool} (hmd : md ≤ 4) (hs : zYS w a_sort a_minus a_exponent a_mantissa) (hb : zBB 0 720 (N : Int) a_row) (hN : N ≠ 0) (hN2 : N < 2 ^ 720) (hp2 : 2 ≤ p) (hp : p ≤ 64) (hi : i < 8) (h : ∀ S Mi E Ma, zYS (zst w i (zrd 340 p md ng N s f_flags).1) S Mi E Ma → post (nI p, nI md, (zrd 340 p md ng N s f_flags).2, zb1 s, f_wide, f_rest, S, E, Mi, Ma, a_row)) : ∀ n k, k < 720 → (zu 340 p N ≤ k + 1 ∨ N < 2 ^ (k + 1)) → k < n → wY_round_62 post (nI i) (zb1 ng) (nI N.log2) (zI (zex ((N.log2 : Int) - 340))) (nI (zu 340 p N)) (nI p) (nI md) f_flags (zb1 s) f_wide f_rest a_sort a_exponent a_minus a_mantissa a_row n (lN (N / 2 ^ (k + 1))) (nI k) := by
  have hh3 : N.log2 < 720 := (Nat.log2_lt hN).mpr hN2
  have hzM := z_M (L := 340) hN hp2 hp (by decide)
  have hze := zex_ge ((N.log2 : Int) - 340)
  have hze2 : zex ((N.log2 : Int) - 340) ≤ 380 := by unfold zex; split <;> omega
  have hu1 := zu_ge (N := N) (L := 340) hp (by decide)
  have hzu := zu_i (N := N) (L := 340) hp (by decide)
  have hzu2 : (zu 340 p N : Int) = zex ((N.log2 : Int) - 340) - p + 1 + 340 := hzu
  have hzr : zrd 340 p md ng N s f_flags = zaw p md ng (zex ((N.log2 : Int) - 340)) (N / 2 ^ zu 340 p N) (zra md ng (decide (N / 2 ^ zu 340 p N % 2 = 1)) (zhf N (zu 340 p N)) (zmo N (zu 340 p N) s)) (zfl ((N.log2 : Int) - 340) (zhf N (zu 340 p N) || zmo N (zu 340 p N) s) f_flags) := rfl
  intro n
  induction n with
  | zero => intro k _ _ hn; omega
  | succ n ih =>
    intro k hk hk2 hn
    refine pk_lt k (zu 340 p N) (fun hc => ?_) (fun hc => ⟨vp_in_nI (by omega) (by decide), fun x ex y ey => ?_⟩)
    · have ek : N / 2 ^ (k + 1) = N / 2 ^ zu 340 p N := by
        rcases hk2 with h1 | h1
        · rw [show k + 1 = zu 340 p N from by omega]
        · rw [Nat.div_eq_of_lt h1, Nat.div_eq_of_lt (Nat.lt_of_lt_of_le h1 (zpl_le (by omega)))]
      rw [ek, show nI (zu 340 p N) - 1 = nI (zu 340 p N - 1) from pk_sub (b := 1) (by omega)]
      refine yr_bitAt hb (by omega) (yr_below hb (by omega) ?_)
      rw [hzr] at h
      have g122 : (zhf N (zu 340 p N) || zmo N (zu 340 p N) s) = true → wY_round_122 post (nI i) (zb1 ng) (nI N.log2) (zI (zex ((N.log2 : Int) - 340))) (lN (N / 2 ^ zu 340 p N)) (zb1 (zhf N (zu 340 p N))) (zb1 (zmo N (zu 340 p N) s)) (nI p) (nI md) f_flags (zb1 s) f_wide f_rest a_sort a_exponent a_minus a_mantissa a_row := fun hx => yo_122 hmd hs hp2 hp hi hzM.1 hze (by omega) hh3 hx h
      refine zk_b (fun e1 => ?_) (fun e1 => ?_)
      · have e1' : zhf N (zu 340 p N) = false := e1
        refine zk_b (fun e2 => ?_) (fun e2 => ?_)
        · have e2' : zmo N (zu 340 p N) s = false := e2
          have ef : zfl ((N.log2 : Int) - 340) (zhf N (zu 340 p N) || zmo N (zu 340 p N) s) f_flags = f_flags := by rw [e1', e2']; rfl
          rw [ef] at h
          exact yo_146 hmd hs hp2 hp hi hzM.1 hze (by omega) h
        · have e2' : zmo N (zu 340 p N) s = true := e2
          exact g122 (by rw [e2', Bool.or_true])
      · have e1' : zhf N (zu 340 p N) = true := e1
        exact g122 (by rw [e1', Bool.true_or])
    · have hr : a_row k = nI (zbb (N : Int) k) := by have := hb k hk; rw [Nat.zero_add] at this; exact this
      have hq := zbb_lt (N : Int) k
      have e1 : x = lN (N / 2 ^ k) := by
        rw [ex, nI_clamp (by omega), hr, nI_l (by omega), show (2 : Int64) = lN 2 from rfl, lN_mul, lN_add, zbb_n, Nat.pow_succ, ← Nat.div_div_eq_div_mul]
        exact congrArg lN (by omega)
      subst e1 ey
      obtain ⟨k', rfl⟩ : ∃ k', k = k' + 1 := ⟨k - 1, by omega⟩
      rw [pk_m1]
      exact ih k' (by omega) (Or.inl (by omega)) (by omega)
theorem yo_round {post : SY → Prop} {p md i N : Nat} {w : Nat → ZV} {ng s : Bool} (hmd : md ≤ 4) (hs : zYS w a_sort a_minus a_exponent a_mantissa) (hb : zBB 0 720 (N : Int) a_row) (hN2 : N < 2 ^ 720) (hp2 : 2 ≤ p) (hp : p ≤ 64) (hi : i < 8) (h : ∀ S Mi E Ma, zYS (zst w i (zrd0 340 p md ng N s f_flags).1) S Mi E Ma → post (nI p, nI md, (zrd0 340 p md ng N s f_flags).2, zb1 s, f_wide, f_rest, S, E, Mi, Ma, a_row)) : wpY_round post (nI p, nI md, f_flags, zb1 s, f_wide, f_rest, a_sort, a_exponent, a_minus, a_mantissa, a_row) (nI i) (zb1 ng) := by
  by_cases hN : N = 0
  · subst hN
    refine yr_top0 hb ?_
    refine br_f (by decide) (fun x ex => br_f (by decide) ?_)
    exact yo_give (k := 0) (r := (0, ng, 0, 0)) hs hi (by omega) rfl (by simp) (fun z => absurd z (by decide)) h
  · have hz : zrd0 340 p md ng N s f_flags = zrd 340 p md ng N s f_flags := by unfold zrd0; rw [if_neg hN]
    rw [hz] at h
    have hh1 := z_log1 hN
    have hh2 := z_log2 N
    have hh3 : N.log2 < 720 := (Nat.log2_lt hN).mpr hN2
    have hu1 := zu_ge (N := N) (L := 340) hp (by decide)
    have hzu := zu_i (N := N) (L := 340) hp (by decide)
    have hzu2 : (zu 340 p N : Int) = zex ((N.log2 : Int) - 340) - p + 1 + 340 := hzu
    have hze2 : zex ((N.log2 : Int) - 340) ≤ 380 := by unfold zex; split <;> omega
    have g : wY_round_25 post (nI i) (zb1 ng) (nI N.log2) (zI (zex ((N.log2 : Int) - 340))) (nI p) (nI md) f_flags (zb1 s) f_wide f_rest a_sort a_exponent a_minus a_mantissa a_row := by
      intro x ex
      have e5 : x = nI (zu 340 p N) := by
        rw [ex, ← zI_n p, zI_sub, show (1 : Int32) = zI 1 from rfl, zI_add, show (340 : Int32) = zI 340 from rfl, zI_add, ← zI_n]
        exact congrArg zI (by omega)
      subst e5
      refine br_t (nI_pos' (by omega)) ?_
      have g := yo_62 (f_wide := f_wide) (f_rest := f_rest) hmd hs hb hN hN2 hp2 hp hi h (N.log2 + 1) N.log2 hh3 (Or.inr hh2) (by omega)
      rw [Nat.div_eq_of_lt hh2] at g
      exact ⟨_, g⟩
    refine yr_top hb hh1 hh2 hh3 ?_
    have eh : nI N.log2 - 340 = zI ((N.log2 : Int) - 340) := by rw [← zI_n, show (340 : Int32) = zI 340 from rfl, zI_sub]
    refine zk_le (-100) ((N.log2 : Int) - 340) (fun hc => ?_) (fun hc => ?_) rfl eh
    · have e6 : zex ((N.log2 : Int) - 340) = (N.log2 : Int) - 340 := by unfold zex; rw [if_neg (by omega)]
      rw [e6, ← eh] at g
      exact g
    · have e6 : zex ((N.log2 : Int) - 340) = -100 := by unfold zex; rw [if_pos (by omega)]
      rw [e6] at g
      exact g
end
end
section
/-! the component's long division -/
theorem zlm_hi {N n k : Nat} (h : N < 2 ^ (16 * n)) (hk : n ≤ k) : zlm (N : Int) k = 0 := by
  rw [zlm_n, Nat.div_eq_of_lt (Nat.lt_of_lt_of_le h (zpl_le (by omega)))]
/-- limbs below i are those of T, the others those of A -/
def zLm (n i : Nat) (T A : Int) (a : Nat → Int32) : Prop := (∀ j, j < i → j < n → a j = nI (zlm T j)) ∧ (∀ j, i ≤ j → j < n → a j = nI (zlm A j))
theorem zLm_0 {n : Nat} {T A : Int} {a : Nat → Int32} (h : zLB n A a) : zLm n 0 T A a := ⟨fun j hj => absurd hj (by omega), fun j _ hj => h j hj⟩
theorem zLm_n {n i : Nat} {T A : Int} {a : Nat → Int32} (h : zLm n i T A a) (hi : n ≤ i) : zLB n T a := fun j hj => h.1 j (by omega) hj
theorem zLm_u {n i : Nat} {T A : Int} {a : Nat → Int32} {v : Int32} (h : zLm n i T A a) (hv : v = nI (zlm T i)) : zLm n (i + 1) T A (upd a i v) := by
  refine ⟨fun j hj hn => ?_, fun j hj hn => ?_⟩
  · by_cases e : j = i
    · subst e; rw [pk_us, hv]
    · rw [pk_un e]; exact h.1 j (by omega) hn
  · rw [pk_un (by omega)]; exact h.2 j (by omega) hn
theorem zLm_e {n i : Nat} {T A : Int} {a : Nat → Int32} (h : zLm n i T A a) (he : T / 2 ^ (16 * i) = A / 2 ^ (16 * i)) : zLB n T a := by
  intro j hj
  by_cases c : j < i
  · exact h.1 j c hj
  · rw [h.2 j (by omega) hj, zlm_same he (by omega)]
section
variable {f_p f_mode f_flags f_below f_sticky : Int32} {a_kinds a_minus a_exponents a_limb a_row a_one a_two a_roots a_high a_part a_quotient a_square a_guess : Nat → Int32}
/-- put: the dividend or the divisor becomes a mantissa, shifted up -/
theorem xd_put25 {post : SX → Prop} {J : Int32 → (Nat → Int32) → (Nat → Int32) → (Nat → Int32) → (Nat → Int32) → (Nat → Int32) → (Nat → Int32) → (Nat → Int32) → (Nat → Int32) → (Nat → Int32) → (Nat → Int32) → (Nat → Int32) → (Nat → Int32) → (Nat → Int32) → Prop} {x s k M : Nat} {dv : Bool} {x2 : Int32} (hx : x < 8) (hs : s < 1000) (hk : k < 40) (hM : M < 2 ^ 64) (hl : zLB 4 (M : Int) (fun k => a_limb (4 * x + k))) (h0 : dv = false → J (nI (k + 1)) a_kinds a_minus a_exponents a_limb a_row a_one a_two a_roots (upd a_high k (nI (zlm ((M * 2 ^ s : Nat) : Int) k))) a_part a_quotient a_square a_guess) (h1 : dv = true → J (nI (k + 1)) a_kinds a_minus a_exponents a_limb a_row a_one a_two a_roots a_high (upd a_part k (nI (zlm ((M * 2 ^ s : Nat) : Int) k))) a_quotient a_square a_guess) : ∀ n b, b ≤ 16 → 16 - b < n → wX_put_25 post J (nI x) x2 (zb1 dv) (nI k) (zI (16 * (k : Int) - s)) f_p f_mode f_flags f_below f_sticky a_kinds a_minus a_exponents a_limb a_row a_one a_two a_roots a_high a_part a_quotient a_square a_guess n (nI (M * 2 ^ s / 2 ^ (16 * k) % 2 ^ b)) (nI b) := by
  intro n
  induction n with
  | zero => intro b _ h1; omega
  | succ n ih =>
    intro b hb hn
    have hv : M * 2 ^ s / 2 ^ (16 * k) % 2 ^ 16 = zlm ((M * 2 ^ s : Nat) : Int) k := by rw [zlm_n]
    have e18 : ∀ d, d = M * 2 ^ s / 2 ^ (16 * k + b) % 2 → d * 2 ^ b + M * 2 ^ s / 2 ^ (16 * k) % 2 ^ b = M * 2 ^ s / 2 ^ (16 * k) % 2 ^ (b + 1) := by
      intro d hd
      rw [hd, zNp (16 * k) b, ← Nat.div_div_eq_div_mul, Nat.pow_succ 2 b, Nat.mod_mul, Nat.mul_comm, Nat.add_comm]
    have hbit : M * 2 ^ s / 2 ^ (16 * k + b) % 2 = if 16 * k + b < s then 0 else M / 2 ^ (16 * k + b - s) % 2 := by
      rw [← zbb_n, zbb_mul]
    have ea : zI (16 * (k : Int) - s) + nI b = zI (16 * (k : Int) - s + b) := by rw [← zI_n, zI_add]
    refine pk_le 16 b (fun hc => ?_) (fun hc => ?_)
    · have e16 : b = 16 := by omega
      subst e16
      rw [hv]
      refine zk_b (fun ed => ⟨vp_in_nI hk (by decide), fun l el y ey => ?_⟩) (fun ed => ⟨vp_in_nI hk (by decide), fun l el y ey => ?_⟩)
      · rw [nI_clamp (by omega)] at el
        subst el ey
        rw [nI_1]
        exact h0 ed
      · rw [nI_clamp (by omega)] at el
        subst el ey
        rw [nI_1]
        exact h1 ed
    · refine zk_lt (16 * (k : Int) - s + b) 0 (fun hneg y ey => ?_) (fun hpos => ?_) ea
      · subst ey
        rw [nI_1]
        have := e18 0 (by rw [hbit, if_pos (by omega)])
        rw [Nat.zero_mul, Nat.zero_add] at this
        rw [this]
        exact ih (b + 1) (by omega) (by omega)
      · obtain ⟨c, hcv⟩ : ∃ c : Nat, 16 * k + b = s + c := ⟨16 * k + b - s, by omega⟩
        have ec : zI (16 * (k : Int) - s + b) = nI c := by rw [← zI_n]; exact congrArg zI (by omega)
        rw [ea, ec]
        have hbit2 : M * 2 ^ s / 2 ^ (16 * k + b) % 2 = M / 2 ^ c % 2 := by rw [hbit, if_neg (by omega), show 16 * k + b - s = c from by omega]
        refine pk_le 64 c (fun h64 y ey => ?_) (fun h64 => ⟨?_, fun v ev y ey => ?_⟩)
        · subst ey
          rw [nI_1]
          have := e18 0 (by rw [hbit2, Nat.div_eq_of_lt (Nat.lt_of_lt_of_le hM (zpl_le h64))])
          rw [Nat.zero_mul, Nat.zero_add] at this
          rw [this]
          exact ih (b + 1) (by omega) (by omega)
        · rw [zw_s4 (by omega), zx_ix]; exact vp_in_nI (by omega) (by decide)
        · have hlb : a_limb (4 * x + c / 16) = nI (zlm (M : Int) (c / 16)) := hl (c / 16) (by omega)
          have hb3 : M * 2 ^ s / 2 ^ (16 * k) % 2 ^ b < 2 ^ b := Nat.mod_lt _ (Nat.two_pow_pos b)
          have hb4 : 2 ^ b < 2 ^ 16 := zpl_lt (by omega)
          have hb5 : M / 2 ^ c % 2 * 2 ^ b ≤ 1 * 2 ^ b := Nat.mul_le_mul_right _ (by have := Nat.mod_lt (M / 2 ^ c) (show 0 < 2 by decide); omega)
          rw [zw_s4 (by omega), zx_ix, nI_clamp (by omega), hlb, zw_bit (zlm_lt _ _) (by omega), zlm_bit _ _ _ (by omega), show 16 * (c / 16) + c % 16 = c from by omega, zbb_n, zw_shl (by omega) (by omega), zw_or' hb3, e18 _ hbit2.symm] at ev
          subst ev ey
          rw [nI_1]
          exact ih (b + 1) (by omega) (by omega)
theorem xd_put_h {post : SX → Prop} {x s M : Nat} (hx : x < 8) (hs : s < 1000) (hM : M < 2 ^ 64) (hl : zLB 4 (M : Int) (fun k => a_limb (4 * x + k))) (h : ∀ H, zLB 40 ((M * 2 ^ s : Nat) : Int) H → post (f_p, f_mode, f_flags, f_below, f_sticky, a_kinds, a_minus, a_exponents, a_limb, a_row, a_one, a_two, a_roots, H, a_part, a_quotient, a_square, a_guess)) : ∀ n k H, k ≤ 40 → 40 - k < n → (∀ j, j < k → H j = nI (zlm ((M * 2 ^ s : Nat) : Int) j)) → wX_put_3 post (nI x) (nI s) (zb1 false) f_p f_mode f_flags f_below f_sticky n (nI k) a_kinds a_minus a_exponents a_limb a_row a_one a_two a_roots H a_part a_quotient a_square a_guess := by
  intro n
  induction n with
  | zero => intro k H _ h1; omega
  | succ n ih =>
    intro k H hk hn hz
    refine pk_le 40 k (fun hk2 => h H (fun j hj => hz j (by omega))) (fun hk2 y ey => ?_)
    have ey2 : y = zI (16 * (k : Int) - s) := by
      rw [ey, show (16 : Int32) = nI 16 from rfl, pk_mul, ← zI_n, ← zI_n, zI_sub]
      exact congrArg zI (by omega)
    subst ey2
    have g := xd_put25 (post := post) (J := wX_put_3 post (nI x) (nI s) (zb1 false) f_p f_mode f_flags f_below f_sticky n) (dv := false) (x2 := nI s) (f_p := f_p) (f_mode := f_mode) (f_flags := f_flags) (f_below := f_below) (f_sticky := f_sticky) (a_high := H) hx hs hk2 hM hl (fun _ => ih (k + 1) _ (by omega) (by omega) (zLB_up hz rfl)) (fun z => Bool.noConfusion z) 17 0 (by omega) (by omega)
    rw [Nat.pow_zero, Nat.mod_one] at g
    exact ⟨17, g⟩
theorem xd_put_p {post : SX → Prop} {x s M : Nat} (hx : x < 8) (hs : s < 1000) (hM : M < 2 ^ 64) (hl : zLB 4 (M : Int) (fun k => a_limb (4 * x + k))) (h : ∀ H, zLB 40 ((M * 2 ^ s : Nat) : Int) H → post (f_p, f_mode, f_flags, f_below, f_sticky, a_kinds, a_minus, a_exponents, a_limb, a_row, a_one, a_two, a_roots, a_high, H, a_quotient, a_square, a_guess)) : ∀ n k H, k ≤ 40 → 40 - k < n → (∀ j, j < k → H j = nI (zlm ((M * 2 ^ s : Nat) : Int) j)) → wX_put_3 post (nI x) (nI s) (zb1 true) f_p f_mode f_flags f_below f_sticky n (nI k) a_kinds a_minus a_exponents a_limb a_row a_one a_two a_roots a_high H a_quotient a_square a_guess := by
  intro n
  induction n with
  | zero => intro k H _ h1; omega
  | succ n ih =>
    intro k H hk hn hz
    refine pk_le 40 k (fun hk2 => h H (fun j hj => hz j (by omega))) (fun hk2 y ey => ?_)
    have ey2 : y = zI (16 * (k : Int) - s) := by
      rw [ey, show (16 : Int32) = nI 16 from rfl, pk_mul, ← zI_n, ← zI_n, zI_sub]
      exact congrArg zI (by omega)
    subst ey2
    have g := xd_put25 (post := post) (J := wX_put_3 post (nI x) (nI s) (zb1 true) f_p f_mode f_flags f_below f_sticky n) (dv := true) (x2 := nI s) (f_p := f_p) (f_mode := f_mode) (f_flags := f_flags) (f_below := f_below) (f_sticky := f_sticky) (a_part := H) hx hs hk2 hM hl (fun z => Bool.noConfusion z) (fun _ => ih (k + 1) _ (by omega) (by omega) (zLB_up hz rfl)) 17 0 (by omega) (by omega)
    rw [Nat.pow_zero, Nat.mod_one] at g
    exact ⟨17, g⟩
theorem xd_putH {post : SX → Prop} {x s M : Nat} (hx : x < 8) (hs : s < 1000) (hM : M < 2 ^ 64) (hl : zLB 4 (M : Int) (fun k => a_limb (4 * x + k))) (h : ∀ H, zLB 40 ((M * 2 ^ s : Nat) : Int) H → post (f_p, f_mode, f_flags, f_below, f_sticky, a_kinds, a_minus, a_exponents, a_limb, a_row, a_one, a_two, a_roots, H, a_part, a_quotient, a_square, a_guess)) : wpX_put post (f_p, f_mode, f_flags, f_below, f_sticky, a_kinds, a_minus, a_exponents, a_limb, a_row, a_one, a_two, a_roots, a_high, a_part, a_quotient, a_square, a_guess) (nI x) (nI s) 0 :=
  ⟨41, xd_put_h hx hs hM hl h 41 0 a_high (by omega) (by omega) (fun j hj => absurd hj (by omega))⟩
theorem xd_putP {post : SX → Prop} {x s M : Nat} (hx : x < 8) (hs : s < 1000) (hM : M < 2 ^ 64) (hl : zLB 4 (M : Int) (fun k => a_limb (4 * x + k))) (h : ∀ H, zLB 40 ((M * 2 ^ s : Nat) : Int) H → post (f_p, f_mode, f_flags, f_below, f_sticky, a_kinds, a_minus, a_exponents, a_limb, a_row, a_one, a_two, a_roots, a_high, H, a_quotient, a_square, a_guess)) : wpX_put post (f_p, f_mode, f_flags, f_below, f_sticky, a_kinds, a_minus, a_exponents, a_limb, a_row, a_one, a_two, a_roots, a_high, a_part, a_quotient, a_square, a_guess) (nI x) (nI s) 1 :=
  ⟨41, xd_put_p hx hs hM hl h 41 0 a_part (by omega) (by omega) (fun j hj => absurd hj (by omega))⟩
/-- one limb of a shift -/
theorem xd_sh1 {N s k c : Nat} (hs : s ≤ 15) (hc : c < 2 ^ s) (h : N * 2 ^ s / 2 ^ (16 * k) = N / 2 ^ (16 * k) * 2 ^ s + c) : (zlm (N : Int) k * 2 ^ s + c) % 65536 = zlm ((N * 2 ^ s : Nat) : Int) k ∧ N * 2 ^ s / 2 ^ (16 * (k + 1)) = N / 2 ^ (16 * (k + 1)) * 2 ^ s + (zlm (N : Int) k * 2 ^ s + c) / 65536 ∧ (zlm (N : Int) k * 2 ^ s + c) / 65536 < 2 ^ s ∧ zlm (N : Int) k * 2 ^ s + c < 2 ^ 31 := by
  have d : ∀ C : Nat, C / 2 ^ (16 * (k + 1)) = C / 2 ^ (16 * k) / 65536 := fun C => by
    rw [show 16 * (k + 1) = 16 * k + 16 from by omega, zNp, ← Nat.div_div_eq_div_mul]
  have hm := zlm_lt (N : Int) k
  have hp : 2 ^ s ≤ 2 ^ 15 := zpl_le hs
  have b1 : zlm (N : Int) k * 2 ^ s ≤ 65535 * 2 ^ s := Nat.mul_le_mul_right _ (by omega)
  rw [zlm_n, zlm_n, d, d, h] at *
  have e := Nat.div_add_mod (N / 2 ^ (16 * k)) 65536
  generalize N / 2 ^ (16 * k) = x at *
  have e2 : x * 2 ^ s = 65536 * (x / 65536 * 2 ^ s) + x % 65536 * 2 ^ s := by
    rw [← Nat.mul_assoc, ← Nat.add_mul, e]
  generalize x / 65536 * 2 ^ s = y at *
  generalize x % 65536 * 2 ^ s = z at *
  refine ⟨by omega, by omega, by omega, by omega⟩
theorem xd_sb57 {post : SX → Prop} {n' s P : Nat} (hn' : n' ≤ 30) (hs : s ≤ 15) (hP : P * 2 ^ s < 2 ^ (16 * n')) (h : ∀ p, zLB 40 ((P * 2 ^ s : Nat) : Int) p → post (f_p, f_mode, f_flags, f_below, f_sticky, a_kinds, a_minus, a_exponents, a_limb, a_row, a_one, a_two, a_roots, a_high, p, a_quotient, a_square, a_guess)) : ∀ (n k c : Nat) (p : Nat → Int32), k ≤ n' → n' - k < n → c < 2 ^ s → P * 2 ^ s / 2 ^ (16 * k) = P / 2 ^ (16 * k) * 2 ^ s + c → zLm 40 k ((P * 2 ^ s : Nat) : Int) (P : Int) p → wX_shiftBoth_57 post (nI n') (nI s) f_p f_mode f_flags f_below f_sticky n (nI c) (nI k) a_kinds a_minus a_exponents a_limb a_row a_one a_two a_roots a_high p a_quotient a_square a_guess := by
  have hP2 : P < 2 ^ (16 * n') := Nat.lt_of_le_of_lt (Nat.le_mul_of_pos_right P (Nat.two_pow_pos s)) hP
  intro n
  induction n with
  | zero => intro k c p _ h1; omega
  | succ n ih =>
    intro k c p hk hn hc hT hm
    have hp15 : 2 ^ s ≤ 2 ^ 15 := zpl_le hs
    refine pk_le n' k (fun hk2 => h p (fun j hj => ?_)) (fun hk2 => ⟨vp_in_nI (by omega) (by decide), fun t et => ⟨vp_in_nI (by omega) (by decide), fun p1 ep c1 ec y ey => ?_⟩⟩)
    · by_cases hj2 : j < k
      · exact hm.1 j hj2 hj
      · rw [hm.2 j (by omega) hj, zlm_hi hP2 (by omega), zlm_hi hP (by omega)]
    · obtain ⟨q1, q2, q3, q4⟩ := xd_sh1 hs hc hT
      have hl := zlm_lt (P : Int) k
      have b1 : zlm (P : Int) k * 2 ^ s ≤ 65535 * 2 ^ s := Nat.mul_le_mul_right _ (by omega)
      rw [nI_clamp (by omega), hm.2 k (by omega) (by omega), zw_shl (by omega) (by omega), zw_or hc] at et
      subst et
      rw [nI_clamp (by omega), zw_m16 (by omega)] at ep
      rw [zw_u16 (by omega)] at ec
      subst ep ec ey
      rw [nI_1]
      exact ih (k + 1) _ _ (by omega) (by omega) q3 q2 (zLm_u hm (by rw [q1]))
theorem xd_sb6 {post : SX → Prop} {n' m s H P : Nat} (hn' : n' ≤ 30) (hm' : m ≤ 30) (hs : s ≤ 15) (hP : P * 2 ^ s < 2 ^ (16 * n')) (hH : H < 2 ^ (16 * m)) (hp : zLB 40 (P : Int) a_part) (h : ∀ q p, zLB 40 ((H * 2 ^ s : Nat) : Int) q → zLB 40 ((P * 2 ^ s : Nat) : Int) p → post (f_p, f_mode, f_flags, f_below, f_sticky, a_kinds, a_minus, a_exponents, a_limb, a_row, a_one, a_two, a_roots, q, p, a_quotient, a_square, a_guess)) : ∀ (n k c : Nat) (q : Nat → Int32), k ≤ m + 1 → m + 1 - k < n → c < 2 ^ s → H * 2 ^ s / 2 ^ (16 * k) = H / 2 ^ (16 * k) * 2 ^ s + c → zLm 40 k ((H * 2 ^ s : Nat) : Int) (H : Int) q → wX_shiftBoth_6 post (nI n') (nI m) (nI s) f_p f_mode f_flags f_below f_sticky n (nI c) (nI k) a_kinds a_minus a_exponents a_limb a_row a_one a_two a_roots q a_part a_quotient a_square a_guess := by
  have hH2 : H * 2 ^ s < 2 ^ (16 * (m + 1)) := by
    have h1 : H * 2 ^ s ≤ H * 2 ^ 16 := Nat.mul_le_mul_left _ (zpl_le (by omega))
    have h2 : H * 2 ^ 16 < 2 ^ (16 * m) * 2 ^ 16 := Nat.mul_lt_mul_of_pos_right hH (by decide)
    rw [← zNp] at h2
    exact Nat.lt_of_le_of_lt h1 h2
  intro n
  induction n with
  | zero => intro k c q _ h1; omega
  | succ n ih =>
    intro k c q hk hn hc hT hm
    have hp15 : 2 ^ s ≤ 2 ^ 15 := zpl_le hs
    refine pk_lt m k (fun hk2 => ?_) (fun hk2 => ⟨vp_in_nI (by omega) (by decide), fun t et => ⟨vp_in_nI (by omega) (by decide), fun p1 ep c1 ec y ey => ?_⟩⟩)
    · have hq : zLB 40 ((H * 2 ^ s : Nat) : Int) q := by
        intro j hj
        by_cases hj2 : j < k
        · exact hm.1 j hj2 hj
        · rw [hm.2 j (by omega) hj, zlm_hi hH (by omega), zlm_hi hH2 (by omega)]
      refine ⟨n' + 1, xd_sb57 hn' hs hP (fun p hp2 => h q p hq hp2) (n' + 1) 0 0 a_part (by omega) (by omega) (Nat.two_pow_pos s) ?_ (zLm_0 hp)⟩
      rw [Nat.mul_zero, Nat.pow_zero, Nat.div_one, Nat.div_one, Nat.add_zero]
    · obtain ⟨q1, q2, q3, q4⟩ := xd_sh1 hs hc hT
      have hl := zlm_lt (H : Int) k
      have b1 : zlm (H : Int) k * 2 ^ s ≤ 65535 * 2 ^ s := Nat.mul_le_mul_right _ (by omega)
      rw [nI_clamp (by omega), hm.2 k (by omega) (by omega), zw_shl (by omega) (by omega), zw_or hc] at et
      subst et
      rw [nI_clamp (by omega), zw_m16 (by omega)] at ep
      rw [zw_u16 (by omega)] at ec
      subst ep ec ey
      rw [nI_1]
      exact ih (k + 1) _ _ (by omega) (by omega) q3 q2 (zLm_u hm (by rw [q1]))
theorem xd_shiftBoth {post : SX → Prop} {n' m s H P : Nat} (hn' : n' ≤ 30) (hm' : m ≤ 30) (hs : s ≤ 15) (hP : P * 2 ^ s < 2 ^ (16 * n')) (hH : H < 2 ^ (16 * m)) (hq : zLB 40 (H : Int) a_high) (hp : zLB 40 (P : Int) a_part) (h : ∀ q p, zLB 40 ((H * 2 ^ s : Nat) : Int) q → zLB 40 ((P * 2 ^ s : Nat) : Int) p → post (f_p, f_mode, f_flags, f_below, f_sticky, a_kinds, a_minus, a_exponents, a_limb, a_row, a_one, a_two, a_roots, q, p, a_quotient, a_square, a_guess)) : wpX_shiftBoth post (f_p, f_mode, f_flags, f_below, f_sticky, a_kinds, a_minus, a_exponents, a_limb, a_row, a_one, a_two, a_roots, a_high, a_part, a_quotient, a_square, a_guess) (nI n') (nI m) (nI s) := by
  refine ⟨m + 2, xd_sb6 hn' hm' hs hP hH hp h (m + 2) 0 0 a_high (by omega) (by omega) (Nat.two_pow_pos s) ?_ (zLm_0 hq)⟩
  rw [Nat.mul_zero, Nat.pow_zero, Nat.div_one, Nat.div_one, Nat.add_zero]
end
end
section
/-! the component's long division: take off, put back, the loop -/
theorem xd_ar (x y q c : Int) : (x - q * y + c) % 65536 = (x % 65536 - q * (y % 65536) + c) % 65536 ∧ (x - q * y + c) / 65536 = x / 65536 - q * (y / 65536) + (x % 65536 - q * (y % 65536) + c) / 65536 := by
  have e : q * y = 65536 * (q * (y / 65536)) + q * (y % 65536) := by
    rw [← Int.mul_assoc, Int.mul_comm 65536 q, Int.mul_assoc, ← Int.mul_add, Int.mul_ediv_add_emod]
  rw [e]
  generalize q * (y / 65536) = u
  generalize q * (y % 65536) = v
  omega
theorem xd_st {T R P q c : Int} {a k : Nat} (h : T / 2 ^ (16 * a) = R / 2 ^ (16 * a) - q * (P / 2 ^ (16 * k)) + c) : (zlm T a : Int) = ((zlm R a : Int) - q * (zlm P k : Int) + c) % 65536 ∧ T / 2 ^ (16 * (a + 1)) = R / 2 ^ (16 * (a + 1)) - q * (P / 2 ^ (16 * (k + 1))) + ((zlm R a : Int) - q * (zlm P k : Int) + c) / 65536 := by
  rw [zlm_i, zlm_i, zlm_i, zdv, zdv, zdv, h]
  exact xd_ar _ _ _ _
theorem xd_qy {q y : Nat} (hq : q ≤ 65535) (hy : y ≤ 65535) : q * y ≤ 4294836225 := Nat.mul_le_mul hq hy
theorem xd_l64 {x : Nat} (hx : x < 65536) : ((nI x).toInt64).toInt = (x : Int) := by
  rw [Int32.toInt_toInt64, nI_toInt (by omega)]
section
variable {f_p f_mode f_flags f_below f_sticky : Int32} {a_kinds a_minus a_exponents a_limb a_row a_one a_two a_roots a_high a_part a_quotient a_square a_guess : Nat → Int32}
theorem xd_off45 {post : Int32 → SX → Prop} {J : Int64 → Int32 → (Nat → Int32) → (Nat → Int32) → (Nat → Int32) → (Nat → Int32) → (Nat → Int32) → (Nat → Int32) → (Nat → Int32) → (Nat → Int32) → (Nat → Int32) → (Nat → Int32) → (Nat → Int32) → (Nat → Int32) → (Nat → Int32) → Prop} {j k : Nat} {x2 : Int32} {x3 z0 z1 : Int64} (hjk : j + k < 40) (h : ∀ c : Int64, c.toInt = (z1 - z0).toInt / 65536 → J c (nI (k + 1)) a_kinds a_minus a_exponents a_limb a_row a_one a_two a_roots (upd a_high (j + k) (nI ((z1 - z0).toInt % 65536).toNat)) a_part a_quotient a_square a_guess) : wX_takeOff_45 post J (nI j) x2 x3 (nI k) z0 z1 f_p f_mode f_flags f_below f_sticky a_kinds a_minus a_exponents a_limb a_row a_one a_two a_roots a_high a_part a_quotient a_square a_guess := by
  intro t et
  subst et
  refine ⟨by rw [nI_add]; exact vp_in_nI hjk (by decide), fun H eH c ec y ey => ?_⟩
  rw [nI_add, nI_clamp (by omega), zw_lo64] at eH
  subst eH ey
  rw [nI_1]
  exact h c (by rw [ec, zw_sr64])
theorem xd_off_l {post : Int32 → SX → Prop} {j n' q R P : Nat} {T : Int} (hq : q ≤ 65535) (hjn : j + n' < 40) (hR : R < 2 ^ (16 * (j + n' + 1))) (hP : P < 2 ^ (16 * n')) (hp : zLB 40 (P : Int) a_part) (h0 : 0 ≤ T → ∀ H, zLm 40 (j + n' + 1) T (R : Int) H → post 0 (f_p, f_mode, f_flags, f_below, f_sticky, a_kinds, a_minus, a_exponents, a_limb, a_row, a_one, a_two, a_roots, H, a_part, a_quotient, a_square, a_guess)) (h1 : T < 0 → ∀ H, zLm 40 (j + n' + 1) T (R : Int) H → post 1 (f_p, f_mode, f_flags, f_below, f_sticky, a_kinds, a_minus, a_exponents, a_limb, a_row, a_one, a_two, a_roots, H, a_part, a_quotient, a_square, a_guess)) : ∀ n k (c : Int64) H, k ≤ n' + 1 → n' + 1 - k < n → -65536 ≤ c.toInt → c.toInt ≤ 0 → T / 2 ^ (16 * (j + k)) = (R : Int) / 2 ^ (16 * (j + k)) - (q : Int) * ((P : Int) / 2 ^ (16 * k)) + c.toInt → zLm 40 (j + k) T (R : Int) H → wX_takeOff_6 post (nI j) (nI n') (lN q) f_p f_mode f_flags f_below f_sticky n c (nI k) a_kinds a_minus a_exponents a_limb a_row a_one a_two a_roots H a_part a_quotient a_square a_guess := by
  have hP0 : ∀ k, n' ≤ k → (P : Int) / 2 ^ (16 * k) = 0 := fun k hk => Int.ediv_eq_zero_of_lt (Int.natCast_nonneg _) (by rw [← zp_cast]; exact Int.ofNat_lt.mpr (Nat.lt_of_lt_of_le hP (zpl_le (by omega))))
  intro n
  induction n with
  | zero => intro k c H _ h1; omega
  | succ n ih =>
    intro k c H hk hn hc1 hc2 hT hm
    have hlR := zlm_lt (R : Int) (j + k)
    refine pk_lt n' k (fun hk2 => ?_) (fun hk2 => ⟨by rw [nI_add]; exact vp_in_nI (by omega) (by decide), ?_⟩)
    · have ek : k = n' + 1 := by omega
      subst ek
      have hR0 : (R : Int) / 2 ^ (16 * (j + (n' + 1))) = 0 := Int.ediv_eq_zero_of_lt (Int.natCast_nonneg _) (by rw [← zp_cast]; exact Int.ofNat_lt.mpr hR)
      rw [hR0, hP0 _ (by omega), Int.mul_zero] at hT
      have hiff : 0 ≤ T / 2 ^ (16 * (j + (n' + 1))) ↔ 0 ≤ T := Int.ediv_nonneg_iff_of_pos (zp_pos _)
      refine zk_i (d := 0 ≤ T) ?_ (fun d => h0 d H hm) (fun d => h1 (by omega) H hm)
      rw [Int64.le_iff_toInt_le, show (0 : Int64).toInt = 0 from rfl, ← hiff]
      omega
    · have e1 : H (nI j + nI k).toNatClampNeg = nI (zlm (R : Int) (j + k)) := by rw [nI_add, nI_clamp (by omega)]; exact hm.2 _ (by omega) (by omega)
      have e2 : ((H (nI j + nI k).toNatClampNeg).toInt64 + c).toInt = (zlm (R : Int) (j + k) : Int) + c.toInt := by
        rw [e1, Jvm.Kit.i64_add, xd_l64 hlR]
        · rw [xd_l64 hlR]; omega
        · rw [xd_l64 hlR]; omega
      have stp : ∀ z0 : Int64, z0.toInt = (q : Int) * (zlm (P : Int) k : Int) → wX_takeOff_45 post (wX_takeOff_6 post (nI j) (nI n') (lN q) f_p f_mode f_flags f_below f_sticky n) (nI j) (nI n') (lN q) (nI k) z0 ((H (nI j + nI k).toNatClampNeg).toInt64 + c) f_p f_mode f_flags f_below f_sticky a_kinds a_minus a_exponents a_limb a_row a_one a_two a_roots H a_part a_quotient a_square a_guess := by
        intro z0 hz0
        have hlP := zlm_lt (P : Int) k
        have hqy : (q : Int) * (zlm (P : Int) k : Int) ≤ 4294836225 := by
          rw [← Int.natCast_mul]; exact Int.ofNat_le.mpr (xd_qy hq (by omega))
        have hqy0 : 0 ≤ (q : Int) * (zlm (P : Int) k : Int) := by rw [← Int.natCast_mul]; exact Int.natCast_nonneg _
        obtain ⟨c1, c2⟩ := xd_st hT
        have e3 : ((H (nI j + nI k).toNatClampNeg).toInt64 + c - z0).toInt = (zlm (R : Int) (j + k) : Int) - (q : Int) * (zlm (P : Int) k : Int) + c.toInt := by
          rw [Jvm.Kit.i64_sub, e2, hz0]
          · omega
          · rw [e2, hz0]; omega
          · rw [e2, hz0]; omega
        refine xd_off45 (by omega) (fun c' hc' => ?_)
        rw [e3] at hc' ⊢
        refine ih (k + 1) c' _ (by omega) (by omega) (by omega) (by omega) ?_ ?_
        · rw [show j + (k + 1) = j + k + 1 from by omega, c2, hc']
        · rw [show j + (k + 1) = j + k + 1 from by omega]
          refine zLm_u hm ?_
          exact congrArg nI (by omega)
      refine pk_le n' k (fun hk3 => stp 0 ?_) (fun hk3 => ⟨vp_in_nI (by omega) (by decide), ?_⟩)
      · have : zlm (P : Int) k = 0 := zlm_hi hP hk3
        rw [this]; simp
      · rw [show a_part (nI k).toNatClampNeg = nI (zlm (P : Int) k) from by rw [nI_clamp (by omega)]; exact hp k (by omega)]
        refine stp _ ?_
        have hlP := zlm_lt (P : Int) k
        have := xd_qy hq (show zlm (P : Int) k ≤ 65535 by omega)
        rw [nI_l (by omega), lN_mul, pk_lT (by omega), Int.natCast_mul]
theorem xd_takeOff {post : Int32 → SX → Prop} {j n' q R P : Nat} (hq : q ≤ 65535) (hjn : j + n' < 40) (hR : R < 2 ^ (16 * (j + n' + 1))) (hP : P < 2 ^ (16 * n')) (hH : zLB 40 (R : Int) a_high) (hp : zLB 40 (P : Int) a_part) (h0 : q * P * 2 ^ (16 * j) ≤ R → ∀ H, zLB 40 ((R - q * P * 2 ^ (16 * j) : Nat) : Int) H → post 0 (f_p, f_mode, f_flags, f_below, f_sticky, a_kinds, a_minus, a_exponents, a_limb, a_row, a_one, a_two, a_roots, H, a_part, a_quotient, a_square, a_guess)) (h1 : R < q * P * 2 ^ (16 * j) → ∀ H, zLm 40 (j + n' + 1) ((R : Int) - ((q * P * 2 ^ (16 * j) : Nat) : Int)) (R : Int) H → post 1 (f_p, f_mode, f_flags, f_below, f_sticky, a_kinds, a_minus, a_exponents, a_limb, a_row, a_one, a_two, a_roots, H, a_part, a_quotient, a_square, a_guess)) : wpX_takeOff post (f_p, f_mode, f_flags, f_below, f_sticky, a_kinds, a_minus, a_exponents, a_limb, a_row, a_one, a_two, a_roots, a_high, a_part, a_quotient, a_square, a_guess) (nI j) (nI n') (lN q) := by
  have eT : ((R : Int) - ((q * P * 2 ^ (16 * j) : Nat) : Int)) / 2 ^ (16 * j) = (R : Int) / 2 ^ (16 * j) - (q : Int) * (P : Int) := by
    have : (R : Int) - ((q * P * 2 ^ (16 * j) : Nat) : Int) = (R : Int) + (-((q : Int) * (P : Int))) * 2 ^ (16 * j) := by
      rw [Int.natCast_mul, Int.natCast_mul, zp_cast, Int.neg_mul]; omega
    rw [this, zad]; omega
  have lo : ∀ i, i < j → zlm ((R : Int) - ((q * P * 2 ^ (16 * j) : Nat) : Int)) i = zlm (R : Int) i := by
    intro i hi
    have : (R : Int) - ((q * P * 2 ^ (16 * j) : Nat) : Int) = (R : Int) + (-((q : Int) * (P : Int))) * 2 ^ (16 * j) := by
      rw [Int.natCast_mul, Int.natCast_mul, zp_cast, Int.neg_mul]; omega
    rw [this]; exact zlm_low _ _ (by omega)
  refine ⟨n' + 2, xd_off_l hq hjn hR hP hp (fun d H hm => h0 (by omega) H (fun i hi => ?_)) (fun d H hm => h1 (by omega) H hm) (n' + 2) 0 0 a_high (by omega) (by omega) (by decide) (by decide) ?_ ⟨fun i hi hi2 => ?_, fun i _ hi => hH i hi⟩⟩
  · have hc : ((R - q * P * 2 ^ (16 * j) : Nat) : Int) = (R : Int) - ((q * P * 2 ^ (16 * j) : Nat) : Int) := by omega
    by_cases c : i < j + n' + 1
    · rw [hc]; exact hm.1 i c hi
    · rw [hm.2 i (by omega) hi, zlm_hi hR (by omega), zlm_hi (Nat.lt_of_le_of_lt (Nat.sub_le _ _) hR) (by omega)]
  · rw [Nat.add_zero, eT, Nat.mul_zero, Int.pow_zero, Int.ediv_one]
    show _ = _ + 0
    omega
  · rw [Nat.add_zero] at hi; rw [hH i hi2, lo i hi]
/-- put back -/
theorem xd_ar2 (x y q c : Int) : (x + q * y + c) % 65536 = (x % 65536 + q * (y % 65536) + c) % 65536 ∧ (x + q * y + c) / 65536 = x / 65536 + q * (y / 65536) + (x % 65536 + q * (y % 65536) + c) / 65536 := by
  have e : q * y = 65536 * (q * (y / 65536)) + q * (y % 65536) := by
    rw [← Int.mul_assoc, Int.mul_comm 65536 q, Int.mul_assoc, ← Int.mul_add, Int.mul_ediv_add_emod]
  rw [e]
  generalize q * (y / 65536) = u
  generalize q * (y % 65536) = v
  omega
theorem xd_st2 {T R P q c : Int} {a k : Nat} (h : T / 2 ^ (16 * a) = R / 2 ^ (16 * a) + q * (P / 2 ^ (16 * k)) + c) : (zlm T a : Int) = ((zlm R a : Int) + q * (zlm P k : Int) + c) % 65536 ∧ T / 2 ^ (16 * (a + 1)) = R / 2 ^ (16 * (a + 1)) + q * (P / 2 ^ (16 * (k + 1))) + ((zlm R a : Int) + q * (zlm P k : Int) + c) / 65536 := by
  rw [zlm_i, zlm_i, zlm_i, zdv, zdv, zdv, h]
  exact xd_ar2 _ _ _ _
theorem xd_back45 {post : SX → Prop} {J : Int64 → Int32 → (Nat → Int32) → (Nat → Int32) → (Nat → Int32) → (Nat → Int32) → (Nat → Int32) → (Nat → Int32) → (Nat → Int32) → (Nat → Int32) → (Nat → Int32) → (Nat → Int32) → (Nat → Int32) → (Nat → Int32) → (Nat → Int32) → Prop} {j k : Nat} {x2 : Int32} {x3 z0 z1 : Int64} (hjk : j + k < 40) (h : ∀ c : Int64, c.toInt = (z1 + z0).toInt / 65536 → J c (nI (k + 1)) a_kinds a_minus a_exponents a_limb a_row a_one a_two a_roots (upd a_high (j + k) (nI ((z1 + z0).toInt % 65536).toNat)) a_part a_quotient a_square a_guess) : wX_putBack_45 post J (nI j) x2 x3 (nI k) z0 z1 f_p f_mode f_flags f_below f_sticky a_kinds a_minus a_exponents a_limb a_row a_one a_two a_roots a_high a_part a_quotient a_square a_guess := by
  intro t et
  subst et
  refine ⟨by rw [nI_add]; exact vp_in_nI hjk (by decide), fun H eH c ec y ey => ?_⟩
  rw [nI_add, nI_clamp (by omega), zw_lo64] at eH
  subst eH ey
  rw [nI_1]
  exact h c (by rw [ec, zw_sr64])
theorem xd_back_l {post : SX → Prop} {j n' q R P : Nat} {T : Int} (hq : q ≤ 65535) (hjn : j + n' < 40) (hR : R < 2 ^ (16 * (j + n' + 1))) (hP : P < 2 ^ (16 * n')) (hp : zLB 40 (P : Int) a_part) (h : ∀ H, zLB 40 (R : Int) H → post (f_p, f_mode, f_flags, f_below, f_sticky, a_kinds, a_minus, a_exponents, a_limb, a_row, a_one, a_two, a_roots, H, a_part, a_quotient, a_square, a_guess)) : ∀ n k (c : Int64) H, k ≤ n' + 1 → n' + 1 - k < n → 0 ≤ c.toInt → c.toInt ≤ 65536 → (R : Int) / 2 ^ (16 * (j + k)) = T / 2 ^ (16 * (j + k)) + (q : Int) * ((P : Int) / 2 ^ (16 * k)) + c.toInt → (∀ i, i < j + k → i < 40 → H i = nI (zlm (R : Int) i)) → (∀ i, j + k ≤ i → i < j + n' + 1 → i < 40 → H i = nI (zlm T i)) → (∀ i, j + n' + 1 ≤ i → i < 40 → H i = nI (zlm (R : Int) i)) → wX_putBack_6 post (nI j) (nI n') (lN q) f_p f_mode f_flags f_below f_sticky n c (nI k) a_kinds a_minus a_exponents a_limb a_row a_one a_two a_roots H a_part a_quotient a_square a_guess := by
  intro n
  induction n with
  | zero => intro k c H _ h1; omega
  | succ n ih =>
    intro k c H hk hn hc1 hc2 hT hlo hmi hhi
    have hlT := zlm_lt T (j + k)
    refine pk_lt n' k (fun hk2 => h H (fun i hi => ?_)) (fun hk2 => ⟨by rw [nI_add]; exact vp_in_nI (by omega) (by decide), ?_⟩)
    · by_cases c : i < j + k
      · exact hlo i c hi
      · exact hhi i (by omega) hi
    · have e1 : H (nI j + nI k).toNatClampNeg = nI (zlm T (j + k)) := by rw [nI_add, nI_clamp (by omega)]; exact hmi _ (by omega) (by omega) (by omega)
      have e2 : ((H (nI j + nI k).toNatClampNeg).toInt64 + c).toInt = (zlm T (j + k) : Int) + c.toInt := by
        rw [e1, Jvm.Kit.i64_add, xd_l64 hlT]
        · rw [xd_l64 hlT]; omega
        · rw [xd_l64 hlT]; omega
      have stp : ∀ z0 : Int64, z0.toInt = (q : Int) * (zlm (P : Int) k : Int) → wX_putBack_45 post (wX_putBack_6 post (nI j) (nI n') (lN q) f_p f_mode f_flags f_below f_sticky n) (nI j) (nI n') (lN q) (nI k) z0 ((H (nI j + nI k).toNatClampNeg).toInt64 + c) f_p f_mode f_flags f_below f_sticky a_kinds a_minus a_exponents a_limb a_row a_one a_two a_roots H a_part a_quotient a_square a_guess := by
        intro z0 hz0
        have hlP := zlm_lt (P : Int) k
        have hqy : (q : Int) * (zlm (P : Int) k : Int) ≤ 4294836225 := by
          rw [← Int.natCast_mul]; exact Int.ofNat_le.mpr (xd_qy hq (by omega))
        have hqy0 : 0 ≤ (q : Int) * (zlm (P : Int) k : Int) := by rw [← Int.natCast_mul]; exact Int.natCast_nonneg _
        obtain ⟨c1, c2⟩ := xd_st2 hT
        have e3 : ((H (nI j + nI k).toNatClampNeg).toInt64 + c + z0).toInt = (zlm T (j + k) : Int) + (q : Int) * (zlm (P : Int) k : Int) + c.toInt := by
          rw [Jvm.Kit.i64_add, e2, hz0]
          · omega
          · rw [e2, hz0]; omega
          · rw [e2, hz0]; omega
        refine xd_back45 (by omega) (fun c' hc' => ?_)
        rw [e3] at hc' ⊢
        refine ih (k + 1) c' _ (by omega) (by omega) (by omega) (by omega) ?_ (fun i hi hi2 => ?_) (fun i hi hi2 hi3 => ?_) (fun i hi hi2 => ?_)
        · rw [show j + (k + 1) = j + k + 1 from by omega, c2, hc']
        · by_cases e : i = j + k
          · subst e; rw [pk_us]; exact congrArg nI (by omega)
          · rw [pk_un e]; exact hlo i (by omega) hi2
        · rw [pk_un (by omega)]; exact hmi i (by omega) hi2 hi3
        · rw [pk_un (by omega)]; exact hhi i hi hi2
      refine pk_le n' k (fun hk3 => stp 0 ?_) (fun hk3 => ⟨vp_in_nI (by omega) (by decide), ?_⟩)
      · have : zlm (P : Int) k = 0 := zlm_hi hP hk3
        rw [this]; simp
      · rw [show a_part (nI k).toNatClampNeg = nI (zlm (P : Int) k) from by rw [nI_clamp (by omega)]; exact hp k (by omega)]
        refine stp _ ?_
        have hlP := zlm_lt (P : Int) k
        have := xd_qy hq (show zlm (P : Int) k ≤ 65535 by omega)
        rw [nI_l (by omega), lN_mul, pk_lT (by omega), Int.natCast_mul]
theorem xd_putBack {post : SX → Prop} {j n' q R P : Nat} (hq : q ≤ 65535) (hjn : j + n' < 40) (hR : R < 2 ^ (16 * (j + n' + 1))) (hP : P < 2 ^ (16 * n')) (hH : zLm 40 (j + n' + 1) ((R : Int) - ((q * P * 2 ^ (16 * j) : Nat) : Int)) (R : Int) a_high) (hp : zLB 40 (P : Int) a_part) (h : ∀ H, zLB 40 (R : Int) H → post (f_p, f_mode, f_flags, f_below, f_sticky, a_kinds, a_minus, a_exponents, a_limb, a_row, a_one, a_two, a_roots, H, a_part, a_quotient, a_square, a_guess)) : wpX_putBack post (f_p, f_mode, f_flags, f_below, f_sticky, a_kinds, a_minus, a_exponents, a_limb, a_row, a_one, a_two, a_roots, a_high, a_part, a_quotient, a_square, a_guess) (nI j) (nI n') (lN q) := by
  have hD : (R : Int) - ((q * P * 2 ^ (16 * j) : Nat) : Int) = (R : Int) + (-((q : Int) * (P : Int))) * 2 ^ (16 * j) := by
    rw [Int.natCast_mul, Int.natCast_mul, zp_cast, Int.neg_mul]; omega
  refine ⟨n' + 2, xd_back_l hq hjn hR hP hp h (n' + 2) 0 0 a_high (by omega) (by omega) (by decide) (by decide) ?_ (fun i hi hi2 => ?_) (fun i hi hi2 hi3 => hH.1 i hi2 hi3) (fun i hi hi2 => hH.2 i hi hi2)⟩
  · rw [Nat.add_zero, hD, zad, Nat.mul_zero, Int.pow_zero, Int.ediv_one]
    show _ = _ + 0
    omega
  · rw [hH.1 i (by omega) hi2, hD, zlm_low _ _ (by omega)]
/-- the digit of a quotient -/
theorem xd_188 {post : SX → Prop} {J : Int32 → Int32 → Int32 → Int32 → Int32 → Int32 → (Nat → Int32) → (Nat → Int32) → (Nat → Int32) → (Nat → Int32) → (Nat → Int32) → (Nat → Int32) → (Nat → Int32) → (Nat → Int32) → (Nat → Int32) → (Nat → Int32) → (Nat → Int32) → (Nat → Int32) → (Nat → Int32) → Prop} {j n' qt R P : Nat} {x3 : Int32} (hjn : j + n' < 40) (hR : R < 2 ^ (16 * (j + n' + 1))) (hP : P < 2 ^ (16 * n')) (hP0 : 0 < P) (hp : zLB 40 (P : Int) a_part) (hqt : qt = R / (P * 2 ^ (16 * j))) (h : ∀ H, zLB 40 ((R - qt * P * 2 ^ (16 * j) : Nat) : Int) H → wX_divide_225 post J (nI n') x3 (nI j) (lN qt) f_p f_mode f_flags f_below f_sticky a_kinds a_minus a_exponents a_limb a_row a_one a_two a_roots H a_part a_quotient a_square a_guess) : ∀ n q H, qt ≤ q → q ≤ 65535 → q < n → zLB 40 (R : Int) H → wX_divide_188 post J (nI n') x3 (nI j) n (lN q) f_p f_mode f_flags f_below f_sticky a_kinds a_minus a_exponents a_limb a_row a_one a_two a_roots H a_part a_quotient a_square a_guess := by
  have hPP : 0 < P * 2 ^ (16 * j) := Nat.mul_pos hP0 (Nat.two_pow_pos _)
  intro n
  induction n with
  | zero => intro q H _ _ h1; omega
  | succ n ih =>
    intro q H hq hq2 hn hH
    refine zk_i (d := q = 0) (by rw [show (0 : Int64) = lN 0 from rfl, pk_lLE (by omega) (by decide)]; omega) (fun d => ?_) (fun d => ?_)
    · have e0 : qt = 0 := by omega
      subst d
      rw [e0] at h
      refine h H ?_
      rw [Nat.zero_mul, Nat.zero_mul, Nat.sub_zero]
      exact hH
    · refine xd_takeOff hq2 hjn hR hP hH hp (fun hle H2 hH2 => ?_) (fun hlt H2 hH2 => ?_)
      · refine br_t rfl ?_
        have e1 : q ≤ qt := by rw [hqt, Nat.le_div_iff_mul_le hPP, ← Nat.mul_assoc]; exact hle
        have e2 : q = qt := by omega
        subst e2
        exact h H2 hH2
      · refine br_f (by decide) ?_
        refine xd_putBack hq2 hjn hR hP hH2 hp (fun H3 hH3 y ey => ?_)
        have e1 : ¬ q ≤ qt := by
          intro hc
          rw [hqt, Nat.le_div_iff_mul_le hPP, ← Nat.mul_assoc] at hc
          omega
        have e2 : y = lN (q - 1) := by rw [ey]; exact lN_sub (b := 1) (by omega)
        subst e2
        exact ih (q - 1) H3 (by omega) (by omega) (by omega) hH3
end
end
section
/-! the component's long division: the loops joined -/
theorem xd_quo {Q j qt : Nat} (hQ : Q % 2 ^ (16 * (j + 1)) = 0) (hqt : qt < 65536) {a : Nat → Int32} (hj : j < 40) (ha : zLB 40 (Q : Int) a) : zLB 40 ((Q + qt * 2 ^ (16 * j) : Nat) : Int) (upd a j (nI qt)) := by
  have hp := Nat.two_pow_pos (16 * j)
  obtain ⟨c, hc⟩ := Nat.dvd_of_mod_eq_zero hQ
  have e1 : 2 ^ (16 * (j + 1)) = 2 ^ (16 * j) * 65536 := by rw [show 16 * (j + 1) = 16 * j + 16 from by omega, zNp]
  have eQ : Q = 2 ^ (16 * j) * (65536 * c) := by rw [hc, e1, Nat.mul_assoc]
  have eS : Q + qt * 2 ^ (16 * j) = 2 ^ (16 * j) * (65536 * c + qt) := by rw [eQ, Nat.mul_add, Nat.mul_comm qt]
  intro k hk
  rw [zlm_n]
  by_cases h : k = j
  · subst h
    rw [pk_us, eS, Nat.mul_div_cancel_left _ hp]
    exact congrArg nI (by omega)
  · rw [pk_un h, ha k hk, zlm_n]
    by_cases h2 : k < j
    · obtain ⟨d, rfl⟩ : ∃ d, j = k + 1 + d := ⟨j - k - 1, by omega⟩
      have e3 : 2 ^ (16 * (k + 1 + d)) = 2 ^ (16 * k) * (65536 * 2 ^ (16 * d)) := by
        rw [show 16 * (k + 1 + d) = 16 * k + (16 + 16 * d) from by omega, zNp, zNp 16]
      have e4 : ∀ X, 2 ^ (16 * (k + 1 + d)) * X / 2 ^ (16 * k) % 65536 = 0 := by
        intro X
        rw [e3, Nat.mul_assoc, Nat.mul_div_cancel_left _ (Nat.two_pow_pos _), Nat.mul_assoc, Nat.mul_mod_right]
      rw [eS, e4]
      rw [eQ, e4]
    · obtain ⟨d, rfl⟩ : ∃ d, k = j + 1 + d := ⟨k - j - 1, by omega⟩
      have e3 : 2 ^ (16 * (j + 1 + d)) = 2 ^ (16 * j) * 65536 * 2 ^ (16 * d) := by
        rw [show 16 * (j + 1 + d) = 16 * j + 16 + 16 * d from by omega, zNp, zNp]
      have e4 : ∀ X, 2 ^ (16 * j) * X / 2 ^ (16 * (j + 1 + d)) = X / 65536 / 2 ^ (16 * d) := by
        intro X
        rw [e3, ← Nat.div_div_eq_div_mul, ← Nat.div_div_eq_div_mul, Nat.mul_div_cancel_left _ hp]
      rw [eS, e4]
      rw [eQ, e4, Nat.mul_div_cancel_left _ (show 0 < 65536 by decide), show (65536 * c + qt) / 65536 = c from by omega]
section
variable {f_p f_mode f_flags f_below f_sticky : Int32} {a_kinds a_minus a_exponents a_limb a_row a_one a_two a_roots a_high a_part a_quotient a_square a_guess : Nat → Int32}
/-- the shift is undone -/
theorem xd_247 {post : SX → Prop} {n' s R : Nat} (hn' : n' ≤ 30) (hs : s ≤ 15) (hR : R < 2 ^ (16 * n')) (h : ∀ H, zLB 40 ((R / 2 ^ s : Nat) : Int) H → post (f_p, f_mode, f_flags, f_below, f_sticky, a_kinds, a_minus, a_exponents, a_limb, a_row, a_one, a_two, a_roots, H, a_part, a_quotient, a_square, a_guess)) : ∀ n k H, k ≤ n' + 1 → k < n → (∀ i, i < k → i < 40 → H i = nI (zlm (R : Int) i)) → (∀ i, k ≤ i → i < 40 → H i = nI (zlm ((R / 2 ^ s : Nat) : Int) i)) → wX_divide_247 post (nI s) f_p f_mode f_flags f_below f_sticky n (nI (R / 2 ^ (16 * k) % 2 ^ s)) (zI ((k : Int) - 1)) a_kinds a_minus a_exponents a_limb a_row a_one a_two a_roots H a_part a_quotient a_square a_guess := by
  intro n
  induction n with
  | zero => intro k H _ h1; omega
  | succ n ih =>
    intro k H hk hn hlo hhi
    refine zk_lt ((k : Int) - 1) 0 (fun h0 => h H (fun i hi => hhi i (by omega) hi)) (fun h0 => ?_)
    obtain ⟨k', rfl⟩ : ∃ k', k = k' + 1 := ⟨k - 1, by omega⟩
    have e1 : zI (((k' + 1 : Nat) : Int) - 1) = nI k' := by rw [← zI_n]; exact congrArg zI (by omega)
    rw [e1]
    have hl := zlm_lt (R : Int) k'
    have hp15 : 2 ^ s ≤ 2 ^ 15 := zpl_le hs
    have hm := Nat.mod_lt (R / 2 ^ (16 * (k' + 1))) (Nat.two_pow_pos s)
    refine ⟨vp_in_nI (by omega) (by decide), fun v ev => ⟨vp_in_nI (by omega) (by decide), fun H1 eH l el y ey => ?_⟩⟩
    have d1 : R / 2 ^ (16 * (k' + 1)) = R / 2 ^ (16 * k') / 65536 := by
      rw [show 16 * (k' + 1) = 16 * k' + 16 from by omega, zNp, ← Nat.div_div_eq_div_mul]
    have ev2 : v = nI (R / 2 ^ (16 * (k' + 1)) % 2 ^ s * 2 ^ 16 + zlm (R : Int) k') := by
      rw [ev, nI_clamp (by omega), hlo k' (by omega) (by omega), pk_shlN _ 16 (by decide) (by omega), zw_or (by omega)]
    -- v is the lower part of what lies above
    have ev3 : R / 2 ^ (16 * (k' + 1)) % 2 ^ s * 2 ^ 16 + zlm (R : Int) k' = R / 2 ^ (16 * k') % (65536 * 2 ^ s) := by
      rw [d1, zlm_n, Nat.mod_mul]
      omega
    rw [ev3] at ev2
    have hv1 : R / 2 ^ (16 * k') % (65536 * 2 ^ s) < 65536 * 2 ^ s := Nat.mod_lt _ (by have := Nat.two_pow_pos s; omega)
    have hv2 : R / 2 ^ (16 * k') % (65536 * 2 ^ s) < 2 ^ 31 := by omega
    have hdl := Nat.div_le_self (R / 2 ^ (16 * k') % (65536 * 2 ^ s)) (2 ^ s)
    have el2 : l = nI (R / 2 ^ (16 * k') % 2 ^ s) := by
      rw [el, ev2, zw_p (by omega), show nI (2 ^ s) - 1 = nI (2 ^ s - 1) from pk_sub (b := 1) (Nat.two_pow_pos s), zw_cut (by omega) (k := s) (by omega) rfl, Nat.mod_mod_of_dvd _ (Nat.dvd_mul_left _ _)]
    have eH2 : H1 = upd H k' (nI (zlm ((R / 2 ^ s : Nat) : Int) k')) := by
      rw [eH, nI_clamp (by omega), ev2, pk_ushrN (by omega) _ s (s_u s (by omega)), zw_m16 (by omega)]
      have e5 : R / 2 ^ (16 * k') % (65536 * 2 ^ s) / 2 ^ s % 65536 = zlm ((R / 2 ^ s : Nat) : Int) k' := by
        rw [zlm_n, Nat.mul_comm 65536, Nat.mod_mul_right_div_self, Nat.mod_mod, Nat.div_div_eq_div_mul, Nat.div_div_eq_div_mul, Nat.mul_comm]
      rw [e5]
    have ey2 : y = zI ((k' : Int) - 1) := by rw [ey, ← zI_n, show (-1 : Int32) = zI (-1) from rfl, zI_add]; exact congrArg zI (by omega)
    subst eH2 el2 ey2
    refine ih k' _ (by omega) (by omega) (fun i hi hi2 => ?_) (fun i hi hi2 => ?_)
    · rw [pk_un (by omega)]; exact hlo i (by omega) hi2
    · by_cases e : i = k'
      · subst e; rw [pk_us]
      · rw [pk_un e]; exact hhi i (by omega) hi2
/-- the main loop: J digits are still to come -/
theorem xd_112 {post : SX → Prop} {n' s P D : Nat} (hn1 : 1 ≤ n') (hn' : n' ≤ 30) (hs : s ≤ 15) (hP : P < 2 ^ (16 * n')) (hPl : 2 ^ (16 * (n' - 1)) ≤ P) (hp : zLB 40 (P : Int) a_part) (h : ∀ H q, zLB 40 ((D % P / 2 ^ s : Nat) : Int) H → zLB 40 ((D / P : Nat) : Int) q → post (f_p, f_mode, f_flags, f_below, f_sticky, a_kinds, a_minus, a_exponents, a_limb, a_row, a_one, a_two, a_roots, H, a_part, q, a_square, a_guess)) : ∀ (n J R Q : Nat) (H q : Nat → Int32), J < n → J + n' ≤ 31 → zLB 40 (R : Int) H → zLB 40 (Q : Int) q → R < P * 2 ^ (16 * J) → D = Q * P + R → Q % 2 ^ (16 * J) = 0 → wX_divide_112 post (nI n') (nI s) n (zI ((J : Int) - 1)) f_p f_mode f_flags f_below f_sticky a_kinds a_minus a_exponents a_limb a_row a_one a_two a_roots H a_part q a_square a_guess := by
  have hP0 : 0 < P := Nat.lt_of_lt_of_le (Nat.two_pow_pos _) hPl
  intro n
  induction n with
  | zero => intro J R Q H q h1; omega
  | succ n ih =>
    intro J R Q H q hn hJ hH hq hR hD hQ
    refine zk_lt ((J : Int) - 1) 0 (fun h0 => ?_) (fun h0 => ?_)
    · have e0 : J = 0 := by omega
      subst e0
      rw [Nat.mul_zero, Nat.pow_zero, Nat.mul_one] at hR
      have e1 : D / P = Q := by rw [hD, Nat.add_comm, Nat.add_mul_div_right _ _ hP0, Nat.div_eq_of_lt hR, Nat.zero_add]
      have e2 : D % P = R := by rw [hD, Nat.add_comm, Nat.add_mul_mod_self_right, Nat.mod_eq_of_lt hR]
      rw [e1, e2] at h
      refine ⟨n' + 2, ?_⟩
      have g := xd_247 (post := post) (a_quotient := q) hn' hs (Nat.lt_trans hR hP) (fun H2 hH2 => h H2 q hH2 hq) (n' + 2) (n' + 1) H (by omega) (by omega) (fun i _ hi => hH i hi) (fun i hi hi2 => by
        rw [hH i hi2, zlm_hi (Nat.lt_trans hR hP) (by omega), zlm_hi (Nat.lt_of_le_of_lt (Nat.div_le_self _ _) (Nat.lt_trans hR hP)) (by omega)])
      rw [Nat.div_eq_of_lt (Nat.lt_of_lt_of_le (Nat.lt_trans hR hP) (zpl_le (by omega))), Nat.zero_mod, show zI (((n' + 1 : Nat) : Int) - 1) = nI n' from by rw [← zI_n]; exact congrArg zI (by omega)] at g
      exact g
    · obtain ⟨j, rfl⟩ : ∃ j, J = j + 1 := ⟨J - 1, by omega⟩
      have e1 : zI (((j + 1 : Nat) : Int) - 1) = nI j := by rw [← zI_n]; exact congrArg zI (by omega)
      rw [e1]
      have hPP : 0 < P * 2 ^ (16 * j) := Nat.mul_pos hP0 (Nat.two_pow_pos _)
      have hR2 : R < 2 ^ (16 * (j + n' + 1)) := by
        refine Nat.lt_trans hR ?_
        rw [show 16 * (j + n' + 1) = 16 * n' + 16 * (j + 1) from by omega, zNp]
        exact Nat.mul_lt_mul_of_pos_right hP (Nat.two_pow_pos _)
      have a1 := zlm_lt (R : Int) (j + n')
      have a2 := zlm_lt (R : Int) (j + n' - 1)
      have a3 := zlm_lt (P : Int) (n' - 1)
      -- the two highest limbs
      have htop : zlm (R : Int) (j + n') * 2 ^ 16 + zlm (R : Int) (j + n' - 1) = R / 2 ^ (16 * (j + n' - 1)) := by
        rw [zlm_n, zlm_n]
        have d1 : R / 2 ^ (16 * (j + n')) = R / 2 ^ (16 * (j + n' - 1)) / 65536 := by
          rw [show 16 * (j + n') = 16 * (j + n' - 1) + 16 from by omega, zNp, ← Nat.div_div_eq_div_mul]
        have d2 : R / 2 ^ (16 * (j + n' - 1)) < 65536 * 65536 := by
          refine Nat.div_lt_of_lt_mul ?_
          rw [show (65536 * 65536 : Nat) = 2 ^ 32 from rfl, ← zNp]
          exact Nat.lt_of_lt_of_le hR2 (zpl_le (by omega))
        rw [d1]
        generalize R / 2 ^ (16 * (j + n' - 1)) = y at *
        omega
      have hdd : zlm (P : Int) (n' - 1) = P / 2 ^ (16 * (n' - 1)) := by
        rw [zlm_n, Nat.mod_eq_of_lt]
        refine Nat.div_lt_of_lt_mul ?_
        rw [show (65536 : Nat) = 2 ^ 16 from rfl, ← zNp]
        exact Nat.lt_of_lt_of_le hP (zpl_le (by omega))
      have hd1 : 1 ≤ zlm (P : Int) (n' - 1) := by
        rw [hdd]; exact (Nat.le_div_iff_mul_le (Nat.two_pow_pos _)).mpr (by rw [Nat.one_mul]; exact hPl)
      have hqt : R / (P * 2 ^ (16 * j)) < 65536 := by
        refine Nat.div_lt_of_lt_mul ?_
        rw [Nat.mul_assoc, show 2 ^ (16 * j) * 65536 = 2 ^ (16 * (j + 1)) from by rw [show 16 * (j + 1) = 16 * j + 16 from by omega, zNp]]
        exact hR
      have hest : R / (P * 2 ^ (16 * j)) ≤ R / 2 ^ (16 * (j + n' - 1)) / zlm (P : Int) (n' - 1) := by
        rw [Nat.le_div_iff_mul_le hd1, Nat.le_div_iff_mul_le (Nat.two_pow_pos _)]
        have b1 : zlm (P : Int) (n' - 1) * 2 ^ (16 * (n' - 1)) ≤ P := by rw [hdd]; exact Nat.div_mul_le_self _ _
        have b2 : R / (P * 2 ^ (16 * j)) * (P * 2 ^ (16 * j)) ≤ R := Nat.div_mul_le_self _ _
        refine Nat.le_trans ?_ b2
        rw [Nat.mul_assoc]
        refine Nat.mul_le_mul_left _ ?_
        rw [show 16 * (j + n' - 1) = 16 * (n' - 1) + 16 * j from by omega, zNp, ← Nat.mul_assoc]
        exact Nat.mul_le_mul_right _ b1
      -- what follows a digit
      have nxt : ∀ H2, zLB 40 ((R - R / (P * 2 ^ (16 * j)) * P * 2 ^ (16 * j) : Nat) : Int) H2 → wX_divide_225 post (wX_divide_112 post (nI n') (nI s) n) (nI n') (nI s) (nI j) (lN (R / (P * 2 ^ (16 * j)))) f_p f_mode f_flags f_below f_sticky a_kinds a_minus a_exponents a_limb a_row a_one a_two a_roots H2 a_part q a_square a_guess := by
        intro H2 hH2
        have hmod : R - R / (P * 2 ^ (16 * j)) * P * 2 ^ (16 * j) = R % (P * 2 ^ (16 * j)) := by
          have := Nat.div_add_mod' R (P * 2 ^ (16 * j))
          rw [← Nat.mul_assoc] at this
          omega
        rw [hmod] at hH2
        refine ⟨vp_in_nI (by omega) (by decide), fun q1 eq y ey => ?_⟩
        rw [nI_clamp (by omega), lN_i] at eq
        have ey2 : y = zI ((j : Int) - 1) := by rw [ey, ← zI_n, show (-1 : Int32) = zI (-1) from rfl, zI_add]; exact congrArg zI (by omega)
        subst eq ey2
        refine ih j (R % (P * 2 ^ (16 * j))) (Q + R / (P * 2 ^ (16 * j)) * 2 ^ (16 * j)) _ _ (by omega) (by omega) hH2 (xd_quo hQ hqt (by omega) hq) (Nat.mod_lt _ hPP) ?_ ?_
        · have := Nat.div_add_mod' R (P * 2 ^ (16 * j))
          rw [hD, Nat.add_mul, Nat.mul_assoc _ _ P, Nat.mul_comm (2 ^ (16 * j)) P]
          omega
        · obtain ⟨c, hc⟩ := Nat.dvd_of_mod_eq_zero hQ
          rw [hc, show 16 * (j + 1) = 16 * j + 16 from by omega, zNp, Nat.mul_assoc, Nat.mul_comm _ (2 ^ (16 * j)), ← Nat.mul_add, Nat.mul_mod_right]
      have e2 : nI j + nI n' = nI (j + n') := nI_add _ _
      have e3 : nI (j + n') - 1 = nI (j + n' - 1) := pk_sub (b := 1) (by omega)
      have e4 : nI n' - 1 = nI (n' - 1) := pk_sub (b := 1) (by omega)
      rw [e2, e3, e4, nI_clamp (by omega), nI_clamp (by omega), nI_clamp (by omega), hH (j + n') (by omega), hH (j + n' - 1) (by omega), hp (n' - 1) (by omega), nI_l (by omega), nI_l (by omega), nI_l (by omega)]
      refine ⟨vp_in_nI (by omega) (by decide), vp_in_nI (by omega) (by decide), fun tp etp => ⟨vp_in_nI (by omega) (by decide), fun d ed => ?_⟩⟩
      have etp2 : tp = lN (R / 2 ^ (16 * (j + n' - 1))) := by
        rw [etp, show (16 : Int32) = nI 16 from rfl, wb_shl _ (by decide), g_or (k := 16) (p := 2 ^ 16) rfl (by omega) (by omega), htop]
      subst etp2 ed
      have htp : R / 2 ^ (16 * (j + n' - 1)) < 2 ^ 32 := by omega
      have hne : ¬ lN (zlm (P : Int) (n' - 1)) = 0 := by
        rw [show (0 : Int64) = lN 0 from rfl, zlN_eq (by omega) (by decide)]; omega
      refine br_f hne ⟨hne, ?_⟩
      rw [pk_lDiv (by omega) (by omega) (by omega)]
      have hql := Nat.div_le_self (R / 2 ^ (16 * (j + n' - 1))) (zlm (P : Int) (n' - 1))
      refine zk_i (d := R / 2 ^ (16 * (j + n' - 1)) / zlm (P : Int) (n' - 1) ≤ 65535) (by rw [show (65535 : Int64) = lN 65535 from rfl, pk_lLE (by omega) (by decide)]) (fun d => ?_) (fun d => ?_)
      · exact ⟨65536, xd_188 (by omega) hR2 hP hP0 hp rfl nxt 65536 _ H hest d (by omega) hH⟩
      · exact ⟨65536, xd_188 (by omega) hR2 hP hP0 hp rfl nxt 65536 65535 H (by omega) (by omega) (by omega) hH⟩
theorem xd_72 {post : SX → Prop} {n' m H P : Nat} (hn1 : 1 ≤ n') (hn' : n' ≤ 30) (hm : m ≤ 30) (hP : P < 2 ^ (16 * n')) (hPl : 2 ^ (16 * (n' - 1)) ≤ P) (hH : H < 2 ^ (16 * m)) (hh : zLB 40 (H : Int) a_high) (hp : zLB 40 (P : Int) a_part) (hq : zLB 40 0 a_quotient) (h : ∀ r p q, zLB 40 ((H % P : Nat) : Int) r → zLB 40 ((H / P : Nat) : Int) q → post (f_p, f_mode, f_flags, f_below, f_sticky, a_kinds, a_minus, a_exponents, a_limb, a_row, a_one, a_two, a_roots, r, p, q, a_square, a_guess)) : ∀ n s, s ≤ 15 → 16 - s < n → zlm (P : Int) (n' - 1) * 2 ^ s < 65536 → wX_divide_72 post (nI n') (nI m) f_p f_mode f_flags f_below f_sticky a_kinds a_minus a_exponents a_limb a_row a_one a_two a_roots a_high a_part a_quotient a_square a_guess n (nI s) := by
  have hP0 : 0 < P := Nat.lt_of_lt_of_le (Nat.two_pow_pos _) hPl
  have hdd : zlm (P : Int) (n' - 1) = P / 2 ^ (16 * (n' - 1)) := by
    rw [zlm_n, Nat.mod_eq_of_lt]
    refine Nat.div_lt_of_lt_mul ?_
    rw [show (65536 : Nat) = 2 ^ 16 from rfl, ← zNp]
    exact Nat.lt_of_lt_of_le hP (zpl_le (by omega))
  have hd1 : 1 ≤ zlm (P : Int) (n' - 1) := by
    rw [hdd]; exact (Nat.le_div_iff_mul_le (Nat.two_pow_pos _)).mpr (by rw [Nat.one_mul]; exact hPl)
  have g100 : ∀ s, s ≤ 15 → zlm (P : Int) (n' - 1) * 2 ^ s < 65536 → wX_divide_100 post (nI n') (nI m) (nI s) f_p f_mode f_flags f_below f_sticky a_kinds a_minus a_exponents a_limb a_row a_one a_two a_roots a_high a_part a_quotient a_square a_guess := by
    intro s hs hb
    have hPs : P * 2 ^ s < 2 ^ (16 * n') := by
      have b1 : P < (zlm (P : Int) (n' - 1) + 1) * 2 ^ (16 * (n' - 1)) := by
        rw [hdd]; exact Nat.lt_mul_of_div_lt (Nat.lt_succ_self _) (Nat.two_pow_pos _)
      have b2 : (zlm (P : Int) (n' - 1) + 1) * 2 ^ s ≤ 65536 := by
        obtain ⟨c, hc⟩ : ∃ c, (65536 : Nat) = c * 2 ^ s := ⟨2 ^ (16 - s), by rw [← zNp, Nat.sub_add_cancel (by omega)]⟩
        rw [hc] at hb ⊢
        exact Nat.mul_le_mul_right _ (Nat.lt_of_mul_lt_mul_right hb)
      calc P * 2 ^ s < (zlm (P : Int) (n' - 1) + 1) * 2 ^ (16 * (n' - 1)) * 2 ^ s := Nat.mul_lt_mul_of_pos_right b1 (Nat.two_pow_pos s)
        _ = (zlm (P : Int) (n' - 1) + 1) * 2 ^ s * 2 ^ (16 * (n' - 1)) := by rw [Nat.mul_assoc, Nat.mul_assoc, Nat.mul_comm (2 ^ s)]
        _ ≤ 65536 * 2 ^ (16 * (n' - 1)) := Nat.mul_le_mul_right _ b2
        _ = 2 ^ (16 * n') := by rw [show (65536 : Nat) = 2 ^ 16 from rfl, ← zNp]; exact congrArg (fun z => 2 ^ z) (by omega)
    have hPls : 2 ^ (16 * (n' - 1)) ≤ P * 2 ^ s := Nat.le_trans hPl (Nat.le_mul_of_pos_right P (Nat.two_pow_pos s))
    have hdv : H * 2 ^ s / (P * 2 ^ s) = H / P := Nat.mul_div_mul_right _ _ (Nat.two_pow_pos s)
    have hmd : H * 2 ^ s % (P * 2 ^ s) / 2 ^ s = H % P := by rw [Nat.mul_mod_mul_right, Nat.mul_div_cancel _ (Nat.two_pow_pos s)]
    refine xd_shiftBoth hn' hm hs hPs hH hh hp (fun r p hr hp2 y ey => ?_)
    by_cases hc : n' ≤ m + 1
    · have ey2 : y = zI (((m + 1 - n' : Nat) : Int) - 1) := by
        rw [ey, ← zI_n, ← zI_n, zI_sub]; exact congrArg zI (by omega)
      subst ey2
      refine ⟨32, xd_112 (D := H * 2 ^ s) hn1 hn' hs hPs hPls hp2 (fun r2 q2 h1 h2 => ?_) 32 (m + 1 - n') (H * 2 ^ s) 0 r a_quotient (by omega) (by omega) hr hq ?_ (by omega) (Nat.zero_mod _)⟩
      · rw [hmd] at h1; rw [hdv] at h2; exact h r2 p q2 h1 h2
      · have b3 : 2 ^ (16 * m) * 2 ^ s ≤ P * 2 ^ s * 2 ^ (16 * (m + 1 - n')) := by
          rw [show 16 * m = 16 * (n' - 1) + 16 * (m + 1 - n') from by omega, zNp, Nat.mul_assoc, Nat.mul_comm (2 ^ (16 * (m + 1 - n'))), ← Nat.mul_assoc]
          exact Nat.mul_le_mul_right _ (Nat.mul_le_mul_right _ hPl)
        exact Nat.lt_of_lt_of_le (Nat.mul_lt_mul_of_pos_right hH (Nat.two_pow_pos s)) b3
    · -- the dividend is below the divisor: no digit
      have hlt : H * 2 ^ s < P * 2 ^ s := by
        refine Nat.mul_lt_mul_of_pos_right (Nat.lt_of_lt_of_le hH (Nat.le_trans (zpl_le (by omega)) hPl)) (Nat.two_pow_pos s)
      have ey2 : y = zI ((m : Int) - n') := by rw [ey, ← zI_n, ← zI_n, zI_sub]
      subst ey2
      refine ⟨1, zk_lt ((m : Int) - n') 0 (fun _ => ?_) (fun z => by omega)⟩
      have e1 : H % P = H := Nat.mod_eq_of_lt (Nat.lt_of_mul_lt_mul_right hlt)
      have e2 : H / P = 0 := Nat.div_eq_of_lt (Nat.lt_of_mul_lt_mul_right hlt)
      rw [e1, e2] at h
      have hHs : H * 2 ^ s < 2 ^ (16 * n') := Nat.lt_trans hlt hPs
      have g := xd_247 (post := post) (a_part := p) (R := H * 2 ^ s) hn' hs hHs (fun H2 hH2 => h H2 p a_quotient (by rw [Nat.mul_div_cancel _ (Nat.two_pow_pos s)] at hH2; exact hH2) hq) (n' + 2) (n' + 1) r (by omega) (by omega) (fun i _ hi => hr i hi) (fun i hi hi2 => by
        rw [hr i hi2, zlm_hi hHs (by omega), zlm_hi (Nat.lt_of_le_of_lt (Nat.div_le_self _ _) hHs) (by omega)])
      rw [Nat.div_eq_of_lt (Nat.lt_of_lt_of_le hHs (zpl_le (by omega))), Nat.zero_mod, show zI (((n' + 1 : Nat) : Int) - 1) = nI n' from by rw [← zI_n]; exact congrArg zI (by omega)] at g
      exact ⟨n' + 2, g⟩
  intro n
  induction n with
  | zero => intro s _ h1; omega
  | succ n ih =>
    intro s hs hn hb
    have a3 := zlm_lt (P : Int) (n' - 1)
    have e4 : nI n' - 1 = nI (n' - 1) := pk_sub (b := 1) (by omega)
    show vp_in (nI n' - 1) 40 ∧ _
    rw [e4, nI_clamp (by omega), hp (n' - 1) (by omega), zw_shl (by omega) (by omega)]
    refine ⟨vp_in_nI (by omega) (by decide), ?_⟩
    refine zk_i (d := zlm (P : Int) (n' - 1) * 2 ^ s < 32768) (zw_hi hb) (fun d => ?_) (fun d => g100 s hs hb)
    have hs14 : s ≤ 14 := by
      rcases Nat.lt_or_ge s 15 with h1 | h1
      · omega
      · have h2 : 2 ^ 15 ≤ 2 ^ s := zpl_le h1
        have h3 : 1 * 2 ^ s ≤ zlm (P : Int) (n' - 1) * 2 ^ s := Nat.mul_le_mul_right _ hd1
        omega
    refine br_f (nI_ge (b := 16) (by omega) (by decide)) (fun y ey => ?_)
    subst ey
    rw [nI_1]
    refine ih (s + 1) (by omega) (by omega) ?_
    rw [Nat.pow_succ, ← Nat.mul_assoc]
    omega
theorem xd_51 {post : SX → Prop} {n' m H P : Nat} (hn1 : 1 ≤ n') (hn' : n' ≤ 30) (hm : m ≤ 30) (hP : P < 2 ^ (16 * n')) (hPl : 2 ^ (16 * (n' - 1)) ≤ P) (hH : H < 2 ^ (16 * m)) (hh : zLB 40 (H : Int) a_high) (hp : zLB 40 (P : Int) a_part) (h : ∀ r p q, zLB 40 ((H % P : Nat) : Int) r → zLB 40 ((H / P : Nat) : Int) q → post (f_p, f_mode, f_flags, f_below, f_sticky, a_kinds, a_minus, a_exponents, a_limb, a_row, a_one, a_two, a_roots, r, p, q, a_square, a_guess)) : ∀ n k q, k ≤ 40 → 40 - k < n → (∀ j, j < k → q j = nI (zlm 0 j)) → wX_divide_51 post (nI n') (nI m) f_p f_mode f_flags f_below f_sticky n (nI k) a_kinds a_minus a_exponents a_limb a_row a_one a_two a_roots a_high a_part q a_square a_guess := by
  intro n
  induction n with
  | zero => intro k q _ h1; omega
  | succ n ih =>
    intro k q hk hn hz
    refine pk_le 40 k (fun hk2 => ?_) (fun hk2 => ⟨vp_in_nI hk2 (by decide), fun q1 eq y ey => ?_⟩)
    · exact ⟨18, xd_72 hn1 hn' hm hP hPl hH hh hp (fun j hj => hz j (by omega)) h 18 0 (by omega) (by omega) (by rw [Nat.pow_zero, Nat.mul_one]; exact zlm_lt _ _)⟩
    · rw [nI_clamp (by omega)] at eq
      subst eq ey
      rw [nI_1]
      exact ih (k + 1) _ (by omega) (by omega) (zLB_up hz (by rw [zlm_0]; rfl))
theorem xd_28 {post : SX → Prop} {n' H P : Nat} (hn1 : 1 ≤ n') (hn' : n' ≤ 30) (hP : P < 2 ^ (16 * n')) (hPl : 2 ^ (16 * (n' - 1)) ≤ P) (hh : zLB 40 (H : Int) a_high) (hp : zLB 40 (P : Int) a_part) (h : ∀ r p q, zLB 40 ((H % P : Nat) : Int) r → zLB 40 ((H / P : Nat) : Int) q → post (f_p, f_mode, f_flags, f_below, f_sticky, a_kinds, a_minus, a_exponents, a_limb, a_row, a_one, a_two, a_roots, r, p, q, a_square, a_guess)) : ∀ n m, m ≤ 30 → m < n → H < 2 ^ (16 * m) → wX_divide_28 post (nI n') f_p f_mode f_flags f_below f_sticky a_kinds a_minus a_exponents a_limb a_row a_one a_two a_roots a_high a_part a_quotient a_square a_guess n (nI m) := by
  intro n
  induction n with
  | zero => intro m _ h1; omega
  | succ n ih =>
    intro m hm hn hH
    have g : ∃ n51, wX_divide_51 post (nI n') (nI m) f_p f_mode f_flags f_below f_sticky n51 0 a_kinds a_minus a_exponents a_limb a_row a_one a_two a_roots a_high a_part a_quotient a_square a_guess := ⟨41, xd_51 hn1 hn' hm hP hPl hH hh hp h 41 0 a_quotient (by omega) (by omega) (fun j hj => absurd hj (by omega))⟩
    refine pk_le m 0 (fun h0 => g) (fun h0 => ?_)
    have e4 : nI m - 1 = nI (m - 1) := pk_sub (b := 1) (by omega)
    rw [e4, nI_clamp (by omega), hh (m - 1) (by omega)]
    refine ⟨vp_in_nI (by omega) (by decide), ?_⟩
    have a3 := zlm_lt (H : Int) (m - 1)
    refine pk_eq (zlm (H : Int) (m - 1)) 0 (fun hz y ey => ?_) (fun hz => g)
    subst ey
    obtain ⟨m', rfl⟩ : ∃ m', m = m' + 1 := ⟨m - 1, by omega⟩
    rw [pk_m1]
    refine ih m' (by omega) (by omega) ?_
    rw [Nat.add_sub_cancel, zlm_n] at hz
    have h1 : H / 2 ^ (16 * m') < 65536 := by
      refine Nat.div_lt_of_lt_mul ?_
      rw [show (65536 : Nat) = 2 ^ 16 from rfl, ← zNp]
      exact Nat.lt_of_lt_of_le hH (zpl_le (by omega))
    rw [Nat.mod_eq_of_lt h1] at hz
    exact (Nat.div_eq_zero_iff_lt (Nat.two_pow_pos _)).mp hz
theorem xd_3 {post : SX → Prop} {H P : Nat} (hP0 : 0 < P) (hH : H < 2 ^ 480) (hh : zLB 40 (H : Int) a_high) (hp : zLB 40 (P : Int) a_part) (h : ∀ r p q, zLB 40 ((H % P : Nat) : Int) r → zLB 40 ((H / P : Nat) : Int) q → post (f_p, f_mode, f_flags, f_below, f_sticky, a_kinds, a_minus, a_exponents, a_limb, a_row, a_one, a_two, a_roots, r, p, q, a_square, a_guess)) : ∀ n n', 1 ≤ n' → n' ≤ 30 → n' < n → P < 2 ^ (16 * n') → wX_divide_3 post f_p f_mode f_flags f_below f_sticky a_kinds a_minus a_exponents a_limb a_row a_one a_two a_roots a_high a_part a_quotient a_square a_guess n (nI n') := by
  intro n
  induction n with
  | zero => intro n' _ _ h1; omega
  | succ n ih =>
    intro n' hn1 hn' hn hP
    have g : 2 ^ (16 * (n' - 1)) ≤ P → ∃ n28, wX_divide_28 post (nI n') f_p f_mode f_flags f_below f_sticky a_kinds a_minus a_exponents a_limb a_row a_one a_two a_roots a_high a_part a_quotient a_square a_guess n28 30 := fun hPl => ⟨31, xd_28 hn1 hn' hP hPl hh hp h 31 30 (by omega) (by omega) hH⟩
    refine pk_le n' 1 (fun h0 => g ?_) (fun h0 => ?_)
    · rw [show n' - 1 = 0 from by omega]; exact hP0
    · have e4 : nI n' - 1 = nI (n' - 1) := pk_sub (b := 1) (by omega)
      rw [e4, nI_clamp (by omega), hp (n' - 1) (by omega)]
      refine ⟨vp_in_nI (by omega) (by decide), ?_⟩
      have a3 := zlm_lt (P : Int) (n' - 1)
      have h1 : P / 2 ^ (16 * (n' - 1)) < 65536 := by
        refine Nat.div_lt_of_lt_mul ?_
        rw [show (65536 : Nat) = 2 ^ 16 from rfl, ← zNp]
        exact Nat.lt_of_lt_of_le hP (zpl_le (by omega))
      have h2 : zlm (P : Int) (n' - 1) = P / 2 ^ (16 * (n' - 1)) := by rw [zlm_n, Nat.mod_eq_of_lt h1]
      refine pk_eq (zlm (P : Int) (n' - 1)) 0 (fun hz y ey => ?_) (fun hz => g ?_)
      · subst ey
        obtain ⟨m', rfl⟩ : ∃ m', n' = m' + 1 := ⟨n' - 1, by omega⟩
        rw [pk_m1]
        refine ih m' (by omega) (by omega) (by omega) ?_
        rw [h2, Nat.add_sub_cancel] at hz
        exact (Nat.div_eq_zero_iff_lt (Nat.two_pow_pos _)).mp hz
      · rw [h2] at hz
        have := (Nat.le_div_iff_mul_le (Nat.two_pow_pos (16 * (n' - 1)))).mp (show 1 ≤ P / 2 ^ (16 * (n' - 1)) by omega)
        omega
theorem xd_divide {post : SX → Prop} {H P : Nat} (hP0 : 0 < P) (hP : P < 2 ^ 480) (hH : H < 2 ^ 480) (hh : zLB 40 (H : Int) a_high) (hp : zLB 40 (P : Int) a_part) (h : ∀ r p q, zLB 40 ((H % P : Nat) : Int) r → zLB 40 ((H / P : Nat) : Int) q → post (f_p, f_mode, f_flags, f_below, f_sticky, a_kinds, a_minus, a_exponents, a_limb, a_row, a_one, a_two, a_roots, r, p, q, a_square, a_guess)) : wpX_divide post (f_p, f_mode, f_flags, f_below, f_sticky, a_kinds, a_minus, a_exponents, a_limb, a_row, a_one, a_two, a_roots, a_high, a_part, a_quotient, a_square, a_guess) :=
  ⟨31, xd_3 hP0 hH hh hp h 31 30 (by omega) (by omega) (by omega) hP⟩
/-- is anything left -/
theorem xd_left_l {post : Int32 → Prop} {R : Nat} (hR : R < 2 ^ 480) (hh : zLB 40 (R : Int) a_high) (h : post (zb1 (decide (R ≠ 0)))) : ∀ n k, k ≤ 30 → 30 - k < n → R % 2 ^ (16 * k) = 0 → wX_left_2 post f_p f_mode f_flags f_below f_sticky a_kinds a_minus a_exponents a_limb a_row a_one a_two a_roots a_high a_part a_quotient a_square a_guess n (nI k) := by
  intro n
  induction n with
  | zero => intro k _ h1; omega
  | succ n ih =>
    intro k hk hn hz
    refine pk_le 30 k (fun hk2 => ?_) (fun hk2 => ⟨vp_in_nI (by omega) (by decide), ?_⟩)
    · have e : k = 30 := by omega
      subst e
      rw [Nat.mod_eq_of_lt hR] at hz
      subst hz
      exact h
    · rw [nI_clamp (by omega), hh k (by omega)]
      have a3 := zlm_lt (R : Int) k
      have e3 : R % 2 ^ (16 * (k + 1)) = 2 ^ (16 * k) * zlm (R : Int) k := by
        rw [show 16 * (k + 1) = 16 * k + 16 from by omega, zNp, Nat.mod_mul, hz, Nat.zero_add, zlm_n]
      refine pk_eq (zlm (R : Int) k) 0 (fun hy y ey => ?_) (fun hy => ?_)
      · subst ey
        rw [nI_1]
        exact ih (k + 1) (by omega) (by omega) (by rw [e3, hy, Nat.mul_zero])
      · have : R ≠ 0 := by
          intro e
          subst e
          exact hy (zlm_0 k)
        rw [decide_eq_true this] at h; exact h
theorem xd_left {post : Int32 → Prop} {R : Nat} (hR : R < 2 ^ 480) (hh : zLB 40 (R : Int) a_high) (h : post (zb1 (decide (R ≠ 0)))) : wpX_left post (f_p, f_mode, f_flags, f_below, f_sticky, a_kinds, a_minus, a_exponents, a_limb, a_row, a_one, a_two, a_roots, a_high, a_part, a_quotient, a_square, a_guess) :=
  ⟨31, xd_left_l hR hh h 31 0 (by omega) (by omega) (by rw [Nat.mul_zero, Nat.pow_zero, Nat.mod_one])⟩
end
end
section
/-! the relation; rounding from a row; slots -/
def zrt (k : Nat) : Nat := 570203 ^ k % 786433
def zRT (a : Nat → Int32) : Prop := ∀ k, k < 16 → a k = nI (zrt k)
def zXR (p md : Nat) (f : Int32) (w : Nat → ZV) (u : SX) : Prop := match u with
  | (f_p, f_mode, f_flags, f_below, f_sticky, a_kinds, a_minus, a_exponents, a_limb, a_row, a_one, a_two, a_roots, a_high, a_part, a_quotient, a_square, a_guess) => f_p = nI p ∧ f_mode = nI md ∧ f_flags = f ∧ zXS p w a_kinds a_minus a_exponents a_limb ∧ zRT a_roots
def zYR (p md : Nat) (f : Int32) (w : Nat → ZV) (v : SY) : Prop := match v with
  | (f_precision, f_mode, f_flags, f_sticky, f_wide, f_rest, a_sort, a_exponent, a_minus, a_mantissa, a_row) => f_precision = nI p ∧ f_mode = nI md ∧ f_flags = f ∧ f_wide = 720 ∧ zYS w a_sort a_minus a_exponent a_mantissa
def zC (p md : Nat) (w : Nat → ZV) : Prop := 2 ≤ p ∧ p ≤ 64 ∧ md ≤ 4 ∧ ∀ i, i < 8 → zOK p (w i)
/-- the relation at the head of a turn -/
def i_Rel (k : Nat) (u : SX) (v : SY) : Prop := ∃ p md f w, zC p md w ∧ zXR p md f w u ∧ zYR p md f w v
theorem i_up {k : Nat} {u : SX} {v : SY} (h : i_Rel k u v) : i_Rel (k + 5) u v := h
theorem zC_s {p md : Nat} {w : Nat → ZV} {i : Nat} {r : ZV} (h : zC p md w) (hr : zOK p r) : zC p md (zst w i r) := by
  refine ⟨h.1, h.2.1, h.2.2.1, fun j hj => ?_⟩
  unfold zst
  by_cases e : j = i
  · rw [if_pos e]; exact hr
  · rw [if_neg e]; exact h.2.2.2 j hj
/-- a slot's number -/
theorem zs_ix (x : Int32) : ((∀ post : Int32 → Prop, post 0 → wpX_isSlot post x) ∧ (∀ post : Int32 → Prop, post 0 → wpY_slot post x)) ∨ ∃ j, j < 8 ∧ x = nI j := by
  rcases pk_ix x (show 8 < 2 ^ 31 by decide) with h | h | h
  · exact Or.inl ⟨fun _ hp => br_t h hp, fun _ hp => br_t h hp⟩
  · have h0 : ¬ x < 0 := by
      intro z
      have h2 : (8 : Int32) ≤ x := h
      rw [Int32.le_iff_toInt_le] at h2
      rw [Int32.lt_iff_toInt_lt] at z
      have a : (8 : Int32).toInt = 8 := by decide
      have b : (0 : Int32).toInt = 0 := by decide
      omega
    exact Or.inl ⟨fun _ hp => br_f h0 (br_t h hp), fun _ hp => br_f h0 (br_t h hp)⟩
  · exact Or.inr h
theorem zs_X {post : Int32 → Prop} {j : Nat} (hj : j < 8) (h : post 1) : wpX_isSlot post (nI j) := br_f (nI_pos (by omega)) (br_f (nI_ge (b := 8) hj (by decide)) h)
theorem zs_Y {post : Int32 → Prop} {j : Nat} (hj : j < 8) (h : post 1) : wpY_slot post (nI j) := br_f (nI_pos (by omega)) (br_f (nI_ge (b := 8) hj (by decide)) h)
theorem zb_or (b : Bool) (h : ¬ b = true) : b = false := by cases b <;> simp_all
section
variable {f_p f_mode f_flags f_below f_sticky : Int32} {a_kinds a_minus a_exponents a_limb a_row a_one a_two a_roots a_high a_part a_quotient a_square a_guess : Nat → Int32}
/-- the row holds N at the component's scale -/
theorem xo_rd {post : SX → Prop} {p md i N : Nat} {w : Nat → ZV} {ng s : Bool} (hc : zC p md w) (hs : zXS p w a_kinds a_minus a_exponents a_limb) (hro : zRT a_roots) (hr : zLB 54 ((N * 2 ^ 140 : Nat) : Int) a_row) (hN : N ≠ 0) (hN2 : N < 2 ^ 720) (hi : i < 8) (h : ∀ u, zXR p md (zrd0 340 p md ng N s f_flags).2 (zst w i (zrd0 340 p md ng N s f_flags).1) u → post u) : wpX_round post (nI p, nI md, f_flags, zb1 ng, zb1 s, a_kinds, a_minus, a_exponents, a_limb, a_row, a_one, a_two, a_roots, a_high, a_part, a_quotient, a_square, a_guess) (nI i) := by
  have e1 : zrd 480 p md ng (N * 2 ^ 140) s f_flags = zrd0 340 p md ng N s f_flags := by
    unfold zrd0
    rw [if_neg hN]
    exact zrd_scale (t := 140) hN hc.2.1 (by decide)
  have h0 := Nat.two_pow_pos 140
  refine xo_round hc.2.2.1 hs hr (Nat.mul_ne_zero hN (Nat.ne_of_gt h0)) ?_ hc.1 hc.2.1 hi (fun K Mi E L hK => ?_)
  · calc N * 2 ^ 140 < 2 ^ 720 * 2 ^ 140 := Nat.mul_lt_mul_of_pos_right hN2 h0
      _ ≤ 2 ^ 864 := by rw [← zNp]; exact zpl_le (by decide)
  · rw [e1] at hK ⊢
    exact h _ ⟨rfl, rfl, rfl, hK, hro⟩
/-- reading a slot -/
theorem xs_kz {p x : Nat} {w : Nat → ZV} (hs : zXS p w a_kinds a_minus a_exponents a_limb) (ho : zOK p (w x)) (hx : x < 8) : (a_kinds x = 0 ↔ (w x).1 = 0) ∧ (a_kinds x = 3 ↔ (w x).1 = 3) ∧ (a_kinds x = 4 ↔ (w x).1 = 4) ∧ ((a_kinds x = 1 ∨ a_kinds x = 2) ↔ (w x).1 = 2) := by
  have k2 : ∀ c : Prop, [Decidable c] → ((if c then (2 : Int32) else 1) = 2 ∨ (if c then (2 : Int32) else 1) = 1) := by
    intro c _
    by_cases h : c
    · exact Or.inl (if_pos h)
    · exact Or.inr (if_neg h)
  rcases (hs x hx).2 with ⟨a, b, _⟩ | ⟨a, b, _⟩ | ⟨a, b⟩ | ⟨a, b⟩
  · rw [a, b]; decide
  · rcases k2 (2 ^ (p - 1) ≤ (w x).2.2.2) with h | h
    · rw [a, b, h]; decide
    · rw [a, b, h]; decide
  · rw [a, b]; decide
  · rw [a, b]; decide
theorem xs_fin {p x : Nat} {w : Nat → ZV} (hs : zXS p w a_kinds a_minus a_exponents a_limb) (hx : x < 8) (h2 : (w x).1 = 2) : a_exponents x = zI (w x).2.2.1 ∧ zLB 4 ((w x).2.2.2 : Int) (fun k => a_limb (4 * x + k)) ∧ a_kinds x = (if 2 ^ (p - 1) ≤ (w x).2.2.2 then 2 else 1) := by
  rcases (hs x hx).2 with ⟨a, _⟩ | ⟨a, b, c, d⟩ | ⟨a, _⟩ | ⟨a, _⟩
  · omega
  · exact ⟨c, d, b⟩
  · omega
  · omega
theorem xs_isNot {post : Int32 → Prop} {p x : Nat} {w : Nat → ZV} (hs : zXS p w a_kinds a_minus a_exponents a_limb) (ho : zOK p (w x)) (hx : x < 8) (h : post (zb1 (decide ((w x).1 = 4)))) : wpX_isNot post (f_p, f_mode, f_flags, f_below, f_sticky, a_kinds, a_minus, a_exponents, a_limb, a_row, a_one, a_two, a_roots, a_high, a_part, a_quotient, a_square, a_guess) (nI x) := by
  refine ⟨vp_in_nI hx (by decide), ?_⟩
  rw [nI_clamp (by omega)]
  refine zk_i (xs_kz hs ho hx).2.2.1 (fun d => ?_) (fun d => ?_)
  · rw [decide_eq_true d] at h; exact h
  · rw [decide_eq_false d] at h; exact h
theorem xs_isInf {post : Int32 → Prop} {p x : Nat} {w : Nat → ZV} (hs : zXS p w a_kinds a_minus a_exponents a_limb) (ho : zOK p (w x)) (hx : x < 8) (h : post (zb1 (decide ((w x).1 = 3)))) : wpX_isInfinite post (f_p, f_mode, f_flags, f_below, f_sticky, a_kinds, a_minus, a_exponents, a_limb, a_row, a_one, a_two, a_roots, a_high, a_part, a_quotient, a_square, a_guess) (nI x) := by
  refine ⟨vp_in_nI hx (by decide), ?_⟩
  rw [nI_clamp (by omega)]
  refine zk_i (xs_kz hs ho hx).2.1 (fun d => ?_) (fun d => ?_)
  · rw [decide_eq_true d] at h; exact h
  · rw [decide_eq_false d] at h; exact h
theorem xs_plain {post : Int32 → Prop} {p x : Nat} {w : Nat → ZV} (hs : zXS p w a_kinds a_minus a_exponents a_limb) (ho : zOK p (w x)) (hx : x < 8) (h : post (zb1 (decide ((w x).1 = 2)))) : wpX_plain post (f_p, f_mode, f_flags, f_below, f_sticky, a_kinds, a_minus, a_exponents, a_limb, a_row, a_one, a_two, a_roots, a_high, a_part, a_quotient, a_square, a_guess) (nI x) := by
  have hk := (xs_kz hs ho hx).2.2.2
  refine ⟨vp_in_nI hx (by decide), ?_⟩
  rw [nI_clamp (by omega)]
  refine br_c (fun e => ?_) (fun e => ⟨vp_in_nI hx (by decide), br_c (fun e2 => ?_) (fun e2 => ?_)⟩)
  · rw [decide_eq_true (hk.mp (Or.inl e))] at h; exact h
  · rw [decide_eq_true (hk.mp (Or.inr e2))] at h; exact h
  · rw [decide_eq_false (fun z => by rcases hk.mpr z with a | a; exact e a; exact e2 a)] at h; exact h
/-- the foot of a mantissa -/
theorem xs_foot {post : Int32 → Prop} {p x : Nat} {e : Int} (hx : x < 8) (he : a_exponents x = zI e) (h : post (zI (e - p + 1 + 480))) : wpX_foot post (nI p, f_mode, f_flags, f_below, f_sticky, a_kinds, a_minus, a_exponents, a_limb, a_row, a_one, a_two, a_roots, a_high, a_part, a_quotient, a_square, a_guess) (nI x) := by
  refine ⟨vp_in_nI hx (by decide), ?_⟩
  rw [nI_clamp (by omega), he, ← zI_n p, zI_sub, show (1 : Int32) = zI 1 from rfl, zI_add, show (-480 : Int32) = zI (-480) from rfl, zI_sub]
  rw [show e - (p : Int) + 1 + 480 = e - p + 1 - -480 from by omega] at h
  exact h
/-- a sum: the row is settled and rounded -/
def zsum (p md : Nat) (ng : Bool) (N : Nat) (f : Int32) : ZV × Int32 := if N = 0 then ((0, md == 3, 0, 0), f) else zrd0 340 p md ng N false f
theorem xo_tb {V : Nat} {B : Int} (hB : 0 < B) (hb : (V : Int) < B) : -B ≤ (V : Int) ∧ -B ≤ -(V : Int) ∧ -(V : Int) < B ∧ -B ≤ 0 := by omega
theorem xo_tot27 {post : SX → Prop} {p md i : Nat} {w : Nat → ZV} (hc : zC p md w) (hs : zXS p w a_kinds a_minus a_exponents a_limb) (hro : zRT a_roots) (hi : i < 8) (h : ∀ u, zXR p md f_flags (zst w i (0, md == 3, 0, 0)) u → post u) : ((nI md = 3 → (wX_total_27 post 1 0 (nI i) (nI p) (nI md) f_flags f_below f_sticky a_kinds a_minus a_exponents a_limb a_row a_one a_two a_roots a_high a_part a_quotient a_square a_guess)) ∧ (¬ nI md = 3 → (wX_total_27 post 0 0 (nI i) (nI p) (nI md) f_flags f_below f_sticky a_kinds a_minus a_exponents a_limb a_row a_one a_two a_roots a_high a_part a_quotient a_square a_guess))) := by
  have hm4 := hc.2.2.1
  refine pk_eq md 3 (fun e => ?_) (fun e => ?_)
  · subst e
    exact xs_set (k := 0) (ng := true) hs hi (Or.inl rfl) (fun K M E L hK => h _ ⟨rfl, rfl, rfl, hK, hro⟩)
  · have e4 : (md == 3) = false := by simp [e]
    rw [e4] at h
    exact xs_set (k := 0) (ng := false) hs hi (Or.inl rfl) (fun K M E L hK => h _ ⟨rfl, rfl, rfl, hK, hro⟩)
theorem xo_total {post : SX → Prop} {p md i N V : Nat} {w : Nat → ZV} {ng : Bool} (hc : zC p md w) (hs : zXS p w a_kinds a_minus a_exponents a_limb) (hro : zRT a_roots) (hV : V = N * 2 ^ 140) (hr : zLB 54 (zsg ng (V : Int)) a_row) (hN2 : N < 2 ^ 720) (hi : i < 8) (h : ∀ u, zXR p md (zsum p md ng N f_flags).2 (zst w i (zsum p md ng N f_flags).1) u → post u) : wpX_total post (nI p, nI md, f_flags, 0, 0, a_kinds, a_minus, a_exponents, a_limb, a_row, a_one, a_two, a_roots, a_high, a_part, a_quotient, a_square, a_guess) (nI i) := by
  have h0 := Nat.two_pow_pos 140
  have hV8 : V < 2 ^ 860 := by
    rw [hV]
    have := Nat.mul_lt_mul_of_pos_right hN2 h0
    rw [← zNp] at this
    exact this
  have hb : (V : Int) < 2 ^ 863 := by
    rw [← zp_cast]
    exact Int.ofNat_lt.mpr (Nat.lt_trans hV8 (zpl_lt (by decide)))
  obtain ⟨b1, b2, b3, b4⟩ := xo_tb (zp_pos 863) hb
  unfold wpX_total
  dsimp only
  by_cases hN : N = 0
  · have hr0 : zLB 54 0 a_row := by
      have e : zsg ng (V : Int) = 0 := by rw [hV, hN, Nat.zero_mul]; cases ng <;> rfl
      rw [e] at hr; exact hr
    refine xr_settle hr0 b4 (zp_pos 863) (fun _ => ?_) (fun z => absurd z (Int.lt_irrefl 0))
    refine xr_top0 hr0 (br_f (by decide) ?_)
    have e3 : zsum p md ng N f_flags = ((0, md == 3, 0, 0), f_flags) := by unfold zsum; rw [if_pos hN]
    rw [e3] at h
    exact xo_tot27 hc hs hro hi h
  · have hne : V ≠ 0 := by rw [hV]; exact Nat.mul_ne_zero hN (Nat.ne_of_gt h0)
    have e2 : zsum p md ng N f_flags = zrd0 340 p md ng N false f_flags := by unfold zsum; rw [if_neg hN]
    rw [e2] at h
    have hl := (Nat.log2_lt hne).mpr (Nat.lt_trans hV8 (zpl_lt (show 860 < 864 by decide)))
    cases ng
    · have e5 : zsg false (V : Int) = (V : Int) := rfl
      rw [e5] at hr
      refine xr_settle hr b1 hb (fun _ => ?_) (fun z => absurd z (Int.not_lt.mpr (Int.natCast_nonneg V)))
      refine xr_top hr (z_log1 hne) (z_log2 _) hl (br_t (nI_pos' (by omega)) ?_)
      rw [hV] at hr
      exact xo_rd (ng := false) (s := false) hc hs hro hr hN hN2 hi h
    · have e5 : zsg true (V : Int) = -(V : Int) := rfl
      rw [e5] at hr
      refine xr_settle hr b2 b3 (fun z => ?_) (fun _ r hrr => ?_)
      · omega
      · rw [Int.neg_neg] at hrr
        refine xr_top hrr (z_log1 hne) (z_log2 _) hl (br_t (nI_pos' (by omega)) ?_)
        rw [hV] at hrr
        exact xo_rd (ng := true) (s := false) hc hs hro hrr hN hN2 hi h
end
end
section
/-! the methods that only look, and the settings -/
def zkd (p : Nat) (v : ZV) : Int32 := if v.1 = 2 then (if 2 ^ (p - 1) ≤ v.2.2.2 then 2 else 1) else nI v.1
theorem zk_top {p M : Nat} (hp2 : 2 ≤ p) (hM : M < 2 ^ p) : M / 2 ^ (p - 1) % 2 = 1 ↔ 2 ^ (p - 1) ≤ M := by
  have hz := Nat.two_pow_pos (p - 1)
  have hpp : 2 ^ p = 2 ^ (p - 1) * 2 := by rw [← Nat.pow_succ]; congr 1; omega
  have a : M / 2 ^ (p - 1) < 2 := Nat.div_lt_of_lt_mul (by omega)
  have b : 1 ≤ M / 2 ^ (p - 1) ↔ 1 * 2 ^ (p - 1) ≤ M := Nat.le_div_iff_mul_le hz
  rw [Nat.one_mul] at b
  rw [← b]
  generalize M / 2 ^ (p - 1) = y at a ⊢
  omega
theorem zOK_le {p : Nat} {w : ZV} (h : zOK p w) : w.1 ≤ 4 := by have := h.1; omega
theorem zOK_64 {p : Nat} {w : ZV} (h : zOK p w) (hp : p ≤ 64) (h2 : w.1 = 2) : w.2.2.2 < 2 ^ 64 := Nat.lt_of_lt_of_le (h.2.1 h2).2.1 (zpl_le hp)
theorem zs_kd {p : Nat} {w : ZV} {k m e : Int32} {l : Nat → Int32} (h : zSX p w k m e l) : k = zkd p w := by
  unfold zkd
  rcases h.2 with ⟨a, b, _⟩ | ⟨a, b, _⟩ | ⟨a, b⟩ | ⟨a, b⟩
  · rw [if_neg (by omega), a, b]; rfl
  · rw [if_pos a, b]
  · rw [if_neg (by omega), a, b]; rfl
  · rw [if_neg (by omega), a, b]; rfl
theorem i_vc_kind {k : Nat} {u : SX} {v : SY} (I : i_Rel k u v) (hk : k + 5 ≤ 2561) (v1 : Int32) : wpX_kind (fun r => wpY_kind (fun r' => r' = r ∧ i_Rel (k + 5) u v) v v1) u v1 := by
  have I' : i_Rel (k + 5) u v := I
  obtain ⟨p, md, f, w, hc, hX, hY⟩ := I
  revert I'
  generalize i_Rel (k + 5) u v = R
  intro I'
  obtain ⟨f_p, f_mode, f_flags, f_below, f_sticky, a_kinds, a_minus, a_exponents, a_limb, a_row, a_one, a_two, a_roots, a_high, a_part, a_quotient, a_square, a_guess⟩ := u
  obtain ⟨rfl, rfl, rfl, hs, hro⟩ := hX
  obtain ⟨g_precision, g_mode, g_flags, g_sticky, g_wide, g_rest, b_sort, b_exponent, b_minus, b_mantissa, b_row⟩ := v
  obtain ⟨rfl, rfl, e3, rfl, ht⟩ := hY
  unfold wpX_kind wpY_kind
  dsimp only
  rcases zs_ix v1 with hb | ⟨j, hj, rfl⟩
  · exact hb.1 _ (br_t rfl (hb.2 _ (br_t rfl ⟨rfl, I'⟩)))
  · have ho := hc.2.2.2 j hj
    have vj := vp_in_nI hj (show 8 < 2 ^ 31 by decide)
    refine zs_X hj (br_f (by decide) ⟨vj, ?_⟩)
    refine zs_Y hj (br_f (by decide) ⟨vj, ?_⟩)
    rw [nI_clamp (by omega), (ht j hj).2.1, zs_kd (hs j hj)]
    refine pk_eq (w j).1 2 (fun e => ⟨vj, ?_⟩) (fun e => ⟨vj, ?_⟩) rfl rfl (by have := zOK_le ho; omega)
    · have h64 := zOK_64 ho hc.2.1 e
      have hM := (ho.2.1 e).2.1
      rw [((ht j hj).2.2 e).2, show nI p - 1 = nI (p - 1) from pk_sub (b := 1) (by have := hc.1; omega), zy_bit h64 (by have := hc.2.1; omega)]
      unfold zkd
      rw [if_pos e]
      refine zk_i (d := 2 ^ (p - 1) ≤ (w j).2.2.2) ?_ (fun d => ?_) (fun d => ?_)
      · rw [show (1 : Int64) = lN 1 from rfl, zlN_eq (by have := Nat.mod_lt ((w j).2.2.2 / 2 ^ (p - 1)) (show 0 < 2 by decide); omega) (by decide), zk_top hc.1 hM]
      · rw [if_pos d]; exact ⟨rfl, I'⟩
      · rw [if_neg d]; exact ⟨rfl, I'⟩
    · unfold zkd
      rw [if_neg e]
      exact ⟨rfl, I'⟩
theorem i_vc_negative {k : Nat} {u : SX} {v : SY} (I : i_Rel k u v) (hk : k + 5 ≤ 2561) (v1 : Int32) : wpX_negative (fun r => wpY_negative (fun r' => r' = r ∧ i_Rel (k + 5) u v) v v1) u v1 := by
  have I' : i_Rel (k + 5) u v := I
  obtain ⟨p, md, f, w, hc, hX, hY⟩ := I
  revert I'
  generalize i_Rel (k + 5) u v = R
  intro I'
  obtain ⟨f_p, f_mode, f_flags, f_below, f_sticky, a_kinds, a_minus, a_exponents, a_limb, a_row, a_one, a_two, a_roots, a_high, a_part, a_quotient, a_square, a_guess⟩ := u
  obtain ⟨rfl, rfl, rfl, hs, hro⟩ := hX
  obtain ⟨g_precision, g_mode, g_flags, g_sticky, g_wide, g_rest, b_sort, b_exponent, b_minus, b_mantissa, b_row⟩ := v
  obtain ⟨rfl, rfl, e3, rfl, ht⟩ := hY
  unfold wpX_negative wpY_negative
  dsimp only
  rcases zs_ix v1 with hb | ⟨j, hj, rfl⟩
  · exact hb.1 _ (br_t rfl (hb.2 _ (br_t rfl ⟨rfl, I'⟩)))
  · have vj := vp_in_nI hj (show 8 < 2 ^ 31 by decide)
    rw [nI_clamp (by omega), (ht j hj).1, (hs j hj).1]
    refine zs_X hj (br_f (by decide) ⟨vj, zk_b (fun e => ?_) (fun e => ?_)⟩)
    · refine zs_Y hj (br_f (by decide) ⟨vj, ?_⟩)
      rw [e]; exact br_t rfl ⟨rfl, I'⟩
    · refine zs_Y hj (br_f (by decide) ⟨vj, ?_⟩)
      rw [e]; exact br_f (by decide) ⟨rfl, I'⟩
theorem i_vc_exponent {k : Nat} {u : SX} {v : SY} (I : i_Rel k u v) (hk : k + 5 ≤ 2561) (v1 : Int32) : wpX_exponent (fun r => wpY_exponent (fun r' => r' = r ∧ i_Rel (k + 5) u v) v v1) u v1 := by
  have I' : i_Rel (k + 5) u v := I
  obtain ⟨p, md, f, w, hc, hX, hY⟩ := I
  revert I'
  generalize i_Rel (k + 5) u v = R
  intro I'
  obtain ⟨f_p, f_mode, f_flags, f_below, f_sticky, a_kinds, a_minus, a_exponents, a_limb, a_row, a_one, a_two, a_roots, a_high, a_part, a_quotient, a_square, a_guess⟩ := u
  obtain ⟨rfl, rfl, rfl, hs, hro⟩ := hX
  obtain ⟨g_precision, g_mode, g_flags, g_sticky, g_wide, g_rest, b_sort, b_exponent, b_minus, b_mantissa, b_row⟩ := v
  obtain ⟨rfl, rfl, e3, rfl, ht⟩ := hY
  unfold wpX_exponent wpY_exponent
  dsimp only
  rcases zs_ix v1 with hb | ⟨j, hj, rfl⟩
  · exact hb.1 _ (br_t rfl (hb.2 _ (br_t rfl ⟨rfl, I'⟩)))
  · have ho := hc.2.2.2 j hj
    have vj := vp_in_nI hj (show 8 < 2 ^ 31 by decide)
    refine zs_X hj (br_f (by decide) (xs_plain hs ho hj ?_))
    rw [nI_clamp (by omega), (ht j hj).2.1]
    by_cases e : (w j).1 = 2
    · rw [decide_eq_true e]
      refine br_f (by decide) ⟨vj, zs_Y hj (br_f (by decide) ⟨vj, ?_⟩)⟩
      rw [((ht j hj).2.2 e).1, (xs_fin hs hj e).1, e]
      exact br_t rfl ⟨vj, rfl, I'⟩
    · rw [decide_eq_false e]
      refine br_t rfl (zs_Y hj (br_f (by decide) ⟨vj, pk_eq (w j).1 2 (fun z => absurd z e) (fun _ => ⟨rfl, I'⟩) rfl rfl (by have := zOK_le ho; omega)⟩))
theorem i_vc_bits {k : Nat} {u : SX} {v : SY} (I : i_Rel k u v) (hk : k + 5 ≤ 2561) (v1 : Int32) (v2 : Int32) : wpX_bits (fun r => wpY_bits (fun r' => r' = r ∧ i_Rel (k + 5) u v) v v1 v2) u v1 v2 := by
  have I' : i_Rel (k + 5) u v := I
  obtain ⟨p, md, f, w, hc, hX, hY⟩ := I
  revert I'
  generalize i_Rel (k + 5) u v = R
  intro I'
  obtain ⟨f_p, f_mode, f_flags, f_below, f_sticky, a_kinds, a_minus, a_exponents, a_limb, a_row, a_one, a_two, a_roots, a_high, a_part, a_quotient, a_square, a_guess⟩ := u
  obtain ⟨rfl, rfl, rfl, hs, hro⟩ := hX
  obtain ⟨g_precision, g_mode, g_flags, g_sticky, g_wide, g_rest, b_sort, b_exponent, b_minus, b_mantissa, b_row⟩ := v
  obtain ⟨rfl, rfl, e3, rfl, ht⟩ := hY
  unfold wpX_bits wpY_bits
  dsimp only
  rcases zs_ix v1 with hb | ⟨j, hj, rfl⟩
  · exact hb.1 _ (br_t rfl (hb.2 _ (br_t rfl ⟨rfl, I'⟩)))
  · have ho := hc.2.2.2 j hj
    have vj := vp_in_nI hj (show 8 < 2 ^ 31 by decide)
    refine zs_X hj (br_f (by decide) (xs_plain hs ho hj ?_))
    rw [nI_clamp (by omega), (ht j hj).2.1]
    by_cases e : (w j).1 = 2
    · rw [decide_eq_true e]
      have h64 := zOK_64 ho hc.2.1 e
      rcases pk_ix v2 (show 4 < 2 ^ 31 by decide) with h | h | ⟨q, hq, rfl⟩
      · refine br_f (by decide) (br_t h (zs_Y hj (br_f (by decide) ⟨vj, ?_⟩)))
        rw [e]
        exact br_t rfl (br_t h ⟨rfl, I'⟩)
      · have h0 : ¬ v2 < 0 := by
          intro z
          have h2 : (4 : Int32) ≤ v2 := h
          rw [Int32.le_iff_toInt_le] at h2
          rw [Int32.lt_iff_toInt_lt] at z
          have a : (4 : Int32).toInt = 4 := by decide
          have b : (0 : Int32).toInt = 0 := by decide
          omega
        refine br_f (by decide) (br_f h0 (br_t h (zs_Y hj (br_f (by decide) ⟨vj, ?_⟩))))
        rw [e]
        exact br_t rfl (br_f h0 (br_t h ⟨rfl, I'⟩))
      · have h1 := nI_pos (n := q) (by omega)
        have h2 := nI_ge (b := 4) hq (by decide)
        refine br_f (by decide) (br_f h1 (br_f h2 ⟨by rw [zx_ix]; exact vp_in_nI (by omega) (by decide), ?_⟩))
        refine zs_Y hj (br_f (by decide) ⟨vj, ?_⟩)
        rw [e]
        refine br_t rfl (br_f h1 (br_f h2 ⟨vj, ?_⟩))
        have hl : a_limb (4 * j + q) = nI (zlm ((w j).2.2.2 : Int) q) := (xs_fin hs hj e).2.1 q hq
        rw [zx_ix, nI_clamp (by omega), hl, ((ht j hj).2.2 e).2, show (16 : Int32) = nI 16 from rfl, pk_mul, wb_shr h64 (by omega), show (65535 : Int64) = lN (2 ^ 16 - 1) from rfl, wb_mask (Nat.lt_of_le_of_lt (Nat.div_le_self _ _) h64) (by decide), lN_i, zlm_n]
        exact ⟨rfl, I'⟩
    · rw [decide_eq_false e]
      refine br_t rfl (zs_Y hj (br_f (by decide) ⟨vj, pk_eq (w j).1 2 (fun z => absurd z e) (fun _ => ⟨rfl, I'⟩) rfl rfl (by have := zOK_le ho; omega)⟩))
theorem i_vc_flags {k : Nat} {u : SX} {v : SY} (I : i_Rel k u v) (hk : k + 5 ≤ 2561) : wpX_flags (fun r u' => wpY_flags (fun r' v' => r' = r ∧ i_Rel (k + 5) u' v') v) u := by
  obtain ⟨p, md, f, w, hc, hX, hY⟩ := I
  obtain ⟨f_p, f_mode, f_flags, f_below, f_sticky, a_kinds, a_minus, a_exponents, a_limb, a_row, a_one, a_two, a_roots, a_high, a_part, a_quotient, a_square, a_guess⟩ := u
  obtain ⟨rfl, rfl, rfl, hs, hro⟩ := hX
  obtain ⟨g_precision, g_mode, g_flags, g_sticky, g_wide, g_rest, b_sort, b_exponent, b_minus, b_mantissa, b_row⟩ := v
  obtain ⟨rfl, rfl, rfl, rfl, ht⟩ := hY
  exact ⟨rfl, p, md, 0, w, hc, ⟨rfl, rfl, rfl, hs, hro⟩, ⟨rfl, rfl, rfl, rfl, ht⟩⟩
theorem i_vc_mode {k : Nat} {u : SX} {v : SY} (I : i_Rel k u v) (hk : k + 5 ≤ 2561) (v1 : Int32) : wpX_mode (fun r u' => wpY_mode (fun r' v' => r' = r ∧ i_Rel (k + 5) u' v') v v1) u v1 := by
  obtain ⟨p, md, f, w, hc, hX, hY⟩ := I
  obtain ⟨f_p, f_mode, f_flags, f_below, f_sticky, a_kinds, a_minus, a_exponents, a_limb, a_row, a_one, a_two, a_roots, a_high, a_part, a_quotient, a_square, a_guess⟩ := u
  obtain ⟨rfl, rfl, rfl, hs, hro⟩ := hX
  obtain ⟨g_precision, g_mode, g_flags, g_sticky, g_wide, g_rest, b_sort, b_exponent, b_minus, b_mantissa, b_row⟩ := v
  obtain ⟨rfl, rfl, rfl, rfl, ht⟩ := hY
  rcases pk_ix v1 (show 5 < 2 ^ 31 by decide) with h | h | ⟨q, hq, rfl⟩
  · exact br_t h (br_t h ⟨rfl, p, md, _, w, hc, ⟨rfl, rfl, rfl, hs, hro⟩, ⟨rfl, rfl, rfl, rfl, ht⟩⟩)
  · have h2 : (5 : Int32) ≤ v1 := h
    have a : (5 : Int32).toInt = 5 := by decide
    have b : (0 : Int32).toInt = 0 := by decide
    have c : (4 : Int32).toInt = 4 := by decide
    rw [Int32.le_iff_toInt_le] at h2
    have h0 : ¬ v1 < 0 := by
      intro z
      rw [Int32.lt_iff_toInt_lt] at z
      omega
    have h4 : ¬ v1 ≤ 4 := by
      intro z
      rw [Int32.le_iff_toInt_le] at z
      omega
    exact br_f h0 (br_f h4 (br_f h0 (br_f h4 ⟨rfl, p, md, _, w, hc, ⟨rfl, rfl, rfl, hs, hro⟩, ⟨rfl, rfl, rfl, rfl, ht⟩⟩)))
  · have h0 := nI_pos (n := q) (by omega)
    have h4 : nI q ≤ 4 := nI_le (b := 4) (by omega) (by decide)
    exact br_f h0 (br_t h4 (br_f h0 (br_t h4 ⟨rfl, p, q, _, w, ⟨hc.1, hc.2.1, by omega, hc.2.2.2⟩, ⟨rfl, rfl, rfl, hs, hro⟩, ⟨rfl, rfl, rfl, rfl, ht⟩⟩)))
end
section
/-! special and load -/
theorem zbz (v : Int32) : ∃ b, lw_bz v = zb1 b := by
  rcases lw_bz_01 v with h | h
  · exact ⟨false, h⟩
  · exact ⟨true, h⟩
theorem zOK_k {p k : Nat} {b : Bool} (h : k = 0 ∨ k = 3 ∨ k = 4) : zOK p (k, b && !(k == 4), 0, 0) := by
  rcases h with rfl | rfl | rfl
  · exact zOK_0 p _
  · exact zOK_3 p _
  · have e : (b && !((4 : Nat) == 4)) = false := by simp
    rw [e]; exact zOK_4 p
theorem i_vc_special {k : Nat} {u : SX} {v : SY} (I : i_Rel k u v) (hk : k + 5 ≤ 2561) (v1 : Int32) (v2 : Int32) (v3 : Int32) : wpX_special (fun r u' => wpY_special (fun r' v' => r' = r ∧ i_Rel (k + 5) u' v') v v1 v2 (lw_bz v3)) u v1 v2 (lw_bz v3) := by
  obtain ⟨b, hb3⟩ := zbz v3
  rw [hb3]
  obtain ⟨p, md, f, w, hc, hX, hY⟩ := I
  obtain ⟨f_p, f_mode, f_flags, f_below, f_sticky, a_kinds, a_minus, a_exponents, a_limb, a_row, a_one, a_two, a_roots, a_high, a_part, a_quotient, a_square, a_guess⟩ := u
  obtain ⟨rfl, rfl, rfl, hs, hro⟩ := hX
  obtain ⟨g_precision, g_mode, g_flags, g_sticky, g_wide, g_rest, b_sort, b_exponent, b_minus, b_mantissa, b_row⟩ := v
  obtain ⟨rfl, rfl, rfl, rfl, ht⟩ := hY
  unfold wpX_special wpY_special
  dsimp only
  have same : i_Rel (k + 5) (nI p, nI md, g_flags, f_below, f_sticky, a_kinds, a_minus, a_exponents, a_limb, a_row, a_one, a_two, a_roots, a_high, a_part, a_quotient, a_square, a_guess) (nI p, nI md, g_flags, g_sticky, 720, g_rest, b_sort, b_exponent, b_minus, b_mantissa, b_row) := ⟨p, md, _, w, hc, ⟨rfl, rfl, rfl, hs, hro⟩, ⟨rfl, rfl, rfl, rfl, ht⟩⟩
  rcases zs_ix v1 with hb | ⟨j, hj, rfl⟩
  · exact hb.1 _ (br_t rfl (hb.2 _ (br_t rfl ⟨rfl, same⟩)))
  · rcases pk_ix v2 (show 3 < 2 ^ 31 by decide) with h | h | ⟨q, hq, rfl⟩
    · exact zs_X hj (br_f (by decide) (br_t h (zs_Y hj (br_f (by decide) (br_t h ⟨rfl, same⟩)))))
    · have h2 : (3 : Int32) ≤ v2 := h
      have a : (3 : Int32).toInt = 3 := by decide
      have b : (0 : Int32).toInt = 0 := by decide
      have c : (2 : Int32).toInt = 2 := by decide
      rw [Int32.le_iff_toInt_le] at h2
      have h0 : ¬ v2 < 0 := by
        intro z
        rw [Int32.lt_iff_toInt_lt] at z
        omega
      have h4 : ¬ v2 ≤ 2 := by
        intro z
        rw [Int32.le_iff_toInt_le] at z
        omega
      exact zs_X hj (br_f (by decide) (br_f h0 (br_f h4 (zs_Y hj (br_f (by decide) (br_f h0 (br_f h4 ⟨rfl, same⟩)))))))
    · have h0 := nI_pos (n := q) (by omega)
      have h4 : nI q ≤ 2 := nI_le (b := 2) (by omega) (by decide)
      have fin : ∀ kk, (kk = 0 ∨ kk = 3 ∨ kk = 4) → ∀ K M E L S Mi E' Ma, zXS p (zst w j (kk, b && !(kk == 4), 0, 0)) K M E L → zYS (zst w j (kk, b && !(kk == 4), 0, 0)) S Mi E' Ma → i_Rel (k + 5) (nI p, nI md, g_flags, f_below, f_sticky, K, M, E, L, a_row, a_one, a_two, a_roots, a_high, a_part, a_quotient, a_square, a_guess) (nI p, nI md, g_flags, g_sticky, 720, g_rest, S, E', Mi, Ma, b_row) := fun kk hkk K M E L S Mi E' Ma h1 h2 => ⟨p, md, _, _, zC_s hc (zOK_k hkk), ⟨rfl, rfl, rfl, h1, hro⟩, ⟨rfl, rfl, rfl, rfl, h2⟩⟩
      refine zs_X hj (br_f (by decide) (br_f h0 (br_t h4 ?_)))
      have e3 : q = 0 ∨ q = 1 ∨ q = 2 := by omega
      rcases e3 with rfl | rfl | rfl
      · refine br_t rfl (xs_set (k := 0) hs hj (Or.inl rfl) (fun K M E L hK => ?_))
        refine zs_Y hj (br_f (by decide) (br_f h0 (br_t h4 (br_t rfl ?_))))
        exact yo_give (k := 0) (r := (0, b && !((0 : Nat) == 4), 0, 0)) ht hj (by omega) rfl rfl (fun z => absurd z (by decide)) (fun S Mi E' Ma hS => ⟨rfl, fin 0 (Or.inl rfl) K M E L S Mi E' Ma hK hS⟩)
      · refine br_f (by decide) (xs_set (k := 3) hs hj (Or.inr (Or.inl rfl)) (fun K M E L hK => ?_))
        refine zs_Y hj (br_f (by decide) (br_f h0 (br_t h4 (br_f (by decide) (br_t rfl ?_)))))
        exact yo_give (k := 3) (r := (3, b && !((3 : Nat) == 4), 0, 0)) ht hj (by omega) rfl rfl (fun z => absurd z (by decide)) (fun S Mi E' Ma hS => ⟨rfl, fin 3 (Or.inr (Or.inl rfl)) K M E L S Mi E' Ma hK hS⟩)
      · refine br_f (by decide) (xs_set (k := 4) hs hj (Or.inr (Or.inr rfl)) (fun K M E L hK => ?_))
        refine zs_Y hj (br_f (by decide) (br_f h0 (br_t h4 (br_f (by decide) (br_f (by decide) ?_)))))
        exact yo_give (k := 4) (r := (4, b && !((4 : Nat) == 4), 0, 0)) ht hj (by omega) rfl rfl (fun z => absurd z (by decide)) (fun S Mi E' Ma hS => ⟨rfl, fin 4 (Or.inr (Or.inr rfl)) K M E L S Mi E' Ma hK hS⟩)
/-- the absolute value of an int as a long -/
theorem zab (m : Int32) : ∃ A : Nat, A ≤ 2147483648 ∧ (m = 0 ↔ A = 0) ∧ ((0 ≤ m ∧ m.toInt64 = lN A) ∨ (¬ 0 ≤ m ∧ -m.toInt64 = lN A)) := by
  have h1 := m.le_toInt
  have h2 := m.toInt_lt
  have z0 : (0 : Int32).toInt = 0 := by decide
  have hz : m = 0 ↔ m.toInt = 0 := by rw [← Int32.toInt_inj, z0]
  refine ⟨m.toInt.natAbs, by omega, by rw [hz]; omega, ?_⟩
  by_cases h : 0 ≤ m
  · rw [Int32.le_iff_toInt_le, z0] at h
    refine Or.inl ⟨by rw [Int32.le_iff_toInt_le, z0]; exact h, ?_⟩
    apply Int64.toInt_inj.mp
    rw [Int32.toInt_toInt64, pk_lT (by omega)]
    omega
  · refine Or.inr ⟨h, ?_⟩
    rw [Int32.le_iff_toInt_le, z0] at h
    apply Int64.toInt_inj.mp
    rw [xr_neg64 (Int32.toInt_toInt64 m) (by omega) (by omega), pk_lT (by omega)]
    omega
theorem zl_sum (A o t : Nat) : A % 65536 * 2 ^ (o + t) + A / 65536 * 2 ^ (o + (t + 16)) = A * 2 ^ o * 2 ^ t := by
  rw [Nat.mul_assoc A, ← zNp, ← Nat.add_assoc, zNp (o + t) 16, Nat.mul_comm (2 ^ (o + t)) (2 ^ 16), ← Nat.mul_assoc, ← Nat.add_mul]
  exact congrArg (fun z => z * 2 ^ (o + t)) (by omega)
section
variable {f_p f_mode f_flags f_below f_sticky : Int32} {a_kinds a_minus a_exponents a_limb a_row a_one a_two a_roots a_high a_part a_quotient a_square a_guess : Nat → Int32}
theorem xl_64 {post : Int32 → SX → Prop} {p md j A o : Nat} {w : Nat → ZV} {b : Bool} (hc : zC p md w) (hs : zXS p w a_kinds a_minus a_exponents a_limb) (hro : zRT a_roots) (hr : zLB 54 0 a_row) (hA : A ≤ 2147483648) (hA0 : A ≠ 0) (ho : o ≤ 640) (hj : j < 8) (h : ∀ u, zXR p md (zrd0 340 p md b (A * 2 ^ o) false f_flags).2 (zst w j (zrd0 340 p md b (A * 2 ^ o) false f_flags).1) u → post 1 u) : wX_load_64 post (nI j) (zI ((o : Int) - 340)) (lN A) (zb1 b) (nI p) (nI md) f_flags 0 0 a_kinds a_minus a_exponents a_limb a_row a_one a_two a_roots a_high a_part a_quotient a_square a_guess := by
  have e1 : (lN A &&& 65535).toInt32 = nI (A % 65536) := by
    rw [zw_lo64, pk_lT (by omega)]
    exact congrArg nI (by omega)
  have e2 : (lN A >>> ((16 : Int32).toInt64 &&& 63)).toInt32 = nI (A / 65536) := by
    rw [pf_shr (d := 16) (by decide) (by omega), lN_i]
  have e3 : zI ((o : Int) - 340) - (-480) = nI (o + 140) := by
    rw [show (-480 : Int32) = zI (-480) from rfl, zI_sub, ← zI_n]
    exact congrArg zI (by omega)
  have e4 : zI ((o : Int) - 340) + 16 - (-480) = nI (o + 156) := by
    rw [show (16 : Int32) = zI 16 from rfl, zI_add, show (-480 : Int32) = zI (-480) from rfl, zI_sub, ← zI_n]
    exact congrArg zI (by omega)
  refine ⟨zb1_n b, zb1_f b, ?_⟩
  rw [e1, e2, e3, e4]
  refine xr_dep (off := false) hr (by omega) (by omega) (fun r hr1 => ?_)
  refine xr_dep (off := false) hr1 (by omega) (by omega) (fun r2 hr2 => ?_)
  have e5 : (0 : Int) + zsg false ((A % 65536 : Nat) : Int) * 2 ^ (o + 140) + zsg false ((A / 65536 : Nat) : Int) * 2 ^ (o + 156) = ((A * 2 ^ o * 2 ^ 140 : Nat) : Int) := by
    show (0 : Int) + ((A % 65536 : Nat) : Int) * 2 ^ (o + 140) + ((A / 65536 : Nat) : Int) * 2 ^ (o + 156) = _
    rw [← zp_cast, ← zp_cast, ← Int.natCast_mul, ← Int.natCast_mul, Int.zero_add, ← Int.natCast_add, zl_sum A o 140]
  rw [e5] at hr2
  have hlt : A * 2 ^ o < 2 ^ 720 := by
    have a1 : A * 2 ^ o < 2 ^ 32 * 2 ^ o := Nat.mul_lt_mul_of_pos_right (by omega) (Nat.two_pow_pos o)
    rw [← zNp] at a1
    exact Nat.lt_of_lt_of_le a1 (zpl_le (by omega))
  exact xo_rd (s := false) hc hs hro hr2 (Nat.mul_ne_zero hA0 (Nat.ne_of_gt (Nat.two_pow_pos o))) hlt hj h
end
section
variable {f_precision f_mode f_flags f_sticky f_wide : Int32} {f_rest : Int64} {a_sort a_exponent a_minus a_row : Nat → Int32} {a_mantissa : Nat → Int64}
theorem yl_35 {post : Int32 → SY → Prop} {p md j A o : Nat} {w : Nat → ZV} {b : Bool} {m : Int32} (hc : zC p md w) (hs : zYS w a_sort a_minus a_exponent a_mantissa) (hA : A ≤ 2147483648) (ho : o ≤ 640) (hj : j < 8) (hm : (0 ≤ m ∧ b = false) ∨ (¬ 0 ≤ m ∧ b = true)) (h : ∀ v, zYR p md (zrd0 340 p md b (A * 2 ^ o) false f_flags).2 (zst w j (zrd0 340 p md b (A * 2 ^ o) false f_flags).1) v → post 1 v) : wY_load_35 post (nI j) m (zI ((o : Int) - 340)) (lN A) (nI p) (nI md) f_flags f_sticky 720 f_rest a_sort a_exponent a_minus a_mantissa a_row := by
  have hlt : A * 2 ^ o < 2 ^ 720 := by
    have a1 : A * 2 ^ o < 2 ^ 32 * 2 ^ o := Nat.mul_lt_mul_of_pos_right (by omega) (Nat.two_pow_pos o)
    rw [← zNp] at a1
    exact Nat.lt_of_lt_of_le a1 (zpl_le (by omega))
  refine yr_write (r := 0) (by omega) (by omega) (by omega) (fun l hl hf => ?_)
  have g : wY_load_61 post (zb1 b) (nI j) (nI p) (nI md) f_flags 0 720 f_rest a_sort a_exponent a_minus a_mantissa l := yo_round (s := false) hc.2.2.1 hs hl hlt hc.1 hc.2.1 hj (fun S Mi E Ma hS => h _ ⟨rfl, rfl, rfl, rfl, hS⟩)
  rcases hm with ⟨h0, rfl⟩ | ⟨h0, rfl⟩
  · exact br_t h0 g
  · exact br_f h0 g
end
section
variable {f_precision f_mode f_flags f_sticky f_wide : Int32} {f_rest : Int64} {a_sort a_exponent a_minus a_row : Nat → Int32} {a_mantissa : Nat → Int64}
theorem yl_load {post : Int32 → SY → Prop} {p md j A o : Nat} {w : Nat → ZV} {b : Bool} {m : Int32} (hc : zC p md w) (hs : zYS w a_sort a_minus a_exponent a_mantissa) (hA : A ≤ 2147483648) (hAc : (0 ≤ m ∧ m.toInt64 = lN A) ∨ (¬ 0 ≤ m ∧ -m.toInt64 = lN A)) (ho1 : 40 ≤ o) (ho : o ≤ 640) (hj : j < 8) (hm : (0 ≤ m ∧ b = false) ∨ (¬ 0 ≤ m ∧ b = true)) (h : ∀ v, zYR p md (zrd0 340 p md b (A * 2 ^ o) false f_flags).2 (zst w j (zrd0 340 p md b (A * 2 ^ o) false f_flags).1) v → post 1 v) : wpY_load post (nI p, nI md, f_flags, f_sticky, 720, f_rest, a_sort, a_exponent, a_minus, a_mantissa, a_row) (nI j) m (zI ((o : Int) - 340)) := by
  unfold wpY_load
  dsimp only
  refine zs_Y hj (br_f (by decide) (zk_lt ((o : Int) - 340) (-300) (fun z => by omega) (fun _ => zk_le ((o : Int) - 340) 300 (fun _ => ?_) (fun z => by omega))))
  rcases hAc with ⟨h0, ha⟩ | ⟨h0, ha⟩
  · refine br_t h0 ?_
    rw [ha]
    exact yl_35 hc hs hA ho hj hm h
  · refine br_f h0 ?_
    rw [ha]
    exact yl_35 hc hs hA ho hj hm h
end
section
variable {f_p f_mode f_flags f_below f_sticky : Int32} {a_kinds a_minus a_exponents a_limb a_row a_one a_two a_roots a_high a_part a_quotient a_square a_guess : Nat → Int32}
theorem xl_load {post : Int32 → SX → Prop} {p md j A o : Nat} {w : Nat → ZV} {b : Bool} {m : Int32} (hc : zC p md w) (hs : zXS p w a_kinds a_minus a_exponents a_limb) (hro : zRT a_roots) (hA : A ≤ 2147483648) (hA0 : m = 0 ↔ A = 0) (hAc : (0 ≤ m ∧ m.toInt64 = lN A) ∨ (¬ 0 ≤ m ∧ -m.toInt64 = lN A)) (ho1 : 40 ≤ o) (ho : o ≤ 640) (hj : j < 8) (hm : (0 ≤ m ∧ b = false) ∨ (¬ 0 ≤ m ∧ b = true)) (h : ∀ u, zXR p md (zrd0 340 p md b (A * 2 ^ o) false f_flags).2 (zst w j (zrd0 340 p md b (A * 2 ^ o) false f_flags).1) u → post 1 u) : wpX_load post (nI p, nI md, f_flags, f_below, f_sticky, a_kinds, a_minus, a_exponents, a_limb, a_row, a_one, a_two, a_roots, a_high, a_part, a_quotient, a_square, a_guess) (nI j) m (zI ((o : Int) - 340)) := by
  unfold wpX_load
  dsimp only
  refine zs_X hj (br_f (by decide) (zk_lt ((o : Int) - 340) (-300) (fun z => by omega) (fun _ => zk_le ((o : Int) - 340) 300 (fun _ => ?_) (fun z => by omega))))
  refine zk_i hA0 (fun d => ?_) (fun d => ?_)
  · have hv0 := hA0.mpr d
    have hb : b = false := by
      rcases hm with ⟨_, h1⟩ | ⟨h1, _⟩
      · exact h1
      · rw [hv0] at h1; exact absurd (by decide) h1
    have ez : zrd0 340 p md b (A * 2 ^ o) false f_flags = ((0, b, 0, 0), f_flags) := by
      unfold zrd0; rw [if_pos (by rw [d, Nat.zero_mul])]
    rw [ez, hb] at h
    exact xs_set (k := 0) (ng := false) hs hj (Or.inl rfl) (fun K M E L hK => h _ ⟨rfl, rfl, rfl, hK, hro⟩)
  · refine xr_clear (fun r hr => ?_)
    rcases hAc with ⟨h0, ha⟩ | ⟨h0, ha⟩
    · have hb : b = false := by
        rcases hm with ⟨_, h1⟩ | ⟨h1, _⟩
        · exact h1
        · exact absurd h0 h1
      subst hb
      refine br_t h0 (br_t h0 ?_)
      rw [ha]
      exact xl_64 (b := false) hc hs hro hr hA d ho hj h
    · have hb : b = true := by
        rcases hm with ⟨h1, _⟩ | ⟨_, h1⟩
        · exact absurd h1 h0
        · exact h1
      subst hb
      refine br_f h0 (br_f h0 ?_)
      rw [ha]
      exact xl_64 (b := true) hc hs hro hr hA d ho hj h
end
theorem i_vc_load {k : Nat} {u : SX} {v : SY} (I : i_Rel k u v) (hk : k + 5 ≤ 2561) (v1 : Int32) (v2 : Int32) (v3 : Int32) : wpX_load (fun r u' => wpY_load (fun r' v' => r' = r ∧ i_Rel (k + 5) u' v') v v1 v2 v3) u v1 v2 v3 := by
  obtain ⟨p, md, f, w, hc, hX, hY⟩ := I
  obtain ⟨f_p, f_mode, f_flags, f_below, f_sticky, a_kinds, a_minus, a_exponents, a_limb, a_row, a_one, a_two, a_roots, a_high, a_part, a_quotient, a_square, a_guess⟩ := u
  obtain ⟨rfl, rfl, rfl, hs, hro⟩ := hX
  obtain ⟨g_precision, g_mode, g_flags, g_sticky, g_wide, g_rest, b_sort, b_exponent, b_minus, b_mantissa, b_row⟩ := v
  obtain ⟨rfl, rfl, rfl, rfl, ht⟩ := hY
  have same : i_Rel (k + 5) (nI p, nI md, g_flags, f_below, f_sticky, a_kinds, a_minus, a_exponents, a_limb, a_row, a_one, a_two, a_roots, a_high, a_part, a_quotient, a_square, a_guess) (nI p, nI md, g_flags, g_sticky, 720, g_rest, b_sort, b_exponent, b_minus, b_mantissa, b_row) := ⟨p, md, _, w, hc, ⟨rfl, rfl, rfl, hs, hro⟩, ⟨rfl, rfl, rfl, rfl, ht⟩⟩
  rcases zs_ix v1 with hb | ⟨j, hj, rfl⟩
  · unfold wpX_load wpY_load
    exact hb.1 _ (br_t rfl (hb.2 _ (br_t rfl ⟨rfl, same⟩)))
  · by_cases c1 : v3 < -300
    · unfold wpX_load wpY_load
      exact zs_X hj (br_f (by decide) (br_t c1 (zs_Y hj (br_f (by decide) (br_t c1 ⟨rfl, same⟩)))))
    by_cases c2 : v3 ≤ 300
    · obtain ⟨o, ho1, ho, rfl⟩ : ∃ o : Nat, 40 ≤ o ∧ o ≤ 640 ∧ v3 = zI ((o : Int) - 340) := by
        rw [Int32.lt_iff_toInt_lt, show (-300 : Int32).toInt = -300 from by decide] at c1
        rw [Int32.le_iff_toInt_le, show (300 : Int32).toInt = 300 from by decide] at c2
        refine ⟨(v3.toInt + 340).toNat, by omega, by omega, ?_⟩
        have e := zI_of v3
        have e2 : v3.toInt = ((v3.toInt + 340).toNat : Int) - 340 := by omega
        rw [← e2]
        exact e
      obtain ⟨A, hA, hA0, hAc⟩ := zab v2
      obtain ⟨b, hm⟩ : ∃ b, (0 ≤ v2 ∧ b = false) ∨ (¬ 0 ≤ v2 ∧ b = true) := by
        by_cases h0 : 0 ≤ v2
        · exact ⟨false, Or.inl ⟨h0, rfl⟩⟩
        · exact ⟨true, Or.inr ⟨h0, rfl⟩⟩
      exact xl_load hc hs hro hA hA0 hAc ho1 ho hj hm (fun u hu => yl_load hc ht hA hAc ho1 ho hj hm (fun v hv => ⟨rfl, p, md, _, _, zC_s hc (zrd0_ok hc.1 hc.2.1 (by decide)), hu, hv⟩))
    · unfold wpX_load wpY_load
      exact zs_X hj (br_f (by decide) (br_f c1 (br_f c2 (zs_Y hj (br_f (by decide) (br_f c1 (br_f c2 ⟨rfl, same⟩)))))))
end
section
/-! step -/
def zstep (p : Nat) (v : ZV) (up : Bool) : ZV :=
  if v.1 = 0 then (2, !up, -100, 1) else if v.1 = 4 then v else if v.1 = 3 then (if up = v.2.1 then (2, v.2.1, 100, 2 ^ p - 1) else v)
  else if up = v.2.1 then (if v.2.2.2 = 2 ^ (p - 1) ∧ -100 < v.2.2.1 then (2, v.2.1, v.2.2.1 - 1, 2 ^ p - 1) else if v.2.2.2 = 1 then (0, v.2.1, 0, 0) else (2, v.2.1, v.2.2.1, v.2.2.2 - 1))
  else (if v.2.2.2 + 1 = 2 ^ p then (if v.2.2.1 = 100 then (3, v.2.1, 0, 0) else (2, v.2.1, v.2.2.1 + 1, 2 ^ (p - 1))) else (2, v.2.1, v.2.2.1, v.2.2.2 + 1))
theorem zst_x (w : Nat → ZV) (i x : Nat) : zst w i (w x) x = w x := by
  unfold zst
  by_cases h : x = i
  · rw [if_pos h]
  · rw [if_neg h]
theorem zst_i (w : Nat → ZV) (i : Nat) (r : ZV) : zst w i r i = r := if_pos rfl
theorem zst_zst (w : Nat → ZV) (i : Nat) (r s : ZV) : zst (zst w i r) i s = zst w i s := by
  funext j
  unfold zst
  by_cases h : j = i
  · rw [if_pos h, if_pos h]
  · rw [if_neg h, if_neg h, if_neg h]
theorem zst_self (w : Nat → ZV) (i x : Nat) (h : x = i) : zst w i (w x) = w := by
  funext j
  unfold zst
  by_cases e : j = i
  · rw [if_pos e, h, e]
  · rw [if_neg e]
theorem zOK_2 {p M : Nat} {b : Bool} {e : Int} (h1 : 1 ≤ M) (h2 : M < 2 ^ p) (h3 : -100 ≤ e) (h4 : e ≤ 100) (h5 : 2 ^ (p - 1) ≤ M ∨ e = -100) : zOK p (2, b, e, M) := ⟨Or.inr (Or.inl rfl), fun _ => ⟨h1, h2, h3, h4, h5⟩, fun z => absurd z (by show ¬ (2 : Nat) = 4; omega)⟩
theorem zp_d {p : Nat} (hp2 : 2 ≤ p) : 2 ^ p = 2 ^ (p - 1) + 2 ^ (p - 1) ∧ 2 ≤ 2 ^ (p - 1) := by
  obtain ⟨q, rfl⟩ : ∃ q, p = q + 2 := ⟨p - 2, by omega⟩
  have := Nat.two_pow_pos q
  rw [show q + 2 - 1 = q + 1 from by omega, Nat.pow_succ, Nat.pow_succ]
  omega
theorem zstep_ok {p : Nat} {v : ZV} {up : Bool} (hp2 : 2 ≤ p) (ho : zOK p v) : zOK p (zstep p v up) := by
  obtain ⟨d1, d2⟩ := zp_d hp2
  unfold zstep
  split
  · exact zOK_2 (by omega) (by omega) (by omega) (by omega) (Or.inr rfl)
  · split
    · exact ho
    · split
      · split
        · exact zOK_2 (by omega) (by omega) (by omega) (by omega) (Or.inl (by omega))
        · exact ho
      · rename_i h0 h4 h3
        have h2 : v.1 = 2 := by have := ho.1; omega
        obtain ⟨g1, g2, g3, g4, g5⟩ := ho.2.1 h2
        split
        · split
          · rename_i hh
            exact zOK_2 (by omega) (by omega) (by omega) (by omega) (Or.inl (by omega))
          · split
            · exact zOK_0 p _
            · rename_i hn h1
              refine zOK_2 (by omega) (by omega) g3 g4 ?_
              rcases g5 with g | g
              · by_cases hc : v.2.2.1 = -100
                · exact Or.inr hc
                · have : v.2.2.2 ≠ 2 ^ (p - 1) := fun z => hn ⟨z, by omega⟩
                  exact Or.inl (by omega)
              · exact Or.inr g
        · split
          · split
            · exact zOK_3 p _
            · exact zOK_2 (by omega) (by omega) (by omega) (by omega) (Or.inl (Nat.le_refl _))
          · refine zOK_2 (by omega) (by omega) g3 g4 ?_
            rcases g5 with g | g
            · exact Or.inl (by omega)
            · exact Or.inr g
section
variable {f_p f_mode f_flags f_below f_sticky : Int32} {a_kinds a_minus a_exponents a_limb a_row a_one a_two a_roots a_high a_part a_quotient a_square a_guess : Nat → Int32}
/-- lessen -/
theorem xs_less103 {post : SX → Prop} {p md i M : Nat} {w : Nat → ZV} {ng : Bool} {e : Int} (hs : zXo p w i a_kinds a_minus a_exponents a_limb) (hro : zRT a_roots) (hm : a_minus i = zb1 ng) (hl : zLB 4 (M : Int) (fun k => a_limb (4 * i + k))) (hp2 : 2 ≤ p) (hp : p ≤ 64) (hi : i < 8) (hM : M < 2 ^ p) (he : -100 ≤ e) (he2 : e ≤ 100) (h0 : M = 0 → e = -100) (h : ∀ u, zXR p md f_flags (zst w i (if M = 0 then (0, ng, 0, 0) else (2, ng, e, M))) u → post u) : wX_lessen_103 post (nI i) (zI e) (nI p) (nI md) f_flags f_below f_sticky a_kinds a_minus a_exponents a_limb a_row a_one a_two a_roots a_high a_part a_quotient a_square a_guess :=
  xs_finite hs hm hl hp2 hp hi hM he he2 h0 (fun K E hK => h _ ⟨rfl, rfl, rfl, hK, hro⟩)
theorem xs_less81 {post : SX → Prop} {p md i : Nat} {w : Nat → ZV} {ng : Bool} {e : Int} (hro : zRT a_roots) (hm : a_minus i = zb1 ng) (hp2 : 2 ≤ p) (hp : p ≤ 64) (hi : i < 8) (he : -100 ≤ e) (he2 : e ≤ 100) (h : ∀ u, zXR p md f_flags (zst w i (2, ng, e, 2 ^ p - 1)) u → post u) : ∀ n b l, b ≤ p → p - b < n → zXo p w i a_kinds a_minus a_exponents l → zLB 4 ((2 ^ p - 1 : Nat) : Int) (fun k => l (4 * i + k)) → wX_lessen_81 post (nI i) (zI e) n (nI b) (nI p) (nI md) f_flags f_below f_sticky a_kinds a_minus a_exponents l a_row a_one a_two a_roots a_high a_part a_quotient a_square a_guess := by
  obtain ⟨d1, d2⟩ := zp_d hp2
  intro n
  induction n with
  | zero => intro b l _ h1; omega
  | succ n ih =>
    intro b l hb hn hs hl
    refine pk_le p b (fun hc => ?_) (fun hc => ?_)
    · refine xs_less103 hs hro hm hl hp2 hp hi (by omega) he he2 (fun z => by omega) ?_
      rw [if_neg (by omega)]
      exact h
    · refine xs_setBit hl hi (by omega) (fun l2 hf2 hl2 y ey => ?_)
      subst ey
      rw [nI_1]
      have e1 : zsb (2 ^ p - 1) b = 2 ^ p - 1 := by
        refine zsb_set ?_
        obtain ⟨c, rfl⟩ : ∃ c, p = b + 1 + c := ⟨p - b - 1, by omega⟩
        have e2 : 2 ^ (b + 1 + c) - 1 = (2 * 2 ^ c - 1) * 2 ^ b + (2 ^ b - 1) := by
          rw [zNp, Nat.pow_succ, Nat.sub_mul, Nat.one_mul, Nat.mul_comm (2 ^ b) 2, Nat.mul_assoc 2, Nat.mul_assoc 2, Nat.mul_comm (2 ^ c)]
          have h1 := Nat.two_pow_pos b
          have h2 : 1 * 2 ^ b ≤ 2 * (2 ^ b * 2 ^ c) := by
            have := Nat.le_mul_of_pos_right (2 ^ b) (Nat.two_pow_pos c)
            omega
          omega
        have h1 := Nat.two_pow_pos b
        have h2 := Nat.two_pow_pos c
        rw [e2, Nat.add_comm, Nat.add_mul_div_right _ _ h1, Nat.div_eq_of_lt (by omega)]
        omega
      rw [e1] at hl2
      exact ih (b + 1) l2 (by omega) (by omega) (zXo_c hs (zff_r _ _) (zff_r _ _) (zff_r _ _) hf2) hl2
/-- the value one below -/
def zles (p : Nat) (ng : Bool) (e : Int) (M : Nat) : ZV := if M = 2 ^ (p - 1) ∧ -100 < e then (2, ng, e - 1, 2 ^ p - 1) else if M = 1 then (0, ng, 0, 0) else (2, ng, e, M - 1)
theorem xs_less4 {post : SX → Prop} {p md i M : Nat} {w : Nat → ZV} {ng : Bool} {e : Int} (hro : zRT a_roots) (hm : a_minus i = zb1 ng) (he0 : a_exponents i = zI e) (hp2 : 2 ≤ p) (hp : p ≤ 64) (hi : i < 8) (hM1 : 1 ≤ M) (hM : M < 2 ^ p) (he : -100 ≤ e) (he2 : e ≤ 100) (hn : 2 ^ (p - 1) ≤ M ∨ e = -100) (h : ∀ u, zXR p md f_flags (zst w i (zles p ng e M)) u → post u) : ∀ n k l, k ≤ 4 → 4 - k < n → zXo p w i a_kinds a_minus a_exponents l → ((M : Int) - 1) / 2 ^ (16 * k) = (M : Int) / 2 ^ (16 * k) + (-1) → (∀ j, j < k → l (4 * i + j) = nI (zlm ((M : Int) - 1) j)) → (∀ j, k ≤ j → j < 4 → l (4 * i + j) = nI (zlm (M : Int) j)) → wX_lessen_4 post (nI i) (nI p) (nI md) f_flags f_below f_sticky n (nI (4 * i + k)) a_kinds a_minus a_exponents l a_row a_one a_two a_roots a_high a_part a_quotient a_square a_guess := by
  obtain ⟨d1, d2⟩ := zp_d hp2
  have h64 : M < 2 ^ 64 := Nat.lt_of_lt_of_le hM (zpl_le hp)
  have hc1 : ((M - 1 : Nat) : Int) = (M : Int) - 1 := by omega
  intro n
  induction n with
  | zero => intro k l _ h1; omega
  | succ n ih =>
    intro k l hk hn2 hs hT hlo hhi
    have hk4 : k < 4 := by
      rcases Nat.lt_or_ge k 4 with h1 | h1
      · exact h1
      · exfalso
        have e4 : k = 4 := by omega
        subst e4
        have a1 : (M : Int) / 2 ^ (16 * 4) = 0 := Int.ediv_eq_zero_of_lt (by omega) (by rw [← zp_cast]; exact Int.ofNat_lt.mpr h64)
        have a2 : ((M : Int) - 1) / 2 ^ (16 * 4) = 0 := Int.ediv_eq_zero_of_lt (by omega) (by rw [← zp_cast]; have := Int.ofNat_lt.mpr h64; omega)
        omega
    have hz := zlm_lt (M : Int) k
    obtain ⟨c1, c2⟩ := zc16 hT
    have vk := vp_in_nI (n := 4 * i + k) (N := 32) (by omega) (by decide)
    refine ⟨vk, ?_⟩
    rw [nI_clamp (by omega), hhi k (by omega) hk4]
    refine pk_eq (zlm (M : Int) k) 0 (fun e0 y ey => ⟨vk, fun l1 el => ?_⟩) (fun e0 => ⟨vk, vk, fun l1 el => ⟨vp_in_nI hi (by decide), fun x3 e3 => ?_⟩⟩)
    · subst el ey
      rw [nI_1]
      rw [e0] at c1 c2
      refine ih (k + 1) _ (by omega) (by omega) (zXo_c hs (zff_r _ _) (zff_r _ _) (zff_r _ _) (zfr_u _ _ hk4)) (by rw [c2]; rfl) (fun j hj => ?_) (fun j hj hj2 => ?_)
      · by_cases ej : j = k
        · subst ej
          rw [pk_us]
          have : zlm ((M : Int) - 1) j = 65535 := by omega
          rw [this]; rfl
        · rw [pk_un (by omega)]; exact hlo j (by omega)
      · rw [pk_un (by omega)]; exact hhi j (by omega) hj2
    · rw [show nI (zlm (M : Int) k) - 1 = nI (zlm (M : Int) k - 1) from pk_sub (b := 1) (by omega)] at el
      rw [nI_clamp (by omega), he0] at e3
      subst el e3
      have hlv : zlm (M : Int) k - 1 = zlm ((M : Int) - 1) k := by omega
      have hs2 := zXo_c hs (zff_r i a_kinds) (zff_r i a_minus) (zff_r i a_exponents) (zfr_u l (nI (zlm (M : Int) k - 1)) hk4)
      have hl : zLB 4 ((M - 1 : Nat) : Int) (fun j => upd l (4 * i + k) (nI (zlm (M : Int) k - 1)) (4 * i + j)) := by
        intro j hj
        show upd l (4 * i + k) _ (4 * i + j) = _
        rw [hc1]
        by_cases ej : j = k
        · subst ej; rw [pk_us, hlv]
        · rw [pk_un (by omega)]
          by_cases ej2 : j < k
          · exact hlo j ej2
          · rw [hhi j (by omega) hj]
            have e5 : ((M : Int) - 1) / 2 ^ (16 * (k + 1)) = (M : Int) / 2 ^ (16 * (k + 1)) := by
              rw [c2]
              have : ((zlm (M : Int) k : Int) + -1) / 65536 = 0 := by omega
              rw [this, Int.add_zero]
            rw [zlm_same e5 (by omega)]
      have hM' : M - 1 < 2 ^ p := by omega
      have ep : nI p - 1 = nI (p - 1) := pk_sub (b := 1) (by omega)
      rw [ep]
      -- the plain end
      have plain : ¬ (M = 2 ^ (p - 1) ∧ -100 < e) → wX_lessen_103 post (nI i) (zI e) (nI p) (nI md) f_flags f_below f_sticky a_kinds a_minus a_exponents (upd l (4 * i + k) (nI (zlm (M : Int) k - 1))) a_row a_one a_two a_roots a_high a_part a_quotient a_square a_guess := by
        intro hne
        refine xs_less103 hs2 hro hm hl hp2 hp hi hM' he he2 (fun z => ?_) ?_
        · rcases hn with g | g
          · omega
          · exact g
        · unfold zles at h
          rw [if_neg hne] at h
          by_cases h1 : M = 1
          · rw [if_pos h1] at h; rw [if_pos (by omega)]; exact h
          · rw [if_neg h1] at h; rw [if_neg (by omega)]; exact h
      refine xs_hasBit hl hi (by omega) (zk_b (fun hb => ?_) (fun hb => ?_))
      · have hb := of_decide_eq_false hb
        rw [zk_top hp2 hM'] at hb
        refine zk_le e (-100) (fun hc => plain (fun z => by omega)) (fun hc => ?_)
        have eM : M = 2 ^ (p - 1) := by
          rcases hn with g | g
          · omega
          · omega
        refine xs_setBit hl hi (by omega) (fun l2 hf2 hl2 y ey => ?_)
        have ey2 : y = zI (e - 1) := ey.trans (by rw [show (-1 : Int32) = zI (-1) from rfl, zI_add]; exact congrArg zI (by omega))
        subst ey2
        have e6 : zsb (M - 1) (p - 1) = 2 ^ p - 1 := by
          rw [eM, zsb_pow, show p - 1 + 1 = p from by omega]
        rw [e6] at hl2
        unfold zles at h
        rw [if_pos ⟨eM, by omega⟩] at h
        exact ⟨p + 1, xs_less81 hro hm hp2 hp hi (by omega) (by omega) h (p + 1) 0 l2 (by omega) (by omega) (zXo_c hs2 (zff_r _ _) (zff_r _ _) (zff_r _ _) hf2) hl2⟩
      · have hb := of_decide_eq_true hb
        rw [zk_top hp2 hM'] at hb
        exact plain (fun z => by omega)
theorem xs_lessen {post : SX → Prop} {p md i M : Nat} {w : Nat → ZV} {ng : Bool} {e : Int} (hs : zXo p w i a_kinds a_minus a_exponents a_limb) (hro : zRT a_roots) (hm : a_minus i = zb1 ng) (he0 : a_exponents i = zI e) (hl : zLB 4 (M : Int) (fun k => a_limb (4 * i + k))) (hp2 : 2 ≤ p) (hp : p ≤ 64) (hi : i < 8) (hM1 : 1 ≤ M) (hM : M < 2 ^ p) (he : -100 ≤ e) (he2 : e ≤ 100) (hn : 2 ^ (p - 1) ≤ M ∨ e = -100) (h : ∀ u, zXR p md f_flags (zst w i (zles p ng e M)) u → post u) : wpX_lessen post (nI p, nI md, f_flags, f_below, f_sticky, a_kinds, a_minus, a_exponents, a_limb, a_row, a_one, a_two, a_roots, a_high, a_part, a_quotient, a_square, a_guess) (nI i) := by
  intro x ex
  rw [zx_i4] at ex
  subst ex
  refine ⟨5, xs_less4 hro hm he0 hp2 hp hi hM1 hM he he2 hn h 5 0 a_limb (by omega) (by omega) hs ?_ (fun j hj => absurd hj (by omega)) (fun j _ hj => hl j hj)⟩
  rw [Nat.mul_zero, Int.pow_zero, Int.ediv_one, Int.ediv_one]
  omega
theorem xs_step {post : Int32 → SX → Prop} {p md i x : Nat} {w : Nat → ZV} {up : Bool} (hc : zC p md w) (hs : zXS p w a_kinds a_minus a_exponents a_limb) (hro : zRT a_roots) (hx : x < 8) (hi : i < 8) (h : ∀ u, zXR p md f_flags (zst w i (zstep p (w x) up)) u → post 1 u) : wpX_step post (nI p, nI md, f_flags, f_below, f_sticky, a_kinds, a_minus, a_exponents, a_limb, a_row, a_one, a_two, a_roots, a_high, a_part, a_quotient, a_square, a_guess) (nI x) (zb1 up) (nI i) := by
  have ho := hc.2.2.2 x hx
  obtain ⟨hp2, hp, hmd, _⟩ := hc
  obtain ⟨d1, d2⟩ := zp_d hp2
  unfold wpX_step
  dsimp only
  refine zs_X hx (br_f (by decide) (zs_X hi (br_f (by decide) ?_)))
  refine xs_copy hs ho hi hx (fun K M E L hK => ?_)
  dsimp only
  have hKx := hK x hx
  have hKi := hK i hi
  rw [zst_x] at hKx
  rw [zst_i] at hKi
  have hox : zOK p (zst w i (w x) x) := by rw [zst_x]; exact ho
  have hko := zXS_o hK i
  have vx := vp_in_nI hx (show 8 < 2 ^ 31 by decide)
  have vi := vp_in_nI hi (show 8 < 2 ^ 31 by decide)
  have e100 : (-100 : Int32) = zI (-100) := by decide
  refine xs_isNot hK hox hx ?_
  rw [zst_x]
  have kz := xs_kz hK hox hx
  rw [zst_x] at kz
  unfold zstep at h
  refine zk_b (fun hn => ⟨vx, ?_⟩) (fun hn => ?_)
  · have hn := of_decide_eq_false hn
    rw [nI_clamp (by omega)]
    refine zk_i kz.1 (fun h0 => ?_) (fun h0 => ⟨vx, ?_⟩)
    · rw [if_pos h0] at h
      have hl0 : zLB 4 ((0 : Nat) : Int) (fun k => L (4 * i + k)) := by
        rcases hKi.2 with ⟨_, _, _, d⟩ | ⟨a, _⟩ | ⟨a, _⟩ | ⟨a, _⟩
        · exact d
        · omega
        · omega
        · omega
      refine xs_setBit (b := 0) hl0 hi (by omega) (fun l2 hf2 hl2 => ?_)
      rw [zsb_0, Nat.pow_zero] at hl2
      have g : ∀ b : Bool, b = !up → wX_step_61 post (nI i) (zb1 b) (nI i) (nI p) (nI md) f_flags f_below f_sticky K M E l2 a_row a_one a_two a_roots a_high a_part a_quotient a_square a_guess := by
        intro b hb
        subst hb
        refine ⟨vi, fun M2 eM => ?_⟩
        rw [nI_clamp (by omega), zb1_v] at eM
        subst eM
        rw [e100]
        refine xs_finite (M := 1) (e := -100) (ng := !up) (zXo_c hko (zff_r _ _) (zff_u _ _ _) (zff_r _ _) hf2) pk_us hl2 hp2 hp hi (by omega) (by omega) (by omega) (fun z => absurd z (by decide)) (fun K2 E2 hK2 => h _ ⟨rfl, rfl, rfl, ?_, hro⟩)
        rw [if_neg (by decide), zst_zst] at hK2
        exact hK2
      cases up
      · exact br_t rfl (g true rfl)
      · exact br_f (by decide) (g false rfl)
    · rw [if_neg h0, if_neg hn] at h
      rw [nI_clamp (by omega), hKx.1]
      refine zk_bb (fun hu => ?_) (fun hu => ?_)
      · -- inward
        refine xs_isInf hK hox hx ?_
        rw [zst_x]
        refine zk_b (fun h3 => ?_) (fun h3 => ?_)
        · have h3 := of_decide_eq_false h3
          have h2 : (w x).1 = 2 := by have := ho.1; omega
          rw [if_neg h3, if_pos hu] at h
          obtain ⟨g1, g2, g3, g4, g5⟩ := ho.2.1 h2
          have hf := xs_fin hK hi (by rw [zst_i]; exact h2)
          rw [zst_i] at hf
          refine xs_lessen (w := zst w i (w x)) hko hro hKi.1 hf.1 hf.2.1 hp2 hp hi g1 g2 g3 g4 g5 (fun u hu => h u ?_)
          rw [zst_zst] at hu
          exact hu
        · have h3 := of_decide_eq_true h3
          rw [if_pos h3, if_pos hu] at h
          refine xs_greatest (w := zst w i (w x)) hko hKi.1 hp2 hp hi (fun K2 E2 L2 hK2 => h _ ⟨rfl, rfl, rfl, ?_, hro⟩)
          rw [zst_zst] at hK2
          exact hK2
      · -- outward
        refine xs_isInf hK hox hx ?_
        rw [zst_x]
        refine zk_b (fun h3 => ⟨vi, ?_⟩) (fun h3 => ?_)
        · have h3 := of_decide_eq_false h3
          have h2 : (w x).1 = 2 := by have := ho.1; omega
          rw [if_neg h3, if_neg hu] at h
          obtain ⟨g1, g2, g3, g4, g5⟩ := ho.2.1 h2
          have hf := xs_fin hK hi (by rw [zst_i]; exact h2)
          rw [zst_i] at hf
          refine xs_increase hp2 hp hi g2 hf.2.1 (fun l2 hf2 hl2 => ?_)
          rw [hf.1]
          have hko2 := zXo_c hko (zff_r _ _) (zff_r _ _) (zff_r _ _) hf2
          unfold zinc at hl2
          refine zk_b (fun hb y ey => ?_) (fun hb y ey => ?_)
          · have hb := of_decide_eq_false hb
            rw [if_neg hb] at h hl2
            have ey2 : y = zI (w x).2.2.1 := ey.trans (by rw [show (0 : Int32) = zI 0 from rfl, zI_add]; exact congrArg zI (by omega))
            subst ey2
            refine zk_le (w x).2.2.1 100 (fun _ => ?_) (fun z => by omega)
            refine xs_finite (w := zst w i (w x)) hko2 hKi.1 hl2 hp2 hp hi (by omega) g3 g4 (fun z => absurd z (Nat.succ_ne_zero _)) (fun K2 E2 hK2 => h _ ⟨rfl, rfl, rfl, ?_, hro⟩)
            rw [if_neg (Nat.succ_ne_zero _), zst_zst] at hK2
            exact hK2
          · have hb := of_decide_eq_true hb
            rw [if_pos hb] at h hl2
            have ey2 : y = zI ((w x).2.2.1 + 1) := ey.trans (zI_add _ 1)
            subst ey2
            refine zk_le ((w x).2.2.1 + 1) 100 (fun hle => ?_) (fun hgt => ⟨vi, ?_⟩)
            · rw [if_neg (by omega)] at h
              refine xs_finite (w := zst w i (w x)) hko2 hKi.1 hl2 hp2 hp hi (by omega) (by omega) (by omega) (fun z => by omega) (fun K2 E2 hK2 => h _ ⟨rfl, rfl, rfl, ?_, hro⟩)
              rw [if_neg (by omega), zst_zst] at hK2
              exact hK2
            · rw [if_pos (by omega)] at h
              dsimp only
              rw [nI_clamp (by omega), hKi.1]
              refine xs_seto (k := 3) (w := zst w i (w x)) hko2 hi (Or.inr (Or.inl rfl)) (fun K2 M2 E2 L2 hK2 => h _ ⟨rfl, rfl, rfl, ?_, hro⟩)
              rw [zst_zst, show ((w x).2.1 && !((3 : Nat) == 4)) = (w x).2.1 from by simp] at hK2
              exact hK2
        · have h3 := of_decide_eq_true h3
          rw [if_pos h3, if_neg hu] at h
          exact h _ ⟨rfl, rfl, rfl, hK, hro⟩
  · have hn := of_decide_eq_true hn
    rw [if_neg (by omega), if_pos hn] at h
    exact h _ ⟨rfl, rfl, rfl, hK, hro⟩
end
end
section
/-! step of the reference -/
section
variable {f_precision f_mode f_flags f_sticky f_wide : Int32} {f_rest : Int64} {a_sort a_exponent a_minus a_row : Nat → Int32} {a_mantissa : Nat → Int64}
theorem ys_step {post : Int32 → SY → Prop} {p md i x : Nat} {w : Nat → ZV} {up : Bool} (hc : zC p md w) (hs : zYS w a_sort a_minus a_exponent a_mantissa) (hx : x < 8) (hi : i < 8) (h : ∀ v, zYR p md f_flags (zst w i (zstep p (w x) up)) v → post 1 v) : wpY_step post (nI p, nI md, f_flags, f_sticky, 720, f_rest, a_sort, a_exponent, a_minus, a_mantissa, a_row) (nI x) (zb1 up) (nI i) := by
  have ho := hc.2.2.2 x hx
  obtain ⟨hp2, hp, hmd, _⟩ := hc
  obtain ⟨d1, d2⟩ := zp_d hp2
  have hk4 := zOK_le ho
  have vx := vp_in_nI hx (show 8 < 2 ^ 31 by decide)
  unfold wpY_step
  dsimp only
  refine zs_Y hx (br_f (by decide) (zs_Y hi (br_f (by decide) ?_)))
  rw [nI_clamp (by omega), (hs x hx).2.1, (hs x hx).1]
  refine ⟨vx, fun k ek => ⟨vx, fun e ee => ⟨vx, fun M eM => ⟨vx, fun m em => ?_⟩⟩⟩⟩
  subst ek em
  have give := fun (k : Nat) (ng : Bool) (e : Int32) (M : Int64) (hk : k ≤ 4) (h1 : (zstep p (w x) up).1 = k) (h2 : (zstep p (w x) up).2.1 = (ng && !(k == 4))) (h3 : k = 2 → e = zI (zstep p (w x) up).2.2.1 ∧ M = lN (zstep p (w x) up).2.2.2) => yo_give (post := fun v => post 1 v) (f_precision := nI p) (f_mode := nI md) (f_flags := f_flags) (f_sticky := f_sticky) (f_wide := 720) (f_rest := f_rest) (a_row := a_row) (k := k) (ng := ng) (e := e) (M := M) hs hi hk h1 h2 h3 (fun S Mi E Ma hS => h _ ⟨rfl, rfl, rfl, rfl, hS⟩)
  have hpp : 2 ^ p ≤ 2 ^ 64 := zpl_le hp
  have g59 : ∀ ow : Bool, (ow = true ↔ up ≠ (w x).2.1) → wY_step_59 post (zb1 up) (nI i) (nI (w x).1) e M (zb1 (w x).2.1) (zb1 ow) (nI p) (nI md) f_flags f_sticky 720 f_rest a_sort a_exponent a_minus a_mantissa a_row := by
    intro ow how
    unfold zstep at give
    refine pk_eq (w x).1 0 (fun h0 => ?_) (fun h0 => ?_)
    · rw [if_pos h0] at give
      cases up
      · exact br_t rfl (give 2 true _ _ (by omega) rfl rfl (fun _ => ⟨by decide, rfl⟩))
      · exact br_f (by decide) (give 2 false _ _ (by omega) rfl rfl (fun _ => ⟨by decide, rfl⟩))
    · rw [if_neg h0] at give
      refine pk_eq (w x).1 4 (fun h4 => ?_) (fun h4 => ?_)
      · rw [if_pos h4] at give
        have hneg := ho.2.2 h4
        rw [h4]
        exact give 4 (w x).2.1 _ _ (by omega) h4 (by rw [hneg]; rfl) (fun z => absurd z (by decide))
      · rw [if_neg h4] at give
        have s118 : (ow = true → (w x).1 ≠ 3) → wY_step_118 post (nI i) (nI (w x).1) e M (zb1 (w x).2.1) (zb1 ow) (nI p) (nI md) f_flags f_sticky 720 f_rest a_sort a_exponent a_minus a_mantissa a_row := by
          intro hn
          refine pk_eq (w x).1 3 (fun h3 => ?_) (fun h3 => ?_)
          · have how2 : up = (w x).2.1 := by
              cases hq : ow
              · rw [hq] at how
                have : ¬ (up ≠ (w x).2.1) := fun z => Bool.noConfusion (how.mpr z)
                exact Decidable.not_not.mp this
              · exact absurd h3 (hn hq)
            rw [if_pos h3, if_pos how2] at give
            refine yo_greatest hp2 hp ?_
            exact give 2 (w x).2.1 _ _ (by omega) rfl (by simp) (fun _ => ⟨rfl, rfl⟩)
          · rw [if_neg h3] at give
            have h2 : (w x).1 = 2 := by have := ho.1; omega
            obtain ⟨g1, g2, g3, g4, g5⟩ := ho.2.1 h2
            have ⟨he, hM⟩ := (hs x hx).2.2 h2
            have ee2 : e = zI (w x).2.2.1 := by rw [ee]; exact he
            have eM2 : M = lN (w x).2.2.2 := by rw [eM]; exact hM
            subst ee2 eM2
            have h64 : (w x).2.2.2 < 2 ^ 64 := by omega
            refine zk_b (fun ho1 => ?_) (fun ho1 => ?_)
            · have how2 : up = (w x).2.1 := by
                rw [ho1] at how
                have : ¬ (up ≠ (w x).2.1) := fun z => Bool.noConfusion (how.mpr z)
                exact Decidable.not_not.mp this
              rw [if_pos how2] at give
              subst ho1
              refine br_t rfl ?_
              rw [yo_half hp2 hp]
              have s252 : ¬ ((w x).2.2.2 = 2 ^ (p - 1) ∧ -100 < (w x).2.2.1) → wY_step_252 post (nI i) (zI (w x).2.2.1) (lN (w x).2.2.2) (zb1 (w x).2.1) (nI p) (nI md) f_flags f_sticky 720 f_rest a_sort a_exponent a_minus a_mantissa a_row := by
                intro hne
                rw [if_neg hne] at give
                refine zk_i (d := (w x).2.2.2 = 1) (by rw [show (1 : Int64) = lN 1 from rfl, zlN_eq h64 (by decide)]) (fun d => ?_) (fun d => ?_)
                · rw [if_pos d] at give
                  exact give 0 (w x).2.1 _ _ (by omega) rfl (by simp) (fun z => absurd z (by decide))
                · rw [if_neg d] at give
                  exact give 2 (w x).2.1 _ _ (by omega) rfl (by simp) (fun _ => ⟨rfl, lN_sub (b := 1) g1⟩)
              refine zk_i (d := (w x).2.2.2 = 2 ^ (p - 1)) (by rw [zlN_eq h64 (by omega)]) (fun d => ?_) (fun d => s252 (fun z => d z.1))
              refine zk_le (w x).2.2.1 (-100) (fun hc => s252 (fun z => by omega)) (fun hc => ?_)
              rw [if_pos ⟨d, hc⟩] at give
              refine yo_greatest hp2 hp ?_
              exact give 2 (w x).2.1 _ _ (by omega) rfl (by simp) (fun _ => ⟨zI_sub _ 1, rfl⟩)
            · have how2 : ¬ up = (w x).2.1 := how.mp ho1
              rw [if_neg how2] at give
              subst ho1
              refine yo_greatest hp2 hp ?_
              refine zk_i (d := (w x).2.2.2 + 1 = 2 ^ p) (by rw [zlN_eq h64 (by omega)]; omega) (fun d => ?_) (fun d => ?_)
              · rw [if_pos d] at give
                refine zk_eq (w x).2.2.1 100 (fun h100 => ?_) (fun h100 => ?_)
                · rw [if_pos h100] at give
                  exact give 3 (w x).2.1 _ _ (by omega) rfl (by simp) (fun z => absurd z (by decide))
                · rw [if_neg h100] at give
                  exact give 2 (w x).2.1 _ _ (by omega) rfl (by simp) (fun _ => ⟨zI_add _ 1, yo_half hp2 hp⟩)
              · rw [if_neg d] at give
                refine br_f (by decide) ?_
                exact give 2 (w x).2.1 _ _ (by omega) rfl (by simp) (fun _ => ⟨rfl, lN_1 _⟩)
        refine pk_eq (w x).1 3 (fun h3 => ?_) (fun h3 => s118 (fun _ => h3))
        refine zk_b (fun ho1 => ?_) (fun ho1 => ?_)
        · exact s118 (fun z => by rw [ho1] at z; exact Bool.noConfusion z)
        · have how2 : ¬ up = (w x).2.1 := how.mp ho1
          rw [if_pos h3, if_neg how2] at give
          rw [h3]
          exact give 3 (w x).2.1 _ _ (by omega) h3 (by simp) (fun z => absurd z (by decide))
  refine zk_bb (fun hu => ?_) (fun hu => ?_)
  · exact g59 false ⟨fun z => Bool.noConfusion z, fun z => absurd hu z⟩
  · exact g59 true ⟨fun _ => hu, fun _ => rfl⟩
end
theorem i_vc_step {k : Nat} {u : SX} {v : SY} (I : i_Rel k u v) (hk : k + 5 ≤ 2561) (v1 : Int32) (v2 : Int32) (v3 : Int32) : wpX_step (fun r u' => wpY_step (fun r' v' => r' = r ∧ i_Rel (k + 5) u' v') v v1 (lw_bz v2) v3) u v1 (lw_bz v2) v3 := by
  obtain ⟨b, hb3⟩ := zbz v2
  rw [hb3]
  obtain ⟨p, md, f, w, hc, hX, hY⟩ := I
  obtain ⟨f_p, f_mode, f_flags, f_below, f_sticky, a_kinds, a_minus, a_exponents, a_limb, a_row, a_one, a_two, a_roots, a_high, a_part, a_quotient, a_square, a_guess⟩ := u
  obtain ⟨rfl, rfl, rfl, hs, hro⟩ := hX
  obtain ⟨g_precision, g_mode, g_flags, g_sticky, g_wide, g_rest, b_sort, b_exponent, b_minus, b_mantissa, b_row⟩ := v
  obtain ⟨rfl, rfl, rfl, rfl, ht⟩ := hY
  have same : i_Rel (k + 5) (nI p, nI md, g_flags, f_below, f_sticky, a_kinds, a_minus, a_exponents, a_limb, a_row, a_one, a_two, a_roots, a_high, a_part, a_quotient, a_square, a_guess) (nI p, nI md, g_flags, g_sticky, 720, g_rest, b_sort, b_exponent, b_minus, b_mantissa, b_row) := ⟨p, md, _, w, hc, ⟨rfl, rfl, rfl, hs, hro⟩, ⟨rfl, rfl, rfl, rfl, ht⟩⟩
  rcases zs_ix v1 with hb | ⟨x, hx, rfl⟩
  · unfold wpX_step wpY_step
    exact hb.1 _ (br_t rfl (hb.2 _ (br_t rfl ⟨rfl, same⟩)))
  · rcases zs_ix v3 with hb | ⟨i, hi, rfl⟩
    · unfold wpX_step wpY_step
      exact zs_X hx (br_f (by decide) (hb.1 _ (br_t rfl (zs_Y hx (br_f (by decide) (hb.2 _ (br_t rfl ⟨rfl, same⟩)))))))
    · exact xs_step hc hs hro hx hi (fun u hu => ys_step hc ht hx hi (fun v hv => ⟨rfl, p, md, _, _, zC_s hc (zstep_ok hc.1 (hc.2.2.2 x hx)), hu, hv⟩))
end
section
/-! the constructors -/
def zpwf : Nat → Nat → Nat → Nat → Nat
  | 0, r, _, _ => r
  | n + 1, r, b, e => if e = 0 then r else zpwf n (if e % 2 = 0 then r else r * b % 786433) (b * b % 786433) (e / 2)
theorem xi_rem {a : Nat} (ha : a < 2 ^ 63) : lN a - lN a / 786433 * 786433 = lN (a % 786433) := pk_lRem (b := 786433) ha (by decide) (by decide)
theorem xi_mul {a b : Nat} (ha : a < 786433) (hb : b < 786433) : a * b < 2 ^ 63 := by
  have := Nat.mul_le_mul (Nat.le_of_lt ha) (Nat.le_of_lt hb)
  omega
theorem xi_pow {post : Int64 → Prop} : ∀ n r b e : Nat, r < 786433 → b < 786433 → e < 2 ^ 16 → e < 2 ^ n → post (lN (zpwf n r b e)) → wX_power_8 post (n + 1) (lN r) (lN b) (nI e) := by
  intro n
  induction n with
  | zero =>
    intro r b e hr hb he hn h
    have e0 : e = 0 := by omega
    subst e0
    exact br_t (by decide) h
  | succ n ih =>
    intro r b e hr hb he hn h
    have hbb := xi_mul hb hb
    have hrb := xi_mul hr hb
    refine pk_le e 0 (fun h0 => ?_) (fun h0 => ?_)
    · have e0 : e = 0 := by omega
      subst e0
      exact h
    · have ez : ¬ e = 0 := by omega
      unfold zpwf at h
      rw [if_neg ez] at h
      have n29 : ∀ r', r' < 786433 → post (lN (zpwf n r' (b * b % 786433) (e / 2))) → wX_power_29 post (wX_power_8 post (n + 1)) (lN r') (lN b) (nI e) := by
        intro r' hr' h'
        refine ⟨by decide, fun b2 eb e2 ee => ?_⟩
        rw [lN_mul, xi_rem hbb] at eb
        rw [zw_s1 (by omega)] at ee
        subst eb ee
        exact ih r' _ _ hr' (Nat.mod_lt _ (by decide)) (by omega) (by rw [Nat.pow_succ] at hn; omega) h'
      rw [zw_m1 (by omega)]
      refine pk_eq (e % 2) 0 (fun hp => ?_) (fun hp => ⟨by decide, fun r2 er => ?_⟩)
      · rw [if_pos hp] at h
        exact n29 r hr h
      · rw [if_neg hp] at h
        rw [lN_mul, xi_rem hrb] at er
        subst er
        exact n29 _ (Nat.mod_lt _ (by decide)) h
theorem zrt_lt (k : Nat) : zrt k < 786433 := Nat.mod_lt _ (by decide)
theorem zrt_s (k : Nat) : zrt (k + 1) = zrt k * 570203 % 786433 := by
  unfold zrt
  rw [Nat.pow_succ, Nat.mul_mod, Nat.mod_mul_mod]
section
variable {f_p f_mode f_flags f_below f_sticky : Int32} {a_kinds a_minus a_exponents a_limb a_row a_one a_two a_roots a_high a_part a_quotient a_square a_guess : Nat → Int32}
theorem xi_148 {post : SX → Prop} (h : ∀ r, zRT r → post (f_p, f_mode, f_flags, f_below, f_sticky, a_kinds, a_minus, a_exponents, a_limb, a_row, a_one, a_two, r, a_high, a_part, a_quotient, a_square, a_guess)) : ∀ n k r, k ≤ 16 → 16 - k < n → (∀ j, j < k → r j = nI (zrt j)) → wX_init_148 post (lN 570203) f_p f_mode f_flags f_below f_sticky n (lN (zrt k)) (nI k) a_kinds a_minus a_exponents a_limb a_row a_one a_two r a_high a_part a_quotient a_square a_guess := by
  intro n
  induction n with
  | zero => intro k r _ h1; omega
  | succ n ih =>
    intro k r hk hn hr
    have hz := zrt_lt k
    have hm := xi_mul hz (show 570203 < 786433 by decide)
    refine pk_le 16 k (fun hk2 => h r (fun j hj => hr j (by omega))) (fun hk2 => ⟨vp_in_nI hk2 (by decide), fun r1 er => ⟨by decide, fun w2 ew y ey => ?_⟩⟩)
    rw [nI_clamp (by omega), lN_i] at er
    rw [lN_mul, xi_rem hm, ← zrt_s] at ew
    subst er ew ey
    rw [nI_1]
    refine ih (k + 1) _ (by omega) (by omega) (fun j hj => ?_)
    by_cases e : j = k
    · subst e; rw [pk_us]
    · rw [pk_un e]; exact hr j (by omega)
end
theorem xi_zero (p : Nat) : zXS p (fun _ => (0, false, 0, 0)) (fun _ => 0) (fun _ => 0) (fun _ => 0) (fun _ => 0) := fun _ _ => ⟨rfl, Or.inl ⟨rfl, rfl, ⟨0, by decide, by decide, rfl⟩, fun k _ => by rw [zlm_0]; rfl⟩⟩
theorem yi_zero : zYS (fun _ => (0, false, 0, 0)) (fun _ => 0) (fun _ => 0) (fun _ => 0) (fun _ => 0) := fun _ _ => ⟨rfl, rfl, fun z => absurd z (by show ¬ (0 : Nat) = 2; omega)⟩
theorem xi_130 {post : SX → Prop} {p : Nat} (h : ∀ u, zXR p 0 0 (fun _ => (0, false, 0, 0)) u → post u) : wX_init_130 post (nI p) 0 0 0 0 0 (fun _ => 0) (fun _ => 0) (fun _ => 0) (fun _ => 0) (fun _ => 0) (fun _ => 0) (fun _ => 0) (fun _ => 0) (fun _ => 0) (fun _ => 0) (fun _ => 0) (fun _ => 0) (fun _ => 0) := by
  refine ⟨17, xi_pow 16 1 10 49152 (by decide) (by decide) (by decide) (by decide) ?_⟩
  have e : zpwf 16 1 10 49152 = 570203 := by decide +kernel
  rw [e]
  exact ⟨17, xi_148 (fun r hr => h _ ⟨rfl, rfl, rfl, xi_zero p, hr⟩) 17 0 (fun _ => 0) (by omega) (by omega) (fun j hj => absurd hj (by omega))⟩
theorem i_vc0 (k0 : Int32) : wpX_init (fun u => wpY_init (fun v => i_Rel 1 u v) k0) k0 := by
  have fin : ∀ p u, 2 ≤ p → p ≤ 64 → zXR p 0 0 (fun _ => (0, false, 0, 0)) u → i_Rel 1 u (nI p, 0, 0, 0, 720, 0, (fun _ => 0), (fun _ => 0), (fun _ => 0), (fun _ => 0), (fun _ => 0)) := fun p u h2 h6 hu => ⟨p, 0, 0, _, ⟨h2, h6, by omega, fun i _ => zOK_0 p false⟩, hu, ⟨rfl, rfl, rfl, rfl, yi_zero⟩⟩
  by_cases c1 : 2 ≤ k0
  · by_cases c2 : k0 ≤ 64
    · obtain ⟨p, hp, rfl⟩ := nI_of2 (x := k0) (M := 64) (n := 64) (by decide) (by
        rw [Int32.le_iff_toInt_le] at c1
        rw [Int32.lt_iff_toInt_lt]
        have a : (2 : Int32).toInt = 2 := by decide
        have b : (0 : Int32).toInt = 0 := by decide
        omega) c2
      have h2 : 2 ≤ p := (nI_leI (a := 2) (by decide) (by omega)).mp c1
      exact br_t c1 (br_t c2 (xi_130 (fun u hu => br_t c1 (br_t c2 (fin p u h2 hp hu)))))
    · exact br_t c1 (br_f c2 (xi_130 (p := 64) (fun u hu => br_t c1 (br_f c2 (fin 64 u (by decide) (by decide) hu)))))
  · exact br_f c1 (xi_130 (p := 2) (fun u hu => br_f c1 (fin 2 u (by decide) (by decide) hu)))
end
section
/-! compare -/
def zsn (v : ZV) : Int := if v.1 = 0 then 0 else if v.2.1 then -1 else 1
def zcn (A B : Nat) : Int := if A = B then 0 else if A < B then -1 else 1
def zcm (p : Nat) (a b : ZV) : Int := if zsn a = zsn b then (if a.1 = 3 ∨ b.1 = 3 then (if a.1 = b.1 then 0 else if a.1 = 3 then zsn a else -zsn a) else zsn a * zcn (zrow p a) (zrow p b)) else (if zsn a < zsn b then -1 else 1)
theorem zcn_r (A B : Nat) : -1 ≤ zcn A B ∧ zcn A B ≤ 1 := by
  unfold zcn
  split
  · omega
  · split <;> omega
theorem zsn_r (v : ZV) : -1 ≤ zsn v ∧ zsn v ≤ 1 := by
  unfold zsn
  split
  · omega
  · split <;> omega
theorem zcmp_I (A B : Nat) : zcmp A B = zI (zcn A B) := by
  unfold zcmp zcn
  split
  · decide
  · split <;> decide
theorem z_e1 : (1 : Int32) = zI 1 := by decide
theorem z_e0 : (0 : Int32) = zI 0 := by decide
theorem z_em1 : (-1 : Int32) = zI (-1) := by decide
theorem zcn_mul {A B t : Nat} : zcn (A * 2 ^ t) (B * 2 ^ t) = zcn A B := by
  have h0 := Nat.two_pow_pos t
  unfold zcn
  have e1 : A * 2 ^ t = B * 2 ^ t ↔ A = B := Nat.mul_right_cancel_iff h0
  have e2 : A * 2 ^ t < B * 2 ^ t ↔ A < B := Nat.mul_lt_mul_right h0
  simp only [e1, e2]
/-- rows of finite numbers compare by exponent, then by mantissa -/
theorem zcn_row {p : Nat} {a b : ZV} (hp2 : 2 ≤ p) (hp : p ≤ 64) (ha : zOK p a) (hb : zOK p b) (h2a : a.1 = 2) (h2b : b.1 = 2) : zcn (zrow p a) (zrow p b) = if a.2.2.1 = b.2.2.1 then zcn a.2.2.2 b.2.2.2 else if a.2.2.1 < b.2.2.1 then -1 else 1 := by
  have lt : ∀ c d : ZV, zOK p c → zOK p d → c.1 = 2 → d.1 = 2 → c.2.2.1 < d.2.2.1 → zrow p c < zrow p d := by
    intro c d hc hd hc2 hd2 he
    obtain ⟨g1, g2, g3, g4, g5⟩ := hc.2.1 hc2
    obtain ⟨k1, k2, k3, k4, k5⟩ := hd.2.1 hd2
    have kn : 2 ^ (p - 1) ≤ d.2.2.2 := by
      rcases k5 with k | k
      · exact k
      · omega
    unfold zrow
    rw [if_pos hc2, if_pos hd2]
    have a1 : c.2.2.2 * 2 ^ (340 + c.2.2.1 - p + 1).toNat < 2 ^ p * 2 ^ (340 + c.2.2.1 - p + 1).toNat := Nat.mul_lt_mul_of_pos_right g2 (Nat.two_pow_pos _)
    have a2 : 2 ^ (p - 1) * 2 ^ (340 + d.2.2.1 - p + 1).toNat ≤ d.2.2.2 * 2 ^ (340 + d.2.2.1 - p + 1).toNat := Nat.mul_le_mul_right _ kn
    rw [← zNp] at a1 a2
    exact Nat.lt_of_lt_of_le a1 (Nat.le_trans (zpl_le (by omega)) a2)
  by_cases he : a.2.2.1 = b.2.2.1
  · rw [if_pos he]
    unfold zrow
    rw [if_pos h2a, if_pos h2b, he, zcn_mul]
  · rw [if_neg he]
    by_cases hl : a.2.2.1 < b.2.2.1
    · have := lt a b ha hb h2a h2b hl
      rw [if_pos hl]
      unfold zcn
      rw [if_neg (by omega), if_pos this]
    · have := lt b a hb ha h2b h2a (by omega)
      rw [if_neg hl]
      unfold zcn
      rw [if_neg (by omega), if_neg (by omega)]
section
variable {f_p f_mode f_flags f_below f_sticky : Int32} {a_kinds a_minus a_exponents a_limb a_row a_one a_two a_roots a_high a_part a_quotient a_square a_guess : Nat → Int32}
theorem xc_282 {post : Int32 → Prop} {a c : Int} (ha : -1 ≤ a ∧ a ≤ 1) (ha0 : a ≠ 0) (h : post (zI (a * c))) : wX_compare_282 post (zI a) (zI c) f_p f_mode f_flags f_below f_sticky a_kinds a_minus a_exponents a_limb a_row a_one a_two a_roots a_high a_part a_quotient a_square a_guess := by
  refine zk_le 0 a (fun h0 => ?_) (fun h0 => ?_)
  · have : a = 1 := by omega
    rw [this, Int.one_mul] at h; exact h
  · have : a = -1 := by omega
    rw [this, Int.neg_mul, Int.one_mul] at h
    rw [zI_neg]; exact h
theorem xc_213 {post : Int32 → Prop} {x y A B : Nat} {a : Int} (ha : -1 ≤ a ∧ a ≤ 1) (ha0 : a ≠ 0) (hx : x < 8) (hy : y < 8) (hA : A < 2 ^ 64) (hB : B < 2 ^ 64) (hlx : zLB 4 (A : Int) (fun k => a_limb (4 * x + k))) (hly : zLB 4 (B : Int) (fun k => a_limb (4 * y + k))) (h : post (zI (a * zcn A B))) : ∀ n k, k ≤ 4 → 4 - k < n → wX_compare_213 post (nI x) (nI y) (zI a) f_p f_mode f_flags f_below f_sticky a_kinds a_minus a_exponents a_limb a_row a_one a_two a_roots a_high a_part a_quotient a_square a_guess n (zI (zcn (A % 2 ^ (16 * k)) (B % 2 ^ (16 * k)))) (nI k) := by
  intro n
  induction n with
  | zero => intro k _ h1; omega
  | succ n ih =>
    intro k hk hn
    have vx : k < 4 → vp_in ((4 : Int32) * nI x + nI k) 32 := fun h4 => by rw [zx_ix]; exact vp_in_nI (by omega) (by decide)
    have vy : k < 4 → vp_in ((4 : Int32) * nI y + nI k) 32 := fun h4 => by rw [zx_ix]; exact vp_in_nI (by omega) (by decide)
    refine pk_le 4 k (fun hc => ?_) (fun hc => ⟨vx hc, vy hc, ?_⟩)
    · have e : k = 4 := by omega
      subst e
      rw [Nat.mod_eq_of_lt hA, Nat.mod_eq_of_lt hB]
      exact xc_282 ha ha0 h
    · have e1 : a_limb (4 * x + k) = nI (zlm (A : Int) k) := hlx k hc
      have e2 : a_limb (4 * y + k) = nI (zlm (B : Int) k) := hly k hc
      rw [zx_ix, zx_ix, nI_clamp (by omega), nI_clamp (by omega), e1, e2]
      have l1 := zlm_lt (A : Int) k
      have l2 := zlm_lt (B : Int) k
      have s : ∀ C : Nat, C % 2 ^ (16 * (k + 1)) = C % 2 ^ (16 * k) + 2 ^ (16 * k) * zlm (C : Int) k := by
        intro C
        rw [show 16 * (k + 1) = 16 * k + 16 from by omega, zNp, Nat.mod_mul, zlm_n]
      have m1 := Nat.mod_lt A (Nat.two_pow_pos (16 * k))
      have m2 := Nat.mod_lt B (Nat.two_pow_pos (16 * k))
      have mono : ∀ C D u v : Nat, u < 2 ^ (16 * k) → C < D → u + 2 ^ (16 * k) * C < v + 2 ^ (16 * k) * D := by
        intro C D u v hu hCD
        have : 2 ^ (16 * k) * (C + 1) ≤ 2 ^ (16 * k) * D := Nat.mul_le_mul_left _ hCD
        rw [Nat.mul_add, Nat.mul_one] at this
        omega
      refine pk_eq (zlm (A : Int) k) (zlm (B : Int) k) (fun he q eq => ?_) (fun he => ⟨?_, ?_, ?_⟩)
      · subst eq
        rw [nI_1]
        have e3 : zcn (A % 2 ^ (16 * k)) (B % 2 ^ (16 * k)) = zcn (A % 2 ^ (16 * (k + 1))) (B % 2 ^ (16 * (k + 1))) := by
          rw [s A, s B, he]
          unfold zcn
          have i1 : A % 2 ^ (16 * k) + 2 ^ (16 * k) * zlm (B : Int) k = B % 2 ^ (16 * k) + 2 ^ (16 * k) * zlm (B : Int) k ↔ A % 2 ^ (16 * k) = B % 2 ^ (16 * k) := by omega
          have i2 : A % 2 ^ (16 * k) + 2 ^ (16 * k) * zlm (B : Int) k < B % 2 ^ (16 * k) + 2 ^ (16 * k) * zlm (B : Int) k ↔ A % 2 ^ (16 * k) < B % 2 ^ (16 * k) := by omega
          simp only [i1, i2]
        rw [e3]
        exact ih (k + 1) (by omega) (by omega)
      · exact vp_in_nI (by omega) (by decide)
      · exact vp_in_nI (by omega) (by decide)
      · refine pk_le (zlm (B : Int) k) (zlm (A : Int) k) (fun hl q eq => ?_) (fun hl q eq => ?_)
        · subst eq
          rw [nI_1, z_e1]
          have e3 : zcn (A % 2 ^ (16 * (k + 1))) (B % 2 ^ (16 * (k + 1))) = 1 := by
            have := mono (zlm (B : Int) k) (zlm (A : Int) k) (B % 2 ^ (16 * k)) (A % 2 ^ (16 * k)) m2 (by omega)
            rw [s A, s B]
            unfold zcn
            rw [if_neg (by omega), if_neg (by omega)]
          rw [← e3]
          exact ih (k + 1) (by omega) (by omega)
        · subst eq
          rw [nI_1, z_em1]
          have e3 : zcn (A % 2 ^ (16 * (k + 1))) (B % 2 ^ (16 * (k + 1))) = -1 := by
            have := mono (zlm (A : Int) k) (zlm (B : Int) k) (A % 2 ^ (16 * k)) (B % 2 ^ (16 * k)) m1 (by omega)
            rw [s A, s B]
            unfold zcn
            rw [if_neg (by omega), if_pos (by omega)]
          rw [← e3]
          exact ih (k + 1) (by omega) (by omega)
theorem xc_135 {post : Int32 → Prop} {p md x y : Nat} {w : Nat → ZV} (hc : zC p md w) (hs : zXS p w a_kinds a_minus a_exponents a_limb) (hx : x < 8) (hy : y < 8) (ha0 : zsn (w x) ≠ 0) (hi : (w x).1 = 3 ∨ (w y).1 = 3) (h : post (zI (if (w x).1 = (w y).1 then 0 else if (w x).1 = 3 then zsn (w x) else -zsn (w x)))) : wX_compare_135 post (nI x) (nI y) (zI (zsn (w x))) f_p f_mode f_flags f_below f_sticky a_kinds a_minus a_exponents a_limb a_row a_one a_two a_roots a_high a_part a_quotient a_square a_guess := by
  have ox := hc.2.2.2 x hx
  have oy := hc.2.2.2 y hy
  have hr := zsn_r (w x)
  unfold wX_compare_135
  refine xs_isInf hs ox hx (xs_isInf hs oy hy ?_)
  by_cases e1 : (w x).1 = 3
  · by_cases e2 : (w y).1 = 3
    · rw [decide_eq_true e1, decide_eq_true e2]
      rw [if_pos (e1.trans e2.symm)] at h
      refine br_t rfl ?_
      rw [show wX_compare_165 post (zI (zsn (w x))) 0 f_p f_mode f_flags f_below f_sticky a_kinds a_minus a_exponents a_limb a_row a_one a_two a_roots a_high a_part a_quotient a_square a_guess = wX_compare_282 post (zI (zsn (w x))) (zI 0) f_p f_mode f_flags f_below f_sticky a_kinds a_minus a_exponents a_limb a_row a_one a_two a_roots a_high a_part a_quotient a_square a_guess from rfl]
      exact xc_282 hr ha0 (by rw [Int.mul_zero]; exact h)
    · rw [decide_eq_true e1, decide_eq_false e2]
      rw [if_neg (fun z => e2 (z.symm.trans e1)), if_pos e1] at h
      refine br_f (by decide) (xs_isInf hs ox hx ?_)
      rw [decide_eq_true e1]
      refine br_f (by decide) ?_
      exact xc_282 (c := 1) hr ha0 (by rw [Int.mul_one]; exact h)
  · have e2 : (w y).1 = 3 := by
      rcases hi with z | z
      · exact absurd z e1
      · exact z
    rw [decide_eq_false e1, decide_eq_true e2]
    rw [if_neg (fun z => e1 (z.trans e2)), if_neg e1] at h
    refine br_f (by decide) (xs_isInf hs ox hx ?_)
    rw [decide_eq_false e1]
    refine br_t rfl ?_
    unfold wX_compare_165
    rw [z_em1]
    exact xc_282 (c := -1) hr ha0 (by rw [show zsn (w x) * -1 = -zsn (w x) from by omega]; exact h)
theorem xc_90 {post : Int32 → Prop} {p md x y : Nat} {w : Nat → ZV} (hc : zC p md w) (hs : zXS p w a_kinds a_minus a_exponents a_limb) (hx : x < 8) (hy : y < 8) (hnx : (w x).1 ≠ 4) (hny : (w y).1 ≠ 4) (h : post (zI (zcm p (w x) (w y)))) : wX_compare_90 post (nI x) (nI y) (zI (zsn (w x))) (zI (zsn (w y))) f_p f_mode f_flags f_below f_sticky a_kinds a_minus a_exponents a_limb a_row a_one a_two a_roots a_high a_part a_quotient a_square a_guess := by
  have ox := hc.2.2.2 x hx
  have oy := hc.2.2.2 y hy
  have hr := zsn_r (w x)
  have hr2 := zsn_r (w y)
  unfold zcm at h
  refine zk_eq (zsn (w x)) (zsn (w y)) (fun he => ?_) (fun he => ?_)
  · rw [if_pos he] at h
    refine zk_eq (zsn (w x)) 0 (fun h0 => ?_) (fun h0 => ?_)
    · have z1 : (w x).1 = 0 := by
        unfold zsn at h0
        by_cases c : (w x).1 = 0
        · exact c
        · rw [if_neg c] at h0; split at h0 <;> omega
      have z2 : (w y).1 = 0 := by
        rw [h0] at he
        unfold zsn at he
        by_cases c : (w y).1 = 0
        · exact c
        · rw [if_neg c] at he; split at he <;> omega
      rw [if_neg (by omega), h0, Int.zero_mul] at h
      exact h
    · have n1 : (w x).1 ≠ 0 := fun z => h0 (by unfold zsn; rw [if_pos z])
      have n2 : (w y).1 ≠ 0 := fun z => h0 (by rw [he]; unfold zsn; rw [if_pos z])
      refine xs_isInf hs ox hx (zk_b (fun e1 => ?_) (fun e1 => ?_))
      · have e1 := of_decide_eq_false e1
        refine xs_isInf hs oy hy (zk_b (fun e2 => ?_) (fun e2 => ?_))
        · have e2 := of_decide_eq_false e2
          have k1 : (w x).1 = 2 := by have := ox.1; omega
          have k2 : (w y).1 = 2 := by have := oy.1; omega
          have vx := vp_in_nI hx (show 8 < 2 ^ 31 by decide)
          have vy := vp_in_nI hy (show 8 < 2 ^ 31 by decide)
          obtain ⟨f1, f2, f3⟩ := xs_fin hs hx k1
          obtain ⟨q1, q2, q3⟩ := xs_fin hs hy k2
          obtain ⟨g1, g2, g3, g4, g5⟩ := ox.2.1 k1
          obtain ⟨j1, j2, j3, j4, j5⟩ := oy.2.1 k2
          rw [if_neg (by omega), zcn_row hc.1 hc.2.1 ox oy k1 k2] at h
          rw [nI_clamp (by omega), nI_clamp (by omega), f1, q1]
          refine ⟨vx, vy, zk_eq (w x).2.2.1 (w y).2.2.1 (fun ee => ?_) (fun ee => ⟨vx, vy, zk_le (w y).2.2.1 (w x).2.2.1 (fun el => ?_) (fun el => ?_)⟩)⟩
          · rw [if_pos ee] at h
            have g := xc_213 (post := post) (f_p := f_p) (f_mode := f_mode) (f_flags := f_flags) (f_below := f_below) (f_sticky := f_sticky) (a_kinds := a_kinds) (a_minus := a_minus) (a_exponents := a_exponents) (a_row := a_row) (a_one := a_one) (a_two := a_two) (a_roots := a_roots) (a_high := a_high) (a_part := a_part) (a_quotient := a_quotient) (a_square := a_square) (a_guess := a_guess) hr h0 hx hy (zOK_64 ox hc.2.1 k1) (zOK_64 oy hc.2.1 k2) f2 q2 h 5 0 (by omega) (by omega)
            rw [Nat.mul_zero, Nat.pow_zero, Nat.mod_one, Nat.mod_one, show zcn 0 0 = 0 from rfl] at g
            exact ⟨5, g⟩
          · rw [if_neg ee, if_neg (by omega)] at h
            exact xc_282 (c := 1) hr h0 h
          · rw [if_neg ee, if_pos el] at h
            unfold wX_compare_205
            rw [z_em1]
            exact xc_282 (c := -1) hr h0 h
        · have e2 := of_decide_eq_true e2
          rw [if_pos (Or.inr e2)] at h
          exact xc_135 hc hs hx hy h0 (Or.inr e2) h
      · have e1 := of_decide_eq_true e1
        rw [if_pos (Or.inl e1)] at h
        exact xc_135 hc hs hx hy h0 (Or.inl e1) h
  · rw [if_neg he] at h
    refine zk_le (zsn (w y)) (zsn (w x)) (fun hl => ?_) (fun hl => ?_)
    · rw [if_neg (by omega)] at h; exact h
    · rw [if_pos hl] at h; rw [z_em1]; exact h
theorem xc_62 {post : Int32 → Prop} {p md x y : Nat} {w : Nat → ZV} (hc : zC p md w) (hs : zXS p w a_kinds a_minus a_exponents a_limb) (hx : x < 8) (hy : y < 8) (hnx : (w x).1 ≠ 4) (hny : (w y).1 ≠ 4) (h : post (zI (zcm p (w x) (w y)))) : wX_compare_62 post (nI x) (nI y) (zI (zsn (w x))) f_p f_mode f_flags f_below f_sticky a_kinds a_minus a_exponents a_limb a_row a_one a_two a_roots a_high a_part a_quotient a_square a_guess := by
  have oy := hc.2.2.2 y hy
  have vy := vp_in_nI hy (show 8 < 2 ^ 31 by decide)
  have g := xc_90 (f_p := f_p) (f_mode := f_mode) (f_flags := f_flags) (f_below := f_below) (f_sticky := f_sticky) (a_row := a_row) (a_one := a_one) (a_two := a_two) (a_roots := a_roots) (a_high := a_high) (a_part := a_part) (a_quotient := a_quotient) (a_square := a_square) (a_guess := a_guess) hc hs hx hy hnx hny h
  refine ⟨vy, ?_⟩
  rw [nI_clamp (by omega), (hs y hy).1]
  refine zk_i (xs_kz hs oy hy).1 (fun d => ?_) (fun d => ⟨vy, zk_b (fun e => ?_) (fun e => ?_)⟩)
  · rw [show zsn (w y) = 0 from if_pos d] at g; exact g
  · rw [show zsn (w y) = 1 from by unfold zsn; rw [if_neg d, e]; rfl] at g; exact g
  · rw [show zsn (w y) = -1 from by unfold zsn; rw [if_neg d, e]; rfl, ← z_em1] at g; exact g
theorem xc_compare {post : Int32 → Prop} {p md x y : Nat} {w : Nat → ZV} (hc : zC p md w) (hs : zXS p w a_kinds a_minus a_exponents a_limb) (hx : x < 8) (hy : y < 8) (h : post (if (w x).1 = 4 ∨ (w y).1 = 4 then 2 else zI (zcm p (w x) (w y)))) : wpX_compare post (f_p, f_mode, f_flags, f_below, f_sticky, a_kinds, a_minus, a_exponents, a_limb, a_row, a_one, a_two, a_roots, a_high, a_part, a_quotient, a_square, a_guess) (nI x) (nI y) := by
  have ox := hc.2.2.2 x hx
  have oy := hc.2.2.2 y hy
  have vx := vp_in_nI hx (show 8 < 2 ^ 31 by decide)
  unfold wpX_compare
  dsimp only
  refine zs_X hx (br_f (by decide) (zs_X hy (br_f (by decide) ?_)))
  refine xs_isNot hs ox hx (zk_b (fun e1 => ?_) (fun e1 => ?_))
  · have e1 := of_decide_eq_false e1
    refine xs_isNot hs oy hy (zk_b (fun e2 => ⟨vx, ?_⟩) (fun e2 => ?_))
    · have e2 := of_decide_eq_false e2
      rw [if_neg (by omega)] at h
      have g := xc_62 (f_p := f_p) (f_mode := f_mode) (f_flags := f_flags) (f_below := f_below) (f_sticky := f_sticky) (a_row := a_row) (a_one := a_one) (a_two := a_two) (a_roots := a_roots) (a_high := a_high) (a_part := a_part) (a_quotient := a_quotient) (a_square := a_square) (a_guess := a_guess) hc hs hx hy e1 e2 h
      rw [nI_clamp (by omega), (hs x hx).1]
      refine zk_i (xs_kz hs ox hx).1 (fun d => ?_) (fun d => ⟨vx, zk_b (fun e => ?_) (fun e => ?_)⟩)
      · rw [show zsn (w x) = 0 from if_pos d] at g; exact g
      · rw [show zsn (w x) = 1 from by unfold zsn; rw [if_neg d, e]; rfl] at g; exact g
      · rw [show zsn (w x) = -1 from by unfold zsn; rw [if_neg d, e]; rfl, ← z_em1] at g; exact g
    · have e2 := of_decide_eq_true e2
      rw [if_pos (Or.inr e2)] at h; exact h
  · have e1 := of_decide_eq_true e1
    rw [if_pos (Or.inl e1)] at h; exact h
end
end
section
/-! compare of the reference -/
theorem zrow_lt {p : Nat} {w : ZV} (hp2 : 2 ≤ p) (hp : p ≤ 64) (h : zOK p w) : zrow p w < 2 ^ 441 := by
  unfold zrow
  by_cases c : w.1 = 2
  · obtain ⟨g1, g2, g3, g4, g5⟩ := h.2.1 c
    rw [if_pos c]
    have a1 : w.2.2.2 * 2 ^ (340 + w.2.2.1 - p + 1).toNat < 2 ^ p * 2 ^ (340 + w.2.2.1 - p + 1).toNat := Nat.mul_lt_mul_of_pos_right g2 (Nat.two_pow_pos _)
    rw [← zNp] at a1
    exact Nat.lt_of_lt_of_le a1 (zpl_le (by omega))
  · rw [if_neg c]; exact Nat.two_pow_pos _
section
variable {f_precision f_mode f_flags f_sticky f_wide : Int32} {f_rest : Int64} {a_sort a_exponent a_minus a_row : Nat → Int32} {a_mantissa : Nat → Int64}
theorem yc_95 {post : Int32 → SY → Prop} {p md x y : Nat} {w : Nat → ZV} (hc : zC p md w) (hs : zYS w a_sort a_minus a_exponent a_mantissa) (hx : x < 8) (hy : y < 8) (h : ∀ v, zYR p md f_flags w v → post (zI (if (w x).1 = (w y).1 then 0 else if (w x).1 = 3 then zsn (w x) else -zsn (w x))) v) : wY_ordered_95 post (nI x) (nI y) (zI (zsn (w x))) (nI p) (nI md) f_flags f_sticky 720 f_rest a_sort a_exponent a_minus a_mantissa a_row := by
  have k1 := zOK_le (hc.2.2.2 x hx)
  have k2 := zOK_le (hc.2.2.2 y hy)
  have vx := vp_in_nI hx (show 8 < 2 ^ 31 by decide)
  have vy := vp_in_nI hy (show 8 < 2 ^ 31 by decide)
  have h' := h (nI p, nI md, f_flags, f_sticky, 720, f_rest, a_sort, a_exponent, a_minus, a_mantissa, a_row) ⟨rfl, rfl, rfl, rfl, hs⟩
  refine ⟨vx, vy, ?_⟩
  rw [nI_clamp (by omega), nI_clamp (by omega), (hs x hx).2.1, (hs y hy).2.1]
  refine pk_eq (w x).1 (w y).1 (fun e => ?_) (fun e => ⟨vx, pk_eq (w x).1 3 (fun e3 => ?_) (fun e3 => ?_)⟩)
  · rw [if_pos e] at h'; exact h'
  · rw [if_neg e, if_pos e3] at h'; exact h'
  · rw [if_neg e, if_neg e3, ← zI_neg] at h'; exact h'
theorem yc_55 {post : Int32 → SY → Prop} {p md x y : Nat} {w : Nat → ZV} (hc : zC p md w) (hs : zYS w a_sort a_minus a_exponent a_mantissa) (hx : x < 8) (hy : y < 8) (h : ∀ v, zYR p md f_flags w v → post (zI (zcm p (w x) (w y))) v) : wY_ordered_55 post (nI x) (nI y) (zI (zsn (w x))) (zI (zsn (w y))) (nI p) (nI md) f_flags f_sticky 720 f_rest a_sort a_exponent a_minus a_mantissa a_row := by
  have ox := hc.2.2.2 x hx
  have oy := hc.2.2.2 y hy
  have k1 := zOK_le ox
  have k2 := zOK_le oy
  have vx := vp_in_nI hx (show 8 < 2 ^ 31 by decide)
  have vy := vp_in_nI hy (show 8 < 2 ^ 31 by decide)
  have r1 := zsn_r (w x)
  have r2 := zsn_r (w y)
  unfold zcm at h
  refine zk_eq (zsn (w x)) (zsn (w y)) (fun he => ⟨vx, ?_⟩) (fun he => ?_)
  · rw [if_pos he] at h
    rw [nI_clamp (by omega), nI_clamp (by omega), (hs x hx).2.1, (hs y hy).2.1]
    refine pk_eq (w x).1 3 (fun e3 => ?_) (fun e3 => ⟨vy, pk_eq (w y).1 3 (fun e4 => ?_) (fun e4 => ?_)⟩)
    · rw [if_pos (Or.inl e3)] at h
      exact yc_95 hc hs hx hy h
    · rw [if_pos (Or.inr e4)] at h
      exact yc_95 hc hs hx hy h
    · rw [if_neg (by omega)] at h
      refine yo_put (r := 0) hs ox hc.1 hc.2.1 hx (by omega) (fun l hl hf => ?_)
      refine yo_put (r := 1) hs oy hc.1 hc.2.1 hy (by omega) (fun l2 hl2 hf2 => ?_)
      have b1 := Nat.lt_trans (zrow_lt hc.1 hc.2.1 ox) (zpl_lt (show 441 < 720 by decide))
      have b2 := Nat.lt_trans (zrow_lt hc.1 hc.2.1 oy) (zpl_lt (show 441 < 720 by decide))
      refine yr_cmp (a := 0) (b := 1) (W := 720) (by omega) (by omega) (by omega) (zBB_f hl hf2 (by omega)) hl2 b1 b2 ?_
      rw [zcmp_I, zI_mul]
      exact h _ ⟨rfl, rfl, rfl, rfl, hs⟩
  · rw [if_neg he] at h
    refine zk_le (zsn (w y)) (zsn (w x)) (fun hl => ?_) (fun hl => ?_)
    · rw [if_neg (by omega)] at h; exact h _ ⟨rfl, rfl, rfl, rfl, hs⟩
    · rw [if_pos hl] at h; rw [z_em1]; exact h _ ⟨rfl, rfl, rfl, rfl, hs⟩
theorem yc_ordered {post : Int32 → SY → Prop} {p md x y : Nat} {w : Nat → ZV} (hc : zC p md w) (hs : zYS w a_sort a_minus a_exponent a_mantissa) (hx : x < 8) (hy : y < 8) (h : ∀ v, zYR p md f_flags w v → post (zI (zcm p (w x) (w y))) v) : wpY_ordered post (nI p, nI md, f_flags, f_sticky, 720, f_rest, a_sort, a_exponent, a_minus, a_mantissa, a_row) (nI x) (nI y) := by
  have k1 := zOK_le (hc.2.2.2 x hx)
  have k2 := zOK_le (hc.2.2.2 y hy)
  have vx := vp_in_nI hx (show 8 < 2 ^ 31 by decide)
  have vy := vp_in_nI hy (show 8 < 2 ^ 31 by decide)
  have g := yc_55 (f_sticky := f_sticky) (f_rest := f_rest) (a_row := a_row) hc hs hx hy h
  have g27 : wY_ordered_27 post (nI x) (nI y) (zI (zsn (w x))) (nI p) (nI md) f_flags f_sticky 720 f_rest a_sort a_exponent a_minus a_mantissa a_row := by
    refine ⟨vy, ?_⟩
    rw [nI_clamp (by omega), (hs y hy).1, (hs y hy).2.1]
    refine pk_eq (w y).1 0 (fun d => ?_) (fun d => ⟨vy, zk_b (fun e => ?_) (fun e => ?_)⟩)
    · rw [show zsn (w y) = 0 from if_pos d] at g; exact g
    · rw [show zsn (w y) = 1 from by unfold zsn; rw [if_neg d, e]; rfl] at g; exact g
    · rw [show zsn (w y) = -1 from by unfold zsn; rw [if_neg d, e]; rfl, ← z_em1] at g; exact g
  refine ⟨vx, ?_⟩
  rw [nI_clamp (by omega), (hs x hx).1, (hs x hx).2.1]
  refine pk_eq (w x).1 0 (fun d => ?_) (fun d => ⟨vx, zk_b (fun e => ?_) (fun e => ?_)⟩)
  · rw [show zsn (w x) = 0 from if_pos d] at g27; exact g27
  · rw [show zsn (w x) = 1 from by unfold zsn; rw [if_neg d, e]; rfl] at g27; exact g27
  · rw [show zsn (w x) = -1 from by unfold zsn; rw [if_neg d, e]; rfl, ← z_em1] at g27; exact g27
theorem yc_hasNot {post : Int32 → Prop} {p md x y : Nat} {w : Nat → ZV} (hc : zC p md w) (hs : zYS w a_sort a_minus a_exponent a_mantissa) (hx : x < 8) (hy : y < 8) (h : post (zb1 (decide ((w x).1 = 4 ∨ (w y).1 = 4)))) : wpY_hasNot post (f_precision, f_mode, f_flags, f_sticky, f_wide, f_rest, a_sort, a_exponent, a_minus, a_mantissa, a_row) (nI x) (nI y) := by
  have k1 := zOK_le (hc.2.2.2 x hx)
  have k2 := zOK_le (hc.2.2.2 y hy)
  have vx := vp_in_nI hx (show 8 < 2 ^ 31 by decide)
  have vy := vp_in_nI hy (show 8 < 2 ^ 31 by decide)
  refine ⟨vx, ?_⟩
  rw [nI_clamp (by omega), nI_clamp (by omega), (hs x hx).2.1, (hs y hy).2.1]
  refine pk_eq (w x).1 4 (fun e => ?_) (fun e => ⟨vy, pk_eq (w y).1 4 (fun e2 => ?_) (fun e2 => ?_)⟩)
  · rw [decide_eq_true (Or.inl e)] at h; exact h
  · rw [decide_eq_true (Or.inr e2)] at h; exact h
  · rw [decide_eq_false (by omega)] at h; exact h
theorem yc_compare {post : Int32 → SY → Prop} {p md x y : Nat} {w : Nat → ZV} (hc : zC p md w) (hs : zYS w a_sort a_minus a_exponent a_mantissa) (hx : x < 8) (hy : y < 8) (h : ∀ v, zYR p md f_flags w v → post (if (w x).1 = 4 ∨ (w y).1 = 4 then 2 else zI (zcm p (w x) (w y))) v) : wpY_compare post (nI p, nI md, f_flags, f_sticky, 720, f_rest, a_sort, a_exponent, a_minus, a_mantissa, a_row) (nI x) (nI y) := by
  unfold wpY_compare
  dsimp only
  refine zs_Y hx (br_f (by decide) (zs_Y hy (br_f (by decide) ?_)))
  refine yc_hasNot hc hs hx hy (zk_b (fun e => ?_) (fun e => ?_))
  · have e := of_decide_eq_false e
    rw [if_neg e] at h
    exact yc_ordered hc hs hx hy h
  · have e := of_decide_eq_true e
    rw [if_pos e] at h
    exact h _ ⟨rfl, rfl, rfl, rfl, hs⟩
end
theorem i_vc_compare {k : Nat} {u : SX} {v : SY} (I : i_Rel k u v) (hk : k + 5 ≤ 2561) (v1 : Int32) (v2 : Int32) : wpX_compare (fun r => wpY_compare (fun r' v' => r' = r ∧ i_Rel (k + 5) u v') v v1 v2) u v1 v2 := by
  obtain ⟨p, md, f, w, hc, hX, hY⟩ := I
  have hX' := hX
  revert hX'
  obtain ⟨f_p, f_mode, f_flags, f_below, f_sticky, a_kinds, a_minus, a_exponents, a_limb, a_row, a_one, a_two, a_roots, a_high, a_part, a_quotient, a_square, a_guess⟩ := u
  obtain ⟨rfl, rfl, rfl, hs, hro⟩ := hX
  obtain ⟨g_precision, g_mode, g_flags, g_sticky, g_wide, g_rest, b_sort, b_exponent, b_minus, b_mantissa, b_row⟩ := v
  obtain ⟨rfl, rfl, rfl, rfl, ht⟩ := hY
  intro hX'
  have same : i_Rel (k + 5) (nI p, nI md, g_flags, f_below, f_sticky, a_kinds, a_minus, a_exponents, a_limb, a_row, a_one, a_two, a_roots, a_high, a_part, a_quotient, a_square, a_guess) (nI p, nI md, g_flags, g_sticky, 720, g_rest, b_sort, b_exponent, b_minus, b_mantissa, b_row) := ⟨p, md, _, w, hc, hX', ⟨rfl, rfl, rfl, rfl, ht⟩⟩
  rcases zs_ix v1 with hb | ⟨x, hx, rfl⟩
  · unfold wpX_compare wpY_compare
    exact hb.1 _ (br_t rfl (hb.2 _ (br_t rfl ⟨rfl, same⟩)))
  · rcases zs_ix v2 with hb | ⟨y, hy, rfl⟩
    · unfold wpX_compare wpY_compare
      exact zs_X hx (br_f (by decide) (hb.1 _ (br_t rfl (zs_Y hx (br_f (by decide) (hb.2 _ (br_t rfl ⟨rfl, same⟩)))))))
    · exact xc_compare hc hs hx hy (yc_compare hc ht hx hy (fun v hv => ⟨rfl, p, md, _, w, hc, hX', hv⟩))
end
section
/-! lay, integer -/
section
variable {f_p f_mode f_flags f_below f_sticky : Int32} {a_kinds a_minus a_exponents a_limb a_row a_one a_two a_roots a_high a_part a_quotient a_square a_guess : Nat → Int32}
theorem xy_lay_l {post : SX → Prop} {p x M o : Nat} {e s : Int} {ng : Bool} (hx : x < 8) (he : a_exponents x = zI e) (hm : a_minus x = zb1 ng) (hl : zLB 4 (M : Int) (fun k => a_limb (4 * x + k))) (hM : M < 2 ^ 64) (ho : (o : Int) = e - p + 1 + 480 + s) (ho2 : o < 2 ^ 20) (h : ∀ r, zLB 54 ((M * 2 ^ o : Nat) : Int) r → post (nI p, f_mode, f_flags, zb1 ng, f_sticky, a_kinds, a_minus, a_exponents, a_limb, r, a_one, a_two, a_roots, a_high, a_part, a_quotient, a_square, a_guess)) : ∀ n k r, k ≤ 4 → 4 - k < n → zLB 54 ((M % 2 ^ (16 * k) * 2 ^ o : Nat) : Int) r → wX_lay_6 post (nI x) (zI s) n (nI k) (nI p) f_mode f_flags f_below f_sticky a_kinds a_minus a_exponents a_limb r a_one a_two a_roots a_high a_part a_quotient a_square a_guess := by
  intro n
  induction n with
  | zero => intro k r _ h1; omega
  | succ n ih =>
    intro k r hk hn hr
    refine pk_le 4 k (fun hc => ⟨vp_in_nI hx (by decide), fun b eb => ?_⟩) (fun hc => ⟨by rw [zx_ix]; exact vp_in_nI (by omega) (by decide), ?_⟩)
    · have e4 : k = 4 := by omega
      subst e4
      rw [nI_clamp (by omega), hm] at eb
      subst eb
      rw [Nat.mod_eq_of_lt hM] at hr
      exact ⟨zb1_n ng, zb1_f ng, h r hr⟩
    · refine xs_foot hx he ?_
      have hz := zlm_lt (M : Int) k
      have e1 : a_limb ((4 : Int32) * nI x + nI k).toNatClampNeg = nI (zlm (M : Int) k) := by rw [zx_ix, nI_clamp (by omega)]; exact hl k hc
      have e2 : zI (e - p + 1 + 480) + zI s + (16 : Int32) * nI k = nI (o + 16 * k) := by
        rw [show (16 : Int32) = nI 16 from rfl, pk_mul, ← zI_n, zI_add, zI_add, ← zI_n]
        exact congrArg zI (by omega)
      rw [e1, e2]
      refine xr_dep (off := false) hr (by omega) (by omega) (fun r2 hr2 y ey => ?_)
      subst ey
      rw [nI_1]
      refine ih (k + 1) r2 (by omega) (by omega) ?_
      have e3 : ((M % 2 ^ (16 * k) * 2 ^ o : Nat) : Int) + zsg false (zlm (M : Int) k : Int) * 2 ^ (o + 16 * k) = ((M % 2 ^ (16 * (k + 1)) * 2 ^ o : Nat) : Int) := by
        show ((M % 2 ^ (16 * k) * 2 ^ o : Nat) : Int) + (zlm (M : Int) k : Int) * 2 ^ (o + 16 * k) = _
        rw [← zp_cast, ← Int.natCast_mul, ← Int.natCast_add]
        have : M % 2 ^ (16 * k) * 2 ^ o + zlm (M : Int) k * 2 ^ (o + 16 * k) = M % 2 ^ (16 * (k + 1)) * 2 ^ o := by
          rw [show 16 * (k + 1) = 16 * k + 16 from by omega, zNp (16 * k) 16, Nat.mod_mul, zlm_n, Nat.add_mul, zNp o, Nat.mul_comm (2 ^ o), ← Nat.mul_assoc, Nat.mul_comm (M / 2 ^ (16 * k) % 65536)]
        rw [this]
      rw [e3] at hr2
      exact hr2
theorem xy_lay {post : SX → Prop} {p x M o : Nat} {e s : Int} {ng : Bool} (hx : x < 8) (he : a_exponents x = zI e) (hm : a_minus x = zb1 ng) (hl : zLB 4 (M : Int) (fun k => a_limb (4 * x + k))) (hM : M < 2 ^ 64) (ho : (o : Int) = e - p + 1 + 480 + s) (ho2 : o < 2 ^ 20) (h : ∀ r, zLB 54 ((M * 2 ^ o : Nat) : Int) r → post (nI p, f_mode, f_flags, zb1 ng, 0, a_kinds, a_minus, a_exponents, a_limb, r, a_one, a_two, a_roots, a_high, a_part, a_quotient, a_square, a_guess)) : wpX_lay post (nI p, f_mode, f_flags, f_below, f_sticky, a_kinds, a_minus, a_exponents, a_limb, a_row, a_one, a_two, a_roots, a_high, a_part, a_quotient, a_square, a_guess) (nI x) (zI s) := by
  unfold wpX_lay
  dsimp only
  refine xr_clear (fun r hr => ?_)
  refine ⟨5, xy_lay_l hx he hm hl hM ho ho2 h 5 0 r (by omega) (by omega) ?_⟩
  rw [Nat.mul_zero, Nat.pow_zero, Nat.mod_one, Nat.zero_mul]
  exact hr
end
/-- the weight of a mantissa's last bit in the reference's row -/
def zwt (p : Nat) (v : ZV) : Nat := (340 + v.2.2.1 - p + 1).toNat
theorem zrow_f {p : Nat} {v : ZV} (h : v.1 = 2) : zrow p v = v.2.2.2 * 2 ^ zwt p v := by unfold zrow zwt; rw [if_pos h]
theorem zwt_i {p : Nat} {v : ZV} (hp : p ≤ 64) (ho : zOK p v) (h : v.1 = 2) : (zwt p v : Int) = 340 + v.2.2.1 - p + 1 := by
  have := ho.2.1 h
  unfold zwt
  omega
theorem zrow_log {p : Nat} {v : ZV} (hp2 : 2 ≤ p) (hp : p ≤ 64) (ho : zOK p v) (h : v.1 = 2) : zrow p v ≠ 0 ∧ ((2 ^ (p - 1) ≤ v.2.2.2 → ((zrow p v).log2 : Int) = 340 + v.2.2.1) ∧ ((zrow p v).log2 : Int) ≤ 340 + v.2.2.1 ∧ (zrow p v).log2 = v.2.2.2.log2 + zwt p v) := by
  obtain ⟨g1, g2, g3, g4, g5⟩ := ho.2.1 h
  have hw := zwt_i hp ho h
  have hM : v.2.2.2 ≠ 0 := by omega
  have e := z_logmul hM (zwt p v)
  rw [← zrow_f h] at e
  have l1 : v.2.2.2.log2 < p := (Nat.log2_lt hM).mpr g2
  refine ⟨?_, ?_, ?_, e⟩
  · rw [zrow_f h]; exact Nat.mul_ne_zero hM (Nat.ne_of_gt (Nat.two_pow_pos _))
  · intro hn
    have : p - 1 ≤ v.2.2.2.log2 := (Nat.le_log2 hM).mpr hn
    omega
  · omega
/-- the row of the component is that of the reference, 140 bits further up -/
theorem zrow_x {p o : Nat} {v : ZV} (hp : p ≤ 64) (ho : zOK p v) (h : v.1 = 2) (he : (o : Int) = v.2.2.1 - p + 1 + 480 + 0) : v.2.2.2 * 2 ^ o = zrow p v * 2 ^ 140 := by
  have hw := zwt_i hp ho h
  rw [zrow_f h, Nat.mul_assoc, ← zNp]
  exact congrArg (fun z => v.2.2.2 * 2 ^ z) (by omega)
def zint (p : Nat) (v : ZV) : Int32 := if v.1 = 4 ∨ v.1 = 0 then 0 else if v.1 = 3 ∨ 30 < v.2.2.1 then (if v.2.1 then -2147483648 else 2147483647) else (if v.2.1 then -nI (zrow p v / 2 ^ 340) else nI (zrow p v / 2 ^ 340))
theorem zrow_31 {p : Nat} {v : ZV} (hp2 : 2 ≤ p) (hp : p ≤ 64) (ho : zOK p v) (h : v.1 = 2) (he : v.2.2.1 ≤ 30) : zrow p v < 2 ^ 371 := by
  obtain ⟨a, b, c, d⟩ := zrow_log hp2 hp ho h
  have := z_log2 (zrow p v)
  exact Nat.lt_of_lt_of_le this (zpl_le (by omega))
theorem z_divp (R a t : Nat) : R * 2 ^ t / 2 ^ (a + t) = R / 2 ^ a := by
  rw [zNp, Nat.mul_div_mul_right _ _ (Nat.two_pow_pos t)]
section
variable {f_p f_mode f_flags f_below f_sticky : Int32} {a_kinds a_minus a_exponents a_limb a_row a_one a_two a_roots a_high a_part a_quotient a_square a_guess : Nat → Int32}
theorem xy_integer {post : Int32 → SX → Prop} {p md x : Nat} {w : Nat → ZV} (hc : zC p md w) (hs : zXS p w a_kinds a_minus a_exponents a_limb) (hro : zRT a_roots) (hx : x < 8) (h : ∀ u, zXR p md f_flags w u → post (zint p (w x)) u) : wpX_integer post (nI p, nI md, f_flags, f_below, f_sticky, a_kinds, a_minus, a_exponents, a_limb, a_row, a_one, a_two, a_roots, a_high, a_part, a_quotient, a_square, a_guess) (nI x) := by
  have ox := hc.2.2.2 x hx
  have kz := xs_kz hs ox hx
  have vx := vp_in_nI hx (show 8 < 2 ^ 31 by decide)
  have same := h (nI p, nI md, f_flags, f_below, f_sticky, a_kinds, a_minus, a_exponents, a_limb, a_row, a_one, a_two, a_roots, a_high, a_part, a_quotient, a_square, a_guess) ⟨rfl, rfl, rfl, hs, hro⟩
  have hmx := (hs x hx).1
  unfold zint at h same
  unfold wpX_integer
  dsimp only
  refine zs_X hx (br_f (by decide) (xs_isNot hs ox hx (zk_b (fun e4 => ⟨vx, ?_⟩) (fun e4 => ?_))))
  · have e4 := of_decide_eq_false e4
    rw [nI_clamp (by omega)]
    refine zk_i kz.1 (fun e0 => ?_) (fun e0 => ?_)
    · rw [if_pos (Or.inr e0)] at same; exact same
    · rw [if_neg (by omega)] at h same
      have g45 : ((w x).1 = 3 ∨ 30 < (w x).2.2.1) → wX_integer_45 post (nI x) (nI p) (nI md) f_flags f_below f_sticky a_kinds a_minus a_exponents a_limb a_row a_one a_two a_roots a_high a_part a_quotient a_square a_guess := by
        intro hh
        rw [if_pos hh] at same
        refine ⟨vx, ?_⟩
        rw [nI_clamp (by omega), hmx]
        refine zk_b (fun e => ?_) (fun e => ?_)
        · rw [e] at same; exact same
        · rw [e] at same; exact same
      refine xs_isInf hs ox hx (zk_b (fun e3 => ⟨vx, ?_⟩) (fun e3 => g45 (Or.inl (of_decide_eq_true e3))))
      have e3 := of_decide_eq_false e3
      have e2 : (w x).1 = 2 := by have := ox.1; omega
      obtain ⟨f1, f2, f3⟩ := xs_fin hs hx e2
      obtain ⟨g1, g2, g3, g4, g5⟩ := ox.2.1 e2
      rw [f1]
      refine zk_le (w x).2.2.1 30 (fun h30 => ?_) (fun h30 => g45 (Or.inr h30))
      rw [if_neg (by omega)] at h
      obtain ⟨o, ho⟩ : ∃ o : Nat, (o : Int) = (w x).2.2.1 - p + 1 + 480 + 0 := ⟨((w x).2.2.1 - p + 1 + 480 + 0).toNat, by have := hc.2.1; omega⟩
      refine xy_lay (s := 0) hx f1 hmx f2 (zOK_64 ox hc.2.1 e2) ho (by omega) (fun r hr => ?_)
      · dsimp only
        intro x2 ex2
        have hT := zrow_x hc.2.1 ox e2 ho
        rw [hT] at hr
        have hlt := zrow_31 hc.1 hc.2.1 ox e2 h30
        have hq : zrow p (w x) / 2 ^ 340 < 2 ^ 31 := Nat.div_lt_of_lt_mul (by rw [← zNp]; exact hlt)
        have l0 : zlm ((zrow p (w x) * 2 ^ 140 : Nat) : Int) 30 = zrow p (w x) / 2 ^ 340 % 65536 := by
          rw [zlm_n, show 16 * 30 = 340 + 140 from rfl, z_divp]
        have l1 : zlm ((zrow p (w x) * 2 ^ 140 : Nat) : Int) 31 = zrow p (w x) / 2 ^ 340 / 65536 := by
          rw [zlm_n, show 16 * 31 = 356 + 140 from rfl, z_divp, show 356 = 340 + 16 from rfl, zNp, ← Nat.div_div_eq_div_mul, Nat.mod_eq_of_lt (Nat.div_lt_of_lt_mul (by omega))]
        have ex3 : x2 = nI (zrow p (w x) / 2 ^ 340) := by
          rw [ex2, hr 30 (by omega), hr 31 (by omega), l0, l1]
          generalize zrow p (w x) / 2 ^ 340 = q at hq
          rw [pk_shlN _ 16 (by decide) (by omega), zw_or' (by omega)]
          exact congrArg nI (by omega)
        subst ex3
        refine ⟨vx, ?_⟩
        rw [hmx]
        have h' := h (nI p, nI md, f_flags, zb1 (w x).2.1, 0, a_kinds, a_minus, a_exponents, a_limb, r, a_one, a_two, a_roots, a_high, a_part, a_quotient, a_square, a_guess) ⟨rfl, rfl, rfl, hs, hro⟩
        refine zk_b (fun e => ?_) (fun e => ?_)
        · rw [e] at h' ⊢; exact h'
        · rw [e] at h' ⊢; exact h'
  · have e4 := of_decide_eq_true e4
    rw [if_pos (Or.inl e4)] at same; exact same
end
end
section
/-! integer of the reference -/
section
variable {f_precision f_mode f_flags f_sticky f_wide : Int32} {f_rest : Int64} {a_sort a_exponent a_minus a_row : Nat → Int32} {a_mantissa : Nat → Int64}
theorem yi_84 {post : Int32 → SY → Prop} {x R : Nat} {ng : Bool} (hx : x < 8) (hm : a_minus x = zb1 ng) (hb : zBB 0 720 (R : Int) a_row) (hR : R < 2 ^ 371) (h : post (if ng then -nI (R / 2 ^ 340) else nI (R / 2 ^ 340)) (f_precision, f_mode, f_flags, f_sticky, f_wide, f_rest, a_sort, a_exponent, a_minus, a_mantissa, a_row)) : ∀ n k, k ≤ 31 → k < n → wY_integer_84 post (nI x) f_precision f_mode f_flags f_sticky f_wide f_rest a_sort a_exponent a_minus a_mantissa a_row n (nI (R / 2 ^ (340 + k))) (zI ((k : Int) - 1)) := by
  intro n
  induction n with
  | zero => intro k _ h1; omega
  | succ n ih =>
    intro k hk hn
    refine zk_lt ((k : Int) - 1) 0 (fun h0 => ⟨vp_in_nI hx (by decide), ?_⟩) (fun h0 => ?_)
    · have e0 : k = 0 := by omega
      subst e0
      rw [nI_clamp (by omega), hm]
      refine zk_b (fun e => ?_) (fun e => ?_)
      · rw [e] at h; exact h
      · rw [e] at h; exact h
    · obtain ⟨k', rfl⟩ : ∃ k', k = k' + 1 := ⟨k - 1, by omega⟩
      have e1 : zI (((k' + 1 : Nat) : Int) - 1) = nI k' := by rw [← zI_n]; exact congrArg zI (by omega)
      have e2 : (340 : Int32) + nI k' = nI (340 + k') := nI_add 340 k'
      rw [e1, e2]
      refine ⟨vp_in_nI (by omega) (by decide), fun v ev y ey => ?_⟩
      have hr : a_row (340 + k') = nI (zbb (R : Int) (340 + k')) := by have := hb (340 + k') (by omega); rw [Nat.zero_add] at this; exact this
      have ev2 : v = nI (R / 2 ^ (340 + k')) := by
        rw [ev, nI_clamp (by omega), hr, show (2 : Int32) = nI 2 from rfl, pk_mul, nI_add, zbb_n, ← Nat.add_assoc, Nat.pow_succ, ← Nat.div_div_eq_div_mul]
        exact congrArg nI (by omega)
      have ey2 : y = zI ((k' : Int) - 1) := by rw [ey, ← zI_n, show (-1 : Int32) = zI (-1) from rfl, zI_add]; exact congrArg zI (by omega)
      subst ev2 ey2
      exact ih k' (by omega) (by omega)
theorem yi_44 {post : Int32 → SY → Prop} {p md x : Nat} {w : Nat → ZV} (hc : zC p md w) (hs : zYS w a_sort a_minus a_exponent a_mantissa) (hx : x < 8) (h4 : (w x).1 ≠ 4) (h0 : (w x).1 ≠ 0) (h : ∀ v, zYR p md f_flags w v → post (zint p (w x)) v) : wY_integer_44 post (nI x) (if (w x).2.1 then -2147483648 else 2147483647) (nI p) (nI md) f_flags f_sticky 720 f_rest a_sort a_exponent a_minus a_mantissa a_row := by
  have ox := hc.2.2.2 x hx
  have hk := zOK_le ox
  unfold zint at h
  rw [if_neg (by omega)] at h
  refine ⟨vp_in_nI hx (by decide), ?_⟩
  rw [nI_clamp (by omega), (hs x hx).2.1]
  refine pk_eq (w x).1 3 (fun e3 => ?_) (fun e3 => ?_)
  · rw [if_pos (Or.inl e3)] at h
    exact h _ ⟨rfl, rfl, rfl, rfl, hs⟩
  · have e2 : (w x).1 = 2 := by have := ox.1; omega
    obtain ⟨g1, g2, g3, g4, g5⟩ := ox.2.1 e2
    obtain ⟨r1, r2, r3, r4⟩ := zrow_log hc.1 hc.2.1 ox e2
    have hlt := zrow_lt hc.1 hc.2.1 ox
    have hlg : (zrow p (w x)).log2 < 441 := (Nat.log2_lt r1).mpr hlt
    refine yo_put (r := 0) hs ox hc.1 hc.2.1 hx (by omega) (fun l hl hf => ?_)
    refine yr_top hl (z_log1 r1) (z_log2 _) (by omega) ?_
    have el : nI (zrow p (w x)).log2 - 340 = zI (((zrow p (w x)).log2 : Int) - 340) := by rw [← zI_n, show (340 : Int32) = zI 340 from rfl, zI_sub]
    refine zk_le (((zrow p (w x)).log2 : Int) - 340) 30 (fun hc30 => ?_) (fun hc30 => ?_) el
    · have he : (w x).2.2.1 ≤ 30 := by
        rcases g5 with g | g
        · have := r2 g; omega
        · omega
      rw [if_neg (by omega)] at h
      have hR := zrow_31 hc.1 hc.2.1 ox e2 he
      have g := yi_84 (post := post) (ng := (w x).2.1) (f_precision := nI p) (f_mode := nI md) (f_flags := f_flags) (f_sticky := f_sticky) (f_wide := 720) (f_rest := f_rest) (a_sort := a_sort) (a_exponent := a_exponent) (a_mantissa := a_mantissa) hx (hs x hx).1 hl hR (h _ ⟨rfl, rfl, rfl, rfl, hs⟩) 32 31 (by omega) (by omega)
      rw [show 340 + 31 = 371 from rfl, Nat.div_eq_of_lt hR] at g
      exact ⟨32, g⟩
    · rw [if_pos (Or.inr (by omega))] at h
      exact h _ ⟨rfl, rfl, rfl, rfl, hs⟩
theorem yi_integer {post : Int32 → SY → Prop} {p md x : Nat} {w : Nat → ZV} (hc : zC p md w) (hs : zYS w a_sort a_minus a_exponent a_mantissa) (hx : x < 8) (h : ∀ v, zYR p md f_flags w v → post (zint p (w x)) v) : wpY_integer post (nI p, nI md, f_flags, f_sticky, 720, f_rest, a_sort, a_exponent, a_minus, a_mantissa, a_row) (nI x) := by
  have ox := hc.2.2.2 x hx
  have hk := zOK_le ox
  have vx := vp_in_nI hx (show 8 < 2 ^ 31 by decide)
  have same := h (nI p, nI md, f_flags, f_sticky, 720, f_rest, a_sort, a_exponent, a_minus, a_mantissa, a_row) ⟨rfl, rfl, rfl, rfl, hs⟩
  unfold wpY_integer
  dsimp only
  refine zs_Y hx (br_f (by decide) ⟨vx, ?_⟩)
  rw [nI_clamp (by omega), (hs x hx).2.1, (hs x hx).1]
  refine pk_eq (w x).1 4 (fun e4 => ?_) (fun e4 => ⟨vx, pk_eq (w x).1 0 (fun e0 => ?_) (fun e0 => ⟨vx, ?_⟩)⟩)
  · unfold zint at same; rw [if_pos (Or.inl e4)] at same; exact same
  · unfold zint at same; rw [if_pos (Or.inr e0)] at same; exact same
  · have g := yi_44 (f_sticky := f_sticky) (f_rest := f_rest) (a_row := a_row) hc hs hx e4 e0 h
    refine zk_b (fun e => ?_) (fun e => ?_)
    · rw [e] at g; exact g
    · rw [e] at g; exact g
end
theorem i_vc_integer {k : Nat} {u : SX} {v : SY} (I : i_Rel k u v) (hk : k + 5 ≤ 2561) (v1 : Int32) : wpX_integer (fun r u' => wpY_integer (fun r' v' => r' = r ∧ i_Rel (k + 5) u' v') v v1) u v1 := by
  obtain ⟨p, md, f, w, hc, hX, hY⟩ := I
  obtain ⟨f_p, f_mode, f_flags, f_below, f_sticky, a_kinds, a_minus, a_exponents, a_limb, a_row, a_one, a_two, a_roots, a_high, a_part, a_quotient, a_square, a_guess⟩ := u
  obtain ⟨rfl, rfl, rfl, hs, hro⟩ := hX
  obtain ⟨g_precision, g_mode, g_flags, g_sticky, g_wide, g_rest, b_sort, b_exponent, b_minus, b_mantissa, b_row⟩ := v
  obtain ⟨rfl, rfl, rfl, rfl, ht⟩ := hY
  have same : i_Rel (k + 5) (nI p, nI md, g_flags, f_below, f_sticky, a_kinds, a_minus, a_exponents, a_limb, a_row, a_one, a_two, a_roots, a_high, a_part, a_quotient, a_square, a_guess) (nI p, nI md, g_flags, g_sticky, 720, g_rest, b_sort, b_exponent, b_minus, b_mantissa, b_row) := ⟨p, md, _, w, hc, ⟨rfl, rfl, rfl, hs, hro⟩, ⟨rfl, rfl, rfl, rfl, ht⟩⟩
  rcases zs_ix v1 with hb | ⟨x, hx, rfl⟩
  · unfold wpX_integer wpY_integer
    exact hb.1 _ (br_t rfl (hb.2 _ (br_t rfl ⟨rfl, same⟩)))
  · exact xy_integer hc hs hro hx (fun u hu => yi_integer hc ht hx (fun v hv => ⟨rfl, p, md, _, w, hc, hu, hv⟩))
end
section
/-! whole -/
def zwhg (md : Nat) (ng : Bool) (R : Nat) : Bool := zra md ng (decide (R / 2 ^ 340 % 2 = 1)) (zhf R 340) (zmo R 340 false)
def zwhN (md : Nat) (ng : Bool) (R : Nat) : Nat := (R / 2 ^ 340 + (if zwhg md ng R then 1 else 0)) * 2 ^ 340
def zwhf (R : Nat) (f : Int32) : Int32 := if zhf R 340 || zmo R 340 false then f ||| 1 else f
def zwh (p md : Nat) (v : ZV) (f : Int32) : ZV × Int32 := if v.1 = 2 then zrd0 340 p md v.2.1 (zwhN md v.2.1 (zrow p v)) false (zwhf (zrow p v) f) else (v, f)
theorem zwhN_lt {md : Nat} {ng : Bool} {R : Nat} (h : R < 2 ^ 441) : zwhN md ng R < 2 ^ 720 := by
  have h1 : R / 2 ^ 340 < 2 ^ 101 := Nat.div_lt_of_lt_mul (by rw [← zNp]; exact h)
  have h2 : R / 2 ^ 340 + (if zwhg md ng R then 1 else 0) < 2 ^ 102 := by
    split <;> omega
  have h3 := Nat.mul_lt_mul_of_pos_right h2 (Nat.two_pow_pos 340)
  rw [← zNp] at h3
  exact Nat.lt_trans h3 (zpl_lt (by decide))
theorem zwh_ok {p md : Nat} {v : ZV} {f : Int32} (hp2 : 2 ≤ p) (hp : p ≤ 64) (ho : zOK p v) : zOK p (zwh p md v f).1 := by
  unfold zwh
  split
  · exact zrd0_ok hp2 hp (by decide)
  · exact ho
/-- the bits of a number shifted up -/
theorem z_hfs (R u t : Nat) (hu : 1 ≤ u) : zhf (R * 2 ^ t) (u + t) = zhf R u := by
  unfold zhf
  rw [show u + t - 1 = (u - 1) + t from by omega, z_divp]
theorem z_mos (R u t : Nat) (s : Bool) (hu : 1 ≤ u) : zmo (R * 2 ^ t) (u + t) s = zmo R u s := by
  unfold zmo
  rw [show u + t - 1 = (u - 1) + t from by omega, zNp, Nat.mul_mod_mul_right]
  congr 1
  have h0 := Nat.two_pow_pos t
  by_cases h : R % 2 ^ (u - 1) = 0
  · rw [h, Nat.zero_mul]
  · have h3 : R % 2 ^ (u - 1) * 2 ^ t ≠ 0 := Nat.mul_ne_zero h (by omega)
    rw [decide_eq_true h, decide_eq_true h3]
section
variable {f_p f_mode f_flags f_below f_sticky : Int32} {a_kinds a_minus a_exponents a_limb a_row a_one a_two a_roots a_high a_part a_quotient a_square a_guess : Nat → Int32}
theorem xw_127 {post : Int32 → SX → Prop} {p md i N V : Nat} {w : Nat → ZV} {ng : Bool} (hc : zC p md w) (hs : zXS p w a_kinds a_minus a_exponents a_limb) (hro : zRT a_roots) (hV : V = N * 2 ^ 140) (hr : zLB 54 (V : Int) a_row) (hN2 : N < 2 ^ 720) (hi : i < 8) (h : ∀ u, zXR p md (zrd0 340 p md ng N false f_flags).2 (zst w i (zrd0 340 p md ng N false f_flags).1) u → post 1 u) : wX_whole_127 post (nI i) (nI p) (nI md) f_flags (zb1 ng) 0 a_kinds a_minus a_exponents a_limb a_row a_one a_two a_roots a_high a_part a_quotient a_square a_guess := by
  have h0 := Nat.two_pow_pos 140
  have hV8 : V < 2 ^ 860 := by
    rw [hV]
    have := Nat.mul_lt_mul_of_pos_right hN2 h0
    rw [← zNp] at this
    exact this
  unfold wX_whole_127
  by_cases hN : N = 0
  · have hr0 : zLB 54 0 a_row := by
      have e : V = 0 := by rw [hV, hN, Nat.zero_mul]
      rw [e] at hr; exact hr
    refine xr_top0 hr0 (br_f (by decide) ?_)
    have e3 : zrd0 340 p md ng N false f_flags = ((0, ng, 0, 0), f_flags) := by unfold zrd0; rw [if_pos hN]
    rw [e3] at h
    refine xs_set (k := 0) (ng := ng) hs hi (Or.inl rfl) (fun K M E L hK => h _ ⟨rfl, rfl, rfl, ?_, hro⟩)
    have e4 : (ng && !((0 : Nat) == 4)) = ng := by simp
    rw [e4] at hK
    exact hK
  · have hne : V ≠ 0 := by rw [hV]; exact Nat.mul_ne_zero hN (Nat.ne_of_gt h0)
    have hl := (Nat.log2_lt hne).mpr (Nat.lt_trans hV8 (zpl_lt (show 860 < 864 by decide)))
    refine xr_top hr (z_log1 hne) (z_log2 _) hl (br_t (nI_pos' (by omega)) ?_)
    rw [hV] at hr
    exact xo_rd (s := false) hc hs hro hr hN hN2 hi h
theorem xw_92 {post : Int32 → SX → Prop} {p md i Q : Nat} {T : Int} {w : Nat → ZV} {ng g : Bool} (hc : zC p md w) (hs : zXS p w a_kinds a_minus a_exponents a_limb) (hro : zRT a_roots) (hT : T / 2 ^ (16 * 30) = (Q : Int)) (hi : i < 8) (hN2 : (Q + (if g then 1 else 0)) * 2 ^ 340 < 2 ^ 720) (h : ∀ u, zXR p md (zrd0 340 p md ng ((Q + (if g then 1 else 0)) * 2 ^ 340) false f_flags).2 (zst w i (zrd0 340 p md ng ((Q + (if g then 1 else 0)) * 2 ^ 340) false f_flags).1) u → post 1 u) : ∀ n k r, k ≤ 30 → 30 - k < n → (∀ j, j < k → r j = 0) → (∀ j, k ≤ j → j < 54 → r j = nI (zlm T j)) → wX_whole_92 post (nI i) (zb1 g) (nI p) (nI md) f_flags (zb1 ng) 0 n (nI k) a_kinds a_minus a_exponents a_limb r a_one a_two a_roots a_high a_part a_quotient a_square a_guess := by
  have eN : ∀ c : Nat, c * 2 ^ 340 * 2 ^ 140 = c * 2 ^ (16 * 30) := by
    intro c
    rw [Nat.mul_assoc, ← zNp]
  intro n
  induction n with
  | zero => intro k r _ h1; omega
  | succ n ih =>
    intro k r hk hn hlo hhi
    refine pk_le 30 k (fun hc30 => ?_) (fun hc30 => ⟨vp_in_nI (by omega) (by decide), fun r1 er y ey => ?_⟩)
    · have ek : k = 30 := by omega
      subst ek
      -- the whole part alone
      have hrQ : zLB 54 (((Q * 2 ^ (16 * 30) : Nat)) : Int) r := by
        intro j hj
        have e1 : ((Q * 2 ^ (16 * 30) : Nat) : Int) = 0 + (Q : Int) * 2 ^ (16 * 30) := by rw [Int.natCast_mul, zp_cast, Int.zero_add]
        rw [e1]
        by_cases hj2 : j < 30
        · rw [hlo j hj2, zlm_low _ _ (by omega), zlm_0]; rfl
        · rw [hhi j (by omega) hj]
          rw [zlm_same (A := T) (T := 0 + (Q : Int) * 2 ^ (16 * 30)) (k := 30) ?_ (by omega)]
          rw [zad, Int.zero_ediv, Int.zero_add, hT]
      refine zk_b (fun eg => ?_) (fun eg => ?_)
      · subst eg
        have e2 : Q + (if false = true then 1 else 0) = Q := by simp
        rw [e2] at h hN2
        exact xw_127 hc hs hro (eN Q).symm hrQ hN2 hi h
      · subst eg
        have e2 : Q + (if true = true then 1 else 0) = Q + 1 := by simp
        rw [e2] at h hN2
        refine xr_dep (off := false) (v := 1) (pl := 16 * 30) hrQ (by omega) (by omega) (fun r2 hr2 => ?_)
        have e3 : ((Q * 2 ^ (16 * 30) : Nat) : Int) + zsg false ((1 : Nat) : Int) * 2 ^ (16 * 30) = (((Q + 1) * 2 ^ (16 * 30) : Nat) : Int) := by
          show ((Q * 2 ^ (16 * 30) : Nat) : Int) + ((1 : Nat) : Int) * 2 ^ (16 * 30) = _
          rw [Nat.add_mul, Int.natCast_add, Int.natCast_mul 1, zp_cast]
        rw [e3] at hr2
        exact xw_127 hc hs hro (eN (Q + 1)).symm hr2 hN2 hi h
    · rw [nI_clamp (by omega)] at er
      subst er ey
      rw [nI_1]
      refine ih (k + 1) _ (by omega) (by omega) (fun j hj => ?_) (fun j hj hj2 => ?_)
      · by_cases e : j = k
        · subst e; exact pk_us
        · rw [pk_un e]; exact hlo j (by omega)
      · rw [pk_un (by omega)]; exact hhi j (by omega) hj2
theorem xw_whole {post : Int32 → SX → Prop} {p md i x : Nat} {w : Nat → ZV} (hc : zC p md w) (hs : zXS p w a_kinds a_minus a_exponents a_limb) (hro : zRT a_roots) (hx : x < 8) (hi : i < 8) (h : ∀ u, zXR p md (zwh p md (w x) f_flags).2 (zst w i (zwh p md (w x) f_flags).1) u → post 1 u) : wpX_whole post (nI p, nI md, f_flags, f_below, f_sticky, a_kinds, a_minus, a_exponents, a_limb, a_row, a_one, a_two, a_roots, a_high, a_part, a_quotient, a_square, a_guess) (nI x) (nI i) := by
  have ox := hc.2.2.2 x hx
  unfold wpX_whole
  dsimp only
  refine zs_X hx (br_f (by decide) (zs_X hi (br_f (by decide) (xs_plain hs ox hx (zk_b (fun e2 => ?_) (fun e2 => ?_))))))
  · have e2 := of_decide_eq_false e2
    have e3 : zwh p md (w x) f_flags = (w x, f_flags) := by unfold zwh; rw [if_neg e2]
    rw [e3] at h
    exact xs_copy hs ox hi hx (fun K M E L hK => h _ ⟨rfl, rfl, rfl, hK, hro⟩)
  · have e2 := of_decide_eq_true e2
    have e3 : zwh p md (w x) f_flags = zrd0 340 p md (w x).2.1 (zwhN md (w x).2.1 (zrow p (w x))) false (zwhf (zrow p (w x)) f_flags) := by unfold zwh; rw [if_pos e2]
    rw [e3] at h
    obtain ⟨f1, f2, f3⟩ := xs_fin hs hx e2
    obtain ⟨g1, g2, g3, g4, g5⟩ := ox.2.1 e2
    have hlt := zrow_lt hc.1 hc.2.1 ox
    have hN2 := zwhN_lt (md := md) (ng := (w x).2.1) hlt
    obtain ⟨o, ho⟩ : ∃ o : Nat, (o : Int) = (w x).2.2.1 - p + 1 + 480 + 0 := ⟨((w x).2.2.1 - p + 1 + 480 + 0).toNat, by have := hc.2.1; omega⟩
    refine xy_lay (s := 0) hx f1 (hs x hx).1 f2 (zOK_64 ox hc.2.1 e2) ho (by omega) (fun r hr => ?_)
    rw [zrow_x hc.2.1 ox e2 ho] at hr
    generalize hRd : zrow p (w x) = R at *
    generalize (w x).2.1 = ng at *
    have hT : ((R * 2 ^ 140 : Nat) : Int) / 2 ^ (16 * 30) = ((R / 2 ^ 340 : Nat) : Int) := by
      rw [← zp_cast, ← Int.natCast_ediv, show 16 * 30 = 340 + 140 from rfl, z_divp]
    have hq : R * 2 ^ 140 / 2 ^ 480 % 2 = R / 2 ^ 340 % 2 := by rw [show 480 = 340 + 140 from rfl, z_divp]
    have hh1 : zhf (R * 2 ^ 140) 480 = zhf R 340 := z_hfs R 340 140 (by decide)
    have hh2 : zmo (R * 2 ^ 140) 480 false = zmo R 340 false := z_mos R 340 140 false (by decide)
    have hx1 := z_hm (R * 2 ^ 140) 480 false (by decide)
    rw [hh1, hh2] at hx1
    have g73 : ∀ exact gr : Bool, exact = !(zhf R 340 || zmo R 340 false) → gr = zwhg md ng R → wX_whole_73 post (nI i) (zb1 exact) (zb1 gr) (nI p) (nI md) f_flags (zb1 ng) 0 a_kinds a_minus a_exponents a_limb r a_one a_two a_roots a_high a_part a_quotient a_square a_guess := by
      intro exact gr hex hgr
      have g92 : ∀ f : Int32, f = zwhf R f_flags → ∃ n, wX_whole_92 post (nI i) (zb1 gr) (nI p) (nI md) f (zb1 ng) 0 n 0 a_kinds a_minus a_exponents a_limb r a_one a_two a_roots a_high a_part a_quotient a_square a_guess := by
        intro f hf
        unfold zwhN at h hN2
        rw [← hgr, ← hf] at h
        rw [← hgr] at hN2
        exact ⟨31, xw_92 hc hs hro hT hi hN2 h 31 0 r (by omega) (by omega) (fun j hj => absurd hj (by omega)) (fun j _ hj => hr j hj)⟩
      refine zk_b (fun e => ?_) (fun e => ?_)
      · intro f ef
        refine g92 f ?_
        rw [ef]
        unfold zwhf
        have : (zhf R 340 || zmo R 340 false) = true := by
          rw [e] at hex
          cases hq2 : (zhf R 340 || zmo R 340 false)
          · rw [hq2] at hex; exact absurd hex (by decide)
          · rfl
        rw [if_pos this]
      · refine g92 f_flags ?_
        unfold zwhf
        have : ¬ (zhf R 340 || zmo R 340 false) = true := by
          intro z
          rw [z, e] at hex
          exact absurd hex (by decide)
        rw [if_neg this]
    refine xr_rest (s := false) (pl := 480) hr (by omega) (zk_b (fun ex => ?_) (fun ex => ?_))
    · rw [hx1] at ex
      have ex1 : zhf R 340 = false := by cases hq2 : zhf R 340 <;> rw [hq2] at ex <;> simp_all
      have ex2 : zmo R 340 false = false := by cases hq2 : zmo R 340 false <;> rw [hq2] at ex <;> simp_all
      refine br_f (by decide) ?_
      exact g73 true false (by rw [ex]; rfl) (by unfold zwhg; rw [ex1, ex2, zra_ff])
    · rw [hx1] at ex
      refine br_t (by decide) ?_
      refine xo_up (s := false) (pl := 480) hc.2.2.1 hr (by omega) (by omega) ?_
      rw [hq, hh1, hh2]
      refine zk_b (fun eu => ?_) (fun eu => ?_)
      · exact g73 false false (by rw [ex]; rfl) eu.symm
      · exact g73 false true (by rw [ex]; rfl) eu.symm
end
end
section
/-! whole of the reference -/
section
variable {f_precision f_mode f_flags f_sticky f_wide : Int32} {f_rest : Int64} {a_sort a_exponent a_minus a_row : Nat → Int32} {a_mantissa : Nat → Int64}
theorem yw_119 {post : Int32 → SY → Prop} {p md i Q : Nat} {T : Int} {w : Nat → ZV} {ng g : Bool} (hc : zC p md w) (hs : zYS w a_sort a_minus a_exponent a_mantissa) (hT : T / 2 ^ 340 = (Q : Int)) (hi : i < 8) (hN2 : (Q + (if g then 1 else 0)) * 2 ^ 340 < 2 ^ 720) (h : ∀ v, zYR p md (zrd0 340 p md ng ((Q + (if g then 1 else 0)) * 2 ^ 340) false f_flags).2 (zst w i (zrd0 340 p md ng ((Q + (if g then 1 else 0)) * 2 ^ 340) false f_flags).1) v → post 1 v) : ∀ n k r, k ≤ 340 → 340 - k < n → (∀ j, j < k → r j = 0) → (∀ j, k ≤ j → j < 720 → r j = nI (zbb T j)) → wY_whole_119 post (nI i) (zb1 ng) (zb1 g) (nI p) (nI md) f_flags 0 720 f_rest n (nI k) a_sort a_exponent a_minus a_mantissa r := by
  intro n
  induction n with
  | zero => intro k r _ h1; omega
  | succ n ih =>
    intro k r hk hn hlo hhi
    refine pk_le 340 k (fun hc30 => ?_) (fun hc30 => ⟨vp_in_nI (by omega) (by decide), fun r1 er y ey => ?_⟩)
    · have ek : k = 340 := by omega
      subst ek
      have hrQ : zBB 0 720 (((Q * 2 ^ 340 : Nat)) : Int) r := by
        intro j hj
        rw [Nat.zero_add]
        have e1 : ((Q * 2 ^ 340 : Nat) : Int) = 0 + (Q : Int) * 2 ^ 340 := by rw [Int.natCast_mul, zp_cast, Int.zero_add]
        rw [e1]
        by_cases hj2 : j < 340
        · rw [hlo j hj2, zbb_low _ _ (by omega), zbb_0]; rfl
        · rw [hhi j (by omega) hj]
          rw [zbb_same (A := T) (T := 0 + (Q : Int) * 2 ^ 340) (k := 340) ?_ (by omega)]
          rw [zad, Int.zero_ediv, Int.zero_add, hT]
      refine zk_b (fun eg => ?_) (fun eg => ?_)
      · subst eg
        have e2 : Q + (if false = true then 1 else 0) = Q := by simp
        rw [e2] at h hN2
        exact yo_round (s := false) hc.2.2.1 hs hrQ hN2 hc.1 hc.2.1 hi (fun S Mi E Ma hS => h _ ⟨rfl, rfl, rfl, rfl, hS⟩)
      · subst eg
        have e2 : Q + (if true = true then 1 else 0) = Q + 1 := by simp
        rw [e2] at h hN2
        have e3 : Q * 2 ^ 340 + 1 * 2 ^ 340 = (Q + 1) * 2 ^ 340 := (Nat.add_mul _ _ _).symm
        refine yr_addBits (M := 1) (at' := 340) hrQ (by decide) (by rw [e3]; exact hN2) (by decide) (fun l hl hf => ?_)
        rw [e3] at hl
        exact yo_round (s := false) hc.2.2.1 hs hl hN2 hc.1 hc.2.1 hi (fun S Mi E Ma hS => h _ ⟨rfl, rfl, rfl, rfl, hS⟩)
    · rw [nI_clamp (by omega), show vp_nar .byte 0 = (0 : Int32) from zn_b (n := 0) (by decide)] at er
      subst er ey
      rw [nI_1]
      refine ih (k + 1) _ (by omega) (by omega) (fun j hj => ?_) (fun j hj hj2 => ?_)
      · by_cases e : j = k
        · subst e; exact pk_us
        · rw [pk_un e]; exact hlo j (by omega)
      · rw [pk_un (by omega)]; exact hhi j (by omega) hj2
theorem yw_whole {post : Int32 → SY → Prop} {p md i x : Nat} {w : Nat → ZV} (hc : zC p md w) (hs : zYS w a_sort a_minus a_exponent a_mantissa) (hx : x < 8) (hi : i < 8) (h : ∀ v, zYR p md (zwh p md (w x) f_flags).2 (zst w i (zwh p md (w x) f_flags).1) v → post 1 v) : wpY_whole post (nI p, nI md, f_flags, f_sticky, 720, f_rest, a_sort, a_exponent, a_minus, a_mantissa, a_row) (nI x) (nI i) := by
  have ox := hc.2.2.2 x hx
  have hk := zOK_le ox
  have vx := vp_in_nI hx (show 8 < 2 ^ 31 by decide)
  unfold wpY_whole
  dsimp only
  refine zs_Y hx (br_f (by decide) (zs_Y hi (br_f (by decide) ⟨vx, fun m em => ⟨vx, ?_⟩⟩)))
  rw [nI_clamp (by omega), (hs x hx).1] at em
  subst em
  rw [nI_clamp (by omega), (hs x hx).2.1]
  refine pk_eq (w x).1 2 (fun e2 => ?_) (fun e2 => ⟨vx, ?_⟩)
  · have e3 : zwh p md (w x) f_flags = zrd0 340 p md (w x).2.1 (zwhN md (w x).2.1 (zrow p (w x))) false (zwhf (zrow p (w x)) f_flags) := by unfold zwh; rw [if_pos e2]
    rw [e3] at h
    have hlt := zrow_lt hc.1 hc.2.1 ox
    have hN2 := zwhN_lt (md := md) (ng := (w x).2.1) hlt
    refine yo_put (r := 0) hs ox hc.1 hc.2.1 hx (by omega) (fun l hl hf => ?_)
    generalize zrow p (w x) = R at *
    generalize (w x).2.1 = ng at *
    have hT : (R : Int) / 2 ^ 340 = ((R / 2 ^ 340 : Nat) : Int) := by rw [← zp_cast, ← Int.natCast_ediv]
    have hl0 : zBB 0 720 (R : Int) l := hl
    refine yr_bitAt (k := 339) hl0 (by omega) (yr_below (s := false) (k := 339) hl0 (by omega) (yr_bitAt (k := 340) hl0 (by omega) (yo_away hc.2.2.1 ?_)))
    have g119 : ∀ f : Int32, f = zwhf R f_flags → ∃ n, wY_whole_119 post (nI i) (zb1 ng) (zb1 (zwhg md ng R)) (nI p) (nI md) f 0 720 f_rest n 0 a_sort a_exponent a_minus a_mantissa l := by
      intro f hf
      unfold zwhN at h hN2
      rw [← hf] at h
      exact ⟨341, yw_119 hc hs hT hi hN2 h 341 0 l (by omega) (by omega) (fun j hj => absurd hj (by omega)) (fun j _ hj => by have := hl0 j hj; rw [Nat.zero_add] at this; exact this)⟩
    have g106 : (zhf R 340 || zmo R 340 false) = true → wY_whole_106 post (nI i) (zb1 ng) (zb1 (zwhg md ng R)) (nI p) (nI md) f_flags 0 720 f_rest a_sort a_exponent a_minus a_mantissa l := by
      intro hz f ef
      refine g119 f ?_
      rw [ef]; unfold zwhf; rw [if_pos hz]
    refine zk_b (fun e4 => ?_) (fun e4 => ?_)
    · have e4' : zhf R 340 = false := e4
      refine zk_b (fun e5 => ?_) (fun e5 => ?_)
      · have e5' : zmo R 340 false = false := e5
        refine g119 f_flags ?_
        unfold zwhf
        rw [e4', e5', if_neg (by decide)]
      · have e5' : zmo R 340 false = true := e5
        exact g106 (by rw [e5', Bool.or_true])
    · have e4' : zhf R 340 = true := e4
      exact g106 (by rw [e4', Bool.true_or])
  · have e3 : zwh p md (w x) f_flags = (w x, f_flags) := by unfold zwh; rw [if_neg e2]
    rw [e3] at h
    refine yo_give (k := (w x).1) (r := w x) hs hi hk rfl ?_ (fun z => absurd z e2) (fun S Mi E Ma hS => h _ ⟨rfl, rfl, rfl, rfl, hS⟩)
    by_cases e4 : (w x).1 = 4
    · rw [ox.2.2 e4]; rfl
    · simp [e4]
end
theorem i_vc_whole {k : Nat} {u : SX} {v : SY} (I : i_Rel k u v) (hk : k + 5 ≤ 2561) (v1 : Int32) (v2 : Int32) : wpX_whole (fun r u' => wpY_whole (fun r' v' => r' = r ∧ i_Rel (k + 5) u' v') v v1 v2) u v1 v2 := by
  obtain ⟨p, md, f, w, hc, hX, hY⟩ := I
  obtain ⟨f_p, f_mode, f_flags, f_below, f_sticky, a_kinds, a_minus, a_exponents, a_limb, a_row, a_one, a_two, a_roots, a_high, a_part, a_quotient, a_square, a_guess⟩ := u
  obtain ⟨rfl, rfl, rfl, hs, hro⟩ := hX
  obtain ⟨g_precision, g_mode, g_flags, g_sticky, g_wide, g_rest, b_sort, b_exponent, b_minus, b_mantissa, b_row⟩ := v
  obtain ⟨rfl, rfl, rfl, rfl, ht⟩ := hY
  have same : i_Rel (k + 5) (nI p, nI md, g_flags, f_below, f_sticky, a_kinds, a_minus, a_exponents, a_limb, a_row, a_one, a_two, a_roots, a_high, a_part, a_quotient, a_square, a_guess) (nI p, nI md, g_flags, g_sticky, 720, g_rest, b_sort, b_exponent, b_minus, b_mantissa, b_row) := ⟨p, md, _, w, hc, ⟨rfl, rfl, rfl, hs, hro⟩, ⟨rfl, rfl, rfl, rfl, ht⟩⟩
  rcases zs_ix v1 with hb | ⟨x, hx, rfl⟩
  · unfold wpX_whole wpY_whole
    exact hb.1 _ (br_t rfl (hb.2 _ (br_t rfl ⟨rfl, same⟩)))
  · rcases zs_ix v2 with hb | ⟨i, hi, rfl⟩
    · unfold wpX_whole wpY_whole
      exact zs_X hx (br_f (by decide) (hb.1 _ (br_t rfl (zs_Y hx (br_f (by decide) (hb.2 _ (br_t rfl ⟨rfl, same⟩)))))))
    · exact xw_whole hc hs hro hx hi (fun u hu => yw_whole hc ht hx hi (fun v hv => ⟨rfl, p, md, _, _, zC_s hc (zwh_ok hc.1 hc.2.1 (hc.2.2.2 x hx)), hu, hv⟩))
end
section
/-! scale -/
def zto (h : Int) : Int := if h < -250 then -250 else if 250 < h then 250 else h
def zk7 (k : Int) : Int := if k < -270 then -270 else if 270 < k then 270 else k
def zso (p : Nat) (v : ZV) (k : Int) : Nat := (340 + zto (((zrow p v).log2 : Int) - 340 + k) - (v.2.2.2.log2 : Int)).toNat
def zsc (p md : Nat) (v : ZV) (k : Int) (f : Int32) : ZV × Int32 := if v.1 = 2 then zrd0 340 p md v.2.1 (v.2.2.2 * 2 ^ zso p v k) false f else (v, f)
theorem zto_r (h : Int) : -250 ≤ zto h ∧ zto h ≤ 250 := by
  unfold zto
  split
  · omega
  · split <;> omega
theorem zk7_r (h : Int) : -270 ≤ zk7 h ∧ zk7 h ≤ 270 := by
  unfold zk7
  split
  · omega
  · split <;> omega
theorem zso_i {p : Nat} {v : ZV} {k : Int} (hp : p ≤ 64) (ho : zOK p v) (h : v.1 = 2) : (zso p v k : Int) = 340 + zto (((zrow p v).log2 : Int) - 340 + k) - (v.2.2.2.log2 : Int) ∧ v.2.2.2.log2 < 64 := by
  obtain ⟨g1, g2, g3, g4, g5⟩ := ho.2.1 h
  have hM : v.2.2.2 ≠ 0 := by omega
  have l1 : v.2.2.2.log2 < p := (Nat.log2_lt hM).mpr g2
  have := zto_r (((zrow p v).log2 : Int) - 340 + k)
  unfold zso
  omega
theorem zsc_ok {p md : Nat} {v : ZV} {k : Int} {f : Int32} (hp2 : 2 ≤ p) (hp : p ≤ 64) (ho : zOK p v) : zOK p (zsc p md v k f).1 := by
  unfold zsc
  split
  · exact zrd0_ok hp2 hp (by decide)
  · exact ho
/-- the component's row rounds as the reference's -/
theorem zsc_x {p md o : Nat} {v : ZV} {k : Int} {f : Int32} (hp2 : 2 ≤ p) (hp : p ≤ 64) (ho : zOK p v) (h : v.1 = 2) (he : (o : Int) = v.2.2.1 - p + 1 + 480 + zk7 k) : zrd 480 p md v.2.1 (v.2.2.2 * 2 ^ o) false f = zrd0 340 p md v.2.1 (v.2.2.2 * 2 ^ zso p v k) false f := by
  obtain ⟨g1, g2, g3, g4, g5⟩ := ho.2.1 h
  have hM : v.2.2.2 ≠ 0 := by omega
  obtain ⟨hi1, hi2⟩ := zso_i (k := k) hp ho h
  obtain ⟨r1, r2, r3, r4⟩ := zrow_log hp2 hp ho h
  have hw := zwt_i hp ho h
  have hn : v.2.2.2 * 2 ^ zso p v k ≠ 0 := Nat.mul_ne_zero hM (Nat.ne_of_gt (Nat.two_pow_pos _))
  have hn2 : v.2.2.2 * 2 ^ o ≠ 0 := Nat.mul_ne_zero hM (Nat.ne_of_gt (Nat.two_pow_pos _))
  have hl1 := z_logmul hM (zso p v k)
  have hl2 := z_logmul hM o
  unfold zrd0
  rw [if_neg hn]
  generalize hH : ((zrow p v).log2 : Int) - 340 = H at *
  have c : (H + k < -250 ∨ k < -270) ∨ (250 < H + k ∨ 270 < k) ∨ (zto (H + k) = H + k ∧ zk7 k = k) := by
    unfold zto zk7
    by_cases a1 : H + k < -250
    · exact Or.inl (Or.inl a1)
    · by_cases a2 : 250 < H + k
      · exact Or.inr (Or.inl (Or.inl a2))
      · by_cases a3 : k < -270
        · exact Or.inl (Or.inr a3)
        · by_cases a4 : 270 < k
          · exact Or.inr (Or.inl (Or.inr a4))
          · rw [if_neg a1, if_neg a2, if_neg a3, if_neg a4]
            exact Or.inr (Or.inr ⟨rfl, rfl⟩)
  have t1 : zto (H + k) = -250 ∨ zto (H + k) = 250 ∨ zto (H + k) = H + k := by
    unfold zto
    split
    · exact Or.inl rfl
    · split
      · exact Or.inr (Or.inl rfl)
      · exact Or.inr (Or.inr rfl)
  rcases c with c | c | ⟨c1, c2⟩
  · have t2 : zto (H + k) < -164 := by
      unfold zto
      split
      · omega
      · split <;> omega
    have t3 : H + zk7 k < -164 := by
      unfold zk7
      split
      · omega
      · split <;> omega
    rw [zrd_tiny hn2 hp2 hp (by decide) (by rw [hl2]; omega), zrd_tiny hn hp2 hp (by decide) (by rw [hl1]; omega)]
  · have t2 : 100 < zto (H + k) := by
      unfold zto
      split
      · omega
      · split <;> omega
    have t3 : 100 < H + zk7 k := by
      unfold zk7
      split
      · omega
      · split <;> omega
    rw [zrd_big hp2 (by rw [hl2]; omega), zrd_big hp2 (by rw [hl1]; omega)]
  · have eo : o = zso p v k + 140 := by omega
    rw [eo, zNp, ← Nat.mul_assoc]
    exact zrd_scale (t := 140) hn hp (by decide)
section
variable {f_p f_mode f_flags f_below f_sticky : Int32} {a_kinds a_minus a_exponents a_limb a_row a_one a_two a_roots a_high a_part a_quotient a_square a_guess : Nat → Int32}
theorem xk_76 {post : Int32 → SX → Prop} {p md i x : Nat} {k : Int} {w : Nat → ZV} (hc : zC p md w) (hs : zXS p w a_kinds a_minus a_exponents a_limb) (hro : zRT a_roots) (hx : x < 8) (hi : i < 8) (e2 : (w x).1 = 2) (h : ∀ u, zXR p md (zsc p md (w x) k f_flags).2 (zst w i (zsc p md (w x) k f_flags).1) u → post 1 u) : wX_scale_76 post (nI i) (zI (zk7 k)) (nI x) (nI p) (nI md) f_flags f_below f_sticky a_kinds a_minus a_exponents a_limb a_row a_one a_two a_roots a_high a_part a_quotient a_square a_guess := by
  have ox := hc.2.2.2 x hx
  obtain ⟨f1, f2, f3⟩ := xs_fin hs hx e2
  obtain ⟨g1, g2, g3, g4, g5⟩ := ox.2.1 e2
  have k7 := zk7_r k
  have hp := hc.2.1
  have hM : (w x).2.2.2 ≠ 0 := by omega
  have l1 : (w x).2.2.2.log2 < p := (Nat.log2_lt hM).mpr g2
  obtain ⟨o, ho⟩ : ∃ o : Nat, (o : Int) = (w x).2.2.1 - p + 1 + 480 + zk7 k := ⟨((w x).2.2.1 - p + 1 + 480 + zk7 k).toNat, by omega⟩
  have e3 : zsc p md (w x) k f_flags = zrd 480 p md (w x).2.1 ((w x).2.2.2 * 2 ^ o) false f_flags := by
    unfold zsc
    rw [if_pos e2, zsc_x hc.1 hp ox e2 ho]
  rw [e3] at h
  unfold wX_scale_76
  refine xy_lay hx f1 (hs x hx).1 f2 (zOK_64 ox hc.2.1 e2) ho (by omega) (fun r hr => ?_)
  refine xo_round (s := false) hc.2.2.1 hs hr (Nat.mul_ne_zero hM (Nat.ne_of_gt (Nat.two_pow_pos _))) ?_ hc.1 hp hi (fun K Mi E L hK => h _ ⟨rfl, rfl, rfl, hK, hro⟩)
  have a1 : (w x).2.2.2 * 2 ^ o < 2 ^ p * 2 ^ o := Nat.mul_lt_mul_of_pos_right g2 (Nat.two_pow_pos o)
  rw [← zNp] at a1
  exact Nat.lt_of_lt_of_le a1 (zpl_le (by omega))
theorem xk_scale {post : Int32 → SX → Prop} {p md i x : Nat} {k : Int} {w : Nat → ZV} (hc : zC p md w) (hs : zXS p w a_kinds a_minus a_exponents a_limb) (hro : zRT a_roots) (hx : x < 8) (hi : i < 8) (hk1 : -400 ≤ k) (hk2 : k ≤ 400) (h : ∀ u, zXR p md (zsc p md (w x) k f_flags).2 (zst w i (zsc p md (w x) k f_flags).1) u → post 1 u) : wpX_scale post (nI p, nI md, f_flags, f_below, f_sticky, a_kinds, a_minus, a_exponents, a_limb, a_row, a_one, a_two, a_roots, a_high, a_part, a_quotient, a_square, a_guess) (nI x) (zI k) (nI i) := by
  have ox := hc.2.2.2 x hx
  unfold wpX_scale
  dsimp only
  refine zs_X hx (br_f (by decide) (zs_X hi (br_f (by decide) ?_)))
  refine zk_lt k (-400) (fun z => by omega) (fun _ => zk_le k 400 (fun _ => ?_) (fun z => by omega))
  refine xs_plain hs ox hx (zk_b (fun e2 => ?_) (fun e2 => ?_))
  · have e2 := of_decide_eq_false e2
    have e3 : zsc p md (w x) k f_flags = (w x, f_flags) := by unfold zsc; rw [if_neg e2]
    rw [e3] at h
    exact xs_copy hs ox hi hx (fun K M E L hK => h _ ⟨rfl, rfl, rfl, hK, hro⟩)
  · have e2 := of_decide_eq_true e2
    have g := xk_76 (f_below := f_below) (f_sticky := f_sticky) (a_row := a_row) (a_one := a_one) (a_two := a_two) (a_high := a_high) (a_part := a_part) (a_quotient := a_quotient) (a_square := a_square) (a_guess := a_guess) hc hs hro hx hi e2 h
    refine zk_le (-270) k (fun c1 => zk_le k 270 (fun c2 => ?_) (fun c2 => ?_)) (fun c1 => ?_)
    · rw [show zk7 k = k from by unfold zk7; rw [if_neg (by omega), if_neg (by omega)]] at g; exact g
    · rw [show zk7 k = 270 from by unfold zk7; rw [if_neg (by omega), if_pos (by omega)]] at g; exact g
    · rw [show zk7 k = -270 from by unfold zk7; rw [if_pos (by omega)], show zI (-270) = (-270 : Int32) from by decide] at g; exact g
end
section
variable {f_precision f_mode f_flags f_sticky f_wide : Int32} {f_rest : Int64} {a_sort a_exponent a_minus a_row : Nat → Int32} {a_mantissa : Nat → Int64}
theorem yk_117 {post : Int32 → SY → Prop} {p md i x : Nat} {k H : Int} {w : Nat → ZV} (hc : zC p md w) (hs : zYS w a_sort a_minus a_exponent a_mantissa) (hx : x < 8) (hi : i < 8) (e2 : (w x).1 = 2) (hH : H = ((zrow p (w x)).log2 : Int) - 340) (h : ∀ v, zYR p md (zsc p md (w x) k f_flags).2 (zst w i (zsc p md (w x) k f_flags).1) v → post 1 v) : wY_scale_117 post (nI x) (nI i) (zb1 (w x).2.1) (zI H) (zI (zto (H + k))) (nI p) (nI md) f_flags f_sticky 720 f_rest a_sort a_exponent a_minus a_mantissa a_row := by
  have ox := hc.2.2.2 x hx
  obtain ⟨g1, g2, g3, g4, g5⟩ := ox.2.1 e2
  have hp := hc.2.1
  obtain ⟨i1, i2⟩ := zso_i (k := k) hp ox e2
  obtain ⟨r1, r2, r3, r4⟩ := zrow_log hc.1 hp ox e2
  have hw := zwt_i hp ox e2
  have tr := zto_r (H + k)
  have vx := vp_in_nI hx (show 8 < 2 ^ 31 by decide)
  obtain ⟨q1, q2⟩ := (hs x hx).2.2 e2
  rw [← hH] at i1
  have h64 := zOK_64 ox hp e2
  refine ⟨vx, ⟨vx, ?_⟩⟩
  rw [nI_clamp (by omega), q1, q2]
  have eo : zI (w x).2.2.1 - nI p + 1 + zI (zto (H + k)) - zI H = zI ((zso p (w x) k : Int) - 340) := by
    rw [← zI_n p, zI_sub, show (1 : Int32) = zI 1 from rfl, zI_add, zI_add, zI_sub]
    exact congrArg zI (by omega)
  dsimp only
  rw [eo]
  have e3 : zsc p md (w x) k f_flags = zrd0 340 p md (w x).2.1 ((w x).2.2.2 * 2 ^ zso p (w x) k) false f_flags := by unfold zsc; rw [if_pos e2]
  rw [e3] at h
  refine yr_write (r := 0) (by omega) h64 (by omega) (fun l hl hf => ?_)
  refine yo_round (s := false) hc.2.2.1 hs hl ?_ hc.1 hp hi (fun S Mi E Ma hS => h _ ⟨rfl, rfl, rfl, rfl, hS⟩)
  have a1 : (w x).2.2.2 * 2 ^ zso p (w x) k < 2 ^ 64 * 2 ^ zso p (w x) k := Nat.mul_lt_mul_of_pos_right h64 (Nat.two_pow_pos _)
  rw [← zNp] at a1
  exact Nat.lt_of_lt_of_le a1 (zpl_le (by omega))
theorem yk_scale {post : Int32 → SY → Prop} {p md i x : Nat} {k : Int} {w : Nat → ZV} (hc : zC p md w) (hs : zYS w a_sort a_minus a_exponent a_mantissa) (hx : x < 8) (hi : i < 8) (hk1 : -400 ≤ k) (hk2 : k ≤ 400) (h : ∀ v, zYR p md (zsc p md (w x) k f_flags).2 (zst w i (zsc p md (w x) k f_flags).1) v → post 1 v) : wpY_scale post (nI p, nI md, f_flags, f_sticky, 720, f_rest, a_sort, a_exponent, a_minus, a_mantissa, a_row) (nI x) (zI k) (nI i) := by
  have ox := hc.2.2.2 x hx
  have hk := zOK_le ox
  have vx := vp_in_nI hx (show 8 < 2 ^ 31 by decide)
  unfold wpY_scale
  dsimp only
  refine zs_Y hx (br_f (by decide) (zs_Y hi (br_f (by decide) ?_)))
  refine zk_lt k (-400) (fun z => by omega) (fun _ => zk_le k 400 (fun _ => ⟨vx, fun m em => ⟨vx, ?_⟩⟩) (fun z => by omega))
  rw [nI_clamp (by omega), (hs x hx).1] at em
  subst em
  rw [nI_clamp (by omega), (hs x hx).2.1]
  refine pk_eq (w x).1 2 (fun e2 => ?_) (fun e2 => ⟨vx, ?_⟩)
  · obtain ⟨r1, r2, r3, r4⟩ := zrow_log hc.1 hc.2.1 ox e2
    have hlt := zrow_lt hc.1 hc.2.1 ox
    have hlg : (zrow p (w x)).log2 < 441 := (Nat.log2_lt r1).mpr hlt
    refine yo_put (r := 0) hs ox hc.1 hc.2.1 hx (by omega) (fun l hl hf => ?_)
    refine yr_top hl (z_log1 r1) (z_log2 _) (by omega) (fun hh eh => ?_)
    have eh2 : hh = zI (((zrow p (w x)).log2 : Int) - 340) := by rw [eh, ← zI_n, show (340 : Int32) = zI 340 from rfl, zI_sub]
    subst eh2
    have g := yk_117 (f_sticky := f_sticky) (f_rest := f_rest) (a_row := l) hc hs hx hi e2 rfl h
    generalize hH : ((zrow p (w x)).log2 : Int) - 340 = H at *
    have ea : zI H + zI k = zI (H + k) := zI_add _ _
    rw [ea]
    refine zk_le (-250) (H + k) (fun c1 => zk_le (H + k) 250 (fun c2 => ?_) (fun c2 => ?_)) (fun c1 => ?_)
    · rw [show zto (H + k) = H + k from by unfold zto; rw [if_neg (by omega), if_neg (by omega)]] at g; exact g
    · rw [show zto (H + k) = 250 from by unfold zto; rw [if_neg (by omega), if_pos (by omega)]] at g; exact g
    · rw [show zto (H + k) = -250 from by unfold zto; rw [if_pos (by omega)], show zI (-250) = (-250 : Int32) from by decide] at g; exact g
  · have e3 : zsc p md (w x) k f_flags = (w x, f_flags) := by unfold zsc; rw [if_neg e2]
    rw [e3] at h
    refine yo_give (k := (w x).1) (r := w x) hs hi hk rfl ?_ (fun z => absurd z e2) (fun S Mi E Ma hS => h _ ⟨rfl, rfl, rfl, rfl, hS⟩)
    by_cases e4 : (w x).1 = 4
    · rw [ox.2.2 e4]; rfl
    · simp [e4]
end
theorem i_vc_scale {k : Nat} {u : SX} {v : SY} (I : i_Rel k u v) (hk : k + 5 ≤ 2561) (v1 : Int32) (v2 : Int32) (v3 : Int32) : wpX_scale (fun r u' => wpY_scale (fun r' v' => r' = r ∧ i_Rel (k + 5) u' v') v v1 v2 v3) u v1 v2 v3 := by
  obtain ⟨p, md, f, w, hc, hX, hY⟩ := I
  obtain ⟨f_p, f_mode, f_flags, f_below, f_sticky, a_kinds, a_minus, a_exponents, a_limb, a_row, a_one, a_two, a_roots, a_high, a_part, a_quotient, a_square, a_guess⟩ := u
  obtain ⟨rfl, rfl, rfl, hs, hro⟩ := hX
  obtain ⟨g_precision, g_mode, g_flags, g_sticky, g_wide, g_rest, b_sort, b_exponent, b_minus, b_mantissa, b_row⟩ := v
  obtain ⟨rfl, rfl, rfl, rfl, ht⟩ := hY
  have same : i_Rel (k + 5) (nI p, nI md, g_flags, f_below, f_sticky, a_kinds, a_minus, a_exponents, a_limb, a_row, a_one, a_two, a_roots, a_high, a_part, a_quotient, a_square, a_guess) (nI p, nI md, g_flags, g_sticky, 720, g_rest, b_sort, b_exponent, b_minus, b_mantissa, b_row) := ⟨p, md, _, w, hc, ⟨rfl, rfl, rfl, hs, hro⟩, ⟨rfl, rfl, rfl, rfl, ht⟩⟩
  rcases zs_ix v1 with hb | ⟨x, hx, rfl⟩
  · unfold wpX_scale wpY_scale
    exact hb.1 _ (br_t rfl (hb.2 _ (br_t rfl ⟨rfl, same⟩)))
  · rcases zs_ix v3 with hb | ⟨i, hi, rfl⟩
    · unfold wpX_scale wpY_scale
      exact zs_X hx (br_f (by decide) (hb.1 _ (br_t rfl (zs_Y hx (br_f (by decide) (hb.2 _ (br_t rfl ⟨rfl, same⟩)))))))
    · by_cases c1 : v2 < -400
      · unfold wpX_scale wpY_scale
        exact zs_X hx (br_f (by decide) (zs_X hi (br_f (by decide) (br_t c1 (zs_Y hx (br_f (by decide) (zs_Y hi (br_f (by decide) (br_t c1 ⟨rfl, same⟩)))))))))
      · by_cases c2 : v2 ≤ 400
        · obtain ⟨q, rfl⟩ : ∃ q, v2 = zI q := ⟨v2.toInt, zI_of v2⟩
          have hq : -400 ≤ (zI q).toInt ∧ (zI q).toInt ≤ 400 := by
            rw [Int32.lt_iff_toInt_lt, show (-400 : Int32).toInt = -400 from by decide] at c1
            rw [Int32.le_iff_toInt_le, show (400 : Int32).toInt = 400 from by decide] at c2
            omega
          rw [zI_of (zI q)]
          exact xk_scale hc hs hro hx hi hq.1 hq.2 (fun u hu => yk_scale hc ht hx hi hq.1 hq.2 (fun v hv => ⟨rfl, p, md, _, _, zC_s hc (zsc_ok hc.1 hc.2.1 (hc.2.2.2 x hx)), hu, hv⟩))
        · unfold wpX_scale wpY_scale
          exact zs_X hx (br_f (by decide) (zs_X hi (br_f (by decide) (br_f c1 (br_f c2 (zs_Y hx (br_f (by decide) (zs_Y hi (br_f (by decide) (br_f c1 (br_f c2 ⟨rfl, same⟩)))))))))))
end
section
/-! sums; the transform, purely -/
def zS : Nat → (Nat → Int) → Int
  | 0, _ => 0
  | n + 1, f => zS n f + f n
theorem zS_c {n : Nat} {f g : Nat → Int} (h : ∀ i, i < n → f i = g i) : zS n f = zS n g := by
  induction n with
  | zero => rfl
  | succ n ih => show zS n f + f n = zS n g + g n; rw [ih (fun i hi => h i (by omega)), h n (by omega)]
theorem zS_add (n : Nat) (f g : Nat → Int) : zS n (fun i => f i + g i) = zS n f + zS n g := by
  induction n with
  | zero => rfl
  | succ n ih => show zS n _ + (f n + g n) = (zS n f + f n) + (zS n g + g n); rw [ih]; omega
theorem zS_sub (n : Nat) (f g : Nat → Int) : zS n (fun i => f i - g i) = zS n f - zS n g := by
  induction n with
  | zero => rfl
  | succ n ih => show zS n _ + (f n - g n) = (zS n f + f n) - (zS n g + g n); rw [ih]; omega
theorem zS_mul (n : Nat) (f : Nat → Int) (c : Int) : zS n (fun i => f i * c) = zS n f * c := by
  induction n with
  | zero => exact (Int.zero_mul c).symm
  | succ n ih => show zS n _ + f n * c = (zS n f + f n) * c; rw [ih, Int.add_mul]
theorem zS_mul' (n : Nat) (f : Nat → Int) (c : Int) : zS n (fun i => c * f i) = c * zS n f := by
  rw [Int.mul_comm c, ← zS_mul]
  exact zS_c (fun i _ => Int.mul_comm c (f i))
theorem zS_0 (n : Nat) : zS n (fun _ => 0) = 0 := by
  induction n with
  | zero => rfl
  | succ n ih => show zS n _ + 0 = 0; rw [ih]; rfl
theorem zS_comm (n m : Nat) (f : Nat → Nat → Int) : zS n (fun i => zS m (fun j => f i j)) = zS m (fun j => zS n (fun i => f i j)) := by
  induction n with
  | zero => exact (zS_0 m).symm
  | succ n ih =>
    show zS n _ + zS m (fun j => f n j) = zS m (fun j => zS n (fun i => f i j) + f n j)
    rw [ih, zS_add]
theorem zS_d {n c : Nat} (hc : c < n) (f : Nat → Int) : zS n (fun i => if i = c then f i else 0) = f c := by
  induction n with
  | zero => omega
  | succ n ih =>
    show zS n _ + (if n = c then f n else 0) = f c
    by_cases h : n = c
    · subst h
      rw [if_pos rfl]
      have : zS n (fun i => if i = n then f i else 0) = zS n (fun _ => 0) := zS_c (fun i hi => if_neg (by omega))
      rw [this, zS_0, Int.zero_add]
    · rw [if_neg h, ih (by omega), Int.add_zero]
theorem zS_e {n : Nat} {f g : Nat → Int} {q : Int} (h : ∀ i, i < n → f i % q = g i % q) : zS n f % q = zS n g % q := by
  induction n with
  | zero => rfl
  | succ n ih => show (zS n f + f n) % q = (zS n g + g n) % q; rw [Int.add_emod, ih (fun i hi => h i (by omega)), h n (by omega), ← Int.add_emod]
theorem zS_le {n : Nat} {f g : Nat → Int} (h : ∀ i, i < n → f i ≤ g i) : zS n f ≤ zS n g := by
  induction n with
  | zero => exact Int.le_refl _
  | succ n ih => exact Int.add_le_add (ih (fun i hi => h i (by omega))) (h n (by omega))
/-- pairs of the transform: on naturals, reduced; on integers, exact -/
def zbf (hf at' w : Nat) (a : Nat → Nat) : Nat → Nat := fun j => if j = at' + hf then (a at' + 786433 - a (at' + hf) * w % 786433) % 786433 else if j = at' then (a at' + a (at' + hf) * w % 786433) % 786433 else a j
def zbfI (hf at' w : Nat) (a : Nat → Int) : Nat → Int := fun j => if j = at' + hf then a at' - a (at' + hf) * w else if j = at' then a at' + a (at' + hf) * w else a j
def zat (hf k : Nat) : Nat := k / hf * (2 * hf) + k % hf
def zwi (back : Bool) (hf k : Nat) : Nat := if back then (16 - k % hf * (8 / hf)) % 16 else k % hf * (8 / hf)
def zstg (back : Bool) (hf : Nat) : Nat → (Nat → Nat) → Nat → Nat
  | 0, a => a
  | k + 1, a => zbf hf (zat hf k) (zrt (zwi back hf k)) (zstg back hf k a)
def zstI (back : Bool) (hf : Nat) : Nat → (Nat → Int) → Nat → Int
  | 0, a => a
  | k + 1, a => zbfI hf (zat hf k) (zrt (zwi back hf k)) (zstI back hf k a)
def zrev (k : Nat) : Nat := k % 2 * 8 + k / 2 % 2 * 4 + k / 4 % 2 * 2 + k / 8 % 2
def ztr (back : Bool) (a : Nat → Nat) : Nat → Nat := zstg back 8 8 (zstg back 4 8 (zstg back 2 8 (zstg back 1 8 (fun j => a (zrev j)))))
def ztI (back : Bool) (a : Nat → Int) : Nat → Int := zstI back 8 8 (zstI back 4 8 (zstI back 2 8 (zstI back 1 8 (fun j => a (zrev j)))))
theorem zbf_cg {hf at' w : Nat} {a : Nat → Nat} {b : Nat → Int} (h : ∀ j, j < 16 → (a j : Int) % 786433 = b j % 786433) (hh : at' + hf < 16) : ∀ j, j < 16 → (zbf hf at' w a j : Int) % 786433 = zbfI hf at' w b j % 786433 := by
  intro j hj
  have h1 := h at' (by omega)
  have h2 : ((a (at' + hf) * w : Nat) : Int) % 786433 = (b (at' + hf) * w) % 786433 := by
    rw [Int.natCast_mul, Int.mul_emod, h (at' + hf) hh, ← Int.mul_emod]
  unfold zbf zbfI
  by_cases e1 : j = at' + hf
  · rw [if_pos e1, if_pos e1]
    generalize a (at' + hf) * w = P at *
    generalize b (at' + hf) * (w : Int) = Q at *
    omega
  · rw [if_neg e1, if_neg e1]
    by_cases e2 : j = at'
    · rw [if_pos e2, if_pos e2]
      generalize a (at' + hf) * w = P at *
      generalize b (at' + hf) * (w : Int) = Q at *
      omega
    · rw [if_neg e2, if_neg e2]
      exact h j hj
theorem zat_lt {hf k : Nat} (hh : hf = 1 ∨ hf = 2 ∨ hf = 4 ∨ hf = 8) (hk : k < 8) : zat hf k + hf < 16 := by
  unfold zat
  rcases hh with rfl | rfl | rfl | rfl <;> omega
theorem zstg_cg {back : Bool} {hf : Nat} (hh : hf = 1 ∨ hf = 2 ∨ hf = 4 ∨ hf = 8) {a : Nat → Nat} {b : Nat → Int} (h : ∀ j, j < 16 → (a j : Int) % 786433 = b j % 786433) : ∀ k, k ≤ 8 → ∀ j, j < 16 → (zstg back hf k a j : Int) % 786433 = zstI back hf k b j % 786433 := by
  intro k
  induction k with
  | zero => intro _; exact h
  | succ k ih => intro hk; exact zbf_cg (ih (by omega)) (zat_lt hh (by omega))
theorem zrev_lt (k : Nat) : zrev k < 16 := by unfold zrev; omega
theorem ztr_cg (back : Bool) (a : Nat → Nat) : ∀ j, j < 16 → (ztr back a j : Int) % 786433 = ztI back (fun i => (a i : Int)) j % 786433 := by
  refine zstg_cg (Or.inr (Or.inr (Or.inr rfl))) ?_ 8 (by omega)
  refine zstg_cg (Or.inr (Or.inr (Or.inl rfl))) ?_ 8 (by omega)
  refine zstg_cg (Or.inr (Or.inl rfl)) ?_ 8 (by omega)
  refine zstg_cg (Or.inl rfl) ?_ 8 (by omega)
  intro j _
  rfl
/-- linearity -/
def zd (i : Nat) : Nat → Int := fun j => if j = i then 1 else 0
def zLin (T : (Nat → Int) → Nat → Int) : Prop := ∀ a m, m < 16 → T a m = zS 16 (fun i => a i * T (zd i) m)
theorem zLin_bf {T : (Nat → Int) → Nat → Int} {hf at' w : Nat} (h : zLin T) (hh : at' + hf < 16) : zLin (fun a => zbfI hf at' w (T a)) := by
  intro a m hm
  show zbfI hf at' w (T a) m = zS 16 (fun i => a i * zbfI hf at' w (T (zd i)) m)
  unfold zbfI
  by_cases e1 : m = at' + hf
  · rw [if_pos e1, h a at' (by omega), h a (at' + hf) hh, ← zS_mul, ← zS_sub]
    refine zS_c (fun i _ => ?_)
    rw [if_pos e1, Int.mul_sub, Int.mul_assoc]
  · rw [if_neg e1]
    by_cases e2 : m = at'
    · rw [if_pos e2, h a at' (by omega), h a (at' + hf) hh, ← zS_mul, ← zS_add]
      refine zS_c (fun i _ => ?_)
      rw [if_neg e1, if_pos e2, Int.mul_add, Int.mul_assoc]
    · rw [if_neg e2, h a m hm]
      refine zS_c (fun i _ => ?_)
      rw [if_neg e1, if_neg e2]
theorem zLin_st {T : (Nat → Int) → Nat → Int} {back : Bool} {hf : Nat} (h : zLin T) (hh : hf = 1 ∨ hf = 2 ∨ hf = 4 ∨ hf = 8) : ∀ k, k ≤ 8 → zLin (fun a => zstI back hf k (T a)) := by
  intro k
  induction k with
  | zero => intro _; exact h
  | succ k ih => intro hk; exact zLin_bf (ih (by omega)) (zat_lt hh (by omega))
theorem ztI_lin (back : Bool) : zLin (ztI back) := by
  refine zLin_st (T := fun a => zstI back 4 8 (zstI back 2 8 (zstI back 1 8 (fun j => a (zrev j))))) ?_ (Or.inr (Or.inr (Or.inr rfl))) 8 (by omega)
  refine zLin_st (T := fun a => zstI back 2 8 (zstI back 1 8 (fun j => a (zrev j)))) ?_ (Or.inr (Or.inr (Or.inl rfl))) 8 (by omega)
  refine zLin_st (T := fun a => zstI back 1 8 (fun j => a (zrev j))) ?_ (Or.inr (Or.inl rfl)) 8 (by omega)
  refine zLin_st (T := fun a j => a (zrev j)) ?_ (Or.inl rfl) 8 (by omega)
  intro a m _
  show a (zrev m) = zS 16 (fun i => a i * (if zrev m = i then 1 else 0))
  have : zS 16 (fun i => a i * (if zrev m = i then (1 : Int) else 0)) = zS 16 (fun i => if i = zrev m then a i else 0) := by
    refine zS_c (fun i _ => ?_)
    by_cases e : i = zrev m
    · rw [if_pos e, if_pos e.symm, Int.mul_one]
    · rw [if_neg e, if_neg (fun z => e z.symm), Int.mul_zero]
  rw [this, zS_d (zrev_lt m)]
/-- the matrix of the transform -/
def zdN (i : Nat) : Nat → Nat := fun j => if j = i then 1 else 0
def zix (back : Bool) (n : Nat) : Nat := if back then (16 - n % 16) % 16 else n % 16
theorem ztr_m (back : Bool) : ∀ i, i < 16 → ∀ m, m < 16 → ztr back (zdN i) m = zrt (zix back (i * m)) := by
  cases back <;> decide +kernel
theorem ztr_s (back : Bool) (a : Nat → Nat) (m : Nat) (hm : m < 16) : (ztr back a m : Int) % 786433 = zS 16 (fun i => (a i : Int) * (zrt (zix back (i * m)) : Int)) % 786433 := by
  rw [ztr_cg back a m hm, ztI_lin back _ m hm]
  refine zS_e (fun i hi => ?_)
  have e : (zrt (zix back (i * m)) : Int) % 786433 = ztI back (zd i) m % 786433 := by
    rw [← ztr_m back i hi m hm, ztr_cg back (zdN i) m hm]
    have : (fun j => ((zdN i j : Nat) : Int)) = zd i := by
      funext j
      unfold zdN zd
      split <;> rfl
    rw [this]
  rw [Int.mul_emod, ← e, ← Int.mul_emod]
def zSN : Nat → (Nat → Nat) → Nat
  | 0, _ => 0
  | n + 1, f => zSN n f + f n
theorem zSN_i (n : Nat) (f : Nat → Nat) : ((zSN n f : Nat) : Int) = zS n (fun i => (f i : Int)) := by
  induction n with
  | zero => rfl
  | succ n ih => show ((zSN n f + f n : Nat) : Int) = zS n _ + (f n : Int); rw [Int.natCast_add, ih]
theorem z_orth : ∀ i, i < 16 → ∀ j, j < 16 → ∀ k, k < 16 → zSN 16 (fun m => zrt (zix false (i * m)) * zrt (zix false (j * m)) * zrt (zix true (m * k))) * 737281 % 786433 = if (i + j) % 16 = k then 1 else 0 := by
  decide +kernel
/-- the cyclic convolution -/
def zcv (a b : Nat → Nat) (k : Nat) : Int := zS 16 (fun i => zS 16 (fun j => (a i : Int) * (b j : Int) * (if (i + j) % 16 = k then 1 else 0)))
def zcp (a b : Nat → Nat) : Nat → Nat := fun m => ztr false a m * ztr false b m % 786433
theorem zconv (a b : Nat → Nat) (k : Nat) (hk : k < 16) : ((ztr true (zcp a b) k * 737281 % 786433 : Nat) : Int) = zcv a b k % 786433 := by
  rw [Int.natCast_emod, Int.natCast_mul]
  show (ztr true (zcp a b) k : Int) * 737281 % 786433 = _
  rw [Int.mul_emod, ztr_s true (zcp a b) k hk, ← Int.mul_emod]
  have s1 : zS 16 (fun m => (zcp a b m : Int) * (zrt (zix true (m * k)) : Int)) % 786433 = zS 16 (fun m => zS 16 (fun i => zS 16 (fun j => (a i : Int) * (b j : Int) * ((zrt (zix false (i * m)) : Int) * (zrt (zix false (j * m)) : Int) * (zrt (zix true (m * k)) : Int))))) % 786433 := by
    refine zS_e (fun m hm => ?_)
    have e1 : (zcp a b m : Int) % 786433 = (zS 16 (fun i => (a i : Int) * (zrt (zix false (i * m)) : Int)) * zS 16 (fun j => (b j : Int) * (zrt (zix false (j * m)) : Int))) % 786433 := by
      unfold zcp
      rw [Int.natCast_emod, Int.natCast_mul]
      show ((ztr false a m : Int) * (ztr false b m : Int)) % 786433 % 786433 = _
      rw [Int.emod_emod_of_dvd _ (Int.dvd_refl _), Int.mul_emod, ztr_s false a m hm, ztr_s false b m hm, ← Int.mul_emod]
    rw [Int.mul_emod, e1, ← Int.mul_emod]
    congr 1
    rw [← zS_mul, ← zS_mul]
    refine zS_c (fun i _ => ?_)
    rw [← zS_mul', ← zS_mul]
    refine zS_c (fun j _ => ?_)
    grind
  rw [Int.mul_emod, s1, ← Int.mul_emod]
  have s2 : zS 16 (fun m => zS 16 (fun i => zS 16 (fun j => (a i : Int) * (b j : Int) * ((zrt (zix false (i * m)) : Int) * (zrt (zix false (j * m)) : Int) * (zrt (zix true (m * k)) : Int))))) = zS 16 (fun i => zS 16 (fun j => (a i : Int) * (b j : Int) * zS 16 (fun m => (zrt (zix false (i * m)) : Int) * (zrt (zix false (j * m)) : Int) * (zrt (zix true (m * k)) : Int)))) := by
    rw [zS_comm]
    refine zS_c (fun i _ => ?_)
    rw [zS_comm]
    refine zS_c (fun j _ => ?_)
    rw [zS_mul']
  rw [s2, ← zS_mul]
  unfold zcv
  refine zS_e (fun i hi => ?_)
  rw [← zS_mul]
  refine zS_e (fun j hj => ?_)
  rw [Int.mul_assoc, Int.mul_emod]
  have e2 : zS 16 (fun m => (zrt (zix false (i * m)) : Int) * (zrt (zix false (j * m)) : Int) * (zrt (zix true (m * k)) : Int)) * 737281 % 786433 = (if (i + j) % 16 = k then (1 : Int) else 0) := by
    have := z_orth i hi j hj k hk
    have c := congrArg (fun n : Nat => (n : Int)) this
    simp only [Int.natCast_emod, Int.natCast_mul, zSN_i] at c
    rw [show ((786433 : Nat) : Int) = 786433 from rfl, show ((737281 : Nat) : Int) = 737281 from rfl] at c
    rw [c]
    split <;> rfl
  rw [e2]
  by_cases c : (i + j) % 16 = k
  · rw [if_pos c, Int.mul_one, Int.mul_one, Int.emod_emod_of_dvd _ (Int.dvd_refl _)]
  · rw [if_neg c, Int.mul_zero, Int.mul_zero]
/-- bytes -/
theorem zcv_in {a b : Nat → Nat} {k : Nat} (hk : k < 16) (ha : ∀ i, i < 16 → a i ≤ 255) (hb : ∀ i, i < 16 → b i ≤ 255) (ha0 : ∀ i, 8 ≤ i → i < 16 → a i = 0) : 0 ≤ zcv a b k ∧ zcv a b k < 786433 := by
  have e : zcv a b k = zS 16 (fun i => (a i : Int) * (b ((k + 16 - i) % 16) : Int)) := by
    unfold zcv
    refine zS_c (fun i hi => ?_)
    have : zS 16 (fun j => (a i : Int) * (b j : Int) * (if (i + j) % 16 = k then 1 else 0)) = zS 16 (fun j => if j = (k + 16 - i) % 16 then (a i : Int) * (b j : Int) else 0) := by
      refine zS_c (fun j hj => ?_)
      by_cases c : (i + j) % 16 = k
      · rw [if_pos c, if_pos (by omega), Int.mul_one]
      · rw [if_neg c, if_neg (by omega), Int.mul_zero]
    rw [this, zS_d (by omega)]
  rw [e]
  constructor
  · have h0 : zS 16 (fun _ => 0) ≤ zS 16 (fun i => (a i : Int) * (b ((k + 16 - i) % 16) : Int)) := zS_le (fun i _ => by rw [← Int.natCast_mul]; exact Int.natCast_nonneg _)
    rw [zS_0] at h0
    exact h0
  · have h1 : zS 16 (fun i => (a i : Int) * (b ((k + 16 - i) % 16) : Int)) ≤ zS 16 (fun i => if i < 8 then 65025 else 0) := by
      refine zS_le (fun i hi => ?_)
      by_cases c : i < 8
      · rw [if_pos c, ← Int.natCast_mul]
        exact Int.ofNat_le.mpr (Nat.mul_le_mul (ha i hi) (hb _ (by omega)))
      · rw [if_neg c, ha0 i (by omega) hi]; simp
    have h2 : zS 16 (fun i => if i < 8 then (65025 : Int) else 0) = 520200 := by decide
    omega
/-- the value of a convolution -/
theorem zcv_val {a b : Nat → Nat} (B : Int) (ha0 : ∀ i, 8 ≤ i → i < 16 → a i = 0) (hb0 : ∀ i, 8 ≤ i → i < 16 → b i = 0) : zS 16 (fun k => zcv a b k * B ^ k) = zS 16 (fun i => (a i : Int) * B ^ i) * zS 16 (fun j => (b j : Int) * B ^ j) := by
  have s1 : zS 16 (fun k => zcv a b k * B ^ k) = zS 16 (fun k => zS 16 (fun i => zS 16 (fun j => (a i : Int) * (b j : Int) * (if (i + j) % 16 = k then 1 else 0) * B ^ k))) := by
    refine zS_c (fun k _ => ?_)
    unfold zcv
    rw [← zS_mul]
    refine zS_c (fun i _ => ?_)
    rw [← zS_mul]
  rw [s1, zS_comm, ← zS_mul]
  refine zS_c (fun i hi => ?_)
  rw [zS_comm, ← zS_mul']
  refine zS_c (fun j hj => ?_)
  have s2 : zS 16 (fun k => (a i : Int) * (b j : Int) * (if (i + j) % 16 = k then 1 else 0) * B ^ k) = zS 16 (fun k => if k = (i + j) % 16 then (a i : Int) * (b j : Int) * B ^ k else 0) := by
    refine zS_c (fun k _ => ?_)
    by_cases c : (i + j) % 16 = k
    · rw [if_pos c, if_pos c.symm, Int.mul_one]
    · rw [if_neg c, if_neg (fun z => c z.symm), Int.mul_zero, Int.zero_mul]
  rw [s2, zS_d (by omega)]
  by_cases ci : i < 8
  · by_cases cj : j < 8
    · rw [Nat.mod_eq_of_lt (by omega), Int.pow_add]
      grind
    · rw [hb0 j (by omega) hj]; simp
  · rw [ha0 i (by omega) hi]; simp
/-- the bytes of a mantissa -/
theorem zbyte_val (M : Nat) (n : Nat) : zS n (fun i => ((M / 256 ^ i % 256 : Nat) : Int) * 256 ^ i) = ((M % 256 ^ n : Nat) : Int) := by
  induction n with
  | zero => rw [Nat.pow_zero, Nat.mod_one]; rfl
  | succ n ih =>
    show zS n _ + _ = _
    rw [ih, Nat.pow_succ, Nat.mod_mul, Int.natCast_add, Int.natCast_mul, Int.natCast_pow, Int.mul_comm (((256 : Nat) : Int) ^ n)]
    rfl
end
section
/-! the transform of the component (written by gen29.py, twice: for one and for two) -/
def zTB (a : Nat → Nat) (o : Nat → Int32) : Prop := ∀ j, j < 16 → o j = nI (a j)
def zQ (a : Nat → Nat) : Prop := ∀ j, j < 16 → a j < 786433
def zby (M : Nat) : Nat → Nat := fun k => M / 256 ^ k % 256
theorem z256 (k : Nat) : 256 ^ k = 2 ^ (8 * k) := by rw [Nat.pow_mul]
theorem zby_0 {M k : Nat} (hM : M < 2 ^ 64) (hk : 8 ≤ k) : zby M k = 0 := by
  unfold zby
  rw [z256, Nat.div_eq_of_lt (Nat.lt_of_lt_of_le hM (zpl_le (by omega)))]
theorem zby_le (M k : Nat) : zby M k ≤ 255 := by
  unfold zby
  have := Nat.mod_lt (M / 256 ^ k) (show 0 < 256 by decide)
  omega
theorem zby_l {M k : Nat} : zby M k = zlm (M : Int) (k / 2) / 2 ^ (8 * (k % 2)) % 256 := by
  unfold zby
  rw [z256, zlm_n]
  have e : 2 ^ (8 * k) = 2 ^ (16 * (k / 2)) * 2 ^ (8 * (k % 2)) := by rw [← zNp]; exact congrArg (fun z => 2 ^ z) (by omega)
  rw [e, ← Nat.div_div_eq_div_mul]
  generalize M / 2 ^ (16 * (k / 2)) = y
  have h2 : k % 2 = 0 ∨ k % 2 = 1 := by omega
  rcases h2 with h | h <;> rw [h]
  · show y / 1 % 256 = y % 65536 / 1 % 256
    omega
  · show y / 256 % 256 = y % 65536 / 256 % 256
    omega
theorem zwi_lt (back : Bool) {hf k : Nat} (hh : hf = 1 ∨ hf = 2 ∨ hf = 4 ∨ hf = 8) (hk : k < 8) : zwi back hf k < 16 := by
  unfold zwi
  cases back
  · rcases hh with rfl | rfl | rfl | rfl <;> simp <;> omega
  · simp; omega
theorem zQ_bf {a : Nat → Nat} {hf at' w : Nat} (h : zQ a) : zQ (zbf hf at' w a) := by
  intro j hj
  unfold zbf
  split
  · exact Nat.mod_lt _ (by decide)
  · split
    · exact Nat.mod_lt _ (by decide)
    · exact h j hj
theorem zQ_st {a : Nat → Nat} {back : Bool} {hf k : Nat} (h : zQ a) (hh : hf = 1 ∨ hf = 2 ∨ hf = 4 ∨ hf = 8) (hk : k ≤ 8) : zQ (zstg back hf k a) := by
  induction k with
  | zero => exact h
  | succ k ih => exact zQ_bf (ih (by omega))
theorem zQ_tr {a : Nat → Nat} {back : Bool} (h : zQ a) : zQ (ztr back a) := zQ_st (zQ_st (zQ_st (zQ_st (fun j _ => h _ (zrev_lt j)) (Or.inl rfl) (by omega)) (Or.inr (Or.inl rfl)) (by omega)) (Or.inr (Or.inr (Or.inl rfl))) (by omega)) (Or.inr (Or.inr (Or.inr rfl))) (by omega)
theorem zrev_e : ∀ k, k < 16 → ((((nI k &&& 1) <<< ((3 : Int32) &&& 31)) ||| ((nI k &&& 2) <<< ((1 : Int32) &&& 31))) ||| ((nI k &&& 4) >>> ((1 : Int32) &&& 31))) ||| (nI k >>> ((3 : Int32) &&& 31)) = nI (zrev k) := by decide
theorem zrev_r : ∀ k, k < 16 → zrev (zrev k) = k := by decide
/-- the order of bits turned round, for the places below k and their partners -/
def zpm (a : Nat → Nat) (k : Nat) : Nat → Nat := fun i => if i < k ∨ zrev i < k then a (zrev i) else a i
theorem zpm_no (a : Nat → Nat) {k : Nat} (hk : k < 16) (hle : zrev k ≤ k) : ∀ i, i < 16 → zpm a k i = zpm a (k + 1) i := by
  intro i hi
  unfold zpm
  by_cases c : i < k ∨ zrev i < k
  · rw [if_pos c, if_pos (by omega)]
  · rw [if_neg c]
    by_cases c2 : i < k + 1 ∨ zrev i < k + 1
    · rw [if_pos c2]
      have h1 := zrev_r i hi
      have h2 : i = k ∨ zrev i = k := by omega
      have e : zrev i = i := by
        rcases h2 with h2 | h2
        · subst h2; omega
        · have h3 : zrev k = i := by rw [← h2, h1]
          omega
      rw [e]
    · rw [if_neg c2]
theorem zpm_ex (a : Nat → Nat) {k : Nat} (hk : k < 16) (hgt : k < zrev k) : ∀ i, i < 16 → (if i = zrev k then zpm a k k else if i = k then zpm a k (zrev k) else zpm a k i) = zpm a (k + 1) i := by
  intro i hi
  have hr := zrev_r k hk
  unfold zpm
  by_cases c1 : i = zrev k
  · rw [if_pos c1, if_neg (by omega), if_pos (Or.inr (by rw [c1, hr]; omega)), c1, hr]
  · rw [if_neg c1]
    by_cases c2 : i = k
    · rw [if_pos c2, if_neg (by rw [hr]; omega), if_pos (Or.inl (by omega)), c2]
    · rw [if_neg c2]
      have h1 := zrev_r i hi
      have h3 : zrev i ≠ k := fun z => c1 (by rw [← z, h1])
      by_cases c : i < k ∨ zrev i < k
      · rw [if_pos c, if_pos (by omega)]
      · rw [if_neg c, if_neg (by omega)]
section
variable {f_p f_mode f_flags f_below f_sticky : Int32} {a_kinds a_minus a_exponents a_limb a_row a_one a_two a_roots a_high a_part a_quotient a_square a_guess : Nat → Int32}
theorem xn_sp411 {post : SX → Prop} {J : Int32 → (Nat → Int32) → (Nat → Int32) → (Nat → Int32) → (Nat → Int32) → (Nat → Int32) → (Nat → Int32) → (Nat → Int32) → (Nat → Int32) → (Nat → Int32) → (Nat → Int32) → (Nat → Int32) → (Nat → Int32) → (Nat → Int32) → Prop} {x1 z0 : Int32} {k : Nat} (hk : k < 16) (h : J (nI (k + 1)) a_kinds a_minus a_exponents a_limb a_row (upd a_one k z0) a_two a_roots a_high a_part a_quotient a_square a_guess) : wX_spread_41 post J x1 0 (nI k) z0 f_p f_mode f_flags f_below f_sticky a_kinds a_minus a_exponents a_limb a_row a_one a_two a_roots a_high a_part a_quotient a_square a_guess := by
  refine br_t rfl ⟨vp_in_nI hk (by decide), fun o eo y ey => ?_⟩
  rw [nI_clamp (by omega)] at eo
  subst eo ey
  rw [nI_1]
  exact h
theorem xn_sp_l1 {post : SX → Prop} {x M : Nat} (hx : x < 8) (hM : M < 2 ^ 64) (hl : zLB 4 (M : Int) (fun k => a_limb (4 * x + k))) (h : ∀ o, zTB (zby M) o → post (f_p, f_mode, f_flags, f_below, f_sticky, a_kinds, a_minus, a_exponents, a_limb, a_row, o, a_two, a_roots, a_high, a_part, a_quotient, a_square, a_guess)) : ∀ n k o, k ≤ 16 → 16 - k < n → (∀ j, j < k → o j = nI (zby M j)) → wX_spread_2 post (nI x) 0 f_p f_mode f_flags f_below f_sticky n (nI k) a_kinds a_minus a_exponents a_limb a_row o a_two a_roots a_high a_part a_quotient a_square a_guess := by
  intro n
  induction n with
  | zero => intro k o _ h1; omega
  | succ n ih =>
    intro k o hk hn hz
    have nxt : ∀ v : Int32, k < 16 → v = nI (zby M k) → wX_spread_41 post (wX_spread_2 post (nI x) 0 f_p f_mode f_flags f_below f_sticky n) (nI x) 0 (nI k) v f_p f_mode f_flags f_below f_sticky a_kinds a_minus a_exponents a_limb a_row o a_two a_roots a_high a_part a_quotient a_square a_guess := by
      intro v hk2 hv
      refine xn_sp411 hk2 (ih (k + 1) _ (by omega) (by omega) (fun j hj => ?_))
      by_cases e : j = k
      · subst e; rw [pk_us, hv]
      · rw [pk_un e]; exact hz j (by omega)
    refine pk_le 16 k (fun hk2 => h o (fun j hj => hz j (by omega))) (fun hk2 => ?_)
    refine pk_le 8 k (fun h8 => nxt 0 hk2 ?_) (fun h8 => ⟨?_, ?_⟩)
    · rw [zby_0 hM h8]; rfl
    · rw [zw_s1 (by omega), zx_ix]; exact vp_in_nI (by omega) (by decide)
    · have hlb : a_limb (4 * x + k / 2) = nI (zlm (M : Int) (k / 2)) := hl (k / 2) (by omega)
      have hz2 := zlm_lt (M : Int) (k / 2)
      have hdl := Nat.div_le_self (zlm (M : Int) (k / 2)) (2 ^ (8 * (k % 2)))
      rw [zw_s1 (by omega), zx_ix, nI_clamp (by omega), hlb, zw_m1 (by omega), show (8 : Int32) = nI 8 from rfl, pk_mul, zw_shr (by omega) (by omega), zw_m8 (by omega)]
      exact nxt _ hk2 (by rw [zby_l])
theorem xn_spread1 {post : SX → Prop} {x M : Nat} (hx : x < 8) (hM : M < 2 ^ 64) (hl : zLB 4 (M : Int) (fun k => a_limb (4 * x + k))) (h : ∀ o, zTB (zby M) o → post (f_p, f_mode, f_flags, f_below, f_sticky, a_kinds, a_minus, a_exponents, a_limb, a_row, o, a_two, a_roots, a_high, a_part, a_quotient, a_square, a_guess)) : wpX_spread post (f_p, f_mode, f_flags, f_below, f_sticky, a_kinds, a_minus, a_exponents, a_limb, a_row, a_one, a_two, a_roots, a_high, a_part, a_quotient, a_square, a_guess) (nI x) 0 :=
  ⟨17, xn_sp_l1 hx hM hl h 17 0 a_one (by omega) (by omega) (fun j hj => absurd hj (by omega))⟩
theorem xn_ex1 {post : SX → Prop} {a : Nat → Nat} {k j : Nat} (ha : zTB a a_one) (hk : k < 16) (hj : j < 16) (h : ∀ o, zTB (fun i => if i = j then a k else if i = k then a j else a i) o → post (f_p, f_mode, f_flags, f_below, f_sticky, a_kinds, a_minus, a_exponents, a_limb, a_row, o, a_two, a_roots, a_high, a_part, a_quotient, a_square, a_guess)) : wpX_exchange post (f_p, f_mode, f_flags, f_below, f_sticky, a_kinds, a_minus, a_exponents, a_limb, a_row, a_one, a_two, a_roots, a_high, a_part, a_quotient, a_square, a_guess) 0 (nI k) (nI j) := by
  have vk := vp_in_nI hk (show 16 < 2 ^ 31 by decide)
  have vj := vp_in_nI hj (show 16 < 2 ^ 31 by decide)
  refine br_t rfl ⟨vk, br_t rfl ⟨vj, vk, fun o1 e1 => ⟨vj, fun o2 e2 => ?_⟩⟩⟩
  rw [nI_clamp (by omega), nI_clamp (by omega)] at e1
  rw [nI_clamp (by omega), nI_clamp (by omega)] at e2
  subst e1 e2
  refine h _ (fun i hi => ?_)
  dsimp only
  by_cases c1 : i = j
  · rw [if_pos c1, c1, pk_us]; exact ha k hk
  · rw [if_neg c1, pk_un c1]
    by_cases c2 : i = k
    · rw [if_pos c2, c2, pk_us]; exact ha j hj
    · rw [if_neg c2, pk_un c2]; exact ha i hi
theorem xn_bf1 {post : SX → Prop} {a : Nat → Nat} {hf k : Nat} {back : Bool} (hro : zRT a_roots) (ha : zTB a a_one) (hq : zQ a) (hh : hf = 1 ∨ hf = 2 ∨ hf = 4 ∨ hf = 8) (hk : k < 8) (h : ∀ o, zTB (zbf hf (zat hf k) (zrt (zwi back hf k)) a) o → post (f_p, f_mode, f_flags, f_below, f_sticky, a_kinds, a_minus, a_exponents, a_limb, a_row, o, a_two, a_roots, a_high, a_part, a_quotient, a_square, a_guess)) : wpX_butterfly post (f_p, f_mode, f_flags, f_below, f_sticky, a_kinds, a_minus, a_exponents, a_limb, a_row, a_one, a_two, a_roots, a_high, a_part, a_quotient, a_square, a_guess) 0 (nI (2 * hf)) (nI k) (zb1 back) := by
  have hat := zat_lt hh hk
  have hz := zwi_lt back hh hk
  have v1 := vp_in_nI (n := zat hf k) (N := 16) (by omega) (by decide)
  have v2 := vp_in_nI hat (show 16 < 2 ^ 31 by decide)
  have q1 := hq (zat hf k) (by omega)
  have q2 := hq (zat hf k + hf) hat
  have q3 := zrt_lt (zwi back hf k)
  have q4 := xi_mul q2 q3
  have qt : a (zat hf k + hf) * zrt (zwi back hf k) % 786433 < 786433 := Nat.mod_lt _ (by decide)
  have hhp : 0 < hf ∧ hf ≤ 8 := by omega
  -- the pair itself
  have g107 : wX_butterfly_107 post 0 (nI hf) (nI (zat hf k)) (nI (zrt (zwi back hf k))) (nI (a (zat hf k))) (nI (a (zat hf k + hf))) f_p f_mode f_flags f_below f_sticky a_kinds a_minus a_exponents a_limb a_row a_one a_two a_roots a_high a_part a_quotient a_square a_guess := by
    refine ⟨by decide, fun t et => ⟨by decide, fun pl epl => ⟨by decide, fun le ele => ?_⟩⟩⟩
    rw [nI_l (by omega), nI_l (by omega), lN_mul, xi_rem q4, lN_i] at et
    subst et
    rw [nI_add, show (786433 : Int32) = nI 786433 from rfl, pk_rem (by omega) (by decide) (by decide)] at epl
    have e1 : nI (a (zat hf k)) - nI (a (zat hf k + hf) * zrt (zwi back hf k) % 786433) + 786433 = nI (a (zat hf k) + 786433 - a (zat hf k + hf) * zrt (zwi back hf k) % 786433) := by
      rw [← zI_n, ← zI_n, show (786433 : Int32) = zI 786433 from rfl, zI_sub, zI_add, ← zI_n]
      exact congrArg zI (by omega)
    rw [e1, show (786433 : Int32) = nI 786433 from rfl, pk_rem (by omega) (by decide) (by decide)] at ele
    subst epl ele
    refine br_t rfl ⟨v1, fun o1 e1 => ⟨by rw [nI_add]; exact v2, fun o2 e2 => ?_⟩⟩
    rw [nI_clamp (by omega)] at e1
    rw [nI_add, nI_clamp (by omega)] at e2
    subst e1 e2
    refine h _ (fun i hi => ?_)
    unfold zbf
    by_cases c1 : i = zat hf k + hf
    · rw [if_pos c1, c1, pk_us]
    · rw [if_neg c1, pk_un c1]
      by_cases c2 : i = zat hf k
      · rw [if_pos c2, c2, pk_us]
      · rw [if_neg c2, pk_un c2]; exact ha i hi
  have g51 : ∀ z : Int32, z &&& 15 = nI (zwi back hf k) → wX_butterfly_51 post 0 (nI hf) (nI (zat hf k)) z f_p f_mode f_flags f_below f_sticky a_kinds a_minus a_exponents a_limb a_row a_one a_two a_roots a_high a_part a_quotient a_square a_guess := by
    intro z ez
    unfold wX_butterfly_51
    rw [ez, nI_clamp (by omega), hro _ hz]
    refine ⟨vp_in_nI hz (by decide), fun w8 e8 => ?_⟩
    subst e8
    rw [nI_clamp (by omega), ha _ (show zat hf k < 16 by omega)]
    refine br_t rfl ⟨v1, br_t rfl ⟨by rw [nI_add]; exact v2, ?_⟩⟩
    rw [nI_add, nI_clamp (by omega), ha _ hat]
    exact g107
  have e5 : nI (2 * hf) >>> ((1 : Int32) &&& 31) = nI hf := by rw [zw_s1 (by omega)]; exact congrArg nI (by omega)
  intro x5 e5'
  rw [e5] at e5'
  subst e5'
  have hne : ¬ nI hf = 0 := nI_ne0 (by omega) (by omega)
  have hne2 : ¬ nI (2 * hf) = 0 := nI_ne0 (by omega) (by omega)
  refine ⟨hne, fun x6 e6 => ⟨hne, fun x7 e7 => ?_⟩⟩
  rw [pk_rem (by omega) (by omega) (by omega)] at e6
  subst e6
  rw [pk_div (by omega) (by omega) (by omega), pk_mul, nI_add] at e7
  subst e7
  have e16 : nI (k % hf) * (16 / nI (2 * hf)) = nI (k % hf * (8 / hf)) := by
    rw [show (16 : Int32) = nI 16 from rfl, pk_div (by omega) (by omega) (by omega), pk_mul, ← Nat.div_div_eq_div_mul]
  have hb15 : k % hf * (8 / hf) < 16 := by rcases hh with rfl | rfl | rfl | rfl <;> omega
  cases back
  · refine br_t rfl ⟨hne2, ?_⟩
    rw [e16]
    refine g51 _ ?_
    rw [zw_m15 (by omega), Nat.mod_eq_of_lt hb15]
    rfl
  · refine br_f (by decide) ⟨hne2, ?_⟩
    rw [e16]
    refine g51 _ ?_
    rw [show (16 : Int32) = nI 16 from rfl, pk_sub (by omega), zw_m15 (by omega)]
    rfl
theorem xn_621 {post : SX → Prop} {J : Int32 → Int32 → Int32 → Int32 → Int32 → Int32 → (Nat → Int32) → (Nat → Int32) → (Nat → Int32) → (Nat → Int32) → (Nat → Int32) → (Nat → Int32) → (Nat → Int32) → (Nat → Int32) → (Nat → Int32) → (Nat → Int32) → (Nat → Int32) → (Nat → Int32) → (Nat → Int32) → Prop} {a : Nat → Nat} {hf : Nat} {back : Bool} (hro : zRT a_roots) (hq : zQ a) (hh : hf = 1 ∨ hf = 2 ∨ hf = 4 ∨ hf = 8) (h : ∀ o, zTB (zstg back hf 8 a) o → J (nI (4 * hf)) f_p f_mode f_flags f_below f_sticky a_kinds a_minus a_exponents a_limb a_row o a_two a_roots a_high a_part a_quotient a_square a_guess) : ∀ n k o, k ≤ 8 → 8 - k < n → zTB (zstg back hf k a) o → wX_transform_62 post J 0 (zb1 back) (nI (2 * hf)) n (nI k) f_p f_mode f_flags f_below f_sticky a_kinds a_minus a_exponents a_limb a_row o a_two a_roots a_high a_part a_quotient a_square a_guess := by
  intro n
  induction n with
  | zero => intro k o _ h1; omega
  | succ n ih =>
    intro k o hk hn ho
    refine pk_le 8 k (fun hk2 y ey => ?_) (fun hk2 => ?_)
    · have e8 : k = 8 := by omega
      subst e8
      have ey2 : y = nI (4 * hf) := by rw [ey, show (2 : Int32) = nI 2 from rfl, pk_mul]; exact congrArg nI (by omega)
      subst ey2
      exact h o ho
    · refine xn_bf1 hro ho (zQ_st hq hh (by omega)) hh hk2 (fun o2 ho2 y ey => ?_)
      subst ey
      rw [nI_1]
      exact ih (k + 1) o2 (by omega) (by omega) ho2
theorem xn_531 {post : SX → Prop} {a : Nat → Nat} {back : Bool} (hro : zRT a_roots) (ha : zTB a a_one) (hq : zQ a) (h : ∀ o, zTB (zstg back 8 8 (zstg back 4 8 (zstg back 2 8 (zstg back 1 8 a)))) o → post (f_p, f_mode, f_flags, f_below, f_sticky, a_kinds, a_minus, a_exponents, a_limb, a_row, o, a_two, a_roots, a_high, a_part, a_quotient, a_square, a_guess)) : wX_transform_53 post 0 (zb1 back) 5 (nI 2) f_p f_mode f_flags f_below f_sticky a_kinds a_minus a_exponents a_limb a_row a_one a_two a_roots a_high a_part a_quotient a_square a_guess := by
  have q1 := zQ_st (back := back) (k := 8) hq (Or.inl rfl) (by omega)
  have q2 := zQ_st (back := back) (k := 8) q1 (Or.inr (Or.inl rfl)) (by omega)
  have q3 := zQ_st (back := back) (k := 8) q2 (Or.inr (Or.inr (Or.inl rfl))) (by omega)
  refine br_f (by decide) ⟨9, xn_621 (hf := 1) hro hq (Or.inl rfl) (fun o1 h1 => ?_) 9 0 a_one (by omega) (by omega) ha⟩
  refine br_f (by decide) ⟨9, xn_621 (hf := 2) hro q1 (Or.inr (Or.inl rfl)) (fun o2 h2 => ?_) 9 0 o1 (by omega) (by omega) h1⟩
  refine br_f (by decide) ⟨9, xn_621 (hf := 4) hro q2 (Or.inr (Or.inr (Or.inl rfl))) (fun o3 h3 => ?_) 9 0 o2 (by omega) (by omega) h2⟩
  refine br_f (by decide) ⟨9, xn_621 (hf := 8) hro q3 (Or.inr (Or.inr (Or.inr rfl))) (fun o4 h4 => ?_) 9 0 o3 (by omega) (by omega) h3⟩
  exact br_t (by decide) (h o4 h4)
theorem xn_tr21 {post : SX → Prop} {a : Nat → Nat} {back : Bool} (hro : zRT a_roots) (hq : zQ a) (h : ∀ o, zTB (ztr back a) o → post (f_p, f_mode, f_flags, f_below, f_sticky, a_kinds, a_minus, a_exponents, a_limb, a_row, o, a_two, a_roots, a_high, a_part, a_quotient, a_square, a_guess)) : ∀ n k o, k ≤ 16 → 16 - k < n → zTB (zpm a k) o → wX_transform_2 post 0 (zb1 back) n (nI k) f_p f_mode f_flags f_below f_sticky a_kinds a_minus a_exponents a_limb a_row o a_two a_roots a_high a_part a_quotient a_square a_guess := by
  intro n
  induction n with
  | zero => intro k o _ h1; omega
  | succ n ih =>
    intro k o hk hn ho
    refine pk_le 16 k (fun hk2 => ?_) (fun hk2 j ej => ?_)
    · have e16 : k = 16 := by omega
      subst e16
      refine ⟨5, xn_531 (a := fun j => a (zrev j)) hro (fun j hj => ?_) (fun j _ => hq _ (zrev_lt j)) h⟩
      rw [ho j hj]
      unfold zpm
      rw [if_pos (Or.inl hj)]
    · rw [zrev_e k hk2] at ej
      subst ej
      have hr := zrev_lt k
      refine pk_le (zrev k) k (fun hle y ey => ?_) (fun hgt => ?_)
      · subst ey
        rw [nI_1]
        refine ih (k + 1) o (by omega) (by omega) (fun i hi => ?_)
        rw [ho i hi, zpm_no a hk2 hle i hi]
      · refine xn_ex1 ho hk2 hr (fun o2 ho2 y ey => ?_)
        subst ey
        rw [nI_1]
        refine ih (k + 1) o2 (by omega) (by omega) (fun i hi => ?_)
        rw [ho2 i hi]
        dsimp only
        rw [zpm_ex a hk2 hgt i hi]
theorem xn_tr1 {post : SX → Prop} {a : Nat → Nat} {back : Bool} (hro : zRT a_roots) (ha : zTB a a_one) (hq : zQ a) (h : ∀ o, zTB (ztr back a) o → post (f_p, f_mode, f_flags, f_below, f_sticky, a_kinds, a_minus, a_exponents, a_limb, a_row, o, a_two, a_roots, a_high, a_part, a_quotient, a_square, a_guess)) : wpX_transform post (f_p, f_mode, f_flags, f_below, f_sticky, a_kinds, a_minus, a_exponents, a_limb, a_row, a_one, a_two, a_roots, a_high, a_part, a_quotient, a_square, a_guess) 0 (zb1 back) := by
  refine ⟨17, xn_tr21 hro hq h 17 0 a_one (by omega) (by omega) (fun i hi => ?_)⟩
  rw [ha i hi]
  unfold zpm
  rw [if_neg (by omega)]
theorem xn_sp412 {post : SX → Prop} {J : Int32 → (Nat → Int32) → (Nat → Int32) → (Nat → Int32) → (Nat → Int32) → (Nat → Int32) → (Nat → Int32) → (Nat → Int32) → (Nat → Int32) → (Nat → Int32) → (Nat → Int32) → (Nat → Int32) → (Nat → Int32) → (Nat → Int32) → Prop} {x1 z0 : Int32} {k : Nat} (hk : k < 16) (h : J (nI (k + 1)) a_kinds a_minus a_exponents a_limb a_row a_one (upd a_two k z0) a_roots a_high a_part a_quotient a_square a_guess) : wX_spread_41 post J x1 1 (nI k) z0 f_p f_mode f_flags f_below f_sticky a_kinds a_minus a_exponents a_limb a_row a_one a_two a_roots a_high a_part a_quotient a_square a_guess := by
  refine br_f (by decide) ⟨vp_in_nI hk (by decide), fun o eo y ey => ?_⟩
  rw [nI_clamp (by omega)] at eo
  subst eo ey
  rw [nI_1]
  exact h
theorem xn_sp_l2 {post : SX → Prop} {x M : Nat} (hx : x < 8) (hM : M < 2 ^ 64) (hl : zLB 4 (M : Int) (fun k => a_limb (4 * x + k))) (h : ∀ o, zTB (zby M) o → post (f_p, f_mode, f_flags, f_below, f_sticky, a_kinds, a_minus, a_exponents, a_limb, a_row, a_one, o, a_roots, a_high, a_part, a_quotient, a_square, a_guess)) : ∀ n k o, k ≤ 16 → 16 - k < n → (∀ j, j < k → o j = nI (zby M j)) → wX_spread_2 post (nI x) 1 f_p f_mode f_flags f_below f_sticky n (nI k) a_kinds a_minus a_exponents a_limb a_row a_one o a_roots a_high a_part a_quotient a_square a_guess := by
  intro n
  induction n with
  | zero => intro k o _ h1; omega
  | succ n ih =>
    intro k o hk hn hz
    have nxt : ∀ v : Int32, k < 16 → v = nI (zby M k) → wX_spread_41 post (wX_spread_2 post (nI x) 1 f_p f_mode f_flags f_below f_sticky n) (nI x) 1 (nI k) v f_p f_mode f_flags f_below f_sticky a_kinds a_minus a_exponents a_limb a_row a_one o a_roots a_high a_part a_quotient a_square a_guess := by
      intro v hk2 hv
      refine xn_sp412 hk2 (ih (k + 1) _ (by omega) (by omega) (fun j hj => ?_))
      by_cases e : j = k
      · subst e; rw [pk_us, hv]
      · rw [pk_un e]; exact hz j (by omega)
    refine pk_le 16 k (fun hk2 => h o (fun j hj => hz j (by omega))) (fun hk2 => ?_)
    refine pk_le 8 k (fun h8 => nxt 0 hk2 ?_) (fun h8 => ⟨?_, ?_⟩)
    · rw [zby_0 hM h8]; rfl
    · rw [zw_s1 (by omega), zx_ix]; exact vp_in_nI (by omega) (by decide)
    · have hlb : a_limb (4 * x + k / 2) = nI (zlm (M : Int) (k / 2)) := hl (k / 2) (by omega)
      have hz2 := zlm_lt (M : Int) (k / 2)
      have hdl := Nat.div_le_self (zlm (M : Int) (k / 2)) (2 ^ (8 * (k % 2)))
      rw [zw_s1 (by omega), zx_ix, nI_clamp (by omega), hlb, zw_m1 (by omega), show (8 : Int32) = nI 8 from rfl, pk_mul, zw_shr (by omega) (by omega), zw_m8 (by omega)]
      exact nxt _ hk2 (by rw [zby_l])
theorem xn_spread2 {post : SX → Prop} {x M : Nat} (hx : x < 8) (hM : M < 2 ^ 64) (hl : zLB 4 (M : Int) (fun k => a_limb (4 * x + k))) (h : ∀ o, zTB (zby M) o → post (f_p, f_mode, f_flags, f_below, f_sticky, a_kinds, a_minus, a_exponents, a_limb, a_row, a_one, o, a_roots, a_high, a_part, a_quotient, a_square, a_guess)) : wpX_spread post (f_p, f_mode, f_flags, f_below, f_sticky, a_kinds, a_minus, a_exponents, a_limb, a_row, a_one, a_two, a_roots, a_high, a_part, a_quotient, a_square, a_guess) (nI x) 1 :=
  ⟨17, xn_sp_l2 hx hM hl h 17 0 a_two (by omega) (by omega) (fun j hj => absurd hj (by omega))⟩
theorem xn_ex2 {post : SX → Prop} {a : Nat → Nat} {k j : Nat} (ha : zTB a a_two) (hk : k < 16) (hj : j < 16) (h : ∀ o, zTB (fun i => if i = j then a k else if i = k then a j else a i) o → post (f_p, f_mode, f_flags, f_below, f_sticky, a_kinds, a_minus, a_exponents, a_limb, a_row, a_one, o, a_roots, a_high, a_part, a_quotient, a_square, a_guess)) : wpX_exchange post (f_p, f_mode, f_flags, f_below, f_sticky, a_kinds, a_minus, a_exponents, a_limb, a_row, a_one, a_two, a_roots, a_high, a_part, a_quotient, a_square, a_guess) 1 (nI k) (nI j) := by
  have vk := vp_in_nI hk (show 16 < 2 ^ 31 by decide)
  have vj := vp_in_nI hj (show 16 < 2 ^ 31 by decide)
  refine br_f (by decide) ⟨vk, br_f (by decide) ⟨vj, vk, fun o1 e1 => ⟨vj, fun o2 e2 => ?_⟩⟩⟩
  rw [nI_clamp (by omega), nI_clamp (by omega)] at e1
  rw [nI_clamp (by omega), nI_clamp (by omega)] at e2
  subst e1 e2
  refine h _ (fun i hi => ?_)
  dsimp only
  by_cases c1 : i = j
  · rw [if_pos c1, c1, pk_us]; exact ha k hk
  · rw [if_neg c1, pk_un c1]
    by_cases c2 : i = k
    · rw [if_pos c2, c2, pk_us]; exact ha j hj
    · rw [if_neg c2, pk_un c2]; exact ha i hi
theorem xn_bf2 {post : SX → Prop} {a : Nat → Nat} {hf k : Nat} {back : Bool} (hro : zRT a_roots) (ha : zTB a a_two) (hq : zQ a) (hh : hf = 1 ∨ hf = 2 ∨ hf = 4 ∨ hf = 8) (hk : k < 8) (h : ∀ o, zTB (zbf hf (zat hf k) (zrt (zwi back hf k)) a) o → post (f_p, f_mode, f_flags, f_below, f_sticky, a_kinds, a_minus, a_exponents, a_limb, a_row, a_one, o, a_roots, a_high, a_part, a_quotient, a_square, a_guess)) : wpX_butterfly post (f_p, f_mode, f_flags, f_below, f_sticky, a_kinds, a_minus, a_exponents, a_limb, a_row, a_one, a_two, a_roots, a_high, a_part, a_quotient, a_square, a_guess) 1 (nI (2 * hf)) (nI k) (zb1 back) := by
  have hat := zat_lt hh hk
  have hz := zwi_lt back hh hk
  have v1 := vp_in_nI (n := zat hf k) (N := 16) (by omega) (by decide)
  have v2 := vp_in_nI hat (show 16 < 2 ^ 31 by decide)
  have q1 := hq (zat hf k) (by omega)
  have q2 := hq (zat hf k + hf) hat
  have q3 := zrt_lt (zwi back hf k)
  have q4 := xi_mul q2 q3
  have qt : a (zat hf k + hf) * zrt (zwi back hf k) % 786433 < 786433 := Nat.mod_lt _ (by decide)
  have hhp : 0 < hf ∧ hf ≤ 8 := by omega
  -- the pair itself
  have g107 : wX_butterfly_107 post 1 (nI hf) (nI (zat hf k)) (nI (zrt (zwi back hf k))) (nI (a (zat hf k))) (nI (a (zat hf k + hf))) f_p f_mode f_flags f_below f_sticky a_kinds a_minus a_exponents a_limb a_row a_one a_two a_roots a_high a_part a_quotient a_square a_guess := by
    refine ⟨by decide, fun t et => ⟨by decide, fun pl epl => ⟨by decide, fun le ele => ?_⟩⟩⟩
    rw [nI_l (by omega), nI_l (by omega), lN_mul, xi_rem q4, lN_i] at et
    subst et
    rw [nI_add, show (786433 : Int32) = nI 786433 from rfl, pk_rem (by omega) (by decide) (by decide)] at epl
    have e1 : nI (a (zat hf k)) - nI (a (zat hf k + hf) * zrt (zwi back hf k) % 786433) + 786433 = nI (a (zat hf k) + 786433 - a (zat hf k + hf) * zrt (zwi back hf k) % 786433) := by
      rw [← zI_n, ← zI_n, show (786433 : Int32) = zI 786433 from rfl, zI_sub, zI_add, ← zI_n]
      exact congrArg zI (by omega)
    rw [e1, show (786433 : Int32) = nI 786433 from rfl, pk_rem (by omega) (by decide) (by decide)] at ele
    subst epl ele
    refine br_f (by decide) ⟨v1, fun o1 e1 => ⟨by rw [nI_add]; exact v2, fun o2 e2 => ?_⟩⟩
    rw [nI_clamp (by omega)] at e1
    rw [nI_add, nI_clamp (by omega)] at e2
    subst e1 e2
    refine h _ (fun i hi => ?_)
    unfold zbf
    by_cases c1 : i = zat hf k + hf
    · rw [if_pos c1, c1, pk_us]
    · rw [if_neg c1, pk_un c1]
      by_cases c2 : i = zat hf k
      · rw [if_pos c2, c2, pk_us]
      · rw [if_neg c2, pk_un c2]; exact ha i hi
  have g51 : ∀ z : Int32, z &&& 15 = nI (zwi back hf k) → wX_butterfly_51 post 1 (nI hf) (nI (zat hf k)) z f_p f_mode f_flags f_below f_sticky a_kinds a_minus a_exponents a_limb a_row a_one a_two a_roots a_high a_part a_quotient a_square a_guess := by
    intro z ez
    unfold wX_butterfly_51
    rw [ez, nI_clamp (by omega), hro _ hz]
    refine ⟨vp_in_nI hz (by decide), fun w8 e8 => ?_⟩
    subst e8
    rw [nI_clamp (by omega), ha _ (show zat hf k < 16 by omega)]
    refine br_f (by decide) ⟨v1, br_f (by decide) ⟨by rw [nI_add]; exact v2, ?_⟩⟩
    rw [nI_add, nI_clamp (by omega), ha _ hat]
    exact g107
  have e5 : nI (2 * hf) >>> ((1 : Int32) &&& 31) = nI hf := by rw [zw_s1 (by omega)]; exact congrArg nI (by omega)
  intro x5 e5'
  rw [e5] at e5'
  subst e5'
  have hne : ¬ nI hf = 0 := nI_ne0 (by omega) (by omega)
  have hne2 : ¬ nI (2 * hf) = 0 := nI_ne0 (by omega) (by omega)
  refine ⟨hne, fun x6 e6 => ⟨hne, fun x7 e7 => ?_⟩⟩
  rw [pk_rem (by omega) (by omega) (by omega)] at e6
  subst e6
  rw [pk_div (by omega) (by omega) (by omega), pk_mul, nI_add] at e7
  subst e7
  have e16 : nI (k % hf) * (16 / nI (2 * hf)) = nI (k % hf * (8 / hf)) := by
    rw [show (16 : Int32) = nI 16 from rfl, pk_div (by omega) (by omega) (by omega), pk_mul, ← Nat.div_div_eq_div_mul]
  have hb15 : k % hf * (8 / hf) < 16 := by rcases hh with rfl | rfl | rfl | rfl <;> omega
  cases back
  · refine br_t rfl ⟨hne2, ?_⟩
    rw [e16]
    refine g51 _ ?_
    rw [zw_m15 (by omega), Nat.mod_eq_of_lt hb15]
    rfl
  · refine br_f (by decide) ⟨hne2, ?_⟩
    rw [e16]
    refine g51 _ ?_
    rw [show (16 : Int32) = nI 16 from rfl, pk_sub (by omega), zw_m15 (by omega)]
    rfl
theorem xn_622 {post : SX → Prop} {J : Int32 → Int32 → Int32 → Int32 → Int32 → Int32 → (Nat → Int32) → (Nat → Int32) → (Nat → Int32) → (Nat → Int32) → (Nat → Int32) → (Nat → Int32) → (Nat → Int32) → (Nat → Int32) → (Nat → Int32) → (Nat → Int32) → (Nat → Int32) → (Nat → Int32) → (Nat → Int32) → Prop} {a : Nat → Nat} {hf : Nat} {back : Bool} (hro : zRT a_roots) (hq : zQ a) (hh : hf = 1 ∨ hf = 2 ∨ hf = 4 ∨ hf = 8) (h : ∀ o, zTB (zstg back hf 8 a) o → J (nI (4 * hf)) f_p f_mode f_flags f_below f_sticky a_kinds a_minus a_exponents a_limb a_row a_one o a_roots a_high a_part a_quotient a_square a_guess) : ∀ n k o, k ≤ 8 → 8 - k < n → zTB (zstg back hf k a) o → wX_transform_62 post J 1 (zb1 back) (nI (2 * hf)) n (nI k) f_p f_mode f_flags f_below f_sticky a_kinds a_minus a_exponents a_limb a_row a_one o a_roots a_high a_part a_quotient a_square a_guess := by
  intro n
  induction n with
  | zero => intro k o _ h1; omega
  | succ n ih =>
    intro k o hk hn ho
    refine pk_le 8 k (fun hk2 y ey => ?_) (fun hk2 => ?_)
    · have e8 : k = 8 := by omega
      subst e8
      have ey2 : y = nI (4 * hf) := by rw [ey, show (2 : Int32) = nI 2 from rfl, pk_mul]; exact congrArg nI (by omega)
      subst ey2
      exact h o ho
    · refine xn_bf2 hro ho (zQ_st hq hh (by omega)) hh hk2 (fun o2 ho2 y ey => ?_)
      subst ey
      rw [nI_1]
      exact ih (k + 1) o2 (by omega) (by omega) ho2
theorem xn_532 {post : SX → Prop} {a : Nat → Nat} {back : Bool} (hro : zRT a_roots) (ha : zTB a a_two) (hq : zQ a) (h : ∀ o, zTB (zstg back 8 8 (zstg back 4 8 (zstg back 2 8 (zstg back 1 8 a)))) o → post (f_p, f_mode, f_flags, f_below, f_sticky, a_kinds, a_minus, a_exponents, a_limb, a_row, a_one, o, a_roots, a_high, a_part, a_quotient, a_square, a_guess)) : wX_transform_53 post 1 (zb1 back) 5 (nI 2) f_p f_mode f_flags f_below f_sticky a_kinds a_minus a_exponents a_limb a_row a_one a_two a_roots a_high a_part a_quotient a_square a_guess := by
  have q1 := zQ_st (back := back) (k := 8) hq (Or.inl rfl) (by omega)
  have q2 := zQ_st (back := back) (k := 8) q1 (Or.inr (Or.inl rfl)) (by omega)
  have q3 := zQ_st (back := back) (k := 8) q2 (Or.inr (Or.inr (Or.inl rfl))) (by omega)
  refine br_f (by decide) ⟨9, xn_622 (hf := 1) hro hq (Or.inl rfl) (fun o1 h1 => ?_) 9 0 a_two (by omega) (by omega) ha⟩
  refine br_f (by decide) ⟨9, xn_622 (hf := 2) hro q1 (Or.inr (Or.inl rfl)) (fun o2 h2 => ?_) 9 0 o1 (by omega) (by omega) h1⟩
  refine br_f (by decide) ⟨9, xn_622 (hf := 4) hro q2 (Or.inr (Or.inr (Or.inl rfl))) (fun o3 h3 => ?_) 9 0 o2 (by omega) (by omega) h2⟩
  refine br_f (by decide) ⟨9, xn_622 (hf := 8) hro q3 (Or.inr (Or.inr (Or.inr rfl))) (fun o4 h4 => ?_) 9 0 o3 (by omega) (by omega) h3⟩
  exact br_t (by decide) (h o4 h4)
theorem xn_tr22 {post : SX → Prop} {a : Nat → Nat} {back : Bool} (hro : zRT a_roots) (hq : zQ a) (h : ∀ o, zTB (ztr back a) o → post (f_p, f_mode, f_flags, f_below, f_sticky, a_kinds, a_minus, a_exponents, a_limb, a_row, a_one, o, a_roots, a_high, a_part, a_quotient, a_square, a_guess)) : ∀ n k o, k ≤ 16 → 16 - k < n → zTB (zpm a k) o → wX_transform_2 post 1 (zb1 back) n (nI k) f_p f_mode f_flags f_below f_sticky a_kinds a_minus a_exponents a_limb a_row a_one o a_roots a_high a_part a_quotient a_square a_guess := by
  intro n
  induction n with
  | zero => intro k o _ h1; omega
  | succ n ih =>
    intro k o hk hn ho
    refine pk_le 16 k (fun hk2 => ?_) (fun hk2 j ej => ?_)
    · have e16 : k = 16 := by omega
      subst e16
      refine ⟨5, xn_532 (a := fun j => a (zrev j)) hro (fun j hj => ?_) (fun j _ => hq _ (zrev_lt j)) h⟩
      rw [ho j hj]
      unfold zpm
      rw [if_pos (Or.inl hj)]
    · rw [zrev_e k hk2] at ej
      subst ej
      have hr := zrev_lt k
      refine pk_le (zrev k) k (fun hle y ey => ?_) (fun hgt => ?_)
      · subst ey
        rw [nI_1]
        refine ih (k + 1) o (by omega) (by omega) (fun i hi => ?_)
        rw [ho i hi, zpm_no a hk2 hle i hi]
      · refine xn_ex2 ho hk2 hr (fun o2 ho2 y ey => ?_)
        subst ey
        rw [nI_1]
        refine ih (k + 1) o2 (by omega) (by omega) (fun i hi => ?_)
        rw [ho2 i hi]
        dsimp only
        rw [zpm_ex a hk2 hgt i hi]
theorem xn_tr2 {post : SX → Prop} {a : Nat → Nat} {back : Bool} (hro : zRT a_roots) (ha : zTB a a_two) (hq : zQ a) (h : ∀ o, zTB (ztr back a) o → post (f_p, f_mode, f_flags, f_below, f_sticky, a_kinds, a_minus, a_exponents, a_limb, a_row, a_one, o, a_roots, a_high, a_part, a_quotient, a_square, a_guess)) : wpX_transform post (f_p, f_mode, f_flags, f_below, f_sticky, a_kinds, a_minus, a_exponents, a_limb, a_row, a_one, a_two, a_roots, a_high, a_part, a_quotient, a_square, a_guess) 1 (zb1 back) := by
  refine ⟨17, xn_tr22 hro hq h 17 0 a_two (by omega) (by omega) (fun i hi => ?_)⟩
  rw [ha i hi]
  unfold zpm
  rw [if_neg (by omega)]
end
end
section
/-! the product of the component -/
def zpo (p : Nat) (a b : ZV) : Nat := zwt p a + zwt p b - 340
def zprod (p : Nat) (a b : ZV) : Nat := if a.1 = 2 ∧ b.1 = 2 then a.2.2.2 * b.2.2.2 * 2 ^ zpo p a b else 0
theorem zpo_i {p : Nat} {a b : ZV} (hp : p ≤ 64) (ha : zOK p a) (hb : zOK p b) (h1 : a.1 = 2) (h2 : b.1 = 2) : (zpo p a b : Int) = 340 + (a.2.2.1 - p + 1) + (b.2.2.1 - p + 1) ∧ zpo p a b ≤ 542 := by
  have e1 := zwt_i hp ha h1
  have e2 := zwt_i hp hb h2
  have := ha.2.1 h1
  have := hb.2.1 h2
  unfold zpo
  constructor
  · omega
  · omega
theorem zprod_lt {p : Nat} {a b : ZV} (hp2 : 2 ≤ p) (hp : p ≤ 64) (ha : zOK p a) (hb : zOK p b) : zprod p a b < 2 ^ 545 := by
  unfold zprod
  by_cases c : a.1 = 2 ∧ b.1 = 2
  · rw [if_pos c]
    obtain ⟨g1, g2, g3, g4, g5⟩ := ha.2.1 c.1
    obtain ⟨k1, k2, k3, k4, k5⟩ := hb.2.1 c.2
    have i1 := (zpo_i hp ha hb c.1 c.2).1
    have m1 : a.2.2.2 * b.2.2.2 < 2 ^ p * 2 ^ p := Nat.mul_lt_mul'' g2 k2
    have m2 := Nat.mul_lt_mul_of_pos_right m1 (Nat.two_pow_pos (zpo p a b))
    rw [← zNp, ← zNp] at m2
    exact Nat.lt_of_lt_of_le m2 (zpl_le (by omega))
  · rw [if_neg c]; exact Nat.two_pow_pos _
theorem zsg_add (b : Bool) (x y : Int) : zsg b (x + y) = zsg b x + zsg b y := by
  unfold zsg
  cases b
  · rfl
  · show -(x + y) = -x + -y; omega
theorem zsg_mul (b : Bool) (x y : Int) : zsg b (x * y) = zsg b x * y := by
  unfold zsg
  cases b
  · rfl
  · show -(x * y) = -x * y; rw [Int.neg_mul]
theorem zsg_0 (b : Bool) : zsg b 0 = 0 := by cases b <;> rfl
def zml (p md : Nat) (a b : ZV) (f : Int32) : ZV × Int32 := if (a.1 = 0 ∨ b.1 = 0) ∧ (a.1 = 3 ∨ b.1 = 3) then ((4, false, 0, 0), f ||| 16) else if a.1 = 3 ∨ b.1 = 3 then ((3, a.2.1 != b.2.1, 0, 0), f) else zrd0 340 p md (a.2.1 != b.2.1) (zprod p a b) false f
theorem zml_ok {p md : Nat} {a b : ZV} {f : Int32} (hp2 : 2 ≤ p) (hp : p ≤ 64) : zOK p (zml p md a b f).1 := by
  unfold zml
  split
  · exact zOK_4 p
  · split
    · exact zOK_3 p _
    · exact zrd0_ok hp2 hp (by decide)
section
variable {f_p f_mode f_flags f_below f_sticky : Int32} {a_kinds a_minus a_exponents a_limb a_row a_one a_two a_roots a_high a_part a_quotient a_square a_guess : Nat → Int32}
theorem xp_95 {post : SX → Prop} {T : Int} {a : Nat → Nat} {at' : Nat} {off : Bool} (hat : at' < 2 ^ 20) (ha : zTB a a_one) (hq : zQ a) (h : ∀ r, zLB 54 (T + zsg off (zS 16 (fun i => ((a i * 737281 % 786433 : Nat) : Int) * 256 ^ i)) * 2 ^ at') r → post (f_p, f_mode, f_flags, f_below, f_sticky, a_kinds, a_minus, a_exponents, a_limb, r, a_one, a_two, a_roots, a_high, a_part, a_quotient, a_square, a_guess)) : ∀ n k r, k ≤ 16 → 16 - k < n → zLB 54 (T + zsg off (zS k (fun i => ((a i * 737281 % 786433 : Nat) : Int) * 256 ^ i)) * 2 ^ at') r → wX_product_95 post (zb1 off) (nI at') n (nI k) f_p f_mode f_flags f_below f_sticky a_kinds a_minus a_exponents a_limb r a_one a_two a_roots a_high a_part a_quotient a_square a_guess := by
  intro n
  induction n with
  | zero => intro k r _ h1; omega
  | succ n ih =>
    intro k r hk hn hr
    refine pk_le 16 k (fun hk2 => ?_) (fun hk2 => ⟨vp_in_nI hk2 (by decide), by decide, fun v ev => ?_⟩)
    · have e : k = 16 := by omega
      subst e
      exact h r hr
    · have hqk := hq k hk2
      have hm := xi_mul hqk (show 737281 < 786433 by decide)
      rw [nI_clamp (by omega), ha k hk2, nI_l (by omega), show (737281 : Int64) = lN 737281 from rfl, lN_mul, xi_rem hm, lN_i] at ev
      subst ev
      have e8 : nI at' + (8 : Int32) * nI k = nI (at' + 8 * k) := by rw [show (8 : Int32) = nI 8 from rfl, pk_mul, nI_add]
      rw [e8]
      have hv : a k * 737281 % 786433 < 786433 := Nat.mod_lt _ (by decide)
      refine xr_dep hr (by omega) (by omega) (fun r2 hr2 y ey => ?_)
      subst ey
      rw [nI_1]
      refine ih (k + 1) r2 (by omega) (by omega) ?_
      have e9 : T + zsg off (zS k (fun i => ((a i * 737281 % 786433 : Nat) : Int) * 256 ^ i)) * 2 ^ at' + zsg off ((a k * 737281 % 786433 : Nat) : Int) * 2 ^ (at' + 8 * k) = T + zsg off (zS (k + 1) (fun i => ((a i * 737281 % 786433 : Nat) : Int) * 256 ^ i)) * 2 ^ at' := by
        show _ = T + zsg off (zS k (fun i => ((a i * 737281 % 786433 : Nat) : Int) * 256 ^ i) + ((a k * 737281 % 786433 : Nat) : Int) * 256 ^ k) * 2 ^ at'
        rw [zsg_add, zsg_mul off _ (256 ^ k), Int.add_mul, Int.mul_assoc (zsg off ((a k * 737281 % 786433 : Nat) : Int)), show (256 : Int) = 2 ^ 8 from rfl, ← Int.pow_mul, ← Int.pow_add, Nat.add_comm (8 * k), Int.add_assoc]
      rw [e9] at hr2
      exact hr2
theorem xp_27 {post : SX → Prop} {T : Int} {p x y Mx My at' : Nat} {ex ey : Int} {off : Bool} (hro : zRT a_roots) (hx : x < 8) (hy : y < 8) (hMx : Mx < 2 ^ 64) (hMy : My < 2 ^ 64) (hex : a_exponents x = zI ex) (hey : a_exponents y = zI ey) (hat : (at' : Int) = (ex - p + 1 + 480) + (ey - p + 1 + 480) - 480) (hat2 : at' < 2 ^ 20) (hr : zLB 54 T a_row) (htw : zTB (ztr false (zby My)) a_two) (h : ∀ r o, zLB 54 (T + zsg off ((Mx * My : Nat) : Int) * 2 ^ at') r → post (nI p, f_mode, f_flags, f_below, f_sticky, a_kinds, a_minus, a_exponents, a_limb, r, o, a_two, a_roots, a_high, a_part, a_quotient, a_square, a_guess)) : ∀ n k o, k ≤ 16 → 16 - k < n → (∀ j, j < k → o j = nI (zcp (zby Mx) (zby My) j)) → (∀ j, k ≤ j → j < 16 → o j = nI (ztr false (zby Mx) j)) → wX_product_27 post (nI x) (nI y) (zb1 off) (nI p) f_mode f_flags f_below f_sticky n (nI k) a_kinds a_minus a_exponents a_limb a_row o a_two a_roots a_high a_part a_quotient a_square a_guess := by
  have qb : ∀ M, zQ (zby M) := fun M j _ => by have := zby_le M j; omega
  intro n
  induction n with
  | zero => intro k o _ h1; omega
  | succ n ih =>
    intro k o hk hn hlo hhi
    refine pk_le 16 k (fun hk2 => ?_) (fun hk2 => ⟨vp_in_nI hk2 (by decide), vp_in_nI hk2 (by decide), by decide, vp_in_nI hk2 (by decide), fun o1 eo y1 ey1 => ?_⟩)
    · have hq : zQ (zcp (zby Mx) (zby My)) := fun j _ => Nat.mod_lt _ (by decide)
      refine xn_tr1 (back := true) hro (fun j hj => hlo j (by omega)) hq (fun o2 ho2 => ?_)
      refine xs_foot hx hex (xs_foot hy hey (fun x4 e4 => ?_))
      have e5 : x4 = nI at' := by
        rw [e4, zI_add, show (-480 : Int32) = zI (-480) from rfl, zI_add, ← zI_n]
        exact congrArg zI (by omega)
      subst e5
      refine ⟨17, xp_95 (T := T) (off := off) hat2 ho2 (zQ_tr hq) (fun r hr2 => ?_) 17 0 a_row (by omega) (by omega) ?_⟩
      · refine h r o2 ?_
        have e6 : zS 16 (fun i => ((ztr true (zcp (zby Mx) (zby My)) i * 737281 % 786433 : Nat) : Int) * 256 ^ i) = ((Mx * My : Nat) : Int) := by
          have b0 : ∀ M, M < 2 ^ 64 → ∀ i, 8 ≤ i → i < 16 → zby M i = 0 := fun M hM i hi _ => zby_0 hM hi
          have e7 : zS 16 (fun i => ((ztr true (zcp (zby Mx) (zby My)) i * 737281 % 786433 : Nat) : Int) * 256 ^ i) = zS 16 (fun k => zcv (zby Mx) (zby My) k * 256 ^ k) := by
            refine zS_c (fun i hi => ?_)
            have hin := zcv_in hi (fun i _ => zby_le Mx i) (fun i _ => zby_le My i) (b0 Mx hMx)
            rw [zconv _ _ i hi, Int.emod_eq_of_lt hin.1 hin.2]
          have e8 : ∀ M, M < 2 ^ 64 → zS 16 (fun i => ((zby M i : Nat) : Int) * 256 ^ i) = (M : Int) := by
            intro M hM
            have := zbyte_val M 16
            rw [Nat.mod_eq_of_lt (Nat.lt_trans hM (by decide))] at this
            exact this
          rw [e7, zcv_val 256 (b0 Mx hMx) (b0 My hMy), e8 Mx hMx, e8 My hMy, Int.natCast_mul]
        rw [e6] at hr2
        exact hr2
      · have e9 : T + zsg off (zS 0 (fun i => ((ztr true (zcp (zby Mx) (zby My)) i * 737281 % 786433 : Nat) : Int) * 256 ^ i)) * 2 ^ at' = T := by
          rw [show zS 0 (fun i => ((ztr true (zcp (zby Mx) (zby My)) i * 737281 % 786433 : Nat) : Int) * 256 ^ i) = 0 from rfl, zsg_0, Int.zero_mul, Int.add_zero]
        rw [e9]
        exact hr
    · have q1 := zQ_tr (back := false) (qb Mx) k hk2
      have q2 := zQ_tr (back := false) (qb My) k hk2
      have hm := xi_mul q1 q2
      rw [nI_clamp (by omega), hhi k (by omega) hk2, htw k hk2, nI_l (by omega), nI_l (by omega), lN_mul, xi_rem hm, lN_i] at eo
      subst eo ey1
      rw [nI_1]
      refine ih (k + 1) _ (by omega) (by omega) (fun j hj => ?_) (fun j hj hj2 => ?_)
      · by_cases e : j = k
        · subst e; rw [pk_us]; rfl
        · rw [pk_un e]; exact hlo j (by omega)
      · rw [pk_un (by omega)]; exact hhi j (by omega) hj2
theorem xp_product {post : SX → Prop} {T : Int} {p x y Mx My at' : Nat} {ex ey : Int} {off : Bool} (hro : zRT a_roots) (hx : x < 8) (hy : y < 8) (hMx : Mx < 2 ^ 64) (hMy : My < 2 ^ 64) (hlx : zLB 4 (Mx : Int) (fun k => a_limb (4 * x + k))) (hly : zLB 4 (My : Int) (fun k => a_limb (4 * y + k))) (hex : a_exponents x = zI ex) (hey : a_exponents y = zI ey) (hat : (at' : Int) = (ex - p + 1 + 480) + (ey - p + 1 + 480) - 480) (hat2 : at' < 2 ^ 20) (hr : zLB 54 T a_row) (h : ∀ r o t, zLB 54 (T + zsg off ((Mx * My : Nat) : Int) * 2 ^ at') r → post (nI p, f_mode, f_flags, f_below, f_sticky, a_kinds, a_minus, a_exponents, a_limb, r, o, t, a_roots, a_high, a_part, a_quotient, a_square, a_guess)) : wpX_product post (nI p, f_mode, f_flags, f_below, f_sticky, a_kinds, a_minus, a_exponents, a_limb, a_row, a_one, a_two, a_roots, a_high, a_part, a_quotient, a_square, a_guess) (nI x) (nI y) (zb1 off) := by
  have qb : ∀ M, zQ (zby M) := fun M j _ => by have := zby_le M j; omega
  unfold wpX_product
  dsimp only
  refine xn_spread1 hx hMx hlx (fun o1 h1 => ?_)
  refine xn_spread2 hy hMy hly (fun t1 h2 => ?_)
  refine xn_tr1 (back := false) hro h1 (qb Mx) (fun o2 h3 => ?_)
  refine xn_tr2 (back := false) hro h2 (qb My) (fun t2 h4 => ?_)
  exact ⟨17, xp_27 hro hx hy hMx hMy hex hey hat hat2 hr h4 (fun r o hr2 => h r o t2 hr2) 17 0 o2 (by omega) (by omega) (fun j hj => absurd hj (by omega)) (fun j _ hj => h3 j hj)⟩
/-- a product, purely -/
theorem xm_mul {post : SX → Prop} {p md i x y : Nat} {w : Nat → ZV} (hc : zC p md w) (hs : zXS p w a_kinds a_minus a_exponents a_limb) (hro : zRT a_roots) (hx : x < 8) (hy : y < 8) (hi : i < 8) (hnx : (w x).1 ≠ 4) (hny : (w y).1 ≠ 4) (h : ∀ u, zXR p md (zml p md (w x) (w y) f_flags).2 (zst w i (zml p md (w x) (w y) f_flags).1) u → post u) : wpX_multiply post (nI p, nI md, f_flags, f_below, f_sticky, a_kinds, a_minus, a_exponents, a_limb, a_row, a_one, a_two, a_roots, a_high, a_part, a_quotient, a_square, a_guess) (nI x) (nI y) (nI i) := by
  have ox := hc.2.2.2 x hx
  have oy := hc.2.2.2 y hy
  have kx := xs_kz hs ox hx
  have ky := xs_kz hs oy hy
  have vx := vp_in_nI hx (show 8 < 2 ^ 31 by decide)
  have vy := vp_in_nI hy (show 8 < 2 ^ 31 by decide)
  have c0 : (w x).1 = 0 ∨ (w x).1 = 2 ∨ (w x).1 = 3 := by have := ox.1; omega
  have c1 : (w y).1 = 0 ∨ (w y).1 = 2 ∨ (w y).1 = 3 := by have := oy.1; omega
  unfold zml at h
  -- after the sign
  have g20 : ∀ sg : Bool, sg = ((w x).2.1 != (w y).2.1) → wX_multiply_20 post (nI x) (nI y) (nI i) (zb1 sg) (nI p) (nI md) f_flags f_below f_sticky a_kinds a_minus a_exponents a_limb a_row a_one a_two a_roots a_high a_part a_quotient a_square a_guess := by
    intro sg hsg
    rw [← hsg] at h
    have g68 : ∀ ze inf : Bool, (ze = true ↔ (w x).1 = 0 ∨ (w y).1 = 0) → (inf = true ↔ (w x).1 = 3 ∨ (w y).1 = 3) → wX_multiply_68 post (nI x) (nI y) (nI i) (zb1 sg) (zb1 ze) (zb1 inf) (nI p) (nI md) f_flags f_below f_sticky a_kinds a_minus a_exponents a_limb a_row a_one a_two a_roots a_high a_part a_quotient a_square a_guess := by
      intro ze inf hze hinf
      have g98 : inf = true → ze = false → wX_multiply_98 post (nI i) (zb1 sg) (zb1 ze) (nI p) (nI md) f_flags f_below f_sticky a_kinds a_minus a_exponents a_limb a_row a_one a_two a_roots a_high a_part a_quotient a_square a_guess := by
        intro h1 h2
        subst h2
        have hz : ¬ ((w x).1 = 0 ∨ (w y).1 = 0) := fun z => Bool.noConfusion (hze.mpr z)
        have hf := hinf.mp h1
        rw [if_neg (fun z => hz z.1), if_pos hf] at h
        refine br_t rfl ?_
        refine xs_set (k := 3) (ng := sg) hs hi (Or.inr (Or.inl rfl)) (fun K M E L hK => h _ ⟨rfl, rfl, rfl, ?_, hro⟩)
        rw [show (sg && !((3 : Nat) == 4)) = sg from by simp] at hK
        exact hK
      have g98z : inf = false → ze = true → wX_multiply_98 post (nI i) (zb1 sg) (zb1 ze) (nI p) (nI md) f_flags f_below f_sticky a_kinds a_minus a_exponents a_limb a_row a_one a_two a_roots a_high a_part a_quotient a_square a_guess := by
        intro h1 h2
        subst h2
        have hz := hze.mp rfl
        have hf : ¬ ((w x).1 = 3 ∨ (w y).1 = 3) := fun z => by rw [hinf.mpr z] at h1; exact Bool.noConfusion h1
        rw [if_neg (fun z => hf z.2), if_neg hf, show zprod p (w x) (w y) = 0 from if_neg (by omega)] at h
        have e0 : zrd0 340 p md sg 0 false f_flags = ((0, sg, 0, 0), f_flags) := rfl
        rw [e0] at h
        refine br_f (by decide) ?_
        refine xs_set (k := 0) (ng := sg) hs hi (Or.inl rfl) (fun K M E L hK => h _ ⟨rfl, rfl, rfl, ?_, hro⟩)
        rw [show (sg && !((0 : Nat) == 4)) = sg from by simp] at hK
        exact hK
      have g88 : ¬ (ze = true ∧ inf = true) → wX_multiply_88 post (nI x) (nI y) (nI i) (zb1 sg) (zb1 ze) (zb1 inf) (nI p) (nI md) f_flags f_below f_sticky a_kinds a_minus a_exponents a_limb a_row a_one a_two a_roots a_high a_part a_quotient a_square a_guess := by
        intro hn
        refine zk_b (fun e1 => zk_b (fun e2 => ?_) (fun e2 => g98 e2 e1)) (fun e1 => g98z (zb_or _ (fun z => hn ⟨e1, z⟩)) e1)
        have hz : ¬ ((w x).1 = 0 ∨ (w y).1 = 0) := fun z => by rw [hze.mpr z] at e1; exact Bool.noConfusion e1
        have hf : ¬ ((w x).1 = 3 ∨ (w y).1 = 3) := fun z => by rw [hinf.mpr z] at e2; exact Bool.noConfusion e2
        have kx2 : (w x).1 = 2 := by omega
        have ky2 : (w y).1 = 2 := by omega
        rw [if_neg (fun z => hf z.2), if_neg hf] at h
        obtain ⟨f1, f2, f3⟩ := xs_fin hs hx kx2
        obtain ⟨q1, q2, q3⟩ := xs_fin hs hy ky2
        obtain ⟨g1, g2, g3, g4, g5⟩ := ox.2.1 kx2
        obtain ⟨j1, j2, j3, j4, j5⟩ := oy.2.1 ky2
        obtain ⟨i1, i2⟩ := zpo_i hc.2.1 ox oy kx2 ky2
        refine xr_clear (fun r hr => ?_)
        refine xp_product (off := false) (at' := zpo p (w x) (w y) + 140) hro hx hy (zOK_64 ox hc.2.1 kx2) (zOK_64 oy hc.2.1 ky2) f2 q2 f1 q1 (by omega) (by omega) hr (fun r2 o t hr2 => ?_)
        refine ⟨zb1_n sg, zb1_f sg, ?_⟩
        have hpe : zprod p (w x) (w y) = (w x).2.2.2 * (w y).2.2.2 * 2 ^ zpo p (w x) (w y) := if_pos ⟨kx2, ky2⟩
        have e4 : (0 : Int) + zsg false (((w x).2.2.2 * (w y).2.2.2 : Nat) : Int) * 2 ^ (zpo p (w x) (w y) + 140) = ((zprod p (w x) (w y) * 2 ^ 140 : Nat) : Int) := by
          show (0 : Int) + (((w x).2.2.2 * (w y).2.2.2 : Nat) : Int) * 2 ^ (zpo p (w x) (w y) + 140) = _
          rw [Int.zero_add, ← zp_cast, ← Int.natCast_mul, hpe, Nat.mul_assoc _ (2 ^ zpo p (w x) (w y)), ← zNp]
        rw [e4] at hr2
        have hne : zprod p (w x) (w y) ≠ 0 := by
          rw [hpe]
          exact Nat.mul_ne_zero (Nat.mul_ne_zero (by omega) (by omega)) (Nat.ne_of_gt (Nat.two_pow_pos _))
        have hlt := Nat.lt_trans (zprod_lt hc.1 hc.2.1 ox oy) (zpl_lt (show 545 < 720 by decide))
        exact xo_rd (s := false) hc hs hro hr2 hne hlt hi h
      refine zk_b (fun e1 => g88 (fun z => by rw [e1] at z; exact Bool.noConfusion z.1)) (fun e1 => zk_b (fun e2 => g88 (fun z => by rw [e2] at z; exact Bool.noConfusion z.2)) (fun e2 => ?_))
      rw [if_pos ⟨hze.mp e1, hinf.mp e2⟩] at h
      exact xs_invalid hs hi (fun K M E L hK => h _ ⟨rfl, rfl, rfl, hK, hro⟩)
    have g45 : ∀ ze : Bool, (ze = true ↔ (w x).1 = 0 ∨ (w y).1 = 0) → wX_multiply_45 post (nI x) (nI y) (nI i) (zb1 sg) (zb1 ze) (nI p) (nI md) f_flags f_below f_sticky a_kinds a_minus a_exponents a_limb a_row a_one a_two a_roots a_high a_part a_quotient a_square a_guess := by
      intro ze hze
      unfold wX_multiply_45
      refine xs_isInf hs ox hx (zk_b (fun e1 => ?_) (fun e1 => ?_))
      · have e1 := of_decide_eq_false e1
        refine xs_isInf hs oy hy (zk_b (fun e2 => ?_) (fun e2 => ?_))
        · have e2 := of_decide_eq_false e2
          exact g68 ze false hze ⟨fun z => Bool.noConfusion z, fun z => by omega⟩
        · have e2 := of_decide_eq_true e2
          exact g68 ze true hze ⟨fun _ => Or.inr e2, fun _ => rfl⟩
      · have e1 := of_decide_eq_true e1
        exact g68 ze true hze ⟨fun _ => Or.inl e1, fun _ => rfl⟩
    refine ⟨vx, ?_⟩
    rw [nI_clamp (by omega)]
    refine zk_i kx.1 (fun e1 => ?_) (fun e1 => ⟨vy, ?_⟩)
    · exact g45 true ⟨fun _ => Or.inl e1, fun _ => rfl⟩
    · rw [nI_clamp (by omega)]
      refine zk_i ky.1 (fun e2 => ?_) (fun e2 => ?_)
      · exact g45 true ⟨fun _ => Or.inr e2, fun _ => rfl⟩
      · exact g45 false ⟨fun z => Bool.noConfusion z, fun z => by omega⟩
  refine ⟨vx, vy, ?_⟩
  rw [nI_clamp (by omega), nI_clamp (by omega), (hs x hx).1, (hs y hy).1]
  refine zk_bb (fun e => g20 false ?_) (fun e => g20 true ?_)
  · rw [e]; simp
  · exact (bne_iff_ne.mpr e).symm
end
end
section
/-! the product of the reference -/
section
variable {f_precision f_mode f_flags f_sticky f_wide : Int32} {f_rest : Int64} {a_sort a_exponent a_minus a_row : Nat → Int32} {a_mantissa : Nat → Int64}
theorem ym_41 {post : SY → Prop} {x y Mx My o : Nat} {x3 : Int32} (hx : x < 8) (hy : y < 8) (hmx : a_mantissa x = lN Mx) (hmy : a_mantissa y = lN My) (hMx : Mx < 2 ^ 64) (hMy : My < 2 ^ 64) (hx3 : (340 : Int32) + x3 = nI o) (ho : o ≤ 580) (hlt : Mx * My * 2 ^ o < 2 ^ 720) (h : ∀ l, zBB 0 720 ((Mx * My * 2 ^ o : Nat) : Int) l → zfY 0 720 a_row l → post (f_precision, f_mode, f_flags, f_sticky, f_wide, f_rest, a_sort, a_exponent, a_minus, a_mantissa, l)) : ∀ n k l, k ≤ 64 → 64 - k < n → zfY 0 720 a_row l → zBB 0 720 ((Mx % 2 ^ k * My * 2 ^ o : Nat) : Int) l → wY_multiplyRows_41 post (nI x) (nI y) x3 n (nI k) f_precision f_mode f_flags f_sticky f_wide f_rest a_sort a_exponent a_minus a_mantissa l := by
  have vx := vp_in_nI hx (show 8 < 2 ^ 31 by decide)
  have vy := vp_in_nI hy (show 8 < 2 ^ 31 by decide)
  intro n
  induction n with
  | zero => intro k l _ h1; omega
  | succ n ih =>
    intro k l hk hn hf hl
    refine pk_le 64 k (fun hk2 => ?_) (fun hk2 => ⟨vx, ?_⟩)
    · have e : k = 64 := by omega
      subst e
      rw [Nat.mod_eq_of_lt hMx] at hl
      exact h l hl hf
    · rw [nI_clamp (by omega), nI_clamp (by omega), hmx, hmy, zy_bit hMx hk2]
      have hm := Nat.mod_lt (Mx / 2 ^ k) (show 0 < 2 by decide)
      have em : Mx % 2 ^ (k + 1) = Mx % 2 ^ k + 2 ^ k * (Mx / 2 ^ k % 2) := by rw [Nat.pow_succ, Nat.mod_mul]
      refine zk_i (d := Mx / 2 ^ k % 2 = 1) (by rw [show (1 : Int64) = lN 1 from rfl, zlN_eq (by omega) (by decide)]) (fun d => ⟨vy, ?_⟩) (fun d y1 ey1 => ?_)
      · have e2 : (340 : Int32) + x3 + nI k = nI (o + k) := by rw [hx3, nI_add]
        rw [e2]
        have e3 : Mx % 2 ^ k * My * 2 ^ o + My * 2 ^ (o + k) = Mx % 2 ^ (k + 1) * My * 2 ^ o := by
          rw [em, d, Nat.mul_one, Nat.add_mul, Nat.add_mul, zNp, Nat.mul_comm (2 ^ k) My, Nat.mul_assoc My (2 ^ k), Nat.mul_comm (2 ^ k) (2 ^ o)]
        have e4 : Mx % 2 ^ (k + 1) * My * 2 ^ o ≤ Mx * My * 2 ^ o := Nat.mul_le_mul_right _ (Nat.mul_le_mul_right _ (Nat.mod_le _ _))
        refine yr_addBits hl hMy (by rw [e3]; exact Nat.lt_of_le_of_lt e4 hlt) (by omega) (fun l2 hl2 hf2 y1 ey1 => ?_)
        subst ey1
        rw [nI_1]
        rw [e3] at hl2
        exact ih (k + 1) l2 (by omega) (by omega) (zfY_t hf hf2) hl2
      · subst ey1
        rw [nI_1]
        have e5 : Mx / 2 ^ k % 2 = 0 := by omega
        have em2 : Mx % 2 ^ (k + 1) = Mx % 2 ^ k := by rw [em, e5, Nat.mul_zero]; rfl
        rw [← em2] at hl
        exact ih (k + 1) l (by omega) (by omega) hf hl
theorem ym_rows {post : SY → Prop} {p md x y : Nat} {w : Nat → ZV} (hc : zC p md w) (hs : zYS w a_sort a_minus a_exponent a_mantissa) (hx : x < 8) (hy : y < 8) (h : ∀ l, zBB 0 720 (zprod p (w x) (w y) : Int) l → post (nI p, f_mode, f_flags, f_sticky, f_wide, f_rest, a_sort, a_exponent, a_minus, a_mantissa, l)) : wpY_multiplyRows post (nI p, f_mode, f_flags, f_sticky, f_wide, f_rest, a_sort, a_exponent, a_minus, a_mantissa, a_row) (nI x) (nI y) := by
  have ox := hc.2.2.2 x hx
  have oy := hc.2.2.2 y hy
  have k1 := zOK_le ox
  have k2 := zOK_le oy
  have vx := vp_in_nI hx (show 8 < 2 ^ 31 by decide)
  have vy := vp_in_nI hy (show 8 < 2 ^ 31 by decide)
  unfold wpY_multiplyRows
  dsimp only
  refine yr_clear (r := 0) (by omega) (fun l hl hf => ?_)
  dsimp only
  refine ⟨vx, ?_⟩
  rw [nI_clamp (by omega), nI_clamp (by omega), (hs x hx).2.1, (hs y hy).2.1]
  have z0 : ¬ ((w x).1 = 2 ∧ (w y).1 = 2) → post (nI p, f_mode, f_flags, f_sticky, f_wide, f_rest, a_sort, a_exponent, a_minus, a_mantissa, l) := by
    intro hn
    refine h l ?_
    rw [show zprod p (w x) (w y) = 0 from if_neg hn]
    exact hl
  refine pk_eq (w x).1 2 (fun e1 => ⟨vy, pk_eq (w y).1 2 (fun e2 => ?_) (fun e2 => z0 (fun z => e2 z.2))⟩) (fun e1 => z0 (fun z => e1 z.1))
  obtain ⟨i1, i2⟩ := zpo_i hc.2.1 ox oy e1 e2
  obtain ⟨q1, q2⟩ := (hs x hx).2.2 e1
  obtain ⟨r1, r2⟩ := (hs y hy).2.2 e2
  have hpe : zprod p (w x) (w y) = (w x).2.2.2 * (w y).2.2.2 * 2 ^ zpo p (w x) (w y) := if_pos ⟨e1, e2⟩
  have hlt := Nat.lt_trans (zprod_lt hc.1 hc.2.1 ox oy) (zpl_lt (show 545 < 720 by decide))
  obtain ⟨g1, g2, g3, g4, g5⟩ := ox.2.1 e1
  obtain ⟨j1, j2, j3, j4, j5⟩ := oy.2.1 e2
  rw [hpe] at hlt h
  refine ⟨vx, ⟨vy, ?_⟩⟩
  rw [nI_clamp (by omega), nI_clamp (by omega), q1, r1]
  intro x3 e3
  have hx3 : (340 : Int32) + x3 = nI (zpo p (w x) (w y)) := by
    rw [e3, ← zI_n p, zI_sub, zI_sub, show (1 : Int32) = zI 1 from rfl, zI_add, zI_add, zI_add, show (340 : Int32) = zI 340 from rfl, zI_add, ← zI_n]
    exact congrArg zI (by omega)
  refine ⟨65, ym_41 hx hy q2 r2 (zOK_64 ox hc.2.1 e1) (zOK_64 oy hc.2.1 e2) hx3 (by omega) hlt (fun l2 hl2 _ => h l2 hl2) 65 0 l (by omega) (by omega) (zfY_r _ _ _) ?_⟩
  rw [Nat.pow_zero, Nat.mod_one, Nat.zero_mul, Nat.zero_mul]
  exact hl
theorem ym_bad {post : Int32 → Prop} {p md x y : Nat} {w : Nat → ZV} (hc : zC p md w) (hs : zYS w a_sort a_minus a_exponent a_mantissa) (hx : x < 8) (hy : y < 8) (h : post (zb1 (decide (((w x).1 = 0 ∨ (w y).1 = 0) ∧ ((w x).1 = 3 ∨ (w y).1 = 3))))) : wpY_badProduct post (f_precision, f_mode, f_flags, f_sticky, f_wide, f_rest, a_sort, a_exponent, a_minus, a_mantissa, a_row) (nI x) (nI y) := by
  have k1 := zOK_le (hc.2.2.2 x hx)
  have k2 := zOK_le (hc.2.2.2 y hy)
  have vx := vp_in_nI hx (show 8 < 2 ^ 31 by decide)
  have vy := vp_in_nI hy (show 8 < 2 ^ 31 by decide)
  have yes : (((w x).1 = 0 ∨ (w y).1 = 0) ∧ ((w x).1 = 3 ∨ (w y).1 = 3)) → post 1 := by
    intro z; rw [decide_eq_true z] at h; exact h
  have no : ¬ (((w x).1 = 0 ∨ (w y).1 = 0) ∧ ((w x).1 = 3 ∨ (w y).1 = 3)) → post 0 := by
    intro z; rw [decide_eq_false z] at h; exact h
  have g19 : ¬ ((w x).1 = 3 ∧ (w y).1 = 0) → wY_badProduct_19 post (nI x) (nI y) f_precision f_mode f_flags f_sticky f_wide f_rest a_sort a_exponent a_minus a_mantissa a_row := by
    intro hn
    refine ⟨vx, ?_⟩
    rw [nI_clamp (by omega), nI_clamp (by omega), (hs x hx).2.1, (hs y hy).2.1]
    exact pk_eq (w x).1 0 (fun e1 => ⟨vy, pk_eq (w y).1 3 (fun e2 => yes (by omega)) (fun e2 => no (by omega))⟩) (fun e1 => no (by omega))
  refine ⟨vx, ?_⟩
  rw [nI_clamp (by omega), nI_clamp (by omega), (hs x hx).2.1, (hs y hy).2.1]
  exact pk_eq (w x).1 3 (fun e1 => ⟨vy, pk_eq (w y).1 0 (fun e2 => yes (by omega)) (fun e2 => g19 (by omega))⟩) (fun e1 => g19 (by omega))
theorem ym_times {post : SY → Prop} {p md i x y : Nat} {w : Nat → ZV} (hc : zC p md w) (hs : zYS w a_sort a_minus a_exponent a_mantissa) (hx : x < 8) (hy : y < 8) (hi : i < 8) (h : ∀ v, zYR p md (zml p md (w x) (w y) f_flags).2 (zst w i (zml p md (w x) (w y) f_flags).1) v → post v) : wpY_times post (nI p, nI md, f_flags, f_sticky, 720, f_rest, a_sort, a_exponent, a_minus, a_mantissa, a_row) (nI x) (nI y) (nI i) := by
  have ox := hc.2.2.2 x hx
  have oy := hc.2.2.2 y hy
  have k1 := zOK_le ox
  have k2 := zOK_le oy
  have vx := vp_in_nI hx (show 8 < 2 ^ 31 by decide)
  have vy := vp_in_nI hy (show 8 < 2 ^ 31 by decide)
  unfold zml at h
  have g20 : ∀ sg : Bool, sg = ((w x).2.1 != (w y).2.1) → wY_times_20 post (nI x) (nI y) (nI i) (zb1 sg) (nI p) (nI md) f_flags f_sticky 720 f_rest a_sort a_exponent a_minus a_mantissa a_row := by
    intro sg hsg
    rw [← hsg] at h
    unfold wY_times_20
    refine ym_bad hc hs hx hy (zk_b (fun e => ⟨vx, ?_⟩) (fun e => ?_))
    · have e := of_decide_eq_false e
      rw [if_neg e] at h
      rw [nI_clamp (by omega), nI_clamp (by omega), (hs x hx).2.1, (hs y hy).2.1]
      have g59 : ((w x).1 = 3 ∨ (w y).1 = 3) → wY_times_59 post (nI i) (zb1 sg) (nI p) (nI md) f_flags f_sticky 720 f_rest a_sort a_exponent a_minus a_mantissa a_row := by
        intro z
        rw [if_pos z] at h
        exact yo_give (k := 3) (ng := sg) (r := (3, sg, 0, 0)) hs hi (by omega) rfl (by simp) (fun z => absurd z (by decide)) (fun S Mi E Ma hS => h _ ⟨rfl, rfl, rfl, rfl, hS⟩)
      refine pk_eq (w x).1 3 (fun e1 => g59 (Or.inl e1)) (fun e1 => ⟨vy, pk_eq (w y).1 3 (fun e2 => g59 (Or.inr e2)) (fun e2 => ?_)⟩)
      rw [if_neg (by omega)] at h
      refine ym_rows hc hs hx hy (fun l hl => ?_)
      have hlt := Nat.lt_trans (zprod_lt hc.1 hc.2.1 ox oy) (zpl_lt (show 545 < 720 by decide))
      exact yo_round (s := false) hc.2.2.1 hs hl hlt hc.1 hc.2.1 hi (fun S Mi E Ma hS => h _ ⟨rfl, rfl, rfl, rfl, hS⟩)
    · have e := of_decide_eq_true e
      rw [if_pos e] at h
      exact yo_invalid hs hi (fun S Mi E Ma hS => h _ ⟨rfl, rfl, rfl, rfl, hS⟩)
  refine ⟨vx, vy, ?_⟩
  rw [nI_clamp (by omega), nI_clamp (by omega), (hs x hx).1, (hs y hy).1]
  refine zk_bb (fun e => g20 false ?_) (fun e => g20 true ?_)
  · rw [e]; simp
  · exact (bne_iff_ne.mpr e).symm
end
end
section
/-! sums -/
def zsR (p md A : Nat) (sa : Bool) (B : Nat) (sb : Bool) (f : Int32) : ZV × Int32 := if sa = sb then zrd0 340 p md sa (A + B) false f else if A = B then ((0, md == 3, 0, 0), f) else if A < B then zrd0 340 p md sb (B - A) false f else zrd0 340 p md sa (A - B) false f
def zadd (p md : Nat) (a b : ZV) (turn : Bool) (f : Int32) : ZV × Int32 := if a.1 = 3 ∨ b.1 = 3 then (if a.1 = 3 ∧ b.1 = 3 ∧ a.2.1 ≠ (b.2.1 != turn) then ((4, false, 0, 0), f ||| 16) else ((3, if a.1 = 3 then a.2.1 else (b.2.1 != turn), 0, 0), f)) else zsR p md (zrow p a) a.2.1 (zrow p b) (b.2.1 != turn) f
theorem zsR_ok {p md A B : Nat} {sa sb : Bool} {f : Int32} (hp2 : 2 ≤ p) (hp : p ≤ 64) : zOK p (zsR p md A sa B sb f).1 := by
  unfold zsR
  split
  · exact zrd0_ok hp2 hp (by decide)
  · split
    · exact zOK_0 p _
    · split <;> exact zrd0_ok hp2 hp (by decide)
theorem zadd_ok {p md : Nat} {a b : ZV} {turn : Bool} {f : Int32} (hp2 : 2 ≤ p) (hp : p ≤ 64) : zOK p (zadd p md a b turn f).1 := by
  unfold zadd
  split
  · split
    · exact zOK_4 p
    · exact zOK_3 p _
  · exact zsR_ok hp2 hp
/-- the sign and the size of a sum -/
def zsS (A : Nat) (sa : Bool) (B : Nat) (sb : Bool) : Bool := if sa = sb then sa else if A < B then sb else sa
def zsN (A : Nat) (sa : Bool) (B : Nat) (sb : Bool) : Nat := if sa = sb then A + B else if A < B then B - A else A - B
theorem zsR_s {p md A B : Nat} {sa sb : Bool} {f : Int32} (h : sa = sb → A + B ≠ 0) : zsR p md A sa B sb f = zsum p md (zsS A sa B sb) (zsN A sa B sb) f := by
  unfold zsR zsum zsS zsN
  by_cases e : sa = sb
  · rw [if_pos e, if_pos e, if_pos e, if_neg (h e)]
  · rw [if_neg e, if_neg e, if_neg e]
    by_cases e2 : A = B
    · have e3 : ¬ A < B := by omega
      have e4 : A - B = 0 := by omega
      rw [if_pos e2, if_neg e3, if_neg e3, if_pos e4]
    · rw [if_neg e2]
      by_cases e3 : A < B
      · rw [if_pos e3, if_pos e3, if_pos e3, if_neg (by omega)]
      · rw [if_neg e3, if_neg e3, if_neg e3, if_neg (by omega)]
theorem zsN_v (A : Nat) (sa : Bool) (B : Nat) (sb : Bool) (c : Int) : zsg sa (A : Int) * c + zsg sb (B : Int) * c = zsg (zsS A sa B sb) (zsN A sa B sb : Int) * c := by
  rw [← Int.add_mul]
  congr 1
  unfold zsS zsN zsg
  cases sa <;> cases sb
  · simp
  · by_cases h : A < B
    · simp [h]; omega
    · simp [h]; omega
  · by_cases h : A < B
    · simp [h]; omega
    · simp [h]; omega
  · simp; omega
theorem zsN_lt {A B : Nat} {sa sb : Bool} (hA : A < 2 ^ 600) (hB : B < 2 ^ 600) : zsN A sa B sb < 2 ^ 720 := by
  have h1 : A + B < 2 ^ 601 := by
    have : (2 : Nat) ^ 601 = 2 ^ 600 + 2 ^ 600 := by rw [Nat.pow_succ, Nat.mul_two]
    rw [this]
    exact Nat.add_lt_add hA hB
  refine Nat.lt_trans (Nat.lt_of_le_of_lt ?_ h1) (zpl_lt (by decide))
  unfold zsN
  split
  · exact Nat.le_refl _
  · split <;> omega
section
variable {f_p f_mode f_flags f_below f_sticky : Int32} {a_kinds a_minus a_exponents a_limb a_row a_one a_two a_roots a_high a_part a_quotient a_square a_guess : Nat → Int32}
/-- an operand: a zero or a finite number -/
theorem xs_op {p md x : Nat} {w : Nat → ZV} (hc : zC p md w) (hs : zXS p w a_kinds a_minus a_exponents a_limb) (hx : x < 8) (h4 : (w x).1 ≠ 4) (h3 : (w x).1 ≠ 3) : ∃ (M o : Nat) (e : Int), M < 2 ^ 64 ∧ a_exponents x = zI e ∧ zLB 4 (M : Int) (fun k => a_limb (4 * x + k)) ∧ (o : Int) = e - p + 1 + 480 ∧ o < 2 ^ 20 ∧ M * 2 ^ o = zrow p (w x) * 2 ^ 140 := by
  have ox := hc.2.2.2 x hx
  have hp := hc.2.1
  by_cases e2 : (w x).1 = 2
  · obtain ⟨f1, f2, f3⟩ := xs_fin hs hx e2
    obtain ⟨g1, g2, g3, g4, g5⟩ := ox.2.1 e2
    refine ⟨(w x).2.2.2, ((w x).2.2.1 - p + 1 + 480).toNat, (w x).2.2.1, zOK_64 ox hp e2, f1, f2, by omega, by omega, ?_⟩
    exact zrow_x hp ox e2 (by omega)
  · have e0 : (w x).1 = 0 := by have := ox.1; omega
    rcases (hs x hx).2 with ⟨_, _, ⟨e, h1, h2, he⟩, hl⟩ | ⟨a, _⟩ | ⟨a, _⟩ | ⟨a, _⟩
    · refine ⟨0, (e - p + 1 + 480).toNat, e, by decide, he, hl, by omega, by omega, ?_⟩
      unfold zrow
      rw [if_neg e2, Nat.zero_mul, Nat.zero_mul]
    · omega
    · omega
    · omega
/-- one limb more of a mantissa -/
theorem x_limb (M k o : Nat) (b : Bool) : zsg b ((M % 2 ^ (16 * k) : Nat) : Int) * 2 ^ o + zsg b (zlm (M : Int) k : Int) * 2 ^ (o + 16 * k) = zsg b ((M % 2 ^ (16 * (k + 1)) : Nat) : Int) * 2 ^ o := by
  have e : ((M % 2 ^ (16 * (k + 1)) : Nat) : Int) = ((M % 2 ^ (16 * k) : Nat) : Int) + (zlm (M : Int) k : Int) * 2 ^ (16 * k) := by
    rw [show 16 * (k + 1) = 16 * k + 16 from by omega, zNp (16 * k) 16, Nat.mod_mul, zlm_n, Int.natCast_add, Int.natCast_mul, zp_cast, Int.mul_comm (2 ^ (16 * k))]
  rw [e, zsg_add, zsg_mul, Int.add_mul, Int.mul_assoc, Nat.add_comm o, Int.pow_add]
theorem xa_142 {post : SX → Prop} {p md i x y Mx My ox oy : Nat} {w : Nat → ZV} {ex ey : Int} {sa sb : Bool} (hc : zC p md w) (hs : zXS p w a_kinds a_minus a_exponents a_limb) (hx : x < 8) (hy : y < 8) (hex : a_exponents x = zI ex) (hey : a_exponents y = zI ey) (hlx : zLB 4 (Mx : Int) (fun k => a_limb (4 * x + k))) (hly : zLB 4 (My : Int) (fun k => a_limb (4 * y + k))) (hMx : Mx < 2 ^ 64) (hMy : My < 2 ^ 64) (hox : (ox : Int) = ex - p + 1 + 480) (hoy : (oy : Int) = ey - p + 1 + 480) (hox2 : ox < 2 ^ 20) (hoy2 : oy < 2 ^ 20) (hsa : a_minus x = zb1 sa) (h : ∀ r, zLB 54 (zsg sa (Mx : Int) * 2 ^ ox + zsg sb (My : Int) * 2 ^ oy) r → wpX_total post (nI p, nI md, f_flags, f_below, f_sticky, a_kinds, a_minus, a_exponents, a_limb, r, a_one, a_two, a_roots, a_high, a_part, a_quotient, a_square, a_guess) (nI i)) : ∀ n k r, k ≤ 4 → 4 - k < n → zLB 54 (zsg sa ((Mx % 2 ^ (16 * k) : Nat) : Int) * 2 ^ ox + zsg sb ((My % 2 ^ (16 * k) : Nat) : Int) * 2 ^ oy) r → wX_add_142 post (nI x) (nI y) (nI i) (zb1 sb) n (nI k) (nI p) (nI md) f_flags f_below f_sticky a_kinds a_minus a_exponents a_limb r a_one a_two a_roots a_high a_part a_quotient a_square a_guess := by
  intro n
  induction n with
  | zero => intro k r _ h1; omega
  | succ n ih =>
    intro k r hk hn hr
    refine pk_le 4 k (fun hk2 => ?_) (fun hk2 => ⟨by rw [zx_ix]; exact vp_in_nI (by omega) (by decide), ?_⟩)
    · have e : k = 4 := by omega
      subst e
      rw [Nat.mod_eq_of_lt hMx, Nat.mod_eq_of_lt hMy] at hr
      exact h r hr
    · have lx := zlm_lt (Mx : Int) k
      have ly := zlm_lt (My : Int) k
      have e1 : a_limb ((4 : Int32) * nI x + nI k).toNatClampNeg = nI (zlm (Mx : Int) k) := by rw [zx_ix, nI_clamp (by omega)]; exact hlx k hk2
      have e2 : a_limb ((4 : Int32) * nI y + nI k).toNatClampNeg = nI (zlm (My : Int) k) := by rw [zx_ix, nI_clamp (by omega)]; exact hly k hk2
      have e3 : zI (ex - p + 1 + 480) + (16 : Int32) * nI k = nI (ox + 16 * k) := by
        rw [show (16 : Int32) = nI 16 from rfl, pk_mul, ← zI_n, zI_add, ← zI_n]
        exact congrArg zI (by omega)
      have e4 : zI (ey - p + 1 + 480) + (16 : Int32) * nI k = nI (oy + 16 * k) := by
        rw [show (16 : Int32) = nI 16 from rfl, pk_mul, ← zI_n, zI_add, ← zI_n]
        exact congrArg zI (by omega)
      refine xs_foot hx hex ⟨vp_in_nI hx (by decide), ?_⟩
      rw [e1, e3, nI_clamp (by omega), hsa]
      refine xr_dep hr (by omega) (by omega) (fun r2 hr2 => ⟨by rw [zx_ix]; exact vp_in_nI (by omega) (by decide), ?_⟩)
      refine xs_foot hy hey ?_
      dsimp only
      rw [e2, e4]
      refine xr_dep hr2 (by omega) (by omega) (fun r3 hr3 q eq => ?_)
      subst eq
      rw [nI_1]
      refine ih (k + 1) r3 (by omega) (by omega) ?_
      have l1 := x_limb Mx k ox sa
      have l2 := x_limb My k oy sb
      rw [← l1, ← l2]
      have e5 : zsg sa ((Mx % 2 ^ (16 * k) : Nat) : Int) * 2 ^ ox + zsg sb ((My % 2 ^ (16 * k) : Nat) : Int) * 2 ^ oy + zsg sa (zlm (Mx : Int) k : Int) * 2 ^ (ox + 16 * k) + zsg sb (zlm (My : Int) k : Int) * 2 ^ (oy + 16 * k) = zsg sa ((Mx % 2 ^ (16 * k) : Nat) : Int) * 2 ^ ox + zsg sa (zlm (Mx : Int) k : Int) * 2 ^ (ox + 16 * k) + (zsg sb ((My % 2 ^ (16 * k) : Nat) : Int) * 2 ^ oy + zsg sb (zlm (My : Int) k : Int) * 2 ^ (oy + 16 * k)) := by
        generalize zsg sa ((Mx % 2 ^ (16 * k) : Nat) : Int) * 2 ^ ox = q1
        generalize zsg sb ((My % 2 ^ (16 * k) : Nat) : Int) * 2 ^ oy = q2
        generalize zsg sa (zlm (Mx : Int) k : Int) * 2 ^ (ox + 16 * k) = q3
        generalize zsg sb (zlm (My : Int) k : Int) * 2 ^ (oy + 16 * k) = q4
        omega
      rw [e5] at hr3
      exact hr3
/-- the row of a sum, totalled -/
theorem xa_tot {post : SX → Prop} {p md i A B : Nat} {w : Nat → ZV} {sa sb : Bool} {T : Int} (hc : zC p md w) (hs : zXS p w a_kinds a_minus a_exponents a_limb) (hro : zRT a_roots) (hA : A < 2 ^ 600) (hB : B < 2 ^ 600) (hne : sa = sb → A + B ≠ 0) (hT : T = zsg sa (A : Int) * 2 ^ 140 + zsg sb (B : Int) * 2 ^ 140) (hr : zLB 54 T a_row) (hi : i < 8) (h : ∀ u, zXR p md (zsR p md A sa B sb f_flags).2 (zst w i (zsR p md A sa B sb f_flags).1) u → post u) : wpX_total post (nI p, nI md, f_flags, 0, 0, a_kinds, a_minus, a_exponents, a_limb, a_row, a_one, a_two, a_roots, a_high, a_part, a_quotient, a_square, a_guess) (nI i) := by
  rw [zsR_s hne] at h
  refine xo_total (N := zsN A sa B sb) (ng := zsS A sa B sb) hc hs hro rfl ?_ (zsN_lt hA hB) hi h
  rw [hT, zsN_v, ← zsg_mul, ← zp_cast, ← Int.natCast_mul] at hr
  exact hr
theorem xa_135 {post : SX → Prop} {p md i x y : Nat} {w : Nat → ZV} {sb : Bool} (hc : zC p md w) (hs : zXS p w a_kinds a_minus a_exponents a_limb) (hro : zRT a_roots) (hx : x < 8) (hy : y < 8) (hi : i < 8) (hx4 : (w x).1 ≠ 4) (hx3 : (w x).1 ≠ 3) (hy4 : (w y).1 ≠ 4) (hy3 : (w y).1 ≠ 3) (hne : (w x).2.1 = sb → zrow p (w x) + zrow p (w y) ≠ 0) (h : ∀ u, zXR p md (zsR p md (zrow p (w x)) (w x).2.1 (zrow p (w y)) sb f_flags).2 (zst w i (zsR p md (zrow p (w x)) (w x).2.1 (zrow p (w y)) sb f_flags).1) u → post u) : wX_add_135 post (nI x) (nI y) (nI i) (zb1 sb) (nI p) (nI md) f_flags f_below f_sticky a_kinds a_minus a_exponents a_limb a_row a_one a_two a_roots a_high a_part a_quotient a_square a_guess := by
  obtain ⟨Mx, ox, ex, m1, m2, m3, m4, m5, m6⟩ := xs_op hc hs hx hx4 hx3
  obtain ⟨My, oy, ey, n1, n2, n3, n4, n5, n6⟩ := xs_op hc hs hy hy4 hy3
  have bx := Nat.lt_trans (zrow_lt hc.1 hc.2.1 (hc.2.2.2 x hx)) (zpl_lt (show 441 < 600 by decide))
  have b_y := Nat.lt_trans (zrow_lt hc.1 hc.2.1 (hc.2.2.2 y hy)) (zpl_lt (show 441 < 600 by decide))
  unfold wX_add_135
  refine xr_clear (fun r hr => ?_)
  refine ⟨5, xa_142 (sa := (w x).2.1) hc hs hx hy m2 n2 m3 n3 m1 n1 m4 n4 m5 n5 (hs x hx).1 (fun r2 hr2 => ?_) 5 0 r (by omega) (by omega) ?_⟩
  · refine xa_tot hc hs hro bx b_y hne ?_ hr2 hi h
    have e : ∀ (b : Bool) (M o A : Nat), M * 2 ^ o = A * 2 ^ 140 → zsg b (M : Int) * 2 ^ o = zsg b (A : Int) * 2 ^ 140 := by
      intro b M o A hh
      rw [← zsg_mul, ← zsg_mul, ← zp_cast, ← zp_cast, ← Int.natCast_mul, ← Int.natCast_mul, hh]
    rw [e _ _ _ _ m6, e _ _ _ _ n6]
  · rw [Nat.mul_zero, Nat.pow_zero, Nat.mod_one, Nat.mod_one]
    show zLB 54 (zsg _ 0 * 2 ^ ox + zsg _ 0 * 2 ^ oy) r
    rw [zsg_0, zsg_0, Int.zero_mul, Int.zero_mul]
    exact hr
theorem xa_69 {post : SX → Prop} {p md i x : Nat} {w : Nat → ZV} {sb : Bool} (hc : zC p md w) (hs : zXS p w a_kinds a_minus a_exponents a_limb) (hro : zRT a_roots) (hx : x < 8) (hi : i < 8) (h : ∀ u, zXR p md f_flags (zst w i (3, if (w x).1 = 3 then (w x).2.1 else sb, 0, 0)) u → post u) : wX_add_69 post (nI x) (nI i) (zb1 sb) (nI p) (nI md) f_flags f_below f_sticky a_kinds a_minus a_exponents a_limb a_row a_one a_two a_roots a_high a_part a_quotient a_square a_guess := by
  have ox := hc.2.2.2 x hx
  have g : ∀ b : Bool, b = (if (w x).1 = 3 then (w x).2.1 else sb) → wX_add_92 post (zb1 b) 3 (nI i) (nI p) (nI md) f_flags f_below f_sticky a_kinds a_minus a_exponents a_limb a_row a_one a_two a_roots a_high a_part a_quotient a_square a_guess := by
    intro b hb
    rw [← hb] at h
    refine xs_set (k := 3) (ng := b) hs hi (Or.inr (Or.inl rfl)) (fun K M E L hK => h _ ⟨rfl, rfl, rfl, ?_, hro⟩)
    rw [show (b && !((3 : Nat) == 4)) = b from by simp] at hK
    exact hK
  unfold wX_add_69
  refine xs_isInf hs ox hx (zk_b (fun e => ?_) (fun e => ⟨vp_in_nI hx (by decide), ?_⟩))
  · have e := of_decide_eq_false e
    exact g sb (by rw [if_neg e])
  · have e := of_decide_eq_true e
    rw [nI_clamp (by omega), (hs x hx).1]
    exact g _ (by rw [if_pos e])
theorem xa_add {post : SX → Prop} {p md i x y : Nat} {w : Nat → ZV} {turn : Bool} (hc : zC p md w) (hs : zXS p w a_kinds a_minus a_exponents a_limb) (hro : zRT a_roots) (hx : x < 8) (hy : y < 8) (hi : i < 8) (hnx : (w x).1 ≠ 4) (hny : (w y).1 ≠ 4) (h : ∀ u, zXR p md (zadd p md (w x) (w y) turn f_flags).2 (zst w i (zadd p md (w x) (w y) turn f_flags).1) u → post u) : wpX_add post (nI p, nI md, f_flags, f_below, f_sticky, a_kinds, a_minus, a_exponents, a_limb, a_row, a_one, a_two, a_roots, a_high, a_part, a_quotient, a_square, a_guess) (nI x) (nI y) (zb1 turn) (nI i) := by
  have ox := hc.2.2.2 x hx
  have oy := hc.2.2.2 y hy
  have kx := xs_kz hs ox hx
  have ky := xs_kz hs oy hy
  have vx := vp_in_nI hx (show 8 < 2 ^ 31 by decide)
  have vy := vp_in_nI hy (show 8 < 2 ^ 31 by decide)
  unfold zadd at h
  have g15 : ∀ sb : Bool, sb = ((w y).2.1 != turn) → wX_add_15 post (nI x) (nI y) (nI i) (zb1 sb) (nI p) (nI md) f_flags f_below f_sticky a_kinds a_minus a_exponents a_limb a_row a_one a_two a_roots a_high a_part a_quotient a_square a_guess := by
    intro sb hsb
    rw [← hsb] at h
    have g33 : ((w x).1 = 3 ∨ (w y).1 = 3) → wX_add_33 post (nI x) (nI y) (nI i) (zb1 sb) (nI p) (nI md) f_flags f_below f_sticky a_kinds a_minus a_exponents a_limb a_row a_one a_two a_roots a_high a_part a_quotient a_square a_guess := by
      intro h3
      rw [if_pos h3] at h
      have g69 : ¬ ((w x).1 = 3 ∧ (w y).1 = 3 ∧ (w x).2.1 ≠ sb) → wX_add_69 post (nI x) (nI i) (zb1 sb) (nI p) (nI md) f_flags f_below f_sticky a_kinds a_minus a_exponents a_limb a_row a_one a_two a_roots a_high a_part a_quotient a_square a_guess := by
        intro hn
        rw [if_neg hn] at h
        exact xa_69 hc hs hro hx hi h
      unfold wX_add_33
      refine xs_isInf hs ox hx (zk_b (fun e1 => ?_) (fun e1 => ?_))
      · have e1 := of_decide_eq_false e1
        exact g69 (fun z => e1 z.1)
      · have e1 := of_decide_eq_true e1
        refine xs_isInf hs oy hy (zk_b (fun e2 => ?_) (fun e2 => ⟨vx, ?_⟩))
        · have e2 := of_decide_eq_false e2
          exact g69 (fun z => e2 z.2.1)
        · have e2 := of_decide_eq_true e2
          rw [nI_clamp (by omega), (hs x hx).1]
          refine zk_bb (fun e3 => g69 (fun z => z.2.2 e3)) (fun e3 => ?_)
          rw [if_pos ⟨e1, e2, e3⟩] at h
          exact xs_invalid hs hi (fun K M E L hK => h _ ⟨rfl, rfl, rfl, hK, hro⟩)
    unfold wX_add_15
    refine xs_isInf hs ox hx (zk_b (fun e1 => ?_) (fun e1 => g33 (Or.inl (of_decide_eq_true e1))))
    have e1 := of_decide_eq_false e1
    refine xs_isInf hs oy hy (zk_b (fun e2 => ⟨vx, ?_⟩) (fun e2 => g33 (Or.inr (of_decide_eq_true e2))))
    have e2 := of_decide_eq_false e2
    rw [if_neg (by omega)] at h
    have rz : ∀ v : ZV, zOK p v → v.1 ≠ 3 → v.1 ≠ 4 → v.1 ≠ 0 → zrow p v ≠ 0 := by
      intro v hv h1 h2 h3
      exact (zrow_log hc.1 hc.2.1 hv (by have := hv.1; omega)).1
    rw [nI_clamp (by omega), nI_clamp (by omega), (hs x hx).1]
    refine zk_i kx.1 (fun z1 => ⟨vy, zk_i ky.1 (fun z2 => ⟨vx, zk_bb (fun z3 => ?_) (fun z3 => ?_)⟩) (fun z2 => ?_)⟩) (fun z1 => ?_)
    · have r1 : zrow p (w x) = 0 := by unfold zrow; rw [if_neg (by omega)]
      have r2 : zrow p (w y) = 0 := by unfold zrow; rw [if_neg (by omega)]
      have e5 : zsR p md (zrow p (w x)) (w x).2.1 (zrow p (w y)) sb f_flags = ((0, sb, 0, 0), f_flags) := by
        unfold zsR
        rw [if_pos z3, r1, r2, z3]
        rfl
      rw [e5] at h
      refine xs_set (k := 0) (ng := sb) hs hi (Or.inl rfl) (fun K M E L hK => h _ ⟨rfl, rfl, rfl, ?_, hro⟩)
      rw [show (sb && !((0 : Nat) == 4)) = sb from by simp] at hK
      exact hK
    · exact xa_135 hc hs hro hx hy hi hnx e1 hny e2 (fun z => absurd z z3) h
    · exact xa_135 hc hs hro hx hy hi hnx e1 hny e2 (fun _ => by have := rz _ oy e2 hny z2; omega) h
    · exact xa_135 hc hs hro hx hy hi hnx e1 hny e2 (fun _ => by have := rz _ ox e1 hnx z1; omega) h
  refine ⟨vy, ?_⟩
  rw [nI_clamp (by omega), (hs y hy).1]
  refine zk_bb (fun e => g15 false ?_) (fun e => g15 true ?_)
  · rw [e]; simp
  · exact (bne_iff_ne.mpr e).symm
end
end
section
/-! sums of the reference -/
section
variable {f_precision f_mode f_flags f_sticky f_wide : Int32} {f_rest : Int64} {a_sort a_exponent a_minus a_row : Nat → Int32} {a_mantissa : Nat → Int64}
theorem ya_sum {post : SY → Prop} {p md i A B : Nat} {w : Nat → ZV} {sa sb : Bool} (hc : zC p md w) (hs : zYS w a_sort a_minus a_exponent a_mantissa) (hA : A < 2 ^ 600) (hB : B < 2 ^ 600) (h0 : zBB 0 720 (A : Int) a_row) (h1 : zBB 720 720 (B : Int) a_row) (hi : i < 8) (h : ∀ v, zYR p md (zsR p md A sa B sb f_flags).2 (zst w i (zsR p md A sa B sb f_flags).1) v → post v) : wpY_sum post (nI p, nI md, f_flags, f_sticky, 720, f_rest, a_sort, a_exponent, a_minus, a_mantissa, a_row) (nI i) (zb1 sa) (zb1 sb) := by
  have a7 := Nat.lt_trans hA (zpl_lt (show 600 < 720 by decide))
  have b7 := Nat.lt_trans hB (zpl_lt (show 600 < 720 by decide))
  have hN := zsN_lt (sa := sa) (sb := sb) hA hB
  have hmd := hc.2.2.1
  unfold zsR at h
  unfold wpY_sum
  dsimp only
  refine zk_bb (fun e => ?_) (fun e => ?_)
  · rw [if_pos e] at h
    refine yr_add (a := 0) (b := 1) (by omega) (by omega) (by omega) h0 h1 (fun l hl hf => ?_)
    rw [← Int.natCast_add] at hl
    have hN2 : A + B < 2 ^ 720 := by unfold zsN at hN; rw [if_pos e] at hN; exact hN
    exact yo_round (s := false) hmd hs hl hN2 hc.1 hc.2.1 hi (fun S Mi E Ma hS => h _ ⟨rfl, rfl, rfl, rfl, hS⟩)
  · rw [if_neg e] at h
    refine yr_cmp (a := 0) (b := 1) (W := 720) (by omega) (by omega) (by omega) h0 h1 a7 b7 ?_
    unfold zcmp
    by_cases e2 : A = B
    · rw [if_pos e2] at h ⊢
      refine br_t rfl ?_
      refine pk_eq md 3 (fun e3 => ?_) (fun e3 => ?_)
      · have e4 : (md == 3) = true := by rw [e3]; rfl
        rw [e4] at h
        exact yo_give (k := 0) (ng := true) (r := (0, true, 0, 0)) hs hi (by omega) rfl rfl (fun z => absurd z (by decide)) (fun S Mi E Ma hS => h _ ⟨rfl, rfl, rfl, rfl, hS⟩)
      · have e4 : (md == 3) = false := by simp [e3]
        rw [e4] at h
        exact yo_give (k := 0) (ng := false) (r := (0, false, 0, 0)) hs hi (by omega) rfl rfl (fun z => absurd z (by decide)) (fun S Mi E Ma hS => h _ ⟨rfl, rfl, rfl, rfl, hS⟩)
    · rw [if_neg e2] at h ⊢
      have N2 : B - A < 2 ^ 720 ∧ A - B < 2 ^ 720 := ⟨Nat.lt_of_le_of_lt (Nat.sub_le _ _) b7, Nat.lt_of_le_of_lt (Nat.sub_le _ _) a7⟩
      by_cases e3 : A < B
      · rw [if_pos e3] at h ⊢
        refine br_f (by decide) (br_f (by decide) ?_)
        refine yr_copy (a := 0) (b := 2) (W := 720) (by omega) (by omega) (by omega) (by omega) h0 (fun l1 k1 f1 => ?_)
        refine yr_copy (a := 1) (b := 0) (W := 720) (by omega) (by omega) (by omega) (by omega) (zBB_f h1 f1 (by omega)) (fun l2 k2 f2 => ?_)
        refine yr_copy (a := 2) (b := 1) (W := 720) (by omega) (by omega) (by omega) (by omega) (zBB_f k1 f2 (by omega)) (fun l3 k3 f3 => ?_)
        refine yr_sub (a := 0) (b := 1) (W := 720) (by omega) (by omega) (by omega) (by omega) (zBB_f k2 f3 (by omega)) k3 (fun l4 k4 f4 => br_f (by decide) ?_)
        have e5 : (B : Int) - (A : Int) = ((B - A : Nat) : Int) := by omega
        rw [e5] at k4
        exact yo_round (s := false) hmd hs k4 N2.1 hc.1 hc.2.1 hi (fun S Mi E Ma hS => h _ ⟨rfl, rfl, rfl, rfl, hS⟩)
      · rw [if_neg e3] at h ⊢
        refine br_f (by decide) (br_t (by decide) ?_)
        refine yr_sub (a := 0) (b := 1) (W := 720) (by omega) (by omega) (by omega) (by omega) h0 h1 (fun l4 k4 f4 => br_t (by decide) ?_)
        have e5 : (A : Int) - (B : Int) = ((A - B : Nat) : Int) := by omega
        rw [e5] at k4
        exact yo_round (s := false) hmd hs k4 N2.2 hc.1 hc.2.1 hi (fun S Mi E Ma hS => h _ ⟨rfl, rfl, rfl, rfl, hS⟩)
theorem ya_plus {post : SY → Prop} {p md i x y : Nat} {w : Nat → ZV} {turn : Bool} (hc : zC p md w) (hs : zYS w a_sort a_minus a_exponent a_mantissa) (hx : x < 8) (hy : y < 8) (hi : i < 8) (h : ∀ v, zYR p md (zadd p md (w x) (w y) turn f_flags).2 (zst w i (zadd p md (w x) (w y) turn f_flags).1) v → post v) : wpY_plus post (nI p, nI md, f_flags, f_sticky, 720, f_rest, a_sort, a_exponent, a_minus, a_mantissa, a_row) (nI x) (nI y) (zb1 turn) (nI i) := by
  have ox := hc.2.2.2 x hx
  have oy := hc.2.2.2 y hy
  have k1 := zOK_le ox
  have k2 := zOK_le oy
  have vx := vp_in_nI hx (show 8 < 2 ^ 31 by decide)
  have vy := vp_in_nI hy (show 8 < 2 ^ 31 by decide)
  unfold zadd at h
  have g15 : ∀ sb : Bool, sb = ((w y).2.1 != turn) → wY_plus_15 post (nI x) (nI y) (nI i) (zb1 sb) (nI p) (nI md) f_flags f_sticky 720 f_rest a_sort a_exponent a_minus a_mantissa a_row := by
    intro sb hsb
    rw [← hsb] at h
    have g77 : ((w x).1 = 3 ∨ (w y).1 = 3) → ¬ ((w x).1 = 3 ∧ (w y).1 = 3 ∧ (w x).2.1 ≠ sb) → wY_plus_77 post (nI x) (nI i) (zb1 sb) (nI p) (nI md) f_flags f_sticky 720 f_rest a_sort a_exponent a_minus a_mantissa a_row := by
      intro h3 hn
      rw [if_pos h3, if_neg hn] at h
      have g : ∀ b : Bool, b = (if (w x).1 = 3 then (w x).2.1 else sb) → wY_plus_102 post (zb1 b) 3 (nI i) (nI p) (nI md) f_flags f_sticky 720 f_rest a_sort a_exponent a_minus a_mantissa a_row := by
        intro b hb
        rw [← hb] at h
        exact yo_give (k := 3) (ng := b) (r := (3, b, 0, 0)) hs hi (by omega) rfl (by simp) (fun z => absurd z (by decide)) (fun S Mi E Ma hS => h _ ⟨rfl, rfl, rfl, rfl, hS⟩)
      refine ⟨vx, ?_⟩
      rw [nI_clamp (by omega), (hs x hx).2.1, (hs x hx).1]
      exact pk_eq (w x).1 3 (fun e => ⟨vx, g _ (by rw [if_pos e])⟩) (fun e => g sb (by rw [if_neg e]))
    have g57 : ¬ ((w x).1 = 3 ∧ (w y).1 = 3 ∧ (w x).2.1 ≠ sb) → wY_plus_57 post (nI x) (nI y) (nI i) (zb1 sb) (nI p) (nI md) f_flags f_sticky 720 f_rest a_sort a_exponent a_minus a_mantissa a_row := by
      intro hn
      refine ⟨vx, ?_⟩
      rw [nI_clamp (by omega), nI_clamp (by omega), (hs x hx).2.1, (hs y hy).2.1, (hs x hx).1]
      refine pk_eq (w x).1 3 (fun e1 => g77 (Or.inl e1) hn) (fun e1 => ⟨vy, pk_eq (w y).1 3 (fun e2 => g77 (Or.inr e2) hn) (fun e2 => ⟨vx, fun m em => ?_⟩)⟩)
      subst em
      rw [if_neg (by omega)] at h
      have bx := Nat.lt_trans (zrow_lt hc.1 hc.2.1 ox) (zpl_lt (show 441 < 600 by decide))
      have b_y := Nat.lt_trans (zrow_lt hc.1 hc.2.1 oy) (zpl_lt (show 441 < 600 by decide))
      refine yo_put (r := 0) hs ox hc.1 hc.2.1 hx (by omega) (fun l1 k1 f1 => ?_)
      refine yo_put (r := 1) hs oy hc.1 hc.2.1 hy (by omega) (fun l2 k2 f2 => ?_)
      exact ya_sum hc hs bx b_y (zBB_f k1 f2 (by omega)) k2 hi h
    refine ⟨vx, ?_⟩
    rw [nI_clamp (by omega), nI_clamp (by omega), (hs x hx).2.1, (hs y hy).2.1, (hs x hx).1]
    refine pk_eq (w x).1 3 (fun e1 => ⟨vy, pk_eq (w y).1 3 (fun e2 => ⟨vx, zk_bb (fun e3 => g57 (fun z => z.2.2 e3)) (fun e3 => ?_)⟩) (fun e2 => g57 (fun z => e2 z.2.1))⟩) (fun e1 => g57 (fun z => e1 z.1))
    rw [if_pos (Or.inl e1), if_pos ⟨e1, e2, e3⟩] at h
    exact yo_invalid hs hi (fun S Mi E Ma hS => h _ ⟨rfl, rfl, rfl, rfl, hS⟩)
  refine ⟨vy, ?_⟩
  rw [nI_clamp (by omega), (hs y hy).1]
  refine zk_bb (fun e => g15 false ?_) (fun e => g15 true ?_)
  · rw [e]; simp
  · exact (bne_iff_ne.mpr e).symm
end
end
section
/-! fuse -/
def zfu (p md : Nat) (a b c : ZV) (f : Int32) : ZV × Int32 :=
  if a.1 = 4 ∨ b.1 = 4 ∨ c.1 = 4 then ((4, false, 0, 0), f)
  else if ((a.1 = 0 ∨ b.1 = 0) ∧ (a.1 = 3 ∨ b.1 = 3)) ∨ ((a.1 = 3 ∨ b.1 = 3) ∧ c.1 = 3 ∧ (a.2.1 != b.2.1) ≠ c.2.1) then ((4, false, 0, 0), f ||| 16)
  else if (a.1 = 3 ∨ b.1 = 3) ∨ c.1 = 3 then ((3, if a.1 = 3 ∨ b.1 = 3 then (a.2.1 != b.2.1) else c.2.1, 0, 0), f)
  else zsR p md (zprod p a b) (a.2.1 != b.2.1) (zrow p c) c.2.1 f
theorem zfu_ok {p md : Nat} {a b c : ZV} {f : Int32} (hp2 : 2 ≤ p) (hp : p ≤ 64) : zOK p (zfu p md a b c f).1 := by
  unfold zfu
  split
  · exact zOK_4 p
  · split
    · exact zOK_4 p
    · split
      · exact zOK_3 p _
      · exact zsR_ok hp2 hp
section
variable {f_p f_mode f_flags f_below f_sticky : Int32} {a_kinds a_minus a_exponents a_limb a_row a_one a_two a_roots a_high a_part a_quotient a_square a_guess : Nat → Int32}
theorem xf_275 {post : Int32 → SX → Prop} {p md i z M o : Nat} {w : Nat → ZV} {e : Int} {sb : Bool} {T : Int} (hc : zC p md w) (hz : z < 8) (he : a_exponents z = zI e) (hl : zLB 4 (M : Int) (fun k => a_limb (4 * z + k))) (hM : M < 2 ^ 64) (ho : (o : Int) = e - p + 1 + 480) (ho2 : o < 2 ^ 20) (hsb : a_minus z = zb1 sb) (h : ∀ r, zLB 54 (T + zsg sb (M : Int) * 2 ^ o) r → wpX_total (fun u => post 1 u) (nI p, nI md, f_flags, f_below, f_sticky, a_kinds, a_minus, a_exponents, a_limb, r, a_one, a_two, a_roots, a_high, a_part, a_quotient, a_square, a_guess) (nI i)) : ∀ n k r, k ≤ 4 → 4 - k < n → zLB 54 (T + zsg sb ((M % 2 ^ (16 * k) : Nat) : Int) * 2 ^ o) r → wX_fuse_275 post (nI z) (nI i) n (nI k) (nI p) (nI md) f_flags f_below f_sticky a_kinds a_minus a_exponents a_limb r a_one a_two a_roots a_high a_part a_quotient a_square a_guess := by
  intro n
  induction n with
  | zero => intro k r _ h1; omega
  | succ n ih =>
    intro k r hk hn hr
    refine pk_le 4 k (fun hk2 => ?_) (fun hk2 => ⟨by rw [zx_ix]; exact vp_in_nI (by omega) (by decide), ?_⟩)
    · have e : k = 4 := by omega
      subst e
      rw [Nat.mod_eq_of_lt hM] at hr
      exact h r hr
    · have lx := zlm_lt (M : Int) k
      have e1 : a_limb ((4 : Int32) * nI z + nI k).toNatClampNeg = nI (zlm (M : Int) k) := by rw [zx_ix, nI_clamp (by omega)]; exact hl k hk2
      have e3 : zI (e - p + 1 + 480) + (16 : Int32) * nI k = nI (o + 16 * k) := by
        rw [show (16 : Int32) = nI 16 from rfl, pk_mul, ← zI_n, zI_add, ← zI_n]
        exact congrArg zI (by omega)
      refine xs_foot hz he ⟨vp_in_nI hz (by decide), ?_⟩
      rw [e1, e3, nI_clamp (by omega), hsb]
      refine xr_dep hr (by omega) (by omega) (fun r2 hr2 q eq => ?_)
      subst eq
      rw [nI_1]
      refine ih (k + 1) r2 (by omega) (by omega) ?_
      rw [Int.add_assoc, x_limb M k o sb] at hr2
      exact hr2
theorem xf_255 {post : Int32 → SX → Prop} {p md i x y z : Nat} {w : Nat → ZV} {sg ze : Bool} (hc : zC p md w) (hs : zXS p w a_kinds a_minus a_exponents a_limb) (hro : zRT a_roots) (hx : x < 8) (hy : y < 8) (hz : z < 8) (hi : i < 8) (hze : (ze = true ↔ (w x).1 = 0 ∨ (w y).1 = 0)) (hx4 : (w x).1 ≠ 4) (hx3 : (w x).1 ≠ 3) (hy4 : (w y).1 ≠ 4) (hy3 : (w y).1 ≠ 3) (hz4 : (w z).1 ≠ 4) (hz3 : (w z).1 ≠ 3) (hne : sg = (w z).2.1 → zprod p (w x) (w y) + zrow p (w z) ≠ 0) (h : ∀ u, zXR p md (zsR p md (zprod p (w x) (w y)) sg (zrow p (w z)) (w z).2.1 f_flags).2 (zst w i (zsR p md (zprod p (w x) (w y)) sg (zrow p (w z)) (w z).2.1 f_flags).1) u → post 1 u) : wX_fuse_255 post (nI x) (nI y) (nI z) (nI i) (zb1 sg) (zb1 ze) (nI p) (nI md) f_flags f_below f_sticky a_kinds a_minus a_exponents a_limb a_row a_one a_two a_roots a_high a_part a_quotient a_square a_guess := by
  have ox := hc.2.2.2 x hx
  have oy := hc.2.2.2 y hy
  obtain ⟨M, o, e, m1, m2, m3, m4, m5, m6⟩ := xs_op hc hs hz hz4 hz3
  have bz := Nat.lt_trans (zrow_lt hc.1 hc.2.1 (hc.2.2.2 z hz)) (zpl_lt (show 441 < 600 by decide))
  have bp := Nat.lt_trans (zprod_lt hc.1 hc.2.1 ox oy) (zpl_lt (show 545 < 600 by decide))
  have fin : ∀ (T : Int) (r one two : Nat → Int32), T = zsg sg (zprod p (w x) (w y) : Int) * 2 ^ 140 → zLB 54 T r → ∃ n, wX_fuse_275 post (nI z) (nI i) n 0 (nI p) (nI md) f_flags 0 0 a_kinds a_minus a_exponents a_limb r one two a_roots a_high a_part a_quotient a_square a_guess := by
    intro T r one two hT hr
    refine ⟨5, xf_275 (T := T) (sb := (w z).2.1) hc hz m2 m3 m1 m4 m5 (hs z hz).1 (fun r2 hr2 => ?_) 5 0 r (by omega) (by omega) ?_⟩
    · refine xa_tot hc hs hro bp bz hne ?_ hr2 hi h
      have e9 : zsg (w z).2.1 (M : Int) * 2 ^ o = zsg (w z).2.1 (zrow p (w z) : Int) * 2 ^ 140 := by
        rw [← zsg_mul, ← zsg_mul, ← zp_cast, ← zp_cast, ← Int.natCast_mul, ← Int.natCast_mul, m6]
      rw [hT, e9]
    · rw [Nat.mul_zero, Nat.pow_zero, Nat.mod_one]
      show zLB 54 (T + zsg _ 0 * 2 ^ o) r
      rw [zsg_0, Int.zero_mul, Int.add_zero]
      exact hr
  unfold wX_fuse_255
  refine xr_clear (fun r hr => ?_)
  refine zk_b (fun e1 => ?_) (fun e1 => ?_)
  · have hnz : ¬ ((w x).1 = 0 ∨ (w y).1 = 0) := fun q => by rw [hze.mpr q] at e1; exact Bool.noConfusion e1
    have kx2 : (w x).1 = 2 := by have := ox.1; omega
    have ky2 : (w y).1 = 2 := by have := oy.1; omega
    obtain ⟨f1, f2, f3⟩ := xs_fin hs hx kx2
    obtain ⟨q1, q2, q3⟩ := xs_fin hs hy ky2
    obtain ⟨g1, g2, g3, g4, g5⟩ := ox.2.1 kx2
    obtain ⟨j1, j2, j3, j4, j5⟩ := oy.2.1 ky2
    obtain ⟨i1, i2⟩ := zpo_i hc.2.1 ox oy kx2 ky2
    refine xp_product (off := sg) (at' := zpo p (w x) (w y) + 140) hro hx hy (zOK_64 ox hc.2.1 kx2) (zOK_64 oy hc.2.1 ky2) f2 q2 f1 q1 (by omega) (by omega) hr (fun r2 on tw hr2 => ?_)
    refine fin _ r2 on tw ?_ hr2
    have hpe : zprod p (w x) (w y) = (w x).2.2.2 * (w y).2.2.2 * 2 ^ zpo p (w x) (w y) := if_pos ⟨kx2, ky2⟩
    rw [Int.zero_add, hpe, ← zsg_mul, ← zsg_mul, ← zp_cast, ← zp_cast, ← Int.natCast_mul, ← Int.natCast_mul, Nat.mul_assoc _ (2 ^ zpo p (w x) (w y)), ← zNp]
  · have hzz := hze.mp e1
    refine fin 0 r a_one a_two ?_ hr
    rw [show zprod p (w x) (w y) = 0 from if_neg (by omega)]
    show (0 : Int) = zsg sg 0 * 2 ^ 140
    rw [zsg_0, Int.zero_mul]
theorem xf_fuse {post : Int32 → SX → Prop} {p md i x y z : Nat} {w : Nat → ZV} (hc : zC p md w) (hs : zXS p w a_kinds a_minus a_exponents a_limb) (hro : zRT a_roots) (hx : x < 8) (hy : y < 8) (hz : z < 8) (hi : i < 8) (h : ∀ u, zXR p md (zfu p md (w x) (w y) (w z) f_flags).2 (zst w i (zfu p md (w x) (w y) (w z) f_flags).1) u → post 1 u) : wpX_fuse post (nI p, nI md, f_flags, f_below, f_sticky, a_kinds, a_minus, a_exponents, a_limb, a_row, a_one, a_two, a_roots, a_high, a_part, a_quotient, a_square, a_guess) (nI x) (nI y) (nI z) (nI i) := by
  have ox := hc.2.2.2 x hx
  have oy := hc.2.2.2 y hy
  have oz := hc.2.2.2 z hz
  have kx := xs_kz hs ox hx
  have ky := xs_kz hs oy hy
  have kz := xs_kz hs oz hz
  have vx := vp_in_nI hx (show 8 < 2 ^ 31 by decide)
  have vy := vp_in_nI hy (show 8 < 2 ^ 31 by decide)
  have vz := vp_in_nI hz (show 8 < 2 ^ 31 by decide)
  unfold zfu at h
  have g51 : ∀ sg : Bool, sg = ((w x).2.1 != (w y).2.1) → wX_fuse_51 post (nI x) (nI y) (nI z) (nI i) (zb1 sg) (nI p) (nI md) f_flags f_below f_sticky a_kinds a_minus a_exponents a_limb a_row a_one a_two a_roots a_high a_part a_quotient a_square a_guess := by
    intro sg hsg
    rw [← hsg] at h
    have g99 : ∀ ze inf : Bool, (ze = true ↔ (w x).1 = 0 ∨ (w y).1 = 0) → (inf = true ↔ (w x).1 = 3 ∨ (w y).1 = 3) → wX_fuse_99 post (nI x) (nI y) (nI z) (nI i) (zb1 sg) (zb1 ze) (zb1 inf) (nI p) (nI md) f_flags f_below f_sticky a_kinds a_minus a_exponents a_limb a_row a_one a_two a_roots a_high a_part a_quotient a_square a_guess := by
      intro ze inf hze hinf
      have g125 : ((w x).1 = 4 ∨ (w y).1 = 4 ∨ (w z).1 = 4) → wX_fuse_125 post (nI i) (nI p) (nI md) f_flags f_below f_sticky a_kinds a_minus a_exponents a_limb a_row a_one a_two a_roots a_high a_part a_quotient a_square a_guess := by
        intro q
        rw [if_pos q] at h
        exact xs_set (k := 4) (ng := false) hs hi (Or.inr (Or.inr rfl)) (fun K M E L hK => h _ ⟨rfl, rfl, rfl, hK, hro⟩)
      unfold wX_fuse_99
      refine xs_isNot hs ox hx (zk_b (fun n1 => ?_) (fun n1 => g125 (Or.inl (of_decide_eq_true n1))))
      refine xs_isNot hs oy hy (zk_b (fun n2 => ?_) (fun n2 => g125 (Or.inr (Or.inl (of_decide_eq_true n2)))))
      refine xs_isNot hs oz hz (zk_b (fun n3 => ?_) (fun n3 => g125 (Or.inr (Or.inr (of_decide_eq_true n3)))))
      have n1 := of_decide_eq_false n1
      have n2 := of_decide_eq_false n2
      have n3 := of_decide_eq_false n3
      rw [if_neg (by omega)] at h
      have g170 : (((w x).1 = 0 ∨ (w y).1 = 0) ∧ ((w x).1 = 3 ∨ (w y).1 = 3)) ∨ (((w x).1 = 3 ∨ (w y).1 = 3) ∧ (w z).1 = 3 ∧ sg ≠ (w z).2.1) → wX_fuse_170 post (nI i) (nI p) (nI md) f_flags f_below f_sticky a_kinds a_minus a_exponents a_limb a_row a_one a_two a_roots a_high a_part a_quotient a_square a_guess := by
        intro q
        rw [if_pos q] at h
        exact xs_invalid hs hi (fun K M E L hK => h _ ⟨rfl, rfl, rfl, hK, hro⟩)
      have g179 : ¬ ((((w x).1 = 0 ∨ (w y).1 = 0) ∧ ((w x).1 = 3 ∨ (w y).1 = 3)) ∨ (((w x).1 = 3 ∨ (w y).1 = 3) ∧ (w z).1 = 3 ∧ sg ≠ (w z).2.1)) → wX_fuse_179 post (nI x) (nI y) (nI z) (nI i) (zb1 sg) (zb1 ze) (zb1 inf) (nI p) (nI md) f_flags f_below f_sticky a_kinds a_minus a_exponents a_limb a_row a_one a_two a_roots a_high a_part a_quotient a_square a_guess := by
        intro q
        rw [if_neg q] at h
        have g192 : (((w x).1 = 3 ∨ (w y).1 = 3) ∨ (w z).1 = 3) → wX_fuse_192 post (nI z) (nI i) (zb1 sg) (zb1 inf) (nI p) (nI md) f_flags f_below f_sticky a_kinds a_minus a_exponents a_limb a_row a_one a_two a_roots a_high a_part a_quotient a_square a_guess := by
          intro q2
          rw [if_pos q2] at h
          have g : ∀ b : Bool, b = (if (w x).1 = 3 ∨ (w y).1 = 3 then sg else (w z).2.1) → wX_fuse_212 post (zb1 b) 3 (nI i) (nI p) (nI md) f_flags f_below f_sticky a_kinds a_minus a_exponents a_limb a_row a_one a_two a_roots a_high a_part a_quotient a_square a_guess := by
            intro b hb
            rw [← hb] at h
            refine xs_set (k := 3) (ng := b) hs hi (Or.inr (Or.inl rfl)) (fun K M E L hK => h _ ⟨rfl, rfl, rfl, ?_, hro⟩)
            rw [show (b && !((3 : Nat) == 4)) = b from by simp] at hK
            exact hK
          refine zk_b (fun e => ⟨vz, ?_⟩) (fun e => ?_)
          · have hf : ¬ ((w x).1 = 3 ∨ (w y).1 = 3) := fun q => by rw [hinf.mpr q] at e; exact Bool.noConfusion e
            rw [nI_clamp (by omega), (hs z hz).1]
            exact g _ (by rw [if_neg hf])
          · exact g _ (by rw [if_pos (hinf.mp e)])
        refine zk_b (fun e => ?_) (fun e => g192 (Or.inl (hinf.mp e)))
        have hf : ¬ ((w x).1 = 3 ∨ (w y).1 = 3) := fun q => by rw [hinf.mpr q] at e; exact Bool.noConfusion e
        refine xs_isInf hs oz hz (zk_b (fun e3 => ?_) (fun e3 => g192 (Or.inr (of_decide_eq_true e3))))
        have e3 := of_decide_eq_false e3
        rw [if_neg (by omega)] at h
        have g255 := fun hne => xf_255 (f_below := f_below) (f_sticky := f_sticky) (a_row := a_row) (a_one := a_one) (a_two := a_two) (a_high := a_high) (a_part := a_part) (a_quotient := a_quotient) (a_square := a_square) (a_guess := a_guess) hc hs hro hx hy hz hi hze n1 (by omega) n2 (by omega) n3 e3 hne h
        have zr0 : (w z).1 ≠ 0 → zrow p (w z) ≠ 0 := fun q => (zrow_log hc.1 hc.2.1 oz (by have := oz.1; omega)).1
        refine zk_b (fun e4 => ?_) (fun e4 => ⟨vz, ?_⟩)
        · refine g255 (fun _ => ?_)
          have hnz : ¬ ((w x).1 = 0 ∨ (w y).1 = 0) := fun q => by rw [hze.mpr q] at e4; exact Bool.noConfusion e4
          have kx2 : (w x).1 = 2 := by have := ox.1; omega
          have ky2 : (w y).1 = 2 := by have := oy.1; omega
          obtain ⟨g1, _⟩ := ox.2.1 kx2
          obtain ⟨j1, _⟩ := oy.2.1 ky2
          have hpe : zprod p (w x) (w y) = (w x).2.2.2 * (w y).2.2.2 * 2 ^ zpo p (w x) (w y) := if_pos ⟨kx2, ky2⟩
          have : zprod p (w x) (w y) ≠ 0 := by
            rw [hpe]
            exact Nat.mul_ne_zero (Nat.mul_ne_zero (by omega) (by omega)) (Nat.ne_of_gt (Nat.two_pow_pos _))
          omega
        · rw [nI_clamp (by omega), (hs z hz).1]
          refine zk_i kz.1 (fun e5 => ⟨vz, zk_bb (fun e6 => ?_) (fun e6 => ?_)⟩) (fun e5 => ?_)
          · have hzz := hze.mp e4
            have r1 : zprod p (w x) (w y) = 0 := if_neg (by omega)
            have r2 : zrow p (w z) = 0 := by unfold zrow; rw [if_neg (by omega)]
            have e7 : zsR p md (zprod p (w x) (w y)) sg (zrow p (w z)) (w z).2.1 f_flags = ((0, sg, 0, 0), f_flags) := by
              unfold zsR
              rw [if_pos e6, r1, r2]
              rfl
            rw [e7] at h
            refine xs_set (k := 0) (ng := sg) hs hi (Or.inl rfl) (fun K M E L hK => h _ ⟨rfl, rfl, rfl, ?_, hro⟩)
            rw [show (sg && !((0 : Nat) == 4)) = sg from by simp] at hK
            exact hK
          · exact g255 (fun q => absurd q e6)
          · exact g255 (fun _ => by have := zr0 e5; omega)
      have g146 : ¬ (((w x).1 = 0 ∨ (w y).1 = 0) ∧ ((w x).1 = 3 ∨ (w y).1 = 3)) → wX_fuse_146 post (nI x) (nI y) (nI z) (nI i) (zb1 sg) (zb1 ze) (zb1 inf) (nI p) (nI md) f_flags f_below f_sticky a_kinds a_minus a_exponents a_limb a_row a_one a_two a_roots a_high a_part a_quotient a_square a_guess := by
        intro q
        refine zk_b (fun e => ?_) (fun e => ?_)
        · have hf : ¬ ((w x).1 = 3 ∨ (w y).1 = 3) := fun q => by rw [hinf.mpr q] at e; exact Bool.noConfusion e
          exact g179 (fun q2 => by rcases q2 with q2 | q2; exact q q2; exact hf q2.1)
        · refine xs_isInf hs oz hz (zk_b (fun e3 => ?_) (fun e3 => ⟨vz, ?_⟩))
          · have e3 := of_decide_eq_false e3
            exact g179 (fun q2 => by rcases q2 with q2 | q2; exact q q2; exact e3 q2.2.1)
          · have e3 := of_decide_eq_true e3
            rw [nI_clamp (by omega), (hs z hz).1]
            refine zk_bb (fun e6 => ?_) (fun e6 => ?_)
            · exact g179 (fun q2 => by rcases q2 with q2 | q2; exact q q2; exact q2.2.2 e6)
            · exact g170 (Or.inr ⟨hinf.mp e, e3, e6⟩)
      refine zk_b (fun e => ?_) (fun e => zk_b (fun e2 => ?_) (fun e2 => ?_))
      · exact g146 (fun q => by rw [hze.mpr q.1] at e; exact Bool.noConfusion e)
      · exact g146 (fun q => by rw [hinf.mpr q.2] at e2; exact Bool.noConfusion e2)
      · exact g170 (Or.inl ⟨hze.mp e, hinf.mp e2⟩)
    have g76 : ∀ ze : Bool, (ze = true ↔ (w x).1 = 0 ∨ (w y).1 = 0) → wX_fuse_76 post (nI x) (nI y) (nI z) (nI i) (zb1 sg) (zb1 ze) (nI p) (nI md) f_flags f_below f_sticky a_kinds a_minus a_exponents a_limb a_row a_one a_two a_roots a_high a_part a_quotient a_square a_guess := by
      intro ze hze
      unfold wX_fuse_76
      refine xs_isInf hs ox hx (zk_b (fun e1 => ?_) (fun e1 => ?_))
      · have e1 := of_decide_eq_false e1
        refine xs_isInf hs oy hy (zk_b (fun e2 => ?_) (fun e2 => ?_))
        · have e2 := of_decide_eq_false e2
          exact g99 ze false hze ⟨fun z => Bool.noConfusion z, fun z => by omega⟩
        · have e2 := of_decide_eq_true e2
          exact g99 ze true hze ⟨fun _ => Or.inr e2, fun _ => rfl⟩
      · have e1 := of_decide_eq_true e1
        exact g99 ze true hze ⟨fun _ => Or.inl e1, fun _ => rfl⟩
    refine ⟨vx, ?_⟩
    rw [nI_clamp (by omega)]
    refine zk_i kx.1 (fun e1 => ?_) (fun e1 => ⟨vy, ?_⟩)
    · exact g76 true ⟨fun _ => Or.inl e1, fun _ => rfl⟩
    · rw [nI_clamp (by omega)]
      refine zk_i ky.1 (fun e2 => ?_) (fun e2 => ?_)
      · exact g76 true ⟨fun _ => Or.inr e2, fun _ => rfl⟩
      · exact g76 false ⟨fun z => Bool.noConfusion z, fun z => by omega⟩
  unfold wpX_fuse
  dsimp only
  refine zs_X hx (br_f (by decide) (zs_X hy (br_f (by decide) (zs_X hz (br_f (by decide) (zs_X hi (br_f (by decide) ⟨vx, vy, ?_⟩)))))))
  rw [nI_clamp (by omega), nI_clamp (by omega), (hs x hx).1, (hs y hy).1]
  refine zk_bb (fun e => g51 false ?_) (fun e => g51 true ?_)
  · rw [e]; simp
  · exact (bne_iff_ne.mpr e).symm
end
section
variable {f_precision f_mode f_flags f_sticky f_wide : Int32} {f_rest : Int64} {a_sort a_exponent a_minus a_row : Nat → Int32} {a_mantissa : Nat → Int64}
theorem yf_fuse {post : Int32 → SY → Prop} {p md i x y z : Nat} {w : Nat → ZV} (hc : zC p md w) (hs : zYS w a_sort a_minus a_exponent a_mantissa) (hx : x < 8) (hy : y < 8) (hz : z < 8) (hi : i < 8) (h : ∀ v, zYR p md (zfu p md (w x) (w y) (w z) f_flags).2 (zst w i (zfu p md (w x) (w y) (w z) f_flags).1) v → post 1 v) : wpY_fuse post (nI p, nI md, f_flags, f_sticky, 720, f_rest, a_sort, a_exponent, a_minus, a_mantissa, a_row) (nI x) (nI y) (nI z) (nI i) := by
  have ox := hc.2.2.2 x hx
  have oy := hc.2.2.2 y hy
  have oz := hc.2.2.2 z hz
  have k1 := zOK_le ox
  have k2 := zOK_le oy
  have k3 := zOK_le oz
  have vx := vp_in_nI hx (show 8 < 2 ^ 31 by decide)
  have vy := vp_in_nI hy (show 8 < 2 ^ 31 by decide)
  have vz := vp_in_nI hz (show 8 < 2 ^ 31 by decide)
  unfold zfu at h
  have g51 : ∀ sg : Bool, sg = ((w x).2.1 != (w y).2.1) → wY_fuse_51 post (nI x) (nI y) (nI z) (nI i) (zb1 sg) (nI p) (nI md) f_flags f_sticky 720 f_rest a_sort a_exponent a_minus a_mantissa a_row := by
    intro sg hsg
    rw [← hsg] at h
    have g86 : ∀ inf : Bool, (inf = true ↔ (w x).1 = 3 ∨ (w y).1 = 3) → wY_fuse_86 post (nI x) (nI y) (nI z) (nI i) (zb1 sg) (zb1 (w z).2.1) (zb1 inf) (nI p) (nI md) f_flags f_sticky 720 f_rest a_sort a_exponent a_minus a_mantissa a_row := by
      intro inf hinf
      have g107 : ((w x).1 = 4 ∨ (w y).1 = 4 ∨ (w z).1 = 4) → wY_fuse_107 post (nI i) (nI p) (nI md) f_flags f_sticky 720 f_rest a_sort a_exponent a_minus a_mantissa a_row := by
        intro q
        rw [if_pos q] at h
        exact yo_give (k := 4) (ng := false) (r := (4, false, 0, 0)) hs hi (by omega) rfl rfl (fun z => absurd z (by decide)) (fun S Mi E Ma hS => h _ ⟨rfl, rfl, rfl, rfl, hS⟩)
      unfold wY_fuse_86
      refine yc_hasNot hc hs hx hy (zk_b (fun n1 => ⟨vz, ?_⟩) (fun n1 => g107 (by have := of_decide_eq_true n1; omega)))
      have n1 := of_decide_eq_false n1
      rw [nI_clamp (by omega), (hs z hz).2.1]
      refine pk_eq (w z).1 4 (fun n3 => g107 (Or.inr (Or.inr n3))) (fun n3 => ?_)
      rw [if_neg (by omega)] at h
      have g151 : (((w x).1 = 0 ∨ (w y).1 = 0) ∧ ((w x).1 = 3 ∨ (w y).1 = 3)) ∨ (((w x).1 = 3 ∨ (w y).1 = 3) ∧ (w z).1 = 3 ∧ sg ≠ (w z).2.1) → wY_fuse_151 post (nI i) (nI p) (nI md) f_flags f_sticky 720 f_rest a_sort a_exponent a_minus a_mantissa a_row := by
        intro q
        rw [if_pos q] at h
        exact yo_invalid hs hi (fun S Mi E Ma hS => h _ ⟨rfl, rfl, rfl, rfl, hS⟩)
      have g160 : ¬ ((((w x).1 = 0 ∨ (w y).1 = 0) ∧ ((w x).1 = 3 ∨ (w y).1 = 3)) ∨ (((w x).1 = 3 ∨ (w y).1 = 3) ∧ (w z).1 = 3 ∧ sg ≠ (w z).2.1)) → wY_fuse_160 post (nI x) (nI y) (nI z) (nI i) (zb1 sg) (zb1 (w z).2.1) (zb1 inf) (nI p) (nI md) f_flags f_sticky 720 f_rest a_sort a_exponent a_minus a_mantissa a_row := by
        intro q
        rw [if_neg q] at h
        have g175 : (((w x).1 = 3 ∨ (w y).1 = 3) ∨ (w z).1 = 3) → wY_fuse_175 post (nI i) (zb1 sg) (zb1 (w z).2.1) (zb1 inf) (nI p) (nI md) f_flags f_sticky 720 f_rest a_sort a_exponent a_minus a_mantissa a_row := by
          intro q2
          rw [if_pos q2] at h
          have g : ∀ b : Bool, b = (if (w x).1 = 3 ∨ (w y).1 = 3 then sg else (w z).2.1) → wY_fuse_191 post (zb1 b) 3 (nI i) (nI p) (nI md) f_flags f_sticky 720 f_rest a_sort a_exponent a_minus a_mantissa a_row := by
            intro b hb
            rw [← hb] at h
            exact yo_give (k := 3) (ng := b) (r := (3, b, 0, 0)) hs hi (by omega) rfl (by simp) (fun z => absurd z (by decide)) (fun S Mi E Ma hS => h _ ⟨rfl, rfl, rfl, rfl, hS⟩)
          refine zk_b (fun e => ?_) (fun e => ?_)
          · have hf : ¬ ((w x).1 = 3 ∨ (w y).1 = 3) := fun q => by rw [hinf.mpr q] at e; exact Bool.noConfusion e
            exact g _ (by rw [if_neg hf])
          · exact g _ (by rw [if_pos (hinf.mp e)])
        refine zk_b (fun e => ⟨vz, ?_⟩) (fun e => g175 (Or.inl (hinf.mp e)))
        have hf : ¬ ((w x).1 = 3 ∨ (w y).1 = 3) := fun q => by rw [hinf.mpr q] at e; exact Bool.noConfusion e
        rw [nI_clamp (by omega), (hs z hz).2.1]
        refine pk_eq (w z).1 3 (fun e3 => g175 (Or.inr e3)) (fun e3 => ?_)
        rw [if_neg (by omega)] at h
        have bz := Nat.lt_trans (zrow_lt hc.1 hc.2.1 oz) (zpl_lt (show 441 < 600 by decide))
        have bp := Nat.lt_trans (zprod_lt hc.1 hc.2.1 ox oy) (zpl_lt (show 545 < 600 by decide))
        refine ym_rows hc hs hx hy (fun l1 k1 => ?_)
        refine yo_put (r := 1) hs oz hc.1 hc.2.1 hz (by omega) (fun l2 k2 f2 => ?_)
        exact ya_sum (post := fun v => post 1 v) hc hs bp bz (zBB_f k1 f2 (by omega)) k2 hi h
      refine ym_bad hc hs hx hy (zk_b (fun b1 => ?_) (fun b1 => g151 (Or.inl (of_decide_eq_true b1))))
      have b1 := of_decide_eq_false b1
      refine zk_b (fun e => ?_) (fun e => ⟨vz, ?_⟩)
      · have hf : ¬ ((w x).1 = 3 ∨ (w y).1 = 3) := fun q => by rw [hinf.mpr q] at e; exact Bool.noConfusion e
        exact g160 (fun q2 => by rcases q2 with q2 | q2; exact b1 q2; exact hf q2.1)
      · refine pk_eq (w z).1 3 (fun e3 => zk_bb (fun e6 => ?_) (fun e6 => ?_)) (fun e3 => ?_)
        · exact g160 (fun q2 => by rcases q2 with q2 | q2; exact b1 q2; exact q2.2.2 e6)
        · exact g151 (Or.inr ⟨hinf.mp e, e3, e6⟩)
        · exact g160 (fun q2 => by rcases q2 with q2 | q2; exact b1 q2; exact e3 q2.2.1)
    refine ⟨vz, fun m em => ⟨vx, ?_⟩⟩
    rw [nI_clamp (by omega), (hs z hz).1] at em
    subst em
    rw [nI_clamp (by omega), nI_clamp (by omega), (hs x hx).2.1, (hs y hy).2.1]
    refine pk_eq (w x).1 3 (fun e1 => g86 true ⟨fun _ => Or.inl e1, fun _ => rfl⟩) (fun e1 => ⟨vy, pk_eq (w y).1 3 (fun e2 => g86 true ⟨fun _ => Or.inr e2, fun _ => rfl⟩) (fun e2 => g86 false ⟨fun z => Bool.noConfusion z, fun z => by omega⟩)⟩)
  unfold wpY_fuse
  dsimp only
  refine zs_Y hx (br_f (by decide) (zs_Y hy (br_f (by decide) (zs_Y hz (br_f (by decide) (zs_Y hi (br_f (by decide) ⟨vx, vy, ?_⟩)))))))
  rw [nI_clamp (by omega), nI_clamp (by omega), (hs x hx).1, (hs y hy).1]
  refine zk_bb (fun e => g51 false ?_) (fun e => g51 true ?_)
  · rw [e]; simp
  · exact (bne_iff_ne.mpr e).symm
end
theorem i_vc_fuse {k : Nat} {u : SX} {v : SY} (I : i_Rel k u v) (hk : k + 5 ≤ 2561) (v1 : Int32) (v2 : Int32) (v3 : Int32) (v4 : Int32) : wpX_fuse (fun r u' => wpY_fuse (fun r' v' => r' = r ∧ i_Rel (k + 5) u' v') v v1 v2 v3 v4) u v1 v2 v3 v4 := by
  obtain ⟨p, md, f, w, hc, hX, hY⟩ := I
  obtain ⟨f_p, f_mode, f_flags, f_below, f_sticky, a_kinds, a_minus, a_exponents, a_limb, a_row, a_one, a_two, a_roots, a_high, a_part, a_quotient, a_square, a_guess⟩ := u
  obtain ⟨rfl, rfl, rfl, hs, hro⟩ := hX
  obtain ⟨g_precision, g_mode, g_flags, g_sticky, g_wide, g_rest, b_sort, b_exponent, b_minus, b_mantissa, b_row⟩ := v
  obtain ⟨rfl, rfl, rfl, rfl, ht⟩ := hY
  have same : i_Rel (k + 5) (nI p, nI md, g_flags, f_below, f_sticky, a_kinds, a_minus, a_exponents, a_limb, a_row, a_one, a_two, a_roots, a_high, a_part, a_quotient, a_square, a_guess) (nI p, nI md, g_flags, g_sticky, 720, g_rest, b_sort, b_exponent, b_minus, b_mantissa, b_row) := ⟨p, md, _, w, hc, ⟨rfl, rfl, rfl, hs, hro⟩, ⟨rfl, rfl, rfl, rfl, ht⟩⟩
  rcases zs_ix v1 with hb | ⟨x, hx, rfl⟩
  · unfold wpX_fuse wpY_fuse
    exact hb.1 _ (br_t rfl (hb.2 _ (br_t rfl ⟨rfl, same⟩)))
  · rcases zs_ix v2 with hb | ⟨y, hy, rfl⟩
    · unfold wpX_fuse wpY_fuse
      exact zs_X hx (br_f (by decide) (hb.1 _ (br_t rfl (zs_Y hx (br_f (by decide) (hb.2 _ (br_t rfl ⟨rfl, same⟩)))))))
    · rcases zs_ix v3 with hb | ⟨z, hz, rfl⟩
      · unfold wpX_fuse wpY_fuse
        exact zs_X hx (br_f (by decide) (zs_X hy (br_f (by decide) (hb.1 _ (br_t rfl (zs_Y hx (br_f (by decide) (zs_Y hy (br_f (by decide) (hb.2 _ (br_t rfl ⟨rfl, same⟩)))))))))))
      · rcases zs_ix v4 with hb | ⟨i, hi, rfl⟩
        · unfold wpX_fuse wpY_fuse
          exact zs_X hx (br_f (by decide) (zs_X hy (br_f (by decide) (zs_X hz (br_f (by decide) (hb.1 _ (br_t rfl (zs_Y hx (br_f (by decide) (zs_Y hy (br_f (by decide) (zs_Y hz (br_f (by decide) (hb.2 _ (br_t rfl ⟨rfl, same⟩)))))))))))))))
        · exact xf_fuse hc hs hro hx hy hz hi (fun u hu => yf_fuse hc ht hx hy hz hi (fun v hv => ⟨rfl, p, md, _, _, zC_s hc (zfu_ok hc.1 hc.2.1), hu, hv⟩))
end
section
/-! quotients of the component -/
theorem zrd_lo {p md Q o c : Nat} {ng s : Bool} {f : Int32} (hp2 : 2 ≤ p) (hp : p ≤ 64) (hc : c ≤ 140) (hQ : 2 ^ (64 + c) ≤ Q) : zrd 480 p md ng (Q * 2 ^ (o + (140 - c))) s f = zrd 340 p md ng (Q / 2 ^ c * 2 ^ o) (s || decide (Q % 2 ^ c ≠ 0)) f := by
  have hQ0 : Q ≠ 0 := by have := Nat.two_pow_pos (64 + c); omega
  have hl : 64 + c ≤ Q.log2 := (Nat.le_log2 hQ0).mpr hQ
  have hn : Q * 2 ^ (o + (140 - c)) ≠ 0 := Nat.mul_ne_zero hQ0 (Nat.ne_of_gt (Nat.two_pow_pos _))
  have hlm := z_logmul hQ0 (o + (140 - c))
  have hu := zu_i (N := Q * 2 ^ (o + (140 - c))) (L := 480) hp (by decide)
  have hx := zex_le (((Q * 2 ^ (o + (140 - c))).log2 : Int) - (480 : Nat))
  rw [zrd_cut (t := o + 140) hn hp2 hp (by decide) (by omega) (by omega)]
  have e1 : Q * 2 ^ (o + (140 - c)) / 2 ^ (o + 140) = Q / 2 ^ c := by
    rw [show o + 140 = c + (o + (140 - c)) from by omega, z_divp]
  have e2 : decide (Q * 2 ^ (o + (140 - c)) % 2 ^ (o + 140) ≠ 0) = decide (Q % 2 ^ c ≠ 0) := by
    rw [show o + 140 = c + (o + (140 - c)) from by omega, zNp c, Nat.mul_mod_mul_right]
    have h0 := Nat.two_pow_pos (o + (140 - c))
    by_cases h : Q % 2 ^ c = 0
    · rw [h, Nat.zero_mul]
    · have h3 : Q % 2 ^ c * 2 ^ (o + (140 - c)) ≠ 0 := Nat.mul_ne_zero h (by omega)
      rw [decide_eq_true h, decide_eq_true h3]
  rw [e1, e2, zNp o 140, ← Nat.mul_assoc]
  have hq1 : Q / 2 ^ c ≠ 0 := by
    have : 2 ^ 64 ≤ Q / 2 ^ c := (Nat.le_div_iff_mul_le (Nat.two_pow_pos c)).mpr (by rw [← zNp]; exact hQ)
    have := Nat.two_pow_pos 64
    omega
  exact zrd_scale (t := 140) (Nat.mul_ne_zero hq1 (Nat.ne_of_gt (Nat.two_pow_pos _))) hp (by decide)
def zqf (a b : ZV) : Nat := (a.2.2.1 - b.2.2.1 - 130 + 340).toNat
def zdi (p md : Nat) (a b : ZV) (f : Int32) : ZV × Int32 :=
  if (a.1 = 0 ∧ b.1 = 0) ∨ (a.1 = 3 ∧ b.1 = 3) then ((4, false, 0, 0), f ||| 16)
  else if a.1 = 3 ∨ b.1 = 0 then ((3, a.2.1 != b.2.1, 0, 0), if a.1 = 2 then f ||| 8 else f)
  else if a.1 = 0 ∨ b.1 = 3 then ((0, a.2.1 != b.2.1, 0, 0), f)
  else zrd0 340 p md (a.2.1 != b.2.1) (a.2.2.2 * 2 ^ 130 / b.2.2.2 * 2 ^ zqf a b) (decide (a.2.2.2 * 2 ^ 130 % b.2.2.2 ≠ 0)) f
theorem zdi_ok {p md : Nat} {a b : ZV} {f : Int32} (hp2 : 2 ≤ p) (hp : p ≤ 64) : zOK p (zdi p md a b f).1 := by
  unfold zdi
  split
  · exact zOK_4 p
  · split
    · exact zOK_3 p _
    · split
      · exact zOK_0 p _
      · exact zrd0_ok hp2 hp (by decide)
theorem zq_cut (A D u t : Nat) (hD : 0 < D) : A * 2 ^ (u + t) / D / 2 ^ t = A * 2 ^ u / D ∧ ((decide (A * 2 ^ (u + t) % D ≠ 0)) || decide (A * 2 ^ (u + t) / D % 2 ^ t ≠ 0)) = decide (A * 2 ^ u % D ≠ 0) := by
  have ht := Nat.two_pow_pos t
  have e1 : A * 2 ^ (u + t) / D / 2 ^ t = A * 2 ^ u / D := by
    rw [Nat.div_div_eq_div_mul, zNp, ← Nat.mul_assoc, Nat.mul_div_mul_right _ _ ht]
  refine ⟨e1, ?_⟩
  have d1 := Nat.div_add_mod (A * 2 ^ (u + t)) D
  have d2 := Nat.div_add_mod (A * 2 ^ u) D
  have d3 := Nat.div_add_mod (A * 2 ^ (u + t) / D) (2 ^ t)
  have e2 : A * 2 ^ (u + t) = A * 2 ^ u * 2 ^ t := by rw [zNp, Nat.mul_assoc]
  rw [e1] at d3
  rw [e2] at d1 d3 ⊢
  generalize A * 2 ^ u = X at *
  by_cases h : X % D = 0
  · -- nothing is left
    have hX : X = D * (X / D) := by omega
    have h5 : X * 2 ^ t = D * (X / D * 2 ^ t) := by
      rw [← Nat.mul_assoc, ← hX]
    have h6 : X * 2 ^ t % D = 0 := by rw [h5, Nat.mul_mod_right]
    have h7 : X * 2 ^ t / D % 2 ^ t = 0 := by rw [h5, Nat.mul_div_cancel_left _ hD, Nat.mul_mod_left]
    rw [h, h6, h7]
    rfl
  · rw [decide_eq_true h]
    by_cases h6 : X * 2 ^ t % D = 0
    · have h7 : X * 2 ^ t / D % 2 ^ t ≠ 0 := by
        intro h7
        apply h
        rw [h7, Nat.add_zero] at d3
        rw [h6, Nat.add_zero, ← d3] at d1
        have h8 : D * (X / D) * 2 ^ t = X * 2 ^ t := by rw [← d1, Nat.mul_assoc, Nat.mul_comm (X / D)]
        have h9 := Nat.mul_right_cancel ht h8
        omega
      rw [decide_eq_true h7, Bool.or_true]
    · rw [decide_eq_true h6, Bool.true_or]
section
variable {f_p f_mode f_flags f_below f_sticky : Int32} {a_kinds a_minus a_exponents a_limb a_row a_one a_two a_roots a_high a_part a_quotient a_square a_guess : Nat → Int32}
/-- deposits of a long number's limbs -/
theorem xq_185 {post : SX → Prop} {p md i Q at' : Nat} {sg : Bool} (hQ : Q < 2 ^ (16 * 20)) (hat : at' < 2 ^ 20) (hq : zLB 40 (Q : Int) a_quotient) (h : ∀ r, zLB 54 ((Q * 2 ^ at' : Nat) : Int) r → wpX_left (fun r_207 => (narrow .boolean (.int r_207) = .int r_207 ∧ fits .boolean (.int r_207) = true ∧ (narrow .boolean (.int (zb1 sg)) = .int (zb1 sg) ∧ fits .boolean (.int (zb1 sg)) = true ∧ (wpX_round post (nI p, nI md, f_flags, zb1 sg, r_207, a_kinds, a_minus, a_exponents, a_limb, r, a_one, a_two, a_roots, a_high, a_part, a_quotient, a_square, a_guess) (nI i))))) (nI p, nI md, f_flags, f_below, f_sticky, a_kinds, a_minus, a_exponents, a_limb, r, a_one, a_two, a_roots, a_high, a_part, a_quotient, a_square, a_guess)) : ∀ n k r, k ≤ 20 → 20 - k < n → zLB 54 ((Q % 2 ^ (16 * k) * 2 ^ at' : Nat) : Int) r → wX_quotientOf_185 post (nI i) (zb1 sg) (nI at') n (nI k) (nI p) (nI md) f_flags f_below f_sticky a_kinds a_minus a_exponents a_limb r a_one a_two a_roots a_high a_part a_quotient a_square a_guess := by
  intro n
  induction n with
  | zero => intro k r _ h1; omega
  | succ n ih =>
    intro k r hk hn hr
    refine pk_le 20 k (fun hk2 => ?_) (fun hk2 => ⟨vp_in_nI (by omega) (by decide), ?_⟩)
    · have e : k = 20 := by omega
      subst e
      rw [Nat.mod_eq_of_lt hQ] at hr
      exact h r hr
    · have lx := zlm_lt (Q : Int) k
      have e3 : nI at' + (16 : Int32) * nI k = nI (at' + 16 * k) := by rw [show (16 : Int32) = nI 16 from rfl, pk_mul, nI_add]
      rw [nI_clamp (by omega), hq k (by omega), e3]
      refine xr_dep (off := false) hr (by omega) (by omega) (fun r2 hr2 q eq => ?_)
      subst eq
      rw [nI_1]
      refine ih (k + 1) r2 (by omega) (by omega) ?_
      have l1 := x_limb Q k at' false
      have e5 : ∀ z : Nat, zsg false ((z : Nat) : Int) * 2 ^ at' = ((z * 2 ^ at' : Nat) : Int) := by
        intro z
        show (z : Int) * 2 ^ at' = _
        rw [← zp_cast, ← Int.natCast_mul]
      rw [e5, e5] at l1
      rw [l1] at hr2
      exact hr2
theorem xq_quo {post : SX → Prop} {p md i x y : Nat} {w : Nat → ZV} (hc : zC p md w) (hs : zXS p w a_kinds a_minus a_exponents a_limb) (hro : zRT a_roots) (hx : x < 8) (hy : y < 8) (hi : i < 8) (hnx : (w x).1 ≠ 4) (hny : (w y).1 ≠ 4) (h : ∀ u, zXR p md (zdi p md (w x) (w y) f_flags).2 (zst w i (zdi p md (w x) (w y) f_flags).1) u → post u) : wpX_quotientOf post (nI p, nI md, f_flags, f_below, f_sticky, a_kinds, a_minus, a_exponents, a_limb, a_row, a_one, a_two, a_roots, a_high, a_part, a_quotient, a_square, a_guess) (nI x) (nI y) (nI i) := by
  have ox := hc.2.2.2 x hx
  have oy := hc.2.2.2 y hy
  have kx := xs_kz hs ox hx
  have ky := xs_kz hs oy hy
  have vx := vp_in_nI hx (show 8 < 2 ^ 31 by decide)
  have vy := vp_in_nI hy (show 8 < 2 ^ 31 by decide)
  have hp2 := hc.1
  have hp := hc.2.1
  unfold zdi at h
  have g20 : ∀ sg : Bool, sg = ((w x).2.1 != (w y).2.1) → wX_quotientOf_20 post (nI x) (nI y) (nI i) (zb1 sg) (nI p) (nI md) f_flags f_below f_sticky a_kinds a_minus a_exponents a_limb a_row a_one a_two a_roots a_high a_part a_quotient a_square a_guess := by
    intro sg hsg
    rw [← hsg] at h
    have g60 : ((w x).1 = 0 ∧ (w y).1 = 0) ∨ ((w x).1 = 3 ∧ (w y).1 = 3) → wX_quotientOf_60 post (nI i) (nI p) (nI md) f_flags f_below f_sticky a_kinds a_minus a_exponents a_limb a_row a_one a_two a_roots a_high a_part a_quotient a_square a_guess := by
      intro q
      rw [if_pos q] at h
      exact xs_invalid hs hi (fun K M E L hK => h _ ⟨rfl, rfl, rfl, hK, hro⟩)
    have g68 : ∀ inf : Bool, (inf = true ↔ (w x).1 = 3) → ¬ (((w x).1 = 0 ∧ (w y).1 = 0) ∨ ((w x).1 = 3 ∧ (w y).1 = 3)) → wX_quotientOf_68 post (nI x) (nI y) (nI i) (zb1 sg) (zb1 inf) (nI p) (nI md) f_flags f_below f_sticky a_kinds a_minus a_exponents a_limb a_row a_one a_two a_roots a_high a_part a_quotient a_square a_guess := by
      intro inf hinf q
      rw [if_neg q] at h
      have g85 : ((w x).1 = 0 ∨ (w y).1 = 3) → wX_quotientOf_85 post (nI i) (zb1 sg) (nI p) (nI md) f_flags f_below f_sticky a_kinds a_minus a_exponents a_limb a_row a_one a_two a_roots a_high a_part a_quotient a_square a_guess := by
        intro q2
        rw [if_neg (by omega), if_pos q2] at h
        refine xs_set (k := 0) (ng := sg) hs hi (Or.inl rfl) (fun K M E L hK => h _ ⟨rfl, rfl, rfl, ?_, hro⟩)
        rw [show (sg && !((0 : Nat) == 4)) = sg from by simp] at hK
        exact hK
      have g110 : ((w x).1 = 3 ∨ (w y).1 = 0) → (w x).1 ≠ 0 → wX_quotientOf_110 post (nI i) (zb1 sg) (zb1 inf) (nI p) (nI md) f_flags f_below f_sticky a_kinds a_minus a_exponents a_limb a_row a_one a_two a_roots a_high a_part a_quotient a_square a_guess := by
        intro q2 q3
        rw [if_pos q2] at h
        have g126 : ∀ f : Int32, f = (if (w x).1 = 2 then f_flags ||| 8 else f_flags) → wX_quotientOf_126 post (nI i) (zb1 sg) (nI p) (nI md) f f_below f_sticky a_kinds a_minus a_exponents a_limb a_row a_one a_two a_roots a_high a_part a_quotient a_square a_guess := by
          intro f hf
          rw [← hf] at h
          refine xs_set (k := 3) (ng := sg) hs hi (Or.inr (Or.inl rfl)) (fun K M E L hK => h _ ⟨rfl, rfl, rfl, ?_, hro⟩)
          rw [show (sg && !((3 : Nat) == 4)) = sg from by simp] at hK
          exact hK
        refine zk_b (fun e f ef => ?_) (fun e => ?_)
        · have hf : ¬ (w x).1 = 3 := fun z => by rw [hinf.mpr z] at e; exact Bool.noConfusion e
          subst ef
          exact g126 _ (by rw [if_pos (by have := ox.1; omega)])
        · have hf := hinf.mp e
          exact g126 _ (by rw [if_neg (by omega)])
      refine ⟨vx, ?_⟩
      rw [nI_clamp (by omega)]
      refine zk_i kx.1 (fun e0 => g85 (Or.inl e0)) (fun e0 => ?_)
      refine xs_isInf hs oy hy (zk_b (fun e3 => ?_) (fun e3 => g85 (Or.inr (of_decide_eq_true e3))))
      have e3 := of_decide_eq_false e3
      refine zk_b (fun ei => ⟨vy, ?_⟩) (fun ei => g110 (Or.inl (hinf.mp ei)) e0)
      have hf : ¬ (w x).1 = 3 := fun z => by rw [hinf.mpr z] at ei; exact Bool.noConfusion ei
      rw [nI_clamp (by omega)]
      refine zk_i ky.1 (fun e4 => g110 (Or.inr e4) e0) (fun e4 => ?_)
      have kx2 : (w x).1 = 2 := by have := ox.1; omega
      have ky2 : (w y).1 = 2 := by have := oy.1; omega
      rw [if_neg (by omega), if_neg (by omega)] at h
      obtain ⟨f1, f2, f3⟩ := xs_fin hs hx kx2
      obtain ⟨q1, q2, q3⟩ := xs_fin hs hy ky2
      obtain ⟨g1, g2, g3, g4, g5⟩ := ox.2.1 kx2
      obtain ⟨j1, j2, j3, j4, j5⟩ := oy.2.1 ky2
      have m1 := zOK_64 ox hp kx2
      have m2 := zOK_64 oy hp ky2
      have hqf : (zqf (w x) (w y) : Int) = (w x).2.2.1 - (w y).2.2.1 - 130 + 340 := by unfold zqf; omega
      refine xs_foot hx f1 (xs_foot hy q1 (fun x6 e6 => ?_))
      have e7 : x6 = nI (zqf (w x) (w y) + 126) := by
        rw [e6, zI_sub, show (144 : Int32) = zI 144 from rfl, zI_sub, show (-480 : Int32) = zI (-480) from rfl, zI_sub, ← zI_n]
        exact congrArg zI (by omega)
      subst e7
      refine xd_putH (s := 144) hx (by decide) m1 f2 (fun H hH => ?_)
      refine xd_putP (s := 0) hy (by decide) m2 q2 (fun P hP => ?_)
      rw [Nat.pow_zero, Nat.mul_one] at hP
      have hHlt : (w x).2.2.2 * 2 ^ 144 < 2 ^ 208 := by
        have := Nat.mul_lt_mul_of_pos_right m1 (Nat.two_pow_pos 144)
        rw [← zNp] at this
        exact this
      refine xd_divide (by omega) (Nat.lt_trans m2 (zpl_lt (by decide))) (Nat.lt_trans hHlt (zpl_lt (by decide))) hH hP (fun R P2 qq hR hqq => ?_)
      refine xr_clear (fun r hr => ?_)
      have hQlt : (w x).2.2.2 * 2 ^ 144 / (w y).2.2.2 < 2 ^ (16 * 20) := Nat.lt_of_le_of_lt (Nat.div_le_self _ _) (Nat.lt_trans hHlt (zpl_lt (by decide)))
      have hRlt : (w x).2.2.2 * 2 ^ 144 % (w y).2.2.2 < 2 ^ 480 := Nat.lt_of_le_of_lt (Nat.mod_le _ _) (Nat.lt_trans hHlt (zpl_lt (by decide)))
      have hQge : 2 ^ (64 + 14) ≤ (w x).2.2.2 * 2 ^ 144 / (w y).2.2.2 := by
        rw [Nat.le_div_iff_mul_le (by omega)]
        have a1 : 2 ^ (64 + 14) * (w y).2.2.2 ≤ 2 ^ (64 + 14) * 2 ^ 64 := Nat.mul_le_mul_left _ (Nat.le_of_lt m2)
        have a2 : 1 * 2 ^ 144 ≤ (w x).2.2.2 * 2 ^ 144 := Nat.mul_le_mul_right _ g1
        rw [← zNp] at a1
        rw [Nat.one_mul] at a2
        exact Nat.le_trans a1 (Nat.le_trans (zpl_le (by decide)) a2)
      obtain ⟨c1, c2⟩ := zq_cut (w x).2.2.2 (w y).2.2.2 130 14 (by omega)
      have hY : (w x).2.2.2 * 2 ^ 130 / (w y).2.2.2 * 2 ^ zqf (w x) (w y) ≠ 0 := by
        refine Nat.mul_ne_zero ?_ (Nat.ne_of_gt (Nat.two_pow_pos _))
        rw [← c1]
        have : 2 ^ 64 ≤ (w x).2.2.2 * 2 ^ (130 + 14) / (w y).2.2.2 / 2 ^ 14 := (Nat.le_div_iff_mul_le (Nat.two_pow_pos 14)).mpr (by rw [← zNp]; exact hQge)
        have := Nat.two_pow_pos 64
        omega
      have hzl := zrd_lo (p := p) (md := md) (o := zqf (w x) (w y)) (ng := sg) (s := decide ((w x).2.2.2 * 2 ^ 144 % (w y).2.2.2 ≠ 0)) (f := f_flags) hp2 hp (show 14 ≤ 140 by decide) hQge
      rw [show (144 : Nat) = 130 + 14 from rfl, c2, c1] at hzl
      have e0 : zrd0 340 p md sg ((w x).2.2.2 * 2 ^ 130 / (w y).2.2.2 * 2 ^ zqf (w x) (w y)) (decide ((w x).2.2.2 * 2 ^ 130 % (w y).2.2.2 ≠ 0)) f_flags = zrd 340 p md sg ((w x).2.2.2 * 2 ^ 130 / (w y).2.2.2 * 2 ^ zqf (w x) (w y)) (decide ((w x).2.2.2 * 2 ^ 130 % (w y).2.2.2 ≠ 0)) f_flags := by
        unfold zrd0; rw [if_neg hY]
      rw [e0, ← hzl] at h
      refine ⟨21, xq_185 (Q := (w x).2.2.2 * 2 ^ 144 / (w y).2.2.2) hQlt (by omega) hqq (fun r2 hr2 => ?_) 21 0 r (by omega) (by omega) ?_⟩
      · refine xd_left hRlt hR ⟨zb1_n _, zb1_f _, zb1_n _, zb1_f _, ?_⟩
        have hNlt : (w x).2.2.2 * 2 ^ 144 / (w y).2.2.2 * 2 ^ (zqf (w x) (w y) + 126) < 2 ^ 864 := by
          have a3 : (w x).2.2.2 * 2 ^ 144 / (w y).2.2.2 < 2 ^ 208 := Nat.lt_of_le_of_lt (Nat.div_le_self _ _) hHlt
          have := Nat.mul_lt_mul_of_pos_right a3 (Nat.two_pow_pos (zqf (w x) (w y) + 126))
          rw [← zNp] at this
          exact Nat.lt_of_lt_of_le this (zpl_le (by omega))
        have hNne : (w x).2.2.2 * 2 ^ 144 / (w y).2.2.2 * 2 ^ (zqf (w x) (w y) + 126) ≠ 0 := by
          refine Nat.mul_ne_zero ?_ (Nat.ne_of_gt (Nat.two_pow_pos _))
          have := Nat.two_pow_pos (64 + 14)
          omega
        exact xo_round hc.2.2.1 hs hr2 hNne hNlt hp2 hp hi (fun K Mi E L hK => h _ ⟨rfl, rfl, rfl, hK, hro⟩)
      · rw [Nat.mul_zero, Nat.pow_zero, Nat.mod_one, Nat.zero_mul]
        exact hr
    have g47 : ∀ inf : Bool, (inf = true ↔ (w x).1 = 3) → ¬ ((w x).1 = 0 ∧ (w y).1 = 0) → wX_quotientOf_47 post (nI x) (nI y) (nI i) (zb1 sg) (zb1 inf) (nI p) (nI md) f_flags f_below f_sticky a_kinds a_minus a_exponents a_limb a_row a_one a_two a_roots a_high a_part a_quotient a_square a_guess := by
      intro inf hinf q
      refine zk_b (fun e => ?_) (fun e => ?_)
      · have hf : ¬ (w x).1 = 3 := fun z => by rw [hinf.mpr z] at e; exact Bool.noConfusion e
        exact g68 inf hinf (by omega)
      · have hf := hinf.mp e
        refine xs_isInf hs oy hy (zk_b (fun e3 => ?_) (fun e3 => ?_))
        · have e3 := of_decide_eq_false e3
          exact g68 inf hinf (by omega)
        · exact g60 (Or.inr ⟨hf, of_decide_eq_true e3⟩)
    unfold wX_quotientOf_20
    refine xs_isInf hs ox hx ⟨vx, ?_⟩
    have hinf : (decide ((w x).1 = 3) = true ↔ (w x).1 = 3) := decide_eq_true_iff
    rw [nI_clamp (by omega), nI_clamp (by omega)]
    refine zk_i kx.1 (fun e0 => ⟨vy, zk_i ky.1 (fun e1 => g60 (Or.inl ⟨e0, e1⟩)) (fun e1 => g47 _ hinf (by omega))⟩) (fun e0 => g47 _ hinf (by omega))
  refine ⟨vx, vy, ?_⟩
  rw [nI_clamp (by omega), nI_clamp (by omega), (hs x hx).1, (hs y hy).1]
  refine zk_bb (fun e => g20 false ?_) (fun e => g20 true ?_)
  · rw [e]; simp
  · exact (bne_iff_ne.mpr e).symm
end
end
section
/-! digits and quotients of the reference -/
theorem zL_nn {a : Nat} (ha : a < 2 ^ 64) : (0 : Int64) ≤ lN a ↔ a < 2 ^ 63 := by
  rw [Int64.le_iff_toInt_le, lN_ti ha, show (0 : Int64).toInt = 0 from rfl]
  split <;> omega
theorem zL_le {a b : Nat} (ha : a < 2 ^ 64) (hb : b < 2 ^ 64) (h : a < 2 ^ 63 ↔ b < 2 ^ 63) : lN a ≤ lN b ↔ a ≤ b := by
  rw [Int64.le_iff_toInt_le, lN_ti ha, lN_ti hb]
  by_cases c : a < 2 ^ 63
  · rw [if_pos c, if_pos (h.mp c)]; omega
  · rw [if_neg c, if_neg (fun z => c (h.mpr z))]; omega
theorem yd_under {post : Int32 → Prop} {a b : Nat} (ha : a < 2 ^ 64) (hb : b < 2 ^ 64) (h : post (zb1 (decide (a < b)))) : wpY_under post (lN a) (lN b) := by
  have yes : a < b → post 1 := fun z => by rw [decide_eq_true z] at h; exact h
  have no : ¬ a < b → post 0 := fun z => by rw [decide_eq_false z] at h; exact h
  refine zk_i (zL_nn ha) (fun c1 => ?_) (fun c1 => ?_)
  · refine zk_i (zL_nn hb) (fun c2 => ?_) (fun c2 => ?_)
    · exact br_t rfl (zk_i (zL_le hb ha ⟨fun _ => c1, fun _ => c2⟩) (fun d => no (by omega)) (fun d => yes (by omega)))
    · exact br_f (by decide) (zk_i (zL_nn hb) (fun d => absurd d c2) (fun d => yes (by omega)))
  · refine zk_i (zL_nn hb) (fun c2 => ?_) (fun c2 => ?_)
    · exact br_f (by decide) (zk_i (zL_nn hb) (fun d => no (by omega)) (fun d => absurd c2 d))
    · exact br_t rfl (zk_i (zL_le hb ha ⟨fun z => absurd z c2, fun z => absurd z c1⟩) (fun d => no (by omega)) (fun d => yes (by omega)))
/-- a row gets one more bit -/
theorem zBB_set {N j : Nat} {a : Nat → Int32} (h : zBB 0 720 (N : Int) a) (hN : N % 2 ^ (j + 1) = 0) (hj : j < 720) : zBB 0 720 ((N + 2 ^ j : Nat) : Int) (upd a j 1) := by
  obtain ⟨c, hc⟩ := Nat.dvd_of_mod_eq_zero hN
  intro i hi
  rw [Nat.zero_add]
  have h' := h i hi
  rw [Nat.zero_add] at h'
  have hp := Nat.two_pow_pos j
  have e1 : N = 2 ^ j * (2 * c) := by rw [hc, Nat.pow_succ, Nat.mul_assoc]
  have e2 : N + 2 ^ j = 2 ^ j * (2 * c + 1) := by rw [e1, Nat.mul_add, Nat.mul_one]
  by_cases c1 : i = j
  · subst c1
    rw [pk_us, zbb_n, e2, Nat.mul_div_cancel_left _ hp, show (2 * c + 1) % 2 = 1 from by omega]
    rfl
  · rw [pk_un c1, h', zbb_n, zbb_n]
    by_cases c2 : i < j
    · obtain ⟨d, rfl⟩ : ∃ d, j = i + 1 + d := ⟨j - i - 1, by omega⟩
      have e3 : ∀ X, 2 ^ (i + 1 + d) * X / 2 ^ i % 2 = 0 := by
        intro X
        rw [zNp, zNp i 1, Nat.mul_assoc, Nat.mul_assoc, Nat.mul_div_cancel_left _ (Nat.two_pow_pos i), Nat.pow_one, Nat.mul_mod_right]
      rw [e2, e3]
      rw [e1, e3]
    · obtain ⟨d, rfl⟩ : ∃ d, i = j + 1 + d := ⟨i - j - 1, by omega⟩
      have e3 : ∀ X, 2 ^ j * X / 2 ^ (j + 1 + d) = X / 2 / 2 ^ d := by
        intro X
        rw [zNp, zNp j 1, ← Nat.div_div_eq_div_mul, ← Nat.div_div_eq_div_mul, Nat.mul_div_cancel_left _ hp, Nat.pow_one]
      rw [e2, e3]
      rw [e1, e3, show (2 * c + 1) / 2 = 2 * c / 2 from by omega]
section
variable {f_precision f_mode f_flags f_sticky f_wide : Int32} {f_rest : Int64} {a_sort a_exponent a_minus a_row : Nat → Int32} {a_mantissa : Nat → Int64}
theorem yd_digit {post : Int32 → SY → Prop} {D r b : Nat} (hD : D < 2 ^ 64) (hr : r < D) (hb : b < 2) (h : post (zb1 (decide (D ≤ 2 * r + b))) (f_precision, f_mode, f_flags, f_sticky, f_wide, lN (if D ≤ 2 * r + b then 2 * r + b - D else 2 * r + b), a_sort, a_exponent, a_minus, a_mantissa, a_row)) : wpY_digit post (f_precision, f_mode, f_flags, f_sticky, f_wide, lN r, a_sort, a_exponent, a_minus, a_mantissa, a_row) (lN D) (nI b) := by
  have hr64 : r < 2 ^ 64 := by omega
  have e1 : (2 : Int64) * lN r + (nI b).toInt64 = lN (2 * r + b) := by
    rw [nI_l (by omega), show (2 : Int64) = lN 2 from rfl, lN_mul, lN_add]
  have g52 : D ≤ 2 * r + b → wY_digit_47 post (lN D) f_precision f_mode f_flags f_sticky f_wide (lN (2 * r + b)) a_sort a_exponent a_minus a_mantissa a_row := by
    intro c
    rw [if_pos c, decide_eq_true c] at h
    refine br_f (by decide) (fun f ef => ⟨rfl, ?_⟩)
    rw [lN_sub c] at ef
    subst ef
    exact h
  have g14 : ∀ ov : Bool, (ov = true ↔ ¬ r < 2 ^ 63) → wY_digit_14 post (lN D) (nI b) (zb1 ov) f_precision f_mode f_flags f_sticky f_wide (lN r) a_sort a_exponent a_minus a_mantissa a_row := by
    intro ov hov f ef
    rw [e1] at ef
    subst ef
    refine zk_b (fun e => ?_) (fun e => ?_)
    · have hlt : r < 2 ^ 63 := by
        rcases Nat.lt_or_ge r (2 ^ 63) with z | z
        · exact z
        · rw [hov.mpr (by omega)] at e; exact Bool.noConfusion e
      refine yd_under (by omega) hD (zk_b (fun e2 => ?_) (fun e2 => ?_))
      · have e2 := of_decide_eq_false e2
        exact g52 (by omega)
      · have e2 := of_decide_eq_true e2
        have c : ¬ D ≤ 2 * r + b := by omega
        rw [if_neg c, decide_eq_false c] at h
        exact br_t rfl ⟨rfl, h⟩
    · have hge := hov.mp e
      exact g52 (by omega)
  refine zk_i (zL_nn hr64) (fun c => g14 false ⟨fun z => Bool.noConfusion z, fun z => absurd c z⟩) (fun c => g14 true ⟨fun _ => c, fun _ => rfl⟩)
/-- one digit of a quotient, purely -/
theorem z_dig' {D b Q R : Nat} (hD : 0 < D) (hb : b < 2) (hR : R < D) : (D * (2 * Q) + (2 * R + b)) / D = 2 * Q + (if D ≤ 2 * R + b then 1 else 0) ∧ (D * (2 * Q) + (2 * R + b)) % D = (if D ≤ 2 * R + b then 2 * R + b - D else 2 * R + b) := by
  by_cases c : D ≤ 2 * R + b
  · rw [if_pos c, if_pos c]
    have e2 : D * (2 * Q) + (2 * R + b) = D * (2 * Q + 1) + (2 * R + b - D) := by rw [Nat.mul_add D, Nat.mul_one]; omega
    have e3 : 2 * R + b - D < D := by omega
    generalize 2 * R + b - D = S at *
    rw [e2, Nat.mul_add_div hD, Nat.mul_add_mod, Nat.div_eq_of_lt e3, Nat.mod_eq_of_lt e3]
    exact ⟨rfl, rfl⟩
  · rw [if_neg c, if_neg c]
    have e3 : 2 * R + b < D := by omega
    generalize 2 * R + b = S at *
    rw [Nat.mul_add_div hD, Nat.mul_add_mod, Nat.div_eq_of_lt e3, Nat.mod_eq_of_lt e3]
    exact ⟨rfl, rfl⟩
theorem z_dig {X D b : Nat} (hD : 0 < D) (hb : b < 2) : (2 * X + b) / D = 2 * (X / D) + (if D ≤ 2 * (X % D) + b then 1 else 0) ∧ (2 * X + b) % D = (if D ≤ 2 * (X % D) + b then 2 * (X % D) + b - D else 2 * (X % D) + b) := by
  have h1 := Nat.div_add_mod X D
  have h2 := Nat.mod_lt X hD
  have h3 := z_dig' (Q := X / D) hD hb h2
  have e : 2 * X + b = D * (2 * (X / D)) + (2 * (X % D) + b) := by
    have : D * (2 * (X / D)) = 2 * (D * (X / D)) := by rw [← Nat.mul_assoc, Nat.mul_comm D 2, Nat.mul_assoc]
    omega
  rw [← e] at h3
  exact h3
theorem z_q2 (q o k : Nat) : q * 2 ^ (o + (k + 1)) = 2 * q * 2 ^ (o + k) := by
  rw [← Nat.add_assoc, Nat.pow_succ, Nat.mul_comm 2 q, Nat.mul_assoc, Nat.mul_comm 2]
theorem yd_178 {post : SY → Prop} {p md i x y M D o : Nat} {w : Nat → ZV} {sg : Bool} (hc : zC p md w) (hs : zYS w a_sort a_minus a_exponent a_mantissa) (hx : x < 8) (hy : y < 8) (hi : i < 8) (hmx : a_mantissa x = lN M) (hmy : a_mantissa y = lN D) (hM : M < 2 ^ 64) (hD0 : 0 < D) (hD : D < 2 ^ 64) (ho : o ≤ 500) (hlt : M * 2 ^ 130 / D * 2 ^ o < 2 ^ 720) (h : ∀ v, zYR p md (zrd0 340 p md sg (M * 2 ^ 130 / D * 2 ^ o) (decide (M * 2 ^ 130 % D ≠ 0)) f_flags).2 (zst w i (zrd0 340 p md sg (M * 2 ^ 130 / D * 2 ^ o) (decide (M * 2 ^ 130 % D ≠ 0)) f_flags).1) v → post v) : ∀ n k l, k ≤ 194 → k < n → zBB 0 720 ((M * 2 ^ 130 / 2 ^ k / D * 2 ^ (o + k) : Nat) : Int) l → wY_divide_178 post (nI x) (nI y) (nI i) (zb1 sg) (nI o) n (zI ((k : Int) - 1)) (nI p) (nI md) f_flags f_sticky 720 (lN (M * 2 ^ 130 / 2 ^ k % D)) a_sort a_exponent a_minus a_mantissa l := by
  have vx := vp_in_nI hx (show 8 < 2 ^ 31 by decide)
  have vy := vp_in_nI hy (show 8 < 2 ^ 31 by decide)
  intro n
  induction n with
  | zero => intro k l _ h1; omega
  | succ n ih =>
    intro k l hk hn hl
    refine zk_lt ((k : Int) - 1) 0 (fun h0 => ?_) (fun h0 => ?_)
    · have e0 : k = 0 := by omega
      subst e0
      rw [Nat.pow_zero, Nat.div_one] at hl ⊢
      have hm := Nat.mod_lt (M * 2 ^ 130) hD0
      have g : ∀ b : Bool, b = decide (M * 2 ^ 130 % D ≠ 0) → wY_divide_260 post (nI i) (zb1 sg) (zb1 b) (nI p) (nI md) f_flags f_sticky 720 (lN (M * 2 ^ 130 % D)) a_sort a_exponent a_minus a_mantissa l := by
        intro b hb
        rw [← hb] at h
        exact ⟨zb1_n b, zb1_f b, yo_round hc.2.2.1 hs hl hlt hc.1 hc.2.1 hi (fun S Mi E Ma hS => h _ ⟨rfl, rfl, rfl, rfl, hS⟩)⟩
      refine zk_i (d := M * 2 ^ 130 % D = 0) (by rw [show (0 : Int64) = lN 0 from rfl, zlN_eq (by omega) (by decide)]) (fun d => ?_) (fun d => ?_)
      · exact g false (by rw [decide_eq_false]; omega)
      · exact g true (by rw [decide_eq_true]; exact d)
    · obtain ⟨k', rfl⟩ : ∃ k', k = k' + 1 := ⟨k - 1, by omega⟩
      have e1 : zI (((k' + 1 : Nat) : Int) - 1) = nI k' := by rw [← zI_n]; exact congrArg zI (by omega)
      rw [e1]
      -- the bit that comes down
      have hX : M * 2 ^ 130 / 2 ^ k' = 2 * (M * 2 ^ 130 / 2 ^ (k' + 1)) + M * 2 ^ 130 / 2 ^ k' % 2 := by
        rw [Nat.pow_succ 2 k', ← Nat.div_div_eq_div_mul]
        omega
      have hr := Nat.mod_lt (M * 2 ^ 130 / 2 ^ (k' + 1)) hD0
      have hb2 := Nat.mod_lt (M * 2 ^ 130 / 2 ^ k') (show 0 < 2 by decide)
      obtain ⟨d1, d2⟩ := z_dig (X := M * 2 ^ 130 / 2 ^ (k' + 1)) hD0 hb2
      rw [← hX] at d1 d2
      have g211 : ∀ b, b = M * 2 ^ 130 / 2 ^ k' % 2 → wY_divide_211 post (wY_divide_178 post (nI x) (nI y) (nI i) (zb1 sg) (nI o) n) (nI x) (nI y) (nI i) (zb1 sg) (nI o) (nI k') (nI b) (nI p) (nI md) f_flags f_sticky 720 (lN (M * 2 ^ 130 / 2 ^ (k' + 1) % D)) a_sort a_exponent a_minus a_mantissa l := by
        intro b hb
        subst hb
        refine ⟨vy, ?_⟩
        rw [nI_clamp (by omega), hmy]
        refine yd_digit hD hr hb2 ?_
        rw [← d2]
        have nxt : ∀ y1 : Int32, y1 = nI k' + (-1) → y1 = zI ((k' : Int) - 1) := fun y1 ey => by rw [ey, ← zI_n, show (-1 : Int32) = zI (-1) from rfl, zI_add]; exact congrArg zI (by omega)
        have e5 : M * 2 ^ 130 / 2 ^ (k' + 1) / D * 2 ^ (o + (k' + 1)) = 2 * (M * 2 ^ 130 / 2 ^ (k' + 1) / D) * 2 ^ (o + k') := by
          exact z_q2 _ o k'
        refine zk_b (fun e => ?_) (fun e => ⟨?_, fun l2 el => ?_⟩)
        · have e := of_decide_eq_false e
          intro y1 ey
          have ey2 := nxt y1 ey
          subst ey2
          rw [if_neg e, Nat.add_zero] at d1
          refine ih k' l (by omega) (by omega) ?_
          rw [d1, ← e5]
          exact hl
        · rw [nI_add]; exact vp_in_nI (by omega) (by decide)
        · have e := of_decide_eq_true e
          intro y1 ey
          have ey2 := nxt y1 ey
          subst ey2
          rw [if_pos e] at d1
          rw [nI_add, nI_clamp (by omega), show vp_nar .byte 1 = (1 : Int32) from zn_b (n := 1) (by decide)] at el
          subst el
          refine ih k' _ (by omega) (by omega) ?_
          have g := zBB_set (j := o + k') hl (by rw [← Nat.add_assoc, Nat.mul_mod_left]) (by omega)
          have e6 : M * 2 ^ 130 / 2 ^ (k' + 1) / D * 2 ^ (o + (k' + 1)) + 2 ^ (o + k') = M * 2 ^ 130 / 2 ^ k' / D * 2 ^ (o + k') := by
            rw [d1, e5, Nat.add_mul, Nat.one_mul]
          rw [e6] at g
          exact g
      refine pk_lt k' 130 (fun c => ?_) (fun c => ⟨vx, ?_⟩)
      · refine g211 0 ?_
        rw [← zbb_n (M * 2 ^ 130), zbb_mul, if_pos c]
      · have e7 : nI k' - 130 = nI (k' - 130) := pk_sub (b := 130) c
        rw [nI_clamp (by omega), hmx, e7, zy_bitI hM (by omega)]
        refine g211 _ ?_
        rw [← zbb_n (M * 2 ^ 130), zbb_mul, if_neg (by omega)]
theorem yd_divide {post : SY → Prop} {p md i x y : Nat} {w : Nat → ZV} (hc : zC p md w) (hs : zYS w a_sort a_minus a_exponent a_mantissa) (hx : x < 8) (hy : y < 8) (hi : i < 8) (hnx : (w x).1 ≠ 4) (hny : (w y).1 ≠ 4) (h : ∀ v, zYR p md (zdi p md (w x) (w y) f_flags).2 (zst w i (zdi p md (w x) (w y) f_flags).1) v → post v) : wpY_divide post (nI p, nI md, f_flags, f_sticky, 720, f_rest, a_sort, a_exponent, a_minus, a_mantissa, a_row) (nI x) (nI y) (nI i) := by
  have ox := hc.2.2.2 x hx
  have oy := hc.2.2.2 y hy
  have k1 := zOK_le ox
  have k2 := zOK_le oy
  have vx := vp_in_nI hx (show 8 < 2 ^ 31 by decide)
  have vy := vp_in_nI hy (show 8 < 2 ^ 31 by decide)
  unfold zdi at h
  have g20 : ∀ sg : Bool, sg = ((w x).2.1 != (w y).2.1) → wY_divide_20 post (nI x) (nI y) (nI i) (zb1 sg) (nI p) (nI md) f_flags f_sticky 720 f_rest a_sort a_exponent a_minus a_mantissa a_row := by
    intro sg hsg
    rw [← hsg] at h
    have g55 : ¬ (((w x).1 = 0 ∧ (w y).1 = 0) ∨ ((w x).1 = 3 ∧ (w y).1 = 3)) → wY_divide_55 post (nI x) (nI y) (nI i) (zb1 sg) (nI p) (nI md) f_flags f_sticky 720 f_rest a_sort a_exponent a_minus a_mantissa a_row := by
      intro q
      rw [if_neg q] at h
      have g74 : ((w x).1 = 3 ∨ (w y).1 = 0) → wY_divide_74 post (nI x) (nI i) (zb1 sg) (nI p) (nI md) f_flags f_sticky 720 f_rest a_sort a_exponent a_minus a_mantissa a_row := by
        intro q2
        rw [if_pos q2] at h
        have g95 : ∀ f : Int32, f = (if (w x).1 = 2 then f_flags ||| 8 else f_flags) → wY_divide_95 post (nI i) (zb1 sg) (nI p) (nI md) f f_sticky 720 f_rest a_sort a_exponent a_minus a_mantissa a_row := by
          intro f hf
          rw [← hf] at h
          exact yo_give (k := 3) (ng := sg) (r := (3, sg, 0, 0)) hs hi (by omega) rfl (by simp) (fun z => absurd z (by decide)) (fun S Mi E Ma hS => h _ ⟨rfl, rfl, rfl, rfl, hS⟩)
        refine ⟨vx, ?_⟩
        rw [nI_clamp (by omega), (hs x hx).2.1]
        refine pk_eq (w x).1 2 (fun e f ef => ?_) (fun e => ?_)
        · subst ef
          exact g95 _ (by rw [if_pos e])
        · exact g95 _ (by rw [if_neg e])
      have g127 : ¬ ((w x).1 = 3 ∨ (w y).1 = 0) → ((w x).1 = 0 ∨ (w y).1 = 3) → wY_divide_127 post (nI i) (zb1 sg) (nI p) (nI md) f_flags f_sticky 720 f_rest a_sort a_exponent a_minus a_mantissa a_row := by
        intro q2 q3
        rw [if_neg q2, if_pos q3] at h
        exact yo_give (k := 0) (ng := sg) (r := (0, sg, 0, 0)) hs hi (by omega) rfl (by simp) (fun z => absurd z (by decide)) (fun S Mi E Ma hS => h _ ⟨rfl, rfl, rfl, rfl, hS⟩)
      refine ⟨vx, ?_⟩
      rw [nI_clamp (by omega), nI_clamp (by omega), (hs x hx).2.1, (hs y hy).2.1]
      refine pk_eq (w x).1 3 (fun e1 => g74 (Or.inl e1)) (fun e1 => ⟨vy, pk_eq (w y).1 0 (fun e2 => g74 (Or.inr e2)) (fun e2 => ⟨vx, pk_eq (w x).1 0 (fun e3 => g127 (by omega) (Or.inl e3)) (fun e3 => ⟨vy, pk_eq (w y).1 3 (fun e4 => g127 (by omega) (Or.inr e4)) (fun e4 => ?_)⟩)⟩)⟩)
      have kx2 : (w x).1 = 2 := by have := ox.1; omega
      have ky2 : (w y).1 = 2 := by have := oy.1; omega
      rw [if_neg (by omega), if_neg (by omega)] at h
      obtain ⟨q1, q2⟩ := (hs x hx).2.2 kx2
      obtain ⟨r1, r2⟩ := (hs y hy).2.2 ky2
      obtain ⟨g1, g2, g3, g4, g5⟩ := ox.2.1 kx2
      obtain ⟨j1, j2, j3, j4, j5⟩ := oy.2.1 ky2
      have m1 := zOK_64 ox hc.2.1 kx2
      have m2 := zOK_64 oy hc.2.1 ky2
      have hqf : (zqf (w x) (w y) : Int) = (w x).2.2.1 - (w y).2.2.1 - 130 + 340 := by unfold zqf; omega
      refine yr_clear (r := 0) (by omega) (fun l hl hf => ⟨vx, vy, fun x5 e5 => ?_⟩)
      have e6 : x5 = nI (zqf (w x) (w y)) := by
        rw [e5, q1, r1, zI_sub, show (130 : Int32) = zI 130 from rfl, zI_sub, show (340 : Int32) = zI 340 from rfl, zI_add, ← zI_n]
        exact congrArg zI (by omega)
      subst e6
      have hA : (w x).2.2.2 * 2 ^ 130 < 2 ^ 194 := by
        have := Nat.mul_lt_mul_of_pos_right m1 (Nat.two_pow_pos 130)
        rw [← zNp] at this
        exact this
      have hlt : (w x).2.2.2 * 2 ^ 130 / (w y).2.2.2 * 2 ^ zqf (w x) (w y) < 2 ^ 720 := by
        have a1 : (w x).2.2.2 * 2 ^ 130 / (w y).2.2.2 < 2 ^ 194 := Nat.lt_of_le_of_lt (Nat.div_le_self _ _) hA
        have := Nat.mul_lt_mul_of_pos_right a1 (Nat.two_pow_pos (zqf (w x) (w y)))
        rw [← zNp] at this
        exact Nat.lt_of_lt_of_le this (zpl_le (by omega))
      have g := yd_178 (f_sticky := f_sticky) hc hs hx hy hi q2 r2 m1 (by omega) m2 (by omega) hlt h 195 194 l (by omega) (by omega) (by
        rw [Nat.div_eq_of_lt hA, Nat.zero_div, Nat.zero_mul]
        exact hl)
      rw [Nat.div_eq_of_lt hA, Nat.zero_mod] at g
      exact ⟨195, g⟩
    refine ⟨vx, vy, ?_⟩
    rw [nI_clamp (by omega), nI_clamp (by omega), (hs x hx).2.1, (hs y hy).2.1]
    refine pk_eq (w x).1 (w y).1 (fun e => ⟨vx, pk_eq (w x).1 2 (fun e2 => g55 (by omega)) (fun e2 => ?_)⟩) (fun e => g55 (by omega))
    rw [if_pos (by have := ox.1; omega)] at h
    exact yo_invalid hs hi (fun S Mi E Ma hS => h _ ⟨rfl, rfl, rfl, rfl, hS⟩)
  refine ⟨vx, vy, ?_⟩
  rw [nI_clamp (by omega), nI_clamp (by omega), (hs x hx).1, (hs y hy).1]
  refine zk_bb (fun e => g20 false ?_) (fun e => g20 true ?_)
  · rw [e]; simp
  · exact (bne_iff_ne.mpr e).symm
end
end
section
/-! the remainder of the component -/
def zrl (A B : Nat) : Bool := decide (B < 2 * (A % B)) || (decide (2 * (A % B) = B) && decide (A / B % 2 = 1))
def zrm (p md : Nat) (a b : ZV) (f : Int32) : ZV × Int32 :=
  if a.1 = 3 ∨ b.1 = 0 then ((4, false, 0, 0), f ||| 16)
  else if b.1 = 3 ∨ a.1 = 0 then (a, f)
  else if zrl (zrow p a) (zrow p b) then zrd0 340 p md (!a.2.1) (zrow p b - zrow p a % zrow p b) false f
  else zrd0 340 p md a.2.1 (zrow p a % zrow p b) false f
theorem zrm_ok {p md : Nat} {a b : ZV} {f : Int32} (hp2 : 2 ≤ p) (hp : p ≤ 64) (ha : zOK p a) : zOK p (zrm p md a b f).1 := by
  unfold zrm
  split
  · exact zOK_4 p
  · split
    · exact ha
    · split <;> exact zrd0_ok hp2 hp (by decide)
/-- twice a number, limb by limb -/
theorem zlm_2 (r k : Nat) : zlm ((2 * r : Nat) : Int) (k + 1) = zlm (r : Int) (k + 1) % 32768 * 2 + zlm (r : Int) k / 32768 := by
  rw [zlm_n, zlm_n, zlm_n]
  have hp := Nat.two_pow_pos (16 * k)
  have h1 := Nat.div_add_mod r (2 ^ (16 * k))
  have h2 := Nat.mod_lt r hp
  have e1 : ∀ C : Nat, C / 2 ^ (16 * (k + 1)) = C / 2 ^ (16 * k) / 65536 := fun C => by
    rw [show 16 * (k + 1) = 16 * k + 16 from by omega, zNp, ← Nat.div_div_eq_div_mul]
  have e2 : 2 * r / 2 ^ (16 * k) = 2 * (r / 2 ^ (16 * k)) + 2 * (r % 2 ^ (16 * k)) / 2 ^ (16 * k) := by
    have e3 : 2 * r = 2 ^ (16 * k) * (2 * (r / 2 ^ (16 * k))) + 2 * (r % 2 ^ (16 * k)) := by
      have : 2 ^ (16 * k) * (2 * (r / 2 ^ (16 * k))) = 2 * (2 ^ (16 * k) * (r / 2 ^ (16 * k))) := by rw [← Nat.mul_assoc, Nat.mul_comm _ 2, Nat.mul_assoc]
      omega
    calc 2 * r / 2 ^ (16 * k) = (2 ^ (16 * k) * (2 * (r / 2 ^ (16 * k))) + 2 * (r % 2 ^ (16 * k))) / 2 ^ (16 * k) := by rw [← e3]
      _ = _ := Nat.mul_add_div hp _ _
  have e4 : 2 * (r % 2 ^ (16 * k)) / 2 ^ (16 * k) < 2 := Nat.div_lt_of_lt_mul (by omega)
  rw [e1, e1, e2]
  generalize r / 2 ^ (16 * k) = x at *
  generalize 2 * (r % 2 ^ (16 * k)) / 2 ^ (16 * k) = c at *
  omega
theorem zlm_20 (r : Nat) : zlm ((2 * r : Nat) : Int) 0 = zlm (r : Int) 0 % 32768 * 2 := by
  rw [zlm_n, zlm_n, Nat.mul_zero, Nat.pow_zero, Nat.div_one, Nat.div_one]
  omega
section
variable {f_p f_mode f_flags f_below f_sticky : Int32} {a_kinds a_minus a_exponents a_limb a_row a_one a_two a_roots a_high a_part a_quotient a_square a_guess : Nat → Int32}
theorem xe_37 {post : Int32 → Prop} {J : Int32 → Prop} {k v : Nat} {B : Nat} {z0 z1 : Int32} (hk : k < 31) (hz : z1 ||| z0 = nI v) (hv : v < 65536) (hp : zLB 40 (B : Int) a_part) (he : v = zlm (B : Int) k → J (zI ((k : Int) - 1))) (hg : zlm (B : Int) k < v → post 1) (hl : v < zlm (B : Int) k → post (-1)) : wX_twice_37 post J (nI k) z0 z1 f_p f_mode f_flags f_below f_sticky a_kinds a_minus a_exponents a_limb a_row a_one a_two a_roots a_high a_part a_quotient a_square a_guess := by
  have hb := zlm_lt (B : Int) k
  have vk := vp_in_nI (n := k) (N := 40) (by omega) (by decide)
  intro t et
  rw [hz] at et
  subst et
  refine ⟨vk, ?_⟩
  rw [nI_clamp (by omega), hp k (by omega)]
  refine pk_eq v (zlm (B : Int) k) (fun e y ey => ?_) (fun e => ⟨vk, pk_le (zlm (B : Int) k) v (fun c => hg (by omega)) (fun c => hl (by omega))⟩)
  have ey2 : y = zI ((k : Int) - 1) := by rw [ey, ← zI_n, show (-1 : Int32) = zI (-1) from rfl, zI_add]; exact congrArg zI (by omega)
  subst ey2
  exact he e
theorem xe_3 {post : Int32 → Prop} {r B : Nat} (hh : zLB 40 (r : Int) a_high) (hp : zLB 40 (B : Int) a_part) (h : post (zcmp (2 * r) B)) : ∀ n k, k ≤ 31 → k < n → 2 * r / 2 ^ (16 * k) = B / 2 ^ (16 * k) → wX_twice_3 post f_p f_mode f_flags f_below f_sticky a_kinds a_minus a_exponents a_limb a_row a_one a_two a_roots a_high a_part a_quotient a_square a_guess n (zI ((k : Int) - 1)) := by
  intro n
  induction n with
  | zero => intro k _ h1; omega
  | succ n ih =>
    intro k hk hn he
    refine zk_lt ((k : Int) - 1) 0 (fun h0 => ?_) (fun h0 => ?_)
    · have e0 : k = 0 := by omega
      subst e0
      rw [Nat.mul_zero, Nat.pow_zero, Nat.div_one, Nat.div_one] at he
      unfold zcmp at h
      rw [if_pos he] at h
      exact h
    · obtain ⟨k', rfl⟩ : ∃ k', k = k' + 1 := ⟨k - 1, by omega⟩
      have e1 : zI (((k' + 1 : Nat) : Int) - 1) = nI k' := by rw [← zI_n]; exact congrArg zI (by omega)
      rw [e1]
      have d : ∀ C : Nat, C / 2 ^ (16 * (k' + 1)) = C / 2 ^ (16 * k') / 65536 := fun C => by
        rw [show 16 * (k' + 1) = 16 * k' + 16 from by omega, zNp, ← Nat.div_div_eq_div_mul]
      rw [d, d] at he
      have mono : ∀ C D : Nat, C / 2 ^ (16 * k') < D / 2 ^ (16 * k') → C < D := by
        intro C D hcd
        rcases Nat.lt_or_ge C D with h1 | h1
        · exact h1
        · have := Nat.div_le_div_right (c := 2 ^ (16 * k')) h1
          omega
      have hv := zlm_lt ((2 * r : Nat) : Int) k'
      have hr := zlm_lt (r : Int) k'
      have fin : ∀ z0 z1 : Int32, z1 ||| z0 = nI (zlm ((2 * r : Nat) : Int) k') → wX_twice_37 post (wX_twice_3 post f_p f_mode f_flags f_below f_sticky a_kinds a_minus a_exponents a_limb a_row a_one a_two a_roots a_high a_part a_quotient a_square a_guess n) (nI k') z0 z1 f_p f_mode f_flags f_below f_sticky a_kinds a_minus a_exponents a_limb a_row a_one a_two a_roots a_high a_part a_quotient a_square a_guess := by
        intro z0 z1 hz
        refine xe_37 (by omega) hz hv hp (fun e => ?_) (fun e => ?_) (fun e => ?_)
        · refine ih k' (by omega) (by omega) ?_
          rw [zlm_n, zlm_n] at e
          omega
        · rw [zlm_n, zlm_n] at e
          have := mono B (2 * r) (by omega)
          unfold zcmp at h
          rw [if_neg (by omega), if_neg (by omega)] at h
          exact h
        · rw [zlm_n, zlm_n] at e
          have := mono (2 * r) B (by omega)
          unfold zcmp at h
          rw [if_neg (by omega), if_pos (by omega)] at h
          exact h
      have e2 : (a_high (nI k').toNatClampNeg <<< ((1 : Int32) &&& 31)) &&& 65535 = nI (zlm (r : Int) k' % 32768 * 2) := by
        rw [nI_clamp (by omega), hh k' (by omega), pk_shlN _ 1 (by decide) (by omega), zw_m16 (by omega)]
        exact congrArg nI (by omega)
      refine ⟨vp_in_nI (by omega) (by decide), ?_⟩
      rw [e2]
      refine pk_le k' 0 (fun c => ?_) (fun c => ⟨?_, ?_⟩)
      · have e0 : k' = 0 := by omega
        subst e0
        refine fin _ _ ?_
        rw [zlm_20, zw_or0]
      · rw [show nI k' - 1 = nI (k' - 1) from pk_sub (b := 1) (by omega)]; exact vp_in_nI (by omega) (by decide)
      · obtain ⟨j, rfl⟩ : ∃ j, k' = j + 1 := ⟨k' - 1, by omega⟩
        have hj := zlm_lt (r : Int) j
        refine fin _ _ ?_
        rw [show nI (j + 1) - 1 = nI j from nI_pred j, nI_clamp (by omega), hh j (by omega), pk_shrN (by omega) _ 15 (by decide), zlm_2]
        exact zw_or (k := 1) (by omega)
theorem xe_twice {post : Int32 → Prop} {r B : Nat} (hh : zLB 40 (r : Int) a_high) (hp : zLB 40 (B : Int) a_part) (hr : 2 * r < 2 ^ (16 * 31)) (hB : B < 2 ^ (16 * 31)) (h : post (zcmp (2 * r) B)) : wpX_twice post (f_p, f_mode, f_flags, f_below, f_sticky, a_kinds, a_minus, a_exponents, a_limb, a_row, a_one, a_two, a_roots, a_high, a_part, a_quotient, a_square, a_guess) := by
  have g := xe_3 (f_p := f_p) (f_mode := f_mode) (f_flags := f_flags) (f_below := f_below) (f_sticky := f_sticky) (a_kinds := a_kinds) (a_minus := a_minus) (a_exponents := a_exponents) (a_limb := a_limb) (a_row := a_row) (a_one := a_one) (a_two := a_two) (a_roots := a_roots) (a_quotient := a_quotient) (a_square := a_square) (a_guess := a_guess) hh hp h 32 31 (by omega) (by omega) (by rw [Nat.div_eq_of_lt hr, Nat.div_eq_of_lt hB])
  exact ⟨32, g⟩
/-- the end: the row is settled and rounded; a zero has the dividend's sign -/
theorem xe_end {post : SX → Prop} {p md i N V : Nat} {w : Nat → ZV} {sg ng : Bool} (hc : zC p md w) (hs : zXS p w a_kinds a_minus a_exponents a_limb) (hro : zRT a_roots) (hV : V = N * 2 ^ 140) (hr : zLB 54 (zsg ng (V : Int)) a_row) (hN2 : N < 2 ^ 720) (hi : i < 8) (hsg : N = 0 → ng = sg) (h : ∀ u, zXR p md (zrd0 340 p md ng N false f_flags).2 (zst w i (zrd0 340 p md ng N false f_flags).1) u → post u) : wpX_settle (fun u => match u with | (f_p, f_mode, f_flags, f_below, f_sticky, a_kinds, a_minus, a_exponents, a_limb, a_row, a_one, a_two, a_roots, a_high, a_part, a_quotient, a_square, a_guess) => (wpX_top (fun r_263 => (((0 ≤ r_263 → (wpX_round (fun u => match u with | (f_p, f_mode, f_flags, f_below, f_sticky, a_kinds, a_minus, a_exponents, a_limb, a_row, a_one, a_two, a_roots, a_high, a_part, a_quotient, a_square, a_guess) => (post (f_p, f_mode, f_flags, f_below, f_sticky, a_kinds, a_minus, a_exponents, a_limb, a_row, a_one, a_two, a_roots, a_high, a_part, a_quotient, a_square, a_guess))) (f_p, f_mode, f_flags, f_below, f_sticky, a_kinds, a_minus, a_exponents, a_limb, a_row, a_one, a_two, a_roots, a_high, a_part, a_quotient, a_square, a_guess) (nI i))) ∧ (¬ 0 ≤ r_263 → (wpX_set (fun u => match u with | (f_p, f_mode, f_flags, f_below, f_sticky, a_kinds, a_minus, a_exponents, a_limb, a_row, a_one, a_two, a_roots, a_high, a_part, a_quotient, a_square, a_guess) => (post (f_p, f_mode, f_flags, f_below, f_sticky, a_kinds, a_minus, a_exponents, a_limb, a_row, a_one, a_two, a_roots, a_high, a_part, a_quotient, a_square, a_guess))) (f_p, f_mode, f_flags, f_below, f_sticky, a_kinds, a_minus, a_exponents, a_limb, a_row, a_one, a_two, a_roots, a_high, a_part, a_quotient, a_square, a_guess) (nI i) 0 (zb1 sg)))))) (f_p, f_mode, f_flags, f_below, f_sticky, a_kinds, a_minus, a_exponents, a_limb, a_row, a_one, a_two, a_roots, a_high, a_part, a_quotient, a_square, a_guess))) (nI p, nI md, f_flags, 0, 0, a_kinds, a_minus, a_exponents, a_limb, a_row, a_one, a_two, a_roots, a_high, a_part, a_quotient, a_square, a_guess) := by
  have h0 := Nat.two_pow_pos 140
  have hV8 : V < 2 ^ 860 := by
    rw [hV]
    have := Nat.mul_lt_mul_of_pos_right hN2 h0
    rw [← zNp] at this
    exact this
  have hb : (V : Int) < 2 ^ 863 := by
    rw [← zp_cast]
    exact Int.ofNat_lt.mpr (Nat.lt_trans hV8 (zpl_lt (by decide)))
  obtain ⟨b1, b2, b3, b4⟩ := xo_tb (zp_pos 863) hb
  by_cases hN : N = 0
  · have hr0 : zLB 54 0 a_row := by
      have e : zsg ng (V : Int) = 0 := by rw [hV, hN, Nat.zero_mul]; cases ng <;> rfl
      rw [e] at hr; exact hr
    refine xr_settle hr0 b4 (zp_pos 863) (fun _ => ?_) (fun z => absurd z (Int.lt_irrefl 0))
    refine xr_top0 hr0 (br_f (by decide) ?_)
    have e3 : zrd0 340 p md ng N false f_flags = ((0, ng, 0, 0), f_flags) := by unfold zrd0; rw [if_pos hN]
    rw [e3, hsg hN] at h
    refine xs_set (k := 0) (ng := sg) hs hi (Or.inl rfl) (fun K M E L hK => h _ ⟨rfl, rfl, rfl, ?_, hro⟩)
    rw [show (sg && !((0 : Nat) == 4)) = sg from by simp] at hK
    exact hK
  · have hne : V ≠ 0 := by rw [hV]; exact Nat.mul_ne_zero hN (Nat.ne_of_gt h0)
    have hl := (Nat.log2_lt hne).mpr (Nat.lt_trans hV8 (zpl_lt (show 860 < 864 by decide)))
    cases ng
    · have e5 : zsg false (V : Int) = (V : Int) := rfl
      rw [e5] at hr
      refine xr_settle hr b1 hb (fun _ => ?_) (fun z => absurd z (Int.not_lt.mpr (Int.natCast_nonneg V)))
      refine xr_top hr (z_log1 hne) (z_log2 _) hl (br_t (nI_pos' (by omega)) ?_)
      rw [hV] at hr
      exact xo_rd (ng := false) (s := false) hc hs hro hr hN hN2 hi h
    · have e5 : zsg true (V : Int) = -(V : Int) := rfl
      rw [e5] at hr
      refine xr_settle hr b2 b3 (fun z => ?_) (fun _ r hrr => ?_)
      · omega
      · rw [Int.neg_neg] at hrr
        refine xr_top hrr (z_log1 hne) (z_log2 _) hl (br_t (nI_pos' (by omega)) ?_)
        rw [hV] at hrr
        exact xo_rd (ng := true) (s := false) hc hs hro hrr hN hN2 hi h
end
end
section
/-! the remainder of the component: joined -/
section
variable {f_p f_mode f_flags f_below f_sticky : Int32} {a_kinds a_minus a_exponents a_limb a_row a_one a_two a_roots a_high a_part a_quotient a_square a_guess : Nat → Int32}
theorem xe_208 {post : SX → Prop} {p md i r B at' N : Nat} {w : Nat → ZV} {s le ng : Bool} (hc : zC p md w) (hs : zXS p w a_kinds a_minus a_exponents a_limb) (hro : zRT a_roots) (hr2 : r < 2 ^ (16 * 30)) (hB2 : B < 2 ^ (16 * 30)) (hat : at' < 2 ^ 20) (hh : zLB 40 (r : Int) a_high) (hp : zLB 40 (B : Int) a_part) (hT : zsg s (r : Int) * 2 ^ at' + (if le then zsg (!s) (B : Int) else 0) * 2 ^ at' = zsg ng ((N * 2 ^ 140 : Nat) : Int)) (hN2 : N < 2 ^ 720) (hi : i < 8) (hsg : N = 0 → ng = s) (h : ∀ u, zXR p md (zrd0 340 p md ng N false f_flags).2 (zst w i (zrd0 340 p md ng N false f_flags).1) u → post u) : ∀ n k q, k ≤ 30 → 30 - k < n → zLB 54 (zsg s ((r % 2 ^ (16 * k) : Nat) : Int) * 2 ^ at' + (if le then zsg (!s) ((B % 2 ^ (16 * k) : Nat) : Int) else 0) * 2 ^ at') q → wX_remainder_208 post (nI i) (zb1 s) (zb1 le) (nI at') n (nI k) (nI p) (nI md) f_flags 0 0 a_kinds a_minus a_exponents a_limb q a_one a_two a_roots a_high a_part a_quotient a_square a_guess := by
  intro n
  induction n with
  | zero => intro k q _ h1; omega
  | succ n ih =>
    intro k q hk hn hq
    refine pk_le 30 k (fun hk2 => ?_) (fun hk2 => ⟨vp_in_nI (by omega) (by decide), ?_⟩)
    · have e : k = 30 := by omega
      subst e
      rw [Nat.mod_eq_of_lt hr2, Nat.mod_eq_of_lt hB2, hT] at hq
      exact xe_end hc hs hro rfl hq hN2 hi hsg h
    · have lr := zlm_lt (r : Int) k
      have lb := zlm_lt (B : Int) k
      have vk := vp_in_nI (n := k) (N := 40) (by omega) (by decide)
      have e3 : nI at' + (16 : Int32) * nI k = nI (at' + 16 * k) := by rw [show (16 : Int32) = nI 16 from rfl, pk_mul, nI_add]
      have e4 : a_part (nI k).toNatClampNeg = nI (zlm (B : Int) k) := by rw [nI_clamp (by omega), hp k (by omega)]
      rw [nI_clamp (by omega), hh k (by omega), e3]
      have l1 := x_limb r k at' s
      have l2 := x_limb B k at' (!s)
      refine xr_dep hq (by omega) (by omega) (fun q2 hq2 => ?_)
      refine zk_b (fun ele => ?_) (fun ele => ⟨vk, ?_⟩)
      · intro y ey
        subst ey
        rw [nI_1]
        refine ih (k + 1) q2 (by omega) (by omega) ?_
        rw [ele] at hq2 ⊢
        rw [if_neg (by decide), Int.zero_mul, Int.add_zero] at hq2 ⊢
        rw [← l1]
        exact hq2
      · -- the divisor goes off too
        have fin : ∀ q3, zLB 54 (zsg s ((r % 2 ^ (16 * k) : Nat) : Int) * 2 ^ at' + (if le then zsg (!s) ((B % 2 ^ (16 * k) : Nat) : Int) else 0) * 2 ^ at' + zsg s (zlm (r : Int) k : Int) * 2 ^ (at' + 16 * k) + zsg (!s) (zlm (B : Int) k : Int) * 2 ^ (at' + 16 * k)) q3 → zLB 54 (zsg s ((r % 2 ^ (16 * (k + 1)) : Nat) : Int) * 2 ^ at' + (if le then zsg (!s) ((B % 2 ^ (16 * (k + 1)) : Nat) : Int) else 0) * 2 ^ at') q3 := by
          intro q3 hq3
          rw [ele] at hq3 ⊢
          rw [if_pos rfl] at hq3 ⊢
          rw [← l1, ← l2]
          generalize zsg s ((r % 2 ^ (16 * k) : Nat) : Int) * 2 ^ at' = t1 at *
          generalize zsg (!s) ((B % 2 ^ (16 * k) : Nat) : Int) * 2 ^ at' = t2 at *
          generalize zsg s (zlm (r : Int) k : Int) * 2 ^ (at' + 16 * k) = t3 at *
          generalize zsg (!s) (zlm (B : Int) k : Int) * 2 ^ (at' + 16 * k) = t4 at *
          rw [show t1 + t3 + (t2 + t4) = t1 + t2 + t3 + t4 from by omega]
          exact hq3
        have g267 : wX_remainder_267 post (wX_remainder_208 post (nI i) (zb1 s) (zb1 le) (nI at') n) (nI i) (zb1 s) (zb1 le) (nI at') (nI k) (zb1 (!s)) (nI (at' + 16 * k)) (a_part k) (nI p) (nI md) f_flags 0 0 a_kinds a_minus a_exponents a_limb q2 a_one a_two a_roots a_high a_part a_quotient a_square a_guess := by
          unfold wX_remainder_267
          rw [hp k (by omega)]
          refine xr_dep hq2 (by omega) (by omega) (fun q3 hq3 y ey => ?_)
          subst ey
          rw [nI_1]
          exact ih (k + 1) q3 (by omega) (by omega) (fin q3 hq3)
        cases s
        · exact br_t rfl g267
        · exact br_f (by decide) g267
/-- the facts of a remainder at the common scale -/
theorem z_rem {A B A' B' m : Nat} (hA : A = A' * 2 ^ m) (hB : B = B' * 2 ^ m) : A / B = A' / B' ∧ A % B = A' % B' * 2 ^ m := by
  rw [hA, hB, Nat.mul_div_mul_right _ _ (Nat.two_pow_pos m), Nat.mul_mod_mul_right]
  exact ⟨rfl, rfl⟩
theorem xe_183 {post : SX → Prop} {p md i a' b' m wa wb : Nat} {w : Nat → ZV} {s : Bool} (hc : zC p md w) (hs : zXS p w a_kinds a_minus a_exponents a_limb) (hro : zRT a_roots) (hi : i < 8) (hb0 : 0 < b') (hblt : b' < 2 ^ 300) (hm : m = if wb ≤ wa then wb else wa) (hm2 : m ≤ 500) (hh : zLB 40 ((a' % b' : Nat) : Int) a_high) (hp : zLB 40 (b' : Int) a_part) (hwa : wa < 2 ^ 18) (hwb : wb < 2 ^ 18) (hbm : b' * 2 ^ m < 2 ^ 700) (h : ∀ u, zXR p md (if zrl (a' * 2 ^ m) (b' * 2 ^ m) then zrd0 340 p md (!s) (b' * 2 ^ m - a' * 2 ^ m % (b' * 2 ^ m)) false f_flags else zrd0 340 p md s (a' * 2 ^ m % (b' * 2 ^ m)) false f_flags).2 (zst w i (if zrl (a' * 2 ^ m) (b' * 2 ^ m) then zrd0 340 p md (!s) (b' * 2 ^ m - a' * 2 ^ m % (b' * 2 ^ m)) false f_flags else zrd0 340 p md s (a' * 2 ^ m % (b' * 2 ^ m)) false f_flags).1) u → post u) : wX_remainder_183 post (nI i) (nI (wa + 140)) (nI (wb + 140)) (zb1 s) (zb1 (zrl (a' * 2 ^ m) (b' * 2 ^ m))) (nI p) (nI md) f_flags f_below f_sticky a_kinds a_minus a_exponents a_limb a_row a_one a_two a_roots a_high a_part a_quotient a_square a_guess := by
  have hrl := Nat.mod_lt a' hb0
  have hmp := Nat.two_pow_pos m
  obtain ⟨z1, z2⟩ := z_rem (A := a' * 2 ^ m) (B := b' * 2 ^ m) rfl rfl
  have hr30 : a' % b' < 2 ^ (16 * 30) := Nat.lt_trans (Nat.lt_trans hrl hblt) (zpl_lt (by decide))
  have hb30 : b' < 2 ^ (16 * 30) := Nat.lt_trans hblt (zpl_lt (by decide))
  have e140 : ∀ X : Nat, X * 2 ^ (m + 140) = X * 2 ^ m * 2 ^ 140 := fun X => by rw [zNp, Nat.mul_assoc]
  have loop : ∀ q : Nat → Int32, zLB 54 0 q → ∃ n, wX_remainder_208 post (nI i) (zb1 s) (zb1 (zrl (a' * 2 ^ m) (b' * 2 ^ m))) (nI (m + 140)) n 0 (nI p) (nI md) f_flags 0 0 a_kinds a_minus a_exponents a_limb q a_one a_two a_roots a_high a_part a_quotient a_square a_guess := by
    intro q hq
    have h00 : zLB 54 (zsg s ((a' % b' % 2 ^ (16 * 0) : Nat) : Int) * 2 ^ (m + 140) + (if zrl (a' * 2 ^ m) (b' * 2 ^ m) then zsg (!s) ((b' % 2 ^ (16 * 0) : Nat) : Int) else 0) * 2 ^ (m + 140)) q := by
      rw [Nat.mul_zero, Nat.pow_zero, Nat.mod_one, Nat.mod_one]
      show zLB 54 (zsg s 0 * 2 ^ (m + 140) + (if zrl (a' * 2 ^ m) (b' * 2 ^ m) then zsg (!s) 0 else 0) * 2 ^ (m + 140)) q
      rw [zsg_0, zsg_0, ite_self, Int.zero_mul]
      exact hq
    cases hle : zrl (a' * 2 ^ m) (b' * 2 ^ m)
    · rw [hle] at h h00
      rw [if_neg (by decide)] at h
      refine ⟨31, xe_208 (le := false) (ng := s) (N := a' * 2 ^ m % (b' * 2 ^ m)) hc hs hro hr30 hb30 (by omega) hh hp ?_ ?_ hi (fun _ => rfl) h 31 0 q (by omega) (by omega) h00⟩
      · rw [if_neg (by decide), Int.zero_mul, Int.add_zero, ← zsg_mul, ← zp_cast, ← Int.natCast_mul, e140, z2]
      · rw [z2]
        exact Nat.lt_trans (Nat.lt_of_lt_of_le (Nat.mul_lt_mul_of_pos_right hrl hmp) (Nat.le_refl _)) (Nat.lt_trans hbm (zpl_lt (by decide)))
    · rw [hle] at h h00
      rw [if_pos rfl] at h
      have hsub : b' * 2 ^ m - a' * 2 ^ m % (b' * 2 ^ m) = (b' - a' % b') * 2 ^ m := by rw [z2, Nat.sub_mul]
      rw [hsub] at h
      refine ⟨31, xe_208 (le := true) (ng := !s) (N := (b' - a' % b') * 2 ^ m) hc hs hro hr30 hb30 (by omega) hh hp ?_ ?_ hi (fun z => ?_) h 31 0 q (by omega) (by omega) h00⟩
      · rw [if_pos rfl, ← Int.add_mul]
        have e5 : zsg s ((a' % b' : Nat) : Int) + zsg (!s) (b' : Int) = zsg (!s) ((b' - a' % b' : Nat) : Int) := by
          unfold zsg
          cases s
          · show ((a' % b' : Nat) : Int) + -(b' : Int) = -((b' - a' % b' : Nat) : Int)
            omega
          · show -((a' % b' : Nat) : Int) + (b' : Int) = ((b' - a' % b' : Nat) : Int)
            omega
        rw [e5, ← zsg_mul, ← zp_cast, ← Int.natCast_mul, e140]
      · exact Nat.lt_trans (Nat.lt_of_le_of_lt (Nat.mul_le_mul_right _ (Nat.sub_le _ _)) hbm) (zpl_lt (by decide))
      · exfalso
        rcases Nat.mul_eq_zero.mp z with z | z
        · omega
        · omega
  unfold wX_remainder_183
  refine xr_clear (fun q hq => ?_)
  refine pk_le (wb + 140) (wa + 140) (fun c => ?_) (fun c => ?_)
  · rw [if_pos (by omega)] at hm
    rw [← hm]
    exact loop q hq
  · rw [if_neg (by omega)] at hm
    rw [← hm]
    exact loop q hq
theorem xe_rem {post : SX → Prop} {p md i x y : Nat} {w : Nat → ZV} (hc : zC p md w) (hs : zXS p w a_kinds a_minus a_exponents a_limb) (hro : zRT a_roots) (hx : x < 8) (hy : y < 8) (hi : i < 8) (hnx : (w x).1 ≠ 4) (hny : (w y).1 ≠ 4) (h : ∀ u, zXR p md (zrm p md (w x) (w y) f_flags).2 (zst w i (zrm p md (w x) (w y) f_flags).1) u → post u) : wpX_remainder post (nI p, nI md, f_flags, f_below, f_sticky, a_kinds, a_minus, a_exponents, a_limb, a_row, a_one, a_two, a_roots, a_high, a_part, a_quotient, a_square, a_guess) (nI x) (nI y) (nI i) := by
  have ox := hc.2.2.2 x hx
  have oy := hc.2.2.2 y hy
  have kx := xs_kz hs ox hx
  have ky := xs_kz hs oy hy
  have vx := vp_in_nI hx (show 8 < 2 ^ 31 by decide)
  have vy := vp_in_nI hy (show 8 < 2 ^ 31 by decide)
  have hp2 := hc.1
  have hp := hc.2.1
  unfold zrm at h
  have g17 : ((w x).1 = 3 ∨ (w y).1 = 0) → wX_remainder_17 post (nI i) (nI p) (nI md) f_flags f_below f_sticky a_kinds a_minus a_exponents a_limb a_row a_one a_two a_roots a_high a_part a_quotient a_square a_guess := by
    intro q
    rw [if_pos q] at h
    exact xs_invalid hs hi (fun K M E L hK => h _ ⟨rfl, rfl, rfl, hK, hro⟩)
  have g40 : ¬ ((w x).1 = 3 ∨ (w y).1 = 0) → ((w y).1 = 3 ∨ (w x).1 = 0) → wX_remainder_40 post (nI x) (nI i) (nI p) (nI md) f_flags f_below f_sticky a_kinds a_minus a_exponents a_limb a_row a_one a_two a_roots a_high a_part a_quotient a_square a_guess := by
    intro q q2
    rw [if_neg q, if_pos q2] at h
    exact xs_copy hs ox hi hx (fun K M E L hK => h _ ⟨rfl, rfl, rfl, hK, hro⟩)
  unfold wpX_remainder
  dsimp only
  refine xs_isInf hs ox hx (zk_b (fun e3 => ⟨vy, ?_⟩) (fun e3 => g17 (Or.inl (of_decide_eq_true e3))))
  have e3 := of_decide_eq_false e3
  rw [nI_clamp (by omega), nI_clamp (by omega)]
  refine zk_i ky.1 (fun e0 => g17 (Or.inr e0)) (fun e0 => ?_)
  refine xs_isInf hs oy hy (zk_b (fun e4 => ⟨vx, ?_⟩) (fun e4 => g40 (by omega) (Or.inl (of_decide_eq_true e4))))
  have e4 := of_decide_eq_false e4
  refine zk_i kx.1 (fun e5 => g40 (by omega) (Or.inr e5)) (fun e5 => ?_)
  have kx2 : (w x).1 = 2 := by have := ox.1; omega
  have ky2 : (w y).1 = 2 := by have := oy.1; omega
  rw [if_neg (by omega), if_neg (by omega)] at h
  obtain ⟨f1, f2, f3⟩ := xs_fin hs hx kx2
  obtain ⟨q1, q2, q3⟩ := xs_fin hs hy ky2
  obtain ⟨g1, g2, g3, g4, g5⟩ := ox.2.1 kx2
  obtain ⟨j1, j2, j3, j4, j5⟩ := oy.2.1 ky2
  have m1 := zOK_64 ox hp kx2
  have m2 := zOK_64 oy hp ky2
  have wa := zwt_i hp ox kx2
  have wb := zwt_i hp oy ky2
  rw [zrow_f kx2, zrow_f ky2] at h
  have hsx := (hs x hx).1
  generalize (w x).2.2.2 = Ma at *
  generalize (w y).2.2.2 = Mb at *
  generalize zwt p (w x) = za at *
  generalize zwt p (w y) = zb at *
  generalize (w x).2.1 = s at *
  -- the common scale
  obtain ⟨m, hm⟩ : ∃ m, m = if zb ≤ za then zb else za := ⟨_, rfl⟩
  have hma : Ma * 2 ^ za = Ma * 2 ^ (za - zb) * 2 ^ m := by
    rw [Nat.mul_assoc, ← zNp]
    exact congrArg (fun z => Ma * 2 ^ z) (by rw [hm]; split <;> omega)
  have hmb : Mb * 2 ^ zb = Mb * 2 ^ (zb - za) * 2 ^ m := by
    rw [Nat.mul_assoc, ← zNp]
    exact congrArg (fun z => Mb * 2 ^ z) (by rw [hm]; split <;> omega)
  have bd : ∀ M t : Nat, M < 2 ^ 64 → t ≤ 200 → M * 2 ^ t < 2 ^ 264 := by
    intro M t hM ht
    have := Nat.mul_lt_mul_of_pos_right hM (Nat.two_pow_pos t)
    rw [← zNp] at this
    exact Nat.lt_of_lt_of_le this (zpl_le (by omega))
  have ba := bd Ma (za - zb) m1 (by omega)
  have bb := bd Mb (zb - za) m2 (by omega)
  have hb0 : 0 < Mb * 2 ^ (zb - za) := Nat.mul_pos (by omega) (Nat.two_pow_pos _)
  have hbm : Mb * 2 ^ (zb - za) * 2 ^ m < 2 ^ 700 := by
    rw [← hmb]
    have := Nat.mul_lt_mul_of_pos_right m2 (Nat.two_pow_pos zb)
    rw [← zNp] at this
    exact Nat.lt_of_lt_of_le this (zpl_le (by omega))
  rw [hma, hmb] at h
  obtain ⟨z1, z2⟩ := z_rem (A := Ma * 2 ^ (za - zb) * 2 ^ m) (B := Mb * 2 ^ (zb - za) * 2 ^ m) rfl rfl
  have hm2 : m ≤ 500 := by rw [hm]; split <;> omega
  have hza : za < 2 ^ 18 := by omega
  have hzb : zb < 2 ^ 18 := by omega
  -- the comparison of twice the rest
  have hcmp : ∀ A' B' : Nat, zrl (A' * 2 ^ m) (B' * 2 ^ m) = (decide (B' < 2 * (A' % B')) || (decide (2 * (A' % B') = B') && decide (A' / B' % 2 = 1))) := by
    intro A' B'
    obtain ⟨y1, y2⟩ := z_rem (A := A' * 2 ^ m) (B := B' * 2 ^ m) rfl rfl
    have hmp := Nat.two_pow_pos m
    unfold zrl
    rw [y1, y2, ← Nat.mul_assoc]
    have i1 : B' * 2 ^ m < 2 * (A' % B') * 2 ^ m ↔ B' < 2 * (A' % B') := Nat.mul_lt_mul_right hmp
    have i2 : 2 * (A' % B') * 2 ^ m = B' * 2 ^ m ↔ 2 * (A' % B') = B' := Nat.mul_right_cancel_iff hmp
    simp only [i1, i2]
  have hcm := hcmp (Ma * 2 ^ (za - zb)) (Mb * 2 ^ (zb - za))
  refine xs_foot hx f1 (xs_foot hy q1 ⟨vx, fun x6 e6 => ?_⟩)
  rw [hsx] at e6
  subst e6
  have fx : zI ((w x).2.2.1 - p + 1 + 480) = nI (za + 140) := by rw [← zI_n]; exact congrArg zI (by omega)
  have fy : zI ((w y).2.2.1 - p + 1 + 480) = nI (zb + 140) := by rw [← zI_n]; exact congrArg zI (by omega)
  rw [fx, fy]
  generalize hA' : Ma * 2 ^ (za - zb) = A' at *
  generalize hB' : Mb * 2 ^ (zb - za) = B' at *
  -- after the division: put the divisor again, compare, end
  have g153 : ∀ (odd : Bool) (zs : Int32) (R P Q : Nat → Int32), odd = decide (A' / B' % 2 = 1) → zs = nI (zb - za) → zLB 40 ((A' % B' : Nat) : Int) R → wX_remainder_153 post (nI i) (nI (za + 140)) (nI (zb + 140)) (zb1 s) (zb1 odd) zs (nI y) (nI p) (nI md) f_flags f_below f_sticky a_kinds a_minus a_exponents a_limb a_row a_one a_two a_roots R P Q a_square a_guess := by
    intro odd zs R P Q hodd hzs hR
    subst hzs
    unfold wX_remainder_153
    refine xd_putP (s := zb - za) hy (by omega) m2 q2 (fun P2 hP2 => ?_)
    rw [hB'] at hP2
    have hrl := Nat.mod_lt A' hb0
    have g183 : ∀ le : Bool, le = zrl (A' * 2 ^ m) (B' * 2 ^ m) → wX_remainder_183 post (nI i) (nI (za + 140)) (nI (zb + 140)) (zb1 s) (zb1 le) (nI p) (nI md) f_flags f_below f_sticky a_kinds a_minus a_exponents a_limb a_row a_one a_two a_roots R P2 Q a_square a_guess := by
      intro le hle
      subst hle
      exact xe_183 hc hs hro hi hb0 (Nat.lt_trans bb (zpl_lt (by decide))) hm hm2 hR hP2 hza hzb hbm h
    have b31 : ∀ X : Nat, X < 2 ^ 264 → 2 * X < 2 ^ (16 * 31) := by
      intro X hX
      have : (2 : Nat) ^ 265 = 2 * 2 ^ 264 := by rw [Nat.pow_succ, Nat.mul_comm]
      exact Nat.lt_of_lt_of_le (Nat.mul_lt_mul_of_pos_left hX (by decide)) (by rw [← this]; exact zpl_le (by decide))
    refine xe_twice hR hP2 (b31 _ (Nat.lt_trans hrl bb)) (Nat.lt_trans bb (zpl_lt (by decide))) ?_
    unfold zcmp
    by_cases c1 : 2 * (A' % B') = B'
    · rw [if_pos c1]
      refine br_f (by decide) (br_t rfl (zk_b (fun eo => ?_) (fun eo => ?_)))
      · refine g183 false ?_
        rw [hcm, ← hodd, eo, decide_eq_false (show ¬ B' < 2 * (A' % B') by omega), Bool.and_false, Bool.or_false]
      · refine g183 true ?_
        rw [hcm, ← hodd, eo, decide_eq_true c1, Bool.and_true, Bool.or_true]
    · rw [if_neg c1]
      by_cases c2 : 2 * (A' % B') < B'
      · rw [if_pos c2]
        refine br_f (by decide) (br_f (by decide) (g183 false ?_))
        rw [hcm, decide_eq_false c1, decide_eq_false (show ¬ B' < 2 * (A' % B') by omega), Bool.false_and, Bool.or_false]
      · rw [if_neg c2]
        refine br_t (by decide) (g183 true ?_)
        rw [hcm, decide_eq_true (show B' < 2 * (A' % B') by omega), Bool.true_or]
  have g133 : ∀ (odd : Bool) (R P Q : Nat → Int32), odd = decide (A' / B' % 2 = 1) → zLB 40 ((A' % B' : Nat) : Int) R → wX_remainder_133 post (nI y) (nI i) (nI (za + 140)) (nI (zb + 140)) (zb1 s) (zb1 odd) (nI p) (nI md) f_flags f_below f_sticky a_kinds a_minus a_exponents a_limb a_row a_one a_two a_roots R P Q a_square a_guess := by
    intro odd R P Q hodd hR
    refine pk_le (zb + 140) (za + 140) (fun c => ?_) (fun c => ?_)
    · exact g153 odd 0 R P Q hodd (by rw [show zb - za = 0 from by omega]; rfl) hR
    · refine g153 odd _ R P Q hodd ?_ hR
      rw [pk_sub (by omega)]
      exact congrArg nI (by omega)
  have g109 : ∀ (zs : Int32) (H : Nat → Int32), zs = nI (zb - za) → zLB 40 (A' : Int) H → wX_remainder_109 post (nI y) (nI i) (nI (za + 140)) (nI (zb + 140)) (zb1 s) zs (nI y) (nI p) (nI md) f_flags f_below f_sticky a_kinds a_minus a_exponents a_limb a_row a_one a_two a_roots H a_part a_quotient a_square a_guess := by
    intro zs H hzs hH
    subst hzs
    unfold wX_remainder_109
    refine xd_putP (s := zb - za) hy (by omega) m2 q2 (fun P hP => ?_)
    rw [hB'] at hP
    refine xd_divide hb0 (Nat.lt_trans bb (zpl_lt (by decide))) (Nat.lt_trans ba (zpl_lt (by decide))) hH hP (fun R P2 Q hR hQ => ?_)
    dsimp only
    have l0 := zlm_lt ((A' / B' : Nat) : Int) 0
    have e8 : Q 0 &&& 1 = nI (A' / B' % 2) := by
      rw [hQ 0 (by omega), zw_m1 (by omega), zlm_n, Nat.mul_zero, Nat.pow_zero, Nat.div_one]
      exact congrArg nI (by omega)
    rw [e8]
    refine pk_eq (A' / B' % 2) 0 (fun c => ?_) (fun c => ?_)
    · exact g133 false R P2 Q (by rw [decide_eq_false]; omega) hR
    · exact g133 true R P2 Q (by rw [decide_eq_true]; omega) hR
  have g87 : ∀ zs : Int32, zs = nI (za - zb) → wX_remainder_87 post (nI y) (nI i) (nI (za + 140)) (nI (zb + 140)) (zb1 s) zs (nI x) (nI p) (nI md) f_flags f_below f_sticky a_kinds a_minus a_exponents a_limb a_row a_one a_two a_roots a_high a_part a_quotient a_square a_guess := by
    intro zs hzs
    subst hzs
    unfold wX_remainder_87
    refine xd_putH (s := za - zb) hx (by omega) m1 f2 (fun H hH => ?_)
    rw [hA'] at hH
    refine pk_le (zb + 140) (za + 140) (fun c => ?_) (fun c => ?_)
    · exact g109 0 H (by rw [show zb - za = 0 from by omega]; rfl) hH
    · refine g109 _ H ?_ hH
      rw [pk_sub (by omega)]
      exact congrArg nI (by omega)
  refine pk_le (za + 140) (zb + 140) (fun c => ?_) (fun c => ?_)
  · exact g87 0 (by rw [show za - zb = 0 from by omega]; rfl)
  · refine g87 _ ?_
    rw [pk_sub (by omega)]
    exact congrArg nI (by omega)
end
end
section
/-! the remainder of the reference -/
section
variable {f_precision f_mode f_flags f_sticky f_wide : Int32} {f_rest : Int64} {a_sort a_exponent a_minus a_row : Nat → Int32} {a_mantissa : Nat → Int64}
theorem ye_326 {post : SY → Prop} {p md i N : Nat} {w : Nat → ZV} {ng : Bool} (hc : zC p md w) (hs : zYS w a_sort a_minus a_exponent a_mantissa) (hl : zBB 0 720 (N : Int) a_row) (hN2 : N < 2 ^ 720) (hi : i < 8) (h : ∀ v, zYR p md (zrd0 340 p md ng N false f_flags).2 (zst w i (zrd0 340 p md ng N false f_flags).1) v → post v) : wY_remainder_326 post (zb1 ng) (nI i) (nI p) (nI md) f_flags 0 720 f_rest a_sort a_exponent a_minus a_mantissa a_row :=
  yo_round (s := false) hc.2.2.1 hs hl hN2 hc.1 hc.2.1 hi (fun S Mi E Ma hS => h _ ⟨rfl, rfl, rfl, rfl, hS⟩)
theorem ye_301 {post : SY → Prop} {p md i x N : Nat} {w : Nat → ZV} {s ng : Bool} (hc : zC p md w) (hs : zYS w a_sort a_minus a_exponent a_mantissa) (hx : x < 8) (hsx : a_minus x = zb1 s) (hl : zBB 0 720 (N : Int) a_row) (hN2 : N < 2 ^ 720) (hi : i < 8) (hsg : N = 0 → ng = s) (h : ∀ v, zYR p md (zrd0 340 p md ng N false f_flags).2 (zst w i (zrd0 340 p md ng N false f_flags).1) v → post v) : wY_remainder_301 post (nI x) (nI i) (zb1 ng) (nI p) (nI md) f_flags f_sticky 720 f_rest a_sort a_exponent a_minus a_mantissa a_row := by
  unfold wY_remainder_301
  by_cases hN : N = 0
  · have hl0 : zBB 0 720 0 a_row := by rw [hN] at hl; exact hl
    refine yr_top0 hl0 (br_f (by decide) ⟨vp_in_nI hx (by decide), ?_⟩)
    rw [nI_clamp (by omega), hsx, ← hsg hN]
    exact ye_326 hc hs hl hN2 hi h
  · have hlg := (Nat.log2_lt hN).mpr hN2
    refine yr_top hl (z_log1 hN) (z_log2 _) hlg (br_t (nI_pos' (by omega)) ?_)
    exact ye_326 hc hs hl hN2 hi h
theorem ye_230 {post : SY → Prop} {p md i x y R : Nat} {w : Nat → ZV} {s odd : Bool} (hc : zC p md w) (hs : zYS w a_sort a_minus a_exponent a_mantissa) (hx : x < 8) (hy : y < 8) (hsx : a_minus x = zb1 s) (hl : zBB 0 720 (R : Int) a_row) (hi : i < 8) (hRB : R < zrow p (w y)) (h : ∀ v, zYR p md (if (decide (zrow p (w y) < 2 * R) || (decide (2 * R = zrow p (w y)) && odd)) then zrd0 340 p md (!s) (zrow p (w y) - R) false f_flags else zrd0 340 p md s R false f_flags).2 (zst w i (if (decide (zrow p (w y) < 2 * R) || (decide (2 * R = zrow p (w y)) && odd)) then zrd0 340 p md (!s) (zrow p (w y) - R) false f_flags else zrd0 340 p md s R false f_flags).1) v → post v) : wY_remainder_230 post (nI x) (nI y) (nI i) (zb1 odd) (zb1 s) (nI p) (nI md) f_flags f_sticky 720 f_rest a_sort a_exponent a_minus a_mantissa a_row := by
  have oy := hc.2.2.2 y hy
  have hB := zrow_lt hc.1 hc.2.1 oy
  unfold wY_remainder_230
  refine yo_put (r := 1) hs oy hc.1 hc.2.1 hy (by omega) (fun l1 k1 f1 => ?_)
  generalize zrow p (w y) = B at *
  have b7 : B < 2 ^ 720 := Nat.lt_trans hB (zpl_lt (by decide))
  have r7 : 2 * R < 2 ^ 720 := by
    have : (2 : Nat) ^ 442 = 2 * 2 ^ 441 := by rw [Nat.pow_succ, Nat.mul_comm]
    refine Nat.lt_trans (Nat.mul_lt_mul_of_pos_left (Nat.lt_trans hRB hB) (by decide)) ?_
    rw [← this]
    exact zpl_lt (by decide)
  have h0 := zBB_f (o := 0) (n := 720) hl f1 (by omega)
  refine yr_copy (a := 0) (b := 2) (W := 720) (by omega) (by omega) (by omega) (by omega) h0 (fun l2 k2 f2 => ?_)
  have h0b := zBB_f (o := 0) (n := 720) h0 f2 (by omega)
  have h1b := zBB_f (o := 720) (n := 720) k1 f2 (by omega)
  refine yr_add (a := 2) (b := 0) (by omega) (by omega) (by omega) k2 h0b (fun l3 k3 f3 => ?_)
  have h0c := zBB_f (o := 0) (n := 720) h0b f3 (by omega)
  have h1c := zBB_f (o := 720) (n := 720) h1b f3 (by omega)
  have e2 : (R : Int) + (R : Int) = ((2 * R : Nat) : Int) := by omega
  rw [e2] at k3
  have low : (decide (B < 2 * R) || (decide (2 * R = B) && odd)) = false → wY_remainder_301 post (nI x) (nI i) (zb1 s) (nI p) (nI md) f_flags f_sticky 720 f_rest a_sort a_exponent a_minus a_mantissa l3 := by
    intro q
    rw [q, if_neg (by decide)] at h
    exact ye_301 hc hs hx hsx h0c (Nat.lt_trans hRB b7) hi (fun _ => rfl) h
  have high : (decide (B < 2 * R) || (decide (2 * R = B) && odd)) = true → wY_remainder_271 post (nI x) (nI i) (zb1 s) (nI p) (nI md) f_flags f_sticky 720 f_rest a_sort a_exponent a_minus a_mantissa l3 := by
    intro q
    rw [q, if_pos rfl] at h
    unfold wY_remainder_271
    refine yr_copy (a := 0) (b := 2) (W := 720) (by omega) (by omega) (by omega) (by omega) h0c (fun l4 k4 f4 => ?_)
    have h1d := zBB_f (o := 720) (n := 720) h1c f4 (by omega)
    refine yr_copy (a := 1) (b := 0) (W := 720) (by omega) (by omega) (by omega) (by omega) h1d (fun l5 k5 f5 => ?_)
    have h2e := zBB_f (o := 1440) (n := 720) k4 f5 (by omega)
    refine yr_sub (a := 0) (b := 2) (W := 720) (by omega) (by omega) (by omega) (by omega) k5 h2e (fun l6 k6 f6 => ?_)
    have e3 : (B : Int) - (R : Int) = ((B - R : Nat) : Int) := by omega
    rw [e3] at k6
    have fin : wY_remainder_301 post (nI x) (nI i) (zb1 (!s)) (nI p) (nI md) f_flags f_sticky 720 f_rest a_sort a_exponent a_minus a_mantissa l6 := ye_301 hc hs hx hsx k6 (Nat.lt_of_le_of_lt (Nat.sub_le _ _) b7) hi (fun z => by omega) h
    cases s
    · exact br_t rfl fin
    · exact br_f (by decide) fin
  refine yr_cmp (a := 2) (b := 1) (W := 720) (by omega) (by omega) (by omega) k3 h1c r7 b7 ?_
  unfold zcmp
  by_cases c1 : 2 * R = B
  · rw [if_pos c1]
    refine br_f (by decide) (br_t rfl (zk_b (fun eo => low ?_) (fun eo => high ?_)))
    · rw [eo, decide_eq_false (show ¬ B < 2 * R by omega), Bool.and_false, Bool.or_false]
    · rw [eo, decide_eq_true c1, Bool.and_true, Bool.or_true]
  · rw [if_neg c1]
    by_cases c2 : 2 * R < B
    · rw [if_pos c2]
      refine br_f (by decide) (br_f (by decide) (low ?_))
      rw [decide_eq_false c1, decide_eq_false (show ¬ B < 2 * R by omega), Bool.false_and, Bool.or_false]
    · rw [if_neg c2]
      refine br_t (by decide) (high ?_)
      rw [decide_eq_true (show B < 2 * R by omega), Bool.true_or]
theorem ye_180 {post : SY → Prop} {p x y i M za zb : Nat} {x4 x5 : Int32} {T : Int} (hx : x < 8) (hmx : a_mantissa x = lN M) (hM : M < 2 ^ 64) (hza : za + 64 ≤ 720) (hzb : zb ≤ 720) (hlo : ∀ j, j < zb → zbb T j = zbb ((M * 2 ^ za : Nat) : Int) j) (h : ∀ l, zBB 0 720 T l → wY_remainder_230 post (nI x) (nI y) (nI i) x4 x5 (nI p) f_mode f_flags f_sticky f_wide f_rest a_sort a_exponent a_minus a_mantissa l) : ∀ n k l, k ≤ 64 → 64 - k < n → (∀ j, j < 720 → l j = if j < zb then (if j < za + k then nI (zbb T j) else 0) else nI (zbb T j)) → wY_remainder_180 post (nI x) (nI y) (nI i) x4 x5 (zI ((za : Int) - 340)) (zI ((zb : Int) - 340)) (nI p) f_mode f_flags f_sticky f_wide f_rest n (nI k) a_sort a_exponent a_minus a_mantissa l := by
  intro n
  induction n with
  | zero => intro k l _ h1; omega
  | succ n ih =>
    intro k l hk hn hl
    have fin : (64 ≤ k ∨ zb ≤ za + k) → wY_remainder_230 post (nI x) (nI y) (nI i) x4 x5 (nI p) f_mode f_flags f_sticky f_wide f_rest a_sort a_exponent a_minus a_mantissa l := by
      intro q
      refine h l (fun j hj => ?_)
      rw [Nat.zero_add, hl j hj]
      by_cases c1 : j < zb
      · rw [if_pos c1]
        by_cases c2 : j < za + k
        · rw [if_pos c2]
        · rw [if_neg c2, hlo j c1, zbb_mul, if_neg (by omega), Nat.div_eq_of_lt (Nat.lt_of_lt_of_le hM (zpl_le (by omega)))]
          rfl
      · rw [if_neg c1]
    refine pk_le 64 k (fun c => fin (Or.inl c)) (fun c => ?_)
    have e1 : zI ((za : Int) - 340) + nI k = zI ((za : Int) - 340 + k) := by rw [← zI_n, zI_add]
    refine zk_le ((zb : Int) - 340) ((za : Int) - 340 + k) (fun c2 => fin (Or.inr (by omega))) (fun c2 => ⟨vp_in_nI hx (by decide), ?_⟩) rfl e1
    have e2 : (340 : Int32) + zI ((za : Int) - 340) + nI k = nI (za + k) := by
      rw [show (340 : Int32) = zI 340 from rfl, zI_add, ← zI_n, zI_add, ← zI_n]
      exact congrArg zI (by omega)
    refine ⟨by rw [e2]; exact vp_in_nI (by omega) (by decide), fun l2 el y1 ey => ?_⟩
    have hb2 := Nat.mod_lt (M / 2 ^ k) (show 0 < 2 by decide)
    rw [e2, nI_clamp (by omega), nI_clamp (by omega), hmx, zy_bitI hM c, zn_b2 (by omega)] at el
    subst el ey
    rw [nI_1]
    refine ih (k + 1) _ (by omega) (by omega) (fun j hj => ?_)
    by_cases c3 : j = za + k
    · subst c3
      rw [pk_us, if_pos (by omega), if_pos (by omega), hlo _ (by omega), zbb_mul, if_neg (by omega), Nat.add_sub_cancel_left]
    · rw [pk_un c3, hl j hj]
      by_cases c1 : j < zb
      · rw [if_pos c1, if_pos c1]
        by_cases c2 : j < za + k
        · rw [if_pos c2, if_pos (by omega)]
        · rw [if_neg c2, if_neg (by omega)]
      · rw [if_neg c1, if_neg c1]
theorem ye_119 {post : SY → Prop} {p md i x y Ma Mb za zb : Nat} {w : Nat → ZV} {s : Bool} (hc : zC p md w) (hs : zYS w a_sort a_minus a_exponent a_mantissa) (hx : x < 8) (hy : y < 8) (hi : i < 8) (hsx : a_minus x = zb1 s) (hmx : a_mantissa x = lN Ma) (hMa : Ma < 2 ^ 64) (hMb0 : 0 < Mb) (hMb : Mb < 2 ^ 64) (hrow : zrow p (w y) = Mb * 2 ^ zb) (hza : za + 64 ≤ 720) (hzb : zb + 64 ≤ 720) (h : ∀ v, zYR p md (if zrl (Ma * 2 ^ za) (Mb * 2 ^ zb) then zrd0 340 p md (!s) (Mb * 2 ^ zb - Ma * 2 ^ za % (Mb * 2 ^ zb)) false f_flags else zrd0 340 p md s (Ma * 2 ^ za % (Mb * 2 ^ zb)) false f_flags).2 (zst w i (if zrl (Ma * 2 ^ za) (Mb * 2 ^ zb) then zrd0 340 p md (!s) (Mb * 2 ^ zb - Ma * 2 ^ za % (Mb * 2 ^ zb)) false f_flags else zrd0 340 p md s (Ma * 2 ^ za % (Mb * 2 ^ zb)) false f_flags).1) v → post v) : ∀ n W, W ≤ za + 64 → W < n → (zb ≤ W ∨ Ma * 2 ^ za < 2 ^ W) → wY_remainder_119 post (nI x) (nI y) (nI i) (zb1 s) (zI ((za : Int) - 340)) (zI ((zb : Int) - 340)) (lN Mb) n (zb1 (decide (Ma * 2 ^ za / 2 ^ W / Mb % 2 = 1))) (zI ((W : Int) - 1 - 340)) (nI p) (nI md) f_flags f_sticky 720 (lN (Ma * 2 ^ za / 2 ^ W % Mb)) a_sort a_exponent a_minus a_mantissa a_row := by
  have hzp := Nat.two_pow_pos zb
  intro n
  induction n with
  | zero => intro W _ h1; omega
  | succ n ih =>
    intro W hW hn hor
    refine zk_lt ((W : Int) - 1 - 340) ((zb : Int) - 340) (fun c => ?_) (fun c => ?_)
    · -- all digits are there
      have eW : Ma * 2 ^ za / 2 ^ W = Ma * 2 ^ za / 2 ^ zb := by
        rcases hor with q | q
        · rw [show W = zb from by omega]
        · rw [Nat.div_eq_of_lt q, Nat.div_eq_of_lt (Nat.lt_of_lt_of_le q (zpl_le (by omega)))]
      rw [eW]
      have hq : Ma * 2 ^ za / (Mb * 2 ^ zb) = Ma * 2 ^ za / 2 ^ zb / Mb := by rw [Nat.mul_comm Mb, ← Nat.div_div_eq_div_mul]
      have hr : Ma * 2 ^ za % (Mb * 2 ^ zb) = Ma * 2 ^ za % 2 ^ zb + 2 ^ zb * (Ma * 2 ^ za / 2 ^ zb % Mb) := by rw [Nat.mul_comm Mb, Nat.mod_mul]
      have hrest := Nat.mod_lt (Ma * 2 ^ za / 2 ^ zb) hMb0
      have hlow := Nat.mod_lt (Ma * 2 ^ za) hzp
      have hRB := Nat.mod_lt (Ma * 2 ^ za) (Nat.mul_pos hMb0 hzp)
      refine yr_write (r := 0) (by omega) (Nat.lt_trans hrest hMb) (by omega) (fun l hl hf => ?_)
      refine ⟨65, ye_180 (T := ((Ma * 2 ^ za % (Mb * 2 ^ zb) : Nat) : Int)) hx hmx hMa hza (by omega) (fun j hj => ?_) (fun l2 hl2 => ?_) 65 0 l (by omega) (by omega) (fun j hj => ?_)⟩
      · -- the bits below
        rw [hr, zbb_n, zbb_n]
        obtain ⟨d, rfl⟩ : ∃ d, zb = j + 1 + d := ⟨zb - j - 1, by omega⟩
        generalize Ma * 2 ^ za = X at *
        generalize X / 2 ^ (j + 1 + d) % Mb = Y at *
        have e5 : X % 2 ^ (j + 1 + d) = X - 2 ^ (j + 1 + d) * (X / 2 ^ (j + 1 + d)) := by
          have := Nat.div_add_mod X (2 ^ (j + 1 + d)); omega
        have e6 : ∀ Z : Nat, 2 ^ (j + 1 + d) * Z = 2 ^ j * (2 * (2 ^ d * Z)) := by
          intro Z; rw [zNp, zNp, Nat.pow_one, Nat.mul_assoc, Nat.mul_assoc]
        have e7 := Nat.div_add_mod X (2 ^ (j + 1 + d))
        have hjp := Nat.two_pow_pos j
        have e8 : (X % 2 ^ (j + 1 + d) + 2 ^ (j + 1 + d) * Y) / 2 ^ j = X % 2 ^ (j + 1 + d) / 2 ^ j + 2 * (2 ^ d * Y) := by
          rw [e6, Nat.add_mul_div_left _ _ hjp]
        have e9 : X / 2 ^ j = X % 2 ^ (j + 1 + d) / 2 ^ j + 2 * (2 ^ d * (X / 2 ^ (j + 1 + d))) := by
          rw [← Nat.add_mul_div_left _ _ hjp, ← e6]
          congr 1
          omega
        rw [e8, e9]
        omega
      · refine ye_230 (odd := decide (Ma * 2 ^ za / 2 ^ zb / Mb % 2 = 1)) hc hs hx hy hsx hl2 hi (by rw [hrow]; exact hRB) ?_
        rw [hrow]
        unfold zrl at h
        rw [hq] at h
        exact h
      · have hlj : l j = nI (zbb ((Ma * 2 ^ za / 2 ^ zb % Mb * 2 ^ zb : Nat) : Int) j) := by have := hl j hj; rw [Nat.mul_zero, Nat.zero_add] at this; exact this
        rw [hlj, zbb_mul]
        by_cases c1 : j < zb
        · rw [if_pos c1, if_pos c1]
          by_cases c2 : j < za + 0
          · rw [if_pos c2, hr, zbb_n]
            -- below both: nothing
            have e5 : (Ma * 2 ^ za % 2 ^ zb + 2 ^ zb * (Ma * 2 ^ za / 2 ^ zb % Mb)) / 2 ^ j % 2 = 0 := by
              obtain ⟨d, hd⟩ : ∃ d, za = j + 1 + d := ⟨za - j - 1, by omega⟩
              obtain ⟨e, he⟩ : ∃ e, zb = j + 1 + e := ⟨zb - j - 1, by omega⟩
              have hjp := Nat.two_pow_pos j
              generalize Ma * 2 ^ za / 2 ^ zb % Mb = Y at *
              have d1 : 2 ^ (j + 1) ∣ Ma * 2 ^ za % 2 ^ zb := by
                refine (Nat.dvd_mod_iff ?_).mpr ?_
                · rw [he]; exact Nat.pow_dvd_pow 2 (by omega)
                · rw [hd]; exact Nat.dvd_trans (Nat.pow_dvd_pow 2 (by omega)) (Nat.dvd_mul_left _ _)
              have d2 : 2 ^ (j + 1) ∣ 2 ^ zb * Y := by
                rw [he]; exact Nat.dvd_trans (Nat.pow_dvd_pow 2 (by omega)) (Nat.dvd_mul_right _ _)
              obtain ⟨c, hcc⟩ := Nat.dvd_add d1 d2
              rw [hcc, Nat.pow_succ, Nat.mul_assoc, Nat.mul_div_cancel_left _ hjp, Nat.mul_mod_right]
            rw [e5]
          · rw [if_neg c2]; rfl
        · rw [if_neg c1, if_neg c1, hr, zbb_n]
          obtain ⟨d, rfl⟩ : ∃ d, j = zb + d := ⟨j - zb, by omega⟩
          rw [zNp, ← Nat.div_div_eq_div_mul, Nat.add_mul_div_left _ _ hzp, Nat.div_eq_of_lt hlow, Nat.zero_add, Nat.add_sub_cancel_left]
    · obtain ⟨W', rfl⟩ : ∃ W', W = W' + 1 := ⟨W - 1, by omega⟩
      have hX : Ma * 2 ^ za / 2 ^ W' = 2 * (Ma * 2 ^ za / 2 ^ (W' + 1)) + Ma * 2 ^ za / 2 ^ W' % 2 := by
        rw [Nat.pow_succ 2 W', ← Nat.div_div_eq_div_mul]
        omega
      have hr := Nat.mod_lt (Ma * 2 ^ za / 2 ^ (W' + 1)) hMb0
      have hb2 := Nat.mod_lt (Ma * 2 ^ za / 2 ^ W') (show 0 < 2 by decide)
      obtain ⟨d1, d2⟩ := z_dig (X := Ma * 2 ^ za / 2 ^ (W' + 1)) hMb0 hb2
      rw [← hX] at d1 d2
      have e10 : zI (((W' + 1 : Nat) : Int) - 1 - 340) = zI ((W' : Int) - 340) := congrArg zI (by omega)
      rw [e10]
      have g155 : ∀ b, b = Ma * 2 ^ za / 2 ^ W' % 2 → wY_remainder_155 post (wY_remainder_119 post (nI x) (nI y) (nI i) (zb1 s) (zI ((za : Int) - 340)) (zI ((zb : Int) - 340)) (lN Mb) n) (nI x) (nI y) (nI i) (zb1 s) (zI ((za : Int) - 340)) (zI ((zb : Int) - 340)) (lN Mb) (zI ((W' : Int) - 340)) (nI b) (lN Mb) (nI p) (nI md) f_flags f_sticky 720 (lN (Ma * 2 ^ za / 2 ^ (W' + 1) % Mb)) a_sort a_exponent a_minus a_mantissa a_row := by
        intro b hb
        subst hb
        unfold wY_remainder_155
        refine yd_digit hMb hr hb2 ?_
        rw [← d2]
        intro y1 ey
        have ey2 : y1 = zI ((W' : Int) - 1 - 340) := by rw [ey, show (-1 : Int32) = zI (-1) from rfl, zI_add]; exact congrArg zI (by omega)
        subst ey2
        have e11 : decide (Mb ≤ 2 * (Ma * 2 ^ za / 2 ^ (W' + 1) % Mb) + Ma * 2 ^ za / 2 ^ W' % 2) = decide (Ma * 2 ^ za / 2 ^ W' / Mb % 2 = 1) := by
          rw [d1]
          by_cases q : Mb ≤ 2 * (Ma * 2 ^ za / 2 ^ (W' + 1) % Mb) + Ma * 2 ^ za / 2 ^ W' % 2
          · rw [if_pos q, decide_eq_true q, decide_eq_true (by omega)]
          · rw [if_neg q, decide_eq_false q, decide_eq_false (by omega)]
        rw [e11]
        exact ih W' (by omega) (by omega) (Or.inl (by omega))
      have eb : Ma * 2 ^ za / 2 ^ W' % 2 = if W' < za then 0 else Ma / 2 ^ (W' - za) % 2 := by rw [← zbb_n, zbb_mul]
      refine zk_le ((za : Int) - 340) ((W' : Int) - 340) (fun c2 => ⟨vp_in_nI hx (by decide), ?_⟩) (fun c2 => ?_)
      · have e12 : zI ((W' : Int) - 340) - zI ((za : Int) - 340) = nI (W' - za) := by
          rw [zI_sub, ← zI_n]
          exact congrArg zI (by omega)
        rw [e12, nI_clamp (by omega), hmx, zy_bitI hMa (by omega)]
        exact g155 _ (by rw [eb, if_neg (by omega)])
      · exact g155 0 (by rw [eb, if_pos (by omega)])
theorem ye_rem {post : SY → Prop} {p md i x y : Nat} {w : Nat → ZV} (hc : zC p md w) (hs : zYS w a_sort a_minus a_exponent a_mantissa) (hx : x < 8) (hy : y < 8) (hi : i < 8) (hnx : (w x).1 ≠ 4) (hny : (w y).1 ≠ 4) (h : ∀ v, zYR p md (zrm p md (w x) (w y) f_flags).2 (zst w i (zrm p md (w x) (w y) f_flags).1) v → post v) : wpY_remainder post (nI p, nI md, f_flags, f_sticky, 720, f_rest, a_sort, a_exponent, a_minus, a_mantissa, a_row) (nI x) (nI y) (nI i) := by
  have ox := hc.2.2.2 x hx
  have oy := hc.2.2.2 y hy
  have k1 := zOK_le ox
  have k2 := zOK_le oy
  have vx := vp_in_nI hx (show 8 < 2 ^ 31 by decide)
  have vy := vp_in_nI hy (show 8 < 2 ^ 31 by decide)
  unfold zrm at h
  have g19 : ((w x).1 = 3 ∨ (w y).1 = 0) → wY_remainder_19 post (nI i) (nI p) (nI md) f_flags f_sticky 720 f_rest a_sort a_exponent a_minus a_mantissa a_row := by
    intro q
    rw [if_pos q] at h
    exact yo_invalid hs hi (fun S Mi E Ma hS => h _ ⟨rfl, rfl, rfl, rfl, hS⟩)
  have g44 : ¬ ((w x).1 = 3 ∨ (w y).1 = 0) → ((w y).1 = 3 ∨ (w x).1 = 0) → wY_remainder_44 post (nI x) (nI i) (nI p) (nI md) f_flags f_sticky 720 f_rest a_sort a_exponent a_minus a_mantissa a_row := by
    intro q q2
    rw [if_neg q, if_pos q2] at h
    refine ⟨vx, vx, vx, vx, ?_⟩
    rw [nI_clamp (by omega), (hs x hx).2.1, (hs x hx).1]
    refine yo_give (k := (w x).1) (ng := (w x).2.1) (r := w x) hs hi k1 rfl ?_ (fun z => ?_) (fun S Mi E Ma hS => h _ ⟨rfl, rfl, rfl, rfl, hS⟩)
    · simp [hnx]
    · exact (hs x hx).2.2 z
  refine ⟨vx, ?_⟩
  rw [nI_clamp (by omega), nI_clamp (by omega), (hs x hx).2.1, (hs y hy).2.1, (hs x hx).1]
  refine pk_eq (w x).1 3 (fun e3 => g19 (Or.inl e3)) (fun e3 => ⟨vy, pk_eq (w y).1 0 (fun e0 => g19 (Or.inr e0)) (fun e0 => ⟨vx, pk_eq (w x).1 0 (fun e5 => g44 (by omega) (Or.inr e5)) (fun e5 => ⟨vy, pk_eq (w y).1 3 (fun e4 => g44 (by omega) (Or.inl e4)) (fun e4 => ⟨vx, fun m em => ?_⟩)⟩)⟩)⟩)
  subst em
  have kx2 : (w x).1 = 2 := by have := ox.1; omega
  have ky2 : (w y).1 = 2 := by have := oy.1; omega
  rw [if_neg (by omega), if_neg (by omega), zrow_f kx2, zrow_f ky2] at h
  obtain ⟨q1, q2⟩ := (hs x hx).2.2 kx2
  obtain ⟨r1, r2⟩ := (hs y hy).2.2 ky2
  obtain ⟨g1, g2, g3, g4, g5⟩ := ox.2.1 kx2
  obtain ⟨j1, j2, j3, j4, j5⟩ := oy.2.1 ky2
  have m1 := zOK_64 ox hc.2.1 kx2
  have m2 := zOK_64 oy hc.2.1 ky2
  have wa := zwt_i hc.2.1 ox kx2
  have wb := zwt_i hc.2.1 oy ky2
  have ew : ∀ v : ZV, (zwt p v : Int) = 340 + v.2.2.1 - p + 1 → zI v.2.2.1 - nI p + 1 = zI ((zwt p v : Int) - 340) := by
    intro v hv
    rw [← zI_n p, zI_sub, show (1 : Int32) = zI 1 from rfl, zI_add]
    exact congrArg zI (by omega)
  refine ⟨vx, ⟨vy, ⟨vy, fun x8 e8 x10 e10 => ?_⟩⟩⟩
  rw [r2] at e8
  rw [nI_clamp (by omega), q1, ew _ wa] at e10
  rw [nI_clamp (by omega), nI_clamp (by omega), q1, r1, ew _ wa, ew _ wb]
  have e11 : x10 = zI (((zwt p (w x) + 64 : Nat) : Int) - 1 - 340) := by
    rw [e10, show (63 : Int32) = zI 63 from rfl, zI_add]
    exact congrArg zI (by omega)
  subst e8 e11
  have hA : (w x).2.2.2 * 2 ^ zwt p (w x) < 2 ^ (zwt p (w x) + 64) := by
    rw [Nat.add_comm, zNp]
    exact Nat.mul_lt_mul_of_pos_right m1 (Nat.two_pow_pos _)
  have g := ye_119 (f_sticky := f_sticky) (a_row := a_row) hc hs hx hy hi (hs x hx).1 q2 m1 (by omega) m2 (zrow_f ky2) (by omega) (by omega) h (zwt p (w x) + 65) (zwt p (w x) + 64) (by omega) (by omega) (Or.inr hA)
  rw [Nat.div_eq_of_lt hA, Nat.zero_mod, Nat.zero_div] at g
  exact ⟨_, g⟩
end
end
section
/-! calculate -/
def zcc (p : Nat) (a b : ZV) : Int := if zcm p a b = 0 then (if a.2.1 = b.2.1 then 0 else if a.2.1 then -1 else 1) else zcm p a b
def zpk (p op : Nat) (a b : ZV) : Bool := decide (zcc p a b ≤ 0) == decide (op = 5)
def zcal (p md op : Nat) (a b : ZV) (f : Int32) : ZV × Int32 :=
  if a.1 = 4 ∨ b.1 = 4 then ((4, false, 0, 0), f)
  else if op = 0 then zadd p md a b false f else if op = 1 then zadd p md a b true f else if op = 2 then zml p md a b f
  else if op = 3 then zdi p md a b f else if op = 4 then zrm p md a b f else (if zpk p op a b then a else b, f)
theorem zcal_ok {p md op : Nat} {a b : ZV} {f : Int32} (hp2 : 2 ≤ p) (hp : p ≤ 64) (ha : zOK p a) (hb : zOK p b) : zOK p (zcal p md op a b f).1 := by
  unfold zcal
  split
  · exact zOK_4 p
  · split
    · exact zadd_ok hp2 hp
    · split
      · exact zadd_ok hp2 hp
      · split
        · exact zml_ok hp2 hp
        · split
          · exact zdi_ok hp2 hp
          · split
            · exact zrm_ok hp2 hp ha
            · show zOK p (if zpk p op a b then a else b)
              split
              · exact ha
              · exact hb
theorem zcm_r (p : Nat) (a b : ZV) : -1 ≤ zcm p a b ∧ zcm p a b ≤ 1 := by
  have h1 := zsn_r a
  have h2 := zcn_r (zrow p a) (zrow p b)
  unfold zcm
  split
  · split
    · split
      · omega
      · split <;> omega
    · have c : zsn a = 0 ∨ zsn a = 1 ∨ zsn a = -1 := by omega
      rcases c with c | c | c <;> rw [c] <;> omega
  · split <;> omega
section
variable {f_p f_mode f_flags f_below f_sticky : Int32} {a_kinds a_minus a_exponents a_limb a_row a_one a_two a_roots a_high a_part a_quotient a_square a_guess : Nat → Int32}
theorem xk_198 {post : Int32 → SX → Prop} {p md op i x y : Nat} {w : Nat → ZV} {c : Int} (hc : zC p md w) (hs : zXS p w a_kinds a_minus a_exponents a_limb) (hro : zRT a_roots) (hx : x < 8) (hy : y < 8) (hi : i < 8) (hop : op < 7) (hcr : -1 ≤ c ∧ c ≤ 1) (h : ∀ u, zXR p md f_flags (zst w i (if (decide (c ≤ 0) == decide (op = 5)) then w x else w y)) u → post 1 u) : wX_calculate_198 post (nI op) (nI x) (nI y) (nI i) (zI c) (nI p) (nI md) f_flags f_below f_sticky a_kinds a_minus a_exponents a_limb a_row a_one a_two a_roots a_high a_part a_quotient a_square a_guess := by
  have ox := hc.2.2.2 x hx
  have oy := hc.2.2.2 y hy
  have g209 : ∀ b : Bool, b = decide (c ≤ 0) → wX_calculate_209 post (nI op) (nI x) (nI y) (nI i) (zb1 b) (nI p) (nI md) f_flags f_below f_sticky a_kinds a_minus a_exponents a_limb a_row a_one a_two a_roots a_high a_part a_quotient a_square a_guess := by
    intro b hb
    rw [← hb] at h
    have g219 : ∀ d : Bool, d = decide (op = 5) → wX_calculate_219 post (nI x) (nI y) (nI i) (zb1 d) (zb1 b) (nI p) (nI md) f_flags f_below f_sticky a_kinds a_minus a_exponents a_limb a_row a_one a_two a_roots a_high a_part a_quotient a_square a_guess := by
      intro d hd
      rw [← hd] at h
      refine zk_bb (fun e => ?_) (fun e => ?_)
      · rw [if_pos (by rw [e]; simp)] at h
        exact xs_copy hs ox hi hx (fun K M E L hK => h _ ⟨rfl, rfl, rfl, hK, hro⟩)
      · rw [if_neg (by simp [e])] at h
        exact xs_copy hs oy hi hy (fun K M E L hK => h _ ⟨rfl, rfl, rfl, hK, hro⟩)
    exact pk_eq op 5 (fun e => g219 true (by rw [decide_eq_true e])) (fun e => g219 false (by rw [decide_eq_false e]))
  exact zk_lt 0 c (fun e => g209 false (by rw [decide_eq_false (by omega)])) (fun e => g209 true (by rw [decide_eq_true (by omega)]))
theorem xk_calc {post : Int32 → SX → Prop} {p md op i x y : Nat} {w : Nat → ZV} (hc : zC p md w) (hs : zXS p w a_kinds a_minus a_exponents a_limb) (hro : zRT a_roots) (hx : x < 8) (hy : y < 8) (hi : i < 8) (hop : op < 7) (h : ∀ u, zXR p md (zcal p md op (w x) (w y) f_flags).2 (zst w i (zcal p md op (w x) (w y) f_flags).1) u → post 1 u) : wpX_calculate post (nI p, nI md, f_flags, f_below, f_sticky, a_kinds, a_minus, a_exponents, a_limb, a_row, a_one, a_two, a_roots, a_high, a_part, a_quotient, a_square, a_guess) (nI op) (nI x) (nI y) (nI i) := by
  have ox := hc.2.2.2 x hx
  have oy := hc.2.2.2 y hy
  have vx := vp_in_nI hx (show 8 < 2 ^ 31 by decide)
  have vy := vp_in_nI hy (show 8 < 2 ^ 31 by decide)
  unfold zcal at h
  have g50 : ((w x).1 = 4 ∨ (w y).1 = 4) → wX_calculate_50 post (nI i) (nI p) (nI md) f_flags f_below f_sticky a_kinds a_minus a_exponents a_limb a_row a_one a_two a_roots a_high a_part a_quotient a_square a_guess := by
    intro q
    rw [if_pos q] at h
    exact xs_set (k := 4) (ng := false) hs hi (Or.inr (Or.inr rfl)) (fun K M E L hK => h _ ⟨rfl, rfl, rfl, hK, hro⟩)
  have hneg := nI_pos (n := op) (by omega)
  unfold wpX_calculate
  dsimp only
  refine br_f hneg (br_f (nI_nlt (a := 6) (by omega) (by omega)) (zs_X hx (br_f (by decide) (zs_X hy (br_f (by decide) (zs_X hi (br_f (by decide) ?_)))))))
  refine xs_isNot hs ox hx (zk_b (fun n1 => ?_) (fun n1 => g50 (Or.inl (of_decide_eq_true n1))))
  have n1 := of_decide_eq_false n1
  refine xs_isNot hs oy hy (zk_b (fun n2 => ?_) (fun n2 => g50 (Or.inr (of_decide_eq_true n2))))
  have n2 := of_decide_eq_false n2
  rw [if_neg (by omega)] at h
  refine br_f hneg (pk_lt 4 op (fun c => ?_) (fun c => ?_))
  · rw [if_neg (by omega), if_neg (by omega), if_neg (by omega), if_neg (by omega), if_neg (by omega)] at h
    have hcr := zcm_r p (w x) (w y)
    refine xc_compare hc hs hx hy ?_
    rw [if_neg (by omega), nI_clamp (by omega), nI_clamp (by omega), (hs x hx).1, (hs y hy).1]
    have fin : ∀ c : Int, c = zcc p (w x) (w y) → -1 ≤ c ∧ c ≤ 1 → wX_calculate_198 post (nI op) (nI x) (nI y) (nI i) (zI c) (nI p) (nI md) f_flags f_below f_sticky a_kinds a_minus a_exponents a_limb a_row a_one a_two a_roots a_high a_part a_quotient a_square a_guess := by
      intro c hcc hcr
      unfold zpk at h
      rw [← hcc] at h
      exact xk_198 hc hs hro hx hy hi hop hcr h
    refine zk_eq (zcm p (w x) (w y)) 0 (fun e0 => ⟨vx, vy, zk_bb (fun e1 => ?_) (fun e1 => ⟨vx, zk_b (fun e2 => ?_) (fun e2 => ?_)⟩)⟩) (fun e0 => ?_)
    · exact fin 0 (by unfold zcc; rw [if_pos e0, if_pos e1]) (by omega)
    · exact fin 1 (by unfold zcc; rw [if_pos e0, if_neg e1, e2]; rfl) (by omega)
    · have := fin (-1) (by unfold zcc; rw [if_pos e0, if_neg e1, e2]; rfl) (by omega)
      rw [← z_em1] at this
      exact this
    · exact fin _ (by unfold zcc; rw [if_neg e0]) hcr
  · refine pk_eq op 0 (fun e => ?_) (fun e0 => pk_eq op 1 (fun e => ?_) (fun e1 => pk_eq op 2 (fun e => ?_) (fun e2 => pk_eq op 3 (fun e => ?_) (fun e3 => pk_eq op 4 (fun e => ?_) (fun e4 => trivial)))))
    · subst e
      rw [if_pos rfl] at h
      exact br_f (by decide) (xa_add (post := fun u => post 1 u) (turn := false) hc hs hro hx hy hi n1 n2 h)
    · subst e
      rw [if_neg (by decide), if_pos rfl] at h
      exact br_t (by decide) (xa_add (post := fun u => post 1 u) (turn := true) hc hs hro hx hy hi n1 n2 h)
    · subst e
      rw [if_neg (by decide), if_neg (by decide), if_pos rfl] at h
      exact xm_mul (post := fun u => post 1 u) hc hs hro hx hy hi n1 n2 h
    · subst e
      rw [if_neg (by decide), if_neg (by decide), if_neg (by decide), if_pos rfl] at h
      exact xq_quo (post := fun u => post 1 u) hc hs hro hx hy hi n1 n2 h
    · subst e
      rw [if_neg (by decide), if_neg (by decide), if_neg (by decide), if_neg (by decide), if_pos rfl] at h
      exact xe_rem (post := fun u => post 1 u) hc hs hro hx hy hi n1 n2 h
end
section
variable {f_precision f_mode f_flags f_sticky f_wide : Int32} {f_rest : Int64} {a_sort a_exponent a_minus a_row : Nat → Int32} {a_mantissa : Nat → Int64}
theorem yk_174 {post : Int32 → SY → Prop} {p md op i x y : Nat} {w : Nat → ZV} {c : Int} (hc : zC p md w) (hs : zYS w a_sort a_minus a_exponent a_mantissa) (hx : x < 8) (hy : y < 8) (hi : i < 8) (hnx : (w x).1 ≠ 4) (hny : (w y).1 ≠ 4) (hop : op < 7) (hcr : -1 ≤ c ∧ c ≤ 1) (h : ∀ v, zYR p md f_flags (zst w i (if (decide (c ≤ 0) == decide (op = 5)) then w x else w y)) v → post 1 v) : wY_calculate_174 post (nI op) (nI x) (nI y) (nI i) (zI c) (nI p) (nI md) f_flags f_sticky 720 f_rest a_sort a_exponent a_minus a_mantissa a_row := by
  have g202 : ∀ z, z < 8 → (w z).1 ≠ 4 → (∀ v, zYR p md f_flags (zst w i (w z)) v → post 1 v) → wY_calculate_202 post (nI i) (nI z) (nI p) (nI md) f_flags f_sticky 720 f_rest a_sort a_exponent a_minus a_mantissa a_row := by
    intro z hz hnz hh
    have oz := hc.2.2.2 z hz
    have vz := vp_in_nI hz (show 8 < 2 ^ 31 by decide)
    refine ⟨vz, vz, vz, vz, ?_⟩
    rw [nI_clamp (by omega), (hs z hz).2.1, (hs z hz).1]
    refine yo_give (k := (w z).1) (ng := (w z).2.1) (r := w z) hs hi (zOK_le oz) rfl ?_ (fun q => ?_) (fun S Mi E Ma hS => hh _ ⟨rfl, rfl, rfl, rfl, hS⟩)
    · simp [hnz]
    · exact (hs z hz).2.2 q
  have g184 : ∀ b : Bool, b = decide (c ≤ 0) → wY_calculate_184 post (nI op) (nI x) (nI y) (nI i) (zb1 b) (nI p) (nI md) f_flags f_sticky 720 f_rest a_sort a_exponent a_minus a_mantissa a_row := by
    intro b hb
    rw [← hb] at h
    have g194 : ∀ d : Bool, d = decide (op = 5) → wY_calculate_194 post (nI x) (nI y) (nI i) (zb1 d) (zb1 b) (nI p) (nI md) f_flags f_sticky 720 f_rest a_sort a_exponent a_minus a_mantissa a_row := by
      intro d hd
      rw [← hd] at h
      refine zk_bb (fun e => ?_) (fun e => ?_)
      · rw [if_pos (by rw [e]; simp)] at h
        exact g202 x hx hnx h
      · rw [if_neg (by simp [e])] at h
        exact g202 y hy hny h
    exact pk_eq op 5 (fun e => g194 true (by rw [decide_eq_true e])) (fun e => g194 false (by rw [decide_eq_false e]))
  exact zk_lt 0 c (fun e => g184 false (by rw [decide_eq_false (by omega)])) (fun e => g184 true (by rw [decide_eq_true (by omega)]))
theorem yk_calc {post : Int32 → SY → Prop} {p md op i x y : Nat} {w : Nat → ZV} (hc : zC p md w) (hs : zYS w a_sort a_minus a_exponent a_mantissa) (hx : x < 8) (hy : y < 8) (hi : i < 8) (hop : op < 7) (h : ∀ v, zYR p md (zcal p md op (w x) (w y) f_flags).2 (zst w i (zcal p md op (w x) (w y) f_flags).1) v → post 1 v) : wpY_calculate post (nI p, nI md, f_flags, f_sticky, 720, f_rest, a_sort, a_exponent, a_minus, a_mantissa, a_row) (nI op) (nI x) (nI y) (nI i) := by
  have ox := hc.2.2.2 x hx
  have oy := hc.2.2.2 y hy
  have vx := vp_in_nI hx (show 8 < 2 ^ 31 by decide)
  have vy := vp_in_nI hy (show 8 < 2 ^ 31 by decide)
  unfold zcal at h
  unfold wpY_calculate
  dsimp only
  refine br_f (nI_pos (n := op) (by omega)) (br_f (nI_nlt (a := 6) (by omega) (by omega)) (zs_Y hx (br_f (by decide) (zs_Y hy (br_f (by decide) (zs_Y hi (br_f (by decide) ?_)))))))
  refine yc_hasNot hc hs hx hy (zk_b (fun n0 => ?_) (fun n0 => ?_))
  · have n0 := of_decide_eq_false n0
    have n1 : (w x).1 ≠ 4 := fun z => n0 (Or.inl z)
    have n2 : (w y).1 ≠ 4 := fun z => n0 (Or.inr z)
    rw [if_neg n0] at h
    refine pk_le 2 op (fun c => pk_eq op 2 (fun e => ?_) (fun e2 => pk_eq op 3 (fun e => ?_) (fun e3 => pk_eq op 4 (fun e => ?_) (fun e4 => ?_)))) (fun c => pk_eq op 1 (fun e => ?_) (fun e1 => ?_))
    · subst e
      rw [if_neg (by decide), if_neg (by decide), if_pos rfl] at h
      exact ym_times (post := fun v => post 1 v) hc hs hx hy hi h
    · subst e
      rw [if_neg (by decide), if_neg (by decide), if_neg (by decide), if_pos rfl] at h
      exact yd_divide (post := fun v => post 1 v) hc hs hx hy hi n1 n2 h
    · subst e
      rw [if_neg (by decide), if_neg (by decide), if_neg (by decide), if_neg (by decide), if_pos rfl] at h
      exact ye_rem (post := fun v => post 1 v) hc hs hx hy hi n1 n2 h
    · rw [if_neg (by omega), if_neg (by omega), if_neg (by omega), if_neg (by omega), if_neg (by omega)] at h
      have hcr := zcm_r p (w x) (w y)
      refine yc_ordered hc hs hx hy (fun v hv => ?_)
      obtain ⟨g_precision, g_mode, g_flags, g_sticky, g_wide, g_rest, b_sort, b_exponent, b_minus, b_mantissa, b_row⟩ := v
      obtain ⟨rfl, rfl, rfl, rfl, ht⟩ := hv
      dsimp only
      rw [nI_clamp (by omega), nI_clamp (by omega), (ht x hx).1, (ht y hy).1]
      have fin : ∀ c : Int, c = zcc p (w x) (w y) → -1 ≤ c ∧ c ≤ 1 → wY_calculate_174 post (nI op) (nI x) (nI y) (nI i) (zI c) (nI p) (nI md) g_flags g_sticky 720 g_rest b_sort b_exponent b_minus b_mantissa b_row := by
        intro c hcc hcr
        unfold zpk at h
        rw [← hcc] at h
        exact yk_174 hc ht hx hy hi n1 n2 hop hcr h
      refine zk_eq (zcm p (w x) (w y)) 0 (fun e0 => ⟨vx, vy, zk_bb (fun e1 => ?_) (fun e1 => ⟨vx, zk_b (fun e2 => ?_) (fun e2 => ?_)⟩)⟩) (fun e0 => ?_)
      · exact fin _ (by unfold zcc; rw [if_pos e0, if_pos e1, e0]) hcr
      · exact fin 1 (by unfold zcc; rw [if_pos e0, if_neg e1, e2]; rfl) (by omega)
      · have := fin (-1) (by unfold zcc; rw [if_pos e0, if_neg e1, e2]; rfl) (by omega)
        rw [← z_em1] at this
        exact this
      · exact fin _ (by unfold zcc; rw [if_neg e0]) hcr
    · subst e
      rw [if_neg (by decide), if_pos rfl] at h
      exact ya_plus (post := fun v => post 1 v) (turn := true) hc hs hx hy hi h
    · have e0 : op = 0 := by omega
      subst e0
      rw [if_pos rfl] at h
      exact ya_plus (post := fun v => post 1 v) (turn := false) hc hs hx hy hi h
  · have n0 := of_decide_eq_true n0
    rw [if_pos n0] at h
    exact yo_give (k := 4) (ng := false) (r := (4, false, 0, 0)) hs hi (by omega) rfl rfl (fun z => absurd z (by decide)) (fun S Mi E Ma hS => h _ ⟨rfl, rfl, rfl, rfl, hS⟩)
end
theorem i_vc_calculate {k : Nat} {u : SX} {v : SY} (I : i_Rel k u v) (hk : k + 5 ≤ 2561) (v1 : Int32) (v2 : Int32) (v3 : Int32) (v4 : Int32) : wpX_calculate (fun r u' => wpY_calculate (fun r' v' => r' = r ∧ i_Rel (k + 5) u' v') v v1 v2 v3 v4) u v1 v2 v3 v4 := by
  obtain ⟨p, md, f, w, hc, hX, hY⟩ := I
  obtain ⟨f_p, f_mode, f_flags, f_below, f_sticky, a_kinds, a_minus, a_exponents, a_limb, a_row, a_one, a_two, a_roots, a_high, a_part, a_quotient, a_square, a_guess⟩ := u
  obtain ⟨rfl, rfl, rfl, hs, hro⟩ := hX
  obtain ⟨g_precision, g_mode, g_flags, g_sticky, g_wide, g_rest, b_sort, b_exponent, b_minus, b_mantissa, b_row⟩ := v
  obtain ⟨rfl, rfl, rfl, rfl, ht⟩ := hY
  have same : i_Rel (k + 5) (nI p, nI md, g_flags, f_below, f_sticky, a_kinds, a_minus, a_exponents, a_limb, a_row, a_one, a_two, a_roots, a_high, a_part, a_quotient, a_square, a_guess) (nI p, nI md, g_flags, g_sticky, 720, g_rest, b_sort, b_exponent, b_minus, b_mantissa, b_row) := ⟨p, md, _, w, hc, ⟨rfl, rfl, rfl, hs, hro⟩, ⟨rfl, rfl, rfl, rfl, ht⟩⟩
  rcases pk_ix v1 (show 7 < 2 ^ 31 by decide) with h | h | ⟨op, hop, rfl⟩
  · unfold wpX_calculate wpY_calculate
    exact br_t h (br_t h ⟨rfl, same⟩)
  · have h2 : (7 : Int32) ≤ v1 := h
    have a : (7 : Int32).toInt = 7 := by decide
    have b : (0 : Int32).toInt = 0 := by decide
    have c : (6 : Int32).toInt = 6 := by decide
    rw [Int32.le_iff_toInt_le] at h2
    have h0 : ¬ v1 < 0 := by
      intro z
      rw [Int32.lt_iff_toInt_lt] at z
      omega
    have h6 : 6 < v1 := by
      rw [Int32.lt_iff_toInt_lt]
      omega
    unfold wpX_calculate wpY_calculate
    exact br_f h0 (br_t h6 (br_f h0 (br_t h6 ⟨rfl, same⟩)))
  · have h0 := nI_pos (n := op) (by omega)
    have h6 := nI_nlt (a := 6) (b := op) (by omega) (by omega)
    rcases zs_ix v2 with hb | ⟨x, hx, rfl⟩
    · unfold wpX_calculate wpY_calculate
      exact br_f h0 (br_f h6 (hb.1 _ (br_t rfl (br_f h0 (br_f h6 (hb.2 _ (br_t rfl ⟨rfl, same⟩)))))))
    · rcases zs_ix v3 with hb | ⟨y, hy, rfl⟩
      · unfold wpX_calculate wpY_calculate
        exact br_f h0 (br_f h6 (zs_X hx (br_f (by decide) (hb.1 _ (br_t rfl (br_f h0 (br_f h6 (zs_Y hx (br_f (by decide) (hb.2 _ (br_t rfl ⟨rfl, same⟩)))))))))))
      · rcases zs_ix v4 with hb | ⟨i, hi, rfl⟩
        · unfold wpX_calculate wpY_calculate
          exact br_f h0 (br_f h6 (zs_X hx (br_f (by decide) (zs_X hy (br_f (by decide) (hb.1 _ (br_t rfl (br_f h0 (br_f h6 (zs_Y hx (br_f (by decide) (zs_Y hy (br_f (by decide) (hb.2 _ (br_t rfl ⟨rfl, same⟩)))))))))))))))
        · exact xk_calc hc hs hro hx hy hi hop (fun u hu => yk_calc hc ht hx hy hi hop (fun v hv => ⟨rfl, p, md, _, _, zC_s hc (zcal_ok hc.1 hc.2.1 (hc.2.2.2 x hx) (hc.2.2.2 y hy)), hu, hv⟩))
end
section
/-! roots, purely; dividing by the guess -/
def zsq : Nat → Nat
  | 0 => 0
  | n + 1 => if (zsq n + 1) * (zsq n + 1) ≤ n + 1 then zsq n + 1 else zsq n
theorem zsq_s (n : Nat) : zsq n * zsq n ≤ n ∧ n < (zsq n + 1) * (zsq n + 1) := by
  induction n with
  | zero => exact ⟨Nat.le_refl _, by decide⟩
  | succ n ih =>
    unfold zsq
    by_cases c : (zsq n + 1) * (zsq n + 1) ≤ n + 1
    · rw [if_pos c]
      refine ⟨c, ?_⟩
      have e : (zsq n + 1 + 1) * (zsq n + 1 + 1) = (zsq n + 1) * (zsq n + 1) + 2 * (zsq n + 1) + 1 := by
        rw [Nat.mul_add (zsq n + 1 + 1), Nat.add_mul (zsq n + 1) 1]; omega
      omega
    · rw [if_neg c]
      omega
theorem zsq_u {n g : Nat} (h1 : g * g ≤ n) (h2 : n < (g + 1) * (g + 1)) : g = zsq n := by
  obtain ⟨a, b⟩ := zsq_s n
  generalize zsq n = q at *
  rcases Nat.lt_trichotomy g q with c | c | c
  · have := Nat.mul_le_mul (show g + 1 ≤ q from c) (show g + 1 ≤ q from c)
    omega
  · exact c
  · have := Nat.mul_le_mul (show q + 1 ≤ g from c) (show q + 1 ≤ g from c)
    omega
/-- three more bits of a root -/
theorem zsq_8 (n : Nat) : zsq (n * 64) / 8 = zsq n ∧ (decide (zsq (n * 64) * zsq (n * 64) ≠ n * 64) || decide (zsq (n * 64) % 8 ≠ 0)) = decide (zsq n * zsq n ≠ n) := by
  obtain ⟨a, b⟩ := zsq_s (n * 64)
  generalize hG : zsq (n * 64) = G at *
  have hd := Nat.div_add_mod G 8
  have hm := Nat.mod_lt G (show 0 < 8 by decide)
  have e1 : G / 8 = zsq n := by
    refine zsq_u ?_ ?_
    · have s1 : (8 * (G / 8)) * (8 * (G / 8)) ≤ G * G := Nat.mul_le_mul (by omega) (by omega)
      have s2 : (8 * (G / 8)) * (8 * (G / 8)) = 64 * ((G / 8) * (G / 8)) := by
        rw [Nat.mul_mul_mul_comm]
      omega
    · have s1 : (G + 1) * (G + 1) ≤ (8 * (G / 8 + 1)) * (8 * (G / 8 + 1)) := Nat.mul_le_mul (by omega) (by omega)
      have s2 : (8 * (G / 8 + 1)) * (8 * (G / 8 + 1)) = 64 * ((G / 8 + 1) * (G / 8 + 1)) := by
        rw [Nat.mul_mul_mul_comm]
      omega
  refine ⟨e1, ?_⟩
  rw [← e1]
  by_cases c : (G / 8) * (G / 8) = n
  · have s2 : (8 * (G / 8)) * (8 * (G / 8)) = 64 * ((G / 8) * (G / 8)) := by rw [Nat.mul_mul_mul_comm]
    have e2 : 8 * (G / 8) = zsq (n * 64) := by
      refine zsq_u (by omega) ?_
      have : (8 * (G / 8)) * (8 * (G / 8)) < (8 * (G / 8) + 1) * (8 * (G / 8) + 1) := Nat.mul_lt_mul'' (by omega) (by omega)
      omega
    rw [hG] at e2
    have e3 : G % 8 = 0 := by omega
    have e4 : G * G = n * 64 := by rw [← e2, s2, c]; omega
    rw [e3, e4, c]
    simp
  · by_cases c2 : G % 8 = 0
    · have e2 : G = 8 * (G / 8) := by omega
      have e4 : G * G ≠ n * 64 := by
        intro z
        apply c
        have s2 : (8 * (G / 8)) * (8 * (G / 8)) = 64 * ((G / 8) * (G / 8)) := by rw [Nat.mul_mul_mul_comm]
        rw [← e2] at s2
        omega
      rw [decide_eq_true e4, decide_eq_true c, Bool.true_or]
    · rw [decide_eq_true c2, decide_eq_true c, Bool.or_true]
/-- a step of the approximation -/
theorem z_newton {N g : Nat} (hg : 0 < g) (h : N < (g + 1) * (g + 1)) : N < ((g + N / g) / 2 + 1) * ((g + N / g) / 2 + 1) ∧ N / g ≤ g + 2 ∧ (g ≤ (g + N / g) / 2 → g * g ≤ N) := by
  have hd := Nat.div_add_mod N g
  have hm := Nat.mod_lt N hg
  refine ⟨?_, ?_, ?_⟩
  · generalize N / g = t at *
    -- 4 N < (g + t + 1)^2 <= 4 (m + 1)^2
    have e1 : N < g * (t + 1) := by rw [Nat.mul_add, Nat.mul_one]; omega
    have e2 : 4 * (g * (t + 1)) ≤ (g + (t + 1)) * (g + (t + 1)) := by
      rcases Nat.le_total g (t + 1) with c | c
      · obtain ⟨d, hd⟩ : ∃ d, t + 1 = g + d := ⟨t + 1 - g, by omega⟩
        rw [hd]
        have : (g + (g + d)) * (g + (g + d)) = 4 * (g * (g + d)) + d * d := by grind
        omega
      · obtain ⟨d, hd⟩ : ∃ d, g = t + 1 + d := ⟨g - (t + 1), by omega⟩
        rw [hd]
        have : (t + 1 + d + (t + 1)) * (t + 1 + d + (t + 1)) = 4 * ((t + 1 + d) * (t + 1)) + d * d := by grind
        omega
    have e3 : (g + (t + 1)) * (g + (t + 1)) ≤ (2 * ((g + t) / 2 + 1)) * (2 * ((g + t) / 2 + 1)) := Nat.mul_le_mul (by omega) (by omega)
    have e4 : (2 * ((g + t) / 2 + 1)) * (2 * ((g + t) / 2 + 1)) = 4 * (((g + t) / 2 + 1) * ((g + t) / 2 + 1)) := by rw [Nat.mul_mul_mul_comm]
    omega
  · have e1 : N < g * (g + 3) := by
      have : (g + 1) * (g + 1) = g * g + 2 * g + 1 := by grind
      have : g * (g + 3) = g * g + 3 * g := by grind
      omega
    have := Nat.div_lt_of_lt_mul e1
    omega
  · intro c
    have e1 : g ≤ N / g := by omega
    have := (Nat.le_div_iff_mul_le hg).mp e1
    exact this
theorem z_half (T k : Nat) : zlm ((T / 2 : Nat) : Int) k = zlm (T : Int) k / 2 + zlm (T : Int) (k + 1) % 2 * 32768 := by
  rw [zlm_n, zlm_n, zlm_n]
  have e1 : T / 2 / 2 ^ (16 * k) = T / 2 ^ (16 * k) / 2 := by rw [Nat.div_div_eq_div_mul, Nat.mul_comm, ← Nat.div_div_eq_div_mul]
  have e2 : T / 2 ^ (16 * (k + 1)) = T / 2 ^ (16 * k) / 65536 := by rw [show 16 * (k + 1) = 16 * k + 16 from by omega, zNp, ← Nat.div_div_eq_div_mul]
  rw [e1, e2]
  generalize T / 2 ^ (16 * k) = x
  omega
theorem zc16b {A B T c : Nat} {k : Nat} (h : T / 2 ^ (16 * k) = A / 2 ^ (16 * k) + B / 2 ^ (16 * k) + c) : zlm (T : Int) k = (zlm (A : Int) k + zlm (B : Int) k + c) % 65536 ∧ T / 2 ^ (16 * (k + 1)) = A / 2 ^ (16 * (k + 1)) + B / 2 ^ (16 * (k + 1)) + (zlm (A : Int) k + zlm (B : Int) k + c) / 65536 := by
  have d : ∀ C : Nat, C / 2 ^ (16 * (k + 1)) = C / 2 ^ (16 * k) / 65536 := fun C => by
    rw [show 16 * (k + 1) = 16 * k + 16 from by omega, zNp, ← Nat.div_div_eq_div_mul]
  rw [zlm_n, zlm_n, zlm_n, d, d, d, h]
  generalize A / 2 ^ (16 * k) = x
  generalize B / 2 ^ (16 * k) = y
  omega
section
variable {f_p f_mode f_flags f_below f_sticky : Int32} {a_kinds a_minus a_exponents a_limb a_row a_one a_two a_roots a_high a_part a_quotient a_square a_guess : Nat → Int32}
theorem xg_dbg_l {post : SX → Prop} {N g : Nat} (hg0 : 0 < g) (hg : g < 2 ^ (16 * 8)) (hN : N < 2 ^ 480) (hh : zLB 40 (N : Int) a_high) (hgu : zLB 16 (g : Int) a_guess) (h : ∀ H P Q, zLB 40 ((N % g : Nat) : Int) H → zLB 40 ((N / g : Nat) : Int) Q → post (f_p, f_mode, f_flags, f_below, f_sticky, a_kinds, a_minus, a_exponents, a_limb, a_row, a_one, a_two, a_roots, H, P, Q, a_square, a_guess)) : ∀ n k q, k ≤ 40 → 40 - k < n → (∀ j, j < k → q j = nI (zlm (g : Int) j)) → wX_divideByGuess_2 post f_p f_mode f_flags f_below f_sticky n (nI k) a_kinds a_minus a_exponents a_limb a_row a_one a_two a_roots a_high q a_quotient a_square a_guess := by
  intro n
  induction n with
  | zero => intro k q _ h1; omega
  | succ n ih =>
    intro k q hk hn hz
    refine pk_le 40 k (fun hk2 => ?_) (fun hk2 => ?_)
    · exact xd_divide hg0 (Nat.lt_trans hg (zpl_lt (by decide))) hN hh (fun j hj => hz j (by omega)) h
    · refine pk_le 8 k (fun h8 => ⟨vp_in_nI hk2 (by decide), fun q1 eq y ey => ?_⟩) (fun h8 => ⟨vp_in_nI (by omega) (by decide), vp_in_nI hk2 (by decide), fun q1 eq y ey => ?_⟩)
      · rw [nI_clamp (by omega)] at eq
        subst eq ey
        rw [nI_1]
        exact ih (k + 1) _ (by omega) (by omega) (zLB_up hz (by rw [zlm_hi hg h8]; rfl))
      · rw [nI_clamp (by omega), hgu k (by omega)] at eq
        subst eq ey
        rw [nI_1]
        exact ih (k + 1) _ (by omega) (by omega) (zLB_up hz rfl)
theorem xg_dbg {post : SX → Prop} {N g : Nat} (hg0 : 0 < g) (hg : g < 2 ^ (16 * 8)) (hN : N < 2 ^ 480) (hh : zLB 40 (N : Int) a_high) (hgu : zLB 16 (g : Int) a_guess) (h : ∀ H P Q, zLB 40 ((N % g : Nat) : Int) H → zLB 40 ((N / g : Nat) : Int) Q → post (f_p, f_mode, f_flags, f_below, f_sticky, a_kinds, a_minus, a_exponents, a_limb, a_row, a_one, a_two, a_roots, H, P, Q, a_square, a_guess)) : wpX_divideByGuess post (f_p, f_mode, f_flags, f_below, f_sticky, a_kinds, a_minus, a_exponents, a_limb, a_row, a_one, a_two, a_roots, a_high, a_part, a_quotient, a_square, a_guess) :=
  ⟨41, xg_dbg_l hg0 hg hN hh hgu h 41 0 a_part (by omega) (by omega) (fun j hj => absurd hj (by omega))⟩
theorem xg_178 {post : Int32 → SX → Prop} {m g : Nat} (hm : m < 2 ^ (16 * 8)) (hg : g < 2 ^ (16 * 8)) (hsq : ∀ k, k < 8 → a_square k = nI (zlm (m : Int) k)) (h : ∀ G, zLB 16 (m : Int) G → post 1 (f_p, f_mode, f_flags, f_below, f_sticky, a_kinds, a_minus, a_exponents, a_limb, a_row, a_one, a_two, a_roots, a_high, a_part, a_quotient, a_square, G)) : ∀ n k G, k ≤ 8 → 8 - k < n → (∀ j, j < k → G j = nI (zlm (m : Int) j)) → (∀ j, k ≤ j → j < 16 → G j = nI (zlm (g : Int) j)) → wX_better_178 post f_p f_mode f_flags f_below f_sticky n (nI k) a_kinds a_minus a_exponents a_limb a_row a_one a_two a_roots a_high a_part a_quotient a_square G := by
  intro n
  induction n with
  | zero => intro k G _ h1; omega
  | succ n ih =>
    intro k G hk hn hlo hhi
    refine pk_le 8 k (fun hk2 => h G (fun j hj => ?_)) (fun hk2 => ⟨vp_in_nI (by omega) (by decide), vp_in_nI (by omega) (by decide), fun G1 eG y ey => ?_⟩)
    · by_cases c : j < 8
      · exact hlo j (by omega)
      · rw [hhi j (by omega) hj, zlm_hi hg (by omega), zlm_hi hm (by omega)]
    · rw [nI_clamp (by omega), hsq k hk2] at eG
      subst eG ey
      rw [nI_1]
      refine ih (k + 1) _ (by omega) (by omega) (fun j hj => ?_) (fun j hj hj2 => ?_)
      · by_cases e : j = k
        · subst e; rw [pk_us]
        · rw [pk_un e]; exact hlo j (by omega)
      · rw [pk_un (by omega)]; exact hhi j (by omega) hj2
theorem xg_128 {post : Int32 → SX → Prop} {m g : Nat} (hm : m < 2 ^ (16 * 8)) (hg : g < 2 ^ (16 * 8)) (hsq : ∀ k, k < 8 → a_square k = nI (zlm (m : Int) k)) (hgu : zLB 16 (g : Int) a_guess) (h1 : m < g → ∀ G, zLB 16 (m : Int) G → post 1 (f_p, f_mode, f_flags, f_below, f_sticky, a_kinds, a_minus, a_exponents, a_limb, a_row, a_one, a_two, a_roots, a_high, a_part, a_quotient, a_square, G)) (h0 : g ≤ m → post 0 (f_p, f_mode, f_flags, f_below, f_sticky, a_kinds, a_minus, a_exponents, a_limb, a_row, a_one, a_two, a_roots, a_high, a_part, a_quotient, a_square, a_guess)) : ∀ n k, k < 8 → k < n → m / 2 ^ (16 * (k + 1)) = g / 2 ^ (16 * (k + 1)) → wX_better_128 post f_p f_mode f_flags f_below f_sticky a_kinds a_minus a_exponents a_limb a_row a_one a_two a_roots a_high a_part a_quotient a_square a_guess n (nI k) := by
  have mono : ∀ k C D : Nat, C / 2 ^ (16 * k) < D / 2 ^ (16 * k) → C < D := by
    intro k C D hcd
    rcases Nat.lt_or_ge C D with q | q
    · exact q
    · have := Nat.div_le_div_right (c := 2 ^ (16 * k)) q
      omega
  intro n
  induction n with
  | zero => intro k _ hn; omega
  | succ n ih =>
    intro k hk hn he
    have lm := zlm_lt (m : Int) k
    have lg := zlm_lt (g : Int) k
    have d : ∀ C : Nat, C / 2 ^ (16 * (k + 1)) = C / 2 ^ (16 * k) / 65536 := fun C => by
      rw [show 16 * (k + 1) = 16 * k + 16 from by omega, zNp, ← Nat.div_div_eq_div_mul]
    have em := zlm_n m k
    have eg := zlm_n g k
    rw [d, d] at he
    have vk := vp_in_nI (n := k) (N := 16) (by omega) (by decide)
    have g156 : (k = 0 ∨ zlm (m : Int) k ≠ zlm (g : Int) k) → wX_better_156 post (nI k) f_p f_mode f_flags f_below f_sticky a_kinds a_minus a_exponents a_limb a_row a_one a_two a_roots a_high a_part a_quotient a_square a_guess := by
      intro q
      refine ⟨vk, vk, ?_⟩
      rw [nI_clamp (by omega), hsq k hk, hgu k (by omega)]
      refine pk_lt (zlm (m : Int) k) (zlm (g : Int) k) (fun c => ?_) (fun c => ?_)
      · have hlt := mono k m g (by omega)
        exact ⟨9, xg_178 hm hg hsq (h1 hlt) 9 0 a_guess (by omega) (by omega) (fun j hj => absurd hj (by omega)) (fun j _ hj => hgu j hj)⟩
      · refine h0 ?_
        rcases Nat.lt_or_ge m g with z | z
        · exfalso
          rcases q with q | q
          · subst q
            rw [Nat.mul_zero, Nat.pow_zero, Nat.div_one, Nat.div_one] at he
            rw [Nat.mul_zero, Nat.pow_zero, Nat.div_one] at em eg
            omega
          · have := mono k g m (by omega)
            omega
        · exact z
    refine pk_le k 0 (fun c => g156 (Or.inl (by omega))) (fun c => ⟨vk, vk, ?_⟩)
    rw [nI_clamp (by omega), hsq k hk, hgu k (by omega)]
    refine pk_eq (zlm (m : Int) k) (zlm (g : Int) k) (fun e y ey => ?_) (fun e => g156 (Or.inr e))
    subst ey
    obtain ⟨k', rfl⟩ : ∃ k', k = k' + 1 := ⟨k - 1, by omega⟩
    rw [pk_m1]
    exact ih k' (by omega) (by omega) (by omega)
theorem xg_69 {post : Int32 → SX → Prop} {T g : Nat} (hT : T < 2 ^ (16 * 8)) (hg : g < 2 ^ (16 * 8)) (hgu : zLB 16 (g : Int) a_guess) (h1 : T / 2 < g → ∀ S G, zLB 16 ((T / 2 : Nat) : Int) G → post 1 (f_p, f_mode, f_flags, f_below, f_sticky, a_kinds, a_minus, a_exponents, a_limb, a_row, a_one, a_two, a_roots, a_high, a_part, a_quotient, S, G)) (h0 : g ≤ T / 2 → ∀ S, post 0 (f_p, f_mode, f_flags, f_below, f_sticky, a_kinds, a_minus, a_exponents, a_limb, a_row, a_one, a_two, a_roots, a_high, a_part, a_quotient, S, a_guess)) : ∀ n k S, k ≤ 8 → 8 - k < n → (∀ j, j < k → S j = nI (zlm ((T / 2 : Nat) : Int) j)) → (∀ j, k ≤ j → j < 8 → S j = nI (zlm (T : Int) j)) → wX_better_69 post f_p f_mode f_flags f_below f_sticky n (nI k) a_kinds a_minus a_exponents a_limb a_row a_one a_two a_roots a_high a_part a_quotient S a_guess := by
  intro n
  induction n with
  | zero => intro k S _ h1; omega
  | succ n ih =>
    intro k S hk hn hlo hhi
    have hm : T / 2 < 2 ^ (16 * 8) := Nat.lt_of_le_of_lt (Nat.div_le_self _ _) hT
    refine pk_le 8 k (fun hk2 => ?_) (fun hk2 => ⟨vp_in_nI (by omega) (by decide), ?_⟩)
    · refine ⟨8, xg_128 hm hg (fun j hj => hlo j (by omega)) hgu (fun c G hG => h1 c S G hG) (fun c => h0 c S) 8 7 (by omega) (by omega) ?_⟩
      rw [Nat.div_eq_of_lt hm, Nat.div_eq_of_lt hg]
    · have lt := zlm_lt (T : Int) k
      have l2 := zlm_lt (T : Int) (k + 1)
      have hf := z_half T k
      refine pk_le 7 k (fun h7 => ⟨vp_in_nI (by omega) (by decide), fun S1 eS y ey => ?_⟩) (fun h7 => ⟨?_, vp_in_nI (by omega) (by decide), fun S1 eS y ey => ?_⟩)
      · rw [nI_clamp (by omega), hhi k (by omega) hk2, zw_s1 (by omega), zw_or0] at eS
        subst eS ey
        rw [nI_1]
        rw [zlm_hi hT (show 8 ≤ k + 1 by omega)] at hf
        refine ih (k + 1) _ (by omega) (by omega) (fun j hj => ?_) (fun j hj hj2 => ?_)
        · by_cases e : j = k
          · subst e; rw [pk_us, hf]; exact congrArg nI (by omega)
          · rw [pk_un e]; exact hlo j (by omega)
        · rw [pk_un (by omega)]; exact hhi j (by omega) hj2
      · rw [nI_1]; exact vp_in_nI (by omega) (by decide)
      · rw [nI_1, nI_clamp (by omega), nI_clamp (by omega), hhi k (by omega) hk2, hhi (k + 1) (by omega) (by omega), zw_s1 (by omega), zw_m1 (by omega), pk_shlN _ 15 (by decide) (by omega), zw_or' (by omega)] at eS
        subst eS ey
        rw [nI_1]
        refine ih (k + 1) _ (by omega) (by omega) (fun j hj => ?_) (fun j hj hj2 => ?_)
        · by_cases e : j = k
          · subst e; rw [pk_us, hf]; exact congrArg nI (by omega)
          · rw [pk_un e]; exact hlo j (by omega)
        · rw [pk_un (by omega)]; exact hhi j (by omega) hj2
theorem xg_16 {post : Int32 → SX → Prop} {t g : Nat} (hT : g + t < 2 ^ (16 * 8)) (hgu : zLB 16 (g : Int) a_guess) (hq : zLB 40 (t : Int) a_quotient) (h1 : (g + t) / 2 < g → ∀ S G, zLB 16 (((g + t) / 2 : Nat) : Int) G → post 1 (f_p, f_mode, f_flags, f_below, f_sticky, a_kinds, a_minus, a_exponents, a_limb, a_row, a_one, a_two, a_roots, a_high, a_part, a_quotient, S, G)) (h0 : g ≤ (g + t) / 2 → ∀ S, post 0 (f_p, f_mode, f_flags, f_below, f_sticky, a_kinds, a_minus, a_exponents, a_limb, a_row, a_one, a_two, a_roots, a_high, a_part, a_quotient, S, a_guess)) : ∀ (n k c : Nat) (S : Nat → Int32), k ≤ 8 → 8 - k < n → c ≤ 1 → (g + t) / 2 ^ (16 * k) = g / 2 ^ (16 * k) + t / 2 ^ (16 * k) + c → (∀ j, j < k → S j = nI (zlm ((g + t : Nat) : Int) j)) → wX_better_16 post f_p f_mode f_flags f_below f_sticky n (nI c) (nI k) a_kinds a_minus a_exponents a_limb a_row a_one a_two a_roots a_high a_part a_quotient S a_guess := by
  intro n
  induction n with
  | zero => intro k c S _ h1; omega
  | succ n ih =>
    intro k c S hk hn hc he hlo
    refine pk_le 8 k (fun hk2 => ?_) (fun hk2 => ⟨vp_in_nI (by omega) (by decide), vp_in_nI (by omega) (by decide), fun v ev => ⟨vp_in_nI (by omega) (by decide), fun S1 eS c1 ec y ey => ?_⟩⟩)
    · exact ⟨9, xg_69 hT (by omega) hgu h1 h0 9 0 S (by omega) (by omega) (fun j hj => absurd hj (by omega)) (fun j _ hj => hlo j (by omega))⟩
    · have lg := zlm_lt (g : Int) k
      have lt := zlm_lt (t : Int) k
      obtain ⟨c1, c2⟩ := zc16b he
      rw [nI_clamp (by omega), hgu k (by omega), hq k (by omega), nI_add, nI_add] at ev
      subst ev
      rw [nI_clamp (by omega), zw_m16 (by omega)] at eS
      rw [zw_s16 (by omega)] at ec
      subst eS ec ey
      rw [nI_1]
      exact ih (k + 1) _ _ (by omega) (by omega) (by omega) c2 (zLB_up hlo (by rw [c1]))
end
end
section
/-! the root of the component -/
def zpar (p : Nat) (v : ZV) : Nat := zwt p v % 2
def zrb (p : Nat) (v : ZV) : Nat := (zwt p v + 210 - zpar p v) / 2
def zro (p md : Nat) (a : ZV) (f : Int32) : ZV × Int32 :=
  if a.1 = 4 ∨ a.1 = 0 then (a, f) else if a.2.1 then ((4, false, 0, 0), f ||| 16) else if a.1 = 3 then (a, f)
  else zrd0 340 p md false (zsq (a.2.2.2 * 2 ^ (130 + zpar p a)) * 2 ^ zrb p a) (decide (zsq (a.2.2.2 * 2 ^ (130 + zpar p a)) * zsq (a.2.2.2 * 2 ^ (130 + zpar p a)) ≠ a.2.2.2 * 2 ^ (130 + zpar p a))) f
theorem zro_ok {p md : Nat} {a : ZV} {f : Int32} (hp2 : 2 ≤ p) (hp : p ≤ 64) (ha : zOK p a) : zOK p (zro p md a f).1 := by
  unfold zro
  split
  · exact ha
  · split
    · exact zOK_4 p
    · split
      · exact ha
      · exact zrd0_ok hp2 hp (by decide)
theorem z_g0 : ∀ k, k < 16 → zlm ((2 ^ 102 : Nat) : Int) k = if k = 6 then 64 else 0 := by
  intro k hk
  rw [zlm_n]
  revert k
  decide +kernel
section
variable {f_p f_mode f_flags f_below f_sticky : Int32} {a_kinds a_minus a_exponents a_limb a_row a_one a_two a_roots a_high a_part a_quotient a_square a_guess : Nat → Int32}
theorem xg_better {post : Int32 → SX → Prop} {x s M g : Nat} (hx : x < 8) (hs : s < 1000) (hM : M < 2 ^ 64) (hl : zLB 4 (M : Int) (fun k => a_limb (4 * x + k))) (hN : M * 2 ^ s < 2 ^ 480) (hg0 : 0 < g) (hg : g ≤ 2 ^ 102) (hgu : zLB 16 (g : Int) a_guess) (hge : M * 2 ^ s < (g + 1) * (g + 1)) (h1 : (g + M * 2 ^ s / g) / 2 < g → ∀ H P Q S G, zLB 16 (((g + M * 2 ^ s / g) / 2 : Nat) : Int) G → post 1 (f_p, f_mode, f_flags, f_below, f_sticky, a_kinds, a_minus, a_exponents, a_limb, a_row, a_one, a_two, a_roots, H, P, Q, S, G)) (h0 : g ≤ (g + M * 2 ^ s / g) / 2 → ∀ H P Q S, post 0 (f_p, f_mode, f_flags, f_below, f_sticky, a_kinds, a_minus, a_exponents, a_limb, a_row, a_one, a_two, a_roots, H, P, Q, S, a_guess)) : wpX_better post (f_p, f_mode, f_flags, f_below, f_sticky, a_kinds, a_minus, a_exponents, a_limb, a_row, a_one, a_two, a_roots, a_high, a_part, a_quotient, a_square, a_guess) (nI x) (nI s) := by
  have hgl : g < 2 ^ (16 * 8) := Nat.lt_of_le_of_lt hg (zpl_lt (by decide))
  obtain ⟨n1, n2, n3⟩ := z_newton hg0 hge
  unfold wpX_better
  dsimp only
  refine xd_putH hx hs hM hl (fun H hH => ?_)
  refine xg_dbg hg0 hgl hN hH hgu (fun H2 P Q hH2 hQ => ?_)
  have hT : g + M * 2 ^ s / g < 2 ^ (16 * 8) := by
    have : (2 : Nat) ^ 102 + (2 ^ 102 + 2) < 2 ^ (16 * 8) := by decide
    omega
  refine ⟨9, xg_16 hT hgu hQ (fun c S G hG => h1 c H2 P Q S G hG) (fun c S => h0 c H2 P Q S) 9 0 0 a_square (by omega) (by omega) (by omega) ?_ (fun j hj => absurd hj (by omega))⟩
  rw [Nat.mul_zero, Nat.pow_zero, Nat.div_one, Nat.div_one, Nat.div_one, Nat.add_zero]
theorem xg_ex_l {post : Int32 → Prop} {N g : Nat} (hg0 : 0 < g) (hg : g < 2 ^ (16 * 8)) (hq8 : N / g < 2 ^ (16 * 8)) (hh : zLB 40 ((N % g : Nat) : Int) a_high) (hq : zLB 40 ((N / g : Nat) : Int) a_quotient) (hgu : zLB 16 (g : Int) a_guess) (h : post (zb1 (decide (g * g = N)))) : ∀ n k, k ≤ 8 → 8 - k < n → N / g % 2 ^ (16 * k) = g % 2 ^ (16 * k) → wX_exactly_2 post f_p f_mode f_flags f_below f_sticky a_kinds a_minus a_exponents a_limb a_row a_one a_two a_roots a_high a_part a_quotient a_square a_guess n (nI k) := by
  have hd := Nat.div_add_mod N g
  have hm := Nat.mod_lt N hg0
  intro n
  induction n with
  | zero => intro k _ h1; omega
  | succ n ih =>
    intro k hk hn he
    have lg := zlm_lt (g : Int) k
    have lq := zlm_lt ((N / g : Nat) : Int) k
    refine pk_le 8 k (fun hk2 => ?_) (fun hk2 => ⟨vp_in_nI (by omega) (by decide), vp_in_nI (by omega) (by decide), ?_⟩)
    · have e8 : k = 8 := by omega
      subst e8
      rw [Nat.mod_eq_of_lt hq8, Nat.mod_eq_of_lt hg] at he
      refine xd_left (Nat.lt_trans (Nat.lt_trans hm hg) (zpl_lt (by decide))) hh (zk_b (fun e => ?_) (fun e => ?_))
      · have e := of_decide_eq_false e
        rw [he] at hd
        rw [decide_eq_true (by omega)] at h; exact h
      · have e := of_decide_eq_true e
        rw [he] at hd
        rw [decide_eq_false (by omega)] at h; exact h
    · rw [nI_clamp (by omega), hq k (by omega), hgu k (by omega)]
      have s : ∀ C : Nat, C % 2 ^ (16 * (k + 1)) = C % 2 ^ (16 * k) + 2 ^ (16 * k) * zlm (C : Int) k := by
        intro C
        rw [show 16 * (k + 1) = 16 * k + 16 from by omega, zNp, Nat.mod_mul, zlm_n]
      refine pk_eq (zlm ((N / g : Nat) : Int) k) (zlm (g : Int) k) (fun e y ey => ?_) (fun e => ?_)
      · subst ey
        rw [nI_1]
        exact ih (k + 1) (by omega) (by omega) (by rw [s, s g, he, e])
      · have : ¬ g * g = N := by
          intro z
          apply e
          rw [← z, Nat.mul_div_cancel _ hg0]
        rw [decide_eq_false this] at h; exact h
theorem xg_ex {post : Int32 → Prop} {N g : Nat} (hg0 : 0 < g) (hg : g < 2 ^ (16 * 8)) (hq8 : N / g < 2 ^ (16 * 8)) (hh : zLB 40 ((N % g : Nat) : Int) a_high) (hq : zLB 40 ((N / g : Nat) : Int) a_quotient) (hgu : zLB 16 (g : Int) a_guess) (h : post (zb1 (decide (g * g = N)))) : wpX_exactly post (f_p, f_mode, f_flags, f_below, f_sticky, a_kinds, a_minus, a_exponents, a_limb, a_row, a_one, a_two, a_roots, a_high, a_part, a_quotient, a_square, a_guess) :=
  ⟨9, xg_ex_l hg0 hg hq8 hh hq hgu h 9 0 (by omega) (by omega) (by rw [Nat.mul_zero, Nat.pow_zero, Nat.mod_one, Nat.mod_one])⟩
theorem xg_179 {post : Int32 → SX → Prop} {p md i N g at' : Nat} {w : Nat → ZV} (hc : zC p md w) (hs : zXS p w a_kinds a_minus a_exponents a_limb) (hro : zRT a_roots) (hi : i < 8) (hg0 : 0 < g) (hg : g < 2 ^ (16 * 7)) (hq8 : N / g < 2 ^ (16 * 8)) (hat : at' ≤ 600) (hh : zLB 40 ((N % g : Nat) : Int) a_high) (hq : zLB 40 ((N / g : Nat) : Int) a_quotient) (hgu : zLB 16 (g : Int) a_guess) (h : ∀ u, zXR p md (zrd 480 p md false (g * 2 ^ at') (decide (g * g ≠ N)) f_flags).2 (zst w i (zrd 480 p md false (g * 2 ^ at') (decide (g * g ≠ N)) f_flags).1) u → post 1 u) : ∀ n k r, k ≤ 7 → 7 - k < n → zLB 54 ((g % 2 ^ (16 * k) * 2 ^ at' : Nat) : Int) r → wX_root_179 post (nI i) (nI at') n (nI k) (nI p) (nI md) f_flags 0 0 a_kinds a_minus a_exponents a_limb r a_one a_two a_roots a_high a_part a_quotient a_square a_guess := by
  intro n
  induction n with
  | zero => intro k r _ h1; omega
  | succ n ih =>
    intro k r hk hn hr
    refine pk_le 7 k (fun hk2 => ?_) (fun hk2 => ⟨vp_in_nI (by omega) (by decide), ?_⟩)
    · have e : k = 7 := by omega
      subst e
      rw [Nat.mod_eq_of_lt hg] at hr
      have hNlt : g * 2 ^ at' < 2 ^ 864 := by
        have := Nat.mul_lt_mul_of_pos_right hg (Nat.two_pow_pos at')
        rw [← zNp] at this
        exact Nat.lt_of_lt_of_le this (zpl_le (by omega))
      have g225 : ∀ b : Bool, b = decide (g * g ≠ N) → wX_root_225 post (nI i) (zb1 b) (nI p) (nI md) f_flags 0 0 a_kinds a_minus a_exponents a_limb r a_one a_two a_roots a_high a_part a_quotient a_square a_guess := by
        intro b hb
        rw [← hb] at h
        refine ⟨zb1_n b, zb1_f b, ?_⟩
        exact xo_round (ng := false) hc.2.2.1 hs hr (Nat.mul_ne_zero (by omega) (Nat.ne_of_gt (Nat.two_pow_pos _))) hNlt hc.1 hc.2.1 hi (fun K Mi E L hK => h _ ⟨rfl, rfl, rfl, hK, hro⟩)
      refine xg_ex hg0 (Nat.lt_trans hg (zpl_lt (by decide))) hq8 hh hq hgu (zk_b (fun e => ?_) (fun e => ?_))
      · have e := of_decide_eq_false e
        exact g225 true (by rw [decide_eq_true e])
      · have e := of_decide_eq_true e
        exact g225 false (by rw [decide_eq_false (fun z => z e)])
    · have lx := zlm_lt (g : Int) k
      have e3 : nI at' + (16 : Int32) * nI k = nI (at' + 16 * k) := by rw [show (16 : Int32) = nI 16 from rfl, pk_mul, nI_add]
      rw [nI_clamp (by omega), hgu k (by omega), e3]
      refine xr_dep (off := false) hr (by omega) (by omega) (fun r2 hr2 q eq => ?_)
      subst eq
      rw [nI_1]
      refine ih (k + 1) r2 (by omega) (by omega) ?_
      have l1 := x_limb g k at' false
      have e5 : ∀ z : Nat, zsg false ((z : Nat) : Int) * 2 ^ at' = ((z * 2 ^ at' : Nat) : Int) := by
        intro z
        show (z : Int) * 2 ^ at' = _
        rw [← zp_cast, ← Int.natCast_mul]
      rw [e5, e5] at l1
      rw [l1] at hr2
      exact hr2
theorem xg_131 {post : Int32 → SX → Prop} {p md i x s M at' : Nat} {w : Nat → ZV} {x3 : Int32} (hc : zC p md w) (hs : zXS p w a_kinds a_minus a_exponents a_limb) (hro : zRT a_roots) (hx : x < 8) (hi : i < 8) (hsh : s < 140) (hM : M < 2 ^ 64) (hM1 : 1 ≤ M) (hl : zLB 4 (M : Int) (fun k => a_limb (4 * x + k))) (hat : at' ≤ 600) (hx3 : ((x3 - nI s) >>> ((1 : Int32) &&& 31)) - (-480) = nI at') (h : ∀ u, zXR p md (zrd 480 p md false (zsq (M * 2 ^ s) * 2 ^ at') (decide (zsq (M * 2 ^ s) * zsq (M * 2 ^ s) ≠ M * 2 ^ s)) f_flags).2 (zst w i (zrd 480 p md false (zsq (M * 2 ^ s) * 2 ^ at') (decide (zsq (M * 2 ^ s) * zsq (M * 2 ^ s) ≠ M * 2 ^ s)) f_flags).1) u → post 1 u) : ∀ (n g : Nat) (more : Bool) (bl st : Int32) (row H P Q S G : Nat → Int32), g + 1 < n → g ≤ 2 ^ 102 → zLB 16 (g : Int) G → M * 2 ^ s < (g + 1) * (g + 1) → (more = false → g * g ≤ M * 2 ^ s) → wX_root_131 post (nI x) (nI i) x3 (nI s) n (zb1 more) (nI p) (nI md) f_flags bl st a_kinds a_minus a_exponents a_limb row a_one a_two a_roots H P Q S G := by
  have hN : M * 2 ^ s < 2 ^ 480 := by
    have := Nat.mul_lt_mul_of_pos_right hM (Nat.two_pow_pos s)
    rw [← zNp] at this
    exact Nat.lt_of_lt_of_le this (zpl_le (by omega))
  have hN1 : 1 ≤ M * 2 ^ s := Nat.mul_pos hM1 (Nat.two_pow_pos s)
  intro n
  induction n with
  | zero => intro g more bl st row H P Q S G h1; omega
  | succ n ih =>
    intro g more bl st row H P Q S G hn hg hG hge hdone
    have hg0 : 0 < g := by
      rcases Nat.eq_zero_or_pos g with z | z
      · subst z; omega
      · exact z
    refine zk_b (fun em => ?_) (fun em => ?_)
    · have hle := hdone em
      have eg : g = zsq (M * 2 ^ s) := zsq_u hle hge
      rw [← eg] at h
      obtain ⟨n1, n2, n3⟩ := z_newton hg0 hge
      have hg7 : g < 2 ^ (16 * 7) := Nat.lt_of_le_of_lt hg (zpl_lt (by decide))
      have hq8 : M * 2 ^ s / g < 2 ^ (16 * 8) := by
        have : (2 : Nat) ^ 102 + 2 < 2 ^ (16 * 8) := by decide
        omega
      refine xd_putH hx (by omega) hM hl (fun H2 hH2 => ?_)
      refine xg_dbg hg0 (Nat.lt_trans hg7 (zpl_lt (by decide))) hN hH2 hG (fun H3 P3 Q3 hH3 hQ3 => ?_)
      refine xr_clear (fun r hr x6 e6 => ?_)
      rw [hx3] at e6
      subst e6
      refine ⟨8, xg_179 hc hs hro hi hg0 hg7 hq8 hat hH3 hQ3 hG h 8 0 r (by omega) (by omega) ?_⟩
      rw [Nat.mul_zero, Nat.pow_zero, Nat.mod_one, Nat.zero_mul]
      exact hr
    · refine xg_better hx (by omega) hM hl hN hg0 hg hG hge (fun c H2 P2 Q2 S2 G2 hG2 => ?_) (fun c H2 P2 Q2 S2 => ?_)
      · obtain ⟨n1, n2, n3⟩ := z_newton hg0 hge
        exact ih _ true bl st row H2 P2 Q2 S2 G2 (by omega) (by omega) hG2 n1 (fun z => Bool.noConfusion z)
      · obtain ⟨n1, n2, n3⟩ := z_newton hg0 hge
        have hle := n3 c
        -- one more turn, with nothing to do
        obtain ⟨n', rfl⟩ : ∃ n', n = n' + 1 := ⟨n - 1, by omega⟩
        refine br_t rfl ?_
        have eg : g = zsq (M * 2 ^ s) := zsq_u hle hge
        rw [← eg] at h
        have hg7 : g < 2 ^ (16 * 7) := Nat.lt_of_le_of_lt hg (zpl_lt (by decide))
        have hq8 : M * 2 ^ s / g < 2 ^ (16 * 8) := by
          have : (2 : Nat) ^ 102 + 2 < 2 ^ (16 * 8) := by decide
          omega
        refine xd_putH hx (by omega) hM hl (fun H2 hH2 => ?_)
        refine xg_dbg hg0 (Nat.lt_trans hg7 (zpl_lt (by decide))) hN hH2 hG (fun H3 P3 Q3 hH3 hQ3 => ?_)
        refine xr_clear (fun r hr x6 e6 => ?_)
        rw [hx3] at e6
        subst e6
        refine ⟨8, xg_179 hc hs hro hi hg0 hg7 hq8 hat hH3 hQ3 hG h 8 0 r (by omega) (by omega) ?_⟩
        rw [Nat.mul_zero, Nat.pow_zero, Nat.mod_one, Nat.zero_mul]
        exact hr
theorem xg_98 {post : Int32 → SX → Prop} {x1 x2 x3 x4 : Int32} (h : ∀ G, zLB 16 ((2 ^ 102 : Nat) : Int) G → ∃ n, wX_root_131 post x1 x2 x3 x4 n 1 f_p f_mode f_flags f_below f_sticky a_kinds a_minus a_exponents a_limb a_row a_one a_two a_roots a_high a_part a_quotient a_square G) : ∀ n k G, k ≤ 16 → 16 - k < n → (∀ j, j < k → G j = 0) → wX_root_98 post x1 x2 x3 x4 f_p f_mode f_flags f_below f_sticky n (nI k) a_kinds a_minus a_exponents a_limb a_row a_one a_two a_roots a_high a_part a_quotient a_square G := by
  intro n
  induction n with
  | zero => intro k G _ h1; omega
  | succ n ih =>
    intro k G hk hn hz
    refine pk_le 16 k (fun hk2 G1 eG => ?_) (fun hk2 => ⟨vp_in_nI hk2 (by decide), fun G1 eG y ey => ?_⟩)
    · subst eG
      refine h _ (fun j hj => ?_)
      rw [z_g0 j hj]
      by_cases c : j = 6
      · subst c; rw [pk_us, if_pos rfl]; rfl
      · rw [pk_un c, if_neg c, hz j (by omega)]; rfl
    · rw [nI_clamp (by omega)] at eG
      subst eG ey
      rw [nI_1]
      refine ih (k + 1) _ (by omega) (by omega) (fun j hj => ?_)
      by_cases e : j = k
      · subst e; exact pk_us
      · rw [pk_un e]; exact hz j (by omega)
theorem xg_root {post : Int32 → SX → Prop} {p md i x : Nat} {w : Nat → ZV} (hc : zC p md w) (hs : zXS p w a_kinds a_minus a_exponents a_limb) (hro : zRT a_roots) (hx : x < 8) (hi : i < 8) (h : ∀ u, zXR p md (zro p md (w x) f_flags).2 (zst w i (zro p md (w x) f_flags).1) u → post 1 u) : wpX_root post (nI p, nI md, f_flags, f_below, f_sticky, a_kinds, a_minus, a_exponents, a_limb, a_row, a_one, a_two, a_roots, a_high, a_part, a_quotient, a_square, a_guess) (nI x) (nI i) := by
  have ox := hc.2.2.2 x hx
  have kx := xs_kz hs ox hx
  have vx := vp_in_nI hx (show 8 < 2 ^ 31 by decide)
  have hp := hc.2.1
  unfold zro at h
  have g33 : ((w x).1 = 4 ∨ (w x).1 = 0) → wX_root_33 post (nI x) (nI i) (nI p) (nI md) f_flags f_below f_sticky a_kinds a_minus a_exponents a_limb a_row a_one a_two a_roots a_high a_part a_quotient a_square a_guess := by
    intro q
    rw [if_pos q] at h
    exact xs_copy hs ox hi hx (fun K M E L hK => h _ ⟨rfl, rfl, rfl, hK, hro⟩)
  unfold wpX_root
  dsimp only
  refine zs_X hx (br_f (by decide) (zs_X hi (br_f (by decide) ?_)))
  refine xs_isNot hs ox hx (zk_b (fun n1 => ⟨vx, ?_⟩) (fun n1 => g33 (Or.inl (of_decide_eq_true n1))))
  have n1 := of_decide_eq_false n1
  rw [nI_clamp (by omega), (hs x hx).1]
  refine zk_i kx.1 (fun e0 => g33 (Or.inr e0)) (fun e0 => ⟨vx, zk_b (fun en => ?_) (fun en => ?_)⟩)
  · rw [if_neg (by omega), en, if_neg (by decide)] at h
    refine xs_isInf hs ox hx (zk_b (fun e3 => ?_) (fun e3 => ?_))
    · have e3 := of_decide_eq_false e3
      rw [if_neg e3] at h
      have kx2 : (w x).1 = 2 := by have := ox.1; omega
      obtain ⟨f1, f2, f3⟩ := xs_fin hs hx kx2
      obtain ⟨g1, g2, g3, g4, g5⟩ := ox.2.1 kx2
      have m1 := zOK_64 ox hp kx2
      have wa := zwt_i hp ox kx2
      have hpar : zpar p (w x) = zwt p (w x) % 2 := rfl
      have hrb : 2 * zrb p (w x) = zwt p (w x) + 210 - zpar p (w x) := by unfold zrb; omega
      -- the component's root has three bits more
      obtain ⟨c1, c2⟩ := zsq_8 ((w x).2.2.2 * 2 ^ (130 + zpar p (w x)))
      have e64 : (w x).2.2.2 * 2 ^ (130 + zpar p (w x)) * 64 = (w x).2.2.2 * 2 ^ (136 + zpar p (w x)) := by
        rw [Nat.mul_assoc, show (64 : Nat) = 2 ^ 6 from rfl, ← zNp, show 130 + zpar p (w x) + 6 = 136 + zpar p (w x) from by omega]
      rw [e64] at c1 c2
      have hG : 2 ^ (64 + 3) ≤ zsq ((w x).2.2.2 * 2 ^ (136 + zpar p (w x))) := by
        obtain ⟨s1, s2⟩ := zsq_s ((w x).2.2.2 * 2 ^ (136 + zpar p (w x)))
        rcases Nat.lt_or_ge (zsq ((w x).2.2.2 * 2 ^ (136 + zpar p (w x)))) (2 ^ (64 + 3)) with q | q
        · exfalso
          have b1 := Nat.mul_le_mul (show zsq ((w x).2.2.2 * 2 ^ (136 + zpar p (w x))) + 1 ≤ 2 ^ (64 + 3) from q) (show zsq ((w x).2.2.2 * 2 ^ (136 + zpar p (w x))) + 1 ≤ 2 ^ (64 + 3) from q)
          rw [← zNp] at b1
          have b2 : 1 * 2 ^ (136 + zpar p (w x)) ≤ (w x).2.2.2 * 2 ^ (136 + zpar p (w x)) := Nat.mul_le_mul_right _ g1
          rw [Nat.one_mul] at b2
          have b3 : (2 : Nat) ^ (64 + 3 + (64 + 3)) ≤ 2 ^ (136 + zpar p (w x)) := zpl_le (by omega)
          exact absurd (Nat.lt_of_lt_of_le s2 (Nat.le_trans b1 (Nat.le_trans b3 b2))) (Nat.lt_irrefl _)
        · exact q
      have hzl := zrd_lo (p := p) (md := md) (o := zrb p (w x)) (ng := false) (s := decide (zsq ((w x).2.2.2 * 2 ^ (136 + zpar p (w x))) * zsq ((w x).2.2.2 * 2 ^ (136 + zpar p (w x))) ≠ (w x).2.2.2 * 2 ^ (136 + zpar p (w x)))) (f := f_flags) hc.1 hp (show 3 ≤ 140 by decide) hG
      rw [show (2 : Nat) ^ 3 = 8 from rfl, c2, c1] at hzl
      have hY : zsq ((w x).2.2.2 * 2 ^ (130 + zpar p (w x))) * 2 ^ zrb p (w x) ≠ 0 := by
        refine Nat.mul_ne_zero ?_ (Nat.ne_of_gt (Nat.two_pow_pos _))
        rw [← c1]
        have : (2 : Nat) ^ (64 + 3) = 2 ^ 64 * 8 := rfl
        omega
      have ez : zrd0 340 p md false (zsq ((w x).2.2.2 * 2 ^ (130 + zpar p (w x))) * 2 ^ zrb p (w x)) (decide (zsq ((w x).2.2.2 * 2 ^ (130 + zpar p (w x))) * zsq ((w x).2.2.2 * 2 ^ (130 + zpar p (w x))) ≠ (w x).2.2.2 * 2 ^ (130 + zpar p (w x)))) f_flags = zrd 340 p md false (zsq ((w x).2.2.2 * 2 ^ (130 + zpar p (w x))) * 2 ^ zrb p (w x)) (decide (zsq ((w x).2.2.2 * 2 ^ (130 + zpar p (w x))) * zsq ((w x).2.2.2 * 2 ^ (130 + zpar p (w x))) ≠ (w x).2.2.2 * 2 ^ (130 + zpar p (w x)))) f_flags := by
        unfold zrd0; rw [if_neg hY]
      rw [ez, ← hzl] at h
      refine xs_foot hx f1 (fun x3 e4 x4 e5 => ?_)
      have e4b : x3 = zI ((zwt p (w x) : Int) - 340) := by
        rw [e4, show (-480 : Int32) = zI (-480) from rfl, zI_add]
        exact congrArg zI (by omega)
      subst e4b
      have e5b : x4 = nI (136 + zpar p (w x)) := by
        have hm1 := Jvm.Kit.i32_mask (zI ((zwt p (w x) : Int) - 340)) 1 (k := 1) (by decide) (by decide)
        have e6 : zI ((zwt p (w x) : Int) - 340) &&& 1 = nI (zpar p (w x)) := by
          apply Int32.toInt_inj.mp
          rw [hm1, zI_t (by omega) (by omega), nI_toInt (by omega), hpar]
          show ((zwt p (w x) : Int) - 340) % 2 = ((zwt p (w x) % 2 : Nat) : Int)
          omega
        rw [e5, e6]
        exact nI_add 136 _
      subst e5b
      have hx3 : ((zI ((zwt p (w x) : Int) - 340) - nI (136 + zpar p (w x))) >>> ((1 : Int32) &&& 31)) - (-480) = nI (zrb p (w x) + (140 - 3)) := by
        have e7 : zI ((zwt p (w x) : Int) - 340) - nI (136 + zpar p (w x)) = zI ((zwt p (w x) : Int) - 340 - (136 + zpar p (w x))) := by
          rw [← zI_n, zI_sub]
          exact congrArg zI (by omega)
        have hsr := Jvm.Kit.i32_shr (zI ((zwt p (w x) : Int) - 340 - (136 + zpar p (w x)))) ((1 : Int32) &&& 31) (k := 1) (by decide)
        have e8 : zI ((zwt p (w x) : Int) - 340 - (136 + zpar p (w x))) >>> ((1 : Int32) &&& 31) = zI (((zwt p (w x) : Int) - 340 - (136 + zpar p (w x))) / 2) := by
          apply Int32.toInt_inj.mp
          rw [hsr, zI_t (by omega) (by omega), zI_t (by omega) (by omega)]
          rfl
        rw [e7, e8, show (-480 : Int32) = zI (-480) from rfl, zI_sub, ← zI_n]
        exact congrArg zI (by omega)
      refine ⟨17, xg_98 (fun G hG => ?_) 17 0 a_guess (by omega) (by omega) (fun j hj => absurd hj (by omega))⟩
      obtain ⟨F, hF⟩ : ∃ F : Nat, 2 ^ 102 + 1 < F := ⟨2 ^ 102 + 2, Nat.lt_succ_self _⟩
      refine ⟨F, xg_131 hc hs hro hx hi (by omega) m1 g1 f2 (by omega) hx3 h F (2 ^ 102) true f_below f_sticky a_row a_high a_part a_quotient a_square G hF (Nat.le_refl _) hG ?_ (fun z => Bool.noConfusion z)⟩
      have b1 := Nat.mul_lt_mul_of_pos_right m1 (Nat.two_pow_pos (136 + zpar p (w x)))
      rw [← zNp] at b1
      have b2 : (2 : Nat) ^ (64 + (136 + zpar p (w x))) ≤ 2 ^ 204 := zpl_le (by omega)
      have b3 : (2 : Nat) ^ 204 ≤ (2 ^ 102 + 1) * (2 ^ 102 + 1) := by decide
      omega
    · have e3 := of_decide_eq_true e3
      rw [if_pos e3] at h
      exact xs_copy hs ox hi hx (fun K M E L hK => h _ ⟨rfl, rfl, rfl, hK, hro⟩)
  · rw [if_neg (by omega), en, if_pos rfl] at h
    exact xs_invalid hs hi (fun K M E L hK => h _ ⟨rfl, rfl, rfl, hK, hro⟩)
end
end
section
/-! the root of the reference -/
theorem zbb_4 (A n k : Nat) (hn : n < 4) : zbb ((4 * A + n : Nat) : Int) (k + 2) = zbb (A : Int) k := by
  rw [zbb_n, zbb_n, show k + 2 = 2 + k from by omega, zNp, ← Nat.div_div_eq_div_mul]
  congr 2
  show (4 * A + n) / 4 = A
  omega
theorem zbb_2 (A n k : Nat) (hn : n < 2) : zbb ((2 * A + n : Nat) : Int) (k + 1) = zbb (A : Int) k := by
  rw [zbb_n, zbb_n, show k + 1 = 1 + k from by omega, zNp, ← Nat.div_div_eq_div_mul]
  congr 2
  show (2 * A + n) / 2 = A
  omega
/-- one step of the root on paper -/
theorem z_paper {N r m b : Nat} (hN : N = r * r + m) (hm : m ≤ 2 * r) (hb : b < 4) : (4 * r + 1 ≤ 4 * m + b → 4 * N + b = (2 * r + 1) * (2 * r + 1) + (4 * m + b - (4 * r + 1)) ∧ 4 * m + b - (4 * r + 1) ≤ 2 * (2 * r + 1)) ∧ (4 * m + b < 4 * r + 1 → 4 * N + b = (2 * r) * (2 * r) + (4 * m + b) ∧ 4 * m + b ≤ 2 * (2 * r)) := by
  have e1 : (2 * r + 1) * (2 * r + 1) = 4 * (r * r) + 4 * r + 1 := by grind
  have e2 : (2 * r) * (2 * r) = 4 * (r * r) := by grind
  refine ⟨fun c => ?_, fun c => ?_⟩
  · omega
  · omega
theorem z_paper_end {N r m : Nat} (hN : N = r * r + m) (hm : m ≤ 2 * r) : r = zsq N ∧ (m = 0 ↔ zsq N * zsq N = N) := by
  have e : r = zsq N := by
    refine zsq_u (by omega) ?_
    have e1 : (r + 1) * (r + 1) = r * r + 2 * r + 1 := by grind
    omega
  refine ⟨e, ?_⟩
  rw [← e]
  omega
section
variable {f_precision f_mode f_flags f_sticky f_wide : Int32} {f_rest : Int64} {a_sort a_exponent a_minus a_row : Nat → Int32} {a_mantissa : Nat → Int64}
theorem yg_append_l {post : SY → Prop} {a W A d : Nat} (ha : a ≤ 2) (hW : W ≤ 720) (hW2 : 2 ≤ W) (hd : d < 4) (h : ∀ l, zBB (720 * a) W ((4 * A + d : Nat) : Int) l → zfY (720 * a) W a_row l → post (f_precision, f_mode, f_flags, f_sticky, f_wide, f_rest, a_sort, a_exponent, a_minus, a_mantissa, l)) : ∀ n k l, 1 ≤ k → k < W → k < n → zfY (720 * a) W a_row l → (∀ j, j ≤ k → l (720 * a + j) = nI (zbb (A : Int) j)) → (∀ j, k < j → j < W → l (720 * a + j) = nI (zbb ((4 * A + d : Nat) : Int) j)) → wY_append_7 post (nI a) (nI d) f_precision f_mode f_flags f_sticky f_wide f_rest n (nI k) a_sort a_exponent a_minus a_mantissa l := by
  intro n
  induction n with
  | zero => intro k l _ _ h1; omega
  | succ n ih =>
    intro k l hk1 hk hn hf hlo hhi
    refine pk_le k 1 (fun c => ⟨by rw [zy_i0]; exact vp_in_nI (by omega) (by decide), fun l1 e1 => ⟨?_, fun l2 e2 => ?_⟩⟩) (fun c => ⟨?_, ?_, fun l1 e1 y ey => ?_⟩)
    · rw [zy_i0, nI_1]; exact vp_in_nI (by omega) (by decide)
    · have ek : k = 1 := by omega
      subst ek
      rw [zy_i0, nI_clamp (by omega), zw_m1 (by omega), zn_b2 (by omega)] at e1
      rw [zy_i0, nI_1, nI_clamp (by omega), zw_s1 (by omega), zn_b2 (by omega)] at e2
      subst e1 e2
      have f1 : zfY (720 * a) W l (upd l (720 * a + 0) (nI (d % 2))) := zfY_u l _ (by omega)
      have f2 : zfY (720 * a) W (upd l (720 * a) (nI (d % 2))) (upd (upd l (720 * a) (nI (d % 2))) (720 * a + 1) (nI (d / 2))) := zfY_u _ _ (by omega)
      refine h _ (fun j hj => ?_) (zfY_t hf (zfY_t f1 f2))
      by_cases c1 : j = 1
      · subst c1
        rw [pk_us, zbb_n]
        exact congrArg nI (by show d / 2 = (4 * A + d) / 2 % 2; omega)
      · by_cases c0 : j = 0
        · subst c0
          rw [pk_un (by omega), Nat.add_zero, pk_us, zbb_n, Nat.pow_zero, Nat.div_one]
          exact congrArg nI (by omega)
        · rw [pk_un (by omega), pk_un (by omega)]
          exact hhi j (by omega) hj
    · rw [zy_ix, show nI (720 * a + k) - 2 = nI (720 * a + k - 2) from pk_sub (b := 2) (by omega)]; exact vp_in_nI (by omega) (by decide)
    · rw [zy_ix]; exact vp_in_nI (by omega) (by decide)
    · have hlb := zbb_lt (A : Int) (k - 2)
      have e3 : l (720 * a + (k - 2)) = nI (zbb (A : Int) (k - 2)) := hlo (k - 2) (by omega)
      rw [zy_ix, show nI (720 * a + k) - 2 = nI (720 * a + (k - 2)) from (pk_sub (b := 2) (by omega)).trans (congrArg nI (by omega)), nI_clamp (by omega), nI_clamp (by omega), e3, zn_b (by omega)] at e1
      subst e1 ey
      obtain ⟨k', rfl⟩ : ∃ k', k = k' + 1 := ⟨k - 1, by omega⟩
      rw [pk_m1]
      refine ih k' _ (by omega) (by omega) (by omega) (zfY_t hf (zfY_u _ _ hk)) (fun j hj => ?_) (fun j hj hj2 => ?_)
      · rw [pk_un (by omega)]; exact hlo j (by omega)
      · by_cases c2 : j = k' + 1
        · subst c2
          rw [pk_us]
          obtain ⟨q, hq⟩ : ∃ q, k' + 1 = q + 2 := ⟨k' - 1, by omega⟩
          rw [hq, Nat.add_sub_cancel, zbb_4 A d q hd]
        · rw [pk_un (by omega)]; exact hhi j (by omega) hj2
theorem yg_append {post : SY → Prop} {a W A d : Nat} (ha : a ≤ 2) (hW : W ≤ 720) (hW2 : 2 ≤ W) (hd : d < 4) (hA : zBB (720 * a) W (A : Int) a_row) (h : ∀ l, zBB (720 * a) W ((4 * A + d : Nat) : Int) l → zfY (720 * a) W a_row l → post (f_precision, f_mode, f_flags, f_sticky, nI W, f_rest, a_sort, a_exponent, a_minus, a_mantissa, l)) : wpY_append post (f_precision, f_mode, f_flags, f_sticky, nI W, f_rest, a_sort, a_exponent, a_minus, a_mantissa, a_row) (nI a) (nI d) := by
  intro x ex
  rw [show nI W - 1 = nI (W - 1) from pk_sub (b := 1) (by omega)] at ex
  subst ex
  exact ⟨W, yg_append_l ha hW hW2 hd h W (W - 1) a_row (by omega) (by omega) (by omega) (zfY_r _ _ _) (fun j hj => hA j (by omega)) (fun j hj hj2 => by omega)⟩
/-- the root gets one more digit -/
theorem yg_170 {post : SY → Prop} {J : Int32 → Int32 → Int32 → Int32 → Int32 → Int32 → Int64 → (Nat → Int32) → (Nat → Int32) → (Nat → Int32) → (Nat → Int64) → (Nat → Int32) → Prop} {R k : Nat} {x1 x2 x4 : Int32} {b : Bool} (h : ∀ l, zBB 1440 210 ((2 * R + (if b then 1 else 0) : Nat) : Int) l → zfY 1440 210 a_row l → J (zI ((k : Int) - 1)) f_precision f_mode f_flags f_sticky 210 f_rest a_sort a_exponent a_minus a_mantissa l) : ∀ n j l, j < 210 → j < n → zfY 1440 210 a_row l → (∀ i, i ≤ j → l (1440 + i) = nI (zbb (R : Int) i)) → (∀ i, j < i → i < 210 → l (1440 + i) = nI (zbb ((2 * R + (if b then 1 else 0) : Nat) : Int) i)) → wY_dig_170 post J x1 x2 x4 (nI k) (zb1 b) f_precision f_mode f_flags f_sticky 210 f_rest n (nI j) a_sort a_exponent a_minus a_mantissa l := by
  have hb : (if b then 1 else 0) < 2 := by split <;> omega
  intro n
  induction n with
  | zero => intro j l _ h1; omega
  | succ n ih =>
    intro j l hj hn hf hlo hhi
    have fin : ∀ (l1 : Nat → Int32) (y : Int32), j = 0 → l1 = upd l (1440 + 0) (nI (if b then 1 else 0)) → y = nI k + (-1) → J y f_precision f_mode f_flags f_sticky 210 f_rest a_sort a_exponent a_minus a_mantissa l1 := by
      intro l1 y ej el ey
      have ey2 : y = zI ((k : Int) - 1) := by rw [ey, ← zI_n, show (-1 : Int32) = zI (-1) from rfl, zI_add]; exact congrArg zI (by omega)
      subst ey2 el
      refine h _ (fun i hi => ?_) (zfY_t hf (zfY_u _ _ (by omega)))
      by_cases c : i = 0
      · subst c
        rw [pk_us, zbb_n, Nat.pow_zero, Nat.div_one]
        exact congrArg nI (by omega)
      · rw [pk_un (by omega)]; exact hhi i (by omega) hi
    refine pk_le j 0 (fun c => ?_) (fun c => ⟨?_, ?_, fun l1 e1 y ey => ?_⟩)
    · cases b
      · exact br_t rfl (fun l1 e1 y ey => fin l1 y (by omega) (by rw [e1, show vp_nar .byte ((0 : Int32).toInt8.toInt32) = (0 : Int32) from zn_b2 (n := 0) (by decide)]; rfl) ey)
      · exact br_f (by decide) (fun l1 e1 y ey => fin l1 y (by omega) (by rw [e1, show vp_nar .byte ((1 : Int32).toInt8.toInt32) = (1 : Int32) from zn_b2 (n := 1) (by decide)]; rfl) ey)
    · rw [show (1440 : Int32) + nI j = nI (1440 + j) from nI_add 1440 j, show nI (1440 + j) - 1 = nI (1440 + j - 1) from pk_sub (b := 1) (by omega)]; exact vp_in_nI (by omega) (by decide)
    · rw [show (1440 : Int32) + nI j = nI (1440 + j) from nI_add 1440 j]; exact vp_in_nI (by omega) (by decide)
    · have hlb := zbb_lt (R : Int) (j - 1)
      have e3 : l (1440 + (j - 1)) = nI (zbb (R : Int) (j - 1)) := hlo (j - 1) (by omega)
      rw [show (1440 : Int32) + nI j = nI (1440 + j) from nI_add 1440 j, show nI (1440 + j) - 1 = nI (1440 + (j - 1)) from (pk_sub (b := 1) (by omega)).trans (congrArg nI (by omega)), nI_clamp (by omega), nI_clamp (by omega), e3, zn_b (by omega)] at e1
      subst e1 ey
      obtain ⟨j', rfl⟩ : ∃ j', j = j' + 1 := ⟨j - 1, by omega⟩
      rw [pk_m1]
      refine ih j' _ (by omega) (by omega) (zfY_t hf (zfY_u _ _ hj)) (fun i hi => ?_) (fun i hi hi2 => ?_)
      · rw [pk_un (by omega)]; exact hlo i (by omega)
      · by_cases c2 : i = j' + 1
        · subst c2
          rw [pk_us, Nat.add_sub_cancel, zbb_2 R _ j' hb]
        · rw [pk_un (by omega)]; exact hhi i (by omega) hi2
theorem yg_273 {post : SY → Prop} {R o : Nat} (hR : R < 2 ^ 98) (ho : o + 98 ≤ 720) (h : ∀ l, zBB 0 720 ((R * 2 ^ o : Nat) : Int) l → post (f_precision, f_mode, f_flags, f_sticky, f_wide, f_rest, a_sort, a_exponent, a_minus, a_mantissa, l)) : ∀ n k l, k ≤ 98 → 98 - k < n → (∀ j, j < 720 → l j = if j < o + k then nI (zbb ((R * 2 ^ o : Nat) : Int) j) else 0) → (∀ i, i < 98 → l (1440 + i) = nI (zbb (R : Int) i)) → wY_dig_273 post (nI o) f_precision f_mode f_flags f_sticky f_wide f_rest n (nI k) a_sort a_exponent a_minus a_mantissa l := by
  intro n
  induction n with
  | zero => intro k l _ h1; omega
  | succ n ih =>
    intro k l hk hn hz hl2
    refine pk_le 98 k (fun c => h l (fun j hj => ?_)) (fun c => ⟨?_, ?_, fun l1 el y ey => ?_⟩)
    · rw [Nat.zero_add, hz j hj]
      by_cases c1 : j < o + k
      · rw [if_pos c1]
      · rw [if_neg c1, zbb_mul, if_neg (by omega), Nat.div_eq_of_lt (Nat.lt_of_lt_of_le hR (zpl_le (by omega)))]
        rfl
    · rw [show (1440 : Int32) + nI k = nI (1440 + k) from nI_add 1440 k]; exact vp_in_nI (by omega) (by decide)
    · rw [nI_add]; exact vp_in_nI (by omega) (by decide)
    · have hlb := zbb_lt (R : Int) k
      rw [show (1440 : Int32) + nI k = nI (1440 + k) from nI_add 1440 k, nI_add, nI_clamp (by omega), nI_clamp (by omega), hl2 k (by omega), zn_b (by omega)] at el
      subst el ey
      rw [nI_1]
      refine ih (k + 1) _ (by omega) (by omega) (fun j hj => ?_) (fun i hi => ?_)
      · by_cases e : j = o + k
        · subst e
          rw [pk_us, if_pos (by omega), zbb_mul, if_neg (by omega), Nat.add_sub_cancel_left, zbb_n]
        · rw [pk_un e, hz j hj]
          by_cases c1 : j < o + k
          · rw [if_pos c1, if_pos (by omega)]
          · rw [if_neg c1, if_neg (by omega)]
      · rw [pk_un (by omega)]; exact hl2 i hi
end
end
section
/-! the digits of the root, joined -/
theorem zI_half {q : Int} (h1 : -1000000 < q) (h2 : q < 1000000) : zI (2 * q) / 2 = zI q := by
  apply Int32.toInt_inj.mp
  rw [Int32.toInt_div, zI_t (by omega) (by omega), zI_t (by omega) (by omega), show (2 : Int32).toInt = 2 from by decide]
  have e : (2 * q).tdiv 2 = q := by rw [Int.mul_comm, Int.mul_tdiv_cancel _ (by decide)]
  rw [e]
  exact Int.bmod_eq_of_le (by omega) (by omega)
section
variable {f_precision f_mode f_flags f_sticky f_wide : Int32} {f_rest : Int64} {a_sort a_exponent a_minus a_row : Nat → Int32} {a_mantissa : Nat → Int64}
theorem yg_in64 {post : Int32 → Prop} {z : Int} (hz : -100000 < z ∧ z < 100000) (h : post (zb1 (decide (0 ≤ z ∧ z < 64)))) : wpY_in64 post (zI z) := by
  refine zk_lt z 0 (fun c => ?_) (fun c => zk_le 64 z (fun c2 => ?_) (fun c2 => ?_))
  · rw [decide_eq_false (by omega)] at h; exact h
  · rw [decide_eq_false (by omega)] at h; exact h
  · rw [decide_eq_true (by omega)] at h; exact h
/-- what a turn of the loop does -/
theorem yg_113 {post : SY → Prop} {J : Int32 → Int32 → Int32 → Int32 → Int32 → Int32 → Int64 → (Nat → Int32) → (Nat → Int32) → (Nat → Int32) → (Nat → Int64) → (Nat → Int32) → Prop} {R m k b0 b1 : Nat} {x1 x2 x4 : Int32} (hR : R < 2 ^ 98) (hm : m ≤ 2 * R) (hb0 : b0 < 2) (hb1 : b1 < 2) (h0 : zBB 0 210 (m : Int) a_row) (h00 : ∀ j, 210 ≤ j → j < 720 → a_row j = 0) (h2 : zBB 1440 210 (R : Int) a_row) (h : ∀ (l : Nat → Int32) (R' m' : Nat), (4 * R + 1 ≤ 4 * m + (2 * b1 + b0) → R' = 2 * R + 1 ∧ m' = 4 * m + (2 * b1 + b0) - (4 * R + 1)) → (4 * m + (2 * b1 + b0) < 4 * R + 1 → R' = 2 * R ∧ m' = 4 * m + (2 * b1 + b0)) → zBB 0 210 (m' : Int) l → (∀ j, 210 ≤ j → j < 720 → l j = 0) → zBB 1440 210 (R' : Int) l → J (zI ((k : Int) - 1)) f_precision f_mode f_flags f_sticky 210 f_rest a_sort a_exponent a_minus a_mantissa l) : wY_dig_113 post J x1 x2 x4 (nI k) (nI b0) ((2 : Int32) * nI b1) f_precision f_mode f_flags f_sticky 210 f_rest a_sort a_exponent a_minus a_mantissa a_row := by
  intro x8 e8
  have e8b : x8 = nI (2 * b1 + b0) := by rw [e8, show (2 : Int32) = nI 2 from rfl, pk_mul, nI_add]
  subst e8b
  have b210 : ∀ X, X < 2 ^ 102 → X < 2 ^ 210 := fun X hX => Nat.lt_trans hX (zpl_lt (by decide))
  have p98 : (2 : Nat) ^ 102 = 16 * 2 ^ 98 := by decide
  refine yg_append (a := 0) (W := 210) (by omega) (by omega) (by omega) (by omega) h0 (fun l1 k1 f1 => ?_)
  have h2a := zBB_f (o := 1440) (n := 210) h2 f1 (by omega)
  refine yr_copy (a := 2) (b := 1) (W := 210) (by omega) (by omega) (by omega) (by omega) h2a (fun l2 k2 f2 => ?_)
  have h0b := zBB_f (o := 0) (n := 210) k1 f2 (by omega)
  have h2b := zBB_f (o := 1440) (n := 210) h2a f2 (by omega)
  refine yg_append (a := 1) (W := 210) (d := 1) (by omega) (by omega) (by omega) (by omega) k2 (fun l3 k3 f3 => ?_)
  have h0c := zBB_f (o := 0) (n := 210) h0b f3 (by omega)
  have h2c := zBB_f (o := 1440) (n := 210) h2b f3 (by omega)
  have hz3 : ∀ j, 210 ≤ j → j < 720 → l3 j = 0 := fun j hj hj2 => by
    rw [f3 j (by omega), f2 j (by omega), f1 j (by omega)]; exact h00 j hj hj2
  refine yr_cmp (a := 0) (b := 1) (W := 210) (by omega) (by omega) (by omega) h0c k3 (b210 _ (by omega)) (b210 _ (by omega)) ?_
  -- the row of the root, and on
  have g : ∀ (l4 : Nat → Int32) (m' : Nat) (bb : Bool), (4 * R + 1 ≤ 4 * m + (2 * b1 + b0) → bb = true ∧ m' = 4 * m + (2 * b1 + b0) - (4 * R + 1)) → (4 * m + (2 * b1 + b0) < 4 * R + 1 → bb = false ∧ m' = 4 * m + (2 * b1 + b0)) → zBB 0 210 (m' : Int) l4 → (∀ j, 210 ≤ j → j < 720 → l4 j = 0) → zBB 1440 210 (R : Int) l4 → ∀ x10 : Int32, x10 = (210 : Int32) - 1 → ∃ n, wY_dig_170 post J x1 x2 x4 (nI k) (zb1 bb) f_precision f_mode f_flags f_sticky 210 f_rest n x10 a_sort a_exponent a_minus a_mantissa l4 := by
    intro l4 m' bb c1 c2 q0 qz q2 x10 e10
    have e10b : x10 = nI 209 := by rw [e10]; decide
    subst e10b
    refine ⟨210, yg_170 (fun l5 q5 f5 => ?_) 210 209 l4 (by omega) (by omega) (zfY_r _ _ _) (fun i hi => q2 i (by omega)) (fun i hi hi2 => by omega)⟩
    refine h l5 (2 * R + (if bb then 1 else 0)) m' (fun c => ?_) (fun c => ?_) (zBB_f q0 f5 (by omega)) (fun j hj hj2 => ?_) q5
    · obtain ⟨e1, e2⟩ := c1 c
      exact ⟨by rw [e1]; rfl, e2⟩
    · obtain ⟨e1, e2⟩ := c2 c
      exact ⟨by rw [e1]; rfl, e2⟩
    · rw [f5 j (by omega)]; exact qz j hj hj2
  unfold zcmp
  have hs := fun (c : 4 * R + 1 ≤ 4 * m + (2 * b1 + b0)) => (show wY_dig_149 post J x1 x2 x4 (nI k) 1 f_precision f_mode f_flags f_sticky 210 f_rest a_sort a_exponent a_minus a_mantissa l3 from by
    refine br_f (by decide) ?_
    refine yr_sub (a := 0) (b := 1) (W := 210) (by omega) (by omega) (by omega) (by omega) h0c k3 (fun l4 k4 f4 x10 e10 => ?_)
    have e3 : ((4 * m + (2 * b1 + b0) : Nat) : Int) - ((4 * R + 1 : Nat) : Int) = ((4 * m + (2 * b1 + b0) - (4 * R + 1) : Nat) : Int) := by omega
    rw [e3] at k4
    exact g l4 _ true (fun _ => ⟨rfl, rfl⟩) (fun z => by omega) k4 (fun j hj hj2 => by rw [f4 j (by omega)]; exact hz3 j hj hj2) (zBB_f h2c f4 (by omega)) x10 e10)
  by_cases c1 : 4 * m + (2 * b1 + b0) = 4 * R + 1
  · rw [if_pos c1]
    exact br_f (by decide) (hs (by omega))
  · rw [if_neg c1]
    by_cases c2 : 4 * m + (2 * b1 + b0) < 4 * R + 1
    · rw [if_pos c2]
      refine br_t (by decide) (br_t rfl (fun x10 e10 => ?_))
      exact g l3 _ false (fun z => by omega) (fun _ => ⟨rfl, rfl⟩) h0c hz3 h2c x10 e10
    · rw [if_neg c2]
      exact br_f (by decide) (hs (by omega))
theorem yg_38 {post : SY → Prop} {x M fr o : Nat} {x2 : Int32} (hx : x < 8) (hmx : a_mantissa x = lN M) (hM : M < 2 ^ 64) (hfr : fr = 130 ∨ fr = 131) (ho : o + 98 ≤ 720) (hx2 : (340 : Int32) + (x2 - nI fr) / 2 = nI o) (h : ∀ l, zBB 0 720 ((zsq (M * 2 ^ fr) * 2 ^ o : Nat) : Int) l → post (f_precision, f_mode, f_flags, zb1 (decide (zsq (M * 2 ^ fr) * zsq (M * 2 ^ fr) ≠ M * 2 ^ fr)), 720, f_rest, a_sort, a_exponent, a_minus, a_mantissa, l)) : ∀ (n k R m : Nat) (l : Nat → Int32), k ≤ 98 → k < n → M * 2 ^ fr / 2 ^ (2 * k) = R * R + m → m ≤ 2 * R → R < 2 ^ (98 - k) → zBB 0 210 (m : Int) l → (∀ j, 210 ≤ j → j < 720 → l j = 0) → zBB 1440 210 (R : Int) l → wY_dig_38 post (nI x) x2 (nI fr) n (zI ((k : Int) - 1)) f_precision f_mode f_flags f_sticky 210 f_rest a_sort a_exponent a_minus a_mantissa l := by
  intro n
  induction n with
  | zero => intro k R m l _ h1; omega
  | succ n ih =>
    intro k R m l hk hn hN hm hR h0 h00 h2
    have hR98 : R < 2 ^ 98 := Nat.lt_of_lt_of_le hR (zpl_le (by omega))
    refine zk_lt ((k : Int) - 1) 0 (fun hk0 => ?_) (fun hk0 x6 e6 x7 e7 => ?_)
    · have ek : k = 0 := by omega
      subst ek
      rw [Nat.mul_zero, Nat.pow_zero, Nat.div_one] at hN
      obtain ⟨p1, p2⟩ := z_paper_end hN hm
      -- row 0 is the rest
      have hm210 : m < 2 ^ 210 := by
        have p99 : (2 : Nat) ^ 99 = 2 * 2 ^ 98 := by decide
        exact Nat.lt_trans (show m < 2 ^ 99 by omega) (zpl_lt (by decide))
      have hfull : zBB 0 720 (m : Int) l := by
        intro j hj
        by_cases c : j < 210
        · exact h0 j c
        · rw [Nat.zero_add, h00 j (by omega) hj, zbb_n, Nat.div_eq_of_lt (Nat.lt_of_lt_of_le hm210 (zpl_le (by omega)))]
          rfl
      have g250 : ∀ b : Bool, b = decide (zsq (M * 2 ^ fr) * zsq (M * 2 ^ fr) ≠ M * 2 ^ fr) → wY_dig_250 post x2 (nI fr) (zb1 b) f_precision f_mode f_flags f_sticky 720 f_rest a_sort a_exponent a_minus a_mantissa l := by
        intro b hb
        rw [← hb] at h
        refine ⟨zb1_n b, zb1_f b, ?_⟩
        refine yr_clear (r := 0) (by omega) (fun l2 k2 f2 => ⟨by decide, fun x5 e5 => ?_⟩)
        rw [hx2] at e5
        subst e5
        rw [← p1] at h
        refine ⟨99, yg_273 (R := R) hR98 ho h 99 0 l2 (by omega) (by omega) (fun j hj => ?_) (fun i hi => ?_)⟩
        · have := k2 j hj
          rw [Nat.mul_zero, Nat.zero_add, zbb_0] at this
          rw [this]
          by_cases c : j < o + 0
          · rw [if_pos c, zbb_mul, if_pos (by omega)]
          · rw [if_neg c]; rfl
        · rw [f2 (1440 + i) (by omega)]; exact h2 i (by omega)
      by_cases hm0 : m = 0
      · have hz : zBB 0 720 0 l := by rw [hm0] at hfull; exact hfull
        refine yr_top0 hz (br_t (by decide) (g250 false ?_))
        rw [decide_eq_false]
        exact fun z => z (p2.mp hm0)
      · have hlg : m.log2 < 210 := (Nat.log2_lt hm0).mpr hm210
        refine yr_top hfull (z_log1 hm0) (z_log2 _) (by omega) (br_f (nI_pos (by omega)) (g250 true ?_))
        rw [decide_eq_true]
        exact fun z => hm0 (p2.mpr z)
    · obtain ⟨k', rfl⟩ : ∃ k', k = k' + 1 := ⟨k - 1, by omega⟩
      have e1 : zI (((k' + 1 : Nat) : Int) - 1) = nI k' := by rw [← zI_n]; exact congrArg zI (by omega)
      rw [e1] at e6 e7 ⊢
      have e6b : x6 = zI (2 * (k' : Int) + 1 - fr) := by
        rw [e6, show (2 : Int32) = nI 2 from rfl, pk_mul, show (1 : Int32) = nI 1 from rfl, nI_add, ← zI_n, ← zI_n, zI_sub]
        exact congrArg zI (by omega)
      have e7b : x7 = zI (2 * (k' : Int) - fr) := by
        rw [e7, show (2 : Int32) = nI 2 from rfl, pk_mul, ← zI_n, ← zI_n, zI_sub]
        exact congrArg zI (by omega)
      subst e6b e7b
      -- the next two bits
      have hX : M * 2 ^ fr / 2 ^ (2 * k') = 4 * (M * 2 ^ fr / 2 ^ (2 * (k' + 1))) + (2 * zbb ((M * 2 ^ fr : Nat) : Int) (2 * k' + 1) + zbb ((M * 2 ^ fr : Nat) : Int) (2 * k')) := by
        rw [zbb_n, zbb_n, show 2 * (k' + 1) = 2 * k' + 2 from by omega, zNp (2 * k') 2, zNp (2 * k') 1, ← Nat.div_div_eq_div_mul, ← Nat.div_div_eq_div_mul]
        generalize M * 2 ^ fr / 2 ^ (2 * k') = y
        show y = 4 * (y / 4) + (2 * (y / 2 % 2) + y % 2)
        omega
      have hb1 := zbb_lt ((M * 2 ^ fr : Nat) : Int) (2 * k' + 1)
      have hb0 := zbb_lt ((M * 2 ^ fr : Nat) : Int) (2 * k')
      rw [hN] at hX
      have hpp := z_paper (N := R * R + m) (b := 2 * zbb ((M * 2 ^ fr : Nat) : Int) (2 * k' + 1) + zbb ((M * 2 ^ fr : Nat) : Int) (2 * k')) rfl hm (by omega)
      have hR2 : 2 * 2 ^ (98 - (k' + 1)) = 2 ^ (98 - k') := by
        rw [show 98 - k' = 98 - (k' + 1) + 1 from by omega, Nat.pow_succ, Nat.mul_comm]
      have g113 := yg_113 (post := post) (J := wY_dig_38 post (nI x) x2 (nI fr) n) (k := k') (x1 := nI x) (x2 := x2) (x4 := nI fr) (f_precision := f_precision) (f_mode := f_mode) (f_flags := f_flags) (f_sticky := f_sticky) (f_rest := f_rest) (a_sort := a_sort) (a_exponent := a_exponent) (a_minus := a_minus) (a_mantissa := a_mantissa) hR98 hm hb0 hb1 h0 h00 h2 (fun l5 R' m' c1 c2 q0 qz q2 => by
        by_cases c : 4 * R + 1 ≤ 4 * m + (2 * zbb ((M * 2 ^ fr : Nat) : Int) (2 * k' + 1) + zbb ((M * 2 ^ fr : Nat) : Int) (2 * k'))
        · obtain ⟨rfl, rfl⟩ := c1 c
          obtain ⟨d1, d2⟩ := hpp.1 c
          exact ih k' _ _ l5 (by omega) (by omega) (by rw [hX, d1]) d2 (by omega) q0 qz q2
        · obtain ⟨rfl, rfl⟩ := c2 (by omega)
          obtain ⟨d1, d2⟩ := hpp.2 (by omega)
          exact ih k' _ _ l5 (by omega) (by omega) (by rw [hX, d1]) d2 (by omega) q0 qz q2)
      -- the lower bit
      have g88 : ∀ z0 : Int32, z0 = nI (zbb ((M * 2 ^ fr : Nat) : Int) (2 * k' + 1)) → wY_dig_88 post (wY_dig_38 post (nI x) x2 (nI fr) n) (nI x) x2 (nI fr) (nI k') (zI (2 * (k' : Int) - fr)) z0 2 f_precision f_mode f_flags f_sticky 210 f_rest a_sort a_exponent a_minus a_mantissa l := by
        intro z0 hz0
        subst hz0
        unfold wY_dig_88
        refine yg_in64 (by omega) (zk_b (fun e => ?_) (fun e => ⟨vp_in_nI hx (by decide), ?_⟩))
        · have e := of_decide_eq_false e
          have eb : zbb ((M * 2 ^ fr : Nat) : Int) (2 * k') = 0 := by
            rw [zbb_mul]
            by_cases c : 2 * k' < fr
            · rw [if_pos c]
            · rw [if_neg c, Nat.div_eq_of_lt (Nat.lt_of_lt_of_le hM (zpl_le (by omega)))]
          rw [eb] at g113
          exact g113
        · have e := of_decide_eq_true e
          have ez : zI (2 * (k' : Int) - fr) = nI (2 * k' - fr) := by rw [← zI_n]; exact congrArg zI (by omega)
          rw [ez, nI_clamp (by omega), hmx, zy_bitI hM (by omega)]
          rw [zbb_mul M fr (2 * k'), if_neg (by omega)] at g113
          exact g113
      refine yg_in64 (by omega) (zk_b (fun e => ?_) (fun e => ⟨vp_in_nI hx (by decide), ?_⟩))
      · have e := of_decide_eq_false e
        refine g88 0 ?_
        have eb : zbb ((M * 2 ^ fr : Nat) : Int) (2 * k' + 1) = 0 := by
          rw [zbb_mul]
          by_cases c : 2 * k' + 1 < fr
          · rw [if_pos c]
          · rw [if_neg c, Nat.div_eq_of_lt (Nat.lt_of_lt_of_le hM (zpl_le (by omega)))]
        rw [eb]; rfl
      · have e := of_decide_eq_true e
        have ez : zI (2 * (k' : Int) + 1 - fr) = nI (2 * k' + 1 - fr) := by rw [← zI_n]; exact congrArg zI (by omega)
        rw [ez, nI_clamp (by omega), hmx, zy_bitI hM (by omega)]
        refine g88 _ ?_
        rw [zbb_mul, if_neg (by omega)]
theorem yg_dig {post : SY → Prop} {p md x : Nat} {w : Nat → ZV} (hc : zC p md w) (hs : zYS w a_sort a_minus a_exponent a_mantissa) (hx : x < 8) (kx2 : (w x).1 = 2) (h : ∀ l, zBB 0 720 ((zsq ((w x).2.2.2 * 2 ^ (130 + zpar p (w x))) * 2 ^ zrb p (w x) : Nat) : Int) l → post (nI p, f_mode, f_flags, zb1 (decide (zsq ((w x).2.2.2 * 2 ^ (130 + zpar p (w x))) * zsq ((w x).2.2.2 * 2 ^ (130 + zpar p (w x))) ≠ (w x).2.2.2 * 2 ^ (130 + zpar p (w x)))), 720, f_rest, a_sort, a_exponent, a_minus, a_mantissa, l)) : wpY_dig post (nI p, f_mode, f_flags, f_sticky, f_wide, f_rest, a_sort, a_exponent, a_minus, a_mantissa, a_row) (nI x) := by
  have ox := hc.2.2.2 x hx
  have hp := hc.2.1
  obtain ⟨q1, q2⟩ := (hs x hx).2.2 kx2
  obtain ⟨g1, g2, g3, g4, g5⟩ := ox.2.1 kx2
  have m1 := zOK_64 ox hp kx2
  have wa := zwt_i hp ox kx2
  have hpar : zpar p (w x) = zwt p (w x) % 2 := rfl
  have hrb : 2 * zrb p (w x) = zwt p (w x) + 210 - zpar p (w x) := by unfold zrb; omega
  refine ⟨vp_in_nI hx (by decide), ?_⟩
  have ew : a_exponent (nI x).toNatClampNeg - nI p + 1 = zI ((zwt p (w x) : Int) - 340) := by
    rw [nI_clamp (by omega), q1, ← zI_n p, zI_sub, show (1 : Int32) = zI 1 from rfl, zI_add]
    exact congrArg zI (by omega)
  rw [ew]
  intro x3 e3 x4 e4
  have e3b : x3 = nI (zpar p (w x)) := by
    have hm1 := Jvm.Kit.i32_mask (zI ((zwt p (w x) : Int) - 340)) 1 (k := 1) (by decide) (by decide)
    rw [e3]
    apply Int32.toInt_inj.mp
    rw [hm1, zI_t (by omega) (by omega), nI_toInt (by omega), hpar]
    show ((zwt p (w x) : Int) - 340) % 2 = ((zwt p (w x) % 2 : Nat) : Int)
    omega
  subst e3b
  have e4b : x4 = nI (130 + zpar p (w x)) := by rw [e4]; exact nI_add 130 _
  subst e4b
  have hx2 : (340 : Int32) + (zI ((zwt p (w x) : Int) - 340) - nI (130 + zpar p (w x))) / 2 = nI (zrb p (w x)) := by
    have e5 : zI ((zwt p (w x) : Int) - 340) - nI (130 + zpar p (w x)) = zI (2 * ((zrb p (w x) : Int) - 340)) := by
      rw [← zI_n, zI_sub]
      exact congrArg zI (by omega)
    rw [e5, zI_half (by omega) (by omega), show (340 : Int32) = zI 340 from rfl, zI_add, ← zI_n]
    exact congrArg zI (by omega)
  refine yr_clear (r := 0) (by omega) (fun l1 k1 f1 => ?_)
  refine yr_clear (r := 2) (by omega) (fun l2 k2 f2 => ?_)
  have h0 : zBB 0 720 0 l2 := zBB_f k1 f2 (by omega)
  have hlt : (w x).2.2.2 * 2 ^ (130 + zpar p (w x)) < 2 ^ (2 * 98) := by
    have := Nat.mul_lt_mul_of_pos_right m1 (Nat.two_pow_pos (130 + zpar p (w x)))
    rw [← zNp] at this
    exact Nat.lt_of_lt_of_le this (zpl_le (by omega))
  refine ⟨99, yg_38 hx q2 m1 (by omega) (by omega) hx2 h 99 98 0 0 l2 (by omega) (by omega) (by rw [Nat.div_eq_of_lt hlt]) (by omega) (Nat.two_pow_pos _) (fun j hj => h0 j (by omega)) (fun j hj hj2 => ?_) (fun j hj => k2 j (by omega))⟩
  have := h0 j hj2
  rw [Nat.zero_add, zbb_0] at this
  exact this
theorem yg_root {post : Int32 → SY → Prop} {p md i x : Nat} {w : Nat → ZV} (hc : zC p md w) (hs : zYS w a_sort a_minus a_exponent a_mantissa) (hx : x < 8) (hi : i < 8) (h : ∀ v, zYR p md (zro p md (w x) f_flags).2 (zst w i (zro p md (w x) f_flags).1) v → post 1 v) : wpY_root post (nI p, nI md, f_flags, f_sticky, 720, f_rest, a_sort, a_exponent, a_minus, a_mantissa, a_row) (nI x) (nI i) := by
  have ox := hc.2.2.2 x hx
  have k1 := zOK_le ox
  have vx := vp_in_nI hx (show 8 < 2 ^ 31 by decide)
  unfold zro at h
  have g35 : ((w x).1 = 4 ∨ (w x).1 = 0) → wY_root_35 post (nI x) (nI i) (nI p) (nI md) f_flags f_sticky 720 f_rest a_sort a_exponent a_minus a_mantissa a_row := by
    intro q
    rw [if_pos q] at h
    refine ⟨vx, vx, ?_⟩
    rw [nI_clamp (by omega), (hs x hx).2.1, (hs x hx).1]
    refine yo_give (k := (w x).1) (ng := (w x).2.1) (r := w x) hs hi k1 rfl ?_ (fun z => by omega) (fun S Mi E Ma hS => h _ ⟨rfl, rfl, rfl, rfl, hS⟩)
    by_cases e4 : (w x).1 = 4
    · rw [ox.2.2 e4]; rfl
    · simp [e4]
  unfold wpY_root
  dsimp only
  refine zs_Y hx (br_f (by decide) (zs_Y hi (br_f (by decide) ⟨vx, ?_⟩)))
  rw [nI_clamp (by omega), (hs x hx).2.1, (hs x hx).1]
  refine pk_eq (w x).1 4 (fun e => g35 (Or.inl e)) (fun e4 => ⟨vx, pk_eq (w x).1 0 (fun e => g35 (Or.inr e)) (fun e0 => ⟨vx, zk_b (fun en => ⟨vx, pk_eq (w x).1 3 (fun e3 => ?_) (fun e3 => ?_)⟩) (fun en => ?_)⟩)⟩)
  · rw [if_neg (by omega), en, if_neg (by decide), if_pos e3] at h
    exact yo_give (k := 3) (ng := false) (r := w x) hs hi (by omega) e3 (by rw [en]; rfl) (fun z => absurd z (by decide)) (fun S Mi E Ma hS => h _ ⟨rfl, rfl, rfl, rfl, hS⟩)
  · rw [if_neg (by omega), en, if_neg (by decide), if_neg e3] at h
    have kx2 : (w x).1 = 2 := by have := ox.1; omega
    have m1 := zOK_64 ox hc.2.1 kx2
    have wa := zwt_i hc.2.1 ox kx2
    obtain ⟨g1, g2, g3, g4, g5⟩ := ox.2.1 kx2
    have hrb : 2 * zrb p (w x) = zwt p (w x) + 210 - zpar p (w x) := by unfold zrb zpar; omega
    have hpar : zpar p (w x) = zwt p (w x) % 2 := rfl
    refine yg_dig hc hs hx kx2 (fun l hl => ?_)
    have hlt : zsq ((w x).2.2.2 * 2 ^ (130 + zpar p (w x))) * 2 ^ zrb p (w x) < 2 ^ 720 := by
      have b0 := (zsq_s ((w x).2.2.2 * 2 ^ (130 + zpar p (w x)))).1
      have b1 : (w x).2.2.2 * 2 ^ (130 + zpar p (w x)) < 2 ^ 195 := by
        have := Nat.mul_lt_mul_of_pos_right m1 (Nat.two_pow_pos (130 + zpar p (w x)))
        rw [← zNp] at this
        exact Nat.lt_of_lt_of_le this (zpl_le (by omega))
      have b2 : zsq ((w x).2.2.2 * 2 ^ (130 + zpar p (w x))) < 2 ^ 98 := by
        rcases Nat.lt_or_ge (zsq ((w x).2.2.2 * 2 ^ (130 + zpar p (w x)))) (2 ^ 98) with q | q
        · exact q
        · exfalso
          have := Nat.mul_le_mul q q
          rw [← zNp] at this
          have p195 : (2 : Nat) ^ 195 < 2 ^ (98 + 98) := zpl_lt (by decide)
          exact absurd (Nat.lt_of_le_of_lt (Nat.le_trans this b0) (Nat.lt_trans b1 p195)) (Nat.lt_irrefl _)
      have := Nat.mul_lt_mul_of_pos_right b2 (Nat.two_pow_pos (zrb p (w x)))
      rw [← zNp] at this
      exact Nat.lt_of_lt_of_le this (zpl_le (by omega))
    exact yo_round (ng := false) hc.2.2.1 hs hl hlt hc.1 hc.2.1 hi (fun S Mi E Ma hS => h _ ⟨rfl, rfl, rfl, rfl, hS⟩)
  · rw [if_neg (by omega), en, if_pos rfl] at h
    exact yo_invalid hs hi (fun S Mi E Ma hS => h _ ⟨rfl, rfl, rfl, rfl, hS⟩)
end
theorem i_vc_root {k : Nat} {u : SX} {v : SY} (I : i_Rel k u v) (hk : k + 5 ≤ 2561) (v1 : Int32) (v2 : Int32) : wpX_root (fun r u' => wpY_root (fun r' v' => r' = r ∧ i_Rel (k + 5) u' v') v v1 v2) u v1 v2 := by
  obtain ⟨p, md, f, w, hc, hX, hY⟩ := I
  obtain ⟨f_p, f_mode, f_flags, f_below, f_sticky, a_kinds, a_minus, a_exponents, a_limb, a_row, a_one, a_two, a_roots, a_high, a_part, a_quotient, a_square, a_guess⟩ := u
  obtain ⟨rfl, rfl, rfl, hs, hro⟩ := hX
  obtain ⟨g_precision, g_mode, g_flags, g_sticky, g_wide, g_rest, b_sort, b_exponent, b_minus, b_mantissa, b_row⟩ := v
  obtain ⟨rfl, rfl, rfl, rfl, ht⟩ := hY
  have same : i_Rel (k + 5) (nI p, nI md, g_flags, f_below, f_sticky, a_kinds, a_minus, a_exponents, a_limb, a_row, a_one, a_two, a_roots, a_high, a_part, a_quotient, a_square, a_guess) (nI p, nI md, g_flags, g_sticky, 720, g_rest, b_sort, b_exponent, b_minus, b_mantissa, b_row) := ⟨p, md, _, w, hc, ⟨rfl, rfl, rfl, hs, hro⟩, ⟨rfl, rfl, rfl, rfl, ht⟩⟩
  rcases zs_ix v1 with hb | ⟨x, hx, rfl⟩
  · unfold wpX_root wpY_root
    exact hb.1 _ (br_t rfl (hb.2 _ (br_t rfl ⟨rfl, same⟩)))
  · rcases zs_ix v2 with hb | ⟨i, hi, rfl⟩
    · unfold wpX_root wpY_root
      exact zs_X hx (br_f (by decide) (hb.1 _ (br_t rfl (zs_Y hx (br_f (by decide) (hb.2 _ (br_t rfl ⟨rfl, same⟩)))))))
    · exact xg_root hc hs hro hx hi (fun u hu => yg_root hc ht hx hi (fun v hv => ⟨rfl, p, md, _, _, zC_s hc (zro_ok hc.1 hc.2.1 (hc.2.2.2 x hx)), hu, hv⟩))
end
