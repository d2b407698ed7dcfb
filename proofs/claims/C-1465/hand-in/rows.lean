section
/-! pure rows to paste: stores, nI and lN arithmetic, masks, shifts, narrowing, branches by naturals (pk_le, pk_lt, pk_eq), loops (lp1 .. lp16: the measure of the state; rp1 ..: recursion), negatives. Take what you need -/
theorem pk_us {f : Nat → Int32} {k : Nat} {x : Int32} : upd f k x k = x := if_pos rfl
theorem pk_un {f : Nat → Int32} {k j : Nat} {x : Int32} (h : j ≠ k) : upd f k x j = f j := if_neg h
theorem pk_uLs {f : Nat → Int64} {k : Nat} {x : Int64} : vp_updL f k x k = x := if_pos rfl
theorem pk_uLn {f : Nat → Int64} {k j : Nat} {x : Int64} (h : j ≠ k) : vp_updL f k x j = f j := if_neg h
theorem pk_sub {a b : Nat} (h : b ≤ a) : nI a - nI b = nI (a - b) := by
  obtain ⟨c, rfl⟩ : ∃ c, a = c + b := ⟨a - b, by omega⟩
  rw [← nI_add, Int32.add_sub_cancel, Nat.add_sub_cancel]
theorem pk_m1 (n : Nat) : nI (n + 1) + (-1) = nI n := by
  rw [← nI_1, Int32.add_assoc, show (1 : Int32) + (-1) = 0 from rfl, Int32.add_zero]
theorem pk_mul (a b : Nat) : nI a * nI b = nI (a * b) := (Int32.ofNat_mul a b).symm
theorem pk_div {a d : Nat} (ha : a < 2 ^ 31) (h0 : 0 < d) (hd : d < 2 ^ 31) : nI a / nI d = nI (a / d) := by
  apply Int32.toInt_inj.mp
  rw [lg_idiv_nonneg (by rw [nI_toInt ha]; omega) (by rw [nI_toInt hd]; omega), nI_toInt ha, nI_toInt hd, nI_toInt (Nat.lt_of_le_of_lt (Nat.div_le_self a d) ha)]
  first | rfl | exact (Int.natCast_ediv _ _).symm
theorem pk_rem {a d : Nat} (ha : a < 2 ^ 31) (h0 : 0 < d) (hd : d < 2 ^ 31) : nI a - nI a / nI d * nI d = nI (a % d) := by
  rw [pk_div ha h0 hd, pk_mul, pk_sub (Nat.div_mul_le_self a d)]
  exact congrArg nI (by have := Nat.div_add_mod' a d; omega)
theorem pk_sub_toInt {a b : Nat} (ha : a < 2 ^ 30) (hb : b < 2 ^ 30) : (nI a - nI b).toInt = (a : Int) - b := by
  rw [Int32.toInt_sub, nI_toInt (by omega), nI_toInt (by omega)]
  exact Int.bmod_eq_of_le (by omega) (by omega)
theorem pk_sneg {a b : Nat} (hb : b < 2 ^ 30) (h : a < b) : nI a - nI b < 0 := by
  rw [Int32.lt_iff_toInt_lt, pk_sub_toInt (by omega) hb, show (0 : Int32).toInt = 0 from by decide]
  omega
theorem pk_ix (x : Int32) {n : Nat} (hn : n < 2 ^ 31) : x < 0 ∨ nI n ≤ x ∨ ∃ j : Nat, j < n ∧ x = nI j := by
  by_cases h : x < 0
  · exact Or.inl h
  · obtain ⟨j, hj, rfl⟩ := nI_of h
    by_cases h2 : j < n
    · exact Or.inr (Or.inr ⟨j, h2, rfl⟩)
    · exact Or.inr (Or.inl (nI_le (by omega) hj))
theorem pk_le {x y : Int32} {A B : Prop} (a b : Nat) (f : a ≤ b → A) (g : b < a → B) (hx : x = nI a := by rfl) (hy : y = nI b := by rfl) (ha : a < 2 ^ 31 := by omega) (hb : b < 2 ^ 31 := by omega) : (x ≤ y → A) ∧ (¬ x ≤ y → B) := by
  subst hx hy
  rw [nI_leI ha hb]
  exact ⟨f, fun z => g (by omega)⟩
theorem pk_lt {x y : Int32} {A B : Prop} (a b : Nat) (f : a < b → A) (g : b ≤ a → B) (hx : x = nI a := by rfl) (hy : y = nI b := by rfl) (ha : a < 2 ^ 31 := by omega) (hb : b < 2 ^ 31 := by omega) : (x < y → A) ∧ (¬ x < y → B) := by
  subst hx hy
  rw [nI_ltI ha hb]
  exact ⟨f, fun z => g (by omega)⟩
theorem pk_eq {x y : Int32} {A B : Prop} (a b : Nat) (f : a = b → A) (g : a ≠ b → B) (hx : x = nI a := by rfl) (hy : y = nI b := by rfl) (ha : a < 2 ^ 31 := by omega) (hb : b < 2 ^ 31 := by omega) : (x = y → A) ∧ (¬ x = y → B) := by
  subst hx hy
  rw [nI_eq ha hb]
  exact ⟨f, g⟩
theorem pk_in {x : Int32} (n N : Nat) (h : n < N) (hx : x = nI n := by rfl) (hN : N < 2 ^ 31 := by omega) : vp_in x N := by
  subst hx
  exact vp_in_nI h hN
theorem pk_cl {x : Int32} (n : Nat) (hx : x = nI n := by rfl) (h : n < 2 ^ 31 := by omega) : x.toNatClampNeg = n := by
  subst hx
  exact nI_clamp h
theorem pk_tn {n : Nat} (h : n < 2 ^ 32) : (nI n).toBitVec.toNat = n := Nat.mod_eq_of_lt h
theorem pk_and (x : Int32) {m : Int32} (k : Nat) (hm : m.toBitVec.toNat = 2 ^ k - 1) : x &&& m = nI (x.toBitVec.toNat % 2 ^ k) := by
  apply Int32.toBitVec_inj.mp
  apply BitVec.eq_of_toNat_eq
  rw [Int32.toBitVec_and, BitVec.toNat_and, hm, Nat.and_two_pow_sub_one_eq_mod]
  show _ = (BitVec.ofNat 32 _).toNat
  rw [BitVec.toNat_ofNat]
  exact (Nat.mod_eq_of_lt (Nat.lt_of_le_of_lt (Nat.mod_le _ _) x.toBitVec.isLt)).symm
theorem pk_andN {n : Nat} (h : n < 2 ^ 32) {m : Int32} (k : Nat) (hm : m.toBitVec.toNat = 2 ^ k - 1) : nI n &&& m = nI (n % 2 ^ k) := by
  rw [pk_and _ k hm, pk_tn h]
theorem pk_andE (x : Int32) {m : Int32} (k : Nat) (hm : m.toBitVec.toNat = 2 ^ k - 1) : ∃ j : Nat, j < 2 ^ k ∧ x &&& m = nI j := ⟨_, Nat.mod_lt _ (Nat.two_pow_pos k), pk_and x k hm⟩
theorem pk_andIn (x : Int32) {m : Int32} (k : Nat) (hm : m.toBitVec.toNat = 2 ^ k - 1) (hk : k ≤ 30) : vp_in (x &&& m) (2 ^ k) := by
  obtain ⟨j, hj, e⟩ := pk_andE x k hm
  rw [e]
  exact vp_in_nI hj (Nat.lt_of_le_of_lt (Nat.pow_le_pow_right (by decide) hk) (by decide))
theorem pk_shl (a s : Int32) (k : Nat) (hs : (s.toBitVec.smod 32).toNat = k) : (a <<< s).toBitVec.toNat = a.toBitVec.toNat * 2 ^ k % 2 ^ 32 := by
  show (a.toBitVec <<< (s.toBitVec.smod 32).toNat).toNat = _
  rw [hs, BitVec.toNat_shiftLeft, Nat.shiftLeft_eq]
theorem pk_shlN {n : Nat} (s : Int32) (k : Nat) (hs : (s.toBitVec.smod 32).toNat = k) (h : n * 2 ^ k < 2 ^ 32) : nI n <<< s = nI (n * 2 ^ k) := by
  apply Int32.toBitVec_inj.mp
  apply BitVec.eq_of_toNat_eq
  have hn : n < 2 ^ 32 := Nat.lt_of_le_of_lt (Nat.le_mul_of_pos_right n (Nat.two_pow_pos k)) h
  rw [pk_shl _ _ k hs, pk_tn hn, pk_tn h, Nat.mod_eq_of_lt h]
theorem pk_shr (a s : Int32) (k : Nat) (hs : (s.toBitVec.smod 32).toNat = k) : (a >>> s).toInt = a.toInt >>> k := by
  show (a.toBitVec.sshiftRight (s.toBitVec.smod 32).toNat).toInt = _
  rw [hs, BitVec.toInt_sshiftRight]
  rfl
theorem pk_shrN {n : Nat} (h : n < 2 ^ 31) (s : Int32) (k : Nat) (hs : (s.toBitVec.smod 32).toNat = k) : nI n >>> s = nI (n / 2 ^ k) := by
  apply Int32.toInt_inj.mp
  have h2 : n / 2 ^ k ≤ n := Nat.div_le_self _ _
  rw [pk_shr _ _ k hs, nI_toInt h, nI_toInt (by omega), Int.shiftRight_eq_div_pow]
  rfl
theorem pk_ushr (x s : Int32) (k : Nat) (hs : ((s.toUInt32 &&& Int32.toUInt32 31).toBitVec % 32).toNat = k) : (x.toUInt32 >>> (s.toUInt32 &&& Int32.toUInt32 31)).toInt32.toBitVec.toNat = x.toBitVec.toNat / 2 ^ k := by
  have e : (x.toUInt32 >>> (s.toUInt32 &&& Int32.toUInt32 31)).toInt32.toBitVec = x.toBitVec >>> k := by
    rw [← hs]
    exact UInt32.toBitVec_shiftRight _ _
  rw [e, BitVec.toNat_ushiftRight, Nat.shiftRight_eq_div_pow]
theorem pk_ushrN {n : Nat} (hn : n < 2 ^ 32) (s : Int32) (k : Nat) (hs : ((s.toUInt32 &&& Int32.toUInt32 31).toBitVec % 32).toNat = k) : ((nI n).toUInt32 >>> (s.toUInt32 &&& Int32.toUInt32 31)).toInt32 = nI (n / 2 ^ k) := by
  apply Int32.toBitVec_inj.mp
  apply BitVec.eq_of_toNat_eq
  rw [pk_ushr _ s k hs, pk_tn hn, pk_tn (Nat.lt_of_le_of_lt (Nat.div_le_self _ _) hn)]
theorem pk_nb (z : Int32) : narrow .byte (.int z.toInt8.toInt32) = .int z.toInt8.toInt32 := congrArg Value.int (by simp)
theorem pk_ns (z : Int32) : narrow .short (.int z.toInt16.toInt32) = .int z.toInt16.toInt32 := congrArg Value.int (by simp)
theorem pk_fb (r : Int32) : fits .byte (.int r.toInt8.toInt32) = true := by
  have ⟨a, b⟩ := lg_i2b_range r
  have h1 : (-128 : Int32).toInt = -128 := by decide
  have h2 : (127 : Int32).toInt = 127 := by decide
  simp only [fits, Bool.and_eq_true, decide_eq_true_eq, Int32.le_iff_toInt_le, h1, h2]
  omega
theorem pk_fs (r : Int32) : fits .short (.int r.toInt16.toInt32) = true := by
  have ⟨a, b⟩ := lg_i2s_range r
  have h1 : (-32768 : Int32).toInt = -32768 := by decide
  have h2 : (32767 : Int32).toInt = 32767 := by decide
  simp only [fits, Bool.and_eq_true, decide_eq_true_eq, Int32.le_iff_toInt_le, h1, h2]
  omega
theorem pk_charN {q : Nat} (hq : q < 65536) : narrow .char (.int (nI q)) = .int (nI q) ∧ fits .char (.int (nI q)) = true := by
  constructor
  · have e : (nI q).toUInt32.toUInt16.toUInt32.toInt32 = nI q := by
      apply Int32.toBitVec_inj.mp
      apply BitVec.eq_of_toNat_eq
      show (nI q).toUInt32.toUInt16.toUInt32.toNat = q % 2 ^ 32
      rw [UInt16.toNat_toUInt32, UInt32.toNat_toUInt16, show (nI q).toUInt32.toNat = q % 2 ^ 32 from rfl]
      omega
    exact congrArg Value.int e
  · have a : (0 : Int32) ≤ nI q := nI_pos' (by omega)
    have b : nI q ≤ 65535 := nI_le (b := 65535) (by omega) (by decide)
    show (decide ((0 : Int32) ≤ nI q) && decide (nI q ≤ 65535)) = true
    rw [decide_eq_true a, decide_eq_true b]
    rfl
theorem pk_char (x : Int32) : (x.toUInt32 % 65536).toInt32 = nI (x.toBitVec.toNat % 65536) := by
  apply Int32.toBitVec_inj.mp
  apply BitVec.eq_of_toNat_eq
  rw [pk_tn (by omega)]
  show (x.toUInt32 % 65536).toNat = _
  rw [UInt32.toNat_mod]
  rfl
theorem pk_nc (x : Int32) : narrow .char (.int (x.toUInt32 % 65536).toInt32) = .int (x.toUInt32 % 65536).toInt32 := by
  rw [pk_char]
  exact (pk_charN (Nat.mod_lt _ (by decide))).1
theorem pk_fc (x : Int32) : fits .char (.int (x.toUInt32 % 65536).toInt32) = true := by
  rw [pk_char]
  exact (pk_charN (Nat.mod_lt _ (by decide))).2
theorem pk_vb (z : Int32) : vp_nar .byte z.toInt8.toInt32 = z.toInt8.toInt32 := by rw [vp_nar_byte]; simp
theorem pk_vs (z : Int32) : vp_nar .short z.toInt16.toInt32 = z.toInt16.toInt32 := by rw [vp_nar_short]; simp
theorem pk_vc (z : Int32) : vp_nar .char (z.toUInt32 % 65536).toInt32 = (z.toUInt32 % 65536).toInt32 := Value.int.inj (pk_nc z)
theorem pk_lT {n : Nat} (h : n < 2 ^ 63) : (lN n).toInt = (n : Int) := lg_ofNat_toInt h
theorem pk_lLT {a b : Nat} (ha : a < 2 ^ 63) (hb : b < 2 ^ 63) : lN a < lN b ↔ a < b := by
  rw [Int64.lt_iff_toInt_lt, pk_lT ha, pk_lT hb]; omega
theorem pk_lLE {a b : Nat} (ha : a < 2 ^ 63) (hb : b < 2 ^ 63) : lN a ≤ lN b ↔ a ≤ b := by
  rw [Int64.le_iff_toInt_le, pk_lT ha, pk_lT hb]; omega
theorem pk_lEQ {a b : Nat} (ha : a < 2 ^ 63) (hb : b < 2 ^ 63) : lN a = lN b ↔ a = b := by
  rw [← Int64.toInt_inj, pk_lT ha, pk_lT hb]; omega
theorem pk_lOf {x : Int64} (h : ¬ x < 0) : ∃ k : Nat, k < 2 ^ 63 ∧ x = lN k := by
  rw [Int64.lt_iff_toInt_lt] at h
  have h0 : (0 : Int64).toInt = 0 := by decide
  have hx := Int64.toInt_lt x
  refine ⟨x.toInt.toNat, by omega, Int64.toInt_inj.mp ?_⟩
  rw [pk_lT (by omega)]
  omega
theorem pk_lDiv {a b : Nat} (ha : a < 2 ^ 63) (h0 : 0 < b) (hb : b < 2 ^ 63) : lN a / lN b = lN (a / b) := by
  apply Int64.toInt_inj.mp
  rw [lg_ldiv_nonneg (by rw [pk_lT ha]; omega) (by rw [pk_lT hb]; omega), pk_lT ha, pk_lT hb, pk_lT (Nat.lt_of_le_of_lt (Nat.div_le_self a b) ha)]
  rfl
theorem pk_lRem {a b : Nat} (ha : a < 2 ^ 63) (h0 : 0 < b) (hb : b < 2 ^ 63) : lN a - lN a / lN b * lN b = lN (a % b) := by
  rw [pk_lDiv ha h0 hb, lN_mul, lN_sub (Nat.div_mul_le_self a b)]
  exact congrArg lN (by have := Nat.div_add_mod' a b; omega)
theorem pk_loop {σ : Type} (W : Nat → Nat → σ → Prop) (I : Nat → σ → Prop) (e i0 : Nat) (s : σ) (hi : i0 ≤ e) (h0 : I i0 s) (hx : ∀ n s, I e s → W (n + 1) e s)
    (hs : ∀ n i s, i < e → I i s → (∀ s', I (i + 1) s' → W n (i + 1) s') → W (n + 1) i s) : ∃ n, W n i0 s :=
  ⟨e + 1, loop_i W I e hx hs (e + 1) i0 s hi (by omega) h0⟩
theorem pk_loopD {σ : Type} (W : Nat → Nat → σ → Prop) (I : Nat → σ → Prop) (hx : ∀ n s, I 0 s → W (n + 1) 0 s)
    (hs : ∀ n i s, I (i + 1) s → (∀ s', I i s' → W n i s') → W (n + 1) (i + 1) s) : ∀ (e : Nat) (s : σ), I e s → W (e + 1) e s := by
  intro e
  induction e with
  | zero => exact fun s h => hx 0 s h
  | succ e ih => exact fun s h => hs (e + 1) e s h (fun s' h' => ih s' h')
theorem lp1 {A1 : Type} (W : Nat → A1 → Prop) (I : A1 → Prop) (μ : A1 → Nat) (hs : ∀ (n : Nat) (a1 : A1), I a1 → (∀ (b1 : A1), I b1 → μ b1 < μ a1 → W n b1) → W (n + 1) a1) (a1 : A1) (h : I a1) : ∃ n, W n a1 :=
  loop_m (σ := A1) (fun n s => W n s) (fun s => I s) (fun s => μ s) (fun n s hI hk => hs n s hI (fun b1 h9 hm => hk b1 h9 hm)) a1 h
theorem lp2 {A1 A2 : Type} (W : Nat → A1 → A2 → Prop) (I : A1 → A2 → Prop) (μ : A1 → A2 → Nat) (hs : ∀ (n : Nat) (a1 : A1) (a2 : A2), I a1 a2 → (∀ (b1 : A1) (b2 : A2), I b1 b2 → μ b1 b2 < μ a1 a2 → W n b1 b2) → W (n + 1) a1 a2) (a1 : A1) (a2 : A2) (h : I a1 a2) : ∃ n, W n a1 a2 :=
  loop_m (σ := A1 × A2) (fun n s => W n s.1 s.2) (fun s => I s.1 s.2) (fun s => μ s.1 s.2) (fun n s hI hk => hs n s.1 s.2 hI (fun b1 b2 h9 hm => hk (b1, b2) h9 hm)) (a1, a2) h
theorem lp3 {A1 A2 A3 : Type} (W : Nat → A1 → A2 → A3 → Prop) (I : A1 → A2 → A3 → Prop) (μ : A1 → A2 → A3 → Nat) (hs : ∀ (n : Nat) (a1 : A1) (a2 : A2) (a3 : A3), I a1 a2 a3 → (∀ (b1 : A1) (b2 : A2) (b3 : A3), I b1 b2 b3 → μ b1 b2 b3 < μ a1 a2 a3 → W n b1 b2 b3) → W (n + 1) a1 a2 a3) (a1 : A1) (a2 : A2) (a3 : A3) (h : I a1 a2 a3) : ∃ n, W n a1 a2 a3 :=
  loop_m (σ := A1 × A2 × A3) (fun n s => W n s.1 s.2.1 s.2.2) (fun s => I s.1 s.2.1 s.2.2) (fun s => μ s.1 s.2.1 s.2.2) (fun n s hI hk => hs n s.1 s.2.1 s.2.2 hI (fun b1 b2 b3 h9 hm => hk (b1, b2, b3) h9 hm)) (a1, a2, a3) h
theorem lp4 {A1 A2 A3 A4 : Type} (W : Nat → A1 → A2 → A3 → A4 → Prop) (I : A1 → A2 → A3 → A4 → Prop) (μ : A1 → A2 → A3 → A4 → Nat) (hs : ∀ (n : Nat) (a1 : A1) (a2 : A2) (a3 : A3) (a4 : A4), I a1 a2 a3 a4 → (∀ (b1 : A1) (b2 : A2) (b3 : A3) (b4 : A4), I b1 b2 b3 b4 → μ b1 b2 b3 b4 < μ a1 a2 a3 a4 → W n b1 b2 b3 b4) → W (n + 1) a1 a2 a3 a4) (a1 : A1) (a2 : A2) (a3 : A3) (a4 : A4) (h : I a1 a2 a3 a4) : ∃ n, W n a1 a2 a3 a4 :=
  loop_m (σ := A1 × A2 × A3 × A4) (fun n s => W n s.1 s.2.1 s.2.2.1 s.2.2.2) (fun s => I s.1 s.2.1 s.2.2.1 s.2.2.2) (fun s => μ s.1 s.2.1 s.2.2.1 s.2.2.2) (fun n s hI hk => hs n s.1 s.2.1 s.2.2.1 s.2.2.2 hI (fun b1 b2 b3 b4 h9 hm => hk (b1, b2, b3, b4) h9 hm)) (a1, a2, a3, a4) h
theorem lp5 {A1 A2 A3 A4 A5 : Type} (W : Nat → A1 → A2 → A3 → A4 → A5 → Prop) (I : A1 → A2 → A3 → A4 → A5 → Prop) (μ : A1 → A2 → A3 → A4 → A5 → Nat) (hs : ∀ (n : Nat) (a1 : A1) (a2 : A2) (a3 : A3) (a4 : A4) (a5 : A5), I a1 a2 a3 a4 a5 → (∀ (b1 : A1) (b2 : A2) (b3 : A3) (b4 : A4) (b5 : A5), I b1 b2 b3 b4 b5 → μ b1 b2 b3 b4 b5 < μ a1 a2 a3 a4 a5 → W n b1 b2 b3 b4 b5) → W (n + 1) a1 a2 a3 a4 a5) (a1 : A1) (a2 : A2) (a3 : A3) (a4 : A4) (a5 : A5) (h : I a1 a2 a3 a4 a5) : ∃ n, W n a1 a2 a3 a4 a5 :=
  loop_m (σ := A1 × A2 × A3 × A4 × A5) (fun n s => W n s.1 s.2.1 s.2.2.1 s.2.2.2.1 s.2.2.2.2) (fun s => I s.1 s.2.1 s.2.2.1 s.2.2.2.1 s.2.2.2.2) (fun s => μ s.1 s.2.1 s.2.2.1 s.2.2.2.1 s.2.2.2.2) (fun n s hI hk => hs n s.1 s.2.1 s.2.2.1 s.2.2.2.1 s.2.2.2.2 hI (fun b1 b2 b3 b4 b5 h9 hm => hk (b1, b2, b3, b4, b5) h9 hm)) (a1, a2, a3, a4, a5) h
theorem lp6 {A1 A2 A3 A4 A5 A6 : Type} (W : Nat → A1 → A2 → A3 → A4 → A5 → A6 → Prop) (I : A1 → A2 → A3 → A4 → A5 → A6 → Prop) (μ : A1 → A2 → A3 → A4 → A5 → A6 → Nat) (hs : ∀ (n : Nat) (a1 : A1) (a2 : A2) (a3 : A3) (a4 : A4) (a5 : A5) (a6 : A6), I a1 a2 a3 a4 a5 a6 → (∀ (b1 : A1) (b2 : A2) (b3 : A3) (b4 : A4) (b5 : A5) (b6 : A6), I b1 b2 b3 b4 b5 b6 → μ b1 b2 b3 b4 b5 b6 < μ a1 a2 a3 a4 a5 a6 → W n b1 b2 b3 b4 b5 b6) → W (n + 1) a1 a2 a3 a4 a5 a6) (a1 : A1) (a2 : A2) (a3 : A3) (a4 : A4) (a5 : A5) (a6 : A6) (h : I a1 a2 a3 a4 a5 a6) : ∃ n, W n a1 a2 a3 a4 a5 a6 :=
  loop_m (σ := A1 × A2 × A3 × A4 × A5 × A6) (fun n s => W n s.1 s.2.1 s.2.2.1 s.2.2.2.1 s.2.2.2.2.1 s.2.2.2.2.2) (fun s => I s.1 s.2.1 s.2.2.1 s.2.2.2.1 s.2.2.2.2.1 s.2.2.2.2.2) (fun s => μ s.1 s.2.1 s.2.2.1 s.2.2.2.1 s.2.2.2.2.1 s.2.2.2.2.2) (fun n s hI hk => hs n s.1 s.2.1 s.2.2.1 s.2.2.2.1 s.2.2.2.2.1 s.2.2.2.2.2 hI (fun b1 b2 b3 b4 b5 b6 h9 hm => hk (b1, b2, b3, b4, b5, b6) h9 hm)) (a1, a2, a3, a4, a5, a6) h
theorem lp7 {A1 A2 A3 A4 A5 A6 A7 : Type} (W : Nat → A1 → A2 → A3 → A4 → A5 → A6 → A7 → Prop) (I : A1 → A2 → A3 → A4 → A5 → A6 → A7 → Prop) (μ : A1 → A2 → A3 → A4 → A5 → A6 → A7 → Nat) (hs : ∀ (n : Nat) (a1 : A1) (a2 : A2) (a3 : A3) (a4 : A4) (a5 : A5) (a6 : A6) (a7 : A7), I a1 a2 a3 a4 a5 a6 a7 → (∀ (b1 : A1) (b2 : A2) (b3 : A3) (b4 : A4) (b5 : A5) (b6 : A6) (b7 : A7), I b1 b2 b3 b4 b5 b6 b7 → μ b1 b2 b3 b4 b5 b6 b7 < μ a1 a2 a3 a4 a5 a6 a7 → W n b1 b2 b3 b4 b5 b6 b7) → W (n + 1) a1 a2 a3 a4 a5 a6 a7) (a1 : A1) (a2 : A2) (a3 : A3) (a4 : A4) (a5 : A5) (a6 : A6) (a7 : A7) (h : I a1 a2 a3 a4 a5 a6 a7) : ∃ n, W n a1 a2 a3 a4 a5 a6 a7 :=
  loop_m (σ := A1 × A2 × A3 × A4 × A5 × A6 × A7) (fun n s => W n s.1 s.2.1 s.2.2.1 s.2.2.2.1 s.2.2.2.2.1 s.2.2.2.2.2.1 s.2.2.2.2.2.2) (fun s => I s.1 s.2.1 s.2.2.1 s.2.2.2.1 s.2.2.2.2.1 s.2.2.2.2.2.1 s.2.2.2.2.2.2) (fun s => μ s.1 s.2.1 s.2.2.1 s.2.2.2.1 s.2.2.2.2.1 s.2.2.2.2.2.1 s.2.2.2.2.2.2) (fun n s hI hk => hs n s.1 s.2.1 s.2.2.1 s.2.2.2.1 s.2.2.2.2.1 s.2.2.2.2.2.1 s.2.2.2.2.2.2 hI (fun b1 b2 b3 b4 b5 b6 b7 h9 hm => hk (b1, b2, b3, b4, b5, b6, b7) h9 hm)) (a1, a2, a3, a4, a5, a6, a7) h
theorem lp8 {A1 A2 A3 A4 A5 A6 A7 A8 : Type} (W : Nat → A1 → A2 → A3 → A4 → A5 → A6 → A7 → A8 → Prop) (I : A1 → A2 → A3 → A4 → A5 → A6 → A7 → A8 → Prop) (μ : A1 → A2 → A3 → A4 → A5 → A6 → A7 → A8 → Nat) (hs : ∀ (n : Nat) (a1 : A1) (a2 : A2) (a3 : A3) (a4 : A4) (a5 : A5) (a6 : A6) (a7 : A7) (a8 : A8), I a1 a2 a3 a4 a5 a6 a7 a8 → (∀ (b1 : A1) (b2 : A2) (b3 : A3) (b4 : A4) (b5 : A5) (b6 : A6) (b7 : A7) (b8 : A8), I b1 b2 b3 b4 b5 b6 b7 b8 → μ b1 b2 b3 b4 b5 b6 b7 b8 < μ a1 a2 a3 a4 a5 a6 a7 a8 → W n b1 b2 b3 b4 b5 b6 b7 b8) → W (n + 1) a1 a2 a3 a4 a5 a6 a7 a8) (a1 : A1) (a2 : A2) (a3 : A3) (a4 : A4) (a5 : A5) (a6 : A6) (a7 : A7) (a8 : A8) (h : I a1 a2 a3 a4 a5 a6 a7 a8) : ∃ n, W n a1 a2 a3 a4 a5 a6 a7 a8 :=
  loop_m (σ := A1 × A2 × A3 × A4 × A5 × A6 × A7 × A8) (fun n s => W n s.1 s.2.1 s.2.2.1 s.2.2.2.1 s.2.2.2.2.1 s.2.2.2.2.2.1 s.2.2.2.2.2.2.1 s.2.2.2.2.2.2.2) (fun s => I s.1 s.2.1 s.2.2.1 s.2.2.2.1 s.2.2.2.2.1 s.2.2.2.2.2.1 s.2.2.2.2.2.2.1 s.2.2.2.2.2.2.2) (fun s => μ s.1 s.2.1 s.2.2.1 s.2.2.2.1 s.2.2.2.2.1 s.2.2.2.2.2.1 s.2.2.2.2.2.2.1 s.2.2.2.2.2.2.2) (fun n s hI hk => hs n s.1 s.2.1 s.2.2.1 s.2.2.2.1 s.2.2.2.2.1 s.2.2.2.2.2.1 s.2.2.2.2.2.2.1 s.2.2.2.2.2.2.2 hI (fun b1 b2 b3 b4 b5 b6 b7 b8 h9 hm => hk (b1, b2, b3, b4, b5, b6, b7, b8) h9 hm)) (a1, a2, a3, a4, a5, a6, a7, a8) h
theorem lp9 {A1 A2 A3 A4 A5 A6 A7 A8 A9 : Type} (W : Nat → A1 → A2 → A3 → A4 → A5 → A6 → A7 → A8 → A9 → Prop) (I : A1 → A2 → A3 → A4 → A5 → A6 → A7 → A8 → A9 → Prop) (μ : A1 → A2 → A3 → A4 → A5 → A6 → A7 → A8 → A9 → Nat) (hs : ∀ (n : Nat) (a1 : A1) (a2 : A2) (a3 : A3) (a4 : A4) (a5 : A5) (a6 : A6) (a7 : A7) (a8 : A8) (a9 : A9), I a1 a2 a3 a4 a5 a6 a7 a8 a9 → (∀ (b1 : A1) (b2 : A2) (b3 : A3) (b4 : A4) (b5 : A5) (b6 : A6) (b7 : A7) (b8 : A8) (b9 : A9), I b1 b2 b3 b4 b5 b6 b7 b8 b9 → μ b1 b2 b3 b4 b5 b6 b7 b8 b9 < μ a1 a2 a3 a4 a5 a6 a7 a8 a9 → W n b1 b2 b3 b4 b5 b6 b7 b8 b9) → W (n + 1) a1 a2 a3 a4 a5 a6 a7 a8 a9) (a1 : A1) (a2 : A2) (a3 : A3) (a4 : A4) (a5 : A5) (a6 : A6) (a7 : A7) (a8 : A8) (a9 : A9) (h : I a1 a2 a3 a4 a5 a6 a7 a8 a9) : ∃ n, W n a1 a2 a3 a4 a5 a6 a7 a8 a9 :=
  loop_m (σ := A1 × A2 × A3 × A4 × A5 × A6 × A7 × A8 × A9) (fun n s => W n s.1 s.2.1 s.2.2.1 s.2.2.2.1 s.2.2.2.2.1 s.2.2.2.2.2.1 s.2.2.2.2.2.2.1 s.2.2.2.2.2.2.2.1 s.2.2.2.2.2.2.2.2) (fun s => I s.1 s.2.1 s.2.2.1 s.2.2.2.1 s.2.2.2.2.1 s.2.2.2.2.2.1 s.2.2.2.2.2.2.1 s.2.2.2.2.2.2.2.1 s.2.2.2.2.2.2.2.2) (fun s => μ s.1 s.2.1 s.2.2.1 s.2.2.2.1 s.2.2.2.2.1 s.2.2.2.2.2.1 s.2.2.2.2.2.2.1 s.2.2.2.2.2.2.2.1 s.2.2.2.2.2.2.2.2) (fun n s hI hk => hs n s.1 s.2.1 s.2.2.1 s.2.2.2.1 s.2.2.2.2.1 s.2.2.2.2.2.1 s.2.2.2.2.2.2.1 s.2.2.2.2.2.2.2.1 s.2.2.2.2.2.2.2.2 hI (fun b1 b2 b3 b4 b5 b6 b7 b8 b9 h9 hm => hk (b1, b2, b3, b4, b5, b6, b7, b8, b9) h9 hm)) (a1, a2, a3, a4, a5, a6, a7, a8, a9) h
theorem lp10 {A1 A2 A3 A4 A5 A6 A7 A8 A9 A10 : Type} (W : Nat → A1 → A2 → A3 → A4 → A5 → A6 → A7 → A8 → A9 → A10 → Prop) (I : A1 → A2 → A3 → A4 → A5 → A6 → A7 → A8 → A9 → A10 → Prop) (μ : A1 → A2 → A3 → A4 → A5 → A6 → A7 → A8 → A9 → A10 → Nat) (hs : ∀ (n : Nat) (a1 : A1) (a2 : A2) (a3 : A3) (a4 : A4) (a5 : A5) (a6 : A6) (a7 : A7) (a8 : A8) (a9 : A9) (a10 : A10), I a1 a2 a3 a4 a5 a6 a7 a8 a9 a10 → (∀ (b1 : A1) (b2 : A2) (b3 : A3) (b4 : A4) (b5 : A5) (b6 : A6) (b7 : A7) (b8 : A8) (b9 : A9) (b10 : A10), I b1 b2 b3 b4 b5 b6 b7 b8 b9 b10 → μ b1 b2 b3 b4 b5 b6 b7 b8 b9 b10 < μ a1 a2 a3 a4 a5 a6 a7 a8 a9 a10 → W n b1 b2 b3 b4 b5 b6 b7 b8 b9 b10) → W (n + 1) a1 a2 a3 a4 a5 a6 a7 a8 a9 a10) (a1 : A1) (a2 : A2) (a3 : A3) (a4 : A4) (a5 : A5) (a6 : A6) (a7 : A7) (a8 : A8) (a9 : A9) (a10 : A10) (h : I a1 a2 a3 a4 a5 a6 a7 a8 a9 a10) : ∃ n, W n a1 a2 a3 a4 a5 a6 a7 a8 a9 a10 :=
  loop_m (σ := A1 × A2 × A3 × A4 × A5 × A6 × A7 × A8 × A9 × A10) (fun n s => W n s.1 s.2.1 s.2.2.1 s.2.2.2.1 s.2.2.2.2.1 s.2.2.2.2.2.1 s.2.2.2.2.2.2.1 s.2.2.2.2.2.2.2.1 s.2.2.2.2.2.2.2.2.1 s.2.2.2.2.2.2.2.2.2) (fun s => I s.1 s.2.1 s.2.2.1 s.2.2.2.1 s.2.2.2.2.1 s.2.2.2.2.2.1 s.2.2.2.2.2.2.1 s.2.2.2.2.2.2.2.1 s.2.2.2.2.2.2.2.2.1 s.2.2.2.2.2.2.2.2.2) (fun s => μ s.1 s.2.1 s.2.2.1 s.2.2.2.1 s.2.2.2.2.1 s.2.2.2.2.2.1 s.2.2.2.2.2.2.1 s.2.2.2.2.2.2.2.1 s.2.2.2.2.2.2.2.2.1 s.2.2.2.2.2.2.2.2.2) (fun n s hI hk => hs n s.1 s.2.1 s.2.2.1 s.2.2.2.1 s.2.2.2.2.1 s.2.2.2.2.2.1 s.2.2.2.2.2.2.1 s.2.2.2.2.2.2.2.1 s.2.2.2.2.2.2.2.2.1 s.2.2.2.2.2.2.2.2.2 hI (fun b1 b2 b3 b4 b5 b6 b7 b8 b9 b10 h9 hm => hk (b1, b2, b3, b4, b5, b6, b7, b8, b9, b10) h9 hm)) (a1, a2, a3, a4, a5, a6, a7, a8, a9, a10) h
theorem lp11 {A1 A2 A3 A4 A5 A6 A7 A8 A9 A10 A11 : Type} (W : Nat → A1 → A2 → A3 → A4 → A5 → A6 → A7 → A8 → A9 → A10 → A11 → Prop) (I : A1 → A2 → A3 → A4 → A5 → A6 → A7 → A8 → A9 → A10 → A11 → Prop) (μ : A1 → A2 → A3 → A4 → A5 → A6 → A7 → A8 → A9 → A10 → A11 → Nat) (hs : ∀ (n : Nat) (a1 : A1) (a2 : A2) (a3 : A3) (a4 : A4) (a5 : A5) (a6 : A6) (a7 : A7) (a8 : A8) (a9 : A9) (a10 : A10) (a11 : A11), I a1 a2 a3 a4 a5 a6 a7 a8 a9 a10 a11 → (∀ (b1 : A1) (b2 : A2) (b3 : A3) (b4 : A4) (b5 : A5) (b6 : A6) (b7 : A7) (b8 : A8) (b9 : A9) (b10 : A10) (b11 : A11), I b1 b2 b3 b4 b5 b6 b7 b8 b9 b10 b11 → μ b1 b2 b3 b4 b5 b6 b7 b8 b9 b10 b11 < μ a1 a2 a3 a4 a5 a6 a7 a8 a9 a10 a11 → W n b1 b2 b3 b4 b5 b6 b7 b8 b9 b10 b11) → W (n + 1) a1 a2 a3 a4 a5 a6 a7 a8 a9 a10 a11) (a1 : A1) (a2 : A2) (a3 : A3) (a4 : A4) (a5 : A5) (a6 : A6) (a7 : A7) (a8 : A8) (a9 : A9) (a10 : A10) (a11 : A11) (h : I a1 a2 a3 a4 a5 a6 a7 a8 a9 a10 a11) : ∃ n, W n a1 a2 a3 a4 a5 a6 a7 a8 a9 a10 a11 :=
  loop_m (σ := A1 × A2 × A3 × A4 × A5 × A6 × A7 × A8 × A9 × A10 × A11) (fun n s => W n s.1 s.2.1 s.2.2.1 s.2.2.2.1 s.2.2.2.2.1 s.2.2.2.2.2.1 s.2.2.2.2.2.2.1 s.2.2.2.2.2.2.2.1 s.2.2.2.2.2.2.2.2.1 s.2.2.2.2.2.2.2.2.2.1 s.2.2.2.2.2.2.2.2.2.2) (fun s => I s.1 s.2.1 s.2.2.1 s.2.2.2.1 s.2.2.2.2.1 s.2.2.2.2.2.1 s.2.2.2.2.2.2.1 s.2.2.2.2.2.2.2.1 s.2.2.2.2.2.2.2.2.1 s.2.2.2.2.2.2.2.2.2.1 s.2.2.2.2.2.2.2.2.2.2) (fun s => μ s.1 s.2.1 s.2.2.1 s.2.2.2.1 s.2.2.2.2.1 s.2.2.2.2.2.1 s.2.2.2.2.2.2.1 s.2.2.2.2.2.2.2.1 s.2.2.2.2.2.2.2.2.1 s.2.2.2.2.2.2.2.2.2.1 s.2.2.2.2.2.2.2.2.2.2) (fun n s hI hk => hs n s.1 s.2.1 s.2.2.1 s.2.2.2.1 s.2.2.2.2.1 s.2.2.2.2.2.1 s.2.2.2.2.2.2.1 s.2.2.2.2.2.2.2.1 s.2.2.2.2.2.2.2.2.1 s.2.2.2.2.2.2.2.2.2.1 s.2.2.2.2.2.2.2.2.2.2 hI (fun b1 b2 b3 b4 b5 b6 b7 b8 b9 b10 b11 h9 hm => hk (b1, b2, b3, b4, b5, b6, b7, b8, b9, b10, b11) h9 hm)) (a1, a2, a3, a4, a5, a6, a7, a8, a9, a10, a11) h
theorem lp12 {A1 A2 A3 A4 A5 A6 A7 A8 A9 A10 A11 A12 : Type} (W : Nat → A1 → A2 → A3 → A4 → A5 → A6 → A7 → A8 → A9 → A10 → A11 → A12 → Prop) (I : A1 → A2 → A3 → A4 → A5 → A6 → A7 → A8 → A9 → A10 → A11 → A12 → Prop) (μ : A1 → A2 → A3 → A4 → A5 → A6 → A7 → A8 → A9 → A10 → A11 → A12 → Nat) (hs : ∀ (n : Nat) (a1 : A1) (a2 : A2) (a3 : A3) (a4 : A4) (a5 : A5) (a6 : A6) (a7 : A7) (a8 : A8) (a9 : A9) (a10 : A10) (a11 : A11) (a12 : A12), I a1 a2 a3 a4 a5 a6 a7 a8 a9 a10 a11 a12 → (∀ (b1 : A1) (b2 : A2) (b3 : A3) (b4 : A4) (b5 : A5) (b6 : A6) (b7 : A7) (b8 : A8) (b9 : A9) (b10 : A10) (b11 : A11) (b12 : A12), I b1 b2 b3 b4 b5 b6 b7 b8 b9 b10 b11 b12 → μ b1 b2 b3 b4 b5 b6 b7 b8 b9 b10 b11 b12 < μ a1 a2 a3 a4 a5 a6 a7 a8 a9 a10 a11 a12 → W n b1 b2 b3 b4 b5 b6 b7 b8 b9 b10 b11 b12) → W (n + 1) a1 a2 a3 a4 a5 a6 a7 a8 a9 a10 a11 a12) (a1 : A1) (a2 : A2) (a3 : A3) (a4 : A4) (a5 : A5) (a6 : A6) (a7 : A7) (a8 : A8) (a9 : A9) (a10 : A10) (a11 : A11) (a12 : A12) (h : I a1 a2 a3 a4 a5 a6 a7 a8 a9 a10 a11 a12) : ∃ n, W n a1 a2 a3 a4 a5 a6 a7 a8 a9 a10 a11 a12 :=
  loop_m (σ := A1 × A2 × A3 × A4 × A5 × A6 × A7 × A8 × A9 × A10 × A11 × A12) (fun n s => W n s.1 s.2.1 s.2.2.1 s.2.2.2.1 s.2.2.2.2.1 s.2.2.2.2.2.1 s.2.2.2.2.2.2.1 s.2.2.2.2.2.2.2.1 s.2.2.2.2.2.2.2.2.1 s.2.2.2.2.2.2.2.2.2.1 s.2.2.2.2.2.2.2.2.2.2.1 s.2.2.2.2.2.2.2.2.2.2.2) (fun s => I s.1 s.2.1 s.2.2.1 s.2.2.2.1 s.2.2.2.2.1 s.2.2.2.2.2.1 s.2.2.2.2.2.2.1 s.2.2.2.2.2.2.2.1 s.2.2.2.2.2.2.2.2.1 s.2.2.2.2.2.2.2.2.2.1 s.2.2.2.2.2.2.2.2.2.2.1 s.2.2.2.2.2.2.2.2.2.2.2) (fun s => μ s.1 s.2.1 s.2.2.1 s.2.2.2.1 s.2.2.2.2.1 s.2.2.2.2.2.1 s.2.2.2.2.2.2.1 s.2.2.2.2.2.2.2.1 s.2.2.2.2.2.2.2.2.1 s.2.2.2.2.2.2.2.2.2.1 s.2.2.2.2.2.2.2.2.2.2.1 s.2.2.2.2.2.2.2.2.2.2.2) (fun n s hI hk => hs n s.1 s.2.1 s.2.2.1 s.2.2.2.1 s.2.2.2.2.1 s.2.2.2.2.2.1 s.2.2.2.2.2.2.1 s.2.2.2.2.2.2.2.1 s.2.2.2.2.2.2.2.2.1 s.2.2.2.2.2.2.2.2.2.1 s.2.2.2.2.2.2.2.2.2.2.1 s.2.2.2.2.2.2.2.2.2.2.2 hI (fun b1 b2 b3 b4 b5 b6 b7 b8 b9 b10 b11 b12 h9 hm => hk (b1, b2, b3, b4, b5, b6, b7, b8, b9, b10, b11, b12) h9 hm)) (a1, a2, a3, a4, a5, a6, a7, a8, a9, a10, a11, a12) h
theorem lp13 {A1 A2 A3 A4 A5 A6 A7 A8 A9 A10 A11 A12 A13 : Type} (W : Nat → A1 → A2 → A3 → A4 → A5 → A6 → A7 → A8 → A9 → A10 → A11 → A12 → A13 → Prop) (I : A1 → A2 → A3 → A4 → A5 → A6 → A7 → A8 → A9 → A10 → A11 → A12 → A13 → Prop) (μ : A1 → A2 → A3 → A4 → A5 → A6 → A7 → A8 → A9 → A10 → A11 → A12 → A13 → Nat) (hs : ∀ (n : Nat) (a1 : A1) (a2 : A2) (a3 : A3) (a4 : A4) (a5 : A5) (a6 : A6) (a7 : A7) (a8 : A8) (a9 : A9) (a10 : A10) (a11 : A11) (a12 : A12) (a13 : A13), I a1 a2 a3 a4 a5 a6 a7 a8 a9 a10 a11 a12 a13 → (∀ (b1 : A1) (b2 : A2) (b3 : A3) (b4 : A4) (b5 : A5) (b6 : A6) (b7 : A7) (b8 : A8) (b9 : A9) (b10 : A10) (b11 : A11) (b12 : A12) (b13 : A13), I b1 b2 b3 b4 b5 b6 b7 b8 b9 b10 b11 b12 b13 → μ b1 b2 b3 b4 b5 b6 b7 b8 b9 b10 b11 b12 b13 < μ a1 a2 a3 a4 a5 a6 a7 a8 a9 a10 a11 a12 a13 → W n b1 b2 b3 b4 b5 b6 b7 b8 b9 b10 b11 b12 b13) → W (n + 1) a1 a2 a3 a4 a5 a6 a7 a8 a9 a10 a11 a12 a13) (a1 : A1) (a2 : A2) (a3 : A3) (a4 : A4) (a5 : A5) (a6 : A6) (a7 : A7) (a8 : A8) (a9 : A9) (a10 : A10) (a11 : A11) (a12 : A12) (a13 : A13) (h : I a1 a2 a3 a4 a5 a6 a7 a8 a9 a10 a11 a12 a13) : ∃ n, W n a1 a2 a3 a4 a5 a6 a7 a8 a9 a10 a11 a12 a13 :=
  loop_m (σ := A1 × A2 × A3 × A4 × A5 × A6 × A7 × A8 × A9 × A10 × A11 × A12 × A13) (fun n s => W n s.1 s.2.1 s.2.2.1 s.2.2.2.1 s.2.2.2.2.1 s.2.2.2.2.2.1 s.2.2.2.2.2.2.1 s.2.2.2.2.2.2.2.1 s.2.2.2.2.2.2.2.2.1 s.2.2.2.2.2.2.2.2.2.1 s.2.2.2.2.2.2.2.2.2.2.1 s.2.2.2.2.2.2.2.2.2.2.2.1 s.2.2.2.2.2.2.2.2.2.2.2.2) (fun s => I s.1 s.2.1 s.2.2.1 s.2.2.2.1 s.2.2.2.2.1 s.2.2.2.2.2.1 s.2.2.2.2.2.2.1 s.2.2.2.2.2.2.2.1 s.2.2.2.2.2.2.2.2.1 s.2.2.2.2.2.2.2.2.2.1 s.2.2.2.2.2.2.2.2.2.2.1 s.2.2.2.2.2.2.2.2.2.2.2.1 s.2.2.2.2.2.2.2.2.2.2.2.2) (fun s => μ s.1 s.2.1 s.2.2.1 s.2.2.2.1 s.2.2.2.2.1 s.2.2.2.2.2.1 s.2.2.2.2.2.2.1 s.2.2.2.2.2.2.2.1 s.2.2.2.2.2.2.2.2.1 s.2.2.2.2.2.2.2.2.2.1 s.2.2.2.2.2.2.2.2.2.2.1 s.2.2.2.2.2.2.2.2.2.2.2.1 s.2.2.2.2.2.2.2.2.2.2.2.2) (fun n s hI hk => hs n s.1 s.2.1 s.2.2.1 s.2.2.2.1 s.2.2.2.2.1 s.2.2.2.2.2.1 s.2.2.2.2.2.2.1 s.2.2.2.2.2.2.2.1 s.2.2.2.2.2.2.2.2.1 s.2.2.2.2.2.2.2.2.2.1 s.2.2.2.2.2.2.2.2.2.2.1 s.2.2.2.2.2.2.2.2.2.2.2.1 s.2.2.2.2.2.2.2.2.2.2.2.2 hI (fun b1 b2 b3 b4 b5 b6 b7 b8 b9 b10 b11 b12 b13 h9 hm => hk (b1, b2, b3, b4, b5, b6, b7, b8, b9, b10, b11, b12, b13) h9 hm)) (a1, a2, a3, a4, a5, a6, a7, a8, a9, a10, a11, a12, a13) h
theorem lp14 {A1 A2 A3 A4 A5 A6 A7 A8 A9 A10 A11 A12 A13 A14 : Type} (W : Nat → A1 → A2 → A3 → A4 → A5 → A6 → A7 → A8 → A9 → A10 → A11 → A12 → A13 → A14 → Prop) (I : A1 → A2 → A3 → A4 → A5 → A6 → A7 → A8 → A9 → A10 → A11 → A12 → A13 → A14 → Prop) (μ : A1 → A2 → A3 → A4 → A5 → A6 → A7 → A8 → A9 → A10 → A11 → A12 → A13 → A14 → Nat) (hs : ∀ (n : Nat) (a1 : A1) (a2 : A2) (a3 : A3) (a4 : A4) (a5 : A5) (a6 : A6) (a7 : A7) (a8 : A8) (a9 : A9) (a10 : A10) (a11 : A11) (a12 : A12) (a13 : A13) (a14 : A14), I a1 a2 a3 a4 a5 a6 a7 a8 a9 a10 a11 a12 a13 a14 → (∀ (b1 : A1) (b2 : A2) (b3 : A3) (b4 : A4) (b5 : A5) (b6 : A6) (b7 : A7) (b8 : A8) (b9 : A9) (b10 : A10) (b11 : A11) (b12 : A12) (b13 : A13) (b14 : A14), I b1 b2 b3 b4 b5 b6 b7 b8 b9 b10 b11 b12 b13 b14 → μ b1 b2 b3 b4 b5 b6 b7 b8 b9 b10 b11 b12 b13 b14 < μ a1 a2 a3 a4 a5 a6 a7 a8 a9 a10 a11 a12 a13 a14 → W n b1 b2 b3 b4 b5 b6 b7 b8 b9 b10 b11 b12 b13 b14) → W (n + 1) a1 a2 a3 a4 a5 a6 a7 a8 a9 a10 a11 a12 a13 a14) (a1 : A1) (a2 : A2) (a3 : A3) (a4 : A4) (a5 : A5) (a6 : A6) (a7 : A7) (a8 : A8) (a9 : A9) (a10 : A10) (a11 : A11) (a12 : A12) (a13 : A13) (a14 : A14) (h : I a1 a2 a3 a4 a5 a6 a7 a8 a9 a10 a11 a12 a13 a14) : ∃ n, W n a1 a2 a3 a4 a5 a6 a7 a8 a9 a10 a11 a12 a13 a14 :=
  loop_m (σ := A1 × A2 × A3 × A4 × A5 × A6 × A7 × A8 × A9 × A10 × A11 × A12 × A13 × A14) (fun n s => W n s.1 s.2.1 s.2.2.1 s.2.2.2.1 s.2.2.2.2.1 s.2.2.2.2.2.1 s.2.2.2.2.2.2.1 s.2.2.2.2.2.2.2.1 s.2.2.2.2.2.2.2.2.1 s.2.2.2.2.2.2.2.2.2.1 s.2.2.2.2.2.2.2.2.2.2.1 s.2.2.2.2.2.2.2.2.2.2.2.1 s.2.2.2.2.2.2.2.2.2.2.2.2.1 s.2.2.2.2.2.2.2.2.2.2.2.2.2) (fun s => I s.1 s.2.1 s.2.2.1 s.2.2.2.1 s.2.2.2.2.1 s.2.2.2.2.2.1 s.2.2.2.2.2.2.1 s.2.2.2.2.2.2.2.1 s.2.2.2.2.2.2.2.2.1 s.2.2.2.2.2.2.2.2.2.1 s.2.2.2.2.2.2.2.2.2.2.1 s.2.2.2.2.2.2.2.2.2.2.2.1 s.2.2.2.2.2.2.2.2.2.2.2.2.1 s.2.2.2.2.2.2.2.2.2.2.2.2.2) (fun s => μ s.1 s.2.1 s.2.2.1 s.2.2.2.1 s.2.2.2.2.1 s.2.2.2.2.2.1 s.2.2.2.2.2.2.1 s.2.2.2.2.2.2.2.1 s.2.2.2.2.2.2.2.2.1 s.2.2.2.2.2.2.2.2.2.1 s.2.2.2.2.2.2.2.2.2.2.1 s.2.2.2.2.2.2.2.2.2.2.2.1 s.2.2.2.2.2.2.2.2.2.2.2.2.1 s.2.2.2.2.2.2.2.2.2.2.2.2.2) (fun n s hI hk => hs n s.1 s.2.1 s.2.2.1 s.2.2.2.1 s.2.2.2.2.1 s.2.2.2.2.2.1 s.2.2.2.2.2.2.1 s.2.2.2.2.2.2.2.1 s.2.2.2.2.2.2.2.2.1 s.2.2.2.2.2.2.2.2.2.1 s.2.2.2.2.2.2.2.2.2.2.1 s.2.2.2.2.2.2.2.2.2.2.2.1 s.2.2.2.2.2.2.2.2.2.2.2.2.1 s.2.2.2.2.2.2.2.2.2.2.2.2.2 hI (fun b1 b2 b3 b4 b5 b6 b7 b8 b9 b10 b11 b12 b13 b14 h9 hm => hk (b1, b2, b3, b4, b5, b6, b7, b8, b9, b10, b11, b12, b13, b14) h9 hm)) (a1, a2, a3, a4, a5, a6, a7, a8, a9, a10, a11, a12, a13, a14) h
theorem lp15 {A1 A2 A3 A4 A5 A6 A7 A8 A9 A10 A11 A12 A13 A14 A15 : Type} (W : Nat → A1 → A2 → A3 → A4 → A5 → A6 → A7 → A8 → A9 → A10 → A11 → A12 → A13 → A14 → A15 → Prop) (I : A1 → A2 → A3 → A4 → A5 → A6 → A7 → A8 → A9 → A10 → A11 → A12 → A13 → A14 → A15 → Prop) (μ : A1 → A2 → A3 → A4 → A5 → A6 → A7 → A8 → A9 → A10 → A11 → A12 → A13 → A14 → A15 → Nat) (hs : ∀ (n : Nat) (a1 : A1) (a2 : A2) (a3 : A3) (a4 : A4) (a5 : A5) (a6 : A6) (a7 : A7) (a8 : A8) (a9 : A9) (a10 : A10) (a11 : A11) (a12 : A12) (a13 : A13) (a14 : A14) (a15 : A15), I a1 a2 a3 a4 a5 a6 a7 a8 a9 a10 a11 a12 a13 a14 a15 → (∀ (b1 : A1) (b2 : A2) (b3 : A3) (b4 : A4) (b5 : A5) (b6 : A6) (b7 : A7) (b8 : A8) (b9 : A9) (b10 : A10) (b11 : A11) (b12 : A12) (b13 : A13) (b14 : A14) (b15 : A15), I b1 b2 b3 b4 b5 b6 b7 b8 b9 b10 b11 b12 b13 b14 b15 → μ b1 b2 b3 b4 b5 b6 b7 b8 b9 b10 b11 b12 b13 b14 b15 < μ a1 a2 a3 a4 a5 a6 a7 a8 a9 a10 a11 a12 a13 a14 a15 → W n b1 b2 b3 b4 b5 b6 b7 b8 b9 b10 b11 b12 b13 b14 b15) → W (n + 1) a1 a2 a3 a4 a5 a6 a7 a8 a9 a10 a11 a12 a13 a14 a15) (a1 : A1) (a2 : A2) (a3 : A3) (a4 : A4) (a5 : A5) (a6 : A6) (a7 : A7) (a8 : A8) (a9 : A9) (a10 : A10) (a11 : A11) (a12 : A12) (a13 : A13) (a14 : A14) (a15 : A15) (h : I a1 a2 a3 a4 a5 a6 a7 a8 a9 a10 a11 a12 a13 a14 a15) : ∃ n, W n a1 a2 a3 a4 a5 a6 a7 a8 a9 a10 a11 a12 a13 a14 a15 :=
  loop_m (σ := A1 × A2 × A3 × A4 × A5 × A6 × A7 × A8 × A9 × A10 × A11 × A12 × A13 × A14 × A15) (fun n s => W n s.1 s.2.1 s.2.2.1 s.2.2.2.1 s.2.2.2.2.1 s.2.2.2.2.2.1 s.2.2.2.2.2.2.1 s.2.2.2.2.2.2.2.1 s.2.2.2.2.2.2.2.2.1 s.2.2.2.2.2.2.2.2.2.1 s.2.2.2.2.2.2.2.2.2.2.1 s.2.2.2.2.2.2.2.2.2.2.2.1 s.2.2.2.2.2.2.2.2.2.2.2.2.1 s.2.2.2.2.2.2.2.2.2.2.2.2.2.1 s.2.2.2.2.2.2.2.2.2.2.2.2.2.2) (fun s => I s.1 s.2.1 s.2.2.1 s.2.2.2.1 s.2.2.2.2.1 s.2.2.2.2.2.1 s.2.2.2.2.2.2.1 s.2.2.2.2.2.2.2.1 s.2.2.2.2.2.2.2.2.1 s.2.2.2.2.2.2.2.2.2.1 s.2.2.2.2.2.2.2.2.2.2.1 s.2.2.2.2.2.2.2.2.2.2.2.1 s.2.2.2.2.2.2.2.2.2.2.2.2.1 s.2.2.2.2.2.2.2.2.2.2.2.2.2.1 s.2.2.2.2.2.2.2.2.2.2.2.2.2.2) (fun s => μ s.1 s.2.1 s.2.2.1 s.2.2.2.1 s.2.2.2.2.1 s.2.2.2.2.2.1 s.2.2.2.2.2.2.1 s.2.2.2.2.2.2.2.1 s.2.2.2.2.2.2.2.2.1 s.2.2.2.2.2.2.2.2.2.1 s.2.2.2.2.2.2.2.2.2.2.1 s.2.2.2.2.2.2.2.2.2.2.2.1 s.2.2.2.2.2.2.2.2.2.2.2.2.1 s.2.2.2.2.2.2.2.2.2.2.2.2.2.1 s.2.2.2.2.2.2.2.2.2.2.2.2.2.2) (fun n s hI hk => hs n s.1 s.2.1 s.2.2.1 s.2.2.2.1 s.2.2.2.2.1 s.2.2.2.2.2.1 s.2.2.2.2.2.2.1 s.2.2.2.2.2.2.2.1 s.2.2.2.2.2.2.2.2.1 s.2.2.2.2.2.2.2.2.2.1 s.2.2.2.2.2.2.2.2.2.2.1 s.2.2.2.2.2.2.2.2.2.2.2.1 s.2.2.2.2.2.2.2.2.2.2.2.2.1 s.2.2.2.2.2.2.2.2.2.2.2.2.2.1 s.2.2.2.2.2.2.2.2.2.2.2.2.2.2 hI (fun b1 b2 b3 b4 b5 b6 b7 b8 b9 b10 b11 b12 b13 b14 b15 h9 hm => hk (b1, b2, b3, b4, b5, b6, b7, b8, b9, b10, b11, b12, b13, b14, b15) h9 hm)) (a1, a2, a3, a4, a5, a6, a7, a8, a9, a10, a11, a12, a13, a14, a15) h
theorem lp16 {A1 A2 A3 A4 A5 A6 A7 A8 A9 A10 A11 A12 A13 A14 A15 A16 : Type} (W : Nat → A1 → A2 → A3 → A4 → A5 → A6 → A7 → A8 → A9 → A10 → A11 → A12 → A13 → A14 → A15 → A16 → Prop) (I : A1 → A2 → A3 → A4 → A5 → A6 → A7 → A8 → A9 → A10 → A11 → A12 → A13 → A14 → A15 → A16 → Prop) (μ : A1 → A2 → A3 → A4 → A5 → A6 → A7 → A8 → A9 → A10 → A11 → A12 → A13 → A14 → A15 → A16 → Nat) (hs : ∀ (n : Nat) (a1 : A1) (a2 : A2) (a3 : A3) (a4 : A4) (a5 : A5) (a6 : A6) (a7 : A7) (a8 : A8) (a9 : A9) (a10 : A10) (a11 : A11) (a12 : A12) (a13 : A13) (a14 : A14) (a15 : A15) (a16 : A16), I a1 a2 a3 a4 a5 a6 a7 a8 a9 a10 a11 a12 a13 a14 a15 a16 → (∀ (b1 : A1) (b2 : A2) (b3 : A3) (b4 : A4) (b5 : A5) (b6 : A6) (b7 : A7) (b8 : A8) (b9 : A9) (b10 : A10) (b11 : A11) (b12 : A12) (b13 : A13) (b14 : A14) (b15 : A15) (b16 : A16), I b1 b2 b3 b4 b5 b6 b7 b8 b9 b10 b11 b12 b13 b14 b15 b16 → μ b1 b2 b3 b4 b5 b6 b7 b8 b9 b10 b11 b12 b13 b14 b15 b16 < μ a1 a2 a3 a4 a5 a6 a7 a8 a9 a10 a11 a12 a13 a14 a15 a16 → W n b1 b2 b3 b4 b5 b6 b7 b8 b9 b10 b11 b12 b13 b14 b15 b16) → W (n + 1) a1 a2 a3 a4 a5 a6 a7 a8 a9 a10 a11 a12 a13 a14 a15 a16) (a1 : A1) (a2 : A2) (a3 : A3) (a4 : A4) (a5 : A5) (a6 : A6) (a7 : A7) (a8 : A8) (a9 : A9) (a10 : A10) (a11 : A11) (a12 : A12) (a13 : A13) (a14 : A14) (a15 : A15) (a16 : A16) (h : I a1 a2 a3 a4 a5 a6 a7 a8 a9 a10 a11 a12 a13 a14 a15 a16) : ∃ n, W n a1 a2 a3 a4 a5 a6 a7 a8 a9 a10 a11 a12 a13 a14 a15 a16 :=
  loop_m (σ := A1 × A2 × A3 × A4 × A5 × A6 × A7 × A8 × A9 × A10 × A11 × A12 × A13 × A14 × A15 × A16) (fun n s => W n s.1 s.2.1 s.2.2.1 s.2.2.2.1 s.2.2.2.2.1 s.2.2.2.2.2.1 s.2.2.2.2.2.2.1 s.2.2.2.2.2.2.2.1 s.2.2.2.2.2.2.2.2.1 s.2.2.2.2.2.2.2.2.2.1 s.2.2.2.2.2.2.2.2.2.2.1 s.2.2.2.2.2.2.2.2.2.2.2.1 s.2.2.2.2.2.2.2.2.2.2.2.2.1 s.2.2.2.2.2.2.2.2.2.2.2.2.2.1 s.2.2.2.2.2.2.2.2.2.2.2.2.2.2.1 s.2.2.2.2.2.2.2.2.2.2.2.2.2.2.2) (fun s => I s.1 s.2.1 s.2.2.1 s.2.2.2.1 s.2.2.2.2.1 s.2.2.2.2.2.1 s.2.2.2.2.2.2.1 s.2.2.2.2.2.2.2.1 s.2.2.2.2.2.2.2.2.1 s.2.2.2.2.2.2.2.2.2.1 s.2.2.2.2.2.2.2.2.2.2.1 s.2.2.2.2.2.2.2.2.2.2.2.1 s.2.2.2.2.2.2.2.2.2.2.2.2.1 s.2.2.2.2.2.2.2.2.2.2.2.2.2.1 s.2.2.2.2.2.2.2.2.2.2.2.2.2.2.1 s.2.2.2.2.2.2.2.2.2.2.2.2.2.2.2) (fun s => μ s.1 s.2.1 s.2.2.1 s.2.2.2.1 s.2.2.2.2.1 s.2.2.2.2.2.1 s.2.2.2.2.2.2.1 s.2.2.2.2.2.2.2.1 s.2.2.2.2.2.2.2.2.1 s.2.2.2.2.2.2.2.2.2.1 s.2.2.2.2.2.2.2.2.2.2.1 s.2.2.2.2.2.2.2.2.2.2.2.1 s.2.2.2.2.2.2.2.2.2.2.2.2.1 s.2.2.2.2.2.2.2.2.2.2.2.2.2.1 s.2.2.2.2.2.2.2.2.2.2.2.2.2.2.1 s.2.2.2.2.2.2.2.2.2.2.2.2.2.2.2) (fun n s hI hk => hs n s.1 s.2.1 s.2.2.1 s.2.2.2.1 s.2.2.2.2.1 s.2.2.2.2.2.1 s.2.2.2.2.2.2.1 s.2.2.2.2.2.2.2.1 s.2.2.2.2.2.2.2.2.1 s.2.2.2.2.2.2.2.2.2.1 s.2.2.2.2.2.2.2.2.2.2.1 s.2.2.2.2.2.2.2.2.2.2.2.1 s.2.2.2.2.2.2.2.2.2.2.2.2.1 s.2.2.2.2.2.2.2.2.2.2.2.2.2.1 s.2.2.2.2.2.2.2.2.2.2.2.2.2.2.1 s.2.2.2.2.2.2.2.2.2.2.2.2.2.2.2 hI (fun b1 b2 b3 b4 b5 b6 b7 b8 b9 b10 b11 b12 b13 b14 b15 b16 h9 hm => hk (b1, b2, b3, b4, b5, b6, b7, b8, b9, b10, b11, b12, b13, b14, b15, b16) h9 hm)) (a1, a2, a3, a4, a5, a6, a7, a8, a9, a10, a11, a12, a13, a14, a15, a16) h
theorem pk_least (P : Nat → Prop) (h : ∃ k, P k) : ∃ k, P k ∧ ∀ j, j < k → ¬ P j := by
  obtain ⟨k, hk⟩ := h
  induction k using Nat.strongRecOn with
  | ind k ih =>
    by_cases e : ∃ j, j < k ∧ P j
    · obtain ⟨j, hj, pj⟩ := e
      exact ih j hj pj
    · exact ⟨k, hk, fun j hj pj => e ⟨j, hj, pj⟩⟩
theorem rp1 {ρ A1 : Type} (W : Nat → (ρ → Prop) → A1 → Prop) (ok : A1 → Prop) (μ : A1 → Nat) (val : A1 → ρ)
    (hs : ∀ (d : Nat) (post : ρ → Prop) (a1 : A1), ok a1 → post (val a1) → (∀ (post' : ρ → Prop) (b1 : A1), ok b1 → μ b1 < μ a1 → post' (val b1) → W d post' b1) → W (d + 1) post a1) :
    ∀ (d : Nat) (post : ρ → Prop) (a1 : A1), ok a1 → μ a1 < d → post (val a1) → W d post a1 := by
  intro d
  induction d with
  | zero => intro post a1 _ h; omega
  | succ d ih =>
    intro post a1 ho hm hp
    exact hs d post a1 ho hp (fun post' b1 ho' hm' hp' => ih post' b1 ho' (by omega) hp')
theorem rp2 {ρ A1 A2 : Type} (W : Nat → (ρ → Prop) → A1 → A2 → Prop) (ok : A1 → A2 → Prop) (μ : A1 → A2 → Nat) (val : A1 → A2 → ρ)
    (hs : ∀ (d : Nat) (post : ρ → Prop) (a1 : A1) (a2 : A2), ok a1 a2 → post (val a1 a2) → (∀ (post' : ρ → Prop) (b1 : A1) (b2 : A2), ok b1 b2 → μ b1 b2 < μ a1 a2 → post' (val b1 b2) → W d post' b1 b2) → W (d + 1) post a1 a2) :
    ∀ (d : Nat) (post : ρ → Prop) (a1 : A1) (a2 : A2), ok a1 a2 → μ a1 a2 < d → post (val a1 a2) → W d post a1 a2 := by
  intro d
  induction d with
  | zero => intro post a1 a2 _ h; omega
  | succ d ih =>
    intro post a1 a2 ho hm hp
    exact hs d post a1 a2 ho hp (fun post' b1 b2 ho' hm' hp' => ih post' b1 b2 ho' (by omega) hp')
theorem rp3 {ρ A1 A2 A3 : Type} (W : Nat → (ρ → Prop) → A1 → A2 → A3 → Prop) (ok : A1 → A2 → A3 → Prop) (μ : A1 → A2 → A3 → Nat) (val : A1 → A2 → A3 → ρ)
    (hs : ∀ (d : Nat) (post : ρ → Prop) (a1 : A1) (a2 : A2) (a3 : A3), ok a1 a2 a3 → post (val a1 a2 a3) → (∀ (post' : ρ → Prop) (b1 : A1) (b2 : A2) (b3 : A3), ok b1 b2 b3 → μ b1 b2 b3 < μ a1 a2 a3 → post' (val b1 b2 b3) → W d post' b1 b2 b3) → W (d + 1) post a1 a2 a3) :
    ∀ (d : Nat) (post : ρ → Prop) (a1 : A1) (a2 : A2) (a3 : A3), ok a1 a2 a3 → μ a1 a2 a3 < d → post (val a1 a2 a3) → W d post a1 a2 a3 := by
  intro d
  induction d with
  | zero => intro post a1 a2 a3 _ h; omega
  | succ d ih =>
    intro post a1 a2 a3 ho hm hp
    exact hs d post a1 a2 a3 ho hp (fun post' b1 b2 b3 ho' hm' hp' => ih post' b1 b2 b3 ho' (by omega) hp')
theorem rp4 {ρ A1 A2 A3 A4 : Type} (W : Nat → (ρ → Prop) → A1 → A2 → A3 → A4 → Prop) (ok : A1 → A2 → A3 → A4 → Prop) (μ : A1 → A2 → A3 → A4 → Nat) (val : A1 → A2 → A3 → A4 → ρ)
    (hs : ∀ (d : Nat) (post : ρ → Prop) (a1 : A1) (a2 : A2) (a3 : A3) (a4 : A4), ok a1 a2 a3 a4 → post (val a1 a2 a3 a4) → (∀ (post' : ρ → Prop) (b1 : A1) (b2 : A2) (b3 : A3) (b4 : A4), ok b1 b2 b3 b4 → μ b1 b2 b3 b4 < μ a1 a2 a3 a4 → post' (val b1 b2 b3 b4) → W d post' b1 b2 b3 b4) → W (d + 1) post a1 a2 a3 a4) :
    ∀ (d : Nat) (post : ρ → Prop) (a1 : A1) (a2 : A2) (a3 : A3) (a4 : A4), ok a1 a2 a3 a4 → μ a1 a2 a3 a4 < d → post (val a1 a2 a3 a4) → W d post a1 a2 a3 a4 := by
  intro d
  induction d with
  | zero => intro post a1 a2 a3 a4 _ h; omega
  | succ d ih =>
    intro post a1 a2 a3 a4 ho hm hp
    exact hs d post a1 a2 a3 a4 ho hp (fun post' b1 b2 b3 b4 ho' hm' hp' => ih post' b1 b2 b3 b4 ho' (by omega) hp')
theorem rp5 {ρ A1 A2 A3 A4 A5 : Type} (W : Nat → (ρ → Prop) → A1 → A2 → A3 → A4 → A5 → Prop) (ok : A1 → A2 → A3 → A4 → A5 → Prop) (μ : A1 → A2 → A3 → A4 → A5 → Nat) (val : A1 → A2 → A3 → A4 → A5 → ρ)
    (hs : ∀ (d : Nat) (post : ρ → Prop) (a1 : A1) (a2 : A2) (a3 : A3) (a4 : A4) (a5 : A5), ok a1 a2 a3 a4 a5 → post (val a1 a2 a3 a4 a5) → (∀ (post' : ρ → Prop) (b1 : A1) (b2 : A2) (b3 : A3) (b4 : A4) (b5 : A5), ok b1 b2 b3 b4 b5 → μ b1 b2 b3 b4 b5 < μ a1 a2 a3 a4 a5 → post' (val b1 b2 b3 b4 b5) → W d post' b1 b2 b3 b4 b5) → W (d + 1) post a1 a2 a3 a4 a5) :
    ∀ (d : Nat) (post : ρ → Prop) (a1 : A1) (a2 : A2) (a3 : A3) (a4 : A4) (a5 : A5), ok a1 a2 a3 a4 a5 → μ a1 a2 a3 a4 a5 < d → post (val a1 a2 a3 a4 a5) → W d post a1 a2 a3 a4 a5 := by
  intro d
  induction d with
  | zero => intro post a1 a2 a3 a4 a5 _ h; omega
  | succ d ih =>
    intro post a1 a2 a3 a4 a5 ho hm hp
    exact hs d post a1 a2 a3 a4 a5 ho hp (fun post' b1 b2 b3 b4 b5 ho' hm' hp' => ih post' b1 b2 b3 b4 b5 ho' (by omega) hp')
theorem rp6 {ρ A1 A2 A3 A4 A5 A6 : Type} (W : Nat → (ρ → Prop) → A1 → A2 → A3 → A4 → A5 → A6 → Prop) (ok : A1 → A2 → A3 → A4 → A5 → A6 → Prop) (μ : A1 → A2 → A3 → A4 → A5 → A6 → Nat) (val : A1 → A2 → A3 → A4 → A5 → A6 → ρ)
    (hs : ∀ (d : Nat) (post : ρ → Prop) (a1 : A1) (a2 : A2) (a3 : A3) (a4 : A4) (a5 : A5) (a6 : A6), ok a1 a2 a3 a4 a5 a6 → post (val a1 a2 a3 a4 a5 a6) → (∀ (post' : ρ → Prop) (b1 : A1) (b2 : A2) (b3 : A3) (b4 : A4) (b5 : A5) (b6 : A6), ok b1 b2 b3 b4 b5 b6 → μ b1 b2 b3 b4 b5 b6 < μ a1 a2 a3 a4 a5 a6 → post' (val b1 b2 b3 b4 b5 b6) → W d post' b1 b2 b3 b4 b5 b6) → W (d + 1) post a1 a2 a3 a4 a5 a6) :
    ∀ (d : Nat) (post : ρ → Prop) (a1 : A1) (a2 : A2) (a3 : A3) (a4 : A4) (a5 : A5) (a6 : A6), ok a1 a2 a3 a4 a5 a6 → μ a1 a2 a3 a4 a5 a6 < d → post (val a1 a2 a3 a4 a5 a6) → W d post a1 a2 a3 a4 a5 a6 := by
  intro d
  induction d with
  | zero => intro post a1 a2 a3 a4 a5 a6 _ h; omega
  | succ d ih =>
    intro post a1 a2 a3 a4 a5 a6 ho hm hp
    exact hs d post a1 a2 a3 a4 a5 a6 ho hp (fun post' b1 b2 b3 b4 b5 b6 ho' hm' hp' => ih post' b1 b2 b3 b4 b5 b6 ho' (by omega) hp')
theorem rec_p {σ ρ : Type} (W : Nat → (ρ → Prop) → σ → Prop) (ok : σ → Prop) (μ : σ → Nat) (val : σ → ρ)
    (hs : ∀ d s post, ok s → post (val s) → (∀ s' post', ok s' → μ s' < μ s → post' (val s') → W d post' s') → W (d + 1) post s) :
    ∀ d s post, ok s → μ s < d → post (val s) → W d post s := by
  intro d
  induction d with
  | zero => intro s post _ h; omega
  | succ d ih =>
    intro s post ho hm hp
    exact hs d s post ho hp (fun s' post' ho' hm' hp' => ih s' post' ho' (by omega) hp')
theorem rec_q {σ ρ : Type} (W : Nat → (ρ → Prop) → σ → Prop) (ok : σ → Prop) (μ : σ → Nat) (Q : σ → ρ → Prop)
    (hs : ∀ d s post, ok s → (∀ r, Q s r → post r) → (∀ s' post', ok s' → μ s' < μ s → (∀ r, Q s' r → post' r) → W d post' s') → W (d + 1) post s) :
    ∀ d s post, ok s → μ s < d → (∀ r, Q s r → post r) → W d post s := by
  intro d
  induction d with
  | zero => intro s post _ h; omega
  | succ d ih =>
    intro s post ho hm hp
    exact hs d s post ho hp (fun s' post' ho' hm' hp' => ih s' post' ho' (by omega) hp')
def bx_sum (f : Nat → Int32) : Nat → Int32
  | 0 => 0
  | n + 1 => bx_sum f n + f n
theorem ek_u {A : Prop} {B : Nat → Prop} {k N : Nat} (hk : k < N) (h : B k) : (some k = none → A) ∧ (∀ y : Nat, some k = some y → (y < N ∧ B y)) :=
  ⟨fun z => absurd z (Option.some_ne_none k), fun _ e => (by cases e; exact ⟨hk, h⟩)⟩
theorem ek_nu {A : Prop} {B : Nat → Prop} (h : A) : ((none : Option Nat) = none → A) ∧ (∀ y : Nat, (none : Option Nat) = some y → B y) :=
  ⟨fun _ => h, fun _ e => (by cases e)⟩
theorem ek_if {c d A B : Prop} (e : c ↔ d) (f : d → A) (g : ¬ d → B) : (c → A) ∧ (¬ c → B) :=
  ⟨fun z => f (e.mp z), fun z => g (fun y => z (e.mpr y))⟩
theorem ek_v {α : Sort _} {P : α → Prop} {a b : α} (e : a = b) (h : P b) : P a := e ▸ h
theorem co_some {x : Option Nat} {A : Prop} {B : Nat → Prop} (i : Nat) (h : B i) (hx : x = some i := by rfl) : (x = none → A) ∧ (∀ y : Nat, x = some y → B y) := by
  subst hx
  exact ⟨fun e => (nomatch e), fun y e => Option.some.inj e ▸ h⟩
theorem co_none {x : Option Nat} {A : Prop} {B : Nat → Prop} (h : A) (hx : x = none := by rfl) : (x = none → A) ∧ (∀ y : Nat, x = some y → B y) := by
  subst hx
  exact ⟨fun _ => h, fun y e => (nomatch e)⟩
theorem co_any {x : Option Nat} {A : Prop} {B : Nat → Prop} (hn : x = none → A) (hs : ∀ i : Nat, x = some i → B i) : (x = none → A) ∧ (∀ y : Nat, x = some y → B y) := ⟨hn, hs⟩
theorem co_2 {P : Nat → Prop} (h0 : P 0) (h1 : P 1) {i : Nat} (hi : i < 2) : P i :=
  match i, hi with
  | 0, _ => h0
  | 1, _ => h1
theorem co_3 {P : Nat → Prop} (h0 : P 0) (h1 : P 1) (h2 : P 2) {i : Nat} (hi : i < 3) : P i :=
  match i, hi with
  | 0, _ => h0
  | 1, _ => h1
  | 2, _ => h2
theorem co_4 {P : Nat → Prop} (h0 : P 0) (h1 : P 1) (h2 : P 2) (h3 : P 3) {i : Nat} (hi : i < 4) : P i :=
  match i, hi with
  | 0, _ => h0
  | 1, _ => h1
  | 2, _ => h2
  | 3, _ => h3
theorem co_dec {N : Nat} {P : Nat → Prop} [DecidablePred P] (h : (List.range N).all (fun i => decide (P i)) = true) {i : Nat} (hi : i < N) : P i := by
  have := List.all_eq_true.mp h i (List.mem_range.mpr hi)
  exact of_decide_eq_true this
theorem co_tab {α : Type} {l : List α} {d : α} {P : α → Prop} (h : ∀ a, a ∈ l → P a) {i : Nat} (hi : i < l.length) : P (l.getD i d) := by
  rw [List.getD_eq_getElem?_getD, List.getElem?_eq_getElem hi]
  exact h _ (List.getElem_mem hi)
theorem pk_mu {x : Int32} {L : Nat} (h0 : ¬ x < 0) (h : ¬ nI L ≤ x) (hL : L < 2 ^ 31) : ∃ j : Nat, j < L ∧ x = nI j ∧ x + 1 = nI (j + 1) ∧ x.toNatClampNeg = j ∧ L - (x + 1).toNatClampNeg < L - x.toNatClampNeg := by
  obtain ⟨j, hj, rfl⟩ := nI_of h0
  have hl : j < L := Nat.not_le.mp fun q => h (nI_le q hj)
  refine ⟨j, hl, rfl, nI_1 j, nI_clamp hj, ?_⟩
  rw [nI_1, nI_clamp (by omega), nI_clamp hj]
  omega
theorem op_s {α : Type} {r : Option α} {A : Prop} {B : α → Prop} {y : α} (h : r = some y) (b : B y) : (r = none → A) ∧ ∀ z, r = some z → B z :=
  ⟨fun e => (by rw [h] at e; cases e), fun z e => (by rw [h] at e; cases e; exact b)⟩
def l_holds {α : Type} (a : Nat → Option Nat) (LP : List Nat) (p : Nat → α) (c : Nat) (b : Nat → α) : Prop :=
  ∀ j, j < c → ∃ y, a j = some y ∧ y ∈ LP ∧ p y = b j
theorem l_holds_0 {α : Type} {a : Nat → Option Nat} {LP : List Nat} {p b : Nat → α} : l_holds a LP p 0 b := fun j h => absurd h (Nat.not_lt_zero j)
theorem l_in_new (LP : List Nat) (q : Nat) : q ∈ LP ++ [q] := List.mem_append.mpr (Or.inr (List.mem_singleton.mpr rfl))
def l_sum (b : Nat → Int32) : Nat → Int32
  | 0 => 0
  | k + 1 => l_sum b k + b k
theorem sb_shr0 (x : Int32) : x >>> ((0 : Int32) &&& 31) = x := by
  rw [show ((0 : Int32) &&& 31) = 0 by decide]
  simp
theorem sb_shl0 (x : Int32) : x <<< ((0 : Int32) &&& 31) = x := by
  rw [show ((0 : Int32) &&& 31) = 0 by decide]
  simp
theorem sb_cl0 : (0 : Int32).toNatClampNeg = 0 := by decide
theorem sb_m1 {p : Nat} (h : 0 < p) : nI p + (-1) = nI (p - 1) := by
  obtain ⟨q, rfl⟩ : ∃ q, p = q + 1 := ⟨p - 1, by omega⟩
  exact pk_m1 q
def sb_b (c : Nat) : Int32 := (nI c).toInt8.toInt32
theorem sb_byte : ∀ c, c < 256 → sb_b c &&& 255 = nI c ∧ ((nI c).toUInt32 % 65536).toInt32 = nI c ∧ nI c ≤ 255 := by decide +kernel
def sb_Fit (a : Nat → Int32) : Prop := ∀ j, fits .byte (.int (a j)) = true
def sb_Lat (t : Nat → Nat) (n : Nat) (a : Nat → Int32) : Prop := ∀ j, j < n → t j < 256 ∧ a j = sb_b (t j)
theorem sb_fitB (c : Nat) : fits .byte (.int (sb_b c)) = true := pk_fb _
theorem sb_fit0 : sb_Fit (fun _ => 0) := fun _ => by
  show fits .byte (.int 0) = true
  decide
theorem sb_fitU {a : Nat → Int32} {k : Nat} {x : Int32} (h : sb_Fit a) (hx : fits .byte (.int x) = true) : sb_Fit (upd a k x) := by
  intro j
  by_cases e : j = k
  · subst e
    rw [pk_us]
    exact hx
  · rw [pk_un e]
    exact h j
def sb_cat (t : Nat → Nat) (n : Nat) (s : Nat → Nat) : Nat → Nat := fun j => if j < n then t j else s (j - n)
theorem sb_cat_lo {t s : Nat → Nat} {n j : Nat} (h : j < n) : sb_cat t n s j = t j := if_pos h
theorem sb_cat_hi {t s : Nat → Nat} {n j : Nat} : sb_cat t n s (n + j) = s j := by
  show (if n + j < n then t (n + j) else s (n + j - n)) = s j
  rw [if_neg (by omega), Nat.add_sub_cancel_left]
theorem sb_latPut {t s : Nat → Nat} {n w : Nat} {a a' : Nat → Int32} (h : sb_Lat t n a) (hk : ∀ j, j < n → a' j = a j) (hs : ∀ i, i < w → s i < 256 ∧ a' (n + i) = sb_b (s i)) : sb_Lat (sb_cat t n s) (n + w) a' := by
  intro j hj
  by_cases e : j < n
  · rw [sb_cat_lo e, hk j e]
    exact h j e
  · obtain ⟨i, rfl⟩ : ∃ i, j = n + i := ⟨j - n, by omega⟩
    rw [sb_cat_hi]
    exact hs i (by omega)
theorem sb_latKeep {t : Nat → Nat} {n : Nat} {a a' : Nat → Int32} (h : sb_Lat t n a) (hk : ∀ j, j < n → a' j = a j) : sb_Lat t n a' := fun j hj => by
  rw [hk j hj]
  exact h j hj
def sb_cap (q m : Nat) : Nat := if q ≤ m then m else if 2 * m + 2 < q then q else 2 * m + 2
def sb_Room (q m mc ms : Nat) : Prop := q ≤ m ∨ (1 ≤ mc ∧ sb_cap q m ≤ ms ∧ sb_cap q m ≤ 65536)
theorem sb_cap_ge (q m : Nat) : q ≤ sb_cap q m := by
  unfold sb_cap
  split
  · omega
  · split <;> omega
theorem sb_cap_gem (q m : Nat) : m ≤ sb_cap q m := by
  unfold sb_cap
  split
  · omega
  · split <;> omega
theorem sb_cap_le {q m mc ms : Nat} (hm : m ≤ 65536) (hr : sb_Room q m mc ms) : sb_cap q m ≤ 65536 := by
  rcases hr with h | h
  · rw [sb_cap, if_pos h]
    exact hm
  · exact h.2.2
theorem sb_at {P : Int32 → Prop} {x y : Int32} (e : x = y) (h : P y) : P x := e ▸ h
def sb_dg (w : Nat) : Nat := if w < 10 then 1 else if w < 100 then 2 else if w < 1000 then 3 else if w < 10000 then 4 else if w < 100000 then 5 else if w < 1000000 then 6 else if w < 10000000 then 7 else if w < 100000000 then 8 else if w < 1000000000 then 9 else 10
def sb_dec (v : Nat) : Nat → Nat := fun i => 48 + v / 10 ^ (sb_dg v - 1 - i) % 10
theorem sb_dg_in (w : Nat) : 1 ≤ sb_dg w ∧ sb_dg w ≤ 10 := by
  unfold sb_dg
  constructor <;> (repeat' split) <;> omega
theorem sb_dg100 {w : Nat} (h : 100 ≤ w) (hw : w < 2 ^ 31) : sb_dg w = sb_dg (w / 100) + 2 := by
  rw [sb_dg, sb_dg, if_neg (show ¬ w < 10 by omega), if_neg (show ¬ w < 100 by omega)]
  by_cases h3 : w < 1000
  · rw [if_pos h3, if_pos (show w / 100 < 10 by omega)]
  rw [if_neg h3, if_neg (show ¬ w / 100 < 10 by omega)]
  by_cases h4 : w < 10000
  · rw [if_pos h4, if_pos (show w / 100 < 100 by omega)]
  rw [if_neg h4, if_neg (show ¬ w / 100 < 100 by omega)]
  by_cases h5 : w < 100000
  · rw [if_pos h5, if_pos (show w / 100 < 1000 by omega)]
  rw [if_neg h5, if_neg (show ¬ w / 100 < 1000 by omega)]
  by_cases h6 : w < 1000000
  · rw [if_pos h6, if_pos (show w / 100 < 10000 by omega)]
  rw [if_neg h6, if_neg (show ¬ w / 100 < 10000 by omega)]
  by_cases h7 : w < 10000000
  · rw [if_pos h7, if_pos (show w / 100 < 100000 by omega)]
  rw [if_neg h7, if_neg (show ¬ w / 100 < 100000 by omega)]
  by_cases h8 : w < 100000000
  · rw [if_pos h8, if_pos (show w / 100 < 1000000 by omega)]
  rw [if_neg h8, if_neg (show ¬ w / 100 < 1000000 by omega)]
  by_cases h9 : w < 1000000000
  · rw [if_pos h9, if_pos (show w / 100 < 10000000 by omega)]
  rw [if_neg h9, if_neg (show ¬ w / 100 < 10000000 by omega)]
  rw [if_pos (show w / 100 < 100000000 by omega)]
theorem sb_negT {w : Nat} (h : w < 2 ^ 31) : (-nI w).toInt = -(w : Int) := by
  rw [Int32.toInt_neg, nI_toInt h]
  exact Int.bmod_eq_of_le (by omega) (by omega)
theorem sb_nle {a b : Nat} (ha : a < 2 ^ 31) (hb : b < 2 ^ 31) : -nI a ≤ -nI b ↔ b ≤ a := by
  rw [Int32.le_iff_toInt_le, sb_negT ha, sb_negT hb]
  omega
theorem sb_nlt {a b : Nat} (ha : a < 2 ^ 31) (hb : b < 2 ^ 31) : -nI a < -nI b ↔ b < a := by
  rw [Int32.lt_iff_toInt_lt, sb_negT ha, sb_negT hb]
  omega
theorem sb_cmp {A B : Prop} {x : Int32} (v c : Nat) (f : c ≤ v → A) (g : v < c → B) (hv : v < 2 ^ 31) (hx : x = -nI c := by rfl) (hc : c < 2 ^ 31 := by omega) : (-nI v ≤ x → A) ∧ (¬ -nI v ≤ x → B) := by
  subst hx
  rw [sb_nle hv hc]
  exact ⟨f, fun z => g (by omega)⟩
theorem sb_ndiv {w : Nat} (hw : w < 2 ^ 31) : (-nI w) / 100 = -nI (w / 100) := by
  apply Int32.toInt_inj.mp
  have h100 : (100 : Int32).toInt = 100 := by decide
  rw [Int32.toInt_div, sb_negT hw, h100, sb_negT (by omega), Int.neg_tdiv, Int.tdiv_eq_ediv_of_nonneg (by omega), Int.bmod_eq_of_le (by omega) (by omega)]
  omega
theorem sb_nrem {w : Nat} (hw : w < 2 ^ 31) : (-nI (w / 100)) * 100 - (-nI w) = nI (w % 100) := by
  have h := pk_rem (a := w) (d := 100) hw (by decide) (by decide)
  rw [pk_div hw (by decide) (by decide)] at h
  rw [← h]
  show (-nI (w / 100)) * nI 100 - (-nI w) = nI w - nI (w / 100) * nI 100
  rw [Int32.neg_mul, Int32.sub_neg, Int32.add_comm, ← Int32.sub_eq_add_neg]
end
section
/-! numbers that fit a byte -/
theorem fd_b8 : ∀ n, n < 128 → (nI n).toInt8.toInt32 = nI n := by decide +kernel
theorem fd_nb {n : Nat} (h : n < 128) : vp_nar .byte (nI n) = nI n := by rw [vp_nar_byte]; exact fd_b8 n h
theorem fd_m8 : (-1 : Int32).toInt8.toInt32 = -1 := by decide
theorem fd_bm : vp_nar .byte (-1) = -1 := by rw [vp_nar_byte]; exact fd_m8
theorem fd_mlt : (-1 : Int32) < 0 := by decide
theorem fd_mnle : ¬ (0 : Int32) ≤ -1 := by decide
theorem fd_nm {n : Nat} (h : n < 2 ^ 31) : ¬ nI n = -1 := by
  intro e
  have := nI_pos (n := n) h
  rw [e] at this
  exact this fd_mlt
theorem fd_inj {a b : Nat} (h : nI a = nI b) (ha : a < 2 ^ 31) (hb : b < 2 ^ 31) : a = b := (nI_eq ha hb).mp h
def fd_By (x : Int32) : Prop := x = -1 ∨ ∃ n, n < 128 ∧ x = nI n
theorem fd_by8 {x : Int32} (h : fd_By x) : x.toInt8.toInt32 = x := by
  rcases h with rfl | ⟨n, hn, rfl⟩
  · exact fd_m8
  · exact fd_b8 n hn
theorem fd_by {x : Int32} (h : fd_By x) : vp_nar .byte x = x := by rw [vp_nar_byte]; exact fd_by8 h
theorem fd_byN {n : Nat} (h : n < 128) : fd_By (nI n) := Or.inr ⟨n, h, rfl⟩
theorem fd_byM : fd_By (-1) := Or.inl rfl
theorem fd_nb8 {x : Int32} (h : fd_By x) : vp_nar .byte x.toInt8.toInt32 = x := by rw [fd_by8 h, fd_by h]
theorem fd_z0 : vp_nar .boolean 0 = 0 := by decide
theorem fd_z1 : vp_nar .boolean 1 = 1 := by decide
theorem fd_s0 : vp_nar .short 0 = 0 := by rw [vp_nar_short]; decide
/-! the abstract state: components by number, lists by number -/
def fd_sA (c : Nat → Nat → Int32) (k : Nat) (g : Nat → Int32) : Nat → Nat → Int32 := fun j => cond (Nat.beq j k) g (c j)
def fd_sC (c : Nat → Nat → Int32) (k i : Nat) (x : Int32) : Nat → Nat → Int32 := fd_sA c k (upd (c k) i x)
def fd_sQ (q : Nat → List Nat) (k : Nat) (l : List Nat) : Nat → List Nat := fun j => cond (Nat.beq j k) l (q j)
theorem fd_beq_n {j k : Nat} (h : j ≠ k) : Nat.beq j k = false := by
  cases e : Nat.beq j k with
  | false => rfl
  | true => exact absurd (Nat.eq_of_beq_eq_true e) h
theorem fd_beq_s (k : Nat) : Nat.beq k k = true := Nat.beq_refl k
theorem fd_sA_s {c : Nat → Nat → Int32} {k : Nat} {g : Nat → Int32} : fd_sA c k g k = g := by
  unfold fd_sA; rw [fd_beq_s]; rfl
theorem fd_sA_n {c : Nat → Nat → Int32} {k j : Nat} {g : Nat → Int32} (h : j ≠ k) : fd_sA c k g j = c j := by
  unfold fd_sA; rw [fd_beq_n h]; rfl
theorem fd_sC_s {c : Nat → Nat → Int32} {k i : Nat} {x : Int32} : fd_sC c k i x k = upd (c k) i x := fd_sA_s
theorem fd_sC_n {c : Nat → Nat → Int32} {k j i : Nat} {x : Int32} (h : j ≠ k) : fd_sC c k i x j = c j := fd_sA_n h
theorem fd_sQ_s {q : Nat → List Nat} {k : Nat} {l : List Nat} : fd_sQ q k l k = l := by
  unfold fd_sQ; rw [fd_beq_s]; rfl
theorem fd_sQ_n {q : Nat → List Nat} {k j : Nat} {l : List Nat} (h : j ≠ k) : fd_sQ q k l j = q j := by
  unfold fd_sQ; rw [fd_beq_n h]; rfl
theorem fd_upd_self {f : Nat → Int32} {k : Nat} {x : Int32} (h : f k = x) : upd f k x = f := by
  funext j
  by_cases e : j = k
  · subst e; rw [pk_us, h]
  · rw [pk_un e]
/-! linked lists -/
def fd_hd (l : List Nat) (e : Int32) : Int32 := match l with
  | [] => e
  | x :: _ => nI x
def fd_ls (p : Int32) : List Nat → Int32
  | [] => p
  | x :: xs => fd_ls (nI x) xs
def fd_Ch (bh bf : Nat → Int32) : Int32 → List Nat → Int32 → Prop
  | _, [], _ => True
  | p, x :: xs, e => bf x = p ∧ bh x = fd_hd xs e ∧ fd_Ch bh bf (nI x) xs e
theorem fd_hd_app {A B : List Nat} {e : Int32} : fd_hd (A ++ B) e = fd_hd A (fd_hd B e) := by
  cases A <;> rfl
theorem fd_ls_app {A B : List Nat} {p : Int32} : fd_ls p (A ++ B) = fd_ls (fd_ls p A) B := by
  induction A generalizing p with
  | nil => rfl
  | cons x A ih => exact ih
theorem fd_ls_one {A : List Nat} {p : Int32} {y : Nat} : fd_ls p (A ++ [y]) = nI y := by rw [fd_ls_app]; rfl
theorem fd_Ch_app {bh bf : Nat → Int32} {A B : List Nat} {p e : Int32} : fd_Ch bh bf p (A ++ B) e ↔ fd_Ch bh bf p A (fd_hd B e) ∧ fd_Ch bh bf (fd_ls p A) B e := by
  induction A generalizing p with
  | nil => exact ⟨fun h => ⟨trivial, h⟩, fun h => h.2⟩
  | cons x A ih =>
    show (bf x = p ∧ bh x = fd_hd (A ++ B) e ∧ fd_Ch bh bf (nI x) (A ++ B) e) ↔ (bf x = p ∧ bh x = fd_hd A (fd_hd B e) ∧ fd_Ch bh bf (nI x) A (fd_hd B e)) ∧ fd_Ch bh bf (fd_ls (nI x) A) B e
    rw [ih, fd_hd_app]
    constructor
    · rintro ⟨a, b, d, e⟩; exact ⟨⟨a, b, d⟩, e⟩
    · rintro ⟨⟨a, b, d⟩, e⟩; exact ⟨a, b, d, e⟩
theorem fd_Ch_fr {bh bf bh' bf' : Nat → Int32} {A : List Nat} {p e : Int32} (h : ∀ x, x ∈ A → bh' x = bh x ∧ bf' x = bf x) (H : fd_Ch bh bf p A e) : fd_Ch bh' bf' p A e := by
  induction A generalizing p with
  | nil => trivial
  | cons x A ih =>
    obtain ⟨a, b, d⟩ := H
    have hx := h x List.mem_cons_self
    exact ⟨hx.2.trans a, hx.1.trans b, ih (fun y hy => h y (List.mem_cons_of_mem _ hy)) d⟩
theorem fd_Ch_last {bh bf : Nat → Int32} {A : List Nat} {y : Nat} {p e : Int32} (e' : Int32) (hy : y ∉ A) (H : fd_Ch bh bf p (A ++ [y]) e) : fd_Ch (upd bh y e') bf p (A ++ [y]) e' := by
  rw [fd_Ch_app] at H ⊢
  refine ⟨fd_Ch_fr (fun x hx => ⟨pk_un (fun z => hy (z ▸ hx)), rfl⟩) H.1, H.2.1, pk_us, trivial⟩
theorem fd_Ch_head {bh bf : Nat → Int32} {B : List Nat} {z : Nat} {p e : Int32} (p' : Int32) (hz : z ∉ B) (H : fd_Ch bh bf p (z :: B) e) : fd_Ch bh (upd bf z p') p' (z :: B) e :=
  ⟨pk_us, H.2.1, fd_Ch_fr (fun x hx => ⟨rfl, pk_un (fun w => hz (w ▸ hx))⟩) H.2.2⟩
theorem fd_nil_or_last (A : List Nat) : A = [] ∨ ∃ A' y, A = A' ++ [y] := by
  induction A with
  | nil => exact Or.inl rfl
  | cons x A ih =>
    rcases ih with rfl | ⟨A', y, rfl⟩
    · exact Or.inr ⟨[], x, rfl⟩
    · exact Or.inr ⟨x :: A', y, rfl⟩
/-- the channels' chains -/
def fd_rCh (q : Nat → List Nat) (fr bk bh bf wh : Nat → Int32) : Prop :=
  (∀ k, k < 4 → fr k = fd_hd (q k) (-1) ∧ bk k = fd_ls (-1) (q k) ∧ fd_Ch bh bf (-1) (q k) (-1) ∧ ∀ l, l ∈ q k → wh l = nI k) ∧
  ∀ l, l < 24 → (∀ k, k < 4 → l ∉ q k) → wh l = -1
theorem fd_rCh_dj {q : Nat → List Nat} {fr bk bh bf wh : Nat → Int32} (H : fd_rCh q fr bk bh bf wh) {j k l : Nat} (hj : j < 4) (hk : k < 4) (h1 : l ∈ q j) (h2 : l ∈ q k) : j = k :=
  fd_inj (((H.1 j hj).2.2.2 l h1).symm.trans ((H.1 k hk).2.2.2 l h2)) (by omega) (by omega)
/-- unlinking, what is left to show -/
theorem fd_unl {q : Nat → List Nat} {fr bk bh bf wh fr' bk' bh' bf' : Nat → Int32} {k l : Nat} {A B : List Nat} (H : fd_rCh q fr bk bh bf wh) (hk : k < 4) (hq : q k = A ++ l :: B) (hn : (A ++ l :: B).Nodup)
    (h1 : ∀ j, j < 4 → j ≠ k → fr' j = fr j ∧ bk' j = bk j) (h2 : fr' k = fd_hd (A ++ B) (-1)) (h3 : bk' k = fd_ls (-1) (A ++ B)) (h4 : fd_Ch bh' bf' (-1) (A ++ B) (-1))
    (h5 : ∀ x, x ∉ A → x ∉ B → bh' x = bh x ∧ bf' x = bf x) : fd_rCh (fd_sQ q k (A ++ B)) fr' bk' bh' bf' (upd wh l (-1)) := by
  have hl : l ∉ A ++ B := by
    rw [List.nodup_append] at hn
    obtain ⟨_, n2, n3⟩ := hn
    intro z
    rcases List.mem_append.mp z with z | z
    · exact n3 l z l List.mem_cons_self rfl
    · exact (List.nodup_cons.mp n2).1 z
  have hlk : l ∈ q k := by rw [hq]; exact List.mem_append.mpr (Or.inr List.mem_cons_self)
  have sub : ∀ x, x ∈ A ++ B → x ∈ q k := by
    intro x hx
    rw [hq]
    rcases List.mem_append.mp hx with z | z
    · exact List.mem_append.mpr (Or.inl z)
    · exact List.mem_append.mpr (Or.inr (List.mem_cons_of_mem _ z))
  refine ⟨fun j hj => ?_, fun x hx hnx => ?_⟩
  · by_cases e : j = k
    · subst e
      rw [fd_sQ_s]
      refine ⟨h2, h3, h4, fun x hx => ?_⟩
      have nx : x ≠ l := fun z => hl (z ▸ hx)
      rw [pk_un nx]
      exact (H.1 j hj).2.2.2 x (sub x hx)
    · rw [fd_sQ_n e]
      obtain ⟨a, b, d, f⟩ := H.1 j hj
      refine ⟨(h1 j hj e).1.trans a, (h1 j hj e).2.trans b, fd_Ch_fr (fun x hx => ?_) d, fun x hx => ?_⟩
      · have nx : x ∉ A ++ B := fun z => e (fd_rCh_dj H hj hk hx (sub x z))
        exact h5 x (fun z => nx (List.mem_append.mpr (Or.inl z))) (fun z => nx (List.mem_append.mpr (Or.inr z)))
      · have nl : x ≠ l := fun z => e (fd_rCh_dj H hj hk hx (z ▸ hlk))
        rw [pk_un nl]
        exact f x hx
  · by_cases e : x = l
    · rw [e]; exact pk_us
    · rw [pk_un e]
      refine H.2 x hx fun j hj z => ?_
      by_cases ej : j = k
      · subst ej
        apply hnx j hj
        rw [fd_sQ_s]
        rw [hq] at z
        rcases List.mem_append.mp z with z | z
        · exact List.mem_append.mpr (Or.inl z)
        · rcases List.mem_cons.mp z with z | z
          · exact absurd z e
          · exact List.mem_append.mpr (Or.inr z)
      · exact hnx j hj (by rw [fd_sQ_n ej]; exact z)
/-- the four cases of unlinking: by A and by B -/
theorem fd_unl_ll {q : Nat → List Nat} {fr bk bh bf wh : Nat → Int32} {k l y z : Nat} {A B : List Nat} (H : fd_rCh q fr bk bh bf wh) (hk : k < 4) (hq : q k = (A ++ [y]) ++ l :: (z :: B)) (hn : ((A ++ [y]) ++ l :: (z :: B)).Nodup) :
    fd_rCh (fd_sQ q k ((A ++ [y]) ++ (z :: B))) fr bk (upd bh y (nI z)) (upd bf z (nI y)) (upd wh l (-1)) := by
  have hC := (H.1 k hk).2.2.1
  rw [hq, fd_Ch_app] at hC
  obtain ⟨c1, c2, c3, c4⟩ := hC
  obtain ⟨n1, n2, n3⟩ := List.nodup_append.mp hn
  have hyA : y ∉ A := fun w => (List.nodup_append.mp n1).2.2 y w y List.mem_cons_self rfl
  have n4 := (List.nodup_cons.mp n2).2
  have hzB : z ∉ B := (List.nodup_cons.mp n4).1
  have hAB : ∀ a, a ∈ A ++ [y] → ∀ b, b ∈ z :: B → a ≠ b := fun a ha b hb => n3 a ha b (List.mem_cons_of_mem _ hb)
  refine fd_unl H hk hq hn (fun j hj hjk => ⟨rfl, rfl⟩) ?_ ?_ ?_ ?_
  · rw [(H.1 k hk).1, hq, fd_hd_app, fd_hd_app]
    cases A <;> rfl
  · rw [(H.1 k hk).2.1, hq, fd_ls_app, fd_ls_app (B := z :: B)]; rfl
  · rw [fd_Ch_app]
    refine ⟨?_, ?_⟩
    · refine fd_Ch_fr (bf := bf) (bh := upd bh y (nI z)) (fun x hx => ⟨rfl, pk_un (hAB x hx z List.mem_cons_self)⟩) ?_
      exact fd_Ch_last (nI z) hyA c1
    · rw [fd_ls_one]
      refine fd_Ch_fr (bf := upd bf z (nI y)) (bh := bh) (fun x hx => ⟨pk_un (fun w => hAB y (List.mem_append.mpr (Or.inr List.mem_cons_self)) x hx w.symm), rfl⟩) ?_
      exact fd_Ch_head (nI y) hzB c4
  · intro x h1 h2
    refine ⟨pk_un (fun w => h1 (w ▸ List.mem_append.mpr (Or.inr List.mem_cons_self))), pk_un (fun w => h2 (w ▸ List.mem_cons_self))⟩
theorem fd_unl_le {q : Nat → List Nat} {fr bk bh bf wh : Nat → Int32} {k l y : Nat} {A : List Nat} (H : fd_rCh q fr bk bh bf wh) (hk : k < 4) (hq : q k = (A ++ [y]) ++ l :: []) (hn : ((A ++ [y]) ++ l :: []).Nodup) :
    fd_rCh (fd_sQ q k ((A ++ [y]) ++ [])) fr (upd bk k (nI y)) (upd bh y (-1)) bf (upd wh l (-1)) := by
  have hC := (H.1 k hk).2.2.1
  rw [hq, fd_Ch_app] at hC
  obtain ⟨c1, c2, c3, c4⟩ := hC
  obtain ⟨n1, n2, n3⟩ := List.nodup_append.mp hn
  have hyA : y ∉ A := fun w => (List.nodup_append.mp n1).2.2 y w y List.mem_cons_self rfl
  refine fd_unl H hk hq hn (fun j hj hjk => ⟨rfl, pk_un hjk⟩) ?_ ?_ ?_ ?_
  · rw [(H.1 k hk).1, hq, fd_hd_app, fd_hd_app]
    cases A <;> rfl
  · rw [pk_us, List.append_nil, fd_ls_one]
  · rw [List.append_nil]
    exact fd_Ch_last (-1) hyA c1
  · intro x h1 h2
    exact ⟨pk_un (fun w => h1 (w ▸ List.mem_append.mpr (Or.inr List.mem_cons_self))), rfl⟩
theorem fd_unl_el {q : Nat → List Nat} {fr bk bh bf wh : Nat → Int32} {k l z : Nat} {B : List Nat} (H : fd_rCh q fr bk bh bf wh) (hk : k < 4) (hq : q k = [] ++ l :: (z :: B)) (hn : ([] ++ l :: (z :: B)).Nodup) :
    fd_rCh (fd_sQ q k ([] ++ (z :: B))) (upd fr k (nI z)) bk bh (upd bf z (-1)) (upd wh l (-1)) := by
  have hC := (H.1 k hk).2.2.1
  rw [hq] at hC
  obtain ⟨c2, c3, c4⟩ := hC
  have n4 := (List.nodup_cons.mp (List.nodup_cons.mp hn).2).1
  refine fd_unl H hk hq hn (fun j hj hjk => ⟨pk_un hjk, rfl⟩) ?_ ?_ ?_ ?_
  · rw [pk_us]; rfl
  · rw [(H.1 k hk).2.1, hq]; rfl
  · exact fd_Ch_head (-1) n4 c4
  · intro x h1 h2
    exact ⟨rfl, pk_un (fun w => h2 (w ▸ List.mem_cons_self))⟩
theorem fd_unl_ee {q : Nat → List Nat} {fr bk bh bf wh : Nat → Int32} {k l : Nat} (H : fd_rCh q fr bk bh bf wh) (hk : k < 4) (hq : q k = [] ++ l :: []) (hn : ([] ++ l :: [] : List Nat).Nodup) :
    fd_rCh (fd_sQ q k ([] ++ [])) (upd fr k (-1)) (upd bk k (-1)) bh bf (upd wh l (-1)) := by
  refine fd_unl H hk hq hn (fun j hj hjk => ⟨pk_un hjk, pk_un hjk⟩) ?_ ?_ ?_ ?_
  · rw [pk_us]; rfl
  · rw [pk_us]; rfl
  · trivial
  · intro x h1 h2
    exact ⟨rfl, rfl⟩
/-- linking behind the last -/
theorem fd_lnk {q : Nat → List Nat} {fr bk bh bf wh fr' bk' bh' bf' : Nat → Int32} {k l : Nat} (H : fd_rCh q fr bk bh bf wh) (hk : k < 4) (hl : ∀ j, j < 4 → l ∉ q j)
    (h1 : ∀ j, j < 4 → j ≠ k → fr' j = fr j ∧ bk' j = bk j) (h2 : fr' k = fd_hd (q k ++ [l]) (-1)) (h3 : bk' k = nI l) (h4 : fd_Ch bh' bf' (-1) (q k ++ [l]) (-1))
    (h5 : ∀ x, x ≠ l → x ∉ q k → bh' x = bh x ∧ bf' x = bf x) : fd_rCh (fd_sQ q k (q k ++ [l])) fr' bk' bh' bf' (upd wh l (nI k)) := by
  refine ⟨fun j hj => ?_, fun x hx hnx => ?_⟩
  · by_cases e : j = k
    · subst e
      rw [fd_sQ_s]
      refine ⟨h2, by rw [h3, fd_ls_one], h4, fun x hx => ?_⟩
      by_cases ex : x = l
      · rw [ex]; exact pk_us
      · rw [pk_un ex]
        rcases List.mem_append.mp hx with z | z
        · exact (H.1 j hj).2.2.2 x z
        · exact absurd (List.mem_singleton.mp z) ex
    · rw [fd_sQ_n e]
      obtain ⟨a, b, d, f⟩ := H.1 j hj
      refine ⟨(h1 j hj e).1.trans a, (h1 j hj e).2.trans b, fd_Ch_fr (fun x hx => ?_) d, fun x hx => ?_⟩
      · exact h5 x (fun z => hl j hj (z ▸ hx)) (fun z => e (fd_rCh_dj H hj hk hx z))
      · have nx : x ≠ l := fun z => hl j hj (z ▸ hx)
        rw [pk_un nx]
        exact f x hx
  · have hnl : x ≠ l := by
      intro z
      apply hnx k hk
      rw [fd_sQ_s, z]
      exact List.mem_append.mpr (Or.inr List.mem_cons_self)
    rw [pk_un hnl]
    refine H.2 x hx fun j hj z => hnx j hj ?_
    by_cases e : j = k
    · subst e; rw [fd_sQ_s]; exact List.mem_append.mpr (Or.inl z)
    · rw [fd_sQ_n e]; exact z
theorem fd_lnk_e {q : Nat → List Nat} {fr bk bh bf wh : Nat → Int32} {k l : Nat} (H : fd_rCh q fr bk bh bf wh) (hk : k < 4) (hl : ∀ j, j < 4 → l ∉ q j) (hq : q k = []) :
    fd_rCh (fd_sQ q k (q k ++ [l])) (upd fr k (nI l)) (upd bk k (nI l)) (upd bh l (-1)) (upd bf l (-1)) (upd wh l (nI k)) := by
  refine fd_lnk H hk hl (fun j hj hjk => ⟨pk_un hjk, pk_un hjk⟩) ?_ pk_us ?_ fun x hx _ => ⟨pk_un hx, pk_un hx⟩
  · rw [pk_us, hq]; rfl
  · rw [hq]; exact ⟨pk_us, pk_us, trivial⟩
theorem fd_lnk_l {q : Nat → List Nat} {fr bk bh bf wh : Nat → Int32} {k l y : Nat} {A : List Nat} (H : fd_rCh q fr bk bh bf wh) (hk : k < 4) (hl : ∀ j, j < 4 → l ∉ q j) (hq : q k = A ++ [y]) (hn : (A ++ [y]).Nodup) :
    fd_rCh (fd_sQ q k (q k ++ [l])) fr (upd bk k (nI l)) (upd (upd bh l (-1)) y (nI l)) (upd bf l (nI y)) (upd wh l (nI k)) := by
  have hyA : y ∉ A := fun w => (List.nodup_append.mp hn).2.2 y w y List.mem_cons_self rfl
  have hlA : l ∉ A ++ [y] := by rw [← hq]; exact hl k hk
  have hly : l ≠ y := fun z => hlA (z ▸ List.mem_append.mpr (Or.inr List.mem_cons_self))
  have hC := (H.1 k hk).2.2.1
  rw [hq] at hC
  refine fd_lnk H hk hl (fun j hj hjk => ⟨rfl, pk_un hjk⟩) ?_ pk_us ?_ fun x hx hxk => ?_
  · rw [(H.1 k hk).1, hq, fd_hd_app]
    cases A <;> rfl
  · rw [hq, fd_Ch_app]
    refine ⟨?_, ?_⟩
    · refine fd_Ch_fr (bh := upd bh y (nI l)) (bf := bf) (fun x hx => ?_) (fd_Ch_last (nI l) hyA hC)
      have nx : x ≠ l := fun z => hlA (z ▸ hx)
      refine ⟨?_, pk_un nx⟩
      by_cases e : x = y
      · rw [e, pk_us, pk_us]
      · rw [pk_un e, pk_un e, pk_un nx]
    · refine ⟨by rw [pk_us, fd_ls_one], ?_, trivial⟩
      rw [pk_un hly, pk_us]
      rfl
  · refine ⟨?_, pk_un hx⟩
    rw [pk_un, pk_un hx]
    intro z
    apply hxk
    rw [hq, z]
    exact List.mem_append.mpr (Or.inr List.mem_cons_self)
end
section
/-! the representation: X -/
def fd_In (n : Nat) (x : Int32) : Prop := ∃ j, j < n ∧ x = nI j
def fd_rRow (l : List Nat) (hd mn : Int32) (ro : Nat → Int32) : Prop := ∃ h, h < 16 ∧ hd = nI h ∧ mn = nI l.length ∧ ∀ i, i < l.length → ro ((h + i) % 16) = nI (l.getD i 0)
def fd_Sl (la : Nat → Int32) : List Nat → Prop
  | [] => True
  | x :: xs => la x = fd_hd xs (-1) ∧ fd_Sl la xs
def fd_rSl (l : List Nat) (sl : Int32) (la : Nat → Int32) : Prop := sl = fd_hd l (-1) ∧ fd_Sl la l
def fd_rNum (he co nu bg : Nat → Int32) : Prop := ∀ k, k < 4 → ∃ b m, b < 4 ∧ m ≤ 3 ∧ bg k = nI b ∧ co k = nI m ∧ ∀ i, i < m → nu (4 * k + (b + i) % 4) = he (3 * k + i)
def fd_rPut (o : Int32) (ls pu : Nat → Int32) : Prop := ∀ j, j < 16 → pu ((o.toBitVec.toNat + 15 - j) % 16) = ls j
def fd_rPrg (aa cc fi th : Nat → Int32) : Prop := ∀ k, k < 84 → fi k = (aa k).toInt8.toInt32 ∧ th k = (cc k).toInt8.toInt32
def fd_RX (c : Nat → Nat → Int32) (q : Nat → List Nat) (u : SX) : Prop :=
  ∃ (sl hd mn : Int32) (fi th la ro nu bg fr bk bh bf wh pu : Nat → Int32), u = (sl, hd, mn, c 0 0, c 0 1, c 0 3, c 0 2, c 1, fi, c 3, th, c 5, c 6, c 7, c 8, c 9, c 20, c 19, c 10, la, c 18, ro, c 15, c 16, nu, bg, c 14, c 11, c 12, fr, bk, bh, bf, wh, pu) ∧
    fd_rRow (q 4) hd mn ro ∧ fd_rSl (q 5) sl la ∧ fd_rCh q fr bk bh bf wh ∧ fd_rNum (c 13) (c 14) nu bg ∧ fd_rPut (c 0 3) (c 17) pu ∧ fd_rPrg (c 2) (c 4) fi th
theorem fd_elX {c : Nat → Nat → Int32} {q : Nat → List Nat} {P : SX → Prop} (h : ∀ (sl hd mn : Int32) (fi th la ro nu bg fr bk bh bf wh pu : Nat → Int32), fd_rRow (q 4) hd mn ro → fd_rSl (q 5) sl la → fd_rCh q fr bk bh bf wh → fd_rNum (c 13) (c 14) nu bg → fd_rPut (c 0 3) (c 17) pu → fd_rPrg (c 2) (c 4) fi th → fd_RX c q (sl, hd, mn, c 0 0, c 0 1, c 0 3, c 0 2, c 1, fi, c 3, th, c 5, c 6, c 7, c 8, c 9, c 20, c 19, c 10, la, c 18, ro, c 15, c 16, nu, bg, c 14, c 11, c 12, fr, bk, bh, bf, wh, pu) → P (sl, hd, mn, c 0 0, c 0 1, c 0 3, c 0 2, c 1, fi, c 3, th, c 5, c 6, c 7, c 8, c 9, c 20, c 19, c 10, la, c 18, ro, c 15, c 16, nu, bg, c 14, c 11, c 12, fr, bk, bh, bf, wh, pu)) {u : SX} (R : fd_RX c q u) : P u := by
  obtain ⟨sl, hd, mn, fi, th, la, ro, nu, bg, fr, bk, bh, bf, wh, pu, e, h1, h2, h3, h4, h5, h6⟩ := R
  rw [e]
  exact h sl hd mn fi th la ro nu bg fr bk bh bf wh pu h1 h2 h3 h4 h5 h6 ⟨sl, hd, mn, fi, th, la, ro, nu, bg, fr, bk, bh, bf, wh, pu, rfl, h1, h2, h3, h4, h5, h6⟩
theorem fd_elK {c : Nat → Nat → Int32} {q : Nat → List Nat} {P : SX → Prop} (h : ∀ (sl hd mn : Int32) (fi th la ro nu bg fr bk bh bf wh pu : Nat → Int32), fd_rRow (q 4) hd mn ro → fd_rSl (q 5) sl la → fd_rCh q fr bk bh bf wh → fd_rNum (c 13) (c 14) nu bg → fd_rPut (c 0 3) (c 17) pu → fd_rPrg (c 2) (c 4) fi th → fd_RX c q (sl, hd, mn, c 0 0, c 0 1, c 0 3, c 0 2, c 1, fi, c 3, th, c 5, c 6, c 7, c 8, c 9, c 20, c 19, c 10, la, c 18, ro, c 15, c 16, nu, bg, c 14, c 11, c 12, fr, bk, bh, bf, wh, pu) → P (sl, hd, mn, c 0 0, c 0 1, c 0 3, c 0 2, c 1, fi, c 3, th, c 5, c 6, c 7, c 8, c 9, c 20, c 19, c 10, la, c 18, ro, c 15, c 16, nu, bg, c 14, c 11, c 12, fr, bk, bh, bf, wh, pu)) : ∀ u, fd_RX c q u → P u := fun _ R => fd_elX h R
theorem fd_inX {c : Nat → Nat → Int32} {q : Nat → List Nat} {sl hd mn : Int32} {fi th la ro nu bg fr bk bh bf wh pu : Nat → Int32} (h1 : fd_rRow (q 4) hd mn ro) (h2 : fd_rSl (q 5) sl la) (h3 : fd_rCh q fr bk bh bf wh) (h4 : fd_rNum (c 13) (c 14) nu bg) (h5 : fd_rPut (c 0 3) (c 17) pu) (h6 : fd_rPrg (c 2) (c 4) fi th) : fd_RX c q (sl, hd, mn, c 0 0, c 0 1, c 0 3, c 0 2, c 1, fi, c 3, th, c 5, c 6, c 7, c 8, c 9, c 20, c 19, c 10, la, c 18, ro, c 15, c 16, nu, bg, c 14, c 11, c 12, fr, bk, bh, bf, wh, pu) :=
  ⟨sl, hd, mn, fi, th, la, ro, nu, bg, fr, bk, bh, bf, wh, pu, rfl, h1, h2, h3, h4, h5, h6⟩
/-! the representation: Y -/
def fd_rTs (q : Nat → List Nat) (m : Nat) (tf : Nat → Nat) (ts : Nat → Int64) : Prop :=
  (∀ f, f < 12 → ts f = lN (tf f) ∧ tf f ≤ m) ∧ List.Pairwise (fun x y => tf x < tf y) (q 4) ∧ ∀ k, k < 4 → List.Pairwise (fun x y => tf (x % 12) < tf (y % 12)) (q k)
def fd_rDn (kx : Nat) (on dx dn : Nat → Int32) : Prop := ∀ k, k < 3 → 0 ≤ on k → (k = kx → dx k = dn k + 1) ∧ (k ≠ kx → dx k = dn k)
def fd_RY (n kx : Nat) (c : Nat → Nat → Int32) (q : Nat → List Nat) (v : SY) : Prop :=
  ∃ (m : Nat) (tf : Nat → Nat) (ts : Nat → Int64) (dn : Nat → Int32), v = (c 0 0, c 0 1, c 0 2, c 0 3, lN m, c 0 4, c 1, c 2, c 3, c 4, c 5, c 6, c 7, c 8, c 9, c 10, ts, c 11, c 12, c 13, c 14, c 15, dn, c 17) ∧ m ≤ n ∧ fd_rTs q m tf ts ∧ fd_rDn kx (c 15) (c 16) dn
theorem fd_elY {n kx : Nat} {c : Nat → Nat → Int32} {q : Nat → List Nat} {P : SY → Prop} (h : ∀ (m : Nat) (tf : Nat → Nat) (ts : Nat → Int64) (dn : Nat → Int32), m ≤ n → fd_rTs q m tf ts → fd_rDn kx (c 15) (c 16) dn → fd_RY n kx c q (c 0 0, c 0 1, c 0 2, c 0 3, lN m, c 0 4, c 1, c 2, c 3, c 4, c 5, c 6, c 7, c 8, c 9, c 10, ts, c 11, c 12, c 13, c 14, c 15, dn, c 17) → P (c 0 0, c 0 1, c 0 2, c 0 3, lN m, c 0 4, c 1, c 2, c 3, c 4, c 5, c 6, c 7, c 8, c 9, c 10, ts, c 11, c 12, c 13, c 14, c 15, dn, c 17)) {v : SY} (R : fd_RY n kx c q v) : P v := by
  obtain ⟨m, tf, ts, dn, e, h1, h2, h3⟩ := R
  rw [e]
  exact h m tf ts dn h1 h2 h3 ⟨m, tf, ts, dn, rfl, h1, h2, h3⟩
theorem fd_elL {n kx : Nat} {c : Nat → Nat → Int32} {q : Nat → List Nat} {P : SY → Prop} (h : ∀ (m : Nat) (tf : Nat → Nat) (ts : Nat → Int64) (dn : Nat → Int32), m ≤ n → fd_rTs q m tf ts → fd_rDn kx (c 15) (c 16) dn → fd_RY n kx c q (c 0 0, c 0 1, c 0 2, c 0 3, lN m, c 0 4, c 1, c 2, c 3, c 4, c 5, c 6, c 7, c 8, c 9, c 10, ts, c 11, c 12, c 13, c 14, c 15, dn, c 17) → P (c 0 0, c 0 1, c 0 2, c 0 3, lN m, c 0 4, c 1, c 2, c 3, c 4, c 5, c 6, c 7, c 8, c 9, c 10, ts, c 11, c 12, c 13, c 14, c 15, dn, c 17)) : ∀ v, fd_RY n kx c q v → P v := fun _ R => fd_elY h R
theorem fd_inY {n kx m : Nat} {c : Nat → Nat → Int32} {q : Nat → List Nat} {tf : Nat → Nat} {ts : Nat → Int64} {dn : Nat → Int32} (h1 : m ≤ n) (h2 : fd_rTs q m tf ts) (h3 : fd_rDn kx (c 15) (c 16) dn) : fd_RY n kx c q (c 0 0, c 0 1, c 0 2, c 0 3, lN m, c 0 4, c 1, c 2, c 3, c 4, c 5, c 6, c 7, c 8, c 9, c 10, ts, c 11, c 12, c 13, c 14, c 15, dn, c 17) :=
  ⟨m, tf, ts, dn, rfl, h1, h2, h3⟩
theorem fd_RY_up {n n' kx : Nat} {c : Nat → Nat → Int32} {q : Nat → List Nat} {v : SY} (h : n ≤ n') (R : fd_RY n kx c q v) : fd_RY n' kx c q v := by
  obtain ⟨m, tf, ts, dn, e, h1, h2, h3⟩ := R
  exact ⟨m, tf, ts, dn, e, Nat.le_trans h1 h, h2, h3⟩
/-! the semantic invariant -/
def fd_kk (c : Nat → Nat → Int32) (f : Nat) : Nat := 12 * (c 7 f).toNatClampNeg + (c 8 f).toNatClampNeg
def fd_op (c : Nat → Nat → Int32) (f : Nat) : Int32 := c 1 (fd_kk c f)
def fd_oa (c : Nat → Nat → Int32) (f : Nat) : Int32 := c 2 (fd_kk c f)
def fd_ob (c : Nat → Nat → Int32) (f : Nat) : Int32 := c 3 (fd_kk c f)
def fd_oc (c : Nat → Nat → Int32) (f : Nat) : Int32 := c 4 (fd_kk c f)
def fd_Ws (c : Nat → Nat → Int32) (f k : Nat) : Prop := c 6 f = 3 ∧ (fd_op c f = 6 ∨ fd_op c f = 7 ∨ fd_op c f = 8) ∧ fd_oa c f = nI k
def fd_Wd (c : Nat → Nat → Int32) (f k : Nat) : Prop := c 6 f = 3 ∧ fd_op c f = 8 ∧ fd_ob c f = nI k ∧ ¬ fd_oa c f = nI k
def fd_Wj (c : Nat → Nat → Int32) (f t : Nat) : Prop := c 6 f = 3 ∧ fd_op c f = 10 ∧ c 9 (3 * f + (fd_oa c f).toNatClampNeg) = nI t
def fd_Wf (c : Nat → Nat → Int32) (f : Nat) : Prop := c 6 f = 3 → fd_In 12 (c 8 f) ∧ ((fd_op c f = 6 ∧ c 19 f = -1 ∧ c 20 f = c 9 (3 * f + (fd_ob c f).toNatClampNeg)) ∨ ((fd_op c f = 7 ∨ fd_op c f = 10) ∧ c 19 f = fd_ob c f) ∨ (fd_op c f = 8 ∧ c 19 f = fd_oc c f))
def fd_Fib (c : Nat → Nat → Int32) (q : Nat → List Nat) (pd : Prop) (f : Nat) : Prop :=
  fd_In 7 (c 6 f) ∧ fd_In 6 (c 7 f) ∧ fd_In 13 (c 8 f) ∧ (f ∈ q 4 ↔ c 6 f = 1) ∧ (f ∈ q 5 ↔ c 6 f = 4) ∧ fd_Wf c f ∧
  (∀ k, k < 4 → (f ∈ q k ↔ fd_Ws c f k) ∧ (f + 12 ∈ q k ↔ fd_Wd c f k)) ∧
  ∀ t, t < 12 → ((c 18 t).toNatClampNeg.testBit f = true ↔ (fd_Wj c f t ∧ ¬ pd))
def fd_Good (o a b d : Int32) : Prop :=
  ((o = 0 ∨ o = 5 ∨ o = 12) ∧ fd_In 3 a) ∨ ((o = 1 ∨ o = 10) ∧ fd_In 3 a ∧ fd_In 3 b) ∨ (o = 2 ∧ fd_In 13 a) ∨ (o = 3 ∧ fd_In 3 a ∧ fd_In 13 b) ∨
  ((o = 6 ∨ o = 7) ∧ fd_In 4 a ∧ fd_In 3 b) ∨ (o = 8 ∧ fd_In 4 a ∧ fd_In 4 b ∧ fd_In 3 d) ∨ (o = 9 ∧ fd_In 6 a ∧ fd_In 3 b) ∨ (o = 11 ∧ fd_In 4 a) ∨ (o = 4 ∨ o = 13)
def fd_Prg (c : Nat → Nat → Int32) : Prop := (∀ k, k < 84 → fd_Good (c 1 k) (c 2 k) (c 3 k) (c 4 k)) ∧ ∀ p, p < 7 → fd_In 13 (c 5 p)
def fd_Cha (c : Nat → Nat → Int32) : Prop := ∀ k, k < 4 → (∃ m n, m ≤ 3 ∧ n ≤ m ∧ c 11 k = nI m ∧ c 14 k = nI n) ∧ (c 12 k = 0 ∨ c 12 k = 1)
def fd_Sca (c : Nat → Nat → Int32) : Prop := (∃ n, 1 ≤ n ∧ n ≤ 3 ∧ c 0 0 = nI n) ∧ (∃ n, 1 ≤ n ∧ n ≤ 8 ∧ c 0 1 = nI n) ∧ ∃ t, t ≤ 100000000 ∧ c 0 2 = nI t
def fd_lt (c : Nat → Nat → Int32) (x y : Nat) : Prop := (c 10 x).toNatClampNeg < (c 10 y).toNatClampNeg ∨ ((c 10 x).toNatClampNeg = (c 10 y).toNatClampNeg ∧ x < y)
def fd_Lst (c : Nat → Nat → Int32) (q : Nat → List Nat) : Prop := (q 4).Nodup ∧ (∀ f, f ∈ q 4 → f < 12) ∧ (∀ f, f ∈ q 5 → f < 12) ∧ List.Pairwise (fd_lt c) (q 5) ∧ ∀ k, k < 4 → (q k).Nodup ∧ ∀ l, l ∈ q k → l < 24
def fd_Slp (e : Nat) (c : Nat → Nat → Int32) : Prop := ∀ f, f < 12 → c 6 f = 4 → ∃ w t, c 10 f = nI w ∧ c 0 2 = nI t ∧ t + e ≤ w ∧ w ≤ t + 31 ∧ t ≤ 100000000
def fd_Hom (c : Nat → Nat → Int32) (q : Nat → List Nat) : Prop := ∀ k, k < 4 → (∀ l, l ∈ q k → fd_op c (l % 12) = 6) ∨ (∀ l, l ∈ q k → ¬ fd_op c (l % 12) = 6)
def fd_Jn (c : Nat → Nat → Int32) : Prop := ∀ t, t < 12 → fd_In 4096 (c 18 t)
def fd_Inv (e : Nat) (pd : Nat → Prop) (c : Nat → Nat → Int32) (q : Nat → List Nat) : Prop :=
  fd_Sca c ∧ fd_Prg c ∧ fd_Cha c ∧ fd_Jn c ∧ (∀ f, f < 12 → fd_Fib c q (pd f) f) ∧ fd_Lst c q ∧ fd_Slp e c ∧ fd_Hom c q
def fd_OnI (x : Nat) (c : Nat → Nat → Int32) : Prop :=
  (∀ k, k < 3 → c 15 k = -1 ∨ (fd_In 12 (c 15 k) ∧ fd_In 8 (c 16 k))) ∧ (∀ k j, k < 3 → j < 3 → c 15 k = c 15 j → c 15 k = -1 ∨ k = j) ∧
  (∀ f, f < 12 → f ≠ x → (c 6 f = 2 ↔ ∃ k, k < 3 ∧ c 15 k = nI f)) ∧ ∀ k, k < 3 → c 0 0 ≤ nI k → c 15 k = -1
end
section
/-! X: leaves over the representation -/
theorem fd_nb1 : vp_nar .byte 1 = 1 := fd_nb (n := 1) (by decide)
theorem fd_nb2 : vp_nar .byte 2 = 2 := fd_nb (n := 2) (by decide)
theorem fd_nb3 : vp_nar .byte 3 = 3 := fd_nb (n := 3) (by decide)
theorem fd_nb4 : vp_nar .byte 4 = 4 := fd_nb (n := 4) (by decide)
theorem fd_nb0 : vp_nar .byte 0 = 0 := fd_nb (n := 0) (by decide)
theorem fd_nbN {n : Nat} (h : n < 128) : vp_nar .byte (nI n).toInt8.toInt32 = nI n := fd_nb8 (fd_byN h)
theorem fd_getD_app_l {l : List Nat} {f i : Nat} (h : i < l.length) : (l ++ [f]).getD i 0 = l.getD i 0 := by
  rw [List.getD_eq_getElem?_getD, List.getD_eq_getElem?_getD, List.getElem?_append_left h]
theorem fd_getD_app_r {l : List Nat} {f : Nat} : (l ++ [f]).getD l.length 0 = f := by
  rw [List.getD_eq_getElem?_getD, List.getElem?_append_right (Nat.le_refl _), Nat.sub_self]; rfl
theorem fd_rRow_app {l : List Nat} {h f : Nat} {ro : Nat → Int32} (hl : l.length < 16) (hh : h < 16) (hr : ∀ i, i < l.length → ro ((h + i) % 16) = nI (l.getD i 0)) :
    fd_rRow (l ++ [f]) (nI h) (nI (l.length + 1)) (upd ro ((h + l.length) % 16) (nI f)) := by
  refine ⟨h, hh, rfl, by rw [List.length_append]; rfl, fun i hi => ?_⟩
  rw [List.length_append] at hi
  have hi' : i < l.length + 1 := hi
  by_cases e : i = l.length
  · subst e; rw [pk_us, fd_getD_app_r]
  · rw [pk_un (by omega), fd_getD_app_l (by omega)]
    exact hr i (by omega)
theorem fd_rCh_cg {q q' : Nat → List Nat} {fr bk bh bf wh : Nat → Int32} (e : ∀ k, k < 4 → q' k = q k) (H : fd_rCh q fr bk bh bf wh) : fd_rCh q' fr bk bh bf wh := by
  refine ⟨fun k hk => ?_, fun l hl hn => H.2 l hl fun k hk => ?_⟩
  · rw [e k hk]; exact H.1 k hk
  · rw [← e k hk]; exact hn k hk
theorem fd_rCh_hi {q : Nat → List Nat} {k : Nat} {l : List Nat} {fr bk bh bf wh : Nat → Int32} (hk : 4 ≤ k) (H : fd_rCh q fr bk bh bf wh) : fd_rCh (fd_sQ q k l) fr bk bh bf wh := fd_rCh_cg (fun j hj => fd_sQ_n (by omega)) H
theorem fd_xappend {c : Nat → Nat → Int32} {q : Nat → List Nat} {post : SX → Prop} {f : Nat} (hf : f < 12) (hl : (q 4).length < 16)
    (K : ∀ u', fd_RX (fd_sC c 6 f 1) (fd_sQ q 4 (q 4 ++ [f])) u' → post u') : ∀ u, fd_RX c q u → wpX_append post u (nI f) := fd_elK fun sl hd mn fi th la ro nu bg fr bk bh bf wh pu h1 h2 h3 h4 h5 h6 R0 => by
  obtain ⟨h, h16, rfl, rfl, hr⟩ := h1
  have e1 : (nI h + nI (q 4).length) &&& 15 = nI ((h + (q 4).length) % 16) := by
    rw [nI_add]; exact pk_andN (by omega) 4 (by decide)
  have h16' : (h + (q 4).length) % 16 < 16 := Nat.mod_lt _ (by decide)
  simp only [wpX_append, forall_eq, nI_clamp (show f < 2 ^ 31 by omega), fd_nb1, e1, nI_clamp (show (h + (q 4).length) % 16 < 2 ^ 31 by omega), fd_nbN (show f < 128 by omega), nI_1]
  exact ⟨vp_in_nI hf (by decide), vp_in_nI h16' (by decide), K _ (fd_inX (fd_rRow_app hl h16 hr) h2 (fd_rCh_hi (by decide) h3) h4 h5 h6)⟩
/-! unlinking -/
def fd_ul (q : Nat → List Nat) (l : Nat) : Nat → List Nat := fun k => cond (Nat.ble 4 k) (q k) ((q k).filter (fun x => !Nat.beq x l))
theorem fd_ul_hi {q : Nat → List Nat} {l k : Nat} (h : 4 ≤ k) : fd_ul q l k = q k := by
  unfold fd_ul; rw [Nat.ble_eq_true_of_le h]; rfl
theorem fd_ul_lo {q : Nat → List Nat} {l k : Nat} (h : k < 4) : fd_ul q l k = (q k).filter (fun x => !Nat.beq x l) := by
  unfold fd_ul
  cases e : Nat.ble 4 k with
  | false => rfl
  | true => exact absurd (Nat.le_of_ble_eq_true e) (by omega)
theorem fd_ul_mem {q : Nat → List Nat} {l k x : Nat} (h : k < 4) : x ∈ fd_ul q l k ↔ (x ∈ q k ∧ x ≠ l) := by
  rw [fd_ul_lo h, List.mem_filter]
  constructor
  · rintro ⟨a, b⟩
    refine ⟨a, fun e => ?_⟩
    rw [e, fd_beq_s] at b
    exact absurd b (by decide)
  · rintro ⟨a, b⟩
    exact ⟨a, by rw [fd_beq_n b]; rfl⟩
theorem fd_ul_no {q : Nat → List Nat} {l k : Nat} (h : k < 4) (hl : l ∉ q k) : fd_ul q l k = q k := by
  rw [fd_ul_lo h, List.filter_eq_self]
  intro a ha
  have na : a ≠ l := fun e => hl (e ▸ ha)
  rw [fd_beq_n na]
  rfl
theorem fd_ul_yes {q : Nat → List Nat} {l k : Nat} {A B : List Nat} (h : k < 4) (hq : q k = A ++ l :: B) (hn : (A ++ l :: B).Nodup) : fd_ul q l k = A ++ B := by
  obtain ⟨n1, n2, n3⟩ := List.nodup_append.mp hn
  have hB := (List.nodup_cons.mp n2).1
  rw [fd_ul_lo h, hq, List.filter_append, List.filter_cons, if_neg (by rw [fd_beq_s]; decide)]
  congr 1
  · rw [List.filter_eq_self]
    intro a ha
    rw [fd_beq_n (n3 a ha l List.mem_cons_self)]
    rfl
  · rw [List.filter_eq_self]
    intro a ha
    have na : a ≠ l := fun e => hB (e ▸ ha)
    rw [fd_beq_n na]
    rfl
theorem fd_ul_nd {q : Nat → List Nat} {l k : Nat} (h : k < 4) (hn : (q k).Nodup) : (fd_ul q l k).Nodup := by
  rw [fd_ul_lo h]
  exact hn.filter _
theorem fd_dec4 {q : Nat → List Nat} (l : Nat) : (∀ k, k < 4 → l ∉ q k) ∨ ∃ k, k < 4 ∧ l ∈ q k := by
  by_cases h : ∃ k, k < 4 ∧ l ∈ q k
  · exact Or.inr h
  · exact Or.inl fun k hk z => h ⟨k, hk, z⟩
theorem fd_mem_split {l : Nat} {L : List Nat} (h : l ∈ L) : ∃ A B, L = A ++ l :: B := List.append_of_mem h
def fd_HN (q : Nat → List Nat) : Prop := ∀ k, k < 4 → (q k).Nodup ∧ ∀ l, l ∈ q k → l < 24
theorem fd_xunl {c : Nat → Nat → Int32} {q : Nat → List Nat} {post : SX → Prop} {l : Nat} (hl : l < 24) (hn : fd_HN q)
    (K : ∀ u', fd_RX c (fd_ul q l) u' → post u') : ∀ u, fd_RX c q u → wpX_unlink post u (nI l) := fd_elK fun sl hd mn fi th la ro nu bg fr bk bh bf wh pu h1 h2 h3 h4 h5 h6 R0 => by
  have hlc : (nI l).toNatClampNeg = l := nI_clamp (by omega)
  have hli : vp_in (nI l) 24 := vp_in_nI hl (by decide)
  rcases fd_dec4 (q := q) l with hno | ⟨k, hk, hin⟩
  · have hw : wh l = -1 := h3.2 l hl hno
    simp only [wpX_unlink, forall_eq, hlc, hw]
    exact ⟨hli, br_f fd_mnle (K _ (fd_inX h1 h2 (fd_rCh_cg (fun k hk => fd_ul_no hk (hno k hk)) h3) h4 h5 h6))⟩
  · obtain ⟨A, B, hq⟩ := fd_mem_split hin
    have hnd := (hn k hk).1
    have hb := (hn k hk).2
    rw [hq] at hnd
    have hw : wh l = nI k := (h3.1 k hk).2.2.2 l hin
    have hkc : (nI k).toNatClampNeg = k := nI_clamp (by omega)
    have hki : vp_in (nI k) 4 := vp_in_nI hk (by decide)
    have hk0 : (0 : Int32) ≤ nI k := nI_pos' (by omega)
    have hC := (h3.1 k hk).2.2.1
    rw [hq, fd_Ch_app] at hC
    obtain ⟨-, c2, c3, -⟩ := hC
    have cg : ∀ {fr' bk' bh' bf' : Nat → Int32}, fd_rCh (fd_sQ q k (A ++ B)) fr' bk' bh' bf' (upd wh l (-1)) → fd_rCh (fd_ul q l) fr' bk' bh' bf' (upd wh l (-1)) := by
      intro fr' bk' bh' bf' H
      refine fd_rCh_cg (fun j hj => ?_) H
      by_cases e : j = k
      · subst e; rw [fd_sQ_s]; exact fd_ul_yes hj hq hnd
      · rw [fd_sQ_n e]
        exact fd_ul_no hj fun z => e (fd_rCh_dj h3 hj hk z hin)
    rcases fd_nil_or_last A with rfl | ⟨A', y, rfl⟩
    · cases B with
      | nil =>
        have e1 : bf l = -1 := c2
        have e2 : bh l = -1 := c3
        simp only [wpX_unlink, wX_unlink_60, forall_eq, hlc, hw, hkc, e1, e2, fd_bm]
        exact ⟨hli, br_t hk0 ⟨hli, hli, br_t fd_mlt ⟨hli, hki, hli, br_t fd_mlt ⟨hli, hki, K _ (fd_inX h1 h2 (cg (fd_unl_ee h3 hk hq hnd)) h4 h5 h6)⟩⟩⟩⟩
      | cons z B =>
        have hz : z < 24 := hb z (by rw [hq]; exact List.mem_append.mpr (Or.inr (List.mem_cons_of_mem _ List.mem_cons_self)))
        have e1 : bf l = -1 := c2
        have e2 : bh l = nI z := c3
        have hz0 : ¬ nI z < 0 := nI_pos (by omega)
        simp only [wpX_unlink, wX_unlink_60, forall_eq, hlc, hw, hkc, e1, e2, fd_bm, nI_clamp (show z < 2 ^ 31 by omega), fd_nb (show z < 128 by omega)]
        exact ⟨hli, br_t hk0 ⟨hli, hli, br_t fd_mlt ⟨hli, hki, hli, br_f hz0 ⟨hli, hli, vp_in_nI hz (by decide), K _ (fd_inX h1 h2 (cg (fd_unl_el h3 hk hq hnd)) h4 h5 h6)⟩⟩⟩⟩
    · have hy : y < 24 := hb y (by rw [hq]; exact List.mem_append.mpr (Or.inl (List.mem_append.mpr (Or.inr List.mem_cons_self))))
      have hy0 : ¬ nI y < 0 := nI_pos (by omega)
      have hyl : l ≠ y := by
        intro e
        have := (List.nodup_append.mp hnd).2.2 y (List.mem_append.mpr (Or.inr List.mem_cons_self)) l List.mem_cons_self
        exact this e.symm
      have e1 : bf l = nI y := by rw [c2, fd_ls_one]
      cases B with
      | nil =>
        have e2 : bh l = -1 := c3
        simp only [wpX_unlink, wX_unlink_60, forall_eq, hlc, hw, hkc, e1, e2, fd_bm, nI_clamp (show y < 2 ^ 31 by omega), fd_nb (show y < 128 by omega), pk_un hyl]
        exact ⟨hli, br_t hk0 ⟨hli, hli, br_f hy0 ⟨hli, hli, vp_in_nI hy (by decide), hli, br_t fd_mlt ⟨hli, hki, K _ (fd_inX h1 h2 (cg (fd_unl_le h3 hk hq hnd)) h4 h5 h6)⟩⟩⟩⟩
      | cons z B =>
        have hz : z < 24 := hb z (by rw [hq]; exact List.mem_append.mpr (Or.inr (List.mem_cons_of_mem _ List.mem_cons_self)))
        have e2 : bh l = nI z := c3
        have hz0 : ¬ nI z < 0 := nI_pos (by omega)
        simp only [wpX_unlink, wX_unlink_60, forall_eq, hlc, hw, hkc, e1, e2, fd_bm, nI_clamp (show y < 2 ^ 31 by omega), fd_nb (show y < 128 by omega), nI_clamp (show z < 2 ^ 31 by omega), fd_nb (show z < 128 by omega), pk_un hyl]
        exact ⟨hli, br_t hk0 ⟨hli, hli, br_f hy0 ⟨hli, hli, vp_in_nI hy (by decide), hli, br_f hz0 ⟨hli, hli, vp_in_nI hz (by decide), K _ (fd_inX h1 h2 (cg (fd_unl_ll h3 hk hq hnd)) h4 h5 h6)⟩⟩⟩⟩
theorem fd_HN_ul {q : Nat → List Nat} {l : Nat} (h : fd_HN q) : fd_HN (fd_ul q l) := fun k hk => ⟨fd_ul_nd hk (h k hk).1, fun x hx => (h k hk).2 x ((fd_ul_mem hk).mp hx).1⟩
theorem fd_xfree {c : Nat → Nat → Int32} {q : Nat → List Nat} {post : SX → Prop} {f : Nat} (hf : f < 12) (hn : fd_HN q)
    (K : ∀ u', fd_RX c (fd_ul (fd_ul q f) (f + 12)) u' → post u') : ∀ u, fd_RX c q u → wpX_free post u (nI f) := fd_elK fun sl hd mn fi th la ro nu bg fr bk bh bf wh pu h1 h2 h3 h4 h5 h6 R0 => by
  unfold wpX_free
  refine fd_xunl (by omega) hn (fd_elK fun sl hd mn fi th la ro nu bg fr bk bh bf wh pu h1 h2 h3 h4 h5 h6 R0 => ?_) _ R0
  dsimp only
  rw [show nI f + 12 = nI (f + 12) from nI_add f 12]
  exact fd_xunl (by omega) (fd_HN_ul hn) (fd_elK fun sl hd mn fi th la ro nu bg fr bk bh bf wh pu h1 h2 h3 h4 h5 h6 R0 => K _ R0) _ R0
end
section
/-! X: link, store, wakeUp -/
theorem fd_xlink {c : Nat → Nat → Int32} {q : Nat → List Nat} {post : SX → Prop} {l k : Nat} (hl : l < 24) (hk : k < 4) (hn : fd_HN q) (hno : ∀ j, j < 4 → l ∉ q j)
    (K : ∀ u', fd_RX c (fd_sQ q k (q k ++ [l])) u' → post u') : ∀ u, fd_RX c q u → wpX_link post u (nI l) (nI k) := fd_elK fun sl hd mn fi th la ro nu bg fr bk bh bf wh pu h1 h2 h3 h4 h5 h6 R0 => by
  have hlc : (nI l).toNatClampNeg = l := nI_clamp (by omega)
  have hli : vp_in (nI l) 24 := vp_in_nI hl (by decide)
  have hkc : (nI k).toNatClampNeg = k := nI_clamp (by omega)
  have hki : vp_in (nI k) 4 := vp_in_nI hk (by decide)
  have h1' : fd_rRow (fd_sQ q k (q k ++ [l]) 4) hd mn ro := by rw [fd_sQ_n (by omega)]; exact h1
  have h2' : fd_rSl (fd_sQ q k (q k ++ [l]) 5) sl la := by rw [fd_sQ_n (by omega)]; exact h2
  rcases fd_nil_or_last (q k) with e | ⟨A, y, e⟩
  · have eb : bk k = -1 := by rw [(h3.1 k hk).2.1, e]; rfl
    simp only [wpX_link, forall_eq, hlc, hkc, eb, fd_bm, fd_nbN (show l < 128 by omega), fd_nbN (show k < 128 by omega)]
    exact ⟨hli, hli, hki, hli, hki, br_t fd_mlt ⟨hki, hki, K _ (fd_inX h1' h2' (fd_lnk_e h3 hk hno e) h4 h5 h6)⟩⟩
  · have hy : y < 24 := (hn k hk).2 y (by rw [e]; exact List.mem_append.mpr (Or.inr List.mem_cons_self))
    have eb : bk k = nI y := by rw [(h3.1 k hk).2.1, e, fd_ls_one]
    have hnd := (hn k hk).1
    rw [e] at hnd
    simp only [wpX_link, forall_eq, hlc, hkc, eb, fd_bm, fd_nbN (show l < 128 by omega), fd_nbN (show k < 128 by omega), fd_nb (show y < 128 by omega), nI_clamp (show y < 2 ^ 31 by omega)]
    exact ⟨hli, hli, hki, hli, hki, br_f (nI_pos (by omega)) ⟨hki, vp_in_nI hy (by decide), hki, K _ (fd_inX h1' h2' (fd_lnk_l h3 hk hno e hnd) h4 h5 h6)⟩⟩
theorem fd_4k (k : Nat) : 4 * nI k = nI (4 * k) := pk_mul 4 k
theorem fd_3k (k : Nat) : 3 * nI k = nI (3 * k) := pk_mul 3 k
theorem fd_12k (k : Nat) : 12 * nI k = nI (12 * k) := pk_mul 12 k
theorem fd_and3 {n : Nat} (h : n < 2 ^ 31) : nI n &&& 3 = nI (n % 4) := pk_andN (by omega) 2 (by decide)
theorem fd_and15 {n : Nat} (h : n < 2 ^ 31) : nI n &&& 15 = nI (n % 16) := pk_andN (by omega) 4 (by decide)
theorem fd_and31 (x : Int32) : ∃ n, n < 32 ∧ x &&& 31 = nI n := pk_andE x 5 (by decide)
theorem fd_rNum_put {he co nu bg : Nat → Int32} {k m b : Nat} {v : Int32} (H : fd_rNum he co nu bg) (hk : k < 4) (hm : m < 3) (hb : b < 4) (eb : bg k = nI b) (ec : co k = nI m) :
    fd_rNum (upd he (3 * k + m) v) (upd co k (nI (m + 1))) (upd nu (4 * k + (b + m) % 4) v) bg := by
  intro j hj
  obtain ⟨b', m', hb', hm', eb', ec', hnu⟩ := H j hj
  by_cases e : j = k
  · subst e
    have e1 : b' = b := fd_inj (eb'.symm.trans eb) (by omega) (by omega)
    have e2 : m' = m := fd_inj (ec'.symm.trans ec) (by omega) (by omega)
    subst e1 e2
    refine ⟨b', m' + 1, hb, by omega, eb, pk_us, fun i hi => ?_⟩
    by_cases ei : i = m'
    · subst ei; rw [pk_us, pk_us]
    · rw [pk_un (by omega), pk_un (by omega)]
      exact hnu i (by omega)
  · refine ⟨b', m', hb', hm', eb', by rw [pk_un e]; exact ec', fun i hi => ?_⟩
    rw [pk_un (by omega), pk_un (by omega)]
    exact hnu i hi
theorem fd_xstore {c : Nat → Nat → Int32} {q : Nat → List Nat} {post : SX → Prop} {k m : Nat} {v : Int32} (hk : k < 4) (hm : m < 3) (hc : c 14 k = nI m)
    (K : ∀ u', fd_RX (fd_sC (fd_sC c 13 (3 * k + m) v) 14 k (nI (m + 1))) q u' → post u') : ∀ u, fd_RX c q u → wpX_store post u (nI k) v := fd_elK fun sl hd mn fi th la ro nu bg fr bk bh bf wh pu h1 h2 h3 h4 h5 h6 R0 => by
  obtain ⟨b, m', hb, hm', eb, ec, hnu⟩ := h4 k hk
  have hkc : (nI k).toNatClampNeg = k := nI_clamp (by omega)
  have hki : vp_in (nI k) 4 := vp_in_nI hk (by decide)
  have e1 : 4 * nI k + ((nI b + nI m) &&& 3) = nI (4 * k + (b + m) % 4) := by
    rw [fd_4k, nI_add b m, fd_and3 (by omega), nI_add]
  simp only [wpX_store, forall_eq, hkc, eb, hc, e1, nI_1, nI_clamp (show 4 * k + (b + m) % 4 < 2 ^ 31 by omega), fd_nbN (show m + 1 < 128 by omega)]
  exact ⟨hki, hki, vp_in_nI (by omega) (by decide), hki, hki, K _ (fd_inX h1 h2 h3 (fd_rNum_put h4 hk hm hb eb hc) h5 h6)⟩
def fd_wk (c : Nat → Nat → Int32) (f : Nat) (r9 : Nat → Int32) : Nat → Nat → Int32 := fd_sC (fd_sC (fd_sA c 9 r9) 8 f (c 8 f + 1)) 6 f 1
def fd_rm (q : Nat → List Nat) (f : Nat) : Nat → List Nat := fd_ul (fd_ul q f) (f + 12)
def fd_wq (q : Nat → List Nat) (f : Nat) : Nat → List Nat := fd_sQ (fd_rm q f) 4 (fd_rm q f 4 ++ [f])
theorem fd_pc1 {x : Int32} {n : Nat} (h : x = nI n) (hn : n < 127) : vp_nar .byte (x + 1).toInt8.toInt32 = x + 1 := by
  rw [h, nI_1, fd_nbN (by omega)]
theorem fd_xwakeG {c : Nat → Nat → Int32} {q : Nat → List Nat} {post : SX → Prop} {f : Nat} {v : Int32} (hf : f < 12) (hn : fd_HN q) (hl : (q 4).length < 16) (hi : c 19 f = -1) (hp : fd_In 12 (c 8 f))
    (K : ∀ u', fd_RX (fd_wk c f (c 9)) (fd_wq q f) u' → post u') : ∀ u, fd_RX c q u → wpX_wakeUp post u (nI f) v := fd_elK fun sl hd mn fi th la ro nu bg fr bk bh bf wh pu h1 h2 h3 h4 h5 h6 R0 => by
  obtain ⟨n, hn12, hp⟩ := hp
  have hfc : (nI f).toNatClampNeg = f := nI_clamp (by omega)
  have hfi : vp_in (nI f) 12 := vp_in_nI hf (by decide)
  unfold wpX_wakeUp
  refine fd_xfree hf hn (fd_elK fun sl hd mn fi th la ro nu bg fr bk bh bf wh pu h1 h2 h3 h4 h5 h6 R0 => ?_) _ R0
  simp only [wX_wakeUp_30, forall_eq, hfc, hi, fd_pc1 hp (by omega)]
  refine ⟨hfi, br_t fd_mlt ⟨hfi, hfi, ?_⟩⟩
  exact fd_xappend (c := fd_sC (fd_sA c 9 (c 9)) 8 f (c 8 f + 1)) (q := fd_rm q f) hf hl (fd_elK fun sl hd mn fi th la ro nu bg fr bk bh bf wh pu h1 h2 h3 h4 h5 h6 R0 => K _ R0) _ (fd_inX h1 h2 h3 h4 h5 h6)
theorem fd_xwakeR {c : Nat → Nat → Int32} {q : Nat → List Nat} {post : SX → Prop} {f r : Nat} {v : Int32} (hf : f < 12) (hn : fd_HN q) (hl : (q 4).length < 16) (hr : r < 3) (hi : c 19 f = nI r) (hp : fd_In 12 (c 8 f))
    (K : ∀ u', fd_RX (fd_wk c f (upd (c 9) (3 * f + r) v)) (fd_wq q f) u' → post u') : ∀ u, fd_RX c q u → wpX_wakeUp post u (nI f) v := fd_elK fun sl hd mn fi th la ro nu bg fr bk bh bf wh pu h1 h2 h3 h4 h5 h6 R0 => by
  obtain ⟨n, hn12, hp⟩ := hp
  have hfc : (nI f).toNatClampNeg = f := nI_clamp (by omega)
  have hfi : vp_in (nI f) 12 := vp_in_nI hf (by decide)
  unfold wpX_wakeUp
  refine fd_xfree hf hn (fd_elK fun sl hd mn fi th la ro nu bg fr bk bh bf wh pu h1 h2 h3 h4 h5 h6 R0 => ?_) _ R0
  simp only [wX_wakeUp_30, forall_eq, hfc, hi, fd_pc1 hp (by omega), fd_3k, nI_add, nI_clamp (show 3 * f + r < 2 ^ 31 by omega)]
  refine ⟨hfi, br_f (nI_pos (by omega)) ⟨hfi, vp_in_nI (by omega) (by decide), hfi, hfi, ?_⟩⟩
  exact fd_xappend (c := fd_sC (fd_sA c 9 (upd (c 9) (3 * f + r) v)) 8 f (c 8 f + 1)) (q := fd_rm q f) hf hl (fd_elK fun sl hd mn fi th la ro nu bg fr bk bh bf wh pu h1 h2 h3 h4 h5 h6 R0 => K _ R0) _ (fd_inX h1 h2 h3 h4 h5 h6)
end
section
/-! Y: leaves -/
theorem fd_kkE {c : Nat → Nat → Int32} {f : Nat} (h7 : fd_In 6 (c 7 f)) (h8 : fd_In 13 (c 8 f)) : 12 * c 7 f + c 8 f = nI (fd_kk c f) ∧ fd_kk c f < 73 := by
  obtain ⟨p, hp, e7⟩ := h7
  obtain ⟨n, hn, e8⟩ := h8
  unfold fd_kk
  rw [e7, e8, nI_clamp (by omega), nI_clamp (by omega), fd_12k, nI_add]
  exact ⟨rfl, by omega⟩
theorem fd_yplace {n kx f : Nat} {c : Nat → Nat → Int32} {q : Nat → List Nat} {post : Int32 → Prop} (hf : f < 12) (h7 : fd_In 6 (c 7 f)) (h8 : fd_In 13 (c 8 f)) (K : post (nI (fd_kk c f))) : ∀ v, fd_RY n kx c q v → wpY_place post v (nI f) := fd_elL fun m tf ts dn g1 g2 g3 S0 => by
  have hfc : (nI f).toNatClampNeg = f := nI_clamp (by omega)
  have hfi : vp_in (nI f) 12 := vp_in_nI hf (by decide)
  simp only [wpY_place, hfc, (fd_kkE h7 h8).1]
  exact ⟨hfi, hfi, K⟩
def fd_Wa (c : Nat → Nat → Int32) (f k : Nat) : Prop := fd_Ws c f k ∨ fd_Wd c f k
theorem fd_ywaits {n kx f k : Nat} {c : Nat → Nat → Int32} {q : Nat → List Nat} {post : Int32 → Prop} (hf : f < 12) (h7 : fd_In 6 (c 7 f)) (h8 : fd_In 13 (c 8 f)) (K1 : fd_Wa c f k → post 1) (K0 : ¬ fd_Wa c f k → post 0) : ∀ v, fd_RY n kx c q v → wpY_waitsAt post v (nI f) (nI k) := fd_elL fun m tf ts dn g1 g2 g3 S0 => by
  have hfc : (nI f).toNatClampNeg = f := nI_clamp (by omega)
  have hfi : vp_in (nI f) 12 := vp_in_nI hf (by decide)
  have hk := (fd_kkE h7 h8).2
  have hkc : (nI (fd_kk c f)).toNatClampNeg = fd_kk c f := nI_clamp (by omega)
  have hki : vp_in (nI (fd_kk c f)) 84 := vp_in_nI (by omega) (by decide)
  unfold wpY_waitsAt
  dsimp only
  rw [hfc]
  refine ⟨hfi, br_c (fun h3 => ?_) fun h3 => K0 ?_⟩
  · refine fd_yplace hf h7 h8 ?_ _ S0
    simp only [wY_waitsAt_51, wY_waitsAt_61, hkc]
    have key : (fd_Wa c f k ↔ ((c 1 (fd_kk c f) = 6 ∨ c 1 (fd_kk c f) = 7 ∨ c 1 (fd_kk c f) = 8) ∧ c 2 (fd_kk c f) = nI k) ∨ (c 1 (fd_kk c f) = 8 ∧ c 3 (fd_kk c f) = nI k)) := by
      unfold fd_Wa fd_Ws fd_Wd fd_op fd_oa fd_ob
      constructor
      · rintro (⟨-, a, b⟩ | ⟨-, a, b, -⟩)
        · exact Or.inl ⟨a, b⟩
        · exact Or.inr ⟨a, b⟩
      · rintro (⟨a, b⟩ | ⟨a, b⟩)
        · exact Or.inl ⟨h3, a, b⟩
        · by_cases z : c 2 (fd_kk c f) = nI k
          · exact Or.inl ⟨h3, Or.inr (Or.inr a), z⟩
          · exact Or.inr ⟨h3, a, b, z⟩
    rw [key] at K1 K0
    have L61 : (¬ ((c 1 (fd_kk c f) = 6 ∨ c 1 (fd_kk c f) = 7 ∨ c 1 (fd_kk c f) = 8) ∧ c 2 (fd_kk c f) = nI k)) → vp_in (nI (fd_kk c f)) 84 ∧ (c 1 (fd_kk c f) = 8 → vp_in (nI (fd_kk c f)) 84 ∧ (c 3 (fd_kk c f) = nI k → post 1) ∧ (¬ c 3 (fd_kk c f) = nI k → post 0)) ∧ (¬ c 1 (fd_kk c f) = 8 → post 0) := by
      intro z
      refine ⟨hki, br_c (fun a => ⟨hki, br_c (fun b => K1 (Or.inr ⟨a, b⟩)) fun b => K0 ?_⟩) fun a => K0 ?_⟩
      · rintro (w | w)
        · exact z w
        · exact b w.2
      · rintro (w | w)
        · exact z w
        · exact a w.1
    refine ⟨hki, br_c (fun a => ⟨hki, br_c (fun b => K1 (Or.inl ⟨Or.inl a, b⟩)) fun b => L61 fun z => b z.2⟩) fun a => ⟨hki, br_c (fun a' => ⟨hki, br_c (fun b => K1 (Or.inl ⟨Or.inr (Or.inl a'), b⟩)) fun b => L61 fun z => b z.2⟩) fun a' => ⟨hki, br_c (fun a'' => ⟨hki, br_c (fun b => K1 (Or.inl ⟨Or.inr (Or.inr a''), b⟩)) fun b => L61 fun z => b z.2⟩) fun a'' => L61 ?_⟩⟩⟩
    rintro ⟨w | w | w, -⟩
    · exact a w
    · exact a' w
    · exact a'' w
  · rintro (w | w)
    · exact h3 w.1
    · exact h3 w.1
theorem fd_ysends {n kx f : Nat} {c : Nat → Nat → Int32} {q : Nat → List Nat} {post : Int32 → Prop} (hf : f < 12) (h7 : fd_In 6 (c 7 f)) (h8 : fd_In 13 (c 8 f)) (K1 : fd_op c f = 6 → post 1) (K0 : ¬ fd_op c f = 6 → post 0) : ∀ v, fd_RY n kx c q v → wpY_sends post v (nI f) := fd_elL fun m tf ts dn g1 g2 g3 S0 => by
  have hk := (fd_kkE h7 h8).2
  have hkc : (nI (fd_kk c f)).toNatClampNeg = fd_kk c f := nI_clamp (by omega)
  have hki : vp_in (nI (fd_kk c f)) 84 := vp_in_nI (by omega) (by decide)
  unfold wpY_sends
  refine fd_yplace hf h7 h8 ?_ _ S0
  rw [hkc]
  exact ⟨hki, br_c K1 K0⟩
/-! Y: the first one -/
def fd_hm (L : List Nat) : Int32 := match L with
  | [] => -1
  | l :: _ => nI (l % 12)
def fd_KC (kz o : Int32) : Prop := kz = -1 ∨ (kz = 1 ∧ o = 6) ∨ (kz = 0 ∧ ¬ o = 6)
def fd_Be (P : Nat → Prop) (tf : Nat → Nat) (i : Nat) (b : Int32) : Prop := (b = -1 ∧ ∀ g, g < i → ¬ P g) ∨ ∃ h, h < i ∧ b = nI h ∧ P h ∧ ∀ g, g < i → P g → tf h ≤ tf g
theorem fd_Be_s0 {P : Nat → Prop} {tf : Nat → Nat} {i : Nat} {b : Int32} (H : fd_Be P tf i b) (h : ¬ P i) : fd_Be P tf (i + 1) b := by
  rcases H with ⟨a, z⟩ | ⟨w, a, e, p, z⟩
  · refine Or.inl ⟨a, fun g hg => ?_⟩
    by_cases e : g = i
    · rw [e]; exact h
    · exact z g (by omega)
  · refine Or.inr ⟨w, by omega, e, p, fun g hg hp => ?_⟩
    by_cases e : g = i
    · rw [e] at hp; exact absurd hp h
    · exact z g (by omega) hp
theorem fd_Be_s1 {P : Nat → Prop} {tf : Nat → Nat} {i : Nat} (H : ∀ g, g < i → P g → tf i ≤ tf g) (h : P i) : fd_Be P tf (i + 1) (nI i) := by
  refine Or.inr ⟨i, by omega, rfl, h, fun g hg hp => ?_⟩
  by_cases e : g = i
  · rw [e]; exact Nat.le_refl _
  · exact H g (by omega) hp
theorem fd_Be_s2 {P : Nat → Prop} {tf : Nat → Nat} {i w : Nat} (hw : w < i) (H : ∀ g, g < i → P g → tf w ≤ tf g) (hp : P w) (h : tf w ≤ tf i) : fd_Be P tf (i + 1) (nI w) := by
  refine Or.inr ⟨w, by omega, rfl, hp, fun g hg hp => ?_⟩
  by_cases e : g = i
  · rw [e]; exact h
  · exact H g (by omega) hp
theorem fd_Be_end {P : Nat → Prop} {tf : Nat → Nat} {b : Int32} {L : List Nat} (H : fd_Be P tf 12 b) (hL : ∀ f, f < 12 → (P f ↔ ∃ x, x ∈ L ∧ x % 12 = f)) (hs : List.Pairwise (fun x y => tf (x % 12) < tf (y % 12)) L) : b = fd_hm L := by
  cases L with
  | nil =>
    rcases H with ⟨a, z⟩ | ⟨w, a, e, p, z⟩
    · exact a
    · obtain ⟨x, hx, -⟩ := (hL w a).mp p
      cases hx
  | cons l L =>
    have hl : l % 12 < 12 := Nat.mod_lt _ (by decide)
    have pl : P (l % 12) := (hL _ hl).mpr ⟨l, List.mem_cons_self, rfl⟩
    rcases H with ⟨a, z⟩ | ⟨w, a, e, p, z⟩
    · exact absurd pl (z _ hl)
    · obtain ⟨x, hx, ex⟩ := (hL w a).mp p
      have h1 := z _ hl pl
      rcases List.mem_cons.mp hx with rfl | hx
      · rw [e, ← ex]; rfl
      · have h2 := (List.pairwise_cons.mp hs).1 x hx
        rw [ex] at h2
        omega
theorem fd_ng12 {i : Nat} (h : i < 12) : ¬ (12 : Int32) ≤ nI i := nI_ge (a := i) (b := 12) h (by decide)
theorem fd_le12 : (12 : Int32) ≤ nI 12 := by decide
theorem fd_n10 : ¬ (1 : Int32) = 0 := by decide
theorem fd_n01 : ¬ (0 : Int32) = 1 := by decide
theorem fd_yfirst5 {N kx k m : Nat} {c : Nat → Nat → Int32} {q : Nat → List Nat} {post : Int32 → Prop} {tf : Nat → Nat} {ts : Nat → Int64} {dn : Nat → Int32} (S0 : fd_RY N kx c q (c 0 0, c 0 1, c 0 2, c 0 3, lN m, c 0 4, c 1, c 2, c 3, c 4, c 5, c 6, c 7, c 8, c 9, c 10, ts, c 11, c 12, c 13, c 14, c 15, dn, c 17)) (g2 : fd_rTs q m tf ts) (hm : m < 2 ^ 62)
    (hF : ∀ f, f < 12 → fd_In 6 (c 7 f) ∧ fd_In 13 (c 8 f)) {kz : Int32} (hkz : kz = -1 ∨ kz = 1 ∨ kz = 0) (K : ∀ b, fd_Be (fun f => fd_Wa c f k ∧ fd_KC kz (fd_op c f)) tf 12 b → post b) :
    ∀ n i b, i ≤ 12 → 12 - i < n → fd_Be (fun f => fd_Wa c f k ∧ fd_KC kz (fd_op c f)) tf i b → wY_first_5 post (nI k) kz (c 0 0) (c 0 1) (c 0 2) (c 0 3) (lN m) (c 0 4) (c 1) (c 2) (c 3) (c 4) (c 5) (c 6) (c 7) (c 8) (c 9) (c 10) ts (c 11) (c 12) (c 13) (c 14) (c 15) dn (c 17) n b (nI i) := by
  intro n
  induction n with
  | zero => intro i b _ h; omega
  | succ n ih =>
    intro i b hi hn hB
    by_cases e : i = 12
    · subst e
      exact br_t fd_le12 (K b hB)
    · have hi' : i < 12 := by omega
      have L0 : ¬ (fd_Wa c i k ∧ fd_KC kz (fd_op c i)) → wY_first_5 post (nI k) kz (c 0 0) (c 0 1) (c 0 2) (c 0 3) (lN m) (c 0 4) (c 1) (c 2) (c 3) (c 4) (c 5) (c 6) (c 7) (c 8) (c 9) (c 10) ts (c 11) (c 12) (c 13) (c 14) (c 15) dn (c 17) n b (nI (i + 1)) := fun z => ih (i + 1) b (by omega) (by omega) (fd_Be_s0 hB z)
      have L55 : (fd_Wa c i k ∧ fd_KC kz (fd_op c i)) → wY_first_55 post (wY_first_5 post (nI k) kz (c 0 0) (c 0 1) (c 0 2) (c 0 3) (lN m) (c 0 4) (c 1) (c 2) (c 3) (c 4) (c 5) (c 6) (c 7) (c 8) (c 9) (c 10) ts (c 11) (c 12) (c 13) (c 14) (c 15) dn (c 17) n) (nI k) kz b (nI i) (c 0 0) (c 0 1) (c 0 2) (c 0 3) (lN m) (c 0 4) (c 1) (c 2) (c 3) (c 4) (c 5) (c 6) (c 7) (c 8) (c 9) (c 10) ts (c 11) (c 12) (c 13) (c 14) (c 15) dn (c 17) := by
        intro hP
        rcases hB with ⟨a, z⟩ | ⟨w, a, e, p, z⟩
        · rw [a]
          exact br_t fd_mlt (nm_r (nI_1 i) (ih (i + 1) (nI i) (by omega) (by omega) (fd_Be_s1 (fun g hg hp => absurd hp (z g hg)) hP)))
        · rw [e]
          have t1 := g2.1 w (by omega)
          have t2 := g2.1 i hi'
          have cw : (nI w).toNatClampNeg = w := nI_clamp (by omega)
          have ci : (nI i).toNatClampNeg = i := nI_clamp (by omega)
          have hle : (ts (nI w).toNatClampNeg ≤ ts (nI i).toNatClampNeg) ↔ tf w ≤ tf i := by
            rw [cw, ci, t1.1, t2.1, pk_lLE (by omega) (by omega)]
          refine br_f (nI_pos (by omega)) ⟨vp_in_nI hi' (by decide), vp_in_nI (by omega) (by decide), br_c (fun h => ?_) fun h => ?_⟩
          · exact nm_r (nI_1 i) (ih (i + 1) (nI w) (by omega) (by omega) (fd_Be_s2 a z p (hle.mp h)))
          · refine nm_r (nI_1 i) (ih (i + 1) (nI i) (by omega) (by omega) (fd_Be_s1 (fun g hg hp => ?_) hP))
            have h1 := z g hg hp
            have h2 : ¬ tf w ≤ tf i := fun w => h (hle.mpr w)
            omega
      refine br_f (fd_ng12 hi') ?_
      refine fd_ywaits hi' (hF i hi').1 (hF i hi').2 (fun hw => ?_) (fun hw => ?_) _ S0
      · refine br_f fd_n10 ?_
        refine fd_ysends hi' (hF i hi').1 (hF i hi').2 (fun o6 => ?_) (fun o6 => ?_) _ S0
        · rcases hkz with rfl | rfl | rfl
          · exact br_t fd_mlt (L55 ⟨hw, Or.inl rfl⟩)
          · exact br_f (by decide) (br_t rfl (br_t rfl (L55 ⟨hw, Or.inr (Or.inl ⟨rfl, o6⟩)⟩)))
          · refine br_f (by decide) (br_f fd_n01 (br_f fd_n10 (nm_r (nI_1 i) (L0 ?_))))
            rintro ⟨-, w | w | w⟩
            · exact absurd w (by decide)
            · exact absurd w.1 (by decide)
            · exact w.2 o6
        · rcases hkz with rfl | rfl | rfl
          · exact br_t fd_mlt (L55 ⟨hw, Or.inl rfl⟩)
          · refine br_f (by decide) (br_t rfl (br_f fd_n01 (nm_r (nI_1 i) (L0 ?_))))
            rintro ⟨-, w | w | w⟩
            · exact absurd w (by decide)
            · exact o6 w.2
            · exact absurd w.1 (by decide)
          · exact br_f (by decide) (br_f fd_n01 (br_t rfl (L55 ⟨hw, Or.inr (Or.inr ⟨rfl, o6⟩)⟩)))
      · exact br_t rfl (nm_r (nI_1 i) (L0 fun z => hw z.1))
theorem fd_yfirst {N kx k : Nat} {c : Nat → Nat → Int32} {q : Nat → List Nat} {post : Int32 → Prop} {L : List Nat} (hN : N < 2 ^ 62) (hF : ∀ f, f < 12 → fd_In 6 (c 7 f) ∧ fd_In 13 (c 8 f)) {kz : Int32} (hkz : kz = -1 ∨ kz = 1 ∨ kz = 0) (hk : k < 4)
    (hL : ∀ f, f < 12 → ((fd_Wa c f k ∧ fd_KC kz (fd_op c f)) ↔ ∃ x, x ∈ L ∧ x % 12 = f)) (hs : L.Sublist (q k)) (K : post (fd_hm L)) : ∀ v, fd_RY N kx c q v → wpY_first post v (nI k) kz := fd_elL fun m tf ts dn g1 g2 g3 S0 => by
  refine ⟨13, fd_yfirst5 S0 g2 (by omega) hF hkz (fun b hB => ?_) 13 0 (-1) (by omega) (by omega) (Or.inl ⟨rfl, fun g hg => absurd hg (by omega)⟩)⟩
  rw [fd_Be_end hB hL (List.Pairwise.sublist hs (g2.2.2 k hk))]
  exact K
end
section
/-! Y: ready, rest, goOn, give -/
def fd_tu (tf : Nat → Nat) (f m : Nat) : Nat → Nat := fun g => if g = f then m + 1 else tf g
theorem fd_tu_s {tf : Nat → Nat} {f m : Nat} : fd_tu tf f m f = m + 1 := if_pos rfl
theorem fd_tu_n {tf : Nat → Nat} {f m g : Nat} (h : g ≠ f) : fd_tu tf f m g = tf g := if_neg h
theorem fd_ts_new {q q' : Nat → List Nat} {m f : Nat} {tf : Nat → Nat} {ts : Nat → Int64} (H : fd_rTs q m tf ts) (hf : f < 12)
    (h4 : q' 4 = q 4 ∨ q' 4 = q 4 ++ [f]) (hf4 : f ∉ q 4) (hb4 : ∀ x, x ∈ q 4 → x < 12)
    (hk : ∀ k, k < 4 → ((q' k).Sublist (q k) ∧ ∀ x, x ∈ q' k → x % 12 ≠ f) ∨ ∃ l, l % 12 = f ∧ q' k = q k ++ [l] ∧ ∀ x, x ∈ q k → x % 12 ≠ f) :
    fd_rTs q' (m + 1) (fd_tu tf f m) (vp_updL ts f (lN (m + 1))) := by
  refine ⟨fun g hg => ?_, ?_, fun k h => ?_⟩
  · by_cases e : g = f
    · rw [e, pk_uLs, fd_tu_s]; exact ⟨rfl, Nat.le_refl _⟩
    · rw [pk_uLn e, fd_tu_n e]
      exact ⟨(H.1 g hg).1, Nat.le_succ_of_le (H.1 g hg).2⟩
  · have P4 : List.Pairwise (fun x y => fd_tu tf f m x < fd_tu tf f m y) (q 4) := by
      refine List.Pairwise.imp_of_mem (fun {x y} hx hy h => ?_) H.2.1
      have nx : x ≠ f := fun z => hf4 (z ▸ hx)
      have ny : y ≠ f := fun z => hf4 (z ▸ hy)
      rw [fd_tu_n nx, fd_tu_n ny]
      exact h
    rcases h4 with e | e
    · rw [e]; exact P4
    · rw [e, List.pairwise_append]
      refine ⟨P4, List.pairwise_singleton _ _, fun x hx y hy => ?_⟩
      have nx : x ≠ f := fun z => hf4 (z ▸ hx)
      rw [List.mem_singleton.mp hy, fd_tu_s, fd_tu_n nx]
      exact Nat.lt_succ_of_le (H.1 x (hb4 x hx)).2
  · rcases hk k h with ⟨hs, hn⟩ | ⟨l, el, e, hn⟩
    · refine List.Pairwise.imp_of_mem (fun {x y} hx hy h => ?_) (List.Pairwise.sublist hs (H.2.2 k h))
      rw [fd_tu_n (hn x hx), fd_tu_n (hn y hy)]
      exact h
    · rw [e, List.pairwise_append]
      refine ⟨?_, List.pairwise_singleton _ _, fun x hx y hy => ?_⟩
      · refine List.Pairwise.imp_of_mem (fun {x y} hx hy h => ?_) (H.2.2 k h)
        rw [fd_tu_n (hn x hx), fd_tu_n (hn y hy)]
        exact h
      · rw [List.mem_singleton.mp hy, el, fd_tu_s, fd_tu_n (hn x hx)]
        exact Nat.lt_succ_of_le (H.1 (x % 12) (Nat.mod_lt _ (by decide))).2
/-- what ready and rest need of the lists, behind and ahead -/
def fd_QS (q q' : Nat → List Nat) (f : Nat) : Prop := (q' 4 = q 4 ∨ q' 4 = q 4 ++ [f]) ∧ f ∉ q 4 ∧ (∀ x, x ∈ q 4 → x < 12) ∧
    ∀ k, k < 4 → ((q' k).Sublist (q k) ∧ ∀ x, x ∈ q' k → x % 12 ≠ f) ∨ ∃ l, l % 12 = f ∧ q' k = q k ++ [l] ∧ ∀ x, x ∈ q k → x % 12 ≠ f
theorem fd_yready {N kx f : Nat} {c : Nat → Nat → Int32} {q : Nat → List Nat} {q' : Nat → List Nat} {post : SY → Prop} (hf : f < 12) (hq : fd_QS q q' f)
    (K : ∀ v', fd_RY (N + 1) kx (fd_sC c 6 f 1) q' v' → post v') : ∀ v, fd_RY N kx c q v → wpY_ready post v (nI f) := fd_elL fun m tf ts dn g1 g2 g3 S0 => by
  have hfc : (nI f).toNatClampNeg = f := nI_clamp (by omega)
  have hfi : vp_in (nI f) 12 := vp_in_nI hf (by decide)
  simp only [wpY_ready, forall_eq, hfc, lN_1]
  exact ⟨hfi, hfi, K _ (fd_inY (Nat.succ_le_succ g1) (fd_ts_new g2 hf hq.1 hq.2.1 hq.2.2.1 hq.2.2.2) g3)⟩
theorem fd_yrest {N kx f : Nat} {c : Nat → Nat → Int32} {q : Nat → List Nat} {q' : Nat → List Nat} {post : SY → Prop} (hf : f < 12) (hq : fd_QS q q' f)
    (K : ∀ v', fd_RY (N + 1) kx (fd_sC c 6 f 3) q' v' → post v') : ∀ v, fd_RY N kx c q v → wpY_rest post v (nI f) := fd_elL fun m tf ts dn g1 g2 g3 S0 => by
  have hfc : (nI f).toNatClampNeg = f := nI_clamp (by omega)
  have hfi : vp_in (nI f) 12 := vp_in_nI hf (by decide)
  simp only [wpY_rest, forall_eq, hfc, lN_1]
  exact ⟨hfi, hfi, K _ (fd_inY (Nat.succ_le_succ g1) (fd_ts_new g2 hf hq.1 hq.2.1 hq.2.2.1 hq.2.2.2) g3)⟩
theorem fd_ygoOn {N kx f : Nat} {c : Nat → Nat → Int32} {q : Nat → List Nat} {q' : Nat → List Nat} {post : SY → Prop} (hf : f < 12) (hq : fd_QS q q' f)
    (K : ∀ v', fd_RY (N + 1) kx (fd_wk c f (c 9)) q' v' → post v') : ∀ v, fd_RY N kx c q v → wpY_goOn post v (nI f) := fd_elL fun m tf ts dn g1 g2 g3 S0 => by
  have hfc : (nI f).toNatClampNeg = f := nI_clamp (by omega)
  have hfi : vp_in (nI f) 12 := vp_in_nI hf (by decide)
  simp only [wpY_goOn, forall_eq, hfc]
  refine ⟨hfi, hfi, ?_⟩
  exact fd_yready (c := fd_sC (fd_sA c 9 (c 9)) 8 f (c 8 f + 1)) hf hq (fd_elL fun m tf ts dn g1 g2 g3 S0 => K _ S0) _ (fd_inY g1 g2 g3)
/-- the register into which what a fibre waits for goes -/
theorem fd_ygive {N kx f r : Nat} {c : Nat → Nat → Int32} {q : Nat → List Nat} {q' : Nat → List Nat} {post : SY → Prop} {x : Int32} (hf : f < 12) (h7 : fd_In 6 (c 7 f)) (h8 : fd_In 13 (c 8 f)) (hr : r < 3) (h1 : fd_op c f = 8 → fd_oc c f = nI r) (h2 : ¬ fd_op c f = 8 → fd_ob c f = nI r) (hq : fd_QS q q' f)
    (K : ∀ v', fd_RY (N + 1) kx (fd_wk c f (upd (c 9) (3 * f + r) x)) q' v' → post v') : ∀ v, fd_RY N kx c q v → wpY_give post v (nI f) x := fd_elL fun m tf ts dn g1 g2 g3 S0 => by
  have hk := (fd_kkE h7 h8).2
  have hkc : (nI (fd_kk c f)).toNatClampNeg = fd_kk c f := nI_clamp (by omega)
  have hki : vp_in (nI (fd_kk c f)) 84 := vp_in_nI (by omega) (by decide)
  have hrc : (nI (3 * f + r)).toNatClampNeg = 3 * f + r := nI_clamp (by omega)
  unfold wpY_give
  dsimp only
  have hT : ∀ (p : Int32 → Prop), p (nI (3 * f + r)) → wpY_target p (c 0 0, c 0 1, c 0 2, c 0 3, lN m, c 0 4, c 1, c 2, c 3, c 4, c 5, c 6, c 7, c 8, c 9, c 10, ts, c 11, c 12, c 13, c 14, c 15, dn, c 17) (nI f) := by
    intro p hp
    unfold wpY_target
    refine fd_yplace hf h7 h8 ?_ _ S0
    refine ⟨hki, br_c (fun a => ⟨hki, ?_⟩) fun a => ⟨hki, ?_⟩⟩
    · rw [hkc] at a ⊢
      have e : c 4 (fd_kk c f) = nI r := h1 a
      rw [e, fd_3k, nI_add]
      exact hp
    · rw [hkc] at a ⊢
      have e : c 3 (fd_kk c f) = nI r := h2 a
      rw [e, fd_3k, nI_add]
      exact hp
  refine hT _ ⟨vp_in_nI (by omega) (by decide), nm_r (e' := upd (c 9) (3 * f + r) x) (by rw [hrc]) ?_⟩
  exact fd_ygoOn (c := fd_sA c 9 (upd (c 9) (3 * f + r) x)) hf hq (fd_elL fun m tf ts dn g1 g2 g3 S0 => K _ (fd_inY g1 g2 g3)) _ (fd_inY g1 g2 g3)
theorem fd_ysent {N kx f r : Nat} {c : Nat → Nat → Int32} {q : Nat → List Nat} {post : Int32 → Prop} (hf : f < 12) (h7 : fd_In 6 (c 7 f)) (h8 : fd_In 13 (c 8 f)) (hr : r < 3) (h2 : fd_ob c f = nI r)
    (K : post (c 9 (3 * f + r))) : ∀ v, fd_RY N kx c q v → wpY_sent post v (nI f) := fd_elL fun m tf ts dn g1 g2 g3 S0 => by
  have hk := (fd_kkE h7 h8).2
  have hkc : (nI (fd_kk c f)).toNatClampNeg = fd_kk c f := nI_clamp (by omega)
  have hki : vp_in (nI (fd_kk c f)) 84 := vp_in_nI (by omega) (by decide)
  have hrc : (nI (3 * f + r)).toNatClampNeg = 3 * f + r := nI_clamp (by omega)
  unfold wpY_sent
  refine fd_yplace hf h7 h8 ?_ _ S0
  rw [hkc]
  have e : c 3 (fd_kk c f) = nI r := h2
  rw [e, fd_3k, nI_add, hrc]
  exact ⟨hki, vp_in_nI (by omega) (by decide), K⟩
end
section
/-! the invariant: readings -/
theorem fd_len_le : ∀ (n : Nat) (l : List Nat), l.Nodup → (∀ x, x ∈ l → x < n) → l.length ≤ n := by
  intro n
  induction n with
  | zero =>
    intro l _ h
    cases l with
    | nil => exact Nat.le_refl _
    | cons x l => exact absurd (h x List.mem_cons_self) (by omega)
  | succ n ih =>
    intro l hn h
    have h1 := ih (l.erase n) (hn.erase n) (fun x hx => by
      have h2 := (hn.mem_erase_iff).mp hx
      have := h x h2.2
      have := h2.1
      omega)
    by_cases e : n ∈ l
    · rw [List.length_erase_of_mem e] at h1
      omega
    · rw [List.erase_of_not_mem e] at h1
      omega
section
variable {e : Nat} {pd : Nat → Prop} {c : Nat → Nat → Int32} {q : Nat → List Nat}
theorem fd_iF (I : fd_Inv e pd c q) {f : Nat} (hf : f < 12) : fd_Fib c q (pd f) f := I.2.2.2.2.1 f hf
theorem fd_iL (I : fd_Inv e pd c q) : fd_Lst c q := I.2.2.2.2.2.1
theorem fd_iP (I : fd_Inv e pd c q) : fd_Prg c := I.2.1
theorem fd_iC (I : fd_Inv e pd c q) : fd_Cha c := I.2.2.1
theorem fd_iJ (I : fd_Inv e pd c q) : fd_Jn c := I.2.2.2.1
theorem fd_iS (I : fd_Inv e pd c q) : fd_Slp e c := I.2.2.2.2.2.2.1
theorem fd_iH (I : fd_Inv e pd c q) : fd_Hom c q := I.2.2.2.2.2.2.2
theorem fd_iN (I : fd_Inv e pd c q) : fd_HN q := (fd_iL I).2.2.2.2
theorem fd_i7 (I : fd_Inv e pd c q) {f : Nat} (hf : f < 12) : fd_In 6 (c 7 f) := (fd_iF I hf).2.1
theorem fd_i8 (I : fd_Inv e pd c q) {f : Nat} (hf : f < 12) : fd_In 13 (c 8 f) := (fd_iF I hf).2.2.1
theorem fd_i78 (I : fd_Inv e pd c q) : ∀ f, f < 12 → fd_In 6 (c 7 f) ∧ fd_In 13 (c 8 f) := fun _ hf => ⟨fd_i7 I hf, fd_i8 I hf⟩
theorem fd_i4 (I : fd_Inv e pd c q) {f : Nat} (hf : f < 12) : f ∈ q 4 ↔ c 6 f = 1 := (fd_iF I hf).2.2.2.1
theorem fd_i5 (I : fd_Inv e pd c q) {f : Nat} (hf : f < 12) : f ∈ q 5 ↔ c 6 f = 4 := (fd_iF I hf).2.2.2.2.1
theorem fd_iW (I : fd_Inv e pd c q) {f : Nat} (hf : f < 12) : fd_Wf c f := (fd_iF I hf).2.2.2.2.2.1
theorem fd_iM (I : fd_Inv e pd c q) {f : Nat} (hf : f < 12) {k : Nat} (hk : k < 4) : (f ∈ q k ↔ fd_Ws c f k) ∧ (f + 12 ∈ q k ↔ fd_Wd c f k) := (fd_iF I hf).2.2.2.2.2.2.1 k hk
theorem fd_iB (I : fd_Inv e pd c q) {f : Nat} (hf : f < 12) {t : Nat} (ht : t < 12) : (c 18 t).toNatClampNeg.testBit f = true ↔ (fd_Wj c f t ∧ ¬ pd f) := (fd_iF I hf).2.2.2.2.2.2.2 t ht
theorem fd_ilen (I : fd_Inv e pd c q) : (q 4).length ≤ 12 := fd_len_le 12 _ (fd_iL I).1 (fd_iL I).2.1
theorem fd_ikk (I : fd_Inv e pd c q) {f : Nat} (hf : f < 12) : fd_kk c f < 73 := (fd_kkE (fd_i7 I hf) (fd_i8 I hf)).2
theorem fd_iG (I : fd_Inv e pd c q) {f : Nat} (hf : f < 12) : fd_Good (fd_op c f) (fd_oa c f) (fd_ob c f) (fd_oc c f) := (fd_iP I).1 _ (by have := fd_ikk I hf; omega)
/-- a link at a channel is that of a fibre that waits there -/
theorem fd_iLk (I : fd_Inv e pd c q) {k l : Nat} (hk : k < 4) (hl : l ∈ q k) : l % 12 < 12 ∧ fd_Wa c (l % 12) k ∧ c 6 (l % 12) = 3 := by
  have h24 := (fd_iN I k hk).2 l hl
  have h12 : l % 12 < 12 := Nat.mod_lt _ (by decide)
  refine ⟨h12, ?_⟩
  have hM := fd_iM I h12 hk
  by_cases z : l < 12
  · have e1 : l % 12 = l := Nat.mod_eq_of_lt z
    rw [e1] at hM ⊢
    have w := hM.1.mp hl
    exact ⟨Or.inl w, w.1⟩
  · have e1 : l % 12 + 12 = l := by omega
    rw [e1] at hM
    have w := hM.2.mp hl
    exact ⟨Or.inr w, w.1⟩
theorem fd_iWa (I : fd_Inv e pd c q) {k f : Nat} (hk : k < 4) (hf : f < 12) : fd_Wa c f k ↔ ∃ x, x ∈ q k ∧ x % 12 = f := by
  have hM := fd_iM I hf hk
  constructor
  · rintro (w | w)
    · exact ⟨f, hM.1.mpr w, Nat.mod_eq_of_lt hf⟩
    · exact ⟨f + 12, hM.2.mpr w, by omega⟩
  · rintro ⟨x, hx, rfl⟩
    exact (fd_iLk I hk hx).2.1
end
/-! one fibre moves: the others stay -/
theorem fd_op_same {c c' : Nat → Nat → Int32} {g : Nat} (h1 : c' 1 = c 1) (h7 : c' 7 g = c 7 g) (h8 : c' 8 g = c 8 g) : fd_op c' g = fd_op c g := by
  unfold fd_op fd_kk; rw [h1, h7, h8]
def fd_Sm (c c' : Nat → Nat → Int32) (q q' : Nat → List Nat) (g : Nat) : Prop :=
  c' 6 g = c 6 g ∧ c' 7 g = c 7 g ∧ c' 8 g = c 8 g ∧ c' 19 g = c 19 g ∧ c' 20 g = c 20 g ∧ (∀ r, r < 3 → c' 9 (3 * g + r) = c 9 (3 * g + r)) ∧
  (∀ k, k < 6 → (g ∈ q' k ↔ g ∈ q k)) ∧ ∀ k, k < 4 → (g + 12 ∈ q' k ↔ g + 12 ∈ q k)
theorem fd_In3 {x : Int32} {n : Nat} (h : fd_In n x) (hn : n < 2 ^ 31) : x.toNatClampNeg < n ∧ x = nI x.toNatClampNeg := by
  obtain ⟨j, hj, rfl⟩ := h
  rw [nI_clamp (by omega)]
  exact ⟨hj, rfl⟩
/-- by op: which operands are registers -/
theorem fd_G10 {o a b d : Int32} (h : fd_Good o a b d) (e : o = 10) : fd_In 3 a ∧ fd_In 3 b := by
  subst e
  rcases h with ⟨w, h⟩ | ⟨w, h⟩ | ⟨w, h⟩ | ⟨w, h⟩ | ⟨w, h⟩ | ⟨w, h⟩ | ⟨w, h⟩ | ⟨w, h⟩ | w
  · exact absurd w (by decide)
  · exact h
  all_goals exact absurd w (by decide)
theorem fd_G6 {o a b d : Int32} (h : fd_Good o a b d) (e : o = 6) : fd_In 4 a ∧ fd_In 3 b := by
  subst e
  rcases h with ⟨w, h⟩ | ⟨w, h⟩ | ⟨w, h⟩ | ⟨w, h⟩ | ⟨w, h⟩ | ⟨w, h⟩ | ⟨w, h⟩ | ⟨w, h⟩ | w
  iterate 4 exact absurd w (by decide)
  · exact h
  all_goals exact absurd w (by decide)
theorem fd_G7 {o a b d : Int32} (h : fd_Good o a b d) (e : o = 7) : fd_In 4 a ∧ fd_In 3 b := by
  subst e
  rcases h with ⟨w, h⟩ | ⟨w, h⟩ | ⟨w, h⟩ | ⟨w, h⟩ | ⟨w, h⟩ | ⟨w, h⟩ | ⟨w, h⟩ | ⟨w, h⟩ | w
  iterate 4 exact absurd w (by decide)
  · exact h
  all_goals exact absurd w (by decide)
theorem fd_G8 {o a b d : Int32} (h : fd_Good o a b d) (e : o = 8) : fd_In 4 a ∧ fd_In 4 b ∧ fd_In 3 d := by
  subst e
  rcases h with ⟨w, h⟩ | ⟨w, h⟩ | ⟨w, h⟩ | ⟨w, h⟩ | ⟨w, h⟩ | ⟨w, h⟩ | ⟨w, h⟩ | ⟨w, h⟩ | w
  iterate 5 exact absurd w (by decide)
  · exact h
  all_goals exact absurd w (by decide)
theorem fd_Fib_same2 {c c' : Nat → Nat → Int32} {q q' : Nat → List Nat} {p p' : Prop} {g : Nat} (S : fd_Sm c c' q q' g)
    (hc : c 6 g = 3 → c' 1 (fd_kk c g) = c 1 (fd_kk c g) ∧ c' 2 (fd_kk c g) = c 2 (fd_kk c g) ∧ c' 3 (fd_kk c g) = c 3 (fd_kk c g) ∧ c' 4 (fd_kk c g) = c 4 (fd_kk c g))
    (hG : c 6 g = 3 → fd_Good (fd_op c g) (fd_oa c g) (fd_ob c g) (fd_oc c g)) (hb : ∀ t, t < 12 → ((c' 18 t).toNatClampNeg.testBit g = true ↔ (fd_Wj c g t ∧ ¬ p'))) (H : fd_Fib c q p g) : fd_Fib c' q' p' g := by
  obtain ⟨s6, s7, s8, s19, s20, s9, sq, sq'⟩ := S
  obtain ⟨f1, f2, f3, f4, f5, f6, f7, f8⟩ := H
  have kk : fd_kk c' g = fd_kk c g := by unfold fd_kk; rw [s7, s8]
  have ops : c 6 g = 3 → fd_op c' g = fd_op c g ∧ fd_oa c' g = fd_oa c g ∧ fd_ob c' g = fd_ob c g ∧ fd_oc c' g = fd_oc c g := by
    intro h
    unfold fd_op fd_oa fd_ob fd_oc
    rw [kk]
    exact hc h
  have ws : ∀ k, fd_Ws c' g k ↔ fd_Ws c g k := by
    intro k
    unfold fd_Ws
    rw [s6]
    by_cases h : c 6 g = 3
    · rw [(ops h).1, (ops h).2.1]
    · exact ⟨fun z => absurd z.1 h, fun z => absurd z.1 h⟩
  have wd : ∀ k, fd_Wd c' g k ↔ fd_Wd c g k := by
    intro k
    unfold fd_Wd
    rw [s6]
    by_cases h : c 6 g = 3
    · rw [(ops h).1, (ops h).2.1, (ops h).2.2.1]
    · exact ⟨fun z => absurd z.1 h, fun z => absurd z.1 h⟩
  have wj : ∀ t, fd_Wj c' g t ↔ fd_Wj c g t := by
    intro t
    unfold fd_Wj
    rw [s6]
    by_cases h : c 6 g = 3
    · rw [(ops h).1, (ops h).2.1]
      by_cases o : fd_op c g = 10
      · rw [s9 _ (fd_In3 (fd_G10 (hG h) o).1 (by decide)).1]
      · exact ⟨fun z => absurd z.2.1 o, fun z => absurd z.2.1 o⟩
    · exact ⟨fun z => absurd z.1 h, fun z => absurd z.1 h⟩
  refine ⟨by rw [s6]; exact f1, by rw [s7]; exact f2, by rw [s8]; exact f3, by rw [sq 4 (by decide), s6]; exact f4, by rw [sq 5 (by decide), s6]; exact f5, ?_, fun k hk => ?_, fun t ht => ?_⟩
  · intro h
    rw [s6] at h
    obtain ⟨w1, w2⟩ := f6 h
    rw [(ops h).1, (ops h).2.2.1, (ops h).2.2.2, s8, s19, s20]
    refine ⟨w1, ?_⟩
    rcases w2 with ⟨a, b, d⟩ | w | w
    · refine Or.inl ⟨a, b, ?_⟩
      rw [s9 _ (fd_In3 (fd_G6 (hG h) a).2 (by decide)).1]
      exact d
    · exact Or.inr (Or.inl w)
    · exact Or.inr (Or.inr w)
  · rw [sq k (by omega), sq' k hk, ws, wd]; exact f7 k hk
  · rw [hb t ht, wj]
theorem fd_Fib_same {c c' : Nat → Nat → Int32} {q q' : Nat → List Nat} {p p' : Prop} {g : Nat} (S : fd_Sm c c' q q' g)
    (hc : c 6 g = 3 → c' 1 (fd_kk c g) = c 1 (fd_kk c g) ∧ c' 2 (fd_kk c g) = c 2 (fd_kk c g) ∧ c' 3 (fd_kk c g) = c 3 (fd_kk c g) ∧ c' 4 (fd_kk c g) = c 4 (fd_kk c g))
    (hG : c 6 g = 3 → fd_Good (fd_op c g) (fd_oa c g) (fd_ob c g) (fd_oc c g)) (sb : ∀ t, t < 12 → (c' 18 t).toNatClampNeg.testBit g = (c 18 t).toNatClampNeg.testBit g) (hp : p' ↔ p) (H : fd_Fib c q p g) : fd_Fib c' q' p' g :=
  fd_Fib_same2 S hc hG (fun t ht => by rw [sb t ht, hp]; exact H.2.2.2.2.2.2.2 t ht) H
/-- a move of one fibre: what is to be shown -/
theorem fd_Imove {e e' : Nat} {pd pd' : Nat → Prop} {c c' : Nat → Nat → Int32} {q q' : Nat → List Nat} {f : Nat} (I : fd_Inv e pd c q) (hf : f < 12) (hS : fd_Sca c')
    (hP : c' 1 = c 1 ∧ c' 2 = c 2 ∧ c' 3 = c 3 ∧ c' 4 = c 4 ∧ c' 5 = c 5) (hC : fd_Cha c') (hJ : fd_Jn c') (hSm : ∀ g, g < 12 → g ≠ f → fd_Sm c c' q q' g)
    (hb : ∀ g, g < 12 → g ≠ f → ∀ t, t < 12 → ((c' 18 t).toNatClampNeg.testBit g = true ↔ (fd_Wj c g t ∧ ¬ pd' g))) (hF : fd_Fib c' q' (pd' f) f) (hL : fd_Lst c' q') (hT : fd_Slp e' c') (hH : fd_Hom c' q') : fd_Inv e' pd' c' q' := by
  obtain ⟨p1, p2, p3, p4, p5⟩ := hP
  refine ⟨hS, ?_, hC, hJ, fun g hg => ?_, hL, hT, hH⟩
  · unfold fd_Prg
    rw [p1, p2, p3, p4, p5]
    exact fd_iP I
  · by_cases z : g = f
    · rw [z]; exact hF
    · exact fd_Fib_same2 (hSm g hg z) (fun _ => by rw [p1, p2, p3, p4]; exact ⟨rfl, rfl, rfl, rfl⟩) (fun _ => fd_iG I hg) (hb g hg z) (fd_iF I hg)
theorem fd_Hom_sub {c c' : Nat → Nat → Int32} {q q' : Nat → List Nat} (H : fd_Hom c q) (h : ∀ k, k < 4 → ∀ l, l ∈ q' k → l ∈ q k ∧ fd_op c' (l % 12) = fd_op c (l % 12)) : fd_Hom c' q' := by
  intro k hk
  rcases H k hk with z | z
  · exact Or.inl fun l hl => by rw [(h k hk l hl).2]; exact z l (h k hk l hl).1
  · exact Or.inr fun l hl => by rw [(h k hk l hl).2]; exact z l (h k hk l hl).1
theorem fd_Slp_sub {e : Nat} {c c' : Nat → Nat → Int32} (H : fd_Slp e c) (h0 : c' 0 2 = c 0 2) (h : ∀ g, g < 12 → c' 6 g = 4 → c 6 g = 4 ∧ c' 10 g = c 10 g) : fd_Slp e c' := by
  intro g hg h4
  rw [h0, (h g hg h4).2]
  exact H g hg (h g hg h4).1
theorem fd_ql6 {P : Nat → Prop} (h : ∀ k, k < 4 → P k) (h4 : P 4) (h5 : P 5) : ∀ k, k < 6 → P k := by
  intro k hk
  by_cases a : k < 4
  · exact h k a
  · by_cases b : k = 4
    · rw [b]; exact h4
    · have : k = 5 := by omega
      rw [this]; exact h5
end
section
/-! a fibre that waits goes on -/
theorem fd_rm_mem {q : Nat → List Nat} {f k x : Nat} (h : k < 4) : x ∈ fd_rm q f k ↔ (x ∈ q k ∧ x ≠ f ∧ x ≠ f + 12) := by
  unfold fd_rm
  rw [fd_ul_mem h, fd_ul_mem h]
  constructor
  · rintro ⟨⟨a, b⟩, d⟩; exact ⟨a, b, d⟩
  · rintro ⟨a, b, d⟩; exact ⟨⟨a, b⟩, d⟩
theorem fd_ul_sub {q : Nat → List Nat} {l k : Nat} (h : k < 4) : (fd_ul q l k).Sublist (q k) := by
  rw [fd_ul_lo h]; exact List.filter_sublist
theorem fd_rm_sub {q : Nat → List Nat} {f k : Nat} (h : k < 4) : (fd_rm q f k).Sublist (q k) := (fd_ul_sub h).trans (fd_ul_sub h)
theorem fd_wq_lo {q : Nat → List Nat} {f k : Nat} (h : k < 4) : fd_wq q f k = fd_rm q f k := fd_sQ_n (by omega)
theorem fd_wq_mem {q : Nat → List Nat} {f k x : Nat} (h : k < 4) : x ∈ fd_wq q f k ↔ (x ∈ q k ∧ x ≠ f ∧ x ≠ f + 12) := by rw [fd_wq_lo h, fd_rm_mem h]
theorem fd_mod_ne {x f : Nat} (hx : x < 24) (hf : f < 12) : (x ≠ f ∧ x ≠ f + 12) ↔ x % 12 ≠ f := by omega
theorem fd_app1 {L : List Nat} {f : Nat} (hn : L.Nodup) (hf : f ∉ L) : (L ++ [f]).Nodup := by
  rw [List.nodup_append]
  refine ⟨hn, List.nodup_cons.mpr ⟨List.not_mem_nil, List.nodup_nil⟩, fun a ha b hb e => hf ?_⟩
  rw [List.mem_singleton] at hb
  rw [← hb, ← e]; exact ha
theorem fd_mem1 {L : List Nat} {f g : Nat} (h : g ≠ f) : g ∈ L ++ [f] ↔ g ∈ L := by
  rw [List.mem_append, List.mem_singleton]
  exact ⟨fun z => z.elim id fun w => absurd w h, Or.inl⟩
theorem fd_31 : ¬ (3 : Int32) = 1 := by decide
theorem fd_Iwake {e : Nat} {pd pd' : Nat → Prop} {c : Nat → Nat → Int32} {q : Nat → List Nat} {f : Nat} {r9 : Nat → Int32} (I : fd_Inv e pd c q) (hf : f < 12) (h3 : c 6 f = 3) (hj : fd_op c f = 10 → pd f) (hpd : ∀ g, g < 12 → g ≠ f → (pd' g ↔ pd g))
    (h9 : ∀ g, g < 12 → g ≠ f → ∀ r, r < 3 → r9 (3 * g + r) = c 9 (3 * g + r)) : fd_Inv e pd' (fd_wk c f r9) (fd_wq q f) := by
  have e6 : fd_wk c f r9 6 f = 1 := pk_us
  have n4 : f ∉ q 4 := fun z => absurd (h3.symm.trans ((fd_i4 I hf).mp z)) (by decide)
  have n5 : f ∉ q 5 := fun z => absurd (h3.symm.trans ((fd_i5 I hf).mp z)) (by decide)
  have e8 : ∀ g, g ≠ f → fd_wk c f r9 8 g = c 8 g := fun g hg => pk_un hg
  have o6 : ∀ g, g ≠ f → fd_wk c f r9 6 g = c 6 g := fun g hg => pk_un hg
  have iC := fd_iC I
  have iJ := fd_iJ I
  refine fd_Imove I hf I.1 ⟨rfl, rfl, rfl, rfl, rfl⟩ iC iJ (fun g hg hgf => ?_) (fun g hg hgf t ht => ?_) ?_ ?_ ?_ ?_
  · refine ⟨o6 g hgf, rfl, e8 g hgf, rfl, rfl, h9 g hg hgf, fd_ql6 (fun k hk => ?_) (fd_mem1 hgf) Iff.rfl, fun k hk => ?_⟩
    · rw [fd_wq_mem hk]; exact ⟨fun z => z.1, fun z => ⟨z, by omega, by omega⟩⟩
    · rw [fd_wq_mem hk]; exact ⟨fun z => z.1, fun z => ⟨z, by omega, by omega⟩⟩
  · rw [hpd g hg hgf]
    exact fd_iB I hg ht
  · obtain ⟨n, hn, e8f⟩ := ((fd_iW I hf) h3).1
    refine ⟨⟨1, by decide, e6⟩, fd_i7 I hf, ⟨n + 1, by omega, ?_⟩, ⟨fun _ => e6, fun _ => ?_⟩, ⟨fun z => absurd z n5, fun z => ?_⟩, fun z => ?_, fun k hk => ⟨⟨fun z => ?_, fun z => ?_⟩, ⟨fun z => ?_, fun z => ?_⟩⟩, fun t ht => ⟨fun z => ?_, fun z => ?_⟩⟩
    · show upd (c 8) f (c 8 f + 1) f = _
      rw [pk_us, e8f, nI_1]
    · exact List.mem_append.mpr (Or.inr List.mem_cons_self)
    · rw [e6] at z; exact absurd z (by decide)
    · rw [e6] at z; exact absurd z (by decide)
    · rw [fd_wq_mem hk] at z; exact absurd rfl z.2.1
    · have := z.1; rw [e6] at this; exact absurd this (by decide)
    · rw [fd_wq_mem hk] at z; exact absurd rfl z.2.2
    · have := z.1; rw [e6] at this; exact absurd this (by decide)
    · have w := (fd_iB I hf ht).mp z
      exact absurd (hj w.1.2.1) w.2
    · have := z.1.1; rw [e6] at this; exact absurd this (by decide)
  · obtain ⟨a, b, d, g, h⟩ := fd_iL I
    refine ⟨fd_app1 a n4, fun x hx => ?_, d, g, fun k hk => ?_⟩
    · rcases List.mem_append.mp hx with z | z
      · exact b x z
      · rw [List.mem_singleton.mp z]; exact hf
    · rw [fd_wq_lo hk]
      exact ⟨(fd_rm_sub hk).nodup (h k hk).1, fun l hl => (h k hk).2 l ((fd_rm_sub hk).subset hl)⟩
  · refine fd_Slp_sub (fd_iS I) rfl fun g hg z => ?_
    by_cases w : g = f
    · rw [w, e6] at z; exact absurd z (by decide)
    · rw [o6 g w] at z; exact ⟨z, rfl⟩
  · refine fd_Hom_sub (fd_iH I) fun k hk l hl => ?_
    have hl' := (fd_wq_mem hk).mp hl
    have h24 := (fd_iN I k hk).2 l hl'.1
    have w : l % 12 ≠ f := (fd_mod_ne h24 hf).mp hl'.2
    exact ⟨hl'.1, fd_op_same rfl rfl (e8 _ w)⟩
theorem fd_QS_wake {e : Nat} {pd : Nat → Prop} {c : Nat → Nat → Int32} {q : Nat → List Nat} {f : Nat} (I : fd_Inv e pd c q) (hf : f < 12) (h3 : c 6 f = 3) : fd_QS q (fd_wq q f) f := by
  have n4 : f ∉ q 4 := fun z => absurd (h3.symm.trans ((fd_i4 I hf).mp z)) (by decide)
  refine ⟨Or.inr rfl, n4, (fd_iL I).2.1, fun k hk => Or.inl ⟨?_, fun x hx => ?_⟩⟩
  · rw [fd_wq_lo hk]; exact fd_rm_sub hk
  · have hx' := (fd_wq_mem hk).mp hx
    exact (fd_mod_ne ((fd_iN I k hk).2 x hx'.1) hf).mp hx'.2
end
section
/-! locks: one outcome for both sides -/
def fd_LX (c : Nat → Nat → Int32) (q : Nat → List Nat) (c' : Nat → Nat → Int32) (q' : Nat → List Nat) (W : (SX → Prop) → SX → Prop) : Prop := ∀ post : SX → Prop, (∀ u', fd_RX c' q' u' → post u') → ∀ u, fd_RX c q u → W post u
def fd_LY (d : Nat) (c : Nat → Nat → Int32) (q : Nat → List Nat) (c' : Nat → Nat → Int32) (q' : Nat → List Nat) (W : (SY → Prop) → SY → Prop) : Prop := ∀ (N kx : Nat) (post : SY → Prop), N + d < 2 ^ 62 → (∀ v', fd_RY (N + d) kx c' q' v' → post v') → ∀ v, fd_RY N kx c q v → W post v
def fd_no (_ : Nat) : Prop := False
def fd_Fr (c c' : Nat → Nat → Int32) : Prop := (∀ h, h < 12 → (c' 6 h = 2 ↔ c 6 h = 2)) ∧ (∀ h, h < 12 → c 6 h = 2 → c' 7 h = c 7 h ∧ c' 8 h = c 8 h ∧ ∀ r, r < 3 → c' 9 (3 * h + r) = c 9 (3 * h + r)) ∧ ∀ j, j ≠ 6 → j ≠ 8 → j ≠ 9 → j ≠ 18 → c' j = c j
theorem fd_Fr_r (c : Nat → Nat → Int32) : fd_Fr c c := ⟨fun _ _ => Iff.rfl, fun _ _ _ => ⟨rfl, rfl, fun _ _ => rfl⟩, fun _ _ _ _ _ => rfl⟩
theorem fd_Fr_t {a b d : Nat → Nat → Int32} (h : fd_Fr a b) (k : fd_Fr b d) : fd_Fr a d := by
  refine ⟨fun f hf => (k.1 f hf).trans (h.1 f hf), fun f hf z => ?_, fun j a1 a2 a3 a4 => (k.2.2 j a1 a2 a3 a4).trans (h.2.2 j a1 a2 a3 a4)⟩
  obtain ⟨x1, x2, x3⟩ := h.2.1 f hf z
  obtain ⟨y1, y2, y3⟩ := k.2.1 f hf ((h.1 f hf).mpr z)
  exact ⟨y1.trans x1, y2.trans x2, fun r hr => (y3 r hr).trans (x3 r hr)⟩
theorem fd_Fr_wk {c : Nat → Nat → Int32} {f : Nat} {r9 : Nat → Int32} (h3 : c 6 f = 3) (h9 : ∀ g, g < 12 → g ≠ f → ∀ r, r < 3 → r9 (3 * g + r) = c 9 (3 * g + r)) : fd_Fr c (fd_wk c f r9) := by
  have e6 : fd_wk c f r9 6 f = 1 := pk_us
  have o6 : ∀ g, g ≠ f → fd_wk c f r9 6 g = c 6 g := fun g hg => pk_un hg
  have o8 : ∀ g, g ≠ f → fd_wk c f r9 8 g = c 8 g := fun g hg => pk_un hg
  refine ⟨fun h hh => ?_, fun h hh z => ?_, fun j a1 a2 a3 a4 => ?_⟩
  · by_cases w : h = f
    · rw [w, e6, h3]; exact ⟨fun z => absurd z (by decide), fun z => absurd z (by decide)⟩
    · rw [o6 h w]
  · have w : h ≠ f := fun w => absurd (h3.symm.trans (w ▸ z)) (by decide)
    exact ⟨rfl, o8 h w, h9 h hh w⟩
  · unfold fd_wk
    rw [fd_sC_n a1, fd_sC_n a2, fd_sA_n a3]
theorem fd_wake {e : Nat} {pd pd' : Nat → Prop} {c : Nat → Nat → Int32} {q : Nat → List Nat} {f : Nat} (x : Int32) (I : fd_Inv e pd c q) (hf : f < 12) (h3 : c 6 f = 3) (hj : fd_op c f = 10 → pd f) (hpd : ∀ g, g < 12 → g ≠ f → (pd' g ↔ pd g)) :
    ∃ r9, fd_Inv e pd' (fd_wk c f r9) (fd_wq q f) ∧ (∀ g, g < 12 → g ≠ f → ∀ r, r < 3 → r9 (3 * g + r) = c 9 (3 * g + r)) ∧ fd_LX c q (fd_wk c f r9) (fd_wq q f) (fun p u => wpX_wakeUp p u (nI f) x) ∧
      (¬ fd_op c f = 6 → fd_LY 1 c q (fd_wk c f r9) (fd_wq q f) (fun p v => wpY_give p v (nI f) x)) ∧ (fd_op c f = 6 → fd_LY 1 c q (fd_wk c f r9) (fd_wq q f) (fun p v => wpY_goOn p v (nI f))) := by
  have hl : (q 4).length < 16 := by have := fd_ilen I; omega
  have Q := fd_QS_wake I hf h3
  have G := fd_iG I hf
  obtain ⟨hp, hw⟩ := fd_iW I hf h3
  have key : ∀ r, r < 3 → c 19 f = nI r → (fd_op c f = 8 → fd_oc c f = nI r) → (¬ fd_op c f = 8 → fd_ob c f = nI r) → ¬ fd_op c f = 6 → ∃ r9, fd_Inv e pd' (fd_wk c f r9) (fd_wq q f) ∧ (∀ g, g < 12 → g ≠ f → ∀ r, r < 3 → r9 (3 * g + r) = c 9 (3 * g + r)) ∧ fd_LX c q (fd_wk c f r9) (fd_wq q f) (fun p u => wpX_wakeUp p u (nI f) x) ∧
      (¬ fd_op c f = 6 → fd_LY 1 c q (fd_wk c f r9) (fd_wq q f) (fun p v => wpY_give p v (nI f) x)) ∧ (fd_op c f = 6 → fd_LY 1 c q (fd_wk c f r9) (fd_wq q f) (fun p v => wpY_goOn p v (nI f))) := by
    intro r hr hi k1 k2 n6
    have h9 : ∀ g, g < 12 → g ≠ f → ∀ s, s < 3 → upd (c 9) (3 * f + r) x (3 * g + s) = c 9 (3 * g + s) := fun g hg hgf s hs => pk_un (by omega)
    exact ⟨upd (c 9) (3 * f + r) x, fd_Iwake I hf h3 hj hpd h9, h9, fun post K => fd_xwakeR hf (fd_iN I) hl hr hi hp K, fun _ N kx post hN K => fd_ygive hf (fd_i7 I hf) (fd_i8 I hf) hr k1 k2 Q K, fun o => absurd o n6⟩
  rcases hw with ⟨o, a, b⟩ | ⟨o, a⟩ | ⟨o, a⟩
  · have h9 : ∀ g, g < 12 → g ≠ f → ∀ s, s < 3 → c 9 (3 * g + s) = c 9 (3 * g + s) := fun g hg hgf s hs => rfl
    exact ⟨c 9, fd_Iwake I hf h3 hj hpd h9, h9, fun post K => fd_xwakeG hf (fd_iN I) hl a hp K, fun n6 => absurd o n6, fun _ N kx post hN K => fd_ygoOn hf Q K⟩
  · obtain ⟨r, hr, er⟩ : fd_In 3 (fd_ob c f) := by
      rcases o with o | o
      · exact (fd_G7 G o).2
      · exact (fd_G10 G o).2
    refine key r hr (a.trans er) (fun z => ?_) (fun _ => er) (fun z => ?_)
    · rcases o with o | o
      · exact absurd (o.symm.trans z) (by decide)
      · exact absurd (o.symm.trans z) (by decide)
    · rcases o with o | o
      · exact absurd (o.symm.trans z) (by decide)
      · exact absurd (o.symm.trans z) (by decide)
  · obtain ⟨r, hr, er⟩ := (fd_G8 G o).2.2
    exact key r hr (a.trans er) (fun _ => er) (fun z => absurd o z) (fun z => absurd (o.symm.trans z) (by decide))
end
section
/-! a fibre ends -/
theorem fd_sm31 : ∀ i, i < 12 → ((nI i &&& 31).toBitVec.smod 32).toNat = i := by decide +kernel
theorem fd_bit {m i : Nat} (hm : m < 4096) (hi : i < 12) : ((nI m >>> (nI i &&& 31)) &&& 1) = 0 ↔ ¬ m.testBit i = true := by
  have h1 : m / 2 ^ i ≤ m := Nat.div_le_self _ _
  rw [pk_shrN (by omega) _ i (fd_sm31 i hi), pk_andN (by omega) 1 (by decide), Nat.testBit_eq_decide_div_mod_eq, decide_eq_true_eq]
  have h2 : nI (m / 2 ^ i % 2 ^ 1) = 0 ↔ m / 2 ^ i % 2 ^ 1 = 0 := nI_eq (b := 0) (by omega) (by decide)
  rw [h2]
  omega
def fd_X58 (post : SX → Prop) (x3 x4 : Int32) (n : Nat) (x5 : Int32) (u : SX) : Prop := match u with
  | (f_sleeper, f_head, f_many, f_carriers, f_slice, f_puts, f_time, a_op, a_first, a_second, a_third, a_length, a_state, a_program, a_place, a_register, a_gives, a_into, a_wake, a_later, a_joiners, a_row, a_on, a_done, a_number, a_begin, a_count, a_capacity, a_closed, a_front, a_back, a_behind, a_before, a_at, a_put) => wX_finish_58 post x3 x4 n x5 f_sleeper f_head f_many f_carriers f_slice f_puts f_time a_op a_first a_second a_third a_length a_state a_program a_place a_register a_gives a_into a_wake a_later a_joiners a_row a_on a_done a_number a_begin a_count a_capacity a_closed a_front a_back a_behind a_before a_at a_put
def fd_Y29 (post : SY → Prop) (x1 x3 : Int32) (n : Nat) (x4 : Int32) (v : SY) : Prop := match v with
  | (f_carriers, f_slice, f_time, f_outs, f_stamps, f_yields, a_ops, a_as, a_bs, a_cs, a_size, a_state, a_program, a_pc, a_register, a_until, a_stamp, a_capacity, a_closed, a_held, a_count, a_on, a_done, a_last) => wY_finish_29 post x1 x3 n x4 f_carriers f_slice f_time f_outs f_stamps f_yields a_ops a_as a_bs a_cs a_size a_state a_program a_pc a_register a_until a_stamp a_capacity a_closed a_held a_count a_on a_done a_last
theorem fd_finloop {e m f : Nat} {x : Int32} (hm : m < 4096) (hf : f < 12) : ∀ (d i : Nat) (c : Nat → Nat → Int32) (q : Nat → List Nat), i + d = 12 → fd_Inv e (fun g => i ≤ g ∧ m.testBit g = true) c q →
    (∀ g, g < 12 → i ≤ g → m.testBit g = true → fd_Wj c g f) → c 18 f = 0 → ¬ c 6 f = 3 →
    ∃ c' q', fd_Inv e fd_no c' q' ∧ fd_Fr c c' ∧ (∀ k, k < 4 → (q' k).Sublist (q k)) ∧ c' 6 f = c 6 f ∧
      (∀ post : SX → Prop, (∀ u', fd_RX c' q' u' → post u') → ∀ n, d < n → ∀ u, fd_RX c q u → fd_X58 post (nI m) x n (nI i) u) ∧
      (∀ (N kx : Nat) (post : SY → Prop), N + d < 2 ^ 62 → (∀ v', fd_RY (N + d) kx c' q' v' → post v') → ∀ n, d < n → ∀ v, fd_RY N kx c q v → fd_Y29 post (nI f) x n (nI i) v) := by
  intro d
  induction d with
  | zero =>
    intro i c q hi I hW h18 h6
    have e12 : i = 12 := by omega
    subst e12
    have I' : fd_Inv e fd_no c q := by
      obtain ⟨a1, a2, a3, a4, a5, a6⟩ := I
      refine ⟨a1, a2, a3, a4, fun g hg => ?_, a6⟩
      refine fd_Fib_same ⟨rfl, rfl, rfl, rfl, rfl, fun _ _ => rfl, fun _ _ => Iff.rfl, fun _ _ => Iff.rfl⟩ (fun _ => ⟨rfl, rfl, rfl, rfl⟩) (fun _ => fd_iG ⟨a1, a2, a3, a4, a5, a6⟩ hg) (fun _ _ => rfl) ?_ (a5 g hg)
      exact ⟨fun z => z.elim, fun z => absurd z.1 (by omega)⟩
    refine ⟨c, q, I', fd_Fr_r c, fun k _ => List.Sublist.refl _, rfl, fun post K n hn => ?_, fun N kx post hN K n hn => ?_⟩
    · obtain ⟨n, rfl⟩ : ∃ n', n = n' + 1 := ⟨n - 1, by omega⟩
      exact fd_elK fun sl hd mn fi th la ro nu bg fr bk bh bf wh pu h1 h2 h3 h4 h5 h6 R0 => br_t fd_le12 (K _ R0)
    · obtain ⟨n, rfl⟩ : ∃ n', n = n' + 1 := ⟨n - 1, by omega⟩
      exact fd_elL fun m tf ts dn g1 g2 g3 S0 => br_t fd_le12 (K _ S0)
  | succ d ih =>
    intro i c q hi I hW h18 h6
    have hi12 : i < 12 := by omega
    have hic : (nI i).toNatClampNeg = i := nI_clamp (by omega)
    have hii : vp_in (nI i) 12 := vp_in_nI hi12 (by decide)
    have hk := fd_ikk I hi12
    have hkc : (nI (fd_kk c i)).toNatClampNeg = fd_kk c i := nI_clamp (by omega)
    have hki : vp_in (nI (fd_kk c i)) 84 := vp_in_nI (by omega) (by decide)
    by_cases hb : m.testBit i = true
    · have wj := hW i hi12 (Nat.le_refl _) hb
      have h3 := wj.1
      have o10 := wj.2.1
      have oa3 := fd_In3 (fd_G10 (fd_iG I hi12) o10).1 (by decide)
      have hif : i ≠ f := fun z => h6 (z ▸ h3)
      obtain ⟨r9, I1, h9, LX, LY, -⟩ := fd_wake (pd' := fun g => i + 1 ≤ g ∧ m.testBit g = true) x I hi12 h3 (fun _ => ⟨Nat.le_refl _, hb⟩) (fun g hg hgi => by
        constructor
        · rintro ⟨a, b⟩; exact ⟨by omega, b⟩
        · rintro ⟨a, b⟩; exact ⟨by omega, b⟩)
      have F1 := fd_Fr_wk (r9 := r9) h3 h9
      obtain ⟨c', q', I', F', S', e6, X', Y'⟩ := ih (i + 1) (fd_wk c i r9) (fd_wq q i) (by omega) I1 (fun g hg hgi hgb => by
        have w := hW g hg (by omega) hgb
        have hne : g ≠ i := by omega
        have w6 : fd_wk c i r9 6 g = c 6 g := pk_un hne
        have w8 : fd_wk c i r9 8 g = c 8 g := pk_un hne
        have wo : fd_op (fd_wk c i r9) g = fd_op c g := fd_op_same rfl rfl w8
        have wa : fd_oa (fd_wk c i r9) g = fd_oa c g := by
          unfold fd_oa fd_kk; rw [w8]; rfl
        refine ⟨w6.trans w.1, wo.trans w.2.1, ?_⟩
        rw [wa]
        exact (h9 g hg hne _ (fd_In3 (fd_G10 (fd_iG I hg) w.2.1).1 (by decide)).1).trans w.2.2) h18 (by
        rw [show fd_wk c i r9 6 f = c 6 f from pk_un hif.symm]; exact h6)
      refine ⟨c', q', I', fd_Fr_t F1 F', fun k hk => (S' k hk).trans (by rw [fd_wq_lo hk]; exact fd_rm_sub hk), e6.trans (pk_un hif.symm), fun post K n hn => ?_, fun N kx post hN K n hn => ?_⟩
      · obtain ⟨n, rfl⟩ : ∃ n', n = n' + 1 := ⟨n - 1, by omega⟩
        refine fd_elK fun sl hd mn fi th la ro nu bg fr bk bh bf wh pu h1 h2 h3 h4 h5 h6 R0 => br_f (fd_ng12 hi12) (br_f (fun z => (fd_bit hm hi12).mp z hb) ?_)
        exact LX _ (fd_elK fun sl hd mn fi th la ro nu bg fr bk bh bf wh pu h1 h2 h3 h4 h5 h6 R0 => nm_r (nI_1 i) (X' post K n (by omega) _ R0)) _ R0
      · obtain ⟨n, rfl⟩ : ∃ n', n = n' + 1 := ⟨n - 1, by omega⟩
        refine fd_elL fun m tf ts dn g1 g2 g3 S0 => br_f (fd_ng12 hi12) ⟨hii, br_t (by rw [hic]; exact h3) ?_⟩
        refine fd_yplace hi12 (fd_i7 I hi12) (fd_i8 I hi12) ?_ _ S0
        refine ⟨hki, br_t (by rw [hkc]; exact o10) ⟨hki, ?_⟩⟩
        have ea : c 2 (nI (fd_kk c i)).toNatClampNeg = nI (fd_oa c i).toNatClampNeg := by rw [hkc]; exact oa3.2
        have ei : 3 * nI i + c 2 (nI (fd_kk c i)).toNatClampNeg = nI (3 * i + (fd_oa c i).toNatClampNeg) := by rw [ea, fd_3k, nI_add]
        have ec : (nI (3 * i + (fd_oa c i).toNatClampNeg)).toNatClampNeg = 3 * i + (fd_oa c i).toNatClampNeg := nI_clamp (by omega)
        rw [ei, ec]
        refine ⟨vp_in_nI (by omega) (by decide), br_t wj.2.2 ?_⟩
        refine LY (by rw [o10]; decide) N kx _ (by omega) (fd_elL fun m tf ts dn g1 g2 g3 S0 => nm_r (nI_1 i) ?_) _ S0
        exact Y' (N + 1) kx post (by omega) (fun v' R' => K v' (by rw [show N + (d + 1) = N + 1 + d by omega]; exact R')) n (by omega) _ S0
    · have I1 : fd_Inv e (fun g => i + 1 ≤ g ∧ m.testBit g = true) c q := by
        obtain ⟨a1, a2, a3, a4, a5, a6⟩ := I
        refine ⟨a1, a2, a3, a4, fun g hg => ?_, a6⟩
        refine fd_Fib_same ⟨rfl, rfl, rfl, rfl, rfl, fun _ _ => rfl, fun _ _ => Iff.rfl, fun _ _ => Iff.rfl⟩ (fun _ => ⟨rfl, rfl, rfl, rfl⟩) (fun _ => fd_iG ⟨a1, a2, a3, a4, a5, a6⟩ hg) (fun _ _ => rfl) ?_ (a5 g hg)
        constructor
        · rintro ⟨a, b⟩; exact ⟨by omega, b⟩
        · rintro ⟨a, b⟩
          refine ⟨?_, b⟩
          have : g ≠ i := fun z => hb (z ▸ b)
          omega
      obtain ⟨c', q', I', F', S', e6, X', Y'⟩ := ih (i + 1) c q (by omega) I1 (fun g hg hgi hgb => hW g hg (by omega) hgb) h18 h6
      refine ⟨c', q', I', F', S', e6, fun post K n hn => ?_, fun N kx post hN K n hn => ?_⟩
      · obtain ⟨n, rfl⟩ : ∃ n', n = n' + 1 := ⟨n - 1, by omega⟩
        exact fd_elK fun sl hd mn fi th la ro nu bg fr bk bh bf wh pu h1 h2 h3 h4 h5 h6 R0 => br_f (fd_ng12 hi12) (br_t ((fd_bit hm hi12).mpr hb) (nm_r (nI_1 i) (X' post K n (by omega) _ R0)))
      · obtain ⟨n, rfl⟩ : ∃ n', n = n' + 1 := ⟨n - 1, by omega⟩
        refine fd_elL fun m tf ts dn g1 g2 g3 S0 => br_f (fd_ng12 hi12) ?_
        have go : wY_finish_29 post (nI f) x n (nI (i + 1)) (c 0 0) (c 0 1) (c 0 2) (c 0 3) (lN m) (c 0 4) (c 1) (c 2) (c 3) (c 4) (c 5) (c 6) (c 7) (c 8) (c 9) (c 10) ts (c 11) (c 12) (c 13) (c 14) (c 15) dn (c 17) := Y' N kx post (by omega) (fun v' R' => K v' (fd_RY_up (by omega) R')) n (by omega) _ S0
        have nj : ¬ fd_Wj c i f := by
          intro w
          have z := (fd_iB I hi12 hf).mpr ⟨w, fun z => hb z.2⟩
          rw [h18] at z
          simp at z
        refine ⟨hii, br_c (fun h3 => ?_) fun _ => nm_r (nI_1 i) go⟩
        rw [hic] at h3
        refine fd_yplace hi12 (fd_i7 I hi12) (fd_i8 I hi12) ?_ _ S0
        refine ⟨hki, br_c (fun o10 => ⟨hki, ?_⟩) fun _ => nm_r (nI_1 i) go⟩
        rw [hkc] at o10
        have oa3 := fd_In3 (fd_G10 (fd_iG I hi12) o10).1 (by decide)
        have ea : c 2 (nI (fd_kk c i)).toNatClampNeg = nI (fd_oa c i).toNatClampNeg := by rw [hkc]; exact oa3.2
        have ei : 3 * nI i + c 2 (nI (fd_kk c i)).toNatClampNeg = nI (3 * i + (fd_oa c i).toNatClampNeg) := by rw [ea, fd_3k, nI_add]
        have ec : (nI (3 * i + (fd_oa c i).toNatClampNeg)).toNatClampNeg = 3 * i + (fd_oa c i).toNatClampNeg := nI_clamp (by omega)
        rw [ei, ec]
        exact ⟨vp_in_nI (by omega) (by decide), br_f (fun z => nj ⟨h3, o10, z⟩) (nm_r (nI_1 i) go)⟩
end
section
theorem fd_ts_sub {q q' : Nat → List Nat} {m : Nat} {tf : Nat → Nat} {ts : Nat → Int64} (H : fd_rTs q m tf ts) (h4 : (q' 4).Sublist (q 4)) (hk : ∀ k, k < 4 → (q' k).Sublist (q k)) : fd_rTs q' m tf ts :=
  ⟨H.1, List.Pairwise.sublist h4 H.2.1, fun k h => List.Pairwise.sublist (hk k h) (H.2.2 k h)⟩
theorem fd_Ifin0 {e : Nat} {c : Nat → Nat → Int32} {q : Nat → List Nat} {f m : Nat} {how : Int32} (I : fd_Inv e fd_no c q) (hf : f < 12) (hst : c 6 f = 2 ∨ (c 6 f = 3 ∧ fd_op c f = 6)) (hh : how = 5 ∨ how = 6) (hm : c 18 f = nI m) (hm2 : m < 4096) :
    fd_Inv e (fun g => 0 ≤ g ∧ m.testBit g = true) (fd_sC (fd_sC c 6 f how) 18 f 0) (fd_rm q f) := by
  have e6 : fd_sC (fd_sC c 6 f how) 18 f 0 6 f = how := pk_us
  have o6 : ∀ g, g ≠ f → fd_sC (fd_sC c 6 f how) 18 f 0 6 g = c 6 g := fun g hg => pk_un hg
  have e18 : fd_sC (fd_sC c 6 f how) 18 f 0 18 f = 0 := pk_us
  have o18 : ∀ g, g ≠ f → fd_sC (fd_sC c 6 f how) 18 f 0 18 g = c 18 g := fun g hg => pk_un hg
  have nh : ∀ y : Int32, (y = 1 ∨ y = 2 ∨ y = 3 ∨ y = 4) → ¬ how = y := by
    rintro y (rfl | rfl | rfl | rfl) z <;> rcases hh with rfl | rfl <;> exact absurd z (by decide)
  have ns : ∀ y : Int32, (y = 1 ∨ y = 4) → ¬ c 6 f = y := by
    rintro y (rfl | rfl) z <;> rcases hst with w | ⟨w, -⟩ <;> exact absurd (z.symm.trans w) (by decide)
  have n4 : f ∉ q 4 := fun z => ns 1 (Or.inl rfl) ((fd_i4 I hf).mp z)
  have n5 : f ∉ q 5 := fun z => ns 4 (Or.inr rfl) ((fd_i5 I hf).mp z)
  have nj : ∀ t, ¬ fd_Wj c f t := by
    rintro t ⟨a, b, -⟩
    rcases hst with w | ⟨w, w'⟩
    · exact absurd (a.symm.trans w) (by decide)
    · exact absurd (b.symm.trans w') (by decide)
  have iC := fd_iC I
  have zb : ∀ g : Nat, ((0 : Int32).toNatClampNeg).testBit g = false := fun g => Nat.zero_testBit g
  refine fd_Imove I hf I.1 ⟨rfl, rfl, rfl, rfl, rfl⟩ iC ?_ (fun g hg hgf => ?_) (fun g hg hgf t ht => ?_) ?_ ?_ ?_ ?_
  · intro t ht
    by_cases w : t = f
    · rw [w, e18]; exact ⟨0, by decide, rfl⟩
    · rw [o18 t w]; exact fd_iJ I t ht
  · refine ⟨o6 g hgf, rfl, rfl, rfl, rfl, fun _ _ => rfl, fd_ql6 (fun k hk => ?_) Iff.rfl Iff.rfl, fun k hk => ?_⟩
    · rw [fd_rm_mem hk]; exact ⟨fun z => z.1, fun z => ⟨z, by omega, by omega⟩⟩
    · rw [fd_rm_mem hk]; exact ⟨fun z => z.1, fun z => ⟨z, by omega, by omega⟩⟩
  · have hB : m.testBit g = true ↔ fd_Wj c g f := by
      have z := fd_iB I hg hf
      rw [hm, nI_clamp (by omega)] at z
      exact z.trans ⟨fun w => w.1, fun w => ⟨w, id⟩⟩
    by_cases w : t = f
    · rw [w, e18, zb g]
      exact ⟨fun z => absurd z (by decide), fun z => absurd ⟨Nat.zero_le _, hB.mpr z.1⟩ z.2⟩
    · rw [o18 t w]
      have z := fd_iB I hg ht
      constructor
      · intro y
        have y1 := (z.mp y).1
        refine ⟨y1, fun y2 => w ?_⟩
        have y3 := (hB.mp y2.2).2.2
        exact fd_inj (y1.2.2.symm.trans y3) (by omega) (by omega)
      · rintro ⟨y1, -⟩
        exact z.mpr ⟨y1, id⟩
  · refine ⟨?_, fd_i7 I hf, fd_i8 I hf, ⟨fun z => absurd z n4, fun z => ?_⟩, ⟨fun z => absurd z n5, fun z => ?_⟩, fun z => ?_, fun k hk => ⟨⟨fun z => ?_, fun z => ?_⟩, ⟨fun z => ?_, fun z => ?_⟩⟩, fun t ht => ⟨fun z => ?_, fun z => ?_⟩⟩
    · rw [e6]
      rcases hh with w | w <;> rw [w]
      · exact ⟨5, by decide, rfl⟩
      · exact ⟨6, by decide, rfl⟩
    · rw [e6] at z; exact absurd z (nh 1 (by simp))
    · rw [e6] at z; exact absurd z (nh 4 (by simp))
    · rw [e6] at z; exact absurd z (nh 3 (by simp))
    · rw [fd_rm_mem hk] at z; exact absurd rfl z.2.1
    · have := z.1; rw [e6] at this; exact absurd this (nh 3 (by simp))
    · rw [fd_rm_mem hk] at z; exact absurd rfl z.2.2
    · have := z.1; rw [e6] at this; exact absurd this (nh 3 (by simp))
    · by_cases w : t = f
      · rw [w, e18, zb f] at z; exact absurd z (by decide)
      · rw [o18 t w] at z
        exact absurd ((fd_iB I hf ht).mp z).1 (nj t)
    · have := z.1.1; rw [e6] at this; exact absurd this (nh 3 (by simp))
  · obtain ⟨a, b, d, g, h⟩ := fd_iL I
    refine ⟨a, b, d, g, fun k hk => ⟨(fd_rm_sub hk).nodup (h k hk).1, fun l hl => (h k hk).2 l ((fd_rm_sub hk).subset hl)⟩⟩
  · refine fd_Slp_sub (fd_iS I) rfl fun g hg z => ?_
    by_cases w : g = f
    · rw [w, e6] at z; exact absurd z (nh 4 (by simp))
    · rw [o6 g w] at z; exact ⟨z, rfl⟩
  · refine fd_Hom_sub (fd_iH I) fun k hk l hl => ⟨((fd_rm_mem hk).mp hl).1, rfl⟩
theorem fd_n5 : vp_nar .byte (5 : Int32).toInt8.toInt32 = 5 := fd_nbN (n := 5) (by decide)
theorem fd_n6 : vp_nar .byte (6 : Int32).toInt8.toInt32 = 6 := fd_nbN (n := 6) (by decide)
/-- frames but for one fibre -/
def fd_Fe (f : Nat) (c c' : Nat → Nat → Int32) : Prop := (∀ h, h < 12 → h ≠ f → (c' 6 h = 2 ↔ c 6 h = 2)) ∧ (∀ h, h < 12 → h ≠ f → c 6 h = 2 → c' 7 h = c 7 h ∧ c' 8 h = c 8 h ∧ ∀ r, r < 3 → c' 9 (3 * h + r) = c 9 (3 * h + r)) ∧ ∀ j, j ≠ 6 → j ≠ 8 → j ≠ 9 → j ≠ 18 → c' j = c j
theorem fd_finish {e : Nat} {c : Nat → Nat → Int32} {q : Nat → List Nat} {f : Nat} {how fl : Int32} (I : fd_Inv e fd_no c q) (hf : f < 12) (hst : c 6 f = 2 ∨ (c 6 f = 3 ∧ fd_op c f = 6)) (hh : (how = 5 ∧ fl = 0) ∨ (how = 6 ∧ fl = 1)) :
    ∃ c' q', fd_Inv e fd_no c' q' ∧ fd_Fe f c c' ∧ (∀ k, k < 4 → (q' k).Sublist (fd_rm q f k)) ∧ c' 6 f = how ∧
      fd_LX c q c' q' (fun p u => wpX_finish p u (nI f) fl) ∧ fd_LY 12 c q c' q' (fun p v => wpY_finish p v (nI f) how) := by
  obtain ⟨m, hm2, hm⟩ := fd_iJ I f hf
  have hfc : (nI f).toNatClampNeg = f := nI_clamp (by omega)
  have hfi : vp_in (nI f) 12 := vp_in_nI hf (by decide)
  have h3c : (nI (3 * f)).toNatClampNeg = 3 * f := nI_clamp (by omega)
  have h3i : vp_in (nI (3 * f)) 36 := vp_in_nI (by omega) (by decide)
  have hh' : how = 5 ∨ how = 6 := hh.imp (fun z => z.1) (fun z => z.1)
  have I0 := fd_Ifin0 I hf hst hh' hm hm2
  have e6 : fd_sC (fd_sC c 6 f how) 18 f 0 6 f = how := pk_us
  have o6 : ∀ g, g ≠ f → fd_sC (fd_sC c 6 f how) 18 f 0 6 g = c 6 g := fun g hg => pk_un hg
  have hW : ∀ g, g < 12 → 0 ≤ g → m.testBit g = true → fd_Wj (fd_sC (fd_sC c 6 f how) 18 f 0) g f := by
    intro g hg _ hb
    have z := (fd_iB I hg hf).mp (by rw [hm, nI_clamp (by omega)]; exact hb)
    have hgf : g ≠ f := by
      intro w
      have z1 := z.1
      rw [w] at z1
      rcases hst with y | ⟨y, y'⟩
      · exact absurd (z1.1.symm.trans y) (by decide)
      · exact absurd (z1.2.1.symm.trans y') (by decide)
    exact ⟨(o6 g hgf).trans z.1.1, z.1.2.1, z.1.2.2⟩
  have n3 : ¬ fd_sC (fd_sC c 6 f how) 18 f 0 6 f = 3 := by
    rw [e6]
    rcases hh' with rfl | rfl <;> decide
  have main : ∀ x : Int32, ∃ c' q', fd_Inv e fd_no c' q' ∧ fd_Fe f c c' ∧ (∀ k, k < 4 → (q' k).Sublist (fd_rm q f k)) ∧ c' 6 f = how ∧
      (∀ post : SX → Prop, (∀ u', fd_RX c' q' u' → post u') → ∀ u, fd_RX (fd_sC (fd_sC c 6 f how) 18 f 0) (fd_rm q f) u → fd_X58 post (nI m) x 13 0 u) ∧
      (∀ (N kx : Nat) (post : SY → Prop), N + 12 < 2 ^ 62 → (∀ v', fd_RY (N + 12) kx c' q' v' → post v') → ∀ v, fd_RY N kx (fd_sC (fd_sC c 6 f how) 18 f 0) (fd_rm q f) v → fd_Y29 post (nI f) x 13 0 v) := by
    intro x
    obtain ⟨c', q', I', F', S', s6, X', Y'⟩ := fd_finloop (x := x) hm2 hf 12 0 _ _ rfl I0 hW pk_us n3
    refine ⟨c', q', I', ⟨fun h hh hhf => ?_, fun h hh hhf z => ?_, fun j a1 a2 a3 a4 => ?_⟩, S', s6.trans e6, fun post K => X' post K 13 (by omega), fun N kx post hN K => Y' N kx post hN K 13 (by omega)⟩
    · rw [F'.1 h hh, o6 h hhf]
    · exact F'.2.1 h hh ((o6 h hhf).trans z)
    · rw [F'.2.2 j a1 a2 a3 a4, fd_sC_n a4, fd_sC_n a1]
  rcases hh with ⟨rfl, rfl⟩ | ⟨rfl, rfl⟩
  · obtain ⟨c', q', I', F', S', s6, X', Y'⟩ := main (c 9 (3 * f))
    refine ⟨c', q', I', F', S', s6, fun post K => fd_elK fun sl hd mn fi th la ro nu bg fr bk bh bf wh pu h1 h2 h3 h4 h5 h6 R0 => ?_, fun N kx post hN K => fd_elL fun m tf ts dn g1 g2 g3 S0 => ?_⟩
    · unfold wpX_finish
      refine fd_xfree hf (fd_iN I) (fd_elK fun sl hd mn fi th la ro nu bg fr bk bh bf wh pu h1 h2 h3 h4 h5 h6 R0 => ?_) _ R0
      refine br_t rfl ?_
      simp only [wX_finish_20, forall_eq, hfc, fd_n5, fd_s0, fd_3k, h3c]
      refine ⟨hfi, hfi, hfi, br_t trivial ⟨h3i, 13, ?_⟩⟩
      rw [hm]
      exact X' post K _ (fd_inX h1 h2 h3 h4 h5 h6)
    · simp only [wpY_finish, forall_eq, hfc, fd_3k, h3c]
      refine ⟨hfi, br_t trivial ⟨h3i, 13, ?_⟩⟩
      exact Y' N kx post hN K _ (fd_inY g1 (fd_ts_sub g2 (List.Sublist.refl _) (fun k hk => fd_rm_sub hk)) g3)
  · obtain ⟨c', q', I', F', S', s6, X', Y'⟩ := main (-1000000)
    refine ⟨c', q', I', F', S', s6, fun post K => fd_elK fun sl hd mn fi th la ro nu bg fr bk bh bf wh pu h1 h2 h3 h4 h5 h6 R0 => ?_, fun N kx post hN K => fd_elL fun m tf ts dn g1 g2 g3 S0 => ?_⟩
    · unfold wpX_finish
      refine fd_xfree hf (fd_iN I) (fd_elK fun sl hd mn fi th la ro nu bg fr bk bh bf wh pu h1 h2 h3 h4 h5 h6 R0 => ?_) _ R0
      refine br_f (by decide) ?_
      simp only [wX_finish_20, forall_eq, hfc, fd_n6, fd_s0, fd_3k, h3c]
      refine ⟨hfi, hfi, hfi, br_f (by decide) ⟨13, ?_⟩⟩
      rw [hm]
      exact X' post K _ (fd_inX h1 h2 h3 h4 h5 h6)
    · simp only [wpY_finish, forall_eq, hfc]
      refine ⟨hfi, br_f (by decide) ⟨13, ?_⟩⟩
      exact Y' N kx post hN K _ (fd_inY g1 (fd_ts_sub g2 (List.Sublist.refl _) (fun k hk => fd_rm_sub hk)) g3)
end
section
/-! who waits at a channel -/
def fd_gv (c : Nat → Nat → Int32) (q : Nat → List Nat) (k : Nat) : Prop := ∃ l t, q k = l :: t ∧ fd_op c (l % 12) = 6
theorem fd_into {e : Nat} {pd : Nat → Prop} {c : Nat → Nat → Int32} {q : Nat → List Nat} {f : Nat} (I : fd_Inv e pd c q) (hf : f < 12) (h3 : c 6 f = 3) : (fd_op c f = 6 ∧ c 19 f = -1) ∨ (¬ fd_op c f = 6 ∧ fd_In 3 (c 19 f)) := by
  have G := fd_iG I hf
  rcases (fd_iW I hf h3).2 with ⟨o, a, b⟩ | ⟨o, a⟩ | ⟨o, a⟩
  · exact Or.inl ⟨o, a⟩
  · refine Or.inr ⟨fun z => ?_, ?_⟩
    · rcases o with o | o <;> exact absurd (o.symm.trans z) (by decide)
    · rw [a]
      rcases o with o | o
      · exact (fd_G7 G o).2
      · exact (fd_G10 G o).2
  · refine Or.inr ⟨fun z => absurd (o.symm.trans z) (by decide), ?_⟩
    rw [a]; exact (fd_G8 G o).2.2
theorem fd_gv_all {e : Nat} {pd : Nat → Prop} {c : Nat → Nat → Int32} {q : Nat → List Nat} {k : Nat} (I : fd_Inv e pd c q) (hk : k < 4) (g : fd_gv c q k) : ∀ l, l ∈ q k → fd_op c (l % 12) = 6 := by
  obtain ⟨l, t, hq, ho⟩ := g
  rcases fd_iH I k hk with z | z
  · exact z
  · exact absurd ho (z l (by rw [hq]; exact List.mem_cons_self))
theorem fd_gv_non {e : Nat} {pd : Nat → Prop} {c : Nat → Nat → Int32} {q : Nat → List Nat} {k : Nat} (I : fd_Inv e pd c q) (hk : k < 4) (g : ¬ fd_gv c q k) : ∀ l, l ∈ q k → ¬ fd_op c (l % 12) = 6 := by
  rcases fd_iH I k hk with z | z
  · intro l hl
    exfalso
    cases hq : q k with
    | nil => rw [hq] at hl; cases hl
    | cons x t => exact g ⟨x, t, hq, z x (by rw [hq]; exact List.mem_cons_self)⟩
  · exact z
theorem fd_rem12 {l : Nat} (h : l < 24) : nI l - nI l / 12 * 12 = nI (l % 12) := pk_rem (d := 12) (by omega) (by decide) (by decide)
theorem fd_n12 : ¬ (12 : Int32) = 0 := by decide
theorem fd_xgivers {e : Nat} {pd : Nat → Prop} {c : Nat → Nat → Int32} {q : Nat → List Nat} {k : Nat} {post : Int32 → Prop} (I : fd_Inv e pd c q) (hk : k < 4) (K1 : fd_gv c q k → post 1) (K0 : ¬ fd_gv c q k → post 0) : ∀ u, fd_RX c q u → wpX_givers post u (nI k) := fd_elK fun sl hd mn fi th la ro nu bg fr bk bh bf wh pu h1 h2 h3 h4 h5 h6 R0 => by
  have hkc : (nI k).toNatClampNeg = k := nI_clamp (by omega)
  have hki : vp_in (nI k) 4 := vp_in_nI hk (by decide)
  have hfr := (h3.1 k hk).1
  cases hq : q k with
  | nil =>
    have ef : fr k = -1 := by rw [hfr, hq]; rfl
    simp only [wpX_givers, hkc, ef]
    refine ⟨hki, br_t fd_mlt (K0 ?_)⟩
    rintro ⟨l, t, hq', -⟩
    rw [hq] at hq'; cases hq'
  | cons l t =>
    have hl : l ∈ q k := by rw [hq]; exact List.mem_cons_self
    have h24 := (fd_iN I k hk).2 l hl
    have ef : fr k = nI l := by rw [hfr, hq]; rfl
    obtain ⟨h12, -, w3⟩ := fd_iLk I hk hl
    simp only [wpX_givers, hkc, ef, fd_rem12 h24, nI_clamp (show l % 12 < 2 ^ 31 by omega)]
    refine ⟨hki, br_f (nI_pos (by omega)) ⟨hki, fd_n12, vp_in_nI h12 (by decide), ?_⟩⟩
    rcases fd_into I h12 w3 with ⟨o, a⟩ | ⟨o, r, hr, a⟩
    · rw [a]
      exact br_f fd_mnle (K1 ⟨l, t, hq, o⟩)
    · rw [a]
      refine br_t (nI_pos' (by omega)) (K0 ?_)
      rintro ⟨l', t', hq', o'⟩
      rw [hq] at hq'
      cases hq'
      exact o o'
section
variable {e N kx k : Nat} {pd : Nat → Prop} {c : Nat → Nat → Int32} {q : Nat → List Nat} {post : Int32 → Prop}
theorem fd_yfirstA (I : fd_Inv e pd c q) (hN : N < 2 ^ 62) (hk : k < 4) (K : post (fd_hm (q k))) : ∀ v, fd_RY N kx c q v → wpY_first post v (nI k) (-1) := by
  refine fd_yfirst hN (fd_i78 I) (Or.inl rfl) hk (fun f hf => ?_) (List.Sublist.refl _) K
  rw [← fd_iWa I hk hf]
  exact ⟨fun z => z.1, fun z => ⟨z, Or.inl rfl⟩⟩
theorem fd_yfirst1 (I : fd_Inv e pd c q) (hN : N < 2 ^ 62) (hk : k < 4) (K1 : fd_gv c q k → post (fd_hm (q k))) (K0 : ¬ fd_gv c q k → post (-1)) : ∀ v, fd_RY N kx c q v → wpY_first post v (nI k) 1 := by
  by_cases g : fd_gv c q k
  · refine fd_yfirst hN (fd_i78 I) (Or.inr (Or.inl rfl)) hk (fun f hf => ?_) (List.Sublist.refl _) (K1 g)
    rw [← fd_iWa I hk hf]
    refine ⟨fun z => z.1, fun z => ⟨z, Or.inr (Or.inl ⟨rfl, ?_⟩)⟩⟩
    obtain ⟨x, hx, rfl⟩ := (fd_iWa I hk hf).mp z
    exact fd_gv_all I hk g x hx
  · refine fd_yfirst (L := []) hN (fd_i78 I) (Or.inr (Or.inl rfl)) hk (fun f hf => ?_) (List.nil_sublist _) (K0 g)
    constructor
    · rintro ⟨z, w | w | w⟩
      · exact absurd w (by decide)
      · obtain ⟨x, hx, rfl⟩ := (fd_iWa I hk hf).mp z
        exact absurd w.2 (fd_gv_non I hk g x hx)
      · exact absurd w.1 (by decide)
    · rintro ⟨x, hx, -⟩; cases hx
theorem fd_yfirst0 (I : fd_Inv e pd c q) (hN : N < 2 ^ 62) (hk : k < 4) (K1 : fd_gv c q k → post (-1)) (K0 : ¬ fd_gv c q k → post (fd_hm (q k))) : ∀ v, fd_RY N kx c q v → wpY_first post v (nI k) 0 := by
  by_cases g : fd_gv c q k
  · refine fd_yfirst (L := []) hN (fd_i78 I) (Or.inr (Or.inr rfl)) hk (fun f hf => ?_) (List.nil_sublist _) (K1 g)
    constructor
    · rintro ⟨z, w | w | w⟩
      · exact absurd w (by decide)
      · exact absurd w.1 (by decide)
      · obtain ⟨x, hx, rfl⟩ := (fd_iWa I hk hf).mp z
        exact absurd (fd_gv_all I hk g x hx) w.2
    · rintro ⟨x, hx, -⟩; cases hx
  · refine fd_yfirst hN (fd_i78 I) (Or.inr (Or.inr rfl)) hk (fun f hf => ?_) (List.Sublist.refl _) (K0 g)
    rw [← fd_iWa I hk hf]
    refine ⟨fun z => z.1, fun z => ⟨z, Or.inr (Or.inr ⟨rfl, ?_⟩)⟩⟩
    obtain ⟨x, hx, rfl⟩ := (fd_iWa I hk hf).mp z
    exact fd_gv_non I hk g x hx
def fd_hs (c : Nat → Nat → Int32) (q : Nat → List Nat) (k : Nat) : Prop := ¬ c 14 k = 0 ∨ ¬ c 12 k = 0 ∨ fd_gv c q k
theorem fd_hm_neg {L : List Nat} : fd_hm L < 0 ↔ L = [] := by
  cases L with
  | nil => exact ⟨fun _ => rfl, fun _ => fd_mlt⟩
  | cons l L =>
    have h12 : l % 12 < 12 := Nat.mod_lt _ (by decide)
    exact ⟨fun z => absurd z (nI_pos (by omega)), fun z => by cases z⟩
theorem fd_hm_gv (g : fd_gv c q k) : 0 ≤ fd_hm (q k) := by
  obtain ⟨l, t, hq, -⟩ := g
  rw [hq]
  have h12 : l % 12 < 12 := Nat.mod_lt _ (by decide)
  exact nI_pos' (by omega)
theorem fd_xhasSome (I : fd_Inv e pd c q) (hk : k < 4) (K1 : fd_hs c q k → post 1) (K0 : ¬ fd_hs c q k → post 0) : ∀ u, fd_RX c q u → wpX_hasSome post u (nI k) := fd_elK fun sl hd mn fi th la ro nu bg fr bk bh bf wh pu h1 h2 h3 h4 h5 h6 R0 => by
  have hkc : (nI k).toNatClampNeg = k := nI_clamp (by omega)
  have hki : vp_in (nI k) 4 := vp_in_nI hk (by decide)
  obtain ⟨⟨m, n, hm, hn, e1, e2⟩, -⟩ := fd_iC I k hk
  have hc : 0 < c 14 k ↔ ¬ c 14 k = 0 := by
    rw [e2]
    have a1 : (0 : Int32) < nI n ↔ 0 < n := nI_ltI (a := 0) (by decide) (by omega)
    have a2 : nI n = 0 ↔ n = 0 := nI_eq (b := 0) (by omega) (by decide)
    rw [a1, a2]; omega
  have body : ∀ r : Int32, (fd_gv c q k → r = 1) → (¬ fd_gv c q k → r = 0) → vp_in (nI k) 4 ∧ (0 < c 14 (nI k).toNatClampNeg → post 1) ∧ (¬ 0 < c 14 (nI k).toNatClampNeg → vp_in (nI k) 4 ∧ (c 12 (nI k).toNatClampNeg = 0 → (r = 0 → post 0) ∧ (¬ r = 0 → post 1)) ∧ (¬ c 12 (nI k).toNatClampNeg = 0 → post 1)) := by
    intro r r1 r0
    rw [hkc]
    refine ⟨hki, br_c (fun z => K1 (Or.inl (hc.mp z))) fun z => ⟨hki, br_c (fun z2 => br_c (fun z3 => K0 ?_) fun z3 => K1 (Or.inr (Or.inr ?_))) fun z2 => K1 (Or.inr (Or.inl z2))⟩⟩
    · rintro (w | w | w)
      · exact z (hc.mpr w)
      · exact w z2
      · exact absurd ((r1 w).symm.trans z3) fd_n10
    · by_cases g : fd_gv c q k
      · exact g
      · exact absurd (r0 g) z3
  unfold wpX_hasSome
  exact fd_xgivers I hk (fun g => body 1 (fun _ => rfl) (fun z => absurd g z)) (fun g => body 0 (fun z => absurd z g) (fun _ => rfl)) _ R0
theorem fd_ywould (I : fd_Inv e pd c q) (hN : N < 2 ^ 62) (hk : k < 4) (K1 : ¬ fd_hs c q k → post 1) (K0 : fd_hs c q k → post 0) : ∀ v, fd_RY N kx c q v → wpY_wouldWait post v (nI k) := fd_elL fun m tf ts dn g1 g2 g3 S0 => by
  have hkc : (nI k).toNatClampNeg = k := nI_clamp (by omega)
  have hki : vp_in (nI k) 4 := vp_in_nI hk (by decide)
  unfold wpY_wouldWait
  dsimp only
  rw [hkc]
  refine ⟨hki, br_c (fun z => ⟨hki, br_c (fun z2 => ?_) fun z2 => K0 (Or.inr (Or.inl z2))⟩) fun z => K0 (Or.inl z)⟩
  refine fd_yfirst1 I hN hk (fun g => br_t (fd_hm_gv g) (K0 (Or.inr (Or.inr g)))) (fun g => br_f fd_mnle (K1 ?_)) _ S0
  rintro (w | w | w)
  · exact w z
  · exact w z2
  · exact g w
end
end
section
/-! numbers in channels -/
def fd_sh (h : Nat → Int32) (b n : Nat) : Nat → Int32 := fun j => if b ≤ j ∧ j < b + n then h (j + 1) else h j
theorem fd_sh_in {h : Nat → Int32} {b n j : Nat} (h1 : b ≤ j) (h2 : j < b + n) : fd_sh h b n j = h (j + 1) := if_pos ⟨h1, h2⟩
theorem fd_sh_out {h : Nat → Int32} {b n j : Nat} (h1 : j < b ∨ b + n ≤ j) : fd_sh h b n j = h j := if_neg (by omega)
theorem fd_sh_0 {h : Nat → Int32} {b : Nat} : fd_sh h b 0 = h := by
  funext j; exact fd_sh_out (by omega)
theorem fd_sh_s {h : Nat → Int32} {b i : Nat} : upd (fd_sh h b i) (b + i) (fd_sh h b i (b + i + 1)) = fd_sh h b (i + 1) := by
  funext j
  by_cases e : j = b + i
  · rw [e, pk_us, fd_sh_out (by omega), fd_sh_in (by omega) (by omega)]
  · rw [pk_un e]
    by_cases z : b ≤ j ∧ j < b + i
    · rw [fd_sh_in z.1 z.2, fd_sh_in z.1 (by omega)]
    · rw [fd_sh_out (by omega), fd_sh_out (by omega)]
def fd_pp (c : Nat → Nat → Int32) (k n : Nat) : Nat → Nat → Int32 := fd_sC (fd_sA c 13 (fd_sh (c 13) (3 * k) n)) 14 k (nI n)
def fd_ps (c : Nat → Nat → Int32) (k n : Nat) (v : Int32) : Nat → Nat → Int32 := fd_sC (fd_sC c 13 (3 * k + n) v) 14 k (nI (n + 1))
theorem fd_rNum_pop {he co nu bg : Nat → Int32} {k n b : Nat} (H : fd_rNum he co nu bg) (hk : k < 4) (hn : n < 3) (hb : b < 4) (eb : bg k = nI b) (ec : co k = nI (n + 1)) :
    fd_rNum (fd_sh he (3 * k) n) (upd co k (nI n)) nu (upd bg k (nI ((b + 1) % 4))) := by
  intro j hj
  obtain ⟨b', m', hb', hm', eb', ec', hnu⟩ := H j hj
  by_cases e : j = k
  · subst e
    have e1 : b' = b := fd_inj (eb'.symm.trans eb) (by omega) (by omega)
    have e2 : m' = n + 1 := fd_inj (ec'.symm.trans ec) (by omega) (by omega)
    subst e1 e2
    refine ⟨(b' + 1) % 4, n, Nat.mod_lt _ (by decide), by omega, pk_us, pk_us, fun i hi => ?_⟩
    have h1 := hnu (i + 1) (by omega)
    have e3 : ((b' + 1) % 4 + i) % 4 = (b' + (i + 1)) % 4 := by omega
    rw [e3, h1, fd_sh_in (by omega) (by omega)]
    rfl
  · refine ⟨b', m', hb', hm', by rw [pk_un e]; exact eb', by rw [pk_un e]; exact ec', fun i hi => ?_⟩
    rw [hnu i hi, fd_sh_out (by omega)]
theorem fd_Cha_set {c c' : Nat → Nat → Int32} {k m n : Nat} (H : fd_Cha c) (hm : m ≤ 3) (hn : n ≤ m) (e11 : c 11 k = nI m) (h11 : c' 11 = c 11) (h12 : c' 12 = c 12) (h14 : c' 14 = upd (c 14) k (nI n)) : fd_Cha c' := by
  intro j hj
  rw [h11, h12, h14]
  by_cases z : j = k
  · subst z
    exact ⟨⟨m, n, hm, hn, e11, pk_us⟩, (H j hj).2⟩
  · rw [pk_un z]; exact H j hj
theorem fd_Ipp {e : Nat} {pd : Nat → Prop} {c : Nat → Nat → Int32} {q : Nat → List Nat} {k n : Nat} (I : fd_Inv e pd c q) (hk : k < 4) (hn3 : n < 3) (h : c 14 k = nI (n + 1)) : fd_Inv e pd (fd_pp c k n) q := by
  obtain ⟨m, n', hm, hn, e1, e2⟩ := (fd_iC I k hk).1
  have en : n' = n + 1 := fd_inj (e2.symm.trans h) (by omega) (by omega)
  exact ⟨I.1, I.2.1, fd_Cha_set (fd_iC I) hm (by omega) e1 rfl rfl rfl, I.2.2.2⟩
theorem fd_Ips {e : Nat} {pd : Nat → Prop} {c : Nat → Nat → Int32} {q : Nat → List Nat} {k n m : Nat} {v : Int32} (I : fd_Inv e pd c q) (hk : k < 4) (hm : m ≤ 3) (hn : n < m) (e1 : c 11 k = nI m) : fd_Inv e pd (fd_ps c k n v) q :=
  ⟨I.1, I.2.1, fd_Cha_set (fd_iC I) hm hn e1 rfl rfl rfl, I.2.2.2⟩
/-- weaker frames -/
def fd_Fw (c c' : Nat → Nat → Int32) : Prop := (∀ h, h < 12 → (c' 6 h = 2 ↔ c 6 h = 2)) ∧ (∀ h, h < 12 → c 6 h = 2 → c' 7 h = c 7 h ∧ c' 8 h = c 8 h ∧ ∀ r, r < 3 → c' 9 (3 * h + r) = c 9 (3 * h + r)) ∧ c' 0 = c 0 ∧ c' 15 = c 15 ∧ c' 16 = c 16
theorem fd_Fr_w {c c' : Nat → Nat → Int32} (h : fd_Fr c c') : fd_Fw c c' := ⟨h.1, h.2.1, h.2.2 0 (by decide) (by decide) (by decide) (by decide), h.2.2 15 (by decide) (by decide) (by decide) (by decide), h.2.2 16 (by decide) (by decide) (by decide) (by decide)⟩
theorem fd_Fw_r (c : Nat → Nat → Int32) : fd_Fw c c := fd_Fr_w (fd_Fr_r c)
theorem fd_Fw_t {a b d : Nat → Nat → Int32} (h : fd_Fw a b) (k : fd_Fw b d) : fd_Fw a d := by
  refine ⟨fun f hf => (k.1 f hf).trans (h.1 f hf), fun f hf z => ?_, k.2.2.1.trans h.2.2.1, k.2.2.2.1.trans h.2.2.2.1, k.2.2.2.2.trans h.2.2.2.2⟩
  obtain ⟨x1, x2, x3⟩ := h.2.1 f hf z
  obtain ⟨y1, y2, y3⟩ := k.2.1 f hf ((h.1 f hf).mpr z)
  exact ⟨y1.trans x1, y2.trans x2, fun r hr => (y3 r hr).trans (x3 r hr)⟩
theorem fd_Fw_pp (c : Nat → Nat → Int32) (k n : Nat) : fd_Fw c (fd_pp c k n) := ⟨fun _ _ => Iff.rfl, fun _ _ _ => ⟨rfl, rfl, fun _ _ => rfl⟩, rfl, rfl, rfl⟩
theorem fd_Fw_ps (c : Nat → Nat → Int32) (k n : Nat) (v : Int32) : fd_Fw c (fd_ps c k n v) := ⟨fun _ _ => Iff.rfl, fun _ _ _ => ⟨rfl, rfl, fun _ _ => rfl⟩, rfl, rfl, rfl⟩
theorem fd_gv_l {e : Nat} {pd : Nat → Prop} {c : Nat → Nat → Int32} {q : Nat → List Nat} {k : Nat} (I : fd_Inv e pd c q) (hk : k < 4) (g : fd_gv c q k) : ∃ l t, q k = l :: t ∧ l < 12 ∧ c 6 l = 3 ∧ fd_op c l = 6 := by
  obtain ⟨l, t, hq, o⟩ := g
  have hl : l ∈ q k := by rw [hq]; exact List.mem_cons_self
  have h24 := (fd_iN I k hk).2 l hl
  obtain ⟨h12, -, w3⟩ := fd_iLk I hk hl
  by_cases z : l < 12
  · have e1 : l % 12 = l := Nat.mod_eq_of_lt z
    rw [e1] at o w3
    exact ⟨l, t, hq, z, w3, o⟩
  · exfalso
    have e1 : l % 12 + 12 = l := by omega
    have w := (fd_iM I h12 hk).2.mp (by rw [e1]; exact hl)
    exact absurd (o.symm.trans w.2.1) (by decide)
/-- Y's shift -/
theorem fd_ytake71 {c : Nat → Nat → Int32} {post : Int32 → SY → Prop} {k n m : Nat} {x2 x3 x4 : Int32} {ts : Nat → Int64} {dn : Nat → Int32} (hk : k < 4) (hn : n < 3)
    (K : ∀ fu, wY_take_71 post (nI k) x2 x3 x4 (c 0 0) (c 0 1) (c 0 2) (c 0 3) (lN m) (c 0 4) (fu + 1) (nI (3 * k + n)) (c 1) (c 2) (c 3) (c 4) (c 5) (c 6) (c 7) (c 8) (c 9) (c 10) ts (c 11) (c 12) (fd_sh (c 13) (3 * k) n) (upd (c 14) k (nI n)) (c 15) dn (c 17)) :
    ∀ d i, i + d = n → wY_take_71 post (nI k) x2 x3 x4 (c 0 0) (c 0 1) (c 0 2) (c 0 3) (lN m) (c 0 4) (d + 1) (nI (3 * k + i)) (c 1) (c 2) (c 3) (c 4) (c 5) (c 6) (c 7) (c 8) (c 9) (c 10) ts (c 11) (c 12) (fd_sh (c 13) (3 * k) i) (upd (c 14) k (nI n)) (c 15) dn (c 17) := by
  intro d
  induction d with
  | zero =>
    intro i hi
    have : i = n := by omega
    subst this
    exact K 0
  | succ d ih =>
    intro i hi
    have hkc : (nI k).toNatClampNeg = k := nI_clamp (by omega)
    have hki : vp_in (nI k) 4 := vp_in_nI hk (by decide)
    have e1 : 3 * nI k + upd (c 14) k (nI n) (nI k).toNatClampNeg = nI (3 * k + n) := by rw [hkc, pk_us, fd_3k, nI_add]
    refine ⟨hki, ?_⟩
    rw [e1]
    refine br_f (nI_ge (by omega) (by omega)) ?_
    rw [nI_1, nI_clamp (show 3 * k + i < 2 ^ 31 by omega), nI_clamp (show 3 * k + i + 1 < 2 ^ 31 by omega), fd_sh_s]
    exact ⟨vp_in_nI (by omega) (by decide), vp_in_nI (by omega) (by decide), nm_e (nm_e (ih (i + 1) (by omega)))⟩
end
section
def fd_MX (r : Int32) (c : Nat → Nat → Int32) (q : Nat → List Nat) (c' : Nat → Nat → Int32) (q' : Nat → List Nat) (W : (Int32 → SX → Prop) → SX → Prop) : Prop := ∀ post : Int32 → SX → Prop, (∀ u', fd_RX c' q' u' → post r u') → ∀ u, fd_RX c q u → W post u
def fd_MY (d : Nat) (r : Int32) (c : Nat → Nat → Int32) (q : Nat → List Nat) (c' : Nat → Nat → Int32) (q' : Nat → List Nat) (W : (Int32 → SY → Prop) → SY → Prop) : Prop := ∀ (N kx : Nat) (post : Int32 → SY → Prop), N + d < 2 ^ 62 → (∀ v', fd_RY (N + d) kx c' q' v' → post r v') → ∀ v, fd_RY N kx c q v → W post v
theorem fd_take {e : Nat} {c : Nat → Nat → Int32} {q : Nat → List Nat} {k : Nat} (I : fd_Inv e fd_no c q) (hk : k < 4) :
    ∃ r c' q', fd_Inv e fd_no c' q' ∧ fd_Fw c c' ∧ fd_MX r c q c' q' (fun p u => wpX_take p u (nI k)) ∧ fd_MY 1 r c q c' q' (fun p v => wpY_take p v (nI k)) := by
  have hkc : (nI k).toNatClampNeg = k := nI_clamp (by omega)
  have hki : vp_in (nI k) 4 := vp_in_nI hk (by decide)
  obtain ⟨mc, n, hm, hn, e11, e14⟩ := (fd_iC I k hk).1
  cases n with
  | zero =>
    have e0 : c 14 k = 0 := e14
    by_cases g : fd_gv c q k
    · obtain ⟨l, t, hq, hl, h3, o⟩ := fd_gv_l I hk g
      have hlc : (nI l).toNatClampNeg = l := nI_clamp (by omega)
      have hli : vp_in (nI l) 12 := vp_in_nI hl (by decide)
      have l0 : (0 : Int32) ≤ nI l := nI_pos' (by omega)
      have l1 : ¬ nI l < 0 := nI_pos (by omega)
      have ehm : fd_hm (q k) = nI l := by
        rw [hq]
        show nI (l % 12) = nI l
        rw [Nat.mod_eq_of_lt hl]
      obtain ⟨r9, I1, h9, LX, -, LY⟩ := fd_wake (pd' := fd_no) 0 I hl h3 (fun z => absurd (o.symm.trans z) (by decide)) (fun _ _ _ => Iff.rfl)
      obtain ⟨rb, hrb, erb⟩ := (fd_G6 (fd_iG I hl) o).2
      have e20 : c 20 l = c 9 (3 * l + rb) := by
        rcases (fd_iW I hl h3).2 with ⟨_, _, b⟩ | ⟨o', _⟩ | ⟨o', _⟩
        · rw [b, erb, nI_clamp (by omega)]
        · rcases o' with o' | o' <;> exact absurd (o.symm.trans o') (by decide)
        · exact absurd (o.symm.trans o') (by decide)
      refine ⟨c 20 l, _, _, I1, fd_Fr_w (fd_Fr_wk h3 h9), fun post K => fd_elK fun sl hd mn fi th la ro nu bg fr bk bh bf wh pu h1 h2 h3 h4 h5 h6 R0 => ?_, fun N kx post hN K => fd_elL fun m tf ts dn g1 g2 g3 S0 => ?_⟩
      · have ef : fr k = nI l := by rw [(h3.1 k hk).1, hq]; rfl
        unfold wpX_take
        refine fd_xgivers I hk (fun _ => br_f fd_n10 ⟨hki, ?_⟩) (fun z => absurd g z) _ R0
        simp only [wX_take_20, hkc, ef, e0]
        refine ⟨hki, br_t trivial (br_t l0 ?_)⟩
        refine LX _ (fd_elK fun sl hd mn fi th la ro nu bg fr bk bh bf wh pu h1 h2 h3 h4 h5 h6 R0 => ⟨hli, ?_⟩) _ R0
        rw [hlc]
        exact K _ R0
      · unfold wpY_take
        refine fd_yfirst1 I (by omega) hk (fun _ => ?_) (fun z => absurd g z) _ S0
        simp only [hkc, e0, ehm]
        refine ⟨hki, br_t trivial (br_t l0 (br_f l1 ?_))⟩
        refine fd_ysent hl (fd_i7 I hl) (fd_i8 I hl) hrb erb ?_ _ S0
        simp only [wY_take_36, hkc, e0]
        refine ⟨hki, br_t (by decide) (br_f l1 ?_)⟩
        rw [← e20]
        exact LY o N kx _ hN (fd_elL fun m tf ts dn g1 g2 g3 S0 => K _ S0) _ S0
    · refine ⟨-1000000, c, q, I, fd_Fw_r c, fun post K => fd_elK fun sl hd mn fi th la ro nu bg fr bk bh bf wh pu h1 h2 h3 h4 h5 h6 R0 => ?_, fun N kx post hN K => fd_elL fun m tf ts dn g1 g2 g3 S0 => ?_⟩
      · unfold wpX_take
        refine fd_xgivers I hk (fun z => absurd z g) (fun _ => br_t rfl ?_) _ R0
        simp only [wX_take_20, hkc, e0]
        exact ⟨hki, br_t trivial (br_f fd_mnle (K _ R0))⟩
      · unfold wpY_take
        refine fd_yfirst1 I (by omega) hk (fun z => absurd z g) (fun _ => ?_) _ S0
        simp only [hkc, e0]
        exact ⟨hki, br_t trivial (br_f fd_mnle (K _ (fd_RY_up (by omega) S0)))⟩
  | succ n =>
    have hn3 : n < 3 := by omega
    have n0 : ¬ nI (n + 1) = 0 := nI_ne0 (by omega) (by omega)
    have nle : ¬ nI (n + 1) ≤ 0 := nI_nle (by omega) (by omega)
    have I1 := fd_Ipp I hk hn3 e14
    have h3c : (nI (3 * k)).toNatClampNeg = 3 * k := nI_clamp (by omega)
    have h3i : vp_in (nI (3 * k)) 12 := vp_in_nI (by omega) (by decide)
    have em : nI (n + 1) - 1 = nI n := nI_pred n
    -- X's pop
    have popX : ∀ {bg nu : Nat → Int32} {b : Nat}, fd_rNum (c 13) (c 14) nu bg → b < 4 → bg k = nI b → nu (4 * k + b) = c 13 (3 * k) := by
      intro bg nu b H hb eb
      obtain ⟨b', m', hb', hm', eb', ec', hnu⟩ := H k hk
      have e1 : b' = b := fd_inj (eb'.symm.trans eb) (by omega) (by omega)
      have e2 : m' = n + 1 := fd_inj (ec'.symm.trans e14) (by omega) (by omega)
      subst e1 e2
      have := hnu 0 (by omega)
      rw [show (b' + 0) % 4 = b' by omega] at this
      exact this
    by_cases g : fd_gv c q k
    · obtain ⟨l, t, hq, hl, h3, o⟩ := fd_gv_l I hk g
      have hlc : (nI l).toNatClampNeg = l := nI_clamp (by omega)
      have hli : vp_in (nI l) 12 := vp_in_nI hl (by decide)
      have l0 : (0 : Int32) ≤ nI l := nI_pos' (by omega)
      have l1 : ¬ nI l < 0 := nI_pos (by omega)
      have ehm : fd_hm (q k) = nI l := by
        rw [hq]
        show nI (l % 12) = nI l
        rw [Nat.mod_eq_of_lt hl]
      obtain ⟨rb, hrb, erb⟩ := (fd_G6 (fd_iG I hl) o).2
      have e20 : c 20 l = c 9 (3 * l + rb) := by
        rcases (fd_iW I hl h3).2 with ⟨_, _, b⟩ | ⟨o', _⟩ | ⟨o', _⟩
        · rw [b, erb, nI_clamp (by omega)]
        · rcases o' with o' | o' <;> exact absurd (o.symm.trans o') (by decide)
        · exact absurd (o.symm.trans o') (by decide)
      have I2 : fd_Inv e fd_no (fd_ps (fd_pp c k n) k n (c 20 l)) q := fd_Ips I1 hk hm (by omega) e11
      obtain ⟨r9, I3, h9, LX, -, LY⟩ := fd_wake (pd' := fd_no) 0 I2 hl h3 (fun z => absurd (o.symm.trans z) (by decide)) (fun _ _ _ => Iff.rfl)
      refine ⟨c 13 (3 * k), _, _, I3, fd_Fw_t (fd_Fw_t (fd_Fw_pp c k n) (fd_Fw_ps _ k n _)) (fd_Fr_w (fd_Fr_wk h3 h9)), fun post K => fd_elK fun sl hd mn fi th la ro nu bg fr bk bh bf wh pu h1 h2 h3 h4 h5 h6 R0 => ?_, fun N kx post hN K => fd_elL fun m tf ts dn g1 g2 g3 S0 => ?_⟩
      · have ef : fr k = nI l := by rw [(h3.1 k hk).1, hq]; rfl
        obtain ⟨b, -, hb, -, eb, -, -⟩ := h4 k hk
        unfold wpX_take
        refine fd_xgivers I hk (fun _ => br_f fd_n10 ⟨hki, ?_⟩) (fun z => absurd g z) _ R0
        have e4 : 4 * nI k + nI b = nI (4 * k + b) := by rw [fd_4k, nI_add]
        have e5 : ((nI b + 1) &&& 3) = nI ((b + 1) % 4) := by rw [nI_1, fd_and3 (by omega)]
        simp only [wX_take_20, forall_eq, hkc, ef, e14, eb, e4, e5, em, nI_clamp (show 4 * k + b < 2 ^ 31 by omega), popX h4 hb eb, fd_nbN (show (b + 1) % 4 < 128 by omega), fd_nbN (show n < 128 by omega), hlc]
        refine ⟨hki, br_f n0 ⟨hki, vp_in_nI (by omega) (by decide), hki, hki, hki, hki, br_f l1 ⟨hli, ?_⟩⟩⟩
        refine fd_xstore (c := fd_pp c k n) (m := n) hk hn3 pk_us (fd_elK fun sl hd mn fi th la ro nu bg fr bk bh bf wh pu h1 h2 h3 h4 h5 h6 R0 => ?_) _ (fd_inX h1 h2 h3 (fd_rNum_pop h4 hk hn3 hb eb e14) h5 h6)
        exact LX _ (fd_elK fun sl hd mn fi th la ro nu bg fr bk bh bf wh pu h1 h2 h3 h4 h5 h6 R0 => K _ R0) _ R0
      · unfold wpY_take
        refine fd_yfirst1 I (by omega) hk (fun _ => ?_) (fun z => absurd g z) _ S0
        simp only [hkc, e14, ehm]
        refine ⟨hki, br_f n0 (br_f l1 ?_)⟩
        refine fd_ysent hl (fd_i7 I hl) (fd_i8 I hl) hrb erb ?_ _ S0
        simp only [wY_take_36, forall_eq, hkc, e14, fd_3k, h3c, em]
        refine ⟨hki, br_f nle ⟨h3i, hki, hki, n + 1, ?_⟩⟩
        have L := fd_ytake71 (c := c) (m := m) (ts := ts) (dn := dn) (post := post) (x2 := nI l) (x3 := c 9 (3 * l + rb)) (x4 := c 13 (3 * k)) hk hn3 (fun fu => ?_) n 0 (by omega)
        · rw [fd_sh_0] at L
          exact L
        · have e1 : 3 * nI k + upd (c 14) k (nI n) (nI k).toNatClampNeg = nI (3 * k + n) := by rw [hkc, pk_us, fd_3k, nI_add]
          refine ⟨hki, ?_⟩
          rw [e1]
          refine br_t (nI_le (Nat.le_refl _) (by omega)) (br_f l1 ⟨hki, hki, ?_⟩)
          rw [hkc, pk_us, nI_1, nI_clamp (show 3 * k + n < 2 ^ 31 by omega)]
          refine nm_e ⟨vp_in_nI (by omega) (by decide), nm_e (br_f l1 ?_)⟩
          rw [← e20]
          exact LY o N kx _ hN (fd_elL fun m tf ts dn g1 g2 g3 S0 => K _ S0) _ (fd_inY g1 g2 g3)
    · refine ⟨c 13 (3 * k), _, _, I1, fd_Fw_pp c k n, fun post K => fd_elK fun sl hd mn fi th la ro nu bg fr bk bh bf wh pu h1 h2 h3 h4 h5 h6 R0 => ?_, fun N kx post hN K => fd_elL fun m tf ts dn g1 g2 g3 S0 => ?_⟩
      · obtain ⟨b, -, hb, -, eb, -, -⟩ := h4 k hk
        unfold wpX_take
        refine fd_xgivers I hk (fun z => absurd z g) (fun _ => br_t rfl ?_) _ R0
        have e4 : 4 * nI k + nI b = nI (4 * k + b) := by rw [fd_4k, nI_add]
        have e5 : ((nI b + 1) &&& 3) = nI ((b + 1) % 4) := by rw [nI_1, fd_and3 (by omega)]
        simp only [wX_take_20, forall_eq, hkc, e14, eb, e4, e5, em, nI_clamp (show 4 * k + b < 2 ^ 31 by omega), popX h4 hb eb, fd_nbN (show (b + 1) % 4 < 128 by omega), fd_nbN (show n < 128 by omega)]
        exact ⟨hki, br_f n0 ⟨hki, vp_in_nI (by omega) (by decide), hki, hki, hki, hki, br_t fd_mlt (K _ (fd_inX h1 h2 h3 (fd_rNum_pop h4 hk hn3 hb eb e14) h5 h6))⟩⟩
      · unfold wpY_take
        refine fd_yfirst1 I (by omega) hk (fun z => absurd z g) (fun _ => ?_) _ S0
        simp only [hkc, e14]
        refine ⟨hki, br_f n0 (br_t fd_mlt ?_)⟩
        simp only [wY_take_36, forall_eq, hkc, e14, fd_3k, h3c, em]
        refine ⟨hki, br_f nle ⟨h3i, hki, hki, n + 1, ?_⟩⟩
        have L := fd_ytake71 (c := c) (m := m) (ts := ts) (dn := dn) (post := post) (x2 := -1) (x3 := 0) (x4 := c 13 (3 * k)) hk hn3 (fun fu => ?_) n 0 (by omega)
        · rw [fd_sh_0] at L
          exact L
        · have e1 : 3 * nI k + upd (c 14) k (nI n) (nI k).toNatClampNeg = nI (3 * k + n) := by rw [hkc, pk_us, fd_3k, nI_add]
          refine ⟨hki, ?_⟩
          rw [e1]
          refine br_t (nI_le (Nat.le_refl _) (by omega)) (br_t fd_mlt (br_t fd_mlt ?_))
          exact K _ (fd_inY (Nat.le_succ_of_le g1) g2 g3)
end
section
/-! a fibre waits at channels -/
def fd_rc (c : Nat → Nat → Int32) (f : Nat) (g20 : Nat → Int32) (y : Int32) : Nat → Nat → Int32 := fd_sC (fd_sC (fd_sA c 20 g20) 19 f y) 6 f 3
theorem fd_Irest {e : Nat} {c : Nat → Nat → Int32} {q : Nat → List Nat} {q' : Nat → List Nat} {f : Nat} {y : Int32} {g20 : Nat → Int32} (I : fd_Inv e fd_no c q) (hf : f < 12) (h2 : c 6 f = 2) (h8 : fd_In 12 (c 8 f)) (ho : fd_op c f = 6 ∨ fd_op c f = 7 ∨ fd_op c f = 8)
    (hW : (fd_op c f = 6 ∧ y = -1 ∧ g20 f = c 9 (3 * f + (fd_ob c f).toNatClampNeg)) ∨ ((fd_op c f = 7 ∨ fd_op c f = 10) ∧ y = fd_ob c f) ∨ (fd_op c f = 8 ∧ y = fd_oc c f)) (h20 : ∀ g, g ≠ f → g20 g = c 20 g)
    (q4 : q' 4 = q 4) (q5 : q' 5 = q 5) (hm : ∀ j, j < 4 → ∀ x, x ∈ q' j ↔ (x ∈ q j ∨ (x = f ∧ fd_oa c f = nI j) ∨ (x = f + 12 ∧ fd_op c f = 8 ∧ fd_ob c f = nI j ∧ ¬ fd_oa c f = nI j))) (hnd : ∀ j, j < 4 → (q' j).Nodup)
    (hh : ∀ j, j < 4 → (fd_oa c f = nI j ∨ (fd_op c f = 8 ∧ fd_ob c f = nI j)) → (fd_op c f = 6 → ∀ l, l ∈ q j → fd_op c (l % 12) = 6) ∧ (¬ fd_op c f = 6 → ∀ l, l ∈ q j → ¬ fd_op c (l % 12) = 6)) :
    fd_Inv e fd_no (fd_rc c f g20 y) q' := by
  have e6 : fd_rc c f g20 y 6 f = 3 := pk_us
  have o6 : ∀ g, g ≠ f → fd_rc c f g20 y 6 g = c 6 g := fun g hg => pk_un hg
  have e19 : fd_rc c f g20 y 19 f = y := pk_us
  have o19 : ∀ g, g ≠ f → fd_rc c f g20 y 19 g = c 19 g := fun g hg => pk_un hg
  have n4 : f ∉ q 4 := fun z => absurd (h2.symm.trans ((fd_i4 I hf).mp z)) (by decide)
  have n5 : f ∉ q 5 := fun z => absurd (h2.symm.trans ((fd_i5 I hf).mp z)) (by decide)
  have nf : ∀ k, k < 4 → f ∉ q k := fun k hk z => absurd (h2.symm.trans ((fd_iM I hf hk).1.mp z).1) (by decide)
  have nf' : ∀ k, k < 4 → f + 12 ∉ q k := fun k hk z => absurd (h2.symm.trans ((fd_iM I hf hk).2.mp z).1) (by decide)
  have iC := fd_iC I
  have iJ := fd_iJ I
  refine fd_Imove I hf I.1 ⟨rfl, rfl, rfl, rfl, rfl⟩ iC iJ (fun g hg hgf => ?_) (fun g hg hgf t ht => fd_iB I hg ht) ?_ ?_ ?_ ?_
  · refine ⟨o6 g hgf, rfl, rfl, o19 g hgf, h20 g hgf, fun _ _ => rfl, fd_ql6 (fun k hk => ?_) (by rw [q4]) (by rw [q5]), fun k hk => ?_⟩
    · rw [hm k hk]
      refine ⟨fun z => ?_, Or.inl⟩
      rcases z with z | ⟨z, -⟩ | ⟨z, -⟩
      · exact z
      · exact absurd z hgf
      · omega
    · rw [hm k hk]
      refine ⟨fun z => ?_, Or.inl⟩
      rcases z with z | ⟨z, -⟩ | ⟨z, -⟩
      · exact z
      · omega
      · omega
  · refine ⟨⟨3, by decide, e6⟩, fd_i7 I hf, fd_i8 I hf, ⟨fun z => absurd (q4 ▸ z) n4, fun z => ?_⟩, ⟨fun z => absurd (q5 ▸ z) n5, fun z => ?_⟩, fun z => ⟨h8, ?_⟩, fun k hk => ⟨⟨fun z => ?_, fun z => ?_⟩, ⟨fun z => ?_, fun z => ?_⟩⟩, fun t ht => ⟨fun z => ?_, fun z => ?_⟩⟩
    · rw [e6] at z; exact absurd z (by decide)
    · rw [e6] at z; exact absurd z (by decide)
    · rcases hW with ⟨a, b, d⟩ | ⟨a, b⟩ | ⟨a, b⟩
      · exact Or.inl ⟨a, e19.trans b, d⟩
      · exact Or.inr (Or.inl ⟨a, e19.trans b⟩)
      · exact Or.inr (Or.inr ⟨a, e19.trans b⟩)
    · rcases (hm k hk f).mp z with w | ⟨-, w⟩ | ⟨w, -⟩
      · exact absurd w (nf k hk)
      · exact ⟨e6, ho, w⟩
      · omega
    · exact (hm k hk f).mpr (Or.inr (Or.inl ⟨rfl, z.2.2⟩))
    · rcases (hm k hk (f + 12)).mp z with w | ⟨w, -⟩ | ⟨-, w⟩
      · exact absurd w (nf' k hk)
      · omega
      · exact ⟨e6, w⟩
    · exact (hm k hk (f + 12)).mpr (Or.inr (Or.inr ⟨rfl, z.2⟩))
    · exact absurd (h2.symm.trans ((fd_iB I hf ht).mp z).1.1) (by decide)
    · have w : fd_op c f = 10 := z.1.2.1
      rcases ho with o | o | o <;> exact absurd (o.symm.trans w) (by decide)
  · obtain ⟨a, b, d, g, h⟩ := fd_iL I
    refine ⟨by rw [q4]; exact a, by rw [q4]; exact b, by rw [q5]; exact d, by rw [q5]; exact g, fun k hk => ⟨hnd k hk, fun l hl => ?_⟩⟩
    rcases (hm k hk l).mp hl with w | ⟨w, -⟩ | ⟨w, -⟩
    · exact (h k hk).2 l w
    · omega
    · omega
  · refine fd_Slp_sub (fd_iS I) rfl fun g hg z => ?_
    by_cases w : g = f
    · rw [w, e6] at z; exact absurd z (by decide)
    · rw [o6 g w] at z; exact ⟨z, rfl⟩
  · intro k hk
    have hmf : ∀ l, l ∈ q' k → l ∈ q k ∨ (l % 12 = f ∧ (fd_oa c f = nI k ∨ (fd_op c f = 8 ∧ fd_ob c f = nI k))) := by
      intro l hl
      rcases (hm k hk l).mp hl with w | ⟨w, w'⟩ | ⟨w, w1, w2, -⟩
      · exact Or.inl w
      · exact Or.inr ⟨by omega, Or.inl w'⟩
      · exact Or.inr ⟨by omega, Or.inr ⟨w1, w2⟩⟩
    by_cases hx : fd_oa c f = nI k ∨ (fd_op c f = 8 ∧ fd_ob c f = nI k)
    · by_cases o : fd_op c f = 6
      · refine Or.inl fun l hl => ?_
        rcases hmf l hl with w | ⟨w, -⟩
        · exact (hh k hk hx).1 o l w
        · rw [w]; exact o
      · refine Or.inr fun l hl => ?_
        rcases hmf l hl with w | ⟨w, -⟩
        · exact (hh k hk hx).2 o l w
        · rw [w]; exact o
    · have hmf' : ∀ l, l ∈ q' k → l ∈ q k := fun l hl => (hmf l hl).elim id fun z => absurd z.2 hx
      rcases fd_iH I k hk with z | z
      · exact Or.inl fun l hl => z l (hmf' l hl)
      · exact Or.inr fun l hl => z l (hmf' l hl)
/-! one link, two links -/
def fd_rq (q : Nat → List Nat) (k l : Nat) : Nat → List Nat := fd_sQ q k (q k ++ [l])
theorem fd_rq_hi {q : Nat → List Nat} {k l j : Nat} (hk : k < 4) (hj : 4 ≤ j) : fd_rq q k l j = q j := fd_sQ_n (by omega)
theorem fd_rq_s {q : Nat → List Nat} {k l : Nat} : fd_rq q k l k = q k ++ [l] := fd_sQ_s
theorem fd_rq_n {q : Nat → List Nat} {k l j : Nat} (h : j ≠ k) : fd_rq q k l j = q j := fd_sQ_n h
theorem fd_rq_mem {q : Nat → List Nat} {k l j x : Nat} : x ∈ fd_rq q k l j ↔ (x ∈ q j ∨ (x = l ∧ j = k)) := by
  by_cases e : j = k
  · subst e
    rw [fd_rq_s, List.mem_append, List.mem_singleton]
    exact ⟨fun z => z.imp id fun w => ⟨w, rfl⟩, fun z => z.imp id fun w => w.1⟩
  · rw [fd_rq_n e]
    exact ⟨Or.inl, fun z => z.elim id fun w => absurd w.2 e⟩
theorem fd_rq_nd {q : Nat → List Nat} {k l j : Nat} (hn : (q j).Nodup) (hl : l ∉ q j) : (fd_rq q k l j).Nodup := by
  by_cases e : j = k
  · subst e; rw [fd_rq_s]; exact fd_app1 hn hl
  · rw [fd_rq_n e]; exact hn
/-- f is in no list -/
theorem fd_out {e : Nat} {pd : Nat → Prop} {c : Nat → Nat → Int32} {q : Nat → List Nat} {f : Nat} (I : fd_Inv e pd c q) (hf : f < 12) (h2 : ¬ c 6 f = 1 ∧ ¬ c 6 f = 3 ∧ ¬ c 6 f = 4) : f ∉ q 4 ∧ f ∉ q 5 ∧ ∀ k, k < 4 → f ∉ q k ∧ f + 12 ∉ q k :=
  ⟨fun z => h2.1 ((fd_i4 I hf).mp z), fun z => h2.2.2 ((fd_i5 I hf).mp z), fun _ hk => ⟨fun z => h2.2.1 ((fd_iM I hf hk).1.mp z).1, fun z => h2.2.1 ((fd_iM I hf hk).2.mp z).1⟩⟩
theorem fd_on3 {x : Int32} (h : x = 2) : ¬ x = 1 ∧ ¬ x = 3 ∧ ¬ x = 4 := by subst h; decide
theorem fd_modf {e : Nat} {pd : Nat → Prop} {c : Nat → Nat → Int32} {q : Nat → List Nat} {f : Nat} (I : fd_Inv e pd c q) (hf : f < 12) (h2 : ¬ c 6 f = 1 ∧ ¬ c 6 f = 3 ∧ ¬ c 6 f = 4) : ∀ k, k < 4 → ∀ x, x ∈ q k → x % 12 ≠ f := by
  intro k hk x hx z
  have h24 := (fd_iN I k hk).2 x hx
  have o := (fd_out I hf h2).2.2 k hk
  by_cases w : x < 12
  · have : x = f := by omega
    exact o.1 (this ▸ hx)
  · have : x = f + 12 := by omega
    exact o.2 (this ▸ hx)
theorem fd_QS_r1 {e : Nat} {pd : Nat → Prop} {c : Nat → Nat → Int32} {q : Nat → List Nat} {f k : Nat} (I : fd_Inv e pd c q) (hf : f < 12) (h2 : ¬ c 6 f = 1 ∧ ¬ c 6 f = 3 ∧ ¬ c 6 f = 4) (hk : k < 4) : fd_QS q (fd_rq q k f) f := by
  have o := fd_modf I hf h2
  refine ⟨Or.inl (fd_rq_hi hk (by decide)), (fd_out I hf h2).1, (fd_iL I).2.1, fun j hj => ?_⟩
  by_cases w : j = k
  · subst w
    exact Or.inr ⟨f, Nat.mod_eq_of_lt hf, fd_rq_s, o j hj⟩
  · rw [fd_rq_n w]
    exact Or.inl ⟨List.Sublist.refl _, o j hj⟩
theorem fd_QS_r2 {e : Nat} {pd : Nat → Prop} {c : Nat → Nat → Int32} {q : Nat → List Nat} {f k d : Nat} (I : fd_Inv e pd c q) (hf : f < 12) (h2 : ¬ c 6 f = 1 ∧ ¬ c 6 f = 3 ∧ ¬ c 6 f = 4) (hk : k < 4) (hd : d < 4) (hkd : d ≠ k) : fd_QS q (fd_rq (fd_rq q k f) d (f + 12)) f := by
  have o := fd_modf I hf h2
  refine ⟨Or.inl ((fd_rq_hi hd (by decide)).trans (fd_rq_hi hk (by decide))), (fd_out I hf h2).1, (fd_iL I).2.1, fun j hj => ?_⟩
  by_cases w : j = d
  · subst w
    refine Or.inr ⟨f + 12, by omega, ?_, o j hj⟩
    rw [fd_rq_s, fd_rq_n hkd]
  · rw [fd_rq_n w]
    by_cases w : j = k
    · subst w
      exact Or.inr ⟨f, Nat.mod_eq_of_lt hf, fd_rq_s, o j hj⟩
    · rw [fd_rq_n w]
      exact Or.inl ⟨List.Sublist.refl _, o j hj⟩
end
section
/-! send -/
def fd_St (f : Nat) (r : Int32) (c c' : Nat → Nat → Int32) : Prop := (∀ h, h < 12 → h ≠ f → (c' 6 h = 2 ↔ c 6 h = 2)) ∧ ((r = 0 ∧ c' 6 f = 2) ∨ (r = 1 ∧ ¬ c' 6 f = 2)) ∧
  (c' 0 0 = c 0 0 ∧ c' 0 1 = c 0 1 ∧ c' 0 2 = c 0 2 ∧ c' 0 4 = c 0 4) ∧ c' 15 = c 15 ∧ c' 16 = c 16
def fd_Cm (e d f : Nat) (c : Nat → Nat → Int32) (q : Nat → List Nat) (WX : (Int32 → SX → Prop) → SX → Prop) (WY : (SY → Prop) → SY → Prop) : Prop :=
  ∃ r c1 q1, fd_Inv e fd_no c1 q1 ∧ fd_St f r c c1 ∧ (r = 0 → c1 8 f = c 8 f) ∧ fd_MX r c q c1 q1 WX ∧ (r = 0 → fd_LY d c q (fd_sC c1 8 f (c1 8 f + 1)) q1 WY) ∧ (r = 1 → fd_LY d c q c1 q1 WY)
theorem fd_LY_up {d d' : Nat} {c : Nat → Nat → Int32} {q : Nat → List Nat} {c' : Nat → Nat → Int32} {q' : Nat → List Nat} {W : (SY → Prop) → SY → Prop} (h : d ≤ d') (L : fd_LY d c q c' q' W) : fd_LY d' c q c' q' W :=
  fun N kx post hN K => L N kx post (by omega) (fun v' R' => K v' (fd_RY_up (by omega) R'))
theorem fd_Fe_St {f : Nat} {c c' : Nat → Nat → Int32} (h : fd_Fe f c c') (h6 : ¬ c' 6 f = 2) : fd_St f 1 c c' := by
  have z := h.2.2 0 (by decide) (by decide) (by decide) (by decide)
  exact ⟨h.1, Or.inr ⟨rfl, h6⟩, ⟨by rw [z], by rw [z], by rw [z], by rw [z]⟩, h.2.2 15 (by decide) (by decide) (by decide) (by decide), h.2.2 16 (by decide) (by decide) (by decide) (by decide)⟩
theorem fd_Fw_St {f : Nat} {c c' : Nat → Nat → Int32} (hf : f < 12) (h : fd_Fw c c') (h2 : c 6 f = 2) : fd_St f 0 c c' ∧ c' 8 f = c 8 f :=
  ⟨⟨fun g hg _ => h.1 g hg, Or.inl ⟨rfl, (h.1 f hf).mpr h2⟩, ⟨by rw [h.2.2.1], by rw [h.2.2.1], by rw [h.2.2.1], by rw [h.2.2.1]⟩, h.2.2.2.1, h.2.2.2.2⟩, (h.2.1 f hf h2).2.1⟩
theorem fd_rc_St {f : Nat} {c : Nat → Nat → Int32} {g20 : Nat → Int32} {y : Int32} : fd_St f 1 c (fd_rc c f g20 y) := by
  have e6 : fd_rc c f g20 y 6 f = 3 := pk_us
  refine ⟨fun h hh hhf => ?_, Or.inr ⟨rfl, by rw [e6]; decide⟩, ⟨rfl, rfl, rfl, rfl⟩, rfl, rfl⟩
  rw [show fd_rc c f g20 y 6 h = c 6 h from pk_un hhf]
theorem fd_xacc {e : Nat} {c : Nat → Nat → Int32} {q : Nat → List Nat} {k : Nat} {v : Int32} {post : Int32 → SX → Prop} (I : fd_Inv e fd_no c q) (hk : k < 4) (h : q k = [] ∨ fd_gv c q k)
    (K0 : c 14 k = c 11 k → ∀ u', fd_RX c q u' → post 0 u') (K1 : ∀ n, n < 3 → ¬ c 14 k = c 11 k → c 14 k = nI n → ∀ u', fd_RX (fd_ps c k n v) q u' → post 1 u') : ∀ u, fd_RX c q u → wpX_accepts post u (nI k) v := fd_elK fun sl hd mn fi th la ro nu bg fr bk bh bf wh pu h1 h2 h3 h4 h5 h6 R0 => by
  have hkc : (nI k).toNatClampNeg = k := nI_clamp (by omega)
  have hki : vp_in (nI k) 4 := vp_in_nI hk (by decide)
  obtain ⟨mc, n, hm, hn, e11, e14⟩ := (fd_iC I k hk).1
  have b33 : wX_accepts_33 post (nI k) v sl hd mn (c 0 0) (c 0 1) (c 0 3) (c 0 2) (c 1) fi (c 3) th (c 5) (c 6) (c 7) (c 8) (c 9) (c 20) (c 19) (c 10) la (c 18) ro (c 15) (c 16) nu bg (c 14) (c 11) (c 12) fr bk bh bf wh pu := by
    unfold wX_accepts_33
    rw [hkc]
    refine ⟨hki, hki, br_c (fun z => K0 z _ R0) fun z => ?_⟩
    have hnm : n ≠ mc := fun w => z (by rw [e11, e14, w])
    exact fd_xstore hk (by omega) e14 (fd_elK fun sl hd mn fi th la ro nu bg fr bk bh bf wh pu h1 h2 h3 h4 h5 h6 R0 => K1 n (by omega) z e14 _ R0) _ R0
  unfold wpX_accepts
  dsimp only
  rw [hkc]
  rcases h with h | h
  · have ef : fr k = -1 := by rw [(h3.1 k hk).1, h]; rfl
    rw [ef]
    exact ⟨hki, br_t fd_mlt b33⟩
  · obtain ⟨l, t, hq, hl, -, -⟩ := fd_gv_l I hk h
    have ef : fr k = nI l := by rw [(h3.1 k hk).1, hq]; rfl
    rw [ef]
    refine ⟨hki, br_f (nI_pos (by omega)) ?_⟩
    exact fd_xgivers I hk (fun _ => br_f fd_n10 b33) (fun z => absurd h z) _ R0
theorem fd_xaccR {e : Nat} {c : Nat → Nat → Int32} {q : Nat → List Nat} {c' : Nat → Nat → Int32} {q' : Nat → List Nat} {k l : Nat} {t : List Nat} {v : Int32} (I : fd_Inv e fd_no c q) (hk : k < 4) (hq : q k = l :: t) (hg : ¬ fd_gv c q k)
    (L : fd_LX c q c' q' (fun p u => wpX_wakeUp p u (nI (l % 12)) v)) : fd_MX 1 c q c' q' (fun p u => wpX_accepts p u (nI k) v) := fun post K => fd_elK fun sl hd mn fi th la ro nu bg fr bk bh bf wh pu h1 h2 h3 h4 h5 h6 R0 => by
  have hkc : (nI k).toNatClampNeg = k := nI_clamp (by omega)
  have hki : vp_in (nI k) 4 := vp_in_nI hk (by decide)
  have h24 := (fd_iN I k hk).2 l (by rw [hq]; exact List.mem_cons_self)
  have ef : fr k = nI l := by rw [(h3.1 k hk).1, hq]; rfl
  unfold wpX_accepts
  dsimp only
  rw [hkc, ef]
  refine ⟨hki, br_f (nI_pos (by omega)) ?_⟩
  refine fd_xgivers I hk (fun z => absurd z hg) (fun _ => br_t rfl ⟨hki, fd_n12, ?_⟩) _ R0
  rw [fd_rem12 h24]
  exact L _ (fd_elK fun sl hd mn fi th la ro nu bg fr bk bh bf wh pu h1 h2 h3 h4 h5 h6 R0 => K _ R0) _ R0
theorem fd_send {e : Nat} {c : Nat → Nat → Int32} {q : Nat → List Nat} {f k rb : Nat} (I : fd_Inv e fd_no c q) (hf : f < 12) (h2 : c 6 f = 2) (h8 : fd_In 12 (c 8 f)) (ho : fd_op c f = 6) (hk : k < 4) (ha : fd_oa c f = nI k) (hrb : rb < 3) (hb : fd_ob c f = nI rb) :
    fd_Cm e 12 f c q (fun p u => wpX_send p u (nI f) (nI k) (c 9 (3 * f + rb))) (fun p v => wpY_send p v (nI f) (nI k) (c 9 (3 * f + rb))) := by
  have hfc : (nI f).toNatClampNeg = f := nI_clamp (by omega)
  have hfi : vp_in (nI f) 12 := vp_in_nI hf (by decide)
  have hkc : (nI k).toNatClampNeg = k := nI_clamp (by omega)
  have hki : vp_in (nI k) 4 := vp_in_nI hk (by decide)
  have hout := fd_out I hf (fd_on3 h2)
  by_cases hcl : c 12 k = 0
  · obtain ⟨mc, n, hm, hn, e11, e14⟩ := (fd_iC I k hk).1
    have hcc : c 14 k = c 11 k ↔ n = mc := by rw [e11, e14, nI_eq (by omega) (by omega)]
    have hle : c 11 k ≤ c 14 k ↔ n = mc := by
      rw [e11, e14, nI_leI (by omega) (by omega)]; omega
    by_cases hr : q k = [] ∨ fd_gv c q k
    · have yf : ∀ {N kx : Nat} {post : Int32 → Prop}, N < 2 ^ 62 → post (-1) → ∀ v, fd_RY N kx c q v → wpY_first post v (nI k) 0 := by
        intro N kx post hN K
        refine fd_yfirst0 I hN hk (fun _ => K) (fun z => ?_)
        rcases hr with w | w
        · rw [w]; exact K
        · exact absurd w z
      by_cases hc : n = mc
      · -- it waits
        have I1 : fd_Inv e fd_no (fd_rc c f (upd (c 20) f (c 9 (3 * f + rb))) (-1)) (fd_rq q k f) := by
          refine fd_Irest I hf h2 h8 (Or.inl ho) (Or.inl ⟨ho, rfl, ?_⟩) (fun g hg => pk_un hg) (fd_rq_hi hk (by decide)) (fd_rq_hi hk (by decide)) (fun j hj x => ?_) (fun j hj => fd_rq_nd (fd_iN I j hj).1 (hout.2.2 j hj).1) (fun j hj hx => ⟨fun _ => ?_, fun z => absurd ho z⟩)
          · rw [pk_us, hb, nI_clamp (by omega)]
          · rw [fd_rq_mem, ha, nI_eq (show k < 2 ^ 31 by omega) (show j < 2 ^ 31 by omega)]
            constructor
            · rintro (z | ⟨z, w⟩)
              · exact Or.inl z
              · exact Or.inr (Or.inl ⟨z, w.symm⟩)
            · rintro (z | ⟨z, w⟩ | ⟨z, w, -⟩)
              · exact Or.inl z
              · exact Or.inr ⟨z, w.symm⟩
              · exact absurd (ho.symm.trans w) (by decide)
          · have ej : j = k := by
              rcases hx with w | ⟨w, -⟩
              · exact (fd_inj (ha.symm.trans w) (by omega) (by omega)).symm
              · exact absurd (ho.symm.trans w) (by decide)
            subst ej
            rcases hr with w | w
            · rw [w]; intro l hl; cases hl
            · exact fd_gv_all I hj w
        refine ⟨1, _, _, I1, fd_rc_St, fun z => absurd z fd_n10, fun post K => fd_elK fun sl hd mn fi th la ro nu bg fr bk bh bf wh pu h1 h2 h3 h4 h5 h6 R0 => ?_, fun z => absurd z fd_n10, fun _ => fd_LY_up (d := 1) (by decide) fun N kx post hN K => fd_elL fun m tf ts dn g1 g2 g3 S0 => ?_⟩
        · unfold wpX_send
          dsimp only
          rw [hkc]
          refine ⟨hki, br_t hcl ?_⟩
          refine fd_xacc I hk hr (fun _ => fd_elK fun sl hd mn fi th la ro nu bg fr bk bh bf wh pu h1 h2 h3 h4 h5 h6 R0 => br_t rfl ?_) (fun _ _ z => absurd (hcc.mpr hc) z) _ R0
          rw [hfc, fd_bm, fd_nb3]
          refine ⟨hfi, nm_e ⟨hfi, nm_e ⟨hfi, nm_e ?_⟩⟩⟩
          exact fd_xlink (c := fd_rc c f (upd (c 20) f (c 9 (3 * f + rb))) (-1)) (by omega) hk (fd_iN I) (fun j hj => (hout.2.2 j hj).1) (fd_elK fun sl hd mn fi th la ro nu bg fr bk bh bf wh pu h1 h2 h3 h4 h5 h6 R0 => K _ R0) _ (fd_inX h1 h2 h3 h4 h5 h6)
        · unfold wpY_send
          dsimp only
          refine yf (by omega) ?_ _ S0
          rw [hkc]
          refine ⟨hki, br_t hcl (br_t fd_mlt ⟨hki, hki, br_t (hle.mpr hc) ?_⟩)⟩
          exact fd_yrest (c := c) hf (fd_QS_r1 I hf (fd_on3 h2) hk) (fd_elL fun m tf ts dn g1 g2 g3 S0 => K _ (fd_inY g1 g2 g3)) _ S0
      · -- a number into the channel
        have I1 : fd_Inv e fd_no (fd_ps c k n (c 9 (3 * f + rb))) q := fd_Ips I hk hm (by omega) e11
        have ST := fd_Fw_St hf (fd_Fw_ps c k n (c 9 (3 * f + rb))) h2
        refine ⟨0, _, _, I1, ST.1, fun _ => rfl, fun post K => fd_elK fun sl hd mn fi th la ro nu bg fr bk bh bf wh pu h1 h2 h3 h4 h5 h6 R0 => ?_, fun _ => fd_LY_up (d := 0) (by decide) fun N kx post hN K => fd_elL fun m tf ts dn g1 g2 g3 S0 => ?_, fun z => absurd z fd_n01⟩
        · unfold wpX_send
          dsimp only
          rw [hkc]
          refine ⟨hki, br_t hcl ?_⟩
          refine fd_xacc I hk hr (fun z => absurd (hcc.mp z) hc) (fun n' hn' _ e' => ?_) _ R0
          have en : n' = n := fd_inj (e'.symm.trans e14) (by omega) (by omega)
          subst en
          exact fd_elK fun sl hd mn fi th la ro nu bg fr bk bh bf wh pu h1 h2 h3 h4 h5 h6 R0 => br_f fd_n10 (K _ R0)
        · unfold wpY_send
          dsimp only
          refine yf (by omega) ?_ _ S0
          rw [hkc, hfc]
          refine ⟨hki, br_t hcl (br_t fd_mlt ⟨hki, hki, br_f (fun z => hc (hle.mp z)) ⟨hki, hki, ?_⟩⟩)⟩
          rw [e14, nI_1, fd_3k, nI_add, nI_clamp (show 3 * k + n < 2 ^ 31 by omega)]
          exact nm_e ⟨vp_in_nI (by omega) (by decide), nm_e ⟨hfi, hfi, nm_e (K _ (fd_inY g1 g2 g3))⟩⟩
    · -- one that receives takes it
      obtain ⟨l, t, hq⟩ : ∃ l t, q k = l :: t := by
        cases hq : q k with
        | nil => exact absurd (Or.inl hq) hr
        | cons l t => exact ⟨l, t, rfl⟩
      have hg : ¬ fd_gv c q k := fun z => hr (Or.inr z)
      have hl : l ∈ q k := by rw [hq]; exact List.mem_cons_self
      obtain ⟨h12, hwa, w3⟩ := fd_iLk I hk hl
      have n6 := fd_gv_non I hk hg l hl
      have n10 : ¬ fd_op c (l % 12) = 10 := by
        intro z
        rcases hwa with w | w
        · rcases w.2.1 with o | o | o <;> exact absurd (o.symm.trans z) (by decide)
        · exact absurd (w.2.1.symm.trans z) (by decide)
      obtain ⟨r9, I1, h9, LX, LY, -⟩ := fd_wake (pd' := fd_no) (c 9 (3 * f + rb)) I h12 w3 (fun z => absurd z n10) (fun _ _ _ => Iff.rfl)
      have F := fd_Fr_wk (r9 := r9) w3 h9
      have ST := fd_Fw_St hf (fd_Fr_w F) h2
      have ehm : fd_hm (q k) = nI (l % 12) := by rw [hq]; rfl
      refine ⟨0, _, _, I1, ST.1, fun _ => ST.2, fun post K => fd_elK fun sl hd mn fi th la ro nu bg fr bk bh bf wh pu h1 h2 h3 h4 h5 h6 R0 => ?_, fun _ => fd_LY_up (d := 1) (by decide) fun N kx post hN K => fd_elL fun m tf ts dn g1 g2 g3 S0 => ?_, fun z => absurd z fd_n01⟩
      · unfold wpX_send
        dsimp only
        rw [hkc]
        refine ⟨hki, br_t hcl ?_⟩
        exact fd_xaccR I hk hq hg LX _ (fd_elK fun sl hd mn fi th la ro nu bg fr bk bh bf wh pu h1 h2 h3 h4 h5 h6 R0 => br_f fd_n10 (K _ R0)) _ R0
      · unfold wpY_send
        dsimp only
        refine fd_yfirst0 I (by omega) hk (fun z => absurd z hg) (fun _ => ?_) _ S0
        rw [hkc, ehm]
        refine ⟨hki, br_t hcl (br_f (nI_pos (by omega)) ?_)⟩
        refine LY n6 N kx _ hN (fd_elL fun m tf ts dn g1 g2 g3 S0 => ⟨hfi, hfi, ?_⟩) _ S0
        rw [hfc]
        exact nm_e (K _ (fd_inY g1 g2 g3))
  · -- the channel is closed
    obtain ⟨c', q', I', F', S', s6, X', Y'⟩ := fd_finish (how := 6) (fl := 1) I hf (Or.inl h2) (Or.inr ⟨rfl, rfl⟩)
    refine ⟨1, c', q', I', fd_Fe_St F' (by rw [s6]; decide), fun z => absurd z fd_n10, fun post K => fd_elK fun sl hd mn fi th la ro nu bg fr bk bh bf wh pu h1 h2 h3 h4 h5 h6 R0 => ?_, fun z => absurd z fd_n10, fun _ N kx post hN K => fd_elL fun m tf ts dn g1 g2 g3 S0 => ?_⟩
    · unfold wpX_send
      dsimp only
      rw [hkc]
      exact ⟨hki, br_f hcl (X' _ (fd_elK fun sl hd mn fi th la ro nu bg fr bk bh bf wh pu h1 h2 h3 h4 h5 h6 R0 => K _ R0) _ R0)⟩
    · unfold wpY_send
      dsimp only

      refine fd_yfirst0 I (by omega) hk (fun _ => ?_) (fun _ => ?_) _ S0
      · rw [hkc]
        exact ⟨hki, br_f hcl (Y' N kx _ hN (fd_elL fun m tf ts dn g1 g2 g3 S0 => K _ S0) _ S0)⟩
      · rw [hkc]
        exact ⟨hki, br_f hcl (Y' N kx _ hN (fd_elL fun m tf ts dn g1 g2 g3 S0 => K _ S0) _ S0)⟩
end
section
/-! a fibre on its carrier: registers, place -/
theorem fd_FibN {c : Nat → Nat → Int32} {q : Nat → List Nat} {p : Prop} {f : Nat} (a6 : fd_In 7 (c 6 f)) (a7 : fd_In 6 (c 7 f)) (a8 : fd_In 13 (c 8 f)) (h : ¬ c 6 f = 1 ∧ ¬ c 6 f = 3 ∧ ¬ c 6 f = 4) (n4 : f ∉ q 4) (n5 : f ∉ q 5)
    (nk : ∀ k, k < 4 → f ∉ q k ∧ f + 12 ∉ q k) (nb : ∀ t, t < 12 → ¬ (c 18 t).toNatClampNeg.testBit f = true) : fd_Fib c q p f :=
  ⟨a6, a7, a8, ⟨fun z => absurd z n4, fun z => absurd z h.1⟩, ⟨fun z => absurd z n5, fun z => absurd z h.2.2⟩, fun z => absurd z h.2.1, fun k hk => ⟨⟨fun z => absurd z (nk k hk).1, fun z => absurd z.1 h.2.1⟩, ⟨fun z => absurd z (nk k hk).2, fun z => absurd z.1 h.2.1⟩⟩, fun t ht => ⟨fun z => absurd z (nb t ht), fun z => absurd z.1.1 h.2.1⟩⟩
theorem fd_nbit {e : Nat} {pd : Nat → Prop} {c : Nat → Nat → Int32} {q : Nat → List Nat} {f : Nat} (I : fd_Inv e pd c q) (hf : f < 12) (h : ¬ c 6 f = 3) : ∀ t, t < 12 → ¬ (c 18 t).toNatClampNeg.testBit f = true := fun _ ht z => h ((fd_iB I hf ht).mp z).1.1
theorem fd_Ion {e : Nat} {pd : Nat → Prop} {c : Nat → Nat → Int32} {q : Nat → List Nat} {f : Nat} {r9 : Nat → Int32} {y : Int32} (I : fd_Inv e pd c q) (hf : f < 12) (h2 : c 6 f = 2) (h9 : ∀ g, g < 12 → g ≠ f → ∀ r, r < 3 → r9 (3 * g + r) = c 9 (3 * g + r)) (hy : fd_In 13 y) : fd_Inv e pd (fd_sC (fd_sA c 9 r9) 8 f y) q := by
  have o := fd_out I hf (fd_on3 h2)
  have e8 : fd_sC (fd_sA c 9 r9) 8 f y 8 f = y := pk_us
  have o8 : ∀ g, g ≠ f → fd_sC (fd_sA c 9 r9) 8 f y 8 g = c 8 g := fun g hg => pk_un hg
  have nb := fd_nbit I hf (fd_on3 h2).2.1
  have iC := fd_iC I
  have iJ := fd_iJ I
  have iL := fd_iL I
  have iS := fd_iS I
  refine fd_Imove I hf I.1 ⟨rfl, rfl, rfl, rfl, rfl⟩ iC iJ (fun g hg hgf => ⟨rfl, rfl, o8 g hgf, rfl, rfl, h9 g hg hgf, fun _ _ => Iff.rfl, fun _ _ => Iff.rfl⟩) (fun g hg hgf t ht => fd_iB I hg ht) ?_ iL iS ?_
  · exact fd_FibN (fd_iF I hf).1 (fd_i7 I hf) (by rw [e8]; exact hy) (fd_on3 h2) o.1 o.2.1 o.2.2 nb
  · refine fd_Hom_sub (fd_iH I) fun k hk l hl => ⟨hl, fd_op_same rfl rfl (o8 _ (fd_modf I hf (fd_on3 h2) k hk l hl))⟩
theorem fd_Ireg {e : Nat} {pd : Nat → Prop} {c : Nat → Nat → Int32} {q : Nat → List Nat} {f : Nat} {r9 : Nat → Int32} (I : fd_Inv e pd c q) (hf : f < 12) (h2 : c 6 f = 2) (h9 : ∀ g, g < 12 → g ≠ f → ∀ r, r < 3 → r9 (3 * g + r) = c 9 (3 * g + r)) : fd_Inv e pd (fd_sA c 9 r9) q := by
  have o := fd_out I hf (fd_on3 h2)
  have nb := fd_nbit I hf (fd_on3 h2).2.1
  have iC := fd_iC I
  have iJ := fd_iJ I
  have iL := fd_iL I
  have iS := fd_iS I
  have iH := fd_iH I
  refine fd_Imove I hf I.1 ⟨rfl, rfl, rfl, rfl, rfl⟩ iC iJ (fun g hg hgf => ⟨rfl, rfl, rfl, rfl, rfl, h9 g hg hgf, fun _ _ => Iff.rfl, fun _ _ => Iff.rfl⟩) (fun g hg hgf t ht => fd_iB I hg ht) ?_ iL iS iH
  exact fd_FibN (fd_iF I hf).1 (fd_i7 I hf) (fd_i8 I hf) (fd_on3 h2) o.1 o.2.1 o.2.2 nb
theorem fd_u9 {c9 : Nat → Int32} {f r : Nat} {v : Int32} (hr : r < 3) : ∀ g, g < 12 → g ≠ f → ∀ s, s < 3 → upd c9 (3 * f + r) v (3 * g + s) = c9 (3 * g + s) := fun g hg hgf s hs => pk_un (by omega)
/-! receive -/
theorem fd_receive {e : Nat} {c : Nat → Nat → Int32} {q : Nat → List Nat} {f k d r s : Nat} (I : fd_Inv e fd_no c q) (hf : f < 12) (h2 : c 6 f = 2) (h8 : fd_In 12 (c 8 f)) (hk : k < 4) (hd4 : d < 4) (hr : r < 3)
    (ho : (fd_op c f = 7 ∧ fd_oa c f = nI k ∧ d = k ∧ fd_ob c f = nI r) ∨ (fd_op c f = 8 ∧ fd_oa c f = nI k ∧ fd_ob c f = nI d ∧ fd_oc c f = nI r))
    (hs : (s = k ∧ (fd_hs c q k ∨ ¬ fd_hs c q d)) ∨ (s = d ∧ ¬ fd_hs c q k ∧ fd_hs c q d)) :
    fd_Cm e 12 f c q (fun p u => wpX_receive p u (nI f) (nI k) (nI d) (nI r)) (fun p v => wpY_receive p v (nI f) (nI s) (nI (3 * f + r))) := by
  have hfc : (nI f).toNatClampNeg = f := nI_clamp (by omega)
  have hfi : vp_in (nI f) 12 := vp_in_nI hf (by decide)
  have hrc : (nI (3 * f + r)).toNatClampNeg = 3 * f + r := nI_clamp (by omega)
  have hri : vp_in (nI (3 * f + r)) 36 := vp_in_nI (by omega) (by decide)
  have er : 3 * nI f + nI r = nI (3 * f + r) := by rw [fd_3k, nI_add]
  have hout := fd_out I hf (fd_on3 h2)
  by_cases hh : fd_hs c q s
  · -- something is there
    have hs4 : s < 4 := by rcases hs with ⟨rfl, -⟩ | ⟨rfl, -⟩ <;> assumption
    obtain ⟨v, c', q', I', F', X', Y'⟩ := fd_take I hs4
    have h2' : c' 6 f = 2 := (F'.1 f hf).mpr h2
    have I1 : fd_Inv e fd_no (fd_sA c' 9 (upd (c' 9) (3 * f + r) v)) q' := fd_Ireg I' hf h2' (fd_u9 hr)
    have ST := fd_Fw_St hf F' h2
    refine ⟨0, fd_sA c' 9 (upd (c' 9) (3 * f + r) v), q', I1, ST.1, fun _ => ST.2, fun post K => fd_elK fun sl hd mn fi th la ro nu bg fr bk bh bf wh pu h1 h2 h3 h4 h5 h6 R0 => ?_, fun _ => fd_LY_up (d := 1) (by decide) fun N kx post hN K => fd_elL fun m tf ts dn g1 g2 g3 S0 => ?_, fun z => absurd z fd_n01⟩
    · have go : wX_receive_35 post (nI f) (nI r) (nI s) sl hd mn (c 0 0) (c 0 1) (c 0 3) (c 0 2) (c 1) fi (c 3) th (c 5) (c 6) (c 7) (c 8) (c 9) (c 20) (c 19) (c 10) la (c 18) ro (c 15) (c 16) nu bg (c 14) (c 11) (c 12) fr bk bh bf wh pu := by
        unfold wX_receive_35
        refine X' _ (fd_elK fun sl hd mn fi th la ro nu bg fr bk bh bf wh pu h1 h2 h3 h4 h5 h6 R0 => ?_) _ R0
        rw [er, hrc]
        exact ⟨hri, nm_e (K _ (fd_inX h1 h2 h3 h4 h5 h6))⟩
      unfold wpX_receive
      dsimp only
      refine fd_xhasSome I hk (fun z1 => ?_) (fun z1 => ?_) _ R0
      · have es : s = k := by
          rcases hs with ⟨w, -⟩ | ⟨-, w, -⟩
          · exact w
          · exact absurd z1 w
        rw [es] at go
        refine fd_xhasSome I hd4 (fun z2 => ?_) (fun z2 => ?_) _ R0
        · exact br_f fd_n10 (br_f fd_n10 go)
        · exact br_f fd_n10 (br_f fd_n10 go)
      · refine fd_xhasSome I hd4 (fun z2 => ?_) (fun z2 => ?_) _ R0
        · have es : s = d := by
            rcases hs with ⟨w, w'⟩ | ⟨w, -, -⟩
            · rcases w' with w' | w'
              · exact absurd w' z1
              · exact absurd z2 w'
            · exact w
          rw [es] at go
          exact br_t rfl (br_f fd_n10 (br_t rfl go))
        · exfalso
          rcases hs with ⟨w, w'⟩ | ⟨w, -, w'⟩
          · rw [w] at hh; exact z1 hh
          · exact z2 w'
    · unfold wpY_receive
      dsimp only
      refine fd_ywould I (by omega) hs4 (fun z => absurd hh z) (fun _ => br_t rfl ?_) _ S0
      refine Y' N kx _ hN (fd_elL fun m tf ts dn g1 g2 g3 S0 => ?_) _ S0
      rw [hrc, hfc]
      exact ⟨hri, nm_e ⟨hfi, hfi, nm_e (K _ (fd_inY g1 g2 g3))⟩⟩
  · -- it waits
    have es : s = k := by
      rcases hs with ⟨w, -⟩ | ⟨w, -, w'⟩
      · exact w
      · rw [w] at hh; exact absurd w' hh
    subst es
    have hd4' : ¬ fd_hs c q d := by
      rcases hs with ⟨-, w⟩ | ⟨w, -, w'⟩
      · exact w.elim (fun z => absurd z hh) id
      · rw [w] at hh; exact absurd w' hh
    have ng : ∀ j, ¬ fd_hs c q j → ¬ fd_gv c q j := fun j z w => z (Or.inr (Or.inr w))
    have e19 : vp_nar .byte (nI r).toInt8.toInt32 = nI r := fd_nbN (by omega)
    have hW : (fd_op c f = 6 ∧ nI r = -1 ∧ c 20 f = c 9 (3 * f + (fd_ob c f).toNatClampNeg)) ∨ ((fd_op c f = 7 ∨ fd_op c f = 10) ∧ nI r = fd_ob c f) ∨ (fd_op c f = 8 ∧ nI r = fd_oc c f) := by
      rcases ho with ⟨o, -, -, w⟩ | ⟨o, -, -, w⟩
      · exact Or.inr (Or.inl ⟨Or.inl o, w.symm⟩)
      · exact Or.inr (Or.inr ⟨o, w.symm⟩)
    have ho' : fd_op c f = 6 ∨ fd_op c f = 7 ∨ fd_op c f = 8 := by
      rcases ho with ⟨o, -⟩ | ⟨o, -⟩
      · exact Or.inr (Or.inl o)
      · exact Or.inr (Or.inr o)
    have n6 : ¬ fd_op c f = 6 := by
      intro z
      rcases ho with ⟨o, -⟩ | ⟨o, -⟩ <;> exact absurd (o.symm.trans z) (by decide)
    have ha : fd_oa c f = nI s := by
      rcases ho with ⟨-, w, -⟩ | ⟨-, w, -⟩ <;> exact w
    have hhh : ∀ j, j < 4 → (fd_oa c f = nI j ∨ (fd_op c f = 8 ∧ fd_ob c f = nI j)) → (fd_op c f = 6 → ∀ l, l ∈ q j → fd_op c (l % 12) = 6) ∧ (¬ fd_op c f = 6 → ∀ l, l ∈ q j → ¬ fd_op c (l % 12) = 6) := by
      intro j hj hx
      refine ⟨fun z => absurd z n6, fun _ => fd_gv_non I hj (ng j ?_)⟩
      rcases hx with w | ⟨w, w'⟩
      · have : s = j := fd_inj (ha.symm.trans w) (by omega) (by omega)
        rw [← this]; exact hh
      · rcases ho with ⟨o, -⟩ | ⟨-, -, o, -⟩
        · exact absurd (o.symm.trans w) (by decide)
        · have : d = j := fd_inj (o.symm.trans w') (by omega) (by omega)
          rw [← this]; exact hd4'
    by_cases hsd : d = s
    · -- one link
      have I1 : fd_Inv e fd_no (fd_rc c f (c 20) (nI r)) (fd_rq q s f) := by
        refine fd_Irest I hf h2 h8 ho' hW (fun _ _ => rfl) (fd_rq_hi hk (by decide)) (fd_rq_hi hk (by decide)) (fun j hj x => ?_) (fun j hj => fd_rq_nd (fd_iN I j hj).1 (hout.2.2 j hj).1) hhh
        rw [fd_rq_mem, ha, nI_eq (show s < 2 ^ 31 by omega) (show j < 2 ^ 31 by omega)]
        constructor
        · rintro (z | ⟨z, w⟩)
          · exact Or.inl z
          · exact Or.inr (Or.inl ⟨z, w.symm⟩)
        · rintro (z | ⟨z, w⟩ | ⟨z, w1, w2, w3⟩)
          · exact Or.inl z
          · exact Or.inr ⟨z, w.symm⟩
          · exfalso
            rcases ho with ⟨o, -⟩ | ⟨-, -, o, -⟩
            · exact absurd (o.symm.trans w1) (by decide)
            · apply w3
              have := fd_inj (o.symm.trans w2) (by omega) (by omega)
              omega
      refine ⟨1, _, _, I1, fd_rc_St, fun z => absurd z fd_n10, fun post K => fd_elK fun sl hd mn fi th la ro nu bg fr bk bh bf wh pu h1 h2 h3 h4 h5 h6 R0 => ?_, fun z => absurd z fd_n10, fun _ => fd_LY_up (d := 1) (by decide) fun N kx post hN K => fd_elL fun m tf ts dn g1 g2 g3 S0 => ?_⟩
      · unfold wpX_receive
        dsimp only
        refine fd_xhasSome I hk (fun z => absurd z hh) (fun _ => ?_) _ R0
        refine fd_xhasSome I hd4 (fun z => absurd z hd4') (fun _ => br_t rfl (br_t rfl ?_)) _ R0
        rw [hfc, e19, fd_nb3]
        refine ⟨hfi, nm_e ⟨hfi, nm_e ?_⟩⟩
        refine fd_xlink (c := fd_rc c f (c 20) (nI r)) (by omega) hk (fd_iN I) (fun j hj => (hout.2.2 j hj).1) (fd_elK fun sl hd mn fi th la ro nu bg fr bk bh bf wh pu h1 h2 h3 h4 h5 h6 R0 => br_t (by rw [hsd]) (K _ R0)) _ (fd_inX h1 h2 h3 h4 h5 h6)
      · unfold wpY_receive
        dsimp only
        refine fd_ywould I (by omega) hk (fun _ => br_f fd_n10 ?_) (fun z => absurd z hh) _ S0
        exact fd_yrest (c := c) hf (fd_QS_r1 I hf (fd_on3 h2) hk) (fd_elL fun m tf ts dn g1 g2 g3 S0 => K _ (fd_inY g1 g2 g3)) _ S0
    · -- two links
      have ho8 : fd_op c f = 8 ∧ fd_ob c f = nI d := by
        rcases ho with ⟨-, -, o, -⟩ | ⟨o, -, o', -⟩
        · exact absurd o hsd
        · exact ⟨o, o'⟩
      have I1 : fd_Inv e fd_no (fd_rc c f (c 20) (nI r)) (fd_rq (fd_rq q s f) d (f + 12)) := by
        refine fd_Irest I hf h2 h8 ho' hW (fun _ _ => rfl) ((fd_rq_hi hd4 (by decide)).trans (fd_rq_hi hk (by decide))) ((fd_rq_hi hd4 (by decide)).trans (fd_rq_hi hk (by decide))) (fun j hj x => ?_) (fun j hj => fd_rq_nd (fd_rq_nd (fd_iN I j hj).1 (hout.2.2 j hj).1) ?_) hhh
        · rw [fd_rq_mem, fd_rq_mem, ha, nI_eq (show s < 2 ^ 31 by omega) (show j < 2 ^ 31 by omega), ho8.2, nI_eq (show d < 2 ^ 31 by omega) (show j < 2 ^ 31 by omega)]
          constructor
          · rintro ((z | ⟨z, w⟩) | ⟨z, w⟩)
            · exact Or.inl z
            · exact Or.inr (Or.inl ⟨z, w.symm⟩)
            · exact Or.inr (Or.inr ⟨z, ho8.1, w.symm, by omega⟩)
          · rintro (z | ⟨z, w⟩ | ⟨z, w1, w2, w3⟩)
            · exact Or.inl (Or.inl z)
            · exact Or.inl (Or.inr ⟨z, w.symm⟩)
            · exact Or.inr ⟨z, w2.symm⟩
        · rw [fd_rq_mem]
          rintro (z | ⟨z, -⟩)
          · exact (hout.2.2 j hj).2 z
          · omega
      have hn1 : fd_HN (fd_rq q s f) := by
        intro j hj
        refine ⟨fd_rq_nd (fd_iN I j hj).1 (hout.2.2 j hj).1, fun l hl => ?_⟩
        rcases fd_rq_mem.mp hl with z | ⟨z, -⟩
        · exact (fd_iN I j hj).2 l z
        · omega
      refine ⟨1, _, _, I1, fd_rc_St, fun z => absurd z fd_n10, fun post K => fd_elK fun sl hd mn fi th la ro nu bg fr bk bh bf wh pu h1 h2 h3 h4 h5 h6 R0 => ?_, fun z => absurd z fd_n10, fun _ => fd_LY_up (d := 1) (by decide) fun N kx post hN K => fd_elL fun m tf ts dn g1 g2 g3 S0 => ?_⟩
      · unfold wpX_receive
        dsimp only
        refine fd_xhasSome I hk (fun z => absurd z hh) (fun _ => ?_) _ R0
        refine fd_xhasSome I hd4 (fun z => absurd z hd4') (fun _ => br_t rfl (br_t rfl ?_)) _ R0
        rw [hfc, e19, fd_nb3]
        refine ⟨hfi, nm_e ⟨hfi, nm_e ?_⟩⟩
        refine fd_xlink (c := fd_rc c f (c 20) (nI r)) (by omega) hk (fd_iN I) (fun j hj => (hout.2.2 j hj).1) (fd_elK fun sl hd mn fi th la ro nu bg fr bk bh bf wh pu h1 h2 h3 h4 h5 h6 R0 => br_f (fun z => hsd (fd_inj z (by omega) (by omega))) ?_) _ (fd_inX h1 h2 h3 h4 h5 h6)
        rw [show nI f + 12 = nI (f + 12) from nI_add f 12]
        refine fd_xlink (q := fd_rq q s f) (by omega) hd4 hn1 (fun j hj z => ?_) (fd_elK fun sl hd mn fi th la ro nu bg fr bk bh bf wh pu h1 h2 h3 h4 h5 h6 R0 => K _ R0) _ R0
        rcases fd_rq_mem.mp z with z | ⟨z, -⟩
        · exact (hout.2.2 j hj).2 z
        · omega
      · unfold wpY_receive
        dsimp only
        refine fd_ywould I (by omega) hk (fun _ => br_f fd_n10 ?_) (fun z => absurd z hh) _ S0
        exact fd_yrest (c := c) hf (fd_QS_r2 I hf (fd_on3 h2) hk hd4 hsd) (fd_elL fun m tf ts dn g1 g2 g3 S0 => K _ (fd_inY g1 g2 g3)) _ S0
end
section
/-! start -/
def fd_aw (c : Nat → Nat → Int32) (f : Nat) : Prop := c 6 f = 1 ∨ c 6 f = 2 ∨ c 6 f = 3 ∨ c 6 f = 4
theorem fd_aw_le {x : Int32} (h : fd_In 7 x) : (x ≤ 0 ∨ 5 ≤ x) ↔ ¬ (x = 1 ∨ x = 2 ∨ x = 3 ∨ x = 4) := by
  obtain ⟨s, hs, rfl⟩ := h
  have : s = 0 ∨ s = 1 ∨ s = 2 ∨ s = 3 ∨ s = 4 ∨ s = 5 ∨ s = 6 := by omega
  rcases this with rfl | rfl | rfl | rfl | rfl | rfl | rfl <;> decide
theorem fd_aw_in {x : Int32} (h : fd_In 7 x) : (x < 1 ∨ 4 < x) ↔ ¬ (x = 1 ∨ x = 2 ∨ x = 3 ∨ x = 4) := by
  obtain ⟨s, hs, rfl⟩ := h
  have : s = 0 ∨ s = 1 ∨ s = 2 ∨ s = 3 ∨ s = 4 ∨ s = 5 ∨ s = 6 := by omega
  rcases this with rfl | rfl | rfl | rfl | rfl | rfl | rfl <;> decide
theorem fd_xaw {e : Nat} {pd : Nat → Prop} {c : Nat → Nat → Int32} {q : Nat → List Nat} {f : Nat} {post : Int32 → Prop} (I : fd_Inv e pd c q) (hf : f < 12) (K1 : fd_aw c f → post 1) (K0 : ¬ fd_aw c f → post 0) : ∀ u, fd_RX c q u → wpX_atWork post u (nI f) := fd_elK fun sl hd mn fi th la ro nu bg fr bk bh bf wh pu h1 h2 h3 h4 h5 h6 R0 => by
  have hfc : (nI f).toNatClampNeg = f := nI_clamp (by omega)
  have hfi : vp_in (nI f) 12 := vp_in_nI hf (by decide)
  have h := fd_aw_le (fd_iF I hf).1
  unfold wpX_atWork
  dsimp only
  rw [hfc]
  refine ⟨hfi, br_c (fun a => K0 (h.mp (Or.inl a))) fun a => ⟨hfi, br_c (fun b => K0 (h.mp (Or.inr b))) fun b => K1 ?_⟩⟩
  refine Classical.byContradiction fun z => ?_
  rcases h.mpr z with w | w
  · exact a w
  · exact b w
theorem fd_nb01 {r : Int32} (h : r = 0 ∨ r = 1) : narrow .boolean (.int r) = .int r := by
  rcases h with rfl | rfl <;> rfl
theorem fd_yaw {e N kx : Nat} {pd : Nat → Prop} {c : Nat → Nat → Int32} {q : Nat → List Nat} {f : Nat} {post : Int32 → Prop} (I : fd_Inv e pd c q) (hf : f < 12) (K1 : fd_aw c f → post 1) (K0 : ¬ fd_aw c f → post 0) : ∀ v, fd_RY N kx c q v → wpY_isAtWork post v (nI f) := fd_elL fun m tf ts dn g1 g2 g3 S0 => by
  have hfc : (nI f).toNatClampNeg = f := nI_clamp (by omega)
  have hfi : vp_in (nI f) 12 := vp_in_nI hf (by decide)
  have h := fd_aw_in (fd_iF I hf).1
  unfold wpY_isAtWork
  dsimp only
  rw [hfc]
  refine ⟨hfi, br_c (fun a => ⟨rfl, K0 (h.mp (Or.inl a))⟩) fun a => br_c (fun b => ⟨rfl, K0 (h.mp (Or.inr b))⟩) fun b => ⟨rfl, K1 ?_⟩⟩
  refine Classical.byContradiction fun z => ?_
  rcases h.mpr z with w | w
  · exact a w
  · exact b w
/-- the first one that isn't at work -/
theorem fd_room (c : Nat → Nat → Int32) : ∃ j, j ≤ 12 ∧ (∀ i, i < j → fd_aw c i) ∧ (j = 12 ∨ ¬ fd_aw c j) := by
  obtain ⟨j, hj, hm⟩ := pk_least (fun j => j = 12 ∨ ¬ fd_aw c j) ⟨12, Or.inl rfl⟩
  refine ⟨j, ?_, fun i hi => ?_, hj⟩
  · refine Classical.byContradiction fun z => hm 12 (by omega) (Or.inl rfl)
  · exact Classical.byContradiction fun z => hm i hi (Or.inr z)
theorem fd_ne12 {j : Nat} (h : j < 12) : ¬ nI j = 12 := fun z => by
  have := fd_inj (b := 12) z (by omega) (by decide)
  omega
theorem fd_xfresh {e j : Nat} {pd : Nat → Prop} {c : Nat → Nat → Int32} {q : Nat → List Nat} {post : Int32 → Prop} (I : fd_Inv e pd c q) (hj : j ≤ 12) (ha : ∀ i, i < j → fd_aw c i) (hb : j = 12 ∨ ¬ fd_aw c j) (K12 : j = 12 → post (-1)) (K : j < 12 → post (nI j)) : ∀ u, fd_RX c q u → wpX_fresh post u := fd_elK fun sl hd mn fi th la ro nu bg fr bk bh bf wh pu h1 h2 h3 h4 h5 h6 R0 => by
  have loop : ∀ n i, i ≤ j → j - i < n → wX_fresh_2 post sl hd mn (c 0 0) (c 0 1) (c 0 3) (c 0 2) (c 1) fi (c 3) th (c 5) (c 6) (c 7) (c 8) (c 9) (c 20) (c 19) (c 10) la (c 18) ro (c 15) (c 16) nu bg (c 14) (c 11) (c 12) fr bk bh bf wh pu n (nI i) := by
    intro n
    induction n with
    | zero => intro i _ h; omega
    | succ n ih =>
      intro i hi hn
      by_cases h12 : i = 12
      · have ej : j = 12 := by omega
        subst h12
        exact br_t fd_le12 (br_t rfl (K12 ej))
      · refine br_f (fd_ng12 (by omega)) ?_
        refine fd_xaw I (by omega) (fun w => br_f fd_n10 ?_) (fun w => br_t rfl ?_) _ R0
        · have hij : i ≠ j := by
            intro z
            subst z
            rcases hb with z | z
            · exact h12 z
            · exact z w
          exact nm_r (nI_1 i) (ih (i + 1) (by omega) (by omega))
        · have hij : i = j := by
            refine Classical.byContradiction fun z => w (ha i (by omega))
          subst hij
          exact br_f (fd_ne12 (by omega)) (K (by omega))
  exact ⟨13, loop 13 0 (by omega) (by omega)⟩
theorem fd_yroom {e j N kx : Nat} {pd : Nat → Prop} {c : Nat → Nat → Int32} {q : Nat → List Nat} {post : Int32 → Prop} (I : fd_Inv e pd c q) (hj : j ≤ 12) (ha : ∀ i, i < j → fd_aw c i) (hb : j = 12 ∨ ¬ fd_aw c j) (K12 : j = 12 → post (-1)) (K : j < 12 → post (nI j)) : ∀ v, fd_RY N kx c q v → wpY_room post v := fd_elL fun m tf ts dn g1 g2 g3 S0 => by
  have loop : ∀ n i, i ≤ j → j - i < n → wY_room_2 post (c 0 0) (c 0 1) (c 0 2) (c 0 3) (lN m) (c 0 4) (c 1) (c 2) (c 3) (c 4) (c 5) (c 6) (c 7) (c 8) (c 9) (c 10) ts (c 11) (c 12) (c 13) (c 14) (c 15) dn (c 17) n (nI i) := by
    intro n
    induction n with
    | zero => intro i _ h; omega
    | succ n ih =>
      intro i hi hn
      by_cases h12 : i = 12
      · have ej : j = 12 := by omega
        subst h12
        exact br_t fd_le12 (K12 ej)
      · refine br_f (fd_ng12 (by omega)) ?_
        refine fd_yaw I (by omega) (fun w => br_f fd_n10 ?_) (fun w => br_t rfl ?_) _ S0
        · have hij : i ≠ j := by
            intro z
            subst z
            rcases hb with z | z
            · exact h12 z
            · exact z w
          exact nm_r (nI_1 i) (ih (i + 1) (by omega) (by omega))
        · have hij : i = j := by
            refine Classical.byContradiction fun z => w (ha i (by omega))
          subst hij
          exact K (by omega)
  exact ⟨13, loop 13 0 (by omega) (by omega)⟩
/-! outside, within -/
theorem fd_xout {post : Int32 → Prop} {x lo hi : Int32} (K0 : lo ≤ x → x ≤ hi → post 0) (K1 : ¬ (lo ≤ x ∧ x ≤ hi) → post 1) : wpX_outside post x lo hi := by
  unfold wpX_outside wX_outside_10
  refine br_c (fun a => br_c (fun b => ⟨rfl, K0 a b⟩) fun b => ⟨rfl, K1 fun z => b z.2⟩) fun a => br_c (fun b => ⟨rfl, K1 fun z => a z.1⟩) fun b => ⟨rfl, K1 fun z => a z.1⟩
theorem fd_ywit {post : Int32 → Prop} {x lo hi : Int32} (K1 : lo ≤ x → x ≤ hi → post 1) (K0 : ¬ (lo ≤ x ∧ x ≤ hi) → post 0) : wpY_within post x lo hi := by
  unfold wpY_within
  refine br_c (fun a => K0 fun z => absurd z.1 (Int32.not_le.mpr a)) fun a => br_c (fun b => K0 fun z => absurd z.2 (Int32.not_le.mpr b)) fun b => K1 (Int32.not_lt.mp a) (Int32.not_lt.mp b)
theorem fd_rng {x : Int32} {n : Nat} (hn : n < 2 ^ 31) (h0 : 0 ≤ x) (h1 : x ≤ nI n) : ∃ j, j ≤ n ∧ x = nI j := nI_of2 (M := nI n) (nI_toInt hn) (Int32.not_lt.mpr h0) h1
end
section
theorem fd_modg {e : Nat} {pd : Nat → Prop} {c : Nat → Nat → Int32} {q : Nat → List Nat} {f : Nat} (I : fd_Inv e pd c q) (hf : f < 12) (h2 : ¬ c 6 f = 3) : (∀ k, k < 4 → f ∉ q k ∧ f + 12 ∉ q k) ∧ ∀ k, k < 4 → ∀ x, x ∈ q k → x % 12 ≠ f := by
  have o : ∀ k, k < 4 → f ∉ q k ∧ f + 12 ∉ q k := fun _ hk => ⟨fun z => h2 ((fd_iM I hf hk).1.mp z).1, fun z => h2 ((fd_iM I hf hk).2.mp z).1⟩
  refine ⟨o, fun k hk x hx z => ?_⟩
  have h24 := (fd_iN I k hk).2 x hx
  by_cases w : x < 12
  · have : x = f := by omega
    exact (o k hk).1 (this ▸ hx)
  · have : x = f + 12 := by omega
    exact (o k hk).2 (this ▸ hx)
def fd_aq (q : Nat → List Nat) (f : Nat) : Nat → List Nat := fd_sQ q 4 (q 4 ++ [f])
theorem fd_aq_lo {q : Nat → List Nat} {f k : Nat} (h : k < 4) : fd_aq q f k = q k := fd_sQ_n (by omega)
theorem fd_QS_a {e : Nat} {pd : Nat → Prop} {c : Nat → Nat → Int32} {q : Nat → List Nat} {f : Nat} (I : fd_Inv e pd c q) (hf : f < 12) (h1 : ¬ c 6 f = 1) (h3 : ¬ c 6 f = 3) : fd_QS q (fd_aq q f) f := by
  refine ⟨Or.inr rfl, fun z => h1 ((fd_i4 I hf).mp z), (fd_iL I).2.1, fun k hk => Or.inl ⟨?_, fun x hx => ?_⟩⟩
  · rw [fd_aq_lo hk]; exact List.Sublist.refl _
  · rw [fd_aq_lo hk] at hx; exact (fd_modg I hf h3).2 k hk x hx
def fd_r3 (h : Nat → Int32) (j : Nat) (v : Int32) : Nat → Int32 := upd (upd (upd h (3 * j) v) (3 * j + 1) 0) (3 * j + 2) 0
def fd_sc (c : Nat → Nat → Int32) (j p : Nat) (v : Int32) : Nat → Nat → Int32 := fd_sC (fd_sC (fd_sC (fd_sA c 9 (fd_r3 (c 9) j v)) 8 j 0) 7 j (nI p)) 6 j 1
theorem fd_r3_n {h : Nat → Int32} {j : Nat} {v : Int32} : ∀ g, g < 12 → g ≠ j → ∀ r, r < 3 → fd_r3 h j v (3 * g + r) = h (3 * g + r) := by
  intro g hg hgj r hr
  unfold fd_r3
  rw [pk_un (by omega), pk_un (by omega), pk_un (by omega)]
theorem fd_Istart {e : Nat} {pd : Nat → Prop} {c : Nat → Nat → Int32} {q : Nat → List Nat} {j p : Nat} {v : Int32} (I : fd_Inv e pd c q) (hj : j < 12) (hp : p < 6) (ha : ¬ fd_aw c j) : fd_Inv e pd (fd_sc c j p v) (fd_aq q j) := by
  have a1 : ¬ c 6 j = 1 := fun z => ha (Or.inl z)
  have a3 : ¬ c 6 j = 3 := fun z => ha (Or.inr (Or.inr (Or.inl z)))
  have a4 : ¬ c 6 j = 4 := fun z => ha (Or.inr (Or.inr (Or.inr z)))
  have e6 : fd_sc c j p v 6 j = 1 := pk_us
  have o6 : ∀ g, g ≠ j → fd_sc c j p v 6 g = c 6 g := fun g hg => pk_un hg
  have e7 : fd_sc c j p v 7 j = nI p := pk_us
  have o7 : ∀ g, g ≠ j → fd_sc c j p v 7 g = c 7 g := fun g hg => pk_un hg
  have e8 : fd_sc c j p v 8 j = 0 := pk_us
  have o8 : ∀ g, g ≠ j → fd_sc c j p v 8 g = c 8 g := fun g hg => pk_un hg
  have n4 : j ∉ q 4 := fun z => a1 ((fd_i4 I hj).mp z)
  have n5 : j ∉ q 5 := fun z => a4 ((fd_i5 I hj).mp z)
  have md := fd_modg I hj a3
  have nb := fd_nbit I hj a3
  have iC := fd_iC I
  have iJ := fd_iJ I
  refine fd_Imove I hj I.1 ⟨rfl, rfl, rfl, rfl, rfl⟩ iC iJ (fun g hg hgf => ?_) (fun g hg hgf t ht => fd_iB I hg ht) ?_ ?_ ?_ ?_
  · refine ⟨o6 g hgf, o7 g hgf, o8 g hgf, rfl, rfl, fd_r3_n g hg hgf, fd_ql6 (fun k hk => ?_) (fd_mem1 hgf) Iff.rfl, fun k hk => ?_⟩
    · rw [fd_aq_lo hk]
    · rw [fd_aq_lo hk]
  · refine ⟨⟨1, by decide, e6⟩, ⟨p, hp, e7⟩, ⟨0, by decide, e8⟩, ⟨fun _ => e6, fun _ => List.mem_append.mpr (Or.inr List.mem_cons_self)⟩, ⟨fun z => absurd z n5, fun z => ?_⟩, fun z => ?_, fun k hk => ⟨⟨fun z => ?_, fun z => ?_⟩, ⟨fun z => ?_, fun z => ?_⟩⟩, fun t ht => ⟨fun z => absurd z (nb t ht), fun z => ?_⟩⟩
    · rw [e6] at z; exact absurd z (by decide)
    · rw [e6] at z; exact absurd z (by decide)
    · rw [fd_aq_lo hk] at z; exact absurd z (md.1 k hk).1
    · have := z.1; rw [e6] at this; exact absurd this (by decide)
    · rw [fd_aq_lo hk] at z; exact absurd z (md.1 k hk).2
    · have := z.1; rw [e6] at this; exact absurd this (by decide)
    · have := z.1.1; rw [e6] at this; exact absurd this (by decide)
  · obtain ⟨a, b, d, g, h⟩ := fd_iL I
    refine ⟨fd_app1 a n4, fun x hx => ?_, d, g, fun k hk => ?_⟩
    · rcases List.mem_append.mp hx with z | z
      · exact b x z
      · rw [List.mem_singleton.mp z]; exact hj
    · rw [fd_aq_lo hk]; exact h k hk
  · refine fd_Slp_sub (fd_iS I) rfl fun g hg z => ?_
    by_cases w : g = j
    · rw [w, e6] at z; exact absurd z (by decide)
    · rw [o6 g w] at z; exact ⟨z, rfl⟩
  · refine fd_Hom_sub (fd_iH I) fun k hk l hl => ?_
    rw [fd_aq_lo hk] at hl
    have w := md.2 k hk l hl
    exact ⟨hl, fd_op_same rfl (o7 _ w) (o8 _ w)⟩
theorem fd_Fw_start {c : Nat → Nat → Int32} {j p : Nat} {v : Int32} (hj : j < 12) (ha : ¬ fd_aw c j) : fd_Fw c (fd_sc c j p v) := by
  have e6 : fd_sc c j p v 6 j = 1 := pk_us
  have o6 : ∀ g, g ≠ j → fd_sc c j p v 6 g = c 6 g := fun g hg => pk_un hg
  have o7 : ∀ g, g ≠ j → fd_sc c j p v 7 g = c 7 g := fun g hg => pk_un hg
  have o8 : ∀ g, g ≠ j → fd_sc c j p v 8 g = c 8 g := fun g hg => pk_un hg
  have a2 : ¬ c 6 j = 2 := fun z => ha (Or.inr (Or.inl z))
  refine ⟨fun h hh => ?_, fun h hh z => ?_, rfl, rfl, rfl⟩
  · by_cases w : h = j
    · rw [w, e6]; exact ⟨fun z => absurd z (by decide), fun z => absurd z a2⟩
    · rw [o6 h w]
  · have w : h ≠ j := fun w => a2 (w ▸ z)
    exact ⟨o7 h w, o8 h w, fd_r3_n h hh w⟩
theorem fd_start {e : Nat} {c : Nat → Nat → Int32} {q : Nat → List Nat} (p v : Int32) (I : fd_Inv e fd_no c q) :
    ∃ r c' q', fd_Inv e fd_no c' q' ∧ fd_Fw c c' ∧ fd_MX r c q c' q' (fun P u => wpX_start P u p v) ∧ fd_MY 1 r c q c' q' (fun P w => wpY_start P w p v) := by
  obtain ⟨j, hj, ha, hb⟩ := fd_room c
  have refuse : (¬ (0 ≤ p ∧ p ≤ 5) ∨ (∃ pn, pn < 6 ∧ p = nI pn ∧ (c 5 pn = 0 ∨ j = 12))) → ∃ r c' q', fd_Inv e fd_no c' q' ∧ fd_Fw c c' ∧ fd_MX r c q c' q' (fun P u => wpX_start P u p v) ∧ fd_MY 1 r c q c' q' (fun P w => wpY_start P w p v) := by
    intro h
    refine ⟨-1, c, q, I, fd_Fw_r c, fun post K => fd_elK fun sl hd mn fi th la ro nu bg fr bk bh bf wh pu h1 h2 h3 h4 h5 h6 R0 => ?_, fun N kx post hN K => fd_elL fun m tf ts dn g1 g2 g3 S0 => ?_⟩
    · unfold wpX_start
      dsimp only
      refine fd_xout (fun a b => ?_) (fun a => br_f fd_n10 (K _ R0))
      rcases h with h | ⟨pn, hpn, rfl, h⟩
      · exact absurd ⟨a, b⟩ h
      · refine br_t rfl ⟨vp_in_nI (by omega) (by decide), ?_⟩
        rw [nI_clamp (by omega)]
        refine br_c (fun _ => K _ R0) fun z => ?_
        refine fd_xfresh I hj ha hb (fun _ => br_f fd_mnle (K _ R0)) (fun w => ?_) _ R0
        exfalso
        rcases h with h | h
        · exact z h
        · omega
    · unfold wpY_start
      dsimp only
      refine fd_yroom I hj ha hb (fun _ => ?_) (fun w => ?_) _ S0
      · refine fd_ywit (fun a b => ?_) (fun a => br_t rfl (K _ (fd_RY_up (by omega) S0)))
        rcases h with h | ⟨pn, hpn, rfl, h⟩
        · exact absurd ⟨a, b⟩ h
        · refine br_f fd_n10 ⟨vp_in_nI (by omega) (by decide), ?_⟩
          rw [nI_clamp (by omega)]
          exact br_c (fun _ => K _ (fd_RY_up (by omega) S0)) fun z => br_f fd_mnle (K _ (fd_RY_up (by omega) S0))
      · refine fd_ywit (fun a b => ?_) (fun a => br_t rfl (K _ (fd_RY_up (by omega) S0)))
        rcases h with h | ⟨pn, hpn, rfl, h⟩
        · exact absurd ⟨a, b⟩ h
        · refine br_f fd_n10 ⟨vp_in_nI (by omega) (by decide), ?_⟩
          rw [nI_clamp (by omega)]
          refine br_t ?_ (K _ (fd_RY_up (by omega) S0))
          rcases h with h | h
          · exact h
          · omega
  by_cases hr : (¬ (0 ≤ p ∧ p ≤ 5) ∨ (∃ pn, pn < 6 ∧ p = nI pn ∧ (c 5 pn = 0 ∨ j = 12)))
  · exact refuse hr
  · have hp : 0 ≤ p ∧ p ≤ 5 := Classical.byContradiction fun z => hr (Or.inl z)
    obtain ⟨pn, hpn, rfl⟩ := fd_rng (n := 5) (by decide) hp.1 hp.2
    have hz5 : ¬ c 5 pn = 0 := fun z => hr (Or.inr ⟨pn, by omega, rfl, Or.inl z⟩)
    have hj12 : j < 12 := by
      have : j ≠ 12 := fun z => hr (Or.inr ⟨pn, by omega, rfl, Or.inr z⟩)
      omega
    have hna : ¬ fd_aw c j := by
      rcases hb with z | z
      · omega
      · exact z
    have hpc : (nI pn).toNatClampNeg = pn := nI_clamp (by omega)
    have hpi : vp_in (nI pn) 7 := vp_in_nI (by omega) (by decide)
    have hjc : (nI j).toNatClampNeg = j := nI_clamp (by omega)
    have hji : vp_in (nI j) 12 := vp_in_nI (by omega) (by decide)
    have x0 : 3 * nI j = nI (3 * j) := fd_3k j
    have x1 : nI (3 * j) + 1 = nI (3 * j + 1) := nI_1 _
    have x2 : nI (3 * j) + 2 = nI (3 * j + 2) := nI_add _ 2
    have c0 : (nI (3 * j)).toNatClampNeg = 3 * j := nI_clamp (by omega)
    have c1 : (nI (3 * j + 1)).toNatClampNeg = 3 * j + 1 := nI_clamp (by omega)
    have c2 : (nI (3 * j + 2)).toNatClampNeg = 3 * j + 2 := nI_clamp (by omega)
    have i0 : vp_in (nI (3 * j)) 36 := vp_in_nI (by omega) (by decide)
    have i1 : vp_in (nI (3 * j + 1)) 36 := vp_in_nI (by omega) (by decide)
    have i2 : vp_in (nI (3 * j + 2)) 36 := vp_in_nI (by omega) (by decide)
    refine ⟨nI j, _, _, fd_Istart (p := pn) (v := v) I hj12 (by omega) hna, fd_Fw_start hj12 hna, fun post K => fd_elK fun sl hd mn fi th la ro nu bg fr bk bh bf wh pu h1 h2 h3 h4 h5 h6 R0 => ?_, fun N kx post hN K => fd_elL fun m tf ts dn g1 g2 g3 S0 => ?_⟩
    · unfold wpX_start
      dsimp only
      refine fd_xout (fun a b => br_t rfl ⟨hpi, ?_⟩) (fun a => absurd hp a)
      rw [hpc]
      refine br_f hz5 ?_
      refine fd_xfresh I hj ha hb (fun z => by omega) (fun _ => br_t (nI_pos' (by omega)) ?_) _ R0
      rw [hjc, fd_nbN (show pn < 128 by omega), fd_nb0, x0, x1, x2, c0, c1, c2]
      refine ⟨hji, nm_e ⟨hji, nm_e ⟨i0, nm_e ⟨i1, nm_e ⟨i2, nm_e ?_⟩⟩⟩⟩⟩
      refine fd_xappend (c := fd_sC (fd_sC (fd_sA c 9 (fd_r3 (c 9) j v)) 8 j 0) 7 j (nI pn)) hj12 (by have := fd_ilen I; omega) (fd_elK fun sl hd mn fi th la ro nu bg fr bk bh bf wh pu h1 h2 h3 h4 h5 h6 R0 => K _ R0) _ (fd_inX h1 h2 h3 h4 h5 h6)
    · unfold wpY_start
      dsimp only
      refine fd_yroom I hj ha hb (fun z => by omega) (fun _ => ?_) _ S0
      refine fd_ywit (fun a b => br_f fd_n10 ⟨hpi, ?_⟩) (fun a => absurd hp a)
      rw [hpc]
      refine br_f hz5 (br_t (nI_pos' (by omega)) ?_)
      rw [hjc, x0, x1, x2, c0, c1, c2]
      refine ⟨hji, nm_e ⟨hji, nm_e ⟨i0, nm_e ⟨i1, nm_e ⟨i2, nm_e ?_⟩⟩⟩⟩⟩
      exact fd_yready (c := fd_sC (fd_sC (fd_sA c 9 (fd_r3 (c 9) j v)) 8 j 0) 7 j (nI pn)) (q := q) hj12 (fd_QS_a I hj12 (fun z => hna (Or.inl z)) (fun z => hna (Or.inr (Or.inr (Or.inl z))))) (fd_elL fun m tf ts dn g1 g2 g3 S0 => K _ S0) _ (fd_inY g1 g2 g3)
end
section
/-! join -/
theorem fd_or {a b : Nat} (ha : a < 4096) (hb : b < 4096) : nI a ||| nI b = nI (a ||| b) := by
  have h : a ||| b < 2 ^ 12 := Nat.or_lt_two_pow ha hb
  apply Int32.toBitVec_inj.mp
  apply BitVec.eq_of_toNat_eq
  rw [Int32.toBitVec_or, BitVec.toNat_or, pk_tn (by omega), pk_tn (by omega), pk_tn (by omega)]
theorem fd_s16 : ∀ n, n < 4096 → (nI n).toInt16.toInt32 = nI n := by decide +kernel
theorem fd_shl {f : Nat} (hf : f < 12) : (1 : Int32) <<< (nI f &&& 31) = nI (2 ^ f) := by
  have h2 : 2 ^ f < 2 ^ 12 := Nat.pow_lt_pow_right (by decide) hf
  have h := pk_shlN (n := 1) (nI f &&& 31) f (fd_sm31 f hf) (by omega)
  rw [Nat.one_mul] at h
  exact h
theorem fd_jbit {m f : Nat} (hm : m < 4096) (hf : f < 12) : vp_nar .short (nI m ||| ((1 : Int32) <<< (nI f &&& 31))).toInt16.toInt32 = nI (m ||| 2 ^ f) ∧ m ||| 2 ^ f < 4096 := by
  have h2 : 2 ^ f < 2 ^ 12 := Nat.pow_lt_pow_right (by decide) hf
  have h : m ||| 2 ^ f < 2 ^ 12 := Nat.or_lt_two_pow hm h2
  rw [fd_shl hf, fd_or hm (by omega), vp_nar_short, fd_s16 _ (by omega), fd_s16 _ (by omega)]
  exact ⟨rfl, by omega⟩
def fd_jc (c : Nat → Nat → Int32) (f t rb m : Nat) : Nat → Nat → Int32 := fd_sC (fd_sC (fd_sC c 19 f (nI rb)) 6 f 3) 18 t (nI (m ||| 2 ^ f))
theorem fd_Ijoin {e : Nat} {c : Nat → Nat → Int32} {q : Nat → List Nat} {f t ra rb m : Nat} (I : fd_Inv e fd_no c q) (hf : f < 12) (h2 : c 6 f = 2) (h8 : fd_In 12 (c 8 f)) (ho : fd_op c f = 10) (ha : fd_oa c f = nI ra) (hra : ra < 3) (hb : fd_ob c f = nI rb) (ht : t < 12) (ht9 : c 9 (3 * f + ra) = nI t) (hm : m < 4096) (em : c 18 t = nI m) :
    fd_Inv e fd_no (fd_jc c f t rb m) q := by
  have e6 : fd_jc c f t rb m 6 f = 3 := pk_us
  have o6 : ∀ g, g ≠ f → fd_jc c f t rb m 6 g = c 6 g := fun g hg => pk_un hg
  have e19 : fd_jc c f t rb m 19 f = nI rb := pk_us
  have o19 : ∀ g, g ≠ f → fd_jc c f t rb m 19 g = c 19 g := fun g hg => pk_un hg
  have e18 : fd_jc c f t rb m 18 t = nI (m ||| 2 ^ f) := pk_us
  have o18 : ∀ g, g ≠ t → fd_jc c f t rb m 18 g = c 18 g := fun g hg => pk_un hg
  have o := fd_out I hf (fd_on3 h2)
  have nb := fd_nbit I hf (fd_on3 h2).2.1
  have iC := fd_iC I
  have iH := fd_iH I
  have iL := fd_iL I
  have hm2 := (fd_jbit hm hf).2
  have n10 : ¬ (fd_op c f = 6 ∨ fd_op c f = 7 ∨ fd_op c f = 8) := by
    rintro (z | z | z) <;> exact absurd (ho.symm.trans z) (by decide)
  refine fd_Imove I hf I.1 ⟨rfl, rfl, rfl, rfl, rfl⟩ iC ?_ (fun g hg hgf => ?_) (fun g hg hgf s hs => ?_) ?_ iL ?_ iH
  · intro s hs
    by_cases w : s = t
    · rw [w, e18]; exact ⟨_, hm2, rfl⟩
    · rw [o18 s w]; exact fd_iJ I s hs
  · exact ⟨o6 g hgf, rfl, rfl, o19 g hgf, rfl, fun _ _ => rfl, fun _ _ => Iff.rfl, fun _ _ => Iff.rfl⟩
  · by_cases w : s = t
    · rw [w, e18, nI_clamp (by omega), Nat.testBit_or, Nat.testBit_two_pow]
      have z := fd_iB I hg ht
      rw [em, nI_clamp (by omega)] at z
      rw [decide_eq_false (fun y => hgf y.symm), Bool.or_false]
      exact z
    · rw [o18 s w]; exact fd_iB I hg hs
  · refine ⟨⟨3, by decide, e6⟩, fd_i7 I hf, fd_i8 I hf, ⟨fun z => absurd z o.1, fun z => ?_⟩, ⟨fun z => absurd z o.2.1, fun z => ?_⟩, fun z => ⟨h8, Or.inr (Or.inl ⟨Or.inr ho, e19.trans hb.symm⟩)⟩, fun k hk => ⟨⟨fun z => absurd z (o.2.2 k hk).1, fun z => absurd z.2.1 n10⟩, ⟨fun z => absurd z (o.2.2 k hk).2, fun z => absurd (Or.inr (Or.inr z.2.1)) n10⟩⟩, fun s hs => ⟨fun z => ?_, fun z => ?_⟩⟩
    · rw [e6] at z; exact absurd z (by decide)
    · rw [e6] at z; exact absurd z (by decide)
    · by_cases w : s = t
      · refine ⟨⟨e6, ho, ?_⟩, id⟩
        show c 9 (3 * f + (fd_oa c f).toNatClampNeg) = nI s
        rw [ha, nI_clamp (by omega), w]
        exact ht9
      · rw [o18 s w] at z; exact absurd z (nb s hs)
    · have y : c 9 (3 * f + (fd_oa c f).toNatClampNeg) = nI s := z.1.2.2
      rw [ha, nI_clamp (by omega), ht9] at y
      have w : t = s := fd_inj y (by omega) (by omega)
      rw [← w, e18, nI_clamp (by omega), Nat.testBit_or, Nat.testBit_two_pow, decide_eq_true rfl, Bool.or_true]
  · refine fd_Slp_sub (fd_iS I) rfl fun g hg z => ?_
    by_cases w : g = f
    · rw [w, e6] at z; exact absurd z (by decide)
    · rw [o6 g w] at z; exact ⟨z, rfl⟩
theorem fd_QS_q {e : Nat} {pd : Nat → Prop} {c : Nat → Nat → Int32} {q : Nat → List Nat} {f : Nat} (I : fd_Inv e pd c q) (hf : f < 12) (h1 : ¬ c 6 f = 1) (h3 : ¬ c 6 f = 3) : fd_QS q q f :=
  ⟨Or.inl rfl, fun z => h1 ((fd_i4 I hf).mp z), (fd_iL I).2.1, fun k hk => Or.inl ⟨List.Sublist.refl _, (fd_modg I hf h3).2 k hk⟩⟩
theorem fd_join {e : Nat} {c : Nat → Nat → Int32} {q : Nat → List Nat} {f ra rb : Nat} (I : fd_Inv e fd_no c q) (hf : f < 12) (h2 : c 6 f = 2) (h8 : fd_In 12 (c 8 f)) (ho : fd_op c f = 10) (ha : fd_oa c f = nI ra) (hra : ra < 3) (hb : fd_ob c f = nI rb) (hrb : rb < 3) :
    fd_Cm e 12 f c q (fun p u => wpX_join p u (nI f) (c 9 (3 * f + ra)) (nI rb)) (fun p v => wpY_join p v (nI f) (c 9 (3 * f + ra)) (nI (3 * f + rb))) := by
  have hfc : (nI f).toNatClampNeg = f := nI_clamp (by omega)
  have hfi : vp_in (nI f) 12 := vp_in_nI hf (by decide)
  have hrc : (nI (3 * f + rb)).toNatClampNeg = 3 * f + rb := nI_clamp (by omega)
  have hri : vp_in (nI (3 * f + rb)) 36 := vp_in_nI (by omega) (by decide)
  have er : 3 * nI f + nI rb = nI (3 * f + rb) := by rw [fd_3k, nI_add]
  have h22 := h2
  generalize hg : c 9 (3 * f + ra) = g
  -- a value into the register
  have val : ∀ x : Int32, (∀ (post : Int32 → SX → Prop), (∀ u', fd_RX (fd_sA c 9 (upd (c 9) (3 * f + rb) x)) q u' → post 0 u') → ∀ u, fd_RX c q u → wpX_join post u (nI f) g (nI rb)) →
      (∀ (N kx : Nat) (post : SY → Prop), (∀ v', fd_RY N kx (fd_sC (fd_sA c 9 (upd (c 9) (3 * f + rb) x)) 8 f (c 8 f + 1)) q v' → post v') → ∀ v, fd_RY N kx c q v → wpY_join post v (nI f) g (nI (3 * f + rb))) →
      fd_Cm e 12 f c q (fun p u => wpX_join p u (nI f) g (nI rb)) (fun p v => wpY_join p v (nI f) g (nI (3 * f + rb))) := by
    intro x X Y
    refine ⟨0, _, q, fd_Ireg I hf h2 (fd_u9 (v := x) hrb), ⟨fun _ _ _ => Iff.rfl, Or.inl ⟨rfl, h2⟩, ⟨rfl, rfl, rfl, rfl⟩, rfl, rfl⟩, fun _ => rfl, fun post K => X post K, fun _ => fd_LY_up (d := 0) (by decide) fun N kx post hN K => Y N kx post K, fun z => absurd z fd_n01⟩
  have nothing : (∀ t, t < 12 → g = nI t → t = f ∨ (¬ fd_aw c t ∧ ¬ c 6 t = 5)) → fd_Cm e 12 f c q (fun p u => wpX_join p u (nI f) g (nI rb)) (fun p v => wpY_join p v (nI f) g (nI (3 * f + rb))) := by
    intro h
    refine val (-1000000) (fun post K => fd_elK fun sl hd mn fi th la ro nu bg fr bk bh bf wh pu h1 h2 h3 h4 h5 h6 R0 => ?_) (fun N kx post K => fd_elL fun m tf ts dn g1 g2 g3 S0 => ?_)
    · have b77 : wX_join_77 post (nI f) g (nI rb) sl hd mn (c 0 0) (c 0 1) (c 0 3) (c 0 2) (c 1) fi (c 3) th (c 5) (c 6) (c 7) (c 8) (c 9) (c 20) (c 19) (c 10) la (c 18) ro (c 15) (c 16) nu bg (c 14) (c 11) (c 12) fr bk bh bf wh pu := by
        refine br_t rfl ?_
        rw [er, hrc]
        exact ⟨hri, nm_e (K _ (fd_inX h1 h2 h3 h4 h5 h6))⟩
      have b53 : wX_join_53 post (nI f) g (nI rb) sl hd mn (c 0 0) (c 0 1) (c 0 3) (c 0 2) (c 1) fi (c 3) th (c 5) (c 6) (c 7) (c 8) (c 9) (c 20) (c 19) (c 10) la (c 18) ro (c 15) (c 16) nu bg (c 14) (c 11) (c 12) fr bk bh bf wh pu := by
        rcases pk_ix g (n := 12) (by decide) with w | w | ⟨t, ht, rfl⟩
        · exact br_t w b77
        · exact br_c (fun _ => b77) fun _ => br_t w b77
        · refine br_f (nI_pos (by omega)) (br_f (fd_ng12 ht) ⟨vp_in_nI ht (by decide), ?_⟩)
          rw [nI_clamp (by omega)]
          refine br_f ?_ b77
          rcases h t ht rfl with w | w
          · rw [w]; intro z; exact absurd (h22.symm.trans z) (by decide)
          · exact w.2
      unfold wpX_join
      dsimp only
      rcases pk_ix g (n := 12) (by decide) with w | w | ⟨t, ht, rfl⟩
      · exact br_t w b53
      · exact br_c (fun _ => b53) fun _ => br_t w b53
      · refine br_f (nI_pos (by omega)) (br_f (fd_ng12 ht) (br_c (fun _ => b53) fun z => ?_))
        refine fd_xaw I ht (fun w => ?_) (fun _ => br_t rfl b53) _ R0
        exfalso
        rcases h t ht rfl with y | y
        · exact z (by rw [y])
        · exact y.1 w
    · have b83 : wY_join_83 post (nI f) (nI (3 * f + rb)) (c 0 0) (c 0 1) (c 0 2) (c 0 3) (lN m) (c 0 4) (c 1) (c 2) (c 3) (c 4) (c 5) (c 6) (c 7) (c 8) (c 9) (c 10) ts (c 11) (c 12) (c 13) (c 14) (c 15) dn (c 17) := by
        unfold wY_join_83 wY_join_85
        rw [hrc, hfc]
        exact ⟨hri, nm_e ⟨hfi, hfi, nm_e (K _ (fd_inY g1 g2 g3))⟩⟩
      have b28 : wY_join_28 post (nI f) g (nI (3 * f + rb)) (c 0 0) (c 0 1) (c 0 2) (c 0 3) (lN m) (c 0 4) (c 1) (c 2) (c 3) (c 4) (c 5) (c 6) (c 7) (c 8) (c 9) (c 10) ts (c 11) (c 12) (c 13) (c 14) (c 15) dn (c 17) := br_t rfl (br_t rfl b83)
      unfold wpY_join
      dsimp only
      refine fd_ywit (fun a b => br_f fd_n10 ?_) (fun _ => br_t rfl b28)
      obtain ⟨t, ht, rfl⟩ := fd_rng (n := 11) (by decide) a b
      refine br_c (fun _ => b28) fun z => ⟨vp_in_nI (by omega) (by decide), br_c (fun _ => b28) fun z2 => br_f fd_n10 ?_⟩
      have hy : ¬ fd_aw c t ∧ ¬ c 6 t = 5 := by
        rcases h t (by omega) rfl with y | y
        · exact absurd (by rw [y]) z
        · exact y
      refine fd_yaw I (by omega) (fun w => absurd w hy.1) (fun _ => br_t rfl (br_f fd_n10 ⟨vp_in_nI (by omega) (by decide), ?_⟩)) _ S0
      rw [nI_clamp (by omega)]
      exact br_f hy.2 b83
  by_cases hN : ∀ t, t < 12 → g = nI t → t = f ∨ (¬ fd_aw c t ∧ ¬ c 6 t = 5)
  · exact nothing hN
  · obtain ⟨t, ht, rfl, htf, h5⟩ : ∃ t, t < 12 ∧ g = nI t ∧ t ≠ f ∧ (fd_aw c t ∨ c 6 t = 5) := by
      refine Classical.byContradiction fun z => hN fun t ht hgt => ?_
      by_cases w : t = f
      · exact Or.inl w
      · refine Or.inr ⟨fun y => z ⟨t, ht, hgt, w, Or.inl y⟩, fun y => z ⟨t, ht, hgt, w, Or.inr y⟩⟩
    have htc : (nI t).toNatClampNeg = t := nI_clamp (by omega)
    have hti : vp_in (nI t) 12 := vp_in_nI ht (by decide)
    have t0 : ¬ nI t < 0 := nI_pos (by omega)
    have tf' : ¬ nI t = nI f := fun z => htf (fd_inj z (by omega) (by omega))
    by_cases haw : fd_aw c t
    · -- it waits
      obtain ⟨m, hm, em⟩ := fd_iJ I t ht
      have I1 := fd_Ijoin (rb := rb) I hf h2 h8 ho ha hra hb ht hg hm em
      have e6 : fd_jc c f t rb m 6 f = 3 := pk_us
      have hst : fd_St f 1 c (fd_jc c f t rb m) := by
        refine ⟨fun h hh hhf => ?_, Or.inr ⟨rfl, by rw [e6]; decide⟩, ⟨rfl, rfl, rfl, rfl⟩, rfl, rfl⟩
        rw [show fd_jc c f t rb m 6 h = c 6 h from pk_un hhf]
      refine ⟨1, _, q, I1, hst, fun z => absurd z fd_n10, fun post K => fd_elK fun sl hd mn fi th la ro nu bg fr bk bh bf wh pu h1 h2 h3 h4 h5 h6 R0 => ?_, fun z => absurd z fd_n10, fun _ => fd_LY_up (d := 1) (by decide) fun N kx post hN K => fd_elL fun m tf ts dn g1 g2 g3 S0 => ?_⟩
      · unfold wpX_join
        dsimp only
        refine br_f t0 (br_f (fd_ng12 ht) (br_f tf' ?_))
        refine fd_xaw I ht (fun _ => br_f fd_n10 ?_) (fun z => absurd haw z) _ R0
        rw [hfc, htc, em, (fd_jbit hm hf).1, fd_nbN (show rb < 128 by omega), fd_nb3]
        exact ⟨hfi, nm_e ⟨hfi, nm_e ⟨hti, hti, nm_e (K _ (fd_inX h1 h2 h3 h4 h5 h6))⟩⟩⟩
      · unfold wpY_join
        dsimp only
        refine fd_ywit (fun a b => br_f fd_n10 (br_f tf' ⟨hti, ?_⟩)) (fun z => absurd ⟨nI_pos' (by omega), nI_le (b := 11) (by omega) (by decide)⟩ z)
        rw [htc]
        refine br_f (fun z => ?_) (br_f fd_n10 ?_)
        · rcases haw with w | w | w | w <;> exact absurd (z.symm.trans w) (by decide)
        · refine fd_yaw I ht (fun _ => br_f fd_n10 ?_) (fun z => absurd haw z) _ S0
          exact fd_yrest (c := c) hf (fd_QS_q I hf (fd_on3 h2).1 (fd_on3 h2).2.1) (fd_elL fun m tf ts dn g1 g2 g3 S0 => K _ (fd_inY g1 g2 g3)) _ S0
    · have h5' : c 6 t = 5 := h5.elim (fun z => absurd z haw) id
      have h3c : (nI (3 * t)).toNatClampNeg = 3 * t := nI_clamp (by omega)
      have h3i : vp_in (nI (3 * t)) 36 := vp_in_nI (by omega) (by decide)
      refine val (c 9 (3 * t)) (fun post K => fd_elK fun sl hd mn fi th la ro nu bg fr bk bh bf wh pu h1 h2 h3 h4 h5 h6 R0 => ?_) (fun N kx post K => fd_elL fun m tf ts dn g1 g2 g3 S0 => ?_)
      · have b53 : wX_join_53 post (nI f) (nI t) (nI rb) sl hd mn (c 0 0) (c 0 1) (c 0 3) (c 0 2) (c 1) fi (c 3) th (c 5) (c 6) (c 7) (c 8) (c 9) (c 20) (c 19) (c 10) la (c 18) ro (c 15) (c 16) nu bg (c 14) (c 11) (c 12) fr bk bh bf wh pu := by
          refine br_f t0 (br_f (fd_ng12 ht) ⟨hti, ?_⟩)
          rw [htc]
          refine br_t h5' (br_f fd_n10 ?_)
          rw [er, hrc, fd_3k, h3c]
          exact ⟨h3i, hri, nm_e (K _ (fd_inX h1 h2 h3 h4 h5 h6))⟩
        unfold wpX_join
        dsimp only
        refine br_f t0 (br_f (fd_ng12 ht) (br_f tf' ?_))
        exact fd_xaw I ht (fun w => absurd w haw) (fun _ => br_t rfl b53) _ R0
      · unfold wpY_join
        dsimp only
        refine fd_ywit (fun a b => br_f fd_n10 (br_f tf' ⟨hti, ?_⟩)) (fun z => absurd ⟨nI_pos' (by omega), nI_le (b := 11) (by omega) (by decide)⟩ z)
        rw [htc]
        refine br_f (fun z => absurd (z.symm.trans h5') (by decide)) (br_f fd_n10 ?_)
        refine fd_yaw I ht (fun w => absurd w haw) (fun _ => br_t rfl (br_f fd_n10 ⟨hti, ?_⟩)) _ S0
        rw [htc, fd_3k, h3c]
        refine br_t h5' ⟨h3i, ?_⟩
        unfold wY_join_85
        rw [hrc, hfc]
        exact ⟨hri, nm_e ⟨hfi, hfi, nm_e (K _ (fd_inY g1 g2 g3))⟩⟩
end
section
/-! close -/
def fd_X13 (post : SX → Prop) (x1 x2 : Int32) (n : Nat) (u : SX) : Prop := match u with
  | (f_sleeper, f_head, f_many, f_carriers, f_slice, f_puts, f_time, a_op, a_first, a_second, a_third, a_length, a_state, a_program, a_place, a_register, a_gives, a_into, a_wake, a_later, a_joiners, a_row, a_on, a_done, a_number, a_begin, a_count, a_capacity, a_closed, a_front, a_back, a_behind, a_before, a_at, a_put) => wX_close_13 post x1 x2 n f_sleeper f_head f_many f_carriers f_slice f_puts f_time a_op a_first a_second a_third a_length a_state a_program a_place a_register a_gives a_into a_wake a_later a_joiners a_row a_on a_done a_number a_begin a_count a_capacity a_closed a_front a_back a_behind a_before a_at a_put
def fd_Y14 (post : SY → Prop) (x1 : Int32) (n : Nat) (x2 : Int32) (v : SY) : Prop := match v with
  | (f_carriers, f_slice, f_time, f_outs, f_stamps, f_yields, a_ops, a_as, a_bs, a_cs, a_size, a_state, a_program, a_pc, a_register, a_until, a_stamp, a_capacity, a_closed, a_held, a_count, a_on, a_done, a_last) => wY_close_14 post x1 n x2 f_carriers f_slice f_time f_outs f_stamps f_yields a_ops a_as a_bs a_cs a_size a_state a_program a_pc a_register a_until a_stamp a_capacity a_closed a_held a_count a_on a_done a_last
theorem fd_Fe_Fr {f : Nat} {c c' : Nat → Nat → Int32} (h : fd_Fe f c c') (h1 : ¬ c 6 f = 2) (h2 : ¬ c' 6 f = 2) : fd_Fr c c' := by
  refine ⟨fun g hg => ?_, fun g hg z => ?_, h.2.2⟩
  · by_cases w : g = f
    · rw [w]; exact ⟨fun z => absurd z h2, fun z => absurd z h1⟩
    · exact h.1 g hg w
  · exact h.2.1 g hg (fun w => h1 (w ▸ z)) z
theorem fd_sub_lt {L L' : List Nat} {l : Nat} (h : L'.Sublist L) (hl : l ∈ L) (hn : l ∉ L') : L'.length < L.length := by
  have h1 := h.length_le
  by_cases e : L'.length = L.length
  · rw [h.eq_of_length e] at hn; exact absurd hl hn
  · omega
theorem fd_closeloop {e k : Nat} {fl : Int32} (hk : k < 4) : ∀ (n : Nat) (c : Nat → Nat → Int32) (q : Nat → List Nat), (q k).length ≤ n → fd_Inv e fd_no c q → ((fl = 1 ∧ ∀ l, l ∈ q k → c 19 (l % 12) = -1) ∨ (fl = 0 ∧ ∀ l, l ∈ q k → ¬ c 19 (l % 12) = -1)) →
    ∃ c' q', fd_Inv e fd_no c' q' ∧ fd_Fr c c' ∧ (∀ post : SX → Prop, (∀ u', fd_RX c' q' u' → post u') → ∀ fu, n < fu → ∀ u, fd_RX c q u → fd_X13 post (nI k) fl fu u) ∧
      (∀ (N kx : Nat) (post : SY → Prop), N + 12 * n < 2 ^ 62 → (∀ v', fd_RY (N + 12 * n) kx c' q' v' → post v') → ∀ fu, n < fu → ∀ v, fd_RY N kx c q v → fd_Y14 post (nI k) fu (fd_hm (q k)) v) := by
  have hkc : (nI k).toNatClampNeg = k := nI_clamp (by omega)
  have hki : vp_in (nI k) 4 := vp_in_nI hk (by decide)
  intro n
  induction n with
  | zero =>
    intro c q hl I hfl
    have hq : q k = [] := List.length_eq_zero_iff.mp (by omega)
    refine ⟨c, q, I, fd_Fr_r c, fun post K fu hfu => fd_elK fun sl hd mn fi th la ro nu bg fr bk bh bf wh pu h1 h2 h3 h4 h5 h6 R0 => ?_, fun N kx post hN K fu hfu => fd_elL fun m tf ts dn g1 g2 g3 S0 => ?_⟩
    · obtain ⟨fu, rfl⟩ : ∃ n', fu = n' + 1 := ⟨fu - 1, by omega⟩
      have ef : fr k = -1 := by rw [(h3.1 k hk).1, hq]; rfl
      refine ⟨hki, ?_⟩
      rw [hkc, ef]
      exact br_t fd_mlt (K _ R0)
    · obtain ⟨fu, rfl⟩ : ∃ n', fu = n' + 1 := ⟨fu - 1, by omega⟩
      rw [hq]
      exact br_t fd_mlt (K _ S0)
  | succ n ih =>
    intro c q hl I hfl
    cases hq : q k with
    | nil =>
      refine ⟨c, q, I, fd_Fr_r c, fun post K fu hfu => fd_elK fun sl hd mn fi th la ro nu bg fr bk bh bf wh pu h1 h2 h3 h4 h5 h6 R0 => ?_, fun N kx post hN K fu hfu => fd_elL fun m tf ts dn g1 g2 g3 S0 => ?_⟩
      · obtain ⟨fu, rfl⟩ : ∃ n', fu = n' + 1 := ⟨fu - 1, by omega⟩
        have ef : fr k = -1 := by rw [(h3.1 k hk).1, hq]; rfl
        refine ⟨hki, ?_⟩
        rw [hkc, ef]
        exact br_t fd_mlt (K _ R0)
      · obtain ⟨fu, rfl⟩ : ∃ n', fu = n' + 1 := ⟨fu - 1, by omega⟩
        exact br_t fd_mlt (K _ (fd_RY_up (by omega) S0))
    | cons l t =>
      have hlm : l ∈ q k := by rw [hq]; exact List.mem_cons_self
      have h24 := (fd_iN I k hk).2 l hlm
      obtain ⟨h12, hwa, w3⟩ := fd_iLk I hk hlm
      have hnl : l ∉ fd_rm q (l % 12) k := by
        rw [fd_rm_mem hk]
        rintro ⟨-, a, b⟩
        omega
      have xgo : ∀ {fr bk bh bf wh : Nat → Int32}, fd_rCh q fr bk bh bf wh → fr k = nI l := by
        intro fr bk bh bf wh h
        rw [(h.1 k hk).1, hq]; rfl
      have n10 : ¬ fd_op c (l % 12) = 10 := by
        intro z
        rcases hwa with w | w
        · rcases w.2.1 with o | o | o <;> exact absurd (o.symm.trans z) (by decide)
        · exact absurd (w.2.1.symm.trans z) (by decide)
      rcases hfl with ⟨rfl, hall⟩ | ⟨rfl, hall⟩
      · -- they send: they fail
        have o6 : fd_op c (l % 12) = 6 := by
          rcases fd_into I h12 w3 with w | ⟨-, r, hr, w⟩
          · exact w.1
          · exact absurd ((hall l hlm).symm.trans w) (fun z => fd_nm (n := r) (by omega) z.symm)
        obtain ⟨c1, q1, I1, F1, S1, s6, X1, Y1⟩ := fd_finish (how := 6) (fl := 1) I h12 (Or.inr ⟨w3, o6⟩) (Or.inr ⟨rfl, rfl⟩)
        have F1' : fd_Fr c c1 := fd_Fe_Fr F1 (by rw [w3]; decide) (by rw [s6]; decide)
        have S1' : (q1 k).Sublist (q k) := (S1 k hk).trans (fd_rm_sub hk)
        have hlen := fd_sub_lt S1' hlm (fun z => hnl ((S1 k hk).subset z))
        have e19 : c1 19 = c 19 := F1'.2.2 19 (by decide) (by decide) (by decide) (by decide)
        obtain ⟨c', q', I', F', X', Y'⟩ := ih c1 q1 (by omega) I1 (Or.inl ⟨rfl, fun x hx => by rw [e19]; exact hall x (S1'.subset hx)⟩)
        refine ⟨c', q', I', fd_Fr_t F1' F', fun post K fu hfu => fd_elK fun sl hd mn fi th la ro nu bg fr bk bh bf wh pu h1 h2 h3 h4 h5 h6 R0 => ?_, fun N kx post hN K fu hfu => fd_elL fun m tf ts dn g1 g2 g3 S0 => ?_⟩
        · obtain ⟨fu, rfl⟩ : ∃ n', fu = n' + 1 := ⟨fu - 1, by omega⟩
          refine ⟨hki, ?_⟩
          rw [hkc, xgo h3]
          refine br_f (nI_pos (by omega)) ⟨hki, fd_n12, nm_r (fd_rem12 h24) (br_f fd_n10 ?_)⟩
          exact X1 _ (fd_elK fun sl hd mn fi th la ro nu bg fr bk bh bf wh pu h1 h2 h3 h4 h5 h6 R0 => X' post K fu (by omega) _ R0) _ R0
        · obtain ⟨fu, rfl⟩ : ∃ n', fu = n' + 1 := ⟨fu - 1, by omega⟩
          refine br_f (nI_pos (n := l % 12) (by omega)) ?_
          refine fd_ysends h12 (fd_i7 I h12) (fd_i8 I h12) (fun _ => br_f fd_n10 ?_) (fun z => absurd o6 z) _ S0
          refine Y1 N kx _ (by omega) (fd_elL fun m tf ts dn g1 g2 g3 S0 => ?_) _ S0
          refine fd_yfirstA I1 (by omega) hk ?_ _ S0
          exact Y' (N + 12) kx post (by omega) (fun v' R' => K v' (by rw [show N + 12 * (n + 1) = N + 12 + 12 * n by omega]; exact R')) fu (by omega) _ S0
      · -- they receive: nothing comes
        have n6 : ¬ fd_op c (l % 12) = 6 := by
          rcases fd_into I h12 w3 with w | w
          · exact absurd w.2 (hall l hlm)
          · exact w.1
        obtain ⟨r9, I1, h9, LX, LY, -⟩ := fd_wake (pd' := fd_no) (-1000000) I h12 w3 (fun z => absurd z n10) (fun _ _ _ => Iff.rfl)
        have F1' := fd_Fr_wk (r9 := r9) w3 h9
        have S1' : (fd_wq q (l % 12) k).Sublist (q k) := by rw [fd_wq_lo hk]; exact fd_rm_sub hk
        have hlen := fd_sub_lt S1' hlm (fun z => hnl (by rw [fd_wq_lo hk] at z; exact z))
        obtain ⟨c', q', I', F', X', Y'⟩ := ih _ _ (by omega) I1 (Or.inr ⟨rfl, fun x hx => hall x (S1'.subset hx)⟩)
        refine ⟨c', q', I', fd_Fr_t F1' F', fun post K fu hfu => fd_elK fun sl hd mn fi th la ro nu bg fr bk bh bf wh pu h1 h2 h3 h4 h5 h6 R0 => ?_, fun N kx post hN K fu hfu => fd_elL fun m tf ts dn g1 g2 g3 S0 => ?_⟩
        · obtain ⟨fu, rfl⟩ : ∃ n', fu = n' + 1 := ⟨fu - 1, by omega⟩
          refine ⟨hki, ?_⟩
          rw [hkc, xgo h3]
          refine br_f (nI_pos (by omega)) ⟨hki, fd_n12, nm_r (fd_rem12 h24) (br_t rfl ?_)⟩
          exact LX _ (fd_elK fun sl hd mn fi th la ro nu bg fr bk bh bf wh pu h1 h2 h3 h4 h5 h6 R0 => X' post K fu (by omega) _ R0) _ R0
        · obtain ⟨fu, rfl⟩ : ∃ n', fu = n' + 1 := ⟨fu - 1, by omega⟩
          refine br_f (nI_pos (n := l % 12) (by omega)) ?_
          refine fd_ysends h12 (fd_i7 I h12) (fd_i8 I h12) (fun z => absurd z n6) (fun _ => br_t rfl ?_) _ S0
          refine LY n6 N kx _ (by omega) (fd_elL fun m tf ts dn g1 g2 g3 S0 => ?_) _ S0
          refine fd_yfirstA I1 (by omega) hk ?_ _ S0
          exact Y' (N + 1) kx post (by omega) (fun v' R' => K v' (fd_RY_up (by omega) R')) fu (by omega) _ S0
theorem fd_len24 {e : Nat} {pd : Nat → Prop} {c : Nat → Nat → Int32} {q : Nat → List Nat} {k : Nat} (I : fd_Inv e pd c q) (hk : k < 4) : (q k).length ≤ 24 := fd_len_le 24 _ (fd_iN I k hk).1 (fd_iN I k hk).2
theorem fd_close {e k : Nat} {c : Nat → Nat → Int32} {q : Nat → List Nat} (I : fd_Inv e fd_no c q) (hk : k < 4) :
    ∃ c' q', fd_Inv e fd_no c' q' ∧ fd_Fw c c' ∧ fd_LX c q c' q' (fun p u => wpX_close p u (nI k)) ∧ fd_LY 288 c q c' q' (fun p v => wpY_close p v (nI k)) := by
  have hkc : (nI k).toNatClampNeg = k := nI_clamp (by omega)
  have hki : vp_in (nI k) 4 := vp_in_nI hk (by decide)
  have I0 : fd_Inv e fd_no (fd_sC c 12 k 1) q := by
    refine ⟨I.1, I.2.1, fun j hj => ?_, I.2.2.2⟩
    refine ⟨(fd_iC I j hj).1, ?_⟩
    by_cases w : j = k
    · rw [w]; exact Or.inr pk_us
    · have := (fd_iC I j hj).2
      rw [show fd_sC c 12 k 1 12 j = c 12 j from pk_un w]
      exact this
  have F0 : fd_Fw c (fd_sC c 12 k 1) := ⟨fun _ _ => Iff.rfl, fun _ _ _ => ⟨rfl, rfl, fun _ _ => rfl⟩, rfl, rfl, rfl⟩
  have hl := fd_len24 I hk
  have kind : ∃ fl : Int32, (fl = 0 ∨ fl = 1) ∧ (fd_gv (fd_sC c 12 k 1) q k → fl = 1) ∧ (¬ fd_gv (fd_sC c 12 k 1) q k → fl = 0) ∧ ((fl = 1 ∧ ∀ l, l ∈ q k → c 19 (l % 12) = -1) ∨ (fl = 0 ∧ ∀ l, l ∈ q k → ¬ c 19 (l % 12) = -1)) := by
    by_cases g : fd_gv (fd_sC c 12 k 1) q k
    · refine ⟨1, Or.inr rfl, fun _ => rfl, fun z => absurd g z, Or.inl ⟨rfl, fun l hl => ?_⟩⟩
      obtain ⟨h12, -, w3⟩ := fd_iLk I0 hk hl
      rcases fd_into I0 h12 w3 with w | w
      · exact w.2
      · exact absurd (fd_gv_all I0 hk g l hl) w.1
    · refine ⟨0, Or.inl rfl, fun z => absurd z g, fun _ => rfl, Or.inr ⟨rfl, fun l hl => ?_⟩⟩
      obtain ⟨h12, -, w3⟩ := fd_iLk I0 hk hl
      rcases fd_into I0 h12 w3 with w | ⟨-, r, hr, w⟩
      · exact absurd w.1 (fd_gv_non I0 hk g l hl)
      · intro z
        exact fd_nm (n := r) (by omega) (w.symm.trans z)
  obtain ⟨fl, hfl, hf1, hf0, hkind⟩ := kind
  obtain ⟨c', q', I', F', X', Y'⟩ := fd_closeloop (fl := fl) hk 24 (fd_sC c 12 k 1) q hl I0 hkind
  refine ⟨c', q', I', fd_Fw_t F0 (fd_Fr_w F'), fun post K => fd_elK fun sl hd mn fi th la ro nu bg fr bk bh bf wh pu h1 h2 h3 h4 h5 h6 R0 => ?_, fun N kx post hN K => fd_elL fun m tf ts dn g1 g2 g3 S0 => ?_⟩
  · unfold wpX_close
    dsimp only
    rw [hkc, fd_z1]
    have R1 : fd_RX (fd_sC c 12 k 1) q (sl, hd, mn, c 0 0, c 0 1, c 0 3, c 0 2, c 1, fi, c 3, th, c 5, c 6, c 7, c 8, c 9, c 20, c 19, c 10, la, c 18, ro, c 15, c 16, nu, bg, c 14, c 11, upd (c 12) k 1, fr, bk, bh, bf, wh, pu) := fd_inX h1 h2 h3 h4 h5 h6
    refine ⟨hki, nm_e ?_⟩
    refine fd_xgivers I0 hk (fun g => ⟨25, ?_⟩) (fun g => ⟨25, ?_⟩) _ R1
    · have e := hf1 g
      subst e
      have z := X' post K 25 (by omega) _ R1
      exact z
    · have e := hf0 g
      subst e
      have z := X' post K 25 (by omega) _ R1
      exact z
  · unfold wpY_close
    dsimp only
    rw [hkc, fd_z1]
    have S1 : fd_RY N kx (fd_sC c 12 k 1) q (c 0 0, c 0 1, c 0 2, c 0 3, lN m, c 0 4, c 1, c 2, c 3, c 4, c 5, c 6, c 7, c 8, c 9, c 10, ts, c 11, upd (c 12) k 1, c 13, c 14, c 15, dn, c 17) := fd_inY g1 g2 g3
    refine ⟨hki, nm_e ?_⟩
    have z := Y' N kx post hN K 25 (by omega) _ S1
    exact fd_yfirstA I0 (by omega) hk ⟨25, z⟩ _ S1
end
section
/-! sleep -/
def fd_SE (la : Nat → Int32) : List Nat → Int32 → Prop
  | [], _ => True
  | x :: xs, e => la x = fd_hd xs e ∧ fd_SE la xs e
theorem fd_SE_Sl {la : Nat → Int32} {L : List Nat} : fd_Sl la L ↔ fd_SE la L (-1) := by
  induction L with
  | nil => exact Iff.rfl
  | cons x L ih =>
    show (la x = fd_hd L (-1) ∧ fd_Sl la L) ↔ (la x = fd_hd L (-1) ∧ fd_SE la L (-1))
    rw [ih]
theorem fd_SE_app {la : Nat → Int32} {A B : List Nat} {e : Int32} : fd_SE la (A ++ B) e ↔ fd_SE la A (fd_hd B e) ∧ fd_SE la B e := by
  induction A with
  | nil => exact ⟨fun h => ⟨trivial, h⟩, fun h => h.2⟩
  | cons x A ih =>
    show (la x = fd_hd (A ++ B) e ∧ fd_SE la (A ++ B) e) ↔ (la x = fd_hd A (fd_hd B e) ∧ fd_SE la A (fd_hd B e)) ∧ fd_SE la B e
    rw [ih, fd_hd_app]
    exact ⟨fun h => ⟨⟨h.1, h.2.1⟩, h.2.2⟩, fun h => ⟨h.1.1, h.1.2, h.2⟩⟩
theorem fd_SE_fr {la la' : Nat → Int32} {A : List Nat} {e : Int32} (h : ∀ x, x ∈ A → la' x = la x) (H : fd_SE la A e) : fd_SE la' A e := by
  induction A with
  | nil => trivial
  | cons x A ih => exact ⟨(h x List.mem_cons_self).trans H.1, ih (fun y hy => h y (List.mem_cons_of_mem _ hy)) H.2⟩
theorem fd_SE_last {la : Nat → Int32} {A : List Nat} {y : Nat} {e : Int32} (e' : Int32) (hy : y ∉ A) (H : fd_SE la (A ++ [y]) e) : fd_SE (upd la y e') (A ++ [y]) e' := by
  rw [fd_SE_app] at H ⊢
  refine ⟨fd_SE_fr (fun x hx => pk_un (fun z => hy (z ▸ hx))) H.1, pk_us, trivial⟩
theorem fd_split (p : Nat → Prop) : ∀ L : List Nat, ∃ A B, L = A ++ B ∧ (∀ a, a ∈ A → p a) ∧ (B = [] ∨ ∃ b B', B = b :: B' ∧ ¬ p b) := by
  intro L
  induction L with
  | nil => exact ⟨[], [], rfl, fun a h => (by cases h), Or.inl rfl⟩
  | cons x L ih =>
    by_cases h : p x
    · obtain ⟨A, B, e, hA, hB⟩ := ih
      refine ⟨x :: A, B, by rw [e]; rfl, fun a ha => ?_, hB⟩
      rcases List.mem_cons.mp ha with z | z
      · rw [z]; exact h
      · exact hA a z
    · exact ⟨[], x :: L, rfl, fun a h => (by cases h), Or.inr ⟨x, L, rfl, h⟩⟩
theorem fd_rSl_ins {A B : List Nat} {f : Nat} {la : Nat → Int32} (hn : (A ++ B).Nodup) (hf : f ∉ A ++ B) (H : fd_Sl la (A ++ B)) :
    (A = [] → fd_Sl (upd la f (fd_hd B (-1))) (A ++ f :: B)) ∧ (∀ A' y, A = A' ++ [y] → fd_Sl (upd (upd la f (fd_hd B (-1))) y (nI f)) (A ++ f :: B)) := by
  rw [fd_SE_Sl, fd_SE_app] at H
  have hfA : f ∉ A := fun z => hf (List.mem_append.mpr (Or.inl z))
  have hfB : f ∉ B := fun z => hf (List.mem_append.mpr (Or.inr z))
  constructor
  · intro e
    subst e
    rw [fd_SE_Sl]
    refine ⟨pk_us, fd_SE_fr (fun x hx => pk_un (fun z => hfB (z ▸ hx))) H.2⟩
  · intro A' y e
    subst e
    obtain ⟨n1, n2, n3⟩ := List.nodup_append.mp hn
    have hyA : y ∉ A' := fun w => (List.nodup_append.mp n1).2.2 y w y List.mem_cons_self rfl
    have hyf : f ≠ y := fun z => hfA (z ▸ List.mem_append.mpr (Or.inr List.mem_cons_self))
    have hyB : y ∉ B := fun z => n3 y (List.mem_append.mpr (Or.inr List.mem_cons_self)) y z rfl
    rw [fd_SE_Sl, fd_SE_app]
    refine ⟨?_, ?_, ?_⟩
    · refine fd_SE_last (nI f) hyA (fd_SE_fr (fun x hx => ?_) H.1)
      exact pk_un (fun z => hfA (z ▸ hx))
    · rw [pk_un hyf, pk_us]
    · refine fd_SE_fr (fun x hx => ?_) H.2
      have a1 : x ≠ y := fun z => hyB (z ▸ hx)
      have a2 : x ≠ f := fun z => hfB (z ▸ hx)
      rw [pk_un a1, pk_un a2]
/-- earlier than the one that goes to sleep until w -/
def fd_pl (c : Nat → Nat → Int32) (f w x : Nat) : Prop := (c 10 x).toNatClampNeg < w ∨ ((c 10 x).toNatClampNeg = w ∧ x < f)
def fd_slc (c : Nat → Nat → Int32) (f w : Nat) : Nat → Nat → Int32 := fd_sC (fd_sC c 10 f (nI w)) 6 f 4
theorem fd_i10 {e : Nat} {pd : Nat → Prop} {c : Nat → Nat → Int32} {q : Nat → List Nat} {x : Nat} (I : fd_Inv e pd c q) (hx : x ∈ q 5) : x < 12 ∧ ∃ w, w ≤ 100000031 ∧ c 10 x = nI w := by
  have h12 := (fd_iL I).2.2.1 x hx
  refine ⟨h12, ?_⟩
  obtain ⟨w, t, e1, e2, e3, e4, e5⟩ := fd_iS I x h12 ((fd_i5 I h12).mp hx)
  exact ⟨w, by omega, e1⟩
theorem fd_xsleep {e : Nat} {c : Nat → Nat → Int32} {q : Nat → List Nat} {f w t tk : Nat} {A B : List Nat} {post : SX → Prop} (I : fd_Inv e fd_no c q) (hf : f < 12) (h5 : f ∉ q 5) (ht : c 0 2 = nI t) (hw : w = t + tk) (hwb : w < 2 ^ 30) (hq : q 5 = A ++ B) (hA : ∀ a, a ∈ A → fd_pl c f w a) (hB : B = [] ∨ ∃ b B', B = b :: B' ∧ ¬ fd_pl c f w b)
    (K : ∀ u', fd_RX (fd_slc c f w) (fd_sQ q 5 (A ++ f :: B)) u' → post u') : ∀ u, fd_RX c q u → wpX_sleep post u (nI f) (nI tk) := fd_elK fun sl hd mn fi th la ro nu bg fr bk bh bf wh pu h1 h2 h3 h4 h5 h6 R0 => by
  have hfc : (nI f).toNatClampNeg = f := nI_clamp (by omega)
  have hfi : vp_in (nI f) 12 := vp_in_nI hf (by decide)
  have hnd : (A ++ B).Nodup := by
    rw [← hq]
    refine List.Pairwise.imp (fun {x y} h => ?_) (fd_iL I).2.2.2.1
    rintro rfl
    rcases h with h | h <;> omega
  have hfAB : f ∉ A ++ B := by rw [← hq]; assumption
  obtain ⟨hs1, hs2⟩ := h2
  have hin : ∀ x, x ∈ A ++ B → x < 12 ∧ ∃ w, w ≤ 100000031 ∧ c 10 x = nI w := fun x hx => fd_i10 I (by rw [hq]; exact hx)
  have hlt : ∀ x, x ∈ A ++ B → ((upd (c 10) f (nI w) x < upd (c 10) f (nI w) f ↔ (c 10 x).toNatClampNeg < w) ∧ (upd (c 10) f (nI w) x = upd (c 10) f (nI w) f ↔ (c 10 x).toNatClampNeg = w)) := by
    intro x hx
    obtain ⟨-, w', hw', e'⟩ := hin x hx
    have nx : x ≠ f := fun z => hfAB (z ▸ hx)
    rw [pk_us, pk_un nx, e', nI_ltI (by omega) (by omega), nI_eq (by omega) (by omega), nI_clamp (by omega)]
    exact ⟨Iff.rfl, Iff.rfl⟩
  have hs2' : fd_SE la (A ++ B) (-1) := by rw [← hq, ← fd_SE_Sl]; exact hs2
  have hins := fd_rSl_ins (f := f) hnd hfAB (by rw [← hq]; exact hs2)
  have e5 : fd_sQ q 5 (A ++ f :: B) 5 = A ++ f :: B := rfl
  -- the end
  have bB : fd_By (fd_hd B (-1)) := by
    cases B with
    | nil => exact fd_byM
    | cons b B =>
      have := (hin b (List.mem_append.mpr (Or.inr List.mem_cons_self))).1
      exact fd_byN (by omega)
  have fin : wX_sleep_85 post (nI f) (fd_ls (-1) A) (fd_hd B (-1)) sl hd mn (c 0 0) (c 0 1) (c 0 3) (c 0 2) (c 1) fi (c 3) th (c 5) (upd (c 6) f 4) (c 7) (c 8) (c 9) (c 20) (c 19) (upd (c 10) f (nI w)) la (c 18) ro (c 15) (c 16) nu bg (c 14) (c 11) (c 12) fr bk bh bf wh pu := by
    unfold wX_sleep_85
    rw [hfc, fd_nb8 bB, fd_nbN (show f < 128 by omega)]
    refine ⟨hfi, nm_e ?_⟩
    rcases fd_nil_or_last A with eA | ⟨A', y, eA⟩
    · have hh := hins.1 eA
      subst eA
      refine br_f fd_mnle (K _ ?_)
      exact fd_inX (c := fd_slc c f w) h1 ⟨rfl, hh⟩ (fd_rCh_hi (by decide) h3) h4 h5 h6
    · have hh := hins.2 A' y eA
      have hy : y < 12 := (hin y (List.mem_append.mpr (Or.inl (by rw [eA]; exact List.mem_append.mpr (Or.inr List.mem_cons_self))))).1
      rw [eA, fd_ls_one, nI_clamp (by omega)]
      refine br_t (nI_pos' (by omega)) ⟨vp_in_nI hy (by decide), nm_e (K _ ?_)⟩
      refine fd_inX (c := fd_slc c f w) h1 ⟨?_, hh⟩ (fd_rCh_hi (by decide) h3) h4 h5 h6
      rw [hs1, hq, e5, fd_hd_app, fd_hd_app, eA]
      cases A' <;> rfl
  -- the loop
  have loop : ∀ (A2 A1 : List Nat) (n : Nat), A = A1 ++ A2 → A2.length < n → wX_sleep_27 post (nI f) sl hd mn (c 0 0) (c 0 1) (c 0 3) (c 0 2) (c 1) fi (c 3) th (c 5) (upd (c 6) f 4) (c 7) (c 8) (c 9) (c 20) (c 19) (upd (c 10) f (nI w)) la (c 18) ro (c 15) (c 16) nu bg (c 14) (c 11) (c 12) fr bk bh bf wh pu n (fd_ls (-1) A1) (fd_hd (A2 ++ B) (-1)) := by
    intro A2
    induction A2 with
    | nil =>
      intro A1 n eA hn
      obtain ⟨n, rfl⟩ : ∃ n', n = n' + 1 := ⟨n - 1, by omega⟩
      rw [List.append_nil] at eA
      subst eA
      rcases hB with eB | ⟨b, B', eB, hb⟩
      · have fin' := fin
        rw [eB] at fin' ⊢
        exact br_t fd_mlt fin'
      · have hbm : b ∈ A ++ B := List.mem_append.mpr (Or.inr (by rw [eB]; exact List.mem_cons_self))
        have hb12 := (hin b hbm).1
        have hl := hlt b hbm
        have hbc : (nI b).toNatClampNeg = b := nI_clamp (by omega)
        have hbi : vp_in (nI b) 12 := vp_in_nI hb12 (by decide)
        have fin' := fin
        have eb : fd_hd ([] ++ B) (-1) = nI b := by rw [eB]; rfl
        have eb' : fd_hd B (-1) = nI b := by rw [eB]; rfl
        rw [eb'] at fin'
        rw [eb]
        refine br_f (nI_pos (n := b) (by omega)) ⟨hbi, hfi, ?_⟩
        rw [hbc, hfc]
        refine br_f (fun z => hb (Or.inl (hl.1.mp z))) ⟨hbi, hfi, br_c (fun z => br_t ?_ fin') fun _ => fin'⟩
        have hz := hl.2.mp z
        refine nI_le (Nat.le_of_not_lt fun y => hb (Or.inr ⟨hz, y⟩)) (by omega)
    | cons a A2 ih =>
      intro A1 n eA hn
      obtain ⟨n, rfl⟩ : ∃ n', n = n' + 1 := ⟨n - 1, by omega⟩
      have haA : a ∈ A := by rw [eA]; exact List.mem_append.mpr (Or.inr List.mem_cons_self)
      have ham : a ∈ A ++ B := List.mem_append.mpr (Or.inl haA)
      have ha12 := (hin a ham).1
      have hl := hlt a ham
      have hac : (nI a).toNatClampNeg = a := nI_clamp (by omega)
      have hai : vp_in (nI a) 12 := vp_in_nI ha12 (by decide)
      have next : la a = fd_hd (A2 ++ B) (-1) := by
        have := hs2'
        rw [eA, List.append_assoc, fd_SE_app] at this
        exact this.2.1
      have go : wX_sleep_70 post (wX_sleep_27 post (nI f) sl hd mn (c 0 0) (c 0 1) (c 0 3) (c 0 2) (c 1) fi (c 3) th (c 5) (upd (c 6) f 4) (c 7) (c 8) (c 9) (c 20) (c 19) (upd (c 10) f (nI w)) la (c 18) ro (c 15) (c 16) nu bg (c 14) (c 11) (c 12) fr bk bh bf wh pu n) (nI f) (nI a) sl hd mn (c 0 0) (c 0 1) (c 0 3) (c 0 2) (c 1) fi (c 3) th (c 5) (upd (c 6) f 4) (c 7) (c 8) (c 9) (c 20) (c 19) (upd (c 10) f (nI w)) la (c 18) ro (c 15) (c 16) nu bg (c 14) (c 11) (c 12) fr bk bh bf wh pu := by
        refine ⟨hai, nm_r (e' := fd_hd (A2 ++ B) (-1)) (by rw [hac]; exact next) ?_⟩
        have z := ih (A1 ++ [a]) n (by rw [eA, List.append_assoc]; rfl) (by
          have : (a :: A2).length = A2.length + 1 := rfl
          omega)
        rw [fd_ls_one] at z
        exact z
      rw [show fd_hd (a :: A2 ++ B) (-1) = nI a from rfl]
      refine br_f (nI_pos (n := a) (by omega)) ⟨hai, hfi, ?_⟩
      rw [hac, hfc]
      refine br_c (fun _ => go) fun z => ⟨hai, hfi, ?_⟩
      rcases hA a haA with y | ⟨y, y'⟩
      · exact absurd (hl.1.mpr y) z
      · exact br_t (hl.2.mpr y) (br_f (nI_ge y' (by omega)) go)
  have ew : nI t + nI tk = nI w := by rw [nI_add, hw]
  unfold wpX_sleep
  dsimp only
  rw [hfc, fd_nb4, ht, ew]
  refine ⟨hfi, nm_e ⟨hfi, nm_e ⟨A.length + 1, ?_⟩⟩⟩
  have z := loop A [] (A.length + 1) rfl (by omega)
  rw [ht, ← hq, ← hs1] at z
  exact z
end
section
theorem fd_Isleep {e : Nat} {c : Nat → Nat → Int32} {q : Nat → List Nat} {f w t tk : Nat} {A B : List Nat} (I : fd_Inv e fd_no c q) (he : e ≤ 1) (hf : f < 12) (h2 : c 6 f = 2) (ht : c 0 2 = nI t) (htb : t ≤ 100000000) (hw : w = t + tk) (hk1 : 1 ≤ tk) (hk2 : tk ≤ 31) (hq : q 5 = A ++ B) (hA : ∀ a, a ∈ A → fd_pl c f w a) (hB : B = [] ∨ ∃ b B', B = b :: B' ∧ ¬ fd_pl c f w b) :
    fd_Inv e fd_no (fd_slc c f w) (fd_sQ q 5 (A ++ f :: B)) := by
  have e6 : fd_slc c f w 6 f = 4 := pk_us
  have o6 : ∀ g, g ≠ f → fd_slc c f w 6 g = c 6 g := fun g hg => pk_un hg
  have e10 : fd_slc c f w 10 f = nI w := pk_us
  have o10 : ∀ g, g ≠ f → fd_slc c f w 10 g = c 10 g := fun g hg => pk_un hg
  have hout := fd_out I hf (fd_on3 h2)
  have nb := fd_nbit I hf (fd_on3 h2).2.1
  have hfAB : f ∉ A ++ B := by rw [← hq]; exact hout.2.1
  have iC := fd_iC I
  have iJ := fd_iJ I
  have hwc : (nI w).toNatClampNeg = w := nI_clamp (by omega)
  have hlo : ∀ k, k < 4 → fd_sQ q 5 (A ++ f :: B) k = q k := fun k hk => fd_sQ_n (by omega)
  have lts : ∀ x y, x ∈ A ++ B → y ∈ A ++ B → fd_lt c x y → fd_lt (fd_slc c f w) x y := by
    intro x y hx hy h
    have nx : x ≠ f := fun z => hfAB (z ▸ hx)
    have ny : y ≠ f := fun z => hfAB (z ▸ hy)
    unfold fd_lt
    rw [o10 x nx, o10 y ny]
    exact h
  refine fd_Imove I hf I.1 ⟨rfl, rfl, rfl, rfl, rfl⟩ iC iJ (fun g hg hgf => ?_) (fun g hg hgf t ht => fd_iB I hg ht) ?_ ?_ ?_ ?_
  · refine ⟨o6 g hgf, rfl, rfl, rfl, rfl, fun _ _ => rfl, fd_ql6 (fun k hk => ?_) Iff.rfl ?_, fun k hk => ?_⟩
    · rw [hlo k hk]
    · show g ∈ A ++ f :: B ↔ g ∈ q 5
      rw [hq, List.mem_append, List.mem_append, List.mem_cons]
      constructor
      · rintro (z | z | z)
        · exact Or.inl z
        · exact absurd z hgf
        · exact Or.inr z
      · rintro (z | z)
        · exact Or.inl z
        · exact Or.inr (Or.inr z)
    · rw [hlo k hk]
  · refine ⟨⟨4, by decide, e6⟩, fd_i7 I hf, fd_i8 I hf, ⟨fun z => absurd z hout.1, fun z => ?_⟩, ⟨fun _ => e6, fun _ => List.mem_append.mpr (Or.inr List.mem_cons_self)⟩, fun z => ?_, fun k hk => ⟨⟨fun z => ?_, fun z => ?_⟩, ⟨fun z => ?_, fun z => ?_⟩⟩, fun s hs => ⟨fun z => absurd z (nb s hs), fun z => ?_⟩⟩
    · rw [e6] at z; exact absurd z (by decide)
    · rw [e6] at z; exact absurd z (by decide)
    · rw [hlo k hk] at z; exact absurd z (hout.2.2 k hk).1
    · have := z.1; rw [e6] at this; exact absurd this (by decide)
    · rw [hlo k hk] at z; exact absurd z (hout.2.2 k hk).2
    · have := z.1; rw [e6] at this; exact absurd this (by decide)
    · have := z.1.1; rw [e6] at this; exact absurd this (by decide)
  · obtain ⟨a, b, d, g, h⟩ := fd_iL I
    rw [hq, List.pairwise_append] at g
    obtain ⟨gA, gB, gAB⟩ := g
    refine ⟨a, b, fun x hx => ?_, ?_, fun k hk => by rw [hlo k hk]; exact h k hk⟩
    · have hx' : x ∈ A ++ f :: B := hx
      rcases List.mem_append.mp hx' with z | z
      · exact d x (by rw [hq]; exact List.mem_append.mpr (Or.inl z))
      · rcases List.mem_cons.mp z with z | z
        · rw [z]; exact hf
        · exact d x (by rw [hq]; exact List.mem_append.mpr (Or.inr z))
    · show List.Pairwise (fd_lt (fd_slc c f w)) (A ++ f :: B)
      rw [List.pairwise_append, List.pairwise_cons]
      have mA : ∀ x, x ∈ A → x ∈ A ++ B := fun x hx => List.mem_append.mpr (Or.inl hx)
      have mB : ∀ x, x ∈ B → x ∈ A ++ B := fun x hx => List.mem_append.mpr (Or.inr hx)
      have ltf : ∀ y, y ∈ B → fd_lt (fd_slc c f w) f y := by
        intro y hy
        have ny : y ≠ f := fun z => hfAB (z ▸ mB y hy)
        unfold fd_lt
        rw [e10, o10 y ny, hwc]
        rcases hB with eB | ⟨b0, B', eB, hb⟩
        · rw [eB] at hy; cases hy
        · have nb0 : b0 ≠ f := fun z => hfAB (z ▸ mB b0 (by rw [eB]; exact List.mem_cons_self))
          have hb1 : ¬ (c 10 b0).toNatClampNeg < w := fun z => hb (Or.inl z)
          have hb2 : ¬ ((c 10 b0).toNatClampNeg = w ∧ b0 < f) := fun z => hb (Or.inr z)
          rw [eB] at hy gB
          rcases List.mem_cons.mp hy with z | z
          · subst z; omega
          · have := (List.pairwise_cons.mp gB).1 y z
            rcases this with k | k <;> omega
      refine ⟨List.Pairwise.imp_of_mem (fun {x y} hx hy h => lts x y (mA x hx) (mA y hy) h) gA, ⟨ltf, List.Pairwise.imp_of_mem (fun {x y} hx hy h => lts x y (mB x hx) (mB y hy) h) gB⟩, fun x hx y hy => ?_⟩
      rcases List.mem_cons.mp hy with z | z
      · have nx : x ≠ f := fun z => hfAB (z ▸ mA x hx)
        rw [z]
        unfold fd_lt
        rw [e10, o10 x nx, hwc]
        exact hA x hx
      · exact lts x y (mA x hx) (mB y z) (gAB x hx y z)
  · intro g hg z
    by_cases y : g = f
    · subst y
      exact ⟨w, t, e10, ht, by omega, by omega, htb⟩
    · rw [o6 g y] at z
      rw [o10 g y]
      exact fd_iS I g hg z
  · intro k hk
    rw [hlo k hk]
    exact fd_iH I k hk
/-! the flag of the reference: yields -/
def fd_y0 (c : Nat → Nat → Int32) : Nat → Nat → Int32 := fd_sC c 0 4 0
theorem fd_Iy0 {e : Nat} {pd : Nat → Prop} {c : Nat → Nat → Int32} {q : Nat → List Nat} (I : fd_Inv e pd c q) : fd_Inv e pd (fd_y0 c) q := I
theorem fd_Ry0 {c : Nat → Nat → Int32} {q : Nat → List Nat} : ∀ u, fd_RX c q u → fd_RX (fd_y0 c) q u := fd_elK fun sl hd mn fi th la ro nu bg fr bk bh bf wh pu h1 h2 h3 h4 h5 h6 R0 => fd_inX h1 h2 h3 h4 h5 h6
end
section
/-! one step: from the instructions to the step -/
def fd_Sb (c : Nat → Nat → Int32) (f : Nat) : Prop := ∃ pn, pn < 6 ∧ c 7 f = nI pn ∧ c 8 f < c 5 pn
theorem fd_Sb8 {e : Nat} {pd : Nat → Prop} {c : Nat → Nat → Int32} {q : Nat → List Nat} {f : Nat} (I : fd_Inv e pd c q) (hf : f < 12) (hb : fd_Sb c f) : fd_In 12 (c 8 f) := by
  obtain ⟨pn, hpn, -, hlt⟩ := hb
  obtain ⟨n, hn, e8⟩ := fd_i8 I hf
  obtain ⟨m, hm, e5⟩ := (fd_iP I).2 pn (by omega)
  rw [e8, e5, nI_ltI (by omega) (by omega)] at hlt
  exact ⟨n, by omega, e8⟩
theorem fd_x210 {c : Nat → Nat → Int32} {q : Nat → List Nat} {f : Nat} {post : Int32 → SX → Prop} {r : Int32} (hf : f < 12) (hr : r = 0 ∨ r = 1) (h8 : fd_In 12 (c 8 f)) (K : ∀ u', fd_RX (fd_sC c 8 f (c 8 f + 1)) q u' → post r u') : ∀ u, fd_RX c q u → (match u with | (f_sleeper, f_head, f_many, f_carriers, f_slice, f_puts, f_time, a_op, a_first, a_second, a_third, a_length, a_state, a_program, a_place, a_register, a_gives, a_into, a_wake, a_later, a_joiners, a_row, a_on, a_done, a_number, a_begin, a_count, a_capacity, a_closed, a_front, a_back, a_behind, a_before, a_at, a_put) => wX_step_210 post (nI f) r f_sleeper f_head f_many f_carriers f_slice f_puts f_time a_op a_first a_second a_third a_length a_state a_program a_place a_register a_gives a_into a_wake a_later a_joiners a_row a_on a_done a_number a_begin a_count a_capacity a_closed a_front a_back a_behind a_before a_at a_put) := fd_elK fun sl hd mn fi th la ro nu bg fr bk bh bf wh pu h1 h2 h3 h4 h5 h6 R0 => by
  obtain ⟨n, hn, e8⟩ := h8
  have hfc : (nI f).toNatClampNeg = f := nI_clamp (by omega)
  have hfi : vp_in (nI f) 12 := vp_in_nI hf (by decide)
  dsimp only
  unfold wX_step_210
  rw [hfc, fd_pc1 e8 (by omega)]
  exact ⟨hfi, hfi, nm_e ⟨fd_nb01 hr, K _ (fd_inX h1 h2 h3 h4 h5 h6)⟩⟩
theorem fd_xstC {e : Nat} {pd : Nat → Prop} {c : Nat → Nat → Int32} {q : Nat → List Nat} {c1 : Nat → Nat → Int32} {q1 : Nat → List Nat} {f : Nat} {o a b d r : Int32} (I : fd_Inv e pd c q) (hf : f < 12) (hb : fd_Sb c f) (ho : fd_op c f = o) (o6 : ¬ o < 6) (o6' : 6 ≤ o) (o2 : ¬ o = 2) (o3 : ¬ o = 3) (o13 : ¬ o = 13)
    (ha : (fd_oa c f).toInt8.toInt32 = a) (hbb : fd_ob c f = b) (hd' : (fd_oc c f).toInt8.toInt32 = d) (hr : r = 0 ∨ r = 1) (L : fd_MX r (fd_y0 c) q c1 q1 (fun p u => wpX_communicate p u (nI f) o a b d)) (h8 : r = 0 → fd_In 12 (c1 8 f)) :
    (r = 0 → fd_MX r c q (fd_sC c1 8 f (c1 8 f + 1)) q1 (fun p u => wpX_step p u (nI f))) ∧ (r = 1 → fd_MX r c q c1 q1 (fun p u => wpX_step p u (nI f))) := by
  have hfc : (nI f).toNatClampNeg = f := nI_clamp (by omega)
  have hfi : vp_in (nI f) 12 := vp_in_nI hf (by decide)
  obtain ⟨pn, hpn, e7, hlt⟩ := hb
  have hpc : (nI pn).toNatClampNeg = pn := nI_clamp (by omega)
  have hpi : vp_in (nI pn) 7 := vp_in_nI (by omega) (by decide)
  have hk := fd_ikk I hf
  have hkc : (nI (fd_kk c f)).toNatClampNeg = fd_kk c f := nI_clamp (by omega)
  have hki : vp_in (nI (fd_kk c f)) 84 := vp_in_nI (by omega) (by decide)
  have ekk : 12 * nI pn + c 8 f = nI (fd_kk c f) := by rw [← e7]; exact (fd_kkE (fd_i7 I hf) (fd_i8 I hf)).1
  refine ⟨fun z post K => fd_elK fun sl hd mn fi th la ro nu bg fr bk bh bf wh pu h1 h2 h3 h4 h5 h6 R0 => ?_, fun z post K => fd_elK fun sl hd mn fi th la ro nu bg fr bk bh bf wh pu h1 h2 h3 h4 h5 h6 R0 => ?_⟩
  · unfold wpX_step
    dsimp only
    rw [hfc]
    refine ⟨hfi, nm_r e7 ⟨hfi, ?_⟩⟩
    rw [hpc]
    refine ⟨hpi, br_t hlt ⟨hfi, nm_r ekk ?_⟩⟩
    rw [hkc, (h6 (fd_kk c f) (by omega)).1]
    refine ⟨hki, nm_r ha ⟨hki, nm_r hbb ⟨hki, nm_r ho ?_⟩⟩⟩
    refine br_f o2 (br_f o3 (br_f o13 (br_f o6 ⟨hki, ?_⟩)))
    rw [(h6 (fd_kk c f) (by omega)).2]
    unfold fd_oc at hd'
    rw [hd']
    refine L _ (fd_elK fun sl hd mn fi th la ro nu bg fr bk bh bf wh pu h1 h2 h3 h4 h5 h6 R0 => br_t z ?_) _ (fd_Ry0 _ R0)
    exact fd_x210 hf hr (h8 z) K _ R0
  · unfold wpX_step
    dsimp only
    rw [hfc]
    refine ⟨hfi, nm_r e7 ⟨hfi, ?_⟩⟩
    rw [hpc]
    refine ⟨hpi, br_t hlt ⟨hfi, nm_r ekk ?_⟩⟩
    rw [hkc, (h6 (fd_kk c f) (by omega)).1]
    refine ⟨hki, nm_r ha ⟨hki, nm_r hbb ⟨hki, nm_r ho ?_⟩⟩⟩
    refine br_f o2 (br_f o3 (br_f o13 (br_f o6 ⟨hki, ?_⟩)))
    rw [(h6 (fd_kk c f) (by omega)).2]
    unfold fd_oc at hd'
    rw [hd']
    refine L _ (fd_elK fun sl hd mn fi th la ro nu bg fr bk bh bf wh pu h1 h2 h3 h4 h5 h6 R0 => br_f (by rw [z]; decide) (br_t o6' ⟨fd_nb01 hr, K _ R0⟩)) _ (fd_Ry0 _ R0)
theorem fd_xstP {e : Nat} {pd : Nat → Prop} {c : Nat → Nat → Int32} {q : Nat → List Nat} {c1 : Nat → Nat → Int32} {q1 : Nat → List Nat} {f : Nat} {o a b r : Int32} (I : fd_Inv e pd c q) (hf : f < 12) (hb : fd_Sb c f) (ho : fd_op c f = o) (o6 : o < 6) (o6' : ¬ 6 ≤ o) (o2 : ¬ o = 2) (o3 : ¬ o = 3) (o13 : ¬ o = 13)
    (ha : (fd_oa c f).toInt8.toInt32 = a) (hbb : fd_ob c f = b) (hr : r = 0 ∨ r = 1) (L : fd_MX r (fd_y0 c) q c1 q1 (fun p u => wpX_plain p u (nI f) o a b)) (h8 : fd_In 12 (c1 8 f)) :
    fd_MX r c q (fd_sC c1 8 f (c1 8 f + 1)) q1 (fun p u => wpX_step p u (nI f)) := by
  have hfc : (nI f).toNatClampNeg = f := nI_clamp (by omega)
  have hfi : vp_in (nI f) 12 := vp_in_nI hf (by decide)
  obtain ⟨pn, hpn, e7, hlt⟩ := hb
  have hpc : (nI pn).toNatClampNeg = pn := nI_clamp (by omega)
  have hpi : vp_in (nI pn) 7 := vp_in_nI (by omega) (by decide)
  have hk := fd_ikk I hf
  have hkc : (nI (fd_kk c f)).toNatClampNeg = fd_kk c f := nI_clamp (by omega)
  have hki : vp_in (nI (fd_kk c f)) 84 := vp_in_nI (by omega) (by decide)
  have ekk : 12 * nI pn + c 8 f = nI (fd_kk c f) := by rw [← e7]; exact (fd_kkE (fd_i7 I hf) (fd_i8 I hf)).1
  refine fun post K => fd_elK fun sl hd mn fi th la ro nu bg fr bk bh bf wh pu h1 h2 h3 h4 h5 h6 R0 => ?_
  unfold wpX_step
  dsimp only
  rw [hfc]
  refine ⟨hfi, nm_r e7 ⟨hfi, ?_⟩⟩
  rw [hpc]
  refine ⟨hpi, br_t hlt ⟨hfi, nm_r ekk ?_⟩⟩
  rw [hkc, (h6 (fd_kk c f) (by omega)).1]
  refine ⟨hki, nm_r ha ⟨hki, nm_r hbb ⟨hki, nm_r ho ?_⟩⟩⟩
  refine br_f o2 (br_f o3 (br_f o13 (br_t o6 ?_)))
  refine L _ (fd_elK fun sl hd mn fi th la ro nu bg fr bk bh bf wh pu h1 h2 h3 h4 h5 h6 R0 => ?_) _ (fd_Ry0 _ R0)
  rcases hr with z | z
  · exact br_t z (fd_x210 hf (Or.inl z) h8 K _ R0)
  · exact br_f (by rw [z]; decide) (br_f o6' (fd_x210 hf (Or.inr z) h8 K _ R0))
theorem fd_xstF {e : Nat} {pd : Nat → Prop} {c : Nat → Nat → Int32} {q : Nat → List Nat} {c1 : Nat → Nat → Int32} {q1 : Nat → List Nat} {f : Nat} {a b : Int32} (I : fd_Inv e pd c q) (hf : f < 12) (hb : fd_Sb c f) (ho : fd_op c f = 13) (ha : (fd_oa c f).toInt8.toInt32 = a) (hbb : fd_ob c f = b)
    (L : fd_LX (fd_y0 c) q c1 q1 (fun p u => wpX_finish p u (nI f) 0)) : fd_MX 1 c q c1 q1 (fun p u => wpX_step p u (nI f)) := by
  have hfc : (nI f).toNatClampNeg = f := nI_clamp (by omega)
  have hfi : vp_in (nI f) 12 := vp_in_nI hf (by decide)
  obtain ⟨pn, hpn, e7, hlt⟩ := hb
  have hpc : (nI pn).toNatClampNeg = pn := nI_clamp (by omega)
  have hpi : vp_in (nI pn) 7 := vp_in_nI (by omega) (by decide)
  have hk := fd_ikk I hf
  have hkc : (nI (fd_kk c f)).toNatClampNeg = fd_kk c f := nI_clamp (by omega)
  have hki : vp_in (nI (fd_kk c f)) 84 := vp_in_nI (by omega) (by decide)
  have ekk : 12 * nI pn + c 8 f = nI (fd_kk c f) := by rw [← e7]; exact (fd_kkE (fd_i7 I hf) (fd_i8 I hf)).1
  refine fun post K => fd_elK fun sl hd mn fi th la ro nu bg fr bk bh bf wh pu h1 h2 h3 h4 h5 h6 R0 => ?_
  unfold wpX_step
  dsimp only
  rw [hfc]
  refine ⟨hfi, nm_r e7 ⟨hfi, ?_⟩⟩
  rw [hpc]
  refine ⟨hpi, br_t hlt ⟨hfi, nm_r ekk ?_⟩⟩
  rw [hkc, (h6 (fd_kk c f) (by omega)).1]
  refine ⟨hki, nm_r ha ⟨hki, nm_r hbb ⟨hki, nm_r ho ?_⟩⟩⟩
  refine br_f (by decide) (br_f (by decide) (br_t rfl ?_))
  exact L _ (fd_elK fun sl hd mn fi th la ro nu bg fr bk bh bf wh pu h1 h2 h3 h4 h5 h6 R0 => K _ R0) _ (fd_Ry0 _ R0)
/-- behind the last instruction -/
theorem fd_stE {e d : Nat} {pd : Nat → Prop} {c : Nat → Nat → Int32} {q : Nat → List Nat} {c1 : Nat → Nat → Int32} {q1 : Nat → List Nat} {f pn : Nat} (I : fd_Inv e pd c q) (hf : f < 12) (hpn : pn < 6) (e7 : c 7 f = nI pn) (hlt : ¬ c 8 f < c 5 pn) :
    (fd_LX (fd_y0 c) q c1 q1 (fun p u => wpX_finish p u (nI f) 0) → fd_MX 1 c q c1 q1 (fun p u => wpX_step p u (nI f))) ∧ (fd_LY d (fd_y0 c) q c1 q1 (fun p v => wpY_finish p v (nI f) 5) → fd_LY d c q c1 q1 (fun p v => wpY_step p v (nI f))) := by
  have hfc : (nI f).toNatClampNeg = f := nI_clamp (by omega)
  have hfi : vp_in (nI f) 12 := vp_in_nI hf (by decide)
  have hpc : (nI pn).toNatClampNeg = pn := nI_clamp (by omega)
  have hpi : vp_in (nI pn) 7 := vp_in_nI (by omega) (by decide)
  refine ⟨fun L post K => fd_elK fun sl hd mn fi th la ro nu bg fr bk bh bf wh pu h1 h2 h3 h4 h5 h6 R0 => ?_, fun L N kx post hN K => fd_elL fun m tf ts dn g1 g2 g3 S0 => ?_⟩
  · unfold wpX_step
    dsimp only
    rw [hfc]
    refine ⟨hfi, nm_r e7 ⟨hfi, ?_⟩⟩
    rw [hpc]
    refine ⟨hpi, br_f hlt ?_⟩
    exact L _ (fd_elK fun sl hd mn fi th la ro nu bg fr bk bh bf wh pu h1 h2 h3 h4 h5 h6 R0 => K _ R0) _ (fd_Ry0 _ R0)
  · unfold wpY_step
    dsimp only
    rw [hfc]
    refine ⟨hfi, nm_r e7 ?_⟩
    refine fd_yplace hf (fd_i7 I hf) (fd_i8 I hf) ?_ _ S0
    rw [hpc]
    refine ⟨hfi, hpi, br_f hlt ?_⟩
    exact L N kx _ hN (fd_elL fun m tf ts dn g1 g2 g3 S0 => K _ S0) _ (fd_inY g1 g2 g3)
section
variable {e dd : Nat} {pd : Nat → Prop} {c c1 : Nat → Nat → Int32} {q q1 : Nat → List Nat} {f : Nat}
theorem fd_ystP {o : Int32} (I : fd_Inv e pd c q) (hf : f < 12) (hb : fd_Sb c f) (ho : fd_op c f = o) (hc : o < 6 ∨ o = 9 ∨ o = 11 ∨ o = 12) (L : fd_LY dd (fd_y0 c) q c1 q1 (fun p v => wpY_plain p v (nI f) (nI (fd_kk c f)))) : fd_LY dd c q c1 q1 (fun p v => wpY_step p v (nI f)) := by
  have ha : fd_oa c f = fd_oa c f := rfl
  have hbb : fd_ob c f = fd_ob c f := rfl
  have hfc : (nI f).toNatClampNeg = f := nI_clamp (by omega)
  have hfi : vp_in (nI f) 12 := vp_in_nI hf (by decide)
  obtain ⟨pn, hpn, e7, hlt⟩ := hb
  have hpc : (nI pn).toNatClampNeg = pn := nI_clamp (by omega)
  have hpi : vp_in (nI pn) 7 := vp_in_nI (by omega) (by decide)
  have hk := fd_ikk I hf
  have hkc : (nI (fd_kk c f)).toNatClampNeg = fd_kk c f := nI_clamp (by omega)
  have hki : vp_in (nI (fd_kk c f)) 84 := vp_in_nI (by omega) (by decide)
  have ekk : 12 * nI pn + c 8 f = nI (fd_kk c f) := by rw [← e7]; exact (fd_kkE (fd_i7 I hf) (fd_i8 I hf)).1
  refine fun N kx post hN K => fd_elL fun m tf ts dn g1 g2 g3 S0 => ?_
  unfold wpY_step
  dsimp only
  rw [hfc]
  refine ⟨hfi, nm_r e7 ?_⟩
  refine fd_yplace hf (fd_i7 I hf) (fd_i8 I hf) ?_ _ S0
  rw [hpc, hkc]
  refine ⟨hfi, hpi, br_t hlt ⟨hki, nm_r ha ⟨hki, nm_r hbb ⟨hki, nm_r ho ?_⟩⟩⟩⟩
  have go : wY_step_234 post (nI f) (nI (fd_kk c f)) (c 0 0) (c 0 1) (c 0 2) (c 0 3) (lN m) 0 (c 1) (c 2) (c 3) (c 4) (c 5) (c 6) (c 7) (c 8) (c 9) (c 10) ts (c 11) (c 12) (c 13) (c 14) (c 15) dn (c 17) := L N kx _ hN (fd_elL fun m tf ts dn g1 g2 g3 S0 => K _ S0) _ (fd_inY (c := fd_y0 c) g1 g2 g3)
  rcases hc with z | rfl | rfl | rfl
  · exact br_t z go
  · exact br_f (by decide) (br_f (by decide) (br_f (by decide) (br_f (by decide) (br_f (by decide) (br_t rfl go)))))
  · exact br_f (by decide) (br_f (by decide) (br_f (by decide) (br_f (by decide) (br_f (by decide) (br_f (by decide) (br_f (by decide) (br_t rfl go)))))))
  · exact br_f (by decide) (br_f (by decide) (br_f (by decide) (br_f (by decide) (br_f (by decide) (br_f (by decide) (br_f (by decide) (br_f (by decide) (br_t rfl go))))))))
theorem fd_yst6 {rb : Nat} {a : Int32} (I : fd_Inv e pd c q) (hf : f < 12) (hb : fd_Sb c f) (ho : fd_op c f = 6) (ha : fd_oa c f = a) (hbb : fd_ob c f = nI rb) (hrb : rb < 3) (L : fd_LY dd (fd_y0 c) q c1 q1 (fun p v => wpY_send p v (nI f) a (c 9 (3 * f + rb)))) : fd_LY dd c q c1 q1 (fun p v => wpY_step p v (nI f)) := by
  have hfc : (nI f).toNatClampNeg = f := nI_clamp (by omega)
  have hfi : vp_in (nI f) 12 := vp_in_nI hf (by decide)
  obtain ⟨pn, hpn, e7, hlt⟩ := hb
  have hpc : (nI pn).toNatClampNeg = pn := nI_clamp (by omega)
  have hpi : vp_in (nI pn) 7 := vp_in_nI (by omega) (by decide)
  have hk := fd_ikk I hf
  have hkc : (nI (fd_kk c f)).toNatClampNeg = fd_kk c f := nI_clamp (by omega)
  have hki : vp_in (nI (fd_kk c f)) 84 := vp_in_nI (by omega) (by decide)
  have ekk : 12 * nI pn + c 8 f = nI (fd_kk c f) := by rw [← e7]; exact (fd_kkE (fd_i7 I hf) (fd_i8 I hf)).1
  refine fun N kx post hN K => fd_elL fun m tf ts dn g1 g2 g3 S0 => ?_
  unfold wpY_step
  dsimp only
  rw [hfc]
  refine ⟨hfi, nm_r e7 ?_⟩
  refine fd_yplace hf (fd_i7 I hf) (fd_i8 I hf) ?_ _ S0
  rw [hpc, hkc]
  refine ⟨hfi, hpi, br_t hlt ⟨hki, nm_r ha ⟨hki, nm_r hbb ⟨hki, nm_r ho ?_⟩⟩⟩⟩
  refine br_f (by decide) (br_f (by decide) (br_t rfl ?_))
  rw [fd_3k, nI_add, nI_clamp (show 3 * f + rb < 2 ^ 31 by omega)]
  refine ⟨vp_in_nI (by omega) (by decide), ?_⟩
  exact L N kx _ hN (fd_elL fun m tf ts dn g1 g2 g3 S0 => K _ S0) _ (fd_inY (c := fd_y0 c) g1 g2 g3)
theorem fd_yst7 {rb : Nat} {a : Int32} (I : fd_Inv e pd c q) (hf : f < 12) (hb : fd_Sb c f) (ho : fd_op c f = 7) (ha : fd_oa c f = a) (hbb : fd_ob c f = nI rb) (hrb : rb < 3) (L : fd_LY dd (fd_y0 c) q c1 q1 (fun p v => wpY_receive p v (nI f) a (nI (3 * f + rb)))) : fd_LY dd c q c1 q1 (fun p v => wpY_step p v (nI f)) := by
  have hfc : (nI f).toNatClampNeg = f := nI_clamp (by omega)
  have hfi : vp_in (nI f) 12 := vp_in_nI hf (by decide)
  obtain ⟨pn, hpn, e7, hlt⟩ := hb
  have hpc : (nI pn).toNatClampNeg = pn := nI_clamp (by omega)
  have hpi : vp_in (nI pn) 7 := vp_in_nI (by omega) (by decide)
  have hk := fd_ikk I hf
  have hkc : (nI (fd_kk c f)).toNatClampNeg = fd_kk c f := nI_clamp (by omega)
  have hki : vp_in (nI (fd_kk c f)) 84 := vp_in_nI (by omega) (by decide)
  have ekk : 12 * nI pn + c 8 f = nI (fd_kk c f) := by rw [← e7]; exact (fd_kkE (fd_i7 I hf) (fd_i8 I hf)).1
  refine fun N kx post hN K => fd_elL fun m tf ts dn g1 g2 g3 S0 => ?_
  unfold wpY_step
  dsimp only
  rw [hfc]
  refine ⟨hfi, nm_r e7 ?_⟩
  refine fd_yplace hf (fd_i7 I hf) (fd_i8 I hf) ?_ _ S0
  rw [hpc, hkc]
  refine ⟨hfi, hpi, br_t hlt ⟨hki, nm_r ha ⟨hki, nm_r hbb ⟨hki, nm_r ho ?_⟩⟩⟩⟩
  refine br_f (by decide) (br_f (by decide) (br_f (by decide) (br_t rfl ?_)))
  rw [fd_3k, nI_add]
  exact L N kx _ hN (fd_elL fun m tf ts dn g1 g2 g3 S0 => K _ S0) _ (fd_inY (c := fd_y0 c) g1 g2 g3)
theorem fd_yst8 {k d rc s : Nat} (I : fd_Inv e pd c q) (hf : f < 12) (hb : fd_Sb c f) (ho : fd_op c f = 8) (hk4 : k < 4) (hd4 : d < 4) (ha : fd_oa c f = nI k) (hbb : fd_ob c f = nI d) (hcc : fd_oc c f = nI rc) (hrc : rc < 3)
    (hs : (s = k ∧ (fd_hs c q k ∨ ¬ fd_hs c q d)) ∨ (s = d ∧ ¬ fd_hs c q k ∧ fd_hs c q d)) (L : fd_LY dd (fd_y0 c) q c1 q1 (fun p v => wpY_receive p v (nI f) (nI s) (nI (3 * f + rc)))) : fd_LY dd c q c1 q1 (fun p v => wpY_step p v (nI f)) := by
  have hfc : (nI f).toNatClampNeg = f := nI_clamp (by omega)
  have hfi : vp_in (nI f) 12 := vp_in_nI hf (by decide)
  obtain ⟨pn, hpn, e7, hlt⟩ := hb
  have hpc : (nI pn).toNatClampNeg = pn := nI_clamp (by omega)
  have hpi : vp_in (nI pn) 7 := vp_in_nI (by omega) (by decide)
  have hk := fd_ikk I hf
  have hkc : (nI (fd_kk c f)).toNatClampNeg = fd_kk c f := nI_clamp (by omega)
  have hki : vp_in (nI (fd_kk c f)) 84 := vp_in_nI (by omega) (by decide)
  have ekk : 12 * nI pn + c 8 f = nI (fd_kk c f) := by rw [← e7]; exact (fd_kkE (fd_i7 I hf) (fd_i8 I hf)).1
  refine fun N kx post hN K => fd_elL fun m tf ts dn g1 g2 g3 S0 => ?_
  unfold wpY_step
  dsimp only
  rw [hfc]
  refine ⟨hfi, nm_r e7 ?_⟩
  refine fd_yplace hf (fd_i7 I hf) (fd_i8 I hf) ?_ _ S0
  rw [hpc, hkc]
  refine ⟨hfi, hpi, br_t hlt ⟨hki, nm_r ha ⟨hki, nm_r hbb ⟨hki, nm_r ho ?_⟩⟩⟩⟩
  have S1 : fd_RY N kx (fd_y0 c) q (c 0 0, c 0 1, c 0 2, c 0 3, lN m, 0, c 1, c 2, c 3, c 4, c 5, c 6, c 7, c 8, c 9, c 10, ts, c 11, c 12, c 13, c 14, c 15, dn, c 17) := fd_inY g1 g2 g3
  have I1 : fd_Inv e pd (fd_y0 c) q := I
  have go : wY_step_184 post (nI f) (nI (fd_kk c f)) (nI s) (nI f) (c 0 0) (c 0 1) (c 0 2) (c 0 3) (lN m) 0 (c 1) (c 2) (c 3) (c 4) (c 5) (c 6) (c 7) (c 8) (c 9) (c 10) ts (c 11) (c 12) (c 13) (c 14) (c 15) dn (c 17) := by
    unfold wY_step_184
    rw [hkc]
    unfold fd_oc at hcc
    rw [hcc, fd_3k, nI_add]
    exact ⟨hki, L N kx _ hN (fd_elL fun m tf ts dn g1 g2 g3 S0 => K _ S0) _ S1⟩
  refine br_f (by decide) (br_f (by decide) (br_f (by decide) (br_f (by decide) (br_t rfl ?_))))
  refine fd_ywould I1 (by omega) hk4 (fun z => br_f fd_n10 ?_) (fun z => br_t rfl ?_) _ S1
  · refine fd_ywould I1 (by omega) hd4 (fun z2 => br_f fd_n10 ?_) (fun z2 => br_t rfl ?_) _ S1
    · have es : s = k := by
        rcases hs with w | ⟨-, -, w⟩
        · exact w.1
        · exact absurd w z2
      rw [es] at go
      exact br_t rfl go
    · have es : s = d := by
        rcases hs with ⟨-, w⟩ | w
        · rcases w with w | w
          · exact absurd w z
          · exact absurd z2 w
        · exact w.1
      rw [es] at go
      exact br_f fd_n10 go
  · have es : s = k := by
      rcases hs with w | ⟨-, w, -⟩
      · exact w.1
      · exact absurd z w
    rw [es] at go
    exact br_t rfl go
theorem fd_yst10 {ra rb : Nat} (I : fd_Inv e pd c q) (hf : f < 12) (hb : fd_Sb c f) (ho : fd_op c f = 10) (ha : fd_oa c f = nI ra) (hra : ra < 3) (hbb : fd_ob c f = nI rb) (hrb : rb < 3) (L : fd_LY dd (fd_y0 c) q c1 q1 (fun p v => wpY_join p v (nI f) (c 9 (3 * f + ra)) (nI (3 * f + rb)))) : fd_LY dd c q c1 q1 (fun p v => wpY_step p v (nI f)) := by
  have hfc : (nI f).toNatClampNeg = f := nI_clamp (by omega)
  have hfi : vp_in (nI f) 12 := vp_in_nI hf (by decide)
  obtain ⟨pn, hpn, e7, hlt⟩ := hb
  have hpc : (nI pn).toNatClampNeg = pn := nI_clamp (by omega)
  have hpi : vp_in (nI pn) 7 := vp_in_nI (by omega) (by decide)
  have hk := fd_ikk I hf
  have hkc : (nI (fd_kk c f)).toNatClampNeg = fd_kk c f := nI_clamp (by omega)
  have hki : vp_in (nI (fd_kk c f)) 84 := vp_in_nI (by omega) (by decide)
  have ekk : 12 * nI pn + c 8 f = nI (fd_kk c f) := by rw [← e7]; exact (fd_kkE (fd_i7 I hf) (fd_i8 I hf)).1
  refine fun N kx post hN K => fd_elL fun m tf ts dn g1 g2 g3 S0 => ?_
  unfold wpY_step
  dsimp only
  rw [hfc]
  refine ⟨hfi, nm_r e7 ?_⟩
  refine fd_yplace hf (fd_i7 I hf) (fd_i8 I hf) ?_ _ S0
  rw [hpc, hkc]
  refine ⟨hfi, hpi, br_t hlt ⟨hki, nm_r ha ⟨hki, nm_r hbb ⟨hki, nm_r ho ?_⟩⟩⟩⟩
  refine br_f (by decide) (br_f (by decide) (br_f (by decide) (br_f (by decide) (br_f (by decide) (br_f (by decide) (br_t rfl ?_))))))
  rw [fd_3k, nI_add, nI_add, nI_clamp (show 3 * f + ra < 2 ^ 31 by omega)]
  refine ⟨vp_in_nI (by omega) (by decide), ?_⟩
  exact L N kx _ hN (fd_elL fun m tf ts dn g1 g2 g3 S0 => K _ S0) _ (fd_inY (c := fd_y0 c) g1 g2 g3)
theorem fd_yst13 (I : fd_Inv e pd c q) (hf : f < 12) (hb : fd_Sb c f) (ho : fd_op c f = 13) (L : fd_LY dd (fd_y0 c) q c1 q1 (fun p v => wpY_finish p v (nI f) 5)) : fd_LY dd c q c1 q1 (fun p v => wpY_step p v (nI f)) := by
  have ha : fd_oa c f = fd_oa c f := rfl
  have hbb : fd_ob c f = fd_ob c f := rfl
  have hfc : (nI f).toNatClampNeg = f := nI_clamp (by omega)
  have hfi : vp_in (nI f) 12 := vp_in_nI hf (by decide)
  obtain ⟨pn, hpn, e7, hlt⟩ := hb
  have hpc : (nI pn).toNatClampNeg = pn := nI_clamp (by omega)
  have hpi : vp_in (nI pn) 7 := vp_in_nI (by omega) (by decide)
  have hk := fd_ikk I hf
  have hkc : (nI (fd_kk c f)).toNatClampNeg = fd_kk c f := nI_clamp (by omega)
  have hki : vp_in (nI (fd_kk c f)) 84 := vp_in_nI (by omega) (by decide)
  have ekk : 12 * nI pn + c 8 f = nI (fd_kk c f) := by rw [← e7]; exact (fd_kkE (fd_i7 I hf) (fd_i8 I hf)).1
  refine fun N kx post hN K => fd_elL fun m tf ts dn g1 g2 g3 S0 => ?_
  unfold wpY_step
  dsimp only
  rw [hfc]
  refine ⟨hfi, nm_r e7 ?_⟩
  refine fd_yplace hf (fd_i7 I hf) (fd_i8 I hf) ?_ _ S0
  rw [hpc, hkc]
  refine ⟨hfi, hpi, br_t hlt ⟨hki, nm_r ha ⟨hki, nm_r hbb ⟨hki, nm_r ho ?_⟩⟩⟩⟩
  refine br_f (by decide) (br_f (by decide) (br_f (by decide) (br_f (by decide) (br_f (by decide) (br_f (by decide) (br_f (by decide) (br_f (by decide) (br_f (by decide) (br_t rfl ?_)))))))))
  exact L N kx _ hN (fd_elL fun m tf ts dn g1 g2 g3 S0 => K _ S0) _ (fd_inY (c := fd_y0 c) g1 g2 g3)
end
end
section
/-! steps that communicate -/
def fd_So (f : Nat) (c : Nat → Nat → Int32) (q : Nat → List Nat) : Prop :=
  ∃ r c' q', fd_Inv 1 fd_no c' q' ∧ fd_St f r (fd_y0 c) c' ∧ fd_MX r c q c' q' (fun p u => wpX_step p u (nI f)) ∧ fd_LY 300 c q c' q' (fun p v => wpY_step p v (nI f))
theorem fd_Ipc {e : Nat} {pd : Nat → Prop} {c : Nat → Nat → Int32} {q : Nat → List Nat} {f : Nat} {y : Int32} (I : fd_Inv e pd c q) (hf : f < 12) (h2 : c 6 f = 2) (hy : fd_In 13 y) : fd_Inv e pd (fd_sC c 8 f y) q := fd_Ion (r9 := c 9) I hf h2 (fun _ _ _ _ _ => rfl) hy
theorem fd_In13 {x : Int32} (h : fd_In 12 x) : fd_In 13 (x + 1) := by
  obtain ⟨n, hn, rfl⟩ := h
  exact ⟨n + 1, by omega, nI_1 n⟩
theorem fd_So_C {d : Nat} {c : Nat → Nat → Int32} {q : Nat → List Nat} {f : Nat} {o a b x : Int32} {WY : (SY → Prop) → SY → Prop} (I : fd_Inv 1 fd_no c q) (hf : f < 12) (hb : fd_Sb c f) (ho : fd_op c f = o) (o6 : ¬ o < 6) (o6' : 6 ≤ o) (o2 : ¬ o = 2) (o3 : ¬ o = 3) (o13 : ¬ o = 13)
    (ha : (fd_oa c f).toInt8.toInt32 = a) (hbb : fd_ob c f = b) (hx : (fd_oc c f).toInt8.toInt32 = x) (hd : d ≤ 300) (C : fd_Cm 1 d f (fd_y0 c) q (fun p u => wpX_communicate p u (nI f) o a b x) WY)
    (hY : ∀ (c1 : Nat → Nat → Int32) (q1 : Nat → List Nat), fd_LY d (fd_y0 c) q c1 q1 WY → fd_LY d c q c1 q1 (fun p v => wpY_step p v (nI f))) : fd_So f c q := by
  obtain ⟨r, c1, q1, I1, ST, h8, X, Y0, Y1⟩ := C
  have i12 := fd_Sb8 I hf hb
  have hr : r = 0 ∨ r = 1 := by
    rcases ST.2.1 with z | z
    · exact Or.inl z.1
    · exact Or.inr z.1
  have h8' : r = 0 → fd_In 12 (c1 8 f) := fun z => by rw [h8 z]; exact i12
  have W := fd_xstC I hf hb ho o6 o6' o2 o3 o13 ha hbb hx hr X h8'
  rcases ST.2.1 with ⟨z, z2⟩ | ⟨z, z2⟩
  · exact ⟨r, _, q1, fd_Ipc I1 hf z2 (fd_In13 (h8' z)), ST, W.1 z, fd_LY_up hd (hY _ _ (Y0 z))⟩
  · exact ⟨r, c1, q1, I1, ST, W.2 z, fd_LY_up hd (hY _ _ (Y1 z))⟩
theorem fd_oa8 {x : Int32} {n k : Nat} (h : x = nI k) (hk : k < n) (hn : n ≤ 128) : x.toInt8.toInt32 = nI k := by rw [h]; exact fd_b8 k (by omega)
theorem fd_St_r {f : Nat} {r : Int32} {c c' : Nat → Nat → Int32} (h : fd_St f r c c') : r = 0 ∨ r = 1 := by
  rcases h.2.1 with z | z
  · exact Or.inl z.1
  · exact Or.inr z.1
theorem fd_Cm_X {e d f : Nat} {c : Nat → Nat → Int32} {q : Nat → List Nat} {WX WX' : (Int32 → SX → Prop) → SX → Prop} {WY : (SY → Prop) → SY → Prop} (C : fd_Cm e d f c q WX WY) (h : ∀ r c1 q1, (r = 0 ∨ r = 1) → fd_MX r c q c1 q1 WX → fd_MX r c q c1 q1 WX') : fd_Cm e d f c q WX' WY := by
  obtain ⟨r, c1, q1, I1, ST, h8, X, Y0, Y1⟩ := C
  exact ⟨r, c1, q1, I1, ST, h8, h r c1 q1 (fd_St_r ST) X, Y0, Y1⟩
section
variable {c : Nat → Nat → Int32} {q : Nat → List Nat} {f : Nat}
theorem fd_step6 (I : fd_Inv 1 fd_no c q) (hf : f < 12) (h2 : c 6 f = 2) (hb : fd_Sb c f) (ho : fd_op c f = 6) : fd_So f c q := by
  obtain ⟨⟨k, hk, ha⟩, ⟨rb, hrb, hbb⟩⟩ := fd_G6 (fd_iG I hf) ho
  have C := fd_send (fd_Iy0 I) hf h2 (fd_Sb8 I hf hb) ho hk ha hrb hbb
  refine fd_So_C (o := 6) (a := nI k) (b := nI rb) I hf hb ho (by decide) (by decide) (by decide) (by decide) (by decide) (fd_oa8 ha hk (by decide)) hbb rfl (by decide) (fd_Cm_X C ?_) (fun c1 q1 L => fd_yst6 I hf hb ho ha hbb hrb L)
  intro r c1 q1 hr X post K
  refine fd_elK fun sl hd mn fi th la ro nu bg fr bk bh bf wh pu h1 h2 h3 h4 h5 h6 R0 => br_f (by decide) (br_f (by decide) (br_t rfl ?_))
  rw [fd_3k, nI_add, nI_clamp (show 3 * f + rb < 2 ^ 31 by omega)]
  refine ⟨vp_in_nI (by omega) (by decide), ?_⟩
  exact X _ (fd_elK fun sl hd mn fi th la ro nu bg fr bk bh bf wh pu h1 h2 h3 h4 h5 h6 R0 => ⟨fd_nb01 hr, K _ R0⟩) _ R0
theorem fd_step7 (I : fd_Inv 1 fd_no c q) (hf : f < 12) (h2 : c 6 f = 2) (hb : fd_Sb c f) (ho : fd_op c f = 7) : fd_So f c q := by
  obtain ⟨⟨k, hk, ha⟩, ⟨rb, hrb, hbb⟩⟩ := fd_G7 (fd_iG I hf) ho
  have hs : (k = k ∧ (fd_hs (fd_y0 c) q k ∨ ¬ fd_hs (fd_y0 c) q k)) ∨ (k = k ∧ ¬ fd_hs (fd_y0 c) q k ∧ fd_hs (fd_y0 c) q k) := Or.inl ⟨rfl, Classical.em _⟩
  have C := fd_receive (fd_Iy0 I) hf h2 (fd_Sb8 I hf hb) hk hk hrb (Or.inl ⟨ho, ha, rfl, hbb⟩) hs
  refine fd_So_C (o := 7) (a := nI k) (b := nI rb) I hf hb ho (by decide) (by decide) (by decide) (by decide) (by decide) (fd_oa8 ha hk (by decide)) hbb rfl (by decide) (fd_Cm_X C ?_) (fun c1 q1 L => fd_yst7 I hf hb ho ha hbb hrb L)
  intro r c1 q1 hr X post K
  refine fd_elK fun sl hd mn fi th la ro nu bg fr bk bh bf wh pu h1 h2 h3 h4 h5 h6 R0 => br_f (by decide) (br_f (by decide) (br_f (by decide) (br_t rfl ?_)))
  exact X _ (fd_elK fun sl hd mn fi th la ro nu bg fr bk bh bf wh pu h1 h2 h3 h4 h5 h6 R0 => ⟨fd_nb01 hr, K _ R0⟩) _ R0
theorem fd_step8 (I : fd_Inv 1 fd_no c q) (hf : f < 12) (h2 : c 6 f = 2) (hb : fd_Sb c f) (ho : fd_op c f = 8) : fd_So f c q := by
  obtain ⟨⟨k, hk, ha⟩, ⟨d, hd4, hbb⟩, ⟨rc, hrc, hcc⟩⟩ := fd_G8 (fd_iG I hf) ho
  obtain ⟨s, hs⟩ : ∃ s, (s = k ∧ (fd_hs c q k ∨ ¬ fd_hs c q d)) ∨ (s = d ∧ ¬ fd_hs c q k ∧ fd_hs c q d) := by
    by_cases z : fd_hs c q k
    · exact ⟨k, Or.inl ⟨rfl, Or.inl z⟩⟩
    · by_cases z2 : fd_hs c q d
      · exact ⟨d, Or.inr ⟨rfl, z, z2⟩⟩
      · exact ⟨k, Or.inl ⟨rfl, Or.inr z2⟩⟩
  have C := fd_receive (fd_Iy0 I) hf h2 (fd_Sb8 I hf hb) hk hd4 hrc (Or.inr ⟨ho, ha, hbb, hcc⟩) hs
  refine fd_So_C (o := 8) (a := nI k) (b := nI d) (x := nI rc) I hf hb ho (by decide) (by decide) (by decide) (by decide) (by decide) (fd_oa8 ha hk (by decide)) hbb (fd_oa8 hcc hrc (by decide)) (by decide) (fd_Cm_X C ?_) (fun c1 q1 L => fd_yst8 I hf hb ho hk hd4 ha hbb hcc hrc hs L)
  intro r c1 q1 hr X post K
  refine fd_elK fun sl hd mn fi th la ro nu bg fr bk bh bf wh pu h1 h2 h3 h4 h5 h6 R0 => br_f (by decide) (br_f (by decide) (br_f (by decide) (br_f (by decide) (br_t rfl ?_))))
  exact X _ (fd_elK fun sl hd mn fi th la ro nu bg fr bk bh bf wh pu h1 h2 h3 h4 h5 h6 R0 => ⟨fd_nb01 hr, K _ R0⟩) _ R0
theorem fd_step10 (I : fd_Inv 1 fd_no c q) (hf : f < 12) (h2 : c 6 f = 2) (hb : fd_Sb c f) (ho : fd_op c f = 10) : fd_So f c q := by
  obtain ⟨⟨ra, hra, ha⟩, ⟨rb, hrb, hbb⟩⟩ := fd_G10 (fd_iG I hf) ho
  have C := fd_join (fd_Iy0 I) hf h2 (fd_Sb8 I hf hb) ho ha hra hbb hrb
  refine fd_So_C (o := 10) (a := nI ra) (b := nI rb) I hf hb ho (by decide) (by decide) (by decide) (by decide) (by decide) (fd_oa8 ha hra (by decide)) hbb rfl (by decide) (fd_Cm_X C ?_) (fun c1 q1 L => fd_yst10 I hf hb ho ha hra hbb hrb L)
  intro r c1 q1 hr X post K
  refine fd_elK fun sl hd mn fi th la ro nu bg fr bk bh bf wh pu h1 h2 h3 h4 h5 h6 R0 => br_f (by decide) (br_f (by decide) (br_f (by decide) (br_f (by decide) (br_f (by decide) (br_f (by decide) (br_t rfl ?_))))))
  rw [fd_3k, nI_add, nI_clamp (show 3 * f + ra < 2 ^ 31 by omega)]
  refine ⟨vp_in_nI (by omega) (by decide), ?_⟩
  exact X _ (fd_elK fun sl hd mn fi th la ro nu bg fr bk bh bf wh pu h1 h2 h3 h4 h5 h6 R0 => ⟨fd_nb01 hr, K _ R0⟩) _ R0
theorem fd_step13 (I : fd_Inv 1 fd_no c q) (hf : f < 12) (h2 : c 6 f = 2) (hb : fd_Sb c f) (ho : fd_op c f = 13) : fd_So f c q := by
  obtain ⟨c', q', I', F', S', s6, X', Y'⟩ := fd_finish (how := 5) (fl := 0) (fd_Iy0 I) hf (Or.inl h2) (Or.inl ⟨rfl, rfl⟩)
  exact ⟨1, c', q', I', fd_Fe_St F' (by rw [s6]; decide), fd_xstF I hf hb ho rfl rfl X', fd_LY_up (by decide) (fd_yst13 I hf hb ho Y')⟩
theorem fd_stepE (I : fd_Inv 1 fd_no c q) (hf : f < 12) (h2 : c 6 f = 2) (hb : ¬ fd_Sb c f) : fd_So f c q := by
  obtain ⟨c', q', I', F', S', s6, X', Y'⟩ := fd_finish (how := 5) (fl := 0) (fd_Iy0 I) hf (Or.inl h2) (Or.inl ⟨rfl, rfl⟩)
  obtain ⟨pn, hpn, e7⟩ := fd_i7 I hf
  have E := fd_stE (d := 12) (c1 := c') (q1 := q') I hf hpn e7 (fun z => hb ⟨pn, hpn, e7, z⟩)
  exact ⟨1, c', q', I', fd_Fe_St F' (by rw [s6]; decide), E.1 X', fd_LY_up (by decide) (E.2 Y')⟩
end
end
section
/-! steps: start, close, out -/
theorem fd_G0 {o a b d : Int32} (h : fd_Good o a b d) (e : o = 0) : fd_In 3 a := by
  subst e
  rcases h with ⟨w, h⟩ | ⟨w, h⟩ | ⟨w, h⟩ | ⟨w, h⟩ | ⟨w, h⟩ | ⟨w, h⟩ | ⟨w, h⟩ | ⟨w, h⟩ | w
  · exact h
  all_goals exact absurd w (by decide)
theorem fd_G5 {o a b d : Int32} (h : fd_Good o a b d) (e : o = 5) : fd_In 3 a := by
  subst e
  rcases h with ⟨w, h⟩ | ⟨w, h⟩ | ⟨w, h⟩ | ⟨w, h⟩ | ⟨w, h⟩ | ⟨w, h⟩ | ⟨w, h⟩ | ⟨w, h⟩ | w
  · exact h
  all_goals exact absurd w (by decide)
theorem fd_G12 {o a b d : Int32} (h : fd_Good o a b d) (e : o = 12) : fd_In 3 a := by
  subst e
  rcases h with ⟨w, h⟩ | ⟨w, h⟩ | ⟨w, h⟩ | ⟨w, h⟩ | ⟨w, h⟩ | ⟨w, h⟩ | ⟨w, h⟩ | ⟨w, h⟩ | w
  · exact h
  all_goals exact absurd w (by decide)
theorem fd_G1 {o a b d : Int32} (h : fd_Good o a b d) (e : o = 1) : fd_In 3 a ∧ fd_In 3 b := by
  subst e
  rcases h with ⟨w, h⟩ | ⟨w, h⟩ | ⟨w, h⟩ | ⟨w, h⟩ | ⟨w, h⟩ | ⟨w, h⟩ | ⟨w, h⟩ | ⟨w, h⟩ | w
  iterate 1 exact absurd w (by decide)
  · exact h
  all_goals exact absurd w (by decide)
theorem fd_G2 {o a b d : Int32} (h : fd_Good o a b d) (e : o = 2) : fd_In 13 a := by
  subst e
  rcases h with ⟨w, h⟩ | ⟨w, h⟩ | ⟨w, h⟩ | ⟨w, h⟩ | ⟨w, h⟩ | ⟨w, h⟩ | ⟨w, h⟩ | ⟨w, h⟩ | w
  iterate 2 exact absurd w (by decide)
  · exact h
  all_goals exact absurd w (by decide)
theorem fd_G3 {o a b d : Int32} (h : fd_Good o a b d) (e : o = 3) : fd_In 3 a ∧ fd_In 13 b := by
  subst e
  rcases h with ⟨w, h⟩ | ⟨w, h⟩ | ⟨w, h⟩ | ⟨w, h⟩ | ⟨w, h⟩ | ⟨w, h⟩ | ⟨w, h⟩ | ⟨w, h⟩ | w
  iterate 3 exact absurd w (by decide)
  · exact h
  all_goals exact absurd w (by decide)
theorem fd_G9 {o a b d : Int32} (h : fd_Good o a b d) (e : o = 9) : fd_In 6 a ∧ fd_In 3 b := by
  subst e
  rcases h with ⟨w, h⟩ | ⟨w, h⟩ | ⟨w, h⟩ | ⟨w, h⟩ | ⟨w, h⟩ | ⟨w, h⟩ | ⟨w, h⟩ | ⟨w, h⟩ | w
  iterate 6 exact absurd w (by decide)
  · exact h
  all_goals exact absurd w (by decide)
theorem fd_G11 {o a b d : Int32} (h : fd_Good o a b d) (e : o = 11) : fd_In 4 a := by
  subst e
  rcases h with ⟨w, h⟩ | ⟨w, h⟩ | ⟨w, h⟩ | ⟨w, h⟩ | ⟨w, h⟩ | ⟨w, h⟩ | ⟨w, h⟩ | ⟨w, h⟩ | w
  iterate 7 exact absurd w (by decide)
  · exact h
  all_goals exact absurd w (by decide)
section
variable {e : Nat} {c : Nat → Nat → Int32} {q : Nat → List Nat} {f : Nat}
theorem fd_p9 {rb : Nat} {a x : Int32} (I : fd_Inv e fd_no c q) (hf : f < 12) (h2 : c 6 f = 2) (ho : fd_op c f = 9) (ha : fd_oa c f = a) (hbb : fd_ob c f = nI rb) (hrb : rb < 3) :
    fd_Cm e 1 f c q (fun p u => wpX_communicate p u (nI f) 9 a (nI rb) x) (fun p v => wpY_plain p v (nI f) (nI (fd_kk c f))) := by
  have hfc : (nI f).toNatClampNeg = f := nI_clamp (by omega)
  have hfi : vp_in (nI f) 12 := vp_in_nI hf (by decide)
  have hk := fd_ikk I hf
  have hkc : (nI (fd_kk c f)).toNatClampNeg = fd_kk c f := nI_clamp (by omega)
  have hki : vp_in (nI (fd_kk c f)) 84 := vp_in_nI (by omega) (by decide)
  have hrc : (nI (3 * f + rb)).toNatClampNeg = 3 * f + rb := nI_clamp (by omega)
  have hri : vp_in (nI (3 * f + rb)) 36 := vp_in_nI (by omega) (by decide)
  obtain ⟨r, c', q', I', F', X', Y'⟩ := fd_start a (c 9 (3 * f + rb)) I
  have h2' : c' 6 f = 2 := (F'.1 f hf).mpr h2
  have e8 : c' 8 f = c 8 f := (F'.2.1 f hf h2).2.1
  have ST := fd_Fw_St hf F' h2
  refine ⟨0, fd_sA c' 9 (upd (c' 9) (3 * f + rb) r), q', fd_Ireg I' hf h2' (fd_u9 hrb), ST.1, fun _ => ST.2, fun post K => fd_elK fun sl hd mn fi th la ro nu bg fr bk bh bf wh pu h1 h2 h3 h4 h5 h6 R0 => ?_, fun _ N kx post hN K => fd_elL fun m tf ts dn g1 g2 g3 S0 => ?_, fun z => absurd z fd_n01⟩
  · refine br_f (by decide) (br_f (by decide) (br_f (by decide) (br_f (by decide) (br_f (by decide) (br_t rfl ?_)))))
    rw [fd_3k, nI_add, hrc]
    refine ⟨hri, ?_⟩
    exact X' _ (fd_elK fun sl hd mn fi th la ro nu bg fr bk bh bf wh pu h1 h2 h3 h4 h5 h6 R0 => ⟨hri, nm_e (K _ (fd_inX h1 h2 h3 h4 h5 h6))⟩) _ R0
  · have e5 : 3 * nI f + a = 3 * nI f + a := rfl
    unfold wpY_plain
    dsimp only
    rw [hkc, hfc]
    refine ⟨hki, nm_r ha ⟨hki, nm_r hbb (nm_r e5 ⟨hfi, nm_e ⟨hki, nm_r ho ?_⟩⟩)⟩⟩
    refine br_f (by decide) (br_f (by decide) (br_f (by decide) (br_f (by decide) (br_f (by decide) (br_f (by decide) (br_f (by decide) (br_f (by decide) (br_f (by decide) (br_f (by decide) (br_f (by decide) (br_t rfl ?_)))))))))))
    rw [fd_3k, nI_add, hrc]
    refine ⟨hri, ?_⟩
    refine Y' N kx _ hN (fd_elL fun m tf ts dn g1 g2 g3 S0 => ?_) _ S0
    dsimp only
    rw [← e8]
    exact ⟨hri, nm_e ⟨hfi, nm_e (K _ (fd_inY g1 g2 g3))⟩⟩
theorem fd_p11 {k : Nat} {b x : Int32} (I : fd_Inv e fd_no c q) (hf : f < 12) (h2 : c 6 f = 2) (ho : fd_op c f = 11) (ha : fd_oa c f = nI k) (hk4 : k < 4) (hbb : fd_ob c f = b) :
    fd_Cm e 288 f c q (fun p u => wpX_communicate p u (nI f) 11 (nI k) b x) (fun p v => wpY_plain p v (nI f) (nI (fd_kk c f))) := by
  have hfc : (nI f).toNatClampNeg = f := nI_clamp (by omega)
  have hfi : vp_in (nI f) 12 := vp_in_nI hf (by decide)
  have hk := fd_ikk I hf
  have hkc : (nI (fd_kk c f)).toNatClampNeg = fd_kk c f := nI_clamp (by omega)
  have hki : vp_in (nI (fd_kk c f)) 84 := vp_in_nI (by omega) (by decide)
  obtain ⟨c', q', I', F', X', Y'⟩ := fd_close I hk4
  have e8 : c' 8 f = c 8 f := (F'.2.1 f hf h2).2.1
  have ST := fd_Fw_St hf F' h2
  refine ⟨0, c', q', I', ST.1, fun _ => ST.2, fun post K => fd_elK fun sl hd mn fi th la ro nu bg fr bk bh bf wh pu h1 h2 h3 h4 h5 h6 R0 => ?_, fun _ N kx post hN K => fd_elL fun m tf ts dn g1 g2 g3 S0 => ?_, fun z => absurd z fd_n01⟩
  · refine br_f (by decide) (br_f (by decide) (br_f (by decide) (br_f (by decide) (br_f (by decide) (br_f (by decide) (br_f (by decide) (br_t rfl ?_)))))))
    exact X' _ (fd_elK fun sl hd mn fi th la ro nu bg fr bk bh bf wh pu h1 h2 h3 h4 h5 h6 R0 => K _ R0) _ R0
  · have e5 : 3 * nI f + nI k = 3 * nI f + nI k := rfl
    unfold wpY_plain
    dsimp only
    rw [hkc, hfc]
    refine ⟨hki, nm_r ha ⟨hki, nm_r hbb (nm_r e5 ⟨hfi, nm_e ⟨hki, nm_r ho ?_⟩⟩)⟩⟩
    refine br_f (by decide) (br_f (by decide) (br_f (by decide) (br_f (by decide) (br_f (by decide) (br_f (by decide) (br_f (by decide) (br_f (by decide) (br_f (by decide) (br_f (by decide) (br_f (by decide) (br_f (by decide) (br_f (by decide) (br_t rfl ?_)))))))))))))
    refine Y' N kx _ hN (fd_elL fun m tf ts dn g1 g2 g3 S0 => ?_) _ S0
    rw [← e8]
    exact ⟨hfi, nm_e (K _ (fd_inY g1 g2 g3))⟩
end
/-! out -/
def fd_lsi (l : Nat → Int32) (i : Nat) : Nat → Int32 := fun j => if i < j ∧ j < 16 then l (j - 1) else l j
def fd_ls0 (l : Nat → Int32) (v : Int32) : Nat → Int32 := upd (fd_lsi l 0) 0 v
theorem fd_lsi_15 (l : Nat → Int32) : fd_lsi l 15 = l := by
  funext j; exact if_neg (by omega)
theorem fd_lsi_s (l : Nat → Int32) {i : Nat} (hi : i < 15) : upd (fd_lsi l (i + 1)) (i + 1) (fd_lsi l (i + 1) i) = fd_lsi l i := by
  funext j
  have e1 : fd_lsi l (i + 1) i = l i := if_neg (by omega)
  rw [e1]
  by_cases e : j = i + 1
  · rw [e, pk_us]
    exact (if_pos (by omega : i < i + 1 ∧ i + 1 < 16)).symm
  · rw [pk_un e]
    unfold fd_lsi
    by_cases z : i + 1 < j ∧ j < 16
    · rw [if_pos z, if_pos (by omega)]
    · rw [if_neg z, if_neg (by omega)]
theorem fd_rPut_new {o v : Int32} {ls pu : Nat → Int32} (H : fd_rPut o ls pu) : fd_rPut (o + 1) (fd_ls0 ls v) (upd pu (o.toBitVec.toNat % 16) v) := by
  intro j hj
  have e : (o + 1).toBitVec.toNat = (o.toBitVec.toNat + 1) % 2 ^ 32 := by
    rw [Int32.toBitVec_add, BitVec.toNat_add]; rfl
  have hlt : o.toBitVec.toNat < 2 ^ 32 := o.toBitVec.isLt
  rw [e]
  have H' : ∀ j, j < 16 → pu ((o.toBitVec.toNat + 15 - j) % 16) = ls j := H
  clear H e
  generalize o.toBitVec.toNat = n at *
  by_cases z : j = 0
  · subst z
    unfold fd_ls0
    rw [pk_us, show ((n + 1) % 2 ^ 32 + 15 - 0) % 16 = n % 16 by omega, pk_us]
  · have h := H' (j - 1) (by omega)
    unfold fd_ls0
    rw [pk_un z, pk_un (by omega)]
    have e2 : ((n + 1) % 2 ^ 32 + 15 - j) % 16 = (n + 15 - (j - 1)) % 16 := by omega
    rw [e2, h]
    exact (if_pos (by omega : 0 < j ∧ j < 16)).symm
theorem fd_yout {c : Nat → Nat → Int32} {post : SY → Prop} {f m : Nat} {x5 x6 : Int32} {ts : Nat → Int64} {dn : Nat → Int32} (K : ∀ fu, wY_plain_259 post (nI f) x5 x6 (c 0 0) (c 0 1) (c 0 2) (c 0 3) (lN m) (c 0 4) (fu + 1) 0 (c 1) (c 2) (c 3) (c 4) (c 5) (c 6) (c 7) (c 8) (c 9) (c 10) ts (c 11) (c 12) (c 13) (c 14) (c 15) dn (fd_lsi (c 17) 0)) :
    ∀ i, i ≤ 15 → wY_plain_259 post (nI f) x5 x6 (c 0 0) (c 0 1) (c 0 2) (c 0 3) (lN m) (c 0 4) (i + 1) (nI i) (c 1) (c 2) (c 3) (c 4) (c 5) (c 6) (c 7) (c 8) (c 9) (c 10) ts (c 11) (c 12) (c 13) (c 14) (c 15) dn (fd_lsi (c 17) i) := by
  intro i
  induction i with
  | zero => intro _; exact K 0
  | succ i ih =>
    intro hi
    refine br_f (nI_nle (by omega) (by omega)) ?_
    rw [nI_pred, nI_clamp (show i < 2 ^ 31 by omega), nI_clamp (show i + 1 < 2 ^ 31 by omega), fd_lsi_s (c 17) (by omega), pk_m1]
    exact ⟨vp_in_nI (by omega) (by decide), vp_in_nI (by omega) (by decide), nm_e (nm_e (ih (by omega)))⟩
theorem fd_le00 : (0 : Int32) ≤ 0 := by decide
theorem fd_p12 {e : Nat} {c : Nat → Nat → Int32} {q : Nat → List Nat} {f ra : Nat} {b x : Int32} (I : fd_Inv e fd_no c q) (hf : f < 12) (h2 : c 6 f = 2) (ho : fd_op c f = 12) (ha : fd_oa c f = nI ra) (hra : ra < 3) (hbb : fd_ob c f = b) :
    fd_Cm e 0 f c q (fun p u => wpX_communicate p u (nI f) 12 (nI ra) b x) (fun p v => wpY_plain p v (nI f) (nI (fd_kk c f))) := by
  have hfc : (nI f).toNatClampNeg = f := nI_clamp (by omega)
  have hfi : vp_in (nI f) 12 := vp_in_nI hf (by decide)
  have hk := fd_ikk I hf
  have hkc : (nI (fd_kk c f)).toNatClampNeg = fd_kk c f := nI_clamp (by omega)
  have hki : vp_in (nI (fd_kk c f)) 84 := vp_in_nI (by omega) (by decide)
  have hrc : (nI (3 * f + ra)).toNatClampNeg = 3 * f + ra := nI_clamp (by omega)
  have hri : vp_in (nI (3 * f + ra)) 36 := vp_in_nI (by omega) (by decide)
  have I1 : fd_Inv e fd_no (fd_sC (fd_sA c 17 (fd_ls0 (c 17) (c 9 (3 * f + ra)))) 0 3 (c 0 3 + 1)) q := I
  refine ⟨0, _, q, I1, ⟨fun _ _ _ => Iff.rfl, Or.inl ⟨rfl, h2⟩, ⟨rfl, rfl, rfl, rfl⟩, rfl, rfl⟩, fun _ => rfl, fun post K => fd_elK fun sl hd mn fi th la ro nu bg fr bk bh bf wh pu h1 h2 h3 h4 h5 h6 R0 => ?_, fun _ N kx post hN K => fd_elL fun m tf ts dn g1 g2 g3 S0 => ?_, fun z => absurd z fd_n01⟩
  · refine br_f (by decide) (br_t (by decide) ?_)
    have e15 : c 0 3 &&& 15 = nI ((c 0 3).toBitVec.toNat % 16) := pk_and (c 0 3) 4 (by decide)
    have h16 : (c 0 3).toBitVec.toNat % 16 < 16 := Nat.mod_lt _ (by decide)
    rw [fd_3k, nI_add, hrc, e15, nI_clamp (show (c 0 3).toBitVec.toNat % 16 < 2 ^ 31 by omega)]
    exact nm_e ⟨hri, vp_in_nI h16 (by decide), nm_e (K _ (fd_inX h1 h2 h3 h4 (fd_rPut_new h5) h6))⟩
  · have e5 : 3 * nI f + nI ra = nI (3 * f + ra) := by rw [fd_3k, nI_add]
    unfold wpY_plain
    dsimp only
    rw [hkc, hfc]
    refine ⟨hki, nm_r ha ⟨hki, nm_r hbb (nm_r e5 ⟨hfi, nm_e ⟨hki, nm_r ho ?_⟩⟩)⟩⟩
    refine br_f (by decide) (br_t (by decide) ⟨16, ?_⟩)
    have L := fd_yout (c := c) (m := m) (ts := ts) (dn := dn) (post := post) (f := f) (x5 := nI (3 * f + ra)) (x6 := c 8 f + 1) (fun fu => ?_) 15 (by omega)
    · rw [fd_lsi_15] at L
      exact L
    · refine br_t fd_le00 ⟨hri, ?_⟩
      rw [hrc, hfc]
      exact nm_e (nm_e ⟨hfi, nm_e (K _ (fd_inY g1 g2 g3))⟩)
section
variable {c : Nat → Nat → Int32} {q : Nat → List Nat} {f : Nat}
theorem fd_step9 (I : fd_Inv 1 fd_no c q) (hf : f < 12) (h2 : c 6 f = 2) (hb : fd_Sb c f) (ho : fd_op c f = 9) : fd_So f c q := by
  obtain ⟨⟨k, hk, ha⟩, ⟨rb, hrb, hbb⟩⟩ := fd_G9 (fd_iG I hf) ho
  have C := fd_p9 (x := (fd_oc c f).toInt8.toInt32) (fd_Iy0 I) hf h2 ho ha hbb hrb
  exact fd_So_C (o := 9) (a := nI k) (b := nI rb) I hf hb ho (by decide) (by decide) (by decide) (by decide) (by decide) (fd_oa8 ha hk (by decide)) hbb rfl (by decide) C (fun c1 q1 L => fd_ystP I hf hb ho (Or.inr (Or.inl rfl)) L)
theorem fd_step11 (I : fd_Inv 1 fd_no c q) (hf : f < 12) (h2 : c 6 f = 2) (hb : fd_Sb c f) (ho : fd_op c f = 11) : fd_So f c q := by
  obtain ⟨k, hk, ha⟩ := fd_G11 (fd_iG I hf) ho
  have C := fd_p11 (b := fd_ob c f) (x := (fd_oc c f).toInt8.toInt32) (fd_Iy0 I) hf h2 ho ha hk rfl
  exact fd_So_C (o := 11) (a := nI k) (b := fd_ob c f) I hf hb ho (by decide) (by decide) (by decide) (by decide) (by decide) (fd_oa8 ha hk (by decide)) rfl rfl (by decide) C (fun c1 q1 L => fd_ystP I hf hb ho (Or.inr (Or.inr (Or.inl rfl))) L)
theorem fd_step12 (I : fd_Inv 1 fd_no c q) (hf : f < 12) (h2 : c 6 f = 2) (hb : fd_Sb c f) (ho : fd_op c f = 12) : fd_So f c q := by
  obtain ⟨ra, hra, ha⟩ := fd_G12 (fd_iG I hf) ho
  have C := fd_p12 (b := fd_ob c f) (x := (fd_oc c f).toInt8.toInt32) (fd_Iy0 I) hf h2 ho ha hra rfl
  exact fd_So_C (o := 12) (a := nI ra) (b := fd_ob c f) I hf hb ho (by decide) (by decide) (by decide) (by decide) (by decide) (fd_oa8 ha hra (by decide)) rfl rfl (by decide) C (fun c1 q1 L => fd_ystP I hf hb ho (Or.inr (Or.inr (Or.inr rfl))) L)
end
end
section
/-! plain steps -/
theorem fd_So_P {c : Nat → Nat → Int32} {q : Nat → List Nat} {c1 : Nat → Nat → Int32} {q1 : Nat → List Nat} {f : Nat} {o a b r : Int32} (I : fd_Inv 1 fd_no c q) (hf : f < 12) (hb : fd_Sb c f) (ho : fd_op c f = o) (o6 : o < 6) (o6' : ¬ 6 ≤ o) (o2 : ¬ o = 2) (o3 : ¬ o = 3) (o13 : ¬ o = 13)
    (ha : (fd_oa c f).toInt8.toInt32 = a) (hbb : fd_ob c f = b) (I1 : fd_Inv 1 fd_no (fd_sC c1 8 f (c1 8 f + 1)) q1) (ST : fd_St f r (fd_y0 c) c1) (h8 : c1 8 f = c 8 f)
    (X : fd_MX r (fd_y0 c) q c1 q1 (fun p u => wpX_plain p u (nI f) o a b)) (Y : fd_LY 0 (fd_y0 c) q (fd_sC c1 8 f (c1 8 f + 1)) q1 (fun p v => wpY_plain p v (nI f) (nI (fd_kk c f)))) : fd_So f c q := by
  have i12 := fd_Sb8 I hf hb
  exact ⟨r, _, q1, I1, ST, fd_xstP I hf hb ho o6 o6' o2 o3 o13 ha hbb (fd_St_r ST) X (by rw [h8]; exact i12), fd_LY_up (by decide) (fd_ystP I hf hb ho (Or.inl o6) Y)⟩
section
variable {e : Nat} {c : Nat → Nat → Int32} {q : Nat → List Nat} {f : Nat}
theorem fd_p0 {ra : Nat} {b : Int32} (I : fd_Inv e fd_no c q) (hf : f < 12) (ho : fd_op c f = 0) (ha : fd_oa c f = nI ra) (hra : ra < 3) (hbb : fd_ob c f = b) :
    fd_MX 0 c q (fd_sA c 9 (upd (c 9) (3 * f + ra) b)) q (fun p u => wpX_plain p u (nI f) 0 (nI ra) b) ∧ fd_LY 0 c q (fd_sC (fd_sA c 9 (upd (c 9) (3 * f + ra) b)) 8 f (c 8 f + 1)) q (fun p v => wpY_plain p v (nI f) (nI (fd_kk c f))) := by
  have hfc : (nI f).toNatClampNeg = f := nI_clamp (by omega)
  have hfi : vp_in (nI f) 12 := vp_in_nI hf (by decide)
  have hk := fd_ikk I hf
  have hkc : (nI (fd_kk c f)).toNatClampNeg = fd_kk c f := nI_clamp (by omega)
  have hki : vp_in (nI (fd_kk c f)) 84 := vp_in_nI (by omega) (by decide)
  have hrc : (nI (3 * f + ra)).toNatClampNeg = 3 * f + ra := nI_clamp (by omega)
  have hri : vp_in (nI (3 * f + ra)) 36 := vp_in_nI (by omega) (by decide)
  refine ⟨fun post K => fd_elK fun sl hd mn fi th la ro nu bg fr bk bh bf wh pu h1 h2 h3 h4 h5 h6 R0 => ?_, fun N kx post hN K => fd_elL fun m tf ts dn g1 g2 g3 S0 => ?_⟩
  · refine br_t rfl ?_
    rw [fd_3k, nI_add, hrc]
    exact ⟨hri, nm_e (br_t (by decide) (K _ (fd_inX h1 h2 h3 h4 h5 h6)))⟩
  · have e5 : 3 * nI f + nI ra = nI (3 * f + ra) := by rw [fd_3k, nI_add]
    unfold wpY_plain
    dsimp only
    rw [hkc, hfc]
    refine ⟨hki, nm_r ha ⟨hki, nm_r hbb (nm_r e5 ⟨hfi, nm_e ⟨hki, nm_r ho ?_⟩⟩)⟩⟩
    refine br_f (by decide) (br_f (by decide) (br_t rfl ?_))
    rw [hrc]
    exact ⟨hri, nm_e ⟨hfi, nm_e (K _ (fd_inY g1 g2 g3))⟩⟩
theorem fd_p1 {ra rb : Nat} (I : fd_Inv e fd_no c q) (hf : f < 12) (ho : fd_op c f = 1) (ha : fd_oa c f = nI ra) (hra : ra < 3) (hbb : fd_ob c f = nI rb) (hrb : rb < 3) :
    fd_MX 0 c q (fd_sA c 9 (upd (c 9) (3 * f + ra) (c 9 (3 * f + ra) + c 9 (3 * f + rb)))) q (fun p u => wpX_plain p u (nI f) 1 (nI ra) (nI rb)) ∧
      fd_LY 0 c q (fd_sC (fd_sA c 9 (upd (c 9) (3 * f + ra) (c 9 (3 * f + ra) + c 9 (3 * f + rb)))) 8 f (c 8 f + 1)) q (fun p v => wpY_plain p v (nI f) (nI (fd_kk c f))) := by
  have hfc : (nI f).toNatClampNeg = f := nI_clamp (by omega)
  have hfi : vp_in (nI f) 12 := vp_in_nI hf (by decide)
  have hk := fd_ikk I hf
  have hkc : (nI (fd_kk c f)).toNatClampNeg = fd_kk c f := nI_clamp (by omega)
  have hki : vp_in (nI (fd_kk c f)) 84 := vp_in_nI (by omega) (by decide)
  have hrc : (nI (3 * f + ra)).toNatClampNeg = 3 * f + ra := nI_clamp (by omega)
  have hri : vp_in (nI (3 * f + ra)) 36 := vp_in_nI (by omega) (by decide)
  have hbc : (nI (3 * f + rb)).toNatClampNeg = 3 * f + rb := nI_clamp (by omega)
  have hbi : vp_in (nI (3 * f + rb)) 36 := vp_in_nI (by omega) (by decide)
  refine ⟨fun post K => fd_elK fun sl hd mn fi th la ro nu bg fr bk bh bf wh pu h1 h2 h3 h4 h5 h6 R0 => ?_, fun N kx post hN K => fd_elL fun m tf ts dn g1 g2 g3 S0 => ?_⟩
  · refine br_f (by decide) (br_t rfl ?_)
    rw [fd_3k, nI_add, nI_add, hrc, hbc]
    exact ⟨hri, hbi, hri, nm_e (br_t (by decide) (K _ (fd_inX h1 h2 h3 h4 h5 h6)))⟩
  · have e5 : 3 * nI f + nI ra = nI (3 * f + ra) := by rw [fd_3k, nI_add]
    unfold wpY_plain
    dsimp only
    rw [hkc, hfc]
    refine ⟨hki, nm_r ha ⟨hki, nm_r hbb (nm_r e5 ⟨hfi, nm_e ⟨hki, nm_r ho ?_⟩⟩)⟩⟩
    refine br_f (by decide) (br_f (by decide) (br_f (by decide) (br_t rfl ?_)))
    rw [fd_3k, nI_add, hrc, hbc]
    exact ⟨hri, hbi, hri, nm_e ⟨hfi, nm_e (K _ (fd_inY g1 g2 g3))⟩⟩
theorem fd_p5 {ra w t tk : Nat} {A B : List Nat} {b : Int32} (I : fd_Inv e fd_no c q) (hf : f < 12) (h5' : f ∉ q 5) (ho : fd_op c f = 5) (ha : fd_oa c f = nI ra) (hra : ra < 3) (hbb : fd_ob c f = b)
    (htk : (c 9 (3 * f + ra) &&& 31 = 0 ∧ tk = 1) ∨ (c 9 (3 * f + ra) &&& 31 = nI tk ∧ 1 ≤ tk ∧ tk ≤ 31)) (ht : c 0 2 = nI t) (hw : w = t + tk) (hwb : w < 2 ^ 30) (hq : q 5 = A ++ B) (hA : ∀ a, a ∈ A → fd_pl c f w a) (hB : B = [] ∨ ∃ b B', B = b :: B' ∧ ¬ fd_pl c f w b) :
    fd_MX 1 c q (fd_slc c f w) (fd_sQ q 5 (A ++ f :: B)) (fun p u => wpX_plain p u (nI f) 5 (nI ra) b) ∧ fd_LY 0 c q (fd_sC (fd_slc c f w) 8 f (c 8 f + 1)) (fd_sQ q 5 (A ++ f :: B)) (fun p v => wpY_plain p v (nI f) (nI (fd_kk c f))) := by
  have hfc : (nI f).toNatClampNeg = f := nI_clamp (by omega)
  have hfi : vp_in (nI f) 12 := vp_in_nI hf (by decide)
  have hk := fd_ikk I hf
  have hkc : (nI (fd_kk c f)).toNatClampNeg = fd_kk c f := nI_clamp (by omega)
  have hki : vp_in (nI (fd_kk c f)) 84 := vp_in_nI (by omega) (by decide)
  have hrc : (nI (3 * f + ra)).toNatClampNeg = 3 * f + ra := nI_clamp (by omega)
  have hri : vp_in (nI (3 * f + ra)) 36 := vp_in_nI (by omega) (by decide)
  have ew : nI t + nI tk = nI w := by rw [nI_add, hw]
  refine ⟨fun post K => fd_elK fun sl hd mn fi th la ro nu bg fr bk bh bf wh pu h1 h2 h3 h4 h5 h6 R0 => ?_, fun N kx post hN K => fd_elL fun m tf ts dn g1 g2 g3 S0 => ?_⟩
  · refine br_f (by decide) (br_f (by decide) (br_f (by decide) ?_))
    rw [fd_3k, nI_add, hrc]
    have go : wX_plain_92 post 5 (nI tk) (nI f) sl hd mn (c 0 0) (c 0 1) (c 0 3) (c 0 2) (c 1) fi (c 3) th (c 5) (c 6) (c 7) (c 8) (c 9) (c 20) (c 19) (c 10) la (c 18) ro (c 15) (c 16) nu bg (c 14) (c 11) (c 12) fr bk bh bf wh pu := fd_xsleep I hf h5' ht hw hwb hq hA hB (fd_elK fun sl hd mn fi th la ro nu bg fr bk bh bf wh pu h1 h2 h3 h4 h5 h6 R0 => br_f (by decide) (K _ R0)) _ R0
    rcases htk with ⟨z, z2⟩ | ⟨z, z2, z3⟩
    · rw [z]
      rw [z2] at go
      exact ⟨hri, nm_e (br_t rfl go)⟩
    · rw [z]
      exact ⟨hri, nm_e (br_f (nI_ne0 z2 (by omega)) go)⟩
  · have e5 : 3 * nI f + nI ra = nI (3 * f + ra) := by rw [fd_3k, nI_add]
    unfold wpY_plain
    dsimp only
    rw [hkc, hfc]
    refine ⟨hki, nm_r ha ⟨hki, nm_r hbb (nm_r e5 ⟨hfi, nm_e ⟨hki, nm_r ho ?_⟩⟩)⟩⟩
    have go : wY_plain_205 post (nI f) (c 8 f + 1) (nI tk) (c 0 2) (nI f) (c 0 0) (c 0 1) (c 0 2) (c 0 3) (lN m) (c 0 4) (c 1) (c 2) (c 3) (c 4) (c 5) (c 6) (c 7) (c 8) (c 9) (c 10) ts (c 11) (c 12) (c 13) (c 14) (c 15) dn (c 17) := by
      unfold wY_plain_205
      rw [hfc, ht, ew]
      refine ⟨hfi, nm_e ⟨hfi, nm_e ⟨hfi, nm_e (K _ ?_)⟩⟩⟩
      rw [← ht]
      refine fd_inY (c := fd_sC (fd_slc c f w) 8 f (c 8 f + 1)) (tf := tf) g1 ?_ g3
      exact fd_ts_sub g2 (List.Sublist.refl _) (fun k hk => by rw [show fd_sQ q 5 (A ++ f :: B) k = q k from fd_sQ_n (by omega)]; exact List.Sublist.refl _)
    refine br_f (by decide) (br_f (by decide) (br_f (by decide) (br_f (by decide) (br_f (by decide) (br_f (by decide) (br_f (by decide) (br_t rfl ?_)))))))
    rw [hrc]
    rcases htk with ⟨z, z2⟩ | ⟨z, z2, z3⟩
    · rw [z]
      rw [z2] at go
      exact ⟨hri, nm_e (br_f (by decide) go)⟩
    · rw [z]
      exact ⟨hri, nm_e (br_t (nI_le (a := 1) z2 (by omega)) go)⟩
end
section
variable {c : Nat → Nat → Int32} {q : Nat → List Nat} {f : Nat}
theorem fd_stR {r9 : Nat → Int32} (h2 : c 6 f = 2) : fd_St f 0 (fd_y0 c) (fd_sA (fd_y0 c) 9 r9) := ⟨fun _ _ _ => Iff.rfl, Or.inl ⟨rfl, h2⟩, ⟨rfl, rfl, rfl, rfl⟩, rfl, rfl⟩
theorem fd_step0 (I : fd_Inv 1 fd_no c q) (hf : f < 12) (h2 : c 6 f = 2) (hb : fd_Sb c f) (ho : fd_op c f = 0) : fd_So f c q := by
  obtain ⟨ra, hra, ha⟩ := fd_G0 (fd_iG I hf) ho
  have i13 := fd_In13 (fd_Sb8 I hf hb)
  have P := fd_p0 (b := fd_ob c f) (fd_Iy0 I) hf ho ha hra rfl
  exact fd_So_P I hf hb ho (by decide) (by decide) (by decide) (by decide) (by decide) (fd_oa8 ha hra (by decide)) rfl (fd_Ion (fd_Iy0 I) hf h2 (fd_u9 hra) i13) (fd_stR h2) rfl P.1 P.2
theorem fd_step1 (I : fd_Inv 1 fd_no c q) (hf : f < 12) (h2 : c 6 f = 2) (hb : fd_Sb c f) (ho : fd_op c f = 1) : fd_So f c q := by
  obtain ⟨⟨ra, hra, ha⟩, ⟨rb, hrb, hbb⟩⟩ := fd_G1 (fd_iG I hf) ho
  have i13 := fd_In13 (fd_Sb8 I hf hb)
  have P := fd_p1 (fd_Iy0 I) hf ho ha hra hbb hrb
  exact fd_So_P I hf hb ho (by decide) (by decide) (by decide) (by decide) (by decide) (fd_oa8 ha hra (by decide)) hbb (fd_Ion (fd_Iy0 I) hf h2 (fd_u9 hra) i13) (fd_stR h2) rfl P.1 P.2
theorem fd_step5 (I : fd_Inv 1 fd_no c q) (hf : f < 12) (h2 : c 6 f = 2) (hb : fd_Sb c f) (ho : fd_op c f = 5) : fd_So f c q := by
  obtain ⟨ra, hra, ha⟩ := fd_G5 (fd_iG I hf) ho
  obtain ⟨t, ht1, ht⟩ := I.1.2.2
  obtain ⟨s, hs, es⟩ := fd_and31 (c 9 (3 * f + ra))
  obtain ⟨tk, htk, hk1, hk2⟩ : ∃ tk, ((c 9 (3 * f + ra) &&& 31 = 0 ∧ tk = 1) ∨ (c 9 (3 * f + ra) &&& 31 = nI tk ∧ 1 ≤ tk ∧ tk ≤ 31)) ∧ 1 ≤ tk ∧ tk ≤ 31 := by
    by_cases z : s = 0
    · exact ⟨1, Or.inl ⟨by rw [es, z]; rfl, rfl⟩, by decide, by decide⟩
    · exact ⟨s, Or.inr ⟨es, by omega, by omega⟩, by omega, by omega⟩
  obtain ⟨A, B, hq, hA, hB⟩ := fd_split (fd_pl c f (t + tk)) (q 5)
  have hout := fd_out I hf (fd_on3 h2)
  have P := fd_p5 (b := fd_ob c f) (fd_Iy0 I) hf hout.2.1 ho ha hra rfl htk ht rfl (by omega) hq hA hB
  have I0 : fd_Inv 1 fd_no (fd_sC (fd_y0 c) 8 f (c 8 f + 1)) q := fd_Ipc (fd_Iy0 I) hf h2 (fd_In13 (fd_Sb8 I hf hb))
  have I1 : fd_Inv 1 fd_no (fd_sC (fd_slc (fd_y0 c) f (t + tk)) 8 f (fd_slc (fd_y0 c) f (t + tk) 8 f + 1)) (fd_sQ q 5 (A ++ f :: B)) := fd_Isleep I0 (by decide) hf h2 ht ht1 rfl hk1 hk2 hq hA hB
  have e6 : fd_slc (fd_y0 c) f (t + tk) 6 f = 4 := pk_us
  have ST : fd_St f 1 (fd_y0 c) (fd_slc (fd_y0 c) f (t + tk)) := by
    refine ⟨fun h hh hhf => ?_, Or.inr ⟨rfl, by rw [e6]; decide⟩, ⟨rfl, rfl, rfl, rfl⟩, rfl, rfl⟩
    rw [show fd_slc (fd_y0 c) f (t + tk) 6 h = c 6 h from pk_un hhf]
    exact Iff.rfl
  exact fd_So_P I hf hb ho (by decide) (by decide) (by decide) (by decide) (by decide) (fd_oa8 ha hra (by decide)) rfl I1 ST rfl P.1 P.2
theorem fd_step2 (I : fd_Inv 1 fd_no c q) (hf : f < 12) (h2 : c 6 f = 2) (hb : fd_Sb c f) (ho : fd_op c f = 2) : fd_So f c q := by
  obtain ⟨k, hk13, hax⟩ := fd_G2 (fd_iG I hf) ho
  have I1 : fd_Inv 1 fd_no (fd_sC (fd_y0 c) 8 f (nI k)) q := fd_Ipc (fd_Iy0 I) hf h2 ⟨k, hk13, rfl⟩
  refine ⟨0, _, q, I1, ⟨fun _ _ _ => Iff.rfl, Or.inl ⟨rfl, h2⟩, ⟨rfl, rfl, rfl, rfl⟩, rfl, rfl⟩, ?_, fd_LY_up (d := 0) (by decide) (fd_ystP I hf hb ho (Or.inl (by decide)) ?_)⟩
  · have ha : (fd_oa c f).toInt8.toInt32 = nI k := fd_oa8 hax hk13 (by decide)
    have hbb : fd_ob c f = fd_ob c f := rfl
    have hfc : (nI f).toNatClampNeg = f := nI_clamp (by omega)
    have hfi : vp_in (nI f) 12 := vp_in_nI hf (by decide)
    obtain ⟨pn, hpn, e7, hlt⟩ := hb
    have hpc : (nI pn).toNatClampNeg = pn := nI_clamp (by omega)
    have hpi : vp_in (nI pn) 7 := vp_in_nI (by omega) (by decide)
    have hk := fd_ikk I hf
    have hkc : (nI (fd_kk c f)).toNatClampNeg = fd_kk c f := nI_clamp (by omega)
    have hki : vp_in (nI (fd_kk c f)) 84 := vp_in_nI (by omega) (by decide)
    have ekk : 12 * nI pn + c 8 f = nI (fd_kk c f) := by rw [← e7]; exact (fd_kkE (fd_i7 I hf) (fd_i8 I hf)).1
    refine fun post K => fd_elK fun sl hd mn fi th la ro nu bg fr bk bh bf wh pu h1 h2 h3 h4 h5 h6 R0 => ?_
    unfold wpX_step
    dsimp only
    rw [hfc]
    refine ⟨hfi, nm_r e7 ⟨hfi, ?_⟩⟩
    rw [hpc]
    refine ⟨hpi, br_t hlt ⟨hfi, nm_r ekk ?_⟩⟩
    rw [hkc, (h6 (fd_kk c f) (by omega)).1]
    refine ⟨hki, nm_r ha ⟨hki, nm_r hbb ⟨hki, nm_r ho ?_⟩⟩⟩
    refine br_t rfl (br_t rfl (br_f fd_n10 (br_t rfl ?_)))
    rw [hfc, fd_nbN (show k < 128 by omega)]
    exact ⟨hfi, nm_e (K _ (fd_inX h1 h2 h3 h4 h5 h6))⟩
  · have hfc : (nI f).toNatClampNeg = f := nI_clamp (by omega)
    have hfi : vp_in (nI f) 12 := vp_in_nI hf (by decide)
    have hk := fd_ikk I hf
    have hkc : (nI (fd_kk c f)).toNatClampNeg = fd_kk c f := nI_clamp (by omega)
    have hki : vp_in (nI (fd_kk c f)) 84 := vp_in_nI (by omega) (by decide)
    have ha := hax
    have hbb : fd_ob c f = fd_ob c f := rfl
    have e5 : 3 * nI f + nI k = 3 * nI f + nI k := rfl
    refine fun N kx post hN K => fd_elL fun m tf ts dn g1 g2 g3 S0 => ?_
    unfold wpY_plain
    dsimp only
    rw [hkc, hfc]
    refine ⟨hki, nm_r ha ⟨hki, nm_r hbb (nm_r e5 ⟨hfi, nm_e ⟨hki, nm_r ho ?_⟩⟩)⟩⟩
    exact br_f (by decide) (br_f (by decide) (br_f (by decide) (br_f (by decide) (br_t rfl ⟨hfi, nm_e (K _ (fd_inY g1 g2 g3))⟩))))
theorem fd_step3 (I : fd_Inv 1 fd_no c q) (hf : f < 12) (h2 : c 6 f = 2) (hb : fd_Sb c f) (ho : fd_op c f = 3) : fd_So f c q := by
  obtain ⟨⟨ra, hra, hax⟩, ⟨k, hk13, hbx⟩⟩ := fd_G3 (fd_iG I hf) ho
  obtain ⟨n, hn, e8⟩ := fd_Sb8 I hf hb
  obtain ⟨y, hy13, hy⟩ : ∃ y, fd_In 13 y ∧ ((c 9 (3 * f + ra) = 0 ∧ y = nI k) ∨ (¬ c 9 (3 * f + ra) = 0 ∧ y = c 8 f + 1)) := by
    by_cases z : c 9 (3 * f + ra) = 0
    · exact ⟨nI k, ⟨k, hk13, rfl⟩, Or.inl ⟨z, rfl⟩⟩
    · exact ⟨c 8 f + 1, fd_In13 ⟨n, hn, e8⟩, Or.inr ⟨z, rfl⟩⟩
  have I1 : fd_Inv 1 fd_no (fd_sC (fd_y0 c) 8 f y) q := fd_Ipc (fd_Iy0 I) hf h2 hy13
  refine ⟨0, _, q, I1, ⟨fun _ _ _ => Iff.rfl, Or.inl ⟨rfl, h2⟩, ⟨rfl, rfl, rfl, rfl⟩, rfl, rfl⟩, ?_, fd_LY_up (d := 0) (by decide) (fd_ystP I hf hb ho (Or.inl (by decide)) ?_)⟩
  · have ha : (fd_oa c f).toInt8.toInt32 = nI ra := fd_oa8 hax hra (by decide)
    have hbb : fd_ob c f = nI k := hbx
    have e9 : (c 9 (nI (3 * f + ra)).toNatClampNeg) = c 9 (3 * f + ra) := by rw [nI_clamp (by omega)]
    have hfc : (nI f).toNatClampNeg = f := nI_clamp (by omega)
    have hfi : vp_in (nI f) 12 := vp_in_nI hf (by decide)
    obtain ⟨pn, hpn, e7, hlt⟩ := hb
    have hpc : (nI pn).toNatClampNeg = pn := nI_clamp (by omega)
    have hpi : vp_in (nI pn) 7 := vp_in_nI (by omega) (by decide)
    have hk := fd_ikk I hf
    have hkc : (nI (fd_kk c f)).toNatClampNeg = fd_kk c f := nI_clamp (by omega)
    have hki : vp_in (nI (fd_kk c f)) 84 := vp_in_nI (by omega) (by decide)
    have ekk : 12 * nI pn + c 8 f = nI (fd_kk c f) := by rw [← e7]; exact (fd_kkE (fd_i7 I hf) (fd_i8 I hf)).1
    refine fun post K => fd_elK fun sl hd mn fi th la ro nu bg fr bk bh bf wh pu h1 h2 h3 h4 h5 h6 R0 => ?_
    unfold wpX_step
    dsimp only
    rw [hfc]
    refine ⟨hfi, nm_r e7 ⟨hfi, ?_⟩⟩
    rw [hpc]
    refine ⟨hpi, br_t hlt ⟨hfi, nm_r ekk ?_⟩⟩
    rw [hkc, (h6 (fd_kk c f) (by omega)).1]
    refine ⟨hki, nm_r ha ⟨hki, nm_r hbb ⟨hki, nm_r ho ?_⟩⟩⟩
    refine br_f (by decide) (br_t rfl (br_f (by decide) ?_))
    rw [fd_3k, nI_add, e9]
    refine ⟨vp_in_nI (by omega) (by decide), ?_⟩
    rcases hy with ⟨z, rfl⟩ | ⟨z, rfl⟩
    · refine br_t z (br_f fd_n10 (br_f (by decide) ?_))
      rw [hfc, fd_nbN (show k < 128 by omega)]
      exact ⟨hfi, nm_e (K _ (fd_inX h1 h2 h3 h4 h5 h6))⟩
    · refine br_f z (br_t rfl ?_)
      rw [hfc, fd_pc1 e8 (by omega)]
      exact ⟨hfi, hfi, nm_e (K _ (fd_inX h1 h2 h3 h4 h5 h6))⟩
  · have hfc : (nI f).toNatClampNeg = f := nI_clamp (by omega)
    have hfi : vp_in (nI f) 12 := vp_in_nI hf (by decide)
    have hk := fd_ikk I hf
    have hkc : (nI (fd_kk c f)).toNatClampNeg = fd_kk c f := nI_clamp (by omega)
    have hki : vp_in (nI (fd_kk c f)) 84 := vp_in_nI (by omega) (by decide)
    have ha := hax
    have hbb := hbx
    have e5 : 3 * nI f + nI ra = nI (3 * f + ra) := by rw [fd_3k, nI_add]
    refine fun N kx post hN K => fd_elL fun m tf ts dn g1 g2 g3 S0 => ?_
    unfold wpY_plain
    dsimp only
    rw [hkc, hfc]
    refine ⟨hki, nm_r ha ⟨hki, nm_r hbb (nm_r e5 ⟨hfi, nm_e ⟨hki, nm_r ho ?_⟩⟩)⟩⟩
    have e9 : (fd_y0 c 9 (nI (3 * f + ra)).toNatClampNeg) = c 9 (3 * f + ra) := by rw [nI_clamp (by omega)]; rfl
    refine br_f (by decide) (br_f (by decide) (br_f (by decide) (br_f (by decide) (br_f (by decide) (br_t rfl ⟨vp_in_nI (by omega) (by decide), ?_⟩)))))
    rw [e9]
    rcases hy with ⟨z, rfl⟩ | ⟨z, rfl⟩
    · refine br_t z ?_
      unfold wY_plain_159
      rw [hfc]
      exact ⟨hfi, nm_e (K _ (fd_inY g1 g2 g3))⟩
    · refine br_f z ?_
      unfold wY_plain_159
      rw [hfc]
      exact ⟨hfi, nm_e (K _ (fd_inY g1 g2 g3))⟩
/-- any step but a yield -/
theorem fd_step (I : fd_Inv 1 fd_no c q) (hf : f < 12) (h2 : c 6 f = 2) (hn : ¬ (fd_Sb c f ∧ fd_op c f = 4)) : fd_So f c q := by
  by_cases hb : fd_Sb c f
  · have G := fd_iG I hf
    rcases G with ⟨w, -⟩ | ⟨w, -⟩ | ⟨w, -⟩ | ⟨w, -⟩ | ⟨w, -⟩ | ⟨w, -⟩ | ⟨w, -⟩ | ⟨w, -⟩ | w
    · rcases w with w | w | w
      · exact fd_step0 I hf h2 hb w
      · exact fd_step5 I hf h2 hb w
      · exact fd_step12 I hf h2 hb w
    · rcases w with w | w
      · exact fd_step1 I hf h2 hb w
      · exact fd_step10 I hf h2 hb w
    · exact fd_step2 I hf h2 hb w
    · exact fd_step3 I hf h2 hb w
    · rcases w with w | w
      · exact fd_step6 I hf h2 hb w
      · exact fd_step7 I hf h2 hb w
    · exact fd_step8 I hf h2 hb w
    · exact fd_step9 I hf h2 hb w
    · exact fd_step11 I hf h2 hb w
    · rcases w with w | w
      · exact absurd ⟨hb, w⟩ hn
      · exact fd_step13 I hf h2 hb w
  · exact fd_stepE I hf h2 hb
end
end
section
/-! carriers -/
theorem fd_On_leave {c c' : Nat → Nat → Int32} {k f : Nat} (O : fd_OnI 12 c) (hk : k < 3) (hf : f < 12) (hkf : c 15 k = nI f) (h15 : c' 15 = upd (c 15) k (-1)) (h16 : ∀ j, j ≠ k → c' 16 j = c 16 j) (h6 : ∀ h, h < 12 → h ≠ f → (c' 6 h = 2 ↔ c 6 h = 2)) (n6 : ¬ c' 6 f = 2) (h0 : c' 0 0 = c 0 0) : fd_OnI 12 c' := by
  obtain ⟨o1, o2, o3, o4⟩ := O
  have nk : ∀ j, j ≠ k → c' 15 j = c 15 j := fun j hj => by rw [h15, pk_un hj]
  have ek : c' 15 k = -1 := by rw [h15, pk_us]
  refine ⟨fun j hj => ?_, fun i j hi hj e => ?_, fun h hh _ => ?_, fun j hj z => ?_⟩
  · by_cases w : j = k
    · rw [w]; exact Or.inl ek
    · rw [nk j w, h16 j w]; exact o1 j hj
  · by_cases w : i = k
    · rw [w]; exact Or.inl ek
    · by_cases w' : j = k
      · rw [w', ek] at e; exact Or.inl e
      · rw [nk i w, nk j w'] at e
        rw [nk i w]
        exact o2 i j hi hj e
  · by_cases w : h = f
    · subst w
      refine ⟨fun z => absurd z n6, fun z => ?_⟩
      obtain ⟨j, hj, ej⟩ := z
      exfalso
      by_cases w' : j = k
      · rw [w', ek] at ej; exact fd_nm (by omega) ej.symm
      · rw [nk j w'] at ej
        rcases o2 j k hj hk (ej.trans hkf.symm) with y | y
        · rw [ej] at y; exact fd_nm (by omega) y
        · exact w' y
    · rw [h6 h hh w, o3 h hh (by omega)]
      constructor
      · rintro ⟨j, hj, ej⟩
        refine ⟨j, hj, ?_⟩
        have w' : j ≠ k := by
          intro y
          rw [y, hkf] at ej
          exact w (fd_inj ej (by omega) (by omega)).symm
        rw [nk j w']; exact ej
      · rintro ⟨j, hj, ej⟩
        refine ⟨j, hj, ?_⟩
        have w' : j ≠ k := by
          intro y
          rw [y, ek] at ej
          exact fd_nm (by omega) ej.symm
        rw [← nk j w']; exact ej
  · by_cases w : j = k
    · rw [w]; exact ek
    · rw [nk j w]; rw [h0] at z; exact o4 j hj z
theorem fd_On_stay {c c' : Nat → Nat → Int32} {k f d : Nat} (O : fd_OnI 12 c) (hk : k < 3) (hf : f < 12) (hkf : c 15 k = nI f) (hd : d < 8) (h15 : c' 15 = c 15) (ek : c' 16 k = nI d) (h16 : ∀ j, j ≠ k → c' 16 j = c 16 j) (h6 : ∀ h, h < 12 → (c' 6 h = 2 ↔ c 6 h = 2)) (h0 : c' 0 0 = c 0 0) : fd_OnI 12 c' := by
  obtain ⟨o1, o2, o3, o4⟩ := O
  refine ⟨fun j hj => ?_, fun i j hi hj e => ?_, fun h hh w => ?_, fun j hj z => ?_⟩
  · rw [h15]
    by_cases w : j = k
    · rw [w, ek]; exact Or.inr ⟨⟨f, hf, hkf⟩, ⟨d, hd, rfl⟩⟩
    · rw [h16 j w]; exact o1 j hj
  · rw [h15] at e ⊢; exact o2 i j hi hj e
  · rw [h6 h hh, h15]; exact o3 h hh w
  · rw [h15]; rw [h0] at z; exact o4 j hj z
theorem fd_On_fetch {c c' : Nat → Nat → Int32} {k f : Nat} (O : fd_OnI 12 c) (hk : k < 3) (hf : f < 12) (hkc : ¬ c 0 0 ≤ nI k) (h1 : c 6 f = 1) (hk1 : c 15 k = -1) (h15 : c' 15 = upd (c 15) k (nI f)) (h16 : c' 16 = upd (c 16) k 0) (h6 : c' 6 = upd (c 6) f 2) (h0 : c' 0 0 = c 0 0) : fd_OnI 12 c' := by
  obtain ⟨o1, o2, o3, o4⟩ := O
  have nk : ∀ j, j ≠ k → c' 15 j = c 15 j := fun j hj => by rw [h15, pk_un hj]
  have ek : c' 15 k = nI f := by rw [h15, pk_us]
  have no : ∀ j, j < 3 → ¬ c 15 j = nI f := by
    intro j hj z
    have := (o3 f hf (by omega)).mpr ⟨j, hj, z⟩
    rw [h1] at this
    exact absurd this (by decide)
  refine ⟨fun j hj => ?_, fun i j hi hj e => ?_, fun h hh w => ?_, fun j hj z => ?_⟩
  · by_cases w : j = k
    · rw [w, ek, h16, pk_us]; exact Or.inr ⟨⟨f, hf, rfl⟩, ⟨0, by decide, rfl⟩⟩
    · rw [nk j w, h16, pk_un w]; exact o1 j hj
  · by_cases w : i = k
    · by_cases w' : j = k
      · exact Or.inr (by rw [w, w'])
      · rw [w, ek, nk j w'] at e; exact absurd e.symm (no j hj)
    · by_cases w' : j = k
      · rw [w', ek, nk i w] at e; exact absurd e (no i hi)
      · rw [nk i w, nk j w'] at e
        rw [nk i w]
        exact o2 i j hi hj e
  · by_cases w' : h = f
    · subst w'
      rw [h6, pk_us]
      exact ⟨fun _ => ⟨k, hk, ek⟩, fun _ => rfl⟩
    · rw [h6, pk_un w', o3 h hh w]
      constructor
      · rintro ⟨j, hj, ej⟩
        refine ⟨j, hj, ?_⟩
        have y : j ≠ k := by
          intro y
          rw [y, hk1] at ej
          exact fd_nm (by omega) ej.symm
        rw [nk j y]; exact ej
      · rintro ⟨j, hj, ej⟩
        refine ⟨j, hj, ?_⟩
        have y : j ≠ k := by
          intro y
          rw [y, ek] at ej
          exact w' (fd_inj ej (by omega) (by omega)).symm
        rw [← nk j y]; exact ej
  · by_cases w : j = k
    · rw [h0, w] at z; exact absurd z hkc
    · rw [nk j w]; rw [h0] at z; exact o4 j hj z
/-! one that was on its carrier is ready -/
theorem fd_Iready {e : Nat} {pd : Nat → Prop} {c : Nat → Nat → Int32} {q : Nat → List Nat} {f : Nat} (I : fd_Inv e pd c q) (hf : f < 12) (h2 : c 6 f = 2) : fd_Inv e pd (fd_sC c 6 f 1) (fd_aq q f) := by
  have e6 : fd_sC c 6 f 1 6 f = 1 := pk_us
  have o6 : ∀ g, g ≠ f → fd_sC c 6 f 1 6 g = c 6 g := fun g hg => pk_un hg
  have hout := fd_out I hf (fd_on3 h2)
  have nb := fd_nbit I hf (fd_on3 h2).2.1
  have iC := fd_iC I
  have iJ := fd_iJ I
  refine fd_Imove I hf I.1 ⟨rfl, rfl, rfl, rfl, rfl⟩ iC iJ (fun g hg hgf => ?_) (fun g hg hgf t ht => fd_iB I hg ht) ?_ ?_ ?_ ?_
  · refine ⟨o6 g hgf, rfl, rfl, rfl, rfl, fun _ _ => rfl, fd_ql6 (fun k hk => ?_) (fd_mem1 hgf) Iff.rfl, fun k hk => ?_⟩
    · rw [fd_aq_lo hk]
    · rw [fd_aq_lo hk]
  · refine ⟨⟨1, by decide, e6⟩, fd_i7 I hf, fd_i8 I hf, ⟨fun _ => e6, fun _ => List.mem_append.mpr (Or.inr List.mem_cons_self)⟩, ⟨fun z => absurd z hout.2.1, fun z => ?_⟩, fun z => ?_, fun k hk => ⟨⟨fun z => ?_, fun z => ?_⟩, ⟨fun z => ?_, fun z => ?_⟩⟩, fun t ht => ⟨fun z => absurd z (nb t ht), fun z => ?_⟩⟩
    · rw [e6] at z; exact absurd z (by decide)
    · rw [e6] at z; exact absurd z (by decide)
    · rw [fd_aq_lo hk] at z; exact absurd z (hout.2.2 k hk).1
    · have := z.1; rw [e6] at this; exact absurd this (by decide)
    · rw [fd_aq_lo hk] at z; exact absurd z (hout.2.2 k hk).2
    · have := z.1; rw [e6] at this; exact absurd this (by decide)
    · have := z.1.1; rw [e6] at this; exact absurd this (by decide)
  · obtain ⟨a, b, d, g, h⟩ := fd_iL I
    refine ⟨fd_app1 a hout.1, fun x hx => ?_, d, g, fun k hk => ?_⟩
    · rcases List.mem_append.mp hx with z | z
      · exact b x z
      · rw [List.mem_singleton.mp z]; exact hf
    · rw [fd_aq_lo hk]; exact h k hk
  · refine fd_Slp_sub (fd_iS I) rfl fun g hg z => ?_
    by_cases w : g = f
    · rw [w, e6] at z; exact absurd z (by decide)
    · rw [o6 g w] at z; exact ⟨z, rfl⟩
  · intro k hk
    rw [fd_aq_lo hk]
    exact fd_iH I k hk
/-! the next of the row comes on a carrier -/
def fd_fc (c : Nat → Nat → Int32) (k f : Nat) : Nat → Nat → Int32 := fd_sC (fd_sC (fd_sC c 15 k (nI f)) 16 k 0) 6 f 2
theorem fd_Ifetch {e k : Nat} {pd : Nat → Prop} {c : Nat → Nat → Int32} {q : Nat → List Nat} {f : Nat} {L : List Nat} (I : fd_Inv e pd c q) (hq : q 4 = f :: L) : f < 12 ∧ c 6 f = 1 ∧ fd_Inv e pd (fd_fc c k f) (fd_sQ q 4 L) := by
  have hf4 : f ∈ q 4 := by rw [hq]; exact List.mem_cons_self
  have hf : f < 12 := (fd_iL I).2.1 f hf4
  have h1 : c 6 f = 1 := (fd_i4 I hf).mp hf4
  refine ⟨hf, h1, ?_⟩
  have e6 : fd_fc c k f 6 f = 2 := pk_us
  have o6 : ∀ g, g ≠ f → fd_fc c k f 6 g = c 6 g := fun g hg => pk_un hg
  have hlo : ∀ j, j < 4 → fd_sQ q 4 L j = q j := fun j hj => fd_sQ_n (by omega)
  have n3 : ¬ c 6 f = 3 := by rw [h1]; decide
  have n5 : f ∉ q 5 := fun z => absurd (h1.symm.trans ((fd_i5 I hf).mp z)) (by decide)
  have md := fd_modg I hf n3
  have nb := fd_nbit I hf n3
  have hnd := (fd_iL I).1
  rw [hq, List.nodup_cons] at hnd
  have iC := fd_iC I
  have iJ := fd_iJ I
  refine fd_Imove I hf I.1 ⟨rfl, rfl, rfl, rfl, rfl⟩ iC iJ (fun g hg hgf => ?_) (fun g hg hgf t ht => fd_iB I hg ht) ?_ ?_ ?_ ?_
  · refine ⟨o6 g hgf, rfl, rfl, rfl, rfl, fun _ _ => rfl, fd_ql6 (fun j hj => ?_) ?_ Iff.rfl, fun j hj => ?_⟩
    · rw [hlo j hj]
    · show g ∈ L ↔ g ∈ q 4
      rw [hq, List.mem_cons]
      exact ⟨Or.inr, fun z => z.elim (fun w => absurd w hgf) id⟩
    · rw [hlo j hj]
  · refine fd_FibN ⟨2, by decide, e6⟩ (fd_i7 I hf) (fd_i8 I hf) (by rw [e6]; decide) hnd.1 n5 (fun j hj => ?_) nb
    rw [hlo j hj]; exact md.1 j hj
  · obtain ⟨a, b, d, g, h⟩ := fd_iL I
    refine ⟨hnd.2, fun x hx => b x (by rw [hq]; exact List.mem_cons_of_mem _ hx), d, g, fun j hj => by rw [hlo j hj]; exact h j hj⟩
  · refine fd_Slp_sub (fd_iS I) rfl fun g hg z => ?_
    by_cases w : g = f
    · rw [w, e6] at z; exact absurd z (by decide)
    · rw [o6 g w] at z; exact ⟨z, rfl⟩
  · intro j hj
    rw [hlo j hj]
    exact fd_iH I j hj
/-! Y: the first one that is ready -/
theorem fd_yfr {N kx m : Nat} {c : Nat → Nat → Int32} {q : Nat → List Nat} {post : Int32 → Prop} {tf : Nat → Nat} {ts : Nat → Int64} {dn : Nat → Int32} (g2 : fd_rTs q m tf ts) (hm : m < 2 ^ 62)
    (K : ∀ b, fd_Be (fun f => c 6 f = 1) tf 12 b → post b) : ∀ n i b, i ≤ 12 → 12 - i < n → fd_Be (fun f => c 6 f = 1) tf i b → wY_firstReady_4 post (c 0 0) (c 0 1) (c 0 2) (c 0 3) (lN m) (c 0 4) (c 1) (c 2) (c 3) (c 4) (c 5) (c 6) (c 7) (c 8) (c 9) (c 10) ts (c 11) (c 12) (c 13) (c 14) (c 15) dn (c 17) n b (nI i) := by
  intro n
  induction n with
  | zero => intro i b _ h; omega
  | succ n ih =>
    intro i b hi hn hB
    by_cases e : i = 12
    · subst e
      exact br_t fd_le12 (K b hB)
    · have hi' : i < 12 := by omega
      have ci : (nI i).toNatClampNeg = i := nI_clamp (by omega)
      refine br_f (fd_ng12 hi') ⟨vp_in_nI hi' (by decide), ?_⟩
      rw [ci]
      refine br_c (fun h1 => ?_) fun h1 => nm_r (nI_1 i) (ih (i + 1) b (by omega) (by omega) (fd_Be_s0 hB h1))
      rcases hB with ⟨a, z⟩ | ⟨w, a, e, p, z⟩
      · rw [a]
        exact br_t fd_mlt (nm_r (nI_1 i) (ih (i + 1) (nI i) (by omega) (by omega) (fd_Be_s1 (fun g hg hp => absurd hp (z g hg)) h1)))
      · rw [e]
        have t1 := g2.1 w (by omega)
        have t2 := g2.1 i hi'
        have cw : (nI w).toNatClampNeg = w := nI_clamp (by omega)
        have hle : (ts (nI w).toNatClampNeg ≤ ts i) ↔ tf w ≤ tf i := by
          rw [cw, t1.1, t2.1, pk_lLE (by omega) (by omega)]
        refine br_f (nI_pos (by omega)) ⟨vp_in_nI hi' (by decide), vp_in_nI (by omega) (by decide), br_c (fun h => ?_) fun h => ?_⟩
        · exact nm_r (nI_1 i) (ih (i + 1) (nI w) (by omega) (by omega) (fd_Be_s2 a z p (hle.mp h)))
        · refine nm_r (nI_1 i) (ih (i + 1) (nI i) (by omega) (by omega) (fd_Be_s1 (fun g hg hp => ?_) h1))
          have k1 := z g hg hp
          have k2 : ¬ tf w ≤ tf i := fun w => h (hle.mpr w)
          omega
theorem fd_yfirstReady {e N kx : Nat} {pd : Nat → Prop} {c : Nat → Nat → Int32} {q : Nat → List Nat} {post : Int32 → Prop} (I : fd_Inv e pd c q) (hN : N < 2 ^ 62) (K : post (fd_hd (q 4) (-1))) : ∀ v, fd_RY N kx c q v → wpY_firstReady post v := fd_elL fun m tf ts dn g1 g2 g3 S0 => by
  refine ⟨13, fd_yfr (N := N) (kx := kx) g2 (by omega) (fun b hB => ?_) 13 0 (-1) (by omega) (by omega) (Or.inl ⟨rfl, fun g hg => absurd hg (by omega)⟩)⟩
  have hb := (fd_iL I).2.1
  have e1 : b = fd_hm (q 4) := by
    refine fd_Be_end hB (fun f hf => ?_) ?_
    · rw [← fd_i4 I hf]
      refine ⟨fun z => ⟨f, z, Nat.mod_eq_of_lt hf⟩, ?_⟩
      rintro ⟨x, hx, rfl⟩
      rw [Nat.mod_eq_of_lt (hb x hx)]
      exact hx
    · refine List.Pairwise.imp_of_mem (fun {x y} hx hy h => ?_) g2.2.1
      rw [Nat.mod_eq_of_lt (hb x hx), Nat.mod_eq_of_lt (hb y hy)]
      exact h
  rw [e1]
  cases hq : q 4 with
  | nil => rw [hq] at K; exact K
  | cons l L =>
    rw [hq] at K hb
    show post (nI (l % 12))
    rw [Nat.mod_eq_of_lt (hb l List.mem_cons_self)]
    exact K
end
section
/-! a carrier's turn -/
def fd_XJ (J : Int32 → Int32 → Int32 → Int32 → Int32 → Int32 → Int32 → Int32 → Int32 → (Nat → Int32) → (Nat → Int32) → (Nat → Int32) → (Nat → Int32) → (Nat → Int32) → (Nat → Int32) → (Nat → Int32) → (Nat → Int32) → (Nat → Int32) → (Nat → Int32) → (Nat → Int32) → (Nat → Int32) → (Nat → Int32) → (Nat → Int32) → (Nat → Int32) → (Nat → Int32) → (Nat → Int32) → (Nat → Int32) → (Nat → Int32) → (Nat → Int32) → (Nat → Int32) → (Nat → Int32) → (Nat → Int32) → (Nat → Int32) → (Nat → Int32) → (Nat → Int32) → (Nat → Int32) → (Nat → Int32) → Prop) (x1 x2 : Int32) (u : SX) : Prop := match u with
  | (f_sleeper, f_head, f_many, f_carriers, f_slice, f_puts, f_time, a_op, a_first, a_second, a_third, a_length, a_state, a_program, a_place, a_register, a_gives, a_into, a_wake, a_later, a_joiners, a_row, a_on, a_done, a_number, a_begin, a_count, a_capacity, a_closed, a_front, a_back, a_behind, a_before, a_at, a_put) => J x1 x2 f_sleeper f_head f_many f_carriers f_slice f_puts f_time a_op a_first a_second a_third a_length a_state a_program a_place a_register a_gives a_into a_wake a_later a_joiners a_row a_on a_done a_number a_begin a_count a_capacity a_closed a_front a_back a_behind a_before a_at a_put
def fd_YJ (J : Int32 → Int32 → Int32 → Int32 → Int32 → Int32 → Int64 → Int32 → (Nat → Int32) → (Nat → Int32) → (Nat → Int32) → (Nat → Int32) → (Nat → Int32) → (Nat → Int32) → (Nat → Int32) → (Nat → Int32) → (Nat → Int32) → (Nat → Int32) → (Nat → Int64) → (Nat → Int32) → (Nat → Int32) → (Nat → Int32) → (Nat → Int32) → (Nat → Int32) → (Nat → Int32) → (Nat → Int32) → Prop) (x1 x2 : Int32) (v : SY) : Prop := match v with
  | (f_carriers, f_slice, f_time, f_outs, f_stamps, f_yields, a_ops, a_as, a_bs, a_cs, a_size, a_state, a_program, a_pc, a_register, a_until, a_stamp, a_capacity, a_closed, a_held, a_count, a_on, a_done, a_last) => J x1 x2 f_carriers f_slice f_time f_outs f_stamps f_yields a_ops a_as a_bs a_cs a_size a_state a_program a_pc a_register a_until a_stamp a_capacity a_closed a_held a_count a_on a_done a_last
def fd_X141 (post : Int32 → SX → Prop) (J : Int32 → Int32 → Int32 → Int32 → Int32 → Int32 → Int32 → Int32 → Int32 → (Nat → Int32) → (Nat → Int32) → (Nat → Int32) → (Nat → Int32) → (Nat → Int32) → (Nat → Int32) → (Nat → Int32) → (Nat → Int32) → (Nat → Int32) → (Nat → Int32) → (Nat → Int32) → (Nat → Int32) → (Nat → Int32) → (Nat → Int32) → (Nat → Int32) → (Nat → Int32) → (Nat → Int32) → (Nat → Int32) → (Nat → Int32) → (Nat → Int32) → (Nat → Int32) → (Nat → Int32) → (Nat → Int32) → (Nat → Int32) → (Nat → Int32) → (Nat → Int32) → (Nat → Int32) → (Nat → Int32) → Prop) (x1 x2 : Int32) (u : SX) : Prop := match u with
  | (f_sleeper, f_head, f_many, f_carriers, f_slice, f_puts, f_time, a_op, a_first, a_second, a_third, a_length, a_state, a_program, a_place, a_register, a_gives, a_into, a_wake, a_later, a_joiners, a_row, a_on, a_done, a_number, a_begin, a_count, a_capacity, a_closed, a_front, a_back, a_behind, a_before, a_at, a_put) => wX_tick_141 post J x1 x2 f_sleeper f_head f_many f_carriers f_slice f_puts f_time a_op a_first a_second a_third a_length a_state a_program a_place a_register a_gives a_into a_wake a_later a_joiners a_row a_on a_done a_number a_begin a_count a_capacity a_closed a_front a_back a_behind a_before a_at a_put
def fd_X202 (post : Int32 → SX → Prop) (J : Int32 → Int32 → Int32 → Int32 → Int32 → Int32 → Int32 → Int32 → Int32 → (Nat → Int32) → (Nat → Int32) → (Nat → Int32) → (Nat → Int32) → (Nat → Int32) → (Nat → Int32) → (Nat → Int32) → (Nat → Int32) → (Nat → Int32) → (Nat → Int32) → (Nat → Int32) → (Nat → Int32) → (Nat → Int32) → (Nat → Int32) → (Nat → Int32) → (Nat → Int32) → (Nat → Int32) → (Nat → Int32) → (Nat → Int32) → (Nat → Int32) → (Nat → Int32) → (Nat → Int32) → (Nat → Int32) → (Nat → Int32) → (Nat → Int32) → (Nat → Int32) → (Nat → Int32) → (Nat → Int32) → Prop) (x1 x2 x3 x4 : Int32) (u : SX) : Prop := match u with
  | (f_sleeper, f_head, f_many, f_carriers, f_slice, f_puts, f_time, a_op, a_first, a_second, a_third, a_length, a_state, a_program, a_place, a_register, a_gives, a_into, a_wake, a_later, a_joiners, a_row, a_on, a_done, a_number, a_begin, a_count, a_capacity, a_closed, a_front, a_back, a_behind, a_before, a_at, a_put) => wX_tick_202 post J x1 x2 x3 x4 f_sleeper f_head f_many f_carriers f_slice f_puts f_time a_op a_first a_second a_third a_length a_state a_program a_place a_register a_gives a_into a_wake a_later a_joiners a_row a_on a_done a_number a_begin a_count a_capacity a_closed a_front a_back a_behind a_before a_at a_put
def fd_Y114 (post : Int32 → SY → Prop) (J : Int32 → Int32 → Int32 → Int32 → Int32 → Int32 → Int64 → Int32 → (Nat → Int32) → (Nat → Int32) → (Nat → Int32) → (Nat → Int32) → (Nat → Int32) → (Nat → Int32) → (Nat → Int32) → (Nat → Int32) → (Nat → Int32) → (Nat → Int32) → (Nat → Int64) → (Nat → Int32) → (Nat → Int32) → (Nat → Int32) → (Nat → Int32) → (Nat → Int32) → (Nat → Int32) → (Nat → Int32) → Prop) (x1 x2 : Int32) (v : SY) : Prop := match v with
  | (f_carriers, f_slice, f_time, f_outs, f_stamps, f_yields, a_ops, a_as, a_bs, a_cs, a_size, a_state, a_program, a_pc, a_register, a_until, a_stamp, a_capacity, a_closed, a_held, a_count, a_on, a_done, a_last) => wY_tick_114 post J x1 x2 f_carriers f_slice f_time f_outs f_stamps f_yields a_ops a_as a_bs a_cs a_size a_state a_program a_pc a_register a_until a_stamp a_capacity a_closed a_held a_count a_on a_done a_last
def fd_Y174 (post : Int32 → SY → Prop) (J : Int32 → Int32 → Int32 → Int32 → Int32 → Int32 → Int64 → Int32 → (Nat → Int32) → (Nat → Int32) → (Nat → Int32) → (Nat → Int32) → (Nat → Int32) → (Nat → Int32) → (Nat → Int32) → (Nat → Int32) → (Nat → Int32) → (Nat → Int32) → (Nat → Int64) → (Nat → Int32) → (Nat → Int32) → (Nat → Int32) → (Nat → Int32) → (Nat → Int32) → (Nat → Int32) → (Nat → Int32) → Prop) (x1 x2 x3 : Int32) (v : SY) : Prop := match v with
  | (f_carriers, f_slice, f_time, f_outs, f_stamps, f_yields, a_ops, a_as, a_bs, a_cs, a_size, a_state, a_program, a_pc, a_register, a_until, a_stamp, a_capacity, a_closed, a_held, a_count, a_on, a_done, a_last) => wY_tick_174 post J x1 x2 x3 f_carriers f_slice f_time f_outs f_stamps f_yields a_ops a_as a_bs a_cs a_size a_state a_program a_pc a_register a_until a_stamp a_capacity a_closed a_held a_count a_on a_done a_last
def fd_Y169 (post : Int32 → SY → Prop) (J : Int32 → Int32 → Int32 → Int32 → Int32 → Int32 → Int64 → Int32 → (Nat → Int32) → (Nat → Int32) → (Nat → Int32) → (Nat → Int32) → (Nat → Int32) → (Nat → Int32) → (Nat → Int32) → (Nat → Int32) → (Nat → Int32) → (Nat → Int32) → (Nat → Int64) → (Nat → Int32) → (Nat → Int32) → (Nat → Int32) → (Nat → Int32) → (Nat → Int32) → (Nat → Int32) → (Nat → Int32) → Prop) (x1 x2 x3 : Int32) (v : SY) : Prop := match v with
  | (f_carriers, f_slice, f_time, f_outs, f_stamps, f_yields, a_ops, a_as, a_bs, a_cs, a_size, a_state, a_program, a_pc, a_register, a_until, a_stamp, a_capacity, a_closed, a_held, a_count, a_on, a_done, a_last) => wY_tick_169 post J x1 x2 x3 f_carriers f_slice f_time f_outs f_stamps f_yields a_ops a_as a_bs a_cs a_size a_state a_program a_pc a_register a_until a_stamp a_capacity a_closed a_held a_count a_on a_done a_last
def fd_lv (c : Nat → Nat → Int32) (k : Nat) : Nat → Nat → Int32 := fd_sC c 15 k (-1)
def fd_rl (c : Nat → Nat → Int32) (k f : Nat) : Nat → Nat → Int32 := fd_sC (fd_sC c 6 f 1) 15 k (-1)
theorem fd_Dn_lv {k : Nat} {on dx dn : Nat → Int32} (h : fd_rDn 3 on dx dn) : fd_rDn 3 (upd on k (-1)) dx dn := by
  intro j hj h0
  by_cases w : j = k
  · rw [w, pk_us] at h0; exact absurd h0 fd_mnle
  · rw [pk_un w] at h0; exact h j hj h0
section
variable {c : Nat → Nat → Int32} {q : Nat → List Nat} {k f : Nat}
theorem fd_y174s {N : Nat} {post : Int32 → SY → Prop} {J : Int32 → Int32 → Int32 → Int32 → Int32 → Int32 → Int64 → Int32 → (Nat → Int32) → (Nat → Int32) → (Nat → Int32) → (Nat → Int32) → (Nat → Int32) → (Nat → Int32) → (Nat → Int32) → (Nat → Int32) → (Nat → Int32) → (Nat → Int32) → (Nat → Int64) → (Nat → Int32) → (Nat → Int32) → (Nat → Int32) → (Nat → Int32) → (Nat → Int32) → (Nat → Int32) → (Nat → Int32) → Prop} {x1 : Int32} (hf : f < 12) (h2 : c 6 f = 2) (K : ∀ v', fd_RY N 3 c q v' → fd_YJ J x1 (nI (k + 1)) v') : ∀ v, fd_RY N 3 c q v → fd_Y174 post J x1 (nI k) (nI f) v := fd_elL fun m tf ts dn g1 g2 g3 S0 => by
  refine ⟨vp_in_nI hf (by decide), br_t (by rw [nI_clamp (by omega)]; exact h2) (nm_r (nI_1 k) (K _ S0))⟩
theorem fd_y174l {N : Nat} {post : Int32 → SY → Prop} {J : Int32 → Int32 → Int32 → Int32 → Int32 → Int32 → Int64 → Int32 → (Nat → Int32) → (Nat → Int32) → (Nat → Int32) → (Nat → Int32) → (Nat → Int32) → (Nat → Int32) → (Nat → Int32) → (Nat → Int32) → (Nat → Int32) → (Nat → Int32) → (Nat → Int64) → (Nat → Int32) → (Nat → Int32) → (Nat → Int32) → (Nat → Int32) → (Nat → Int32) → (Nat → Int32) → (Nat → Int32) → Prop} {x1 : Int32} (hf : f < 12) (hk : k < 3) (h2 : ¬ c 6 f = 2) (K : ∀ v', fd_RY N 3 (fd_lv c k) q v' → fd_YJ J x1 (nI (k + 1)) v') : ∀ v, fd_RY N 3 c q v → fd_Y174 post J x1 (nI k) (nI f) v := fd_elL fun m tf ts dn g1 g2 g3 S0 => by
  refine ⟨vp_in_nI hf (by decide), br_f (by rw [nI_clamp (by omega)]; exact h2) ⟨vp_in_nI hk (by decide), nm_r (e' := upd (c 15) k (-1)) (by rw [nI_clamp (by omega)]) (nm_r (nI_1 k) (K _ (fd_inY g1 g2 (fd_Dn_lv g3))))⟩⟩
theorem fd_y169r {e N : Nat} {post : Int32 → SY → Prop} {J : Int32 → Int32 → Int32 → Int32 → Int32 → Int32 → Int64 → Int32 → (Nat → Int32) → (Nat → Int32) → (Nat → Int32) → (Nat → Int32) → (Nat → Int32) → (Nat → Int32) → (Nat → Int32) → (Nat → Int32) → (Nat → Int32) → (Nat → Int32) → (Nat → Int64) → (Nat → Int32) → (Nat → Int32) → (Nat → Int32) → (Nat → Int32) → (Nat → Int32) → (Nat → Int32) → (Nat → Int32) → Prop} {x1 : Int32} (I : fd_Inv e fd_no c q) (hf : f < 12) (hk : k < 3) (h2 : c 6 f = 2) (K : ∀ v', fd_RY (N + 1) 3 (fd_rl c k f) (fd_aq q f) v' → fd_YJ J x1 (nI (k + 1)) v') : ∀ v, fd_RY N 3 c q v → fd_Y169 post J x1 (nI k) (nI f) v := fd_elL fun m tf ts dn g1 g2 g3 S0 => by
  unfold fd_Y169 wY_tick_169
  refine fd_yready hf (fd_QS_a I hf (fd_on3 h2).1 (fd_on3 h2).2.1) (fd_elL fun m tf ts dn g1 g2 g3 S0 => ?_) _ S0
  have e6 : fd_sC c 6 f 1 6 f = 1 := pk_us
  exact fd_y174l (post := post) hf hk (by rw [e6]; decide) K _ S0
theorem fd_x202l {post : Int32 → SX → Prop} {J : Int32 → Int32 → Int32 → Int32 → Int32 → Int32 → Int32 → Int32 → Int32 → (Nat → Int32) → (Nat → Int32) → (Nat → Int32) → (Nat → Int32) → (Nat → Int32) → (Nat → Int32) → (Nat → Int32) → (Nat → Int32) → (Nat → Int32) → (Nat → Int32) → (Nat → Int32) → (Nat → Int32) → (Nat → Int32) → (Nat → Int32) → (Nat → Int32) → (Nat → Int32) → (Nat → Int32) → (Nat → Int32) → (Nat → Int32) → (Nat → Int32) → (Nat → Int32) → (Nat → Int32) → (Nat → Int32) → (Nat → Int32) → (Nat → Int32) → (Nat → Int32) → (Nat → Int32) → (Nat → Int32) → Prop} {x1 x4 : Int32} (hk : k < 3) (h4' : ¬ x4 = 0) (K : ∀ u', fd_RX (fd_lv c k) q u' → fd_XJ J x1 (nI (k + 1)) u') : ∀ u, fd_RX c q u → fd_X202 post J x1 (nI k) (nI f) x4 u := fd_elK fun sl hd mn fi th la ro nu bg fr bk bh bf wh pu h1 h2 h3 h4 h5 h6 R0 => by
  refine ⟨vp_in_nI hk (by decide), nm_r (e' := upd (c 15) k (-1)) (by rw [nI_clamp (by omega), fd_bm]) (br_f h4' (nm_r (nI_1 k) (K _ (fd_inX h1 h2 h3 h4 h5 h6))))⟩
theorem fd_x202r {e : Nat} {post : Int32 → SX → Prop} {J : Int32 → Int32 → Int32 → Int32 → Int32 → Int32 → Int32 → Int32 → Int32 → (Nat → Int32) → (Nat → Int32) → (Nat → Int32) → (Nat → Int32) → (Nat → Int32) → (Nat → Int32) → (Nat → Int32) → (Nat → Int32) → (Nat → Int32) → (Nat → Int32) → (Nat → Int32) → (Nat → Int32) → (Nat → Int32) → (Nat → Int32) → (Nat → Int32) → (Nat → Int32) → (Nat → Int32) → (Nat → Int32) → (Nat → Int32) → (Nat → Int32) → (Nat → Int32) → (Nat → Int32) → (Nat → Int32) → (Nat → Int32) → (Nat → Int32) → (Nat → Int32) → (Nat → Int32) → (Nat → Int32) → Prop} {x1 : Int32} (I : fd_Inv e fd_no c q) (hf : f < 12) (hk : k < 3) (K : ∀ u', fd_RX (fd_rl c k f) (fd_aq q f) u' → fd_XJ J x1 (nI (k + 1)) u') : ∀ u, fd_RX c q u → fd_X202 post J x1 (nI k) (nI f) 0 u := fd_elK fun sl hd mn fi th la ro nu bg fr bk bh bf wh pu h1 h2 h3 h4 h5 h6 R0 => by
  refine ⟨vp_in_nI hk (by decide), nm_r (e' := upd (c 15) k (-1)) (by rw [nI_clamp (by omega), fd_bm]) (br_t rfl ?_)⟩
  exact fd_xappend (c := fd_lv c k) hf (by have := fd_ilen I; omega) (fd_elK fun sl hd mn fi th la ro nu bg fr bk bh bf wh pu h1 h2 h3 h4 h5 h6 R0 => nm_r (nI_1 k) (K _ (fd_inX h1 h2 h3 h4 h5 h6))) _ (fd_inX h1 h2 h3 h4 h5 h6)
def fd_Tn (c : Nat → Nat → Int32) (q : Nat → List Nat) (k : Nat) (c' : Nat → Nat → Int32) (q' : Nat → List Nat) : Prop :=
  (∀ (post : Int32 → SX → Prop) (J : Int32 → Int32 → Int32 → Int32 → Int32 → Int32 → Int32 → Int32 → Int32 → (Nat → Int32) → (Nat → Int32) → (Nat → Int32) → (Nat → Int32) → (Nat → Int32) → (Nat → Int32) → (Nat → Int32) → (Nat → Int32) → (Nat → Int32) → (Nat → Int32) → (Nat → Int32) → (Nat → Int32) → (Nat → Int32) → (Nat → Int32) → (Nat → Int32) → (Nat → Int32) → (Nat → Int32) → (Nat → Int32) → (Nat → Int32) → (Nat → Int32) → (Nat → Int32) → (Nat → Int32) → (Nat → Int32) → (Nat → Int32) → (Nat → Int32) → (Nat → Int32) → (Nat → Int32) → (Nat → Int32) → Prop) (x1 : Int32), (∀ u', fd_RX c' q' u' → fd_XJ J (x1 + 1) (nI (k + 1)) u') → ∀ u, fd_RX c q u → fd_X141 post J x1 (nI k) u) ∧
  (∀ (N : Nat) (post : Int32 → SY → Prop) (J : Int32 → Int32 → Int32 → Int32 → Int32 → Int32 → Int64 → Int32 → (Nat → Int32) → (Nat → Int32) → (Nat → Int32) → (Nat → Int32) → (Nat → Int32) → (Nat → Int32) → (Nat → Int32) → (Nat → Int32) → (Nat → Int32) → (Nat → Int32) → (Nat → Int64) → (Nat → Int32) → (Nat → Int32) → (Nat → Int32) → (Nat → Int32) → (Nat → Int32) → (Nat → Int32) → (Nat → Int32) → Prop) (x1 : Int32), N + 301 < 2 ^ 62 → (∀ v', fd_RY (N + 301) 3 c' q' v' → fd_YJ J (x1 + 1) (nI (k + 1)) v') → ∀ v, fd_RY N 3 c q v → fd_Y114 post J x1 (nI k) v)
theorem fd_xturn {c' : Nat → Nat → Int32} {q' : Nat → List Nat} {d : Nat} {r : Int32} {post : Int32 → SX → Prop} {J : Int32 → Int32 → Int32 → Int32 → Int32 → Int32 → Int32 → Int32 → Int32 → (Nat → Int32) → (Nat → Int32) → (Nat → Int32) → (Nat → Int32) → (Nat → Int32) → (Nat → Int32) → (Nat → Int32) → (Nat → Int32) → (Nat → Int32) → (Nat → Int32) → (Nat → Int32) → (Nat → Int32) → (Nat → Int32) → (Nat → Int32) → (Nat → Int32) → (Nat → Int32) → (Nat → Int32) → (Nat → Int32) → (Nat → Int32) → (Nat → Int32) → (Nat → Int32) → (Nat → Int32) → (Nat → Int32) → (Nat → Int32) → (Nat → Int32) → (Nat → Int32) → (Nat → Int32) → (Nat → Int32) → Prop} {x1 : Int32} (hk : k < 3) (hf : f < 12) (hon : c 15 k = nI f) (hdn : c 16 k = nI d) (hd8 : d < 8)
    (X : fd_MX r (fd_sC c 16 k (nI (d + 1))) q c' q' (fun p u => wpX_step p u (nI f))) (K0 : r = 0 → c' 0 1 ≤ c' 16 k → ∀ u, fd_RX c' q' u → fd_X202 post J (x1 + 1) (nI k) (nI f) r u) (K1 : r = 0 → ¬ c' 0 1 ≤ c' 16 k → ∀ u, fd_RX c' q' u → fd_XJ J (x1 + 1) (nI (k + 1)) u)
    (K2 : ¬ r = 0 → ∀ u, fd_RX c' q' u → fd_X202 post J (x1 + 1) (nI k) (nI f) r u) : ∀ u, fd_RX c q u → fd_X141 post J x1 (nI k) u := fd_elK fun sl hd mn fi th la ro nu bg fr bk bh bf wh pu h1 h2 h3 h4 h5 h6 R0 => by
  have hkc : (nI k).toNatClampNeg = k := nI_clamp (by omega)
  have hki : vp_in (nI k) 3 := vp_in_nI hk (by decide)
  have ed : upd (c 16) (nI k).toNatClampNeg (vp_nar .byte ((c 16 (nI k).toNatClampNeg + 1).toInt8.toInt32)) = upd (c 16) k (nI (d + 1)) := by
    rw [hkc, hdn, nI_1, fd_nbN (by omega)]
  refine ⟨hki, br_t (by rw [hkc, hon]; exact nI_pos' (by omega)) (nm_e ⟨hki, hki, nm_r ed ⟨hki, nm_r (e' := nI f) (by rw [hkc]; exact hon) ?_⟩⟩)⟩
  refine X _ (fd_elK fun sl hd mn fi th la ro nu bg fr bk bh bf wh pu h1 h2 h3 h4 h5 h6 R0 => br_c (fun z => ⟨hki, ?_⟩) fun z => K2 z _ R0) _ (fd_inX h1 h2 h3 h4 h5 h6)
  rw [hkc]
  exact br_c (fun y => K0 z y _ R0) fun y => nm_r (nI_1 k) (K1 z y _ R0)
theorem fd_yturn {c' : Nat → Nat → Int32} {q' : Nat → List Nat} {d N : Nat} {post : Int32 → SY → Prop} {J : Int32 → Int32 → Int32 → Int32 → Int32 → Int32 → Int64 → Int32 → (Nat → Int32) → (Nat → Int32) → (Nat → Int32) → (Nat → Int32) → (Nat → Int32) → (Nat → Int32) → (Nat → Int32) → (Nat → Int32) → (Nat → Int32) → (Nat → Int32) → (Nat → Int64) → (Nat → Int32) → (Nat → Int32) → (Nat → Int32) → (Nat → Int32) → (Nat → Int32) → (Nat → Int32) → (Nat → Int32) → Prop} {x1 : Int32} (hk : k < 3) (hf : f < 12) (hon : c 15 k = nI f) (hdn : c 16 k = nI d) (hd8 : d < 8) (hN : N + 300 < 2 ^ 62) (e15 : c' 15 = c 15) (e16 : c' 16 = upd (c 16) k (nI (d + 1)))
    (Y : fd_LY 300 (fd_sC c 16 k (nI (d + 1))) q c' q' (fun p v => wpY_step p v (nI f)))
    (K0 : c' 6 f = 2 → c' 0 4 = 0 → c' 16 k < c' 0 1 → ∀ v, fd_RY (N + 300) 3 c' q' v → fd_Y174 post J (x1 + 1) (nI k) (nI f) v) (K1 : c' 6 f = 2 → ¬ (c' 0 4 = 0 ∧ c' 16 k < c' 0 1) → ∀ v, fd_RY (N + 300) 3 c' q' v → fd_Y169 post J (x1 + 1) (nI k) (nI f) v)
    (K2 : ¬ c' 6 f = 2 → ∀ v, fd_RY (N + 300) 3 c' q' v → fd_Y174 post J (x1 + 1) (nI k) (nI f) v) : ∀ v, fd_RY N 3 c q v → fd_Y114 post J x1 (nI k) v := fd_elL fun m tf ts dn g1 g2 g3 S0 => by
  have hkc : (nI k).toNatClampNeg = k := nI_clamp (by omega)
  have hki : vp_in (nI k) 3 := vp_in_nI hk (by decide)
  have hfc : (nI f).toNatClampNeg = f := nI_clamp (by omega)
  have hfi : vp_in (nI f) 12 := vp_in_nI hf (by decide)
  have ed : c 16 k = dn k := (g3 k hk (by rw [hon]; exact nI_pos' (by omega))).2 (by omega)
  have g3' : fd_rDn k (c 15) (upd (c 16) k (nI (d + 1))) dn := by
    intro j hj h0
    refine ⟨fun w => ?_, fun w => ?_⟩
    · rw [w, pk_us, ← ed, hdn, nI_1]
    · rw [pk_un w]; exact (g3 j hj h0).2 (by omega)
  refine ⟨hki, nm_r (e' := nI f) (by rw [hkc]; exact hon) ?_⟩
  refine Y N k _ hN (fd_elL fun m tf ts dn g1 g2 g3 S0 => ?_) _ (fd_inY (c := fd_sC c 16 k (nI (d + 1))) g1 g2 g3')
  have ek : c' 16 k = dn k + 1 := (g3 k hk (by rw [e15, hon]; exact nI_pos' (by omega))).1 rfl
  have S1 : fd_RY (N + 300) 3 c' q' (c' 0 0, c' 0 1, c' 0 2, c' 0 3, lN m, c' 0 4, c' 1, c' 2, c' 3, c' 4, c' 5, c' 6, c' 7, c' 8, c' 9, c' 10, ts, c' 11, c' 12, c' 13, c' 14, c' 15, upd dn k (dn k + 1), c' 17) := by
    refine fd_inY g1 g2 ?_
    intro j hj h0
    refine ⟨fun w => ?_, fun w => ?_⟩
    · omega
    · by_cases y : j = k
      · rw [y, pk_us]; exact ek
      · rw [pk_un y]; exact (g3 j hj h0).2 y
  dsimp only
  rw [hkc, hfc]
  refine nm_e ⟨hki, hki, nm_e ⟨hfi, br_c (fun z => br_c (fun z2 => ⟨hki, ?_⟩) fun z2 => K1 z (fun w => z2 w.1) _ S1) fun z => K2 z _ S1⟩⟩
  rw [pk_us]
  exact br_c (fun y => K0 z z2 (by rw [ek]; exact y) _ S1) fun y => K1 z (fun w => y (by rw [← ek]; exact w.2)) _ S1
end
end
section
theorem fd_St_0 {f : Nat} {r : Int32} {c c' : Nat → Nat → Int32} (h : fd_St f r (fd_y0 c) c') : c' 0 4 = 0 := h.2.2.1.2.2.2
theorem fd_turn {c : Nat → Nat → Int32} {q : Nat → List Nat} {k f d : Nat} (I : fd_Inv 1 fd_no c q) (O : fd_OnI 12 c) (hk : k < 3) (hf : f < 12) (hon : c 15 k = nI f) (h2 : c 6 f = 2) (hdn : c 16 k = nI d) (hd8 : d < 8) :
    ∃ c' q', fd_Inv 1 fd_no c' q' ∧ fd_OnI 12 c' ∧ (c' 0 0 = c 0 0 ∧ c' 0 1 = c 0 1 ∧ c' 0 2 = c 0 2) ∧ fd_Tn c q k c' q' := by
  have Id : fd_Inv 1 fd_no (fd_sC c 16 k (nI (d + 1))) q := I
  have h2d : fd_sC c 16 k (nI (d + 1)) 6 f = 2 := h2
  obtain ⟨s, hs1, hs2, es⟩ := I.1.2.1
  by_cases hy : fd_Sb (fd_sC c 16 k (nI (d + 1))) f ∧ fd_op (fd_sC c 16 k (nI (d + 1))) f = 4
  · -- it yields
    obtain ⟨hb, ho⟩ := hy
    have i12 := fd_Sb8 Id hf hb
    have hfc : (nI f).toNatClampNeg = f := nI_clamp (by omega)
    have hfi : vp_in (nI f) 12 := vp_in_nI hf (by decide)
    have PX : fd_MX 1 (fd_y0 (fd_sC c 16 k (nI (d + 1)))) q (fd_sC (fd_y0 (fd_sC c 16 k (nI (d + 1)))) 6 f 1) (fd_aq q f) (fun p u => wpX_plain p u (nI f) 4 (fd_oa (fd_sC c 16 k (nI (d + 1))) f).toInt8.toInt32 (fd_ob (fd_sC c 16 k (nI (d + 1))) f)) := by
      refine fun post K => fd_elK fun sl hd mn fi th la ro nu bg fr bk bh bf wh pu h1 h2 h3 h4 h5 h6 R0 => br_f (by decide) (br_f (by decide) (br_t rfl ?_))
      exact fd_xappend hf (by have := fd_ilen I; omega) (fd_elK fun sl hd mn fi th la ro nu bg fr bk bh bf wh pu h1 h2 h3 h4 h5 h6 R0 => br_f (by decide) (K _ R0)) _ R0
    have X := fd_xstP Id hf hb ho (by decide) (by decide) (by decide) (by decide) (by decide) rfl rfl (Or.inr rfl) PX i12
    have I1 : fd_Inv 1 fd_no (fd_sC (fd_sC (fd_y0 (fd_sC c 16 k (nI (d + 1)))) 8 f (c 8 f + 1)) 0 4 1) q := fd_Ipc (fd_Iy0 Id) hf h2 (fd_In13 i12)
    have Y : fd_LY 0 (fd_sC c 16 k (nI (d + 1))) q (fd_sC (fd_sC (fd_y0 (fd_sC c 16 k (nI (d + 1)))) 8 f (c 8 f + 1)) 0 4 1) q (fun p v => wpY_step p v (nI f)) := by
      refine fd_ystP Id hf hb ho (Or.inl (by decide)) fun N kx post hN K => fd_elL fun m tf ts dn g1 g2 g3 S0 => ?_
      have hk := fd_ikk Id hf
      have hkc : (nI (fd_kk (fd_sC c 16 k (nI (d + 1))) f)).toNatClampNeg = fd_kk (fd_sC c 16 k (nI (d + 1))) f := nI_clamp (by omega)
      have hki : vp_in (nI (fd_kk (fd_sC c 16 k (nI (d + 1))) f)) 84 := vp_in_nI (by omega) (by decide)
      unfold wpY_plain
      dsimp only
      rw [hkc, hfc]
      refine ⟨hki, nm_e ⟨hki, nm_e (nm_e ⟨hfi, nm_e ⟨hki, nm_r ho ?_⟩⟩)⟩⟩
      exact br_f (by decide) (br_f (by decide) (br_f (by decide) (br_f (by decide) (br_f (by decide) (br_f (by decide) (br_t rfl ⟨hfi, nm_e (K _ (fd_inY g1 g2 g3))⟩))))))
    have IR := fd_Iready I1 hf h2
    refine ⟨fd_rl (fd_sC (fd_sC (fd_y0 (fd_sC c 16 k (nI (d + 1)))) 8 f (c 8 f + 1)) 0 4 1) k f, fd_aq q f, IR, ?_, ⟨rfl, rfl, rfl⟩, fun post J x1 K => ?_, fun N post J x1 hN K => ?_⟩
    · refine fd_On_leave O hk hf hon rfl (fun j hj => pk_un hj) (fun h hh hhf => ?_) ?_ rfl
      · rw [show fd_rl (fd_sC (fd_sC (fd_y0 (fd_sC c 16 k (nI (d + 1)))) 8 f (c 8 f + 1)) 0 4 1) k f 6 h = c 6 h from pk_un hhf]
      · rw [show fd_rl (fd_sC (fd_sC (fd_y0 (fd_sC c 16 k (nI (d + 1)))) 8 f (c 8 f + 1)) 0 4 1) k f 6 f = 1 from pk_us]; decide
    · refine fd_xturn hk hf hon hdn hd8 X (fun z => absurd z fd_n10) (fun z => absurd z fd_n10) (fun z => ?_)
      exact fd_x202l hk z (fd_elK fun sl hd mn fi th la ro nu bg fr bk bh bf wh pu h1 h2 h3 h4 h5 h6 R0 => K _ (fd_inX h1 h2 h3 h4 h5 h6))
    · refine fd_yturn (c' := fd_sC (fd_sC (fd_y0 (fd_sC c 16 k (nI (d + 1)))) 8 f (c 8 f + 1)) 0 4 1) (q' := q) hk hf hon hdn hd8 (by omega) rfl rfl (fd_LY_up (d := 0) (by decide) Y) (fun _ z => absurd z fd_n10) (fun _ _ => ?_) (fun z => absurd h2 z)
      exact fd_y169r I1 hf hk h2 K
  · obtain ⟨r, c', q', I', ST, X, Y⟩ := fd_step Id hf h2d hy
    have e15 : c' 15 = c 15 := ST.2.2.2.1
    have e16 : c' 16 = upd (c 16) k (nI (d + 1)) := ST.2.2.2.2
    have e0 : c' 0 0 = c 0 0 := ST.2.2.1.1
    have e1 : c' 0 1 = c 0 1 := ST.2.2.1.2.1
    have e2 : c' 0 2 = c 0 2 := ST.2.2.1.2.2.1
    have e4 := fd_St_0 ST
    have o6 : ∀ h, h < 12 → h ≠ f → (c' 6 h = 2 ↔ c 6 h = 2) := ST.1
    have ek : c' 16 k = nI (d + 1) := by rw [e16, pk_us]
    have ok : ∀ j, j ≠ k → c' 16 j = c 16 j := fun j hj => by rw [e16, pk_un hj]
    have esl : c' 0 1 = nI s := e1.trans es
    have hle : c' 0 1 ≤ c' 16 k ↔ s ≤ d + 1 := by rw [esl, ek, nI_leI (by omega) (by omega)]
    have hlt : c' 16 k < c' 0 1 ↔ d + 1 < s := by rw [esl, ek, nI_ltI (by omega) (by omega)]
    rcases ST.2.1 with ⟨rfl, h2'⟩ | ⟨rfl, h2'⟩
    · by_cases hsl : s ≤ d + 1
      · -- its slice is over
        have IR := fd_Iready I' hf h2'
        refine ⟨fd_rl c' k f, fd_aq q' f, IR, ?_, ⟨e0, e1, e2⟩, fun post J x1 K => ?_, fun N post J x1 hN K => ?_⟩
        · refine fd_On_leave O hk hf hon ?_ ok (fun h hh hhf => ?_) ?_ e0
          · show upd (c' 15) k (-1) = _
            rw [e15]
          · rw [show fd_rl c' k f 6 h = c' 6 h from pk_un hhf]; exact o6 h hh hhf
          · rw [show fd_rl c' k f 6 f = 1 from pk_us]; decide
        · refine fd_xturn hk hf hon hdn hd8 X (fun _ _ => ?_) (fun _ z => absurd (hle.mpr hsl) z) (fun z => absurd rfl z)
          exact fd_x202r I' hf hk K
        · refine fd_yturn hk hf hon hdn hd8 (by omega) e15 e16 Y (fun _ _ z => absurd (hlt.mp z) (by omega)) (fun _ _ => ?_) (fun z => absurd h2' z)
          exact fd_y169r I' hf hk h2' K
      · -- it stays
        refine ⟨c', q', I', ?_, ⟨e0, e1, e2⟩, fun post J x1 K => ?_, fun N post J x1 hN K => ?_⟩
        · refine fd_On_stay O hk hf hon (d := d + 1) (by omega) e15 ek ok (fun h hh => ?_) e0
          by_cases w : h = f
          · rw [w]; exact ⟨fun _ => h2, fun _ => h2'⟩
          · exact o6 h hh w
        · exact fd_xturn hk hf hon hdn hd8 X (fun _ z => absurd (hle.mp z) hsl) (fun _ _ => K) (fun z => absurd rfl z)
        · refine fd_yturn hk hf hon hdn hd8 (by omega) e15 e16 Y (fun _ _ _ => ?_) (fun _ z => absurd ⟨e4, hlt.mpr (by omega)⟩ z) (fun z => absurd h2' z)
          exact fd_y174s hf h2' (fun v' R' => K v' (fd_RY_up (by omega) R'))
    · -- it leaves
      have IL : fd_Inv 1 fd_no (fd_lv c' k) q' := I'
      refine ⟨fd_lv c' k, q', IL, ?_, ⟨e0, e1, e2⟩, fun post J x1 K => ?_, fun N post J x1 hN K => ?_⟩
      · refine fd_On_leave O hk hf hon ?_ ok o6 h2' e0
        show upd (c' 15) k (-1) = _
        rw [e15]
      · refine fd_xturn hk hf hon hdn hd8 X (fun z => absurd z fd_n10) (fun z => absurd z fd_n10) (fun z => ?_)
        exact fd_x202l hk z K
      · refine fd_yturn hk hf hon hdn hd8 (by omega) e15 e16 Y (fun z => absurd z h2') (fun z => absurd z h2') (fun _ => ?_)
        exact fd_y174l hf hk h2' (fun v' R' => K v' (fd_RY_up (by omega) R'))
end
section
/-! all carriers -/
def fd_X60 (post : Int32 → SX → Prop) (n : Nat) (x1 x2 : Int32) (u : SX) : Prop := match u with
  | (f_sleeper, f_head, f_many, f_carriers, f_slice, f_puts, f_time, a_op, a_first, a_second, a_third, a_length, a_state, a_program, a_place, a_register, a_gives, a_into, a_wake, a_later, a_joiners, a_row, a_on, a_done, a_number, a_begin, a_count, a_capacity, a_closed, a_front, a_back, a_behind, a_before, a_at, a_put) => wX_tick_60 post n x1 x2 f_sleeper f_head f_many f_carriers f_slice f_puts f_time a_op a_first a_second a_third a_length a_state a_program a_place a_register a_gives a_into a_wake a_later a_joiners a_row a_on a_done a_number a_begin a_count a_capacity a_closed a_front a_back a_behind a_before a_at a_put
def fd_Y56 (post : Int32 → SY → Prop) (n : Nat) (x1 x2 : Int32) (v : SY) : Prop := match v with
  | (f_carriers, f_slice, f_time, f_outs, f_stamps, f_yields, a_ops, a_as, a_bs, a_cs, a_size, a_state, a_program, a_pc, a_register, a_until, a_stamp, a_capacity, a_closed, a_held, a_count, a_on, a_done, a_last) => wY_tick_56 post n x1 x2 f_carriers f_slice f_time f_outs f_stamps f_yields a_ops a_as a_bs a_cs a_size a_state a_program a_pc a_register a_until a_stamp a_capacity a_closed a_held a_count a_on a_done a_last
theorem fd_rRow_tail {f : Nat} {L : List Nat} {hd mn : Int32} {ro : Nat → Int32} (H : fd_rRow (f :: L) hd mn ro) :
    ∃ h, h < 16 ∧ hd = nI h ∧ mn = nI (L.length + 1) ∧ ro h = nI f ∧ fd_rRow L (nI ((h + 1) % 16)) (nI L.length) ro := by
  obtain ⟨h, h16, e1, e2, hr⟩ := H
  refine ⟨h, h16, e1, e2, ?_, (h + 1) % 16, Nat.mod_lt _ (by decide), rfl, rfl, fun i hi => ?_⟩
  · have := hr 0 (Nat.succ_pos _)
    rw [show (h + 0) % 16 = h by omega] at this
    exact this
  · have := hr (i + 1) (Nat.succ_lt_succ hi)
    rw [show ((h + 1) % 16 + i) % 16 = (h + (i + 1)) % 16 by omega]
    exact this
theorem fd_carr {cn : Nat} (hcn : cn ≤ 3) : ∀ (d k : Nat) (c : Nat → Nat → Int32) (q : Nat → List Nat) (x1 : Int32), k + d = cn → fd_Inv 1 fd_no c q → fd_OnI 12 c → c 0 0 = nI cn →
    ∃ r c' q', fd_Inv 1 fd_no c' q' ∧ fd_OnI 12 c' ∧ (c' 0 0 = c 0 0 ∧ c' 0 1 = c 0 1 ∧ c' 0 2 = c 0 2) ∧
      (∀ post : Int32 → SX → Prop, (∀ u', fd_RX c' q' u' → post r u') → ∀ n, d < n → ∀ u, fd_RX c q u → fd_X60 post n x1 (nI k) u) ∧
      (∀ (N : Nat) (post : Int32 → SY → Prop), N + 301 * d < 2 ^ 62 → (∀ v', fd_RY (N + 301 * d) 3 c' q' v' → post r v') → ∀ n, d < n → ∀ v, fd_RY N 3 c q v → fd_Y56 post n x1 (nI k) v) := by
  intro d
  induction d with
  | zero =>
    intro k c q x1 hkd I O hc0
    have ek : k = cn := by omega
    have hle : c 0 0 ≤ nI k := by rw [hc0, ek]; exact nI_le (Nat.le_refl _) (by omega)
    refine ⟨x1, c, q, I, O, ⟨rfl, rfl, rfl⟩, fun post K n hn => ?_, fun N post hN K n hn => ?_⟩
    · obtain ⟨n, rfl⟩ : ∃ n', n = n' + 1 := ⟨n - 1, by omega⟩
      exact fd_elK fun sl hd mn fi th la ro nu bg fr bk bh bf wh pu h1 h2 h3 h4 h5 h6 R0 => br_t hle (K _ R0)
    · obtain ⟨n, rfl⟩ : ∃ n', n = n' + 1 := ⟨n - 1, by omega⟩
      exact fd_elL fun m tf ts dn g1 g2 g3 S0 => br_t hle (K _ S0)
  | succ d ih =>
    intro k c q x1 hkd I O hc0
    have hk : k < 3 := by omega
    have hkc : (nI k).toNatClampNeg = k := nI_clamp (by omega)
    have hki : vp_in (nI k) 3 := vp_in_nI hk (by decide)
    have hnle : ¬ c 0 0 ≤ nI k := by rw [hc0]; exact nI_ge (by omega) (by omega)
    rcases O.1 k hk with hon | ⟨⟨f, hf, hon⟩, ⟨dd, hdd, hdn⟩⟩
    · have on0 : ¬ (0 : Int32) ≤ c 15 (nI k).toNatClampNeg := by rw [hkc, hon]; exact fd_mnle
      cases hq : q 4 with
      | nil =>
        obtain ⟨r, c', q', I', O', E', X', Y'⟩ := ih (k + 1) c q x1 (by omega) I O hc0
        refine ⟨r, c', q', I', O', E', fun post K n hn => ?_, fun N post hN K n hn => ?_⟩
        · obtain ⟨n, rfl⟩ : ∃ n', n = n' + 1 := ⟨n - 1, by omega⟩
          refine fd_elK fun sl hd mn fi th la ro nu bg fr bk bh bf wh pu h1 h2 h3 h4 h5 h6 R0 => br_f hnle ⟨hki, br_f on0 (br_t ?_ ⟨hki, br_f on0 (nm_r (nI_1 k) (X' post K n (by omega) _ R0))⟩)⟩
          obtain ⟨h, h16, e1, e2, hr⟩ := h1
          rw [e2, hq]
          exact fd_le00
        · obtain ⟨n, rfl⟩ : ∃ n', n = n' + 1 := ⟨n - 1, by omega⟩
          refine fd_elL fun m tf ts dn g1 g2 g3 S0 => br_f hnle ⟨hki, br_f on0 ?_⟩
          refine fd_yfirstReady I (by omega) ?_ _ S0
          rw [hq]
          have e15 : upd (c 15) k (-1) = c 15 := fd_upd_self hon
          refine ⟨hki, nm_r (e' := c 15) (by rw [hkc]; exact e15) ⟨hki, nm_e ⟨hki, br_f on0 (nm_r (nI_1 k) ?_)⟩⟩⟩
          rw [hkc]
          have S1 : fd_RY N 3 c q (c 0 0, c 0 1, c 0 2, c 0 3, lN m, c 0 4, c 1, c 2, c 3, c 4, c 5, c 6, c 7, c 8, c 9, c 10, ts, c 11, c 12, c 13, c 14, c 15, upd dn k 0, c 17) := by
            refine fd_inY g1 g2 fun j hj h0 => ?_
            have w : j ≠ k := by
              intro w
              rw [w, hon] at h0
              exact fd_mnle h0
            rw [pk_un w]
            exact g3 j hj h0
          exact Y' N post (by omega) (fun v' R' => K v' (fd_RY_up (by omega) R')) n (by omega) _ S1
      | cons f L =>
        obtain ⟨hf, h61, I1⟩ := fd_Ifetch (k := k) I hq
        have O1 : fd_OnI 12 (fd_fc c k f) := fd_On_fetch O hk hf hnle h61 hon rfl rfl rfl rfl
        have hon1 : fd_fc c k f 15 k = nI f := pk_us
        have hdn1 : fd_fc c k f 16 k = nI 0 := pk_us
        have h62 : fd_fc c k f 6 f = 2 := pk_us
        obtain ⟨c1, q1, I2, O2, E2, TX, TY⟩ := fd_turn I1 O1 hk hf hon1 h62 hdn1 (by decide)
        obtain ⟨r, c', q', I', O', E', X', Y'⟩ := ih (k + 1) c1 q1 (x1 + 1) (by omega) I2 O2 (by rw [E2.1]; exact hc0)
        refine ⟨r, c', q', I', O', ⟨E'.1.trans E2.1, E'.2.1.trans E2.2.1, E'.2.2.trans E2.2.2⟩, fun post K n hn => ?_, fun N post hN K n hn => ?_⟩
        · obtain ⟨n, rfl⟩ : ∃ n', n = n' + 1 := ⟨n - 1, by omega⟩
          refine fd_elK fun sl hd mn fi th la ro nu bg fr bk bh bf wh pu h1 h2 h3 h4 h5 h6 R0 => br_f hnle ⟨hki, br_f on0 ?_⟩
          rw [hq] at h1
          obtain ⟨h, h16, e1, e2, er, ht⟩ := fd_rRow_tail h1
          have hhc : (nI h).toNatClampNeg = h := nI_clamp (by omega)
          have hhi : vp_in (nI h) 16 := vp_in_nI h16 (by decide)
          have ll : L.length < 12 := by
            have := fd_ilen I
            rw [hq] at this
            exact this
          refine br_f (by rw [e2]; exact nI_nle (by omega) (by omega)) ?_
          have ea : vp_nar .byte (ro hd.toNatClampNeg) = nI f := by rw [e1, hhc, er, fd_nb (by omega)]
          have eh : (hd + 1) &&& 15 = nI ((h + 1) % 16) := by rw [e1, nI_1, fd_and15 (by omega)]
          have em : mn - 1 = nI L.length := by rw [e2]; exact nI_pred _
          rw [ea, eh, em, hkc]
          refine ⟨by rw [e1]; exact hhi, hki, nm_e (nm_e (nm_e ⟨hki, ?_⟩))⟩
          rw [pk_us, nI_clamp (show f < 2 ^ 31 by omega), fd_nb2, fd_nb0]
          refine ⟨vp_in_nI hf (by decide), nm_e ⟨hki, nm_e ?_⟩⟩
          have kx : ∀ u', fd_RX c1 q1 u' → fd_XJ (wX_tick_60 post n) (x1 + 1) (nI (k + 1)) u' := fd_elK fun sl hd mn fi th la ro nu bg fr bk bh bf wh pu h1 h2 h3 h4 h5 h6 R0 => by
            have z := X' post K n (by omega) _ R0
            exact z
          have z := TX post (wX_tick_60 post n) x1 kx _ (fd_inX (c := fd_fc c k f) (q := fd_sQ q 4 L) ht h2 (fd_rCh_hi (by decide) h3) h4 h5 h6)
          exact z
        · obtain ⟨n, rfl⟩ : ∃ n', n = n' + 1 := ⟨n - 1, by omega⟩
          refine fd_elL fun m tf ts dn g1 g2 g3 S0 => br_f hnle ⟨hki, br_f on0 ?_⟩
          refine fd_yfirstReady I (by omega) ?_ _ S0
          rw [hq, hkc]
          refine ⟨hki, nm_e ⟨hki, nm_e ⟨hki, ?_⟩⟩⟩
          rw [pk_us]
          refine br_t (nI_pos' (n := f) (by omega)) ⟨hki, ?_⟩
          have hfc : (fd_hd (f :: L) (-1)).toNatClampNeg = f := nI_clamp (by omega)
          rw [hfc]
          refine ⟨vp_in_nI hf (by decide), nm_e ?_⟩
          have S1 : fd_RY N 3 (fd_fc c k f) (fd_sQ q 4 L) (c 0 0, c 0 1, c 0 2, c 0 3, lN m, c 0 4, c 1, c 2, c 3, c 4, c 5, upd (c 6) f 2, c 7, c 8, c 9, c 10, ts, c 11, c 12, c 13, c 14, upd (c 15) k (nI f), upd dn k 0, c 17) := by
            refine fd_inY g1 (fd_ts_sub g2 ?_ (fun j hj => ?_)) fun j hj h0 => ?_
            · show L.Sublist (q 4)
              rw [hq]
              exact List.sublist_cons_self _ _
            · rw [show fd_sQ q 4 L j = q j from fd_sQ_n (by omega)]
              exact List.Sublist.refl _
            · by_cases w : j = k
              · rw [w, pk_us]
                exact ⟨fun z => absurd z (by omega), fun _ => pk_us⟩
              · have h0' : 0 ≤ c 15 j := by
                  rw [show fd_fc c k f 15 j = c 15 j from pk_un w] at h0
                  exact h0
                rw [pk_un w, show fd_fc c k f 16 j = c 16 j from pk_un w]
                exact g3 j hj h0'
          have ky : ∀ v', fd_RY (N + 301) 3 c1 q1 v' → fd_YJ (wY_tick_56 post n) (x1 + 1) (nI (k + 1)) v' := fd_elL fun m tf ts dn g1 g2 g3 S0 => by
            have z := Y' (N + 301) post (by omega) (fun v' R' => K v' (by rw [show N + 301 * (d + 1) = N + 301 + 301 * d by omega]; exact R')) n (by omega) _ S0
            exact z
          have z := TY N post (wY_tick_56 post n) x1 (by omega) ky _ S1
          exact z
    · have on0 : (0 : Int32) ≤ c 15 (nI k).toNatClampNeg := by rw [hkc, hon]; exact nI_pos' (by omega)
      have h62 : c 6 f = 2 := (O.2.2.1 f hf (by omega)).mpr ⟨k, hk, hon⟩
      obtain ⟨c1, q1, I2, O2, E2, TX, TY⟩ := fd_turn I O hk hf hon h62 hdn hdd
      obtain ⟨r, c', q', I', O', E', X', Y'⟩ := ih (k + 1) c1 q1 (x1 + 1) (by omega) I2 O2 (by rw [E2.1]; exact hc0)
      refine ⟨r, c', q', I', O', ⟨E'.1.trans E2.1, E'.2.1.trans E2.2.1, E'.2.2.trans E2.2.2⟩, fun post K n hn => ?_, fun N post hN K n hn => ?_⟩
      · obtain ⟨n, rfl⟩ : ∃ n', n = n' + 1 := ⟨n - 1, by omega⟩
        refine fd_elK fun sl hd mn fi th la ro nu bg fr bk bh bf wh pu h1 h2 h3 h4 h5 h6 R0 => br_f hnle ⟨hki, br_t on0 ?_⟩
        have kx : ∀ u', fd_RX c1 q1 u' → fd_XJ (wX_tick_60 post n) (x1 + 1) (nI (k + 1)) u' := fd_elK fun sl hd mn fi th la ro nu bg fr bk bh bf wh pu h1 h2 h3 h4 h5 h6 R0 => by
          have z := X' post K n (by omega) _ R0
          exact z
        have z := TX post (wX_tick_60 post n) x1 kx _ R0
        exact z
      · obtain ⟨n, rfl⟩ : ∃ n', n = n' + 1 := ⟨n - 1, by omega⟩
        refine fd_elL fun m tf ts dn g1 g2 g3 S0 => br_f hnle ⟨hki, br_t on0 ?_⟩
        have ky : ∀ v', fd_RY (N + 301) 3 c1 q1 v' → fd_YJ (wY_tick_56 post n) (x1 + 1) (nI (k + 1)) v' := fd_elL fun m tf ts dn g1 g2 g3 S0 => by
          have z := Y' (N + 301) post (by omega) (fun v' R' => K v' (by rw [show N + 301 * (d + 1) = N + 301 + 301 * d by omega]; exact R')) n (by omega) _ S0
          exact z
        have z := TY N post (wY_tick_56 post n) x1 (by omega) ky _ S0
        exact z
end
section
/-! those that sleep wake -/
def fd_w5 (q : Nat → List Nat) (f : Nat) (L : List Nat) : Nat → List Nat := fd_sQ (fd_sQ q 5 L) 4 (q 4 ++ [f])
theorem fd_w5_lo {q : Nat → List Nat} {f k : Nat} {L : List Nat} (h : k < 4) : fd_w5 q f L k = q k := (fd_sQ_n (by omega)).trans (fd_sQ_n (by omega))
theorem fd_Iwk5 {e : Nat} {c : Nat → Nat → Int32} {q : Nat → List Nat} {f : Nat} {L : List Nat} (I : fd_Inv e fd_no c q) (hq : q 5 = f :: L) : f < 12 ∧ c 6 f = 4 ∧ fd_Inv e fd_no (fd_sC c 6 f 1) (fd_w5 q f L) := by
  have hf5 : f ∈ q 5 := by rw [hq]; exact List.mem_cons_self
  have hf : f < 12 := (fd_iL I).2.2.1 f hf5
  have h4 : c 6 f = 4 := (fd_i5 I hf).mp hf5
  refine ⟨hf, h4, ?_⟩
  have e6 : fd_sC c 6 f 1 6 f = 1 := pk_us
  have o6 : ∀ g, g ≠ f → fd_sC c 6 f 1 6 g = c 6 g := fun g hg => pk_un hg
  have n1 : ¬ c 6 f = 1 := by rw [h4]; decide
  have n3 : ¬ c 6 f = 3 := by rw [h4]; decide
  have n4 : f ∉ q 4 := fun z => n1 ((fd_i4 I hf).mp z)
  have md := fd_modg I hf n3
  have nb := fd_nbit I hf n3
  have iL := fd_iL I
  have hpw := iL.2.2.2.1
  rw [hq, List.pairwise_cons] at hpw
  have nL : f ∉ L := fun z => by
    rcases hpw.1 f z with w | w <;> omega
  have iC := fd_iC I
  have iJ := fd_iJ I
  refine fd_Imove I hf I.1 ⟨rfl, rfl, rfl, rfl, rfl⟩ iC iJ (fun g hg hgf => ?_) (fun g hg hgf t ht => fd_iB I hg ht) ?_ ?_ ?_ ?_
  · refine ⟨o6 g hgf, rfl, rfl, rfl, rfl, fun _ _ => rfl, fd_ql6 (fun k hk => ?_) (fd_mem1 hgf) ?_, fun k hk => ?_⟩
    · rw [fd_w5_lo hk]
    · show g ∈ L ↔ g ∈ q 5
      rw [hq, List.mem_cons]
      exact ⟨Or.inr, fun z => z.elim (fun w => absurd w hgf) id⟩
    · rw [fd_w5_lo hk]
  · refine ⟨⟨1, by decide, e6⟩, fd_i7 I hf, fd_i8 I hf, ⟨fun _ => e6, fun _ => List.mem_append.mpr (Or.inr List.mem_cons_self)⟩, ⟨fun z => absurd z nL, fun z => ?_⟩, fun z => ?_, fun k hk => ⟨⟨fun z => ?_, fun z => ?_⟩, ⟨fun z => ?_, fun z => ?_⟩⟩, fun t ht => ⟨fun z => absurd z (nb t ht), fun z => ?_⟩⟩
    · rw [e6] at z; exact absurd z (by decide)
    · rw [e6] at z; exact absurd z (by decide)
    · rw [fd_w5_lo hk] at z; exact absurd z (md.1 k hk).1
    · have := z.1; rw [e6] at this; exact absurd this (by decide)
    · rw [fd_w5_lo hk] at z; exact absurd z (md.1 k hk).2
    · have := z.1; rw [e6] at this; exact absurd this (by decide)
    · have := z.1.1; rw [e6] at this; exact absurd this (by decide)
  · obtain ⟨a, b, d, g, h⟩ := iL
    refine ⟨fd_app1 a n4, fun x hx => ?_, fun x hx => d x (by rw [hq]; exact List.mem_cons_of_mem _ hx), hpw.2, fun k hk => ?_⟩
    · rcases List.mem_append.mp hx with z | z
      · exact b x z
      · rw [List.mem_singleton.mp z]; exact hf
    · rw [fd_w5_lo hk]; exact h k hk
  · refine fd_Slp_sub (fd_iS I) rfl fun g hg z => ?_
    by_cases w : g = f
    · rw [w, e6] at z; exact absurd z (by decide)
    · rw [o6 g w] at z; exact ⟨z, rfl⟩
  · intro k hk
    rw [fd_w5_lo hk]
    exact fd_iH I k hk
def fd_X10 (post : Int32 → SX → Prop) (n : Nat) (u : SX) : Prop := match u with
  | (f_sleeper, f_head, f_many, f_carriers, f_slice, f_puts, f_time, a_op, a_first, a_second, a_third, a_length, a_state, a_program, a_place, a_register, a_gives, a_into, a_wake, a_later, a_joiners, a_row, a_on, a_done, a_number, a_begin, a_count, a_capacity, a_closed, a_front, a_back, a_behind, a_before, a_at, a_put) => wX_tick_10 post n f_sleeper f_head f_many f_carriers f_slice f_puts f_time a_op a_first a_second a_third a_length a_state a_program a_place a_register a_gives a_into a_wake a_later a_joiners a_row a_on a_done a_number a_begin a_count a_capacity a_closed a_front a_back a_behind a_before a_at a_put
def fd_Y14t (post : Int32 → SY → Prop) (x1 : Int32) (n : Nat) (x2 : Int32) (v : SY) : Prop := match v with
  | (f_carriers, f_slice, f_time, f_outs, f_stamps, f_yields, a_ops, a_as, a_bs, a_cs, a_size, a_state, a_program, a_pc, a_register, a_until, a_stamp, a_capacity, a_closed, a_held, a_count, a_on, a_done, a_last) => wY_tick_14 post x1 n x2 f_carriers f_slice f_time f_outs f_stamps f_yields a_ops a_as a_bs a_cs a_size a_state a_program a_pc a_register a_until a_stamp a_capacity a_closed a_held a_count a_on a_done a_last
def fd_due (c : Nat → Nat → Int32) (g : Nat) : Prop := c 6 g = 4 ∧ c 10 g = c 0 2
theorem fd_head5 {c : Nat → Nat → Int32} {q : Nat → List Nat} {i : Nat} (I : fd_Inv 0 fd_no c q) (hi : i < 12) (hd : fd_due c i) (hm : ∀ g, g < i → ¬ fd_due c g) : ∃ L, q 5 = i :: L := by
  have hi5 : i ∈ q 5 := (fd_i5 I hi).mpr hd.1
  cases hq : q 5 with
  | nil => rw [hq] at hi5; cases hi5
  | cons h L =>
    have hh5 : h ∈ q 5 := by rw [hq]; exact List.mem_cons_self
    have hh12 := (fd_iL I).2.2.1 h hh5
    have h4 := (fd_i5 I hh12).mp hh5
    obtain ⟨w, t, e1, e2, e3, e4, e5⟩ := fd_iS I h hh12 h4
    by_cases z : h = i
    · rw [z]; exact ⟨L, rfl⟩
    · exfalso
      have hpw := (fd_iL I).2.2.2.1
      rw [hq, List.pairwise_cons] at hpw
      rw [hq] at hi5
      have hiL : i ∈ L := by
        rcases List.mem_cons.mp hi5 with y | y
        · exact absurd y.symm z
        · exact y
      have hl := hpw.1 i hiL
      unfold fd_lt at hl
      rw [hd.2, e2, e1, nI_clamp (by omega), nI_clamp (by omega)] at hl
      rcases hl with y | ⟨y, y'⟩
      · omega
      · exact hm h y' ⟨h4, by rw [e1, e2, y]⟩
theorem fd_wakes : ∀ (d i : Nat) (c : Nat → Nat → Int32) (q : Nat → List Nat), i + d = 12 → fd_Inv 0 fd_no c q → (∀ g, g < i → ¬ fd_due c g) →
    ∃ c' q', fd_Inv 0 fd_no c' q' ∧ (∀ g, g < 12 → ¬ fd_due c' g) ∧ (∀ h, h < 12 → (c' 6 h = 2 ↔ c 6 h = 2)) ∧ (∀ j, j ≠ 6 → c' j = c j) ∧
      (∀ post : Int32 → SX → Prop, (∀ u', fd_RX c' q' u' → ∃ n60, fd_X60 post n60 0 0 u') → ∀ n, (q 5).length < n → ∀ u, fd_RX c q u → fd_X10 post n u) ∧
      (∀ (N : Nat) (postY : Int32 → SY → Prop) (x1 : Int32), N + d < 2 ^ 62 → (∀ v', fd_RY (N + d) 3 c' q' v' → ∃ n56, fd_Y56 postY n56 x1 0 v') → ∀ n, d < n → ∀ v, fd_RY N 3 c q v → fd_Y14t postY x1 n (nI i) v) := by
  intro d
  induction d with
  | zero =>
    intro i c q hid I hm
    have e12 : i = 12 := by omega
    subst e12
    refine ⟨c, q, I, hm, fun _ _ => Iff.rfl, fun _ _ => rfl, fun post K n hn => ?_, fun N postY x1 hN K n hn => ?_⟩
    · obtain ⟨n, rfl⟩ : ∃ n', n = n' + 1 := ⟨n - 1, by omega⟩
      refine fd_elK fun sl hd mn fi th la ro nu bg fr bk bh bf wh pu h1 h2 h3 h4 h5 h6 R0 => ?_
      obtain ⟨s1, s2⟩ := h2
      cases hq : q 5 with
      | nil =>
        rw [hq] at s1
        have z := K _ R0
        exact br_t (by rw [s1]; exact fd_mlt) z
      | cons h L =>
        have hh5 : h ∈ q 5 := by rw [hq]; exact List.mem_cons_self
        have hh12 := (fd_iL I).2.2.1 h hh5
        have h4' := (fd_i5 I hh12).mp hh5
        have es : sl = nI h := by rw [s1, hq]; rfl
        have z := K _ R0
        refine br_f (by rw [es]; exact nI_pos (by omega)) ⟨by rw [es]; exact vp_in_nI hh12 (by decide), br_f (fun w => ?_) z⟩
        rw [es, nI_clamp (by omega)] at w
        exact hm h hh12 ⟨h4', w⟩
    · obtain ⟨n, rfl⟩ : ∃ n', n = n' + 1 := ⟨n - 1, by omega⟩
      refine fd_elL fun m tf ts dn g1 g2 g3 S0 => ?_
      have z := K _ S0
      exact br_t fd_le12 z
  | succ d ih =>
    intro i c q hid I hm
    have hi : i < 12 := by omega
    have hic : (nI i).toNatClampNeg = i := nI_clamp (by omega)
    have hii : vp_in (nI i) 12 := vp_in_nI hi (by decide)
    by_cases hdue : fd_due c i
    · obtain ⟨L, hq⟩ := fd_head5 I hi hdue hm
      obtain ⟨-, h4', I1⟩ := fd_Iwk5 I hq
      have e6 : fd_sC c 6 i 1 6 i = 1 := pk_us
      have o6 : ∀ g, g ≠ i → fd_sC c 6 i 1 6 g = c 6 g := fun g hg => pk_un hg
      obtain ⟨c', q', I', D', F2, Fj, X', Y'⟩ := ih (i + 1) _ _ (by omega) I1 (fun g hg z => by
        by_cases w : g = i
        · have := z.1
          rw [w, e6] at this
          exact absurd this (by decide)
        · have z1 := z.1
          rw [o6 g w] at z1
          exact hm g (by omega) ⟨z1, z.2⟩)
      have hlen : (fd_w5 q i L 5).length < (q 5).length := by
        rw [hq]
        show L.length < L.length + 1
        omega
      refine ⟨c', q', I', D', fun h hh => ?_, fun j hj => (Fj j hj).trans (fd_sC_n hj), fun post K n hn => ?_, fun N postY x1 hN K n hn => ?_⟩
      · rw [F2 h hh]
        by_cases w : h = i
        · rw [w, e6, h4']; exact ⟨fun z => absurd z (by decide), fun z => absurd z (by decide)⟩
        · rw [o6 h w]
      · obtain ⟨n, rfl⟩ : ∃ n', n = n' + 1 := ⟨n - 1, by omega⟩
        refine fd_elK fun sl hd mn fi th la ro nu bg fr bk bh bf wh pu h1 h2 h3 h4 h5 h6 R0 => ?_
        obtain ⟨s1, s2⟩ := h2
        rw [hq] at s1 s2
        have es : sl = nI i := s1
        rw [es]
        refine br_f (nI_pos (by omega)) ⟨hii, ?_⟩
        rw [hic]
        refine br_t hdue.2 ⟨hii, nm_r s2.1 ?_⟩
        refine fd_xappend (c := c) (q := fd_sQ q 5 L) hi (by have := fd_ilen I; exact Nat.lt_of_le_of_lt this (by decide)) (fd_elK fun sl hd mn fi th la ro nu bg fr bk bh bf wh pu h1 h2 h3 h4 h5 h6 R0 => ?_) _ (fd_inX h1 ⟨rfl, s2.2⟩ (fd_rCh_hi (by decide) h3) h4 h5 h6)
        have z := X' post K n (by omega) _ R0
        exact z
      · obtain ⟨n, rfl⟩ : ∃ n', n = n' + 1 := ⟨n - 1, by omega⟩
        refine fd_elL fun m tf ts dn g1 g2 g3 S0 => br_f (fd_ng12 hi) ⟨hii, ?_⟩
        rw [hic]
        refine br_t h4' ⟨hii, br_t hdue.2 ?_⟩
        have QS : fd_QS q (fd_w5 q i L) i := by
          refine ⟨Or.inr rfl, fun z => absurd (h4'.symm.trans ((fd_i4 I hi).mp z)) (by decide), (fd_iL I).2.1, fun k hk => Or.inl ⟨?_, fun x hx => ?_⟩⟩
          · rw [fd_w5_lo hk]; exact List.Sublist.refl _
          · rw [fd_w5_lo hk] at hx; exact (fd_modg I hi (by rw [h4']; decide)).2 k hk x hx
        refine fd_yready hi QS (fd_elL fun m tf ts dn g1 g2 g3 S0 => nm_r (nI_1 i) ?_) _ S0
        have z := Y' (N + 1) postY x1 (by omega) (fun v' R' => K v' (by rw [show N + (d + 1) = N + 1 + d by omega]; exact R')) n (by omega) _ S0
        exact z
    · obtain ⟨c', q', I', D', F2, Fj, X', Y'⟩ := ih (i + 1) c q (by omega) I (fun g hg z => by
        by_cases w : g = i
        · exact hdue (w ▸ z)
        · exact hm g (by omega) z)
      refine ⟨c', q', I', D', F2, Fj, X', fun N postY x1 hN K n hn => ?_⟩
      obtain ⟨n, rfl⟩ : ∃ n', n = n' + 1 := ⟨n - 1, by omega⟩
      refine fd_elL fun m tf ts dn g1 g2 g3 S0 => br_f (fd_ng12 hi) ⟨hii, ?_⟩
      have go : wY_tick_14 postY x1 n (nI (i + 1)) (c 0 0) (c 0 1) (c 0 2) (c 0 3) (lN m) (c 0 4) (c 1) (c 2) (c 3) (c 4) (c 5) (c 6) (c 7) (c 8) (c 9) (c 10) ts (c 11) (c 12) (c 13) (c 14) (c 15) dn (c 17) := by
        have z := Y' N postY x1 (by omega) (fun v' R' => K v' (fd_RY_up (by omega) R')) n (by omega) _ S0
        exact z
      rw [hic]
      exact br_c (fun z => ⟨hii, br_c (fun z2 => absurd ⟨z, z2⟩ hdue) fun _ => nm_r (nI_1 i) go⟩) fun _ => nm_r (nI_1 i) go
theorem fd_len5 {e : Nat} {c : Nat → Nat → Int32} {q : Nat → List Nat} (I : fd_Inv e fd_no c q) : (q 5).length ≤ 12 := by
  refine fd_len_le 12 _ ?_ (fd_iL I).2.2.1
  refine List.Pairwise.imp (fun {x y} h => ?_) (fd_iL I).2.2.2.1
  rintro rfl
  rcases h with h | h <;> omega
theorem fd_tick {c : Nat → Nat → Int32} {q : Nat → List Nat} {t : Nat} (I : fd_Inv 1 fd_no c q) (O : fd_OnI 12 c) (ht : c 0 2 = nI t) (htb : t < 100000000) :
    ∃ r c' q', fd_Inv 1 fd_no c' q' ∧ fd_OnI 12 c' ∧ c' 0 2 = nI (t + 1) ∧ fd_MX r c q c' q' (fun p u => wpX_tick p u) ∧
      (∀ (N : Nat) (post : Int32 → SY → Prop), N + 1000 < 2 ^ 62 → (∀ v', fd_RY (N + 1000) 3 c' q' v' → post r v') → ∀ v, fd_RY N 3 c q v → wpY_tick post v) := by
  have I0 : fd_Inv 0 fd_no (fd_sC c 0 2 (c 0 2 + 1)) q := by
    refine ⟨⟨I.1.1, I.1.2.1, t + 1, by omega, ?_⟩, I.2.1, I.2.2.1, I.2.2.2.1, I.2.2.2.2.1, I.2.2.2.2.2.1, ?_, I.2.2.2.2.2.2.2⟩
    · show upd (c 0) 2 (c 0 2 + 1) 2 = _
      rw [pk_us, ht, nI_1]
    · intro g hg z
      obtain ⟨w, t', e1, e2, e3, e4, e5⟩ := fd_iS I g hg z
      have et : t' = t := fd_inj (e2.symm.trans ht) (by omega) (by omega)
      subst et
      refine ⟨w, t' + 1, e1, ?_, by omega, by omega, by omega⟩
      show upd (c 0) 2 (c 0 2 + 1) 2 = _
      rw [pk_us, ht, nI_1]
  have e02 : fd_sC c 0 2 (c 0 2 + 1) 0 2 = nI (t + 1) := by
    show upd (c 0) 2 (c 0 2 + 1) 2 = _
    rw [pk_us, ht, nI_1]
  obtain ⟨cn, hc1, hc2, ecn⟩ := I.1.1
  obtain ⟨c1, q1, I1, D1, F2, Fj, X1, Y1⟩ := fd_wakes 12 0 _ _ rfl I0 (fun g hg => absurd hg (by omega))
  have z0 : c1 0 = upd (c 0) 2 (c 0 2 + 1) := Fj 0 (by decide)
  have z15 : c1 15 = c 15 := Fj 15 (by decide)
  have z16 : c1 16 = c 16 := Fj 16 (by decide)
  have e00 : c1 0 0 = nI cn := by rw [z0]; exact ecn
  have e12 : c1 0 2 = nI (t + 1) := by rw [z0]; exact e02
  have I2 : fd_Inv 1 fd_no c1 q1 := by
    refine ⟨I1.1, I1.2.1, I1.2.2.1, I1.2.2.2.1, I1.2.2.2.2.1, I1.2.2.2.2.2.1, fun g hg z => ?_, I1.2.2.2.2.2.2.2⟩
    obtain ⟨w, t', e1, e2, e3, e4, e5⟩ := fd_iS I1 g hg z
    refine ⟨w, t', e1, e2, ?_, e4, e5⟩
    have : w ≠ t' := fun y => D1 g hg ⟨z, by rw [e1, e2, y]⟩
    omega
  have O2 : fd_OnI 12 c1 := by
    obtain ⟨o1, o2, o3, o4⟩ := O
    refine ⟨fun k hk => by rw [z15, z16]; exact o1 k hk, fun k j hk hj => by rw [z15]; exact o2 k j hk hj, fun f hf w => by rw [F2 f hf, z15]; exact o3 f hf w, fun k hk y => ?_⟩
    rw [z15]
    rw [e00, ← ecn] at y
    exact o4 k hk y
  obtain ⟨r, c', q', I', O', E', X', Y'⟩ := fd_carr hc2 cn 0 c1 q1 0 (by omega) I2 O2 e00
  refine ⟨r, c', q', I', O', E'.2.2.trans e12, fun post K => fd_elK fun sl hd mn fi th la ro nu bg fr bk bh bf wh pu h1 h2 h3 h4 h5 h6 R0 => ?_, fun N post hN K => fd_elL fun m tf ts dn g1 g2 g3 S0 => ?_⟩
  · have kx : ∀ u', fd_RX c1 q1 u' → ∃ n60, fd_X60 post n60 0 0 u' := fun u' R' => ⟨cn + 1, X' post K (cn + 1) (by omega) u' R'⟩
    have z := X1 post kx ((q 5).length + 1) (by omega) _ (fd_inX (c := fd_sC c 0 2 (c 0 2 + 1)) h1 h2 h3 h4 h5 h6)
    exact nm_e ⟨_, z⟩
  · have ky : ∀ v', fd_RY (N + 12) 3 c1 q1 v' → ∃ n56, fd_Y56 post n56 0 0 v' := fun v' R' => ⟨cn + 1, Y' (N + 12) post (by omega) (fun v' R' => K v' (fd_RY_up (by omega) R')) (cn + 1) (by omega) v' R'⟩
    have z := Y1 N post 0 (by omega) ky 13 (by omega) _ (fd_inY (c := fd_sC c 0 2 (c 0 2 + 1)) g1 g2 g3)
    exact nm_e ⟨13, z⟩
end
section
/-! idle, run -/
def fd_idl (c : Nat → Nat → Int32) : Prop := ∀ f, f < 12 → ¬ c 6 f = 1 ∧ ¬ c 6 f = 2 ∧ ¬ c 6 f = 4
theorem fd_idl_iff {e cn : Nat} {c : Nat → Nat → Int32} {q : Nat → List Nat} (I : fd_Inv e fd_no c q) (O : fd_OnI 12 c) (hc : c 0 0 = nI cn) (hcn : cn ≤ 3) : fd_idl c ↔ (q 4 = [] ∧ q 5 = [] ∧ ∀ k, k < cn → c 15 k = -1) := by
  constructor
  · intro h
    refine ⟨List.eq_nil_iff_forall_not_mem.mpr fun f hf => ?_, List.eq_nil_iff_forall_not_mem.mpr fun f hf => ?_, fun k hk => ?_⟩
    · have h12 := (fd_iL I).2.1 f hf
      exact (h f h12).1 ((fd_i4 I h12).mp hf)
    · have h12 := (fd_iL I).2.2.1 f hf
      exact (h f h12).2.2 ((fd_i5 I h12).mp hf)
    · rcases O.1 k (by omega) with z | ⟨⟨f, hf, z⟩, -⟩
      · exact z
      · exact absurd ((O.2.2.1 f hf (by omega)).mpr ⟨k, by omega, z⟩) (h f hf).2.1
  · rintro ⟨h4, h5, ho⟩ f hf
    refine ⟨fun z => ?_, fun z => ?_, fun z => ?_⟩
    · have := (fd_i4 I hf).mpr z
      rw [h4] at this
      cases this
    · obtain ⟨k, hk, ek⟩ := (O.2.2.1 f hf (by omega)).mp z
      by_cases w : k < cn
      · rw [ho k w] at ek; exact fd_nm (by omega) ek.symm
      · have := O.2.2.2 k hk (by rw [hc]; exact nI_le (by omega) (by omega))
        rw [this] at ek; exact fd_nm (by omega) ek.symm
    · have := (fd_i5 I hf).mpr z
      rw [h5] at this
      cases this
theorem fd_xidle22 {cn : Nat} {c : Nat → Nat → Int32} {q : Nat → List Nat} {post : Int32 → Prop} (O : fd_OnI 12 c) (hc : c 0 0 = nI cn) (hcn : cn ≤ 3) {sl hd mn : Int32} {fi th la ro nu bg fr bk bh bf wh pu : Nat → Int32} :
    ∀ (d k : Nat) (b : Int32), k + d = cn → (b = 0 ∨ b = 1) → ((b = 1 ∧ ∀ j, k ≤ j → j < cn → c 15 j = -1) → post 1) → (¬ (b = 1 ∧ ∀ j, k ≤ j → j < cn → c 15 j = -1) → post 0) → ∀ n, d < n → wX_idle_22 post sl hd mn (c 0 0) (c 0 1) (c 0 3) (c 0 2) (c 1) fi (c 3) th (c 5) (c 6) (c 7) (c 8) (c 9) (c 20) (c 19) (c 10) la (c 18) ro (c 15) (c 16) nu bg (c 14) (c 11) (c 12) fr bk bh bf wh pu n b (nI k) := by
  intro d
  induction d with
  | zero =>
    intro k b hk hb K1 K0 n hn
    obtain ⟨n, rfl⟩ : ∃ n', n = n' + 1 := ⟨n - 1, by omega⟩
    refine br_t (by rw [hc]; exact nI_le (by omega) (by omega)) ⟨fd_nb01 hb, ?_⟩
    rcases hb with rfl | rfl
    · exact K0 fun z => fd_n01 z.1
    · exact K1 ⟨rfl, fun j h1 h2 => absurd h1 (by omega)⟩
  | succ d ih =>
    intro k b hk hb K1 K0 n hn
    obtain ⟨n, rfl⟩ : ∃ n', n = n' + 1 := ⟨n - 1, by omega⟩
    have hkc : (nI k).toNatClampNeg = k := nI_clamp (by omega)
    refine br_f (by rw [hc]; exact nI_ge (by omega) (by omega)) ⟨vp_in_nI (by omega) (by decide), ?_⟩
    rw [hkc]
    rcases O.1 k (by omega) with z | ⟨⟨f, hf, z⟩, -⟩
    · have eb : b &&& 1 = b := by rcases hb with rfl | rfl <;> decide
      refine br_f (by rw [z]; exact fd_mnle) (nm_r eb (nm_r (nI_1 k) ?_))
      refine ih (k + 1) b (by omega) hb (fun y => K1 ⟨y.1, fun j h1 h2 => ?_⟩) (fun y => K0 fun x => y ⟨x.1, fun j h1 h2 => x.2 j (by omega) h2⟩) n (by omega)
      by_cases w : j = k
      · rw [w]; exact z
      · exact y.2 j (by omega) h2
    · have eb : b &&& 0 = 0 := by rcases hb with rfl | rfl <;> decide
      refine br_t (by rw [z]; exact nI_pos' (by omega)) (nm_r eb (nm_r (nI_1 k) ?_))
      refine ih (k + 1) 0 (by omega) (Or.inl rfl) (fun y => absurd y.1 fd_n01) (fun _ => K0 fun x => ?_) n (by omega)
      have := x.2 k (Nat.le_refl _) (by omega)
      rw [z] at this
      exact fd_nm (by omega) this
theorem fd_xidle {e : Nat} {c : Nat → Nat → Int32} {q : Nat → List Nat} {post : Int32 → Prop} (I : fd_Inv e fd_no c q) (O : fd_OnI 12 c) (K1 : fd_idl c → post 1) (K0 : ¬ fd_idl c → post 0) : ∀ u, fd_RX c q u → wpX_idle post u := fd_elK fun sl hd mn fi th la ro nu bg fr bk bh bf wh pu h1 h2 h3 h4 h5 h6 R0 => by
  obtain ⟨cn, hc1, hc2, ecn⟩ := I.1.1
  have hi := fd_idl_iff I O ecn hc2
  obtain ⟨h, h16, e1, e2, hr⟩ := h1
  obtain ⟨s1, s2⟩ := h2
  have hlen : (q 4).length < 2 ^ 31 := by have := fd_ilen I; omega
  have hm : mn = 0 ↔ q 4 = [] := by
    rw [e2]
    have : nI (q 4).length = 0 ↔ (q 4).length = 0 := nI_eq (b := 0) hlen (by decide)
    rw [this, List.length_eq_zero_iff]
  have hs : 0 ≤ sl ↔ ¬ q 5 = [] := by
    rw [s1]
    cases hq : q 5 with
    | nil => exact ⟨fun z => absurd z fd_mnle, fun z => absurd rfl z⟩
    | cons x L =>
      have := (fd_iL I).2.2.1 x (by rw [hq]; exact List.mem_cons_self)
      exact ⟨fun _ z => (by cases z), fun _ => nI_pos' (n := x) (by omega)⟩
  have go : ∀ b : Int32, (b = 0 ∨ b = 1) → (b = 1 ↔ (q 4 = [] ∧ q 5 = [])) → ∃ n22, wX_idle_22 post sl hd mn (c 0 0) (c 0 1) (c 0 3) (c 0 2) (c 1) fi (c 3) th (c 5) (c 6) (c 7) (c 8) (c 9) (c 20) (c 19) (c 10) la (c 18) ro (c 15) (c 16) nu bg (c 14) (c 11) (c 12) fr bk bh bf wh pu n22 b 0 := by
    intro b hb hbi
    refine ⟨cn + 1, fd_xidle22 (q := q) O ecn hc2 cn 0 b (by omega) hb (fun z => K1 (hi.mpr ⟨(hbi.mp z.1).1, (hbi.mp z.1).2, fun k hk => z.2 k (by omega) hk⟩)) (fun z => K0 fun y => z ?_) (cn + 1) (by omega)⟩
    have := hi.mp y
    exact ⟨hbi.mpr ⟨this.1, this.2.1⟩, fun j _ hj => this.2.2 j hj⟩
  refine br_c (fun z => br_c (fun z2 => go 0 (Or.inl rfl) ⟨fun y => absurd y fd_n01, fun y => absurd y.2 (hs.mp z2)⟩) fun z2 => go 1 (Or.inr rfl) ⟨fun _ => ⟨hm.mp z, ?_⟩, fun _ => rfl⟩) fun z => go 0 (Or.inl rfl) ⟨fun y => absurd y fd_n01, fun y => absurd (hm.mpr y.1) z⟩
  exact Classical.byContradiction fun y => z2 (hs.mpr y)
theorem fd_yidle {N kx : Nat} {c : Nat → Nat → Int32} {q : Nat → List Nat} {post : Int32 → Prop} (K1 : fd_idl c → post 1) (K0 : ¬ fd_idl c → post 0) : ∀ v, fd_RY N kx c q v → wpY_isIdle post v := fd_elL fun m tf ts dn g1 g2 g3 S0 => by
  have loop : ∀ d i, i + d = 12 → (∀ g, g < i → ¬ c 6 g = 1 ∧ ¬ c 6 g = 2 ∧ ¬ c 6 g = 4) → ∀ n, d < n → wY_isIdle_2 post (c 0 0) (c 0 1) (c 0 2) (c 0 3) (lN m) (c 0 4) (c 1) (c 2) (c 3) (c 4) (c 5) (c 6) (c 7) (c 8) (c 9) (c 10) ts (c 11) (c 12) (c 13) (c 14) (c 15) dn (c 17) n (nI i) := by
    intro d
    induction d with
    | zero =>
      intro i hi hg n hn
      obtain ⟨n, rfl⟩ : ∃ n', n = n' + 1 := ⟨n - 1, by omega⟩
      have : i = 12 := by omega
      subst this
      exact br_t fd_le12 (K1 hg)
    | succ d ih =>
      intro i hi hg n hn
      obtain ⟨n, rfl⟩ : ∃ n', n = n' + 1 := ⟨n - 1, by omega⟩
      have hic : (nI i).toNatClampNeg = i := nI_clamp (by omega)
      have hii : vp_in (nI i) 12 := vp_in_nI (by omega) (by decide)
      refine br_f (fd_ng12 (by omega)) ⟨hii, ?_⟩
      rw [hic]
      refine br_c (fun z => K0 fun y => (y i (by omega)).1 z) fun z1 => ⟨hii, br_c (fun z => K0 fun y => (y i (by omega)).2.1 z) fun z2 => ⟨hii, br_c (fun z => K0 fun y => (y i (by omega)).2.2 z) fun z3 => nm_r (nI_1 i) (ih (i + 1) (by omega) (fun g hgi => ?_) n (by omega))⟩⟩
      by_cases w : g = i
      · rw [w]; exact ⟨z1, z2, z3⟩
      · exact hg g (by omega)
  exact ⟨13, loop 12 0 rfl (fun g hg => absurd hg (by omega)) 13 (by omega)⟩
def fd_X34 (post : Int32 → SX → Prop) (x1 : Int32) (n : Nat) (x2 x3 x4 : Int32) (u : SX) : Prop := match u with
  | (f_sleeper, f_head, f_many, f_carriers, f_slice, f_puts, f_time, a_op, a_first, a_second, a_third, a_length, a_state, a_program, a_place, a_register, a_gives, a_into, a_wake, a_later, a_joiners, a_row, a_on, a_done, a_number, a_begin, a_count, a_capacity, a_closed, a_front, a_back, a_behind, a_before, a_at, a_put) => wX_run_34 post x1 n x2 x3 x4 f_sleeper f_head f_many f_carriers f_slice f_puts f_time a_op a_first a_second a_third a_length a_state a_program a_place a_register a_gives a_into a_wake a_later a_joiners a_row a_on a_done a_number a_begin a_count a_capacity a_closed a_front a_back a_behind a_before a_at a_put
def fd_Y28 (post : Int32 → SY → Prop) (x1 : Int32) (n : Nat) (x2 x3 : Int32) (v : SY) : Prop := match v with
  | (f_carriers, f_slice, f_time, f_outs, f_stamps, f_yields, a_ops, a_as, a_bs, a_cs, a_size, a_state, a_program, a_pc, a_register, a_until, a_stamp, a_capacity, a_closed, a_held, a_count, a_on, a_done, a_last) => wY_run_28 post x1 n x2 x3 f_carriers f_slice f_time f_outs f_stamps f_yields a_ops a_as a_bs a_cs a_size a_state a_program a_pc a_register a_until a_stamp a_capacity a_closed a_held a_count a_on a_done a_last
theorem fd_runloop {m : Nat} (hm : m ≤ 2000) : ∀ (d k t : Nat) (c : Nat → Nat → Int32) (q : Nat → List Nat) (x2 : Int32), k + d = m → fd_Inv 1 fd_no c q → fd_OnI 12 c → c 0 2 = nI t → t + d ≤ 100000000 →
    ∃ r c' q', fd_Inv 1 fd_no c' q' ∧ fd_OnI 12 c' ∧
      (∀ (post : Int32 → SX → Prop) (x3 : Int32), (fd_idl c → x3 = 1) → (¬ fd_idl c → x3 = 0) → (∀ u', fd_RX c' q' u' → post r u') → ∀ n, d < n → ∀ u, fd_RX c q u → fd_X34 post (nI m) n x2 x3 (nI k) u) ∧
      (∀ (N : Nat) (post : Int32 → SY → Prop), N + 1000 * d < 2 ^ 62 → (∀ v', fd_RY (N + 1000 * d) 3 c' q' v' → post r v') → ∀ n, d < n → ∀ v, fd_RY N 3 c q v → fd_Y28 post (nI m) n x2 (nI k) v) := by
  intro d
  induction d with
  | zero =>
    intro k t c q x2 hk I O ht htd
    refine ⟨x2, c, q, I, O, fun post x3 _ _ K n hn => ?_, fun N post hN K n hn => ?_⟩
    · obtain ⟨n, rfl⟩ : ∃ n', n = n' + 1 := ⟨n - 1, by omega⟩
      exact fd_elK fun sl hd mn fi th la ro nu bg fr bk bh bf wh pu h1 h2 h3 h4 h5 h6 R0 => br_t (nI_le (by omega) (by omega)) (K _ R0)
    · obtain ⟨n, rfl⟩ : ∃ n', n = n' + 1 := ⟨n - 1, by omega⟩
      exact fd_elL fun m tf ts dn g1 g2 g3 S0 => br_t (nI_le (by omega) (by omega)) (K _ S0)
  | succ d ih =>
    intro k t c q x2 hk I O ht htd
    by_cases hidl : fd_idl c
    · refine ⟨x2, c, q, I, O, fun post x3 z1 _ K n hn => ?_, fun N post hN K n hn => ?_⟩
      · obtain ⟨n, rfl⟩ : ∃ n', n = n' + 1 := ⟨n - 1, by omega⟩
        exact fd_elK fun sl hd mn fi th la ro nu bg fr bk bh bf wh pu h1 h2 h3 h4 h5 h6 R0 => br_f (nI_ge (by omega) (by omega)) (br_f (by rw [z1 hidl]; decide) (K _ R0))
      · obtain ⟨n, rfl⟩ : ∃ n', n = n' + 1 := ⟨n - 1, by omega⟩
        refine fd_elL fun m tf ts dn g1 g2 g3 S0 => br_f (nI_ge (by omega) (by omega)) ?_
        exact fd_yidle (fun _ => br_f fd_n10 (K _ (fd_RY_up (by omega) S0))) (fun z => absurd hidl z) _ S0
    · obtain ⟨r1, c1, q1, I1, O1, t1, X1, Y1⟩ := fd_tick I O ht (by omega)
      obtain ⟨r, c', q', I', O', X', Y'⟩ := ih (k + 1) (t + 1) c1 q1 (x2 + r1) (by omega) I1 O1 t1 (by omega)
      refine ⟨r, c', q', I', O', fun post x3 _ z0 K n hn => ?_, fun N post hN K n hn => ?_⟩
      · obtain ⟨n, rfl⟩ : ∃ n', n = n' + 1 := ⟨n - 1, by omega⟩
        refine fd_elK fun sl hd mn fi th la ro nu bg fr bk bh bf wh pu h1 h2 h3 h4 h5 h6 R0 => br_f (nI_ge (by omega) (by omega)) (br_t (z0 hidl) ?_)
        refine X1 _ (fd_elK fun sl hd mn fi th la ro nu bg fr bk bh bf wh pu h1 h2 h3 h4 h5 h6 R0 => nm_e ?_) _ R0
        refine fd_xidle I1 O1 (fun z => nm_r (nI_1 k) ?_) (fun z => nm_r (nI_1 k) ?_) _ R0
        · have y := X' post 1 (fun _ => rfl) (fun w => absurd z w) K n (by omega) _ R0
          exact y
        · have y := X' post 0 (fun w => absurd w z) (fun _ => rfl) K n (by omega) _ R0
          exact y
      · obtain ⟨n, rfl⟩ : ∃ n', n = n' + 1 := ⟨n - 1, by omega⟩
        refine fd_elL fun m tf ts dn g1 g2 g3 S0 => br_f (nI_ge (by omega) (by omega)) ?_
        refine fd_yidle (fun z => absurd z hidl) (fun _ => br_t rfl ?_) _ S0
        refine Y1 N _ (by omega) (fd_elL fun m tf ts dn g1 g2 g3 S0 => nm_e (nm_r (nI_1 k) ?_)) _ S0
        have y := Y' (N + 1000) post (by omega) (fun v' R' => K v' (by rw [show N + 1000 * (d + 1) = N + 1000 + 1000 * d by omega]; exact R')) n (by omega) _ S0
        exact y
theorem fd_run {c : Nat → Nat → Int32} {q : Nat → List Nat} (p : Int32) (I : fd_Inv 1 fd_no c q) (O : fd_OnI 12 c) :
    ∃ r c' q', fd_Inv 1 fd_no c' q' ∧ fd_OnI 12 c' ∧ fd_MX r c q c' q' (fun P u => wpX_run P u p) ∧
      (∀ (N : Nat) (post : Int32 → SY → Prop), N + 2000000 < 2 ^ 62 → (∀ v', fd_RY (N + 2000000) 3 c' q' v' → post r v') → ∀ v, fd_RY N 3 c q v → wpY_run post v p) := by
  obtain ⟨t, ht1, ht⟩ := I.1.2.2
  by_cases hp : 0 ≤ p ∧ p ≤ 2000
  · obtain ⟨mr, hm, rfl⟩ := fd_rng (n := 2000) (by decide) hp.1 hp.2
    have eX : (c 0 2 + nI mr ≤ 100000000) ↔ t + mr ≤ 100000000 := by
      rw [ht, nI_add]
      exact nI_leI (b := 100000000) (by omega) (by decide)
    have eY : (c 0 2 ≤ 100000000 - nI mr) ↔ t + mr ≤ 100000000 := by
      have e1 : (100000000 : Int32) - nI mr = nI (100000000 - mr) := pk_sub (a := 100000000) (by omega)
      rw [ht, e1, nI_leI (by omega) (by omega)]
      omega
    by_cases htm : t + mr ≤ 100000000
    · obtain ⟨r, c', q', I', O', X', Y'⟩ := fd_runloop hm mr 0 t c q 0 (by omega) I O ht htm
      refine ⟨r, c', q', I', O', fun post K => fd_elK fun sl hd mn fi th la ro nu bg fr bk bh bf wh pu h1 h2 h3 h4 h5 h6 R0 => ?_, fun N post hN K => fd_elL fun m tf ts dn g1 g2 g3 S0 => ?_⟩
      · unfold wpX_run
        dsimp only
        refine fd_xout (fun _ _ => br_t rfl (br_t (eX.mpr htm) ?_)) (fun z => absurd hp z)
        refine fd_xidle I O (fun z => ⟨mr + 1, ?_⟩) (fun z => ⟨mr + 1, ?_⟩) _ R0
        · have y := X' post 1 (fun _ => rfl) (fun w => absurd z w) K (mr + 1) (by omega) _ R0
          exact y
        · have y := X' post 0 (fun w => absurd w z) (fun _ => rfl) K (mr + 1) (by omega) _ R0
          exact y
      · unfold wpY_run
        dsimp only
        refine fd_ywit (fun _ _ => br_f fd_n10 (br_t (eY.mpr htm) ⟨mr + 1, ?_⟩)) (fun z => absurd hp z)
        have y := Y' N post (by omega) (fun v' R' => K v' (fd_RY_up (by omega) R')) (mr + 1) (by omega) _ S0
        exact y
    · refine ⟨-1, c, q, I, O, fun post K => fd_elK fun sl hd mn fi th la ro nu bg fr bk bh bf wh pu h1 h2 h3 h4 h5 h6 R0 => ?_, fun N post hN K => fd_elL fun m tf ts dn g1 g2 g3 S0 => ?_⟩
      · unfold wpX_run
        dsimp only
        exact fd_xout (fun _ _ => br_t rfl (br_f (fun z => htm (eX.mp z)) (K _ R0))) (fun z => absurd hp z)
      · unfold wpY_run
        dsimp only
        exact fd_ywit (fun _ _ => br_f fd_n10 (br_f (fun z => htm (eY.mp z)) (K _ (fd_RY_up (by omega) S0)))) (fun z => absurd hp z)
  · refine ⟨-1, c, q, I, O, fun post K => fd_elK fun sl hd mn fi th la ro nu bg fr bk bh bf wh pu h1 h2 h3 h4 h5 h6 R0 => ?_, fun N post hN K => fd_elL fun m tf ts dn g1 g2 g3 S0 => ?_⟩
    · unfold wpX_run
      dsimp only
      exact fd_xout (fun a b => absurd ⟨a, b⟩ hp) (fun _ => br_f fd_n10 (K _ R0))
    · unfold wpY_run
      dsimp only
      exact fd_ywit (fun a b => absurd ⟨a, b⟩ hp) (fun _ => br_t rfl (K _ (fd_RY_up (by omega) S0)))
end
section
/-! the relation -/
def i_Rel (k : Nat) (u : SX) (v : SY) : Prop := ∃ c q, fd_Inv 1 fd_no c q ∧ fd_OnI 12 c ∧ fd_RX c q u ∧ fd_RY (3000000 * k) 3 c q v
theorem i_up {k : Nat} {u : SX} {v : SY} (h : i_Rel k u v) : i_Rel (k + 5) u v := by
  obtain ⟨c, q, I, O, R, S⟩ := h
  exact ⟨c, q, I, O, R, fd_RY_up (by omega) S⟩
theorem fd_On_w {c c' : Nat → Nat → Int32} (F : fd_Fw c c') (O : fd_OnI 12 c) : fd_OnI 12 c' := by
  obtain ⟨o1, o2, o3, o4⟩ := O
  obtain ⟨f1, -, f0, f15, f16⟩ := F
  refine ⟨fun k hk => by rw [f15, f16]; exact o1 k hk, fun k j hk hj => by rw [f15]; exact o2 k j hk hj, fun f hf w => by rw [f1 f hf, f15]; exact o3 f hf w, fun k hk y => ?_⟩
  rw [f15]
  rw [f0] at y
  exact o4 k hk y
/-- a call that changes states -/
theorem fd_vcS {k : Nat} {u : SX} {v : SY} (WX : (Int32 → SX → Prop) → SX → Prop) (WY : (Int32 → SY → Prop) → SY → Prop) (I : i_Rel k u v) (hk : k + 5 ≤ 2561)
    (h : ∀ c q, fd_Inv 1 fd_no c q → fd_OnI 12 c → ∃ r c' q', fd_Inv 1 fd_no c' q' ∧ fd_OnI 12 c' ∧ fd_MX r c q c' q' WX ∧ (∀ (N : Nat) (post : Int32 → SY → Prop), N + 2000000 < 2 ^ 62 → (∀ v', fd_RY (N + 2000000) 3 c' q' v' → post r v') → ∀ v, fd_RY N 3 c q v → WY post v)) :
    WX (fun r u' => WY (fun r' v' => r' = r ∧ i_Rel (k + 5) u' v') v) u := by
  obtain ⟨c, q, I, O, R, S⟩ := I
  obtain ⟨r, c', q', I', O', X, Y⟩ := h c q I O
  refine X _ (fun u' R' => ?_) u R
  exact Y (3000000 * k) _ (by omega) (fun v' S' => ⟨rfl, c', q', I', O', R', fd_RY_up (by omega) S'⟩) v S
/-- a call that only reads -/
theorem fd_vcQ {k : Nat} {u : SX} {v : SY} (WX : (Int32 → Prop) → SX → Prop) (WY : (Int32 → Prop) → SY → Prop) (J : i_Rel k u v) (hk : k + 5 ≤ 2561)
    (h : ∀ c q, fd_Inv 1 fd_no c q → fd_OnI 12 c → ∃ r, (∀ post : Int32 → Prop, post r → ∀ u, fd_RX c q u → WX post u) ∧ (∀ (N : Nat) (post : Int32 → Prop), N < 2 ^ 62 → post r → ∀ v, fd_RY N 3 c q v → WY post v)) :
    WX (fun r => WY (fun r' => r' = r ∧ i_Rel (k + 5) u v) v) u := by
  have J' := i_up J
  obtain ⟨c, q, I, O, R, S⟩ := J
  obtain ⟨r, X, Y⟩ := h c q I O
  exact X _ (Y (3000000 * k) _ (by omega) ⟨rfl, J'⟩ v S) u R
theorem i_vc_start {k : Nat} {u : SX} {v : SY} (I : i_Rel k u v) (hk : k + 5 ≤ 2561) (v1 : Int32) (v2 : Int32) : wpX_start (fun r u' => wpY_start (fun r' v' => r' = r ∧ i_Rel (k + 5) u' v') v v1 v2) u v1 v2 := by
  refine fd_vcS (fun P u => wpX_start P u v1 v2) (fun P v => wpY_start P v v1 v2) I hk fun c q I O => ?_
  obtain ⟨r, c', q', I', F', X, Y⟩ := fd_start v1 v2 I
  exact ⟨r, c', q', I', fd_On_w F' O, X, fun N post hN K => Y N 3 post (by omega) (fun v' R' => K v' (fd_RY_up (by omega) R'))⟩
theorem i_vc_run {k : Nat} {u : SX} {v : SY} (I : i_Rel k u v) (hk : k + 5 ≤ 2561) (v1 : Int32) : wpX_run (fun r u' => wpY_run (fun r' v' => r' = r ∧ i_Rel (k + 5) u' v') v v1) u v1 := by
  refine fd_vcS (fun P u => wpX_run P u v1) (fun P v => wpY_run P v v1) I hk fun c q I O => ?_
  exact fd_run v1 I O
theorem i_vc_slice {k : Nat} {u : SX} {v : SY} (I : i_Rel k u v) (hk : k + 5 ≤ 2561) (v1 : Int32) : wpX_slice (fun r u' => wpY_slice (fun r' v' => r' = r ∧ i_Rel (k + 5) u' v') v v1) u v1 := by
  refine fd_vcS (fun P u => wpX_slice P u v1) (fun P v => wpY_slice P v v1) I hk fun c q I O => ?_
  by_cases hp : 1 ≤ v1 ∧ v1 ≤ 8
  · obtain ⟨n, hn, rfl⟩ := fd_rng (n := 8) (by decide) (Int32.le_trans (by decide) hp.1) hp.2
    have hn1 : 1 ≤ n := (nI_leI (a := 1) (by decide) (by omega)).mp hp.1
    refine ⟨1, fd_sC c 0 1 (nI n), q, ⟨⟨I.1.1, ⟨n, hn1, hn, (pk_us : upd (c 0) 1 (nI n) 1 = nI n)⟩, I.1.2.2⟩, I.2⟩, O, fun post K => fd_elK fun sl hd mn fi th la ro nu bg fr bk bh bf wh pu h1 h2 h3 h4 h5 h6 R0 => ?_, fun N post hN K => fd_elL fun m tf ts dn g1 g2 g3 S0 => ?_⟩
    · exact fd_xout (fun _ _ => br_t rfl (K _ (fd_inX h1 h2 h3 h4 h5 h6))) (fun z => absurd hp z)
    · unfold wpY_slice
      dsimp only
      exact fd_ywit (fun _ _ => br_f fd_n10 (K _ (fd_inY (by omega) g2 g3))) (fun z => absurd hp z)
  · refine ⟨0, c, q, I, O, fun post K => fd_elK fun sl hd mn fi th la ro nu bg fr bk bh bf wh pu h1 h2 h3 h4 h5 h6 R0 => ?_, fun N post hN K => fd_elL fun m tf ts dn g1 g2 g3 S0 => ?_⟩
    · exact fd_xout (fun a b => absurd ⟨a, b⟩ hp) (fun _ => br_f fd_n10 (K _ R0))
    · unfold wpY_slice
      dsimp only
      exact fd_ywit (fun a b => absurd ⟨a, b⟩ hp) (fun _ => br_t rfl (K _ (fd_RY_up (by omega) S0)))
theorem i_vc_state {k : Nat} {u : SX} {v : SY} (I : i_Rel k u v) (hk : k + 5 ≤ 2561) (v1 : Int32) : wpX_state (fun r => wpY_state (fun r' => r' = r ∧ i_Rel (k + 5) u v) v v1) u v1 := by
  refine fd_vcQ (fun P u => wpX_state P u v1) (fun P v => wpY_state P v v1) I hk fun c q I O => ?_
  by_cases hp : 0 ≤ v1 ∧ v1 ≤ 11
  · obtain ⟨n, hn, rfl⟩ := fd_rng (n := 11) (by decide) hp.1 hp.2
    have hc : (nI n).toNatClampNeg = n := nI_clamp (by omega)
    refine ⟨c 6 n, fun post K => fd_elK fun sl hd mn fi th la ro nu bg fr bk bh bf wh pu h1 h2 h3 h4 h5 h6 R0 => ?_, fun N post hN K => fd_elL fun m tf ts dn g1 g2 g3 S0 => ?_⟩
    · refine fd_xout (fun _ _ => br_t rfl ⟨vp_in_nI (by omega) (by decide), ?_⟩) (fun z => absurd hp z)
      rw [hc]; exact K
    · unfold wpY_state
      dsimp only
      refine fd_ywit (fun _ _ => br_f fd_n10 ⟨vp_in_nI (by omega) (by decide), ?_⟩) (fun z => absurd hp z)
      rw [hc]; exact K
  · refine ⟨-1, fun post K => fd_elK fun sl hd mn fi th la ro nu bg fr bk bh bf wh pu h1 h2 h3 h4 h5 h6 R0 => ?_, fun N post hN K => fd_elL fun m tf ts dn g1 g2 g3 S0 => ?_⟩
    · exact fd_xout (fun a b => absurd ⟨a, b⟩ hp) (fun _ => br_f fd_n10 K)
    · unfold wpY_state
      dsimp only
      exact fd_ywit (fun a b => absurd ⟨a, b⟩ hp) (fun _ => br_t rfl K)
theorem i_vc_time {k : Nat} {u : SX} {v : SY} (I : i_Rel k u v) (hk : k + 5 ≤ 2561) : wpX_time (fun r => wpY_time (fun r' => r' = r ∧ i_Rel (k + 5) u v) v) u := by
  refine fd_vcQ (fun P u => wpX_time P u) (fun P v => wpY_time P v) I hk fun c q I O => ?_
  exact ⟨c 0 2, fun post K => fd_elK fun sl hd mn fi th la ro nu bg fr bk bh bf wh pu h1 h2 h3 h4 h5 h6 R0 => K, fun N post hN K => fd_elL fun m tf ts dn g1 g2 g3 S0 => K⟩
theorem i_vc_carrier {k : Nat} {u : SX} {v : SY} (I : i_Rel k u v) (hk : k + 5 ≤ 2561) (v1 : Int32) : wpX_carrier (fun r => wpY_carrier (fun r' => r' = r ∧ i_Rel (k + 5) u v) v v1) u v1 := by
  refine fd_vcQ (fun P u => wpX_carrier P u v1) (fun P v => wpY_carrier P v v1) I hk fun c q I O => ?_
  obtain ⟨cn, hc1, hc2, ecn⟩ := I.1.1
  have em : c 0 0 - 1 = nI (cn - 1) := by rw [ecn]; exact pk_sub (b := 1) hc1
  by_cases hp : 0 ≤ v1 ∧ v1 ≤ nI (cn - 1)
  · obtain ⟨n, hn, rfl⟩ := fd_rng (n := cn - 1) (by omega) hp.1 hp.2
    have hc : (nI n).toNatClampNeg = n := nI_clamp (by omega)
    refine ⟨c 15 n, fun post K => fd_elK fun sl hd mn fi th la ro nu bg fr bk bh bf wh pu h1 h2 h3 h4 h5 h6 R0 => ?_, fun N post hN K => fd_elL fun m tf ts dn g1 g2 g3 S0 => ?_⟩
    · unfold wpX_carrier
      dsimp only
      rw [em, hc]
      exact fd_xout (fun _ _ => br_t rfl ⟨vp_in_nI (by omega) (by decide), K⟩) (fun z => absurd hp z)
    · unfold wpY_carrier
      dsimp only
      rw [em, hc]
      exact fd_ywit (fun _ _ => br_f fd_n10 ⟨vp_in_nI (by omega) (by decide), K⟩) (fun z => absurd hp z)
  · refine ⟨-1, fun post K => fd_elK fun sl hd mn fi th la ro nu bg fr bk bh bf wh pu h1 h2 h3 h4 h5 h6 R0 => ?_, fun N post hN K => fd_elL fun m tf ts dn g1 g2 g3 S0 => ?_⟩
    · unfold wpX_carrier
      dsimp only
      rw [em]
      exact fd_xout (fun a b => absurd ⟨a, b⟩ hp) (fun _ => br_f fd_n10 K)
    · unfold wpY_carrier
      dsimp only
      rw [em]
      exact fd_ywit (fun a b => absurd ⟨a, b⟩ hp) (fun _ => br_t rfl K)
theorem fd_6 {P : Nat → Prop} (h0 : P 0) (h1 : P 1) (h2 : P 2) (h3 : P 3) (h4 : P 4) (h5 : P 5) : ∀ n, n ≤ 5 → P n := by
  intro n hn
  have : n = 0 ∨ n = 1 ∨ n = 2 ∨ n = 3 ∨ n = 4 ∨ n = 5 := by omega
  rcases this with rfl | rfl | rfl | rfl | rfl | rfl <;> assumption
theorem i_vc_of {k : Nat} {u : SX} {v : SY} (I : i_Rel k u v) (hk : k + 5 ≤ 2561) (v1 : Int32) (v2 : Int32) : wpX_of (fun r => wpY_of (fun r' => r' = r ∧ i_Rel (k + 5) u v) v v1 v2) u v1 v2 := by
  refine fd_vcQ (fun P u => wpX_of P u v1 v2) (fun P v => wpY_of P v v1 v2) I hk fun c q I O => ?_
  by_cases hp : 0 ≤ v1 ∧ v1 ≤ 11
  · obtain ⟨f, hf, rfl⟩ := fd_rng (n := 11) (by decide) hp.1 hp.2
    have hfc : (nI f).toNatClampNeg = f := nI_clamp (by omega)
    have hfi : vp_in (nI f) 12 := vp_in_nI (by omega) (by decide)
    by_cases h0 : c 6 f = 0
    · refine ⟨-1, fun post K => fd_elK fun sl hd mn fi th la ro nu bg fr bk bh bf wh pu h1 h2 h3 h4 h5 h6 R0 => ?_, fun N post hN K => fd_elL fun m tf ts dn g1 g2 g3 S0 => ?_⟩
      · refine fd_xout (fun _ _ => br_t rfl ⟨hfi, ?_⟩) (fun z => absurd hp z)
        rw [hfc]
        exact br_t h0 K
      · unfold wpY_of
        dsimp only
        refine fd_ywit (fun _ _ => br_f fd_n10 ⟨hfi, ?_⟩) (fun z => absurd hp z)
        rw [hfc]
        exact br_t h0 K
    · by_cases hp2 : 0 ≤ v2 ∧ v2 ≤ 5
      · obtain ⟨w, hw, rfl⟩ := fd_rng (n := 5) (by decide) hp2.1 hp2.2
        -- X and Y from the switch on
        have X : ∀ (post : Int32 → Prop) (sl hd mn : Int32) (fi th la ro nu bg fr bk bh bf wh pu : Nat → Int32), ((3 ≤ nI w → ((5 ≤ nI w → (vp_in (nI f) 12 ∧ ((c 6 f = 4 → (vp_in (nI f) 12 ∧ post (c 10 f - c 0 2))) ∧ (¬ c 6 f = 4 → post (-1))))) ∧ (¬ 5 ≤ nI w → ((nI w = 3 → (vp_in (nI f) 12 ∧ post (c 8 f))) ∧ (¬ nI w = 3 → (vp_in (nI f) 12 ∧ post (c 7 f))))))) ∧ (¬ 3 ≤ nI w → (vp_in (3 * nI f + nI w) 36 ∧ post (c 9 (3 * nI f + nI w).toNatClampNeg)))) → wpX_of post (sl, hd, mn, c 0 0, c 0 1, c 0 3, c 0 2, c 1, fi, c 3, th, c 5, c 6, c 7, c 8, c 9, c 20, c 19, c 10, la, c 18, ro, c 15, c 16, nu, bg, c 14, c 11, c 12, fr, bk, bh, bf, wh, pu) (nI f) (nI w) := by
          intro post sl hd mn fi th la ro nu bg fr bk bh bf wh pu h
          unfold wpX_of
          dsimp only
          rw [hfc]
          exact fd_xout (fun _ _ => br_t rfl ⟨hfi, br_f h0 (fd_xout (fun _ _ => br_t rfl h) (fun z => absurd hp2 z))⟩) (fun z => absurd hp z)
        have Y : ∀ (post : Int32 → Prop) (m : Nat) (ts : Nat → Int64) (dn : Nat → Int32), ((nI w = 0 → (vp_in (3 * nI f + nI w) 36 ∧ post (c 9 (3 * nI f + nI w).toNatClampNeg))) ∧ (¬ nI w = 0 → ((nI w = 1 → (vp_in (3 * nI f + nI w) 36 ∧ post (c 9 (3 * nI f + nI w).toNatClampNeg))) ∧ (¬ nI w = 1 → ((nI w = 2 → (vp_in (3 * nI f + nI w) 36 ∧ post (c 9 (3 * nI f + nI w).toNatClampNeg))) ∧ (¬ nI w = 2 → ((nI w = 3 → (vp_in (nI f) 12 ∧ post (c 8 f))) ∧ (¬ nI w = 3 → ((nI w = 4 → (vp_in (nI f) 12 ∧ post (c 7 f))) ∧ (¬ nI w = 4 → ((nI w = 5 → (vp_in (nI f) 12 ∧ ((c 6 f = 4 → (vp_in (nI f) 12 ∧ post (c 10 f - c 0 2))) ∧ (¬ c 6 f = 4 → post (-1))))) ∧ (¬ nI w = 5 → True)))))))))))) → wpY_of post (c 0 0, c 0 1, c 0 2, c 0 3, lN m, c 0 4, c 1, c 2, c 3, c 4, c 5, c 6, c 7, c 8, c 9, c 10, ts, c 11, c 12, c 13, c 14, c 15, dn, c 17) (nI f) (nI w) := by
          intro post m ts dn h
          unfold wpY_of
          dsimp only
          rw [hfc]
          exact fd_ywit (fun _ _ => br_f fd_n10 ⟨hfi, br_f h0 (br_f (Int32.not_lt.mpr hp2.1) (br_f (Int32.not_lt.mpr hp2.2) h))⟩) (fun z => absurd hp z)
        have reg : w < 3 → 3 * nI f + nI w = nI (3 * f + w) ∧ (nI (3 * f + w)).toNatClampNeg = 3 * f + w ∧ vp_in (nI (3 * f + w)) 36 := fun hw3 => ⟨by rw [fd_3k, nI_add], nI_clamp (by omega), vp_in_nI (by omega) (by decide)⟩
        have cw : w = 0 ∨ w = 1 ∨ w = 2 ∨ w = 3 ∨ w = 4 ∨ w = 5 := by omega
        rcases cw with rfl | rfl | rfl | rfl | rfl | rfl
        · obtain ⟨r1, r2, r3⟩ := reg (by omega)
          refine ⟨c 9 (3 * f + 0), fun post K => fd_elK fun sl hd mn fi th la ro nu bg fr bk bh bf wh pu h1 h2 h3 h4 h5 h6 R0 => X post _ _ _ _ _ _ _ _ _ _ _ _ _ _ _ (br_f (by decide) ?_), fun N post hN K => fd_elL fun m tf ts dn g1 g2 g3 S0 => Y post _ _ _ (br_t rfl ?_)⟩
          · rw [r1, r2]; exact ⟨r3, K⟩
          · rw [r1, r2]; exact ⟨r3, K⟩
        · obtain ⟨r1, r2, r3⟩ := reg (by omega)
          refine ⟨c 9 (3 * f + 1), fun post K => fd_elK fun sl hd mn fi th la ro nu bg fr bk bh bf wh pu h1 h2 h3 h4 h5 h6 R0 => X post _ _ _ _ _ _ _ _ _ _ _ _ _ _ _ (br_f (by decide) ?_), fun N post hN K => fd_elL fun m tf ts dn g1 g2 g3 S0 => Y post _ _ _ (br_f (by decide) (br_t rfl ?_))⟩
          · rw [r1, r2]; exact ⟨r3, K⟩
          · rw [r1, r2]; exact ⟨r3, K⟩
        · obtain ⟨r1, r2, r3⟩ := reg (by omega)
          refine ⟨c 9 (3 * f + 2), fun post K => fd_elK fun sl hd mn fi th la ro nu bg fr bk bh bf wh pu h1 h2 h3 h4 h5 h6 R0 => X post _ _ _ _ _ _ _ _ _ _ _ _ _ _ _ (br_f (by decide) ?_), fun N post hN K => fd_elL fun m tf ts dn g1 g2 g3 S0 => Y post _ _ _ (br_f (by decide) (br_f (by decide) (br_t rfl ?_)))⟩
          · rw [r1, r2]; exact ⟨r3, K⟩
          · rw [r1, r2]; exact ⟨r3, K⟩
        · exact ⟨c 8 f, fun post K => fd_elK fun sl hd mn fi th la ro nu bg fr bk bh bf wh pu h1 h2 h3 h4 h5 h6 R0 => X post _ _ _ _ _ _ _ _ _ _ _ _ _ _ _ (br_t (by decide) (br_f (by decide) (br_t rfl ⟨hfi, K⟩))), fun N post hN K => fd_elL fun m tf ts dn g1 g2 g3 S0 => Y post _ _ _ (br_f (by decide) (br_f (by decide) (br_f (by decide) (br_t rfl ⟨hfi, K⟩))))⟩
        · exact ⟨c 7 f, fun post K => fd_elK fun sl hd mn fi th la ro nu bg fr bk bh bf wh pu h1 h2 h3 h4 h5 h6 R0 => X post _ _ _ _ _ _ _ _ _ _ _ _ _ _ _ (br_t (by decide) (br_f (by decide) (br_f (by decide) ⟨hfi, K⟩))), fun N post hN K => fd_elL fun m tf ts dn g1 g2 g3 S0 => Y post _ _ _ (br_f (by decide) (br_f (by decide) (br_f (by decide) (br_f (by decide) (br_t rfl ⟨hfi, K⟩)))))⟩
        · by_cases h4' : c 6 f = 4
          · exact ⟨c 10 f - c 0 2, fun post K => fd_elK fun sl hd mn fi th la ro nu bg fr bk bh bf wh pu h1 h2 h3 h4 h5 h6 R0 => X post _ _ _ _ _ _ _ _ _ _ _ _ _ _ _ (br_t (by decide) (br_t (by decide) ⟨hfi, br_t h4' ⟨hfi, K⟩⟩)), fun N post hN K => fd_elL fun m tf ts dn g1 g2 g3 S0 => Y post _ _ _ (br_f (by decide) (br_f (by decide) (br_f (by decide) (br_f (by decide) (br_f (by decide) (br_t rfl ⟨hfi, br_t h4' ⟨hfi, K⟩⟩))))))⟩
          · exact ⟨-1, fun post K => fd_elK fun sl hd mn fi th la ro nu bg fr bk bh bf wh pu h1 h2 h3 h4 h5 h6 R0 => X post _ _ _ _ _ _ _ _ _ _ _ _ _ _ _ (br_t (by decide) (br_t (by decide) ⟨hfi, br_f h4' K⟩)), fun N post hN K => fd_elL fun m tf ts dn g1 g2 g3 S0 => Y post _ _ _ (br_f (by decide) (br_f (by decide) (br_f (by decide) (br_f (by decide) (br_f (by decide) (br_t rfl ⟨hfi, br_f h4' K⟩))))))⟩
      · refine ⟨-1, fun post K => fd_elK fun sl hd mn fi th la ro nu bg fr bk bh bf wh pu h1 h2 h3 h4 h5 h6 R0 => ?_, fun N post hN K => fd_elL fun m tf ts dn g1 g2 g3 S0 => ?_⟩
        · refine fd_xout (fun _ _ => br_t rfl ⟨hfi, ?_⟩) (fun z => absurd hp z)
          rw [hfc]
          exact br_f h0 (fd_xout (fun a b => absurd ⟨a, b⟩ hp2) (fun _ => br_f fd_n10 K))
        · unfold wpY_of
          dsimp only
          refine fd_ywit (fun _ _ => br_f fd_n10 ⟨hfi, ?_⟩) (fun z => absurd hp z)
          rw [hfc]
          refine br_f h0 (br_c (fun _ => K) fun a => br_t ?_ K)
          exact Int32.not_le.mp fun b => hp2 ⟨Int32.not_lt.mp a, b⟩
  · refine ⟨-1, fun post K => fd_elK fun sl hd mn fi th la ro nu bg fr bk bh bf wh pu h1 h2 h3 h4 h5 h6 R0 => ?_, fun N post hN K => fd_elL fun m tf ts dn g1 g2 g3 S0 => ?_⟩
    · exact fd_xout (fun a b => absurd ⟨a, b⟩ hp) (fun _ => br_f fd_n10 K)
    · unfold wpY_of
      dsimp only
      exact fd_ywit (fun a b => absurd ⟨a, b⟩ hp) (fun _ => br_t rfl K)
end
section
/-! out, held, channel -/
theorem fd_putix {o : Int32} {j : Nat} (hj : j ≤ 15) : ((o - 1) - nI j) &&& 15 = nI ((o.toBitVec.toNat + 15 - j) % 16) := by
  have e : ((o - 1) - nI j).toBitVec.toNat % 2 ^ 4 = (o.toBitVec.toNat + 15 - j) % 16 := by
    rw [Int32.toBitVec_sub, BitVec.toNat_sub, Int32.toBitVec_sub, BitVec.toNat_sub, pk_tn (show j < 2 ^ 32 by omega), show ((1 : Int32).toBitVec).toNat = 1 from rfl]
    have := o.toBitVec.isLt
    omega
  rw [pk_and _ 4 (by decide), e]
theorem i_vc_out {k : Nat} {u : SX} {v : SY} (I : i_Rel k u v) (hk : k + 5 ≤ 2561) (v1 : Int32) : wpX_out (fun r => wpY_out (fun r' => r' = r ∧ i_Rel (k + 5) u v) v v1) u v1 := by
  refine fd_vcQ (fun P u => wpX_out P u v1) (fun P v => wpY_out P v v1) I hk fun c q I O => ?_
  by_cases hm : v1 = -1
  · exact ⟨c 0 3, fun post K => fd_elK fun sl hd mn fi th la ro nu bg fr bk bh bf wh pu h1 h2 h3 h4 h5 h6 R0 => br_t hm K, fun N post hN K => fd_elL fun m tf ts dn g1 g2 g3 S0 => br_t hm K⟩
  · by_cases hp : 0 ≤ v1 ∧ v1 ≤ 15
    · by_cases hlt : v1 < c 0 3
      · obtain ⟨j, hj, rfl⟩ := fd_rng (n := 15) (by decide) hp.1 hp.2
        have hjc : (nI j).toNatClampNeg = j := nI_clamp (by omega)
        have h16 : ((c 0 3).toBitVec.toNat + 15 - j) % 16 < 16 := Nat.mod_lt _ (by decide)
        refine ⟨c 17 j, fun post K => fd_elK fun sl hd mn fi th la ro nu bg fr bk bh bf wh pu h1 h2 h3 h4 h5 h6 R0 => ?_, fun N post hN K => fd_elL fun m tf ts dn g1 g2 g3 S0 => ?_⟩
        · unfold wpX_out
          dsimp only
          rw [fd_putix hj, nI_clamp (show ((c 0 3).toBitVec.toNat + 15 - j) % 16 < 2 ^ 31 by omega), h5 j (by omega)]
          exact br_f hm (fd_xout (fun _ _ => br_t rfl (br_t hlt ⟨vp_in_nI h16 (by decide), K⟩)) (fun z => absurd hp z))
        · unfold wpY_out
          dsimp only
          rw [hjc]
          exact br_f hm (fd_ywit (fun _ _ => br_f fd_n10 (br_f (Int32.not_le.mpr hlt) ⟨vp_in_nI (by omega) (by decide), K⟩)) (fun z => absurd hp z))
      · refine ⟨0, fun post K => fd_elK fun sl hd mn fi th la ro nu bg fr bk bh bf wh pu h1 h2 h3 h4 h5 h6 R0 => ?_, fun N post hN K => fd_elL fun m tf ts dn g1 g2 g3 S0 => ?_⟩
        · unfold wpX_out
          dsimp only
          exact br_f hm (fd_xout (fun _ _ => br_t rfl (br_f hlt K)) (fun z => absurd hp z))
        · unfold wpY_out
          dsimp only
          exact br_f hm (fd_ywit (fun _ _ => br_f fd_n10 (br_t (Int32.not_lt.mp hlt) K)) (fun z => absurd hp z))
    · refine ⟨0, fun post K => fd_elK fun sl hd mn fi th la ro nu bg fr bk bh bf wh pu h1 h2 h3 h4 h5 h6 R0 => ?_, fun N post hN K => fd_elL fun m tf ts dn g1 g2 g3 S0 => ?_⟩
      · unfold wpX_out
        dsimp only
        exact br_f hm (fd_xout (fun a b => absurd ⟨a, b⟩ hp) (fun _ => br_f fd_n10 K))
      · unfold wpY_out
        dsimp only
        exact br_f hm (fd_ywit (fun a b => absurd ⟨a, b⟩ hp) (fun _ => br_t rfl K))
theorem i_vc_held {k : Nat} {u : SX} {v : SY} (I : i_Rel k u v) (hk : k + 5 ≤ 2561) (v1 : Int32) (v2 : Int32) : wpX_held (fun r => wpY_held (fun r' => r' = r ∧ i_Rel (k + 5) u v) v v1 v2) u v1 v2 := by
  refine fd_vcQ (fun P u => wpX_held P u v1 v2) (fun P v => wpY_held P v v1 v2) I hk fun c q I O => ?_
  by_cases hp : 0 ≤ v1 ∧ v1 ≤ 3
  · obtain ⟨h, hh, rfl⟩ := fd_rng (n := 3) (by decide) hp.1 hp.2
    have hhc : (nI h).toNatClampNeg = h := nI_clamp (by omega)
    have hhi : vp_in (nI h) 4 := vp_in_nI (by omega) (by decide)
    obtain ⟨⟨mc, n, hm, hn, e11, e14⟩, hcl⟩ := fd_iC I h (by omega)
    by_cases h1' : v2 = -1
    · refine ⟨c 14 h, fun post K => fd_elK fun sl hd mn fi th la ro nu bg fr bk bh bf wh pu h1 h2 h3 h4 h5 h6 R0 => ?_, fun N post hN K => fd_elL fun m tf ts dn g1 g2 g3 S0 => ?_⟩
      · unfold wpX_held
        dsimp only
        rw [hhc]
        exact fd_xout (fun _ _ => br_t rfl (br_t h1' ⟨hhi, K⟩)) (fun z => absurd hp z)
      · unfold wpY_held
        dsimp only
        rw [hhc]
        exact fd_ywit (fun _ _ => br_f fd_n10 (br_t h1' ⟨hhi, K⟩)) (fun z => absurd hp z)
    · by_cases h2' : v2 = -2
      · by_cases h0 : c 12 h = 0
        · refine ⟨c 11 h + 0, fun post K => fd_elK fun sl hd mn fi th la ro nu bg fr bk bh bf wh pu h1 h2 h3 h4 h5 h6 R0 => ?_, fun N post hN K => fd_elL fun m tf ts dn g1 g2 g3 S0 => ?_⟩
          · unfold wpX_held
            dsimp only
            rw [hhc]
            exact fd_xout (fun _ _ => br_t rfl (br_f h1' (br_t h2' ⟨hhi, hhi, br_t h0 K⟩))) (fun z => absurd hp z)
          · unfold wpY_held
            dsimp only
            rw [hhc]
            exact fd_ywit (fun _ _ => br_f fd_n10 (br_f h1' (br_t h2' ⟨hhi, hhi, br_t h0 K⟩))) (fun z => absurd hp z)
        · refine ⟨c 11 h + 10, fun post K => fd_elK fun sl hd mn fi th la ro nu bg fr bk bh bf wh pu h1 h2 h3 h4 h5 h6 R0 => ?_, fun N post hN K => fd_elL fun m tf ts dn g1 g2 g3 S0 => ?_⟩
          · unfold wpX_held
            dsimp only
            rw [hhc]
            exact fd_xout (fun _ _ => br_t rfl (br_f h1' (br_t h2' ⟨hhi, hhi, br_f h0 K⟩))) (fun z => absurd hp z)
          · unfold wpY_held
            dsimp only
            rw [hhc]
            exact fd_ywit (fun _ _ => br_f fd_n10 (br_f h1' (br_t h2' ⟨hhi, hhi, br_f h0 K⟩))) (fun z => absurd hp z)
      · by_cases hp2 : 0 ≤ v2 ∧ v2 ≤ c 14 h - 1
        · have hn1 : 1 ≤ n := by
            refine Classical.byContradiction fun z => ?_
            have : n = 0 := by omega
            rw [e14, this] at hp2
            exact absurd (Int32.le_trans hp2.1 hp2.2) (by decide)
          have em : c 14 h - 1 = nI (n - 1) := by rw [e14]; exact pk_sub (b := 1) hn1
          have hp3 := hp2
          rw [em] at hp3
          obtain ⟨i, hi, rfl⟩ := fd_rng (n := n - 1) (by omega) hp3.1 hp3.2
          refine ⟨c 13 (3 * h + i), fun post K => fd_elK fun sl hd mn fi th la ro nu bg fr bk bh bf wh pu h1 h2 h3 h4 h5 h6 R0 => ?_, fun N post hN K => fd_elL fun m tf ts dn g1 g2 g3 S0 => ?_⟩
          · obtain ⟨b, m', hb, hm', eb, ec, hnu⟩ := h4 h (by omega)
            have en : m' = n := fd_inj (ec.symm.trans e14) (by omega) (by omega)
            subst en
            have e4 : 4 * nI h + ((nI b + nI i) &&& 3) = nI (4 * h + (b + i) % 4) := by
              rw [fd_4k, nI_add b i, fd_and3 (by omega), nI_add]
            unfold wpX_held
            dsimp only
            rw [hhc, eb, e4, nI_clamp (show 4 * h + (b + i) % 4 < 2 ^ 31 by omega), hnu i (by omega)]
            exact fd_xout (fun _ _ => br_t rfl (br_f h1' (br_f h2' ⟨hhi, fd_xout (fun _ _ => br_t rfl ⟨hhi, vp_in_nI (by omega) (by decide), K⟩) (fun z => absurd hp2 z)⟩))) (fun z => absurd hp z)
          · unfold wpY_held
            dsimp only
            rw [hhc, fd_3k, nI_add, nI_clamp (show 3 * h + i < 2 ^ 31 by omega)]
            exact fd_ywit (fun _ _ => br_f fd_n10 (br_f h1' (br_f h2' ⟨hhi, fd_ywit (fun _ _ => br_f fd_n10 ⟨vp_in_nI (by omega) (by decide), K⟩) (fun z => absurd hp2 z)⟩))) (fun z => absurd hp z)
        · refine ⟨-2, fun post K => fd_elK fun sl hd mn fi th la ro nu bg fr bk bh bf wh pu h1 h2 h3 h4 h5 h6 R0 => ?_, fun N post hN K => fd_elL fun m tf ts dn g1 g2 g3 S0 => ?_⟩
          · unfold wpX_held
            dsimp only
            rw [hhc]
            exact fd_xout (fun _ _ => br_t rfl (br_f h1' (br_f h2' ⟨hhi, fd_xout (fun a b => absurd ⟨a, b⟩ hp2) (fun _ => br_f fd_n10 K)⟩))) (fun z => absurd hp z)
          · unfold wpY_held
            dsimp only
            rw [hhc]
            exact fd_ywit (fun _ _ => br_f fd_n10 (br_f h1' (br_f h2' ⟨hhi, fd_ywit (fun a b => absurd ⟨a, b⟩ hp2) (fun _ => br_t rfl K)⟩))) (fun z => absurd hp z)
  · refine ⟨-2, fun post K => fd_elK fun sl hd mn fi th la ro nu bg fr bk bh bf wh pu h1 h2 h3 h4 h5 h6 R0 => ?_, fun N post hN K => fd_elL fun m tf ts dn g1 g2 g3 S0 => ?_⟩
    · exact fd_xout (fun a b => absurd ⟨a, b⟩ hp) (fun _ => br_f fd_n10 K)
    · unfold wpY_held
      dsimp only
      exact fd_ywit (fun a b => absurd ⟨a, b⟩ hp) (fun _ => br_t rfl K)
def fd_chn (c : Nat → Nat → Int32) (h : Nat) (x : Int32) : Nat → Nat → Int32 := fd_sC (fd_sC (fd_sC c 11 h x) 12 h 0) 14 h 0
theorem i_vc_channel {k : Nat} {u : SX} {v : SY} (I : i_Rel k u v) (hk : k + 5 ≤ 2561) (v1 : Int32) (v2 : Int32) : wpX_channel (fun r u' => wpY_channel (fun r' v' => r' = r ∧ i_Rel (k + 5) u' v') v v1 v2) u v1 v2 := by
  refine fd_vcS (fun P u => wpX_channel P u v1 v2) (fun P v => wpY_channel P v v1 v2) I hk fun c q I O => ?_
  by_cases hp : 0 ≤ v1 ∧ v1 ≤ 3
  · obtain ⟨h, hh, rfl⟩ := fd_rng (n := 3) (by decide) hp.1 hp.2
    have hhc : (nI h).toNatClampNeg = h := nI_clamp (by omega)
    have hhi : vp_in (nI h) 4 := vp_in_nI (by omega) (by decide)
    by_cases hp2 : 0 ≤ v2 ∧ v2 ≤ 3
    · obtain ⟨x, hx, rfl⟩ := fd_rng (n := 3) (by decide) hp2.1 hp2.2
      cases hq : q h with
      | nil =>
        have I1 : fd_Inv 1 fd_no (fd_chn c h (nI x)) q := by
          refine ⟨I.1, I.2.1, fun j hj => ?_, I.2.2.2⟩
          by_cases w : j = h
          · subst w
            exact ⟨⟨x, 0, hx, by omega, (pk_us : upd (c 11) j (nI x) j = nI x), (pk_us : upd (c 14) j 0 j = 0)⟩, Or.inl (pk_us : upd (c 12) j 0 j = 0)⟩
          · have z := fd_iC I j hj
            have a1 : fd_chn c h (nI x) 11 j = c 11 j := pk_un w
            have a2 : fd_chn c h (nI x) 12 j = c 12 j := pk_un w
            have a3 : fd_chn c h (nI x) 14 j = c 14 j := pk_un w
            rw [a1, a2, a3]
            exact z
        refine ⟨1, fd_chn c h (nI x), q, I1, O, fun post K => fd_elK fun sl hd mn fi th la ro nu bg fr bk bh bf wh pu h1 h2 h3 h4 h5 h6 R0 => ?_, fun N post hN K => fd_elL fun m tf ts dn g1 g2 g3 S0 => ?_⟩
        · have ef : fr h = -1 := by rw [(h3.1 h (by omega)).1, hq]; rfl
          unfold wpX_channel
          dsimp only
          rw [hhc, ef, fd_nbN (show x < 128 by omega), fd_nb0, fd_z0]
          refine fd_xout (fun _ _ => br_t rfl (fd_xout (fun _ _ => br_t rfl ⟨hhi, br_t fd_mlt ⟨hhi, nm_e ⟨hhi, nm_e ⟨hhi, nm_e ⟨hhi, nm_e (K _ (fd_inX (c := fd_chn c h (nI x)) h1 h2 h3 ?_ h5 h6))⟩⟩⟩⟩⟩) (fun z => absurd hp2 z))) (fun z => absurd hp z)
          intro j hj
          by_cases w : j = h
          · subst w
            exact ⟨0, 0, by decide, by decide, pk_us, (pk_us : upd (c 14) j 0 j = 0), fun i hi => absurd hi (by omega)⟩
          · have a3 : fd_chn c h (nI x) 14 j = c 14 j := pk_un w
            rw [a3, pk_un w]
            exact h4 j hj
        · unfold wpY_channel
          dsimp only
          rw [hhc, fd_z0]
          refine fd_ywit (fun _ _ => br_f fd_n10 (fd_ywit (fun _ _ => br_f fd_n10 ?_) (fun z => absurd hp2 z))) (fun z => absurd hp z)
          refine fd_yfirstA I (by omega) (by omega) ?_ _ S0
          rw [hq]
          exact br_t fd_mlt ⟨hhi, nm_e ⟨hhi, nm_e ⟨hhi, nm_e (K _ (fd_inY (by omega) g2 g3))⟩⟩⟩
      | cons l t =>
        have hl : l ∈ q h := by rw [hq]; exact List.mem_cons_self
        have h24 := (fd_iN I h (by omega)).2 l hl
        refine ⟨0, c, q, I, O, fun post K => fd_elK fun sl hd mn fi th la ro nu bg fr bk bh bf wh pu h1 h2 h3 h4 h5 h6 R0 => ?_, fun N post hN K => fd_elL fun m tf ts dn g1 g2 g3 S0 => ?_⟩
        · have ef : fr h = nI l := by rw [(h3.1 h (by omega)).1, hq]; rfl
          unfold wpX_channel
          dsimp only
          rw [hhc, ef]
          exact fd_xout (fun _ _ => br_t rfl (fd_xout (fun _ _ => br_t rfl ⟨hhi, br_f (nI_pos (by omega)) (K _ R0)⟩) (fun z => absurd hp2 z))) (fun z => absurd hp z)
        · unfold wpY_channel
          dsimp only
          refine fd_ywit (fun _ _ => br_f fd_n10 (fd_ywit (fun _ _ => br_f fd_n10 ?_) (fun z => absurd hp2 z))) (fun z => absurd hp z)
          refine fd_yfirstA I (by omega) (by omega) ?_ _ S0
          rw [hq]
          exact br_f (nI_pos (n := l % 12) (by omega)) (K _ (fd_RY_up (by omega) S0))
    · refine ⟨0, c, q, I, O, fun post K => fd_elK fun sl hd mn fi th la ro nu bg fr bk bh bf wh pu h1 h2 h3 h4 h5 h6 R0 => ?_, fun N post hN K => fd_elL fun m tf ts dn g1 g2 g3 S0 => ?_⟩
      · unfold wpX_channel
        dsimp only
        exact fd_xout (fun _ _ => br_t rfl (fd_xout (fun a b => absurd ⟨a, b⟩ hp2) (fun _ => br_f fd_n10 (K _ R0)))) (fun z => absurd hp z)
      · unfold wpY_channel
        dsimp only
        exact fd_ywit (fun _ _ => br_f fd_n10 (fd_ywit (fun a b => absurd ⟨a, b⟩ hp2) (fun _ => br_t rfl (K _ (fd_RY_up (by omega) S0))))) (fun z => absurd hp z)
  · refine ⟨0, c, q, I, O, fun post K => fd_elK fun sl hd mn fi th la ro nu bg fr bk bh bf wh pu h1 h2 h3 h4 h5 h6 R0 => ?_, fun N post hN K => fd_elL fun m tf ts dn g1 g2 g3 S0 => ?_⟩
    · unfold wpX_channel
      dsimp only
      exact fd_xout (fun a b => absurd ⟨a, b⟩ hp) (fun _ => br_f fd_n10 (K _ R0))
    · unfold wpY_channel
      dsimp only
      exact fd_ywit (fun a b => absurd ⟨a, b⟩ hp) (fun _ => br_t rfl (K _ (fd_RY_up (by omega) S0)))
end
section
/-! which instructions are good -/
theorem fd_InI {n : Nat} {x : Int32} (hn : n < 2 ^ 30) : fd_In (n + 1) x ↔ (0 ≤ x ∧ x ≤ nI n) := by
  constructor
  · rintro ⟨j, hj, rfl⟩
    exact ⟨nI_pos' (by omega), nI_le (by omega) (by omega)⟩
  · rintro ⟨a, b⟩
    obtain ⟨j, hj, e⟩ := fd_rng (n := n) (by omega) a b
    exact ⟨j, by omega, e⟩
theorem fd_xreg {post : Int32 → Prop} {x : Int32} (K1 : fd_In 3 x → post 1) (K0 : ¬ fd_In 3 x → post 0) : wpX_register post x := by
  rcases pk_ix x (n := 3) (by decide) with h | h | ⟨j, hj, rfl⟩
  · refine br_t h (K0 ?_)
    rintro ⟨j, hj, rfl⟩
    exact nI_pos (by omega) h
  · refine br_c (fun z => K0 ?_) fun _ => br_t h (K0 ?_)
    · rintro ⟨j, hj, rfl⟩
      exact nI_pos (by omega) z
    · rintro ⟨j, hj, rfl⟩
      exact nI_ge hj (by decide) h
  · exact br_f (nI_pos (by omega)) (br_f (nI_ge (b := 3) hj (by decide)) (K1 ⟨j, hj, rfl⟩))
theorem fd_xoI {n : Nat} {post : Int32 → Prop} {x : Int32} (hn : n < 2 ^ 30) (K0 : fd_In (n + 1) x → post 0) (K1 : ¬ fd_In (n + 1) x → post 1) : wpX_outside post x 0 (nI n) :=
  fd_xout (fun a b => K0 ((fd_InI hn).mpr ⟨a, b⟩)) (fun z => K1 fun w => z ((fd_InI hn).mp w))
theorem fd_ywI {n : Nat} {post : Int32 → Prop} {x : Int32} (hn : n < 2 ^ 30) (K1 : fd_In (n + 1) x → post 1) (K0 : ¬ fd_In (n + 1) x → post 0) : wpY_within post x 0 (nI n) :=
  fd_ywit (fun a b => K1 ((fd_InI hn).mpr ⟨a, b⟩)) (fun z => K0 fun w => z ((fd_InI hn).mp w))
theorem fd_Good14 {o a b d : Int32} (h : fd_Good o a b d) : fd_In 14 o := by
  rcases h with ⟨w, -⟩ | ⟨w, -⟩ | ⟨w, -⟩ | ⟨w, -⟩ | ⟨w, -⟩ | ⟨w, -⟩ | ⟨w, -⟩ | ⟨w, -⟩ | w
  · rcases w with rfl | rfl | rfl
    · exact ⟨0, by decide, rfl⟩
    · exact ⟨5, by decide, rfl⟩
    · exact ⟨12, by decide, rfl⟩
  · rcases w with rfl | rfl
    · exact ⟨1, by decide, rfl⟩
    · exact ⟨10, by decide, rfl⟩
  · exact ⟨2, by decide, w⟩
  · exact ⟨3, by decide, w⟩
  · rcases w with rfl | rfl
    · exact ⟨6, by decide, rfl⟩
    · exact ⟨7, by decide, rfl⟩
  · exact ⟨8, by decide, w⟩
  · exact ⟨9, by decide, w⟩
  · exact ⟨11, by decide, w⟩
  · rcases w with rfl | rfl
    · exact ⟨4, by decide, rfl⟩
    · exact ⟨13, by decide, rfl⟩
theorem fd_14 {P : Nat → Prop} (h0 : P 0) (h1 : P 1) (h2 : P 2) (h3 : P 3) (h4 : P 4) (h5 : P 5) (h6 : P 6) (h7 : P 7) (h8 : P 8) (h9 : P 9) (h10 : P 10) (h11 : P 11) (h12 : P 12) (h13 : P 13) : ∀ n, n < 14 → P n := by
  intro n hn
  have : n = 0 ∨ n = 1 ∨ n = 2 ∨ n = 3 ∨ n = 4 ∨ n = 5 ∨ n = 6 ∨ n = 7 ∨ n = 8 ∨ n = 9 ∨ n = 10 ∨ n = 11 ∨ n = 12 ∨ n = 13 := by omega
  rcases this with rfl | rfl | rfl | rfl | rfl | rfl | rfl | rfl | rfl | rfl | rfl | rfl | rfl | rfl <;> assumption
theorem fd_xi0 {post : Int32 → Prop} {a b x : Int32} (K1 : fd_Good 0 a b x → post 1) (K0 : ¬ fd_Good 0 a b x → post 0) : wpX_isOne post 0 a b x := (br_f (by decide) (br_f (by decide) (br_t rfl (fd_xreg (fun t1 => ⟨rfl, (K1 (Or.inl ⟨Or.inl rfl, t1⟩))⟩) (fun t1 => ⟨rfl, (K0 fun g => t1 (fd_G0 g rfl))⟩)))))
theorem fd_yi0 {post : Int32 → Prop} {a b x : Int32} (K1 : fd_Good 0 a b x → post 1) (K0 : ¬ fd_Good 0 a b x → post 0) : wpY_isGood post 0 a b x := (br_f (by decide) (br_f (by decide) (br_t rfl (fd_ywI (n := 2) (by decide) (fun t1 => ⟨rfl, (K1 (Or.inl ⟨Or.inl rfl, t1⟩))⟩) (fun t1 => ⟨rfl, (K0 fun g => t1 (fd_G0 g rfl))⟩)))))
theorem fd_xi1 {post : Int32 → Prop} {a b x : Int32} (K1 : fd_Good 1 a b x → post 1) (K0 : ¬ fd_Good 1 a b x → post 0) : wpX_isOne post 1 a b x := (br_f (by decide) (br_f (by decide) (br_f (by decide) (br_t rfl (fd_xreg (fun t1 => br_f fd_n10 (fd_xreg (fun t2 => br_f fd_n10 (K1 (Or.inr (Or.inl ⟨Or.inl rfl, t1, t2⟩)))) (fun t2 => br_t rfl (K0 fun g => t2 ((fd_G1 g rfl).2))))) (fun t1 => br_t rfl (K0 fun g => t1 ((fd_G1 g rfl).1))))))))
theorem fd_yi1 {post : Int32 → Prop} {a b x : Int32} (K1 : fd_Good 1 a b x → post 1) (K0 : ¬ fd_Good 1 a b x → post 0) : wpY_isGood post 1 a b x := (br_f (by decide) (br_f (by decide) (br_f (by decide) (br_t rfl (fd_ywI (n := 2) (by decide) (fun t1 => br_f fd_n10 (fd_ywI (n := 2) (by decide) (fun t2 => br_f fd_n10 (K1 (Or.inr (Or.inl ⟨Or.inl rfl, t1, t2⟩)))) (fun t2 => br_t rfl (K0 fun g => t2 ((fd_G1 g rfl).2))))) (fun t1 => br_t rfl (K0 fun g => t1 ((fd_G1 g rfl).1))))))))
theorem fd_xi2 {post : Int32 → Prop} {a b x : Int32} (K1 : fd_Good 2 a b x → post 1) (K0 : ¬ fd_Good 2 a b x → post 0) : wpX_isOne post 2 a b x := (br_f (by decide) (br_f (by decide) (br_f (by decide) (br_f (by decide) (br_t rfl (fd_xoI (n := 12) (by decide) (fun t1 => br_t rfl (K1 (Or.inr (Or.inr (Or.inl ⟨rfl, t1⟩))))) (fun t1 => br_f fd_n10 (K0 fun g => t1 (fd_G2 g rfl)))))))))
theorem fd_yi2 {post : Int32 → Prop} {a b x : Int32} (K1 : fd_Good 2 a b x → post 1) (K0 : ¬ fd_Good 2 a b x → post 0) : wpY_isGood post 2 a b x := (br_f (by decide) (br_f (by decide) (br_f (by decide) (br_f (by decide) (br_t rfl (fd_ywI (n := 12) (by decide) (fun t1 => ⟨rfl, (K1 (Or.inr (Or.inr (Or.inl ⟨rfl, t1⟩))))⟩) (fun t1 => ⟨rfl, (K0 fun g => t1 (fd_G2 g rfl))⟩)))))))
theorem fd_xi3 {post : Int32 → Prop} {a b x : Int32} (K1 : fd_Good 3 a b x → post 1) (K0 : ¬ fd_Good 3 a b x → post 0) : wpX_isOne post 3 a b x := (br_f (by decide) (br_f (by decide) (br_f (by decide) (br_f (by decide) (br_f (by decide) (br_t rfl (fd_xreg (fun t1 => br_f fd_n10 (fd_xoI (n := 12) (by decide) (fun t2 => br_t rfl (K1 (Or.inr (Or.inr (Or.inr (Or.inl ⟨rfl, t1, t2⟩)))))) (fun t2 => br_f fd_n10 (K0 fun g => t2 ((fd_G3 g rfl).2))))) (fun t1 => br_t rfl (K0 fun g => t1 ((fd_G3 g rfl).1))))))))))
theorem fd_yi3 {post : Int32 → Prop} {a b x : Int32} (K1 : fd_Good 3 a b x → post 1) (K0 : ¬ fd_Good 3 a b x → post 0) : wpY_isGood post 3 a b x := (br_f (by decide) (br_f (by decide) (br_f (by decide) (br_f (by decide) (br_f (by decide) (br_t rfl (fd_ywI (n := 2) (by decide) (fun t1 => br_f fd_n10 (fd_ywI (n := 12) (by decide) (fun t2 => br_f fd_n10 (K1 (Or.inr (Or.inr (Or.inr (Or.inl ⟨rfl, t1, t2⟩)))))) (fun t2 => br_t rfl (K0 fun g => t2 ((fd_G3 g rfl).2))))) (fun t1 => br_t rfl (K0 fun g => t1 ((fd_G3 g rfl).1))))))))))
theorem fd_xi4 {post : Int32 → Prop} {a b x : Int32} (K1 : fd_Good 4 a b x → post 1) (K0 : ¬ fd_Good 4 a b x → post 0) : wpX_isOne post 4 a b x := (br_f (by decide) (br_f (by decide) (br_f (by decide) (br_f (by decide) (br_f (by decide) (br_f (by decide) (br_t rfl (br_t rfl (K1 (Or.inr (Or.inr (Or.inr (Or.inr (Or.inr (Or.inr (Or.inr (Or.inr (Or.inl rfl))))))))))))))))))
theorem fd_yi4 {post : Int32 → Prop} {a b x : Int32} (K1 : fd_Good 4 a b x → post 1) (K0 : ¬ fd_Good 4 a b x → post 0) : wpY_isGood post 4 a b x := (br_f (by decide) (br_f (by decide) (br_f (by decide) (br_f (by decide) (br_f (by decide) (br_f (by decide) (br_t rfl (K1 (Or.inr (Or.inr (Or.inr (Or.inr (Or.inr (Or.inr (Or.inr (Or.inr (Or.inl rfl)))))))))))))))))
theorem fd_xi5 {post : Int32 → Prop} {a b x : Int32} (K1 : fd_Good 5 a b x → post 1) (K0 : ¬ fd_Good 5 a b x → post 0) : wpX_isOne post 5 a b x := (br_f (by decide) (br_f (by decide) (br_f (by decide) (br_f (by decide) (br_f (by decide) (br_f (by decide) (br_f (by decide) (br_t rfl (fd_xreg (fun t1 => ⟨rfl, (K1 (Or.inl ⟨Or.inr (Or.inl rfl), t1⟩))⟩) (fun t1 => ⟨rfl, (K0 fun g => t1 (fd_G5 g rfl))⟩))))))))))
theorem fd_yi5 {post : Int32 → Prop} {a b x : Int32} (K1 : fd_Good 5 a b x → post 1) (K0 : ¬ fd_Good 5 a b x → post 0) : wpY_isGood post 5 a b x := (br_f (by decide) (br_f (by decide) (br_f (by decide) (br_f (by decide) (br_f (by decide) (br_f (by decide) (br_f (by decide) (br_t rfl (fd_ywI (n := 2) (by decide) (fun t1 => ⟨rfl, (K1 (Or.inl ⟨Or.inr (Or.inl rfl), t1⟩))⟩) (fun t1 => ⟨rfl, (K0 fun g => t1 (fd_G5 g rfl))⟩))))))))))
theorem fd_xi6 {post : Int32 → Prop} {a b x : Int32} (K1 : fd_Good 6 a b x → post 1) (K0 : ¬ fd_Good 6 a b x → post 0) : wpX_isOne post 6 a b x := (br_f (by decide) (br_f (by decide) (br_f (by decide) (br_f (by decide) (br_f (by decide) (br_f (by decide) (br_f (by decide) (br_f (by decide) (br_t rfl (fd_xoI (n := 3) (by decide) (fun t1 => br_t rfl (fd_xreg (fun t2 => br_f fd_n10 (K1 (Or.inr (Or.inr (Or.inr (Or.inr (Or.inl ⟨Or.inl rfl, t1, t2⟩))))))) (fun t2 => br_t rfl (K0 fun g => t2 ((fd_G6 g rfl).2))))) (fun t1 => br_f fd_n10 (K0 fun g => t1 ((fd_G6 g rfl).1)))))))))))))
theorem fd_yi6 {post : Int32 → Prop} {a b x : Int32} (K1 : fd_Good 6 a b x → post 1) (K0 : ¬ fd_Good 6 a b x → post 0) : wpY_isGood post 6 a b x := (br_f (by decide) (br_f (by decide) (br_f (by decide) (br_f (by decide) (br_f (by decide) (br_f (by decide) (br_f (by decide) (br_f (by decide) (br_t rfl (fd_ywI (n := 3) (by decide) (fun t1 => br_f fd_n10 (fd_ywI (n := 2) (by decide) (fun t2 => br_f fd_n10 (K1 (Or.inr (Or.inr (Or.inr (Or.inr (Or.inl ⟨Or.inl rfl, t1, t2⟩))))))) (fun t2 => br_t rfl (K0 fun g => t2 ((fd_G6 g rfl).2))))) (fun t1 => br_t rfl (K0 fun g => t1 ((fd_G6 g rfl).1)))))))))))))
theorem fd_xi7 {post : Int32 → Prop} {a b x : Int32} (K1 : fd_Good 7 a b x → post 1) (K0 : ¬ fd_Good 7 a b x → post 0) : wpX_isOne post 7 a b x := (br_f (by decide) (br_f (by decide) (br_f (by decide) (br_f (by decide) (br_f (by decide) (br_f (by decide) (br_f (by decide) (br_f (by decide) (br_f (by decide) (br_t rfl (fd_xoI (n := 3) (by decide) (fun t1 => br_t rfl (fd_xreg (fun t2 => br_f fd_n10 (K1 (Or.inr (Or.inr (Or.inr (Or.inr (Or.inl ⟨Or.inr rfl, t1, t2⟩))))))) (fun t2 => br_t rfl (K0 fun g => t2 ((fd_G7 g rfl).2))))) (fun t1 => br_f fd_n10 (K0 fun g => t1 ((fd_G7 g rfl).1))))))))))))))
theorem fd_yi7 {post : Int32 → Prop} {a b x : Int32} (K1 : fd_Good 7 a b x → post 1) (K0 : ¬ fd_Good 7 a b x → post 0) : wpY_isGood post 7 a b x := (br_f (by decide) (br_f (by decide) (br_f (by decide) (br_f (by decide) (br_f (by decide) (br_f (by decide) (br_f (by decide) (br_f (by decide) (br_f (by decide) (br_t rfl (fd_ywI (n := 3) (by decide) (fun t1 => br_f fd_n10 (fd_ywI (n := 2) (by decide) (fun t2 => br_f fd_n10 (K1 (Or.inr (Or.inr (Or.inr (Or.inr (Or.inl ⟨Or.inr rfl, t1, t2⟩))))))) (fun t2 => br_t rfl (K0 fun g => t2 ((fd_G7 g rfl).2))))) (fun t1 => br_t rfl (K0 fun g => t1 ((fd_G7 g rfl).1))))))))))))))
theorem fd_xi8 {post : Int32 → Prop} {a b x : Int32} (K1 : fd_Good 8 a b x → post 1) (K0 : ¬ fd_Good 8 a b x → post 0) : wpX_isOne post 8 a b x := (br_f (by decide) (br_f (by decide) (br_f (by decide) (br_f (by decide) (br_f (by decide) (br_f (by decide) (br_f (by decide) (br_f (by decide) (br_f (by decide) (br_f (by decide) (br_t rfl (fd_xoI (n := 3) (by decide) (fun t1 => br_t rfl (fd_xoI (n := 3) (by decide) (fun t2 => br_t rfl (fd_xreg (fun t3 => br_f fd_n10 (K1 (Or.inr (Or.inr (Or.inr (Or.inr (Or.inr (Or.inl ⟨rfl, t1, t2, t3⟩)))))))) (fun t3 => br_t rfl (K0 fun g => t3 ((fd_G8 g rfl).2.2))))) (fun t2 => br_f fd_n10 (K0 fun g => t2 ((fd_G8 g rfl).2.1))))) (fun t1 => br_f fd_n10 (K0 fun g => t1 ((fd_G8 g rfl).1)))))))))))))))
theorem fd_yi8 {post : Int32 → Prop} {a b x : Int32} (K1 : fd_Good 8 a b x → post 1) (K0 : ¬ fd_Good 8 a b x → post 0) : wpY_isGood post 8 a b x := (br_f (by decide) (br_f (by decide) (br_f (by decide) (br_f (by decide) (br_f (by decide) (br_f (by decide) (br_f (by decide) (br_f (by decide) (br_f (by decide) (br_f (by decide) (br_t rfl (fd_ywI (n := 3) (by decide) (fun t1 => br_f fd_n10 (fd_ywI (n := 3) (by decide) (fun t2 => br_f fd_n10 (fd_ywI (n := 2) (by decide) (fun t3 => br_f fd_n10 (K1 (Or.inr (Or.inr (Or.inr (Or.inr (Or.inr (Or.inl ⟨rfl, t1, t2, t3⟩)))))))) (fun t3 => br_t rfl (K0 fun g => t3 ((fd_G8 g rfl).2.2))))) (fun t2 => br_t rfl (K0 fun g => t2 ((fd_G8 g rfl).2.1))))) (fun t1 => br_t rfl (K0 fun g => t1 ((fd_G8 g rfl).1)))))))))))))))
theorem fd_xi9 {post : Int32 → Prop} {a b x : Int32} (K1 : fd_Good 9 a b x → post 1) (K0 : ¬ fd_Good 9 a b x → post 0) : wpX_isOne post 9 a b x := (br_f (by decide) (br_f (by decide) (br_f (by decide) (br_f (by decide) (br_f (by decide) (br_f (by decide) (br_f (by decide) (br_f (by decide) (br_f (by decide) (br_f (by decide) (br_f (by decide) (br_t rfl (fd_xoI (n := 5) (by decide) (fun t1 => br_t rfl (fd_xreg (fun t2 => br_f fd_n10 (K1 (Or.inr (Or.inr (Or.inr (Or.inr (Or.inr (Or.inr (Or.inl ⟨rfl, t1, t2⟩))))))))) (fun t2 => br_t rfl (K0 fun g => t2 ((fd_G9 g rfl).2))))) (fun t1 => br_f fd_n10 (K0 fun g => t1 ((fd_G9 g rfl).1))))))))))))))))
theorem fd_yi9 {post : Int32 → Prop} {a b x : Int32} (K1 : fd_Good 9 a b x → post 1) (K0 : ¬ fd_Good 9 a b x → post 0) : wpY_isGood post 9 a b x := (br_f (by decide) (br_f (by decide) (br_f (by decide) (br_f (by decide) (br_f (by decide) (br_f (by decide) (br_f (by decide) (br_f (by decide) (br_f (by decide) (br_f (by decide) (br_f (by decide) (br_t rfl (fd_ywI (n := 5) (by decide) (fun t1 => br_f fd_n10 (fd_ywI (n := 2) (by decide) (fun t2 => br_f fd_n10 (K1 (Or.inr (Or.inr (Or.inr (Or.inr (Or.inr (Or.inr (Or.inl ⟨rfl, t1, t2⟩))))))))) (fun t2 => br_t rfl (K0 fun g => t2 ((fd_G9 g rfl).2))))) (fun t1 => br_t rfl (K0 fun g => t1 ((fd_G9 g rfl).1))))))))))))))))
theorem fd_xi10 {post : Int32 → Prop} {a b x : Int32} (K1 : fd_Good 10 a b x → post 1) (K0 : ¬ fd_Good 10 a b x → post 0) : wpX_isOne post 10 a b x := (br_f (by decide) (br_f (by decide) (br_f (by decide) (br_f (by decide) (br_f (by decide) (br_f (by decide) (br_f (by decide) (br_f (by decide) (br_f (by decide) (br_f (by decide) (br_f (by decide) (br_f (by decide) (br_t rfl (fd_xreg (fun t1 => br_f fd_n10 (fd_xreg (fun t2 => br_f fd_n10 (K1 (Or.inr (Or.inl ⟨Or.inr rfl, t1, t2⟩)))) (fun t2 => br_t rfl (K0 fun g => t2 ((fd_G10 g rfl).2))))) (fun t1 => br_t rfl (K0 fun g => t1 ((fd_G10 g rfl).1)))))))))))))))))
theorem fd_yi10 {post : Int32 → Prop} {a b x : Int32} (K1 : fd_Good 10 a b x → post 1) (K0 : ¬ fd_Good 10 a b x → post 0) : wpY_isGood post 10 a b x := (br_f (by decide) (br_f (by decide) (br_f (by decide) (br_f (by decide) (br_f (by decide) (br_f (by decide) (br_f (by decide) (br_f (by decide) (br_f (by decide) (br_f (by decide) (br_f (by decide) (br_f (by decide) (br_t rfl (fd_ywI (n := 2) (by decide) (fun t1 => br_f fd_n10 (fd_ywI (n := 2) (by decide) (fun t2 => br_f fd_n10 (K1 (Or.inr (Or.inl ⟨Or.inr rfl, t1, t2⟩)))) (fun t2 => br_t rfl (K0 fun g => t2 ((fd_G10 g rfl).2))))) (fun t1 => br_t rfl (K0 fun g => t1 ((fd_G10 g rfl).1)))))))))))))))))
theorem fd_xi11 {post : Int32 → Prop} {a b x : Int32} (K1 : fd_Good 11 a b x → post 1) (K0 : ¬ fd_Good 11 a b x → post 0) : wpX_isOne post 11 a b x := (br_f (by decide) (br_f (by decide) (br_f (by decide) (br_f (by decide) (br_f (by decide) (br_f (by decide) (br_f (by decide) (br_f (by decide) (br_f (by decide) (br_f (by decide) (br_f (by decide) (br_f (by decide) (br_f (by decide) (br_t rfl (fd_xoI (n := 3) (by decide) (fun t1 => br_t rfl (K1 (Or.inr (Or.inr (Or.inr (Or.inr (Or.inr (Or.inr (Or.inr (Or.inl ⟨rfl, t1⟩)))))))))) (fun t1 => br_f fd_n10 (K0 fun g => t1 (fd_G11 g rfl))))))))))))))))))
theorem fd_yi11 {post : Int32 → Prop} {a b x : Int32} (K1 : fd_Good 11 a b x → post 1) (K0 : ¬ fd_Good 11 a b x → post 0) : wpY_isGood post 11 a b x := (br_f (by decide) (br_f (by decide) (br_f (by decide) (br_f (by decide) (br_f (by decide) (br_f (by decide) (br_f (by decide) (br_f (by decide) (br_f (by decide) (br_f (by decide) (br_f (by decide) (br_f (by decide) (br_f (by decide) (br_t rfl (fd_ywI (n := 3) (by decide) (fun t1 => ⟨rfl, (K1 (Or.inr (Or.inr (Or.inr (Or.inr (Or.inr (Or.inr (Or.inr (Or.inl ⟨rfl, t1⟩)))))))))⟩) (fun t1 => ⟨rfl, (K0 fun g => t1 (fd_G11 g rfl))⟩))))))))))))))))
theorem fd_xi12 {post : Int32 → Prop} {a b x : Int32} (K1 : fd_Good 12 a b x → post 1) (K0 : ¬ fd_Good 12 a b x → post 0) : wpX_isOne post 12 a b x := (br_f (by decide) (br_f (by decide) (br_f (by decide) (br_f (by decide) (br_f (by decide) (br_f (by decide) (br_f (by decide) (br_f (by decide) (br_f (by decide) (br_f (by decide) (br_f (by decide) (br_f (by decide) (br_f (by decide) (br_f (by decide) (br_t rfl (fd_xreg (fun t1 => ⟨rfl, (K1 (Or.inl ⟨Or.inr (Or.inr rfl), t1⟩))⟩) (fun t1 => ⟨rfl, (K0 fun g => t1 (fd_G12 g rfl))⟩)))))))))))))))))
theorem fd_yi12 {post : Int32 → Prop} {a b x : Int32} (K1 : fd_Good 12 a b x → post 1) (K0 : ¬ fd_Good 12 a b x → post 0) : wpY_isGood post 12 a b x := (br_f (by decide) (br_f (by decide) (br_f (by decide) (br_f (by decide) (br_f (by decide) (br_f (by decide) (br_f (by decide) (br_f (by decide) (br_f (by decide) (br_f (by decide) (br_f (by decide) (br_f (by decide) (br_f (by decide) (br_f (by decide) (br_t rfl (fd_ywI (n := 2) (by decide) (fun t1 => ⟨rfl, (K1 (Or.inl ⟨Or.inr (Or.inr rfl), t1⟩))⟩) (fun t1 => ⟨rfl, (K0 fun g => t1 (fd_G12 g rfl))⟩)))))))))))))))))
theorem fd_xi13 {post : Int32 → Prop} {a b x : Int32} (K1 : fd_Good 13 a b x → post 1) (K0 : ¬ fd_Good 13 a b x → post 0) : wpX_isOne post 13 a b x := (br_f (by decide) (br_t (by decide) (br_f (by decide) (br_t rfl (K1 (Or.inr (Or.inr (Or.inr (Or.inr (Or.inr (Or.inr (Or.inr (Or.inr (Or.inr rfl))))))))))))))
theorem fd_yi13 {post : Int32 → Prop} {a b x : Int32} (K1 : fd_Good 13 a b x → post 1) (K0 : ¬ fd_Good 13 a b x → post 0) : wpY_isGood post 13 a b x := (br_f (by decide) (br_f (by decide) (br_f (by decide) (br_f (by decide) (br_f (by decide) (br_f (by decide) (br_f (by decide) (br_f (by decide) (br_f (by decide) (br_f (by decide) (br_f (by decide) (br_f (by decide) (br_f (by decide) (br_f (by decide) (br_f (by decide) (br_t rfl (K1 (Or.inr (Or.inr (Or.inr (Or.inr (Or.inr (Or.inr (Or.inr (Or.inr (Or.inr rfl))))))))))))))))))))))))))
theorem fd_xisOne {post : Int32 → Prop} {o a b x : Int32} (K1 : fd_Good o a b x → post 1) (K0 : ¬ fd_Good o a b x → post 0) : wpX_isOne post o a b x := by
  rcases pk_ix o (n := 14) (by decide) with h | h | ⟨j, hj, rfl⟩
  · have n4 : ¬ o = 4 := by rintro rfl; exact absurd h (by decide)
    have n13 : ¬ o = 13 := by rintro rfl; exact absurd h (by decide)
    refine br_t h (br_f n4 (br_f n13 (K0 fun g => ?_)))
    obtain ⟨j, hj, rfl⟩ := fd_Good14 g
    exact nI_pos (by omega) h
  · have n4 : ¬ o = 4 := by rintro rfl; exact absurd h (by decide)
    have n13 : ¬ o = 13 := by rintro rfl; exact absurd h (by decide)
    have ng : ¬ fd_Good o a b x := by
      intro g
      obtain ⟨j, hj, rfl⟩ := fd_Good14 g
      exact nI_ge hj (by decide) h
    have h12 : 12 < o := by
      rw [Int32.lt_iff_toInt_lt]
      rw [Int32.le_iff_toInt_le] at h
      have e1 : (nI 14).toInt = 14 := by decide
      have e2 : (12 : Int32).toInt = 12 := by decide
      omega
    exact br_c (fun _ => br_f n4 (br_f n13 (K0 ng))) fun _ => br_t h12 (br_f n4 (br_f n13 (K0 ng)))
  · exact fd_14 (P := fun j => (fd_Good (nI j) a b x → post 1) → (¬ fd_Good (nI j) a b x → post 0) → wpX_isOne post (nI j) a b x) fd_xi0 fd_xi1 fd_xi2 fd_xi3 fd_xi4 fd_xi5 fd_xi6 fd_xi7 fd_xi8 fd_xi9 fd_xi10 fd_xi11 fd_xi12 fd_xi13 j hj K1 K0
theorem fd_yisGood {post : Int32 → Prop} {o a b x : Int32} (K1 : fd_Good o a b x → post 1) (K0 : ¬ fd_Good o a b x → post 0) : wpY_isGood post o a b x := by
  rcases pk_ix o (n := 14) (by decide) with h | h | ⟨j, hj, rfl⟩
  · refine br_t h (K0 fun g => ?_)
    obtain ⟨j, hj, rfl⟩ := fd_Good14 g
    exact nI_pos (by omega) h
  · have ng : ¬ fd_Good o a b x := by
      intro g
      obtain ⟨j, hj, rfl⟩ := fd_Good14 g
      exact nI_ge hj (by decide) h
    have h13 : 13 < o := by
      rw [Int32.lt_iff_toInt_lt]
      rw [Int32.le_iff_toInt_le] at h
      have e1 : (nI 14).toInt = 14 := by decide
      have e2 : (13 : Int32).toInt = 13 := by decide
      omega
    exact br_c (fun _ => K0 ng) fun _ => br_t h13 (K0 ng)
  · exact fd_14 (P := fun j => (fd_Good (nI j) a b x → post 1) → (¬ fd_Good (nI j) a b x → post 0) → wpY_isGood post (nI j) a b x) fd_yi0 fd_yi1 fd_yi2 fd_yi3 fd_yi4 fd_yi5 fd_yi6 fd_yi7 fd_yi8 fd_yi9 fd_yi10 fd_yi11 fd_yi12 fd_yi13 j hj K1 K0
end
section
/-! code, program -/
theorem fd_Icell {e : Nat} {pd : Nat → Prop} {c : Nat → Nat → Int32} {q : Nat → List Nat} {c' : Nat → Nat → Int32} (I : fd_Inv e pd c q) (h : ∀ j, (j = 0 ∨ 6 ≤ j) → c' j = c j) (hP : fd_Prg c')
    (hc : ∀ f, f < 12 → c 6 f = 3 → c' 1 (fd_kk c f) = c 1 (fd_kk c f) ∧ c' 2 (fd_kk c f) = c 2 (fd_kk c f) ∧ c' 3 (fd_kk c f) = c 3 (fd_kk c f) ∧ c' 4 (fd_kk c f) = c 4 (fd_kk c f)) : fd_Inv e pd c' q := by
  have z0 := h 0 (Or.inl rfl)
  have z6 := h 6 (Or.inr (by decide))
  have z7 := h 7 (Or.inr (by decide))
  have z8 := h 8 (Or.inr (by decide))
  have z9 := h 9 (Or.inr (by decide))
  have z10 := h 10 (Or.inr (by decide))
  have z11 := h 11 (Or.inr (by decide))
  have z12 := h 12 (Or.inr (by decide))
  have z14 := h 14 (Or.inr (by decide))
  have z18 := h 18 (Or.inr (by decide))
  have z19 := h 19 (Or.inr (by decide))
  have z20 := h 20 (Or.inr (by decide))
  have kk : ∀ f, fd_kk c' f = fd_kk c f := fun f => by unfold fd_kk; rw [z7, z8]
  refine ⟨?_, hP, ?_, ?_, fun f hf => ?_, ?_, ?_, ?_⟩
  · unfold fd_Sca; rw [z0]; exact I.1
  · unfold fd_Cha; rw [z11, z12, z14]; exact fd_iC I
  · unfold fd_Jn; rw [z18]; exact fd_iJ I
  · exact fd_Fib_same ⟨by rw [z6], by rw [z7], by rw [z8], by rw [z19], by rw [z20], fun r _ => by rw [z9], fun _ _ => Iff.rfl, fun _ _ => Iff.rfl⟩ (hc f hf) (fun _ => fd_iG I hf) (fun t _ => by rw [z18]) Iff.rfl (fd_iF I hf)
  · obtain ⟨a, b, d, g, h⟩ := fd_iL I
    refine ⟨a, b, d, ?_, h⟩
    refine List.Pairwise.imp (fun {x y} w => ?_) g
    unfold fd_lt
    rw [z10]
    exact w
  · intro f hf w
    rw [z6] at w
    rw [z10, z0]
    exact fd_iS I f hf w
  · intro k hk
    have op : ∀ l, l ∈ q k → fd_op c' (l % 12) = fd_op c (l % 12) := by
      intro l hl
      obtain ⟨h12, -, w3⟩ := fd_iLk I hk hl
      unfold fd_op
      rw [kk]
      exact (hc _ h12 w3).1
    rcases fd_iH I k hk with w | w
    · exact Or.inl fun l hl => by rw [op l hl]; exact w l hl
    · exact Or.inr fun l hl => by rw [op l hl]; exact w l hl
theorem fd_wkk {e : Nat} {pd : Nat → Prop} {c : Nat → Nat → Int32} {q : Nat → List Nat} {f : Nat} (I : fd_Inv e pd c q) (hf : f < 12) (h3 : c 6 f = 3) : ∃ p n, p < 6 ∧ n < 12 ∧ c 7 f = nI p ∧ fd_kk c f = 12 * p + n := by
  obtain ⟨p, hp, e7⟩ := fd_i7 I hf
  obtain ⟨n, hn, e8⟩ := (fd_iW I hf h3).1
  refine ⟨p, n, hp, hn, e7, ?_⟩
  unfold fd_kk
  rw [e7, e8, nI_clamp (by omega), nI_clamp (by omega)]
def fd_cd (c : Nat → Nat → Int32) (n : Nat) (o a b x : Int32) : Nat → Nat → Int32 := fd_sC (fd_sC (fd_sC (fd_sC (fd_sC c 1 (72 + n) o) 2 (72 + n) a) 3 (72 + n) b) 4 (72 + n) x) 5 6 (nI (n + 1))
theorem fd_cd_hi {c : Nat → Nat → Int32} {n j : Nat} {o a b x : Int32} (h : j = 0 ∨ 6 ≤ j) : fd_cd c n o a b x j = c j := by
  unfold fd_cd
  rw [fd_sC_n (by omega), fd_sC_n (by omega), fd_sC_n (by omega), fd_sC_n (by omega), fd_sC_n (by omega)]
theorem fd_rPrg_upd {aa cc fi th : Nat → Int32} {k : Nat} {a x : Int32} (H : fd_rPrg aa cc fi th) : fd_rPrg (upd aa k a) (upd cc k x) (upd fi k a.toInt8.toInt32) (upd th k x.toInt8.toInt32) := by
  intro j hj
  by_cases w : j = k
  · rw [w, pk_us, pk_us, pk_us, pk_us]; exact ⟨rfl, rfl⟩
  · rw [pk_un w, pk_un w, pk_un w, pk_un w]; exact H j hj
theorem i_vc_code {k : Nat} {u : SX} {v : SY} (I : i_Rel k u v) (hk : k + 5 ≤ 2561) (v1 : Int32) (v2 : Int32) (v3 : Int32) (v4 : Int32) : wpX_code (fun r u' => wpY_code (fun r' v' => r' = r ∧ i_Rel (k + 5) u' v') v v1 v2 v3 v4) u v1 v2 v3 v4 := by
  refine fd_vcS (fun P u => wpX_code P u v1 v2 v3 v4) (fun P v => wpY_code P v v1 v2 v3 v4) I hk fun c q I O => ?_
  obtain ⟨n, hn, e5⟩ := (fd_iP I).2 6 (by decide)
  have refuse : (¬ fd_Good v1 v2 v3 v4 ∨ n = 12) → ∃ r c' q', fd_Inv 1 fd_no c' q' ∧ fd_OnI 12 c' ∧ fd_MX r c q c' q' (fun P u => wpX_code P u v1 v2 v3 v4) ∧ (∀ (N : Nat) (post : Int32 → SY → Prop), N + 2000000 < 2 ^ 62 → (∀ v', fd_RY (N + 2000000) 3 c' q' v' → post r v') → ∀ v, fd_RY N 3 c q v → wpY_code post v v1 v2 v3 v4) := by
    intro h
    refine ⟨-1, c, q, I, O, fun post K => fd_elK fun sl hd mn fi th la ro nu bg fr bk bh bf wh pu h1 h2 h3 h4 h5 h6 R0 => ?_, fun N post hN K => fd_elL fun m tf ts dn g1 g2 g3 S0 => ?_⟩
    · unfold wpX_code
      dsimp only
      refine fd_xisOne (fun g => br_f fd_n10 (br_t ?_ (K _ R0))) (fun _ => br_t rfl (K _ R0))
      rcases h with z | z
      · exact absurd g z
      · rw [e5, z]; rfl
    · unfold wpY_code
      dsimp only
      refine fd_yisGood (fun g => br_f fd_n10 (br_t ?_ (K _ (fd_RY_up (by omega) S0)))) (fun _ => br_t rfl (K _ (fd_RY_up (by omega) S0)))
      rcases h with z | z
      · exact absurd g z
      · rw [e5, z]; rfl
  by_cases hr : ¬ fd_Good v1 v2 v3 v4 ∨ n = 12
  · exact refuse hr
  · have hG : fd_Good v1 v2 v3 v4 := Classical.byContradiction fun z => hr (Or.inl z)
    have hn12 : n < 12 := by
      have : n ≠ 12 := fun z => hr (Or.inr z)
      omega
    have n12 : ¬ c 5 6 = 12 := by rw [e5]; exact fd_ne12 hn12
    have e72 : 72 + c 5 6 = nI (72 + n) := by rw [e5]; exact nI_add 72 n
    have hxc : (nI (72 + n)).toNatClampNeg = 72 + n := nI_clamp (by omega)
    have hxi : vp_in (nI (72 + n)) 84 := vp_in_nI (by omega) (by decide)
    have I1 : fd_Inv 1 fd_no (fd_cd c n v1 v2 v3 v4) q := by
      refine fd_Icell I (fun j hj => fd_cd_hi hj) ⟨fun j hj => ?_, fun p hp => ?_⟩ (fun f hf h3 => ?_)
      · by_cases w : j = 72 + n
        · have a1 : fd_cd c n v1 v2 v3 v4 1 j = v1 := by rw [w]; exact pk_us
          have a2 : fd_cd c n v1 v2 v3 v4 2 j = v2 := by rw [w]; exact pk_us
          have a3 : fd_cd c n v1 v2 v3 v4 3 j = v3 := by rw [w]; exact pk_us
          have a4 : fd_cd c n v1 v2 v3 v4 4 j = v4 := by rw [w]; exact pk_us
          rw [a1, a2, a3, a4]; exact hG
        · have a1 : fd_cd c n v1 v2 v3 v4 1 j = c 1 j := pk_un w
          have a2 : fd_cd c n v1 v2 v3 v4 2 j = c 2 j := pk_un w
          have a3 : fd_cd c n v1 v2 v3 v4 3 j = c 3 j := pk_un w
          have a4 : fd_cd c n v1 v2 v3 v4 4 j = c 4 j := pk_un w
          rw [a1, a2, a3, a4]; exact (fd_iP I).1 j hj
      · by_cases w : p = 6
        · have a5 : fd_cd c n v1 v2 v3 v4 5 p = nI (n + 1) := by rw [w]; exact (pk_us : upd (c 5) 6 (nI (n + 1)) 6 = nI (n + 1))
          rw [a5]; exact ⟨n + 1, by omega, rfl⟩
        · have a5 : fd_cd c n v1 v2 v3 v4 5 p = c 5 p := pk_un w
          rw [a5]; exact (fd_iP I).2 p hp
      · obtain ⟨p, m, hp, hm, -, ek⟩ := fd_wkk I hf h3
        have w : fd_kk c f ≠ 72 + n := by omega
        exact ⟨pk_un w, pk_un w, pk_un w, pk_un w⟩
    obtain ⟨o, ho14, eo⟩ := fd_Good14 hG
    have eop : vp_nar .byte v1.toInt8.toInt32 = v1 := by rw [eo]; exact fd_nbN (by omega)
    have e1 : (c 5 6 + 1) = nI (n + 1) := by rw [e5, nI_1]
    refine ⟨nI (n + 1), fd_cd c n v1 v2 v3 v4, q, I1, O, fun post K => fd_elK fun sl hd mn fi th la ro nu bg fr bk bh bf wh pu h1 h2 h3 h4 h5 h6 R0 => ?_, fun N post hN K => fd_elL fun m tf ts dn g1 g2 g3 S0 => ?_⟩
    · unfold wpX_code
      dsimp only
      refine fd_xisOne (fun _ => br_f fd_n10 (br_f n12 (nm_r e72 ?_))) (fun z => absurd hG z)
      rw [hxc, eop, pk_vb, pk_vb, e1, fd_b8 (n + 1) (by omega), fd_nb (show n + 1 < 128 by omega)]
      exact ⟨hxi, nm_e ⟨hxi, nm_e ⟨hxi, nm_e ⟨hxi, nm_e (nm_e (K _ (fd_inX (c := fd_cd c n v1 v2 v3 v4) h1 h2 h3 h4 h5 (fd_rPrg_upd h6))))⟩⟩⟩⟩
    · unfold wpY_code
      dsimp only
      refine fd_yisGood (fun _ => br_f fd_n10 (br_f n12 (nm_e (nm_r e72 ?_)))) (fun z => absurd hG z)
      rw [hxc, e1, pk_us]
      exact ⟨hxi, nm_e ⟨hxi, nm_e ⟨hxi, nm_e ⟨hxi, nm_e (K _ (fd_inY (by omega) g2 g3))⟩⟩⟩⟩
/-! program: the draft is copied -/
def fd_cp (h : Nat → Int32) (p i : Nat) : Nat → Int32 := fun j => if 12 * p ≤ j ∧ j < 12 * p + i then h (72 + (j - 12 * p)) else h j
theorem fd_cp_in {h : Nat → Int32} {p i j : Nat} (h1 : 12 * p ≤ j) (h2 : j < 12 * p + i) : fd_cp h p i j = h (72 + (j - 12 * p)) := if_pos ⟨h1, h2⟩
theorem fd_cp_out {h : Nat → Int32} {p i j : Nat} (h1 : j < 12 * p ∨ 12 * p + i ≤ j) : fd_cp h p i j = h j := if_neg (by omega)
theorem fd_cp_0 {h : Nat → Int32} {p : Nat} : fd_cp h p 0 = h := by
  funext j; exact fd_cp_out (by omega)
theorem fd_cp_s {h : Nat → Int32} {p i : Nat} (hp : p < 6) (hi : i < 12) : upd (fd_cp h p i) (12 * p + i) (fd_cp h p i (72 + i)) = fd_cp h p (i + 1) := by
  funext j
  rw [fd_cp_out (j := 72 + i) (by omega)]
  by_cases e : j = 12 * p + i
  · rw [e, pk_us, fd_cp_in (by omega) (by omega)]
    rw [show 12 * p + i - 12 * p = i by omega]
  · rw [pk_un e]
    by_cases z : 12 * p ≤ j ∧ j < 12 * p + i
    · rw [fd_cp_in z.1 z.2, fd_cp_in z.1 (by omega)]
    · rw [fd_cp_out (by omega), fd_cp_out (by omega)]
theorem fd_xprog49 {c : Nat → Nat → Int32} {p : Nat} {post : Int32 → SX → Prop} {sl hd mn : Int32} {fi th la ro nu bg fr bk bh bf wh pu : Nat → Int32} (hp : p < 6) (ho : ∀ i, i < 12 → vp_nar .byte (c 1 (72 + i)) = c 1 (72 + i)) (hfi : ∀ i, i < 12 → vp_nar .byte (fi (72 + i)) = fi (72 + i)) (hth : ∀ i, i < 12 → vp_nar .byte (th (72 + i)) = th (72 + i))
    (K : ∀ fu, wX_program_49 post (nI p) sl hd mn (c 0 0) (c 0 1) (c 0 3) (c 0 2) (fu + 1) (nI 12) (fd_cp (c 1) p 12) (fd_cp fi p 12) (fd_cp (c 3) p 12) (fd_cp th p 12) (c 5) (c 6) (c 7) (c 8) (c 9) (c 20) (c 19) (c 10) la (c 18) ro (c 15) (c 16) nu bg (c 14) (c 11) (c 12) fr bk bh bf wh pu) :
    ∀ d i, i + d = 12 → wX_program_49 post (nI p) sl hd mn (c 0 0) (c 0 1) (c 0 3) (c 0 2) (d + 1) (nI i) (fd_cp (c 1) p i) (fd_cp fi p i) (fd_cp (c 3) p i) (fd_cp th p i) (c 5) (c 6) (c 7) (c 8) (c 9) (c 20) (c 19) (c 10) la (c 18) ro (c 15) (c 16) nu bg (c 14) (c 11) (c 12) fr bk bh bf wh pu := by
  intro d
  induction d with
  | zero =>
    intro i hi
    have : i = 12 := by omega
    subst this
    exact K 0
  | succ d ih =>
    intro i hi
    have hi' : i < 12 := by omega
    have e1 : 72 + nI i = nI (72 + i) := nI_add 72 i
    have e2 : 12 * nI p + nI i = nI (12 * p + i) := by rw [fd_12k, nI_add]
    have i1 : vp_in (nI (72 + i)) 84 := vp_in_nI (by omega) (by decide)
    have i2 : vp_in (nI (12 * p + i)) 84 := vp_in_nI (by omega) (by decide)
    have a1 : vp_nar .byte (fd_cp (c 1) p i (72 + i)) = fd_cp (c 1) p i (72 + i) := by rw [fd_cp_out (by omega)]; exact ho i hi'
    have a2 : vp_nar .byte (fd_cp fi p i (72 + i)) = fd_cp fi p i (72 + i) := by rw [fd_cp_out (by omega)]; exact hfi i hi'
    have a3 : vp_nar .byte (fd_cp th p i (72 + i)) = fd_cp th p i (72 + i) := by rw [fd_cp_out (by omega)]; exact hth i hi'
    refine br_f (fd_ng12 hi') ?_
    rw [e1, e2, nI_clamp (show 72 + i < 2 ^ 31 by omega), nI_clamp (show 12 * p + i < 2 ^ 31 by omega), a1, a2, a3, fd_cp_s hp hi', fd_cp_s hp hi', fd_cp_s hp hi', fd_cp_s hp hi', nI_1]
    exact ⟨i1, i2, nm_e ⟨i1, i2, nm_e ⟨i1, i2, nm_e ⟨i1, i2, nm_e (nm_e (ih (i + 1) (by omega)))⟩⟩⟩⟩
theorem fd_yprog47 {c : Nat → Nat → Int32} {p m : Nat} {post : Int32 → SY → Prop} {ts : Nat → Int64} {dn : Nat → Int32} (hp : p < 6)
    (K : ∀ fu, wY_program_47 post (nI p) (c 0 0) (c 0 1) (c 0 2) (c 0 3) (lN m) (c 0 4) (fu + 1) (nI 12) (fd_cp (c 1) p 12) (fd_cp (c 2) p 12) (fd_cp (c 3) p 12) (fd_cp (c 4) p 12) (c 5) (c 6) (c 7) (c 8) (c 9) (c 10) ts (c 11) (c 12) (c 13) (c 14) (c 15) dn (c 17)) :
    ∀ d i, i + d = 12 → wY_program_47 post (nI p) (c 0 0) (c 0 1) (c 0 2) (c 0 3) (lN m) (c 0 4) (d + 1) (nI i) (fd_cp (c 1) p i) (fd_cp (c 2) p i) (fd_cp (c 3) p i) (fd_cp (c 4) p i) (c 5) (c 6) (c 7) (c 8) (c 9) (c 10) ts (c 11) (c 12) (c 13) (c 14) (c 15) dn (c 17) := by
  intro d
  induction d with
  | zero =>
    intro i hi
    have : i = 12 := by omega
    subst this
    exact K 0
  | succ d ih =>
    intro i hi
    have hi' : i < 12 := by omega
    have e1 : 72 + nI i = nI (72 + i) := nI_add 72 i
    have e2 : 12 * nI p + nI i = nI (12 * p + i) := by rw [fd_12k, nI_add]
    have i1 : vp_in (nI (72 + i)) 84 := vp_in_nI (by omega) (by decide)
    have i2 : vp_in (nI (12 * p + i)) 84 := vp_in_nI (by omega) (by decide)
    refine br_f (fd_ng12 hi') ?_
    rw [e1, e2, nI_clamp (show 72 + i < 2 ^ 31 by omega), nI_clamp (show 12 * p + i < 2 ^ 31 by omega), fd_cp_s hp hi', fd_cp_s hp hi', fd_cp_s hp hi', fd_cp_s hp hi', nI_1]
    exact ⟨i1, i2, nm_e ⟨i1, i2, nm_e ⟨i1, i2, nm_e ⟨i1, i2, nm_e (nm_e (ih (i + 1) (by omega)))⟩⟩⟩⟩
def fd_pc (c : Nat → Nat → Int32) (p : Nat) : Nat → Nat → Int32 := fd_sA (fd_sA (fd_sA (fd_sA (fd_sA c 1 (fd_cp (c 1) p 12)) 2 (fd_cp (c 2) p 12)) 3 (fd_cp (c 3) p 12)) 4 (fd_cp (c 4) p 12)) 5 (upd (upd (c 5) p (c 5 6)) 6 0)
theorem fd_pc_hi {c : Nat → Nat → Int32} {p j : Nat} (h : j = 0 ∨ 6 ≤ j) : fd_pc c p j = c j := by
  unfold fd_pc
  rw [fd_sA_n (by omega), fd_sA_n (by omega), fd_sA_n (by omega), fd_sA_n (by omega), fd_sA_n (by omega)]
theorem fd_Ipc6 {e : Nat} {pd : Nat → Prop} {c : Nat → Nat → Int32} {q : Nat → List Nat} {p : Nat} (I : fd_Inv e pd c q) (hp : p < 6) (hn : ∀ f, f < 12 → fd_aw c f → ¬ c 7 f = nI p) : fd_Inv e pd (fd_pc c p) q := by
  refine fd_Icell I (fun j hj => fd_pc_hi hj) ⟨fun j hj => ?_, fun r hr => ?_⟩ (fun f hf h3 => ?_)
  · show fd_Good (fd_cp (c 1) p 12 j) (fd_cp (c 2) p 12 j) (fd_cp (c 3) p 12 j) (fd_cp (c 4) p 12 j)
    by_cases w : 12 * p ≤ j ∧ j < 12 * p + 12
    · rw [fd_cp_in w.1 w.2, fd_cp_in w.1 w.2, fd_cp_in w.1 w.2, fd_cp_in w.1 w.2]
      exact (fd_iP I).1 _ (by omega)
    · rw [fd_cp_out (by omega), fd_cp_out (by omega), fd_cp_out (by omega), fd_cp_out (by omega)]
      exact (fd_iP I).1 j hj
  · show fd_In 13 (upd (upd (c 5) p (c 5 6)) 6 0 r)
    by_cases w : r = 6
    · rw [w, pk_us]; exact ⟨0, by decide, rfl⟩
    · rw [pk_un w]
      by_cases w' : r = p
      · rw [w', pk_us]; exact (fd_iP I).2 6 (by decide)
      · rw [pk_un w']; exact (fd_iP I).2 r hr
  · obtain ⟨pf, m, hpf, hm, e7, ek⟩ := fd_wkk I hf h3
    have hne : pf ≠ p := fun z => hn f hf (Or.inr (Or.inr (Or.inl h3))) (by rw [e7, z])
    have w : fd_kk c f < 12 * p ∨ 12 * p + 12 ≤ fd_kk c f := by omega
    exact ⟨fd_cp_out w, fd_cp_out w, fd_cp_out w, fd_cp_out w⟩
theorem i_vc_program {k : Nat} {u : SX} {v : SY} (I : i_Rel k u v) (hk : k + 5 ≤ 2561) (v1 : Int32) : wpX_program (fun r u' => wpY_program (fun r' v' => r' = r ∧ i_Rel (k + 5) u' v') v v1) u v1 := by
  refine fd_vcS (fun P u => wpX_program P u v1) (fun P v => wpY_program P v v1) I hk fun c q I O => ?_
  by_cases hp : 0 ≤ v1 ∧ v1 ≤ 5
  · obtain ⟨p, hp5, rfl⟩ := fd_rng (n := 5) (by decide) hp.1 hp.2
    have hp6 : p < 6 := by omega
    have hpc : (nI p).toNatClampNeg = p := nI_clamp (by omega)
    have hpi : vp_in (nI p) 7 := vp_in_nI (by omega) (by decide)
    -- the scan
    have scanX : ∀ (post : Int32 → SX → Prop) (sl hd mn : Int32) (fi th la ro nu bg fr bk bh bf wh pu : Nat → Int32), fd_RX c q (sl, hd, mn, c 0 0, c 0 1, c 0 3, c 0 2, c 1, fi, c 3, th, c 5, c 6, c 7, c 8, c 9, c 20, c 19, c 10, la, c 18, ro, c 15, c 16, nu, bg, c 14, c 11, c 12, fr, bk, bh, bf, wh, pu) → ((∃ f, f < 12 ∧ fd_aw c f ∧ c 7 f = nI p) → post (-1) (sl, hd, mn, c 0 0, c 0 1, c 0 3, c 0 2, c 1, fi, c 3, th, c 5, c 6, c 7, c 8, c 9, c 20, c 19, c 10, la, c 18, ro, c 15, c 16, nu, bg, c 14, c 11, c 12, fr, bk, bh, bf, wh, pu)) → ((¬ ∃ f, f < 12 ∧ fd_aw c f ∧ c 7 f = nI p) → ∃ n49, wX_program_49 post (nI p) sl hd mn (c 0 0) (c 0 1) (c 0 3) (c 0 2) n49 0 (c 1) fi (c 3) th (c 5) (c 6) (c 7) (c 8) (c 9) (c 20) (c 19) (c 10) la (c 18) ro (c 15) (c 16) nu bg (c 14) (c 11) (c 12) fr bk bh bf wh pu) →
        ∀ d i, i + d = 12 → (∀ g, g < i → ¬ (fd_aw c g ∧ c 7 g = nI p)) → wX_program_13 post (nI p) sl hd mn (c 0 0) (c 0 1) (c 0 3) (c 0 2) (c 1) fi (c 3) th (c 5) (c 6) (c 7) (c 8) (c 9) (c 20) (c 19) (c 10) la (c 18) ro (c 15) (c 16) nu bg (c 14) (c 11) (c 12) fr bk bh bf wh pu (d + 1) (nI i) := by
      intro post sl hd mn fi th la ro nu bg fr bk bh bf wh pu R0 K1 K0 d
      induction d with
      | zero =>
        intro i hi hg
        have : i = 12 := by omega
        subst this
        exact br_t fd_le12 (K0 fun ⟨f, hf, z⟩ => hg f hf z)
      | succ d ih =>
        intro i hi hg
        have hic : (nI i).toNatClampNeg = i := nI_clamp (by omega)
        refine br_f (fd_ng12 (by omega)) ?_
        have nxt : ¬ (fd_aw c i ∧ c 7 i = nI p) → wX_program_13 post (nI p) sl hd mn (c 0 0) (c 0 1) (c 0 3) (c 0 2) (c 1) fi (c 3) th (c 5) (c 6) (c 7) (c 8) (c 9) (c 20) (c 19) (c 10) la (c 18) ro (c 15) (c 16) nu bg (c 14) (c 11) (c 12) fr bk bh bf wh pu (d + 1) (nI (i + 1)) := fun z => ih (i + 1) (by omega) (fun g hgi y => by
          by_cases e : g = i
          · rw [e] at y; exact z y
          · exact hg g (by omega) y)
        refine fd_xaw I (by omega) (fun w => br_f fd_n10 ⟨vp_in_nI (by omega) (by decide), ?_⟩) (fun w => br_t rfl (nm_r (nI_1 i) (nxt fun y => w y.1))) _ R0
        rw [hic]
        exact br_c (fun z => K1 ⟨i, by omega, w, z⟩) fun z => nm_r (nI_1 i) (nxt fun y => z y.2)
    have scanY : ∀ (N : Nat) (post : Int32 → SY → Prop) (m : Nat) (ts : Nat → Int64) (dn : Nat → Int32), fd_RY N 3 c q (c 0 0, c 0 1, c 0 2, c 0 3, lN m, c 0 4, c 1, c 2, c 3, c 4, c 5, c 6, c 7, c 8, c 9, c 10, ts, c 11, c 12, c 13, c 14, c 15, dn, c 17) → ((∃ f, f < 12 ∧ fd_aw c f ∧ c 7 f = nI p) → post (-1) (c 0 0, c 0 1, c 0 2, c 0 3, lN m, c 0 4, c 1, c 2, c 3, c 4, c 5, c 6, c 7, c 8, c 9, c 10, ts, c 11, c 12, c 13, c 14, c 15, dn, c 17)) → ((¬ ∃ f, f < 12 ∧ fd_aw c f ∧ c 7 f = nI p) → ∃ n47, wY_program_47 post (nI p) (c 0 0) (c 0 1) (c 0 2) (c 0 3) (lN m) (c 0 4) n47 0 (c 1) (c 2) (c 3) (c 4) (c 5) (c 6) (c 7) (c 8) (c 9) (c 10) ts (c 11) (c 12) (c 13) (c 14) (c 15) dn (c 17)) →
        ∀ d i, i + d = 12 → (∀ g, g < i → ¬ (fd_aw c g ∧ c 7 g = nI p)) → wY_program_13 post (nI p) (c 0 0) (c 0 1) (c 0 2) (c 0 3) (lN m) (c 0 4) (c 1) (c 2) (c 3) (c 4) (c 5) (c 6) (c 7) (c 8) (c 9) (c 10) ts (c 11) (c 12) (c 13) (c 14) (c 15) dn (c 17) (d + 1) (nI i) := by
      intro N post m ts dn S0 K1 K0 d
      induction d with
      | zero =>
        intro i hi hg
        have : i = 12 := by omega
        subst this
        exact br_t fd_le12 (K0 fun ⟨f, hf, z⟩ => hg f hf z)
      | succ d ih =>
        intro i hi hg
        have hic : (nI i).toNatClampNeg = i := nI_clamp (by omega)
        refine br_f (fd_ng12 (by omega)) ?_
        have nxt : ¬ (fd_aw c i ∧ c 7 i = nI p) → wY_program_13 post (nI p) (c 0 0) (c 0 1) (c 0 2) (c 0 3) (lN m) (c 0 4) (c 1) (c 2) (c 3) (c 4) (c 5) (c 6) (c 7) (c 8) (c 9) (c 10) ts (c 11) (c 12) (c 13) (c 14) (c 15) dn (c 17) (d + 1) (nI (i + 1)) := fun z => ih (i + 1) (by omega) (fun g hgi y => by
          by_cases e : g = i
          · rw [e] at y; exact z y
          · exact hg g (by omega) y)
        refine fd_yaw I (by omega) (fun w => br_f fd_n10 ⟨vp_in_nI (by omega) (by decide), ?_⟩) (fun w => br_t rfl (nm_r (nI_1 i) (nxt fun y => w y.1))) _ S0
        rw [hic]
        exact br_c (fun z => K1 ⟨i, by omega, w, z⟩) fun z => nm_r (nI_1 i) (nxt fun y => z y.2)
    by_cases hex : ∃ f, f < 12 ∧ fd_aw c f ∧ c 7 f = nI p
    · refine ⟨-1, c, q, I, O, fun post K => fd_elK fun sl hd mn fi th la ro nu bg fr bk bh bf wh pu h1 h2 h3 h4 h5 h6 R0 => ?_, fun N post hN K => fd_elL fun m tf ts dn g1 g2 g3 S0 => ?_⟩
      · have z := scanX post _ _ _ _ _ _ _ _ _ _ _ _ _ _ _ R0 (fun _ => K _ R0) (fun y => absurd hex y) 12 0 rfl (fun g hg => absurd hg (by omega))
        unfold wpX_program
        dsimp only
        exact fd_xout (fun _ _ => br_t rfl ⟨13, z⟩) (fun z => absurd hp z)
      · have z := scanY N post _ _ _ S0 (fun _ => K _ (fd_RY_up (by omega) S0)) (fun y => absurd hex y) 12 0 rfl (fun g hg => absurd hg (by omega))
        unfold wpY_program
        dsimp only
        exact fd_ywit (fun _ _ => br_f fd_n10 ⟨13, z⟩) (fun z => absurd hp z)
    · have I1 : fd_Inv 1 fd_no (fd_pc c p) q := fd_Ipc6 I hp6 (fun f hf w z => hex ⟨f, hf, w, z⟩)
      obtain ⟨n6, hn6, e56⟩ := (fd_iP I).2 6 (by decide)
      have n56 : vp_nar .byte (c 5 6) = c 5 6 := by rw [e56]; exact fd_nb (by omega)
      have eret : upd (upd (c 5) p (c 5 6)) 6 0 p = c 5 6 := by rw [pk_un (by omega), pk_us]
      refine ⟨c 5 6, fd_pc c p, q, I1, O, fun post K => fd_elK fun sl hd mn fi th la ro nu bg fr bk bh bf wh pu h1 h2 h3 h4 h5 h6 R0 => ?_, fun N post hN K => fd_elL fun m tf ts dn g1 g2 g3 S0 => ?_⟩
      · have L := fd_xprog49 (c := c) (p := p) (post := post) (sl := sl) (hd := hd) (mn := mn) (fi := fi) (th := th) (la := la) (ro := ro) (nu := nu) (bg := bg) (fr := fr) (bk := bk) (bh := bh) (bf := bf) (wh := wh) (pu := pu) hp6 (fun i hi => ?_) (fun i hi => ?_) (fun i hi => ?_) (fun fu => ?_) 12 0 rfl
        · rw [fd_cp_0, fd_cp_0, fd_cp_0, fd_cp_0] at L
          have z := scanX post _ _ _ _ _ _ _ _ _ _ _ _ _ _ _ R0 (fun y => absurd y hex) (fun _ => ⟨13, L⟩) 12 0 rfl (fun g hg => absurd hg (by omega))
          unfold wpX_program
          dsimp only
          exact fd_xout (fun _ _ => br_t rfl ⟨13, z⟩) (fun z => absurd hp z)
        · obtain ⟨o, ho, eo⟩ := fd_Good14 ((fd_iP I).1 (72 + i) (by omega))
          rw [eo]; exact fd_nb (by omega)
        · rw [(h6 (72 + i) (by omega)).1]; exact pk_vb _
        · rw [(h6 (72 + i) (by omega)).2]; exact pk_vb _
        · refine br_t fd_le12 ⟨hpi, ?_⟩
          rw [hpc, n56, fd_nb0]
          refine nm_e (nm_e ⟨hpi, ?_⟩)
          rw [eret]
          refine K _ (fd_inX (c := fd_pc c p) h1 h2 h3 h4 h5 ?_)
          intro j hj
          show fd_cp fi p 12 j = (fd_cp (c 2) p 12 j).toInt8.toInt32 ∧ fd_cp th p 12 j = (fd_cp (c 4) p 12 j).toInt8.toInt32
          by_cases w : 12 * p ≤ j ∧ j < 12 * p + 12
          · rw [fd_cp_in w.1 w.2, fd_cp_in w.1 w.2, fd_cp_in w.1 w.2, fd_cp_in w.1 w.2]
            exact h6 _ (by omega)
          · rw [fd_cp_out (by omega), fd_cp_out (by omega), fd_cp_out (by omega), fd_cp_out (by omega)]
            exact h6 j hj
      · have L := fd_yprog47 (c := c) (p := p) (m := m) (post := post) (ts := ts) (dn := dn) hp6 (fun fu => ?_) 12 0 rfl
        · rw [fd_cp_0, fd_cp_0, fd_cp_0, fd_cp_0] at L
          have z := scanY N post _ _ _ S0 (fun y => absurd y hex) (fun _ => ⟨13, L⟩) 12 0 rfl (fun g hg => absurd hg (by omega))
          unfold wpY_program
          dsimp only
          exact fd_ywit (fun _ _ => br_f fd_n10 ⟨13, z⟩) (fun z => absurd hp z)
        · refine br_t fd_le12 ⟨hpi, ?_⟩
          rw [hpc]
          refine nm_e (nm_e ⟨hpi, ?_⟩)
          rw [eret]
          exact K _ (fd_inY (c := fd_pc c p) (by omega) g2 g3)
  · refine ⟨-1, c, q, I, O, fun post K => fd_elK fun sl hd mn fi th la ro nu bg fr bk bh bf wh pu h1 h2 h3 h4 h5 h6 R0 => ?_, fun N post hN K => fd_elL fun m tf ts dn g1 g2 g3 S0 => ?_⟩
    · unfold wpX_program
      dsimp only
      exact fd_xout (fun a b => absurd ⟨a, b⟩ hp) (fun _ => br_f fd_n10 (K _ R0))
    · unfold wpY_program
      dsimp only
      exact fd_ywit (fun a b => absurd ⟨a, b⟩ hp) (fun _ => br_t rfl (K _ (fd_RY_up (by omega) S0)))
end
section
/-! counting -/
def fd_cnt (b : Nat → Bool) : Nat → Nat
  | 0 => 0
  | i + 1 => cond (b i) (fd_cnt b i + 1) (fd_cnt b i)
theorem fd_cnt_t {b : Nat → Bool} {i : Nat} (h : b i = true) : fd_cnt b (i + 1) = fd_cnt b i + 1 := by
  show cond (b i) _ _ = _
  rw [h]; rfl
theorem fd_cnt_f {b : Nat → Bool} {i : Nat} (h : ¬ b i = true) : fd_cnt b (i + 1) = fd_cnt b i := by
  show cond (b i) _ _ = _
  have h' : b i = false := by cases e : b i with
    | false => rfl
    | true => exact absurd e h
  rw [h']; rfl
theorem fd_cnt_le (b : Nat → Bool) : ∀ n, fd_cnt b n ≤ n := by
  intro n
  induction n with
  | zero => exact Nat.le_refl _
  | succ n ih =>
    by_cases h : b n = true
    · rw [fd_cnt_t h]; omega
    · rw [fd_cnt_f h]; omega
theorem fd_cnt_len (b : Nat → Bool) : ∀ (n : Nat) (M : List Nat), M.Nodup → (∀ x, x ∈ M → x < n) → (∀ g, g < n → (b g = true ↔ g ∈ M)) → fd_cnt b n = M.length := by
  intro n
  induction n with
  | zero =>
    intro M _ h _
    cases M with
    | nil => rfl
    | cons x M => exact absurd (h x List.mem_cons_self) (by omega)
  | succ n ih =>
    intro M hn hb hm
    by_cases e : n ∈ M
    · have h1 := ih (M.erase n) (hn.erase n) (fun x hx => by
        have h2 := (hn.mem_erase_iff).mp hx
        have := hb x h2.2
        have := h2.1
        omega) (fun g hg => by
        rw [hm g (by omega), hn.mem_erase_iff]
        exact ⟨fun z => ⟨by omega, z⟩, fun z => z.2⟩)
      rw [fd_cnt_t ((hm n (by omega)).mpr e), h1, List.length_erase_of_mem e]
      have : 0 < M.length := List.length_pos_of_mem e
      omega
    · rw [fd_cnt_f (fun z => e ((hm n (by omega)).mp z))]
      refine ih M hn (fun x hx => ?_) (fun g hg => hm g (by omega))
      have := hb x hx
      have : x ≠ n := fun z => e (z ▸ hx)
      omega
noncomputable def fd_dc (Q : Nat → Prop) : Nat → Bool := fun g => @decide (Q g) (Classical.propDecidable _)
theorem fd_dc_iff {Q : Nat → Prop} {g : Nat} : fd_dc Q g = true ↔ Q g := by
  unfold fd_dc
  exact @decide_eq_true_iff (Q g) (Classical.propDecidable _)
theorem fd_pw_nd {tf : Nat → Nat} {M : List Nat} (h : List.Pairwise (fun x y => tf x < tf y) M) : M.Nodup := by
  refine List.Pairwise.imp (fun {x y} w => ?_) h
  rintro rfl
  omega
/-- how many come ahead of one in the list -/
theorem fd_ahead {tf : Nat → Nat} {M A B : List Nat} {f : Nat} {P : Nat → Prop} (hM : M = A ++ f :: B) (hs : List.Pairwise (fun x y => tf x < tf y) M) (hb : ∀ x, x ∈ M → x < 12) (hP : ∀ g, g < 12 → (P g ↔ g ∈ M)) : fd_cnt (fd_dc fun g => P g ∧ tf g < tf f) 12 = A.length := by
  have hnd := fd_pw_nd hs
  rw [hM] at hs hnd
  have hs' := List.pairwise_append.mp hs
  have hnd' := List.nodup_append.mp hnd
  refine fd_cnt_len _ 12 A hnd'.1 (fun x hx => hb x (by rw [hM]; exact List.mem_append.mpr (Or.inl hx))) (fun g hg => ?_)
  rw [fd_dc_iff, hP g hg, hM]
  constructor
  · rintro ⟨z, w⟩
    rcases List.mem_append.mp z with y | y
    · exact y
    · rcases List.mem_cons.mp y with y | y
      · rw [y] at w; omega
      · have := (List.pairwise_cons.mp hs'.2.1).1 g y
        omega
  · intro z
    exact ⟨List.mem_append.mpr (Or.inl z), hs'.2.2 g z f List.mem_cons_self⟩
theorem fd_all {M : List Nat} {P : Nat → Prop} (hnd : M.Nodup) (hb : ∀ x, x ∈ M → x < 12) (hP : ∀ g, g < 12 → (P g ↔ g ∈ M)) : fd_cnt (fd_dc P) 12 = M.length :=
  fd_cnt_len _ 12 M hnd hb (fun g hg => fd_dc_iff.trans (hP g hg))
/-! row -/
section
variable {c : Nat → Nat → Int32} {q : Nat → List Nat} {post : Int32 → Prop} {m : Nat} {tf : Nat → Nat} {ts : Nat → Int64} {dn : Nat → Int32} {k : Int32}
theorem fd_yrow29 {J : Int32 → Int32 → Prop} {x2 : Int32} {f : Nat} (hf : f < 12) (g2 : fd_rTs q m tf ts) (hm : m < 2 ^ 62)
    (K : (nI (fd_cnt (fd_dc fun g => c 6 g = 1 ∧ tf g < tf f) 12) = k → post (nI f)) ∧ (¬ nI (fd_cnt (fd_dc fun g => c 6 g = 1 ∧ tf g < tf f) 12) = k → J (x2 + 1) (nI (f + 1)))) :
    ∀ d i, i + d = 12 → wY_row_29 post J k x2 (nI f) (c 0 0) (c 0 1) (c 0 2) (c 0 3) (lN m) (c 0 4) (c 1) (c 2) (c 3) (c 4) (c 5) (c 6) (c 7) (c 8) (c 9) (c 10) ts (c 11) (c 12) (c 13) (c 14) (c 15) dn (c 17) (d + 1) (nI (fd_cnt (fd_dc fun g => c 6 g = 1 ∧ tf g < tf f) i)) (nI i) := by
  intro d
  induction d with
  | zero =>
    intro i hi
    have : i = 12 := by omega
    subst this
    exact br_t fd_le12 (br_c K.1 fun z => nm_e (nm_r (nI_1 f) (K.2 z)))
  | succ d ih =>
    intro i hi
    have hi' : i < 12 := by omega
    have ci : (nI i).toNatClampNeg = i := nI_clamp (by omega)
    have cf : (nI f).toNatClampNeg = f := nI_clamp (by omega)
    have t1 := g2.1 f hf
    have t2 := g2.1 i hi'
    have hle : (ts f ≤ ts i) ↔ tf f ≤ tf i := by rw [t1.1, t2.1, pk_lLE (by omega) (by omega)]
    refine br_f (fd_ng12 hi') ⟨vp_in_nI hi' (by decide), ?_⟩
    rw [ci, cf]
    refine br_c (fun z => ⟨vp_in_nI hi' (by decide), vp_in_nI hf (by decide), br_c (fun y => nm_r (nI_1 i) ?_) fun y => nm_r (nI_1 _) (nm_r (nI_1 i) ?_)⟩) fun z => nm_r (nI_1 i) ?_
    · rw [← fd_cnt_f (i := i) (b := fd_dc fun g => c 6 g = 1 ∧ tf g < tf f) (fun w => by
        have := (fd_dc_iff.mp w).2
        have := hle.mp y
        omega)]
      exact ih (i + 1) (by omega)
    · have w : ¬ tf f ≤ tf i := fun w => y (hle.mpr w)
      rw [← fd_cnt_t (i := i) (b := fd_dc fun g => c 6 g = 1 ∧ tf g < tf f) (fd_dc_iff.mpr ⟨z, by omega⟩)]
      exact ih (i + 1) (by omega)
    · rw [← fd_cnt_f (i := i) (b := fd_dc fun g => c 6 g = 1 ∧ tf g < tf f) (fun w => z (fd_dc_iff.mp w).1)]
      exact ih (i + 1) (by omega)
theorem fd_yrow4 {e : Nat} {pd : Nat → Prop} (I : fd_Inv e pd c q) (g2 : fd_rTs q m tf ts) (hm : m < 2 ^ 62)
    (KF : ∀ A f B, q 4 = A ++ f :: B → nI A.length = k → post (nI f)) (KE : (∀ A f B, q 4 = A ++ f :: B → ¬ nI A.length = k) → (k = -1 → post (nI (q 4).length)) ∧ (¬ k = -1 → post (-1))) :
    ∀ d i, i + d = 12 → (∀ A f B, q 4 = A ++ f :: B → f < i → ¬ nI A.length = k) → wY_row_4 post k (c 0 0) (c 0 1) (c 0 2) (c 0 3) (lN m) (c 0 4) (c 1) (c 2) (c 3) (c 4) (c 5) (c 6) (c 7) (c 8) (c 9) (c 10) ts (c 11) (c 12) (c 13) (c 14) (c 15) dn (c 17) (d + 1) (nI (fd_cnt (fd_dc fun g => c 6 g = 1) i)) (nI i) := by
  have hb := (fd_iL I).2.1
  have hP : ∀ g, g < 12 → (c 6 g = 1 ↔ g ∈ q 4) := fun g hg => (fd_i4 I hg).symm
  intro d
  induction d with
  | zero =>
    intro i hi hno
    have : i = 12 := by omega
    subst this
    rw [fd_all (fd_iL I).1 hb hP]
    have z := KE fun A f B h => hno A f B h (hb f (by rw [h]; exact List.mem_append.mpr (Or.inr List.mem_cons_self)))
    exact br_t fd_le12 z
  | succ d ih =>
    intro i hi hno
    have hi' : i < 12 := by omega
    have ci : (nI i).toNatClampNeg = i := nI_clamp (by omega)
    refine br_f (fd_ng12 hi') ⟨vp_in_nI hi' (by decide), ?_⟩
    rw [ci]
    refine br_c (fun z => ?_) fun z => nm_r (nI_1 i) ?_
    · obtain ⟨A, B, hq⟩ := fd_mem_split ((hP i hi').mp z)
      have hc := fd_ahead hq g2.2.1 hb hP
      refine ⟨13, fd_yrow29 hi' g2 hm ?_ 12 0 rfl⟩
      rw [hc]
      refine br_c (fun y => KF A i B hq y) fun y => ?_
      have nx := ih (i + 1) (by omega) (fun A' f B' h hfi => by
        by_cases w : f = i
        · have hnd := (fd_iL I).1
          subst w
          have e1 := fd_ahead h g2.2.1 hb hP
          rw [← e1, hc]
          exact y
        · exact hno A' f B' h (by omega))
      rw [fd_cnt_t (fd_dc_iff.mpr z)] at nx
      rw [nI_1]
      exact nx
    · have nx := ih (i + 1) (by omega) (fun A' f B' h hfi => by
        by_cases w : f = i
        · exfalso
          apply z
          rw [hP i hi', ← w, h]
          exact List.mem_append.mpr (Or.inr List.mem_cons_self)
        · exact hno A' f B' h (by omega))
      rw [fd_cnt_f (fun w => z (fd_dc_iff.mp w))] at nx
      exact nx
end
theorem fd_splitAt {L : List Nat} {j : Nat} (h : j < L.length) : ∃ A f B, L = A ++ f :: B ∧ A.length = j ∧ L.getD j 0 = f := by
  refine ⟨L.take j, L[j], L.drop (j + 1), ?_, by rw [List.length_take]; omega, ?_⟩
  · rw [← List.drop_eq_getElem_cons h, List.take_append_drop]
  · rw [List.getD_eq_getElem?_getD, List.getElem?_eq_getElem h]; rfl
theorem fd_split_inj {L A B A' B' : List Nat} {f f' : Nat} (h : L = A ++ f :: B) (h' : L = A' ++ f' :: B') (e : A.length = A'.length) : f = f' := by
  have := (List.append_inj (h.symm.trans h') e).2
  cases this
  rfl
theorem i_vc_row {k : Nat} {u : SX} {v : SY} (I : i_Rel k u v) (hk : k + 5 ≤ 2561) (v1 : Int32) : wpX_row (fun r => wpY_row (fun r' => r' = r ∧ i_Rel (k + 5) u v) v v1) u v1 := by
  refine fd_vcQ (fun P u => wpX_row P u v1) (fun P v => wpY_row P v v1) I hk fun c q I O => ?_
  have hlen := fd_ilen I
  have nm1 : ∀ n, n < 100 → ¬ nI n = -1 := fun n hn => fd_nm (by omega)
  have hAl : ∀ A f B, q 4 = A ++ f :: B → A.length < (q 4).length := by
    intro A f B h
    rw [h, List.length_append]
    show A.length < A.length + (B.length + 1)
    omega
  have yrow : ∀ r : Int32, (∀ A f B, q 4 = A ++ f :: B → nI A.length = v1 → r = nI f) → ((∀ A f B, q 4 = A ++ f :: B → ¬ nI A.length = v1) → (v1 = -1 → r = nI (q 4).length) ∧ (¬ v1 = -1 → r = -1)) → ∀ (N : Nat) (post : Int32 → Prop), N < 2 ^ 62 → post r → ∀ v, fd_RY N 3 c q v → wpY_row post v v1 := by
    intro r hF hE N post hN K
    refine fd_elL fun m tf ts dn g1 g2 g3 S0 => ?_
    have z := fd_yrow4 (post := post) (dn := dn) I g2 (by omega) (fun A f B h y => by rw [← hF A f B h y]; exact K) (fun h => ⟨fun y => by rw [← (hE h).1 y]; exact K, fun y => by rw [← (hE h).2 y]; exact K⟩) 12 0 rfl (fun A f B h hf => absurd hf (by omega))
    exact ⟨13, z⟩
  by_cases hm1 : v1 = -1
  · refine ⟨nI (q 4).length, fun post K => fd_elK fun sl hd mn fi th la ro nu bg fr bk bh bf wh pu h1 h2 h3 h4 h5 h6 R0 => ?_, yrow _ (fun A f B h y => ?_) (fun _ => ⟨fun _ => rfl, fun y => absurd hm1 y⟩)⟩
    · obtain ⟨h, h16, e1, e2, hr⟩ := h1
      refine br_t hm1 ?_
      rw [e2]
      exact K
    · have := hAl A f B h
      exact absurd (y.trans hm1) (nm1 _ (by omega))
  · by_cases hp : ∃ j, j < (q 4).length ∧ v1 = nI j
    · obtain ⟨j, hj, rfl⟩ := hp
      obtain ⟨A, f, B, hq, hA, hg⟩ := fd_splitAt hj
      refine ⟨nI f, fun post K => fd_elK fun sl hd mn fi th la ro nu bg fr bk bh bf wh pu h1 h2 h3 h4 h5 h6 R0 => ?_, yrow _ (fun A' f' B' h y => ?_) (fun h => absurd (by rw [hA]) (h A f B hq))⟩
      · obtain ⟨h, h16, e1, e2, hr⟩ := h1
        have em : mn - 1 = nI ((q 4).length - 1) := by rw [e2]; exact pk_sub (b := 1) (by omega)
        have ei : (hd + nI j) &&& 15 = nI ((h + j) % 16) := by rw [e1, nI_add, fd_and15 (by omega)]
        unfold wpX_row
        dsimp only
        rw [em, ei, nI_clamp (show (h + j) % 16 < 2 ^ 31 by omega), hr j hj, hg]
        exact br_f hm1 (fd_xout (fun _ _ => br_t rfl ⟨vp_in_nI (Nat.mod_lt _ (by decide)) (by decide), K⟩) (fun z => absurd ⟨nI_pos' (by omega), nI_le (by omega) (by omega)⟩ z))
      · have := hAl A' f' B' h
        have e : A'.length = j := fd_inj y (by omega) (by omega)
        rw [fd_split_inj hq h (by omega)]
    · refine ⟨-1, fun post K => fd_elK fun sl hd mn fi th la ro nu bg fr bk bh bf wh pu h1 h2 h3 h4 h5 h6 R0 => ?_, yrow _ (fun A f B h y => absurd ⟨A.length, hAl A f B h, y.symm⟩ hp) (fun _ => ⟨fun y => absurd y hm1, fun _ => rfl⟩)⟩
      obtain ⟨h, h16, e1, e2, hr⟩ := h1
      unfold wpX_row
      dsimp only
      refine br_f hm1 (fd_xout (fun a b => ?_) (fun _ => br_f fd_n10 K))
      exfalso
      rw [e2] at b
      by_cases h0 : (q 4).length = 0
      · rw [h0] at b
        exact absurd (Int32.le_trans a b) (by decide)
      · have em : nI (q 4).length - 1 = nI ((q 4).length - 1) := pk_sub (b := 1) (by omega)
        rw [em] at b
        obtain ⟨j, hj, e⟩ := fd_rng (n := (q 4).length - 1) (by omega) a b
        exact hp ⟨j, by omega, e⟩
end
section
/-! waits -/
section
variable {c : Nat → Nat → Int32} {q : Nat → List Nat} {post : Int32 → Prop} {m N h : Nat} {tf : Nat → Nat} {ts : Nat → Int64} {dn : Nat → Int32} {k : Int32}
theorem fd_ywt42 {e : Nat} {pd : Nat → Prop} {J : Int32 → Int32 → Prop} {x3 : Int32} {f : Nat} (I : fd_Inv e pd c q) (hf : f < 12) (g2 : fd_rTs q m tf ts) (hm : m < 2 ^ 62) (S0 : fd_RY N 3 c q (c 0 0, c 0 1, c 0 2, c 0 3, lN m, c 0 4, c 1, c 2, c 3, c 4, c 5, c 6, c 7, c 8, c 9, c 10, ts, c 11, c 12, c 13, c 14, c 15, dn, c 17))
    (K : (nI (fd_cnt (fd_dc fun g => fd_Wa c g h ∧ tf g < tf f) 12) = k → post (nI f)) ∧ (¬ nI (fd_cnt (fd_dc fun g => fd_Wa c g h ∧ tf g < tf f) 12) = k → J (x3 + 1) (nI (f + 1)))) :
    ∀ d i, i + d = 12 → wY_waits_42 post J (nI h) k x3 (nI f) (c 0 0) (c 0 1) (c 0 2) (c 0 3) (lN m) (c 0 4) (c 1) (c 2) (c 3) (c 4) (c 5) (c 6) (c 7) (c 8) (c 9) (c 10) ts (c 11) (c 12) (c 13) (c 14) (c 15) dn (c 17) (d + 1) (nI (fd_cnt (fd_dc fun g => fd_Wa c g h ∧ tf g < tf f) i)) (nI i) := by
  intro d
  induction d with
  | zero =>
    intro i hi
    have : i = 12 := by omega
    subst this
    exact br_t fd_le12 (br_c K.1 fun z => nm_e (nm_r (nI_1 f) (K.2 z)))
  | succ d ih =>
    intro i hi
    have hi' : i < 12 := by omega
    have ci : (nI i).toNatClampNeg = i := nI_clamp (by omega)
    have cf : (nI f).toNatClampNeg = f := nI_clamp (by omega)
    have t1 := g2.1 f hf
    have t2 := g2.1 i hi'
    have hle : (ts f ≤ ts i) ↔ tf f ≤ tf i := by rw [t1.1, t2.1, pk_lLE (by omega) (by omega)]
    refine br_f (fd_ng12 hi') ?_
    refine fd_ywaits hi' (fd_i7 I hi') (fd_i8 I hi') (fun z => br_f fd_n10 ⟨vp_in_nI hi' (by decide), vp_in_nI hf (by decide), ?_⟩) (fun z => br_t rfl (nm_r (nI_1 i) ?_)) _ S0
    · rw [← fd_cnt_f (i := i) (b := fd_dc fun g => fd_Wa c g h ∧ tf g < tf f) (fun w => z (fd_dc_iff.mp w).1)]
      exact ih (i + 1) (by omega)
    · rw [ci, cf]
      refine br_c (fun y => nm_r (nI_1 i) ?_) fun y => nm_r (nI_1 _) (nm_r (nI_1 i) ?_)
      · rw [← fd_cnt_f (i := i) (b := fd_dc fun g => fd_Wa c g h ∧ tf g < tf f) (fun w => by
          have := (fd_dc_iff.mp w).2
          have := hle.mp y
          omega)]
        exact ih (i + 1) (by omega)
      · have w : ¬ tf f ≤ tf i := fun w => y (hle.mpr w)
        rw [← fd_cnt_t (i := i) (b := fd_dc fun g => fd_Wa c g h ∧ tf g < tf f) (fd_dc_iff.mpr ⟨z, by omega⟩)]
        exact ih (i + 1) (by omega)
theorem fd_ywt16 {e : Nat} {pd : Nat → Prop} (I : fd_Inv e pd c q) (g2 : fd_rTs q m tf ts) (hm : m < 2 ^ 62) (S0 : fd_RY N 3 c q (c 0 0, c 0 1, c 0 2, c 0 3, lN m, c 0 4, c 1, c 2, c 3, c 4, c 5, c 6, c 7, c 8, c 9, c 10, ts, c 11, c 12, c 13, c 14, c 15, dn, c 17)) {M : List Nat} (hs : List.Pairwise (fun x y => tf x < tf y) M) (hb : ∀ x, x ∈ M → x < 12) (hP : ∀ g, g < 12 → (fd_Wa c g h ↔ g ∈ M))
    (KF : ∀ A f B, M = A ++ f :: B → nI A.length = k → post (nI f)) (KE : (∀ A f B, M = A ++ f :: B → ¬ nI A.length = k) → (k = -1 → post (nI M.length)) ∧ (¬ k = -1 → post (-1))) :
    ∀ d i, i + d = 12 → (∀ A f B, M = A ++ f :: B → f < i → ¬ nI A.length = k) → wY_waits_16 post (nI h) k (c 0 0) (c 0 1) (c 0 2) (c 0 3) (lN m) (c 0 4) (c 1) (c 2) (c 3) (c 4) (c 5) (c 6) (c 7) (c 8) (c 9) (c 10) ts (c 11) (c 12) (c 13) (c 14) (c 15) dn (c 17) (d + 1) (nI (fd_cnt (fd_dc fun g => fd_Wa c g h) i)) (nI i) := by
  intro d
  induction d with
  | zero =>
    intro i hi hno
    have : i = 12 := by omega
    subst this
    rw [fd_all (fd_pw_nd hs) hb hP]
    have z := KE fun A f B h => hno A f B h (hb f (by rw [h]; exact List.mem_append.mpr (Or.inr List.mem_cons_self)))
    exact br_t fd_le12 z
  | succ d ih =>
    intro i hi hno
    have hi' : i < 12 := by omega
    refine br_f (fd_ng12 hi') ?_
    refine fd_ywaits hi' (fd_i7 I hi') (fd_i8 I hi') (fun z => br_f fd_n10 ?_) (fun z => br_t rfl (nm_r (nI_1 i) ?_)) _ S0
    · obtain ⟨A, B, hq⟩ := fd_mem_split ((hP i hi').mp z)
      have hc := fd_ahead hq hs hb hP
      refine ⟨13, fd_ywt42 I hi' g2 hm S0 ?_ 12 0 rfl⟩
      rw [hc]
      refine br_c (fun y => KF A i B hq y) fun y => ?_
      have nx := ih (i + 1) (by omega) (fun A' f B' h hfi => by
        by_cases w : f = i
        · subst w
          have e1 := fd_ahead h hs hb hP
          rw [← e1, hc]
          exact y
        · exact hno A' f B' h (by omega))
      rw [fd_cnt_t (i := i) (b := fd_dc fun g => fd_Wa c g h) (fd_dc_iff.mpr z)] at nx
      rw [nI_1]
      exact nx
    · have nx := ih (i + 1) (by omega) (fun A' f B' h hfi => by
        by_cases w : f = i
        · exfalso
          apply z
          rw [hP i hi', ← w, h]
          exact List.mem_append.mpr (Or.inr List.mem_cons_self)
        · exact hno A' f B' h (by omega))
      rw [fd_cnt_f (i := i) (b := fd_dc fun g => fd_Wa c g h) (fun w => z (fd_dc_iff.mp w))] at nx
      exact nx
theorem fd_xwt21 {sl hd mn : Int32} {fi th la ro nu bg fr bk bh bf wh pu : Nat → Int32} (hn : fd_HN q) (hh : h < 4) (h3 : fd_rCh q fr bk bh bf wh)
    (KF : ∀ A l B, q h = A ++ l :: B → nI A.length = k → post (nI (l % 12))) (KE : (∀ A l B, q h = A ++ l :: B → ¬ nI A.length = k) → (k = -1 → post (nI (q h).length)) ∧ (¬ k = -1 → post (-1))) :
    ∀ (B A : List Nat), q h = A ++ B → (∀ A' l B', q h = A' ++ l :: B' → A'.length < A.length → ¬ nI A'.length = k) → wX_waits_21 post k sl hd mn (c 0 0) (c 0 1) (c 0 3) (c 0 2) (c 1) fi (c 3) th (c 5) (c 6) (c 7) (c 8) (c 9) (c 20) (c 19) (c 10) la (c 18) ro (c 15) (c 16) nu bg (c 14) (c 11) (c 12) fr bk bh bf wh pu (B.length + 1) (nI A.length) (fd_hd B (-1)) := by
  intro B
  induction B with
  | nil =>
    intro A hq hno
    have z := KE fun A' l B' h' => hno A' l B' h' (by
      have e : (q h).length = A.length := by rw [hq, List.append_nil]
      rw [← e, h', List.length_append]
      show A'.length < A'.length + (B'.length + 1)
      omega)
    rw [hq, List.append_nil] at z
    exact br_t fd_mlt z
  | cons l B ih =>
    intro A hq hno
    have h24 := (hn h hh).2 l (by rw [hq]; exact List.mem_append.mpr (Or.inr List.mem_cons_self))
    have hC := (h3.1 h hh).2.2.1
    rw [hq, fd_Ch_app] at hC
    have hbh : bh l = fd_hd B (-1) := hC.2.2.1
    have hlc : (nI l).toNatClampNeg = l := nI_clamp (by omega)
    rw [show fd_hd (l :: B) (-1) = nI l from rfl]
    refine br_f (nI_pos (n := l) (by omega)) (br_c (fun z => ⟨fd_n12, ?_⟩) fun z => nm_r (nI_1 _) ⟨vp_in_nI h24 (by decide), nm_r (e' := fd_hd B (-1)) (by rw [hlc]; exact hbh) ?_⟩)
    · rw [fd_rem12 h24]
      exact KF A l B hq z
    · have nx := ih (A ++ [l]) (by rw [hq, List.append_assoc]; rfl) (fun A' l' B' h' hl => by
        rw [List.length_append] at hl
        have hl' : A'.length < A.length + 1 := hl
        by_cases w : A'.length = A.length
        · rw [w]; exact z
        · exact hno A' l' B' h' (by omega))
      rw [List.length_append] at nx
      exact nx
end
theorem i_vc_waits {k : Nat} {u : SX} {v : SY} (I : i_Rel k u v) (hk : k + 5 ≤ 2561) (v1 : Int32) (v2 : Int32) : wpX_waits (fun r => wpY_waits (fun r' => r' = r ∧ i_Rel (k + 5) u v) v v1 v2) u v1 v2 := by
  refine fd_vcQ (fun P u => wpX_waits P u v1 v2) (fun P v => wpY_waits P v v1 v2) I hk fun c q I O => ?_
  by_cases hp : 0 ≤ v1 ∧ v1 ≤ 3
  · obtain ⟨h, hh, rfl⟩ := fd_rng (n := 3) (by decide) hp.1 hp.2
    have hh4 : h < 4 := by omega
    have hlen := fd_len24 I hh4
    have hAl : ∀ (L A B : List Nat) (f : Nat), L = A ++ f :: B → A.length < L.length := by
      intro L A B f e
      rw [e, List.length_append]
      show A.length < A.length + (B.length + 1)
      omega
    have hb : ∀ x, x ∈ (q h).map (· % 12) → x < 12 := by
      intro x hx
      obtain ⟨y, -, rfl⟩ := List.mem_map.mp hx
      exact Nat.mod_lt _ (by decide)
    have hP : ∀ g, g < 12 → (fd_Wa c g h ↔ g ∈ (q h).map (· % 12)) := by
      intro g hg
      rw [fd_iWa I hh4 hg, List.mem_map]
    have ylem : ∀ r : Int32, (∀ A f B, (q h).map (· % 12) = A ++ f :: B → nI A.length = v2 → r = nI f) → ((∀ A f B, (q h).map (· % 12) = A ++ f :: B → ¬ nI A.length = v2) → (v2 = -1 → r = nI ((q h).map (· % 12)).length) ∧ (¬ v2 = -1 → r = -1)) → ∀ (N : Nat) (post : Int32 → Prop), N < 2 ^ 62 → post r → ∀ v, fd_RY N 3 c q v → wpY_waits post v (nI h) v2 := by
      intro r hF hE N post hN K
      refine fd_elL fun m tf ts dn g1 g2 g3 S0 => ?_
      have hs : List.Pairwise (fun x y => tf x < tf y) ((q h).map (· % 12)) := List.pairwise_map.mpr (g2.2.2 h hh4)
      have z := fd_ywt16 (post := post) (dn := dn) I g2 (by omega) S0 hs hb hP (fun A f B e y => by rw [← hF A f B e y]; exact K) (fun e => ⟨fun y => by rw [← (hE e).1 y]; exact K, fun y => by rw [← (hE e).2 y]; exact K⟩) 12 0 rfl (fun A f B e hf => absurd hf (by omega))
      unfold wpY_waits
      dsimp only
      exact fd_ywit (fun _ _ => br_f fd_n10 ⟨13, z⟩) (fun y => absurd hp y)
    have xlem : ∀ r : Int32, (∀ A l B, q h = A ++ l :: B → nI A.length = v2 → r = nI (l % 12)) → ((∀ A l B, q h = A ++ l :: B → ¬ nI A.length = v2) → (v2 = -1 → r = nI (q h).length) ∧ (¬ v2 = -1 → r = -1)) → ∀ (post : Int32 → Prop), post r → ∀ u, fd_RX c q u → wpX_waits post u (nI h) v2 := by
      intro r hF hE post K
      refine fd_elK fun sl hd mn fi th la ro nu bg fr bk bh bf wh pu h1 h2 h3 h4 h5 h6 R0 => ?_
      have z := fd_xwt21 (post := post) (k := v2) (sl := sl) (hd := hd) (mn := mn) (fi := fi) (th := th) (la := la) (ro := ro) (nu := nu) (bg := bg) (pu := pu) (c := c) (fd_iN I) hh4 h3 (fun A l B e y => by rw [← hF A l B e y]; exact K) (fun e => ⟨fun y => by rw [← (hE e).1 y]; exact K, fun y => by rw [← (hE e).2 y]; exact K⟩) (q h) [] rfl (fun A' l B' e hl => absurd hl (Nat.not_lt_zero _))
      unfold wpX_waits
      dsimp only
      refine fd_xout (fun _ _ => br_t rfl ⟨vp_in_nI hh4 (by decide), nm_r (e' := fd_hd (q h) (-1)) (by rw [nI_clamp (by omega)]; exact (h3.1 h hh4).1) ⟨(q h).length + 1, z⟩⟩) (fun y => absurd hp y)
    have hml : ((q h).map (· % 12)).length = (q h).length := List.length_map _
    by_cases hm1 : v2 = -1
    · refine ⟨nI (q h).length, xlem _ (fun A l B e y => ?_) (fun _ => ⟨fun _ => rfl, fun y => absurd hm1 y⟩), ylem _ (fun A f B e y => ?_) (fun _ => ⟨fun _ => by rw [hml], fun y => absurd hm1 y⟩)⟩
      · have := hAl _ A B l e
        exact absurd (y.trans hm1) (fd_nm (by omega))
      · have := hAl _ A B f e
        exact absurd (y.trans hm1) (fd_nm (by omega))
    · by_cases hj : ∃ j, j < (q h).length ∧ v2 = nI j
      · obtain ⟨j, hj, rfl⟩ := hj
        obtain ⟨A, l, B, hq, hA, -⟩ := fd_splitAt hj
        have hM : (q h).map (· % 12) = A.map (· % 12) ++ (l % 12) :: B.map (· % 12) := by rw [hq, List.map_append]; rfl
        have hA' : (A.map (· % 12)).length = j := by rw [List.length_map, hA]
        refine ⟨nI (l % 12), xlem _ (fun A' l' B' e y => ?_) (fun e => absurd (by rw [hA]) (e A l B hq)), ylem _ (fun A' f B' e y => ?_) (fun e => absurd (by rw [hA']) (e _ _ _ hM))⟩
        · have := hAl _ A' B' l' e
          have e2 : A'.length = j := fd_inj y (by omega) (by omega)
          rw [fd_split_inj hq e (by omega)]
        · have := hAl _ A' B' f e
          have e2 : A'.length = j := fd_inj y (by omega) (by omega)
          rw [fd_split_inj hM e (by omega)]
      · refine ⟨-1, xlem _ (fun A l B e y => absurd ⟨A.length, hAl _ A B l e, y.symm⟩ hj) (fun _ => ⟨fun y => absurd y hm1, fun _ => rfl⟩), ylem _ (fun A f B e y => absurd ⟨A.length, by rw [← hml]; exact hAl _ A B f e, y.symm⟩ hj) (fun _ => ⟨fun y => absurd y hm1, fun _ => rfl⟩)⟩
  · refine ⟨-1, fun post K => fd_elK fun sl hd mn fi th la ro nu bg fr bk bh bf wh pu h1 h2 h3 h4 h5 h6 R0 => ?_, fun N post hN K => fd_elL fun m tf ts dn g1 g2 g3 S0 => ?_⟩
    · unfold wpX_waits
      dsimp only
      exact fd_xout (fun a b => absurd ⟨a, b⟩ hp) (fun _ => br_f fd_n10 K)
    · unfold wpY_waits
      dsimp only
      exact fd_ywit (fun a b => absurd ⟨a, b⟩ hp) (fun _ => br_t rfl K)
end
section
/-! the constructors -/
def fd_fil (n : Nat) : Nat → Int32 := fun j => if j < n then -1 else 0
theorem fd_fil_0 : fd_fil 0 = fun _ => 0 := by
  funext j; exact if_neg (by omega)
theorem fd_fil_s {i : Nat} : upd (fd_fil i) i (-1) = fd_fil (i + 1) := by
  funext j
  unfold fd_fil
  by_cases e : j = i
  · rw [e, pk_us, if_pos (by omega)]
  · rw [pk_un e]
    by_cases z : j < i
    · rw [if_pos z, if_pos (by omega)]
    · rw [if_neg z, if_neg (by omega)]
theorem fd_fil_in {n j : Nat} (h : j < n) : fd_fil n j = -1 := if_pos h
def fd_s0c (x : Int32) : Nat → Int32 := upd (upd (fun _ => 0) 0 x) 1 4
def fd_c0 (x : Int32) : Nat → Nat → Int32 := fd_sA (fd_sA (fun _ _ => 0) 0 (fd_s0c x)) 15 (fd_fil 3)
def fd_q0 : Nat → List Nat := fun _ => []
theorem fd_z0i {n : Nat} (h : 0 < n) : fd_In n 0 := ⟨0, h, rfl⟩
theorem fd_I0 {n : Nat} (h1 : 1 ≤ n) (h3 : n ≤ 3) : fd_Inv 1 fd_no (fd_c0 (nI n)) fd_q0 := by
  have ng : ∀ (x : Nat) (k : Nat), ¬ x ∈ fd_q0 k := fun x k z => by cases z
  refine ⟨⟨⟨n, h1, h3, rfl⟩, ⟨4, by decide, by decide, rfl⟩, ⟨0, by decide, rfl⟩⟩, ⟨fun k hk => Or.inl ⟨Or.inl rfl, fd_z0i (by decide)⟩, fun p hp => fd_z0i (by decide)⟩, fun k hk => ⟨⟨0, 0, by decide, by decide, rfl, rfl⟩, Or.inl rfl⟩, fun t ht => fd_z0i (by decide), fun f hf => ?_, ?_, fun f hf z => ?_, fun k hk => Or.inl fun l hl => absurd hl (ng l k)⟩
  · refine fd_FibN (fd_z0i (by decide)) (fd_z0i (by decide)) (fd_z0i (by decide)) ?_ (ng f 4) (ng f 5) (fun k hk => ⟨ng f k, ng (f + 12) k⟩) (fun t ht z => ?_)
    · show ¬ (0 : Int32) = 1 ∧ ¬ (0 : Int32) = 3 ∧ ¬ (0 : Int32) = 4
      decide
    · have z' : (0 : Nat).testBit f = true := z
      rw [Nat.zero_testBit] at z'
      exact absurd z' (by decide)
  · exact ⟨List.nodup_nil, fun f z => absurd z (ng f 4), fun f z => absurd z (ng f 5), List.Pairwise.nil, fun k hk => ⟨List.nodup_nil, fun l z => absurd z (ng l k)⟩⟩
  · have z' : (0 : Int32) = 4 := z
    exact absurd z' (by decide)
theorem fd_O0 {n : Nat} : fd_OnI 12 (fd_c0 (nI n)) := by
  have e : ∀ k, k < 3 → fd_c0 (nI n) 15 k = -1 := fun k hk => fd_fil_in hk
  refine ⟨fun k hk => Or.inl (e k hk), fun k j hk hj _ => Or.inl (e k hk), fun f hf _ => ⟨fun z => ?_, fun z => ?_⟩, fun k hk _ => e k hk⟩
  · have z' : (0 : Int32) = 2 := z
    exact absurd z' (by decide)
  · obtain ⟨k, hk, ek⟩ := z
    rw [e k hk] at ek
    exact absurd ek.symm (fd_nm (by omega))
theorem fd_RX0 {n : Nat} : fd_RX (fd_c0 (nI n)) fd_q0 (-1, 0, 0, nI n, 4, 0, 0, (fun _ => 0), (fun _ => 0), (fun _ => 0), (fun _ => 0), (fun _ => 0), (fun _ => 0), (fun _ => 0), (fun _ => 0), (fun _ => 0), (fun _ => 0), (fun _ => 0), (fun _ => 0), (fun _ => 0), (fun _ => 0), (fun _ => 0), fd_fil 3, (fun _ => 0), (fun _ => 0), (fun _ => 0), (fun _ => 0), (fun _ => 0), (fun _ => 0), fd_fil 4, fd_fil 4, (fun _ => 0), (fun _ => 0), fd_fil 24, (fun _ => 0)) := by
  refine fd_inX ⟨0, by decide, rfl, rfl, fun i hi => absurd hi (Nat.not_lt_zero _)⟩ ⟨rfl, trivial⟩ ⟨fun k hk => ⟨fd_fil_in hk, fd_fil_in hk, trivial, fun l hl => by cases hl⟩, fun l hl _ => fd_fil_in hl⟩ (fun k hk => ⟨0, 0, by decide, by decide, rfl, rfl, fun i hi => absurd hi (Nat.not_lt_zero _)⟩) (fun j hj => rfl) (fun k hk => ⟨rfl, rfl⟩)
theorem fd_RY0 {n : Nat} : fd_RY 3000000 3 (fd_c0 (nI n)) fd_q0 (nI n, 4, 0, 0, 0, 0, (fun _ => 0), (fun _ => 0), (fun _ => 0), (fun _ => 0), (fun _ => 0), (fun _ => 0), (fun _ => 0), (fun _ => 0), (fun _ => 0), (fun _ => 0), (fun _ => 0), (fun _ => 0), (fun _ => 0), (fun _ => 0), (fun _ => 0), fd_fil 3, (fun _ => 0), (fun _ => 0)) := by
  refine fd_inY (m := 0) (tf := fun _ => 0) (by omega) ⟨fun f hf => ⟨rfl, Nat.le_refl _⟩, List.Pairwise.nil, fun k hk => List.Pairwise.nil⟩ (fun k hk h0 => ?_)
  have e : fd_c0 (nI n) 15 k = -1 := fd_fil_in hk
  rw [e] at h0
  exact absurd h0 fd_mnle
theorem fd_x0 {n : Nat} {post : SX → Prop} (K : ∀ u, fd_RX (fd_c0 (nI n)) fd_q0 u → post u) : ∃ n255 : Nat, wX_init_255 post (-1) 0 0 (nI n) 4 0 0 n255 0 ((fun _ => 0)) ((fun _ => 0)) ((fun _ => 0)) ((fun _ => 0)) ((fun _ => 0)) ((fun _ => 0)) ((fun _ => 0)) ((fun _ => 0)) ((fun _ => 0)) ((fun _ => 0)) ((fun _ => 0)) ((fun _ => 0)) ((fun _ => 0)) ((fun _ => 0)) ((fun _ => 0)) ((fun _ => 0)) ((fun _ => 0)) ((fun _ => 0)) ((fun _ => 0)) ((fun _ => 0)) ((fun _ => 0)) ((fun _ => 0)) ((fun _ => 0)) ((fun _ => 0)) ((fun _ => 0)) ((fun _ => 0)) ((fun _ => 0)) ((fun _ => 0)) := by
  have l3 : ∀ d i, i + d = 24 → wX_init_302 post (-1) 0 0 (nI n) 4 0 0 (d + 1) (nI i) ((fun _ => 0)) ((fun _ => 0)) ((fun _ => 0)) ((fun _ => 0)) ((fun _ => 0)) ((fun _ => 0)) ((fun _ => 0)) ((fun _ => 0)) ((fun _ => 0)) ((fun _ => 0)) ((fun _ => 0)) ((fun _ => 0)) ((fun _ => 0)) ((fun _ => 0)) ((fun _ => 0)) (fd_fil 3) ((fun _ => 0)) ((fun _ => 0)) ((fun _ => 0)) ((fun _ => 0)) ((fun _ => 0)) ((fun _ => 0)) (fd_fil 4) (fd_fil 4) ((fun _ => 0)) ((fun _ => 0)) (fd_fil i) ((fun _ => 0)) := by
    intro d
    induction d with
    | zero =>
      intro i hi
      have : i = 24 := by omega
      subst this
      exact br_t (by decide) (K _ fd_RX0)
    | succ d ih =>
      intro i hi
      refine br_f (nI_ge (a := i) (b := 24) (by omega) (by decide)) ⟨vp_in_nI (by omega) (by decide), ?_⟩
      rw [nI_clamp (by omega), fd_bm, fd_fil_s, nI_1]
      exact nm_e (nm_e (ih (i + 1) (by omega)))
  have l2 : ∀ d i, i + d = 4 → wX_init_275 post (-1) 0 0 (nI n) 4 0 0 (d + 1) (nI i) ((fun _ => 0)) ((fun _ => 0)) ((fun _ => 0)) ((fun _ => 0)) ((fun _ => 0)) ((fun _ => 0)) ((fun _ => 0)) ((fun _ => 0)) ((fun _ => 0)) ((fun _ => 0)) ((fun _ => 0)) ((fun _ => 0)) ((fun _ => 0)) ((fun _ => 0)) ((fun _ => 0)) (fd_fil 3) ((fun _ => 0)) ((fun _ => 0)) ((fun _ => 0)) ((fun _ => 0)) ((fun _ => 0)) ((fun _ => 0)) (fd_fil i) (fd_fil i) ((fun _ => 0)) ((fun _ => 0)) (fd_fil 0) ((fun _ => 0)) := by
    intro d
    induction d with
    | zero =>
      intro i hi
      have : i = 4 := by omega
      subst this
      exact br_t (by decide) ⟨25, l3 24 0 rfl⟩
    | succ d ih =>
      intro i hi
      refine br_f (nI_ge (a := i) (b := 4) (by omega) (by decide)) ⟨vp_in_nI (by omega) (by decide), ?_⟩
      rw [nI_clamp (by omega), fd_bm, fd_fil_s, nI_1]
      exact nm_e ⟨vp_in_nI (by omega) (by decide), nm_e (nm_e (ih (i + 1) (by omega)))⟩
  have l1 : ∀ d i, i + d = 3 → wX_init_255 post (-1) 0 0 (nI n) 4 0 0 (d + 1) (nI i) ((fun _ => 0)) ((fun _ => 0)) ((fun _ => 0)) ((fun _ => 0)) ((fun _ => 0)) ((fun _ => 0)) ((fun _ => 0)) ((fun _ => 0)) ((fun _ => 0)) ((fun _ => 0)) ((fun _ => 0)) ((fun _ => 0)) ((fun _ => 0)) ((fun _ => 0)) ((fun _ => 0)) (fd_fil i) ((fun _ => 0)) ((fun _ => 0)) ((fun _ => 0)) ((fun _ => 0)) ((fun _ => 0)) ((fun _ => 0)) (fd_fil 0) (fd_fil 0) ((fun _ => 0)) ((fun _ => 0)) (fd_fil 0) ((fun _ => 0)) := by
    intro d
    induction d with
    | zero =>
      intro i hi
      have : i = 3 := by omega
      subst this
      exact br_t (by decide) ⟨5, l2 4 0 rfl⟩
    | succ d ih =>
      intro i hi
      refine br_f (nI_ge (a := i) (b := 3) (by omega) (by decide)) ⟨vp_in_nI (by omega) (by decide), ?_⟩
      rw [nI_clamp (by omega), fd_bm, fd_fil_s, nI_1]
      exact nm_e (nm_e (ih (i + 1) (by omega)))
  have z := l1 3 0 rfl
  rw [fd_fil_0] at z
  exact ⟨4, z⟩
theorem fd_y0i {n : Nat} {post : SY → Prop} (K : ∀ v, fd_RY 3000000 3 (fd_c0 (nI n)) fd_q0 v → post v) : ∃ n173 : Nat, wY_init_173 post (nI n) 4 0 0 0 0 n173 0 ((fun _ => 0)) ((fun _ => 0)) ((fun _ => 0)) ((fun _ => 0)) ((fun _ => 0)) ((fun _ => 0)) ((fun _ => 0)) ((fun _ => 0)) ((fun _ => 0)) ((fun _ => 0)) ((fun _ => 0)) ((fun _ => 0)) ((fun _ => 0)) ((fun _ => 0)) ((fun _ => 0)) ((fun _ => 0)) ((fun _ => 0)) ((fun _ => 0)) := by
  have l1 : ∀ d i, i + d = 3 → wY_init_173 post (nI n) 4 0 0 0 0 (d + 1) (nI i) ((fun _ => 0)) ((fun _ => 0)) ((fun _ => 0)) ((fun _ => 0)) ((fun _ => 0)) ((fun _ => 0)) ((fun _ => 0)) ((fun _ => 0)) ((fun _ => 0)) ((fun _ => 0)) ((fun _ => 0)) ((fun _ => 0)) ((fun _ => 0)) ((fun _ => 0)) ((fun _ => 0)) (fd_fil i) ((fun _ => 0)) ((fun _ => 0)) := by
    intro d
    induction d with
    | zero =>
      intro i hi
      have : i = 3 := by omega
      subst this
      exact br_t (by decide) (K _ fd_RY0)
    | succ d ih =>
      intro i hi
      refine br_f (nI_ge (a := i) (b := 3) (by omega) (by decide)) ⟨vp_in_nI (by omega) (by decide), ?_⟩
      rw [nI_clamp (by omega), fd_fil_s, nI_1]
      exact nm_e (nm_e (ih (i + 1) (by omega)))
  have z := l1 3 0 rfl
  rw [fd_fil_0] at z
  exact ⟨4, z⟩
theorem i_vc0 (k0 : Int32) : wpX_init (fun u => wpY_init (fun v => i_Rel 1 u v) k0) k0 := by
  have main : ∀ n, 1 ≤ n → n ≤ 3 → ∀ u, fd_RX (fd_c0 (nI n)) fd_q0 u → ∀ v, fd_RY 3000000 3 (fd_c0 (nI n)) fd_q0 v → i_Rel 1 u v := fun n h1 h3 u R v S => ⟨_, _, fd_I0 h1 h3, fd_O0, R, S⟩
  by_cases h1 : 1 ≤ k0
  · by_cases h3 : k0 ≤ 3
    · obtain ⟨n, hn, rfl⟩ := fd_rng (n := 3) (by decide) (Int32.le_trans (by decide) h1) h3
      have hn1 : 1 ≤ n := (nI_leI (a := 1) (by decide) (by omega)).mp h1
      exact br_t h1 (br_t h3 (fd_x0 fun u R => br_t h1 (br_t h3 (fd_y0i fun v S => main n hn1 hn u R v S))))
    · exact br_t h1 (br_f h3 (fd_x0 (n := 3) fun u R => br_t h1 (br_f h3 (fd_y0i (n := 3) fun v S => main 3 (by decide) (by decide) u R v S))))
  · exact br_f h1 (fd_x0 (n := 1) fun u R => br_f h1 (fd_y0i (n := 1) fun v S => main 1 (by decide) (by decide) u R v S))
end
