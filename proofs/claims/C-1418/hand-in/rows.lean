section
/-! pure rows to paste: stores, nI and lN arithmetic, masks, shifts, narrowing, branches by naturals (pk_le, pk_lt, pk_eq), loops (lp1 .. lp16: the measure of the state; rp1 ..: recursion), negatives. Take what you need -/
theorem pk_us {f : Nat → Int32} {k : Nat} {x : Int32} : upd f k x k = x := if_pos rfl
theorem pk_un {f : Nat → Int32} {k j : Nat} {x : Int32} (h : j ≠ k) : upd f k x j = f j := if_neg h
theorem pk_uLs {f : Nat → Int64} {k : Nat} {x : Int64} : vp_updL f k x k = x := if_pos rfl
theorem pk_uLn {f : Nat → Int64} {k j : Nat} {x : Int64} (h : j ≠ k) : vp_updL f k x j = f j := if_neg h
theorem pk_sub {a b : Nat} (h : b ≤ a) : nI a - nI b = nI (a - b) := by
  obtain ⟨c, rfl⟩ : ∃ c, a = c + b := ⟨a - b, by omega⟩
  rw [← nI_add, Int32.add_sub_cancel, Nat.add_sub_cancel]
theorem pk_m1 (n : Nat) : nI (n + 1) + (-1) = nI n := by
  rw [← nI_1, Int32.add_assoc, show (1 : Int32) + (-1) = 0 from rfl, Int32.add_zero]
theorem pk_mul (a b : Nat) : nI a * nI b = nI (a * b) := (Int32.ofNat_mul a b).symm
theorem pk_div {a d : Nat} (ha : a < 2 ^ 31) (h0 : 0 < d) (hd : d < 2 ^ 31) : nI a / nI d = nI (a / d) := by
  apply Int32.toInt_inj.mp
  rw [lg_idiv_nonneg (by rw [nI_toInt ha]; omega) (by rw [nI_toInt hd]; omega), nI_toInt ha, nI_toInt hd, nI_toInt (Nat.lt_of_le_of_lt (Nat.div_le_self a d) ha)]
  first | rfl | exact (Int.natCast_ediv _ _).symm
theorem pk_rem {a d : Nat} (ha : a < 2 ^ 31) (h0 : 0 < d) (hd : d < 2 ^ 31) : nI a - nI a / nI d * nI d = nI (a % d) := by
  rw [pk_div ha h0 hd, pk_mul, pk_sub (Nat.div_mul_le_self a d)]
  exact congrArg nI (by have := Nat.div_add_mod' a d; omega)
theorem pk_sub_toInt {a b : Nat} (ha : a < 2 ^ 30) (hb : b < 2 ^ 30) : (nI a - nI b).toInt = (a : Int) - b := by
  rw [Int32.toInt_sub, nI_toInt (by omega), nI_toInt (by omega)]
  exact Int.bmod_eq_of_le (by omega) (by omega)
theorem pk_sneg {a b : Nat} (hb : b < 2 ^ 30) (h : a < b) : nI a - nI b < 0 := by
  rw [Int32.lt_iff_toInt_lt, pk_sub_toInt (by omega) hb, show (0 : Int32).toInt = 0 from by decide]
  omega
theorem pk_ix (x : Int32) {n : Nat} (hn : n < 2 ^ 31) : x < 0 ∨ nI n ≤ x ∨ ∃ j : Nat, j < n ∧ x = nI j := by
  by_cases h : x < 0
  · exact Or.inl h
  · obtain ⟨j, hj, rfl⟩ := nI_of h
    by_cases h2 : j < n
    · exact Or.inr (Or.inr ⟨j, h2, rfl⟩)
    · exact Or.inr (Or.inl (nI_le (by omega) hj))
theorem pk_le {x y : Int32} {A B : Prop} (a b : Nat) (f : a ≤ b → A) (g : b < a → B) (hx : x = nI a := by rfl) (hy : y = nI b := by rfl) (ha : a < 2 ^ 31 := by omega) (hb : b < 2 ^ 31 := by omega) : (x ≤ y → A) ∧ (¬ x ≤ y → B) := by
  subst hx hy
  rw [nI_leI ha hb]
  exact ⟨f, fun z => g (by omega)⟩
theorem pk_lt {x y : Int32} {A B : Prop} (a b : Nat) (f : a < b → A) (g : b ≤ a → B) (hx : x = nI a := by rfl) (hy : y = nI b := by rfl) (ha : a < 2 ^ 31 := by omega) (hb : b < 2 ^ 31 := by omega) : (x < y → A) ∧ (¬ x < y → B) := by
  subst hx hy
  rw [nI_ltI ha hb]
  exact ⟨f, fun z => g (by omega)⟩
theorem pk_eq {x y : Int32} {A B : Prop} (a b : Nat) (f : a = b → A) (g : a ≠ b → B) (hx : x = nI a := by rfl) (hy : y = nI b := by rfl) (ha : a < 2 ^ 31 := by omega) (hb : b < 2 ^ 31 := by omega) : (x = y → A) ∧ (¬ x = y → B) := by
  subst hx hy
  rw [nI_eq ha hb]
  exact ⟨f, g⟩
theorem pk_in {x : Int32} (n N : Nat) (h : n < N) (hx : x = nI n := by rfl) (hN : N < 2 ^ 31 := by omega) : vp_in x N := by
  subst hx
  exact vp_in_nI h hN
theorem pk_cl {x : Int32} (n : Nat) (hx : x = nI n := by rfl) (h : n < 2 ^ 31 := by omega) : x.toNatClampNeg = n := by
  subst hx
  exact nI_clamp h
theorem pk_tn {n : Nat} (h : n < 2 ^ 32) : (nI n).toBitVec.toNat = n := Nat.mod_eq_of_lt h
theorem pk_and (x : Int32) {m : Int32} (k : Nat) (hm : m.toBitVec.toNat = 2 ^ k - 1) : x &&& m = nI (x.toBitVec.toNat % 2 ^ k) := by
  apply Int32.toBitVec_inj.mp
  apply BitVec.eq_of_toNat_eq
  rw [Int32.toBitVec_and, BitVec.toNat_and, hm, Nat.and_two_pow_sub_one_eq_mod]
  show _ = (BitVec.ofNat 32 _).toNat
  rw [BitVec.toNat_ofNat]
  exact (Nat.mod_eq_of_lt (Nat.lt_of_le_of_lt (Nat.mod_le _ _) x.toBitVec.isLt)).symm
theorem pk_andN {n : Nat} (h : n < 2 ^ 32) {m : Int32} (k : Nat) (hm : m.toBitVec.toNat = 2 ^ k - 1) : nI n &&& m = nI (n % 2 ^ k) := by
  rw [pk_and _ k hm, pk_tn h]
theorem pk_andE (x : Int32) {m : Int32} (k : Nat) (hm : m.toBitVec.toNat = 2 ^ k - 1) : ∃ j : Nat, j < 2 ^ k ∧ x &&& m = nI j := ⟨_, Nat.mod_lt _ (Nat.two_pow_pos k), pk_and x k hm⟩
theorem pk_andIn (x : Int32) {m : Int32} (k : Nat) (hm : m.toBitVec.toNat = 2 ^ k - 1) (hk : k ≤ 30) : vp_in (x &&& m) (2 ^ k) := by
  obtain ⟨j, hj, e⟩ := pk_andE x k hm
  rw [e]
  exact vp_in_nI hj (Nat.lt_of_le_of_lt (Nat.pow_le_pow_right (by decide) hk) (by decide))
theorem pk_shl (a s : Int32) (k : Nat) (hs : (s.toBitVec.smod 32).toNat = k) : (a <<< s).toBitVec.toNat = a.toBitVec.toNat * 2 ^ k % 2 ^ 32 := by
  show (a.toBitVec <<< (s.toBitVec.smod 32).toNat).toNat = _
  rw [hs, BitVec.toNat_shiftLeft, Nat.shiftLeft_eq]
theorem pk_shlN {n : Nat} (s : Int32) (k : Nat) (hs : (s.toBitVec.smod 32).toNat = k) (h : n * 2 ^ k < 2 ^ 32) : nI n <<< s = nI (n * 2 ^ k) := by
  apply Int32.toBitVec_inj.mp
  apply BitVec.eq_of_toNat_eq
  have hn : n < 2 ^ 32 := Nat.lt_of_le_of_lt (Nat.le_mul_of_pos_right n (Nat.two_pow_pos k)) h
  rw [pk_shl _ _ k hs, pk_tn hn, pk_tn h, Nat.mod_eq_of_lt h]
theorem pk_shr (a s : Int32) (k : Nat) (hs : (s.toBitVec.smod 32).toNat = k) : (a >>> s).toInt = a.toInt >>> k := by
  show (a.toBitVec.sshiftRight (s.toBitVec.smod 32).toNat).toInt = _
  rw [hs, BitVec.toInt_sshiftRight]
  rfl
theorem pk_shrN {n : Nat} (h : n < 2 ^ 31) (s : Int32) (k : Nat) (hs : (s.toBitVec.smod 32).toNat = k) : nI n >>> s = nI (n / 2 ^ k) := by
  apply Int32.toInt_inj.mp
  have h2 : n / 2 ^ k ≤ n := Nat.div_le_self _ _
  rw [pk_shr _ _ k hs, nI_toInt h, nI_toInt (by omega), Int.shiftRight_eq_div_pow]
  rfl
theorem pk_ushr (x s : Int32) (k : Nat) (hs : ((s.toUInt32 &&& Int32.toUInt32 31).toBitVec % 32).toNat = k) : (x.toUInt32 >>> (s.toUInt32 &&& Int32.toUInt32 31)).toInt32.toBitVec.toNat = x.toBitVec.toNat / 2 ^ k := by
  have e : (x.toUInt32 >>> (s.toUInt32 &&& Int32.toUInt32 31)).toInt32.toBitVec = x.toBitVec >>> k := by
    rw [← hs]
    exact UInt32.toBitVec_shiftRight _ _
  rw [e, BitVec.toNat_ushiftRight, Nat.shiftRight_eq_div_pow]
theorem pk_ushrN {n : Nat} (hn : n < 2 ^ 32) (s : Int32) (k : Nat) (hs : ((s.toUInt32 &&& Int32.toUInt32 31).toBitVec % 32).toNat = k) : ((nI n).toUInt32 >>> (s.toUInt32 &&& Int32.toUInt32 31)).toInt32 = nI (n / 2 ^ k) := by
  apply Int32.toBitVec_inj.mp
  apply BitVec.eq_of_toNat_eq
  rw [pk_ushr _ s k hs, pk_tn hn, pk_tn (Nat.lt_of_le_of_lt (Nat.div_le_self _ _) hn)]
theorem pk_nb (z : Int32) : narrow .byte (.int z.toInt8.toInt32) = .int z.toInt8.toInt32 := congrArg Value.int (by simp)
theorem pk_ns (z : Int32) : narrow .short (.int z.toInt16.toInt32) = .int z.toInt16.toInt32 := congrArg Value.int (by simp)
theorem pk_fb (r : Int32) : fits .byte (.int r.toInt8.toInt32) = true := by
  have ⟨a, b⟩ := lg_i2b_range r
  have h1 : (-128 : Int32).toInt = -128 := by decide
  have h2 : (127 : Int32).toInt = 127 := by decide
  simp only [fits, Bool.and_eq_true, decide_eq_true_eq, Int32.le_iff_toInt_le, h1, h2]
  omega
theorem pk_fs (r : Int32) : fits .short (.int r.toInt16.toInt32) = true := by
  have ⟨a, b⟩ := lg_i2s_range r
  have h1 : (-32768 : Int32).toInt = -32768 := by decide
  have h2 : (32767 : Int32).toInt = 32767 := by decide
  simp only [fits, Bool.and_eq_true, decide_eq_true_eq, Int32.le_iff_toInt_le, h1, h2]
  omega
theorem pk_charN {q : Nat} (hq : q < 65536) : narrow .char (.int (nI q)) = .int (nI q) ∧ fits .char (.int (nI q)) = true := by
  constructor
  · have e : (nI q).toUInt32.toUInt16.toUInt32.toInt32 = nI q := by
      apply Int32.toBitVec_inj.mp
      apply BitVec.eq_of_toNat_eq
      show (nI q).toUInt32.toUInt16.toUInt32.toNat = q % 2 ^ 32
      rw [UInt16.toNat_toUInt32, UInt32.toNat_toUInt16, show (nI q).toUInt32.toNat = q % 2 ^ 32 from rfl]
      omega
    exact congrArg Value.int e
  · have a : (0 : Int32) ≤ nI q := nI_pos' (by omega)
    have b : nI q ≤ 65535 := nI_le (b := 65535) (by omega) (by decide)
    show (decide ((0 : Int32) ≤ nI q) && decide (nI q ≤ 65535)) = true
    rw [decide_eq_true a, decide_eq_true b]
    rfl
theorem pk_char (x : Int32) : (x.toUInt32 % 65536).toInt32 = nI (x.toBitVec.toNat % 65536) := by
  apply Int32.toBitVec_inj.mp
  apply BitVec.eq_of_toNat_eq
  rw [pk_tn (by omega)]
  show (x.toUInt32 % 65536).toNat = _
  rw [UInt32.toNat_mod]
  rfl
theorem pk_nc (x : Int32) : narrow .char (.int (x.toUInt32 % 65536).toInt32) = .int (x.toUInt32 % 65536).toInt32 := by
  rw [pk_char]
  exact (pk_charN (Nat.mod_lt _ (by decide))).1
theorem pk_fc (x : Int32) : fits .char (.int (x.toUInt32 % 65536).toInt32) = true := by
  rw [pk_char]
  exact (pk_charN (Nat.mod_lt _ (by decide))).2
theorem pk_vb (z : Int32) : vp_nar .byte z.toInt8.toInt32 = z.toInt8.toInt32 := by rw [vp_nar_byte]; simp
theorem pk_vs (z : Int32) : vp_nar .short z.toInt16.toInt32 = z.toInt16.toInt32 := by rw [vp_nar_short]; simp
theorem pk_vc (z : Int32) : vp_nar .char (z.toUInt32 % 65536).toInt32 = (z.toUInt32 % 65536).toInt32 := Value.int.inj (pk_nc z)
theorem pk_lT {n : Nat} (h : n < 2 ^ 63) : (lN n).toInt = (n : Int) := lg_ofNat_toInt h
theorem pk_lLT {a b : Nat} (ha : a < 2 ^ 63) (hb : b < 2 ^ 63) : lN a < lN b ↔ a < b := by
  rw [Int64.lt_iff_toInt_lt, pk_lT ha, pk_lT hb]; omega
theorem pk_lLE {a b : Nat} (ha : a < 2 ^ 63) (hb : b < 2 ^ 63) : lN a ≤ lN b ↔ a ≤ b := by
  rw [Int64.le_iff_toInt_le, pk_lT ha, pk_lT hb]; omega
theorem pk_lEQ {a b : Nat} (ha : a < 2 ^ 63) (hb : b < 2 ^ 63) : lN a = lN b ↔ a = b := by
  rw [← Int64.toInt_inj, pk_lT ha, pk_lT hb]; omega
theorem pk_lOf {x : Int64} (h : ¬ x < 0) : ∃ k : Nat, k < 2 ^ 63 ∧ x = lN k := by
  rw [Int64.lt_iff_toInt_lt] at h
  have h0 : (0 : Int64).toInt = 0 := by decide
  have hx := Int64.toInt_lt x
  refine ⟨x.toInt.toNat, by omega, Int64.toInt_inj.mp ?_⟩
  rw [pk_lT (by omega)]
  omega
theorem pk_lDiv {a b : Nat} (ha : a < 2 ^ 63) (h0 : 0 < b) (hb : b < 2 ^ 63) : lN a / lN b = lN (a / b) := by
  apply Int64.toInt_inj.mp
  rw [lg_ldiv_nonneg (by rw [pk_lT ha]; omega) (by rw [pk_lT hb]; omega), pk_lT ha, pk_lT hb, pk_lT (Nat.lt_of_le_of_lt (Nat.div_le_self a b) ha)]
  rfl
theorem pk_lRem {a b : Nat} (ha : a < 2 ^ 63) (h0 : 0 < b) (hb : b < 2 ^ 63) : lN a - lN a / lN b * lN b = lN (a % b) := by
  rw [pk_lDiv ha h0 hb, lN_mul, lN_sub (Nat.div_mul_le_self a b)]
  exact congrArg lN (by have := Nat.div_add_mod' a b; omega)
theorem pk_loop {σ : Type} (W : Nat → Nat → σ → Prop) (I : Nat → σ → Prop) (e i0 : Nat) (s : σ) (hi : i0 ≤ e) (h0 : I i0 s) (hx : ∀ n s, I e s → W (n + 1) e s)
    (hs : ∀ n i s, i < e → I i s → (∀ s', I (i + 1) s' → W n (i + 1) s') → W (n + 1) i s) : ∃ n, W n i0 s :=
  ⟨e + 1, loop_i W I e hx hs (e + 1) i0 s hi (by omega) h0⟩
theorem pk_loopD {σ : Type} (W : Nat → Nat → σ → Prop) (I : Nat → σ → Prop) (hx : ∀ n s, I 0 s → W (n + 1) 0 s)
    (hs : ∀ n i s, I (i + 1) s → (∀ s', I i s' → W n i s') → W (n + 1) (i + 1) s) : ∀ (e : Nat) (s : σ), I e s → W (e + 1) e s := by
  intro e
  induction e with
  | zero => exact fun s h => hx 0 s h
  | succ e ih => exact fun s h => hs (e + 1) e s h (fun s' h' => ih s' h')
theorem lp1 {A1 : Type} (W : Nat → A1 → Prop) (I : A1 → Prop) (μ : A1 → Nat) (hs : ∀ (n : Nat) (a1 : A1), I a1 → (∀ (b1 : A1), I b1 → μ b1 < μ a1 → W n b1) → W (n + 1) a1) (a1 : A1) (h : I a1) : ∃ n, W n a1 :=
  loop_m (σ := A1) (fun n s => W n s) (fun s => I s) (fun s => μ s) (fun n s hI hk => hs n s hI (fun b1 h9 hm => hk b1 h9 hm)) a1 h
theorem lp2 {A1 A2 : Type} (W : Nat → A1 → A2 → Prop) (I : A1 → A2 → Prop) (μ : A1 → A2 → Nat) (hs : ∀ (n : Nat) (a1 : A1) (a2 : A2), I a1 a2 → (∀ (b1 : A1) (b2 : A2), I b1 b2 → μ b1 b2 < μ a1 a2 → W n b1 b2) → W (n + 1) a1 a2) (a1 : A1) (a2 : A2) (h : I a1 a2) : ∃ n, W n a1 a2 :=
  loop_m (σ := A1 × A2) (fun n s => W n s.1 s.2) (fun s => I s.1 s.2) (fun s => μ s.1 s.2) (fun n s hI hk => hs n s.1 s.2 hI (fun b1 b2 h9 hm => hk (b1, b2) h9 hm)) (a1, a2) h
theorem lp3 {A1 A2 A3 : Type} (W : Nat → A1 → A2 → A3 → Prop) (I : A1 → A2 → A3 → Prop) (μ : A1 → A2 → A3 → Nat) (hs : ∀ (n : Nat) (a1 : A1) (a2 : A2) (a3 : A3), I a1 a2 a3 → (∀ (b1 : A1) (b2 : A2) (b3 : A3), I b1 b2 b3 → μ b1 b2 b3 < μ a1 a2 a3 → W n b1 b2 b3) → W (n + 1) a1 a2 a3) (a1 : A1) (a2 : A2) (a3 : A3) (h : I a1 a2 a3) : ∃ n, W n a1 a2 a3 :=
  loop_m (σ := A1 × A2 × A3) (fun n s => W n s.1 s.2.1 s.2.2) (fun s => I s.1 s.2.1 s.2.2) (fun s => μ s.1 s.2.1 s.2.2) (fun n s hI hk => hs n s.1 s.2.1 s.2.2 hI (fun b1 b2 b3 h9 hm => hk (b1, b2, b3) h9 hm)) (a1, a2, a3) h
theorem lp4 {A1 A2 A3 A4 : Type} (W : Nat → A1 → A2 → A3 → A4 → Prop) (I : A1 → A2 → A3 → A4 → Prop) (μ : A1 → A2 → A3 → A4 → Nat) (hs : ∀ (n : Nat) (a1 : A1) (a2 : A2) (a3 : A3) (a4 : A4), I a1 a2 a3 a4 → (∀ (b1 : A1) (b2 : A2) (b3 : A3) (b4 : A4), I b1 b2 b3 b4 → μ b1 b2 b3 b4 < μ a1 a2 a3 a4 → W n b1 b2 b3 b4) → W (n + 1) a1 a2 a3 a4) (a1 : A1) (a2 : A2) (a3 : A3) (a4 : A4) (h : I a1 a2 a3 a4) : ∃ n, W n a1 a2 a3 a4 :=
  loop_m (σ := A1 × A2 × A3 × A4) (fun n s => W n s.1 s.2.1 s.2.2.1 s.2.2.2) (fun s => I s.1 s.2.1 s.2.2.1 s.2.2.2) (fun s => μ s.1 s.2.1 s.2.2.1 s.2.2.2) (fun n s hI hk => hs n s.1 s.2.1 s.2.2.1 s.2.2.2 hI (fun b1 b2 b3 b4 h9 hm => hk (b1, b2, b3, b4) h9 hm)) (a1, a2, a3, a4) h
theorem lp5 {A1 A2 A3 A4 A5 : Type} (W : Nat → A1 → A2 → A3 → A4 → A5 → Prop) (I : A1 → A2 → A3 → A4 → A5 → Prop) (μ : A1 → A2 → A3 → A4 → A5 → Nat) (hs : ∀ (n : Nat) (a1 : A1) (a2 : A2) (a3 : A3) (a4 : A4) (a5 : A5), I a1 a2 a3 a4 a5 → (∀ (b1 : A1) (b2 : A2) (b3 : A3) (b4 : A4) (b5 : A5), I b1 b2 b3 b4 b5 → μ b1 b2 b3 b4 b5 < μ a1 a2 a3 a4 a5 → W n b1 b2 b3 b4 b5) → W (n + 1) a1 a2 a3 a4 a5) (a1 : A1) (a2 : A2) (a3 : A3) (a4 : A4) (a5 : A5) (h : I a1 a2 a3 a4 a5) : ∃ n, W n a1 a2 a3 a4 a5 :=
  loop_m (σ := A1 × A2 × A3 × A4 × A5) (fun n s => W n s.1 s.2.1 s.2.2.1 s.2.2.2.1 s.2.2.2.2) (fun s => I s.1 s.2.1 s.2.2.1 s.2.2.2.1 s.2.2.2.2) (fun s => μ s.1 s.2.1 s.2.2.1 s.2.2.2.1 s.2.2.2.2) (fun n s hI hk => hs n s.1 s.2.1 s.2.2.1 s.2.2.2.1 s.2.2.2.2 hI (fun b1 b2 b3 b4 b5 h9 hm => hk (b1, b2, b3, b4, b5) h9 hm)) (a1, a2, a3, a4, a5) h
theorem lp6 {A1 A2 A3 A4 A5 A6 : Type} (W : Nat → A1 → A2 → A3 → A4 → A5 → A6 → Prop) (I : A1 → A2 → A3 → A4 → A5 → A6 → Prop) (μ : A1 → A2 → A3 → A4 → A5 → A6 → Nat) (hs : ∀ (n : Nat) (a1 : A1) (a2 : A2) (a3 : A3) (a4 : A4) (a5 : A5) (a6 : A6), I a1 a2 a3 a4 a5 a6 → (∀ (b1 : A1) (b2 : A2) (b3 : A3) (b4 : A4) (b5 : A5) (b6 : A6), I b1 b2 b3 b4 b5 b6 → μ b1 b2 b3 b4 b5 b6 < μ a1 a2 a3 a4 a5 a6 → W n b1 b2 b3 b4 b5 b6) → W (n + 1) a1 a2 a3 a4 a5 a6) (a1 : A1) (a2 : A2) (a3 : A3) (a4 : A4) (a5 : A5) (a6 : A6) (h : I a1 a2 a3 a4 a5 a6) : ∃ n, W n a1 a2 a3 a4 a5 a6 :=
  loop_m (σ := A1 × A2 × A3 × A4 × A5 × A6) (fun n s => W n s.1 s.2.1 s.2.2.1 s.2.2.2.1 s.2.2.2.2.1 s.2.2.2.2.2) (fun s => I s.1 s.2.1 s.2.2.1 s.2.2.2.1 s.2.2.2.2.1 s.2.2.2.2.2) (fun s => μ s.1 s.2.1 s.2.2.1 s.2.2.2.1 s.2.2.2.2.1 s.2.2.2.2.2) (fun n s hI hk => hs n s.1 s.2.1 s.2.2.1 s.2.2.2.1 s.2.2.2.2.1 s.2.2.2.2.2 hI (fun b1 b2 b3 b4 b5 b6 h9 hm => hk (b1, b2, b3, b4, b5, b6) h9 hm)) (a1, a2, a3, a4, a5, a6) h
theorem lp7 {A1 A2 A3 A4 A5 A6 A7 : Type} (W : Nat → A1 → A2 → A3 → A4 → A5 → A6 → A7 → Prop) (I : A1 → A2 → A3 → A4 → A5 → A6 → A7 → Prop) (μ : A1 → A2 → A3 → A4 → A5 → A6 → A7 → Nat) (hs : ∀ (n : Nat) (a1 : A1) (a2 : A2) (a3 : A3) (a4 : A4) (a5 : A5) (a6 : A6) (a7 : A7), I a1 a2 a3 a4 a5 a6 a7 → (∀ (b1 : A1) (b2 : A2) (b3 : A3) (b4 : A4) (b5 : A5) (b6 : A6) (b7 : A7), I b1 b2 b3 b4 b5 b6 b7 → μ b1 b2 b3 b4 b5 b6 b7 < μ a1 a2 a3 a4 a5 a6 a7 → W n b1 b2 b3 b4 b5 b6 b7) → W (n + 1) a1 a2 a3 a4 a5 a6 a7) (a1 : A1) (a2 : A2) (a3 : A3) (a4 : A4) (a5 : A5) (a6 : A6) (a7 : A7) (h : I a1 a2 a3 a4 a5 a6 a7) : ∃ n, W n a1 a2 a3 a4 a5 a6 a7 :=
  loop_m (σ := A1 × A2 × A3 × A4 × A5 × A6 × A7) (fun n s => W n s.1 s.2.1 s.2.2.1 s.2.2.2.1 s.2.2.2.2.1 s.2.2.2.2.2.1 s.2.2.2.2.2.2) (fun s => I s.1 s.2.1 s.2.2.1 s.2.2.2.1 s.2.2.2.2.1 s.2.2.2.2.2.1 s.2.2.2.2.2.2) (fun s => μ s.1 s.2.1 s.2.2.1 s.2.2.2.1 s.2.2.2.2.1 s.2.2.2.2.2.1 s.2.2.2.2.2.2) (fun n s hI hk => hs n s.1 s.2.1 s.2.2.1 s.2.2.2.1 s.2.2.2.2.1 s.2.2.2.2.2.1 s.2.2.2.2.2.2 hI (fun b1 b2 b3 b4 b5 b6 b7 h9 hm => hk (b1, b2, b3, b4, b5, b6, b7) h9 hm)) (a1, a2, a3, a4, a5, a6, a7) h
theorem lp8 {A1 A2 A3 A4 A5 A6 A7 A8 : Type} (W : Nat → A1 → A2 → A3 → A4 → A5 → A6 → A7 → A8 → Prop) (I : A1 → A2 → A3 → A4 → A5 → A6 → A7 → A8 → Prop) (μ : A1 → A2 → A3 → A4 → A5 → A6 → A7 → A8 → Nat) (hs : ∀ (n : Nat) (a1 : A1) (a2 : A2) (a3 : A3) (a4 : A4) (a5 : A5) (a6 : A6) (a7 : A7) (a8 : A8), I a1 a2 a3 a4 a5 a6 a7 a8 → (∀ (b1 : A1) (b2 : A2) (b3 : A3) (b4 : A4) (b5 : A5) (b6 : A6) (b7 : A7) (b8 : A8), I b1 b2 b3 b4 b5 b6 b7 b8 → μ b1 b2 b3 b4 b5 b6 b7 b8 < μ a1 a2 a3 a4 a5 a6 a7 a8 → W n b1 b2 b3 b4 b5 b6 b7 b8) → W (n + 1) a1 a2 a3 a4 a5 a6 a7 a8) (a1 : A1) (a2 : A2) (a3 : A3) (a4 : A4) (a5 : A5) (a6 : A6) (a7 : A7) (a8 : A8) (h : I a1 a2 a3 a4 a5 a6 a7 a8) : ∃ n, W n a1 a2 a3 a4 a5 a6 a7 a8 :=
  loop_m (σ := A1 × A2 × A3 × A4 × A5 × A6 × A7 × A8) (fun n s => W n s.1 s.2.1 s.2.2.1 s.2.2.2.1 s.2.2.2.2.1 s.2.2.2.2.2.1 s.2.2.2.2.2.2.1 s.2.2.2.2.2.2.2) (fun s => I s.1 s.2.1 s.2.2.1 s.2.2.2.1 s.2.2.2.2.1 s.2.2.2.2.2.1 s.2.2.2.2.2.2.1 s.2.2.2.2.2.2.2) (fun s => μ s.1 s.2.1 s.2.2.1 s.2.2.2.1 s.2.2.2.2.1 s.2.2.2.2.2.1 s.2.2.2.2.2.2.1 s.2.2.2.2.2.2.2) (fun n s hI hk => hs n s.1 s.2.1 s.2.2.1 s.2.2.2.1 s.2.2.2.2.1 s.2.2.2.2.2.1 s.2.2.2.2.2.2.1 s.2.2.2.2.2.2.2 hI (fun b1 b2 b3 b4 b5 b6 b7 b8 h9 hm => hk (b1, b2, b3, b4, b5, b6, b7, b8) h9 hm)) (a1, a2, a3, a4, a5, a6, a7, a8) h
theorem lp9 {A1 A2 A3 A4 A5 A6 A7 A8 A9 : Type} (W : Nat → A1 → A2 → A3 → A4 → A5 → A6 → A7 → A8 → A9 → Prop) (I : A1 → A2 → A3 → A4 → A5 → A6 → A7 → A8 → A9 → Prop) (μ : A1 → A2 → A3 → A4 → A5 → A6 → A7 → A8 → A9 → Nat) (hs : ∀ (n : Nat) (a1 : A1) (a2 : A2) (a3 : A3) (a4 : A4) (a5 : A5) (a6 : A6) (a7 : A7) (a8 : A8) (a9 : A9), I a1 a2 a3 a4 a5 a6 a7 a8 a9 → (∀ (b1 : A1) (b2 : A2) (b3 : A3) (b4 : A4) (b5 : A5) (b6 : A6) (b7 : A7) (b8 : A8) (b9 : A9), I b1 b2 b3 b4 b5 b6 b7 b8 b9 → μ b1 b2 b3 b4 b5 b6 b7 b8 b9 < μ a1 a2 a3 a4 a5 a6 a7 a8 a9 → W n b1 b2 b3 b4 b5 b6 b7 b8 b9) → W (n + 1) a1 a2 a3 a4 a5 a6 a7 a8 a9) (a1 : A1) (a2 : A2) (a3 : A3) (a4 : A4) (a5 : A5) (a6 : A6) (a7 : A7) (a8 : A8) (a9 : A9) (h : I a1 a2 a3 a4 a5 a6 a7 a8 a9) : ∃ n, W n a1 a2 a3 a4 a5 a6 a7 a8 a9 :=
  loop_m (σ := A1 × A2 × A3 × A4 × A5 × A6 × A7 × A8 × A9) (fun n s => W n s.1 s.2.1 s.2.2.1 s.2.2.2.1 s.2.2.2.2.1 s.2.2.2.2.2.1 s.2.2.2.2.2.2.1 s.2.2.2.2.2.2.2.1 s.2.2.2.2.2.2.2.2) (fun s => I s.1 s.2.1 s.2.2.1 s.2.2.2.1 s.2.2.2.2.1 s.2.2.2.2.2.1 s.2.2.2.2.2.2.1 s.2.2.2.2.2.2.2.1 s.2.2.2.2.2.2.2.2) (fun s => μ s.1 s.2.1 s.2.2.1 s.2.2.2.1 s.2.2.2.2.1 s.2.2.2.2.2.1 s.2.2.2.2.2.2.1 s.2.2.2.2.2.2.2.1 s.2.2.2.2.2.2.2.2) (fun n s hI hk => hs n s.1 s.2.1 s.2.2.1 s.2.2.2.1 s.2.2.2.2.1 s.2.2.2.2.2.1 s.2.2.2.2.2.2.1 s.2.2.2.2.2.2.2.1 s.2.2.2.2.2.2.2.2 hI (fun b1 b2 b3 b4 b5 b6 b7 b8 b9 h9 hm => hk (b1, b2, b3, b4, b5, b6, b7, b8, b9) h9 hm)) (a1, a2, a3, a4, a5, a6, a7, a8, a9) h
theorem lp10 {A1 A2 A3 A4 A5 A6 A7 A8 A9 A10 : Type} (W : Nat → A1 → A2 → A3 → A4 → A5 → A6 → A7 → A8 → A9 → A10 → Prop) (I : A1 → A2 → A3 → A4 → A5 → A6 → A7 → A8 → A9 → A10 → Prop) (μ : A1 → A2 → A3 → A4 → A5 → A6 → A7 → A8 → A9 → A10 → Nat) (hs : ∀ (n : Nat) (a1 : A1) (a2 : A2) (a3 : A3) (a4 : A4) (a5 : A5) (a6 : A6) (a7 : A7) (a8 : A8) (a9 : A9) (a10 : A10), I a1 a2 a3 a4 a5 a6 a7 a8 a9 a10 → (∀ (b1 : A1) (b2 : A2) (b3 : A3) (b4 : A4) (b5 : A5) (b6 : A6) (b7 : A7) (b8 : A8) (b9 : A9) (b10 : A10), I b1 b2 b3 b4 b5 b6 b7 b8 b9 b10 → μ b1 b2 b3 b4 b5 b6 b7 b8 b9 b10 < μ a1 a2 a3 a4 a5 a6 a7 a8 a9 a10 → W n b1 b2 b3 b4 b5 b6 b7 b8 b9 b10) → W (n + 1) a1 a2 a3 a4 a5 a6 a7 a8 a9 a10) (a1 : A1) (a2 : A2) (a3 : A3) (a4 : A4) (a5 : A5) (a6 : A6) (a7 : A7) (a8 : A8) (a9 : A9) (a10 : A10) (h : I a1 a2 a3 a4 a5 a6 a7 a8 a9 a10) : ∃ n, W n a1 a2 a3 a4 a5 a6 a7 a8 a9 a10 :=
  loop_m (σ := A1 × A2 × A3 × A4 × A5 × A6 × A7 × A8 × A9 × A10) (fun n s => W n s.1 s.2.1 s.2.2.1 s.2.2.2.1 s.2.2.2.2.1 s.2.2.2.2.2.1 s.2.2.2.2.2.2.1 s.2.2.2.2.2.2.2.1 s.2.2.2.2.2.2.2.2.1 s.2.2.2.2.2.2.2.2.2) (fun s => I s.1 s.2.1 s.2.2.1 s.2.2.2.1 s.2.2.2.2.1 s.2.2.2.2.2.1 s.2.2.2.2.2.2.1 s.2.2.2.2.2.2.2.1 s.2.2.2.2.2.2.2.2.1 s.2.2.2.2.2.2.2.2.2) (fun s => μ s.1 s.2.1 s.2.2.1 s.2.2.2.1 s.2.2.2.2.1 s.2.2.2.2.2.1 s.2.2.2.2.2.2.1 s.2.2.2.2.2.2.2.1 s.2.2.2.2.2.2.2.2.1 s.2.2.2.2.2.2.2.2.2) (fun n s hI hk => hs n s.1 s.2.1 s.2.2.1 s.2.2.2.1 s.2.2.2.2.1 s.2.2.2.2.2.1 s.2.2.2.2.2.2.1 s.2.2.2.2.2.2.2.1 s.2.2.2.2.2.2.2.2.1 s.2.2.2.2.2.2.2.2.2 hI (fun b1 b2 b3 b4 b5 b6 b7 b8 b9 b10 h9 hm => hk (b1, b2, b3, b4, b5, b6, b7, b8, b9, b10) h9 hm)) (a1, a2, a3, a4, a5, a6, a7, a8, a9, a10) h
theorem lp11 {A1 A2 A3 A4 A5 A6 A7 A8 A9 A10 A11 : Type} (W : Nat → A1 → A2 → A3 → A4 → A5 → A6 → A7 → A8 → A9 → A10 → A11 → Prop) (I : A1 → A2 → A3 → A4 → A5 → A6 → A7 → A8 → A9 → A10 → A11 → Prop) (μ : A1 → A2 → A3 → A4 → A5 → A6 → A7 → A8 → A9 → A10 → A11 → Nat) (hs : ∀ (n : Nat) (a1 : A1) (a2 : A2) (a3 : A3) (a4 : A4) (a5 : A5) (a6 : A6) (a7 : A7) (a8 : A8) (a9 : A9) (a10 : A10) (a11 : A11), I a1 a2 a3 a4 a5 a6 a7 a8 a9 a10 a11 → (∀ (b1 : A1) (b2 : A2) (b3 : A3) (b4 : A4) (b5 : A5) (b6 : A6) (b7 : A7) (b8 : A8) (b9 : A9) (b10 : A10) (b11 : A11), I b1 b2 b3 b4 b5 b6 b7 b8 b9 b10 b11 → μ b1 b2 b3 b4 b5 b6 b7 b8 b9 b10 b11 < μ a1 a2 a3 a4 a5 a6 a7 a8 a9 a10 a11 → W n b1 b2 b3 b4 b5 b6 b7 b8 b9 b10 b11) → W (n + 1) a1 a2 a3 a4 a5 a6 a7 a8 a9 a10 a11) (a1 : A1) (a2 : A2) (a3 : A3) (a4 : A4) (a5 : A5) (a6 : A6) (a7 : A7) (a8 : A8) (a9 : A9) (a10 : A10) (a11 : A11) (h : I a1 a2 a3 a4 a5 a6 a7 a8 a9 a10 a11) : ∃ n, W n a1 a2 a3 a4 a5 a6 a7 a8 a9 a10 a11 :=
  loop_m (σ := A1 × A2 × A3 × A4 × A5 × A6 × A7 × A8 × A9 × A10 × A11) (fun n s => W n s.1 s.2.1 s.2.2.1 s.2.2.2.1 s.2.2.2.2.1 s.2.2.2.2.2.1 s.2.2.2.2.2.2.1 s.2.2.2.2.2.2.2.1 s.2.2.2.2.2.2.2.2.1 s.2.2.2.2.2.2.2.2.2.1 s.2.2.2.2.2.2.2.2.2.2) (fun s => I s.1 s.2.1 s.2.2.1 s.2.2.2.1 s.2.2.2.2.1 s.2.2.2.2.2.1 s.2.2.2.2.2.2.1 s.2.2.2.2.2.2.2.1 s.2.2.2.2.2.2.2.2.1 s.2.2.2.2.2.2.2.2.2.1 s.2.2.2.2.2.2.2.2.2.2) (fun s => μ s.1 s.2.1 s.2.2.1 s.2.2.2.1 s.2.2.2.2.1 s.2.2.2.2.2.1 s.2.2.2.2.2.2.1 s.2.2.2.2.2.2.2.1 s.2.2.2.2.2.2.2.2.1 s.2.2.2.2.2.2.2.2.2.1 s.2.2.2.2.2.2.2.2.2.2) (fun n s hI hk => hs n s.1 s.2.1 s.2.2.1 s.2.2.2.1 s.2.2.2.2.1 s.2.2.2.2.2.1 s.2.2.2.2.2.2.1 s.2.2.2.2.2.2.2.1 s.2.2.2.2.2.2.2.2.1 s.2.2.2.2.2.2.2.2.2.1 s.2.2.2.2.2.2.2.2.2.2 hI (fun b1 b2 b3 b4 b5 b6 b7 b8 b9 b10 b11 h9 hm => hk (b1, b2, b3, b4, b5, b6, b7, b8, b9, b10, b11) h9 hm)) (a1, a2, a3, a4, a5, a6, a7, a8, a9, a10, a11) h
theorem lp12 {A1 A2 A3 A4 A5 A6 A7 A8 A9 A10 A11 A12 : Type} (W : Nat → A1 → A2 → A3 → A4 → A5 → A6 → A7 → A8 → A9 → A10 → A11 → A12 → Prop) (I : A1 → A2 → A3 → A4 → A5 → A6 → A7 → A8 → A9 → A10 → A11 → A12 → Prop) (μ : A1 → A2 → A3 → A4 → A5 → A6 → A7 → A8 → A9 → A10 → A11 → A12 → Nat) (hs : ∀ (n : Nat) (a1 : A1) (a2 : A2) (a3 : A3) (a4 : A4) (a5 : A5) (a6 : A6) (a7 : A7) (a8 : A8) (a9 : A9) (a10 : A10) (a11 : A11) (a12 : A12), I a1 a2 a3 a4 a5 a6 a7 a8 a9 a10 a11 a12 → (∀ (b1 : A1) (b2 : A2) (b3 : A3) (b4 : A4) (b5 : A5) (b6 : A6) (b7 : A7) (b8 : A8) (b9 : A9) (b10 : A10) (b11 : A11) (b12 : A12), I b1 b2 b3 b4 b5 b6 b7 b8 b9 b10 b11 b12 → μ b1 b2 b3 b4 b5 b6 b7 b8 b9 b10 b11 b12 < μ a1 a2 a3 a4 a5 a6 a7 a8 a9 a10 a11 a12 → W n b1 b2 b3 b4 b5 b6 b7 b8 b9 b10 b11 b12) → W (n + 1) a1 a2 a3 a4 a5 a6 a7 a8 a9 a10 a11 a12) (a1 : A1) (a2 : A2) (a3 : A3) (a4 : A4) (a5 : A5) (a6 : A6) (a7 : A7) (a8 : A8) (a9 : A9) (a10 : A10) (a11 : A11) (a12 : A12) (h : I a1 a2 a3 a4 a5 a6 a7 a8 a9 a10 a11 a12) : ∃ n, W n a1 a2 a3 a4 a5 a6 a7 a8 a9 a10 a11 a12 :=
  loop_m (σ := A1 × A2 × A3 × A4 × A5 × A6 × A7 × A8 × A9 × A10 × A11 × A12) (fun n s => W n s.1 s.2.1 s.2.2.1 s.2.2.2.1 s.2.2.2.2.1 s.2.2.2.2.2.1 s.2.2.2.2.2.2.1 s.2.2.2.2.2.2.2.1 s.2.2.2.2.2.2.2.2.1 s.2.2.2.2.2.2.2.2.2.1 s.2.2.2.2.2.2.2.2.2.2.1 s.2.2.2.2.2.2.2.2.2.2.2) (fun s => I s.1 s.2.1 s.2.2.1 s.2.2.2.1 s.2.2.2.2.1 s.2.2.2.2.2.1 s.2.2.2.2.2.2.1 s.2.2.2.2.2.2.2.1 s.2.2.2.2.2.2.2.2.1 s.2.2.2.2.2.2.2.2.2.1 s.2.2.2.2.2.2.2.2.2.2.1 s.2.2.2.2.2.2.2.2.2.2.2) (fun s => μ s.1 s.2.1 s.2.2.1 s.2.2.2.1 s.2.2.2.2.1 s.2.2.2.2.2.1 s.2.2.2.2.2.2.1 s.2.2.2.2.2.2.2.1 s.2.2.2.2.2.2.2.2.1 s.2.2.2.2.2.2.2.2.2.1 s.2.2.2.2.2.2.2.2.2.2.1 s.2.2.2.2.2.2.2.2.2.2.2) (fun n s hI hk => hs n s.1 s.2.1 s.2.2.1 s.2.2.2.1 s.2.2.2.2.1 s.2.2.2.2.2.1 s.2.2.2.2.2.2.1 s.2.2.2.2.2.2.2.1 s.2.2.2.2.2.2.2.2.1 s.2.2.2.2.2.2.2.2.2.1 s.2.2.2.2.2.2.2.2.2.2.1 s.2.2.2.2.2.2.2.2.2.2.2 hI (fun b1 b2 b3 b4 b5 b6 b7 b8 b9 b10 b11 b12 h9 hm => hk (b1, b2, b3, b4, b5, b6, b7, b8, b9, b10, b11, b12) h9 hm)) (a1, a2, a3, a4, a5, a6, a7, a8, a9, a10, a11, a12) h
theorem lp13 {A1 A2 A3 A4 A5 A6 A7 A8 A9 A10 A11 A12 A13 : Type} (W : Nat → A1 → A2 → A3 → A4 → A5 → A6 → A7 → A8 → A9 → A10 → A11 → A12 → A13 → Prop) (I : A1 → A2 → A3 → A4 → A5 → A6 → A7 → A8 → A9 → A10 → A11 → A12 → A13 → Prop) (μ : A1 → A2 → A3 → A4 → A5 → A6 → A7 → A8 → A9 → A10 → A11 → A12 → A13 → Nat) (hs : ∀ (n : Nat) (a1 : A1) (a2 : A2) (a3 : A3) (a4 : A4) (a5 : A5) (a6 : A6) (a7 : A7) (a8 : A8) (a9 : A9) (a10 : A10) (a11 : A11) (a12 : A12) (a13 : A13), I a1 a2 a3 a4 a5 a6 a7 a8 a9 a10 a11 a12 a13 → (∀ (b1 : A1) (b2 : A2) (b3 : A3) (b4 : A4) (b5 : A5) (b6 : A6) (b7 : A7) (b8 : A8) (b9 : A9) (b10 : A10) (b11 : A11) (b12 : A12) (b13 : A13), I b1 b2 b3 b4 b5 b6 b7 b8 b9 b10 b11 b12 b13 → μ b1 b2 b3 b4 b5 b6 b7 b8 b9 b10 b11 b12 b13 < μ a1 a2 a3 a4 a5 a6 a7 a8 a9 a10 a11 a12 a13 → W n b1 b2 b3 b4 b5 b6 b7 b8 b9 b10 b11 b12 b13) → W (n + 1) a1 a2 a3 a4 a5 a6 a7 a8 a9 a10 a11 a12 a13) (a1 : A1) (a2 : A2) (a3 : A3) (a4 : A4) (a5 : A5) (a6 : A6) (a7 : A7) (a8 : A8) (a9 : A9) (a10 : A10) (a11 : A11) (a12 : A12) (a13 : A13) (h : I a1 a2 a3 a4 a5 a6 a7 a8 a9 a10 a11 a12 a13) : ∃ n, W n a1 a2 a3 a4 a5 a6 a7 a8 a9 a10 a11 a12 a13 :=
  loop_m (σ := A1 × A2 × A3 × A4 × A5 × A6 × A7 × A8 × A9 × A10 × A11 × A12 × A13) (fun n s => W n s.1 s.2.1 s.2.2.1 s.2.2.2.1 s.2.2.2.2.1 s.2.2.2.2.2.1 s.2.2.2.2.2.2.1 s.2.2.2.2.2.2.2.1 s.2.2.2.2.2.2.2.2.1 s.2.2.2.2.2.2.2.2.2.1 s.2.2.2.2.2.2.2.2.2.2.1 s.2.2.2.2.2.2.2.2.2.2.2.1 s.2.2.2.2.2.2.2.2.2.2.2.2) (fun s => I s.1 s.2.1 s.2.2.1 s.2.2.2.1 s.2.2.2.2.1 s.2.2.2.2.2.1 s.2.2.2.2.2.2.1 s.2.2.2.2.2.2.2.1 s.2.2.2.2.2.2.2.2.1 s.2.2.2.2.2.2.2.2.2.1 s.2.2.2.2.2.2.2.2.2.2.1 s.2.2.2.2.2.2.2.2.2.2.2.1 s.2.2.2.2.2.2.2.2.2.2.2.2) (fun s => μ s.1 s.2.1 s.2.2.1 s.2.2.2.1 s.2.2.2.2.1 s.2.2.2.2.2.1 s.2.2.2.2.2.2.1 s.2.2.2.2.2.2.2.1 s.2.2.2.2.2.2.2.2.1 s.2.2.2.2.2.2.2.2.2.1 s.2.2.2.2.2.2.2.2.2.2.1 s.2.2.2.2.2.2.2.2.2.2.2.1 s.2.2.2.2.2.2.2.2.2.2.2.2) (fun n s hI hk => hs n s.1 s.2.1 s.2.2.1 s.2.2.2.1 s.2.2.2.2.1 s.2.2.2.2.2.1 s.2.2.2.2.2.2.1 s.2.2.2.2.2.2.2.1 s.2.2.2.2.2.2.2.2.1 s.2.2.2.2.2.2.2.2.2.1 s.2.2.2.2.2.2.2.2.2.2.1 s.2.2.2.2.2.2.2.2.2.2.2.1 s.2.2.2.2.2.2.2.2.2.2.2.2 hI (fun b1 b2 b3 b4 b5 b6 b7 b8 b9 b10 b11 b12 b13 h9 hm => hk (b1, b2, b3, b4, b5, b6, b7, b8, b9, b10, b11, b12, b13) h9 hm)) (a1, a2, a3, a4, a5, a6, a7, a8, a9, a10, a11, a12, a13) h
theorem lp14 {A1 A2 A3 A4 A5 A6 A7 A8 A9 A10 A11 A12 A13 A14 : Type} (W : Nat → A1 → A2 → A3 → A4 → A5 → A6 → A7 → A8 → A9 → A10 → A11 → A12 → A13 → A14 → Prop) (I : A1 → A2 → A3 → A4 → A5 → A6 → A7 → A8 → A9 → A10 → A11 → A12 → A13 → A14 → Prop) (μ : A1 → A2 → A3 → A4 → A5 → A6 → A7 → A8 → A9 → A10 → A11 → A12 → A13 → A14 → Nat) (hs : ∀ (n : Nat) (a1 : A1) (a2 : A2) (a3 : A3) (a4 : A4) (a5 : A5) (a6 : A6) (a7 : A7) (a8 : A8) (a9 : A9) (a10 : A10) (a11 : A11) (a12 : A12) (a13 : A13) (a14 : A14), I a1 a2 a3 a4 a5 a6 a7 a8 a9 a10 a11 a12 a13 a14 → (∀ (b1 : A1) (b2 : A2) (b3 : A3) (b4 : A4) (b5 : A5) (b6 : A6) (b7 : A7) (b8 : A8) (b9 : A9) (b10 : A10) (b11 : A11) (b12 : A12) (b13 : A13) (b14 : A14), I b1 b2 b3 b4 b5 b6 b7 b8 b9 b10 b11 b12 b13 b14 → μ b1 b2 b3 b4 b5 b6 b7 b8 b9 b10 b11 b12 b13 b14 < μ a1 a2 a3 a4 a5 a6 a7 a8 a9 a10 a11 a12 a13 a14 → W n b1 b2 b3 b4 b5 b6 b7 b8 b9 b10 b11 b12 b13 b14) → W (n + 1) a1 a2 a3 a4 a5 a6 a7 a8 a9 a10 a11 a12 a13 a14) (a1 : A1) (a2 : A2) (a3 : A3) (a4 : A4) (a5 : A5) (a6 : A6) (a7 : A7) (a8 : A8) (a9 : A9) (a10 : A10) (a11 : A11) (a12 : A12) (a13 : A13) (a14 : A14) (h : I a1 a2 a3 a4 a5 a6 a7 a8 a9 a10 a11 a12 a13 a14) : ∃ n, W n a1 a2 a3 a4 a5 a6 a7 a8 a9 a10 a11 a12 a13 a14 :=
  loop_m (σ := A1 × A2 × A3 × A4 × A5 × A6 × A7 × A8 × A9 × A10 × A11 × A12 × A13 × A14) (fun n s => W n s.1 s.2.1 s.2.2.1 s.2.2.2.1 s.2.2.2.2.1 s.2.2.2.2.2.1 s.2.2.2.2.2.2.1 s.2.2.2.2.2.2.2.1 s.2.2.2.2.2.2.2.2.1 s.2.2.2.2.2.2.2.2.2.1 s.2.2.2.2.2.2.2.2.2.2.1 s.2.2.2.2.2.2.2.2.2.2.2.1 s.2.2.2.2.2.2.2.2.2.2.2.2.1 s.2.2.2.2.2.2.2.2.2.2.2.2.2) (fun s => I s.1 s.2.1 s.2.2.1 s.2.2.2.1 s.2.2.2.2.1 s.2.2.2.2.2.1 s.2.2.2.2.2.2.1 s.2.2.2.2.2.2.2.1 s.2.2.2.2.2.2.2.2.1 s.2.2.2.2.2.2.2.2.2.1 s.2.2.2.2.2.2.2.2.2.2.1 s.2.2.2.2.2.2.2.2.2.2.2.1 s.2.2.2.2.2.2.2.2.2.2.2.2.1 s.2.2.2.2.2.2.2.2.2.2.2.2.2) (fun s => μ s.1 s.2.1 s.2.2.1 s.2.2.2.1 s.2.2.2.2.1 s.2.2.2.2.2.1 s.2.2.2.2.2.2.1 s.2.2.2.2.2.2.2.1 s.2.2.2.2.2.2.2.2.1 s.2.2.2.2.2.2.2.2.2.1 s.2.2.2.2.2.2.2.2.2.2.1 s.2.2.2.2.2.2.2.2.2.2.2.1 s.2.2.2.2.2.2.2.2.2.2.2.2.1 s.2.2.2.2.2.2.2.2.2.2.2.2.2) (fun n s hI hk => hs n s.1 s.2.1 s.2.2.1 s.2.2.2.1 s.2.2.2.2.1 s.2.2.2.2.2.1 s.2.2.2.2.2.2.1 s.2.2.2.2.2.2.2.1 s.2.2.2.2.2.2.2.2.1 s.2.2.2.2.2.2.2.2.2.1 s.2.2.2.2.2.2.2.2.2.2.1 s.2.2.2.2.2.2.2.2.2.2.2.1 s.2.2.2.2.2.2.2.2.2.2.2.2.1 s.2.2.2.2.2.2.2.2.2.2.2.2.2 hI (fun b1 b2 b3 b4 b5 b6 b7 b8 b9 b10 b11 b12 b13 b14 h9 hm => hk (b1, b2, b3, b4, b5, b6, b7, b8, b9, b10, b11, b12, b13, b14) h9 hm)) (a1, a2, a3, a4, a5, a6, a7, a8, a9, a10, a11, a12, a13, a14) h
theorem lp15 {A1 A2 A3 A4 A5 A6 A7 A8 A9 A10 A11 A12 A13 A14 A15 : Type} (W : Nat → A1 → A2 → A3 → A4 → A5 → A6 → A7 → A8 → A9 → A10 → A11 → A12 → A13 → A14 → A15 → Prop) (I : A1 → A2 → A3 → A4 → A5 → A6 → A7 → A8 → A9 → A10 → A11 → A12 → A13 → A14 → A15 → Prop) (μ : A1 → A2 → A3 → A4 → A5 → A6 → A7 → A8 → A9 → A10 → A11 → A12 → A13 → A14 → A15 → Nat) (hs : ∀ (n : Nat) (a1 : A1) (a2 : A2) (a3 : A3) (a4 : A4) (a5 : A5) (a6 : A6) (a7 : A7) (a8 : A8) (a9 : A9) (a10 : A10) (a11 : A11) (a12 : A12) (a13 : A13) (a14 : A14) (a15 : A15), I a1 a2 a3 a4 a5 a6 a7 a8 a9 a10 a11 a12 a13 a14 a15 → (∀ (b1 : A1) (b2 : A2) (b3 : A3) (b4 : A4) (b5 : A5) (b6 : A6) (b7 : A7) (b8 : A8) (b9 : A9) (b10 : A10) (b11 : A11) (b12 : A12) (b13 : A13) (b14 : A14) (b15 : A15), I b1 b2 b3 b4 b5 b6 b7 b8 b9 b10 b11 b12 b13 b14 b15 → μ b1 b2 b3 b4 b5 b6 b7 b8 b9 b10 b11 b12 b13 b14 b15 < μ a1 a2 a3 a4 a5 a6 a7 a8 a9 a10 a11 a12 a13 a14 a15 → W n b1 b2 b3 b4 b5 b6 b7 b8 b9 b10 b11 b12 b13 b14 b15) → W (n + 1) a1 a2 a3 a4 a5 a6 a7 a8 a9 a10 a11 a12 a13 a14 a15) (a1 : A1) (a2 : A2) (a3 : A3) (a4 : A4) (a5 : A5) (a6 : A6) (a7 : A7) (a8 : A8) (a9 : A9) (a10 : A10) (a11 : A11) (a12 : A12) (a13 : A13) (a14 : A14) (a15 : A15) (h : I a1 a2 a3 a4 a5 a6 a7 a8 a9 a10 a11 a12 a13 a14 a15) : ∃ n, W n a1 a2 a3 a4 a5 a6 a7 a8 a9 a10 a11 a12 a13 a14 a15 :=
  loop_m (σ := A1 × A2 × A3 × A4 × A5 × A6 × A7 × A8 × A9 × A10 × A11 × A12 × A13 × A14 × A15) (fun n s => W n s.1 s.2.1 s.2.2.1 s.2.2.2.1 s.2.2.2.2.1 s.2.2.2.2.2.1 s.2.2.2.2.2.2.1 s.2.2.2.2.2.2.2.1 s.2.2.2.2.2.2.2.2.1 s.2.2.2.2.2.2.2.2.2.1 s.2.2.2.2.2.2.2.2.2.2.1 s.2.2.2.2.2.2.2.2.2.2.2.1 s.2.2.2.2.2.2.2.2.2.2.2.2.1 s.2.2.2.2.2.2.2.2.2.2.2.2.2.1 s.2.2.2.2.2.2.2.2.2.2.2.2.2.2) (fun s => I s.1 s.2.1 s.2.2.1 s.2.2.2.1 s.2.2.2.2.1 s.2.2.2.2.2.1 s.2.2.2.2.2.2.1 s.2.2.2.2.2.2.2.1 s.2.2.2.2.2.2.2.2.1 s.2.2.2.2.2.2.2.2.2.1 s.2.2.2.2.2.2.2.2.2.2.1 s.2.2.2.2.2.2.2.2.2.2.2.1 s.2.2.2.2.2.2.2.2.2.2.2.2.1 s.2.2.2.2.2.2.2.2.2.2.2.2.2.1 s.2.2.2.2.2.2.2.2.2.2.2.2.2.2) (fun s => μ s.1 s.2.1 s.2.2.1 s.2.2.2.1 s.2.2.2.2.1 s.2.2.2.2.2.1 s.2.2.2.2.2.2.1 s.2.2.2.2.2.2.2.1 s.2.2.2.2.2.2.2.2.1 s.2.2.2.2.2.2.2.2.2.1 s.2.2.2.2.2.2.2.2.2.2.1 s.2.2.2.2.2.2.2.2.2.2.2.1 s.2.2.2.2.2.2.2.2.2.2.2.2.1 s.2.2.2.2.2.2.2.2.2.2.2.2.2.1 s.2.2.2.2.2.2.2.2.2.2.2.2.2.2) (fun n s hI hk => hs n s.1 s.2.1 s.2.2.1 s.2.2.2.1 s.2.2.2.2.1 s.2.2.2.2.2.1 s.2.2.2.2.2.2.1 s.2.2.2.2.2.2.2.1 s.2.2.2.2.2.2.2.2.1 s.2.2.2.2.2.2.2.2.2.1 s.2.2.2.2.2.2.2.2.2.2.1 s.2.2.2.2.2.2.2.2.2.2.2.1 s.2.2.2.2.2.2.2.2.2.2.2.2.1 s.2.2.2.2.2.2.2.2.2.2.2.2.2.1 s.2.2.2.2.2.2.2.2.2.2.2.2.2.2 hI (fun b1 b2 b3 b4 b5 b6 b7 b8 b9 b10 b11 b12 b13 b14 b15 h9 hm => hk (b1, b2, b3, b4, b5, b6, b7, b8, b9, b10, b11, b12, b13, b14, b15) h9 hm)) (a1, a2, a3, a4, a5, a6, a7, a8, a9, a10, a11, a12, a13, a14, a15) h
theorem lp16 {A1 A2 A3 A4 A5 A6 A7 A8 A9 A10 A11 A12 A13 A14 A15 A16 : Type} (W : Nat → A1 → A2 → A3 → A4 → A5 → A6 → A7 → A8 → A9 → A10 → A11 → A12 → A13 → A14 → A15 → A16 → Prop) (I : A1 → A2 → A3 → A4 → A5 → A6 → A7 → A8 → A9 → A10 → A11 → A12 → A13 → A14 → A15 → A16 → Prop) (μ : A1 → A2 → A3 → A4 → A5 → A6 → A7 → A8 → A9 → A10 → A11 → A12 → A13 → A14 → A15 → A16 → Nat) (hs : ∀ (n : Nat) (a1 : A1) (a2 : A2) (a3 : A3) (a4 : A4) (a5 : A5) (a6 : A6) (a7 : A7) (a8 : A8) (a9 : A9) (a10 : A10) (a11 : A11) (a12 : A12) (a13 : A13) (a14 : A14) (a15 : A15) (a16 : A16), I a1 a2 a3 a4 a5 a6 a7 a8 a9 a10 a11 a12 a13 a14 a15 a16 → (∀ (b1 : A1) (b2 : A2) (b3 : A3) (b4 : A4) (b5 : A5) (b6 : A6) (b7 : A7) (b8 : A8) (b9 : A9) (b10 : A10) (b11 : A11) (b12 : A12) (b13 : A13) (b14 : A14) (b15 : A15) (b16 : A16), I b1 b2 b3 b4 b5 b6 b7 b8 b9 b10 b11 b12 b13 b14 b15 b16 → μ b1 b2 b3 b4 b5 b6 b7 b8 b9 b10 b11 b12 b13 b14 b15 b16 < μ a1 a2 a3 a4 a5 a6 a7 a8 a9 a10 a11 a12 a13 a14 a15 a16 → W n b1 b2 b3 b4 b5 b6 b7 b8 b9 b10 b11 b12 b13 b14 b15 b16) → W (n + 1) a1 a2 a3 a4 a5 a6 a7 a8 a9 a10 a11 a12 a13 a14 a15 a16) (a1 : A1) (a2 : A2) (a3 : A3) (a4 : A4) (a5 : A5) (a6 : A6) (a7 : A7) (a8 : A8) (a9 : A9) (a10 : A10) (a11 : A11) (a12 : A12) (a13 : A13) (a14 : A14) (a15 : A15) (a16 : A16) (h : I a1 a2 a3 a4 a5 a6 a7 a8 a9 a10 a11 a12 a13 a14 a15 a16) : ∃ n, W n a1 a2 a3 a4 a5 a6 a7 a8 a9 a10 a11 a12 a13 a14 a15 a16 :=
  loop_m (σ := A1 × A2 × A3 × A4 × A5 × A6 × A7 × A8 × A9 × A10 × A11 × A12 × A13 × A14 × A15 × A16) (fun n s => W n s.1 s.2.1 s.2.2.1 s.2.2.2.1 s.2.2.2.2.1 s.2.2.2.2.2.1 s.2.2.2.2.2.2.1 s.2.2.2.2.2.2.2.1 s.2.2.2.2.2.2.2.2.1 s.2.2.2.2.2.2.2.2.2.1 s.2.2.2.2.2.2.2.2.2.2.1 s.2.2.2.2.2.2.2.2.2.2.2.1 s.2.2.2.2.2.2.2.2.2.2.2.2.1 s.2.2.2.2.2.2.2.2.2.2.2.2.2.1 s.2.2.2.2.2.2.2.2.2.2.2.2.2.2.1 s.2.2.2.2.2.2.2.2.2.2.2.2.2.2.2) (fun s => I s.1 s.2.1 s.2.2.1 s.2.2.2.1 s.2.2.2.2.1 s.2.2.2.2.2.1 s.2.2.2.2.2.2.1 s.2.2.2.2.2.2.2.1 s.2.2.2.2.2.2.2.2.1 s.2.2.2.2.2.2.2.2.2.1 s.2.2.2.2.2.2.2.2.2.2.1 s.2.2.2.2.2.2.2.2.2.2.2.1 s.2.2.2.2.2.2.2.2.2.2.2.2.1 s.2.2.2.2.2.2.2.2.2.2.2.2.2.1 s.2.2.2.2.2.2.2.2.2.2.2.2.2.2.1 s.2.2.2.2.2.2.2.2.2.2.2.2.2.2.2) (fun s => μ s.1 s.2.1 s.2.2.1 s.2.2.2.1 s.2.2.2.2.1 s.2.2.2.2.2.1 s.2.2.2.2.2.2.1 s.2.2.2.2.2.2.2.1 s.2.2.2.2.2.2.2.2.1 s.2.2.2.2.2.2.2.2.2.1 s.2.2.2.2.2.2.2.2.2.2.1 s.2.2.2.2.2.2.2.2.2.2.2.1 s.2.2.2.2.2.2.2.2.2.2.2.2.1 s.2.2.2.2.2.2.2.2.2.2.2.2.2.1 s.2.2.2.2.2.2.2.2.2.2.2.2.2.2.1 s.2.2.2.2.2.2.2.2.2.2.2.2.2.2.2) (fun n s hI hk => hs n s.1 s.2.1 s.2.2.1 s.2.2.2.1 s.2.2.2.2.1 s.2.2.2.2.2.1 s.2.2.2.2.2.2.1 s.2.2.2.2.2.2.2.1 s.2.2.2.2.2.2.2.2.1 s.2.2.2.2.2.2.2.2.2.1 s.2.2.2.2.2.2.2.2.2.2.1 s.2.2.2.2.2.2.2.2.2.2.2.1 s.2.2.2.2.2.2.2.2.2.2.2.2.1 s.2.2.2.2.2.2.2.2.2.2.2.2.2.1 s.2.2.2.2.2.2.2.2.2.2.2.2.2.2.1 s.2.2.2.2.2.2.2.2.2.2.2.2.2.2.2 hI (fun b1 b2 b3 b4 b5 b6 b7 b8 b9 b10 b11 b12 b13 b14 b15 b16 h9 hm => hk (b1, b2, b3, b4, b5, b6, b7, b8, b9, b10, b11, b12, b13, b14, b15, b16) h9 hm)) (a1, a2, a3, a4, a5, a6, a7, a8, a9, a10, a11, a12, a13, a14, a15, a16) h
theorem pk_least (P : Nat → Prop) (h : ∃ k, P k) : ∃ k, P k ∧ ∀ j, j < k → ¬ P j := by
  obtain ⟨k, hk⟩ := h
  induction k using Nat.strongRecOn with
  | ind k ih =>
    by_cases e : ∃ j, j < k ∧ P j
    · obtain ⟨j, hj, pj⟩ := e
      exact ih j hj pj
    · exact ⟨k, hk, fun j hj pj => e ⟨j, hj, pj⟩⟩
theorem rp1 {ρ A1 : Type} (W : Nat → (ρ → Prop) → A1 → Prop) (ok : A1 → Prop) (μ : A1 → Nat) (val : A1 → ρ)
    (hs : ∀ (d : Nat) (post : ρ → Prop) (a1 : A1), ok a1 → post (val a1) → (∀ (post' : ρ → Prop) (b1 : A1), ok b1 → μ b1 < μ a1 → post' (val b1) → W d post' b1) → W (d + 1) post a1) :
    ∀ (d : Nat) (post : ρ → Prop) (a1 : A1), ok a1 → μ a1 < d → post (val a1) → W d post a1 := by
  intro d
  induction d with
  | zero => intro post a1 _ h; omega
  | succ d ih =>
    intro post a1 ho hm hp
    exact hs d post a1 ho hp (fun post' b1 ho' hm' hp' => ih post' b1 ho' (by omega) hp')
theorem rp2 {ρ A1 A2 : Type} (W : Nat → (ρ → Prop) → A1 → A2 → Prop) (ok : A1 → A2 → Prop) (μ : A1 → A2 → Nat) (val : A1 → A2 → ρ)
    (hs : ∀ (d : Nat) (post : ρ → Prop) (a1 : A1) (a2 : A2), ok a1 a2 → post (val a1 a2) → (∀ (post' : ρ → Prop) (b1 : A1) (b2 : A2), ok b1 b2 → μ b1 b2 < μ a1 a2 → post' (val b1 b2) → W d post' b1 b2) → W (d + 1) post a1 a2) :
    ∀ (d : Nat) (post : ρ → Prop) (a1 : A1) (a2 : A2), ok a1 a2 → μ a1 a2 < d → post (val a1 a2) → W d post a1 a2 := by
  intro d
  induction d with
  | zero => intro post a1 a2 _ h; omega
  | succ d ih =>
    intro post a1 a2 ho hm hp
    exact hs d post a1 a2 ho hp (fun post' b1 b2 ho' hm' hp' => ih post' b1 b2 ho' (by omega) hp')
theorem rp3 {ρ A1 A2 A3 : Type} (W : Nat → (ρ → Prop) → A1 → A2 → A3 → Prop) (ok : A1 → A2 → A3 → Prop) (μ : A1 → A2 → A3 → Nat) (val : A1 → A2 → A3 → ρ)
    (hs : ∀ (d : Nat) (post : ρ → Prop) (a1 : A1) (a2 : A2) (a3 : A3), ok a1 a2 a3 → post (val a1 a2 a3) → (∀ (post' : ρ → Prop) (b1 : A1) (b2 : A2) (b3 : A3), ok b1 b2 b3 → μ b1 b2 b3 < μ a1 a2 a3 → post' (val b1 b2 b3) → W d post' b1 b2 b3) → W (d + 1) post a1 a2 a3) :
    ∀ (d : Nat) (post : ρ → Prop) (a1 : A1) (a2 : A2) (a3 : A3), ok a1 a2 a3 → μ a1 a2 a3 < d → post (val a1 a2 a3) → W d post a1 a2 a3 := by
  intro d
  induction d with
  | zero => intro post a1 a2 a3 _ h; omega
  | succ d ih =>
    intro post a1 a2 a3 ho hm hp
    exact hs d post a1 a2 a3 ho hp (fun post' b1 b2 b3 ho' hm' hp' => ih post' b1 b2 b3 ho' (by omega) hp')
theorem rp4 {ρ A1 A2 A3 A4 : Type} (W : Nat → (ρ → Prop) → A1 → A2 → A3 → A4 → Prop) (ok : A1 → A2 → A3 → A4 → Prop) (μ : A1 → A2 → A3 → A4 → Nat) (val : A1 → A2 → A3 → A4 → ρ)
    (hs : ∀ (d : Nat) (post : ρ → Prop) (a1 : A1) (a2 : A2) (a3 : A3) (a4 : A4), ok a1 a2 a3 a4 → post (val a1 a2 a3 a4) → (∀ (post' : ρ → Prop) (b1 : A1) (b2 : A2) (b3 : A3) (b4 : A4), ok b1 b2 b3 b4 → μ b1 b2 b3 b4 < μ a1 a2 a3 a4 → post' (val b1 b2 b3 b4) → W d post' b1 b2 b3 b4) → W (d + 1) post a1 a2 a3 a4) :
    ∀ (d : Nat) (post : ρ → Prop) (a1 : A1) (a2 : A2) (a3 : A3) (a4 : A4), ok a1 a2 a3 a4 → μ a1 a2 a3 a4 < d → post (val a1 a2 a3 a4) → W d post a1 a2 a3 a4 := by
  intro d
  induction d with
  | zero => intro post a1 a2 a3 a4 _ h; omega
  | succ d ih =>
    intro post a1 a2 a3 a4 ho hm hp
    exact hs d post a1 a2 a3 a4 ho hp (fun post' b1 b2 b3 b4 ho' hm' hp' => ih post' b1 b2 b3 b4 ho' (by omega) hp')
theorem rp5 {ρ A1 A2 A3 A4 A5 : Type} (W : Nat → (ρ → Prop) → A1 → A2 → A3 → A4 → A5 → Prop) (ok : A1 → A2 → A3 → A4 → A5 → Prop) (μ : A1 → A2 → A3 → A4 → A5 → Nat) (val : A1 → A2 → A3 → A4 → A5 → ρ)
    (hs : ∀ (d : Nat) (post : ρ → Prop) (a1 : A1) (a2 : A2) (a3 : A3) (a4 : A4) (a5 : A5), ok a1 a2 a3 a4 a5 → post (val a1 a2 a3 a4 a5) → (∀ (post' : ρ → Prop) (b1 : A1) (b2 : A2) (b3 : A3) (b4 : A4) (b5 : A5), ok b1 b2 b3 b4 b5 → μ b1 b2 b3 b4 b5 < μ a1 a2 a3 a4 a5 → post' (val b1 b2 b3 b4 b5) → W d post' b1 b2 b3 b4 b5) → W (d + 1) post a1 a2 a3 a4 a5) :
    ∀ (d : Nat) (post : ρ → Prop) (a1 : A1) (a2 : A2) (a3 : A3) (a4 : A4) (a5 : A5), ok a1 a2 a3 a4 a5 → μ a1 a2 a3 a4 a5 < d → post (val a1 a2 a3 a4 a5) → W d post a1 a2 a3 a4 a5 := by
  intro d
  induction d with
  | zero => intro post a1 a2 a3 a4 a5 _ h; omega
  | succ d ih =>
    intro post a1 a2 a3 a4 a5 ho hm hp
    exact hs d post a1 a2 a3 a4 a5 ho hp (fun post' b1 b2 b3 b4 b5 ho' hm' hp' => ih post' b1 b2 b3 b4 b5 ho' (by omega) hp')
theorem rp6 {ρ A1 A2 A3 A4 A5 A6 : Type} (W : Nat → (ρ → Prop) → A1 → A2 → A3 → A4 → A5 → A6 → Prop) (ok : A1 → A2 → A3 → A4 → A5 → A6 → Prop) (μ : A1 → A2 → A3 → A4 → A5 → A6 → Nat) (val : A1 → A2 → A3 → A4 → A5 → A6 → ρ)
    (hs : ∀ (d : Nat) (post : ρ → Prop) (a1 : A1) (a2 : A2) (a3 : A3) (a4 : A4) (a5 : A5) (a6 : A6), ok a1 a2 a3 a4 a5 a6 → post (val a1 a2 a3 a4 a5 a6) → (∀ (post' : ρ → Prop) (b1 : A1) (b2 : A2) (b3 : A3) (b4 : A4) (b5 : A5) (b6 : A6), ok b1 b2 b3 b4 b5 b6 → μ b1 b2 b3 b4 b5 b6 < μ a1 a2 a3 a4 a5 a6 → post' (val b1 b2 b3 b4 b5 b6) → W d post' b1 b2 b3 b4 b5 b6) → W (d + 1) post a1 a2 a3 a4 a5 a6) :
    ∀ (d : Nat) (post : ρ → Prop) (a1 : A1) (a2 : A2) (a3 : A3) (a4 : A4) (a5 : A5) (a6 : A6), ok a1 a2 a3 a4 a5 a6 → μ a1 a2 a3 a4 a5 a6 < d → post (val a1 a2 a3 a4 a5 a6) → W d post a1 a2 a3 a4 a5 a6 := by
  intro d
  induction d with
  | zero => intro post a1 a2 a3 a4 a5 a6 _ h; omega
  | succ d ih =>
    intro post a1 a2 a3 a4 a5 a6 ho hm hp
    exact hs d post a1 a2 a3 a4 a5 a6 ho hp (fun post' b1 b2 b3 b4 b5 b6 ho' hm' hp' => ih post' b1 b2 b3 b4 b5 b6 ho' (by omega) hp')
theorem rec_p {σ ρ : Type} (W : Nat → (ρ → Prop) → σ → Prop) (ok : σ → Prop) (μ : σ → Nat) (val : σ → ρ)
    (hs : ∀ d s post, ok s → post (val s) → (∀ s' post', ok s' → μ s' < μ s → post' (val s') → W d post' s') → W (d + 1) post s) :
    ∀ d s post, ok s → μ s < d → post (val s) → W d post s := by
  intro d
  induction d with
  | zero => intro s post _ h; omega
  | succ d ih =>
    intro s post ho hm hp
    exact hs d s post ho hp (fun s' post' ho' hm' hp' => ih s' post' ho' (by omega) hp')
theorem rec_q {σ ρ : Type} (W : Nat → (ρ → Prop) → σ → Prop) (ok : σ → Prop) (μ : σ → Nat) (Q : σ → ρ → Prop)
    (hs : ∀ d s post, ok s → (∀ r, Q s r → post r) → (∀ s' post', ok s' → μ s' < μ s → (∀ r, Q s' r → post' r) → W d post' s') → W (d + 1) post s) :
    ∀ d s post, ok s → μ s < d → (∀ r, Q s r → post r) → W d post s := by
  intro d
  induction d with
  | zero => intro s post _ h; omega
  | succ d ih =>
    intro s post ho hm hp
    exact hs d s post ho hp (fun s' post' ho' hm' hp' => ih s' post' ho' (by omega) hp')
def bx_sum (f : Nat → Int32) : Nat → Int32
  | 0 => 0
  | n + 1 => bx_sum f n + f n
theorem ek_u {A : Prop} {B : Nat → Prop} {k N : Nat} (hk : k < N) (h : B k) : (some k = none → A) ∧ (∀ y : Nat, some k = some y → (y < N ∧ B y)) :=
  ⟨fun z => absurd z (Option.some_ne_none k), fun _ e => (by cases e; exact ⟨hk, h⟩)⟩
theorem ek_nu {A : Prop} {B : Nat → Prop} (h : A) : ((none : Option Nat) = none → A) ∧ (∀ y : Nat, (none : Option Nat) = some y → B y) :=
  ⟨fun _ => h, fun _ e => (by cases e)⟩
theorem ek_if {c d A B : Prop} (e : c ↔ d) (f : d → A) (g : ¬ d → B) : (c → A) ∧ (¬ c → B) :=
  ⟨fun z => f (e.mp z), fun z => g (fun y => z (e.mpr y))⟩
theorem ek_v {α : Sort _} {P : α → Prop} {a b : α} (e : a = b) (h : P b) : P a := e ▸ h
theorem co_some {x : Option Nat} {A : Prop} {B : Nat → Prop} (i : Nat) (h : B i) (hx : x = some i := by rfl) : (x = none → A) ∧ (∀ y : Nat, x = some y → B y) := by
  subst hx
  exact ⟨fun e => (nomatch e), fun y e => Option.some.inj e ▸ h⟩
theorem co_none {x : Option Nat} {A : Prop} {B : Nat → Prop} (h : A) (hx : x = none := by rfl) : (x = none → A) ∧ (∀ y : Nat, x = some y → B y) := by
  subst hx
  exact ⟨fun _ => h, fun y e => (nomatch e)⟩
theorem co_any {x : Option Nat} {A : Prop} {B : Nat → Prop} (hn : x = none → A) (hs : ∀ i : Nat, x = some i → B i) : (x = none → A) ∧ (∀ y : Nat, x = some y → B y) := ⟨hn, hs⟩
theorem co_2 {P : Nat → Prop} (h0 : P 0) (h1 : P 1) {i : Nat} (hi : i < 2) : P i :=
  match i, hi with
  | 0, _ => h0
  | 1, _ => h1
theorem co_3 {P : Nat → Prop} (h0 : P 0) (h1 : P 1) (h2 : P 2) {i : Nat} (hi : i < 3) : P i :=
  match i, hi with
  | 0, _ => h0
  | 1, _ => h1
  | 2, _ => h2
theorem co_4 {P : Nat → Prop} (h0 : P 0) (h1 : P 1) (h2 : P 2) (h3 : P 3) {i : Nat} (hi : i < 4) : P i :=
  match i, hi with
  | 0, _ => h0
  | 1, _ => h1
  | 2, _ => h2
  | 3, _ => h3
theorem co_dec {N : Nat} {P : Nat → Prop} [DecidablePred P] (h : (List.range N).all (fun i => decide (P i)) = true) {i : Nat} (hi : i < N) : P i := by
  have := List.all_eq_true.mp h i (List.mem_range.mpr hi)
  exact of_decide_eq_true this
theorem co_tab {α : Type} {l : List α} {d : α} {P : α → Prop} (h : ∀ a, a ∈ l → P a) {i : Nat} (hi : i < l.length) : P (l.getD i d) := by
  rw [List.getD_eq_getElem?_getD, List.getElem?_eq_getElem hi]
  exact h _ (List.getElem_mem hi)
theorem pk_mu {x : Int32} {L : Nat} (h0 : ¬ x < 0) (h : ¬ nI L ≤ x) (hL : L < 2 ^ 31) : ∃ j : Nat, j < L ∧ x = nI j ∧ x + 1 = nI (j + 1) ∧ x.toNatClampNeg = j ∧ L - (x + 1).toNatClampNeg < L - x.toNatClampNeg := by
  obtain ⟨j, hj, rfl⟩ := nI_of h0
  have hl : j < L := Nat.not_le.mp fun q => h (nI_le q hj)
  refine ⟨j, hl, rfl, nI_1 j, nI_clamp hj, ?_⟩
  rw [nI_1, nI_clamp (by omega), nI_clamp hj]
  omega
theorem op_s {α : Type} {r : Option α} {A : Prop} {B : α → Prop} {y : α} (h : r = some y) (b : B y) : (r = none → A) ∧ ∀ z, r = some z → B z :=
  ⟨fun e => (by rw [h] at e; cases e), fun z e => (by rw [h] at e; cases e; exact b)⟩
def l_holds {α : Type} (a : Nat → Option Nat) (LP : List Nat) (p : Nat → α) (c : Nat) (b : Nat → α) : Prop :=
  ∀ j, j < c → ∃ y, a j = some y ∧ y ∈ LP ∧ p y = b j
theorem l_holds_0 {α : Type} {a : Nat → Option Nat} {LP : List Nat} {p b : Nat → α} : l_holds a LP p 0 b := fun j h => absurd h (Nat.not_lt_zero j)
theorem l_in_new (LP : List Nat) (q : Nat) : q ∈ LP ++ [q] := List.mem_append.mpr (Or.inr (List.mem_singleton.mpr rfl))
def l_sum (b : Nat → Int32) : Nat → Int32
  | 0 => 0
  | k + 1 => l_sum b k + b k
theorem sb_shr0 (x : Int32) : x >>> ((0 : Int32) &&& 31) = x := by
  rw [show ((0 : Int32) &&& 31) = 0 by decide]
  simp
theorem sb_shl0 (x : Int32) : x <<< ((0 : Int32) &&& 31) = x := by
  rw [show ((0 : Int32) &&& 31) = 0 by decide]
  simp
theorem sb_cl0 : (0 : Int32).toNatClampNeg = 0 := by decide
theorem sb_m1 {p : Nat} (h : 0 < p) : nI p + (-1) = nI (p - 1) := by
  obtain ⟨q, rfl⟩ : ∃ q, p = q + 1 := ⟨p - 1, by omega⟩
  exact pk_m1 q
def sb_b (c : Nat) : Int32 := (nI c).toInt8.toInt32
theorem sb_byte : ∀ c, c < 256 → sb_b c &&& 255 = nI c ∧ ((nI c).toUInt32 % 65536).toInt32 = nI c ∧ nI c ≤ 255 := by decide +kernel
def sb_Fit (a : Nat → Int32) : Prop := ∀ j, fits .byte (.int (a j)) = true
def sb_Lat (t : Nat → Nat) (n : Nat) (a : Nat → Int32) : Prop := ∀ j, j < n → t j < 256 ∧ a j = sb_b (t j)
theorem sb_fitB (c : Nat) : fits .byte (.int (sb_b c)) = true := pk_fb _
theorem sb_fit0 : sb_Fit (fun _ => 0) := fun _ => by
  show fits .byte (.int 0) = true
  decide
theorem sb_fitU {a : Nat → Int32} {k : Nat} {x : Int32} (h : sb_Fit a) (hx : fits .byte (.int x) = true) : sb_Fit (upd a k x) := by
  intro j
  by_cases e : j = k
  · subst e
    rw [pk_us]
    exact hx
  · rw [pk_un e]
    exact h j
def sb_cat (t : Nat → Nat) (n : Nat) (s : Nat → Nat) : Nat → Nat := fun j => if j < n then t j else s (j - n)
theorem sb_cat_lo {t s : Nat → Nat} {n j : Nat} (h : j < n) : sb_cat t n s j = t j := if_pos h
theorem sb_cat_hi {t s : Nat → Nat} {n j : Nat} : sb_cat t n s (n + j) = s j := by
  show (if n + j < n then t (n + j) else s (n + j - n)) = s j
  rw [if_neg (by omega), Nat.add_sub_cancel_left]
theorem sb_latPut {t s : Nat → Nat} {n w : Nat} {a a' : Nat → Int32} (h : sb_Lat t n a) (hk : ∀ j, j < n → a' j = a j) (hs : ∀ i, i < w → s i < 256 ∧ a' (n + i) = sb_b (s i)) : sb_Lat (sb_cat t n s) (n + w) a' := by
  intro j hj
  by_cases e : j < n
  · rw [sb_cat_lo e, hk j e]
    exact h j e
  · obtain ⟨i, rfl⟩ : ∃ i, j = n + i := ⟨j - n, by omega⟩
    rw [sb_cat_hi]
    exact hs i (by omega)
theorem sb_latKeep {t : Nat → Nat} {n : Nat} {a a' : Nat → Int32} (h : sb_Lat t n a) (hk : ∀ j, j < n → a' j = a j) : sb_Lat t n a' := fun j hj => by
  rw [hk j hj]
  exact h j hj
def sb_cap (q m : Nat) : Nat := if q ≤ m then m else if 2 * m + 2 < q then q else 2 * m + 2
def sb_Room (q m mc ms : Nat) : Prop := q ≤ m ∨ (1 ≤ mc ∧ sb_cap q m ≤ ms ∧ sb_cap q m ≤ 65536)
theorem sb_cap_ge (q m : Nat) : q ≤ sb_cap q m := by
  unfold sb_cap
  split
  · omega
  · split <;> omega
theorem sb_cap_gem (q m : Nat) : m ≤ sb_cap q m := by
  unfold sb_cap
  split
  · omega
  · split <;> omega
theorem sb_cap_le {q m mc ms : Nat} (hm : m ≤ 65536) (hr : sb_Room q m mc ms) : sb_cap q m ≤ 65536 := by
  rcases hr with h | h
  · rw [sb_cap, if_pos h]
    exact hm
  · exact h.2.2
theorem sb_at {P : Int32 → Prop} {x y : Int32} (e : x = y) (h : P y) : P x := e ▸ h
def sb_dg (w : Nat) : Nat := if w < 10 then 1 else if w < 100 then 2 else if w < 1000 then 3 else if w < 10000 then 4 else if w < 100000 then 5 else if w < 1000000 then 6 else if w < 10000000 then 7 else if w < 100000000 then 8 else if w < 1000000000 then 9 else 10
def sb_dec (v : Nat) : Nat → Nat := fun i => 48 + v / 10 ^ (sb_dg v - 1 - i) % 10
theorem sb_dg_in (w : Nat) : 1 ≤ sb_dg w ∧ sb_dg w ≤ 10 := by
  unfold sb_dg
  constructor <;> (repeat' split) <;> omega
theorem sb_dg100 {w : Nat} (h : 100 ≤ w) (hw : w < 2 ^ 31) : sb_dg w = sb_dg (w / 100) + 2 := by
  rw [sb_dg, sb_dg, if_neg (show ¬ w < 10 by omega), if_neg (show ¬ w < 100 by omega)]
  by_cases h3 : w < 1000
  · rw [if_pos h3, if_pos (show w / 100 < 10 by omega)]
  rw [if_neg h3, if_neg (show ¬ w / 100 < 10 by omega)]
  by_cases h4 : w < 10000
  · rw [if_pos h4, if_pos (show w / 100 < 100 by omega)]
  rw [if_neg h4, if_neg (show ¬ w / 100 < 100 by omega)]
  by_cases h5 : w < 100000
  · rw [if_pos h5, if_pos (show w / 100 < 1000 by omega)]
  rw [if_neg h5, if_neg (show ¬ w / 100 < 1000 by omega)]
  by_cases h6 : w < 1000000
  · rw [if_pos h6, if_pos (show w / 100 < 10000 by omega)]
  rw [if_neg h6, if_neg (show ¬ w / 100 < 10000 by omega)]
  by_cases h7 : w < 10000000
  · rw [if_pos h7, if_pos (show w / 100 < 100000 by omega)]
  rw [if_neg h7, if_neg (show ¬ w / 100 < 100000 by omega)]
  by_cases h8 : w < 100000000
  · rw [if_pos h8, if_pos (show w / 100 < 1000000 by omega)]
  rw [if_neg h8, if_neg (show ¬ w / 100 < 1000000 by omega)]
  by_cases h9 : w < 1000000000
  · rw [if_pos h9, if_pos (show w / 100 < 10000000 by omega)]
  rw [if_neg h9, if_neg (show ¬ w / 100 < 10000000 by omega)]
  rw [if_pos (show w / 100 < 100000000 by omega)]
theorem sb_negT {w : Nat} (h : w < 2 ^ 31) : (-nI w).toInt = -(w : Int) := by
  rw [Int32.toInt_neg, nI_toInt h]
  exact Int.bmod_eq_of_le (by omega) (by omega)
theorem sb_nle {a b : Nat} (ha : a < 2 ^ 31) (hb : b < 2 ^ 31) : -nI a ≤ -nI b ↔ b ≤ a := by
  rw [Int32.le_iff_toInt_le, sb_negT ha, sb_negT hb]
  omega
theorem sb_nlt {a b : Nat} (ha : a < 2 ^ 31) (hb : b < 2 ^ 31) : -nI a < -nI b ↔ b < a := by
  rw [Int32.lt_iff_toInt_lt, sb_negT ha, sb_negT hb]
  omega
theorem sb_cmp {A B : Prop} {x : Int32} (v c : Nat) (f : c ≤ v → A) (g : v < c → B) (hv : v < 2 ^ 31) (hx : x = -nI c := by rfl) (hc : c < 2 ^ 31 := by omega) : (-nI v ≤ x → A) ∧ (¬ -nI v ≤ x → B) := by
  subst hx
  rw [sb_nle hv hc]
  exact ⟨f, fun z => g (by omega)⟩
theorem sb_ndiv {w : Nat} (hw : w < 2 ^ 31) : (-nI w) / 100 = -nI (w / 100) := by
  apply Int32.toInt_inj.mp
  have h100 : (100 : Int32).toInt = 100 := by decide
  rw [Int32.toInt_div, sb_negT hw, h100, sb_negT (by omega), Int.neg_tdiv, Int.tdiv_eq_ediv_of_nonneg (by omega), Int.bmod_eq_of_le (by omega) (by omega)]
  omega
theorem sb_nrem {w : Nat} (hw : w < 2 ^ 31) : (-nI (w / 100)) * 100 - (-nI w) = nI (w % 100) := by
  have h := pk_rem (a := w) (d := 100) hw (by decide) (by decide)
  rw [pk_div hw (by decide) (by decide)] at h
  rw [← h]
  show (-nI (w / 100)) * nI 100 - (-nI w) = nI w - nI (w / 100) * nI 100
  rw [Int32.neg_mul, Int32.sub_neg, Int32.add_comm, ← Int32.sub_eq_add_neg]
end
section
/-! rows on bits, shifts and unsigned numbers, to paste: each family out of a closed proof of our own, whole with what it rests on; each by itself clean at Lean in its own claim (generation 39, form 5). Take a family whole -/
/-! ===== Int32 by its bits: bt x i ===== -/
def bt (x : Int32) (i : Nat) : Bool := x.toBitVec.getLsbD i
theorem b_ext {x y : Int32} (h : ∀ i, i < 32 → bt x i = bt y i) : x = y := Int32.toBitVec_inj.mp (BitVec.eq_of_getLsbD_eq (fun i hi => h i hi))
theorem b_or (x y : Int32) (i : Nat) : bt (x ||| y) i = (bt x i || bt y i) := by unfold bt; rw [Int32.toBitVec_or, BitVec.getLsbD_or]
theorem b_and (x y : Int32) (i : Nat) : bt (x &&& y) i = (bt x i && bt y i) := by unfold bt; rw [Int32.toBitVec_and, BitVec.getLsbD_and]
theorem b_xor (x y : Int32) (i : Nat) : bt (x ^^^ y) i = (bt x i ^^ bt y i) := by unfold bt; rw [Int32.toBitVec_xor, BitVec.getLsbD_xor]
theorem b_big {x : Int32} {i : Nat} (h : 32 ≤ i) : bt x i = false := BitVec.getLsbD_of_ge _ _ h
theorem b_255 (i : Nat) : bt 255 i = decide (i < 8) := by
  rcases Nat.lt_or_ge i 32 with h | h
  · exact (by decide +kernel : ∀ i, i < 32 → bt 255 i = decide (i < 8)) i h
  · rw [b_big h, decide_eq_false (by omega)]
theorem b_65535 (i : Nat) : bt 65535 i = decide (i < 16) := by
  rcases Nat.lt_or_ge i 32 with h | h
  · exact (by decide +kernel : ∀ i, i < 32 → bt 65535 i = decide (i < 16)) i h
  · rw [b_big h, decide_eq_false (by omega)]
theorem b_m1 : ∀ i, i < 32 → bt (-1) i = true := by decide +kernel
theorem b_0 (i : Nat) : bt 0 i = false := BitVec.getLsbD_zero
theorem s_l : ∀ n, n < 32 → ((nI n &&& 31).toBitVec.smod 32).toNat = n := by decide +kernel
theorem s_u : ∀ n, n < 32 → (((nI n).toUInt32 &&& Int32.toUInt32 31).toBitVec % 32).toNat = n := by decide +kernel
theorem b_shl (n : Nat) (hn : n < 32) (x : Int32) {i : Nat} (hi : i < 32) : bt (x <<< (nI n &&& 31)) i = (decide (n ≤ i) && bt x (i - n)) := by
  unfold bt
  rw [Int32.toBitVec_shiftLeft]
  show (x.toBitVec <<< ((nI n &&& 31).toBitVec.smod 32).toNat).getLsbD i = _
  rw [s_l n hn, BitVec.getLsbD_shiftLeft]
  rcases Nat.lt_or_ge i n with h | h
  · simp [h, Nat.not_le.mpr h]
  · simp [hi, h, Nat.not_lt.mpr h]
theorem b_ushr (n : Nat) (hn : n < 32) (x : Int32) (i : Nat) : bt ((x.toUInt32 >>> ((nI n).toUInt32 &&& Int32.toUInt32 31)).toInt32) i = bt x (n + i) := by
  show (x.toUInt32 >>> ((nI n).toUInt32 &&& Int32.toUInt32 31)).toBitVec.getLsbD i = x.toUInt32.toBitVec.getLsbD (n + i)
  rw [UInt32.toBitVec_shiftRight]
  show (x.toUInt32.toBitVec >>> (((nI n).toUInt32 &&& Int32.toUInt32 31).toBitVec % 32).toNat).getLsbD i = _
  rw [s_u n hn, BitVec.getLsbD_ushiftRight]
theorem b_sshr (n : Nat) (hn : n < 32) (x : Int32) {i : Nat} (hi : i < 32) : bt (x >>> (nI n &&& 31)) i = if n + i < 32 then bt x (n + i) else bt x 31 := by
  unfold bt
  rw [Int32.toBitVec_shiftRight]
  show (x.toBitVec.sshiftRight ((nI n &&& 31).toBitVec.smod 32).toNat).getLsbD i = _
  rw [s_l n hn, BitVec.getLsbD_sshiftRight, BitVec.msb_eq_getLsbD_last]
  simp [hi]
theorem b_shl8 (x : Int32) {i : Nat} (hi : i < 32) : bt (x <<< ((8 : Int32) &&& 31)) i = (decide (8 ≤ i) && bt x (i - 8)) := b_shl 8 (by omega) x hi
theorem b_shl16 (x : Int32) {i : Nat} (hi : i < 32) : bt (x <<< ((16 : Int32) &&& 31)) i = (decide (16 ≤ i) && bt x (i - 16)) := b_shl 16 (by omega) x hi
theorem b_shl24 (x : Int32) {i : Nat} (hi : i < 32) : bt (x <<< ((24 : Int32) &&& 31)) i = (decide (24 ≤ i) && bt x (i - 24)) := b_shl 24 (by omega) x hi
theorem b_sshr8 (x : Int32) {i : Nat} (hi : i < 32) : bt (x >>> ((8 : Int32) &&& 31)) i = if 8 + i < 32 then bt x (8 + i) else bt x 31 := b_sshr 8 (by omega) x hi
/-! ===== nI under and, xor, >>>, one bit, 65535 ===== -/
theorem nx_and (a b : Nat) : nI a &&& nI b = nI (a &&& b) := by
  apply Int32.toBitVec_inj.1
  show BitVec.ofNat 32 a &&& BitVec.ofNat 32 b = BitVec.ofNat 32 (a &&& b)
  apply BitVec.eq_of_getLsbD_eq
  intro i hi
  simp [hi]
theorem nx_xor (a b : Nat) : nI a ^^^ nI b = nI (a ^^^ b) := by
  apply Int32.toBitVec_inj.1
  show BitVec.ofNat 32 a ^^^ BitVec.ofNat 32 b = BitVec.ofNat 32 (a ^^^ b)
  apply BitVec.eq_of_getLsbD_eq
  intro i hi
  simp [hi]
theorem nx_cnt : ∀ j : Fin 32, (UInt32.ofNat j.val &&& Int32.toUInt32 31).toNat % 32 = j.val := by decide +kernel
theorem nx_ush {k j : Nat} (hk : k < 65536) (hj : j < 32) : ((nI k).toUInt32 >>> ((nI j).toUInt32 &&& Int32.toUInt32 31)).toInt32 = nI (k >>> j) := by
  have hs : k >>> j ≤ k := by
    rw [Nat.shiftRight_eq_div_pow]
    exact Nat.div_le_self _ _
  have e2 : UInt32.ofNat k >>> (UInt32.ofNat j &&& Int32.toUInt32 31) = UInt32.ofNat (k >>> j) := by
    apply UInt32.toNat_inj.1
    have h1 : (UInt32.ofNat k).toNat = k := Nat.mod_eq_of_lt (by omega)
    have h2 : (UInt32.ofNat (k >>> j)).toNat = k >>> j := Nat.mod_eq_of_lt (by omega)
    rw [UInt32.toNat_shiftRight, nx_cnt ⟨j, hj⟩, h1, h2]
  show (UInt32.ofNat k >>> (UInt32.ofNat j &&& Int32.toUInt32 31)).toInt32 = _
  rw [e2]
  rfl
theorem nx_bit {k j : Nat} (hk : k < 65536) (hj : j < 16) : (((nI k).toUInt32 >>> ((nI j).toUInt32 &&& Int32.toUInt32 31)).toInt32 &&& 1) = 0 ↔ k.testBit j = false := by
  rw [nx_ush hk (by omega)]
  show nI (k >>> j) &&& nI 1 = 0 ↔ _
  rw [nx_and, Nat.and_one_is_mod, ← nI_0, nI_eq (by omega) (by omega), Nat.testBit_eq_decide_div_mod_eq, Nat.shiftRight_eq_div_pow, decide_eq_false_iff_not]
  generalize k / 2 ^ j = z
  omega
theorem nx_mod (k : Nat) : nI k &&& 65535 = nI (k % 65536) := by
  show nI k &&& nI 65535 = _
  rw [nx_and, show (65535 : Nat) = 2 ^ 16 - 1 from rfl, Nat.and_two_pow_sub_one_eq_mod]
theorem nx_m16 {k : Nat} (h : k < 65536) : nI k &&& 65535 = nI k := by rw [nx_mod, Nat.mod_eq_of_lt h]
theorem nx_mask (x : Int32) : ∃ k, k < 65536 ∧ x &&& 65535 = nI k := by
  have e : x = nI x.toBitVec.toNat := by
    apply Int32.toBitVec_inj.1
    show x.toBitVec = BitVec.ofNat 32 x.toBitVec.toNat
    simp
  refine ⟨x.toBitVec.toNat % 65536, Nat.mod_lt _ (by omega), ?_⟩
  rw [← nx_mod, ← e]
/-! ===== Int32 as a set of bits: test, set ===== -/
def nf_M (m : Int32) : Nat := 4294967296 - m.toBitVec.toNat
theorem nf_sh : ∀ l, l < 32 → ((1 : Int32) <<< (nI l &&& 31)).toBitVec = BitVec.twoPow 32 l := by decide +kernel
theorem nf_sl : ∀ l, l < 32 → (((nI l).toUInt32 &&& Int32.toUInt32 31).toBitVec % 32).toNat = l := by decide +kernel
theorem nf_tp : ∀ l, l < 32 → BitVec.twoPow 32 l ≠ 0#32 := by decide +kernel
theorem nf_bit (m : Int32) (l : Nat) (hl : l < 32) : ((m.toUInt32 >>> ((nI l).toUInt32 &&& Int32.toUInt32 31)).toInt32 &&& 1) = 0 ↔ (m &&& ((1 : Int32) <<< (nI l &&& 31))) = 0 := by
  have e : ((m.toUInt32 >>> ((nI l).toUInt32 &&& Int32.toUInt32 31)).toInt32).toBitVec = m.toBitVec >>> l := by
    show m.toBitVec >>> (((nI l).toUInt32 &&& Int32.toUInt32 31).toBitVec % 32) = m.toBitVec >>> l
    rw [BitVec.ushiftRight_eq', nf_sl l hl]
  rw [← Int32.toBitVec_inj, ← Int32.toBitVec_inj, Int32.toBitVec_and, Int32.toBitVec_and, nf_sh l hl, e, BitVec.and_twoPow]
  show (m.toBitVec >>> l &&& 1#32) = 0#32 ↔ _ = 0#32
  rw [BitVec.and_one_eq_setWidth_ofBool_getLsbD, BitVec.getLsbD_ushiftRight, Nat.add_zero]
  cases hb : m.toBitVec.getLsbD l
  · exact ⟨fun _ => by simp, fun _ => by decide⟩
  · exact ⟨fun z => absurd z (by decide), fun z => absurd ((if_pos rfl).symm.trans z) (nf_tp l hl)⟩
theorem nf_gr (m k : Int32) (h : m &&& k = 0) (hk : k ≠ 0) : nf_M (m ||| k) < nf_M m := by
  have hm := m.toBitVec.isLt
  have hm' := (m ||| k).toBitVec.isLt
  have h1 : m.toBitVec.toNat ≤ (m ||| k).toBitVec.toNat := by
    rw [Int32.toBitVec_or, BitVec.toNat_or]
    exact Nat.left_le_or
  have h2 : m.toBitVec.toNat ≠ (m ||| k).toBitVec.toNat := by
    intro e
    have e2 : m = m ||| k := Int32.toBitVec_inj.mp (BitVec.eq_of_toNat_eq e)
    apply hk
    apply Int32.toBitVec_inj.mp
    show k.toBitVec = 0#32
    apply BitVec.eq_of_getLsbD_eq
    intro i hi
    have a : m.toBitVec.getLsbD i = (m.toBitVec.getLsbD i || k.toBitVec.getLsbD i) := by rw [← BitVec.getLsbD_or, ← Int32.toBitVec_or, ← e2]
    have b : (m.toBitVec.getLsbD i && k.toBitVec.getLsbD i) = false := by
      rw [← BitVec.getLsbD_and, ← Int32.toBitVec_and, h]
      exact BitVec.getLsbD_zero
    rw [BitVec.getLsbD_zero]
    revert a b
    cases m.toBitVec.getLsbD i <;> cases k.toBitVec.getLsbD i <;> simp
  unfold nf_M
  omega
/-! ===== a byte read unsigned ===== -/
theorem bp_b (x : Int32) : x.toInt8.toInt32 &&& 255 = x &&& 255 := by
  apply Int32.toBitVec_inj.mp
  rw [Int32.toBitVec_and, Int32.toBitVec_and, Int8.toBitVec_toInt32, Int32.toBitVec_toInt8]
  apply BitVec.eq_of_getLsbD_eq
  intro i hi
  rw [BitVec.getLsbD_and, BitVec.getLsbD_and]
  have hm : ∀ i < 32, 8 ≤ i → (255 : Int32).toBitVec.getLsbD i = false := by decide
  rcases Nat.lt_or_ge i 8 with z | z
  · rw [BitVec.getLsbD_signExtend, BitVec.getLsbD_signExtend, if_pos z, if_pos hi]
    simp only [z, hi, decide_true, Bool.true_and]
  · rw [hm i hi z]; simp
/-! ===== the char cast and 65535 ===== -/
theorem em_w (v : Int32) : ∃ w : Nat, w < 65536 ∧ (v.toUInt32 % 65536).toInt32 = nI w ∧ v &&& 65535 = nI w := by
  have hr := lw_u16_r v
  have h0 : (0 : Int32).toInt = 0 := by decide
  obtain ⟨w, h1, h2⟩ := nI_of (x := lw_u16 v) (by rw [Int32.lt_iff_toInt_lt]; omega)
  have h3 : (v.toUInt32 % 65536).toInt32 = nI w := h2
  rw [h2, nI_toInt h1] at hr
  exact ⟨w, by omega, h3, by rw [← lg_i2c_mask, ← lg_i2c_nf, h3]⟩
/-! ===== Int64 as a set of bits: test, set, clear ===== -/
theorem ts_nf {x : Bool} (h : ¬ x = false) : x = true := by cases x <;> first | rfl | exact absurd rfl h
theorem ts_nt {x : Bool} (h : ¬ x = true) : x = false := by cases x <;> first | rfl | exact absurd rfl h
theorem ts_bit {w : Int64} {s : UInt64} {j : Nat} (hj : j < 64) (hs : s.toNat = j) : ((w.toUInt64 >>> s).toInt64 &&& 1) = 0 ↔ w.toBitVec.getLsbD j = false := by
  have e : (w.toUInt64 >>> s).toInt64.toBitVec = w.toBitVec >>> j := by
    apply BitVec.eq_of_toNat_eq
    show (w.toUInt64 >>> s).toNat = _
    rw [UInt64.toNat_shiftRight, hs, Nat.mod_eq_of_lt hj, BitVec.toNat_ushiftRight]
    rfl
  rw [← Int64.toBitVec_inj, Int64.toBitVec_and, e]
  show w.toBitVec >>> j &&& 1#64 = 0#64 ↔ _
  constructor
  · intro h
    have t := congrArg (fun x => x.getLsbD 0) h
    simpa using t
  · intro h
    apply BitVec.eq_of_getLsbD_eq
    intro i hi
    cases i with
    | zero => simp [h]
    | succ i => simp
theorem ts_or {w m : Int64} {j : Nat} (hj : j < 64) (hm : m.toBitVec = BitVec.twoPow 64 j) : (w ||| m) = w ↔ w.toBitVec.getLsbD j = true := by
  rw [← Int64.toBitVec_inj, Int64.toBitVec_or, hm]
  constructor
  · intro h
    have t := congrArg (fun x => x.getLsbD j) h
    simp only [BitVec.getLsbD_or, BitVec.getLsbD_twoPow] at t
    simpa [hj] using t.symm
  · intro h
    apply BitVec.eq_of_getLsbD_eq
    intro i hi
    rw [BitVec.getLsbD_or, BitVec.getLsbD_twoPow]
    by_cases e : j = i
    · subst e; rw [h, Bool.true_or]
    · simp [e]
theorem ts_and {w m : Int64} {j : Nat} (hj : j < 64) (hm : m.toBitVec = BitVec.twoPow 64 j) : (w &&& (m ^^^ (-1))) = w ↔ w.toBitVec.getLsbD j = false := by
  have ha : (-1 : Int64).toBitVec = BitVec.allOnes 64 := by decide
  rw [← Int64.toBitVec_inj, Int64.toBitVec_and, Int64.toBitVec_xor, hm, ha]
  constructor
  · intro h
    have t := congrArg (fun x => x.getLsbD j) h
    simp only [BitVec.getLsbD_and, BitVec.getLsbD_xor, BitVec.getLsbD_twoPow, BitVec.getLsbD_allOnes] at t
    simpa [hj] using t.symm
  · intro h
    apply BitVec.eq_of_getLsbD_eq
    intro i hi
    rw [BitVec.getLsbD_and, BitVec.getLsbD_xor, BitVec.getLsbD_twoPow, BitVec.getLsbD_allOnes]
    by_cases e : j = i
    · subst e; rw [h, Bool.false_and]
    · simp [e, hi]
/-! ===== lN n to 2^64: shifts, and, or, masks, one bit ===== -/
theorem wb_tb (n : Nat) : (lN n).toBitVec = BitVec.ofNat 64 n := rfl
theorem wb_inj {a b : Int64} (h : a.toBitVec = b.toBitVec) : a = b := Int64.toBitVec_inj.mp h
theorem wb_tn {n : Nat} (h : n < 2 ^ 64) : (lN n).toBitVec.toNat = n := by rw [wb_tb, BitVec.toNat_ofNat, Nat.mod_eq_of_lt h]
theorem wb_of (x : Int64) : ∃ n, n < 2 ^ 64 ∧ x = lN n := ⟨x.toBitVec.toNat, x.toBitVec.isLt, wb_inj (by rw [wb_tb]; simp)⟩
theorem wb_of32 (x : Int32) : ∃ n, n < 2 ^ 32 ∧ x = nI n := ⟨x.toBitVec.toNat, x.toBitVec.isLt, Int32.toBitVec_inj.mp (by show _ = BitVec.ofNat 32 _; simp)⟩
theorem wb_c : ∀ k, k < 64 → ((nI k).toInt64 &&& 63) = lN k := by decide +kernel
theorem wb_cu : ∀ k, k < 64 → ((nI k).toInt64.toUInt64 &&& Int64.toUInt64 63) = UInt64.ofNat k := by decide +kernel
theorem wb_sm : ∀ k, k < 64 → (BitVec.ofNat 64 k).smod 64 = BitVec.ofNat 64 k := by decide +kernel
theorem wb_pw {a b : Nat} (h : a ≤ b) : 2 ^ b = 2 ^ a * 2 ^ (b - a) := by rw [← Nat.pow_add]; congr 1; omega
theorem wb_lt2 {a b : Nat} (h : a < b) : 2 ^ a < 2 ^ b := Nat.pow_lt_pow_right (by decide) h
theorem wb_mod (n : Nat) : lN n = lN (n % 2 ^ 64) := wb_inj (by rw [wb_tb, wb_tb]; apply BitVec.eq_of_toNat_eq; rw [BitVec.toNat_ofNat, BitVec.toNat_ofNat, Nat.mod_mod])
theorem wb_shr {n k : Nat} (hn : n < 2 ^ 64) (hk : k < 64) : ((lN n).toUInt64 >>> ((nI k).toInt64.toUInt64 &&& Int64.toUInt64 63)).toInt64 = lN (n / 2 ^ k) := by
  rw [wb_cu k hk]
  apply wb_inj
  apply BitVec.eq_of_toNat_eq
  show ((lN n).toUInt64 >>> UInt64.ofNat k).toNat = (BitVec.ofNat 64 _).toNat
  have h1 : (UInt64.ofNat k).toNat = k := by
    show (BitVec.ofNat 64 k).toNat = k
    rw [BitVec.toNat_ofNat, Nat.mod_eq_of_lt (by omega)]
  have h2 : (lN n).toUInt64.toNat = n := wb_tn hn
  rw [UInt64.toNat_shiftRight, h1, h2, Nat.mod_eq_of_lt hk, Nat.shiftRight_eq_div_pow, BitVec.toNat_ofNat, Nat.mod_eq_of_lt (Nat.lt_of_le_of_lt (Nat.div_le_self _ _) hn)]
theorem wb_shl (n : Nat) {k : Nat} (hk : k < 64) : lN n <<< ((nI k).toInt64 &&& 63) = lN (n * 2 ^ k) := by
  rw [wb_c k hk]
  apply wb_inj
  rw [Int64.toBitVec_shiftLeft, wb_tb, wb_tb, wb_tb, wb_sm k hk]
  apply BitVec.eq_of_toNat_eq
  rw [BitVec.shiftLeft_eq', BitVec.toNat_shiftLeft, BitVec.toNat_ofNat, BitVec.toNat_ofNat, BitVec.toNat_ofNat, Nat.mod_eq_of_lt (show k < 2 ^ 64 by omega), Nat.shiftLeft_eq, Nat.mul_mod, Nat.mod_mod, ← Nat.mul_mod]
theorem wb_and {a b : Nat} (ha : a < 2 ^ 64) (hb : b < 2 ^ 64) : lN a &&& lN b = lN (a &&& b) := by
  apply wb_inj
  rw [Int64.toBitVec_and, wb_tb, wb_tb, wb_tb]
  apply BitVec.eq_of_toNat_eq
  rw [BitVec.toNat_and, BitVec.toNat_ofNat, BitVec.toNat_ofNat, BitVec.toNat_ofNat, Nat.mod_eq_of_lt ha, Nat.mod_eq_of_lt hb, Nat.mod_eq_of_lt (Nat.and_lt_two_pow _ hb)]
theorem wb_or {a b : Nat} (ha : a < 2 ^ 64) (hb : b < 2 ^ 64) : lN a ||| lN b = lN (a ||| b) := by
  apply wb_inj
  rw [Int64.toBitVec_or, wb_tb, wb_tb, wb_tb]
  apply BitVec.eq_of_toNat_eq
  rw [BitVec.toNat_or, BitVec.toNat_ofNat, BitVec.toNat_ofNat, BitVec.toNat_ofNat, Nat.mod_eq_of_lt ha, Nat.mod_eq_of_lt hb, Nat.mod_eq_of_lt (Nat.or_lt_two_pow ha hb)]
theorem wb_mask {n k : Nat} (hn : n < 2 ^ 64) (hk : k < 64) : lN n &&& lN (2 ^ k - 1) = lN (n % 2 ^ k) := by
  rw [wb_and hn (by have := wb_lt2 hk; omega), Nat.and_two_pow_sub_one_eq_mod]
theorem wb_a1 {n : Nat} (hn : n < 2 ^ 64) : lN n &&& 1 = lN (n % 2) := wb_mask (k := 1) hn (by decide)
theorem wb_bit {n k : Nat} (hn : n < 2 ^ 64) (hk : k < 64) : ((lN n).toUInt64 >>> ((nI k).toInt64.toUInt64 &&& Int64.toUInt64 63)).toInt64 &&& 1 = lN (n / 2 ^ k % 2) := by
  rw [wb_shr hn hk, wb_a1 (Nat.lt_of_le_of_lt (Nat.div_le_self _ _) hn)]
theorem wb_xor {q k : Nat} (hk : k < 63) (h : 2 ^ k ≤ q) (h2 : q < 2 ^ (k + 1)) : lN q ^^^ lN (2 ^ k) = lN (q - 2 ^ k) := by
  obtain ⟨r, rfl⟩ : ∃ r, q = 2 ^ k + r := ⟨q - 2 ^ k, by omega⟩
  have hr : r < 2 ^ k := by rw [Nat.pow_succ] at h2; omega
  have hx : (2 ^ k + r) ^^^ 2 ^ k = r := by
    apply Nat.eq_of_testBit_eq
    intro i
    rw [Nat.testBit_xor, Nat.testBit_two_pow]
    rcases Nat.lt_trichotomy i k with h | h | h
    · rw [Nat.testBit_two_pow_add_gt h]
      simp [show ¬ k = i by omega]
    · subst h
      rw [Nat.testBit_two_pow_add_eq]
      simp
    · have a1 : 2 ^ (k + 1) ≤ 2 ^ i := Nat.pow_le_pow_right (by decide) h
      rw [Nat.testBit_lt_two_pow (show 2 ^ k + r < 2 ^ i by omega), Nat.testBit_lt_two_pow (show r < 2 ^ i by omega)]
      simp [show ¬ k = i by omega]
  have b1 := wb_lt2 (show k + 1 < 64 by omega)
  have b2 := wb_lt2 (show k < 64 by omega)
  apply wb_inj
  rw [Int64.toBitVec_xor, wb_tb, wb_tb, wb_tb]
  apply BitVec.eq_of_toNat_eq
  rw [BitVec.toNat_xor, BitVec.toNat_ofNat, BitVec.toNat_ofNat, BitVec.toNat_ofNat, Nat.mod_eq_of_lt (by omega : 2 ^ k + r < 2 ^ 64), Nat.mod_eq_of_lt b2, hx, Nat.add_sub_cancel_left, Nat.mod_eq_of_lt (by omega)]
/-! ===== lN: masks, 'or' of parts that don't overlap is a sum ===== -/
theorem u_tn {n : Nat} (h : n < 2 ^ 64) : (UInt64.ofNat n).toNat = n := Nat.mod_eq_of_lt h
theorem g_and {a b c : Nat} (ha : a < 2 ^ 64) (hb : b < 2 ^ 64) (hc : a &&& b = c) : lN a &&& lN b = lN c := by
  subst hc
  have h : UInt64.ofNat a &&& UInt64.ofNat b = UInt64.ofNat (a &&& b) := UInt64.toNat_inj.mp (by rw [UInt64.toNat_and, u_tn ha, u_tn hb, u_tn (Nat.and_lt_two_pow a hb)])
  have h2 := congrArg UInt64.toInt64 h
  exact h2
theorem g_and1 {a : Nat} (ha : a < 2 ^ 64) : lN a &&& 1 = lN (a % 2) := g_and (b := 1) ha (by decide) (Nat.and_two_pow_sub_one_eq_mod a 1)
theorem g_mask {a s p : Nat} (hp : 2 ^ s = p) (hs : s < 64) (ha : a < 2 ^ 64) : lN a &&& lN (p - 1) = lN (a % p) := by
  subst hp
  have := Nat.pow_lt_pow_right (show 1 < 2 by decide) hs
  exact g_and ha (by omega) (Nat.and_two_pow_sub_one_eq_mod a s)
theorem g_or {k p a b : Nat} (hp : 2 ^ k = p) (ha : a < p) (h : b * p + a < 2 ^ 64) : lN (b * p) ||| lN a = lN (b * p + a) := by
  subst hp
  have h1 : b * 2 ^ k ||| a = b * 2 ^ k + a := by rw [← Nat.shiftLeft_eq, Nat.shiftLeft_add_eq_or_of_lt ha]
  have h3 : UInt64.ofNat (b * 2 ^ k) ||| UInt64.ofNat a = UInt64.ofNat (b * 2 ^ k + a) := UInt64.toNat_inj.mp (by rw [UInt64.toNat_or, u_tn (by omega), u_tn (by omega), u_tn h, h1])
  have h2 := congrArg UInt64.toInt64 h3
  exact h2
theorem g_or' {k p a b : Nat} (hp : 2 ^ k = p) (ha : a < p) (h : a + b * p < 2 ^ 64) : lN a ||| lN (b * p) = lN (a + b * p) := by
  rw [Int64.or_comm, g_or hp ha (by omega), Nat.add_comm]
theorem g_ushr {a k p : Nat} {y : UInt64} (hy : y = UInt64.ofNat k) (hk : k < 64) (hp : 2 ^ k = p) (ha : a < 2 ^ 64) : ((lN a).toUInt64 >>> y).toInt64 = lN (a / p) := by
  subst hy hp
  have h : UInt64.ofNat a >>> UInt64.ofNat k = UInt64.ofNat (a / 2 ^ k) := UInt64.toNat_inj.mp (by rw [UInt64.toNat_shiftRight, u_tn ha, u_tn (by omega), u_tn (Nat.lt_of_le_of_lt (Nat.div_le_self _ _) ha), Nat.mod_eq_of_lt hk, Nat.shiftRight_eq_div_pow])
  have h2 := congrArg UInt64.toInt64 h
  exact h2
theorem g_shl {a k p : Nat} {y : Int64} (hy : y.toBitVec.smod 64 = BitVec.ofNat 64 k) (hk : k < 64) (hp : 2 ^ k = p) (ha : a < 2 ^ 64) : lN a <<< y = lN (a * p) := by
  subst hp
  apply Int64.toBitVec_inj.mp
  rw [Int64.toBitVec_shiftLeft, hy]
  apply BitVec.eq_of_toNat_eq
  have hb : (lN a).toBitVec.toNat = a := Nat.mod_eq_of_lt ha
  have hk' : (BitVec.ofNat 64 k).toNat = k := Nat.mod_eq_of_lt (by omega)
  have h : ((lN a).toBitVec <<< BitVec.ofNat 64 k).toNat = (a * 2 ^ k) % 2 ^ 64 := by simp only [BitVec.shiftLeft_eq', BitVec.toNat_shiftLeft, hb, hk', Nat.shiftLeft_eq]
  exact h
/-! ===== lN to 2^62 under >> and >>> ===== -/
theorem pf_lI {a : Nat} (h : a < 2 ^ 63) : (lN a).toInt = (a : Int) := lg_ofNat_toInt h
theorem pf_shr {a d : Nat} {D : Int64} (hD : (D.toBitVec.smod 64).toNat = d) (h : a < 2 ^ 62) : lN a >>> D = lN (a / 2 ^ d) := by
  have hd : a / 2 ^ d ≤ a := Nat.div_le_self _ _
  apply Int64.toInt_inj.mp
  have e : (lN a >>> D).toInt = (lN a).toInt >>> d := by
    rw [← hD]
    exact BitVec.toInt_sshiftRight ..
  rw [e, Int.shiftRight_eq_div_pow, pf_lI (by omega), pf_lI (by omega)]
  rfl
theorem pf_ushr {a d : Nat} {D : UInt64} (hD : D.toNat % 64 = d) (h : a < 2 ^ 62) : ((lN a).toUInt64 >>> D).toInt64 = lN (a / 2 ^ d) := by
  have hd : a / 2 ^ d ≤ a := Nat.div_le_self _ _
  have e : (lN a).toUInt64 >>> D = UInt64.ofNat (a / 2 ^ d) := UInt64.toNat_inj.mp (by
    rw [UInt64.toNat_shiftRight, hD, Nat.shiftRight_eq_div_pow, UInt64.toNat_ofNat']
    show (UInt64.ofNat a).toNat / 2 ^ d = _
    rw [UInt64.toNat_ofNat', Nat.mod_eq_of_lt (by omega), Nat.mod_eq_of_lt (by omega)])
  rw [e]
  rfl
theorem pf_andw (x : Int64) : ∃ m, m < 2 ^ 32 ∧ x &&& 4294967295 = lN m := ⟨x.toBitVec.toNat % 2 ^ 32, Nat.mod_lt _ (by decide), Int64.toBitVec_inj.mp (BitVec.eq_of_toNat_eq (by
  show (x.toBitVec &&& 4294967295#64).toNat = (BitVec.ofNat 64 (x.toBitVec.toNat % 2 ^ 32)).toNat
  rw [BitVec.toNat_and, show (4294967295#64).toNat = 2 ^ 32 - 1 from by decide, Nat.and_two_pow_sub_one_eq_mod, BitVec.toNat_ofNat]
  omega))⟩
/-! ===== Int64 as an unsigned number: uN x ===== -/
def uN (x : Int64) : Nat := x.toUInt64.toNat
theorem uN_lt (x : Int64) : uN x < 18446744073709551616 := x.toUInt64.toNat_lt
theorem uN_inj {x y : Int64} (h : uN x = uN y) : x = y := congrArg UInt64.toInt64 (UInt64.toNat_inj.mp h)
theorem uN_add (x y : Int64) : uN (x + y) = (uN x + uN y) % 18446744073709551616 := by
  show (x.toUInt64 + y.toUInt64).toNat = _
  exact UInt64.toNat_add _ _
theorem uN_mul (x y : Int64) : uN (x * y) = (uN x * uN y) % 18446744073709551616 := by
  show (x.toUInt64 * y.toUInt64).toNat = _
  exact UInt64.toNat_mul _ _
theorem uN_shl (x : Int64) : uN (x <<< ((1 : Int32).toInt64 &&& 63)) = (2 * uN x) % 18446744073709551616 := by
  have h : (((1 : Int32).toInt64 &&& 63).toBitVec.smod 64).toNat = 1 := by decide
  show (x.toBitVec <<< (((1 : Int32).toInt64 &&& 63).toBitVec.smod 64).toNat).toNat = _
  rw [h, BitVec.toNat_shiftLeft, Nat.shiftLeft_eq, Nat.mul_comm]
  rfl
theorem uN_shr (x : Int64) (s : UInt64) : uN (x.toUInt64 >>> s).toInt64 = uN x / 2 ^ (s.toNat % 64) := by
  show (x.toUInt64 >>> s).toNat = _
  rw [UInt64.toNat_shiftRight, Nat.shiftRight_eq_div_pow]
  rfl
theorem uN_s32 (x : Int64) : uN (x.toUInt64 >>> ((32 : Int32).toInt64.toUInt64 &&& Int64.toUInt64 63)).toInt64 = uN x / 4294967296 := by
  have h : ((32 : Int32).toInt64.toUInt64 &&& Int64.toUInt64 63).toNat % 64 = 32 := by decide
  rw [uN_shr, h]
theorem uN_s63 (x : Int64) : uN (x.toUInt64 >>> ((63 : Int32).toInt64.toUInt64 &&& Int64.toUInt64 63)).toInt64 = uN x / 9223372036854775808 := by
  have h : ((63 : Int32).toInt64.toUInt64 &&& Int64.toUInt64 63).toNat % 64 = 63 := by decide
  rw [uN_shr, h]
theorem uN_lo (x : Int64) : uN (x &&& 4294967295) = uN x % 4294967296 := by
  show (x.toUInt64 &&& Int64.toUInt64 4294967295).toNat = _
  rw [UInt64.toNat_and]
  exact Nat.and_two_pow_sub_one_eq_mod _ 32
theorem uN_bit (x : Int64) : (x &&& 1) = 0 ↔ uN x % 2 = 0 := by
  have h : uN (x &&& 1) = uN x % 2 := by
    show (x.toUInt64 &&& Int64.toUInt64 1).toNat = _
    rw [UInt64.toNat_and]
    exact Nat.and_two_pow_sub_one_eq_mod _ 1
  rw [← h]
  exact ⟨fun z => by rw [z]; rfl, fun z => uN_inj (z.trans rfl)⟩
theorem uN_or {x y : Int64} (hy : uN y < 2) : uN ((x <<< ((1 : Int32).toInt64 &&& 63)) ||| y) = (2 * uN x) % 18446744073709551616 + uN y := by
  have h1 : uN ((x <<< ((1 : Int32).toInt64 &&& 63)) ||| y) = uN (x <<< ((1 : Int32).toInt64 &&& 63)) ||| uN y := UInt64.toNat_or _ _
  have h2 : (2 * uN x) % 18446744073709551616 = 2 ^ 1 * (uN x % 9223372036854775808) := by omega
  rw [h1, uN_shl, h2]
  exact (Nat.two_pow_add_eq_or_of_lt (i := 1) hy _).symm
theorem nat_xor {a : Nat} (h : a < 18446744073709551616) : a ^^^ 2 ^ 63 = (a + 9223372036854775808) % 18446744073709551616 := by
  have h1 : (a ^^^ 2 ^ 63) % 2 ^ 63 = a % 2 ^ 63 := by rw [Nat.xor_mod_two_pow, Nat.mod_self, Nat.xor_zero]
  have h2 : (a ^^^ 2 ^ 63) / 2 ^ 63 = (a / 2 ^ 63) ^^^ 1 := by rw [Nat.xor_div_two_pow, Nat.div_self (Nat.two_pow_pos 63)]
  have h3 : a / 2 ^ 63 = 0 ∨ a / 2 ^ 63 = 1 := by omega
  generalize a ^^^ 2 ^ 63 = t at h1 h2
  rcases h3 with h3 | h3
  · rw [h3] at h2
    have h2 : t / 2 ^ 63 = 1 := h2
    omega
  · rw [h3] at h2
    have h2 : t / 2 ^ 63 = 0 := h2
    omega
theorem uN_xor (x : Int64) : uN (x ^^^ (-9223372036854775808)) = (uN x + 9223372036854775808) % 18446744073709551616 := by
  rw [← nat_xor (uN_lt x)]
  exact UInt64.toNat_xor _ _
theorem uN_int (x : Int64) : x.toInt = if 2 * uN x < 18446744073709551616 then (uN x : Int) else (uN x : Int) - 18446744073709551616 := BitVec.toInt_eq_toNat_cond _
theorem uN_le (x y : Int64) : (x ^^^ (-9223372036854775808)) ≤ (y ^^^ (-9223372036854775808)) ↔ uN x ≤ uN y := by
  have hx := uN_lt x
  have hy := uN_lt y
  rw [Int64.le_iff_toInt_le, uN_int, uN_int, uN_xor, uN_xor]
  omega
theorem uN_sk (x : Int64) {k : Nat} (hk : k < 64) : uN (x.toUInt64 >>> ((nI k).toInt64.toUInt64 &&& Int64.toUInt64 63)).toInt64 = uN x / 2 ^ k := by
  have h : ((nI k).toInt64.toUInt64 &&& Int64.toUInt64 63).toNat % 64 = k := by
    rw [nI_l (by omega), UInt64.toNat_and]
    have e : (lN k).toUInt64.toNat = k % 2 ^ 64 := rfl
    have e2 : (Int64.toUInt64 63).toNat = 2 ^ 6 - 1 := by decide
    rw [e, e2, Nat.and_two_pow_sub_one_eq_mod]
    omega
  rw [uN_shr, h]
/-! ===== unsigned comparison by xor with the least ===== -/
theorem lN_bv (n : Nat) : (lN n).toBitVec = BitVec.ofNat 64 n := rfl
theorem lN_nat {n : Nat} (h : n < 2 ^ 64) : (lN n).toBitVec.toNat = n := by rw [lN_bv, BitVec.toNat_ofNat]; exact Nat.mod_eq_of_lt h
theorem lN_xor (a b : Nat) : lN a ^^^ lN b = lN (a ^^^ b) := by
  apply Int64.toBitVec_inj.mp; rw [Int64.toBitVec_xor, lN_bv, lN_bv, lN_bv]; apply BitVec.eq_of_getLsbD_eq; intro i hi; simp [BitVec.getLsbD_ofNat, Nat.testBit_xor, hi]
theorem lN_ti {m : Nat} (h : m < 2 ^ 64) : (lN m).toInt = if m < 2 ^ 63 then (m : Int) else (m : Int) - 2 ^ 64 := by
  have c := BitVec.toInt_eq_toNat_cond (lN m).toBitVec
  rw [lN_nat h] at c
  show (lN m).toBitVec.toInt = _
  rw [c]
  split <;> split <;> omega
theorem xor63 {x : Nat} (h : x < 2 ^ 63) : x ^^^ 2 ^ 63 = 2 ^ 63 + x := by
  apply Nat.eq_of_testBit_eq
  intro i
  rw [Nat.testBit_xor, Nat.testBit_two_pow]
  rcases Nat.lt_trichotomy i 63 with z | z | z
  · rw [Nat.testBit_two_pow_add_gt z, decide_eq_false (by omega)]; simp
  · subst z; rw [Nat.testBit_two_pow_add_eq]; simp
  · have hp : 2 ^ 64 ≤ 2 ^ i := Nat.pow_le_pow_right (by decide) z
    rw [Nat.testBit_lt_two_pow (show x < 2 ^ i by omega), Nat.testBit_lt_two_pow (show 2 ^ 63 + x < 2 ^ i by omega), decide_eq_false (by omega)]; rfl
theorem xorS {a : Nat} (h : a < 2 ^ 64) : (lN a ^^^ (-9223372036854775808)).toInt = (a : Int) - 2 ^ 63 := by
  rw [show (-9223372036854775808 : Int64) = lN (2 ^ 63) from by decide +kernel, lN_xor]
  rcases Nat.lt_or_ge a (2 ^ 63) with z | z
  · rw [xor63 z, lN_ti (by omega), if_neg (by omega)]; omega
  · obtain ⟨x, rfl⟩ : ∃ x, a = 2 ^ 63 + x := ⟨a - 2 ^ 63, by omega⟩
    rw [← xor63 (by omega), Nat.xor_assoc, Nat.xor_self, Nat.xor_zero, lN_ti (by omega), if_pos (by omega), xor63 (by omega)]; omega
theorem ultL {a b : Nat} (ha : a < 2 ^ 64) (hb : b < 2 ^ 64) : ((lN b ^^^ (-9223372036854775808)) ≤ (lN a ^^^ (-9223372036854775808))) ↔ b ≤ a := by
  rw [Int64.le_iff_toInt_le, xorS ha, xorS hb]; omega
/-! ===== Int64 masks of n low bits ===== -/
theorem cr_bits (W U M : BitVec 64) : ((W &&& U) &&& (U &&& (M ^^^ BitVec.allOnes 64))) = 0#64 ↔ (W &&& U) &&& M = W &&& U := by
  constructor
  · intro h
    apply BitVec.eq_of_getLsbD_eq
    intro i hi
    have e := congrArg (fun x => BitVec.getLsbD x i) h
    simp only [BitVec.getLsbD_and, BitVec.getLsbD_xor, BitVec.getLsbD_allOnes, BitVec.getLsbD_zero, hi, decide_true] at e ⊢
    revert e
    cases W.getLsbD i <;> cases U.getLsbD i <;> cases M.getLsbD i <;> decide
  · intro h
    apply BitVec.eq_of_getLsbD_eq
    intro i hi
    have e := congrArg (fun x => BitVec.getLsbD x i) h
    simp only [BitVec.getLsbD_and, BitVec.getLsbD_xor, BitVec.getLsbD_allOnes, BitVec.getLsbD_zero, hi, decide_true] at e ⊢
    revert e
    cases W.getLsbD i <;> cases U.getLsbD i <;> cases M.getLsbD i <;> decide
theorem cr_mask (w U m : Int64) (n : Nat) (hm : m.toBitVec.toNat = 2 ^ n - 1) : ((w &&& U) &&& (U &&& (m ^^^ (-1)))) = 0 ↔ (w &&& U).toBitVec.toNat < 2 ^ n := by
  have e0 : (-1 : Int64).toBitVec = BitVec.allOnes 64 := by decide
  have z0 : (0 : Int64).toBitVec = 0#64 := by decide
  rw [← Int64.toBitVec_inj, z0, Int64.toBitVec_and, Int64.toBitVec_and, Int64.toBitVec_and, Int64.toBitVec_xor, e0, cr_bits]
  generalize w.toBitVec &&& U.toBitVec = T
  rw [← BitVec.toNat_inj, BitVec.toNat_and, hm, Nat.and_two_pow_sub_one_eq_mod]
  constructor
  · intro h
    have t := Nat.mod_lt T.toNat (Nat.two_pow_pos n)
    rw [h] at t
    exact t
  · exact Nat.mod_eq_of_lt
theorem cr_shr (t : Int64) (x : UInt64) (n : Nat) (hx : x.toNat % 64 = n) : (t.toUInt64 >>> x).toInt64 = 0 ↔ t.toBitVec.toNat < 2 ^ n := by
  rw [← Int64.toBitVec_inj, ← BitVec.toNat_inj]
  show (t.toUInt64 >>> x).toNat = 0 ↔ t.toUInt64.toNat < 2 ^ n
  rw [UInt64.toNat_shiftRight, hx, Nat.shiftRight_eq_div_pow]
  constructor
  · intro h
    have d : t.toUInt64.toNat / 2 ^ n < 1 := by
      rw [h]
      decide
    have e := (Nat.div_lt_iff_lt_mul (Nat.two_pow_pos n)).mp d
    rw [Nat.one_mul] at e
    exact e
  · exact Nat.div_eq_of_lt
theorem cr_amt (s : Int64) : ∃ n, n < 64 ∧ s &&& 63 = lN n ∧ (s.toUInt64 &&& Int64.toUInt64 63).toNat % 64 = n := by
  have e : (s.toUInt64 &&& Int64.toUInt64 63).toNat = s.toUInt64.toNat % 2 ^ 6 := by
    rw [UInt64.toNat_and, show (Int64.toUInt64 63).toNat = 2 ^ 6 - 1 from by decide, Nat.and_two_pow_sub_one_eq_mod]
  refine ⟨s.toUInt64.toNat % 2 ^ 6, by omega, ?_, by omega⟩
  rw [← Int64.toBitVec_inj, ← BitVec.toNat_inj]
  show (s.toUInt64 &&& Int64.toUInt64 63).toNat = (BitVec.ofNat 64 (s.toUInt64.toNat % 2 ^ 6)).toNat
  rw [e, BitVec.toNat_ofNat]
  omega
end
section
theorem ze_ge0t {a : Nat} (h : 0 ≤ a) (h2 : a < 2147483648) : (0 : Int32) ≤ nI a := nI_le (a := 0) h h2
theorem ze_gt0t {a : Nat} (h : 0 < a) (h2 : a < 2147483648) : (0 : Int32) < nI a := nI_lt (a := 0) h h2
theorem ze_gt0f {a : Nat} (h : a ≤ 0) : ¬ (0 : Int32) < nI a := nI_nlt (a := 0) h (by decide)
theorem ze_le0t {a : Nat} (h : a ≤ 0) : nI a ≤ (0 : Int32) := nI_le (b := 0) h (by decide)
theorem ze_le0f {a : Nat} (h : 0 < a) (h2 : a < 2147483648) : ¬ nI a ≤ (0 : Int32) := nI_ge (a := 0) h h2
theorem ze_lt0f {a : Nat} (h : 0 ≤ a) (h2 : a < 2147483648) : ¬ nI a < (0 : Int32) := nI_nlt (b := 0) h h2
theorem ze_eq0t {a : Nat} (h : a = 0) : nI a = (0 : Int32) := by subst h; rfl
theorem ze_eq0p {a : Nat} (h : a = 0) : (nI a = (0 : Int32)) = True := eq_true (by subst h; rfl)
theorem ze_eq0f {a : Nat} (h : a ≠ 0) (h2 : a < 2147483648) : ¬ nI a = (0 : Int32) := fun e => h ((nI_eq (b := 0) h2 (by decide)).mp e)
theorem ze_ge1t {a : Nat} (h : 1 ≤ a) (h2 : a < 2147483648) : (1 : Int32) ≤ nI a := nI_le (a := 1) h h2
theorem ze_ge1f {a : Nat} (h : a < 1) : ¬ (1 : Int32) ≤ nI a := nI_ge (b := 1) h (by decide)
theorem ze_gt1t {a : Nat} (h : 1 < a) (h2 : a < 2147483648) : (1 : Int32) < nI a := nI_lt (a := 1) h h2
theorem ze_gt1f {a : Nat} (h : a ≤ 1) : ¬ (1 : Int32) < nI a := nI_nlt (a := 1) h (by decide)
theorem ze_le1t {a : Nat} (h : a ≤ 1) : nI a ≤ (1 : Int32) := nI_le (b := 1) h (by decide)
theorem ze_le1f {a : Nat} (h : 1 < a) (h2 : a < 2147483648) : ¬ nI a ≤ (1 : Int32) := nI_ge (a := 1) h h2
theorem ze_lt1t {a : Nat} (h : a < 1) : nI a < (1 : Int32) := nI_lt (b := 1) h (by decide)
theorem ze_lt1f {a : Nat} (h : 1 ≤ a) (h2 : a < 2147483648) : ¬ nI a < (1 : Int32) := nI_nlt (b := 1) h h2
theorem ze_eq1t {a : Nat} (h : a = 1) : nI a = (1 : Int32) := by subst h; rfl
theorem ze_eq1p {a : Nat} (h : a = 1) : (nI a = (1 : Int32)) = True := eq_true (by subst h; rfl)
theorem ze_eq1f {a : Nat} (h : a ≠ 1) (h2 : a < 2147483648) : ¬ nI a = (1 : Int32) := fun e => h ((nI_eq (b := 1) h2 (by decide)).mp e)
theorem ze_ge2t {a : Nat} (h : 2 ≤ a) (h2 : a < 2147483648) : (2 : Int32) ≤ nI a := nI_le (a := 2) h h2
theorem ze_ge2f {a : Nat} (h : a < 2) : ¬ (2 : Int32) ≤ nI a := nI_ge (b := 2) h (by decide)
theorem ze_gt2t {a : Nat} (h : 2 < a) (h2 : a < 2147483648) : (2 : Int32) < nI a := nI_lt (a := 2) h h2
theorem ze_gt2f {a : Nat} (h : a ≤ 2) : ¬ (2 : Int32) < nI a := nI_nlt (a := 2) h (by decide)
theorem ze_le2t {a : Nat} (h : a ≤ 2) : nI a ≤ (2 : Int32) := nI_le (b := 2) h (by decide)
theorem ze_le2f {a : Nat} (h : 2 < a) (h2 : a < 2147483648) : ¬ nI a ≤ (2 : Int32) := nI_ge (a := 2) h h2
theorem ze_lt2t {a : Nat} (h : a < 2) : nI a < (2 : Int32) := nI_lt (b := 2) h (by decide)
theorem ze_lt2f {a : Nat} (h : 2 ≤ a) (h2 : a < 2147483648) : ¬ nI a < (2 : Int32) := nI_nlt (b := 2) h h2
theorem ze_eq2t {a : Nat} (h : a = 2) : nI a = (2 : Int32) := by subst h; rfl
theorem ze_eq2p {a : Nat} (h : a = 2) : (nI a = (2 : Int32)) = True := eq_true (by subst h; rfl)
theorem ze_eq2f {a : Nat} (h : a ≠ 2) (h2 : a < 2147483648) : ¬ nI a = (2 : Int32) := fun e => h ((nI_eq (b := 2) h2 (by decide)).mp e)
theorem ze_ge3t {a : Nat} (h : 3 ≤ a) (h2 : a < 2147483648) : (3 : Int32) ≤ nI a := nI_le (a := 3) h h2
theorem ze_ge3f {a : Nat} (h : a < 3) : ¬ (3 : Int32) ≤ nI a := nI_ge (b := 3) h (by decide)
theorem ze_gt3t {a : Nat} (h : 3 < a) (h2 : a < 2147483648) : (3 : Int32) < nI a := nI_lt (a := 3) h h2
theorem ze_gt3f {a : Nat} (h : a ≤ 3) : ¬ (3 : Int32) < nI a := nI_nlt (a := 3) h (by decide)
theorem ze_le3t {a : Nat} (h : a ≤ 3) : nI a ≤ (3 : Int32) := nI_le (b := 3) h (by decide)
theorem ze_le3f {a : Nat} (h : 3 < a) (h2 : a < 2147483648) : ¬ nI a ≤ (3 : Int32) := nI_ge (a := 3) h h2
theorem ze_lt3t {a : Nat} (h : a < 3) : nI a < (3 : Int32) := nI_lt (b := 3) h (by decide)
theorem ze_lt3f {a : Nat} (h : 3 ≤ a) (h2 : a < 2147483648) : ¬ nI a < (3 : Int32) := nI_nlt (b := 3) h h2
theorem ze_eq3t {a : Nat} (h : a = 3) : nI a = (3 : Int32) := by subst h; rfl
theorem ze_eq3p {a : Nat} (h : a = 3) : (nI a = (3 : Int32)) = True := eq_true (by subst h; rfl)
theorem ze_eq3f {a : Nat} (h : a ≠ 3) (h2 : a < 2147483648) : ¬ nI a = (3 : Int32) := fun e => h ((nI_eq (b := 3) h2 (by decide)).mp e)
theorem ze_ge4t {a : Nat} (h : 4 ≤ a) (h2 : a < 2147483648) : (4 : Int32) ≤ nI a := nI_le (a := 4) h h2
theorem ze_ge4f {a : Nat} (h : a < 4) : ¬ (4 : Int32) ≤ nI a := nI_ge (b := 4) h (by decide)
theorem ze_gt4t {a : Nat} (h : 4 < a) (h2 : a < 2147483648) : (4 : Int32) < nI a := nI_lt (a := 4) h h2
theorem ze_gt4f {a : Nat} (h : a ≤ 4) : ¬ (4 : Int32) < nI a := nI_nlt (a := 4) h (by decide)
theorem ze_le4t {a : Nat} (h : a ≤ 4) : nI a ≤ (4 : Int32) := nI_le (b := 4) h (by decide)
theorem ze_le4f {a : Nat} (h : 4 < a) (h2 : a < 2147483648) : ¬ nI a ≤ (4 : Int32) := nI_ge (a := 4) h h2
theorem ze_lt4t {a : Nat} (h : a < 4) : nI a < (4 : Int32) := nI_lt (b := 4) h (by decide)
theorem ze_lt4f {a : Nat} (h : 4 ≤ a) (h2 : a < 2147483648) : ¬ nI a < (4 : Int32) := nI_nlt (b := 4) h h2
theorem ze_eq4t {a : Nat} (h : a = 4) : nI a = (4 : Int32) := by subst h; rfl
theorem ze_eq4p {a : Nat} (h : a = 4) : (nI a = (4 : Int32)) = True := eq_true (by subst h; rfl)
theorem ze_eq4f {a : Nat} (h : a ≠ 4) (h2 : a < 2147483648) : ¬ nI a = (4 : Int32) := fun e => h ((nI_eq (b := 4) h2 (by decide)).mp e)
theorem ze_ge5t {a : Nat} (h : 5 ≤ a) (h2 : a < 2147483648) : (5 : Int32) ≤ nI a := nI_le (a := 5) h h2
theorem ze_ge5f {a : Nat} (h : a < 5) : ¬ (5 : Int32) ≤ nI a := nI_ge (b := 5) h (by decide)
theorem ze_gt5t {a : Nat} (h : 5 < a) (h2 : a < 2147483648) : (5 : Int32) < nI a := nI_lt (a := 5) h h2
theorem ze_gt5f {a : Nat} (h : a ≤ 5) : ¬ (5 : Int32) < nI a := nI_nlt (a := 5) h (by decide)
theorem ze_le5t {a : Nat} (h : a ≤ 5) : nI a ≤ (5 : Int32) := nI_le (b := 5) h (by decide)
theorem ze_le5f {a : Nat} (h : 5 < a) (h2 : a < 2147483648) : ¬ nI a ≤ (5 : Int32) := nI_ge (a := 5) h h2
theorem ze_lt5t {a : Nat} (h : a < 5) : nI a < (5 : Int32) := nI_lt (b := 5) h (by decide)
theorem ze_lt5f {a : Nat} (h : 5 ≤ a) (h2 : a < 2147483648) : ¬ nI a < (5 : Int32) := nI_nlt (b := 5) h h2
theorem ze_eq5t {a : Nat} (h : a = 5) : nI a = (5 : Int32) := by subst h; rfl
theorem ze_eq5p {a : Nat} (h : a = 5) : (nI a = (5 : Int32)) = True := eq_true (by subst h; rfl)
theorem ze_eq5f {a : Nat} (h : a ≠ 5) (h2 : a < 2147483648) : ¬ nI a = (5 : Int32) := fun e => h ((nI_eq (b := 5) h2 (by decide)).mp e)
theorem ze_ge6t {a : Nat} (h : 6 ≤ a) (h2 : a < 2147483648) : (6 : Int32) ≤ nI a := nI_le (a := 6) h h2
theorem ze_ge6f {a : Nat} (h : a < 6) : ¬ (6 : Int32) ≤ nI a := nI_ge (b := 6) h (by decide)
theorem ze_gt6t {a : Nat} (h : 6 < a) (h2 : a < 2147483648) : (6 : Int32) < nI a := nI_lt (a := 6) h h2
theorem ze_gt6f {a : Nat} (h : a ≤ 6) : ¬ (6 : Int32) < nI a := nI_nlt (a := 6) h (by decide)
theorem ze_le6t {a : Nat} (h : a ≤ 6) : nI a ≤ (6 : Int32) := nI_le (b := 6) h (by decide)
theorem ze_le6f {a : Nat} (h : 6 < a) (h2 : a < 2147483648) : ¬ nI a ≤ (6 : Int32) := nI_ge (a := 6) h h2
theorem ze_lt6t {a : Nat} (h : a < 6) : nI a < (6 : Int32) := nI_lt (b := 6) h (by decide)
theorem ze_lt6f {a : Nat} (h : 6 ≤ a) (h2 : a < 2147483648) : ¬ nI a < (6 : Int32) := nI_nlt (b := 6) h h2
theorem ze_eq6t {a : Nat} (h : a = 6) : nI a = (6 : Int32) := by subst h; rfl
theorem ze_eq6p {a : Nat} (h : a = 6) : (nI a = (6 : Int32)) = True := eq_true (by subst h; rfl)
theorem ze_eq6f {a : Nat} (h : a ≠ 6) (h2 : a < 2147483648) : ¬ nI a = (6 : Int32) := fun e => h ((nI_eq (b := 6) h2 (by decide)).mp e)
theorem ze_ge7t {a : Nat} (h : 7 ≤ a) (h2 : a < 2147483648) : (7 : Int32) ≤ nI a := nI_le (a := 7) h h2
theorem ze_ge7f {a : Nat} (h : a < 7) : ¬ (7 : Int32) ≤ nI a := nI_ge (b := 7) h (by decide)
theorem ze_gt7t {a : Nat} (h : 7 < a) (h2 : a < 2147483648) : (7 : Int32) < nI a := nI_lt (a := 7) h h2
theorem ze_gt7f {a : Nat} (h : a ≤ 7) : ¬ (7 : Int32) < nI a := nI_nlt (a := 7) h (by decide)
theorem ze_le7t {a : Nat} (h : a ≤ 7) : nI a ≤ (7 : Int32) := nI_le (b := 7) h (by decide)
theorem ze_le7f {a : Nat} (h : 7 < a) (h2 : a < 2147483648) : ¬ nI a ≤ (7 : Int32) := nI_ge (a := 7) h h2
theorem ze_lt7t {a : Nat} (h : a < 7) : nI a < (7 : Int32) := nI_lt (b := 7) h (by decide)
theorem ze_lt7f {a : Nat} (h : 7 ≤ a) (h2 : a < 2147483648) : ¬ nI a < (7 : Int32) := nI_nlt (b := 7) h h2
theorem ze_eq7t {a : Nat} (h : a = 7) : nI a = (7 : Int32) := by subst h; rfl
theorem ze_eq7p {a : Nat} (h : a = 7) : (nI a = (7 : Int32)) = True := eq_true (by subst h; rfl)
theorem ze_eq7f {a : Nat} (h : a ≠ 7) (h2 : a < 2147483648) : ¬ nI a = (7 : Int32) := fun e => h ((nI_eq (b := 7) h2 (by decide)).mp e)
theorem ze_ge9t {a : Nat} (h : 9 ≤ a) (h2 : a < 2147483648) : (9 : Int32) ≤ nI a := nI_le (a := 9) h h2
theorem ze_ge9f {a : Nat} (h : a < 9) : ¬ (9 : Int32) ≤ nI a := nI_ge (b := 9) h (by decide)
theorem ze_gt9t {a : Nat} (h : 9 < a) (h2 : a < 2147483648) : (9 : Int32) < nI a := nI_lt (a := 9) h h2
theorem ze_gt9f {a : Nat} (h : a ≤ 9) : ¬ (9 : Int32) < nI a := nI_nlt (a := 9) h (by decide)
theorem ze_le9t {a : Nat} (h : a ≤ 9) : nI a ≤ (9 : Int32) := nI_le (b := 9) h (by decide)
theorem ze_le9f {a : Nat} (h : 9 < a) (h2 : a < 2147483648) : ¬ nI a ≤ (9 : Int32) := nI_ge (a := 9) h h2
theorem ze_lt9t {a : Nat} (h : a < 9) : nI a < (9 : Int32) := nI_lt (b := 9) h (by decide)
theorem ze_lt9f {a : Nat} (h : 9 ≤ a) (h2 : a < 2147483648) : ¬ nI a < (9 : Int32) := nI_nlt (b := 9) h h2
theorem ze_eq9t {a : Nat} (h : a = 9) : nI a = (9 : Int32) := by subst h; rfl
theorem ze_eq9p {a : Nat} (h : a = 9) : (nI a = (9 : Int32)) = True := eq_true (by subst h; rfl)
theorem ze_eq9f {a : Nat} (h : a ≠ 9) (h2 : a < 2147483648) : ¬ nI a = (9 : Int32) := fun e => h ((nI_eq (b := 9) h2 (by decide)).mp e)
theorem ze_ge10t {a : Nat} (h : 10 ≤ a) (h2 : a < 2147483648) : (10 : Int32) ≤ nI a := nI_le (a := 10) h h2
theorem ze_ge10f {a : Nat} (h : a < 10) : ¬ (10 : Int32) ≤ nI a := nI_ge (b := 10) h (by decide)
theorem ze_gt10t {a : Nat} (h : 10 < a) (h2 : a < 2147483648) : (10 : Int32) < nI a := nI_lt (a := 10) h h2
theorem ze_gt10f {a : Nat} (h : a ≤ 10) : ¬ (10 : Int32) < nI a := nI_nlt (a := 10) h (by decide)
theorem ze_le10t {a : Nat} (h : a ≤ 10) : nI a ≤ (10 : Int32) := nI_le (b := 10) h (by decide)
theorem ze_le10f {a : Nat} (h : 10 < a) (h2 : a < 2147483648) : ¬ nI a ≤ (10 : Int32) := nI_ge (a := 10) h h2
theorem ze_lt10t {a : Nat} (h : a < 10) : nI a < (10 : Int32) := nI_lt (b := 10) h (by decide)
theorem ze_lt10f {a : Nat} (h : 10 ≤ a) (h2 : a < 2147483648) : ¬ nI a < (10 : Int32) := nI_nlt (b := 10) h h2
theorem ze_eq10t {a : Nat} (h : a = 10) : nI a = (10 : Int32) := by subst h; rfl
theorem ze_eq10p {a : Nat} (h : a = 10) : (nI a = (10 : Int32)) = True := eq_true (by subst h; rfl)
theorem ze_eq10f {a : Nat} (h : a ≠ 10) (h2 : a < 2147483648) : ¬ nI a = (10 : Int32) := fun e => h ((nI_eq (b := 10) h2 (by decide)).mp e)
theorem ze_ge12t {a : Nat} (h : 12 ≤ a) (h2 : a < 2147483648) : (12 : Int32) ≤ nI a := nI_le (a := 12) h h2
theorem ze_ge12f {a : Nat} (h : a < 12) : ¬ (12 : Int32) ≤ nI a := nI_ge (b := 12) h (by decide)
theorem ze_gt12t {a : Nat} (h : 12 < a) (h2 : a < 2147483648) : (12 : Int32) < nI a := nI_lt (a := 12) h h2
theorem ze_gt12f {a : Nat} (h : a ≤ 12) : ¬ (12 : Int32) < nI a := nI_nlt (a := 12) h (by decide)
theorem ze_le12t {a : Nat} (h : a ≤ 12) : nI a ≤ (12 : Int32) := nI_le (b := 12) h (by decide)
theorem ze_le12f {a : Nat} (h : 12 < a) (h2 : a < 2147483648) : ¬ nI a ≤ (12 : Int32) := nI_ge (a := 12) h h2
theorem ze_lt12t {a : Nat} (h : a < 12) : nI a < (12 : Int32) := nI_lt (b := 12) h (by decide)
theorem ze_lt12f {a : Nat} (h : 12 ≤ a) (h2 : a < 2147483648) : ¬ nI a < (12 : Int32) := nI_nlt (b := 12) h h2
theorem ze_eq12t {a : Nat} (h : a = 12) : nI a = (12 : Int32) := by subst h; rfl
theorem ze_eq12p {a : Nat} (h : a = 12) : (nI a = (12 : Int32)) = True := eq_true (by subst h; rfl)
theorem ze_eq12f {a : Nat} (h : a ≠ 12) (h2 : a < 2147483648) : ¬ nI a = (12 : Int32) := fun e => h ((nI_eq (b := 12) h2 (by decide)).mp e)
theorem ze_ge15t {a : Nat} (h : 15 ≤ a) (h2 : a < 2147483648) : (15 : Int32) ≤ nI a := nI_le (a := 15) h h2
theorem ze_ge15f {a : Nat} (h : a < 15) : ¬ (15 : Int32) ≤ nI a := nI_ge (b := 15) h (by decide)
theorem ze_gt15t {a : Nat} (h : 15 < a) (h2 : a < 2147483648) : (15 : Int32) < nI a := nI_lt (a := 15) h h2
theorem ze_gt15f {a : Nat} (h : a ≤ 15) : ¬ (15 : Int32) < nI a := nI_nlt (a := 15) h (by decide)
theorem ze_le15t {a : Nat} (h : a ≤ 15) : nI a ≤ (15 : Int32) := nI_le (b := 15) h (by decide)
theorem ze_le15f {a : Nat} (h : 15 < a) (h2 : a < 2147483648) : ¬ nI a ≤ (15 : Int32) := nI_ge (a := 15) h h2
theorem ze_lt15t {a : Nat} (h : a < 15) : nI a < (15 : Int32) := nI_lt (b := 15) h (by decide)
theorem ze_lt15f {a : Nat} (h : 15 ≤ a) (h2 : a < 2147483648) : ¬ nI a < (15 : Int32) := nI_nlt (b := 15) h h2
theorem ze_eq15t {a : Nat} (h : a = 15) : nI a = (15 : Int32) := by subst h; rfl
theorem ze_eq15p {a : Nat} (h : a = 15) : (nI a = (15 : Int32)) = True := eq_true (by subst h; rfl)
theorem ze_eq15f {a : Nat} (h : a ≠ 15) (h2 : a < 2147483648) : ¬ nI a = (15 : Int32) := fun e => h ((nI_eq (b := 15) h2 (by decide)).mp e)
theorem ze_ge16t {a : Nat} (h : 16 ≤ a) (h2 : a < 2147483648) : (16 : Int32) ≤ nI a := nI_le (a := 16) h h2
theorem ze_ge16f {a : Nat} (h : a < 16) : ¬ (16 : Int32) ≤ nI a := nI_ge (b := 16) h (by decide)
theorem ze_gt16t {a : Nat} (h : 16 < a) (h2 : a < 2147483648) : (16 : Int32) < nI a := nI_lt (a := 16) h h2
theorem ze_gt16f {a : Nat} (h : a ≤ 16) : ¬ (16 : Int32) < nI a := nI_nlt (a := 16) h (by decide)
theorem ze_le16t {a : Nat} (h : a ≤ 16) : nI a ≤ (16 : Int32) := nI_le (b := 16) h (by decide)
theorem ze_le16f {a : Nat} (h : 16 < a) (h2 : a < 2147483648) : ¬ nI a ≤ (16 : Int32) := nI_ge (a := 16) h h2
theorem ze_lt16t {a : Nat} (h : a < 16) : nI a < (16 : Int32) := nI_lt (b := 16) h (by decide)
theorem ze_lt16f {a : Nat} (h : 16 ≤ a) (h2 : a < 2147483648) : ¬ nI a < (16 : Int32) := nI_nlt (b := 16) h h2
theorem ze_eq16t {a : Nat} (h : a = 16) : nI a = (16 : Int32) := by subst h; rfl
theorem ze_eq16p {a : Nat} (h : a = 16) : (nI a = (16 : Int32)) = True := eq_true (by subst h; rfl)
theorem ze_eq16f {a : Nat} (h : a ≠ 16) (h2 : a < 2147483648) : ¬ nI a = (16 : Int32) := fun e => h ((nI_eq (b := 16) h2 (by decide)).mp e)
theorem ze_ge30t {a : Nat} (h : 30 ≤ a) (h2 : a < 2147483648) : (30 : Int32) ≤ nI a := nI_le (a := 30) h h2
theorem ze_ge30f {a : Nat} (h : a < 30) : ¬ (30 : Int32) ≤ nI a := nI_ge (b := 30) h (by decide)
theorem ze_gt30t {a : Nat} (h : 30 < a) (h2 : a < 2147483648) : (30 : Int32) < nI a := nI_lt (a := 30) h h2
theorem ze_gt30f {a : Nat} (h : a ≤ 30) : ¬ (30 : Int32) < nI a := nI_nlt (a := 30) h (by decide)
theorem ze_le30t {a : Nat} (h : a ≤ 30) : nI a ≤ (30 : Int32) := nI_le (b := 30) h (by decide)
theorem ze_le30f {a : Nat} (h : 30 < a) (h2 : a < 2147483648) : ¬ nI a ≤ (30 : Int32) := nI_ge (a := 30) h h2
theorem ze_lt30t {a : Nat} (h : a < 30) : nI a < (30 : Int32) := nI_lt (b := 30) h (by decide)
theorem ze_lt30f {a : Nat} (h : 30 ≤ a) (h2 : a < 2147483648) : ¬ nI a < (30 : Int32) := nI_nlt (b := 30) h h2
theorem ze_eq30t {a : Nat} (h : a = 30) : nI a = (30 : Int32) := by subst h; rfl
theorem ze_eq30p {a : Nat} (h : a = 30) : (nI a = (30 : Int32)) = True := eq_true (by subst h; rfl)
theorem ze_eq30f {a : Nat} (h : a ≠ 30) (h2 : a < 2147483648) : ¬ nI a = (30 : Int32) := fun e => h ((nI_eq (b := 30) h2 (by decide)).mp e)
theorem ze_ge32t {a : Nat} (h : 32 ≤ a) (h2 : a < 2147483648) : (32 : Int32) ≤ nI a := nI_le (a := 32) h h2
theorem ze_ge32f {a : Nat} (h : a < 32) : ¬ (32 : Int32) ≤ nI a := nI_ge (b := 32) h (by decide)
theorem ze_gt32t {a : Nat} (h : 32 < a) (h2 : a < 2147483648) : (32 : Int32) < nI a := nI_lt (a := 32) h h2
theorem ze_gt32f {a : Nat} (h : a ≤ 32) : ¬ (32 : Int32) < nI a := nI_nlt (a := 32) h (by decide)
theorem ze_le32t {a : Nat} (h : a ≤ 32) : nI a ≤ (32 : Int32) := nI_le (b := 32) h (by decide)
theorem ze_le32f {a : Nat} (h : 32 < a) (h2 : a < 2147483648) : ¬ nI a ≤ (32 : Int32) := nI_ge (a := 32) h h2
theorem ze_lt32t {a : Nat} (h : a < 32) : nI a < (32 : Int32) := nI_lt (b := 32) h (by decide)
theorem ze_lt32f {a : Nat} (h : 32 ≤ a) (h2 : a < 2147483648) : ¬ nI a < (32 : Int32) := nI_nlt (b := 32) h h2
theorem ze_eq32t {a : Nat} (h : a = 32) : nI a = (32 : Int32) := by subst h; rfl
theorem ze_eq32p {a : Nat} (h : a = 32) : (nI a = (32 : Int32)) = True := eq_true (by subst h; rfl)
theorem ze_eq32f {a : Nat} (h : a ≠ 32) (h2 : a < 2147483648) : ¬ nI a = (32 : Int32) := fun e => h ((nI_eq (b := 32) h2 (by decide)).mp e)
theorem ze_ge47t {a : Nat} (h : 47 ≤ a) (h2 : a < 2147483648) : (47 : Int32) ≤ nI a := nI_le (a := 47) h h2
theorem ze_ge47f {a : Nat} (h : a < 47) : ¬ (47 : Int32) ≤ nI a := nI_ge (b := 47) h (by decide)
theorem ze_gt47t {a : Nat} (h : 47 < a) (h2 : a < 2147483648) : (47 : Int32) < nI a := nI_lt (a := 47) h h2
theorem ze_gt47f {a : Nat} (h : a ≤ 47) : ¬ (47 : Int32) < nI a := nI_nlt (a := 47) h (by decide)
theorem ze_le47t {a : Nat} (h : a ≤ 47) : nI a ≤ (47 : Int32) := nI_le (b := 47) h (by decide)
theorem ze_le47f {a : Nat} (h : 47 < a) (h2 : a < 2147483648) : ¬ nI a ≤ (47 : Int32) := nI_ge (a := 47) h h2
theorem ze_lt47t {a : Nat} (h : a < 47) : nI a < (47 : Int32) := nI_lt (b := 47) h (by decide)
theorem ze_lt47f {a : Nat} (h : 47 ≤ a) (h2 : a < 2147483648) : ¬ nI a < (47 : Int32) := nI_nlt (b := 47) h h2
theorem ze_eq47t {a : Nat} (h : a = 47) : nI a = (47 : Int32) := by subst h; rfl
theorem ze_eq47p {a : Nat} (h : a = 47) : (nI a = (47 : Int32)) = True := eq_true (by subst h; rfl)
theorem ze_eq47f {a : Nat} (h : a ≠ 47) (h2 : a < 2147483648) : ¬ nI a = (47 : Int32) := fun e => h ((nI_eq (b := 47) h2 (by decide)).mp e)
theorem ze_ge120t {a : Nat} (h : 120 ≤ a) (h2 : a < 2147483648) : (120 : Int32) ≤ nI a := nI_le (a := 120) h h2
theorem ze_ge120f {a : Nat} (h : a < 120) : ¬ (120 : Int32) ≤ nI a := nI_ge (b := 120) h (by decide)
theorem ze_gt120t {a : Nat} (h : 120 < a) (h2 : a < 2147483648) : (120 : Int32) < nI a := nI_lt (a := 120) h h2
theorem ze_gt120f {a : Nat} (h : a ≤ 120) : ¬ (120 : Int32) < nI a := nI_nlt (a := 120) h (by decide)
theorem ze_le120t {a : Nat} (h : a ≤ 120) : nI a ≤ (120 : Int32) := nI_le (b := 120) h (by decide)
theorem ze_le120f {a : Nat} (h : 120 < a) (h2 : a < 2147483648) : ¬ nI a ≤ (120 : Int32) := nI_ge (a := 120) h h2
theorem ze_lt120t {a : Nat} (h : a < 120) : nI a < (120 : Int32) := nI_lt (b := 120) h (by decide)
theorem ze_lt120f {a : Nat} (h : 120 ≤ a) (h2 : a < 2147483648) : ¬ nI a < (120 : Int32) := nI_nlt (b := 120) h h2
theorem ze_eq120t {a : Nat} (h : a = 120) : nI a = (120 : Int32) := by subst h; rfl
theorem ze_eq120p {a : Nat} (h : a = 120) : (nI a = (120 : Int32)) = True := eq_true (by subst h; rfl)
theorem ze_eq120f {a : Nat} (h : a ≠ 120) (h2 : a < 2147483648) : ¬ nI a = (120 : Int32) := fun e => h ((nI_eq (b := 120) h2 (by decide)).mp e)
theorem ze_ge1024t {a : Nat} (h : 1024 ≤ a) (h2 : a < 2147483648) : (1024 : Int32) ≤ nI a := nI_le (a := 1024) h h2
theorem ze_ge1024f {a : Nat} (h : a < 1024) : ¬ (1024 : Int32) ≤ nI a := nI_ge (b := 1024) h (by decide)
theorem ze_gt1024t {a : Nat} (h : 1024 < a) (h2 : a < 2147483648) : (1024 : Int32) < nI a := nI_lt (a := 1024) h h2
theorem ze_gt1024f {a : Nat} (h : a ≤ 1024) : ¬ (1024 : Int32) < nI a := nI_nlt (a := 1024) h (by decide)
theorem ze_le1024t {a : Nat} (h : a ≤ 1024) : nI a ≤ (1024 : Int32) := nI_le (b := 1024) h (by decide)
theorem ze_le1024f {a : Nat} (h : 1024 < a) (h2 : a < 2147483648) : ¬ nI a ≤ (1024 : Int32) := nI_ge (a := 1024) h h2
theorem ze_lt1024t {a : Nat} (h : a < 1024) : nI a < (1024 : Int32) := nI_lt (b := 1024) h (by decide)
theorem ze_lt1024f {a : Nat} (h : 1024 ≤ a) (h2 : a < 2147483648) : ¬ nI a < (1024 : Int32) := nI_nlt (b := 1024) h h2
theorem ze_eq1024t {a : Nat} (h : a = 1024) : nI a = (1024 : Int32) := by subst h; rfl
theorem ze_eq1024p {a : Nat} (h : a = 1024) : (nI a = (1024 : Int32)) = True := eq_true (by subst h; rfl)
theorem ze_eq1024f {a : Nat} (h : a ≠ 1024) (h2 : a < 2147483648) : ¬ nI a = (1024 : Int32) := fun e => h ((nI_eq (b := 1024) h2 (by decide)).mp e)
theorem ze_let {a b : Nat} (h : a ≤ b) (h2 : b < 2147483648) : nI a ≤ nI b := nI_le h h2
theorem ze_lef {a b : Nat} (h : b < a) (h2 : a < 2147483648) : ¬ nI a ≤ nI b := nI_ge h h2
theorem ze_ltt {a b : Nat} (h : a < b) (h2 : b < 2147483648) : nI a < nI b := nI_lt h h2
theorem ze_ltf {a b : Nat} (h : b ≤ a) (h2 : a < 2147483648) : ¬ nI a < nI b := nI_nlt h h2
theorem ze_eqt {a b : Nat} (h : a = b) : (nI a = nI b) = True := eq_true (congrArg nI h)
theorem ze_eqf {a b : Nat} (h : a ≠ b) (h1 : a < 2147483648) (h2 : b < 2147483648) : ¬ nI a = nI b := fun e => h ((nI_eq h1 h2).mp e)
theorem ze_m1_lt0 : (-1 : Int32) < 0 := by decide
theorem ze_m1_n0le : ¬ (0 : Int32) ≤ -1 := by decide
theorem ze_m1_le0 : (-1 : Int32) ≤ 0 := by decide
theorem ze_m1_le {a : Nat} (h2 : a < 2147483648) : (-1 : Int32) ≤ nI a := Int32.le_trans ze_m1_le0 (nI_pos' h2)
theorem ze_m1_lt {a : Nat} (h2 : a < 2147483648) : (-1 : Int32) < nI a := Int32.lt_of_lt_of_le ze_m1_lt0 (nI_pos' h2)
theorem ze_m1_nle {a : Nat} (h2 : a < 2147483648) : ¬ nI a ≤ (-1 : Int32) := fun h => Int32.not_lt.mpr h (ze_m1_lt h2)
theorem ze_m1_nlt {a : Nat} (h2 : a < 2147483648) : ¬ nI a < (-1 : Int32) := fun h => Int32.not_lt.mpr (ze_m1_le h2) h
theorem ze_m1_ne {a : Nat} (h2 : a < 2147483648) : ¬ nI a = (-1 : Int32) := fun h => by have := ze_m1_lt h2; rw [h] at this; exact absurd this (by decide)
theorem ze_m1_en {a : Nat} (h2 : a < 2147483648) : ¬ (-1 : Int32) = nI a := fun h => ze_m1_ne h2 h.symm
theorem ze_m1_ne4 : ¬ (-1 : Int32) = 4 := by decide
theorem ze_m1_ne0 : ¬ (-1 : Int32) = 0 := by decide
theorem ze_nz6 : ¬ (6 : Int32) = 0 := by decide
theorem ze_nz10 : ¬ (10 : Int32) = 0 := by decide
theorem ze_nz12 : ¬ (12 : Int32) = 0 := by decide
theorem ze_nz16 : ¬ (16 : Int32) = 0 := by decide
theorem ze_nz32 : ¬ (32 : Int32) = 0 := by decide
theorem ze_nz192 : ¬ (192 : Int32) = 0 := by decide
theorem ze_1ne0 : ¬ (1 : Int32) = 0 := by decide
theorem ze_0ne1 : ¬ (0 : Int32) = 1 := by decide
theorem ze_0ne4 : ¬ (0 : Int32) = 4 := by decide
theorem ze_rem6 {a : Nat} (h : a < 2147483648) : nI a - nI a / 6 * 6 = nI (a % 6) := pk_rem (d := 6) h (by decide) (by decide)
theorem ze_rem10 {a : Nat} (h : a < 2147483648) : nI a - nI a / 10 * 10 = nI (a % 10) := pk_rem (d := 10) h (by decide) (by decide)
theorem ze_rem16 {a : Nat} (h : a < 2147483648) : nI a - nI a / 16 * 16 = nI (a % 16) := pk_rem (d := 16) h (by decide) (by decide)
theorem ze_rem32 {a : Nat} (h : a < 2147483648) : nI a - nI a / 32 * 32 = nI (a % 32) := pk_rem (d := 32) h (by decide) (by decide)
theorem ze_rem12 {a : Nat} (h : a < 2147483648) : nI a - nI a / 12 * 12 = nI (a % 12) := pk_rem (d := 12) h (by decide) (by decide)
theorem ze_div6 {a : Nat} (h : a < 2147483648) : nI a / 6 = nI (a / 6) := pk_div (d := 6) h (by decide) (by decide)
theorem ze_div10 {a : Nat} (h : a < 2147483648) : nI a / 10 = nI (a / 10) := pk_div (d := 10) h (by decide) (by decide)
theorem ze_div12 {a : Nat} (h : a < 2147483648) : nI a / 12 = nI (a / 12) := pk_div (d := 12) h (by decide) (by decide)
theorem ze_div16 {a : Nat} (h : a < 2147483648) : nI a / 16 = nI (a / 16) := pk_div (d := 16) h (by decide) (by decide)
theorem ze_div32 {a : Nat} (h : a < 2147483648) : nI a / 32 = nI (a / 32) := pk_div (d := 32) h (by decide) (by decide)
theorem ze_div192 {a : Nat} (h : a < 2147483648) : nI a / 192 = nI (a / 192) := pk_div (d := 192) h (by decide) (by decide)
theorem ze_mul3 (a : Nat) : (3 : Int32) * nI a = nI (3 * a) := pk_mul 3 a
theorem ze_mul4 (a : Nat) : (4 : Int32) * nI a = nI (4 * a) := pk_mul 4 a
theorem ze_mul6 (a : Nat) : (6 : Int32) * nI a = nI (6 * a) := pk_mul 6 a
theorem ze_mul10 (a : Nat) : (10 : Int32) * nI a = nI (10 * a) := pk_mul 10 a
theorem ze_mul12 (a : Nat) : (12 : Int32) * nI a = nI (12 * a) := pk_mul 12 a
theorem ze_mul16 (a : Nat) : (16 : Int32) * nI a = nI (16 * a) := pk_mul 16 a
theorem ze_mul17 (a : Nat) : (17 : Int32) * nI a = nI (17 * a) := pk_mul 17 a
theorem ze_mul32 (a : Nat) : (32 : Int32) * nI a = nI (32 * a) := pk_mul 32 a
theorem ze_mul60 (a : Nat) : (60 : Int32) * nI a = nI (60 * a) := pk_mul 60 a
theorem ze_mulr6 (a : Nat) : nI a * 6 = nI (a * 6) := pk_mul a 6
theorem ze_nrem6 (a : Nat) : a - a / 6 * 6 = a % 6 := by omega
theorem ze_mulr10 (a : Nat) : nI a * 10 = nI (a * 10) := pk_mul a 10
theorem ze_nrem10 (a : Nat) : a - a / 10 * 10 = a % 10 := by omega
theorem ze_mulr12 (a : Nat) : nI a * 12 = nI (a * 12) := pk_mul a 12
theorem ze_nrem12 (a : Nat) : a - a / 12 * 12 = a % 12 := by omega
theorem ze_mulr16 (a : Nat) : nI a * 16 = nI (a * 16) := pk_mul a 16
theorem ze_nrem16 (a : Nat) : a - a / 16 * 16 = a % 16 := by omega
theorem ze_mulr32 (a : Nat) : nI a * 32 = nI (a * 32) := pk_mul a 32
theorem ze_nrem32 (a : Nat) : a - a / 32 * 32 = a % 32 := by omega
theorem ze_add1 (a : Nat) : nI a + 1 = nI (a + 1) := nI_add a 1
theorem ze_add6 (a : Nat) : nI a + 6 = nI (a + 6) := nI_add a 6
theorem ze_add7 (a : Nat) : nI a + 7 = nI (a + 7) := nI_add a 7
theorem ze_add8 (a : Nat) : nI a + 8 = nI (a + 8) := nI_add a 8
theorem ze_add12 (a : Nat) : nI a + 12 = nI (a + 12) := nI_add a 12
theorem ze_add16 (a : Nat) : nI a + 16 = nI (a + 16) := nI_add a 16
theorem ze_add0 (a : Nat) : nI a + 0 = nI a := nI_add a 0
theorem ze_radd0 (a : Nat) : (0 : Int32) + nI a = nI a := by have := nI_add 0 a; rwa [Nat.zero_add] at this
theorem ze_radd8 (a : Nat) : (8 : Int32) + nI a = nI (8 + a) := nI_add 8 a
theorem ze_sub1 {a : Nat} (h : 1 ≤ a) : nI a - 1 = nI (a - 1) := pk_sub (b := 1) h
theorem ze_m1 {a : Nat} (h : 1 ≤ a) : nI a + (-1) = nI (a - 1) := sb_m1 h
theorem ze_0sub1 : (0 : Int32) - 1 = -1 := by decide
theorem ze_m1add1 : (-1 : Int32) + 1 = 0 := by decide
theorem ze_1sub {a : Nat} (h : a ≤ 1) : 1 - nI a = nI (1 - a) := pk_sub (a := 1) h
theorem ze_2sub {a : Nat} (h : a ≤ 2) : 2 - nI a = nI (2 - a) := pk_sub (a := 2) h
theorem ze_and3 {a : Nat} (h : a < 4294967296) : nI a &&& 3 = nI (a % 4) := pk_andN h 2 (by decide)
theorem ze_and7 {a : Nat} (h : a < 4294967296) : nI a &&& 7 = nI (a % 8) := pk_andN h 3 (by decide)
theorem ze_and31 {a : Nat} (h : a < 4294967296) : nI a &&& 31 = nI (a % 32) := pk_andN h 5 (by decide)
theorem ze_and127 {a : Nat} (h : a < 4294967296) : nI a &&& 127 = nI (a % 128) := pk_andN h 7 (by decide)
theorem ze_shr2 {a : Nat} (h : a < 2147483648) : nI a >>> ((2 : Int32) &&& 31) = nI (a / 4) := pk_shrN h _ 2 (by decide)
theorem ze_shr3 {a : Nat} (h : a < 2147483648) : nI a >>> ((3 : Int32) &&& 31) = nI (a / 8) := pk_shrN h _ 3 (by decide)
theorem ze_shr5 {a : Nat} (h : a < 2147483648) : nI a >>> ((5 : Int32) &&& 31) = nI (a / 32) := pk_shrN h _ 5 (by decide)
theorem ze_shl3 {a : Nat} (h : a < 1000) : nI a <<< ((3 : Int32) &&& 31) = nI (a * 8) := pk_shlN _ 3 (by decide) (by omega)
theorem ze_i8 {a : Nat} (h : a < 128) : (nI a).toInt8.toInt32 = nI a := lg_i2b_small (by rw [nI_toInt (by omega)]; omega) (by rw [nI_toInt (by omega)]; omega)
theorem ze_nby {a : Nat} (h : a < 128) : vp_nar .byte (nI a) = nI a := by rw [vp_nar_byte, ze_i8 h]
theorem ze_i8m1 : (-1 : Int32).toInt8.toInt32 = -1 := by decide
theorem ze_i80 : (0 : Int32).toInt8.toInt32 = 0 := by decide
theorem ze_nbm1 : vp_nar .byte (-1) = -1 := by rw [vp_nar_byte]; decide
theorem ze_i16 {a : Nat} (h : a < 32768) : (nI a).toInt16.toInt32 = nI a := lg_i2s_small (by rw [nI_toInt (by omega)]; omega) (by rw [nI_toInt (by omega)]; omega)
theorem ze_nsh {a : Nat} (h : a < 32768) : vp_nar .short (nI a) = nI a := by rw [vp_nar_short, ze_i16 h]
theorem ze_nb0 : vp_nar .byte 0 = 0 := by rw [vp_nar_byte]; decide
theorem ze_nt0 : vp_nar .boolean 0 = 0 := by rfl
theorem ze_nt1 : vp_nar .boolean 1 = 1 := by rfl
theorem ze_cl0 : (0 : Int32).toNatClampNeg = 0 := by decide
theorem ze_cl1 : (1 : Int32).toNatClampNeg = 1 := by decide
end
section
/-! the world of classes: lv level, up parent, nf number of own fields, nm and kd name and kind of the own field 4 * c + k -/
def gw_an (up : Nat → Nat) : Nat → Nat → Nat
  | 0, c => c
  | k + 1, c => gw_an up k (up c)
def gw_al (lv up : Nat → Nat) (c j : Nat) : Nat := gw_an up (lv c - j) c
def gw_W (D : Nat → Int32) (lv up nf nm kd : Nat → Nat) : Prop :=
  ∀ c, c < 12 → nf c ≤ 4 ∧ (D c = 0 → nf c = 0) ∧ (∀ k, k < nf c → nm (4 * c + k) < 10 ∧ kd (4 * c + k) < 5) ∧ (∀ k, k + 1 < nf c → nm (4 * c + k) < nm (4 * c + (k + 1))) ∧ lv c ≤ 2 ∧ (D c ≠ 0 → lv c ≠ 0 → up c < 12 ∧ up c / 6 = c / 6 ∧ D (up c) ≠ 0 ∧ lv (up c) + 1 = lv c)
def gw_U (D : Nat → Int32) (lv up nf nm : Nat → Nat) : Prop :=
  ∀ c, c < 12 → D c ≠ 0 → ∀ i j, i < j → j ≤ lv c → ∀ k l, k < nf (gw_al lv up c i) → l < nf (gw_al lv up c j) → nm (4 * gw_al lv up c i + k) ≠ nm (4 * gw_al lv up c j + l)
def gw_CX (D P L F N K : Nat → Int32) (lv up nf nm kd : Nat → Nat) : Prop :=
  ∀ c, c < 12 → F c = nI (nf c) ∧ (∀ k, k < nf c → N (4 * c + k) = nI (nm (4 * c + k)) ∧ K (4 * c + k) = nI (kd (4 * c + k))) ∧ (D c ≠ 0 → L c = nI (lv c) ∧ P c = if lv c = 0 then -1 else nI (up c))
def gw_CY (D Q O : Nat → Int32) (lv up nf nm kd : Nat → Nat) : Prop :=
  ∀ c, c < 12 → (∀ k, k < nf c → O (10 * c + nm (4 * c + k)) = nI (kd (4 * c + k))) ∧ (∀ x, x < 10 → (∀ k, k < nf c → nm (4 * c + k) ≠ x) → O (10 * c + x) = -1) ∧ (D c ≠ 0 → Q c = if lv c = 0 then -1 else nI (up c % 6))
def gw_inC (D : Nat → Int32) (lv up : Nat → Nat) (c b : Nat) : Prop := D b ≠ 0 ∧ lv b ≤ lv c ∧ gw_al lv up c (lv b) = b
def gw_mir (c : Nat) : Nat := if c < 6 then c + 6 else c - 6
theorem gw_mir_lt {c : Nat} (h : c < 12) : gw_mir c < 12 := by unfold gw_mir; split <;> omega
theorem gw_mir_mod {c : Nat} (h : c < 12) : gw_mir c % 6 = c % 6 := by unfold gw_mir; split <;> omega
theorem gw_mir_div {c : Nat} (h : c < 12) : gw_mir c / 6 = 1 - c / 6 := by unfold gw_mir; split <;> omega
theorem gw_mir_mir {c : Nat} (h : c < 12) : gw_mir (gw_mir c) = c := by unfold gw_mir; split <;> split <;> omega
section
variable {D : Nat → Int32} {lv up nf nm kd : Nat → Nat}
theorem gw_an_succ (up : Nat → Nat) : ∀ k c, gw_an up (k + 1) c = up (gw_an up k c)
  | 0, _ => rfl
  | k + 1, c => gw_an_succ up k (up c)
theorem gw_an_add (up : Nat → Nat) : ∀ i j c, gw_an up (i + j) c = gw_an up j (gw_an up i c)
  | 0, j, c => by rw [Nat.zero_add]; rfl
  | i + 1, j, c => by rw [Nat.add_right_comm]; exact gw_an_add up i j (up c)
theorem gw_an_ok (HW : gw_W D lv up nf nm kd) : ∀ k c, c < 12 → D c ≠ 0 → k ≤ lv c → gw_an up k c < 12 ∧ D (gw_an up k c) ≠ 0 ∧ lv (gw_an up k c) + k = lv c ∧ gw_an up k c / 6 = c / 6
  | 0, c, hc, hd, _ => ⟨hc, hd, rfl, rfl⟩
  | k + 1, c, hc, hd, hk => by
    obtain ⟨-, -, -, -, -, h⟩ := HW c hc
    obtain ⟨h1, h2, h3, h4⟩ := h hd (by omega)
    obtain ⟨i1, i2, i3, i4⟩ := gw_an_ok HW k (up c) h1 h3 (by omega)
    exact ⟨i1, i2, by show lv (gw_an up k (up c)) + (k + 1) = lv c; omega, by show gw_an up k (up c) / 6 = c / 6; omega⟩
theorem gw_al_top (lv up : Nat → Nat) (c : Nat) : gw_al lv up c (lv c) = c := by unfold gw_al; rw [Nat.sub_self]; rfl
theorem gw_al_ok (HW : gw_W D lv up nf nm kd) {c j : Nat} (hc : c < 12) (hd : D c ≠ 0) (hj : j ≤ lv c) : gw_al lv up c j < 12 ∧ D (gw_al lv up c j) ≠ 0 ∧ lv (gw_al lv up c j) = j ∧ gw_al lv up c j / 6 = c / 6 := by
  obtain ⟨h1, h2, h3, h4⟩ := gw_an_ok HW (lv c - j) c hc hd (by omega)
  exact ⟨h1, h2, by show lv (gw_an up (lv c - j) c) = j; omega, h4⟩
theorem gw_al_up (lv up : Nat → Nat) {c j : Nat} (hj : j < lv c) : up (gw_al lv up c (j + 1)) = gw_al lv up c j := by
  unfold gw_al
  rw [← gw_an_succ up]
  exact congrArg (fun k => gw_an up k c) (by omega)
theorem gw_al_al (HW : gw_W D lv up nf nm kd) {c i j : Nat} (hc : c < 12) (hd : D c ≠ 0) (hij : i ≤ j) (hj : j ≤ lv c) : gw_al lv up (gw_al lv up c j) i = gw_al lv up c i := by
  have h := (gw_al_ok HW hc hd hj).2.2.1
  show gw_an up (lv (gw_al lv up c j) - i) (gw_an up (lv c - j) c) = gw_an up (lv c - i) c
  rw [h, ← gw_an_add]
  exact congrArg (fun k => gw_an up k c) (by omega)
theorem gw_nm_lt (HW : gw_W D lv up nf nm kd) {c i : Nat} (hc : c < 12) : ∀ j, i < j → j < nf c → nm (4 * c + i) < nm (4 * c + j)
  | 0, h, _ => by omega
  | j + 1, h, hj => by
    have s := (HW c hc).2.2.2.1 j hj
    rcases Nat.lt_or_ge i j with z | z
    · exact Nat.lt_trans (gw_nm_lt HW hc j z (by omega)) s
    · have e : i = j := by omega
      subst e; exact s
theorem gw_nm_inj (HW : gw_W D lv up nf nm kd) {c i j : Nat} (hc : c < 12) (hi : i < nf c) (hj : j < nf c) (h : nm (4 * c + i) = nm (4 * c + j)) : i = j := by
  rcases Nat.lt_trichotomy i j with z | z | z
  · have := gw_nm_lt HW hc j z hj; omega
  · exact z
  · have := gw_nm_lt HW hc i z hi; omega
/-- one name, one field of the chain -/
theorem gw_one (HW : gw_W D lv up nf nm kd) (HU : gw_U D lv up nf nm) {c i j k l : Nat} (hc : c < 12) (hd : D c ≠ 0) (hi : i ≤ lv c) (hj : j ≤ lv c) (hk : k < nf (gw_al lv up c i)) (hl : l < nf (gw_al lv up c j))
    (h : nm (4 * gw_al lv up c i + k) = nm (4 * gw_al lv up c j + l)) : i = j ∧ k = l := by
  rcases Nat.lt_trichotomy i j with z | z | z
  · exact absurd h (HU c hc hd i j z hj k l hk hl)
  · subst z; exact ⟨rfl, gw_nm_inj HW (gw_al_ok HW hc hd hi).1 hk hl h⟩
  · exact absurd h.symm (HU c hc hd j i z hi l k hl hk)
/-- the own field of a name -/
def gw_OF (nf nm : Nat → Nat) (c : Nat) (x r : Int32) : Prop := (∃ k, k < nf c ∧ x = nI (nm (4 * c + k)) ∧ r = nI k) ∨ (r = -1 ∧ ∀ k, k < nf c → x ≠ nI (nm (4 * c + k)))
/-- the place of a name in the chain -/
def gw_PO (lv up nf nm : Nat → Nat) (c : Nat) (x r : Int32) : Prop := (∃ j k, j ≤ lv c ∧ k < nf (gw_al lv up c j) ∧ x = nI (nm (4 * gw_al lv up c j + k)) ∧ r = nI (4 * j + k)) ∨ (r = -1 ∧ ∀ j k, j ≤ lv c → k < nf (gw_al lv up c j) → x ≠ nI (nm (4 * gw_al lv up c j + k)))
end
end
section
theorem gc_pig : ∀ (m n : Nat) (f : Nat → Nat), (∀ i, i < n → f i < m) → (∀ i j, i < j → j < n → f i ≠ f j) → n ≤ m := by
  intro m
  induction m with
  | zero =>
    intro n f h1 _
    rcases Nat.eq_zero_or_pos n with z | z
    · omega
    · have := h1 0 z; omega
  | succ m ih =>
    intro n f h1 h2
    rcases Classical.em (∃ i, i < n ∧ f i = m) with ⟨i0, hi0, e⟩ | no
    · have key : n - 1 ≤ m := by
        refine ih (n - 1) (fun i => if i < i0 then f i else f (i + 1)) (fun i hi => ?_) (fun i j hij hj => ?_)
        · try dsimp only
          split
          · have a := h1 i (by omega)
            have b := h2 i i0 (by omega) hi0
            omega
          · have a := h1 (i + 1) (by omega)
            have b := h2 i0 (i + 1) (by omega) (by omega)
            omega
        · try dsimp only
          split <;> split
          · exact h2 i j hij (by omega)
          · exact h2 i (j + 1) (by omega) (by omega)
          · omega
          · exact h2 (i + 1) (j + 1) (by omega) (by omega)
      omega
    · have := ih n f (fun i hi => by
        have a := h1 i hi
        have b : f i ≠ m := fun e => no ⟨i, hi, e⟩
        omega) h2
      omega
theorem gc_H {hh : Nat → Nat} {s H : Nat} (h : ∀ a, 1 ≤ a → a ≤ H → ∃ o, o < 32 ∧ o / 16 = s ∧ hh o = a) : ∃ f : Nat → Nat, ∀ i, i < H → f i < 32 ∧ f i / 16 = s ∧ hh (f i) = i + 1 := by
  have : ∀ i, ∃ o, i < H → o < 32 ∧ o / 16 = s ∧ hh o = i + 1 := by
    intro i
    rcases Nat.lt_or_ge i H with z | z
    · obtain ⟨o, ho⟩ := h (i + 1) (by omega) (by omega)
      exact ⟨o, fun _ => ho⟩
    · exact ⟨0, fun q => by omega⟩
  obtain ⟨f, hf⟩ := Classical.axiomOfChoice this
  exact ⟨f, hf⟩
theorem gc_H16 {hh : Nat → Nat} {s H : Nat} (h : ∀ a, 1 ≤ a → a ≤ H → ∃ o, o < 32 ∧ o / 16 = s ∧ hh o = a) : H ≤ 16 := by
  obtain ⟨f, hf⟩ := gc_H h
  refine gc_pig 16 H (fun i => f i % 16) (fun i _ => Nat.mod_lt _ (by decide)) (fun i j hij hj e => ?_)
  try dsimp only at e
  have a := hf i (by omega)
  have b := hf j hj
  have : f i = f j := by omega
  rw [this] at a
  omega
theorem gc_H15 {hh : Nat → Nat} {s H z : Nat} (h : ∀ a, 1 ≤ a → a ≤ H → ∃ o, o < 32 ∧ o / 16 = s ∧ hh o = a) (hz : z < 32) (hz2 : z / 16 = s) (hz3 : hh z = 0) : H ≤ 15 := by
  obtain ⟨f, hf⟩ := gc_H h
  have : H + 1 ≤ 16 := by
    refine gc_pig 16 (H + 1) (fun i => if i < H then f i % 16 else z % 16) (fun i _ => ?_) (fun i j hij hj e => ?_)
    · split <;> omega
    · try dsimp only at e
      rw [if_pos (by omega)] at e
      have a := hf i (by omega)
      split at e
      · have b := hf j (by omega)
        have : f i = f j := by omega
        rw [this] at a
        omega
      · have : f i = z := by omega
        rw [this] at a
        omega
  omega
end
section
section
variable {f_end f_at f_written f_read f_error f_culprit f_nextHandle f_depth f_nTodo : Int32} {a_defined a_parent a_level a_version a_fields a_fName a_fKind a_latest a_oClass a_pinned a_handle a_arrived a_handles a_described a_dLevels a_dFields a_plan a_wide a_wire a_order a_made a_sObj a_sLev a_sPos a_sCls a_todo : Nat → Int32} {a_slot a_pairs : Nat → Int64} {lv up nf nm kd : Nat → Nat} {post : Int32 → Prop}
theorem gx_side (p0 : Int32) (h0 : p0 ≠ 0 → p0 ≠ 1 → post 0) (h1 : ∀ s, s < 2 → p0 = nI s → post 1) : wpX_isSide post p0 := by
  unfold wpX_isSide
  exact br_c (fun e => h1 0 (by omega) e) (fun e => br_c (fun e1 => h1 1 (by omega) e1) (fun e1 => h0 e e1))
theorem gx_class (p0 p1 : Int32) (h0 : (∀ s c, s < 2 → c < 6 → p0 = nI s → p1 = nI c → a_defined (6 * s + c) = 0) → post 0)
    (h1 : ∀ s c, s < 2 → c < 6 → p0 = nI s → p1 = nI c → a_defined (6 * s + c) ≠ 0 → post 1) : wpX_isClass post (f_end, f_at, f_written, f_read, f_error, f_culprit, f_nextHandle, f_depth, f_nTodo, a_defined, a_parent, a_level, a_version, a_fields, a_fName, a_fKind, a_latest, a_oClass, a_pinned, a_slot, a_handle, a_arrived, a_handles, a_described, a_dLevels, a_dFields, a_plan, a_wide, a_wire, a_order, a_made, a_sObj, a_sLev, a_sPos, a_sCls, a_pairs, a_todo) p0 p1 := by
  unfold wpX_isClass
  dsimp only
  refine gx_side p0 (fun e0 e1 => br_t rfl (h0 ?_)) (fun s hs es => br_f (by decide) ?_)
  · intro s c hs hc e _
    rcases (by omega : s = 0 ∨ s = 1) with z | z
    · subst z; exact absurd e e0
    · subst z; exact absurd e e1
  · subst es
    rcases pk_ix p1 (n := 6) (by decide) with z | z | ⟨c, hc, ec⟩
    · refine br_t z (h0 ?_)
      intro s' c' _ hc' _ e
      subst e
      exact absurd z (nI_pos (by omega))
    · have z0 : ¬ p1 < 0 := fun h => absurd (Int32.lt_of_le_of_lt z h) (by decide)
      refine br_f z0 (br_t z (h0 ?_))
      intro s' c' _ hc' _ e
      subst e
      exact absurd z (nI_ge (by omega) (by decide))
    · subst ec
      simp (disch := omega) only [ze_ge0t, ze_gt0t, ze_gt0f, ze_le0t, ze_le0f, ze_lt0f, ze_eq0p, ze_eq0f, ze_ge1t, ze_ge1f, ze_gt1t, ze_gt1f, ze_le1t, ze_le1f, ze_lt1t, ze_lt1f, ze_eq1p, ze_eq1f, ze_ge2t, ze_ge2f, ze_gt2t, ze_gt2f, ze_le2t, ze_le2f, ze_lt2t, ze_lt2f, ze_eq2p, ze_eq2f, ze_ge3t, ze_ge3f, ze_gt3t, ze_gt3f, ze_le3t, ze_le3f, ze_lt3t, ze_lt3f, ze_eq3p, ze_eq3f, ze_ge4t, ze_ge4f, ze_gt4t, ze_gt4f, ze_le4t, ze_le4f, ze_lt4t, ze_lt4f, ze_eq4p, ze_eq4f, ze_ge5t, ze_ge5f, ze_gt5t, ze_gt5f, ze_le5t, ze_le5f, ze_lt5t, ze_lt5f, ze_eq5p, ze_eq5f, ze_ge6t, ze_ge6f, ze_gt6t, ze_gt6f, ze_le6t, ze_le6f, ze_lt6t, ze_lt6f, ze_eq6p, ze_eq6f, ze_ge7t, ze_ge7f, ze_gt7t, ze_gt7f, ze_le7t, ze_le7f, ze_lt7t, ze_lt7f, ze_eq7p, ze_eq7f, ze_ge9t, ze_ge9f, ze_gt9t, ze_gt9f, ze_le9t, ze_le9f, ze_lt9t, ze_lt9f, ze_eq9p, ze_eq9f, ze_ge10t, ze_ge10f, ze_gt10t, ze_gt10f, ze_le10t, ze_le10f, ze_lt10t, ze_lt10f, ze_eq10p, ze_eq10f, ze_ge12t, ze_ge12f, ze_gt12t, ze_gt12f, ze_le12t, ze_le12f, ze_lt12t, ze_lt12f, ze_eq12p, ze_eq12f, ze_ge15t, ze_ge15f, ze_gt15t, ze_gt15f, ze_le15t, ze_le15f, ze_lt15t, ze_lt15f, ze_eq15p, ze_eq15f, ze_ge16t, ze_ge16f, ze_gt16t, ze_gt16f, ze_le16t, ze_le16f, ze_lt16t, ze_lt16f, ze_eq16p, ze_eq16f, ze_ge30t, ze_ge30f, ze_gt30t, ze_gt30f, ze_le30t, ze_le30f, ze_lt30t, ze_lt30f, ze_eq30p, ze_eq30f, ze_ge32t, ze_ge32f, ze_gt32t, ze_gt32f, ze_le32t, ze_le32f, ze_lt32t, ze_lt32f, ze_eq32p, ze_eq32f, ze_ge47t, ze_ge47f, ze_gt47t, ze_gt47f, ze_le47t, ze_le47f, ze_lt47t, ze_lt47f, ze_eq47p, ze_eq47f, ze_ge120t, ze_ge120f, ze_gt120t, ze_gt120f, ze_le120t, ze_le120f, ze_lt120t, ze_lt120f, ze_eq120p, ze_eq120f, ze_ge1024t, ze_ge1024f, ze_gt1024t, ze_gt1024f, ze_le1024t, ze_le1024f, ze_lt1024t, ze_lt1024f, ze_eq1024p, ze_eq1024f, ze_let, ze_lef, ze_ltt, ze_ltf, ze_eqt, ze_eqf, ze_m1_lt0, ze_m1_n0le, ze_m1_le0, ze_m1_le, ze_m1_lt, ze_m1_nle, ze_m1_nlt, ze_m1_ne, ze_m1_en, ze_m1_ne4, ze_m1_ne0, ze_nz6, ze_nz10, ze_nz12, ze_nz16, ze_nz32, ze_nz192, ze_1ne0, ze_0ne1, ze_0ne4, ↓ze_rem6, ↓ze_rem10, ↓ze_rem16, ↓ze_rem32, ↓ze_rem12, ze_div6, ze_div10, ze_div12, ze_div16, ze_div32, ze_div192, ze_mul3, ze_mul4, ze_mul6, ze_mul10, ze_mul12, ze_mul16, ze_mul17, ze_mul32, ze_mul60, ze_mulr6, ze_nrem6, ze_mulr10, ze_nrem10, ze_mulr12, ze_nrem12, ze_mulr16, ze_nrem16, ze_mulr32, ze_nrem32, nI_add, ze_add1, ze_add6, ze_add7, ze_add8, ze_add12, ze_add16, ze_add0, ze_radd0, ze_radd8, ze_sub1, ze_m1, ze_0sub1, ze_m1add1, ze_1sub, ze_2sub, pk_sub, ze_and3, ze_and7, ze_and31, ze_and127, ↓ze_shr2, ↓ze_shr3, ↓ze_shr5, ↓ze_shl3, ze_i8, ze_nby, ze_i8m1, ze_i80, ze_nbm1, ze_i16, ze_nsh, ze_nb0, ze_nt0, ze_nt1, ze_cl0, ze_cl1, nI_clamp, vp_in_nI, forall_eq, true_implies, false_implies, not_true_eq_false, not_false_eq_true, and_true, true_and, implies_true, and_self, forall_const, Classical.not_not]
      refine br_c (fun z => h0 ?_) (fun z => h1 s c hs hc rfl rfl z)
      intro s' c' hs' hc' e1 e2
      have := (nI_eq (by omega) (by omega)).mp e1
      have := (nI_eq (by omega) (by omega)).mp e2
      subst_vars
      exact z
theorem gx_ancL (HW : gw_W a_defined lv up nf nm kd) (HX : gw_CX a_defined a_parent a_level a_fields a_fName a_fKind lv up nf nm kd) {j : Nat} :
    ∀ n c, c < 12 → a_defined c ≠ 0 → j ≤ lv c → lv c - j < n → post (nI (gw_al lv up c j)) → wX_ancestor_2 post (nI j) f_end f_at f_written f_read f_error f_culprit f_nextHandle f_depth f_nTodo a_defined a_parent a_level a_version a_fields a_fName a_fKind a_latest a_oClass a_pinned a_slot a_handle a_arrived a_handles a_described a_dLevels a_dFields a_plan a_wide a_wire a_order a_made a_sObj a_sLev a_sPos a_sCls a_pairs a_todo n (nI c) := by
  intro n
  induction n with
  | zero => intro c _ _ _ h; omega
  | succ n ih =>
    intro c hc hd hj hn K
    have hl := (HW c hc).2.2.2.2.1
    obtain ⟨-, -, h⟩ := HX c hc
    obtain ⟨eL, eP⟩ := h hd
    rw [wX_ancestor_2]
    simp (disch := omega) only [ze_ge0t, ze_gt0t, ze_gt0f, ze_le0t, ze_le0f, ze_lt0f, ze_eq0p, ze_eq0f, ze_ge1t, ze_ge1f, ze_gt1t, ze_gt1f, ze_le1t, ze_le1f, ze_lt1t, ze_lt1f, ze_eq1p, ze_eq1f, ze_ge2t, ze_ge2f, ze_gt2t, ze_gt2f, ze_le2t, ze_le2f, ze_lt2t, ze_lt2f, ze_eq2p, ze_eq2f, ze_ge3t, ze_ge3f, ze_gt3t, ze_gt3f, ze_le3t, ze_le3f, ze_lt3t, ze_lt3f, ze_eq3p, ze_eq3f, ze_ge4t, ze_ge4f, ze_gt4t, ze_gt4f, ze_le4t, ze_le4f, ze_lt4t, ze_lt4f, ze_eq4p, ze_eq4f, ze_ge5t, ze_ge5f, ze_gt5t, ze_gt5f, ze_le5t, ze_le5f, ze_lt5t, ze_lt5f, ze_eq5p, ze_eq5f, ze_ge6t, ze_ge6f, ze_gt6t, ze_gt6f, ze_le6t, ze_le6f, ze_lt6t, ze_lt6f, ze_eq6p, ze_eq6f, ze_ge7t, ze_ge7f, ze_gt7t, ze_gt7f, ze_le7t, ze_le7f, ze_lt7t, ze_lt7f, ze_eq7p, ze_eq7f, ze_ge9t, ze_ge9f, ze_gt9t, ze_gt9f, ze_le9t, ze_le9f, ze_lt9t, ze_lt9f, ze_eq9p, ze_eq9f, ze_ge10t, ze_ge10f, ze_gt10t, ze_gt10f, ze_le10t, ze_le10f, ze_lt10t, ze_lt10f, ze_eq10p, ze_eq10f, ze_ge12t, ze_ge12f, ze_gt12t, ze_gt12f, ze_le12t, ze_le12f, ze_lt12t, ze_lt12f, ze_eq12p, ze_eq12f, ze_ge15t, ze_ge15f, ze_gt15t, ze_gt15f, ze_le15t, ze_le15f, ze_lt15t, ze_lt15f, ze_eq15p, ze_eq15f, ze_ge16t, ze_ge16f, ze_gt16t, ze_gt16f, ze_le16t, ze_le16f, ze_lt16t, ze_lt16f, ze_eq16p, ze_eq16f, ze_ge30t, ze_ge30f, ze_gt30t, ze_gt30f, ze_le30t, ze_le30f, ze_lt30t, ze_lt30f, ze_eq30p, ze_eq30f, ze_ge32t, ze_ge32f, ze_gt32t, ze_gt32f, ze_le32t, ze_le32f, ze_lt32t, ze_lt32f, ze_eq32p, ze_eq32f, ze_ge47t, ze_ge47f, ze_gt47t, ze_gt47f, ze_le47t, ze_le47f, ze_lt47t, ze_lt47f, ze_eq47p, ze_eq47f, ze_ge120t, ze_ge120f, ze_gt120t, ze_gt120f, ze_le120t, ze_le120f, ze_lt120t, ze_lt120f, ze_eq120p, ze_eq120f, ze_ge1024t, ze_ge1024f, ze_gt1024t, ze_gt1024f, ze_le1024t, ze_le1024f, ze_lt1024t, ze_lt1024f, ze_eq1024p, ze_eq1024f, ze_let, ze_lef, ze_ltt, ze_ltf, ze_eqt, ze_eqf, ze_m1_lt0, ze_m1_n0le, ze_m1_le0, ze_m1_le, ze_m1_lt, ze_m1_nle, ze_m1_nlt, ze_m1_ne, ze_m1_en, ze_m1_ne4, ze_m1_ne0, ze_nz6, ze_nz10, ze_nz12, ze_nz16, ze_nz32, ze_nz192, ze_1ne0, ze_0ne1, ze_0ne4, ↓ze_rem6, ↓ze_rem10, ↓ze_rem16, ↓ze_rem32, ↓ze_rem12, ze_div6, ze_div10, ze_div12, ze_div16, ze_div32, ze_div192, ze_mul3, ze_mul4, ze_mul6, ze_mul10, ze_mul12, ze_mul16, ze_mul17, ze_mul32, ze_mul60, ze_mulr6, ze_nrem6, ze_mulr10, ze_nrem10, ze_mulr12, ze_nrem12, ze_mulr16, ze_nrem16, ze_mulr32, ze_nrem32, nI_add, ze_add1, ze_add6, ze_add7, ze_add8, ze_add12, ze_add16, ze_add0, ze_radd0, ze_radd8, ze_sub1, ze_m1, ze_0sub1, ze_m1add1, ze_1sub, ze_2sub, pk_sub, ze_and3, ze_and7, ze_and31, ze_and127, ↓ze_shr2, ↓ze_shr3, ↓ze_shr5, ↓ze_shl3, ze_i8, ze_nby, ze_i8m1, ze_i80, ze_nbm1, ze_i16, ze_nsh, ze_nb0, ze_nt0, ze_nt1, ze_cl0, ze_cl1, nI_clamp, vp_in_nI, forall_eq, true_implies, false_implies, not_true_eq_false, not_false_eq_true, and_true, true_and, implies_true, and_self, forall_const, Classical.not_not, eL]
    by_cases z : lv c ≤ j
    · have e : lv c = j := by omega
      subst e
      rw [gw_al_top] at K
      exact br_t (nI_le (by omega) (by omega)) K
    · refine br_f (nI_ge (by omega) (by omega)) ?_
      obtain ⟨h1, -, h3, h4⟩ := (HW c hc).2.2.2.2.2 hd (by omega)
      rw [eP, if_neg (by omega)]
      refine ih (up c) h1 h3 (by omega) (by omega) ?_
      have e : gw_al lv up (up c) j = gw_al lv up c j := by
        have := gw_al_al HW hc hd (i := j) (j := lv c - 1) (by omega) (by omega)
        rw [← this, ← gw_al_up lv up (by omega : lv c - 1 < lv c), show lv c - 1 + 1 = lv c from by omega, gw_al_top]
      rw [e]; exact K
theorem gx_ancestor (HW : gw_W a_defined lv up nf nm kd) (HX : gw_CX a_defined a_parent a_level a_fields a_fName a_fKind lv up nf nm kd) {c j : Nat} (hc : c < 12) (hd : a_defined c ≠ 0) (hj : j ≤ lv c)
    (K : post (nI (gw_al lv up c j))) : wpX_ancestor post (f_end, f_at, f_written, f_read, f_error, f_culprit, f_nextHandle, f_depth, f_nTodo, a_defined, a_parent, a_level, a_version, a_fields, a_fName, a_fKind, a_latest, a_oClass, a_pinned, a_slot, a_handle, a_arrived, a_handles, a_described, a_dLevels, a_dFields, a_plan, a_wide, a_wire, a_order, a_made, a_sObj, a_sLev, a_sPos, a_sCls, a_pairs, a_todo) (nI c) (nI j) :=
  ⟨lv c - j + 1, gx_ancL HW HX _ c hc hd hj (by omega) K⟩
theorem gx_ownL (HX : gw_CX a_defined a_parent a_level a_fields a_fName a_fKind lv up nf nm kd) {c : Nat} {x : Int32} (hc : c < 12) (hn4 : nf c ≤ 4) (K : ∀ r, gw_OF nf nm c x r → post r) :
    ∀ n m, m < n → m ≤ nf c → (∀ k, m ≤ k → k < nf c → x ≠ nI (nm (4 * c + k))) → wX_ownField_9 post (nI c) x f_end f_at f_written f_read f_error f_culprit f_nextHandle f_depth f_nTodo a_defined a_parent a_level a_version a_fields a_fName a_fKind a_latest a_oClass a_pinned a_slot a_handle a_arrived a_handles a_described a_dLevels a_dFields a_plan a_wide a_wire a_order a_made a_sObj a_sLev a_sPos a_sCls a_pairs a_todo n (nI m - 1) := by
  intro n
  induction n with
  | zero => intro m h; omega
  | succ n ih =>
    intro m hm hmf hno
    rw [wX_ownField_9]
    cases m with
    | zero =>
      refine br_t (by decide) ?_
      have e : nI 0 - 1 = (-1 : Int32) := by decide
      rw [e]
      exact K _ (Or.inr ⟨rfl, fun k hk => hno k (Nat.zero_le _) hk⟩)
    | succ m =>
      have eN := ((HX c hc).2.1 m (by omega)).1
      simp (disch := omega) only [ze_ge0t, ze_gt0t, ze_gt0f, ze_le0t, ze_le0f, ze_lt0f, ze_eq0p, ze_eq0f, ze_ge1t, ze_ge1f, ze_gt1t, ze_gt1f, ze_le1t, ze_le1f, ze_lt1t, ze_lt1f, ze_eq1p, ze_eq1f, ze_ge2t, ze_ge2f, ze_gt2t, ze_gt2f, ze_le2t, ze_le2f, ze_lt2t, ze_lt2f, ze_eq2p, ze_eq2f, ze_ge3t, ze_ge3f, ze_gt3t, ze_gt3f, ze_le3t, ze_le3f, ze_lt3t, ze_lt3f, ze_eq3p, ze_eq3f, ze_ge4t, ze_ge4f, ze_gt4t, ze_gt4f, ze_le4t, ze_le4f, ze_lt4t, ze_lt4f, ze_eq4p, ze_eq4f, ze_ge5t, ze_ge5f, ze_gt5t, ze_gt5f, ze_le5t, ze_le5f, ze_lt5t, ze_lt5f, ze_eq5p, ze_eq5f, ze_ge6t, ze_ge6f, ze_gt6t, ze_gt6f, ze_le6t, ze_le6f, ze_lt6t, ze_lt6f, ze_eq6p, ze_eq6f, ze_ge7t, ze_ge7f, ze_gt7t, ze_gt7f, ze_le7t, ze_le7f, ze_lt7t, ze_lt7f, ze_eq7p, ze_eq7f, ze_ge9t, ze_ge9f, ze_gt9t, ze_gt9f, ze_le9t, ze_le9f, ze_lt9t, ze_lt9f, ze_eq9p, ze_eq9f, ze_ge10t, ze_ge10f, ze_gt10t, ze_gt10f, ze_le10t, ze_le10f, ze_lt10t, ze_lt10f, ze_eq10p, ze_eq10f, ze_ge12t, ze_ge12f, ze_gt12t, ze_gt12f, ze_le12t, ze_le12f, ze_lt12t, ze_lt12f, ze_eq12p, ze_eq12f, ze_ge15t, ze_ge15f, ze_gt15t, ze_gt15f, ze_le15t, ze_le15f, ze_lt15t, ze_lt15f, ze_eq15p, ze_eq15f, ze_ge16t, ze_ge16f, ze_gt16t, ze_gt16f, ze_le16t, ze_le16f, ze_lt16t, ze_lt16f, ze_eq16p, ze_eq16f, ze_ge30t, ze_ge30f, ze_gt30t, ze_gt30f, ze_le30t, ze_le30f, ze_lt30t, ze_lt30f, ze_eq30p, ze_eq30f, ze_ge32t, ze_ge32f, ze_gt32t, ze_gt32f, ze_le32t, ze_le32f, ze_lt32t, ze_lt32f, ze_eq32p, ze_eq32f, ze_ge47t, ze_ge47f, ze_gt47t, ze_gt47f, ze_le47t, ze_le47f, ze_lt47t, ze_lt47f, ze_eq47p, ze_eq47f, ze_ge120t, ze_ge120f, ze_gt120t, ze_gt120f, ze_le120t, ze_le120f, ze_lt120t, ze_lt120f, ze_eq120p, ze_eq120f, ze_ge1024t, ze_ge1024f, ze_gt1024t, ze_gt1024f, ze_le1024t, ze_le1024f, ze_lt1024t, ze_lt1024f, ze_eq1024p, ze_eq1024f, ze_let, ze_lef, ze_ltt, ze_ltf, ze_eqt, ze_eqf, ze_m1_lt0, ze_m1_n0le, ze_m1_le0, ze_m1_le, ze_m1_lt, ze_m1_nle, ze_m1_nlt, ze_m1_ne, ze_m1_en, ze_m1_ne4, ze_m1_ne0, ze_nz6, ze_nz10, ze_nz12, ze_nz16, ze_nz32, ze_nz192, ze_1ne0, ze_0ne1, ze_0ne4, ↓ze_rem6, ↓ze_rem10, ↓ze_rem16, ↓ze_rem32, ↓ze_rem12, ze_div6, ze_div10, ze_div12, ze_div16, ze_div32, ze_div192, ze_mul3, ze_mul4, ze_mul6, ze_mul10, ze_mul12, ze_mul16, ze_mul17, ze_mul32, ze_mul60, ze_mulr6, ze_nrem6, ze_mulr10, ze_nrem10, ze_mulr12, ze_nrem12, ze_mulr16, ze_nrem16, ze_mulr32, ze_nrem32, nI_add, ze_add1, ze_add6, ze_add7, ze_add8, ze_add12, ze_add16, ze_add0, ze_radd0, ze_radd8, ze_sub1, ze_m1, ze_0sub1, ze_m1add1, ze_1sub, ze_2sub, pk_sub, ze_and3, ze_and7, ze_and31, ze_and127, ↓ze_shr2, ↓ze_shr3, ↓ze_shr5, ↓ze_shl3, ze_i8, ze_nby, ze_i8m1, ze_i80, ze_nbm1, ze_i16, ze_nsh, ze_nb0, ze_nt0, ze_nt1, ze_cl0, ze_cl1, nI_clamp, vp_in_nI, forall_eq, true_implies, false_implies, not_true_eq_false, not_false_eq_true, and_true, true_and, implies_true, and_self, forall_const, Classical.not_not, Nat.add_sub_cancel, eN]
      refine br_c (fun z => K _ (Or.inl ⟨m, by omega, z.symm, rfl⟩)) (fun z => ?_)
      have e : nI m + (-1) = nI m - 1 := by rw [Int32.sub_eq_add_neg]
      rw [e]
      refine ih m (by omega) (by omega) (fun k h1 h2 => ?_)
      rcases Nat.lt_or_ge m k with q | q
      · exact hno k q h2
      · have : k = m := by omega
        subst this; exact fun h => z h.symm
theorem gx_own (HW : gw_W a_defined lv up nf nm kd) (HX : gw_CX a_defined a_parent a_level a_fields a_fName a_fKind lv up nf nm kd) {c : Nat} {x : Int32} (hc : c < 12) (K : ∀ r, gw_OF nf nm c x r → post r) : wpX_ownField post (f_end, f_at, f_written, f_read, f_error, f_culprit, f_nextHandle, f_depth, f_nTodo, a_defined, a_parent, a_level, a_version, a_fields, a_fName, a_fKind, a_latest, a_oClass, a_pinned, a_slot, a_handle, a_arrived, a_handles, a_described, a_dLevels, a_dFields, a_plan, a_wide, a_wire, a_order, a_made, a_sObj, a_sLev, a_sPos, a_sCls, a_pairs, a_todo) (nI c) x := by
  unfold wpX_ownField
  dsimp only
  have eF := (HX c hc).1
  simp (disch := omega) only [vp_in_nI, nI_clamp, eF, forall_eq, true_and]
  exact ⟨nf c + 1, gx_ownL HX hc (HW c hc).1 K _ (nf c) (by omega) (by omega) (fun k h1 h2 => by omega)⟩
theorem gx_placeL (HW : gw_W a_defined lv up nf nm kd) (HX : gw_CX a_defined a_parent a_level a_fields a_fName a_fKind lv up nf nm kd) {c : Nat} {x : Int32} (hc : c < 12) (hd : a_defined c ≠ 0) (K : ∀ r, gw_PO lv up nf nm c x r → post r) :
    ∀ i n, i + 1 < n → i ≤ lv c → (∀ j k, i < j → j ≤ lv c → k < nf (gw_al lv up c j) → x ≠ nI (nm (4 * gw_al lv up c j + k))) → wX_placeOf_2 post x f_end f_at f_written f_read f_error f_culprit f_nextHandle f_depth f_nTodo a_defined a_parent a_level a_version a_fields a_fName a_fKind a_latest a_oClass a_pinned a_slot a_handle a_arrived a_handles a_described a_dLevels a_dFields a_plan a_wide a_wire a_order a_made a_sObj a_sLev a_sPos a_sCls a_pairs a_todo n (nI (gw_al lv up c i)) := by
  intro i
  induction i with
  | zero =>
    intro n hn hi hno
    obtain ⟨n, rfl⟩ : ∃ m, n = m + 1 + 1 := ⟨n - 2, by omega⟩
    obtain ⟨h1, h2, h3, h4⟩ := gw_al_ok HW hc hd hi
    obtain ⟨-, -, h⟩ := HX _ h1
    obtain ⟨eL, eP⟩ := h h2
    rw [wX_placeOf_2]
    refine br_f (nI_pos (by omega)) ?_
    refine gx_own HW HX h1 (fun r hr => ?_)
    rcases hr with ⟨k, hk, e1, e2⟩ | ⟨e2, hr⟩
    · subst e2
      have := (HW _ h1).1
      simp (disch := omega) only [ze_ge0t, ze_gt0t, ze_gt0f, ze_le0t, ze_le0f, ze_lt0f, ze_eq0p, ze_eq0f, ze_ge1t, ze_ge1f, ze_gt1t, ze_gt1f, ze_le1t, ze_le1f, ze_lt1t, ze_lt1f, ze_eq1p, ze_eq1f, ze_ge2t, ze_ge2f, ze_gt2t, ze_gt2f, ze_le2t, ze_le2f, ze_lt2t, ze_lt2f, ze_eq2p, ze_eq2f, ze_ge3t, ze_ge3f, ze_gt3t, ze_gt3f, ze_le3t, ze_le3f, ze_lt3t, ze_lt3f, ze_eq3p, ze_eq3f, ze_ge4t, ze_ge4f, ze_gt4t, ze_gt4f, ze_le4t, ze_le4f, ze_lt4t, ze_lt4f, ze_eq4p, ze_eq4f, ze_ge5t, ze_ge5f, ze_gt5t, ze_gt5f, ze_le5t, ze_le5f, ze_lt5t, ze_lt5f, ze_eq5p, ze_eq5f, ze_ge6t, ze_ge6f, ze_gt6t, ze_gt6f, ze_le6t, ze_le6f, ze_lt6t, ze_lt6f, ze_eq6p, ze_eq6f, ze_ge7t, ze_ge7f, ze_gt7t, ze_gt7f, ze_le7t, ze_le7f, ze_lt7t, ze_lt7f, ze_eq7p, ze_eq7f, ze_ge9t, ze_ge9f, ze_gt9t, ze_gt9f, ze_le9t, ze_le9f, ze_lt9t, ze_lt9f, ze_eq9p, ze_eq9f, ze_ge10t, ze_ge10f, ze_gt10t, ze_gt10f, ze_le10t, ze_le10f, ze_lt10t, ze_lt10f, ze_eq10p, ze_eq10f, ze_ge12t, ze_ge12f, ze_gt12t, ze_gt12f, ze_le12t, ze_le12f, ze_lt12t, ze_lt12f, ze_eq12p, ze_eq12f, ze_ge15t, ze_ge15f, ze_gt15t, ze_gt15f, ze_le15t, ze_le15f, ze_lt15t, ze_lt15f, ze_eq15p, ze_eq15f, ze_ge16t, ze_ge16f, ze_gt16t, ze_gt16f, ze_le16t, ze_le16f, ze_lt16t, ze_lt16f, ze_eq16p, ze_eq16f, ze_ge30t, ze_ge30f, ze_gt30t, ze_gt30f, ze_le30t, ze_le30f, ze_lt30t, ze_lt30f, ze_eq30p, ze_eq30f, ze_ge32t, ze_ge32f, ze_gt32t, ze_gt32f, ze_le32t, ze_le32f, ze_lt32t, ze_lt32f, ze_eq32p, ze_eq32f, ze_ge47t, ze_ge47f, ze_gt47t, ze_gt47f, ze_le47t, ze_le47f, ze_lt47t, ze_lt47f, ze_eq47p, ze_eq47f, ze_ge120t, ze_ge120f, ze_gt120t, ze_gt120f, ze_le120t, ze_le120f, ze_lt120t, ze_lt120f, ze_eq120p, ze_eq120f, ze_ge1024t, ze_ge1024f, ze_gt1024t, ze_gt1024f, ze_le1024t, ze_le1024f, ze_lt1024t, ze_lt1024f, ze_eq1024p, ze_eq1024f, ze_let, ze_lef, ze_ltt, ze_ltf, ze_eqt, ze_eqf, ze_m1_lt0, ze_m1_n0le, ze_m1_le0, ze_m1_le, ze_m1_lt, ze_m1_nle, ze_m1_nlt, ze_m1_ne, ze_m1_en, ze_m1_ne4, ze_m1_ne0, ze_nz6, ze_nz10, ze_nz12, ze_nz16, ze_nz32, ze_nz192, ze_1ne0, ze_0ne1, ze_0ne4, ↓ze_rem6, ↓ze_rem10, ↓ze_rem16, ↓ze_rem32, ↓ze_rem12, ze_div6, ze_div10, ze_div12, ze_div16, ze_div32, ze_div192, ze_mul3, ze_mul4, ze_mul6, ze_mul10, ze_mul12, ze_mul16, ze_mul17, ze_mul32, ze_mul60, ze_mulr6, ze_nrem6, ze_mulr10, ze_nrem10, ze_mulr12, ze_nrem12, ze_mulr16, ze_nrem16, ze_mulr32, ze_nrem32, nI_add, ze_add1, ze_add6, ze_add7, ze_add8, ze_add12, ze_add16, ze_add0, ze_radd0, ze_radd8, ze_sub1, ze_m1, ze_0sub1, ze_m1add1, ze_1sub, ze_2sub, pk_sub, ze_and3, ze_and7, ze_and31, ze_and127, ↓ze_shr2, ↓ze_shr3, ↓ze_shr5, ↓ze_shl3, ze_i8, ze_nby, ze_i8m1, ze_i80, ze_nbm1, ze_i16, ze_nsh, ze_nb0, ze_nt0, ze_nt1, ze_cl0, ze_cl1, nI_clamp, vp_in_nI, forall_eq, true_implies, false_implies, not_true_eq_false, not_false_eq_true, and_true, true_and, implies_true, and_self, forall_const, Classical.not_not, eL]
      exact K _ (Or.inl ⟨0, k, hi, hk, e1, by rw [h3]⟩)
    · subst e2
      rw [h3, if_pos rfl] at eP
      simp (disch := omega) only [ze_ge0t, ze_gt0t, ze_gt0f, ze_le0t, ze_le0f, ze_lt0f, ze_eq0p, ze_eq0f, ze_ge1t, ze_ge1f, ze_gt1t, ze_gt1f, ze_le1t, ze_le1f, ze_lt1t, ze_lt1f, ze_eq1p, ze_eq1f, ze_ge2t, ze_ge2f, ze_gt2t, ze_gt2f, ze_le2t, ze_le2f, ze_lt2t, ze_lt2f, ze_eq2p, ze_eq2f, ze_ge3t, ze_ge3f, ze_gt3t, ze_gt3f, ze_le3t, ze_le3f, ze_lt3t, ze_lt3f, ze_eq3p, ze_eq3f, ze_ge4t, ze_ge4f, ze_gt4t, ze_gt4f, ze_le4t, ze_le4f, ze_lt4t, ze_lt4f, ze_eq4p, ze_eq4f, ze_ge5t, ze_ge5f, ze_gt5t, ze_gt5f, ze_le5t, ze_le5f, ze_lt5t, ze_lt5f, ze_eq5p, ze_eq5f, ze_ge6t, ze_ge6f, ze_gt6t, ze_gt6f, ze_le6t, ze_le6f, ze_lt6t, ze_lt6f, ze_eq6p, ze_eq6f, ze_ge7t, ze_ge7f, ze_gt7t, ze_gt7f, ze_le7t, ze_le7f, ze_lt7t, ze_lt7f, ze_eq7p, ze_eq7f, ze_ge9t, ze_ge9f, ze_gt9t, ze_gt9f, ze_le9t, ze_le9f, ze_lt9t, ze_lt9f, ze_eq9p, ze_eq9f, ze_ge10t, ze_ge10f, ze_gt10t, ze_gt10f, ze_le10t, ze_le10f, ze_lt10t, ze_lt10f, ze_eq10p, ze_eq10f, ze_ge12t, ze_ge12f, ze_gt12t, ze_gt12f, ze_le12t, ze_le12f, ze_lt12t, ze_lt12f, ze_eq12p, ze_eq12f, ze_ge15t, ze_ge15f, ze_gt15t, ze_gt15f, ze_le15t, ze_le15f, ze_lt15t, ze_lt15f, ze_eq15p, ze_eq15f, ze_ge16t, ze_ge16f, ze_gt16t, ze_gt16f, ze_le16t, ze_le16f, ze_lt16t, ze_lt16f, ze_eq16p, ze_eq16f, ze_ge30t, ze_ge30f, ze_gt30t, ze_gt30f, ze_le30t, ze_le30f, ze_lt30t, ze_lt30f, ze_eq30p, ze_eq30f, ze_ge32t, ze_ge32f, ze_gt32t, ze_gt32f, ze_le32t, ze_le32f, ze_lt32t, ze_lt32f, ze_eq32p, ze_eq32f, ze_ge47t, ze_ge47f, ze_gt47t, ze_gt47f, ze_le47t, ze_le47f, ze_lt47t, ze_lt47f, ze_eq47p, ze_eq47f, ze_ge120t, ze_ge120f, ze_gt120t, ze_gt120f, ze_le120t, ze_le120f, ze_lt120t, ze_lt120f, ze_eq120p, ze_eq120f, ze_ge1024t, ze_ge1024f, ze_gt1024t, ze_gt1024f, ze_le1024t, ze_le1024f, ze_lt1024t, ze_lt1024f, ze_eq1024p, ze_eq1024f, ze_let, ze_lef, ze_ltt, ze_ltf, ze_eqt, ze_eqf, ze_m1_lt0, ze_m1_n0le, ze_m1_le0, ze_m1_le, ze_m1_lt, ze_m1_nle, ze_m1_nlt, ze_m1_ne, ze_m1_en, ze_m1_ne4, ze_m1_ne0, ze_nz6, ze_nz10, ze_nz12, ze_nz16, ze_nz32, ze_nz192, ze_1ne0, ze_0ne1, ze_0ne4, ↓ze_rem6, ↓ze_rem10, ↓ze_rem16, ↓ze_rem32, ↓ze_rem12, ze_div6, ze_div10, ze_div12, ze_div16, ze_div32, ze_div192, ze_mul3, ze_mul4, ze_mul6, ze_mul10, ze_mul12, ze_mul16, ze_mul17, ze_mul32, ze_mul60, ze_mulr6, ze_nrem6, ze_mulr10, ze_nrem10, ze_mulr12, ze_nrem12, ze_mulr16, ze_nrem16, ze_mulr32, ze_nrem32, nI_add, ze_add1, ze_add6, ze_add7, ze_add8, ze_add12, ze_add16, ze_add0, ze_radd0, ze_radd8, ze_sub1, ze_m1, ze_0sub1, ze_m1add1, ze_1sub, ze_2sub, pk_sub, ze_and3, ze_and7, ze_and31, ze_and127, ↓ze_shr2, ↓ze_shr3, ↓ze_shr5, ↓ze_shl3, ze_i8, ze_nby, ze_i8m1, ze_i80, ze_nbm1, ze_i16, ze_nsh, ze_nb0, ze_nt0, ze_nt1, ze_cl0, ze_cl1, nI_clamp, vp_in_nI, forall_eq, true_implies, false_implies, not_true_eq_false, not_false_eq_true, and_true, true_and, implies_true, and_self, forall_const, Classical.not_not, eP]
      rw [wX_placeOf_2]
      refine br_t (by decide) (K _ (Or.inr ⟨rfl, fun j k hj hk => ?_⟩))
      rcases Nat.eq_zero_or_pos j with z | z
      · subst z; exact hr k hk
      · exact hno j k z hj hk
  | succ i ih =>
    intro n hn hi hno
    obtain ⟨n, rfl⟩ : ∃ m, n = m + 1 := ⟨n - 1, by omega⟩
    obtain ⟨h1, h2, h3, h4⟩ := gw_al_ok HW hc hd hi
    obtain ⟨-, -, h⟩ := HX _ h1
    obtain ⟨eL, eP⟩ := h h2
    have := (HW c hc).2.2.2.2.1
    rw [wX_placeOf_2]
    refine br_f (nI_pos (by omega)) ?_
    refine gx_own HW HX h1 (fun r hr => ?_)
    rcases hr with ⟨k, hk, e1, e2⟩ | ⟨e2, hr⟩
    · subst e2
      have := (HW _ h1).1
      simp (disch := omega) only [ze_ge0t, ze_gt0t, ze_gt0f, ze_le0t, ze_le0f, ze_lt0f, ze_eq0p, ze_eq0f, ze_ge1t, ze_ge1f, ze_gt1t, ze_gt1f, ze_le1t, ze_le1f, ze_lt1t, ze_lt1f, ze_eq1p, ze_eq1f, ze_ge2t, ze_ge2f, ze_gt2t, ze_gt2f, ze_le2t, ze_le2f, ze_lt2t, ze_lt2f, ze_eq2p, ze_eq2f, ze_ge3t, ze_ge3f, ze_gt3t, ze_gt3f, ze_le3t, ze_le3f, ze_lt3t, ze_lt3f, ze_eq3p, ze_eq3f, ze_ge4t, ze_ge4f, ze_gt4t, ze_gt4f, ze_le4t, ze_le4f, ze_lt4t, ze_lt4f, ze_eq4p, ze_eq4f, ze_ge5t, ze_ge5f, ze_gt5t, ze_gt5f, ze_le5t, ze_le5f, ze_lt5t, ze_lt5f, ze_eq5p, ze_eq5f, ze_ge6t, ze_ge6f, ze_gt6t, ze_gt6f, ze_le6t, ze_le6f, ze_lt6t, ze_lt6f, ze_eq6p, ze_eq6f, ze_ge7t, ze_ge7f, ze_gt7t, ze_gt7f, ze_le7t, ze_le7f, ze_lt7t, ze_lt7f, ze_eq7p, ze_eq7f, ze_ge9t, ze_ge9f, ze_gt9t, ze_gt9f, ze_le9t, ze_le9f, ze_lt9t, ze_lt9f, ze_eq9p, ze_eq9f, ze_ge10t, ze_ge10f, ze_gt10t, ze_gt10f, ze_le10t, ze_le10f, ze_lt10t, ze_lt10f, ze_eq10p, ze_eq10f, ze_ge12t, ze_ge12f, ze_gt12t, ze_gt12f, ze_le12t, ze_le12f, ze_lt12t, ze_lt12f, ze_eq12p, ze_eq12f, ze_ge15t, ze_ge15f, ze_gt15t, ze_gt15f, ze_le15t, ze_le15f, ze_lt15t, ze_lt15f, ze_eq15p, ze_eq15f, ze_ge16t, ze_ge16f, ze_gt16t, ze_gt16f, ze_le16t, ze_le16f, ze_lt16t, ze_lt16f, ze_eq16p, ze_eq16f, ze_ge30t, ze_ge30f, ze_gt30t, ze_gt30f, ze_le30t, ze_le30f, ze_lt30t, ze_lt30f, ze_eq30p, ze_eq30f, ze_ge32t, ze_ge32f, ze_gt32t, ze_gt32f, ze_le32t, ze_le32f, ze_lt32t, ze_lt32f, ze_eq32p, ze_eq32f, ze_ge47t, ze_ge47f, ze_gt47t, ze_gt47f, ze_le47t, ze_le47f, ze_lt47t, ze_lt47f, ze_eq47p, ze_eq47f, ze_ge120t, ze_ge120f, ze_gt120t, ze_gt120f, ze_le120t, ze_le120f, ze_lt120t, ze_lt120f, ze_eq120p, ze_eq120f, ze_ge1024t, ze_ge1024f, ze_gt1024t, ze_gt1024f, ze_le1024t, ze_le1024f, ze_lt1024t, ze_lt1024f, ze_eq1024p, ze_eq1024f, ze_let, ze_lef, ze_ltt, ze_ltf, ze_eqt, ze_eqf, ze_m1_lt0, ze_m1_n0le, ze_m1_le0, ze_m1_le, ze_m1_lt, ze_m1_nle, ze_m1_nlt, ze_m1_ne, ze_m1_en, ze_m1_ne4, ze_m1_ne0, ze_nz6, ze_nz10, ze_nz12, ze_nz16, ze_nz32, ze_nz192, ze_1ne0, ze_0ne1, ze_0ne4, ↓ze_rem6, ↓ze_rem10, ↓ze_rem16, ↓ze_rem32, ↓ze_rem12, ze_div6, ze_div10, ze_div12, ze_div16, ze_div32, ze_div192, ze_mul3, ze_mul4, ze_mul6, ze_mul10, ze_mul12, ze_mul16, ze_mul17, ze_mul32, ze_mul60, ze_mulr6, ze_nrem6, ze_mulr10, ze_nrem10, ze_mulr12, ze_nrem12, ze_mulr16, ze_nrem16, ze_mulr32, ze_nrem32, nI_add, ze_add1, ze_add6, ze_add7, ze_add8, ze_add12, ze_add16, ze_add0, ze_radd0, ze_radd8, ze_sub1, ze_m1, ze_0sub1, ze_m1add1, ze_1sub, ze_2sub, pk_sub, ze_and3, ze_and7, ze_and31, ze_and127, ↓ze_shr2, ↓ze_shr3, ↓ze_shr5, ↓ze_shl3, ze_i8, ze_nby, ze_i8m1, ze_i80, ze_nbm1, ze_i16, ze_nsh, ze_nb0, ze_nt0, ze_nt1, ze_cl0, ze_cl1, nI_clamp, vp_in_nI, forall_eq, true_implies, false_implies, not_true_eq_false, not_false_eq_true, and_true, true_and, implies_true, and_self, forall_const, Classical.not_not, eL]
      exact K _ (Or.inl ⟨i + 1, k, hi, hk, e1, by rw [h3]⟩)
    · subst e2
      rw [h3, if_neg (by omega), gw_al_up lv up (by omega)] at eP
      simp (disch := omega) only [ze_ge0t, ze_gt0t, ze_gt0f, ze_le0t, ze_le0f, ze_lt0f, ze_eq0p, ze_eq0f, ze_ge1t, ze_ge1f, ze_gt1t, ze_gt1f, ze_le1t, ze_le1f, ze_lt1t, ze_lt1f, ze_eq1p, ze_eq1f, ze_ge2t, ze_ge2f, ze_gt2t, ze_gt2f, ze_le2t, ze_le2f, ze_lt2t, ze_lt2f, ze_eq2p, ze_eq2f, ze_ge3t, ze_ge3f, ze_gt3t, ze_gt3f, ze_le3t, ze_le3f, ze_lt3t, ze_lt3f, ze_eq3p, ze_eq3f, ze_ge4t, ze_ge4f, ze_gt4t, ze_gt4f, ze_le4t, ze_le4f, ze_lt4t, ze_lt4f, ze_eq4p, ze_eq4f, ze_ge5t, ze_ge5f, ze_gt5t, ze_gt5f, ze_le5t, ze_le5f, ze_lt5t, ze_lt5f, ze_eq5p, ze_eq5f, ze_ge6t, ze_ge6f, ze_gt6t, ze_gt6f, ze_le6t, ze_le6f, ze_lt6t, ze_lt6f, ze_eq6p, ze_eq6f, ze_ge7t, ze_ge7f, ze_gt7t, ze_gt7f, ze_le7t, ze_le7f, ze_lt7t, ze_lt7f, ze_eq7p, ze_eq7f, ze_ge9t, ze_ge9f, ze_gt9t, ze_gt9f, ze_le9t, ze_le9f, ze_lt9t, ze_lt9f, ze_eq9p, ze_eq9f, ze_ge10t, ze_ge10f, ze_gt10t, ze_gt10f, ze_le10t, ze_le10f, ze_lt10t, ze_lt10f, ze_eq10p, ze_eq10f, ze_ge12t, ze_ge12f, ze_gt12t, ze_gt12f, ze_le12t, ze_le12f, ze_lt12t, ze_lt12f, ze_eq12p, ze_eq12f, ze_ge15t, ze_ge15f, ze_gt15t, ze_gt15f, ze_le15t, ze_le15f, ze_lt15t, ze_lt15f, ze_eq15p, ze_eq15f, ze_ge16t, ze_ge16f, ze_gt16t, ze_gt16f, ze_le16t, ze_le16f, ze_lt16t, ze_lt16f, ze_eq16p, ze_eq16f, ze_ge30t, ze_ge30f, ze_gt30t, ze_gt30f, ze_le30t, ze_le30f, ze_lt30t, ze_lt30f, ze_eq30p, ze_eq30f, ze_ge32t, ze_ge32f, ze_gt32t, ze_gt32f, ze_le32t, ze_le32f, ze_lt32t, ze_lt32f, ze_eq32p, ze_eq32f, ze_ge47t, ze_ge47f, ze_gt47t, ze_gt47f, ze_le47t, ze_le47f, ze_lt47t, ze_lt47f, ze_eq47p, ze_eq47f, ze_ge120t, ze_ge120f, ze_gt120t, ze_gt120f, ze_le120t, ze_le120f, ze_lt120t, ze_lt120f, ze_eq120p, ze_eq120f, ze_ge1024t, ze_ge1024f, ze_gt1024t, ze_gt1024f, ze_le1024t, ze_le1024f, ze_lt1024t, ze_lt1024f, ze_eq1024p, ze_eq1024f, ze_let, ze_lef, ze_ltt, ze_ltf, ze_eqt, ze_eqf, ze_m1_lt0, ze_m1_n0le, ze_m1_le0, ze_m1_le, ze_m1_lt, ze_m1_nle, ze_m1_nlt, ze_m1_ne, ze_m1_en, ze_m1_ne4, ze_m1_ne0, ze_nz6, ze_nz10, ze_nz12, ze_nz16, ze_nz32, ze_nz192, ze_1ne0, ze_0ne1, ze_0ne4, ↓ze_rem6, ↓ze_rem10, ↓ze_rem16, ↓ze_rem32, ↓ze_rem12, ze_div6, ze_div10, ze_div12, ze_div16, ze_div32, ze_div192, ze_mul3, ze_mul4, ze_mul6, ze_mul10, ze_mul12, ze_mul16, ze_mul17, ze_mul32, ze_mul60, ze_mulr6, ze_nrem6, ze_mulr10, ze_nrem10, ze_mulr12, ze_nrem12, ze_mulr16, ze_nrem16, ze_mulr32, ze_nrem32, nI_add, ze_add1, ze_add6, ze_add7, ze_add8, ze_add12, ze_add16, ze_add0, ze_radd0, ze_radd8, ze_sub1, ze_m1, ze_0sub1, ze_m1add1, ze_1sub, ze_2sub, pk_sub, ze_and3, ze_and7, ze_and31, ze_and127, ↓ze_shr2, ↓ze_shr3, ↓ze_shr5, ↓ze_shl3, ze_i8, ze_nby, ze_i8m1, ze_i80, ze_nbm1, ze_i16, ze_nsh, ze_nb0, ze_nt0, ze_nt1, ze_cl0, ze_cl1, nI_clamp, vp_in_nI, forall_eq, true_implies, false_implies, not_true_eq_false, not_false_eq_true, and_true, true_and, implies_true, and_self, forall_const, Classical.not_not, eP]
      refine ih n (by omega) (by omega) (fun j k h5 h6 h7 => ?_)
      rcases Nat.lt_or_ge (i + 1) j with z | z
      · exact hno j k z h6 h7
      · have : j = i + 1 := by omega
        subst this; exact hr k h7
theorem gx_place (HW : gw_W a_defined lv up nf nm kd) (HX : gw_CX a_defined a_parent a_level a_fields a_fName a_fKind lv up nf nm kd) {c : Nat} {x : Int32} (hc : c < 12) (hd : a_defined c ≠ 0) (K : ∀ r, gw_PO lv up nf nm c x r → post r) : wpX_placeOf post (f_end, f_at, f_written, f_read, f_error, f_culprit, f_nextHandle, f_depth, f_nTodo, a_defined, a_parent, a_level, a_version, a_fields, a_fName, a_fKind, a_latest, a_oClass, a_pinned, a_slot, a_handle, a_arrived, a_handles, a_described, a_dLevels, a_dFields, a_plan, a_wide, a_wire, a_order, a_made, a_sObj, a_sLev, a_sPos, a_sCls, a_pairs, a_todo) (nI c) x := by
  have h : wX_placeOf_2 post x f_end f_at f_written f_read f_error f_culprit f_nextHandle f_depth f_nTodo a_defined a_parent a_level a_version a_fields a_fName a_fKind a_latest a_oClass a_pinned a_slot a_handle a_arrived a_handles a_described a_dLevels a_dFields a_plan a_wide a_wire a_order a_made a_sObj a_sLev a_sPos a_sCls a_pairs a_todo (lv c + 2) (nI (gw_al lv up c (lv c))) := gx_placeL HW HX hc hd K (lv c) (lv c + 2) (by omega) (by omega) (fun j k h1 h2 => by omega)
  rw [gw_al_top] at h
  exact ⟨lv c + 2, h⟩
theorem gx_kindAt (HW : gw_W a_defined lv up nf nm kd) (HX : gw_CX a_defined a_parent a_level a_fields a_fName a_fKind lv up nf nm kd) {c j k : Nat} (hc : c < 12) (hd : a_defined c ≠ 0) (hj : j ≤ lv c) (hk : k < nf (gw_al lv up c j))
    (K : post (nI (kd (4 * gw_al lv up c j + k)))) : wpX_kindAt post (f_end, f_at, f_written, f_read, f_error, f_culprit, f_nextHandle, f_depth, f_nTodo, a_defined, a_parent, a_level, a_version, a_fields, a_fName, a_fKind, a_latest, a_oClass, a_pinned, a_slot, a_handle, a_arrived, a_handles, a_described, a_dLevels, a_dFields, a_plan, a_wide, a_wire, a_order, a_made, a_sObj, a_sLev, a_sPos, a_sCls, a_pairs, a_todo) (nI c) (nI (4 * j + k)) := by
  obtain ⟨h1, h2, h3, h4⟩ := gw_al_ok HW hc hd hj
  have hf := (HW _ h1).1
  have hl := (HW c hc).2.2.2.2.1
  unfold wpX_kindAt
  dsimp only
  rw [ze_shr2 (by omega), show (4 * j + k) / 4 = j from by omega, ze_and3 (by omega), show (4 * j + k) % 4 = k from by omega]
  refine gx_ancestor HW HX hc hd hj ?_
  simp (disch := omega) only [ze_ge0t, ze_gt0t, ze_gt0f, ze_le0t, ze_le0f, ze_lt0f, ze_eq0p, ze_eq0f, ze_ge1t, ze_ge1f, ze_gt1t, ze_gt1f, ze_le1t, ze_le1f, ze_lt1t, ze_lt1f, ze_eq1p, ze_eq1f, ze_ge2t, ze_ge2f, ze_gt2t, ze_gt2f, ze_le2t, ze_le2f, ze_lt2t, ze_lt2f, ze_eq2p, ze_eq2f, ze_ge3t, ze_ge3f, ze_gt3t, ze_gt3f, ze_le3t, ze_le3f, ze_lt3t, ze_lt3f, ze_eq3p, ze_eq3f, ze_ge4t, ze_ge4f, ze_gt4t, ze_gt4f, ze_le4t, ze_le4f, ze_lt4t, ze_lt4f, ze_eq4p, ze_eq4f, ze_ge5t, ze_ge5f, ze_gt5t, ze_gt5f, ze_le5t, ze_le5f, ze_lt5t, ze_lt5f, ze_eq5p, ze_eq5f, ze_ge6t, ze_ge6f, ze_gt6t, ze_gt6f, ze_le6t, ze_le6f, ze_lt6t, ze_lt6f, ze_eq6p, ze_eq6f, ze_ge7t, ze_ge7f, ze_gt7t, ze_gt7f, ze_le7t, ze_le7f, ze_lt7t, ze_lt7f, ze_eq7p, ze_eq7f, ze_ge9t, ze_ge9f, ze_gt9t, ze_gt9f, ze_le9t, ze_le9f, ze_lt9t, ze_lt9f, ze_eq9p, ze_eq9f, ze_ge10t, ze_ge10f, ze_gt10t, ze_gt10f, ze_le10t, ze_le10f, ze_lt10t, ze_lt10f, ze_eq10p, ze_eq10f, ze_ge12t, ze_ge12f, ze_gt12t, ze_gt12f, ze_le12t, ze_le12f, ze_lt12t, ze_lt12f, ze_eq12p, ze_eq12f, ze_ge15t, ze_ge15f, ze_gt15t, ze_gt15f, ze_le15t, ze_le15f, ze_lt15t, ze_lt15f, ze_eq15p, ze_eq15f, ze_ge16t, ze_ge16f, ze_gt16t, ze_gt16f, ze_le16t, ze_le16f, ze_lt16t, ze_lt16f, ze_eq16p, ze_eq16f, ze_ge30t, ze_ge30f, ze_gt30t, ze_gt30f, ze_le30t, ze_le30f, ze_lt30t, ze_lt30f, ze_eq30p, ze_eq30f, ze_ge32t, ze_ge32f, ze_gt32t, ze_gt32f, ze_le32t, ze_le32f, ze_lt32t, ze_lt32f, ze_eq32p, ze_eq32f, ze_ge47t, ze_ge47f, ze_gt47t, ze_gt47f, ze_le47t, ze_le47f, ze_lt47t, ze_lt47f, ze_eq47p, ze_eq47f, ze_ge120t, ze_ge120f, ze_gt120t, ze_gt120f, ze_le120t, ze_le120f, ze_lt120t, ze_lt120f, ze_eq120p, ze_eq120f, ze_ge1024t, ze_ge1024f, ze_gt1024t, ze_gt1024f, ze_le1024t, ze_le1024f, ze_lt1024t, ze_lt1024f, ze_eq1024p, ze_eq1024f, ze_let, ze_lef, ze_ltt, ze_ltf, ze_eqt, ze_eqf, ze_m1_lt0, ze_m1_n0le, ze_m1_le0, ze_m1_le, ze_m1_lt, ze_m1_nle, ze_m1_nlt, ze_m1_ne, ze_m1_en, ze_m1_ne4, ze_m1_ne0, ze_nz6, ze_nz10, ze_nz12, ze_nz16, ze_nz32, ze_nz192, ze_1ne0, ze_0ne1, ze_0ne4, ↓ze_rem6, ↓ze_rem10, ↓ze_rem16, ↓ze_rem32, ↓ze_rem12, ze_div6, ze_div10, ze_div12, ze_div16, ze_div32, ze_div192, ze_mul3, ze_mul4, ze_mul6, ze_mul10, ze_mul12, ze_mul16, ze_mul17, ze_mul32, ze_mul60, ze_mulr6, ze_nrem6, ze_mulr10, ze_nrem10, ze_mulr12, ze_nrem12, ze_mulr16, ze_nrem16, ze_mulr32, ze_nrem32, nI_add, ze_add1, ze_add6, ze_add7, ze_add8, ze_add12, ze_add16, ze_add0, ze_radd0, ze_radd8, ze_sub1, ze_m1, ze_0sub1, ze_m1add1, ze_1sub, ze_2sub, pk_sub, ze_and3, ze_and7, ze_and31, ze_and127, ↓ze_shr2, ↓ze_shr3, ↓ze_shr5, ↓ze_shl3, ze_i8, ze_nby, ze_i8m1, ze_i80, ze_nbm1, ze_i16, ze_nsh, ze_nb0, ze_nt0, ze_nt1, ze_cl0, ze_cl1, nI_clamp, vp_in_nI, forall_eq, true_implies, false_implies, not_true_eq_false, not_false_eq_true, and_true, true_and, implies_true, and_self, forall_const, Classical.not_not]
  rw [((HX _ h1).2.1 k hk).2]
  exact K
end
end
section
def gw_ch (lv up : Nat → Nat) (c k : Nat) : Int32 := if k ≤ lv c then nI (gw_an up k c % 6) else -1
theorem gw_ch_t {lv up : Nat → Nat} {c k : Nat} (h : k ≤ lv c) : gw_ch lv up c k = nI (gw_an up k c % 6) := if_pos h
theorem gw_ch_f {lv up : Nat → Nat} {c k : Nat} (h : lv c < k) : gw_ch lv up c k = -1 := if_neg (by omega)
def gw_KO (lv up nf nm kd : Nat → Nat) (c : Nat) (x r : Int32) : Prop := (∃ j k, j ≤ lv c ∧ k < nf (gw_al lv up c j) ∧ x = nI (nm (4 * gw_al lv up c j + k)) ∧ r = nI (kd (4 * gw_al lv up c j + k))) ∨ (r = -1 ∧ ∀ j k, j ≤ lv c → k < nf (gw_al lv up c j) → x ≠ nI (nm (4 * gw_al lv up c j + k)))
theorem gw_al_an (lv up : Nat → Nat) {c k : Nat} (h : k ≤ lv c) : gw_al lv up c (lv c - k) = gw_an up k c := by
  unfold gw_al
  exact congrArg (fun i => gw_an up i c) (by omega)
theorem gw_inC_ch {D : Nat → Int32} {lv up nf nm kd : Nat → Nat} (HW : gw_W D lv up nf nm kd) {s c d : Nat} (hs : s < 2) (hc : c < 6) (hd6 : d < 6) (hd : D (6 * s + c) ≠ 0) : gw_inC D lv up (6 * s + c) (6 * s + d) ↔ ∃ k, k < 3 ∧ gw_ch lv up (6 * s + c) k = nI d := by
  have hl := (HW (6 * s + c) (by omega)).2.2.2.2.1
  constructor
  · intro ⟨h1, h2, h3⟩
    refine ⟨lv (6 * s + c) - lv (6 * s + d), by omega, ?_⟩
    rw [gw_ch_t (by omega)]
    have e : gw_an up (lv (6 * s + c) - lv (6 * s + d)) (6 * s + c) = 6 * s + d := h3
    rw [e]
    exact congrArg nI (by omega)
  · intro ⟨k, hk, e⟩
    rcases Nat.lt_or_ge (lv (6 * s + c)) k with z | z
    · rw [gw_ch_f z] at e
      exact absurd e (ze_m1_en (by omega))
    · rw [gw_ch_t z] at e
      obtain ⟨i1, i2, i3, i4⟩ := gw_an_ok HW k (6 * s + c) (by omega) hd z
      have e2 := (nI_eq (by omega) (by omega)).mp e
      have e3 : gw_an up k (6 * s + c) = 6 * s + d := by omega
      rw [e3] at i2 i3
      refine ⟨i2, by omega, ?_⟩
      rw [← e3, show lv (gw_an up k (6 * s + c)) = lv (6 * s + c) - k from by rw [e3]; omega, gw_al_an lv up z]
section
variable {g_culprit g_depth g_lastMade : Int32} {b_defined b_version b_parent b_own b_latest b_cls b_partner b_pinned b_arrived b_from b_made b_done b_rows : Nat → Int32} {b_val : Nat → Int64} {lv up nf nm kd : Nat → Nat} {post : Int32 → Prop}
theorem gy_side (p0 : Int32) (h0 : p0 ≠ 0 → p0 ≠ 1 → post 0) (h1 : ∀ s, s < 2 → p0 = nI s → post 1) : wpY_side post (g_culprit, g_depth, g_lastMade, b_defined, b_version, b_parent, b_own, b_latest, b_cls, b_partner, b_pinned, b_arrived, b_val, b_from, b_made, b_done, b_rows) p0 := by
  unfold wpY_side
  dsimp only
  exact br_c (fun e => h1 0 (by omega) e) (fun e => br_c (fun e1 => h1 1 (by omega) e1) (fun e1 => h0 e e1))
theorem gy_chL (HW : gw_W b_defined lv up nf nm kd) (HY : gw_CY b_defined b_parent b_own lv up nf nm kd) {s c k : Nat} (hs : s < 2) (hc : c < 6) (hd : b_defined (6 * s + c) ≠ 0) (hk : k < 100) (K : post (gw_ch lv up (6 * s + c) k)) :
    ∀ n i, i ≤ k → k - i < n → wY_chain_6 post (nI s) (nI k) g_culprit g_depth g_lastMade b_defined b_version b_parent b_own b_latest b_cls b_partner b_pinned b_arrived b_val b_from b_made b_done b_rows n (gw_ch lv up (6 * s + c) i) (nI i) := by
  intro n
  induction n with
  | zero => intro i h1 h2; omega
  | succ n ih =>
    intro i hi hn
    rw [wY_chain_6]
    rcases Nat.eq_or_lt_of_le hi with z | z
    · subst z
      exact br_t (nI_le (by omega) (by omega)) K
    · refine br_f (nI_ge z (by omega)) ?_
      rcases Nat.lt_or_ge (lv (6 * s + c)) i with q | q
      · rw [gw_ch_f (k := k) (by omega)] at K
        rw [gw_ch_f q]
        exact br_t (by decide) K
      · obtain ⟨i1, i2, i3, i4⟩ := gw_an_ok HW i (6 * s + c) (by omega) hd q
        obtain ⟨-, -, hQ⟩ := HY _ i1
        have eQ := hQ i2
        rw [gw_ch_t q]
        have e : 6 * s + gw_an up i (6 * s + c) % 6 = gw_an up i (6 * s + c) := by omega
        simp (disch := omega) only [ze_ge0t, ze_gt0t, ze_gt0f, ze_le0t, ze_le0f, ze_lt0f, ze_eq0p, ze_eq0f, ze_ge1t, ze_ge1f, ze_gt1t, ze_gt1f, ze_le1t, ze_le1f, ze_lt1t, ze_lt1f, ze_eq1p, ze_eq1f, ze_ge2t, ze_ge2f, ze_gt2t, ze_gt2f, ze_le2t, ze_le2f, ze_lt2t, ze_lt2f, ze_eq2p, ze_eq2f, ze_ge3t, ze_ge3f, ze_gt3t, ze_gt3f, ze_le3t, ze_le3f, ze_lt3t, ze_lt3f, ze_eq3p, ze_eq3f, ze_ge4t, ze_ge4f, ze_gt4t, ze_gt4f, ze_le4t, ze_le4f, ze_lt4t, ze_lt4f, ze_eq4p, ze_eq4f, ze_ge5t, ze_ge5f, ze_gt5t, ze_gt5f, ze_le5t, ze_le5f, ze_lt5t, ze_lt5f, ze_eq5p, ze_eq5f, ze_ge6t, ze_ge6f, ze_gt6t, ze_gt6f, ze_le6t, ze_le6f, ze_lt6t, ze_lt6f, ze_eq6p, ze_eq6f, ze_ge7t, ze_ge7f, ze_gt7t, ze_gt7f, ze_le7t, ze_le7f, ze_lt7t, ze_lt7f, ze_eq7p, ze_eq7f, ze_ge9t, ze_ge9f, ze_gt9t, ze_gt9f, ze_le9t, ze_le9f, ze_lt9t, ze_lt9f, ze_eq9p, ze_eq9f, ze_ge10t, ze_ge10f, ze_gt10t, ze_gt10f, ze_le10t, ze_le10f, ze_lt10t, ze_lt10f, ze_eq10p, ze_eq10f, ze_ge12t, ze_ge12f, ze_gt12t, ze_gt12f, ze_le12t, ze_le12f, ze_lt12t, ze_lt12f, ze_eq12p, ze_eq12f, ze_ge15t, ze_ge15f, ze_gt15t, ze_gt15f, ze_le15t, ze_le15f, ze_lt15t, ze_lt15f, ze_eq15p, ze_eq15f, ze_ge16t, ze_ge16f, ze_gt16t, ze_gt16f, ze_le16t, ze_le16f, ze_lt16t, ze_lt16f, ze_eq16p, ze_eq16f, ze_ge30t, ze_ge30f, ze_gt30t, ze_gt30f, ze_le30t, ze_le30f, ze_lt30t, ze_lt30f, ze_eq30p, ze_eq30f, ze_ge32t, ze_ge32f, ze_gt32t, ze_gt32f, ze_le32t, ze_le32f, ze_lt32t, ze_lt32f, ze_eq32p, ze_eq32f, ze_ge47t, ze_ge47f, ze_gt47t, ze_gt47f, ze_le47t, ze_le47f, ze_lt47t, ze_lt47f, ze_eq47p, ze_eq47f, ze_ge120t, ze_ge120f, ze_gt120t, ze_gt120f, ze_le120t, ze_le120f, ze_lt120t, ze_lt120f, ze_eq120p, ze_eq120f, ze_ge1024t, ze_ge1024f, ze_gt1024t, ze_gt1024f, ze_le1024t, ze_le1024f, ze_lt1024t, ze_lt1024f, ze_eq1024p, ze_eq1024f, ze_let, ze_lef, ze_ltt, ze_ltf, ze_eqt, ze_eqf, ze_m1_lt0, ze_m1_n0le, ze_m1_le0, ze_m1_le, ze_m1_lt, ze_m1_nle, ze_m1_nlt, ze_m1_ne, ze_m1_en, ze_m1_ne4, ze_m1_ne0, ze_nz6, ze_nz10, ze_nz12, ze_nz16, ze_nz32, ze_nz192, ze_1ne0, ze_0ne1, ze_0ne4, ↓ze_rem6, ↓ze_rem10, ↓ze_rem16, ↓ze_rem32, ↓ze_rem12, ze_div6, ze_div10, ze_div12, ze_div16, ze_div32, ze_div192, ze_mul3, ze_mul4, ze_mul6, ze_mul10, ze_mul12, ze_mul16, ze_mul17, ze_mul32, ze_mul60, ze_mulr6, ze_nrem6, ze_mulr10, ze_nrem10, ze_mulr12, ze_nrem12, ze_mulr16, ze_nrem16, ze_mulr32, ze_nrem32, nI_add, ze_add1, ze_add6, ze_add7, ze_add8, ze_add12, ze_add16, ze_add0, ze_radd0, ze_radd8, ze_sub1, ze_m1, ze_0sub1, ze_m1add1, ze_1sub, ze_2sub, pk_sub, ze_and3, ze_and7, ze_and31, ze_and127, ↓ze_shr2, ↓ze_shr3, ↓ze_shr5, ↓ze_shl3, ze_i8, ze_nby, ze_i8m1, ze_i80, ze_nbm1, ze_i16, ze_nsh, ze_nb0, ze_nt0, ze_nt1, ze_cl0, ze_cl1, nI_clamp, vp_in_nI, forall_eq, true_implies, false_implies, not_true_eq_false, not_false_eq_true, and_true, true_and, implies_true, and_self, forall_const, Classical.not_not, e, eQ]
        have e2 : (if lv (gw_an up i (6 * s + c)) = 0 then -1 else nI (up (gw_an up i (6 * s + c)) % 6)) = gw_ch lv up (6 * s + c) (i + 1) := by
          rcases Nat.eq_zero_or_pos (lv (gw_an up i (6 * s + c))) with y | y
          · rw [if_pos y, gw_ch_f (by omega)]
          · rw [if_neg (by omega), gw_ch_t (by omega), gw_an_succ]
        rw [e2]
        exact ih (i + 1) z (by omega)
theorem gy_chain (HW : gw_W b_defined lv up nf nm kd) (HY : gw_CY b_defined b_parent b_own lv up nf nm kd) {s c k : Nat} (hs : s < 2) (hc : c < 6) (hd : b_defined (6 * s + c) ≠ 0) (hk : k < 100) (K : post (gw_ch lv up (6 * s + c) k)) :
    wpY_chain post (g_culprit, g_depth, g_lastMade, b_defined, b_version, b_parent, b_own, b_latest, b_cls, b_partner, b_pinned, b_arrived, b_val, b_from, b_made, b_done, b_rows) (nI s) (nI c) (nI k) := by
  have h : wY_chain_6 post (nI s) (nI k) g_culprit g_depth g_lastMade b_defined b_version b_parent b_own b_latest b_cls b_partner b_pinned b_arrived b_val b_from b_made b_done b_rows (k + 1) (gw_ch lv up (6 * s + c) 0) (nI 0) := gy_chL HW HY hs hc hd hk K (k + 1) 0 (by omega) (by omega)
  have e : gw_ch lv up (6 * s + c) 0 = nI c := by
    rw [gw_ch_t (by omega)]
    exact congrArg nI (by show (6 * s + c) % 6 = c; omega)
  rw [e] at h
  exact ⟨k + 1, h⟩
theorem gy_inL (HW : gw_W b_defined lv up nf nm kd) (HY : gw_CY b_defined b_parent b_own lv up nf nm kd) {s c d : Nat} (hs : s < 2) (hc : c < 6) (hd6 : d < 6) (hd : b_defined (6 * s + c) ≠ 0)
    (h1 : (∃ k, k < 3 ∧ gw_ch lv up (6 * s + c) k = nI d) → post 1) (h0 : (¬ ∃ k, k < 3 ∧ gw_ch lv up (6 * s + c) k = nI d) → post 0) :
    ∀ n i, i ≤ 3 → 3 - i < n → (∀ k, k < i → gw_ch lv up (6 * s + c) k ≠ nI d) → wY_inChain_3 post (nI s) (nI c) (nI d) g_culprit g_depth g_lastMade b_defined b_version b_parent b_own b_latest b_cls b_partner b_pinned b_arrived b_val b_from b_made b_done b_rows n (nI i) := by
  intro n
  induction n with
  | zero => intro i h1 h2; omega
  | succ n ih =>
    intro i hi hn hno
    rw [wY_inChain_3]
    rcases Nat.eq_or_lt_of_le hi with z | z
    · subst z
      exact br_t (by decide) (h0 fun ⟨k, hk, e⟩ => hno k hk e)
    · refine br_f (ze_ge3f z) (br_f (nI_pos (by omega)) ?_)
      refine gy_chain HW HY hs hc hd (by omega) ?_
      refine br_c (fun e => h1 ⟨i, z, e⟩) (fun e => nm_r (nI_1 i) ?_)
      refine ih (i + 1) z (by omega) (fun k hk => ?_)
      rcases Nat.lt_or_ge k i with q | q
      · exact hno k q
      · have : k = i := by omega
        subst this; exact e
theorem gy_in (HW : gw_W b_defined lv up nf nm kd) (HY : gw_CY b_defined b_parent b_own lv up nf nm kd) {s c d : Nat} (hs : s < 2) (hc : c < 6) (hd6 : d < 6) (hd : b_defined (6 * s + c) ≠ 0)
    (h1 : gw_inC b_defined lv up (6 * s + c) (6 * s + d) → post 1) (h0 : ¬ gw_inC b_defined lv up (6 * s + c) (6 * s + d) → post 0) : wpY_inChain post (g_culprit, g_depth, g_lastMade, b_defined, b_version, b_parent, b_own, b_latest, b_cls, b_partner, b_pinned, b_arrived, b_val, b_from, b_made, b_done, b_rows) (nI s) (nI c) (nI d) := by
  rw [gw_inC_ch HW hs hc hd6 hd] at h1 h0
  exact ⟨4, gy_inL HW HY hs hc hd6 hd h1 h0 4 0 (by omega) (by omega) (fun k hk => by omega)⟩
theorem gy_inNL {x1 x2 : Int32} (h0 : post 0) : ∀ n i, i ≤ 3 → 3 - i < n → wY_inChain_3 post x1 x2 (-1) g_culprit g_depth g_lastMade b_defined b_version b_parent b_own b_latest b_cls b_partner b_pinned b_arrived b_val b_from b_made b_done b_rows n (nI i) := by
  intro n
  induction n with
  | zero => intro i h1 h2; omega
  | succ n ih =>
    intro i hi hn
    rw [wY_inChain_3]
    rcases Nat.eq_or_lt_of_le hi with z | z
    · subst z
      exact br_t (by decide) h0
    · exact br_f (ze_ge3f z) (br_t (by decide) (nm_r (nI_1 i) (ih (i + 1) z (by omega))))
theorem gy_inN {x1 x2 : Int32} (h0 : post 0) : wpY_inChain post (g_culprit, g_depth, g_lastMade, b_defined, b_version, b_parent, b_own, b_latest, b_cls, b_partner, b_pinned, b_arrived, b_val, b_from, b_made, b_done, b_rows) x1 x2 (-1) := ⟨4, gy_inNL h0 4 0 (by omega) (by omega)⟩
theorem gy_own {s c x : Nat} (hs : s < 2) (hc : c < 6) (hx : x < 10) (K : post (b_own (10 * (6 * s + c) + x))) : wpY_ownKind post (g_culprit, g_depth, g_lastMade, b_defined, b_version, b_parent, b_own, b_latest, b_cls, b_partner, b_pinned, b_arrived, b_val, b_from, b_made, b_done, b_rows) (nI s) (nI c) (nI x) := by
  unfold wpY_ownKind
  dsimp only
  have e : 60 * s + 10 * c + x = 10 * (6 * s + c) + x := by omega
  simp (disch := omega) only [ze_ge0t, ze_gt0t, ze_gt0f, ze_le0t, ze_le0f, ze_lt0f, ze_eq0p, ze_eq0f, ze_ge1t, ze_ge1f, ze_gt1t, ze_gt1f, ze_le1t, ze_le1f, ze_lt1t, ze_lt1f, ze_eq1p, ze_eq1f, ze_ge2t, ze_ge2f, ze_gt2t, ze_gt2f, ze_le2t, ze_le2f, ze_lt2t, ze_lt2f, ze_eq2p, ze_eq2f, ze_ge3t, ze_ge3f, ze_gt3t, ze_gt3f, ze_le3t, ze_le3f, ze_lt3t, ze_lt3f, ze_eq3p, ze_eq3f, ze_ge4t, ze_ge4f, ze_gt4t, ze_gt4f, ze_le4t, ze_le4f, ze_lt4t, ze_lt4f, ze_eq4p, ze_eq4f, ze_ge5t, ze_ge5f, ze_gt5t, ze_gt5f, ze_le5t, ze_le5f, ze_lt5t, ze_lt5f, ze_eq5p, ze_eq5f, ze_ge6t, ze_ge6f, ze_gt6t, ze_gt6f, ze_le6t, ze_le6f, ze_lt6t, ze_lt6f, ze_eq6p, ze_eq6f, ze_ge7t, ze_ge7f, ze_gt7t, ze_gt7f, ze_le7t, ze_le7f, ze_lt7t, ze_lt7f, ze_eq7p, ze_eq7f, ze_ge9t, ze_ge9f, ze_gt9t, ze_gt9f, ze_le9t, ze_le9f, ze_lt9t, ze_lt9f, ze_eq9p, ze_eq9f, ze_ge10t, ze_ge10f, ze_gt10t, ze_gt10f, ze_le10t, ze_le10f, ze_lt10t, ze_lt10f, ze_eq10p, ze_eq10f, ze_ge12t, ze_ge12f, ze_gt12t, ze_gt12f, ze_le12t, ze_le12f, ze_lt12t, ze_lt12f, ze_eq12p, ze_eq12f, ze_ge15t, ze_ge15f, ze_gt15t, ze_gt15f, ze_le15t, ze_le15f, ze_lt15t, ze_lt15f, ze_eq15p, ze_eq15f, ze_ge16t, ze_ge16f, ze_gt16t, ze_gt16f, ze_le16t, ze_le16f, ze_lt16t, ze_lt16f, ze_eq16p, ze_eq16f, ze_ge30t, ze_ge30f, ze_gt30t, ze_gt30f, ze_le30t, ze_le30f, ze_lt30t, ze_lt30f, ze_eq30p, ze_eq30f, ze_ge32t, ze_ge32f, ze_gt32t, ze_gt32f, ze_le32t, ze_le32f, ze_lt32t, ze_lt32f, ze_eq32p, ze_eq32f, ze_ge47t, ze_ge47f, ze_gt47t, ze_gt47f, ze_le47t, ze_le47f, ze_lt47t, ze_lt47f, ze_eq47p, ze_eq47f, ze_ge120t, ze_ge120f, ze_gt120t, ze_gt120f, ze_le120t, ze_le120f, ze_lt120t, ze_lt120f, ze_eq120p, ze_eq120f, ze_ge1024t, ze_ge1024f, ze_gt1024t, ze_gt1024f, ze_le1024t, ze_le1024f, ze_lt1024t, ze_lt1024f, ze_eq1024p, ze_eq1024f, ze_let, ze_lef, ze_ltt, ze_ltf, ze_eqt, ze_eqf, ze_m1_lt0, ze_m1_n0le, ze_m1_le0, ze_m1_le, ze_m1_lt, ze_m1_nle, ze_m1_nlt, ze_m1_ne, ze_m1_en, ze_m1_ne4, ze_m1_ne0, ze_nz6, ze_nz10, ze_nz12, ze_nz16, ze_nz32, ze_nz192, ze_1ne0, ze_0ne1, ze_0ne4, ↓ze_rem6, ↓ze_rem10, ↓ze_rem16, ↓ze_rem32, ↓ze_rem12, ze_div6, ze_div10, ze_div12, ze_div16, ze_div32, ze_div192, ze_mul3, ze_mul4, ze_mul6, ze_mul10, ze_mul12, ze_mul16, ze_mul17, ze_mul32, ze_mul60, ze_mulr6, ze_nrem6, ze_mulr10, ze_nrem10, ze_mulr12, ze_nrem12, ze_mulr16, ze_nrem16, ze_mulr32, ze_nrem32, nI_add, ze_add1, ze_add6, ze_add7, ze_add8, ze_add12, ze_add16, ze_add0, ze_radd0, ze_radd8, ze_sub1, ze_m1, ze_0sub1, ze_m1add1, ze_1sub, ze_2sub, pk_sub, ze_and3, ze_and7, ze_and31, ze_and127, ↓ze_shr2, ↓ze_shr3, ↓ze_shr5, ↓ze_shl3, ze_i8, ze_nby, ze_i8m1, ze_i80, ze_nbm1, ze_i16, ze_nsh, ze_nb0, ze_nt0, ze_nt1, ze_cl0, ze_cl1, nI_clamp, vp_in_nI, forall_eq, true_implies, false_implies, not_true_eq_false, not_false_eq_true, and_true, true_and, implies_true, and_self, forall_const, Classical.not_not, e]
  exact K
/-- the own kind as the world has it -/
theorem gw_ownC {D Q O : Nat → Int32} (HY : gw_CY D Q O lv up nf nm kd) {c x : Nat} (hc : c < 12) (hx : x < 10) : (∃ k, k < nf c ∧ nm (4 * c + k) = x ∧ O (10 * c + x) = nI (kd (4 * c + k))) ∨ ((∀ k, k < nf c → nm (4 * c + k) ≠ x) ∧ O (10 * c + x) = -1) := by
  obtain ⟨h1, h2, -⟩ := HY c hc
  rcases Classical.em (∃ k, k < nf c ∧ nm (4 * c + k) = x) with ⟨k, hk, e⟩ | z
  · exact Or.inl ⟨k, hk, e, by rw [← e]; exact h1 k hk⟩
  · have hz : ∀ k, k < nf c → nm (4 * c + k) ≠ x := fun k hk e => z ⟨k, hk, e⟩
    exact Or.inr ⟨hz, h2 x hx hz⟩
theorem gy_kindL (HW : gw_W b_defined lv up nf nm kd) (HY : gw_CY b_defined b_parent b_own lv up nf nm kd) {s c x : Nat} (hs : s < 2) (hc : c < 6) (hx : x < 10) (hd : b_defined (6 * s + c) ≠ 0)
    (K : ∀ r, gw_KO lv up nf nm kd (6 * s + c) (nI x) r → post r) :
    ∀ n i, i ≤ 3 → 3 - i < n → (∀ k l, k < i → k ≤ lv (6 * s + c) → l < nf (gw_an up k (6 * s + c)) → nm (4 * gw_an up k (6 * s + c) + l) ≠ x) → wY_kind_15 post (nI s) (nI c) (nI x) g_culprit g_depth g_lastMade b_defined b_version b_parent b_own b_latest b_cls b_partner b_pinned b_arrived b_val b_from b_made b_done b_rows n (nI i) := by
  have hl := (HW (6 * s + c) (by omega)).2.2.2.2.1
  intro n
  induction n with
  | zero => intro i h1 h2; omega
  | succ n ih =>
    intro i hi hn hno
    rw [wY_kind_15]
    rcases Nat.eq_or_lt_of_le hi with z | z
    · subst z
      refine br_t (by decide) (K _ (Or.inr ⟨rfl, fun j k hj hk e => ?_⟩))
      have hal : gw_al lv up (6 * s + c) j = gw_an up (lv (6 * s + c) - j) (6 * s + c) := rfl
      obtain ⟨i1, -⟩ := gw_al_ok HW (by omega) hd hj
      have hnm := ((HW _ i1).2.2.1 k hk).1
      have e2 := (nI_eq (by omega) (by omega)).mp e
      rw [hal] at hk e2
      exact hno (lv (6 * s + c) - j) k (by omega) (by omega) hk e2.symm
    · refine br_f (ze_ge3f z) ?_
      refine gy_chain HW HY hs hc hd (by omega) ?_
      have step : (∀ l, i ≤ lv (6 * s + c) → l < nf (gw_an up i (6 * s + c)) → nm (4 * gw_an up i (6 * s + c) + l) ≠ x) → wY_kind_15 post (nI s) (nI c) (nI x) g_culprit g_depth g_lastMade b_defined b_version b_parent b_own b_latest b_cls b_partner b_pinned b_arrived b_val b_from b_made b_done b_rows n (nI (i + 1)) := by
        intro hh
        refine ih (i + 1) z (by omega) (fun k l hk hk2 hl2 => ?_)
        rcases Nat.lt_or_ge k i with q | q
        · exact hno k l q hk2 hl2
        · have : k = i := by omega
          subst this; exact hh l hk2 hl2
      rcases Nat.lt_or_ge (lv (6 * s + c)) i with q | q
      · rw [gw_ch_f q]
        exact br_t (by decide) (nm_r (nI_1 i) (step fun l h => by omega))
      · rw [gw_ch_t q]
        obtain ⟨i1, i2, i3, i4⟩ := gw_an_ok HW i (6 * s + c) (by omega) hd q
        have e : 6 * s + gw_an up i (6 * s + c) % 6 = gw_an up i (6 * s + c) := by omega
        refine br_f (nI_pos (by omega)) ?_
        refine gy_own hs (by omega) hx ?_
        rw [e]
        rcases gw_ownC HY i1 hx with ⟨k, hk, e1, e2⟩ | ⟨h1, e2⟩
        · have hkd := ((HW _ i1).2.2.1 k hk).2
          rw [e2]
          refine br_f (nI_pos (by omega)) ?_
          refine gy_own hs (by omega) hx ?_
          rw [e, e2]
          refine K _ (Or.inl ⟨lv (6 * s + c) - i, k, by omega, ?_⟩)
          rw [gw_al_an lv up q]
          exact ⟨hk, by rw [e1], rfl⟩
        · rw [e2]
          exact br_t (by decide) (nm_r (nI_1 i) (step fun l _ hl2 => h1 l hl2))
theorem gy_kind (HW : gw_W b_defined lv up nf nm kd) (HY : gw_CY b_defined b_parent b_own lv up nf nm kd) {s c : Nat} {x : Int32} (hs : s < 2) (hc : c < 6) (hd : b_defined (6 * s + c) ≠ 0)
    (K : ∀ r, gw_KO lv up nf nm kd (6 * s + c) x r → post r) : wpY_kind post (g_culprit, g_depth, g_lastMade, b_defined, b_version, b_parent, b_own, b_latest, b_cls, b_partner, b_pinned, b_arrived, b_val, b_from, b_made, b_done, b_rows) (nI s) (nI c) x := by
  unfold wpY_kind
  dsimp only
  have no : (∀ m : Nat, m < 10 → x ≠ nI m) → post (-1) := fun h => K _ (Or.inr ⟨rfl, fun j k hj hk => h _ (((HW _ (gw_al_ok HW (by omega) hd hj).1).2.2.1 k hk).1)⟩)
  rcases pk_ix x (n := 10) (by decide) with z | z | ⟨m, hm, e⟩
  · exact br_t z (no fun m hm e => by subst e; exact absurd z (nI_pos (by omega)))
  · have z0 : ¬ x < 0 := fun h => absurd (Int32.lt_of_le_of_lt z h) (by decide)
    have z9 : ¬ x ≤ 9 := fun h => absurd (Int32.le_trans z h) (by decide)
    exact br_f z0 (br_f z9 (no fun m hm e => by subst e; exact absurd z (nI_ge (by omega) (by decide))))
  · subst e
    exact br_f (nI_pos (by omega)) (br_t (ze_le9t (by omega)) ⟨4, gy_kindL HW HY hs hc hm hd K 4 0 (by omega) (by omega) (fun k l hk => by omega)⟩)
end
end
section
/-! the relation: objects, values, sessions, descriptions -/
def gw_kl (C : Nat → Int32) (o : Nat) : Nat := (C o).toNatClampNeg
def gw_O (D C Z : Nat → Int32) : Prop := ∀ o, o < 32 → (C o = -1 ∧ Z o = -1) ∨ (gw_kl C o < 12 ∧ C o = nI (gw_kl C o) ∧ Z o = nI (gw_kl C o % 6) ∧ D (gw_kl C o) ≠ 0 ∧ gw_kl C o / 6 = o / 16)
def gw_cell (C : Nat → Int32) (o k : Nat) (S V : Int64) : Prop := (k = 4 → (V = -1 ∧ S = 0) ∨ (∃ t, t < 32 ∧ V = lN t ∧ S = lN (t + 1) ∧ C t ≠ -1 ∧ t / 16 = o / 16)) ∧ (k ≠ 4 → S = V)
def gw_V (lv up nf nm kd : Nat → Nat) (C : Nat → Int32) (S V : Nat → Int64) : Prop :=
  ∀ o, o < 32 → C o ≠ -1 → ∀ j k, j ≤ lv (gw_kl C o) → k < nf (gw_al lv up (gw_kl C o) j) → gw_cell C o (kd (4 * gw_al lv up (gw_kl C o) j + k)) (S (12 * o + 4 * j + k)) (V (10 * o + nm (4 * gw_al lv up (gw_kl C o) j + k)))
def gw_S1 (C HD AR PT : Nat → Int32) (hh hs pq : Nat → Nat) (o : Nat) : Prop :=
  HD o = nI (hh o) ∧ (hh o = 0 → PT o = -1) ∧ (hh o ≠ 0 → C o ≠ -1 ∧ hh o ≤ hs (o / 16) ∧ pq o < 32 ∧ pq o / 16 = 1 - o / 16 ∧ C (pq o) ≠ -1 ∧ AR (17 * (o / 16) + hh o) = nI (pq o) ∧ PT o = nI (pq o))
def gw_S2 (HS : Nat → Int32) (hh hs : Nat → Nat) (s : Nat) : Prop := HS s = nI (hs s) ∧ ∀ h, 1 ≤ h → h ≤ hs s → ∃ o, o < 32 ∧ o / 16 = s ∧ hh o = h
def gw_S (C HD AR HS PT : Nat → Int32) (hh hs pq : Nat → Nat) : Prop := (∀ o, o < 32 → gw_S1 C HD AR PT hh hs pq o) ∧ ∀ s, s < 2 → gw_S2 HS hh hs s
def gw_PV (D : Nat → Int32) (lv up nf nm : Nat → Nat) (c b x : Nat) (r : Int32) : Prop := (gw_inC D lv up c b ∧ ∃ m, m < nf b ∧ nm (4 * b + m) = x ∧ r = nI (4 * lv b + m)) ∨ (r = -1 ∧ (gw_inC D lv up c b → ∀ m, m < nf b → nm (4 * b + m) ≠ x))
def gw_LO (D Vn : Nat → Int32) (lv up nf nm kd : Nat → Nat) (c a : Nat) : Prop := gw_inC D lv up c (gw_mir a) → Vn a = Vn (gw_mir a) ∧ ∀ k m, k < nf a → m < nf (gw_mir a) → nm (4 * a + k) = nm (4 * gw_mir a + m) → kd (4 * a + k) = kd (4 * gw_mir a + m)
def gw_D1 (D Vn dL dF PL WD : Nat → Int32) (lv up nf nm kd : Nat → Nat) (c : Nat) : Prop :=
  D c ≠ 0 ∧ D (gw_mir c) ≠ 0 ∧ dL c = nI (lv c + 1) ∧ ∀ j, j ≤ lv c → gw_LO D Vn lv up nf nm kd (gw_mir c) (gw_al lv up c j) ∧ dF (3 * c + j) = nI (nf (gw_al lv up c j)) ∧
    ∀ k, k < nf (gw_al lv up c j) → (WD (12 * c + 4 * j + k) = if kd (4 * gw_al lv up c j + k) = 4 then 1 else 0) ∧ gw_PV D lv up nf nm (gw_mir c) (gw_mir (gw_al lv up c j)) (nm (4 * gw_al lv up c j + k)) (PL (12 * c + 4 * j + k))
def gw_DS (D Vn DSC dL dF PL WD : Nat → Int32) (lv up nf nm kd : Nat → Nat) : Prop := ∀ c, c < 12 → DSC c ≠ 0 → gw_D1 D Vn dL dF PL WD lv up nf nm kd c
def gw_LT (D LT : Nat → Int32) (lv up : Nat → Nat) : Prop := ∀ s, s < 2 → LT s = -1 ∨ ∃ x, x < 6 ∧ LT s = nI x ∧ D (6 * s + x) ≠ 0 ∧ ∀ c, c < 12 → D c ≠ 0 → lv c ≠ 0 → up c ≠ 6 * s + x
def gw_R (D P L Vn F N K LT C : Nat → Int32) (S : Nat → Int64) (HD AR HS DSC dL dF PL WD Q O Z PT : Nat → Int32) (V : Nat → Int64) : Prop :=
  ∃ lv up nf nm kd hh hs pq : Nat → Nat, gw_W D lv up nf nm kd ∧ gw_U D lv up nf nm ∧ gw_CX D P L F N K lv up nf nm kd ∧ gw_CY D Q O lv up nf nm kd ∧ gw_O D C Z ∧ gw_V lv up nf nm kd C S V ∧ gw_S C HD AR HS PT hh hs pq ∧ gw_DS D Vn DSC dL dF PL WD lv up nf nm kd ∧ gw_LT D LT lv up
def i_Rel (k : Nat) (u : SX) (v : SY) : Prop := match u with
  | (f_end, f_at, f_written, f_read, f_error, f_culprit, f_nextHandle, f_depth, f_nTodo, a_defined, a_parent, a_level, a_version, a_fields, a_fName, a_fKind, a_latest, a_oClass, a_pinned, a_slot, a_handle, a_arrived, a_handles, a_described, a_dLevels, a_dFields, a_plan, a_wide, a_wire, a_order, a_made, a_sObj, a_sLev, a_sPos, a_sCls, a_pairs, a_todo) => match v with
    | (g_culprit, g_depth, g_lastMade, b_defined, b_version, b_parent, b_own, b_latest, b_cls, b_partner, b_pinned, b_arrived, b_val, b_from, b_made, b_done, b_rows) => g_culprit = f_culprit ∧ b_defined = a_defined ∧ b_version = a_version ∧ b_latest = a_latest ∧ b_pinned = a_pinned ∧ gw_R a_defined a_parent a_level a_version a_fields a_fName a_fKind a_latest a_oClass a_slot a_handle a_arrived a_handles a_described a_dLevels a_dFields a_plan a_wide b_parent b_own b_cls b_partner b_val
theorem i_up {k : Nat} {u : SX} {v : SY} (h : i_Rel k u v) : i_Rel (k + 5) u v := h
section
variable {f_end f_at f_written f_read f_error f_culprit f_nextHandle f_depth f_nTodo : Int32} {a_defined a_parent a_level a_version a_fields a_fName a_fKind a_latest a_oClass a_pinned a_handle a_arrived a_handles a_described a_dLevels a_dFields a_plan a_wide a_wire a_order a_made a_sObj a_sLev a_sPos a_sCls a_todo : Nat → Int32} {a_slot a_pairs : Nat → Int64} {g_culprit g_depth g_lastMade : Int32} {b_defined b_version b_parent b_own b_latest b_cls b_partner b_pinned b_arrived b_from b_made b_done b_rows : Nat → Int32} {b_val : Nat → Int64}
theorem gi_in {k : Nat} (h : gw_R a_defined a_parent a_level a_version a_fields a_fName a_fKind a_latest a_oClass a_slot a_handle a_arrived a_handles a_described a_dLevels a_dFields a_plan a_wide b_parent b_own b_cls b_partner b_val) : i_Rel k (f_end, f_at, f_written, f_read, f_error, f_culprit, f_nextHandle, f_depth, f_nTodo, a_defined, a_parent, a_level, a_version, a_fields, a_fName, a_fKind, a_latest, a_oClass, a_pinned, a_slot, a_handle, a_arrived, a_handles, a_described, a_dLevels, a_dFields, a_plan, a_wide, a_wire, a_order, a_made, a_sObj, a_sLev, a_sPos, a_sCls, a_pairs, a_todo) (f_culprit, g_depth, g_lastMade, a_defined, a_version, b_parent, b_own, a_latest, b_cls, b_partner, a_pinned, b_arrived, b_val, b_from, b_made, b_done, b_rows) := ⟨rfl, rfl, rfl, rfl, rfl, h⟩
end
theorem gi_el {P : SX → SY → Prop} {k : Nat} {u : SX} {v : SY} (h : ∀ {f_end f_at f_written f_read f_error f_culprit f_nextHandle f_depth f_nTodo : Int32} {a_defined a_parent a_level a_version a_fields a_fName a_fKind a_latest a_oClass a_pinned a_handle a_arrived a_handles a_described a_dLevels a_dFields a_plan a_wide a_wire a_order a_made a_sObj a_sLev a_sPos a_sCls a_todo : Nat → Int32} {a_slot a_pairs : Nat → Int64} {g_depth g_lastMade : Int32} {b_parent b_own b_cls b_partner b_arrived b_from b_made b_done b_rows : Nat → Int32} {b_val : Nat → Int64}, gw_R a_defined a_parent a_level a_version a_fields a_fName a_fKind a_latest a_oClass a_slot a_handle a_arrived a_handles a_described a_dLevels a_dFields a_plan a_wide b_parent b_own b_cls b_partner b_val → P (f_end, f_at, f_written, f_read, f_error, f_culprit, f_nextHandle, f_depth, f_nTodo, a_defined, a_parent, a_level, a_version, a_fields, a_fName, a_fKind, a_latest, a_oClass, a_pinned, a_slot, a_handle, a_arrived, a_handles, a_described, a_dLevels, a_dFields, a_plan, a_wide, a_wire, a_order, a_made, a_sObj, a_sLev, a_sPos, a_sCls, a_pairs, a_todo) (f_culprit, g_depth, g_lastMade, a_defined, a_version, b_parent, b_own, a_latest, b_cls, b_partner, a_pinned, b_arrived, b_val, b_from, b_made, b_done, b_rows)) (I : i_Rel k u v) : P u v := by
  match u, v, I with
  | (f_end, f_at, f_written, f_read, f_error, f_culprit, f_nextHandle, f_depth, f_nTodo, a_defined, a_parent, a_level, a_version, a_fields, a_fName, a_fKind, a_latest, a_oClass, a_pinned, a_slot, a_handle, a_arrived, a_handles, a_described, a_dLevels, a_dFields, a_plan, a_wide, a_wire, a_order, a_made, a_sObj, a_sLev, a_sPos, a_sCls, a_pairs, a_todo), (g_culprit, g_depth, g_lastMade, b_defined, b_version, b_parent, b_own, b_latest, b_cls, b_partner, b_pinned, b_arrived, b_val, b_from, b_made, b_done, b_rows), I =>
    obtain ⟨e1, e2, e3, e4, e5, R⟩ := I
    subst e1 e2 e3 e4 e5
    exact h R
section
variable {D C Z : Nat → Int32} {lv up nf nm kd : Nat → Nat}
theorem gw_O_al (HO : gw_O D C Z) {o : Nat} (ho : o < 32) (ha : C o ≠ -1) : gw_kl C o < 12 ∧ C o = nI (gw_kl C o) ∧ Z o = nI (gw_kl C o % 6) ∧ D (gw_kl C o) ≠ 0 ∧ gw_kl C o / 6 = o / 16 := by
  rcases HO o ho with h | h
  · exact absurd h.1 ha
  · exact h
theorem gw_O_de (HO : gw_O D C Z) {o : Nat} (ho : o < 32) (ha : C o = -1) : Z o = -1 := by
  rcases HO o ho with h | h
  · exact h.2
  · rw [h.2.1] at ha; exact absurd ha (ze_m1_ne (by omega))
/-- a stored value -/
theorem gw_V_upd {S V : Nat → Int64} (HW : gw_W D lv up nf nm kd) (HU : gw_U D lv up nf nm) (HO : gw_O D C Z) (HV : gw_V lv up nf nm kd C S V) {o j k : Nat} {v w : Int64} (ho : o < 32) (ha : C o ≠ -1) (hj : j ≤ lv (gw_kl C o)) (hk : k < nf (gw_al lv up (gw_kl C o) j))
    (hc : gw_cell C o (kd (4 * gw_al lv up (gw_kl C o) j + k)) v w) : gw_V lv up nf nm kd C (vp_updL S (12 * o + 4 * j + k) v) (vp_updL V (10 * o + nm (4 * gw_al lv up (gw_kl C o) j + k)) w) := by
  intro o' ho' ha' j' k' hj' hk'
  obtain ⟨h1, h2, h3, h4, h5⟩ := gw_O_al HO ho ha
  obtain ⟨i1, i2, i3, i4, i5⟩ := gw_O_al HO ho' ha'
  obtain ⟨m1, m2, m3, m4⟩ := gw_al_ok HW h1 h4 hj
  obtain ⟨n1, n2, n3, n4⟩ := gw_al_ok HW i1 i4 hj'
  have f1 := (HW _ m1).1
  have f2 := (HW _ n1).1
  have l1 := (HW _ h1).2.2.2.2.1
  have l2 := (HW _ i1).2.2.2.2.1
  have g1 := ((HW _ m1).2.2.1 k hk).1
  have g2 := ((HW _ n1).2.2.1 k' hk').1
  by_cases e : o' = o ∧ j' = j ∧ k' = k
  · obtain ⟨rfl, rfl, rfl⟩ := e
    rw [pk_uLs, pk_uLs]; exact hc
  · rw [pk_uLn (by omega), pk_uLn]
    · exact HV o' ho' ha' j' k' hj' hk'
    · intro q
      have eo : o' = o := by omega
      subst eo
      have := gw_one HW HU h1 h4 hj' hj hk' hk (by omega)
      omega
end
end
section
def gj_OB (C : Nat → Int32) (u : SX) (v : SY) (p : Int32) : Prop := ∃ r, (r = -1 ∨ (p ≠ -1 ∧ ∃ o, o < 32 ∧ r = nI o ∧ C o ≠ -1)) ∧ (∀ post : Int32 → Prop, post r → wpX_object post u p) ∧ (∀ post : Int32 → Prop, post r → wpY_object post v p)
section
variable {f_end f_at f_written f_read f_error f_culprit f_nextHandle f_depth f_nTodo : Int32} {a_defined a_parent a_level a_version a_fields a_fName a_fKind a_latest a_oClass a_pinned a_handle a_arrived a_handles a_described a_dLevels a_dFields a_plan a_wide a_wire a_order a_made a_sObj a_sLev a_sPos a_sCls a_todo : Nat → Int32} {a_slot a_pairs : Nat → Int64} {g_culprit g_depth g_lastMade : Int32} {b_defined b_version b_parent b_own b_latest b_cls b_partner b_pinned b_arrived b_from b_made b_done b_rows : Nat → Int32} {b_val : Nat → Int64} {lv up nf nm kd : Nat → Nat}
theorem gj_object (HO : gw_O b_defined a_oClass b_cls) (p : Int32) : gj_OB a_oClass (f_end, f_at, f_written, f_read, f_error, f_culprit, f_nextHandle, f_depth, f_nTodo, a_defined, a_parent, a_level, a_version, a_fields, a_fName, a_fKind, a_latest, a_oClass, a_pinned, a_slot, a_handle, a_arrived, a_handles, a_described, a_dLevels, a_dFields, a_plan, a_wide, a_wire, a_order, a_made, a_sObj, a_sLev, a_sPos, a_sCls, a_pairs, a_todo) (g_culprit, g_depth, g_lastMade, b_defined, b_version, b_parent, b_own, b_latest, b_cls, b_partner, b_pinned, b_arrived, b_val, b_from, b_made, b_done, b_rows) p := by
  rcases pk_ix p (n := 48) (by decide) with z | z | ⟨m, hm, e⟩
  · exact ⟨-1, Or.inl rfl, fun post h => br_t z h, fun post h => br_t z h⟩
  · have z0 : ¬ p < 0 := fun h => absurd (Int32.lt_of_le_of_lt z h) (by decide)
    have z1 : 47 < p := Int32.lt_of_lt_of_le (by decide) z
    exact ⟨-1, Or.inl rfl, fun post h => br_f z0 (br_t z1 h), fun post h => br_f z0 (br_t z1 h)⟩
  · subst e
    by_cases q : m % 32 ≤ 15
    · have e1 : 16 * (m / 32) + m % 32 = m / 32 * 16 + m % 32 := by omega
      rcases HO (m / 32 * 16 + m % 32) (by omega) with ⟨h1, h2⟩ | ⟨h1, h2, h3, h4, h5⟩
      · refine ⟨-1, Or.inl rfl, fun post h => ?_, fun post h => ?_⟩
        · unfold wpX_object; dsimp only
          simp (disch := omega) only [ze_ge0t, ze_gt0t, ze_gt0f, ze_le0t, ze_le0f, ze_lt0f, ze_eq0p, ze_eq0f, ze_ge1t, ze_ge1f, ze_gt1t, ze_gt1f, ze_le1t, ze_le1f, ze_lt1t, ze_lt1f, ze_eq1p, ze_eq1f, ze_ge2t, ze_ge2f, ze_gt2t, ze_gt2f, ze_le2t, ze_le2f, ze_lt2t, ze_lt2f, ze_eq2p, ze_eq2f, ze_ge3t, ze_ge3f, ze_gt3t, ze_gt3f, ze_le3t, ze_le3f, ze_lt3t, ze_lt3f, ze_eq3p, ze_eq3f, ze_ge4t, ze_ge4f, ze_gt4t, ze_gt4f, ze_le4t, ze_le4f, ze_lt4t, ze_lt4f, ze_eq4p, ze_eq4f, ze_ge5t, ze_ge5f, ze_gt5t, ze_gt5f, ze_le5t, ze_le5f, ze_lt5t, ze_lt5f, ze_eq5p, ze_eq5f, ze_ge6t, ze_ge6f, ze_gt6t, ze_gt6f, ze_le6t, ze_le6f, ze_lt6t, ze_lt6f, ze_eq6p, ze_eq6f, ze_ge7t, ze_ge7f, ze_gt7t, ze_gt7f, ze_le7t, ze_le7f, ze_lt7t, ze_lt7f, ze_eq7p, ze_eq7f, ze_ge9t, ze_ge9f, ze_gt9t, ze_gt9f, ze_le9t, ze_le9f, ze_lt9t, ze_lt9f, ze_eq9p, ze_eq9f, ze_ge10t, ze_ge10f, ze_gt10t, ze_gt10f, ze_le10t, ze_le10f, ze_lt10t, ze_lt10f, ze_eq10p, ze_eq10f, ze_ge12t, ze_ge12f, ze_gt12t, ze_gt12f, ze_le12t, ze_le12f, ze_lt12t, ze_lt12f, ze_eq12p, ze_eq12f, ze_ge15t, ze_ge15f, ze_gt15t, ze_gt15f, ze_le15t, ze_le15f, ze_lt15t, ze_lt15f, ze_eq15p, ze_eq15f, ze_ge16t, ze_ge16f, ze_gt16t, ze_gt16f, ze_le16t, ze_le16f, ze_lt16t, ze_lt16f, ze_eq16p, ze_eq16f, ze_ge30t, ze_ge30f, ze_gt30t, ze_gt30f, ze_le30t, ze_le30f, ze_lt30t, ze_lt30f, ze_eq30p, ze_eq30f, ze_ge32t, ze_ge32f, ze_gt32t, ze_gt32f, ze_le32t, ze_le32f, ze_lt32t, ze_lt32f, ze_eq32p, ze_eq32f, ze_ge47t, ze_ge47f, ze_gt47t, ze_gt47f, ze_le47t, ze_le47f, ze_lt47t, ze_lt47f, ze_eq47p, ze_eq47f, ze_ge120t, ze_ge120f, ze_gt120t, ze_gt120f, ze_le120t, ze_le120f, ze_lt120t, ze_lt120f, ze_eq120p, ze_eq120f, ze_ge1024t, ze_ge1024f, ze_gt1024t, ze_gt1024f, ze_le1024t, ze_le1024f, ze_lt1024t, ze_lt1024f, ze_eq1024p, ze_eq1024f, ze_let, ze_lef, ze_ltt, ze_ltf, ze_eqt, ze_eqf, ze_m1_lt0, ze_m1_n0le, ze_m1_le0, ze_m1_le, ze_m1_lt, ze_m1_nle, ze_m1_nlt, ze_m1_ne, ze_m1_en, ze_m1_ne4, ze_m1_ne0, ze_nz6, ze_nz10, ze_nz12, ze_nz16, ze_nz32, ze_nz192, ze_1ne0, ze_0ne1, ze_0ne4, ↓ze_rem6, ↓ze_rem10, ↓ze_rem16, ↓ze_rem32, ↓ze_rem12, ze_div6, ze_div10, ze_div12, ze_div16, ze_div32, ze_div192, ze_mul3, ze_mul4, ze_mul6, ze_mul10, ze_mul12, ze_mul16, ze_mul17, ze_mul32, ze_mul60, ze_mulr6, ze_nrem6, ze_mulr10, ze_nrem10, ze_mulr12, ze_nrem12, ze_mulr16, ze_nrem16, ze_mulr32, ze_nrem32, nI_add, ze_add1, ze_add6, ze_add7, ze_add8, ze_add12, ze_add16, ze_add0, ze_radd0, ze_radd8, ze_sub1, ze_m1, ze_0sub1, ze_m1add1, ze_1sub, ze_2sub, pk_sub, ze_and3, ze_and7, ze_and31, ze_and127, ↓ze_shr2, ↓ze_shr3, ↓ze_shr5, ↓ze_shl3, ze_i8, ze_nby, ze_i8m1, ze_i80, ze_nbm1, ze_i16, ze_nsh, ze_nb0, ze_nt0, ze_nt1, ze_cl0, ze_cl1, nI_clamp, vp_in_nI, forall_eq, true_implies, false_implies, not_true_eq_false, not_false_eq_true, and_true, true_and, implies_true, and_self, forall_const, Classical.not_not, e1, h1]
          exact h
        · unfold wpY_object; dsimp only
          simp (disch := omega) only [ze_ge0t, ze_gt0t, ze_gt0f, ze_le0t, ze_le0f, ze_lt0f, ze_eq0p, ze_eq0f, ze_ge1t, ze_ge1f, ze_gt1t, ze_gt1f, ze_le1t, ze_le1f, ze_lt1t, ze_lt1f, ze_eq1p, ze_eq1f, ze_ge2t, ze_ge2f, ze_gt2t, ze_gt2f, ze_le2t, ze_le2f, ze_lt2t, ze_lt2f, ze_eq2p, ze_eq2f, ze_ge3t, ze_ge3f, ze_gt3t, ze_gt3f, ze_le3t, ze_le3f, ze_lt3t, ze_lt3f, ze_eq3p, ze_eq3f, ze_ge4t, ze_ge4f, ze_gt4t, ze_gt4f, ze_le4t, ze_le4f, ze_lt4t, ze_lt4f, ze_eq4p, ze_eq4f, ze_ge5t, ze_ge5f, ze_gt5t, ze_gt5f, ze_le5t, ze_le5f, ze_lt5t, ze_lt5f, ze_eq5p, ze_eq5f, ze_ge6t, ze_ge6f, ze_gt6t, ze_gt6f, ze_le6t, ze_le6f, ze_lt6t, ze_lt6f, ze_eq6p, ze_eq6f, ze_ge7t, ze_ge7f, ze_gt7t, ze_gt7f, ze_le7t, ze_le7f, ze_lt7t, ze_lt7f, ze_eq7p, ze_eq7f, ze_ge9t, ze_ge9f, ze_gt9t, ze_gt9f, ze_le9t, ze_le9f, ze_lt9t, ze_lt9f, ze_eq9p, ze_eq9f, ze_ge10t, ze_ge10f, ze_gt10t, ze_gt10f, ze_le10t, ze_le10f, ze_lt10t, ze_lt10f, ze_eq10p, ze_eq10f, ze_ge12t, ze_ge12f, ze_gt12t, ze_gt12f, ze_le12t, ze_le12f, ze_lt12t, ze_lt12f, ze_eq12p, ze_eq12f, ze_ge15t, ze_ge15f, ze_gt15t, ze_gt15f, ze_le15t, ze_le15f, ze_lt15t, ze_lt15f, ze_eq15p, ze_eq15f, ze_ge16t, ze_ge16f, ze_gt16t, ze_gt16f, ze_le16t, ze_le16f, ze_lt16t, ze_lt16f, ze_eq16p, ze_eq16f, ze_ge30t, ze_ge30f, ze_gt30t, ze_gt30f, ze_le30t, ze_le30f, ze_lt30t, ze_lt30f, ze_eq30p, ze_eq30f, ze_ge32t, ze_ge32f, ze_gt32t, ze_gt32f, ze_le32t, ze_le32f, ze_lt32t, ze_lt32f, ze_eq32p, ze_eq32f, ze_ge47t, ze_ge47f, ze_gt47t, ze_gt47f, ze_le47t, ze_le47f, ze_lt47t, ze_lt47f, ze_eq47p, ze_eq47f, ze_ge120t, ze_ge120f, ze_gt120t, ze_gt120f, ze_le120t, ze_le120f, ze_lt120t, ze_lt120f, ze_eq120p, ze_eq120f, ze_ge1024t, ze_ge1024f, ze_gt1024t, ze_gt1024f, ze_le1024t, ze_le1024f, ze_lt1024t, ze_lt1024f, ze_eq1024p, ze_eq1024f, ze_let, ze_lef, ze_ltt, ze_ltf, ze_eqt, ze_eqf, ze_m1_lt0, ze_m1_n0le, ze_m1_le0, ze_m1_le, ze_m1_lt, ze_m1_nle, ze_m1_nlt, ze_m1_ne, ze_m1_en, ze_m1_ne4, ze_m1_ne0, ze_nz6, ze_nz10, ze_nz12, ze_nz16, ze_nz32, ze_nz192, ze_1ne0, ze_0ne1, ze_0ne4, ↓ze_rem6, ↓ze_rem10, ↓ze_rem16, ↓ze_rem32, ↓ze_rem12, ze_div6, ze_div10, ze_div12, ze_div16, ze_div32, ze_div192, ze_mul3, ze_mul4, ze_mul6, ze_mul10, ze_mul12, ze_mul16, ze_mul17, ze_mul32, ze_mul60, ze_mulr6, ze_nrem6, ze_mulr10, ze_nrem10, ze_mulr12, ze_nrem12, ze_mulr16, ze_nrem16, ze_mulr32, ze_nrem32, nI_add, ze_add1, ze_add6, ze_add7, ze_add8, ze_add12, ze_add16, ze_add0, ze_radd0, ze_radd8, ze_sub1, ze_m1, ze_0sub1, ze_m1add1, ze_1sub, ze_2sub, pk_sub, ze_and3, ze_and7, ze_and31, ze_and127, ↓ze_shr2, ↓ze_shr3, ↓ze_shr5, ↓ze_shl3, ze_i8, ze_nby, ze_i8m1, ze_i80, ze_nbm1, ze_i16, ze_nsh, ze_nb0, ze_nt0, ze_nt1, ze_cl0, ze_cl1, nI_clamp, vp_in_nI, forall_eq, true_implies, false_implies, not_true_eq_false, not_false_eq_true, and_true, true_and, implies_true, and_self, forall_const, Classical.not_not, h2]
          exact h
      · refine ⟨nI (m / 32 * 16 + m % 32), Or.inr ⟨ze_m1_ne (by omega), _, by omega, rfl, by rw [h2]; exact ze_m1_ne (by omega)⟩, fun post h => ?_, fun post h => ?_⟩
        · unfold wpX_object; dsimp only
          simp (disch := omega) only [ze_ge0t, ze_gt0t, ze_gt0f, ze_le0t, ze_le0f, ze_lt0f, ze_eq0p, ze_eq0f, ze_ge1t, ze_ge1f, ze_gt1t, ze_gt1f, ze_le1t, ze_le1f, ze_lt1t, ze_lt1f, ze_eq1p, ze_eq1f, ze_ge2t, ze_ge2f, ze_gt2t, ze_gt2f, ze_le2t, ze_le2f, ze_lt2t, ze_lt2f, ze_eq2p, ze_eq2f, ze_ge3t, ze_ge3f, ze_gt3t, ze_gt3f, ze_le3t, ze_le3f, ze_lt3t, ze_lt3f, ze_eq3p, ze_eq3f, ze_ge4t, ze_ge4f, ze_gt4t, ze_gt4f, ze_le4t, ze_le4f, ze_lt4t, ze_lt4f, ze_eq4p, ze_eq4f, ze_ge5t, ze_ge5f, ze_gt5t, ze_gt5f, ze_le5t, ze_le5f, ze_lt5t, ze_lt5f, ze_eq5p, ze_eq5f, ze_ge6t, ze_ge6f, ze_gt6t, ze_gt6f, ze_le6t, ze_le6f, ze_lt6t, ze_lt6f, ze_eq6p, ze_eq6f, ze_ge7t, ze_ge7f, ze_gt7t, ze_gt7f, ze_le7t, ze_le7f, ze_lt7t, ze_lt7f, ze_eq7p, ze_eq7f, ze_ge9t, ze_ge9f, ze_gt9t, ze_gt9f, ze_le9t, ze_le9f, ze_lt9t, ze_lt9f, ze_eq9p, ze_eq9f, ze_ge10t, ze_ge10f, ze_gt10t, ze_gt10f, ze_le10t, ze_le10f, ze_lt10t, ze_lt10f, ze_eq10p, ze_eq10f, ze_ge12t, ze_ge12f, ze_gt12t, ze_gt12f, ze_le12t, ze_le12f, ze_lt12t, ze_lt12f, ze_eq12p, ze_eq12f, ze_ge15t, ze_ge15f, ze_gt15t, ze_gt15f, ze_le15t, ze_le15f, ze_lt15t, ze_lt15f, ze_eq15p, ze_eq15f, ze_ge16t, ze_ge16f, ze_gt16t, ze_gt16f, ze_le16t, ze_le16f, ze_lt16t, ze_lt16f, ze_eq16p, ze_eq16f, ze_ge30t, ze_ge30f, ze_gt30t, ze_gt30f, ze_le30t, ze_le30f, ze_lt30t, ze_lt30f, ze_eq30p, ze_eq30f, ze_ge32t, ze_ge32f, ze_gt32t, ze_gt32f, ze_le32t, ze_le32f, ze_lt32t, ze_lt32f, ze_eq32p, ze_eq32f, ze_ge47t, ze_ge47f, ze_gt47t, ze_gt47f, ze_le47t, ze_le47f, ze_lt47t, ze_lt47f, ze_eq47p, ze_eq47f, ze_ge120t, ze_ge120f, ze_gt120t, ze_gt120f, ze_le120t, ze_le120f, ze_lt120t, ze_lt120f, ze_eq120p, ze_eq120f, ze_ge1024t, ze_ge1024f, ze_gt1024t, ze_gt1024f, ze_le1024t, ze_le1024f, ze_lt1024t, ze_lt1024f, ze_eq1024p, ze_eq1024f, ze_let, ze_lef, ze_ltt, ze_ltf, ze_eqt, ze_eqf, ze_m1_lt0, ze_m1_n0le, ze_m1_le0, ze_m1_le, ze_m1_lt, ze_m1_nle, ze_m1_nlt, ze_m1_ne, ze_m1_en, ze_m1_ne4, ze_m1_ne0, ze_nz6, ze_nz10, ze_nz12, ze_nz16, ze_nz32, ze_nz192, ze_1ne0, ze_0ne1, ze_0ne4, ↓ze_rem6, ↓ze_rem10, ↓ze_rem16, ↓ze_rem32, ↓ze_rem12, ze_div6, ze_div10, ze_div12, ze_div16, ze_div32, ze_div192, ze_mul3, ze_mul4, ze_mul6, ze_mul10, ze_mul12, ze_mul16, ze_mul17, ze_mul32, ze_mul60, ze_mulr6, ze_nrem6, ze_mulr10, ze_nrem10, ze_mulr12, ze_nrem12, ze_mulr16, ze_nrem16, ze_mulr32, ze_nrem32, nI_add, ze_add1, ze_add6, ze_add7, ze_add8, ze_add12, ze_add16, ze_add0, ze_radd0, ze_radd8, ze_sub1, ze_m1, ze_0sub1, ze_m1add1, ze_1sub, ze_2sub, pk_sub, ze_and3, ze_and7, ze_and31, ze_and127, ↓ze_shr2, ↓ze_shr3, ↓ze_shr5, ↓ze_shl3, ze_i8, ze_nby, ze_i8m1, ze_i80, ze_nbm1, ze_i16, ze_nsh, ze_nb0, ze_nt0, ze_nt1, ze_cl0, ze_cl1, nI_clamp, vp_in_nI, forall_eq, true_implies, false_implies, not_true_eq_false, not_false_eq_true, and_true, true_and, implies_true, and_self, forall_const, Classical.not_not, e1, h2]
          exact h
        · unfold wpY_object; dsimp only
          simp (disch := omega) only [ze_ge0t, ze_gt0t, ze_gt0f, ze_le0t, ze_le0f, ze_lt0f, ze_eq0p, ze_eq0f, ze_ge1t, ze_ge1f, ze_gt1t, ze_gt1f, ze_le1t, ze_le1f, ze_lt1t, ze_lt1f, ze_eq1p, ze_eq1f, ze_ge2t, ze_ge2f, ze_gt2t, ze_gt2f, ze_le2t, ze_le2f, ze_lt2t, ze_lt2f, ze_eq2p, ze_eq2f, ze_ge3t, ze_ge3f, ze_gt3t, ze_gt3f, ze_le3t, ze_le3f, ze_lt3t, ze_lt3f, ze_eq3p, ze_eq3f, ze_ge4t, ze_ge4f, ze_gt4t, ze_gt4f, ze_le4t, ze_le4f, ze_lt4t, ze_lt4f, ze_eq4p, ze_eq4f, ze_ge5t, ze_ge5f, ze_gt5t, ze_gt5f, ze_le5t, ze_le5f, ze_lt5t, ze_lt5f, ze_eq5p, ze_eq5f, ze_ge6t, ze_ge6f, ze_gt6t, ze_gt6f, ze_le6t, ze_le6f, ze_lt6t, ze_lt6f, ze_eq6p, ze_eq6f, ze_ge7t, ze_ge7f, ze_gt7t, ze_gt7f, ze_le7t, ze_le7f, ze_lt7t, ze_lt7f, ze_eq7p, ze_eq7f, ze_ge9t, ze_ge9f, ze_gt9t, ze_gt9f, ze_le9t, ze_le9f, ze_lt9t, ze_lt9f, ze_eq9p, ze_eq9f, ze_ge10t, ze_ge10f, ze_gt10t, ze_gt10f, ze_le10t, ze_le10f, ze_lt10t, ze_lt10f, ze_eq10p, ze_eq10f, ze_ge12t, ze_ge12f, ze_gt12t, ze_gt12f, ze_le12t, ze_le12f, ze_lt12t, ze_lt12f, ze_eq12p, ze_eq12f, ze_ge15t, ze_ge15f, ze_gt15t, ze_gt15f, ze_le15t, ze_le15f, ze_lt15t, ze_lt15f, ze_eq15p, ze_eq15f, ze_ge16t, ze_ge16f, ze_gt16t, ze_gt16f, ze_le16t, ze_le16f, ze_lt16t, ze_lt16f, ze_eq16p, ze_eq16f, ze_ge30t, ze_ge30f, ze_gt30t, ze_gt30f, ze_le30t, ze_le30f, ze_lt30t, ze_lt30f, ze_eq30p, ze_eq30f, ze_ge32t, ze_ge32f, ze_gt32t, ze_gt32f, ze_le32t, ze_le32f, ze_lt32t, ze_lt32f, ze_eq32p, ze_eq32f, ze_ge47t, ze_ge47f, ze_gt47t, ze_gt47f, ze_le47t, ze_le47f, ze_lt47t, ze_lt47f, ze_eq47p, ze_eq47f, ze_ge120t, ze_ge120f, ze_gt120t, ze_gt120f, ze_le120t, ze_le120f, ze_lt120t, ze_lt120f, ze_eq120p, ze_eq120f, ze_ge1024t, ze_ge1024f, ze_gt1024t, ze_gt1024f, ze_le1024t, ze_le1024f, ze_lt1024t, ze_lt1024f, ze_eq1024p, ze_eq1024f, ze_let, ze_lef, ze_ltt, ze_ltf, ze_eqt, ze_eqf, ze_m1_lt0, ze_m1_n0le, ze_m1_le0, ze_m1_le, ze_m1_lt, ze_m1_nle, ze_m1_nlt, ze_m1_ne, ze_m1_en, ze_m1_ne4, ze_m1_ne0, ze_nz6, ze_nz10, ze_nz12, ze_nz16, ze_nz32, ze_nz192, ze_1ne0, ze_0ne1, ze_0ne4, ↓ze_rem6, ↓ze_rem10, ↓ze_rem16, ↓ze_rem32, ↓ze_rem12, ze_div6, ze_div10, ze_div12, ze_div16, ze_div32, ze_div192, ze_mul3, ze_mul4, ze_mul6, ze_mul10, ze_mul12, ze_mul16, ze_mul17, ze_mul32, ze_mul60, ze_mulr6, ze_nrem6, ze_mulr10, ze_nrem10, ze_mulr12, ze_nrem12, ze_mulr16, ze_nrem16, ze_mulr32, ze_nrem32, nI_add, ze_add1, ze_add6, ze_add7, ze_add8, ze_add12, ze_add16, ze_add0, ze_radd0, ze_radd8, ze_sub1, ze_m1, ze_0sub1, ze_m1add1, ze_1sub, ze_2sub, pk_sub, ze_and3, ze_and7, ze_and31, ze_and127, ↓ze_shr2, ↓ze_shr3, ↓ze_shr5, ↓ze_shl3, ze_i8, ze_nby, ze_i8m1, ze_i80, ze_nbm1, ze_i16, ze_nsh, ze_nb0, ze_nt0, ze_nt1, ze_cl0, ze_cl1, nI_clamp, vp_in_nI, forall_eq, true_implies, false_implies, not_true_eq_false, not_false_eq_true, and_true, true_and, implies_true, and_self, forall_const, Classical.not_not, h3]
          exact h
    · refine ⟨-1, Or.inl rfl, fun post h => ?_, fun post h => ?_⟩
      · unfold wpX_object; dsimp only
        simp (disch := omega) only [ze_ge0t, ze_gt0t, ze_gt0f, ze_le0t, ze_le0f, ze_lt0f, ze_eq0p, ze_eq0f, ze_ge1t, ze_ge1f, ze_gt1t, ze_gt1f, ze_le1t, ze_le1f, ze_lt1t, ze_lt1f, ze_eq1p, ze_eq1f, ze_ge2t, ze_ge2f, ze_gt2t, ze_gt2f, ze_le2t, ze_le2f, ze_lt2t, ze_lt2f, ze_eq2p, ze_eq2f, ze_ge3t, ze_ge3f, ze_gt3t, ze_gt3f, ze_le3t, ze_le3f, ze_lt3t, ze_lt3f, ze_eq3p, ze_eq3f, ze_ge4t, ze_ge4f, ze_gt4t, ze_gt4f, ze_le4t, ze_le4f, ze_lt4t, ze_lt4f, ze_eq4p, ze_eq4f, ze_ge5t, ze_ge5f, ze_gt5t, ze_gt5f, ze_le5t, ze_le5f, ze_lt5t, ze_lt5f, ze_eq5p, ze_eq5f, ze_ge6t, ze_ge6f, ze_gt6t, ze_gt6f, ze_le6t, ze_le6f, ze_lt6t, ze_lt6f, ze_eq6p, ze_eq6f, ze_ge7t, ze_ge7f, ze_gt7t, ze_gt7f, ze_le7t, ze_le7f, ze_lt7t, ze_lt7f, ze_eq7p, ze_eq7f, ze_ge9t, ze_ge9f, ze_gt9t, ze_gt9f, ze_le9t, ze_le9f, ze_lt9t, ze_lt9f, ze_eq9p, ze_eq9f, ze_ge10t, ze_ge10f, ze_gt10t, ze_gt10f, ze_le10t, ze_le10f, ze_lt10t, ze_lt10f, ze_eq10p, ze_eq10f, ze_ge12t, ze_ge12f, ze_gt12t, ze_gt12f, ze_le12t, ze_le12f, ze_lt12t, ze_lt12f, ze_eq12p, ze_eq12f, ze_ge15t, ze_ge15f, ze_gt15t, ze_gt15f, ze_le15t, ze_le15f, ze_lt15t, ze_lt15f, ze_eq15p, ze_eq15f, ze_ge16t, ze_ge16f, ze_gt16t, ze_gt16f, ze_le16t, ze_le16f, ze_lt16t, ze_lt16f, ze_eq16p, ze_eq16f, ze_ge30t, ze_ge30f, ze_gt30t, ze_gt30f, ze_le30t, ze_le30f, ze_lt30t, ze_lt30f, ze_eq30p, ze_eq30f, ze_ge32t, ze_ge32f, ze_gt32t, ze_gt32f, ze_le32t, ze_le32f, ze_lt32t, ze_lt32f, ze_eq32p, ze_eq32f, ze_ge47t, ze_ge47f, ze_gt47t, ze_gt47f, ze_le47t, ze_le47f, ze_lt47t, ze_lt47f, ze_eq47p, ze_eq47f, ze_ge120t, ze_ge120f, ze_gt120t, ze_gt120f, ze_le120t, ze_le120f, ze_lt120t, ze_lt120f, ze_eq120p, ze_eq120f, ze_ge1024t, ze_ge1024f, ze_gt1024t, ze_gt1024f, ze_le1024t, ze_le1024f, ze_lt1024t, ze_lt1024f, ze_eq1024p, ze_eq1024f, ze_let, ze_lef, ze_ltt, ze_ltf, ze_eqt, ze_eqf, ze_m1_lt0, ze_m1_n0le, ze_m1_le0, ze_m1_le, ze_m1_lt, ze_m1_nle, ze_m1_nlt, ze_m1_ne, ze_m1_en, ze_m1_ne4, ze_m1_ne0, ze_nz6, ze_nz10, ze_nz12, ze_nz16, ze_nz32, ze_nz192, ze_1ne0, ze_0ne1, ze_0ne4, ↓ze_rem6, ↓ze_rem10, ↓ze_rem16, ↓ze_rem32, ↓ze_rem12, ze_div6, ze_div10, ze_div12, ze_div16, ze_div32, ze_div192, ze_mul3, ze_mul4, ze_mul6, ze_mul10, ze_mul12, ze_mul16, ze_mul17, ze_mul32, ze_mul60, ze_mulr6, ze_nrem6, ze_mulr10, ze_nrem10, ze_mulr12, ze_nrem12, ze_mulr16, ze_nrem16, ze_mulr32, ze_nrem32, nI_add, ze_add1, ze_add6, ze_add7, ze_add8, ze_add12, ze_add16, ze_add0, ze_radd0, ze_radd8, ze_sub1, ze_m1, ze_0sub1, ze_m1add1, ze_1sub, ze_2sub, pk_sub, ze_and3, ze_and7, ze_and31, ze_and127, ↓ze_shr2, ↓ze_shr3, ↓ze_shr5, ↓ze_shl3, ze_i8, ze_nby, ze_i8m1, ze_i80, ze_nbm1, ze_i16, ze_nsh, ze_nb0, ze_nt0, ze_nt1, ze_cl0, ze_cl1, nI_clamp, vp_in_nI, forall_eq, true_implies, false_implies, not_true_eq_false, not_false_eq_true, and_true, true_and, implies_true, and_self, forall_const, Classical.not_not]
        exact h
      · unfold wpY_object; dsimp only
        simp (disch := omega) only [ze_ge0t, ze_gt0t, ze_gt0f, ze_le0t, ze_le0f, ze_lt0f, ze_eq0p, ze_eq0f, ze_ge1t, ze_ge1f, ze_gt1t, ze_gt1f, ze_le1t, ze_le1f, ze_lt1t, ze_lt1f, ze_eq1p, ze_eq1f, ze_ge2t, ze_ge2f, ze_gt2t, ze_gt2f, ze_le2t, ze_le2f, ze_lt2t, ze_lt2f, ze_eq2p, ze_eq2f, ze_ge3t, ze_ge3f, ze_gt3t, ze_gt3f, ze_le3t, ze_le3f, ze_lt3t, ze_lt3f, ze_eq3p, ze_eq3f, ze_ge4t, ze_ge4f, ze_gt4t, ze_gt4f, ze_le4t, ze_le4f, ze_lt4t, ze_lt4f, ze_eq4p, ze_eq4f, ze_ge5t, ze_ge5f, ze_gt5t, ze_gt5f, ze_le5t, ze_le5f, ze_lt5t, ze_lt5f, ze_eq5p, ze_eq5f, ze_ge6t, ze_ge6f, ze_gt6t, ze_gt6f, ze_le6t, ze_le6f, ze_lt6t, ze_lt6f, ze_eq6p, ze_eq6f, ze_ge7t, ze_ge7f, ze_gt7t, ze_gt7f, ze_le7t, ze_le7f, ze_lt7t, ze_lt7f, ze_eq7p, ze_eq7f, ze_ge9t, ze_ge9f, ze_gt9t, ze_gt9f, ze_le9t, ze_le9f, ze_lt9t, ze_lt9f, ze_eq9p, ze_eq9f, ze_ge10t, ze_ge10f, ze_gt10t, ze_gt10f, ze_le10t, ze_le10f, ze_lt10t, ze_lt10f, ze_eq10p, ze_eq10f, ze_ge12t, ze_ge12f, ze_gt12t, ze_gt12f, ze_le12t, ze_le12f, ze_lt12t, ze_lt12f, ze_eq12p, ze_eq12f, ze_ge15t, ze_ge15f, ze_gt15t, ze_gt15f, ze_le15t, ze_le15f, ze_lt15t, ze_lt15f, ze_eq15p, ze_eq15f, ze_ge16t, ze_ge16f, ze_gt16t, ze_gt16f, ze_le16t, ze_le16f, ze_lt16t, ze_lt16f, ze_eq16p, ze_eq16f, ze_ge30t, ze_ge30f, ze_gt30t, ze_gt30f, ze_le30t, ze_le30f, ze_lt30t, ze_lt30f, ze_eq30p, ze_eq30f, ze_ge32t, ze_ge32f, ze_gt32t, ze_gt32f, ze_le32t, ze_le32f, ze_lt32t, ze_lt32f, ze_eq32p, ze_eq32f, ze_ge47t, ze_ge47f, ze_gt47t, ze_gt47f, ze_le47t, ze_le47f, ze_lt47t, ze_lt47f, ze_eq47p, ze_eq47f, ze_ge120t, ze_ge120f, ze_gt120t, ze_gt120f, ze_le120t, ze_le120f, ze_lt120t, ze_lt120f, ze_eq120p, ze_eq120f, ze_ge1024t, ze_ge1024f, ze_gt1024t, ze_gt1024f, ze_le1024t, ze_le1024f, ze_lt1024t, ze_lt1024f, ze_eq1024p, ze_eq1024f, ze_let, ze_lef, ze_ltt, ze_ltf, ze_eqt, ze_eqf, ze_m1_lt0, ze_m1_n0le, ze_m1_le0, ze_m1_le, ze_m1_lt, ze_m1_nle, ze_m1_nlt, ze_m1_ne, ze_m1_en, ze_m1_ne4, ze_m1_ne0, ze_nz6, ze_nz10, ze_nz12, ze_nz16, ze_nz32, ze_nz192, ze_1ne0, ze_0ne1, ze_0ne4, ↓ze_rem6, ↓ze_rem10, ↓ze_rem16, ↓ze_rem32, ↓ze_rem12, ze_div6, ze_div10, ze_div12, ze_div16, ze_div32, ze_div192, ze_mul3, ze_mul4, ze_mul6, ze_mul10, ze_mul12, ze_mul16, ze_mul17, ze_mul32, ze_mul60, ze_mulr6, ze_nrem6, ze_mulr10, ze_nrem10, ze_mulr12, ze_nrem12, ze_mulr16, ze_nrem16, ze_mulr32, ze_nrem32, nI_add, ze_add1, ze_add6, ze_add7, ze_add8, ze_add12, ze_add16, ze_add0, ze_radd0, ze_radd8, ze_sub1, ze_m1, ze_0sub1, ze_m1add1, ze_1sub, ze_2sub, pk_sub, ze_and3, ze_and7, ze_and31, ze_and127, ↓ze_shr2, ↓ze_shr3, ↓ze_shr5, ↓ze_shl3, ze_i8, ze_nby, ze_i8m1, ze_i80, ze_nbm1, ze_i16, ze_nsh, ze_nb0, ze_nt0, ze_nt1, ze_cl0, ze_cl1, nI_clamp, vp_in_nI, forall_eq, true_implies, false_implies, not_true_eq_false, not_false_eq_true, and_true, true_and, implies_true, and_self, forall_const, Classical.not_not]
        exact h
theorem gx_idOf {post : Int32 → Prop} {o : Nat} (ho : o < 32) (h : post (nI (o / 16 * 32 + o % 16))) : wpX_idOf post (nI o) := by
  unfold wpX_idOf
  by_cases z : 16 ≤ o
  · simp (disch := omega) only [ze_ge0t, ze_gt0t, ze_gt0f, ze_le0t, ze_le0f, ze_lt0f, ze_eq0p, ze_eq0f, ze_ge1t, ze_ge1f, ze_gt1t, ze_gt1f, ze_le1t, ze_le1f, ze_lt1t, ze_lt1f, ze_eq1p, ze_eq1f, ze_ge2t, ze_ge2f, ze_gt2t, ze_gt2f, ze_le2t, ze_le2f, ze_lt2t, ze_lt2f, ze_eq2p, ze_eq2f, ze_ge3t, ze_ge3f, ze_gt3t, ze_gt3f, ze_le3t, ze_le3f, ze_lt3t, ze_lt3f, ze_eq3p, ze_eq3f, ze_ge4t, ze_ge4f, ze_gt4t, ze_gt4f, ze_le4t, ze_le4f, ze_lt4t, ze_lt4f, ze_eq4p, ze_eq4f, ze_ge5t, ze_ge5f, ze_gt5t, ze_gt5f, ze_le5t, ze_le5f, ze_lt5t, ze_lt5f, ze_eq5p, ze_eq5f, ze_ge6t, ze_ge6f, ze_gt6t, ze_gt6f, ze_le6t, ze_le6f, ze_lt6t, ze_lt6f, ze_eq6p, ze_eq6f, ze_ge7t, ze_ge7f, ze_gt7t, ze_gt7f, ze_le7t, ze_le7f, ze_lt7t, ze_lt7f, ze_eq7p, ze_eq7f, ze_ge9t, ze_ge9f, ze_gt9t, ze_gt9f, ze_le9t, ze_le9f, ze_lt9t, ze_lt9f, ze_eq9p, ze_eq9f, ze_ge10t, ze_ge10f, ze_gt10t, ze_gt10f, ze_le10t, ze_le10f, ze_lt10t, ze_lt10f, ze_eq10p, ze_eq10f, ze_ge12t, ze_ge12f, ze_gt12t, ze_gt12f, ze_le12t, ze_le12f, ze_lt12t, ze_lt12f, ze_eq12p, ze_eq12f, ze_ge15t, ze_ge15f, ze_gt15t, ze_gt15f, ze_le15t, ze_le15f, ze_lt15t, ze_lt15f, ze_eq15p, ze_eq15f, ze_ge16t, ze_ge16f, ze_gt16t, ze_gt16f, ze_le16t, ze_le16f, ze_lt16t, ze_lt16f, ze_eq16p, ze_eq16f, ze_ge30t, ze_ge30f, ze_gt30t, ze_gt30f, ze_le30t, ze_le30f, ze_lt30t, ze_lt30f, ze_eq30p, ze_eq30f, ze_ge32t, ze_ge32f, ze_gt32t, ze_gt32f, ze_le32t, ze_le32f, ze_lt32t, ze_lt32f, ze_eq32p, ze_eq32f, ze_ge47t, ze_ge47f, ze_gt47t, ze_gt47f, ze_le47t, ze_le47f, ze_lt47t, ze_lt47f, ze_eq47p, ze_eq47f, ze_ge120t, ze_ge120f, ze_gt120t, ze_gt120f, ze_le120t, ze_le120f, ze_lt120t, ze_lt120f, ze_eq120p, ze_eq120f, ze_ge1024t, ze_ge1024f, ze_gt1024t, ze_gt1024f, ze_le1024t, ze_le1024f, ze_lt1024t, ze_lt1024f, ze_eq1024p, ze_eq1024f, ze_let, ze_lef, ze_ltt, ze_ltf, ze_eqt, ze_eqf, ze_m1_lt0, ze_m1_n0le, ze_m1_le0, ze_m1_le, ze_m1_lt, ze_m1_nle, ze_m1_nlt, ze_m1_ne, ze_m1_en, ze_m1_ne4, ze_m1_ne0, ze_nz6, ze_nz10, ze_nz12, ze_nz16, ze_nz32, ze_nz192, ze_1ne0, ze_0ne1, ze_0ne4, ↓ze_rem6, ↓ze_rem10, ↓ze_rem16, ↓ze_rem32, ↓ze_rem12, ze_div6, ze_div10, ze_div12, ze_div16, ze_div32, ze_div192, ze_mul3, ze_mul4, ze_mul6, ze_mul10, ze_mul12, ze_mul16, ze_mul17, ze_mul32, ze_mul60, ze_mulr6, ze_nrem6, ze_mulr10, ze_nrem10, ze_mulr12, ze_nrem12, ze_mulr16, ze_nrem16, ze_mulr32, ze_nrem32, nI_add, ze_add1, ze_add6, ze_add7, ze_add8, ze_add12, ze_add16, ze_add0, ze_radd0, ze_radd8, ze_sub1, ze_m1, ze_0sub1, ze_m1add1, ze_1sub, ze_2sub, pk_sub, ze_and3, ze_and7, ze_and31, ze_and127, ↓ze_shr2, ↓ze_shr3, ↓ze_shr5, ↓ze_shl3, ze_i8, ze_nby, ze_i8m1, ze_i80, ze_nbm1, ze_i16, ze_nsh, ze_nb0, ze_nt0, ze_nt1, ze_cl0, ze_cl1, nI_clamp, vp_in_nI, forall_eq, true_implies, false_implies, not_true_eq_false, not_false_eq_true, and_true, true_and, implies_true, and_self, forall_const, Classical.not_not]
    rw [show o + 16 = o / 16 * 32 + o % 16 from by omega]; exact h
  · simp (disch := omega) only [ze_ge0t, ze_gt0t, ze_gt0f, ze_le0t, ze_le0f, ze_lt0f, ze_eq0p, ze_eq0f, ze_ge1t, ze_ge1f, ze_gt1t, ze_gt1f, ze_le1t, ze_le1f, ze_lt1t, ze_lt1f, ze_eq1p, ze_eq1f, ze_ge2t, ze_ge2f, ze_gt2t, ze_gt2f, ze_le2t, ze_le2f, ze_lt2t, ze_lt2f, ze_eq2p, ze_eq2f, ze_ge3t, ze_ge3f, ze_gt3t, ze_gt3f, ze_le3t, ze_le3f, ze_lt3t, ze_lt3f, ze_eq3p, ze_eq3f, ze_ge4t, ze_ge4f, ze_gt4t, ze_gt4f, ze_le4t, ze_le4f, ze_lt4t, ze_lt4f, ze_eq4p, ze_eq4f, ze_ge5t, ze_ge5f, ze_gt5t, ze_gt5f, ze_le5t, ze_le5f, ze_lt5t, ze_lt5f, ze_eq5p, ze_eq5f, ze_ge6t, ze_ge6f, ze_gt6t, ze_gt6f, ze_le6t, ze_le6f, ze_lt6t, ze_lt6f, ze_eq6p, ze_eq6f, ze_ge7t, ze_ge7f, ze_gt7t, ze_gt7f, ze_le7t, ze_le7f, ze_lt7t, ze_lt7f, ze_eq7p, ze_eq7f, ze_ge9t, ze_ge9f, ze_gt9t, ze_gt9f, ze_le9t, ze_le9f, ze_lt9t, ze_lt9f, ze_eq9p, ze_eq9f, ze_ge10t, ze_ge10f, ze_gt10t, ze_gt10f, ze_le10t, ze_le10f, ze_lt10t, ze_lt10f, ze_eq10p, ze_eq10f, ze_ge12t, ze_ge12f, ze_gt12t, ze_gt12f, ze_le12t, ze_le12f, ze_lt12t, ze_lt12f, ze_eq12p, ze_eq12f, ze_ge15t, ze_ge15f, ze_gt15t, ze_gt15f, ze_le15t, ze_le15f, ze_lt15t, ze_lt15f, ze_eq15p, ze_eq15f, ze_ge16t, ze_ge16f, ze_gt16t, ze_gt16f, ze_le16t, ze_le16f, ze_lt16t, ze_lt16f, ze_eq16p, ze_eq16f, ze_ge30t, ze_ge30f, ze_gt30t, ze_gt30f, ze_le30t, ze_le30f, ze_lt30t, ze_lt30f, ze_eq30p, ze_eq30f, ze_ge32t, ze_ge32f, ze_gt32t, ze_gt32f, ze_le32t, ze_le32f, ze_lt32t, ze_lt32f, ze_eq32p, ze_eq32f, ze_ge47t, ze_ge47f, ze_gt47t, ze_gt47f, ze_le47t, ze_le47f, ze_lt47t, ze_lt47f, ze_eq47p, ze_eq47f, ze_ge120t, ze_ge120f, ze_gt120t, ze_gt120f, ze_le120t, ze_le120f, ze_lt120t, ze_lt120f, ze_eq120p, ze_eq120f, ze_ge1024t, ze_ge1024f, ze_gt1024t, ze_gt1024f, ze_le1024t, ze_le1024f, ze_lt1024t, ze_lt1024f, ze_eq1024p, ze_eq1024f, ze_let, ze_lef, ze_ltt, ze_ltf, ze_eqt, ze_eqf, ze_m1_lt0, ze_m1_n0le, ze_m1_le0, ze_m1_le, ze_m1_lt, ze_m1_nle, ze_m1_nlt, ze_m1_ne, ze_m1_en, ze_m1_ne4, ze_m1_ne0, ze_nz6, ze_nz10, ze_nz12, ze_nz16, ze_nz32, ze_nz192, ze_1ne0, ze_0ne1, ze_0ne4, ↓ze_rem6, ↓ze_rem10, ↓ze_rem16, ↓ze_rem32, ↓ze_rem12, ze_div6, ze_div10, ze_div12, ze_div16, ze_div32, ze_div192, ze_mul3, ze_mul4, ze_mul6, ze_mul10, ze_mul12, ze_mul16, ze_mul17, ze_mul32, ze_mul60, ze_mulr6, ze_nrem6, ze_mulr10, ze_nrem10, ze_mulr12, ze_nrem12, ze_mulr16, ze_nrem16, ze_mulr32, ze_nrem32, nI_add, ze_add1, ze_add6, ze_add7, ze_add8, ze_add12, ze_add16, ze_add0, ze_radd0, ze_radd8, ze_sub1, ze_m1, ze_0sub1, ze_m1add1, ze_1sub, ze_2sub, pk_sub, ze_and3, ze_and7, ze_and31, ze_and127, ↓ze_shr2, ↓ze_shr3, ↓ze_shr5, ↓ze_shl3, ze_i8, ze_nby, ze_i8m1, ze_i80, ze_nbm1, ze_i16, ze_nsh, ze_nb0, ze_nt0, ze_nt1, ze_cl0, ze_cl1, nI_clamp, vp_in_nI, forall_eq, true_implies, false_implies, not_true_eq_false, not_false_eq_true, and_true, true_and, implies_true, and_self, forall_const, Classical.not_not]
    rw [show o / 16 * 32 + o % 16 = o from by omega] at h; exact h
theorem gy_id {post : Int32 → Prop} {o : Nat} (ho : o < 32) (h : post (nI (o / 16 * 32 + o % 16))) : wpY_id post (g_culprit, g_depth, g_lastMade, b_defined, b_version, b_parent, b_own, b_latest, b_cls, b_partner, b_pinned, b_arrived, b_val, b_from, b_made, b_done, b_rows) (nI o) := by
  unfold wpY_id; dsimp only
  simp (disch := omega) only [ze_ge0t, ze_gt0t, ze_gt0f, ze_le0t, ze_le0f, ze_lt0f, ze_eq0p, ze_eq0f, ze_ge1t, ze_ge1f, ze_gt1t, ze_gt1f, ze_le1t, ze_le1f, ze_lt1t, ze_lt1f, ze_eq1p, ze_eq1f, ze_ge2t, ze_ge2f, ze_gt2t, ze_gt2f, ze_le2t, ze_le2f, ze_lt2t, ze_lt2f, ze_eq2p, ze_eq2f, ze_ge3t, ze_ge3f, ze_gt3t, ze_gt3f, ze_le3t, ze_le3f, ze_lt3t, ze_lt3f, ze_eq3p, ze_eq3f, ze_ge4t, ze_ge4f, ze_gt4t, ze_gt4f, ze_le4t, ze_le4f, ze_lt4t, ze_lt4f, ze_eq4p, ze_eq4f, ze_ge5t, ze_ge5f, ze_gt5t, ze_gt5f, ze_le5t, ze_le5f, ze_lt5t, ze_lt5f, ze_eq5p, ze_eq5f, ze_ge6t, ze_ge6f, ze_gt6t, ze_gt6f, ze_le6t, ze_le6f, ze_lt6t, ze_lt6f, ze_eq6p, ze_eq6f, ze_ge7t, ze_ge7f, ze_gt7t, ze_gt7f, ze_le7t, ze_le7f, ze_lt7t, ze_lt7f, ze_eq7p, ze_eq7f, ze_ge9t, ze_ge9f, ze_gt9t, ze_gt9f, ze_le9t, ze_le9f, ze_lt9t, ze_lt9f, ze_eq9p, ze_eq9f, ze_ge10t, ze_ge10f, ze_gt10t, ze_gt10f, ze_le10t, ze_le10f, ze_lt10t, ze_lt10f, ze_eq10p, ze_eq10f, ze_ge12t, ze_ge12f, ze_gt12t, ze_gt12f, ze_le12t, ze_le12f, ze_lt12t, ze_lt12f, ze_eq12p, ze_eq12f, ze_ge15t, ze_ge15f, ze_gt15t, ze_gt15f, ze_le15t, ze_le15f, ze_lt15t, ze_lt15f, ze_eq15p, ze_eq15f, ze_ge16t, ze_ge16f, ze_gt16t, ze_gt16f, ze_le16t, ze_le16f, ze_lt16t, ze_lt16f, ze_eq16p, ze_eq16f, ze_ge30t, ze_ge30f, ze_gt30t, ze_gt30f, ze_le30t, ze_le30f, ze_lt30t, ze_lt30f, ze_eq30p, ze_eq30f, ze_ge32t, ze_ge32f, ze_gt32t, ze_gt32f, ze_le32t, ze_le32f, ze_lt32t, ze_lt32f, ze_eq32p, ze_eq32f, ze_ge47t, ze_ge47f, ze_gt47t, ze_gt47f, ze_le47t, ze_le47f, ze_lt47t, ze_lt47f, ze_eq47p, ze_eq47f, ze_ge120t, ze_ge120f, ze_gt120t, ze_gt120f, ze_le120t, ze_le120f, ze_lt120t, ze_lt120f, ze_eq120p, ze_eq120f, ze_ge1024t, ze_ge1024f, ze_gt1024t, ze_gt1024f, ze_le1024t, ze_le1024f, ze_lt1024t, ze_lt1024f, ze_eq1024p, ze_eq1024f, ze_let, ze_lef, ze_ltt, ze_ltf, ze_eqt, ze_eqf, ze_m1_lt0, ze_m1_n0le, ze_m1_le0, ze_m1_le, ze_m1_lt, ze_m1_nle, ze_m1_nlt, ze_m1_ne, ze_m1_en, ze_m1_ne4, ze_m1_ne0, ze_nz6, ze_nz10, ze_nz12, ze_nz16, ze_nz32, ze_nz192, ze_1ne0, ze_0ne1, ze_0ne4, ↓ze_rem6, ↓ze_rem10, ↓ze_rem16, ↓ze_rem32, ↓ze_rem12, ze_div6, ze_div10, ze_div12, ze_div16, ze_div32, ze_div192, ze_mul3, ze_mul4, ze_mul6, ze_mul10, ze_mul12, ze_mul16, ze_mul17, ze_mul32, ze_mul60, ze_mulr6, ze_nrem6, ze_mulr10, ze_nrem10, ze_mulr12, ze_nrem12, ze_mulr16, ze_nrem16, ze_mulr32, ze_nrem32, nI_add, ze_add1, ze_add6, ze_add7, ze_add8, ze_add12, ze_add16, ze_add0, ze_radd0, ze_radd8, ze_sub1, ze_m1, ze_0sub1, ze_m1add1, ze_1sub, ze_2sub, pk_sub, ze_and3, ze_and7, ze_and31, ze_and127, ↓ze_shr2, ↓ze_shr3, ↓ze_shr5, ↓ze_shl3, ze_i8, ze_nby, ze_i8m1, ze_i80, ze_nbm1, ze_i16, ze_nsh, ze_nb0, ze_nt0, ze_nt1, ze_cl0, ze_cl1, nI_clamp, vp_in_nI, forall_eq, true_implies, false_implies, not_true_eq_false, not_false_eq_true, and_true, true_and, implies_true, and_self, forall_const, Classical.not_not]
  exact h
theorem gy_kindOf {post : Int32 → Prop} (HW : gw_W b_defined lv up nf nm kd) (HY : gw_CY b_defined b_parent b_own lv up nf nm kd) (HO : gw_O b_defined a_oClass b_cls) {o : Nat} {x : Int32} (ho : o < 32) (ha : a_oClass o ≠ -1)
    (K : ∀ r, gw_KO lv up nf nm kd (gw_kl a_oClass o) x r → post r) : wpY_kindOf post (g_culprit, g_depth, g_lastMade, b_defined, b_version, b_parent, b_own, b_latest, b_cls, b_partner, b_pinned, b_arrived, b_val, b_from, b_made, b_done, b_rows) (nI o) x := by
  obtain ⟨h1, h2, h3, h4, h5⟩ := gw_O_al HO ho ha
  have e : 6 * (o / 16) + gw_kl a_oClass o % 6 = gw_kl a_oClass o := by omega
  unfold wpY_kindOf; dsimp only
  simp (disch := omega) only [ze_ge0t, ze_gt0t, ze_gt0f, ze_le0t, ze_le0f, ze_lt0f, ze_eq0p, ze_eq0f, ze_ge1t, ze_ge1f, ze_gt1t, ze_gt1f, ze_le1t, ze_le1f, ze_lt1t, ze_lt1f, ze_eq1p, ze_eq1f, ze_ge2t, ze_ge2f, ze_gt2t, ze_gt2f, ze_le2t, ze_le2f, ze_lt2t, ze_lt2f, ze_eq2p, ze_eq2f, ze_ge3t, ze_ge3f, ze_gt3t, ze_gt3f, ze_le3t, ze_le3f, ze_lt3t, ze_lt3f, ze_eq3p, ze_eq3f, ze_ge4t, ze_ge4f, ze_gt4t, ze_gt4f, ze_le4t, ze_le4f, ze_lt4t, ze_lt4f, ze_eq4p, ze_eq4f, ze_ge5t, ze_ge5f, ze_gt5t, ze_gt5f, ze_le5t, ze_le5f, ze_lt5t, ze_lt5f, ze_eq5p, ze_eq5f, ze_ge6t, ze_ge6f, ze_gt6t, ze_gt6f, ze_le6t, ze_le6f, ze_lt6t, ze_lt6f, ze_eq6p, ze_eq6f, ze_ge7t, ze_ge7f, ze_gt7t, ze_gt7f, ze_le7t, ze_le7f, ze_lt7t, ze_lt7f, ze_eq7p, ze_eq7f, ze_ge9t, ze_ge9f, ze_gt9t, ze_gt9f, ze_le9t, ze_le9f, ze_lt9t, ze_lt9f, ze_eq9p, ze_eq9f, ze_ge10t, ze_ge10f, ze_gt10t, ze_gt10f, ze_le10t, ze_le10f, ze_lt10t, ze_lt10f, ze_eq10p, ze_eq10f, ze_ge12t, ze_ge12f, ze_gt12t, ze_gt12f, ze_le12t, ze_le12f, ze_lt12t, ze_lt12f, ze_eq12p, ze_eq12f, ze_ge15t, ze_ge15f, ze_gt15t, ze_gt15f, ze_le15t, ze_le15f, ze_lt15t, ze_lt15f, ze_eq15p, ze_eq15f, ze_ge16t, ze_ge16f, ze_gt16t, ze_gt16f, ze_le16t, ze_le16f, ze_lt16t, ze_lt16f, ze_eq16p, ze_eq16f, ze_ge30t, ze_ge30f, ze_gt30t, ze_gt30f, ze_le30t, ze_le30f, ze_lt30t, ze_lt30f, ze_eq30p, ze_eq30f, ze_ge32t, ze_ge32f, ze_gt32t, ze_gt32f, ze_le32t, ze_le32f, ze_lt32t, ze_lt32f, ze_eq32p, ze_eq32f, ze_ge47t, ze_ge47f, ze_gt47t, ze_gt47f, ze_le47t, ze_le47f, ze_lt47t, ze_lt47f, ze_eq47p, ze_eq47f, ze_ge120t, ze_ge120f, ze_gt120t, ze_gt120f, ze_le120t, ze_le120f, ze_lt120t, ze_lt120f, ze_eq120p, ze_eq120f, ze_ge1024t, ze_ge1024f, ze_gt1024t, ze_gt1024f, ze_le1024t, ze_le1024f, ze_lt1024t, ze_lt1024f, ze_eq1024p, ze_eq1024f, ze_let, ze_lef, ze_ltt, ze_ltf, ze_eqt, ze_eqf, ze_m1_lt0, ze_m1_n0le, ze_m1_le0, ze_m1_le, ze_m1_lt, ze_m1_nle, ze_m1_nlt, ze_m1_ne, ze_m1_en, ze_m1_ne4, ze_m1_ne0, ze_nz6, ze_nz10, ze_nz12, ze_nz16, ze_nz32, ze_nz192, ze_1ne0, ze_0ne1, ze_0ne4, ↓ze_rem6, ↓ze_rem10, ↓ze_rem16, ↓ze_rem32, ↓ze_rem12, ze_div6, ze_div10, ze_div12, ze_div16, ze_div32, ze_div192, ze_mul3, ze_mul4, ze_mul6, ze_mul10, ze_mul12, ze_mul16, ze_mul17, ze_mul32, ze_mul60, ze_mulr6, ze_nrem6, ze_mulr10, ze_nrem10, ze_mulr12, ze_nrem12, ze_mulr16, ze_nrem16, ze_mulr32, ze_nrem32, nI_add, ze_add1, ze_add6, ze_add7, ze_add8, ze_add12, ze_add16, ze_add0, ze_radd0, ze_radd8, ze_sub1, ze_m1, ze_0sub1, ze_m1add1, ze_1sub, ze_2sub, pk_sub, ze_and3, ze_and7, ze_and31, ze_and127, ↓ze_shr2, ↓ze_shr3, ↓ze_shr5, ↓ze_shl3, ze_i8, ze_nby, ze_i8m1, ze_i80, ze_nbm1, ze_i16, ze_nsh, ze_nb0, ze_nt0, ze_nt1, ze_cl0, ze_cl1, nI_clamp, vp_in_nI, forall_eq, true_implies, false_implies, not_true_eq_false, not_false_eq_true, and_true, true_and, implies_true, and_self, forall_const, Classical.not_not, h3]
  refine gy_kind HW HY (by omega) (by omega) (by rw [e]; exact h4) (fun r hr => ?_)
  rw [e] at hr
  exact K r hr
/-- a field of an object: none, or one, known to both -/
theorem gj_slot (HW : gw_W a_defined lv up nf nm kd) (HU : gw_U a_defined lv up nf nm) (HX : gw_CX a_defined a_parent a_level a_fields a_fName a_fKind lv up nf nm kd) (HY : gw_CY a_defined b_parent b_own lv up nf nm kd) (HO : gw_O a_defined a_oClass b_cls) (p x : Int32) :
    (∃ r, (∀ (post : Int32 → Prop) (b : Int32), post (-1) → wpX_slotOf post (f_end, f_at, f_written, f_read, f_error, f_culprit, f_nextHandle, f_depth, f_nTodo, a_defined, a_parent, a_level, a_version, a_fields, a_fName, a_fKind, a_latest, a_oClass, a_pinned, a_slot, a_handle, a_arrived, a_handles, a_described, a_dLevels, a_dFields, a_plan, a_wide, a_wire, a_order, a_made, a_sObj, a_sLev, a_sPos, a_sCls, a_pairs, a_todo) p x b) ∧ (∀ post : Int32 → Prop, post r → wpY_object post (f_culprit, g_depth, g_lastMade, a_defined, a_version, b_parent, b_own, a_latest, b_cls, b_partner, a_pinned, b_arrived, b_val, b_from, b_made, b_done, b_rows) p) ∧ (∀ post : Int32 → Prop, post (-1) → wpY_kindOf post (f_culprit, g_depth, g_lastMade, a_defined, a_version, b_parent, b_own, a_latest, b_cls, b_partner, a_pinned, b_arrived, b_val, b_from, b_made, b_done, b_rows) r x)) ∨
    (∃ o j k, o < 32 ∧ a_oClass o ≠ -1 ∧ j ≤ lv (gw_kl a_oClass o) ∧ k < nf (gw_al lv up (gw_kl a_oClass o) j) ∧ x = nI (nm (4 * gw_al lv up (gw_kl a_oClass o) j + k)) ∧
      (∀ post : Int32 → Prop, (kd (4 * gw_al lv up (gw_kl a_oClass o) j + k) = 4 → post (-1)) → (kd (4 * gw_al lv up (gw_kl a_oClass o) j + k) ≠ 4 → post (nI (12 * o + 4 * j + k))) → wpX_slotOf post (f_end, f_at, f_written, f_read, f_error, f_culprit, f_nextHandle, f_depth, f_nTodo, a_defined, a_parent, a_level, a_version, a_fields, a_fName, a_fKind, a_latest, a_oClass, a_pinned, a_slot, a_handle, a_arrived, a_handles, a_described, a_dLevels, a_dFields, a_plan, a_wide, a_wire, a_order, a_made, a_sObj, a_sLev, a_sPos, a_sCls, a_pairs, a_todo) p x 0) ∧
      (∀ post : Int32 → Prop, (kd (4 * gw_al lv up (gw_kl a_oClass o) j + k) ≠ 4 → post (-1)) → (kd (4 * gw_al lv up (gw_kl a_oClass o) j + k) = 4 → post (nI (12 * o + 4 * j + k))) → wpX_slotOf post (f_end, f_at, f_written, f_read, f_error, f_culprit, f_nextHandle, f_depth, f_nTodo, a_defined, a_parent, a_level, a_version, a_fields, a_fName, a_fKind, a_latest, a_oClass, a_pinned, a_slot, a_handle, a_arrived, a_handles, a_described, a_dLevels, a_dFields, a_plan, a_wide, a_wire, a_order, a_made, a_sObj, a_sLev, a_sPos, a_sCls, a_pairs, a_todo) p x 1) ∧
      (∀ post : Int32 → Prop, post (nI o) → wpY_object post (f_culprit, g_depth, g_lastMade, a_defined, a_version, b_parent, b_own, a_latest, b_cls, b_partner, a_pinned, b_arrived, b_val, b_from, b_made, b_done, b_rows) p) ∧ (∀ post : Int32 → Prop, post (nI (kd (4 * gw_al lv up (gw_kl a_oClass o) j + k))) → wpY_kindOf post (f_culprit, g_depth, g_lastMade, a_defined, a_version, b_parent, b_own, a_latest, b_cls, b_partner, a_pinned, b_arrived, b_val, b_from, b_made, b_done, b_rows) (nI o) x)) := by
  obtain ⟨r, hr, kx, ky⟩ : gj_OB a_oClass (f_end, f_at, f_written, f_read, f_error, f_culprit, f_nextHandle, f_depth, f_nTodo, a_defined, a_parent, a_level, a_version, a_fields, a_fName, a_fKind, a_latest, a_oClass, a_pinned, a_slot, a_handle, a_arrived, a_handles, a_described, a_dLevels, a_dFields, a_plan, a_wide, a_wire, a_order, a_made, a_sObj, a_sLev, a_sPos, a_sCls, a_pairs, a_todo) (f_culprit, g_depth, g_lastMade, a_defined, a_version, b_parent, b_own, a_latest, b_cls, b_partner, a_pinned, b_arrived, b_val, b_from, b_made, b_done, b_rows) p := gj_object HO p
  rcases hr with rfl | ⟨-, o, ho, rfl, ha⟩
  · refine Or.inl ⟨-1, fun post b h => ?_, ky, fun post h => ?_⟩
    · unfold wpX_slotOf; dsimp only
      refine kx _ (br_f (by decide) ?_)
      unfold wX_slotOf_28
      exact br_t (by decide) h
    · unfold wpY_kindOf; dsimp only
      exact br_f (by decide) h
  · obtain ⟨h1, h2, h3, h4, h5⟩ := gw_O_al HO ho ha
    rcases Classical.em (∃ j k, j ≤ lv (gw_kl a_oClass o) ∧ k < nf (gw_al lv up (gw_kl a_oClass o) j) ∧ x = nI (nm (4 * gw_al lv up (gw_kl a_oClass o) j + k))) with ⟨j, k, hj, hk, ex⟩ | no
    · obtain ⟨m1, m2, m3, m4⟩ := gw_al_ok HW h1 h4 hj
      have f1 := (HW _ m1).1
      have l1 := (HW _ h1).2.2.2.2.1
      have g1 := (HW _ m1).2.2.1 k hk
      have key : ∀ (post : Int32 → Prop) (b : Int32), (kd (4 * gw_al lv up (gw_kl a_oClass o) j + k) = 4 → wX_slotOf_57 post b (nI o) (nI (4 * j + k)) 1 f_end f_at f_written f_read f_error f_culprit f_nextHandle f_depth f_nTodo a_defined a_parent a_level a_version a_fields a_fName a_fKind a_latest a_oClass a_pinned a_slot a_handle a_arrived a_handles a_described a_dLevels a_dFields a_plan a_wide a_wire a_order a_made a_sObj a_sLev a_sPos a_sCls a_pairs a_todo) → (kd (4 * gw_al lv up (gw_kl a_oClass o) j + k) ≠ 4 → wX_slotOf_57 post b (nI o) (nI (4 * j + k)) 0 f_end f_at f_written f_read f_error f_culprit f_nextHandle f_depth f_nTodo a_defined a_parent a_level a_version a_fields a_fName a_fKind a_latest a_oClass a_pinned a_slot a_handle a_arrived a_handles a_described a_dLevels a_dFields a_plan a_wide a_wire a_order a_made a_sObj a_sLev a_sPos a_sCls a_pairs a_todo) → wpX_slotOf post (f_end, f_at, f_written, f_read, f_error, f_culprit, f_nextHandle, f_depth, f_nTodo, a_defined, a_parent, a_level, a_version, a_fields, a_fName, a_fKind, a_latest, a_oClass, a_pinned, a_slot, a_handle, a_arrived, a_handles, a_described, a_dLevels, a_dFields, a_plan, a_wide, a_wire, a_order, a_made, a_sObj, a_sLev, a_sPos, a_sCls, a_pairs, a_todo) p x b := by
        intro post b k1 k0
        unfold wpX_slotOf; dsimp only
        refine kx _ (br_t (nI_pos' (by omega)) ⟨vp_in_nI ho (by decide), ?_⟩)
        rw [nI_clamp (by omega), h2]
        refine gx_place HW HX h1 h4 (fun r hr => ?_)
        rcases hr with ⟨j', k', hj', hk', ex', er⟩ | ⟨-, hr⟩
        · obtain ⟨n1, -⟩ := gw_al_ok HW h1 h4 hj'
          have g2 := (HW _ n1).2.2.1 k' hk'
          obtain ⟨rfl, rfl⟩ := gw_one HW HU h1 h4 hj' hj hk' hk ((nI_eq (by omega) (by omega)).mp (ex'.symm.trans ex))
          subst er
          unfold wX_slotOf_28
          refine br_f (nI_pos (by omega)) ⟨vp_in_nI ho (by decide), ?_⟩
          rw [nI_clamp (by omega), h2]
          refine gx_kindAt HW HX h1 h4 hj hk ?_
          by_cases z : kd (4 * gw_al lv up (gw_kl a_oClass o) j' + k') = 4
          · exact br_t (ze_eq4t z) (k1 z)
          · exact br_f (ze_eq4f z (by omega)) (k0 z)
        · exact absurd ex (hr j k hj hk)
      refine Or.inr ⟨o, j, k, ho, ha, hj, hk, ex, fun post k1 k0 => key post 0 (fun z => ?_) (fun z => ?_), fun post k1 k0 => key post 1 (fun z => ?_) (fun z => ?_), ky, fun post h => gy_kindOf HW HY HO ho ha (fun r hr => ?_)⟩
      · exact br_f (by decide) (k1 z)
      · have := k0 z
        refine br_t rfl ?_
        simp (disch := omega) only [ze_ge0t, ze_gt0t, ze_gt0f, ze_le0t, ze_le0f, ze_lt0f, ze_eq0p, ze_eq0f, ze_ge1t, ze_ge1f, ze_gt1t, ze_gt1f, ze_le1t, ze_le1f, ze_lt1t, ze_lt1f, ze_eq1p, ze_eq1f, ze_ge2t, ze_ge2f, ze_gt2t, ze_gt2f, ze_le2t, ze_le2f, ze_lt2t, ze_lt2f, ze_eq2p, ze_eq2f, ze_ge3t, ze_ge3f, ze_gt3t, ze_gt3f, ze_le3t, ze_le3f, ze_lt3t, ze_lt3f, ze_eq3p, ze_eq3f, ze_ge4t, ze_ge4f, ze_gt4t, ze_gt4f, ze_le4t, ze_le4f, ze_lt4t, ze_lt4f, ze_eq4p, ze_eq4f, ze_ge5t, ze_ge5f, ze_gt5t, ze_gt5f, ze_le5t, ze_le5f, ze_lt5t, ze_lt5f, ze_eq5p, ze_eq5f, ze_ge6t, ze_ge6f, ze_gt6t, ze_gt6f, ze_le6t, ze_le6f, ze_lt6t, ze_lt6f, ze_eq6p, ze_eq6f, ze_ge7t, ze_ge7f, ze_gt7t, ze_gt7f, ze_le7t, ze_le7f, ze_lt7t, ze_lt7f, ze_eq7p, ze_eq7f, ze_ge9t, ze_ge9f, ze_gt9t, ze_gt9f, ze_le9t, ze_le9f, ze_lt9t, ze_lt9f, ze_eq9p, ze_eq9f, ze_ge10t, ze_ge10f, ze_gt10t, ze_gt10f, ze_le10t, ze_le10f, ze_lt10t, ze_lt10f, ze_eq10p, ze_eq10f, ze_ge12t, ze_ge12f, ze_gt12t, ze_gt12f, ze_le12t, ze_le12f, ze_lt12t, ze_lt12f, ze_eq12p, ze_eq12f, ze_ge15t, ze_ge15f, ze_gt15t, ze_gt15f, ze_le15t, ze_le15f, ze_lt15t, ze_lt15f, ze_eq15p, ze_eq15f, ze_ge16t, ze_ge16f, ze_gt16t, ze_gt16f, ze_le16t, ze_le16f, ze_lt16t, ze_lt16f, ze_eq16p, ze_eq16f, ze_ge30t, ze_ge30f, ze_gt30t, ze_gt30f, ze_le30t, ze_le30f, ze_lt30t, ze_lt30f, ze_eq30p, ze_eq30f, ze_ge32t, ze_ge32f, ze_gt32t, ze_gt32f, ze_le32t, ze_le32f, ze_lt32t, ze_lt32f, ze_eq32p, ze_eq32f, ze_ge47t, ze_ge47f, ze_gt47t, ze_gt47f, ze_le47t, ze_le47f, ze_lt47t, ze_lt47f, ze_eq47p, ze_eq47f, ze_ge120t, ze_ge120f, ze_gt120t, ze_gt120f, ze_le120t, ze_le120f, ze_lt120t, ze_lt120f, ze_eq120p, ze_eq120f, ze_ge1024t, ze_ge1024f, ze_gt1024t, ze_gt1024f, ze_le1024t, ze_le1024f, ze_lt1024t, ze_lt1024f, ze_eq1024p, ze_eq1024f, ze_let, ze_lef, ze_ltt, ze_ltf, ze_eqt, ze_eqf, ze_m1_lt0, ze_m1_n0le, ze_m1_le0, ze_m1_le, ze_m1_lt, ze_m1_nle, ze_m1_nlt, ze_m1_ne, ze_m1_en, ze_m1_ne4, ze_m1_ne0, ze_nz6, ze_nz10, ze_nz12, ze_nz16, ze_nz32, ze_nz192, ze_1ne0, ze_0ne1, ze_0ne4, ↓ze_rem6, ↓ze_rem10, ↓ze_rem16, ↓ze_rem32, ↓ze_rem12, ze_div6, ze_div10, ze_div12, ze_div16, ze_div32, ze_div192, ze_mul3, ze_mul4, ze_mul6, ze_mul10, ze_mul12, ze_mul16, ze_mul17, ze_mul32, ze_mul60, ze_mulr6, ze_nrem6, ze_mulr10, ze_nrem10, ze_mulr12, ze_nrem12, ze_mulr16, ze_nrem16, ze_mulr32, ze_nrem32, nI_add, ze_add1, ze_add6, ze_add7, ze_add8, ze_add12, ze_add16, ze_add0, ze_radd0, ze_radd8, ze_sub1, ze_m1, ze_0sub1, ze_m1add1, ze_1sub, ze_2sub, pk_sub, ze_and3, ze_and7, ze_and31, ze_and127, ↓ze_shr2, ↓ze_shr3, ↓ze_shr5, ↓ze_shl3, ze_i8, ze_nby, ze_i8m1, ze_i80, ze_nbm1, ze_i16, ze_nsh, ze_nb0, ze_nt0, ze_nt1, ze_cl0, ze_cl1, nI_clamp, vp_in_nI, forall_eq, true_implies, false_implies, not_true_eq_false, not_false_eq_true, and_true, true_and, implies_true, and_self, forall_const, Classical.not_not]
        rw [← Nat.add_assoc]; exact this
      · have := k0 z
        refine br_t rfl ?_
        simp (disch := omega) only [ze_ge0t, ze_gt0t, ze_gt0f, ze_le0t, ze_le0f, ze_lt0f, ze_eq0p, ze_eq0f, ze_ge1t, ze_ge1f, ze_gt1t, ze_gt1f, ze_le1t, ze_le1f, ze_lt1t, ze_lt1f, ze_eq1p, ze_eq1f, ze_ge2t, ze_ge2f, ze_gt2t, ze_gt2f, ze_le2t, ze_le2f, ze_lt2t, ze_lt2f, ze_eq2p, ze_eq2f, ze_ge3t, ze_ge3f, ze_gt3t, ze_gt3f, ze_le3t, ze_le3f, ze_lt3t, ze_lt3f, ze_eq3p, ze_eq3f, ze_ge4t, ze_ge4f, ze_gt4t, ze_gt4f, ze_le4t, ze_le4f, ze_lt4t, ze_lt4f, ze_eq4p, ze_eq4f, ze_ge5t, ze_ge5f, ze_gt5t, ze_gt5f, ze_le5t, ze_le5f, ze_lt5t, ze_lt5f, ze_eq5p, ze_eq5f, ze_ge6t, ze_ge6f, ze_gt6t, ze_gt6f, ze_le6t, ze_le6f, ze_lt6t, ze_lt6f, ze_eq6p, ze_eq6f, ze_ge7t, ze_ge7f, ze_gt7t, ze_gt7f, ze_le7t, ze_le7f, ze_lt7t, ze_lt7f, ze_eq7p, ze_eq7f, ze_ge9t, ze_ge9f, ze_gt9t, ze_gt9f, ze_le9t, ze_le9f, ze_lt9t, ze_lt9f, ze_eq9p, ze_eq9f, ze_ge10t, ze_ge10f, ze_gt10t, ze_gt10f, ze_le10t, ze_le10f, ze_lt10t, ze_lt10f, ze_eq10p, ze_eq10f, ze_ge12t, ze_ge12f, ze_gt12t, ze_gt12f, ze_le12t, ze_le12f, ze_lt12t, ze_lt12f, ze_eq12p, ze_eq12f, ze_ge15t, ze_ge15f, ze_gt15t, ze_gt15f, ze_le15t, ze_le15f, ze_lt15t, ze_lt15f, ze_eq15p, ze_eq15f, ze_ge16t, ze_ge16f, ze_gt16t, ze_gt16f, ze_le16t, ze_le16f, ze_lt16t, ze_lt16f, ze_eq16p, ze_eq16f, ze_ge30t, ze_ge30f, ze_gt30t, ze_gt30f, ze_le30t, ze_le30f, ze_lt30t, ze_lt30f, ze_eq30p, ze_eq30f, ze_ge32t, ze_ge32f, ze_gt32t, ze_gt32f, ze_le32t, ze_le32f, ze_lt32t, ze_lt32f, ze_eq32p, ze_eq32f, ze_ge47t, ze_ge47f, ze_gt47t, ze_gt47f, ze_le47t, ze_le47f, ze_lt47t, ze_lt47f, ze_eq47p, ze_eq47f, ze_ge120t, ze_ge120f, ze_gt120t, ze_gt120f, ze_le120t, ze_le120f, ze_lt120t, ze_lt120f, ze_eq120p, ze_eq120f, ze_ge1024t, ze_ge1024f, ze_gt1024t, ze_gt1024f, ze_le1024t, ze_le1024f, ze_lt1024t, ze_lt1024f, ze_eq1024p, ze_eq1024f, ze_let, ze_lef, ze_ltt, ze_ltf, ze_eqt, ze_eqf, ze_m1_lt0, ze_m1_n0le, ze_m1_le0, ze_m1_le, ze_m1_lt, ze_m1_nle, ze_m1_nlt, ze_m1_ne, ze_m1_en, ze_m1_ne4, ze_m1_ne0, ze_nz6, ze_nz10, ze_nz12, ze_nz16, ze_nz32, ze_nz192, ze_1ne0, ze_0ne1, ze_0ne4, ↓ze_rem6, ↓ze_rem10, ↓ze_rem16, ↓ze_rem32, ↓ze_rem12, ze_div6, ze_div10, ze_div12, ze_div16, ze_div32, ze_div192, ze_mul3, ze_mul4, ze_mul6, ze_mul10, ze_mul12, ze_mul16, ze_mul17, ze_mul32, ze_mul60, ze_mulr6, ze_nrem6, ze_mulr10, ze_nrem10, ze_mulr12, ze_nrem12, ze_mulr16, ze_nrem16, ze_mulr32, ze_nrem32, nI_add, ze_add1, ze_add6, ze_add7, ze_add8, ze_add12, ze_add16, ze_add0, ze_radd0, ze_radd8, ze_sub1, ze_m1, ze_0sub1, ze_m1add1, ze_1sub, ze_2sub, pk_sub, ze_and3, ze_and7, ze_and31, ze_and127, ↓ze_shr2, ↓ze_shr3, ↓ze_shr5, ↓ze_shl3, ze_i8, ze_nby, ze_i8m1, ze_i80, ze_nbm1, ze_i16, ze_nsh, ze_nb0, ze_nt0, ze_nt1, ze_cl0, ze_cl1, nI_clamp, vp_in_nI, forall_eq, true_implies, false_implies, not_true_eq_false, not_false_eq_true, and_true, true_and, implies_true, and_self, forall_const, Classical.not_not]
        rw [← Nat.add_assoc]; exact this
      · exact br_f (by decide) (k1 z)
      · rcases hr with ⟨j', k', hj', hk', ex', er⟩ | ⟨-, hr⟩
        · obtain ⟨n1, -⟩ := gw_al_ok HW h1 h4 hj'
          have g2 := (HW _ n1).2.2.1 k' hk'
          obtain ⟨rfl, rfl⟩ := gw_one HW HU h1 h4 hj' hj hk' hk ((nI_eq (by omega) (by omega)).mp (ex'.symm.trans ex))
          rw [er]; exact h
        · exact absurd ex (hr j k hj hk)
    · refine Or.inl ⟨nI o, fun post b h => ?_, ky, fun post h => gy_kindOf HW HY HO ho ha (fun r hr => ?_)⟩
      · unfold wpX_slotOf; dsimp only
        refine kx _ (br_t (nI_pos' (by omega)) ⟨vp_in_nI ho (by decide), ?_⟩)
        rw [nI_clamp (by omega), h2]
        refine gx_place HW HX h1 h4 (fun r hr => ?_)
        rcases hr with ⟨j', k', hj', hk', ex', er⟩ | ⟨er, hr⟩
        · exact absurd ⟨j', k', hj', hk', ex'⟩ no
        · subst er
          unfold wX_slotOf_28
          exact br_t (by decide) h
      · rcases hr with ⟨j', k', hj', hk', ex', er⟩ | ⟨er, hr⟩
        · exact absurd ⟨j', k', hj', hk', ex'⟩ no
        · rw [er]; exact h
end
end
section
theorem gl_m1 : (-1 : Int32).toInt64 = -1 := by decide
theorem gl_0 : ((-1 : Int32) + 1).toInt64 = 0 := by decide
theorem gl_neg : ¬ (0 : Int32) ≤ (-1 : Int64).toInt32 := by decide
section
variable {f_end f_at f_written f_read f_error f_culprit f_nextHandle f_depth f_nTodo : Int32} {a_defined a_parent a_level a_version a_fields a_fName a_fKind a_latest a_oClass a_pinned a_handle a_arrived a_handles a_described a_dLevels a_dFields a_plan a_wide a_wire a_order a_made a_sObj a_sLev a_sPos a_sCls a_todo : Nat → Int32} {a_slot a_pairs : Nat → Int64} {g_culprit g_depth g_lastMade : Int32} {b_defined b_version b_parent b_own b_latest b_cls b_partner b_pinned b_arrived b_from b_made b_done b_rows : Nat → Int32} {b_val : Nat → Int64}
theorem gm_look {k : Nat} (R : gw_R a_defined a_parent a_level a_version a_fields a_fName a_fKind a_latest a_oClass a_slot a_handle a_arrived a_handles a_described a_dLevels a_dFields a_plan a_wide b_parent b_own b_cls b_partner b_val) (v1 : Int32) : wpX_look (fun r => wpY_look (fun r' => r' = r ∧ i_Rel (k + 5) (f_end, f_at, f_written, f_read, f_error, f_culprit, f_nextHandle, f_depth, f_nTodo, a_defined, a_parent, a_level, a_version, a_fields, a_fName, a_fKind, a_latest, a_oClass, a_pinned, a_slot, a_handle, a_arrived, a_handles, a_described, a_dLevels, a_dFields, a_plan, a_wide, a_wire, a_order, a_made, a_sObj, a_sLev, a_sPos, a_sCls, a_pairs, a_todo) (f_culprit, g_depth, g_lastMade, a_defined, a_version, b_parent, b_own, a_latest, b_cls, b_partner, a_pinned, b_arrived, b_val, b_from, b_made, b_done, b_rows)) (f_culprit, g_depth, g_lastMade, a_defined, a_version, b_parent, b_own, a_latest, b_cls, b_partner, a_pinned, b_arrived, b_val, b_from, b_made, b_done, b_rows) v1) (f_end, f_at, f_written, f_read, f_error, f_culprit, f_nextHandle, f_depth, f_nTodo, a_defined, a_parent, a_level, a_version, a_fields, a_fName, a_fKind, a_latest, a_oClass, a_pinned, a_slot, a_handle, a_arrived, a_handles, a_described, a_dLevels, a_dFields, a_plan, a_wide, a_wire, a_order, a_made, a_sObj, a_sLev, a_sPos, a_sCls, a_pairs, a_todo) v1 := by
  obtain ⟨lv, up, nf, nm, kd, hh, hs, pq, HW, HU, HX, HY, HO, HV, HS, HD, HL⟩ := id R
  obtain ⟨r, hr, kx, ky⟩ : gj_OB a_oClass (f_end, f_at, f_written, f_read, f_error, f_culprit, f_nextHandle, f_depth, f_nTodo, a_defined, a_parent, a_level, a_version, a_fields, a_fName, a_fKind, a_latest, a_oClass, a_pinned, a_slot, a_handle, a_arrived, a_handles, a_described, a_dLevels, a_dFields, a_plan, a_wide, a_wire, a_order, a_made, a_sObj, a_sLev, a_sPos, a_sCls, a_pairs, a_todo) (f_culprit, g_depth, g_lastMade, a_defined, a_version, b_parent, b_own, a_latest, b_cls, b_partner, a_pinned, b_arrived, b_val, b_from, b_made, b_done, b_rows) v1 := gj_object HO v1
  unfold wpX_look; dsimp only
  refine kx _ ?_
  unfold wpY_look; dsimp only
  rcases hr with rfl | ⟨-, o, ho, rfl, ha⟩
  · exact br_f (by decide) (ky _ (br_f (by decide) ⟨rfl, gi_in R⟩))
  · obtain ⟨h1, h2, h3, h4, h5⟩ := gw_O_al HO ho ha
    have e1 : gw_kl a_oClass o % 6 + 8 = 8 + gw_kl a_oClass o % 6 := by omega
    simp (disch := omega) only [ze_ge0t, ze_gt0t, ze_gt0f, ze_le0t, ze_le0f, ze_lt0f, ze_eq0p, ze_eq0f, ze_ge1t, ze_ge1f, ze_gt1t, ze_gt1f, ze_le1t, ze_le1f, ze_lt1t, ze_lt1f, ze_eq1p, ze_eq1f, ze_ge2t, ze_ge2f, ze_gt2t, ze_gt2f, ze_le2t, ze_le2f, ze_lt2t, ze_lt2f, ze_eq2p, ze_eq2f, ze_ge3t, ze_ge3f, ze_gt3t, ze_gt3f, ze_le3t, ze_le3f, ze_lt3t, ze_lt3f, ze_eq3p, ze_eq3f, ze_ge4t, ze_ge4f, ze_gt4t, ze_gt4f, ze_le4t, ze_le4f, ze_lt4t, ze_lt4f, ze_eq4p, ze_eq4f, ze_ge5t, ze_ge5f, ze_gt5t, ze_gt5f, ze_le5t, ze_le5f, ze_lt5t, ze_lt5f, ze_eq5p, ze_eq5f, ze_ge6t, ze_ge6f, ze_gt6t, ze_gt6f, ze_le6t, ze_le6f, ze_lt6t, ze_lt6f, ze_eq6p, ze_eq6f, ze_ge7t, ze_ge7f, ze_gt7t, ze_gt7f, ze_le7t, ze_le7f, ze_lt7t, ze_lt7f, ze_eq7p, ze_eq7f, ze_ge9t, ze_ge9f, ze_gt9t, ze_gt9f, ze_le9t, ze_le9f, ze_lt9t, ze_lt9f, ze_eq9p, ze_eq9f, ze_ge10t, ze_ge10f, ze_gt10t, ze_gt10f, ze_le10t, ze_le10f, ze_lt10t, ze_lt10f, ze_eq10p, ze_eq10f, ze_ge12t, ze_ge12f, ze_gt12t, ze_gt12f, ze_le12t, ze_le12f, ze_lt12t, ze_lt12f, ze_eq12p, ze_eq12f, ze_ge15t, ze_ge15f, ze_gt15t, ze_gt15f, ze_le15t, ze_le15f, ze_lt15t, ze_lt15f, ze_eq15p, ze_eq15f, ze_ge16t, ze_ge16f, ze_gt16t, ze_gt16f, ze_le16t, ze_le16f, ze_lt16t, ze_lt16f, ze_eq16p, ze_eq16f, ze_ge30t, ze_ge30f, ze_gt30t, ze_gt30f, ze_le30t, ze_le30f, ze_lt30t, ze_lt30f, ze_eq30p, ze_eq30f, ze_ge32t, ze_ge32f, ze_gt32t, ze_gt32f, ze_le32t, ze_le32f, ze_lt32t, ze_lt32f, ze_eq32p, ze_eq32f, ze_ge47t, ze_ge47f, ze_gt47t, ze_gt47f, ze_le47t, ze_le47f, ze_lt47t, ze_lt47f, ze_eq47p, ze_eq47f, ze_ge120t, ze_ge120f, ze_gt120t, ze_gt120f, ze_le120t, ze_le120f, ze_lt120t, ze_lt120f, ze_eq120p, ze_eq120f, ze_ge1024t, ze_ge1024f, ze_gt1024t, ze_gt1024f, ze_le1024t, ze_le1024f, ze_lt1024t, ze_lt1024f, ze_eq1024p, ze_eq1024f, ze_let, ze_lef, ze_ltt, ze_ltf, ze_eqt, ze_eqf, ze_m1_lt0, ze_m1_n0le, ze_m1_le0, ze_m1_le, ze_m1_lt, ze_m1_nle, ze_m1_nlt, ze_m1_ne, ze_m1_en, ze_m1_ne4, ze_m1_ne0, ze_nz6, ze_nz10, ze_nz12, ze_nz16, ze_nz32, ze_nz192, ze_1ne0, ze_0ne1, ze_0ne4, ↓ze_rem6, ↓ze_rem10, ↓ze_rem16, ↓ze_rem32, ↓ze_rem12, ze_div6, ze_div10, ze_div12, ze_div16, ze_div32, ze_div192, ze_mul3, ze_mul4, ze_mul6, ze_mul10, ze_mul12, ze_mul16, ze_mul17, ze_mul32, ze_mul60, ze_mulr6, ze_nrem6, ze_mulr10, ze_nrem10, ze_mulr12, ze_nrem12, ze_mulr16, ze_nrem16, ze_mulr32, ze_nrem32, nI_add, ze_add1, ze_add6, ze_add7, ze_add8, ze_add12, ze_add16, ze_add0, ze_radd0, ze_radd8, ze_sub1, ze_m1, ze_0sub1, ze_m1add1, ze_1sub, ze_2sub, pk_sub, ze_and3, ze_and7, ze_and31, ze_and127, ↓ze_shr2, ↓ze_shr3, ↓ze_shr5, ↓ze_shl3, ze_i8, ze_nby, ze_i8m1, ze_i80, ze_nbm1, ze_i16, ze_nsh, ze_nb0, ze_nt0, ze_nt1, ze_cl0, ze_cl1, nI_clamp, vp_in_nI, forall_eq, true_implies, false_implies, not_true_eq_false, not_false_eq_true, and_true, true_and, implies_true, and_self, forall_const, Classical.not_not, h2]
    refine br_c (fun z => ky _ ?_) (fun z => ky _ ?_)
    · simp (disch := omega) only [ze_ge0t, ze_gt0t, ze_gt0f, ze_le0t, ze_le0f, ze_lt0f, ze_eq0p, ze_eq0f, ze_ge1t, ze_ge1f, ze_gt1t, ze_gt1f, ze_le1t, ze_le1f, ze_lt1t, ze_lt1f, ze_eq1p, ze_eq1f, ze_ge2t, ze_ge2f, ze_gt2t, ze_gt2f, ze_le2t, ze_le2f, ze_lt2t, ze_lt2f, ze_eq2p, ze_eq2f, ze_ge3t, ze_ge3f, ze_gt3t, ze_gt3f, ze_le3t, ze_le3f, ze_lt3t, ze_lt3f, ze_eq3p, ze_eq3f, ze_ge4t, ze_ge4f, ze_gt4t, ze_gt4f, ze_le4t, ze_le4f, ze_lt4t, ze_lt4f, ze_eq4p, ze_eq4f, ze_ge5t, ze_ge5f, ze_gt5t, ze_gt5f, ze_le5t, ze_le5f, ze_lt5t, ze_lt5f, ze_eq5p, ze_eq5f, ze_ge6t, ze_ge6f, ze_gt6t, ze_gt6f, ze_le6t, ze_le6f, ze_lt6t, ze_lt6f, ze_eq6p, ze_eq6f, ze_ge7t, ze_ge7f, ze_gt7t, ze_gt7f, ze_le7t, ze_le7f, ze_lt7t, ze_lt7f, ze_eq7p, ze_eq7f, ze_ge9t, ze_ge9f, ze_gt9t, ze_gt9f, ze_le9t, ze_le9f, ze_lt9t, ze_lt9f, ze_eq9p, ze_eq9f, ze_ge10t, ze_ge10f, ze_gt10t, ze_gt10f, ze_le10t, ze_le10f, ze_lt10t, ze_lt10f, ze_eq10p, ze_eq10f, ze_ge12t, ze_ge12f, ze_gt12t, ze_gt12f, ze_le12t, ze_le12f, ze_lt12t, ze_lt12f, ze_eq12p, ze_eq12f, ze_ge15t, ze_ge15f, ze_gt15t, ze_gt15f, ze_le15t, ze_le15f, ze_lt15t, ze_lt15f, ze_eq15p, ze_eq15f, ze_ge16t, ze_ge16f, ze_gt16t, ze_gt16f, ze_le16t, ze_le16f, ze_lt16t, ze_lt16f, ze_eq16p, ze_eq16f, ze_ge30t, ze_ge30f, ze_gt30t, ze_gt30f, ze_le30t, ze_le30f, ze_lt30t, ze_lt30f, ze_eq30p, ze_eq30f, ze_ge32t, ze_ge32f, ze_gt32t, ze_gt32f, ze_le32t, ze_le32f, ze_lt32t, ze_lt32f, ze_eq32p, ze_eq32f, ze_ge47t, ze_ge47f, ze_gt47t, ze_gt47f, ze_le47t, ze_le47f, ze_lt47t, ze_lt47f, ze_eq47p, ze_eq47f, ze_ge120t, ze_ge120f, ze_gt120t, ze_gt120f, ze_le120t, ze_le120f, ze_lt120t, ze_lt120f, ze_eq120p, ze_eq120f, ze_ge1024t, ze_ge1024f, ze_gt1024t, ze_gt1024f, ze_le1024t, ze_le1024f, ze_lt1024t, ze_lt1024f, ze_eq1024p, ze_eq1024f, ze_let, ze_lef, ze_ltt, ze_ltf, ze_eqt, ze_eqf, ze_m1_lt0, ze_m1_n0le, ze_m1_le0, ze_m1_le, ze_m1_lt, ze_m1_nle, ze_m1_nlt, ze_m1_ne, ze_m1_en, ze_m1_ne4, ze_m1_ne0, ze_nz6, ze_nz10, ze_nz12, ze_nz16, ze_nz32, ze_nz192, ze_1ne0, ze_0ne1, ze_0ne4, ↓ze_rem6, ↓ze_rem10, ↓ze_rem16, ↓ze_rem32, ↓ze_rem12, ze_div6, ze_div10, ze_div12, ze_div16, ze_div32, ze_div192, ze_mul3, ze_mul4, ze_mul6, ze_mul10, ze_mul12, ze_mul16, ze_mul17, ze_mul32, ze_mul60, ze_mulr6, ze_nrem6, ze_mulr10, ze_nrem10, ze_mulr12, ze_nrem12, ze_mulr16, ze_nrem16, ze_mulr32, ze_nrem32, nI_add, ze_add1, ze_add6, ze_add7, ze_add8, ze_add12, ze_add16, ze_add0, ze_radd0, ze_radd8, ze_sub1, ze_m1, ze_0sub1, ze_m1add1, ze_1sub, ze_2sub, pk_sub, ze_and3, ze_and7, ze_and31, ze_and127, ↓ze_shr2, ↓ze_shr3, ↓ze_shr5, ↓ze_shl3, ze_i8, ze_nby, ze_i8m1, ze_i80, ze_nbm1, ze_i16, ze_nsh, ze_nb0, ze_nt0, ze_nt1, ze_cl0, ze_cl1, nI_clamp, vp_in_nI, forall_eq, true_implies, false_implies, not_true_eq_false, not_false_eq_true, and_true, true_and, implies_true, and_self, forall_const, Classical.not_not, h3, z]
      exact gi_in R
    · simp (disch := omega) only [ze_ge0t, ze_gt0t, ze_gt0f, ze_le0t, ze_le0f, ze_lt0f, ze_eq0p, ze_eq0f, ze_ge1t, ze_ge1f, ze_gt1t, ze_gt1f, ze_le1t, ze_le1f, ze_lt1t, ze_lt1f, ze_eq1p, ze_eq1f, ze_ge2t, ze_ge2f, ze_gt2t, ze_gt2f, ze_le2t, ze_le2f, ze_lt2t, ze_lt2f, ze_eq2p, ze_eq2f, ze_ge3t, ze_ge3f, ze_gt3t, ze_gt3f, ze_le3t, ze_le3f, ze_lt3t, ze_lt3f, ze_eq3p, ze_eq3f, ze_ge4t, ze_ge4f, ze_gt4t, ze_gt4f, ze_le4t, ze_le4f, ze_lt4t, ze_lt4f, ze_eq4p, ze_eq4f, ze_ge5t, ze_ge5f, ze_gt5t, ze_gt5f, ze_le5t, ze_le5f, ze_lt5t, ze_lt5f, ze_eq5p, ze_eq5f, ze_ge6t, ze_ge6f, ze_gt6t, ze_gt6f, ze_le6t, ze_le6f, ze_lt6t, ze_lt6f, ze_eq6p, ze_eq6f, ze_ge7t, ze_ge7f, ze_gt7t, ze_gt7f, ze_le7t, ze_le7f, ze_lt7t, ze_lt7f, ze_eq7p, ze_eq7f, ze_ge9t, ze_ge9f, ze_gt9t, ze_gt9f, ze_le9t, ze_le9f, ze_lt9t, ze_lt9f, ze_eq9p, ze_eq9f, ze_ge10t, ze_ge10f, ze_gt10t, ze_gt10f, ze_le10t, ze_le10f, ze_lt10t, ze_lt10f, ze_eq10p, ze_eq10f, ze_ge12t, ze_ge12f, ze_gt12t, ze_gt12f, ze_le12t, ze_le12f, ze_lt12t, ze_lt12f, ze_eq12p, ze_eq12f, ze_ge15t, ze_ge15f, ze_gt15t, ze_gt15f, ze_le15t, ze_le15f, ze_lt15t, ze_lt15f, ze_eq15p, ze_eq15f, ze_ge16t, ze_ge16f, ze_gt16t, ze_gt16f, ze_le16t, ze_le16f, ze_lt16t, ze_lt16f, ze_eq16p, ze_eq16f, ze_ge30t, ze_ge30f, ze_gt30t, ze_gt30f, ze_le30t, ze_le30f, ze_lt30t, ze_lt30f, ze_eq30p, ze_eq30f, ze_ge32t, ze_ge32f, ze_gt32t, ze_gt32f, ze_le32t, ze_le32f, ze_lt32t, ze_lt32f, ze_eq32p, ze_eq32f, ze_ge47t, ze_ge47f, ze_gt47t, ze_gt47f, ze_le47t, ze_le47f, ze_lt47t, ze_lt47f, ze_eq47p, ze_eq47f, ze_ge120t, ze_ge120f, ze_gt120t, ze_gt120f, ze_le120t, ze_le120f, ze_lt120t, ze_lt120f, ze_eq120p, ze_eq120f, ze_ge1024t, ze_ge1024f, ze_gt1024t, ze_gt1024f, ze_le1024t, ze_le1024f, ze_lt1024t, ze_lt1024f, ze_eq1024p, ze_eq1024f, ze_let, ze_lef, ze_ltt, ze_ltf, ze_eqt, ze_eqf, ze_m1_lt0, ze_m1_n0le, ze_m1_le0, ze_m1_le, ze_m1_lt, ze_m1_nle, ze_m1_nlt, ze_m1_ne, ze_m1_en, ze_m1_ne4, ze_m1_ne0, ze_nz6, ze_nz10, ze_nz12, ze_nz16, ze_nz32, ze_nz192, ze_1ne0, ze_0ne1, ze_0ne4, ↓ze_rem6, ↓ze_rem10, ↓ze_rem16, ↓ze_rem32, ↓ze_rem12, ze_div6, ze_div10, ze_div12, ze_div16, ze_div32, ze_div192, ze_mul3, ze_mul4, ze_mul6, ze_mul10, ze_mul12, ze_mul16, ze_mul17, ze_mul32, ze_mul60, ze_mulr6, ze_nrem6, ze_mulr10, ze_nrem10, ze_mulr12, ze_nrem12, ze_mulr16, ze_nrem16, ze_mulr32, ze_nrem32, nI_add, ze_add1, ze_add6, ze_add7, ze_add8, ze_add12, ze_add16, ze_add0, ze_radd0, ze_radd8, ze_sub1, ze_m1, ze_0sub1, ze_m1add1, ze_1sub, ze_2sub, pk_sub, ze_and3, ze_and7, ze_and31, ze_and127, ↓ze_shr2, ↓ze_shr3, ↓ze_shr5, ↓ze_shl3, ze_i8, ze_nby, ze_i8m1, ze_i80, ze_nbm1, ze_i16, ze_nsh, ze_nb0, ze_nt0, ze_nt1, ze_cl0, ze_cl1, nI_clamp, vp_in_nI, forall_eq, true_implies, false_implies, not_true_eq_false, not_false_eq_true, and_true, true_and, implies_true, and_self, forall_const, Classical.not_not, h3, z, e1]
      exact gi_in R
theorem gm_sent {k : Nat} (R : gw_R a_defined a_parent a_level a_version a_fields a_fName a_fKind a_latest a_oClass a_slot a_handle a_arrived a_handles a_described a_dLevels a_dFields a_plan a_wide b_parent b_own b_cls b_partner b_val) (v1 : Int32) : wpX_sent (fun r => wpY_sent (fun r' => r' = r ∧ i_Rel (k + 5) (f_end, f_at, f_written, f_read, f_error, f_culprit, f_nextHandle, f_depth, f_nTodo, a_defined, a_parent, a_level, a_version, a_fields, a_fName, a_fKind, a_latest, a_oClass, a_pinned, a_slot, a_handle, a_arrived, a_handles, a_described, a_dLevels, a_dFields, a_plan, a_wide, a_wire, a_order, a_made, a_sObj, a_sLev, a_sPos, a_sCls, a_pairs, a_todo) (f_culprit, g_depth, g_lastMade, a_defined, a_version, b_parent, b_own, a_latest, b_cls, b_partner, a_pinned, b_arrived, b_val, b_from, b_made, b_done, b_rows)) (f_culprit, g_depth, g_lastMade, a_defined, a_version, b_parent, b_own, a_latest, b_cls, b_partner, a_pinned, b_arrived, b_val, b_from, b_made, b_done, b_rows) v1) (f_end, f_at, f_written, f_read, f_error, f_culprit, f_nextHandle, f_depth, f_nTodo, a_defined, a_parent, a_level, a_version, a_fields, a_fName, a_fKind, a_latest, a_oClass, a_pinned, a_slot, a_handle, a_arrived, a_handles, a_described, a_dLevels, a_dFields, a_plan, a_wide, a_wire, a_order, a_made, a_sObj, a_sLev, a_sPos, a_sCls, a_pairs, a_todo) v1 := by
  obtain ⟨lv, up, nf, nm, kd, hh, hs, pq, HW, HU, HX, HY, HO, HV, HS, HD, HL⟩ := id R
  obtain ⟨r, hr, kx, ky⟩ : gj_OB a_oClass (f_end, f_at, f_written, f_read, f_error, f_culprit, f_nextHandle, f_depth, f_nTodo, a_defined, a_parent, a_level, a_version, a_fields, a_fName, a_fKind, a_latest, a_oClass, a_pinned, a_slot, a_handle, a_arrived, a_handles, a_described, a_dLevels, a_dFields, a_plan, a_wide, a_wire, a_order, a_made, a_sObj, a_sLev, a_sPos, a_sCls, a_pairs, a_todo) (f_culprit, g_depth, g_lastMade, a_defined, a_version, b_parent, b_own, a_latest, b_cls, b_partner, a_pinned, b_arrived, b_val, b_from, b_made, b_done, b_rows) v1 := gj_object HO v1
  unfold wpX_sent; dsimp only
  refine kx _ ?_
  unfold wpY_sent; dsimp only
  rcases hr with rfl | ⟨-, o, ho, rfl, ha⟩
  · exact br_t (by decide) (ky _ (br_t (by decide) ⟨rfl, gi_in R⟩))
  · obtain ⟨s1, s2, s3⟩ := HS.1 o ho
    refine br_f (nI_pos (by omega)) ⟨vp_in_nI ho (by decide), ?_⟩
    rw [nI_clamp (by omega), s1]
    have q2 := gc_H16 (HS.2 (o / 16) (by omega)).2
    have s16 : hh o ≤ 16 := by
      rcases Nat.eq_zero_or_pos (hh o) with q | q
      · omega
      · have := (s3 (by omega)).2.1; omega
    by_cases z : hh o = 0
    · refine br_t (ze_eq0t z) (ky _ (br_f (nI_pos (by omega)) ⟨vp_in_nI ho (by decide), ?_⟩))
      rw [nI_clamp (by omega), s2 z]
      exact br_f (by decide) ⟨rfl, gi_in R⟩
    · obtain ⟨t1, t2, t3, t4, t5, t6, t7⟩ := s3 z
      refine br_f (ze_eq0f z (by omega)) ?_
      unfold wpX_partner; dsimp only
      simp (disch := omega) only [ze_ge0t, ze_gt0t, ze_gt0f, ze_le0t, ze_le0f, ze_lt0f, ze_eq0p, ze_eq0f, ze_ge1t, ze_ge1f, ze_gt1t, ze_gt1f, ze_le1t, ze_le1f, ze_lt1t, ze_lt1f, ze_eq1p, ze_eq1f, ze_ge2t, ze_ge2f, ze_gt2t, ze_gt2f, ze_le2t, ze_le2f, ze_lt2t, ze_lt2f, ze_eq2p, ze_eq2f, ze_ge3t, ze_ge3f, ze_gt3t, ze_gt3f, ze_le3t, ze_le3f, ze_lt3t, ze_lt3f, ze_eq3p, ze_eq3f, ze_ge4t, ze_ge4f, ze_gt4t, ze_gt4f, ze_le4t, ze_le4f, ze_lt4t, ze_lt4f, ze_eq4p, ze_eq4f, ze_ge5t, ze_ge5f, ze_gt5t, ze_gt5f, ze_le5t, ze_le5f, ze_lt5t, ze_lt5f, ze_eq5p, ze_eq5f, ze_ge6t, ze_ge6f, ze_gt6t, ze_gt6f, ze_le6t, ze_le6f, ze_lt6t, ze_lt6f, ze_eq6p, ze_eq6f, ze_ge7t, ze_ge7f, ze_gt7t, ze_gt7f, ze_le7t, ze_le7f, ze_lt7t, ze_lt7f, ze_eq7p, ze_eq7f, ze_ge9t, ze_ge9f, ze_gt9t, ze_gt9f, ze_le9t, ze_le9f, ze_lt9t, ze_lt9f, ze_eq9p, ze_eq9f, ze_ge10t, ze_ge10f, ze_gt10t, ze_gt10f, ze_le10t, ze_le10f, ze_lt10t, ze_lt10f, ze_eq10p, ze_eq10f, ze_ge12t, ze_ge12f, ze_gt12t, ze_gt12f, ze_le12t, ze_le12f, ze_lt12t, ze_lt12f, ze_eq12p, ze_eq12f, ze_ge15t, ze_ge15f, ze_gt15t, ze_gt15f, ze_le15t, ze_le15f, ze_lt15t, ze_lt15f, ze_eq15p, ze_eq15f, ze_ge16t, ze_ge16f, ze_gt16t, ze_gt16f, ze_le16t, ze_le16f, ze_lt16t, ze_lt16f, ze_eq16p, ze_eq16f, ze_ge30t, ze_ge30f, ze_gt30t, ze_gt30f, ze_le30t, ze_le30f, ze_lt30t, ze_lt30f, ze_eq30p, ze_eq30f, ze_ge32t, ze_ge32f, ze_gt32t, ze_gt32f, ze_le32t, ze_le32f, ze_lt32t, ze_lt32f, ze_eq32p, ze_eq32f, ze_ge47t, ze_ge47f, ze_gt47t, ze_gt47f, ze_le47t, ze_le47f, ze_lt47t, ze_lt47f, ze_eq47p, ze_eq47f, ze_ge120t, ze_ge120f, ze_gt120t, ze_gt120f, ze_le120t, ze_le120f, ze_lt120t, ze_lt120f, ze_eq120p, ze_eq120f, ze_ge1024t, ze_ge1024f, ze_gt1024t, ze_gt1024f, ze_le1024t, ze_le1024f, ze_lt1024t, ze_lt1024f, ze_eq1024p, ze_eq1024f, ze_let, ze_lef, ze_ltt, ze_ltf, ze_eqt, ze_eqf, ze_m1_lt0, ze_m1_n0le, ze_m1_le0, ze_m1_le, ze_m1_lt, ze_m1_nle, ze_m1_nlt, ze_m1_ne, ze_m1_en, ze_m1_ne4, ze_m1_ne0, ze_nz6, ze_nz10, ze_nz12, ze_nz16, ze_nz32, ze_nz192, ze_1ne0, ze_0ne1, ze_0ne4, ↓ze_rem6, ↓ze_rem10, ↓ze_rem16, ↓ze_rem32, ↓ze_rem12, ze_div6, ze_div10, ze_div12, ze_div16, ze_div32, ze_div192, ze_mul3, ze_mul4, ze_mul6, ze_mul10, ze_mul12, ze_mul16, ze_mul17, ze_mul32, ze_mul60, ze_mulr6, ze_nrem6, ze_mulr10, ze_nrem10, ze_mulr12, ze_nrem12, ze_mulr16, ze_nrem16, ze_mulr32, ze_nrem32, nI_add, ze_add1, ze_add6, ze_add7, ze_add8, ze_add12, ze_add16, ze_add0, ze_radd0, ze_radd8, ze_sub1, ze_m1, ze_0sub1, ze_m1add1, ze_1sub, ze_2sub, pk_sub, ze_and3, ze_and7, ze_and31, ze_and127, ↓ze_shr2, ↓ze_shr3, ↓ze_shr5, ↓ze_shl3, ze_i8, ze_nby, ze_i8m1, ze_i80, ze_nbm1, ze_i16, ze_nsh, ze_nb0, ze_nt0, ze_nt1, ze_cl0, ze_cl1, nI_clamp, vp_in_nI, forall_eq, true_implies, false_implies, not_true_eq_false, not_false_eq_true, and_true, true_and, implies_true, and_self, forall_const, Classical.not_not, s1, t6]
      refine gx_idOf t3 (ky _ (br_f (nI_pos (by omega)) ⟨vp_in_nI ho (by decide), ?_⟩))
      rw [nI_clamp (by omega), t7]
      exact br_t (nI_pos' (by omega)) ⟨vp_in_nI ho (by decide), gy_id t3 ⟨rfl, gi_in R⟩⟩
theorem gm_culprit {k : Nat} (R : gw_R a_defined a_parent a_level a_version a_fields a_fName a_fKind a_latest a_oClass a_slot a_handle a_arrived a_handles a_described a_dLevels a_dFields a_plan a_wide b_parent b_own b_cls b_partner b_val) : wpX_culprit (fun r => wpY_culprit (fun r' => r' = r ∧ i_Rel (k + 5) (f_end, f_at, f_written, f_read, f_error, f_culprit, f_nextHandle, f_depth, f_nTodo, a_defined, a_parent, a_level, a_version, a_fields, a_fName, a_fKind, a_latest, a_oClass, a_pinned, a_slot, a_handle, a_arrived, a_handles, a_described, a_dLevels, a_dFields, a_plan, a_wide, a_wire, a_order, a_made, a_sObj, a_sLev, a_sPos, a_sCls, a_pairs, a_todo) (f_culprit, g_depth, g_lastMade, a_defined, a_version, b_parent, b_own, a_latest, b_cls, b_partner, a_pinned, b_arrived, b_val, b_from, b_made, b_done, b_rows)) (f_culprit, g_depth, g_lastMade, a_defined, a_version, b_parent, b_own, a_latest, b_cls, b_partner, a_pinned, b_arrived, b_val, b_from, b_made, b_done, b_rows)) (f_end, f_at, f_written, f_read, f_error, f_culprit, f_nextHandle, f_depth, f_nTodo, a_defined, a_parent, a_level, a_version, a_fields, a_fName, a_fKind, a_latest, a_oClass, a_pinned, a_slot, a_handle, a_arrived, a_handles, a_described, a_dLevels, a_dFields, a_plan, a_wide, a_wire, a_order, a_made, a_sObj, a_sLev, a_sPos, a_sCls, a_pairs, a_todo) := ⟨rfl, gi_in R⟩
theorem gm_pin {k : Nat} (R : gw_R a_defined a_parent a_level a_version a_fields a_fName a_fKind a_latest a_oClass a_slot a_handle a_arrived a_handles a_described a_dLevels a_dFields a_plan a_wide b_parent b_own b_cls b_partner b_val) (v1 v2 : Int32) : wpX_pin (fun r u' => wpY_pin (fun r' v' => r' = r ∧ i_Rel (k + 5) u' v') (f_culprit, g_depth, g_lastMade, a_defined, a_version, b_parent, b_own, a_latest, b_cls, b_partner, a_pinned, b_arrived, b_val, b_from, b_made, b_done, b_rows) v1 v2) (f_end, f_at, f_written, f_read, f_error, f_culprit, f_nextHandle, f_depth, f_nTodo, a_defined, a_parent, a_level, a_version, a_fields, a_fName, a_fKind, a_latest, a_oClass, a_pinned, a_slot, a_handle, a_arrived, a_handles, a_described, a_dLevels, a_dFields, a_plan, a_wide, a_wire, a_order, a_made, a_sObj, a_sLev, a_sPos, a_sCls, a_pairs, a_todo) v1 v2 := by
  obtain ⟨lv, up, nf, nm, kd, hh, hs, pq, HW, HU, HX, HY, HO, HV, HS, HD, HL⟩ := id R
  obtain ⟨r, hr, kx, ky⟩ : gj_OB a_oClass (f_end, f_at, f_written, f_read, f_error, f_culprit, f_nextHandle, f_depth, f_nTodo, a_defined, a_parent, a_level, a_version, a_fields, a_fName, a_fKind, a_latest, a_oClass, a_pinned, a_slot, a_handle, a_arrived, a_handles, a_described, a_dLevels, a_dFields, a_plan, a_wide, a_wire, a_order, a_made, a_sObj, a_sLev, a_sPos, a_sCls, a_pairs, a_todo) (f_culprit, g_depth, g_lastMade, a_defined, a_version, b_parent, b_own, a_latest, b_cls, b_partner, a_pinned, b_arrived, b_val, b_from, b_made, b_done, b_rows) v1 := gj_object HO v1
  unfold wpX_pin; dsimp only
  refine kx _ ?_
  unfold wpY_pin; dsimp only
  rcases hr with rfl | ⟨-, o, ho, rfl, ha⟩
  · exact br_f (by decide) (ky _ (br_f (by decide) ⟨rfl, gi_in R⟩))
  · exact br_t (nI_pos' (by omega)) ⟨vp_in_nI ho (by decide), fun a ea => ky _ (br_t (nI_pos' (by omega)) ⟨vp_in_nI ho (by decide), fun b eb => ⟨rfl, by subst ea; subst eb; exact gi_in R⟩⟩)⟩
theorem gm_num {k : Nat} (R : gw_R a_defined a_parent a_level a_version a_fields a_fName a_fKind a_latest a_oClass a_slot a_handle a_arrived a_handles a_described a_dLevels a_dFields a_plan a_wide b_parent b_own b_cls b_partner b_val) (v1 v2 : Int32) : wpX_num (fun r => wpY_num (fun r' => r' = r ∧ i_Rel (k + 5) (f_end, f_at, f_written, f_read, f_error, f_culprit, f_nextHandle, f_depth, f_nTodo, a_defined, a_parent, a_level, a_version, a_fields, a_fName, a_fKind, a_latest, a_oClass, a_pinned, a_slot, a_handle, a_arrived, a_handles, a_described, a_dLevels, a_dFields, a_plan, a_wide, a_wire, a_order, a_made, a_sObj, a_sLev, a_sPos, a_sCls, a_pairs, a_todo) (f_culprit, g_depth, g_lastMade, a_defined, a_version, b_parent, b_own, a_latest, b_cls, b_partner, a_pinned, b_arrived, b_val, b_from, b_made, b_done, b_rows)) (f_culprit, g_depth, g_lastMade, a_defined, a_version, b_parent, b_own, a_latest, b_cls, b_partner, a_pinned, b_arrived, b_val, b_from, b_made, b_done, b_rows) v1 v2) (f_end, f_at, f_written, f_read, f_error, f_culprit, f_nextHandle, f_depth, f_nTodo, a_defined, a_parent, a_level, a_version, a_fields, a_fName, a_fKind, a_latest, a_oClass, a_pinned, a_slot, a_handle, a_arrived, a_handles, a_described, a_dLevels, a_dFields, a_plan, a_wide, a_wire, a_order, a_made, a_sObj, a_sLev, a_sPos, a_sCls, a_pairs, a_todo) v1 v2 := by
  obtain ⟨lv, up, nf, nm, kd, hh, hs, pq, HW, HU, HX, HY, HO, HV, HS, HD, HL⟩ := id R
  unfold wpX_num wpY_num; dsimp only
  rcases gj_slot HW HU HX HY HO v1 v2 with ⟨r, kx, ky, kk⟩ | ⟨o, j, l, ho, ha, hj, hl, rfl, kx, -, ky, kk⟩
  · exact kx _ _ (br_f (by decide) (ky _ (kk _ (br_t (by decide) ⟨rfl, gi_in R⟩))))
  · obtain ⟨h1, h2, h3, h4, h5⟩ := gw_O_al HO ho ha
    obtain ⟨m1, m2, m3, m4⟩ := gw_al_ok HW h1 h4 hj
    have f1 := (HW _ m1).1
    have l1 := (HW _ h1).2.2.2.2.1
    have g1 := (HW _ m1).2.2.1 l hl
    refine kx _ (fun z => ?_) (fun z => ?_)
    · exact br_f (by decide) (ky _ (kk _ (br_f (nI_pos (by omega)) (br_t (ze_eq4t z) ⟨rfl, gi_in R⟩))))
    · refine br_t (nI_pos' (by omega)) ⟨vp_in_nI (by omega) (by decide), ky _ (kk _ (br_f (nI_pos (by omega)) (br_f (ze_eq4f z (by omega)) ?_)))⟩
      simp (disch := omega) only [ze_ge0t, ze_gt0t, ze_gt0f, ze_le0t, ze_le0f, ze_lt0f, ze_eq0p, ze_eq0f, ze_ge1t, ze_ge1f, ze_gt1t, ze_gt1f, ze_le1t, ze_le1f, ze_lt1t, ze_lt1f, ze_eq1p, ze_eq1f, ze_ge2t, ze_ge2f, ze_gt2t, ze_gt2f, ze_le2t, ze_le2f, ze_lt2t, ze_lt2f, ze_eq2p, ze_eq2f, ze_ge3t, ze_ge3f, ze_gt3t, ze_gt3f, ze_le3t, ze_le3f, ze_lt3t, ze_lt3f, ze_eq3p, ze_eq3f, ze_ge4t, ze_ge4f, ze_gt4t, ze_gt4f, ze_le4t, ze_le4f, ze_lt4t, ze_lt4f, ze_eq4p, ze_eq4f, ze_ge5t, ze_ge5f, ze_gt5t, ze_gt5f, ze_le5t, ze_le5f, ze_lt5t, ze_lt5f, ze_eq5p, ze_eq5f, ze_ge6t, ze_ge6f, ze_gt6t, ze_gt6f, ze_le6t, ze_le6f, ze_lt6t, ze_lt6f, ze_eq6p, ze_eq6f, ze_ge7t, ze_ge7f, ze_gt7t, ze_gt7f, ze_le7t, ze_le7f, ze_lt7t, ze_lt7f, ze_eq7p, ze_eq7f, ze_ge9t, ze_ge9f, ze_gt9t, ze_gt9f, ze_le9t, ze_le9f, ze_lt9t, ze_lt9f, ze_eq9p, ze_eq9f, ze_ge10t, ze_ge10f, ze_gt10t, ze_gt10f, ze_le10t, ze_le10f, ze_lt10t, ze_lt10f, ze_eq10p, ze_eq10f, ze_ge12t, ze_ge12f, ze_gt12t, ze_gt12f, ze_le12t, ze_le12f, ze_lt12t, ze_lt12f, ze_eq12p, ze_eq12f, ze_ge15t, ze_ge15f, ze_gt15t, ze_gt15f, ze_le15t, ze_le15f, ze_lt15t, ze_lt15f, ze_eq15p, ze_eq15f, ze_ge16t, ze_ge16f, ze_gt16t, ze_gt16f, ze_le16t, ze_le16f, ze_lt16t, ze_lt16f, ze_eq16p, ze_eq16f, ze_ge30t, ze_ge30f, ze_gt30t, ze_gt30f, ze_le30t, ze_le30f, ze_lt30t, ze_lt30f, ze_eq30p, ze_eq30f, ze_ge32t, ze_ge32f, ze_gt32t, ze_gt32f, ze_le32t, ze_le32f, ze_lt32t, ze_lt32f, ze_eq32p, ze_eq32f, ze_ge47t, ze_ge47f, ze_gt47t, ze_gt47f, ze_le47t, ze_le47f, ze_lt47t, ze_lt47f, ze_eq47p, ze_eq47f, ze_ge120t, ze_ge120f, ze_gt120t, ze_gt120f, ze_le120t, ze_le120f, ze_lt120t, ze_lt120f, ze_eq120p, ze_eq120f, ze_ge1024t, ze_ge1024f, ze_gt1024t, ze_gt1024f, ze_le1024t, ze_le1024f, ze_lt1024t, ze_lt1024f, ze_eq1024p, ze_eq1024f, ze_let, ze_lef, ze_ltt, ze_ltf, ze_eqt, ze_eqf, ze_m1_lt0, ze_m1_n0le, ze_m1_le0, ze_m1_le, ze_m1_lt, ze_m1_nle, ze_m1_nlt, ze_m1_ne, ze_m1_en, ze_m1_ne4, ze_m1_ne0, ze_nz6, ze_nz10, ze_nz12, ze_nz16, ze_nz32, ze_nz192, ze_1ne0, ze_0ne1, ze_0ne4, ↓ze_rem6, ↓ze_rem10, ↓ze_rem16, ↓ze_rem32, ↓ze_rem12, ze_div6, ze_div10, ze_div12, ze_div16, ze_div32, ze_div192, ze_mul3, ze_mul4, ze_mul6, ze_mul10, ze_mul12, ze_mul16, ze_mul17, ze_mul32, ze_mul60, ze_mulr6, ze_nrem6, ze_mulr10, ze_nrem10, ze_mulr12, ze_nrem12, ze_mulr16, ze_nrem16, ze_mulr32, ze_nrem32, nI_add, ze_add1, ze_add6, ze_add7, ze_add8, ze_add12, ze_add16, ze_add0, ze_radd0, ze_radd8, ze_sub1, ze_m1, ze_0sub1, ze_m1add1, ze_1sub, ze_2sub, pk_sub, ze_and3, ze_and7, ze_and31, ze_and127, ↓ze_shr2, ↓ze_shr3, ↓ze_shr5, ↓ze_shl3, ze_i8, ze_nby, ze_i8m1, ze_i80, ze_nbm1, ze_i16, ze_nsh, ze_nb0, ze_nt0, ze_nt1, ze_cl0, ze_cl1, nI_clamp, vp_in_nI, forall_eq, true_implies, false_implies, not_true_eq_false, not_false_eq_true, and_true, true_and, implies_true, and_self, forall_const, Classical.not_not]
      exact ⟨((HV o ho ha j l hj hl).2 z).symm, gi_in R⟩
theorem gm_ref {k : Nat} (R : gw_R a_defined a_parent a_level a_version a_fields a_fName a_fKind a_latest a_oClass a_slot a_handle a_arrived a_handles a_described a_dLevels a_dFields a_plan a_wide b_parent b_own b_cls b_partner b_val) (v1 v2 : Int32) : wpX_ref (fun r => wpY_ref (fun r' => r' = r ∧ i_Rel (k + 5) (f_end, f_at, f_written, f_read, f_error, f_culprit, f_nextHandle, f_depth, f_nTodo, a_defined, a_parent, a_level, a_version, a_fields, a_fName, a_fKind, a_latest, a_oClass, a_pinned, a_slot, a_handle, a_arrived, a_handles, a_described, a_dLevels, a_dFields, a_plan, a_wide, a_wire, a_order, a_made, a_sObj, a_sLev, a_sPos, a_sCls, a_pairs, a_todo) (f_culprit, g_depth, g_lastMade, a_defined, a_version, b_parent, b_own, a_latest, b_cls, b_partner, a_pinned, b_arrived, b_val, b_from, b_made, b_done, b_rows)) (f_culprit, g_depth, g_lastMade, a_defined, a_version, b_parent, b_own, a_latest, b_cls, b_partner, a_pinned, b_arrived, b_val, b_from, b_made, b_done, b_rows) v1 v2) (f_end, f_at, f_written, f_read, f_error, f_culprit, f_nextHandle, f_depth, f_nTodo, a_defined, a_parent, a_level, a_version, a_fields, a_fName, a_fKind, a_latest, a_oClass, a_pinned, a_slot, a_handle, a_arrived, a_handles, a_described, a_dLevels, a_dFields, a_plan, a_wide, a_wire, a_order, a_made, a_sObj, a_sLev, a_sPos, a_sCls, a_pairs, a_todo) v1 v2 := by
  obtain ⟨lv, up, nf, nm, kd, hh, hs, pq, HW, HU, HX, HY, HO, HV, HS, HD, HL⟩ := id R
  unfold wpX_ref wpY_ref; dsimp only
  rcases gj_slot HW HU HX HY HO v1 v2 with ⟨r, kx, ky, kk⟩ | ⟨o, j, l, ho, ha, hj, hl, rfl, -, kx, ky, kk⟩
  · exact kx _ _ (br_f (by decide) (ky _ (kk _ (br_f (by decide) ⟨rfl, gi_in R⟩))))
  · obtain ⟨h1, h2, h3, h4, h5⟩ := gw_O_al HO ho ha
    obtain ⟨m1, m2, m3, m4⟩ := gw_al_ok HW h1 h4 hj
    have f1 := (HW _ m1).1
    have l1 := (HW _ h1).2.2.2.2.1
    have g1 := (HW _ m1).2.2.1 l hl
    refine kx _ (fun z => ?_) (fun z => ?_)
    · exact br_f (by decide) (ky _ (kk _ (br_f (ze_eq4f z (by omega)) ⟨rfl, gi_in R⟩)))
    · refine br_t (nI_pos' (by omega)) ⟨vp_in_nI (by omega) (by decide), ?_⟩
      rw [nI_clamp (by omega)]
      rcases (HV o ho ha j l hj hl).1 z with ⟨e1, e2⟩ | ⟨t, ht, e1, e2, e3, e4⟩
      · rw [e2]
        refine br_t rfl (ky _ (kk _ (br_t (ze_eq4t z) ?_)))
        simp (disch := omega) only [ze_ge0t, ze_gt0t, ze_gt0f, ze_le0t, ze_le0f, ze_lt0f, ze_eq0p, ze_eq0f, ze_ge1t, ze_ge1f, ze_gt1t, ze_gt1f, ze_le1t, ze_le1f, ze_lt1t, ze_lt1f, ze_eq1p, ze_eq1f, ze_ge2t, ze_ge2f, ze_gt2t, ze_gt2f, ze_le2t, ze_le2f, ze_lt2t, ze_lt2f, ze_eq2p, ze_eq2f, ze_ge3t, ze_ge3f, ze_gt3t, ze_gt3f, ze_le3t, ze_le3f, ze_lt3t, ze_lt3f, ze_eq3p, ze_eq3f, ze_ge4t, ze_ge4f, ze_gt4t, ze_gt4f, ze_le4t, ze_le4f, ze_lt4t, ze_lt4f, ze_eq4p, ze_eq4f, ze_ge5t, ze_ge5f, ze_gt5t, ze_gt5f, ze_le5t, ze_le5f, ze_lt5t, ze_lt5f, ze_eq5p, ze_eq5f, ze_ge6t, ze_ge6f, ze_gt6t, ze_gt6f, ze_le6t, ze_le6f, ze_lt6t, ze_lt6f, ze_eq6p, ze_eq6f, ze_ge7t, ze_ge7f, ze_gt7t, ze_gt7f, ze_le7t, ze_le7f, ze_lt7t, ze_lt7f, ze_eq7p, ze_eq7f, ze_ge9t, ze_ge9f, ze_gt9t, ze_gt9f, ze_le9t, ze_le9f, ze_lt9t, ze_lt9f, ze_eq9p, ze_eq9f, ze_ge10t, ze_ge10f, ze_gt10t, ze_gt10f, ze_le10t, ze_le10f, ze_lt10t, ze_lt10f, ze_eq10p, ze_eq10f, ze_ge12t, ze_ge12f, ze_gt12t, ze_gt12f, ze_le12t, ze_le12f, ze_lt12t, ze_lt12f, ze_eq12p, ze_eq12f, ze_ge15t, ze_ge15f, ze_gt15t, ze_gt15f, ze_le15t, ze_le15f, ze_lt15t, ze_lt15f, ze_eq15p, ze_eq15f, ze_ge16t, ze_ge16f, ze_gt16t, ze_gt16f, ze_le16t, ze_le16f, ze_lt16t, ze_lt16f, ze_eq16p, ze_eq16f, ze_ge30t, ze_ge30f, ze_gt30t, ze_gt30f, ze_le30t, ze_le30f, ze_lt30t, ze_lt30f, ze_eq30p, ze_eq30f, ze_ge32t, ze_ge32f, ze_gt32t, ze_gt32f, ze_le32t, ze_le32f, ze_lt32t, ze_lt32f, ze_eq32p, ze_eq32f, ze_ge47t, ze_ge47f, ze_gt47t, ze_gt47f, ze_le47t, ze_le47f, ze_lt47t, ze_lt47f, ze_eq47p, ze_eq47f, ze_ge120t, ze_ge120f, ze_gt120t, ze_gt120f, ze_le120t, ze_le120f, ze_lt120t, ze_lt120f, ze_eq120p, ze_eq120f, ze_ge1024t, ze_ge1024f, ze_gt1024t, ze_gt1024f, ze_le1024t, ze_le1024f, ze_lt1024t, ze_lt1024f, ze_eq1024p, ze_eq1024f, ze_let, ze_lef, ze_ltt, ze_ltf, ze_eqt, ze_eqf, ze_m1_lt0, ze_m1_n0le, ze_m1_le0, ze_m1_le, ze_m1_lt, ze_m1_nle, ze_m1_nlt, ze_m1_ne, ze_m1_en, ze_m1_ne4, ze_m1_ne0, ze_nz6, ze_nz10, ze_nz12, ze_nz16, ze_nz32, ze_nz192, ze_1ne0, ze_0ne1, ze_0ne4, ↓ze_rem6, ↓ze_rem10, ↓ze_rem16, ↓ze_rem32, ↓ze_rem12, ze_div6, ze_div10, ze_div12, ze_div16, ze_div32, ze_div192, ze_mul3, ze_mul4, ze_mul6, ze_mul10, ze_mul12, ze_mul16, ze_mul17, ze_mul32, ze_mul60, ze_mulr6, ze_nrem6, ze_mulr10, ze_nrem10, ze_mulr12, ze_nrem12, ze_mulr16, ze_nrem16, ze_mulr32, ze_nrem32, nI_add, ze_add1, ze_add6, ze_add7, ze_add8, ze_add12, ze_add16, ze_add0, ze_radd0, ze_radd8, ze_sub1, ze_m1, ze_0sub1, ze_m1add1, ze_1sub, ze_2sub, pk_sub, ze_and3, ze_and7, ze_and31, ze_and127, ↓ze_shr2, ↓ze_shr3, ↓ze_shr5, ↓ze_shl3, ze_i8, ze_nby, ze_i8m1, ze_i80, ze_nbm1, ze_i16, ze_nsh, ze_nb0, ze_nt0, ze_nt1, ze_cl0, ze_cl1, nI_clamp, vp_in_nI, forall_eq, true_implies, false_implies, not_true_eq_false, not_false_eq_true, and_true, true_and, implies_true, and_self, forall_const, Classical.not_not, e1]
        exact br_f gl_neg (gi_in R)
      · rw [e2]
        refine br_f (fun q => by have := (lN_eq (b := 0) (by omega) (by omega)).mp q; omega) ⟨vp_in_nI (by omega) (by decide), ?_⟩
        rw [lN_i, nI_pred]
        refine gx_idOf ht (ky _ (kk _ (br_t (ze_eq4t z) ?_)))
        simp (disch := omega) only [ze_ge0t, ze_gt0t, ze_gt0f, ze_le0t, ze_le0f, ze_lt0f, ze_eq0p, ze_eq0f, ze_ge1t, ze_ge1f, ze_gt1t, ze_gt1f, ze_le1t, ze_le1f, ze_lt1t, ze_lt1f, ze_eq1p, ze_eq1f, ze_ge2t, ze_ge2f, ze_gt2t, ze_gt2f, ze_le2t, ze_le2f, ze_lt2t, ze_lt2f, ze_eq2p, ze_eq2f, ze_ge3t, ze_ge3f, ze_gt3t, ze_gt3f, ze_le3t, ze_le3f, ze_lt3t, ze_lt3f, ze_eq3p, ze_eq3f, ze_ge4t, ze_ge4f, ze_gt4t, ze_gt4f, ze_le4t, ze_le4f, ze_lt4t, ze_lt4f, ze_eq4p, ze_eq4f, ze_ge5t, ze_ge5f, ze_gt5t, ze_gt5f, ze_le5t, ze_le5f, ze_lt5t, ze_lt5f, ze_eq5p, ze_eq5f, ze_ge6t, ze_ge6f, ze_gt6t, ze_gt6f, ze_le6t, ze_le6f, ze_lt6t, ze_lt6f, ze_eq6p, ze_eq6f, ze_ge7t, ze_ge7f, ze_gt7t, ze_gt7f, ze_le7t, ze_le7f, ze_lt7t, ze_lt7f, ze_eq7p, ze_eq7f, ze_ge9t, ze_ge9f, ze_gt9t, ze_gt9f, ze_le9t, ze_le9f, ze_lt9t, ze_lt9f, ze_eq9p, ze_eq9f, ze_ge10t, ze_ge10f, ze_gt10t, ze_gt10f, ze_le10t, ze_le10f, ze_lt10t, ze_lt10f, ze_eq10p, ze_eq10f, ze_ge12t, ze_ge12f, ze_gt12t, ze_gt12f, ze_le12t, ze_le12f, ze_lt12t, ze_lt12f, ze_eq12p, ze_eq12f, ze_ge15t, ze_ge15f, ze_gt15t, ze_gt15f, ze_le15t, ze_le15f, ze_lt15t, ze_lt15f, ze_eq15p, ze_eq15f, ze_ge16t, ze_ge16f, ze_gt16t, ze_gt16f, ze_le16t, ze_le16f, ze_lt16t, ze_lt16f, ze_eq16p, ze_eq16f, ze_ge30t, ze_ge30f, ze_gt30t, ze_gt30f, ze_le30t, ze_le30f, ze_lt30t, ze_lt30f, ze_eq30p, ze_eq30f, ze_ge32t, ze_ge32f, ze_gt32t, ze_gt32f, ze_le32t, ze_le32f, ze_lt32t, ze_lt32f, ze_eq32p, ze_eq32f, ze_ge47t, ze_ge47f, ze_gt47t, ze_gt47f, ze_le47t, ze_le47f, ze_lt47t, ze_lt47f, ze_eq47p, ze_eq47f, ze_ge120t, ze_ge120f, ze_gt120t, ze_gt120f, ze_le120t, ze_le120f, ze_lt120t, ze_lt120f, ze_eq120p, ze_eq120f, ze_ge1024t, ze_ge1024f, ze_gt1024t, ze_gt1024f, ze_le1024t, ze_le1024f, ze_lt1024t, ze_lt1024f, ze_eq1024p, ze_eq1024f, ze_let, ze_lef, ze_ltt, ze_ltf, ze_eqt, ze_eqf, ze_m1_lt0, ze_m1_n0le, ze_m1_le0, ze_m1_le, ze_m1_lt, ze_m1_nle, ze_m1_nlt, ze_m1_ne, ze_m1_en, ze_m1_ne4, ze_m1_ne0, ze_nz6, ze_nz10, ze_nz12, ze_nz16, ze_nz32, ze_nz192, ze_1ne0, ze_0ne1, ze_0ne4, ↓ze_rem6, ↓ze_rem10, ↓ze_rem16, ↓ze_rem32, ↓ze_rem12, ze_div6, ze_div10, ze_div12, ze_div16, ze_div32, ze_div192, ze_mul3, ze_mul4, ze_mul6, ze_mul10, ze_mul12, ze_mul16, ze_mul17, ze_mul32, ze_mul60, ze_mulr6, ze_nrem6, ze_mulr10, ze_nrem10, ze_mulr12, ze_nrem12, ze_mulr16, ze_nrem16, ze_mulr32, ze_nrem32, nI_add, ze_add1, ze_add6, ze_add7, ze_add8, ze_add12, ze_add16, ze_add0, ze_radd0, ze_radd8, ze_sub1, ze_m1, ze_0sub1, ze_m1add1, ze_1sub, ze_2sub, pk_sub, ze_and3, ze_and7, ze_and31, ze_and127, ↓ze_shr2, ↓ze_shr3, ↓ze_shr5, ↓ze_shl3, ze_i8, ze_nby, ze_i8m1, ze_i80, ze_nbm1, ze_i16, ze_nsh, ze_nb0, ze_nt0, ze_nt1, ze_cl0, ze_cl1, nI_clamp, vp_in_nI, forall_eq, true_implies, false_implies, not_true_eq_false, not_false_eq_true, and_true, true_and, implies_true, and_self, forall_const, Classical.not_not, e1, lN_i]
        exact gy_id ht ⟨rfl, gi_in R⟩
theorem gm_set {k : Nat} (R : gw_R a_defined a_parent a_level a_version a_fields a_fName a_fKind a_latest a_oClass a_slot a_handle a_arrived a_handles a_described a_dLevels a_dFields a_plan a_wide b_parent b_own b_cls b_partner b_val) (v1 v2 : Int32) (a2 : Int64) : wpX_set (fun r u' => wpY_set (fun r' v' => r' = r ∧ i_Rel (k + 5) u' v') (f_culprit, g_depth, g_lastMade, a_defined, a_version, b_parent, b_own, a_latest, b_cls, b_partner, a_pinned, b_arrived, b_val, b_from, b_made, b_done, b_rows) v1 v2 a2) (f_end, f_at, f_written, f_read, f_error, f_culprit, f_nextHandle, f_depth, f_nTodo, a_defined, a_parent, a_level, a_version, a_fields, a_fName, a_fKind, a_latest, a_oClass, a_pinned, a_slot, a_handle, a_arrived, a_handles, a_described, a_dLevels, a_dFields, a_plan, a_wide, a_wire, a_order, a_made, a_sObj, a_sLev, a_sPos, a_sCls, a_pairs, a_todo) v1 v2 a2 := by
  obtain ⟨lv, up, nf, nm, kd, hh, hs, pq, HW, HU, HX, HY, HO, HV, HS, HD, HL⟩ := id R
  unfold wpX_set wpY_set; dsimp only
  rcases gj_slot HW HU HX HY HO v1 v2 with ⟨r, kx, ky, kk⟩ | ⟨o, j, l, ho, ha, hj, hl, rfl, kx, -, ky, kk⟩
  · exact kx _ _ (br_f (by decide) (ky _ (kk _ (br_t (by decide) ⟨rfl, gi_in R⟩))))
  · obtain ⟨h1, h2, h3, h4, h5⟩ := gw_O_al HO ho ha
    obtain ⟨m1, m2, m3, m4⟩ := gw_al_ok HW h1 h4 hj
    have f1 := (HW _ m1).1
    have l1 := (HW _ h1).2.2.2.2.1
    have g1 := (HW _ m1).2.2.1 l hl
    refine kx _ (fun z => ?_) (fun z => ?_)
    · exact br_f (by decide) (ky _ (kk _ (br_f (nI_pos (by omega)) (br_t (ze_eq4t z) ⟨rfl, gi_in R⟩))))
    · have new : ∀ w : Int64, gw_R a_defined a_parent a_level a_version a_fields a_fName a_fKind a_latest a_oClass (vp_updL a_slot (12 * o + 4 * j + l) w) a_handle a_arrived a_handles a_described a_dLevels a_dFields a_plan a_wide b_parent b_own b_cls b_partner (vp_updL b_val (10 * o + nm (4 * gw_al lv up (gw_kl a_oClass o) j + l)) w) :=
        fun w => ⟨lv, up, nf, nm, kd, hh, hs, pq, HW, HU, HX, HY, HO, gw_V_upd HW HU HO HV ho ha hj hl ⟨fun q => absurd q z, fun _ => rfl⟩, HS, HD, HL⟩
      have q1 : (12 * o + 4 * j + l) / 12 = o := by omega
      have q2 : (12 * o + 4 * j + l) % 12 = 4 * j + l := by omega
      refine br_t (nI_pos' (by omega)) ?_
      simp (disch := omega) only [ze_nz12, not_false_eq_true, true_and, ↓ze_rem12, ze_div12, q1, q2, vp_in_nI, nI_clamp, h2]
      refine gx_kindAt HW HX h1 h4 hj hl ?_
      refine br_f (nI_pos (by omega)) ?_
      have hkd : kd (4 * gw_al lv up (gw_kl a_oClass o) j + l) = 0 ∨ kd (4 * gw_al lv up (gw_kl a_oClass o) j + l) = 1 ∨ kd (4 * gw_al lv up (gw_kl a_oClass o) j + l) = 2 ∨ kd (4 * gw_al lv up (gw_kl a_oClass o) j + l) = 3 := by omega
      rcases hkd with q | q | q | q <;> rw [q] at kk <;> rw [q] <;> simp (disch := omega) only [ze_ge0t, ze_gt0t, ze_gt0f, ze_le0t, ze_le0f, ze_lt0f, ze_eq0p, ze_eq0f, ze_ge1t, ze_ge1f, ze_gt1t, ze_gt1f, ze_le1t, ze_le1f, ze_lt1t, ze_lt1f, ze_eq1p, ze_eq1f, ze_ge2t, ze_ge2f, ze_gt2t, ze_gt2f, ze_le2t, ze_le2f, ze_lt2t, ze_lt2f, ze_eq2p, ze_eq2f, ze_ge3t, ze_ge3f, ze_gt3t, ze_gt3f, ze_le3t, ze_le3f, ze_lt3t, ze_lt3f, ze_eq3p, ze_eq3f, ze_ge4t, ze_ge4f, ze_gt4t, ze_gt4f, ze_le4t, ze_le4f, ze_lt4t, ze_lt4f, ze_eq4p, ze_eq4f, ze_ge5t, ze_ge5f, ze_gt5t, ze_gt5f, ze_le5t, ze_le5f, ze_lt5t, ze_lt5f, ze_eq5p, ze_eq5f, ze_ge6t, ze_ge6f, ze_gt6t, ze_gt6f, ze_le6t, ze_le6f, ze_lt6t, ze_lt6f, ze_eq6p, ze_eq6f, ze_ge7t, ze_ge7f, ze_gt7t, ze_gt7f, ze_le7t, ze_le7f, ze_lt7t, ze_lt7f, ze_eq7p, ze_eq7f, ze_ge9t, ze_ge9f, ze_gt9t, ze_gt9f, ze_le9t, ze_le9f, ze_lt9t, ze_lt9f, ze_eq9p, ze_eq9f, ze_ge10t, ze_ge10f, ze_gt10t, ze_gt10f, ze_le10t, ze_le10f, ze_lt10t, ze_lt10f, ze_eq10p, ze_eq10f, ze_ge12t, ze_ge12f, ze_gt12t, ze_gt12f, ze_le12t, ze_le12f, ze_lt12t, ze_lt12f, ze_eq12p, ze_eq12f, ze_ge15t, ze_ge15f, ze_gt15t, ze_gt15f, ze_le15t, ze_le15f, ze_lt15t, ze_lt15f, ze_eq15p, ze_eq15f, ze_ge16t, ze_ge16f, ze_gt16t, ze_gt16f, ze_le16t, ze_le16f, ze_lt16t, ze_lt16f, ze_eq16p, ze_eq16f, ze_ge30t, ze_ge30f, ze_gt30t, ze_gt30f, ze_le30t, ze_le30f, ze_lt30t, ze_lt30f, ze_eq30p, ze_eq30f, ze_ge32t, ze_ge32f, ze_gt32t, ze_gt32f, ze_le32t, ze_le32f, ze_lt32t, ze_lt32f, ze_eq32p, ze_eq32f, ze_ge47t, ze_ge47f, ze_gt47t, ze_gt47f, ze_le47t, ze_le47f, ze_lt47t, ze_lt47f, ze_eq47p, ze_eq47f, ze_ge120t, ze_ge120f, ze_gt120t, ze_gt120f, ze_le120t, ze_le120f, ze_lt120t, ze_lt120f, ze_eq120p, ze_eq120f, ze_ge1024t, ze_ge1024f, ze_gt1024t, ze_gt1024f, ze_le1024t, ze_le1024f, ze_lt1024t, ze_lt1024f, ze_eq1024p, ze_eq1024f, ze_let, ze_lef, ze_ltt, ze_ltf, ze_eqt, ze_eqf, ze_m1_lt0, ze_m1_n0le, ze_m1_le0, ze_m1_le, ze_m1_lt, ze_m1_nle, ze_m1_nlt, ze_m1_ne, ze_m1_en, ze_m1_ne4, ze_m1_ne0, ze_nz6, ze_nz10, ze_nz12, ze_nz16, ze_nz32, ze_nz192, ze_1ne0, ze_0ne1, ze_0ne4, ↓ze_rem6, ↓ze_rem10, ↓ze_rem16, ↓ze_rem32, ↓ze_rem12, ze_div6, ze_div10, ze_div12, ze_div16, ze_div32, ze_div192, ze_mul3, ze_mul4, ze_mul6, ze_mul10, ze_mul12, ze_mul16, ze_mul17, ze_mul32, ze_mul60, ze_mulr6, ze_nrem6, ze_mulr10, ze_nrem10, ze_mulr12, ze_nrem12, ze_mulr16, ze_nrem16, ze_mulr32, ze_nrem32, nI_add, ze_add1, ze_add6, ze_add7, ze_add8, ze_add12, ze_add16, ze_add0, ze_radd0, ze_radd8, ze_sub1, ze_m1, ze_0sub1, ze_m1add1, ze_1sub, ze_2sub, pk_sub, ze_and3, ze_and7, ze_and31, ze_and127, ↓ze_shr2, ↓ze_shr3, ↓ze_shr5, ↓ze_shl3, ze_i8, ze_nby, ze_i8m1, ze_i80, ze_nbm1, ze_i16, ze_nsh, ze_nb0, ze_nt0, ze_nt1, ze_cl0, ze_cl1, nI_clamp, vp_in_nI, forall_eq, true_implies, false_implies, not_true_eq_false, not_false_eq_true, and_true, true_and, implies_true, and_self, forall_const, Classical.not_not] <;> refine ky _ (kk _ ?_) <;> simp (disch := omega) only [ze_ge0t, ze_gt0t, ze_gt0f, ze_le0t, ze_le0f, ze_lt0f, ze_eq0p, ze_eq0f, ze_ge1t, ze_ge1f, ze_gt1t, ze_gt1f, ze_le1t, ze_le1f, ze_lt1t, ze_lt1f, ze_eq1p, ze_eq1f, ze_ge2t, ze_ge2f, ze_gt2t, ze_gt2f, ze_le2t, ze_le2f, ze_lt2t, ze_lt2f, ze_eq2p, ze_eq2f, ze_ge3t, ze_ge3f, ze_gt3t, ze_gt3f, ze_le3t, ze_le3f, ze_lt3t, ze_lt3f, ze_eq3p, ze_eq3f, ze_ge4t, ze_ge4f, ze_gt4t, ze_gt4f, ze_le4t, ze_le4f, ze_lt4t, ze_lt4f, ze_eq4p, ze_eq4f, ze_ge5t, ze_ge5f, ze_gt5t, ze_gt5f, ze_le5t, ze_le5f, ze_lt5t, ze_lt5f, ze_eq5p, ze_eq5f, ze_ge6t, ze_ge6f, ze_gt6t, ze_gt6f, ze_le6t, ze_le6f, ze_lt6t, ze_lt6f, ze_eq6p, ze_eq6f, ze_ge7t, ze_ge7f, ze_gt7t, ze_gt7f, ze_le7t, ze_le7f, ze_lt7t, ze_lt7f, ze_eq7p, ze_eq7f, ze_ge9t, ze_ge9f, ze_gt9t, ze_gt9f, ze_le9t, ze_le9f, ze_lt9t, ze_lt9f, ze_eq9p, ze_eq9f, ze_ge10t, ze_ge10f, ze_gt10t, ze_gt10f, ze_le10t, ze_le10f, ze_lt10t, ze_lt10f, ze_eq10p, ze_eq10f, ze_ge12t, ze_ge12f, ze_gt12t, ze_gt12f, ze_le12t, ze_le12f, ze_lt12t, ze_lt12f, ze_eq12p, ze_eq12f, ze_ge15t, ze_ge15f, ze_gt15t, ze_gt15f, ze_le15t, ze_le15f, ze_lt15t, ze_lt15f, ze_eq15p, ze_eq15f, ze_ge16t, ze_ge16f, ze_gt16t, ze_gt16f, ze_le16t, ze_le16f, ze_lt16t, ze_lt16f, ze_eq16p, ze_eq16f, ze_ge30t, ze_ge30f, ze_gt30t, ze_gt30f, ze_le30t, ze_le30f, ze_lt30t, ze_lt30f, ze_eq30p, ze_eq30f, ze_ge32t, ze_ge32f, ze_gt32t, ze_gt32f, ze_le32t, ze_le32f, ze_lt32t, ze_lt32f, ze_eq32p, ze_eq32f, ze_ge47t, ze_ge47f, ze_gt47t, ze_gt47f, ze_le47t, ze_le47f, ze_lt47t, ze_lt47f, ze_eq47p, ze_eq47f, ze_ge120t, ze_ge120f, ze_gt120t, ze_gt120f, ze_le120t, ze_le120f, ze_lt120t, ze_lt120f, ze_eq120p, ze_eq120f, ze_ge1024t, ze_ge1024f, ze_gt1024t, ze_gt1024f, ze_le1024t, ze_le1024f, ze_lt1024t, ze_lt1024f, ze_eq1024p, ze_eq1024f, ze_let, ze_lef, ze_ltt, ze_ltf, ze_eqt, ze_eqf, ze_m1_lt0, ze_m1_n0le, ze_m1_le0, ze_m1_le, ze_m1_lt, ze_m1_nle, ze_m1_nlt, ze_m1_ne, ze_m1_en, ze_m1_ne4, ze_m1_ne0, ze_nz6, ze_nz10, ze_nz12, ze_nz16, ze_nz32, ze_nz192, ze_1ne0, ze_0ne1, ze_0ne4, ↓ze_rem6, ↓ze_rem10, ↓ze_rem16, ↓ze_rem32, ↓ze_rem12, ze_div6, ze_div10, ze_div12, ze_div16, ze_div32, ze_div192, ze_mul3, ze_mul4, ze_mul6, ze_mul10, ze_mul12, ze_mul16, ze_mul17, ze_mul32, ze_mul60, ze_mulr6, ze_nrem6, ze_mulr10, ze_nrem10, ze_mulr12, ze_nrem12, ze_mulr16, ze_nrem16, ze_mulr32, ze_nrem32, nI_add, ze_add1, ze_add6, ze_add7, ze_add8, ze_add12, ze_add16, ze_add0, ze_radd0, ze_radd8, ze_sub1, ze_m1, ze_0sub1, ze_m1add1, ze_1sub, ze_2sub, pk_sub, ze_and3, ze_and7, ze_and31, ze_and127, ↓ze_shr2, ↓ze_shr3, ↓ze_shr5, ↓ze_shl3, ze_i8, ze_nby, ze_i8m1, ze_i80, ze_nbm1, ze_i16, ze_nsh, ze_nb0, ze_nt0, ze_nt1, ze_cl0, ze_cl1, nI_clamp, vp_in_nI, forall_eq, true_implies, false_implies, not_true_eq_false, not_false_eq_true, and_true, true_and, implies_true, and_self, forall_const, Classical.not_not] <;> exact gi_in (new _)
theorem gm_link {k : Nat} (R : gw_R a_defined a_parent a_level a_version a_fields a_fName a_fKind a_latest a_oClass a_slot a_handle a_arrived a_handles a_described a_dLevels a_dFields a_plan a_wide b_parent b_own b_cls b_partner b_val) (v1 v2 v3 : Int32) : wpX_link (fun r u' => wpY_link (fun r' v' => r' = r ∧ i_Rel (k + 5) u' v') (f_culprit, g_depth, g_lastMade, a_defined, a_version, b_parent, b_own, a_latest, b_cls, b_partner, a_pinned, b_arrived, b_val, b_from, b_made, b_done, b_rows) v1 v2 v3) (f_end, f_at, f_written, f_read, f_error, f_culprit, f_nextHandle, f_depth, f_nTodo, a_defined, a_parent, a_level, a_version, a_fields, a_fName, a_fKind, a_latest, a_oClass, a_pinned, a_slot, a_handle, a_arrived, a_handles, a_described, a_dLevels, a_dFields, a_plan, a_wide, a_wire, a_order, a_made, a_sObj, a_sLev, a_sPos, a_sCls, a_pairs, a_todo) v1 v2 v3 := by
  obtain ⟨lv, up, nf, nm, kd, hh, hs, pq, HW, HU, HX, HY, HO, HV, HS, HD, HL⟩ := id R
  unfold wpX_link wpY_link; dsimp only
  obtain ⟨r, hr, tx, ty⟩ : gj_OB a_oClass (f_end, f_at, f_written, f_read, f_error, f_culprit, f_nextHandle, f_depth, f_nTodo, a_defined, a_parent, a_level, a_version, a_fields, a_fName, a_fKind, a_latest, a_oClass, a_pinned, a_slot, a_handle, a_arrived, a_handles, a_described, a_dLevels, a_dFields, a_plan, a_wide, a_wire, a_order, a_made, a_sObj, a_sLev, a_sPos, a_sCls, a_pairs, a_todo) (f_culprit, g_depth, g_lastMade, a_defined, a_version, b_parent, b_own, a_latest, b_cls, b_partner, a_pinned, b_arrived, b_val, b_from, b_made, b_done, b_rows) v3 := gj_object HO v3
  rcases gj_slot HW HU HX HY HO v1 v2 with ⟨r1, kx, ky, kk⟩ | ⟨o, j, l, ho, ha, hj, hl, rfl, -, kx, ky, kk⟩
  · exact kx _ _ (tx _ (br_t (by decide) (ky _ (ty _ (kk _ (br_f (by decide) ⟨rfl, gi_in R⟩))))))
  · obtain ⟨h1, h2, h3, h4, h5⟩ := gw_O_al HO ho ha
    obtain ⟨m1, m2, m3, m4⟩ := gw_al_ok HW h1 h4 hj
    have f1 := (HW _ m1).1
    have l1 := (HW _ h1).2.2.2.2.1
    have g1 := (HW _ m1).2.2.1 l hl
    refine kx _ (fun z => ?_) (fun z => ?_)
    · exact tx _ (br_t (by decide) (ky _ (ty _ (kk _ (br_f (ze_eq4f z (by omega)) ⟨rfl, gi_in R⟩)))))
    · have new : ∀ v w : Int64, gw_cell a_oClass o (kd (4 * gw_al lv up (gw_kl a_oClass o) j + l)) v w → gw_R a_defined a_parent a_level a_version a_fields a_fName a_fKind a_latest a_oClass (vp_updL a_slot (12 * o + 4 * j + l) v) a_handle a_arrived a_handles a_described a_dLevels a_dFields a_plan a_wide b_parent b_own b_cls b_partner (vp_updL b_val (10 * o + nm (4 * gw_al lv up (gw_kl a_oClass o) j + l)) w) :=
        fun v w hvw => ⟨lv, up, nf, nm, kd, hh, hs, pq, HW, HU, HX, HY, HO, gw_V_upd HW HU HO HV ho ha hj hl hvw, HS, HD, HL⟩
      refine tx _ (br_f (nI_pos (by omega)) ?_)
      unfold wX_link_47 wY_link_50
      rcases hr with rfl | ⟨hne, t, ht, rfl, hta⟩
      · refine br_c (fun e => ?_) (fun e => br_t (by decide) (ky _ (ty _ (kk _ (br_t (ze_eq4t z) (br_f e (br_t (by decide) ⟨rfl, gi_in R⟩)))))))
        refine ⟨vp_in_nI (by omega) (by decide), nm_e (ky _ (ty _ (kk _ (br_t (ze_eq4t z) (br_t e ?_)))))⟩
        simp (disch := omega) only [ze_ge0t, ze_gt0t, ze_gt0f, ze_le0t, ze_le0f, ze_lt0f, ze_eq0p, ze_eq0f, ze_ge1t, ze_ge1f, ze_gt1t, ze_gt1f, ze_le1t, ze_le1f, ze_lt1t, ze_lt1f, ze_eq1p, ze_eq1f, ze_ge2t, ze_ge2f, ze_gt2t, ze_gt2f, ze_le2t, ze_le2f, ze_lt2t, ze_lt2f, ze_eq2p, ze_eq2f, ze_ge3t, ze_ge3f, ze_gt3t, ze_gt3f, ze_le3t, ze_le3f, ze_lt3t, ze_lt3f, ze_eq3p, ze_eq3f, ze_ge4t, ze_ge4f, ze_gt4t, ze_gt4f, ze_le4t, ze_le4f, ze_lt4t, ze_lt4f, ze_eq4p, ze_eq4f, ze_ge5t, ze_ge5f, ze_gt5t, ze_gt5f, ze_le5t, ze_le5f, ze_lt5t, ze_lt5f, ze_eq5p, ze_eq5f, ze_ge6t, ze_ge6f, ze_gt6t, ze_gt6f, ze_le6t, ze_le6f, ze_lt6t, ze_lt6f, ze_eq6p, ze_eq6f, ze_ge7t, ze_ge7f, ze_gt7t, ze_gt7f, ze_le7t, ze_le7f, ze_lt7t, ze_lt7f, ze_eq7p, ze_eq7f, ze_ge9t, ze_ge9f, ze_gt9t, ze_gt9f, ze_le9t, ze_le9f, ze_lt9t, ze_lt9f, ze_eq9p, ze_eq9f, ze_ge10t, ze_ge10f, ze_gt10t, ze_gt10f, ze_le10t, ze_le10f, ze_lt10t, ze_lt10f, ze_eq10p, ze_eq10f, ze_ge12t, ze_ge12f, ze_gt12t, ze_gt12f, ze_le12t, ze_le12f, ze_lt12t, ze_lt12f, ze_eq12p, ze_eq12f, ze_ge15t, ze_ge15f, ze_gt15t, ze_gt15f, ze_le15t, ze_le15f, ze_lt15t, ze_lt15f, ze_eq15p, ze_eq15f, ze_ge16t, ze_ge16f, ze_gt16t, ze_gt16f, ze_le16t, ze_le16f, ze_lt16t, ze_lt16f, ze_eq16p, ze_eq16f, ze_ge30t, ze_ge30f, ze_gt30t, ze_gt30f, ze_le30t, ze_le30f, ze_lt30t, ze_lt30f, ze_eq30p, ze_eq30f, ze_ge32t, ze_ge32f, ze_gt32t, ze_gt32f, ze_le32t, ze_le32f, ze_lt32t, ze_lt32f, ze_eq32p, ze_eq32f, ze_ge47t, ze_ge47f, ze_gt47t, ze_gt47f, ze_le47t, ze_le47f, ze_lt47t, ze_lt47f, ze_eq47p, ze_eq47f, ze_ge120t, ze_ge120f, ze_gt120t, ze_gt120f, ze_le120t, ze_le120f, ze_lt120t, ze_lt120f, ze_eq120p, ze_eq120f, ze_ge1024t, ze_ge1024f, ze_gt1024t, ze_gt1024f, ze_le1024t, ze_le1024f, ze_lt1024t, ze_lt1024f, ze_eq1024p, ze_eq1024f, ze_let, ze_lef, ze_ltt, ze_ltf, ze_eqt, ze_eqf, ze_m1_lt0, ze_m1_n0le, ze_m1_le0, ze_m1_le, ze_m1_lt, ze_m1_nle, ze_m1_nlt, ze_m1_ne, ze_m1_en, ze_m1_ne4, ze_m1_ne0, ze_nz6, ze_nz10, ze_nz12, ze_nz16, ze_nz32, ze_nz192, ze_1ne0, ze_0ne1, ze_0ne4, ↓ze_rem6, ↓ze_rem10, ↓ze_rem16, ↓ze_rem32, ↓ze_rem12, ze_div6, ze_div10, ze_div12, ze_div16, ze_div32, ze_div192, ze_mul3, ze_mul4, ze_mul6, ze_mul10, ze_mul12, ze_mul16, ze_mul17, ze_mul32, ze_mul60, ze_mulr6, ze_nrem6, ze_mulr10, ze_nrem10, ze_mulr12, ze_nrem12, ze_mulr16, ze_nrem16, ze_mulr32, ze_nrem32, nI_add, ze_add1, ze_add6, ze_add7, ze_add8, ze_add12, ze_add16, ze_add0, ze_radd0, ze_radd8, ze_sub1, ze_m1, ze_0sub1, ze_m1add1, ze_1sub, ze_2sub, pk_sub, ze_and3, ze_and7, ze_and31, ze_and127, ↓ze_shr2, ↓ze_shr3, ↓ze_shr5, ↓ze_shl3, ze_i8, ze_nby, ze_i8m1, ze_i80, ze_nbm1, ze_i16, ze_nsh, ze_nb0, ze_nt0, ze_nt1, ze_cl0, ze_cl1, nI_clamp, vp_in_nI, forall_eq, true_implies, false_implies, not_true_eq_false, not_false_eq_true, and_true, true_and, implies_true, and_self, forall_const, Classical.not_not, gl_m1, gl_0]
        exact gi_in (new _ _ ⟨fun _ => Or.inl ⟨rfl, rfl⟩, fun q => absurd z q⟩)
      · refine br_f hne (br_f (nI_pos (by omega)) ⟨by decide, by decide, ?_⟩)
        have q1 : (12 * o + 4 * j + l) / 192 = o / 16 := by omega
        rw [ze_div16 (by omega), ze_div192 (by omega), q1]
        by_cases e : t / 16 = o / 16
        · refine br_t (congrArg nI e) ⟨vp_in_nI (by omega) (by decide), nm_e (ky _ (ty _ (kk _ (br_t (ze_eq4t z) (br_f hne (br_f (nI_pos (by omega)) ⟨by decide, by decide, ?_⟩))))))⟩
          rw [ze_div16 (by omega), ze_div16 (by omega)]
          refine br_t (congrArg nI e) ?_
          have e1 : (nI t).toInt64 = lN t := nI_l (by omega)
          have e2 : (nI t + 1).toInt64 = lN (t + 1) := by rw [nI_1]; exact nI_l (by omega)
          rw [e1, e2]
          simp (disch := omega) only [ze_ge0t, ze_gt0t, ze_gt0f, ze_le0t, ze_le0f, ze_lt0f, ze_eq0p, ze_eq0f, ze_ge1t, ze_ge1f, ze_gt1t, ze_gt1f, ze_le1t, ze_le1f, ze_lt1t, ze_lt1f, ze_eq1p, ze_eq1f, ze_ge2t, ze_ge2f, ze_gt2t, ze_gt2f, ze_le2t, ze_le2f, ze_lt2t, ze_lt2f, ze_eq2p, ze_eq2f, ze_ge3t, ze_ge3f, ze_gt3t, ze_gt3f, ze_le3t, ze_le3f, ze_lt3t, ze_lt3f, ze_eq3p, ze_eq3f, ze_ge4t, ze_ge4f, ze_gt4t, ze_gt4f, ze_le4t, ze_le4f, ze_lt4t, ze_lt4f, ze_eq4p, ze_eq4f, ze_ge5t, ze_ge5f, ze_gt5t, ze_gt5f, ze_le5t, ze_le5f, ze_lt5t, ze_lt5f, ze_eq5p, ze_eq5f, ze_ge6t, ze_ge6f, ze_gt6t, ze_gt6f, ze_le6t, ze_le6f, ze_lt6t, ze_lt6f, ze_eq6p, ze_eq6f, ze_ge7t, ze_ge7f, ze_gt7t, ze_gt7f, ze_le7t, ze_le7f, ze_lt7t, ze_lt7f, ze_eq7p, ze_eq7f, ze_ge9t, ze_ge9f, ze_gt9t, ze_gt9f, ze_le9t, ze_le9f, ze_lt9t, ze_lt9f, ze_eq9p, ze_eq9f, ze_ge10t, ze_ge10f, ze_gt10t, ze_gt10f, ze_le10t, ze_le10f, ze_lt10t, ze_lt10f, ze_eq10p, ze_eq10f, ze_ge12t, ze_ge12f, ze_gt12t, ze_gt12f, ze_le12t, ze_le12f, ze_lt12t, ze_lt12f, ze_eq12p, ze_eq12f, ze_ge15t, ze_ge15f, ze_gt15t, ze_gt15f, ze_le15t, ze_le15f, ze_lt15t, ze_lt15f, ze_eq15p, ze_eq15f, ze_ge16t, ze_ge16f, ze_gt16t, ze_gt16f, ze_le16t, ze_le16f, ze_lt16t, ze_lt16f, ze_eq16p, ze_eq16f, ze_ge30t, ze_ge30f, ze_gt30t, ze_gt30f, ze_le30t, ze_le30f, ze_lt30t, ze_lt30f, ze_eq30p, ze_eq30f, ze_ge32t, ze_ge32f, ze_gt32t, ze_gt32f, ze_le32t, ze_le32f, ze_lt32t, ze_lt32f, ze_eq32p, ze_eq32f, ze_ge47t, ze_ge47f, ze_gt47t, ze_gt47f, ze_le47t, ze_le47f, ze_lt47t, ze_lt47f, ze_eq47p, ze_eq47f, ze_ge120t, ze_ge120f, ze_gt120t, ze_gt120f, ze_le120t, ze_le120f, ze_lt120t, ze_lt120f, ze_eq120p, ze_eq120f, ze_ge1024t, ze_ge1024f, ze_gt1024t, ze_gt1024f, ze_le1024t, ze_le1024f, ze_lt1024t, ze_lt1024f, ze_eq1024p, ze_eq1024f, ze_let, ze_lef, ze_ltt, ze_ltf, ze_eqt, ze_eqf, ze_m1_lt0, ze_m1_n0le, ze_m1_le0, ze_m1_le, ze_m1_lt, ze_m1_nle, ze_m1_nlt, ze_m1_ne, ze_m1_en, ze_m1_ne4, ze_m1_ne0, ze_nz6, ze_nz10, ze_nz12, ze_nz16, ze_nz32, ze_nz192, ze_1ne0, ze_0ne1, ze_0ne4, ↓ze_rem6, ↓ze_rem10, ↓ze_rem16, ↓ze_rem32, ↓ze_rem12, ze_div6, ze_div10, ze_div12, ze_div16, ze_div32, ze_div192, ze_mul3, ze_mul4, ze_mul6, ze_mul10, ze_mul12, ze_mul16, ze_mul17, ze_mul32, ze_mul60, ze_mulr6, ze_nrem6, ze_mulr10, ze_nrem10, ze_mulr12, ze_nrem12, ze_mulr16, ze_nrem16, ze_mulr32, ze_nrem32, nI_add, ze_add1, ze_add6, ze_add7, ze_add8, ze_add12, ze_add16, ze_add0, ze_radd0, ze_radd8, ze_sub1, ze_m1, ze_0sub1, ze_m1add1, ze_1sub, ze_2sub, pk_sub, ze_and3, ze_and7, ze_and31, ze_and127, ↓ze_shr2, ↓ze_shr3, ↓ze_shr5, ↓ze_shl3, ze_i8, ze_nby, ze_i8m1, ze_i80, ze_nbm1, ze_i16, ze_nsh, ze_nb0, ze_nt0, ze_nt1, ze_cl0, ze_cl1, nI_clamp, vp_in_nI, forall_eq, true_implies, false_implies, not_true_eq_false, not_false_eq_true, and_true, true_and, implies_true, and_self, forall_const, Classical.not_not]
          exact gi_in (new _ _ ⟨fun _ => Or.inr ⟨t, ht, rfl, rfl, hta, e⟩, fun q => absurd z q⟩)
        · refine br_f (ze_eqf e (by omega) (by omega)) (ky _ (ty _ (kk _ (br_t (ze_eq4t z) (br_f hne (br_f (nI_pos (by omega)) ⟨by decide, by decide, ?_⟩))))))
          rw [ze_div16 (by omega), ze_div16 (by omega)]
          exact br_f (ze_eqf e (by omega) (by omega)) ⟨rfl, gi_in R⟩
end
end
section
def gw_zr (S : Nat → Int64) (a b : Nat) : Nat → Int64 := fun j => if a ≤ j ∧ j < b then 0 else S j
theorem gw_zr_s (S : Nat → Int64) (a i : Nat) : vp_updL (gw_zr S a (a + i)) (a + i) 0 = gw_zr S a (a + (i + 1)) := by
  funext j
  unfold vp_updL gw_zr
  by_cases h : j = a + i
  · rw [if_pos h, if_pos (by omega)]
  · rw [if_neg h]
    by_cases h2 : a ≤ j ∧ j < a + i
    · rw [if_pos h2, if_pos (by omega)]
    · rw [if_neg h2, if_neg (by omega)]
theorem gw_zr_0 (S : Nat → Int64) (a : Nat) : gw_zr S a a = S := by
  funext j
  unfold gw_zr
  rw [if_neg (by omega)]
theorem gw_zr_in {S : Nat → Int64} {a b j : Nat} (h1 : a ≤ j) (h2 : j < b) : gw_zr S a b j = 0 := if_pos ⟨h1, h2⟩
theorem gw_zr_out {S : Nat → Int64} {a b j : Nat} (h : j < a ∨ b ≤ j) : gw_zr S a b j = S j := if_neg (by omega)
theorem gw_free (C : Nat → Int32) (s : Nat) : (∀ q, q < 16 → C (16 * s + q) ≠ -1) ∨ (∃ q, q < 16 ∧ C (16 * s + q) = -1 ∧ ∀ p, p < q → C (16 * s + p) ≠ -1) := by
  rcases Classical.em (∃ q, q < 16 ∧ C (16 * s + q) = -1) with h | h
  · obtain ⟨q, ⟨h1, h2⟩, h3⟩ := pk_least _ h
    exact Or.inr ⟨q, h1, h2, fun p hp e => h3 p hp ⟨by omega, e⟩⟩
  · exact Or.inl fun q hq e => h ⟨q, hq, e⟩
section
variable {f_end f_at f_written f_read f_error f_culprit f_nextHandle f_depth f_nTodo : Int32} {a_defined a_parent a_level a_version a_fields a_fName a_fKind a_latest a_oClass a_pinned a_handle a_arrived a_handles a_described a_dLevels a_dFields a_plan a_wide a_wire a_order a_made a_sObj a_sLev a_sPos a_sCls a_todo : Nat → Int32} {a_slot a_pairs : Nat → Int64} {g_culprit g_depth g_lastMade : Int32} {b_defined b_version b_parent b_own b_latest b_cls b_partner b_pinned b_arrived b_from b_made b_done b_rows : Nat → Int32} {b_val : Nat → Int64} {lv up nf nm kd : Nat → Nat}
theorem gx_create69 {post : Int32 → SX → Prop} {o : Nat} (ho : o < 32) (K : post (nI o) (f_end, f_at, f_written, f_read, f_error, f_culprit, f_nextHandle, f_depth, f_nTodo, a_defined, a_parent, a_level, a_version, a_fields, a_fName, a_fKind, a_latest, a_oClass, a_pinned, gw_zr a_slot (12 * o) (12 * o + 12), a_handle, a_arrived, a_handles, a_described, a_dLevels, a_dFields, a_plan, a_wide, a_wire, a_order, a_made, a_sObj, a_sLev, a_sPos, a_sCls, a_pairs, a_todo)) :
    ∀ n i, i ≤ 12 → 12 - i < n → wX_create_69 post (nI o) f_end f_at f_written f_read f_error f_culprit f_nextHandle f_depth f_nTodo n (nI (12 * o + i)) a_defined a_parent a_level a_version a_fields a_fName a_fKind a_latest a_oClass a_pinned (gw_zr a_slot (12 * o) (12 * o + i)) a_handle a_arrived a_handles a_described a_dLevels a_dFields a_plan a_wide a_wire a_order a_made a_sObj a_sLev a_sPos a_sCls a_pairs a_todo := by
  intro n
  induction n with
  | zero => intro i h1 h2; omega
  | succ n ih =>
    intro i hi hn
    rw [wX_create_69]
    rcases Nat.eq_or_lt_of_le hi with z | z
    · subst z
      simp (disch := omega) only [ze_ge0t, ze_gt0t, ze_gt0f, ze_le0t, ze_le0f, ze_lt0f, ze_eq0p, ze_eq0f, ze_ge1t, ze_ge1f, ze_gt1t, ze_gt1f, ze_le1t, ze_le1f, ze_lt1t, ze_lt1f, ze_eq1p, ze_eq1f, ze_ge2t, ze_ge2f, ze_gt2t, ze_gt2f, ze_le2t, ze_le2f, ze_lt2t, ze_lt2f, ze_eq2p, ze_eq2f, ze_ge3t, ze_ge3f, ze_gt3t, ze_gt3f, ze_le3t, ze_le3f, ze_lt3t, ze_lt3f, ze_eq3p, ze_eq3f, ze_ge4t, ze_ge4f, ze_gt4t, ze_gt4f, ze_le4t, ze_le4f, ze_lt4t, ze_lt4f, ze_eq4p, ze_eq4f, ze_ge5t, ze_ge5f, ze_gt5t, ze_gt5f, ze_le5t, ze_le5f, ze_lt5t, ze_lt5f, ze_eq5p, ze_eq5f, ze_ge6t, ze_ge6f, ze_gt6t, ze_gt6f, ze_le6t, ze_le6f, ze_lt6t, ze_lt6f, ze_eq6p, ze_eq6f, ze_ge7t, ze_ge7f, ze_gt7t, ze_gt7f, ze_le7t, ze_le7f, ze_lt7t, ze_lt7f, ze_eq7p, ze_eq7f, ze_ge9t, ze_ge9f, ze_gt9t, ze_gt9f, ze_le9t, ze_le9f, ze_lt9t, ze_lt9f, ze_eq9p, ze_eq9f, ze_ge10t, ze_ge10f, ze_gt10t, ze_gt10f, ze_le10t, ze_le10f, ze_lt10t, ze_lt10f, ze_eq10p, ze_eq10f, ze_ge12t, ze_ge12f, ze_gt12t, ze_gt12f, ze_le12t, ze_le12f, ze_lt12t, ze_lt12f, ze_eq12p, ze_eq12f, ze_ge15t, ze_ge15f, ze_gt15t, ze_gt15f, ze_le15t, ze_le15f, ze_lt15t, ze_lt15f, ze_eq15p, ze_eq15f, ze_ge16t, ze_ge16f, ze_gt16t, ze_gt16f, ze_le16t, ze_le16f, ze_lt16t, ze_lt16f, ze_eq16p, ze_eq16f, ze_ge30t, ze_ge30f, ze_gt30t, ze_gt30f, ze_le30t, ze_le30f, ze_lt30t, ze_lt30f, ze_eq30p, ze_eq30f, ze_ge32t, ze_ge32f, ze_gt32t, ze_gt32f, ze_le32t, ze_le32f, ze_lt32t, ze_lt32f, ze_eq32p, ze_eq32f, ze_ge47t, ze_ge47f, ze_gt47t, ze_gt47f, ze_le47t, ze_le47f, ze_lt47t, ze_lt47f, ze_eq47p, ze_eq47f, ze_ge120t, ze_ge120f, ze_gt120t, ze_gt120f, ze_le120t, ze_le120f, ze_lt120t, ze_lt120f, ze_eq120p, ze_eq120f, ze_ge1024t, ze_ge1024f, ze_gt1024t, ze_gt1024f, ze_le1024t, ze_le1024f, ze_lt1024t, ze_lt1024f, ze_eq1024p, ze_eq1024f, ze_let, ze_lef, ze_ltt, ze_ltf, ze_eqt, ze_eqf, ze_m1_lt0, ze_m1_n0le, ze_m1_le0, ze_m1_le, ze_m1_lt, ze_m1_nle, ze_m1_nlt, ze_m1_ne, ze_m1_en, ze_m1_ne4, ze_m1_ne0, ze_nz6, ze_nz10, ze_nz12, ze_nz16, ze_nz32, ze_nz192, ze_1ne0, ze_0ne1, ze_0ne4, ↓ze_rem6, ↓ze_rem10, ↓ze_rem16, ↓ze_rem32, ↓ze_rem12, ze_div6, ze_div10, ze_div12, ze_div16, ze_div32, ze_div192, ze_mul3, ze_mul4, ze_mul6, ze_mul10, ze_mul12, ze_mul16, ze_mul17, ze_mul32, ze_mul60, ze_mulr6, ze_nrem6, ze_mulr10, ze_nrem10, ze_mulr12, ze_nrem12, ze_mulr16, ze_nrem16, ze_mulr32, ze_nrem32, nI_add, ze_add1, ze_add6, ze_add7, ze_add8, ze_add12, ze_add16, ze_add0, ze_radd0, ze_radd8, ze_sub1, ze_m1, ze_0sub1, ze_m1add1, ze_1sub, ze_2sub, pk_sub, ze_and3, ze_and7, ze_and31, ze_and127, ↓ze_shr2, ↓ze_shr3, ↓ze_shr5, ↓ze_shl3, ze_i8, ze_nby, ze_i8m1, ze_i80, ze_nbm1, ze_i16, ze_nsh, ze_nb0, ze_nt0, ze_nt1, ze_cl0, ze_cl1, nI_clamp, vp_in_nI, forall_eq, true_implies, false_implies, not_true_eq_false, not_false_eq_true, and_true, true_and, implies_true, and_self, forall_const, Classical.not_not]
      exact K
    · simp (disch := omega) only [ze_ge0t, ze_gt0t, ze_gt0f, ze_le0t, ze_le0f, ze_lt0f, ze_eq0p, ze_eq0f, ze_ge1t, ze_ge1f, ze_gt1t, ze_gt1f, ze_le1t, ze_le1f, ze_lt1t, ze_lt1f, ze_eq1p, ze_eq1f, ze_ge2t, ze_ge2f, ze_gt2t, ze_gt2f, ze_le2t, ze_le2f, ze_lt2t, ze_lt2f, ze_eq2p, ze_eq2f, ze_ge3t, ze_ge3f, ze_gt3t, ze_gt3f, ze_le3t, ze_le3f, ze_lt3t, ze_lt3f, ze_eq3p, ze_eq3f, ze_ge4t, ze_ge4f, ze_gt4t, ze_gt4f, ze_le4t, ze_le4f, ze_lt4t, ze_lt4f, ze_eq4p, ze_eq4f, ze_ge5t, ze_ge5f, ze_gt5t, ze_gt5f, ze_le5t, ze_le5f, ze_lt5t, ze_lt5f, ze_eq5p, ze_eq5f, ze_ge6t, ze_ge6f, ze_gt6t, ze_gt6f, ze_le6t, ze_le6f, ze_lt6t, ze_lt6f, ze_eq6p, ze_eq6f, ze_ge7t, ze_ge7f, ze_gt7t, ze_gt7f, ze_le7t, ze_le7f, ze_lt7t, ze_lt7f, ze_eq7p, ze_eq7f, ze_ge9t, ze_ge9f, ze_gt9t, ze_gt9f, ze_le9t, ze_le9f, ze_lt9t, ze_lt9f, ze_eq9p, ze_eq9f, ze_ge10t, ze_ge10f, ze_gt10t, ze_gt10f, ze_le10t, ze_le10f, ze_lt10t, ze_lt10f, ze_eq10p, ze_eq10f, ze_ge12t, ze_ge12f, ze_gt12t, ze_gt12f, ze_le12t, ze_le12f, ze_lt12t, ze_lt12f, ze_eq12p, ze_eq12f, ze_ge15t, ze_ge15f, ze_gt15t, ze_gt15f, ze_le15t, ze_le15f, ze_lt15t, ze_lt15f, ze_eq15p, ze_eq15f, ze_ge16t, ze_ge16f, ze_gt16t, ze_gt16f, ze_le16t, ze_le16f, ze_lt16t, ze_lt16f, ze_eq16p, ze_eq16f, ze_ge30t, ze_ge30f, ze_gt30t, ze_gt30f, ze_le30t, ze_le30f, ze_lt30t, ze_lt30f, ze_eq30p, ze_eq30f, ze_ge32t, ze_ge32f, ze_gt32t, ze_gt32f, ze_le32t, ze_le32f, ze_lt32t, ze_lt32f, ze_eq32p, ze_eq32f, ze_ge47t, ze_ge47f, ze_gt47t, ze_gt47f, ze_le47t, ze_le47f, ze_lt47t, ze_lt47f, ze_eq47p, ze_eq47f, ze_ge120t, ze_ge120f, ze_gt120t, ze_gt120f, ze_le120t, ze_le120f, ze_lt120t, ze_lt120f, ze_eq120p, ze_eq120f, ze_ge1024t, ze_ge1024f, ze_gt1024t, ze_gt1024f, ze_le1024t, ze_le1024f, ze_lt1024t, ze_lt1024f, ze_eq1024p, ze_eq1024f, ze_let, ze_lef, ze_ltt, ze_ltf, ze_eqt, ze_eqf, ze_m1_lt0, ze_m1_n0le, ze_m1_le0, ze_m1_le, ze_m1_lt, ze_m1_nle, ze_m1_nlt, ze_m1_ne, ze_m1_en, ze_m1_ne4, ze_m1_ne0, ze_nz6, ze_nz10, ze_nz12, ze_nz16, ze_nz32, ze_nz192, ze_1ne0, ze_0ne1, ze_0ne4, ↓ze_rem6, ↓ze_rem10, ↓ze_rem16, ↓ze_rem32, ↓ze_rem12, ze_div6, ze_div10, ze_div12, ze_div16, ze_div32, ze_div192, ze_mul3, ze_mul4, ze_mul6, ze_mul10, ze_mul12, ze_mul16, ze_mul17, ze_mul32, ze_mul60, ze_mulr6, ze_nrem6, ze_mulr10, ze_nrem10, ze_mulr12, ze_nrem12, ze_mulr16, ze_nrem16, ze_mulr32, ze_nrem32, nI_add, ze_add1, ze_add6, ze_add7, ze_add8, ze_add12, ze_add16, ze_add0, ze_radd0, ze_radd8, ze_sub1, ze_m1, ze_0sub1, ze_m1add1, ze_1sub, ze_2sub, pk_sub, ze_and3, ze_and7, ze_and31, ze_and127, ↓ze_shr2, ↓ze_shr3, ↓ze_shr5, ↓ze_shl3, ze_i8, ze_nby, ze_i8m1, ze_i80, ze_nbm1, ze_i16, ze_nsh, ze_nb0, ze_nt0, ze_nt1, ze_cl0, ze_cl1, nI_clamp, vp_in_nI, forall_eq, true_implies, false_implies, not_true_eq_false, not_false_eq_true, and_true, true_and, implies_true, and_self, forall_const, Classical.not_not, gw_zr_s]
      exact ih (i + 1) z (by omega)
theorem gx_create38 {post : Int32 → SX → Prop} {c s q : Nat} (hc : c < 12) (hs : s < 2) (hq : q < 16)
    (K : post (nI (16 * s + q)) (f_end, f_at, f_written, f_read, f_error, f_culprit, f_nextHandle, f_depth, f_nTodo, a_defined, a_parent, a_level, a_version, a_fields, a_fName, a_fKind, a_latest, upd a_oClass (16 * s + q) (nI c), upd a_pinned (16 * s + q) 0, gw_zr a_slot (12 * (16 * s + q)) (12 * (16 * s + q) + 12), a_handle, a_arrived, a_handles, a_described, a_dLevels, a_dFields, a_plan, a_wide, a_wire, a_order, a_made, a_sObj, a_sLev, a_sPos, a_sCls, a_pairs, a_todo)) :
    wX_create_38 post (nI c) (nI (16 * s)) (nI (16 * s + q)) f_end f_at f_written f_read f_error f_culprit f_nextHandle f_depth f_nTodo a_defined a_parent a_level a_version a_fields a_fName a_fKind a_latest a_oClass a_pinned a_slot a_handle a_arrived a_handles a_described a_dLevels a_dFields a_plan a_wide a_wire a_order a_made a_sObj a_sLev a_sPos a_sCls a_pairs a_todo := by
  unfold wX_create_38
  simp (disch := omega) only [ze_ge0t, ze_gt0t, ze_gt0f, ze_le0t, ze_le0f, ze_lt0f, ze_eq0p, ze_eq0f, ze_ge1t, ze_ge1f, ze_gt1t, ze_gt1f, ze_le1t, ze_le1f, ze_lt1t, ze_lt1f, ze_eq1p, ze_eq1f, ze_ge2t, ze_ge2f, ze_gt2t, ze_gt2f, ze_le2t, ze_le2f, ze_lt2t, ze_lt2f, ze_eq2p, ze_eq2f, ze_ge3t, ze_ge3f, ze_gt3t, ze_gt3f, ze_le3t, ze_le3f, ze_lt3t, ze_lt3f, ze_eq3p, ze_eq3f, ze_ge4t, ze_ge4f, ze_gt4t, ze_gt4f, ze_le4t, ze_le4f, ze_lt4t, ze_lt4f, ze_eq4p, ze_eq4f, ze_ge5t, ze_ge5f, ze_gt5t, ze_gt5f, ze_le5t, ze_le5f, ze_lt5t, ze_lt5f, ze_eq5p, ze_eq5f, ze_ge6t, ze_ge6f, ze_gt6t, ze_gt6f, ze_le6t, ze_le6f, ze_lt6t, ze_lt6f, ze_eq6p, ze_eq6f, ze_ge7t, ze_ge7f, ze_gt7t, ze_gt7f, ze_le7t, ze_le7f, ze_lt7t, ze_lt7f, ze_eq7p, ze_eq7f, ze_ge9t, ze_ge9f, ze_gt9t, ze_gt9f, ze_le9t, ze_le9f, ze_lt9t, ze_lt9f, ze_eq9p, ze_eq9f, ze_ge10t, ze_ge10f, ze_gt10t, ze_gt10f, ze_le10t, ze_le10f, ze_lt10t, ze_lt10f, ze_eq10p, ze_eq10f, ze_ge12t, ze_ge12f, ze_gt12t, ze_gt12f, ze_le12t, ze_le12f, ze_lt12t, ze_lt12f, ze_eq12p, ze_eq12f, ze_ge15t, ze_ge15f, ze_gt15t, ze_gt15f, ze_le15t, ze_le15f, ze_lt15t, ze_lt15f, ze_eq15p, ze_eq15f, ze_ge16t, ze_ge16f, ze_gt16t, ze_gt16f, ze_le16t, ze_le16f, ze_lt16t, ze_lt16f, ze_eq16p, ze_eq16f, ze_ge30t, ze_ge30f, ze_gt30t, ze_gt30f, ze_le30t, ze_le30f, ze_lt30t, ze_lt30f, ze_eq30p, ze_eq30f, ze_ge32t, ze_ge32f, ze_gt32t, ze_gt32f, ze_le32t, ze_le32f, ze_lt32t, ze_lt32f, ze_eq32p, ze_eq32f, ze_ge47t, ze_ge47f, ze_gt47t, ze_gt47f, ze_le47t, ze_le47f, ze_lt47t, ze_lt47f, ze_eq47p, ze_eq47f, ze_ge120t, ze_ge120f, ze_gt120t, ze_gt120f, ze_le120t, ze_le120f, ze_lt120t, ze_lt120f, ze_eq120p, ze_eq120f, ze_ge1024t, ze_ge1024f, ze_gt1024t, ze_gt1024f, ze_le1024t, ze_le1024f, ze_lt1024t, ze_lt1024f, ze_eq1024p, ze_eq1024f, ze_let, ze_lef, ze_ltt, ze_ltf, ze_eqt, ze_eqf, ze_m1_lt0, ze_m1_n0le, ze_m1_le0, ze_m1_le, ze_m1_lt, ze_m1_nle, ze_m1_nlt, ze_m1_ne, ze_m1_en, ze_m1_ne4, ze_m1_ne0, ze_nz6, ze_nz10, ze_nz12, ze_nz16, ze_nz32, ze_nz192, ze_1ne0, ze_0ne1, ze_0ne4, ↓ze_rem6, ↓ze_rem10, ↓ze_rem16, ↓ze_rem32, ↓ze_rem12, ze_div6, ze_div10, ze_div12, ze_div16, ze_div32, ze_div192, ze_mul3, ze_mul4, ze_mul6, ze_mul10, ze_mul12, ze_mul16, ze_mul17, ze_mul32, ze_mul60, ze_mulr6, ze_nrem6, ze_mulr10, ze_nrem10, ze_mulr12, ze_nrem12, ze_mulr16, ze_nrem16, ze_mulr32, ze_nrem32, nI_add, ze_add1, ze_add6, ze_add7, ze_add8, ze_add12, ze_add16, ze_add0, ze_radd0, ze_radd8, ze_sub1, ze_m1, ze_0sub1, ze_m1add1, ze_1sub, ze_2sub, pk_sub, ze_and3, ze_and7, ze_and31, ze_and127, ↓ze_shr2, ↓ze_shr3, ↓ze_shr5, ↓ze_shl3, ze_i8, ze_nby, ze_i8m1, ze_i80, ze_nbm1, ze_i16, ze_nsh, ze_nb0, ze_nt0, ze_nt1, ze_cl0, ze_cl1, nI_clamp, vp_in_nI, forall_eq, true_implies, false_implies, not_true_eq_false, not_false_eq_true, and_true, true_and, implies_true, and_self, forall_const, Classical.not_not]
  have h := gx_create69 (o := 16 * s + q) (by omega) K 13 0 (by omega) (by omega)
  rw [Nat.add_zero, gw_zr_0] at h
  exact ⟨13, h⟩
theorem gx_createL {post : Int32 → SX → Prop} {x1 : Int32} {s : Nat} (hs : s < 2) (HO : gw_O a_defined a_oClass b_cls)
    (K0 : (∀ q, q < 16 → a_oClass (16 * s + q) ≠ -1) → wX_create_38 post x1 (nI (16 * s)) (nI (16 * s + 16)) f_end f_at f_written f_read f_error f_culprit f_nextHandle f_depth f_nTodo a_defined a_parent a_level a_version a_fields a_fName a_fKind a_latest a_oClass a_pinned a_slot a_handle a_arrived a_handles a_described a_dLevels a_dFields a_plan a_wide a_wire a_order a_made a_sObj a_sLev a_sPos a_sCls a_pairs a_todo)
    (K1 : ∀ q, q < 16 → a_oClass (16 * s + q) = -1 → (∀ p, p < q → a_oClass (16 * s + p) ≠ -1) → wX_create_38 post x1 (nI (16 * s)) (nI (16 * s + q)) f_end f_at f_written f_read f_error f_culprit f_nextHandle f_depth f_nTodo a_defined a_parent a_level a_version a_fields a_fName a_fKind a_latest a_oClass a_pinned a_slot a_handle a_arrived a_handles a_described a_dLevels a_dFields a_plan a_wide a_wire a_order a_made a_sObj a_sLev a_sPos a_sCls a_pairs a_todo) :
    ∀ n i, i ≤ 16 → 16 - i < n → (∀ p, p < i → a_oClass (16 * s + p) ≠ -1) → wX_create_15 post x1 (nI (16 * s)) f_end f_at f_written f_read f_error f_culprit f_nextHandle f_depth f_nTodo a_defined a_parent a_level a_version a_fields a_fName a_fKind a_latest a_oClass a_pinned a_slot a_handle a_arrived a_handles a_described a_dLevels a_dFields a_plan a_wide a_wire a_order a_made a_sObj a_sLev a_sPos a_sCls a_pairs a_todo n (nI (16 * s + i)) := by
  intro n
  induction n with
  | zero => intro i h1 h2; omega
  | succ n ih =>
    intro i hi hn hno
    rw [wX_create_15]
    rcases Nat.eq_or_lt_of_le hi with z | z
    · subst z
      simp (disch := omega) only [ze_ge0t, ze_gt0t, ze_gt0f, ze_le0t, ze_le0f, ze_lt0f, ze_eq0p, ze_eq0f, ze_ge1t, ze_ge1f, ze_gt1t, ze_gt1f, ze_le1t, ze_le1f, ze_lt1t, ze_lt1f, ze_eq1p, ze_eq1f, ze_ge2t, ze_ge2f, ze_gt2t, ze_gt2f, ze_le2t, ze_le2f, ze_lt2t, ze_lt2f, ze_eq2p, ze_eq2f, ze_ge3t, ze_ge3f, ze_gt3t, ze_gt3f, ze_le3t, ze_le3f, ze_lt3t, ze_lt3f, ze_eq3p, ze_eq3f, ze_ge4t, ze_ge4f, ze_gt4t, ze_gt4f, ze_le4t, ze_le4f, ze_lt4t, ze_lt4f, ze_eq4p, ze_eq4f, ze_ge5t, ze_ge5f, ze_gt5t, ze_gt5f, ze_le5t, ze_le5f, ze_lt5t, ze_lt5f, ze_eq5p, ze_eq5f, ze_ge6t, ze_ge6f, ze_gt6t, ze_gt6f, ze_le6t, ze_le6f, ze_lt6t, ze_lt6f, ze_eq6p, ze_eq6f, ze_ge7t, ze_ge7f, ze_gt7t, ze_gt7f, ze_le7t, ze_le7f, ze_lt7t, ze_lt7f, ze_eq7p, ze_eq7f, ze_ge9t, ze_ge9f, ze_gt9t, ze_gt9f, ze_le9t, ze_le9f, ze_lt9t, ze_lt9f, ze_eq9p, ze_eq9f, ze_ge10t, ze_ge10f, ze_gt10t, ze_gt10f, ze_le10t, ze_le10f, ze_lt10t, ze_lt10f, ze_eq10p, ze_eq10f, ze_ge12t, ze_ge12f, ze_gt12t, ze_gt12f, ze_le12t, ze_le12f, ze_lt12t, ze_lt12f, ze_eq12p, ze_eq12f, ze_ge15t, ze_ge15f, ze_gt15t, ze_gt15f, ze_le15t, ze_le15f, ze_lt15t, ze_lt15f, ze_eq15p, ze_eq15f, ze_ge16t, ze_ge16f, ze_gt16t, ze_gt16f, ze_le16t, ze_le16f, ze_lt16t, ze_lt16f, ze_eq16p, ze_eq16f, ze_ge30t, ze_ge30f, ze_gt30t, ze_gt30f, ze_le30t, ze_le30f, ze_lt30t, ze_lt30f, ze_eq30p, ze_eq30f, ze_ge32t, ze_ge32f, ze_gt32t, ze_gt32f, ze_le32t, ze_le32f, ze_lt32t, ze_lt32f, ze_eq32p, ze_eq32f, ze_ge47t, ze_ge47f, ze_gt47t, ze_gt47f, ze_le47t, ze_le47f, ze_lt47t, ze_lt47f, ze_eq47p, ze_eq47f, ze_ge120t, ze_ge120f, ze_gt120t, ze_gt120f, ze_le120t, ze_le120f, ze_lt120t, ze_lt120f, ze_eq120p, ze_eq120f, ze_ge1024t, ze_ge1024f, ze_gt1024t, ze_gt1024f, ze_le1024t, ze_le1024f, ze_lt1024t, ze_lt1024f, ze_eq1024p, ze_eq1024f, ze_let, ze_lef, ze_ltt, ze_ltf, ze_eqt, ze_eqf, ze_m1_lt0, ze_m1_n0le, ze_m1_le0, ze_m1_le, ze_m1_lt, ze_m1_nle, ze_m1_nlt, ze_m1_ne, ze_m1_en, ze_m1_ne4, ze_m1_ne0, ze_nz6, ze_nz10, ze_nz12, ze_nz16, ze_nz32, ze_nz192, ze_1ne0, ze_0ne1, ze_0ne4, ↓ze_rem6, ↓ze_rem10, ↓ze_rem16, ↓ze_rem32, ↓ze_rem12, ze_div6, ze_div10, ze_div12, ze_div16, ze_div32, ze_div192, ze_mul3, ze_mul4, ze_mul6, ze_mul10, ze_mul12, ze_mul16, ze_mul17, ze_mul32, ze_mul60, ze_mulr6, ze_nrem6, ze_mulr10, ze_nrem10, ze_mulr12, ze_nrem12, ze_mulr16, ze_nrem16, ze_mulr32, ze_nrem32, nI_add, ze_add1, ze_add6, ze_add7, ze_add8, ze_add12, ze_add16, ze_add0, ze_radd0, ze_radd8, ze_sub1, ze_m1, ze_0sub1, ze_m1add1, ze_1sub, ze_2sub, pk_sub, ze_and3, ze_and7, ze_and31, ze_and127, ↓ze_shr2, ↓ze_shr3, ↓ze_shr5, ↓ze_shl3, ze_i8, ze_nby, ze_i8m1, ze_i80, ze_nbm1, ze_i16, ze_nsh, ze_nb0, ze_nt0, ze_nt1, ze_cl0, ze_cl1, nI_clamp, vp_in_nI, forall_eq, true_implies, false_implies, not_true_eq_false, not_false_eq_true, and_true, true_and, implies_true, and_self, forall_const, Classical.not_not]
      exact K0 hno
    · by_cases e : a_oClass (16 * s + i) = -1
      · simp (disch := omega) only [ze_ge0t, ze_gt0t, ze_gt0f, ze_le0t, ze_le0f, ze_lt0f, ze_eq0p, ze_eq0f, ze_ge1t, ze_ge1f, ze_gt1t, ze_gt1f, ze_le1t, ze_le1f, ze_lt1t, ze_lt1f, ze_eq1p, ze_eq1f, ze_ge2t, ze_ge2f, ze_gt2t, ze_gt2f, ze_le2t, ze_le2f, ze_lt2t, ze_lt2f, ze_eq2p, ze_eq2f, ze_ge3t, ze_ge3f, ze_gt3t, ze_gt3f, ze_le3t, ze_le3f, ze_lt3t, ze_lt3f, ze_eq3p, ze_eq3f, ze_ge4t, ze_ge4f, ze_gt4t, ze_gt4f, ze_le4t, ze_le4f, ze_lt4t, ze_lt4f, ze_eq4p, ze_eq4f, ze_ge5t, ze_ge5f, ze_gt5t, ze_gt5f, ze_le5t, ze_le5f, ze_lt5t, ze_lt5f, ze_eq5p, ze_eq5f, ze_ge6t, ze_ge6f, ze_gt6t, ze_gt6f, ze_le6t, ze_le6f, ze_lt6t, ze_lt6f, ze_eq6p, ze_eq6f, ze_ge7t, ze_ge7f, ze_gt7t, ze_gt7f, ze_le7t, ze_le7f, ze_lt7t, ze_lt7f, ze_eq7p, ze_eq7f, ze_ge9t, ze_ge9f, ze_gt9t, ze_gt9f, ze_le9t, ze_le9f, ze_lt9t, ze_lt9f, ze_eq9p, ze_eq9f, ze_ge10t, ze_ge10f, ze_gt10t, ze_gt10f, ze_le10t, ze_le10f, ze_lt10t, ze_lt10f, ze_eq10p, ze_eq10f, ze_ge12t, ze_ge12f, ze_gt12t, ze_gt12f, ze_le12t, ze_le12f, ze_lt12t, ze_lt12f, ze_eq12p, ze_eq12f, ze_ge15t, ze_ge15f, ze_gt15t, ze_gt15f, ze_le15t, ze_le15f, ze_lt15t, ze_lt15f, ze_eq15p, ze_eq15f, ze_ge16t, ze_ge16f, ze_gt16t, ze_gt16f, ze_le16t, ze_le16f, ze_lt16t, ze_lt16f, ze_eq16p, ze_eq16f, ze_ge30t, ze_ge30f, ze_gt30t, ze_gt30f, ze_le30t, ze_le30f, ze_lt30t, ze_lt30f, ze_eq30p, ze_eq30f, ze_ge32t, ze_ge32f, ze_gt32t, ze_gt32f, ze_le32t, ze_le32f, ze_lt32t, ze_lt32f, ze_eq32p, ze_eq32f, ze_ge47t, ze_ge47f, ze_gt47t, ze_gt47f, ze_le47t, ze_le47f, ze_lt47t, ze_lt47f, ze_eq47p, ze_eq47f, ze_ge120t, ze_ge120f, ze_gt120t, ze_gt120f, ze_le120t, ze_le120f, ze_lt120t, ze_lt120f, ze_eq120p, ze_eq120f, ze_ge1024t, ze_ge1024f, ze_gt1024t, ze_gt1024f, ze_le1024t, ze_le1024f, ze_lt1024t, ze_lt1024f, ze_eq1024p, ze_eq1024f, ze_let, ze_lef, ze_ltt, ze_ltf, ze_eqt, ze_eqf, ze_m1_lt0, ze_m1_n0le, ze_m1_le0, ze_m1_le, ze_m1_lt, ze_m1_nle, ze_m1_nlt, ze_m1_ne, ze_m1_en, ze_m1_ne4, ze_m1_ne0, ze_nz6, ze_nz10, ze_nz12, ze_nz16, ze_nz32, ze_nz192, ze_1ne0, ze_0ne1, ze_0ne4, ↓ze_rem6, ↓ze_rem10, ↓ze_rem16, ↓ze_rem32, ↓ze_rem12, ze_div6, ze_div10, ze_div12, ze_div16, ze_div32, ze_div192, ze_mul3, ze_mul4, ze_mul6, ze_mul10, ze_mul12, ze_mul16, ze_mul17, ze_mul32, ze_mul60, ze_mulr6, ze_nrem6, ze_mulr10, ze_nrem10, ze_mulr12, ze_nrem12, ze_mulr16, ze_nrem16, ze_mulr32, ze_nrem32, nI_add, ze_add1, ze_add6, ze_add7, ze_add8, ze_add12, ze_add16, ze_add0, ze_radd0, ze_radd8, ze_sub1, ze_m1, ze_0sub1, ze_m1add1, ze_1sub, ze_2sub, pk_sub, ze_and3, ze_and7, ze_and31, ze_and127, ↓ze_shr2, ↓ze_shr3, ↓ze_shr5, ↓ze_shl3, ze_i8, ze_nby, ze_i8m1, ze_i80, ze_nbm1, ze_i16, ze_nsh, ze_nb0, ze_nt0, ze_nt1, ze_cl0, ze_cl1, nI_clamp, vp_in_nI, forall_eq, true_implies, false_implies, not_true_eq_false, not_false_eq_true, and_true, true_and, implies_true, and_self, forall_const, Classical.not_not, e]
        exact K1 i z e hno
      · obtain ⟨h1, h2, -⟩ := gw_O_al HO (by omega) e
        simp (disch := omega) only [ze_ge0t, ze_gt0t, ze_gt0f, ze_le0t, ze_le0f, ze_lt0f, ze_eq0p, ze_eq0f, ze_ge1t, ze_ge1f, ze_gt1t, ze_gt1f, ze_le1t, ze_le1f, ze_lt1t, ze_lt1f, ze_eq1p, ze_eq1f, ze_ge2t, ze_ge2f, ze_gt2t, ze_gt2f, ze_le2t, ze_le2f, ze_lt2t, ze_lt2f, ze_eq2p, ze_eq2f, ze_ge3t, ze_ge3f, ze_gt3t, ze_gt3f, ze_le3t, ze_le3f, ze_lt3t, ze_lt3f, ze_eq3p, ze_eq3f, ze_ge4t, ze_ge4f, ze_gt4t, ze_gt4f, ze_le4t, ze_le4f, ze_lt4t, ze_lt4f, ze_eq4p, ze_eq4f, ze_ge5t, ze_ge5f, ze_gt5t, ze_gt5f, ze_le5t, ze_le5f, ze_lt5t, ze_lt5f, ze_eq5p, ze_eq5f, ze_ge6t, ze_ge6f, ze_gt6t, ze_gt6f, ze_le6t, ze_le6f, ze_lt6t, ze_lt6f, ze_eq6p, ze_eq6f, ze_ge7t, ze_ge7f, ze_gt7t, ze_gt7f, ze_le7t, ze_le7f, ze_lt7t, ze_lt7f, ze_eq7p, ze_eq7f, ze_ge9t, ze_ge9f, ze_gt9t, ze_gt9f, ze_le9t, ze_le9f, ze_lt9t, ze_lt9f, ze_eq9p, ze_eq9f, ze_ge10t, ze_ge10f, ze_gt10t, ze_gt10f, ze_le10t, ze_le10f, ze_lt10t, ze_lt10f, ze_eq10p, ze_eq10f, ze_ge12t, ze_ge12f, ze_gt12t, ze_gt12f, ze_le12t, ze_le12f, ze_lt12t, ze_lt12f, ze_eq12p, ze_eq12f, ze_ge15t, ze_ge15f, ze_gt15t, ze_gt15f, ze_le15t, ze_le15f, ze_lt15t, ze_lt15f, ze_eq15p, ze_eq15f, ze_ge16t, ze_ge16f, ze_gt16t, ze_gt16f, ze_le16t, ze_le16f, ze_lt16t, ze_lt16f, ze_eq16p, ze_eq16f, ze_ge30t, ze_ge30f, ze_gt30t, ze_gt30f, ze_le30t, ze_le30f, ze_lt30t, ze_lt30f, ze_eq30p, ze_eq30f, ze_ge32t, ze_ge32f, ze_gt32t, ze_gt32f, ze_le32t, ze_le32f, ze_lt32t, ze_lt32f, ze_eq32p, ze_eq32f, ze_ge47t, ze_ge47f, ze_gt47t, ze_gt47f, ze_le47t, ze_le47f, ze_lt47t, ze_lt47f, ze_eq47p, ze_eq47f, ze_ge120t, ze_ge120f, ze_gt120t, ze_gt120f, ze_le120t, ze_le120f, ze_lt120t, ze_lt120f, ze_eq120p, ze_eq120f, ze_ge1024t, ze_ge1024f, ze_gt1024t, ze_gt1024f, ze_le1024t, ze_le1024f, ze_lt1024t, ze_lt1024f, ze_eq1024p, ze_eq1024f, ze_let, ze_lef, ze_ltt, ze_ltf, ze_eqt, ze_eqf, ze_m1_lt0, ze_m1_n0le, ze_m1_le0, ze_m1_le, ze_m1_lt, ze_m1_nle, ze_m1_nlt, ze_m1_ne, ze_m1_en, ze_m1_ne4, ze_m1_ne0, ze_nz6, ze_nz10, ze_nz12, ze_nz16, ze_nz32, ze_nz192, ze_1ne0, ze_0ne1, ze_0ne4, ↓ze_rem6, ↓ze_rem10, ↓ze_rem16, ↓ze_rem32, ↓ze_rem12, ze_div6, ze_div10, ze_div12, ze_div16, ze_div32, ze_div192, ze_mul3, ze_mul4, ze_mul6, ze_mul10, ze_mul12, ze_mul16, ze_mul17, ze_mul32, ze_mul60, ze_mulr6, ze_nrem6, ze_mulr10, ze_nrem10, ze_mulr12, ze_nrem12, ze_mulr16, ze_nrem16, ze_mulr32, ze_nrem32, nI_add, ze_add1, ze_add6, ze_add7, ze_add8, ze_add12, ze_add16, ze_add0, ze_radd0, ze_radd8, ze_sub1, ze_m1, ze_0sub1, ze_m1add1, ze_1sub, ze_2sub, pk_sub, ze_and3, ze_and7, ze_and31, ze_and127, ↓ze_shr2, ↓ze_shr3, ↓ze_shr5, ↓ze_shl3, ze_i8, ze_nby, ze_i8m1, ze_i80, ze_nbm1, ze_i16, ze_nsh, ze_nb0, ze_nt0, ze_nt1, ze_cl0, ze_cl1, nI_clamp, vp_in_nI, forall_eq, true_implies, false_implies, not_true_eq_false, not_false_eq_true, and_true, true_and, implies_true, and_self, forall_const, Classical.not_not]
        rw [h2]
        refine br_f (nI_pos (by omega)) ?_
        refine ih (i + 1) z (by omega) (fun p hp => ?_)
        rcases Nat.lt_or_ge p i with y | y
        · exact hno p y
        · have : p = i := by omega
          subst this; exact e
theorem gx_create {post : Int32 → SX → Prop} {c : Nat} (hc : c < 12) (HO : gw_O a_defined a_oClass b_cls)
    (K0 : (∀ q, q < 16 → a_oClass (16 * (c / 6) + q) ≠ -1) → post (-1) (f_end, f_at, f_written, f_read, f_error, f_culprit, f_nextHandle, f_depth, f_nTodo, a_defined, a_parent, a_level, a_version, a_fields, a_fName, a_fKind, a_latest, a_oClass, a_pinned, a_slot, a_handle, a_arrived, a_handles, a_described, a_dLevels, a_dFields, a_plan, a_wide, a_wire, a_order, a_made, a_sObj, a_sLev, a_sPos, a_sCls, a_pairs, a_todo))
    (K1 : ∀ q, q < 16 → a_oClass (16 * (c / 6) + q) = -1 → (∀ p, p < q → a_oClass (16 * (c / 6) + p) ≠ -1) → post (nI (16 * (c / 6) + q)) (f_end, f_at, f_written, f_read, f_error, f_culprit, f_nextHandle, f_depth, f_nTodo, a_defined, a_parent, a_level, a_version, a_fields, a_fName, a_fKind, a_latest, upd a_oClass (16 * (c / 6) + q) (nI c), upd a_pinned (16 * (c / 6) + q) 0, gw_zr a_slot (12 * (16 * (c / 6) + q)) (12 * (16 * (c / 6) + q) + 12), a_handle, a_arrived, a_handles, a_described, a_dLevels, a_dFields, a_plan, a_wide, a_wire, a_order, a_made, a_sObj, a_sLev, a_sPos, a_sCls, a_pairs, a_todo)) :
    wpX_create post (f_end, f_at, f_written, f_read, f_error, f_culprit, f_nextHandle, f_depth, f_nTodo, a_defined, a_parent, a_level, a_version, a_fields, a_fName, a_fKind, a_latest, a_oClass, a_pinned, a_slot, a_handle, a_arrived, a_handles, a_described, a_dLevels, a_dFields, a_plan, a_wide, a_wire, a_order, a_made, a_sObj, a_sLev, a_sPos, a_sCls, a_pairs, a_todo) (nI c) := by
  have key : wX_create_15 post (nI c) (nI (16 * (c / 6))) f_end f_at f_written f_read f_error f_culprit f_nextHandle f_depth f_nTodo a_defined a_parent a_level a_version a_fields a_fName a_fKind a_latest a_oClass a_pinned a_slot a_handle a_arrived a_handles a_described a_dLevels a_dFields a_plan a_wide a_wire a_order a_made a_sObj a_sLev a_sPos a_sCls a_pairs a_todo 17 (nI (16 * (c / 6) + 0)) := by
    refine gx_createL (by omega) HO (fun h => ?_) (fun q hq h1 h2 => ?_) 17 0 (by omega) (by omega) (fun p hp => by omega)
    · unfold wX_create_38
      simp (disch := omega) only [ze_ge0t, ze_gt0t, ze_gt0f, ze_le0t, ze_le0f, ze_lt0f, ze_eq0p, ze_eq0f, ze_ge1t, ze_ge1f, ze_gt1t, ze_gt1f, ze_le1t, ze_le1f, ze_lt1t, ze_lt1f, ze_eq1p, ze_eq1f, ze_ge2t, ze_ge2f, ze_gt2t, ze_gt2f, ze_le2t, ze_le2f, ze_lt2t, ze_lt2f, ze_eq2p, ze_eq2f, ze_ge3t, ze_ge3f, ze_gt3t, ze_gt3f, ze_le3t, ze_le3f, ze_lt3t, ze_lt3f, ze_eq3p, ze_eq3f, ze_ge4t, ze_ge4f, ze_gt4t, ze_gt4f, ze_le4t, ze_le4f, ze_lt4t, ze_lt4f, ze_eq4p, ze_eq4f, ze_ge5t, ze_ge5f, ze_gt5t, ze_gt5f, ze_le5t, ze_le5f, ze_lt5t, ze_lt5f, ze_eq5p, ze_eq5f, ze_ge6t, ze_ge6f, ze_gt6t, ze_gt6f, ze_le6t, ze_le6f, ze_lt6t, ze_lt6f, ze_eq6p, ze_eq6f, ze_ge7t, ze_ge7f, ze_gt7t, ze_gt7f, ze_le7t, ze_le7f, ze_lt7t, ze_lt7f, ze_eq7p, ze_eq7f, ze_ge9t, ze_ge9f, ze_gt9t, ze_gt9f, ze_le9t, ze_le9f, ze_lt9t, ze_lt9f, ze_eq9p, ze_eq9f, ze_ge10t, ze_ge10f, ze_gt10t, ze_gt10f, ze_le10t, ze_le10f, ze_lt10t, ze_lt10f, ze_eq10p, ze_eq10f, ze_ge12t, ze_ge12f, ze_gt12t, ze_gt12f, ze_le12t, ze_le12f, ze_lt12t, ze_lt12f, ze_eq12p, ze_eq12f, ze_ge15t, ze_ge15f, ze_gt15t, ze_gt15f, ze_le15t, ze_le15f, ze_lt15t, ze_lt15f, ze_eq15p, ze_eq15f, ze_ge16t, ze_ge16f, ze_gt16t, ze_gt16f, ze_le16t, ze_le16f, ze_lt16t, ze_lt16f, ze_eq16p, ze_eq16f, ze_ge30t, ze_ge30f, ze_gt30t, ze_gt30f, ze_le30t, ze_le30f, ze_lt30t, ze_lt30f, ze_eq30p, ze_eq30f, ze_ge32t, ze_ge32f, ze_gt32t, ze_gt32f, ze_le32t, ze_le32f, ze_lt32t, ze_lt32f, ze_eq32p, ze_eq32f, ze_ge47t, ze_ge47f, ze_gt47t, ze_gt47f, ze_le47t, ze_le47f, ze_lt47t, ze_lt47f, ze_eq47p, ze_eq47f, ze_ge120t, ze_ge120f, ze_gt120t, ze_gt120f, ze_le120t, ze_le120f, ze_lt120t, ze_lt120f, ze_eq120p, ze_eq120f, ze_ge1024t, ze_ge1024f, ze_gt1024t, ze_gt1024f, ze_le1024t, ze_le1024f, ze_lt1024t, ze_lt1024f, ze_eq1024p, ze_eq1024f, ze_let, ze_lef, ze_ltt, ze_ltf, ze_eqt, ze_eqf, ze_m1_lt0, ze_m1_n0le, ze_m1_le0, ze_m1_le, ze_m1_lt, ze_m1_nle, ze_m1_nlt, ze_m1_ne, ze_m1_en, ze_m1_ne4, ze_m1_ne0, ze_nz6, ze_nz10, ze_nz12, ze_nz16, ze_nz32, ze_nz192, ze_1ne0, ze_0ne1, ze_0ne4, ↓ze_rem6, ↓ze_rem10, ↓ze_rem16, ↓ze_rem32, ↓ze_rem12, ze_div6, ze_div10, ze_div12, ze_div16, ze_div32, ze_div192, ze_mul3, ze_mul4, ze_mul6, ze_mul10, ze_mul12, ze_mul16, ze_mul17, ze_mul32, ze_mul60, ze_mulr6, ze_nrem6, ze_mulr10, ze_nrem10, ze_mulr12, ze_nrem12, ze_mulr16, ze_nrem16, ze_mulr32, ze_nrem32, nI_add, ze_add1, ze_add6, ze_add7, ze_add8, ze_add12, ze_add16, ze_add0, ze_radd0, ze_radd8, ze_sub1, ze_m1, ze_0sub1, ze_m1add1, ze_1sub, ze_2sub, pk_sub, ze_and3, ze_and7, ze_and31, ze_and127, ↓ze_shr2, ↓ze_shr3, ↓ze_shr5, ↓ze_shl3, ze_i8, ze_nby, ze_i8m1, ze_i80, ze_nbm1, ze_i16, ze_nsh, ze_nb0, ze_nt0, ze_nt1, ze_cl0, ze_cl1, nI_clamp, vp_in_nI, forall_eq, true_implies, false_implies, not_true_eq_false, not_false_eq_true, and_true, true_and, implies_true, and_self, forall_const, Classical.not_not]
      exact K0 h
    · exact gx_create38 hc (by omega) hq (K1 q hq h1 h2)
  unfold wpX_create; dsimp only
  by_cases h : 6 ≤ c
  · refine br_t (ze_ge6t h (by omega)) ⟨17, ?_⟩
    have e : c / 6 = 1 := by omega
    rw [e] at key
    exact key
  · refine br_f (ze_ge6f (by omega)) ⟨17, ?_⟩
    have e : c / 6 = 0 := by omega
    rw [e] at key
    exact key
theorem gy_freeL {post : Int32 → Prop} {s : Nat} (hs : s < 2) (HO : gw_O a_defined a_oClass b_cls)
    (K0 : (∀ q, q < 16 → a_oClass (16 * s + q) ≠ -1) → post (-1))
    (K1 : ∀ q, q < 16 → a_oClass (16 * s + q) = -1 → (∀ p, p < q → a_oClass (16 * s + p) ≠ -1) → post (nI (16 * s + q))) :
    ∀ n i, i ≤ 16 → 16 - i < n → (∀ p, p < i → a_oClass (16 * s + p) ≠ -1) → wY_free_5 post (nI s) g_culprit g_depth g_lastMade b_defined b_version b_parent b_own b_latest b_cls b_partner b_pinned b_arrived b_val b_from b_made b_done b_rows n (nI (16 * s + i)) := by
  intro n
  induction n with
  | zero => intro i h1 h2; omega
  | succ n ih =>
    intro i hi hn hno
    rw [wY_free_5]
    rcases Nat.eq_or_lt_of_le hi with z | z
    · subst z
      simp (disch := omega) only [ze_ge0t, ze_gt0t, ze_gt0f, ze_le0t, ze_le0f, ze_lt0f, ze_eq0p, ze_eq0f, ze_ge1t, ze_ge1f, ze_gt1t, ze_gt1f, ze_le1t, ze_le1f, ze_lt1t, ze_lt1f, ze_eq1p, ze_eq1f, ze_ge2t, ze_ge2f, ze_gt2t, ze_gt2f, ze_le2t, ze_le2f, ze_lt2t, ze_lt2f, ze_eq2p, ze_eq2f, ze_ge3t, ze_ge3f, ze_gt3t, ze_gt3f, ze_le3t, ze_le3f, ze_lt3t, ze_lt3f, ze_eq3p, ze_eq3f, ze_ge4t, ze_ge4f, ze_gt4t, ze_gt4f, ze_le4t, ze_le4f, ze_lt4t, ze_lt4f, ze_eq4p, ze_eq4f, ze_ge5t, ze_ge5f, ze_gt5t, ze_gt5f, ze_le5t, ze_le5f, ze_lt5t, ze_lt5f, ze_eq5p, ze_eq5f, ze_ge6t, ze_ge6f, ze_gt6t, ze_gt6f, ze_le6t, ze_le6f, ze_lt6t, ze_lt6f, ze_eq6p, ze_eq6f, ze_ge7t, ze_ge7f, ze_gt7t, ze_gt7f, ze_le7t, ze_le7f, ze_lt7t, ze_lt7f, ze_eq7p, ze_eq7f, ze_ge9t, ze_ge9f, ze_gt9t, ze_gt9f, ze_le9t, ze_le9f, ze_lt9t, ze_lt9f, ze_eq9p, ze_eq9f, ze_ge10t, ze_ge10f, ze_gt10t, ze_gt10f, ze_le10t, ze_le10f, ze_lt10t, ze_lt10f, ze_eq10p, ze_eq10f, ze_ge12t, ze_ge12f, ze_gt12t, ze_gt12f, ze_le12t, ze_le12f, ze_lt12t, ze_lt12f, ze_eq12p, ze_eq12f, ze_ge15t, ze_ge15f, ze_gt15t, ze_gt15f, ze_le15t, ze_le15f, ze_lt15t, ze_lt15f, ze_eq15p, ze_eq15f, ze_ge16t, ze_ge16f, ze_gt16t, ze_gt16f, ze_le16t, ze_le16f, ze_lt16t, ze_lt16f, ze_eq16p, ze_eq16f, ze_ge30t, ze_ge30f, ze_gt30t, ze_gt30f, ze_le30t, ze_le30f, ze_lt30t, ze_lt30f, ze_eq30p, ze_eq30f, ze_ge32t, ze_ge32f, ze_gt32t, ze_gt32f, ze_le32t, ze_le32f, ze_lt32t, ze_lt32f, ze_eq32p, ze_eq32f, ze_ge47t, ze_ge47f, ze_gt47t, ze_gt47f, ze_le47t, ze_le47f, ze_lt47t, ze_lt47f, ze_eq47p, ze_eq47f, ze_ge120t, ze_ge120f, ze_gt120t, ze_gt120f, ze_le120t, ze_le120f, ze_lt120t, ze_lt120f, ze_eq120p, ze_eq120f, ze_ge1024t, ze_ge1024f, ze_gt1024t, ze_gt1024f, ze_le1024t, ze_le1024f, ze_lt1024t, ze_lt1024f, ze_eq1024p, ze_eq1024f, ze_let, ze_lef, ze_ltt, ze_ltf, ze_eqt, ze_eqf, ze_m1_lt0, ze_m1_n0le, ze_m1_le0, ze_m1_le, ze_m1_lt, ze_m1_nle, ze_m1_nlt, ze_m1_ne, ze_m1_en, ze_m1_ne4, ze_m1_ne0, ze_nz6, ze_nz10, ze_nz12, ze_nz16, ze_nz32, ze_nz192, ze_1ne0, ze_0ne1, ze_0ne4, ↓ze_rem6, ↓ze_rem10, ↓ze_rem16, ↓ze_rem32, ↓ze_rem12, ze_div6, ze_div10, ze_div12, ze_div16, ze_div32, ze_div192, ze_mul3, ze_mul4, ze_mul6, ze_mul10, ze_mul12, ze_mul16, ze_mul17, ze_mul32, ze_mul60, ze_mulr6, ze_nrem6, ze_mulr10, ze_nrem10, ze_mulr12, ze_nrem12, ze_mulr16, ze_nrem16, ze_mulr32, ze_nrem32, nI_add, ze_add1, ze_add6, ze_add7, ze_add8, ze_add12, ze_add16, ze_add0, ze_radd0, ze_radd8, ze_sub1, ze_m1, ze_0sub1, ze_m1add1, ze_1sub, ze_2sub, pk_sub, ze_and3, ze_and7, ze_and31, ze_and127, ↓ze_shr2, ↓ze_shr3, ↓ze_shr5, ↓ze_shl3, ze_i8, ze_nby, ze_i8m1, ze_i80, ze_nbm1, ze_i16, ze_nsh, ze_nb0, ze_nt0, ze_nt1, ze_cl0, ze_cl1, nI_clamp, vp_in_nI, forall_eq, true_implies, false_implies, not_true_eq_false, not_false_eq_true, and_true, true_and, implies_true, and_self, forall_const, Classical.not_not]
      exact K0 hno
    · by_cases e : a_oClass (16 * s + i) = -1
      · have e2 := gw_O_de HO (by omega) e
        simp (disch := omega) only [ze_ge0t, ze_gt0t, ze_gt0f, ze_le0t, ze_le0f, ze_lt0f, ze_eq0p, ze_eq0f, ze_ge1t, ze_ge1f, ze_gt1t, ze_gt1f, ze_le1t, ze_le1f, ze_lt1t, ze_lt1f, ze_eq1p, ze_eq1f, ze_ge2t, ze_ge2f, ze_gt2t, ze_gt2f, ze_le2t, ze_le2f, ze_lt2t, ze_lt2f, ze_eq2p, ze_eq2f, ze_ge3t, ze_ge3f, ze_gt3t, ze_gt3f, ze_le3t, ze_le3f, ze_lt3t, ze_lt3f, ze_eq3p, ze_eq3f, ze_ge4t, ze_ge4f, ze_gt4t, ze_gt4f, ze_le4t, ze_le4f, ze_lt4t, ze_lt4f, ze_eq4p, ze_eq4f, ze_ge5t, ze_ge5f, ze_gt5t, ze_gt5f, ze_le5t, ze_le5f, ze_lt5t, ze_lt5f, ze_eq5p, ze_eq5f, ze_ge6t, ze_ge6f, ze_gt6t, ze_gt6f, ze_le6t, ze_le6f, ze_lt6t, ze_lt6f, ze_eq6p, ze_eq6f, ze_ge7t, ze_ge7f, ze_gt7t, ze_gt7f, ze_le7t, ze_le7f, ze_lt7t, ze_lt7f, ze_eq7p, ze_eq7f, ze_ge9t, ze_ge9f, ze_gt9t, ze_gt9f, ze_le9t, ze_le9f, ze_lt9t, ze_lt9f, ze_eq9p, ze_eq9f, ze_ge10t, ze_ge10f, ze_gt10t, ze_gt10f, ze_le10t, ze_le10f, ze_lt10t, ze_lt10f, ze_eq10p, ze_eq10f, ze_ge12t, ze_ge12f, ze_gt12t, ze_gt12f, ze_le12t, ze_le12f, ze_lt12t, ze_lt12f, ze_eq12p, ze_eq12f, ze_ge15t, ze_ge15f, ze_gt15t, ze_gt15f, ze_le15t, ze_le15f, ze_lt15t, ze_lt15f, ze_eq15p, ze_eq15f, ze_ge16t, ze_ge16f, ze_gt16t, ze_gt16f, ze_le16t, ze_le16f, ze_lt16t, ze_lt16f, ze_eq16p, ze_eq16f, ze_ge30t, ze_ge30f, ze_gt30t, ze_gt30f, ze_le30t, ze_le30f, ze_lt30t, ze_lt30f, ze_eq30p, ze_eq30f, ze_ge32t, ze_ge32f, ze_gt32t, ze_gt32f, ze_le32t, ze_le32f, ze_lt32t, ze_lt32f, ze_eq32p, ze_eq32f, ze_ge47t, ze_ge47f, ze_gt47t, ze_gt47f, ze_le47t, ze_le47f, ze_lt47t, ze_lt47f, ze_eq47p, ze_eq47f, ze_ge120t, ze_ge120f, ze_gt120t, ze_gt120f, ze_le120t, ze_le120f, ze_lt120t, ze_lt120f, ze_eq120p, ze_eq120f, ze_ge1024t, ze_ge1024f, ze_gt1024t, ze_gt1024f, ze_le1024t, ze_le1024f, ze_lt1024t, ze_lt1024f, ze_eq1024p, ze_eq1024f, ze_let, ze_lef, ze_ltt, ze_ltf, ze_eqt, ze_eqf, ze_m1_lt0, ze_m1_n0le, ze_m1_le0, ze_m1_le, ze_m1_lt, ze_m1_nle, ze_m1_nlt, ze_m1_ne, ze_m1_en, ze_m1_ne4, ze_m1_ne0, ze_nz6, ze_nz10, ze_nz12, ze_nz16, ze_nz32, ze_nz192, ze_1ne0, ze_0ne1, ze_0ne4, ↓ze_rem6, ↓ze_rem10, ↓ze_rem16, ↓ze_rem32, ↓ze_rem12, ze_div6, ze_div10, ze_div12, ze_div16, ze_div32, ze_div192, ze_mul3, ze_mul4, ze_mul6, ze_mul10, ze_mul12, ze_mul16, ze_mul17, ze_mul32, ze_mul60, ze_mulr6, ze_nrem6, ze_mulr10, ze_nrem10, ze_mulr12, ze_nrem12, ze_mulr16, ze_nrem16, ze_mulr32, ze_nrem32, nI_add, ze_add1, ze_add6, ze_add7, ze_add8, ze_add12, ze_add16, ze_add0, ze_radd0, ze_radd8, ze_sub1, ze_m1, ze_0sub1, ze_m1add1, ze_1sub, ze_2sub, pk_sub, ze_and3, ze_and7, ze_and31, ze_and127, ↓ze_shr2, ↓ze_shr3, ↓ze_shr5, ↓ze_shl3, ze_i8, ze_nby, ze_i8m1, ze_i80, ze_nbm1, ze_i16, ze_nsh, ze_nb0, ze_nt0, ze_nt1, ze_cl0, ze_cl1, nI_clamp, vp_in_nI, forall_eq, true_implies, false_implies, not_true_eq_false, not_false_eq_true, and_true, true_and, implies_true, and_self, forall_const, Classical.not_not, e2]
        exact K1 i z e hno
      · obtain ⟨h1, h2, h3, -⟩ := gw_O_al HO (by omega) e
        simp (disch := omega) only [ze_ge0t, ze_gt0t, ze_gt0f, ze_le0t, ze_le0f, ze_lt0f, ze_eq0p, ze_eq0f, ze_ge1t, ze_ge1f, ze_gt1t, ze_gt1f, ze_le1t, ze_le1f, ze_lt1t, ze_lt1f, ze_eq1p, ze_eq1f, ze_ge2t, ze_ge2f, ze_gt2t, ze_gt2f, ze_le2t, ze_le2f, ze_lt2t, ze_lt2f, ze_eq2p, ze_eq2f, ze_ge3t, ze_ge3f, ze_gt3t, ze_gt3f, ze_le3t, ze_le3f, ze_lt3t, ze_lt3f, ze_eq3p, ze_eq3f, ze_ge4t, ze_ge4f, ze_gt4t, ze_gt4f, ze_le4t, ze_le4f, ze_lt4t, ze_lt4f, ze_eq4p, ze_eq4f, ze_ge5t, ze_ge5f, ze_gt5t, ze_gt5f, ze_le5t, ze_le5f, ze_lt5t, ze_lt5f, ze_eq5p, ze_eq5f, ze_ge6t, ze_ge6f, ze_gt6t, ze_gt6f, ze_le6t, ze_le6f, ze_lt6t, ze_lt6f, ze_eq6p, ze_eq6f, ze_ge7t, ze_ge7f, ze_gt7t, ze_gt7f, ze_le7t, ze_le7f, ze_lt7t, ze_lt7f, ze_eq7p, ze_eq7f, ze_ge9t, ze_ge9f, ze_gt9t, ze_gt9f, ze_le9t, ze_le9f, ze_lt9t, ze_lt9f, ze_eq9p, ze_eq9f, ze_ge10t, ze_ge10f, ze_gt10t, ze_gt10f, ze_le10t, ze_le10f, ze_lt10t, ze_lt10f, ze_eq10p, ze_eq10f, ze_ge12t, ze_ge12f, ze_gt12t, ze_gt12f, ze_le12t, ze_le12f, ze_lt12t, ze_lt12f, ze_eq12p, ze_eq12f, ze_ge15t, ze_ge15f, ze_gt15t, ze_gt15f, ze_le15t, ze_le15f, ze_lt15t, ze_lt15f, ze_eq15p, ze_eq15f, ze_ge16t, ze_ge16f, ze_gt16t, ze_gt16f, ze_le16t, ze_le16f, ze_lt16t, ze_lt16f, ze_eq16p, ze_eq16f, ze_ge30t, ze_ge30f, ze_gt30t, ze_gt30f, ze_le30t, ze_le30f, ze_lt30t, ze_lt30f, ze_eq30p, ze_eq30f, ze_ge32t, ze_ge32f, ze_gt32t, ze_gt32f, ze_le32t, ze_le32f, ze_lt32t, ze_lt32f, ze_eq32p, ze_eq32f, ze_ge47t, ze_ge47f, ze_gt47t, ze_gt47f, ze_le47t, ze_le47f, ze_lt47t, ze_lt47f, ze_eq47p, ze_eq47f, ze_ge120t, ze_ge120f, ze_gt120t, ze_gt120f, ze_le120t, ze_le120f, ze_lt120t, ze_lt120f, ze_eq120p, ze_eq120f, ze_ge1024t, ze_ge1024f, ze_gt1024t, ze_gt1024f, ze_le1024t, ze_le1024f, ze_lt1024t, ze_lt1024f, ze_eq1024p, ze_eq1024f, ze_let, ze_lef, ze_ltt, ze_ltf, ze_eqt, ze_eqf, ze_m1_lt0, ze_m1_n0le, ze_m1_le0, ze_m1_le, ze_m1_lt, ze_m1_nle, ze_m1_nlt, ze_m1_ne, ze_m1_en, ze_m1_ne4, ze_m1_ne0, ze_nz6, ze_nz10, ze_nz12, ze_nz16, ze_nz32, ze_nz192, ze_1ne0, ze_0ne1, ze_0ne4, ↓ze_rem6, ↓ze_rem10, ↓ze_rem16, ↓ze_rem32, ↓ze_rem12, ze_div6, ze_div10, ze_div12, ze_div16, ze_div32, ze_div192, ze_mul3, ze_mul4, ze_mul6, ze_mul10, ze_mul12, ze_mul16, ze_mul17, ze_mul32, ze_mul60, ze_mulr6, ze_nrem6, ze_mulr10, ze_nrem10, ze_mulr12, ze_nrem12, ze_mulr16, ze_nrem16, ze_mulr32, ze_nrem32, nI_add, ze_add1, ze_add6, ze_add7, ze_add8, ze_add12, ze_add16, ze_add0, ze_radd0, ze_radd8, ze_sub1, ze_m1, ze_0sub1, ze_m1add1, ze_1sub, ze_2sub, pk_sub, ze_and3, ze_and7, ze_and31, ze_and127, ↓ze_shr2, ↓ze_shr3, ↓ze_shr5, ↓ze_shl3, ze_i8, ze_nby, ze_i8m1, ze_i80, ze_nbm1, ze_i16, ze_nsh, ze_nb0, ze_nt0, ze_nt1, ze_cl0, ze_cl1, nI_clamp, vp_in_nI, forall_eq, true_implies, false_implies, not_true_eq_false, not_false_eq_true, and_true, true_and, implies_true, and_self, forall_const, Classical.not_not]
        rw [h3]
        refine br_t (nI_pos' (by omega)) ?_
        refine ih (i + 1) z (by omega) (fun p hp => ?_)
        rcases Nat.lt_or_ge p i with y | y
        · exact hno p y
        · have : p = i := by omega
          subst this; exact e
theorem gy_free {post : Int32 → Prop} {s : Nat} (hs : s < 2) (HO : gw_O a_defined a_oClass b_cls)
    (K0 : (∀ q, q < 16 → a_oClass (16 * s + q) ≠ -1) → post (-1))
    (K1 : ∀ q, q < 16 → a_oClass (16 * s + q) = -1 → (∀ p, p < q → a_oClass (16 * s + p) ≠ -1) → post (nI (16 * s + q))) : wpY_free post (g_culprit, g_depth, g_lastMade, b_defined, b_version, b_parent, b_own, b_latest, b_cls, b_partner, b_pinned, b_arrived, b_val, b_from, b_made, b_done, b_rows) (nI s) := by
  unfold wpY_free; dsimp only
  rw [ze_mul16]
  exact nm_e ⟨17, gy_freeL hs HO K0 K1 17 0 (by omega) (by omega) (fun p hp => by omega)⟩
/-- the new values of an object of class c: -1 in the reference fields, 0 elsewhere -/
def gw_nv (lv up nf nm kd : Nat → Nat) (c o : Nat) (V V' : Nat → Int64) : Prop :=
  (∀ j, j < 10 * o ∨ 10 * o + 10 ≤ j → V' j = V j) ∧ ∀ j k, j ≤ lv c → k < nf (gw_al lv up c j) → V' (10 * o + nm (4 * gw_al lv up c j + k)) = if kd (4 * gw_al lv up c j + k) = 4 then -1 else 0
theorem gy_createL {post : SY → Prop} (HW : gw_W b_defined lv up nf nm kd) (HU : gw_U b_defined lv up nf nm) (HY : gw_CY b_defined b_parent b_own lv up nf nm kd) {o c : Nat} (ho : o < 32) (hc : c < 12) (hco : c / 6 = o / 16) (hd : b_defined c ≠ 0)
    {V : Nat → Int64} (K : ∀ V', gw_nv lv up nf nm kd c o V V' → post (g_culprit, g_depth, g_lastMade, b_defined, b_version, b_parent, b_own, b_latest, b_cls, b_partner, b_pinned, b_arrived, V', b_from, b_made, b_done, b_rows)) :
    ∀ n i W, i ≤ 10 → 10 - i < n → (∀ j, j < 10 * o ∨ 10 * o + 10 ≤ j → W j = V j) → (∀ j k, j ≤ lv c → k < nf (gw_al lv up c j) → nm (4 * gw_al lv up c j + k) < i → W (10 * o + nm (4 * gw_al lv up c j + k)) = if kd (4 * gw_al lv up c j + k) = 4 then -1 else 0) →
      wY_create_23 post (nI o) (nI (c % 6)) g_culprit g_depth g_lastMade n (nI i) b_defined b_version b_parent b_own b_latest b_cls b_partner b_pinned b_arrived W b_from b_made b_done b_rows := by
  intro n
  induction n with
  | zero => intro i W h1 h2; omega
  | succ n ih =>
    intro i W hi hn hW1 hW2
    rw [wY_create_23]
    rcases Nat.eq_or_lt_of_le hi with z | z
    · subst z
      refine br_t (by decide) (K W ⟨hW1, fun j k hj hk => hW2 j k hj hk ?_⟩)
      exact ((HW _ (gw_al_ok HW hc hd hj).1).2.2.1 k hk).1
    · have e : 6 * (o / 16) + c % 6 = c := by omega
      refine br_f (ze_ge10f z) ⟨by decide, ?_⟩
      rw [ze_div16 (by omega)]
      refine gy_kind HW HY (by omega) (by omega) (by rw [e]; exact hd) (fun r hr => ?_)
      rw [e] at hr
      have step : ∀ w : Int64, (∀ j k, j ≤ lv c → k < nf (gw_al lv up c j) → nm (4 * gw_al lv up c j + k) = i → w = if kd (4 * gw_al lv up c j + k) = 4 then -1 else 0) →
          wY_create_23 post (nI o) (nI (c % 6)) g_culprit g_depth g_lastMade n (nI (i + 1)) b_defined b_version b_parent b_own b_latest b_cls b_partner b_pinned b_arrived (vp_updL W (10 * o + i) w) b_from b_made b_done b_rows := by
        intro w hw
        refine ih (i + 1) _ z (by omega) (fun j hj => ?_) (fun j k hj hk hi2 => ?_)
        · rw [pk_uLn (by omega)]; exact hW1 j hj
        · by_cases y : nm (4 * gw_al lv up c j + k) = i
          · rw [y, pk_uLs]; exact hw j k hj hk y
          · rw [pk_uLn (by omega)]; exact hW2 j k hj hk (by omega)
      have uniq : ∀ j k j' k', j ≤ lv c → k < nf (gw_al lv up c j) → j' ≤ lv c → k' < nf (gw_al lv up c j') → nm (4 * gw_al lv up c j + k) = i → nI i = nI (nm (4 * gw_al lv up c j' + k')) → kd (4 * gw_al lv up c j + k) = kd (4 * gw_al lv up c j' + k') := by
        intro j k j' k' hj hk hj' hk' e1 e2
        have g := ((HW _ (gw_al_ok HW hc hd hj').1).2.2.1 k' hk').1
        have e3 := (nI_eq (by omega) (by omega)).mp e2
        obtain ⟨rfl, rfl⟩ := gw_one HW HU hc hd hj hj' hk hk' (by omega)
        rfl
      rcases hr with ⟨j', k', hj', hk', e1, e2⟩ | ⟨e2, hr⟩
      · have g := ((HW _ (gw_al_ok HW hc hd hj').1).2.2.1 k' hk').2
        rw [e2]
        by_cases y : kd (4 * gw_al lv up c j' + k') = 4
        · refine br_t (ze_eq4t y) ?_
          simp (disch := omega) only [ze_ge0t, ze_gt0t, ze_gt0f, ze_le0t, ze_le0f, ze_lt0f, ze_eq0p, ze_eq0f, ze_ge1t, ze_ge1f, ze_gt1t, ze_gt1f, ze_le1t, ze_le1f, ze_lt1t, ze_lt1f, ze_eq1p, ze_eq1f, ze_ge2t, ze_ge2f, ze_gt2t, ze_gt2f, ze_le2t, ze_le2f, ze_lt2t, ze_lt2f, ze_eq2p, ze_eq2f, ze_ge3t, ze_ge3f, ze_gt3t, ze_gt3f, ze_le3t, ze_le3f, ze_lt3t, ze_lt3f, ze_eq3p, ze_eq3f, ze_ge4t, ze_ge4f, ze_gt4t, ze_gt4f, ze_le4t, ze_le4f, ze_lt4t, ze_lt4f, ze_eq4p, ze_eq4f, ze_ge5t, ze_ge5f, ze_gt5t, ze_gt5f, ze_le5t, ze_le5f, ze_lt5t, ze_lt5f, ze_eq5p, ze_eq5f, ze_ge6t, ze_ge6f, ze_gt6t, ze_gt6f, ze_le6t, ze_le6f, ze_lt6t, ze_lt6f, ze_eq6p, ze_eq6f, ze_ge7t, ze_ge7f, ze_gt7t, ze_gt7f, ze_le7t, ze_le7f, ze_lt7t, ze_lt7f, ze_eq7p, ze_eq7f, ze_ge9t, ze_ge9f, ze_gt9t, ze_gt9f, ze_le9t, ze_le9f, ze_lt9t, ze_lt9f, ze_eq9p, ze_eq9f, ze_ge10t, ze_ge10f, ze_gt10t, ze_gt10f, ze_le10t, ze_le10f, ze_lt10t, ze_lt10f, ze_eq10p, ze_eq10f, ze_ge12t, ze_ge12f, ze_gt12t, ze_gt12f, ze_le12t, ze_le12f, ze_lt12t, ze_lt12f, ze_eq12p, ze_eq12f, ze_ge15t, ze_ge15f, ze_gt15t, ze_gt15f, ze_le15t, ze_le15f, ze_lt15t, ze_lt15f, ze_eq15p, ze_eq15f, ze_ge16t, ze_ge16f, ze_gt16t, ze_gt16f, ze_le16t, ze_le16f, ze_lt16t, ze_lt16f, ze_eq16p, ze_eq16f, ze_ge30t, ze_ge30f, ze_gt30t, ze_gt30f, ze_le30t, ze_le30f, ze_lt30t, ze_lt30f, ze_eq30p, ze_eq30f, ze_ge32t, ze_ge32f, ze_gt32t, ze_gt32f, ze_le32t, ze_le32f, ze_lt32t, ze_lt32f, ze_eq32p, ze_eq32f, ze_ge47t, ze_ge47f, ze_gt47t, ze_gt47f, ze_le47t, ze_le47f, ze_lt47t, ze_lt47f, ze_eq47p, ze_eq47f, ze_ge120t, ze_ge120f, ze_gt120t, ze_gt120f, ze_le120t, ze_le120f, ze_lt120t, ze_lt120f, ze_eq120p, ze_eq120f, ze_ge1024t, ze_ge1024f, ze_gt1024t, ze_gt1024f, ze_le1024t, ze_le1024f, ze_lt1024t, ze_lt1024f, ze_eq1024p, ze_eq1024f, ze_let, ze_lef, ze_ltt, ze_ltf, ze_eqt, ze_eqf, ze_m1_lt0, ze_m1_n0le, ze_m1_le0, ze_m1_le, ze_m1_lt, ze_m1_nle, ze_m1_nlt, ze_m1_ne, ze_m1_en, ze_m1_ne4, ze_m1_ne0, ze_nz6, ze_nz10, ze_nz12, ze_nz16, ze_nz32, ze_nz192, ze_1ne0, ze_0ne1, ze_0ne4, ↓ze_rem6, ↓ze_rem10, ↓ze_rem16, ↓ze_rem32, ↓ze_rem12, ze_div6, ze_div10, ze_div12, ze_div16, ze_div32, ze_div192, ze_mul3, ze_mul4, ze_mul6, ze_mul10, ze_mul12, ze_mul16, ze_mul17, ze_mul32, ze_mul60, ze_mulr6, ze_nrem6, ze_mulr10, ze_nrem10, ze_mulr12, ze_nrem12, ze_mulr16, ze_nrem16, ze_mulr32, ze_nrem32, nI_add, ze_add1, ze_add6, ze_add7, ze_add8, ze_add12, ze_add16, ze_add0, ze_radd0, ze_radd8, ze_sub1, ze_m1, ze_0sub1, ze_m1add1, ze_1sub, ze_2sub, pk_sub, ze_and3, ze_and7, ze_and31, ze_and127, ↓ze_shr2, ↓ze_shr3, ↓ze_shr5, ↓ze_shl3, ze_i8, ze_nby, ze_i8m1, ze_i80, ze_nbm1, ze_i16, ze_nsh, ze_nb0, ze_nt0, ze_nt1, ze_cl0, ze_cl1, nI_clamp, vp_in_nI, forall_eq, true_implies, false_implies, not_true_eq_false, not_false_eq_true, and_true, true_and, implies_true, and_self, forall_const, Classical.not_not]
          exact step _ (fun j k hj hk e3 => by rw [uniq j k j' k' hj hk hj' hk' e3 e1, if_pos y])
        · refine br_f (ze_eq4f y (by omega)) ?_
          simp (disch := omega) only [ze_ge0t, ze_gt0t, ze_gt0f, ze_le0t, ze_le0f, ze_lt0f, ze_eq0p, ze_eq0f, ze_ge1t, ze_ge1f, ze_gt1t, ze_gt1f, ze_le1t, ze_le1f, ze_lt1t, ze_lt1f, ze_eq1p, ze_eq1f, ze_ge2t, ze_ge2f, ze_gt2t, ze_gt2f, ze_le2t, ze_le2f, ze_lt2t, ze_lt2f, ze_eq2p, ze_eq2f, ze_ge3t, ze_ge3f, ze_gt3t, ze_gt3f, ze_le3t, ze_le3f, ze_lt3t, ze_lt3f, ze_eq3p, ze_eq3f, ze_ge4t, ze_ge4f, ze_gt4t, ze_gt4f, ze_le4t, ze_le4f, ze_lt4t, ze_lt4f, ze_eq4p, ze_eq4f, ze_ge5t, ze_ge5f, ze_gt5t, ze_gt5f, ze_le5t, ze_le5f, ze_lt5t, ze_lt5f, ze_eq5p, ze_eq5f, ze_ge6t, ze_ge6f, ze_gt6t, ze_gt6f, ze_le6t, ze_le6f, ze_lt6t, ze_lt6f, ze_eq6p, ze_eq6f, ze_ge7t, ze_ge7f, ze_gt7t, ze_gt7f, ze_le7t, ze_le7f, ze_lt7t, ze_lt7f, ze_eq7p, ze_eq7f, ze_ge9t, ze_ge9f, ze_gt9t, ze_gt9f, ze_le9t, ze_le9f, ze_lt9t, ze_lt9f, ze_eq9p, ze_eq9f, ze_ge10t, ze_ge10f, ze_gt10t, ze_gt10f, ze_le10t, ze_le10f, ze_lt10t, ze_lt10f, ze_eq10p, ze_eq10f, ze_ge12t, ze_ge12f, ze_gt12t, ze_gt12f, ze_le12t, ze_le12f, ze_lt12t, ze_lt12f, ze_eq12p, ze_eq12f, ze_ge15t, ze_ge15f, ze_gt15t, ze_gt15f, ze_le15t, ze_le15f, ze_lt15t, ze_lt15f, ze_eq15p, ze_eq15f, ze_ge16t, ze_ge16f, ze_gt16t, ze_gt16f, ze_le16t, ze_le16f, ze_lt16t, ze_lt16f, ze_eq16p, ze_eq16f, ze_ge30t, ze_ge30f, ze_gt30t, ze_gt30f, ze_le30t, ze_le30f, ze_lt30t, ze_lt30f, ze_eq30p, ze_eq30f, ze_ge32t, ze_ge32f, ze_gt32t, ze_gt32f, ze_le32t, ze_le32f, ze_lt32t, ze_lt32f, ze_eq32p, ze_eq32f, ze_ge47t, ze_ge47f, ze_gt47t, ze_gt47f, ze_le47t, ze_le47f, ze_lt47t, ze_lt47f, ze_eq47p, ze_eq47f, ze_ge120t, ze_ge120f, ze_gt120t, ze_gt120f, ze_le120t, ze_le120f, ze_lt120t, ze_lt120f, ze_eq120p, ze_eq120f, ze_ge1024t, ze_ge1024f, ze_gt1024t, ze_gt1024f, ze_le1024t, ze_le1024f, ze_lt1024t, ze_lt1024f, ze_eq1024p, ze_eq1024f, ze_let, ze_lef, ze_ltt, ze_ltf, ze_eqt, ze_eqf, ze_m1_lt0, ze_m1_n0le, ze_m1_le0, ze_m1_le, ze_m1_lt, ze_m1_nle, ze_m1_nlt, ze_m1_ne, ze_m1_en, ze_m1_ne4, ze_m1_ne0, ze_nz6, ze_nz10, ze_nz12, ze_nz16, ze_nz32, ze_nz192, ze_1ne0, ze_0ne1, ze_0ne4, ↓ze_rem6, ↓ze_rem10, ↓ze_rem16, ↓ze_rem32, ↓ze_rem12, ze_div6, ze_div10, ze_div12, ze_div16, ze_div32, ze_div192, ze_mul3, ze_mul4, ze_mul6, ze_mul10, ze_mul12, ze_mul16, ze_mul17, ze_mul32, ze_mul60, ze_mulr6, ze_nrem6, ze_mulr10, ze_nrem10, ze_mulr12, ze_nrem12, ze_mulr16, ze_nrem16, ze_mulr32, ze_nrem32, nI_add, ze_add1, ze_add6, ze_add7, ze_add8, ze_add12, ze_add16, ze_add0, ze_radd0, ze_radd8, ze_sub1, ze_m1, ze_0sub1, ze_m1add1, ze_1sub, ze_2sub, pk_sub, ze_and3, ze_and7, ze_and31, ze_and127, ↓ze_shr2, ↓ze_shr3, ↓ze_shr5, ↓ze_shl3, ze_i8, ze_nby, ze_i8m1, ze_i80, ze_nbm1, ze_i16, ze_nsh, ze_nb0, ze_nt0, ze_nt1, ze_cl0, ze_cl1, nI_clamp, vp_in_nI, forall_eq, true_implies, false_implies, not_true_eq_false, not_false_eq_true, and_true, true_and, implies_true, and_self, forall_const, Classical.not_not]
          exact step _ (fun j k hj hk e3 => by rw [uniq j k j' k' hj hk hj' hk' e3 e1, if_neg y])
      · rw [e2]
        refine br_f (by decide) ?_
        simp (disch := omega) only [ze_ge0t, ze_gt0t, ze_gt0f, ze_le0t, ze_le0f, ze_lt0f, ze_eq0p, ze_eq0f, ze_ge1t, ze_ge1f, ze_gt1t, ze_gt1f, ze_le1t, ze_le1f, ze_lt1t, ze_lt1f, ze_eq1p, ze_eq1f, ze_ge2t, ze_ge2f, ze_gt2t, ze_gt2f, ze_le2t, ze_le2f, ze_lt2t, ze_lt2f, ze_eq2p, ze_eq2f, ze_ge3t, ze_ge3f, ze_gt3t, ze_gt3f, ze_le3t, ze_le3f, ze_lt3t, ze_lt3f, ze_eq3p, ze_eq3f, ze_ge4t, ze_ge4f, ze_gt4t, ze_gt4f, ze_le4t, ze_le4f, ze_lt4t, ze_lt4f, ze_eq4p, ze_eq4f, ze_ge5t, ze_ge5f, ze_gt5t, ze_gt5f, ze_le5t, ze_le5f, ze_lt5t, ze_lt5f, ze_eq5p, ze_eq5f, ze_ge6t, ze_ge6f, ze_gt6t, ze_gt6f, ze_le6t, ze_le6f, ze_lt6t, ze_lt6f, ze_eq6p, ze_eq6f, ze_ge7t, ze_ge7f, ze_gt7t, ze_gt7f, ze_le7t, ze_le7f, ze_lt7t, ze_lt7f, ze_eq7p, ze_eq7f, ze_ge9t, ze_ge9f, ze_gt9t, ze_gt9f, ze_le9t, ze_le9f, ze_lt9t, ze_lt9f, ze_eq9p, ze_eq9f, ze_ge10t, ze_ge10f, ze_gt10t, ze_gt10f, ze_le10t, ze_le10f, ze_lt10t, ze_lt10f, ze_eq10p, ze_eq10f, ze_ge12t, ze_ge12f, ze_gt12t, ze_gt12f, ze_le12t, ze_le12f, ze_lt12t, ze_lt12f, ze_eq12p, ze_eq12f, ze_ge15t, ze_ge15f, ze_gt15t, ze_gt15f, ze_le15t, ze_le15f, ze_lt15t, ze_lt15f, ze_eq15p, ze_eq15f, ze_ge16t, ze_ge16f, ze_gt16t, ze_gt16f, ze_le16t, ze_le16f, ze_lt16t, ze_lt16f, ze_eq16p, ze_eq16f, ze_ge30t, ze_ge30f, ze_gt30t, ze_gt30f, ze_le30t, ze_le30f, ze_lt30t, ze_lt30f, ze_eq30p, ze_eq30f, ze_ge32t, ze_ge32f, ze_gt32t, ze_gt32f, ze_le32t, ze_le32f, ze_lt32t, ze_lt32f, ze_eq32p, ze_eq32f, ze_ge47t, ze_ge47f, ze_gt47t, ze_gt47f, ze_le47t, ze_le47f, ze_lt47t, ze_lt47f, ze_eq47p, ze_eq47f, ze_ge120t, ze_ge120f, ze_gt120t, ze_gt120f, ze_le120t, ze_le120f, ze_lt120t, ze_lt120f, ze_eq120p, ze_eq120f, ze_ge1024t, ze_ge1024f, ze_gt1024t, ze_gt1024f, ze_le1024t, ze_le1024f, ze_lt1024t, ze_lt1024f, ze_eq1024p, ze_eq1024f, ze_let, ze_lef, ze_ltt, ze_ltf, ze_eqt, ze_eqf, ze_m1_lt0, ze_m1_n0le, ze_m1_le0, ze_m1_le, ze_m1_lt, ze_m1_nle, ze_m1_nlt, ze_m1_ne, ze_m1_en, ze_m1_ne4, ze_m1_ne0, ze_nz6, ze_nz10, ze_nz12, ze_nz16, ze_nz32, ze_nz192, ze_1ne0, ze_0ne1, ze_0ne4, ↓ze_rem6, ↓ze_rem10, ↓ze_rem16, ↓ze_rem32, ↓ze_rem12, ze_div6, ze_div10, ze_div12, ze_div16, ze_div32, ze_div192, ze_mul3, ze_mul4, ze_mul6, ze_mul10, ze_mul12, ze_mul16, ze_mul17, ze_mul32, ze_mul60, ze_mulr6, ze_nrem6, ze_mulr10, ze_nrem10, ze_mulr12, ze_nrem12, ze_mulr16, ze_nrem16, ze_mulr32, ze_nrem32, nI_add, ze_add1, ze_add6, ze_add7, ze_add8, ze_add12, ze_add16, ze_add0, ze_radd0, ze_radd8, ze_sub1, ze_m1, ze_0sub1, ze_m1add1, ze_1sub, ze_2sub, pk_sub, ze_and3, ze_and7, ze_and31, ze_and127, ↓ze_shr2, ↓ze_shr3, ↓ze_shr5, ↓ze_shl3, ze_i8, ze_nby, ze_i8m1, ze_i80, ze_nbm1, ze_i16, ze_nsh, ze_nb0, ze_nt0, ze_nt1, ze_cl0, ze_cl1, nI_clamp, vp_in_nI, forall_eq, true_implies, false_implies, not_true_eq_false, not_false_eq_true, and_true, true_and, implies_true, and_self, forall_const, Classical.not_not]
        exact step _ (fun j k hj hk e3 => absurd (congrArg nI e3).symm (hr j k hj hk))
theorem gy_create {post : SY → Prop} (HW : gw_W b_defined lv up nf nm kd) (HU : gw_U b_defined lv up nf nm) (HY : gw_CY b_defined b_parent b_own lv up nf nm kd) {o c : Nat} (ho : o < 32) (hc : c < 12) (hco : c / 6 = o / 16) (hd : b_defined c ≠ 0) {d : Nat} (hcd : c % 6 = d)
    (K : ∀ V', gw_nv lv up nf nm kd c o b_val V' → post (g_culprit, g_depth, g_lastMade, b_defined, b_version, b_parent, b_own, b_latest, upd b_cls o (nI d), upd b_partner o (-1), upd b_pinned o 0, b_arrived, V', b_from, b_made, b_done, b_rows)) : wpY_create post (g_culprit, g_depth, g_lastMade, b_defined, b_version, b_parent, b_own, b_latest, b_cls, b_partner, b_pinned, b_arrived, b_val, b_from, b_made, b_done, b_rows) (nI o) (nI d) := by
  subst hcd
  unfold wpY_create; dsimp only
  simp (disch := omega) only [ze_ge0t, ze_gt0t, ze_gt0f, ze_le0t, ze_le0f, ze_lt0f, ze_eq0p, ze_eq0f, ze_ge1t, ze_ge1f, ze_gt1t, ze_gt1f, ze_le1t, ze_le1f, ze_lt1t, ze_lt1f, ze_eq1p, ze_eq1f, ze_ge2t, ze_ge2f, ze_gt2t, ze_gt2f, ze_le2t, ze_le2f, ze_lt2t, ze_lt2f, ze_eq2p, ze_eq2f, ze_ge3t, ze_ge3f, ze_gt3t, ze_gt3f, ze_le3t, ze_le3f, ze_lt3t, ze_lt3f, ze_eq3p, ze_eq3f, ze_ge4t, ze_ge4f, ze_gt4t, ze_gt4f, ze_le4t, ze_le4f, ze_lt4t, ze_lt4f, ze_eq4p, ze_eq4f, ze_ge5t, ze_ge5f, ze_gt5t, ze_gt5f, ze_le5t, ze_le5f, ze_lt5t, ze_lt5f, ze_eq5p, ze_eq5f, ze_ge6t, ze_ge6f, ze_gt6t, ze_gt6f, ze_le6t, ze_le6f, ze_lt6t, ze_lt6f, ze_eq6p, ze_eq6f, ze_ge7t, ze_ge7f, ze_gt7t, ze_gt7f, ze_le7t, ze_le7f, ze_lt7t, ze_lt7f, ze_eq7p, ze_eq7f, ze_ge9t, ze_ge9f, ze_gt9t, ze_gt9f, ze_le9t, ze_le9f, ze_lt9t, ze_lt9f, ze_eq9p, ze_eq9f, ze_ge10t, ze_ge10f, ze_gt10t, ze_gt10f, ze_le10t, ze_le10f, ze_lt10t, ze_lt10f, ze_eq10p, ze_eq10f, ze_ge12t, ze_ge12f, ze_gt12t, ze_gt12f, ze_le12t, ze_le12f, ze_lt12t, ze_lt12f, ze_eq12p, ze_eq12f, ze_ge15t, ze_ge15f, ze_gt15t, ze_gt15f, ze_le15t, ze_le15f, ze_lt15t, ze_lt15f, ze_eq15p, ze_eq15f, ze_ge16t, ze_ge16f, ze_gt16t, ze_gt16f, ze_le16t, ze_le16f, ze_lt16t, ze_lt16f, ze_eq16p, ze_eq16f, ze_ge30t, ze_ge30f, ze_gt30t, ze_gt30f, ze_le30t, ze_le30f, ze_lt30t, ze_lt30f, ze_eq30p, ze_eq30f, ze_ge32t, ze_ge32f, ze_gt32t, ze_gt32f, ze_le32t, ze_le32f, ze_lt32t, ze_lt32f, ze_eq32p, ze_eq32f, ze_ge47t, ze_ge47f, ze_gt47t, ze_gt47f, ze_le47t, ze_le47f, ze_lt47t, ze_lt47f, ze_eq47p, ze_eq47f, ze_ge120t, ze_ge120f, ze_gt120t, ze_gt120f, ze_le120t, ze_le120f, ze_lt120t, ze_lt120f, ze_eq120p, ze_eq120f, ze_ge1024t, ze_ge1024f, ze_gt1024t, ze_gt1024f, ze_le1024t, ze_le1024f, ze_lt1024t, ze_lt1024f, ze_eq1024p, ze_eq1024f, ze_let, ze_lef, ze_ltt, ze_ltf, ze_eqt, ze_eqf, ze_m1_lt0, ze_m1_n0le, ze_m1_le0, ze_m1_le, ze_m1_lt, ze_m1_nle, ze_m1_nlt, ze_m1_ne, ze_m1_en, ze_m1_ne4, ze_m1_ne0, ze_nz6, ze_nz10, ze_nz12, ze_nz16, ze_nz32, ze_nz192, ze_1ne0, ze_0ne1, ze_0ne4, ↓ze_rem6, ↓ze_rem10, ↓ze_rem16, ↓ze_rem32, ↓ze_rem12, ze_div6, ze_div10, ze_div12, ze_div16, ze_div32, ze_div192, ze_mul3, ze_mul4, ze_mul6, ze_mul10, ze_mul12, ze_mul16, ze_mul17, ze_mul32, ze_mul60, ze_mulr6, ze_nrem6, ze_mulr10, ze_nrem10, ze_mulr12, ze_nrem12, ze_mulr16, ze_nrem16, ze_mulr32, ze_nrem32, nI_add, ze_add1, ze_add6, ze_add7, ze_add8, ze_add12, ze_add16, ze_add0, ze_radd0, ze_radd8, ze_sub1, ze_m1, ze_0sub1, ze_m1add1, ze_1sub, ze_2sub, pk_sub, ze_and3, ze_and7, ze_and31, ze_and127, ↓ze_shr2, ↓ze_shr3, ↓ze_shr5, ↓ze_shl3, ze_i8, ze_nby, ze_i8m1, ze_i80, ze_nbm1, ze_i16, ze_nsh, ze_nb0, ze_nt0, ze_nt1, ze_cl0, ze_cl1, nI_clamp, vp_in_nI, forall_eq, true_implies, false_implies, not_true_eq_false, not_false_eq_true, and_true, true_and, implies_true, and_self, forall_const, Classical.not_not]
  exact ⟨11, gy_createL HW HU HY ho hc hco hd K 11 0 b_val (by omega) (by omega) (fun j _ => rfl) (fun j k _ _ h => by omega)⟩
/-- the relation with a new object -/
theorem gw_O_new (HO : gw_O a_defined a_oClass b_cls) {o c : Nat} (hc : c < 12) (hco : c / 6 = o / 16) (hd : a_defined c ≠ 0) : gw_O a_defined (upd a_oClass o (nI c)) (upd b_cls o (nI (c % 6))) := by
  intro o' ho'
  unfold gw_kl
  by_cases e : o' = o
  · subst e
    rw [pk_us, pk_us, nI_clamp (by omega)]
    exact Or.inr ⟨hc, rfl, rfl, hd, hco⟩
  · rw [pk_un e, pk_un e]
    exact HO o' ho'
theorem gw_kl_us {C : Nat → Int32} {o c : Nat} (hc : c < 12) : gw_kl (upd C o (nI c)) o = c := by unfold gw_kl; rw [pk_us, nI_clamp (by omega)]
theorem gw_kl_un {C : Nat → Int32} {o o' : Nat} {x : Int32} (h : o' ≠ o) : gw_kl (upd C o x) o' = gw_kl C o' := by unfold gw_kl; rw [pk_un h]
theorem gw_ne_up {C : Nat → Int32} {o o' c : Nat} (hc : c < 12) (h : C o' ≠ -1) : upd C o (nI c) o' ≠ -1 := by
  by_cases e : o' = o
  · subst e; rw [pk_us]; exact ze_m1_ne (by omega)
  · rw [pk_un e]; exact h
theorem gw_cell_new {C : Nat → Int32} {o o' c k : Nat} {S V : Int64} (hc : c < 12) (h : gw_cell C o' k S V) : gw_cell (upd C o (nI c)) o' k S V :=
  ⟨fun z => (h.1 z).imp id (fun ⟨t, h1, h2, h3, h4, h5⟩ => ⟨t, h1, h2, h3, gw_ne_up hc h4, h5⟩), h.2⟩
theorem gw_V_new (HW : gw_W a_defined lv up nf nm kd) (HO : gw_O a_defined a_oClass b_cls) (HV : gw_V lv up nf nm kd a_oClass a_slot b_val) {o c : Nat} {V' : Nat → Int64} (hc : c < 12) (hd : a_defined c ≠ 0) (hV : gw_nv lv up nf nm kd c o b_val V') :
    gw_V lv up nf nm kd (upd a_oClass o (nI c)) (gw_zr a_slot (12 * o) (12 * o + 12)) V' := by
  intro o' ho' ha j k
  by_cases e : o' = o
  · subst e
    rw [gw_kl_us hc]
    intro hj hk
    have l := (HW c hc).2.2.2.2.1
    have f := (HW _ (gw_al_ok HW hc hd hj).1).1
    rw [gw_zr_in (by omega) (by omega), hV.2 j k hj hk]
    by_cases z : kd (4 * gw_al lv up c j + k) = 4
    · rw [if_pos z]; exact ⟨fun _ => Or.inl ⟨rfl, rfl⟩, fun q => absurd z q⟩
    · rw [if_neg z]; exact ⟨fun q => absurd q z, fun _ => rfl⟩
  · rw [gw_kl_un e]
    rw [pk_un e] at ha
    intro hj hk
    obtain ⟨h1, h2, h3, h4, h5⟩ := gw_O_al HO ho' ha
    have l := (HW _ h1).2.2.2.2.1
    have f := (HW _ (gw_al_ok HW h1 h4 hj).1).1
    have g := ((HW _ (gw_al_ok HW h1 h4 hj).1).2.2.1 k hk).1
    rw [gw_zr_out (by omega), hV.1 _ (by omega)]
    exact gw_cell_new hc (HV o' ho' ha j k hj hk)
theorem gw_S_new {hh hs pq : Nat → Nat} {C HD AR HS PT : Nat → Int32} (h : gw_S C HD AR HS PT hh hs pq) {o c : Nat} (hc : c < 12) (ho : C o = -1) : gw_S (upd C o (nI c)) HD AR HS (upd PT o (-1)) hh hs pq := by
  refine ⟨fun o' ho' => ?_, h.2⟩
  obtain ⟨h1, h2, h3⟩ := h.1 o' ho'
  refine ⟨h1, fun z => ?_, fun z => ?_⟩
  · by_cases e : o' = o
    · rw [e, pk_us]
    · rw [pk_un e]; exact h2 z
  · obtain ⟨t1, t2, t3, t4, t5, t6, t7⟩ := h3 z
    have e : o' ≠ o := fun e => t1 (by rw [e]; exact ho)
    exact ⟨gw_ne_up hc t1, t2, t3, t4, gw_ne_up hc t5, t6, by rw [pk_un e]; exact t7⟩
theorem gm_make {k : Nat} (R : gw_R a_defined a_parent a_level a_version a_fields a_fName a_fKind a_latest a_oClass a_slot a_handle a_arrived a_handles a_described a_dLevels a_dFields a_plan a_wide b_parent b_own b_cls b_partner b_val) (v1 v2 : Int32) : wpX_make (fun r u' => wpY_make (fun r' v' => r' = r ∧ i_Rel (k + 5) u' v') (f_culprit, g_depth, g_lastMade, a_defined, a_version, b_parent, b_own, a_latest, b_cls, b_partner, a_pinned, b_arrived, b_val, b_from, b_made, b_done, b_rows) v1 v2) (f_end, f_at, f_written, f_read, f_error, f_culprit, f_nextHandle, f_depth, f_nTodo, a_defined, a_parent, a_level, a_version, a_fields, a_fName, a_fKind, a_latest, a_oClass, a_pinned, a_slot, a_handle, a_arrived, a_handles, a_described, a_dLevels, a_dFields, a_plan, a_wide, a_wire, a_order, a_made, a_sObj, a_sLev, a_sPos, a_sCls, a_pairs, a_todo) v1 v2 := by
  obtain ⟨lv, up, nf, nm, kd, hh, hs, pq, HW, HU, HX, HY, HO, HV, HS, HD, HL⟩ := id R
  unfold wpX_make wpY_make; dsimp only
  refine gx_class v1 v2 (fun no => br_t rfl ?_) (fun s c hs2 hc6 e1 e2 hd => br_f (by decide) ?_)
  · refine gy_side v1 (fun _ _ => br_t rfl ⟨rfl, gi_in R⟩) (fun s hs2 e1 => br_f (by decide) ?_)
    rcases pk_ix v2 (n := 6) (by decide) with z | z | ⟨c, hc, ec⟩
    · exact br_t z ⟨rfl, gi_in R⟩
    · have z0 : ¬ v2 < 0 := fun h => absurd (Int32.lt_of_le_of_lt z h) (by decide)
      have z1 : 5 < v2 := Int32.lt_of_lt_of_le (by decide) z
      exact br_f z0 (br_t z1 ⟨rfl, gi_in R⟩)
    · have := no s c hs2 hc e1 ec
      subst e1 ec
      simp (disch := omega) only [ze_ge0t, ze_gt0t, ze_gt0f, ze_le0t, ze_le0f, ze_lt0f, ze_eq0p, ze_eq0f, ze_ge1t, ze_ge1f, ze_gt1t, ze_gt1f, ze_le1t, ze_le1f, ze_lt1t, ze_lt1f, ze_eq1p, ze_eq1f, ze_ge2t, ze_ge2f, ze_gt2t, ze_gt2f, ze_le2t, ze_le2f, ze_lt2t, ze_lt2f, ze_eq2p, ze_eq2f, ze_ge3t, ze_ge3f, ze_gt3t, ze_gt3f, ze_le3t, ze_le3f, ze_lt3t, ze_lt3f, ze_eq3p, ze_eq3f, ze_ge4t, ze_ge4f, ze_gt4t, ze_gt4f, ze_le4t, ze_le4f, ze_lt4t, ze_lt4f, ze_eq4p, ze_eq4f, ze_ge5t, ze_ge5f, ze_gt5t, ze_gt5f, ze_le5t, ze_le5f, ze_lt5t, ze_lt5f, ze_eq5p, ze_eq5f, ze_ge6t, ze_ge6f, ze_gt6t, ze_gt6f, ze_le6t, ze_le6f, ze_lt6t, ze_lt6f, ze_eq6p, ze_eq6f, ze_ge7t, ze_ge7f, ze_gt7t, ze_gt7f, ze_le7t, ze_le7f, ze_lt7t, ze_lt7f, ze_eq7p, ze_eq7f, ze_ge9t, ze_ge9f, ze_gt9t, ze_gt9f, ze_le9t, ze_le9f, ze_lt9t, ze_lt9f, ze_eq9p, ze_eq9f, ze_ge10t, ze_ge10f, ze_gt10t, ze_gt10f, ze_le10t, ze_le10f, ze_lt10t, ze_lt10f, ze_eq10p, ze_eq10f, ze_ge12t, ze_ge12f, ze_gt12t, ze_gt12f, ze_le12t, ze_le12f, ze_lt12t, ze_lt12f, ze_eq12p, ze_eq12f, ze_ge15t, ze_ge15f, ze_gt15t, ze_gt15f, ze_le15t, ze_le15f, ze_lt15t, ze_lt15f, ze_eq15p, ze_eq15f, ze_ge16t, ze_ge16f, ze_gt16t, ze_gt16f, ze_le16t, ze_le16f, ze_lt16t, ze_lt16f, ze_eq16p, ze_eq16f, ze_ge30t, ze_ge30f, ze_gt30t, ze_gt30f, ze_le30t, ze_le30f, ze_lt30t, ze_lt30f, ze_eq30p, ze_eq30f, ze_ge32t, ze_ge32f, ze_gt32t, ze_gt32f, ze_le32t, ze_le32f, ze_lt32t, ze_lt32f, ze_eq32p, ze_eq32f, ze_ge47t, ze_ge47f, ze_gt47t, ze_gt47f, ze_le47t, ze_le47f, ze_lt47t, ze_lt47f, ze_eq47p, ze_eq47f, ze_ge120t, ze_ge120f, ze_gt120t, ze_gt120f, ze_le120t, ze_le120f, ze_lt120t, ze_lt120f, ze_eq120p, ze_eq120f, ze_ge1024t, ze_ge1024f, ze_gt1024t, ze_gt1024f, ze_le1024t, ze_le1024f, ze_lt1024t, ze_lt1024f, ze_eq1024p, ze_eq1024f, ze_let, ze_lef, ze_ltt, ze_ltf, ze_eqt, ze_eqf, ze_m1_lt0, ze_m1_n0le, ze_m1_le0, ze_m1_le, ze_m1_lt, ze_m1_nle, ze_m1_nlt, ze_m1_ne, ze_m1_en, ze_m1_ne4, ze_m1_ne0, ze_nz6, ze_nz10, ze_nz12, ze_nz16, ze_nz32, ze_nz192, ze_1ne0, ze_0ne1, ze_0ne4, ↓ze_rem6, ↓ze_rem10, ↓ze_rem16, ↓ze_rem32, ↓ze_rem12, ze_div6, ze_div10, ze_div12, ze_div16, ze_div32, ze_div192, ze_mul3, ze_mul4, ze_mul6, ze_mul10, ze_mul12, ze_mul16, ze_mul17, ze_mul32, ze_mul60, ze_mulr6, ze_nrem6, ze_mulr10, ze_nrem10, ze_mulr12, ze_nrem12, ze_mulr16, ze_nrem16, ze_mulr32, ze_nrem32, nI_add, ze_add1, ze_add6, ze_add7, ze_add8, ze_add12, ze_add16, ze_add0, ze_radd0, ze_radd8, ze_sub1, ze_m1, ze_0sub1, ze_m1add1, ze_1sub, ze_2sub, pk_sub, ze_and3, ze_and7, ze_and31, ze_and127, ↓ze_shr2, ↓ze_shr3, ↓ze_shr5, ↓ze_shl3, ze_i8, ze_nby, ze_i8m1, ze_i80, ze_nbm1, ze_i16, ze_nsh, ze_nb0, ze_nt0, ze_nt1, ze_cl0, ze_cl1, nI_clamp, vp_in_nI, forall_eq, true_implies, false_implies, not_true_eq_false, not_false_eq_true, and_true, true_and, implies_true, and_self, forall_const, Classical.not_not, this]
      exact gi_in R
  · subst e1 e2
    rw [ze_mul6, nI_add]
    have e6 : (6 * s + c) / 6 = s := by omega
    refine gx_create (c := 6 * s + c) (by omega) HO (fun full => ?_) (fun q hq h1 h2 => ?_)
    · rw [e6] at full
      refine br_f (by decide) (gy_side _ (fun a b => ?_) (fun s' hs' es => br_f (by decide) ?_))
      · rcases (by omega : s = 0 ∨ s = 1) with z | z
        · subst z; exact absurd rfl a
        · subst z; exact absurd rfl b
      · simp (disch := omega) only [ze_ge0t, ze_gt0t, ze_gt0f, ze_le0t, ze_le0f, ze_lt0f, ze_eq0p, ze_eq0f, ze_ge1t, ze_ge1f, ze_gt1t, ze_gt1f, ze_le1t, ze_le1f, ze_lt1t, ze_lt1f, ze_eq1p, ze_eq1f, ze_ge2t, ze_ge2f, ze_gt2t, ze_gt2f, ze_le2t, ze_le2f, ze_lt2t, ze_lt2f, ze_eq2p, ze_eq2f, ze_ge3t, ze_ge3f, ze_gt3t, ze_gt3f, ze_le3t, ze_le3f, ze_lt3t, ze_lt3f, ze_eq3p, ze_eq3f, ze_ge4t, ze_ge4f, ze_gt4t, ze_gt4f, ze_le4t, ze_le4f, ze_lt4t, ze_lt4f, ze_eq4p, ze_eq4f, ze_ge5t, ze_ge5f, ze_gt5t, ze_gt5f, ze_le5t, ze_le5f, ze_lt5t, ze_lt5f, ze_eq5p, ze_eq5f, ze_ge6t, ze_ge6f, ze_gt6t, ze_gt6f, ze_le6t, ze_le6f, ze_lt6t, ze_lt6f, ze_eq6p, ze_eq6f, ze_ge7t, ze_ge7f, ze_gt7t, ze_gt7f, ze_le7t, ze_le7f, ze_lt7t, ze_lt7f, ze_eq7p, ze_eq7f, ze_ge9t, ze_ge9f, ze_gt9t, ze_gt9f, ze_le9t, ze_le9f, ze_lt9t, ze_lt9f, ze_eq9p, ze_eq9f, ze_ge10t, ze_ge10f, ze_gt10t, ze_gt10f, ze_le10t, ze_le10f, ze_lt10t, ze_lt10f, ze_eq10p, ze_eq10f, ze_ge12t, ze_ge12f, ze_gt12t, ze_gt12f, ze_le12t, ze_le12f, ze_lt12t, ze_lt12f, ze_eq12p, ze_eq12f, ze_ge15t, ze_ge15f, ze_gt15t, ze_gt15f, ze_le15t, ze_le15f, ze_lt15t, ze_lt15f, ze_eq15p, ze_eq15f, ze_ge16t, ze_ge16f, ze_gt16t, ze_gt16f, ze_le16t, ze_le16f, ze_lt16t, ze_lt16f, ze_eq16p, ze_eq16f, ze_ge30t, ze_ge30f, ze_gt30t, ze_gt30f, ze_le30t, ze_le30f, ze_lt30t, ze_lt30f, ze_eq30p, ze_eq30f, ze_ge32t, ze_ge32f, ze_gt32t, ze_gt32f, ze_le32t, ze_le32f, ze_lt32t, ze_lt32f, ze_eq32p, ze_eq32f, ze_ge47t, ze_ge47f, ze_gt47t, ze_gt47f, ze_le47t, ze_le47f, ze_lt47t, ze_lt47f, ze_eq47p, ze_eq47f, ze_ge120t, ze_ge120f, ze_gt120t, ze_gt120f, ze_le120t, ze_le120f, ze_lt120t, ze_lt120f, ze_eq120p, ze_eq120f, ze_ge1024t, ze_ge1024f, ze_gt1024t, ze_gt1024f, ze_le1024t, ze_le1024f, ze_lt1024t, ze_lt1024f, ze_eq1024p, ze_eq1024f, ze_let, ze_lef, ze_ltt, ze_ltf, ze_eqt, ze_eqf, ze_m1_lt0, ze_m1_n0le, ze_m1_le0, ze_m1_le, ze_m1_lt, ze_m1_nle, ze_m1_nlt, ze_m1_ne, ze_m1_en, ze_m1_ne4, ze_m1_ne0, ze_nz6, ze_nz10, ze_nz12, ze_nz16, ze_nz32, ze_nz192, ze_1ne0, ze_0ne1, ze_0ne4, ↓ze_rem6, ↓ze_rem10, ↓ze_rem16, ↓ze_rem32, ↓ze_rem12, ze_div6, ze_div10, ze_div12, ze_div16, ze_div32, ze_div192, ze_mul3, ze_mul4, ze_mul6, ze_mul10, ze_mul12, ze_mul16, ze_mul17, ze_mul32, ze_mul60, ze_mulr6, ze_nrem6, ze_mulr10, ze_nrem10, ze_mulr12, ze_nrem12, ze_mulr16, ze_nrem16, ze_mulr32, ze_nrem32, nI_add, ze_add1, ze_add6, ze_add7, ze_add8, ze_add12, ze_add16, ze_add0, ze_radd0, ze_radd8, ze_sub1, ze_m1, ze_0sub1, ze_m1add1, ze_1sub, ze_2sub, pk_sub, ze_and3, ze_and7, ze_and31, ze_and127, ↓ze_shr2, ↓ze_shr3, ↓ze_shr5, ↓ze_shl3, ze_i8, ze_nby, ze_i8m1, ze_i80, ze_nbm1, ze_i16, ze_nsh, ze_nb0, ze_nt0, ze_nt1, ze_cl0, ze_cl1, nI_clamp, vp_in_nI, forall_eq, true_implies, false_implies, not_true_eq_false, not_false_eq_true, and_true, true_and, implies_true, and_self, forall_const, Classical.not_not]
        refine br_f hd ?_
        refine gy_free hs2 HO (fun _ => br_f (by decide) (gi_in R)) (fun q hq e => absurd e (full q hq))
    · rw [e6] at h1 h2 ⊢
      refine br_t (nI_pos' (by omega)) ?_
      simp (disch := omega) only [ze_ge0t, ze_gt0t, ze_gt0f, ze_le0t, ze_le0f, ze_lt0f, ze_eq0p, ze_eq0f, ze_ge1t, ze_ge1f, ze_gt1t, ze_gt1f, ze_le1t, ze_le1f, ze_lt1t, ze_lt1f, ze_eq1p, ze_eq1f, ze_ge2t, ze_ge2f, ze_gt2t, ze_gt2f, ze_le2t, ze_le2f, ze_lt2t, ze_lt2f, ze_eq2p, ze_eq2f, ze_ge3t, ze_ge3f, ze_gt3t, ze_gt3f, ze_le3t, ze_le3f, ze_lt3t, ze_lt3f, ze_eq3p, ze_eq3f, ze_ge4t, ze_ge4f, ze_gt4t, ze_gt4f, ze_le4t, ze_le4f, ze_lt4t, ze_lt4f, ze_eq4p, ze_eq4f, ze_ge5t, ze_ge5f, ze_gt5t, ze_gt5f, ze_le5t, ze_le5f, ze_lt5t, ze_lt5f, ze_eq5p, ze_eq5f, ze_ge6t, ze_ge6f, ze_gt6t, ze_gt6f, ze_le6t, ze_le6f, ze_lt6t, ze_lt6f, ze_eq6p, ze_eq6f, ze_ge7t, ze_ge7f, ze_gt7t, ze_gt7f, ze_le7t, ze_le7f, ze_lt7t, ze_lt7f, ze_eq7p, ze_eq7f, ze_ge9t, ze_ge9f, ze_gt9t, ze_gt9f, ze_le9t, ze_le9f, ze_lt9t, ze_lt9f, ze_eq9p, ze_eq9f, ze_ge10t, ze_ge10f, ze_gt10t, ze_gt10f, ze_le10t, ze_le10f, ze_lt10t, ze_lt10f, ze_eq10p, ze_eq10f, ze_ge12t, ze_ge12f, ze_gt12t, ze_gt12f, ze_le12t, ze_le12f, ze_lt12t, ze_lt12f, ze_eq12p, ze_eq12f, ze_ge15t, ze_ge15f, ze_gt15t, ze_gt15f, ze_le15t, ze_le15f, ze_lt15t, ze_lt15f, ze_eq15p, ze_eq15f, ze_ge16t, ze_ge16f, ze_gt16t, ze_gt16f, ze_le16t, ze_le16f, ze_lt16t, ze_lt16f, ze_eq16p, ze_eq16f, ze_ge30t, ze_ge30f, ze_gt30t, ze_gt30f, ze_le30t, ze_le30f, ze_lt30t, ze_lt30f, ze_eq30p, ze_eq30f, ze_ge32t, ze_ge32f, ze_gt32t, ze_gt32f, ze_le32t, ze_le32f, ze_lt32t, ze_lt32f, ze_eq32p, ze_eq32f, ze_ge47t, ze_ge47f, ze_gt47t, ze_gt47f, ze_le47t, ze_le47f, ze_lt47t, ze_lt47f, ze_eq47p, ze_eq47f, ze_ge120t, ze_ge120f, ze_gt120t, ze_gt120f, ze_le120t, ze_le120f, ze_lt120t, ze_lt120f, ze_eq120p, ze_eq120f, ze_ge1024t, ze_ge1024f, ze_gt1024t, ze_gt1024f, ze_le1024t, ze_le1024f, ze_lt1024t, ze_lt1024f, ze_eq1024p, ze_eq1024f, ze_let, ze_lef, ze_ltt, ze_ltf, ze_eqt, ze_eqf, ze_m1_lt0, ze_m1_n0le, ze_m1_le0, ze_m1_le, ze_m1_lt, ze_m1_nle, ze_m1_nlt, ze_m1_ne, ze_m1_en, ze_m1_ne4, ze_m1_ne0, ze_nz6, ze_nz10, ze_nz12, ze_nz16, ze_nz32, ze_nz192, ze_1ne0, ze_0ne1, ze_0ne4, ↓ze_rem6, ↓ze_rem10, ↓ze_rem16, ↓ze_rem32, ↓ze_rem12, ze_div6, ze_div10, ze_div12, ze_div16, ze_div32, ze_div192, ze_mul3, ze_mul4, ze_mul6, ze_mul10, ze_mul12, ze_mul16, ze_mul17, ze_mul32, ze_mul60, ze_mulr6, ze_nrem6, ze_mulr10, ze_nrem10, ze_mulr12, ze_nrem12, ze_mulr16, ze_nrem16, ze_mulr32, ze_nrem32, nI_add, ze_add1, ze_add6, ze_add7, ze_add8, ze_add12, ze_add16, ze_add0, ze_radd0, ze_radd8, ze_sub1, ze_m1, ze_0sub1, ze_m1add1, ze_1sub, ze_2sub, pk_sub, ze_and3, ze_and7, ze_and31, ze_and127, ↓ze_shr2, ↓ze_shr3, ↓ze_shr5, ↓ze_shl3, ze_i8, ze_nby, ze_i8m1, ze_i80, ze_nbm1, ze_i16, ze_nsh, ze_nb0, ze_nt0, ze_nt1, ze_cl0, ze_cl1, nI_clamp, vp_in_nI, forall_eq, true_implies, false_implies, not_true_eq_false, not_false_eq_true, and_true, true_and, implies_true, and_self, forall_const, Classical.not_not]
      refine gy_side _ (fun a b => ?_) (fun s' hs' es => br_f (by decide) ?_)
      · rcases (by omega : s = 0 ∨ s = 1) with z | z
        · subst z; exact absurd rfl a
        · subst z; exact absurd rfl b
      · try simp (disch := omega) only [ze_ge0t, ze_gt0t, ze_gt0f, ze_le0t, ze_le0f, ze_lt0f, ze_eq0p, ze_eq0f, ze_ge1t, ze_ge1f, ze_gt1t, ze_gt1f, ze_le1t, ze_le1f, ze_lt1t, ze_lt1f, ze_eq1p, ze_eq1f, ze_ge2t, ze_ge2f, ze_gt2t, ze_gt2f, ze_le2t, ze_le2f, ze_lt2t, ze_lt2f, ze_eq2p, ze_eq2f, ze_ge3t, ze_ge3f, ze_gt3t, ze_gt3f, ze_le3t, ze_le3f, ze_lt3t, ze_lt3f, ze_eq3p, ze_eq3f, ze_ge4t, ze_ge4f, ze_gt4t, ze_gt4f, ze_le4t, ze_le4f, ze_lt4t, ze_lt4f, ze_eq4p, ze_eq4f, ze_ge5t, ze_ge5f, ze_gt5t, ze_gt5f, ze_le5t, ze_le5f, ze_lt5t, ze_lt5f, ze_eq5p, ze_eq5f, ze_ge6t, ze_ge6f, ze_gt6t, ze_gt6f, ze_le6t, ze_le6f, ze_lt6t, ze_lt6f, ze_eq6p, ze_eq6f, ze_ge7t, ze_ge7f, ze_gt7t, ze_gt7f, ze_le7t, ze_le7f, ze_lt7t, ze_lt7f, ze_eq7p, ze_eq7f, ze_ge9t, ze_ge9f, ze_gt9t, ze_gt9f, ze_le9t, ze_le9f, ze_lt9t, ze_lt9f, ze_eq9p, ze_eq9f, ze_ge10t, ze_ge10f, ze_gt10t, ze_gt10f, ze_le10t, ze_le10f, ze_lt10t, ze_lt10f, ze_eq10p, ze_eq10f, ze_ge12t, ze_ge12f, ze_gt12t, ze_gt12f, ze_le12t, ze_le12f, ze_lt12t, ze_lt12f, ze_eq12p, ze_eq12f, ze_ge15t, ze_ge15f, ze_gt15t, ze_gt15f, ze_le15t, ze_le15f, ze_lt15t, ze_lt15f, ze_eq15p, ze_eq15f, ze_ge16t, ze_ge16f, ze_gt16t, ze_gt16f, ze_le16t, ze_le16f, ze_lt16t, ze_lt16f, ze_eq16p, ze_eq16f, ze_ge30t, ze_ge30f, ze_gt30t, ze_gt30f, ze_le30t, ze_le30f, ze_lt30t, ze_lt30f, ze_eq30p, ze_eq30f, ze_ge32t, ze_ge32f, ze_gt32t, ze_gt32f, ze_le32t, ze_le32f, ze_lt32t, ze_lt32f, ze_eq32p, ze_eq32f, ze_ge47t, ze_ge47f, ze_gt47t, ze_gt47f, ze_le47t, ze_le47f, ze_lt47t, ze_lt47f, ze_eq47p, ze_eq47f, ze_ge120t, ze_ge120f, ze_gt120t, ze_gt120f, ze_le120t, ze_le120f, ze_lt120t, ze_lt120f, ze_eq120p, ze_eq120f, ze_ge1024t, ze_ge1024f, ze_gt1024t, ze_gt1024f, ze_le1024t, ze_le1024f, ze_lt1024t, ze_lt1024f, ze_eq1024p, ze_eq1024f, ze_let, ze_lef, ze_ltt, ze_ltf, ze_eqt, ze_eqf, ze_m1_lt0, ze_m1_n0le, ze_m1_le0, ze_m1_le, ze_m1_lt, ze_m1_nle, ze_m1_nlt, ze_m1_ne, ze_m1_en, ze_m1_ne4, ze_m1_ne0, ze_nz6, ze_nz10, ze_nz12, ze_nz16, ze_nz32, ze_nz192, ze_1ne0, ze_0ne1, ze_0ne4, ↓ze_rem6, ↓ze_rem10, ↓ze_rem16, ↓ze_rem32, ↓ze_rem12, ze_div6, ze_div10, ze_div12, ze_div16, ze_div32, ze_div192, ze_mul3, ze_mul4, ze_mul6, ze_mul10, ze_mul12, ze_mul16, ze_mul17, ze_mul32, ze_mul60, ze_mulr6, ze_nrem6, ze_mulr10, ze_nrem10, ze_mulr12, ze_nrem12, ze_mulr16, ze_nrem16, ze_mulr32, ze_nrem32, nI_add, ze_add1, ze_add6, ze_add7, ze_add8, ze_add12, ze_add16, ze_add0, ze_radd0, ze_radd8, ze_sub1, ze_m1, ze_0sub1, ze_m1add1, ze_1sub, ze_2sub, pk_sub, ze_and3, ze_and7, ze_and31, ze_and127, ↓ze_shr2, ↓ze_shr3, ↓ze_shr5, ↓ze_shl3, ze_i8, ze_nby, ze_i8m1, ze_i80, ze_nbm1, ze_i16, ze_nsh, ze_nb0, ze_nt0, ze_nt1, ze_cl0, ze_cl1, nI_clamp, vp_in_nI, forall_eq, true_implies, false_implies, not_true_eq_false, not_false_eq_true, and_true, true_and, implies_true, and_self, forall_const, Classical.not_not]
        refine br_f hd ?_
        refine gy_free hs2 HO (fun full => absurd h1 (full q hq)) (fun q' hq' e3 e4 => ?_)
        have eq : q' = q := by
          rcases Nat.lt_trichotomy q' q with z | z | z
          · exact absurd e3 (h2 q' z)
          · exact z
          · exact absurd h1 (e4 q z)
        subst eq
        refine br_t (nI_pos' (by omega)) ?_
        have ec : (6 * s + c) % 6 = c := by omega
        refine gy_create HW HU HY (c := 6 * s + c) (by omega) (by omega) (by omega) hd ec (fun V' hV => ?_)
        dsimp only
        have hO := gw_O_new HO (o := 16 * s + q') (c := 6 * s + c) (by omega) (by omega) hd
        rw [ec] at hO
        simp (disch := omega) only [ze_ge0t, ze_gt0t, ze_gt0f, ze_le0t, ze_le0f, ze_lt0f, ze_eq0p, ze_eq0f, ze_ge1t, ze_ge1f, ze_gt1t, ze_gt1f, ze_le1t, ze_le1f, ze_lt1t, ze_lt1f, ze_eq1p, ze_eq1f, ze_ge2t, ze_ge2f, ze_gt2t, ze_gt2f, ze_le2t, ze_le2f, ze_lt2t, ze_lt2f, ze_eq2p, ze_eq2f, ze_ge3t, ze_ge3f, ze_gt3t, ze_gt3f, ze_le3t, ze_le3f, ze_lt3t, ze_lt3f, ze_eq3p, ze_eq3f, ze_ge4t, ze_ge4f, ze_gt4t, ze_gt4f, ze_le4t, ze_le4f, ze_lt4t, ze_lt4f, ze_eq4p, ze_eq4f, ze_ge5t, ze_ge5f, ze_gt5t, ze_gt5f, ze_le5t, ze_le5f, ze_lt5t, ze_lt5f, ze_eq5p, ze_eq5f, ze_ge6t, ze_ge6f, ze_gt6t, ze_gt6f, ze_le6t, ze_le6f, ze_lt6t, ze_lt6f, ze_eq6p, ze_eq6f, ze_ge7t, ze_ge7f, ze_gt7t, ze_gt7f, ze_le7t, ze_le7f, ze_lt7t, ze_lt7f, ze_eq7p, ze_eq7f, ze_ge9t, ze_ge9f, ze_gt9t, ze_gt9f, ze_le9t, ze_le9f, ze_lt9t, ze_lt9f, ze_eq9p, ze_eq9f, ze_ge10t, ze_ge10f, ze_gt10t, ze_gt10f, ze_le10t, ze_le10f, ze_lt10t, ze_lt10f, ze_eq10p, ze_eq10f, ze_ge12t, ze_ge12f, ze_gt12t, ze_gt12f, ze_le12t, ze_le12f, ze_lt12t, ze_lt12f, ze_eq12p, ze_eq12f, ze_ge15t, ze_ge15f, ze_gt15t, ze_gt15f, ze_le15t, ze_le15f, ze_lt15t, ze_lt15f, ze_eq15p, ze_eq15f, ze_ge16t, ze_ge16f, ze_gt16t, ze_gt16f, ze_le16t, ze_le16f, ze_lt16t, ze_lt16f, ze_eq16p, ze_eq16f, ze_ge30t, ze_ge30f, ze_gt30t, ze_gt30f, ze_le30t, ze_le30f, ze_lt30t, ze_lt30f, ze_eq30p, ze_eq30f, ze_ge32t, ze_ge32f, ze_gt32t, ze_gt32f, ze_le32t, ze_le32f, ze_lt32t, ze_lt32f, ze_eq32p, ze_eq32f, ze_ge47t, ze_ge47f, ze_gt47t, ze_gt47f, ze_le47t, ze_le47f, ze_lt47t, ze_lt47f, ze_eq47p, ze_eq47f, ze_ge120t, ze_ge120f, ze_gt120t, ze_gt120f, ze_le120t, ze_le120f, ze_lt120t, ze_lt120f, ze_eq120p, ze_eq120f, ze_ge1024t, ze_ge1024f, ze_gt1024t, ze_gt1024f, ze_le1024t, ze_le1024f, ze_lt1024t, ze_lt1024f, ze_eq1024p, ze_eq1024f, ze_let, ze_lef, ze_ltt, ze_ltf, ze_eqt, ze_eqf, ze_m1_lt0, ze_m1_n0le, ze_m1_le0, ze_m1_le, ze_m1_lt, ze_m1_nle, ze_m1_nlt, ze_m1_ne, ze_m1_en, ze_m1_ne4, ze_m1_ne0, ze_nz6, ze_nz10, ze_nz12, ze_nz16, ze_nz32, ze_nz192, ze_1ne0, ze_0ne1, ze_0ne4, ↓ze_rem6, ↓ze_rem10, ↓ze_rem16, ↓ze_rem32, ↓ze_rem12, ze_div6, ze_div10, ze_div12, ze_div16, ze_div32, ze_div192, ze_mul3, ze_mul4, ze_mul6, ze_mul10, ze_mul12, ze_mul16, ze_mul17, ze_mul32, ze_mul60, ze_mulr6, ze_nrem6, ze_mulr10, ze_nrem10, ze_mulr12, ze_nrem12, ze_mulr16, ze_nrem16, ze_mulr32, ze_nrem32, nI_add, ze_add1, ze_add6, ze_add7, ze_add8, ze_add12, ze_add16, ze_add0, ze_radd0, ze_radd8, ze_sub1, ze_m1, ze_0sub1, ze_m1add1, ze_1sub, ze_2sub, pk_sub, ze_and3, ze_and7, ze_and31, ze_and127, ↓ze_shr2, ↓ze_shr3, ↓ze_shr5, ↓ze_shl3, ze_i8, ze_nby, ze_i8m1, ze_i80, ze_nbm1, ze_i16, ze_nsh, ze_nb0, ze_nt0, ze_nt1, ze_cl0, ze_cl1, nI_clamp, vp_in_nI, forall_eq, true_implies, false_implies, not_true_eq_false, not_false_eq_true, and_true, true_and, implies_true, and_self, forall_const, Classical.not_not]
        exact gi_in ⟨lv, up, nf, nm, kd, hh, hs, pq, HW, HU, HX, HY, hO, gw_V_new HW HO HV (by omega) hd hV, gw_S_new HS (by omega) h1, HD, HL⟩
end
end
section
def gw_fl (A : Nat → Int32) (a b : Nat) (v : Int32) : Nat → Int32 := fun j => if a ≤ j ∧ j < b then v else A j
theorem gw_fl_s (A : Nat → Int32) (a i : Nat) (v : Int32) : upd (gw_fl A a (a + i) v) (a + i) v = gw_fl A a (a + (i + 1)) v := by
  funext j
  unfold upd gw_fl
  by_cases h : j = a + i
  · rw [if_pos h, if_pos (by omega)]
  · rw [if_neg h]
    by_cases h2 : a ≤ j ∧ j < a + i
    · rw [if_pos h2, if_pos (by omega)]
    · rw [if_neg h2, if_neg (by omega)]
theorem gw_fl_s0 (A : Nat → Int32) (i : Nat) (v : Int32) : upd (gw_fl A 0 i v) i v = gw_fl A 0 (i + 1) v := by
  have := gw_fl_s A 0 i v
  rwa [Nat.zero_add, Nat.zero_add] at this
theorem gw_fl_0 (A : Nat → Int32) (a : Nat) (v : Int32) : gw_fl A a a v = A := by
  funext j
  unfold gw_fl
  rw [if_neg (by omega)]
theorem gw_fl_in {A : Nat → Int32} {a b j : Nat} {v : Int32} (h1 : a ≤ j) (h2 : j < b) : gw_fl A a b v j = v := if_pos ⟨h1, h2⟩
theorem gw_fl_out {A : Nat → Int32} {a b j : Nat} {v : Int32} (h : j < a ∨ b ≤ j) : gw_fl A a b v j = A j := if_neg (by omega)
section
variable {f_end f_at f_written f_read f_error f_culprit f_nextHandle f_depth f_nTodo : Int32} {a_defined a_parent a_level a_version a_fields a_fName a_fKind a_latest a_oClass a_pinned a_handle a_arrived a_handles a_described a_dLevels a_dFields a_plan a_wide a_wire a_order a_made a_sObj a_sLev a_sPos a_sCls a_todo : Nat → Int32} {a_slot a_pairs : Nat → Int64} {g_culprit g_depth g_lastMade : Int32} {b_defined b_version b_parent b_own b_latest b_cls b_partner b_pinned b_arrived b_from b_made b_done b_rows : Nat → Int32} {b_val : Nat → Int64}
theorem gx_fdL {post : SX → Prop} (K : post (f_end, f_at, f_written, f_read, f_error, f_culprit, f_nextHandle, f_depth, f_nTodo, a_defined, a_parent, a_level, a_version, a_fields, a_fName, a_fKind, a_latest, a_oClass, a_pinned, a_slot, a_handle, a_arrived, a_handles, gw_fl a_described 0 12 0, a_dLevels, a_dFields, a_plan, a_wide, a_wire, a_order, a_made, a_sObj, a_sLev, a_sPos, a_sCls, a_pairs, a_todo)) : ∀ n i, i ≤ 12 → 12 - i < n → wX_forgetDescriptions_2 post f_end f_at f_written f_read f_error f_culprit f_nextHandle f_depth f_nTodo n (nI i) a_defined a_parent a_level a_version a_fields a_fName a_fKind a_latest a_oClass a_pinned a_slot a_handle a_arrived a_handles (gw_fl a_described 0 i 0) a_dLevels a_dFields a_plan a_wide a_wire a_order a_made a_sObj a_sLev a_sPos a_sCls a_pairs a_todo := by
  intro n
  induction n with
  | zero => intro i h1 h2; omega
  | succ n ih =>
    intro i hi hn
    rw [wX_forgetDescriptions_2]
    rcases Nat.eq_or_lt_of_le hi with z | z
    · subst z
      exact br_t (by decide) K
    · simp (disch := omega) only [ze_ge0t, ze_gt0t, ze_gt0f, ze_le0t, ze_le0f, ze_lt0f, ze_eq0p, ze_eq0f, ze_ge1t, ze_ge1f, ze_gt1t, ze_gt1f, ze_le1t, ze_le1f, ze_lt1t, ze_lt1f, ze_eq1p, ze_eq1f, ze_ge2t, ze_ge2f, ze_gt2t, ze_gt2f, ze_le2t, ze_le2f, ze_lt2t, ze_lt2f, ze_eq2p, ze_eq2f, ze_ge3t, ze_ge3f, ze_gt3t, ze_gt3f, ze_le3t, ze_le3f, ze_lt3t, ze_lt3f, ze_eq3p, ze_eq3f, ze_ge4t, ze_ge4f, ze_gt4t, ze_gt4f, ze_le4t, ze_le4f, ze_lt4t, ze_lt4f, ze_eq4p, ze_eq4f, ze_ge5t, ze_ge5f, ze_gt5t, ze_gt5f, ze_le5t, ze_le5f, ze_lt5t, ze_lt5f, ze_eq5p, ze_eq5f, ze_ge6t, ze_ge6f, ze_gt6t, ze_gt6f, ze_le6t, ze_le6f, ze_lt6t, ze_lt6f, ze_eq6p, ze_eq6f, ze_ge7t, ze_ge7f, ze_gt7t, ze_gt7f, ze_le7t, ze_le7f, ze_lt7t, ze_lt7f, ze_eq7p, ze_eq7f, ze_ge9t, ze_ge9f, ze_gt9t, ze_gt9f, ze_le9t, ze_le9f, ze_lt9t, ze_lt9f, ze_eq9p, ze_eq9f, ze_ge10t, ze_ge10f, ze_gt10t, ze_gt10f, ze_le10t, ze_le10f, ze_lt10t, ze_lt10f, ze_eq10p, ze_eq10f, ze_ge12t, ze_ge12f, ze_gt12t, ze_gt12f, ze_le12t, ze_le12f, ze_lt12t, ze_lt12f, ze_eq12p, ze_eq12f, ze_ge15t, ze_ge15f, ze_gt15t, ze_gt15f, ze_le15t, ze_le15f, ze_lt15t, ze_lt15f, ze_eq15p, ze_eq15f, ze_ge16t, ze_ge16f, ze_gt16t, ze_gt16f, ze_le16t, ze_le16f, ze_lt16t, ze_lt16f, ze_eq16p, ze_eq16f, ze_ge30t, ze_ge30f, ze_gt30t, ze_gt30f, ze_le30t, ze_le30f, ze_lt30t, ze_lt30f, ze_eq30p, ze_eq30f, ze_ge32t, ze_ge32f, ze_gt32t, ze_gt32f, ze_le32t, ze_le32f, ze_lt32t, ze_lt32f, ze_eq32p, ze_eq32f, ze_ge47t, ze_ge47f, ze_gt47t, ze_gt47f, ze_le47t, ze_le47f, ze_lt47t, ze_lt47f, ze_eq47p, ze_eq47f, ze_ge120t, ze_ge120f, ze_gt120t, ze_gt120f, ze_le120t, ze_le120f, ze_lt120t, ze_lt120f, ze_eq120p, ze_eq120f, ze_ge1024t, ze_ge1024f, ze_gt1024t, ze_gt1024f, ze_le1024t, ze_le1024f, ze_lt1024t, ze_lt1024f, ze_eq1024p, ze_eq1024f, ze_let, ze_lef, ze_ltt, ze_ltf, ze_eqt, ze_eqf, ze_m1_lt0, ze_m1_n0le, ze_m1_le0, ze_m1_le, ze_m1_lt, ze_m1_nle, ze_m1_nlt, ze_m1_ne, ze_m1_en, ze_m1_ne4, ze_m1_ne0, ze_nz6, ze_nz10, ze_nz12, ze_nz16, ze_nz32, ze_nz192, ze_1ne0, ze_0ne1, ze_0ne4, ↓ze_rem6, ↓ze_rem10, ↓ze_rem16, ↓ze_rem32, ↓ze_rem12, ze_div6, ze_div10, ze_div12, ze_div16, ze_div32, ze_div192, ze_mul3, ze_mul4, ze_mul6, ze_mul10, ze_mul12, ze_mul16, ze_mul17, ze_mul32, ze_mul60, ze_mulr6, ze_nrem6, ze_mulr10, ze_nrem10, ze_mulr12, ze_nrem12, ze_mulr16, ze_nrem16, ze_mulr32, ze_nrem32, nI_add, ze_add1, ze_add6, ze_add7, ze_add8, ze_add12, ze_add16, ze_add0, ze_radd0, ze_radd8, ze_sub1, ze_m1, ze_0sub1, ze_m1add1, ze_1sub, ze_2sub, pk_sub, ze_and3, ze_and7, ze_and31, ze_and127, ↓ze_shr2, ↓ze_shr3, ↓ze_shr5, ↓ze_shl3, ze_i8, ze_nby, ze_i8m1, ze_i80, ze_nbm1, ze_i16, ze_nsh, ze_nb0, ze_nt0, ze_nt1, ze_cl0, ze_cl1, nI_clamp, vp_in_nI, forall_eq, true_implies, false_implies, not_true_eq_false, not_false_eq_true, and_true, true_and, implies_true, and_self, forall_const, Classical.not_not, gw_fl_s0]
      exact ih (i + 1) z (by omega)
theorem gx_fd {post : SX → Prop} (K : post (f_end, f_at, f_written, f_read, f_error, f_culprit, f_nextHandle, f_depth, f_nTodo, a_defined, a_parent, a_level, a_version, a_fields, a_fName, a_fKind, a_latest, a_oClass, a_pinned, a_slot, a_handle, a_arrived, a_handles, gw_fl a_described 0 12 0, a_dLevels, a_dFields, a_plan, a_wide, a_wire, a_order, a_made, a_sObj, a_sLev, a_sPos, a_sCls, a_pairs, a_todo)) : wpX_forgetDescriptions post (f_end, f_at, f_written, f_read, f_error, f_culprit, f_nextHandle, f_depth, f_nTodo, a_defined, a_parent, a_level, a_version, a_fields, a_fName, a_fKind, a_latest, a_oClass, a_pinned, a_slot, a_handle, a_arrived, a_handles, a_described, a_dLevels, a_dFields, a_plan, a_wide, a_wire, a_order, a_made, a_sObj, a_sLev, a_sPos, a_sCls, a_pairs, a_todo) := by
  have h := gx_fdL K 13 0 (by omega) (by omega)
  rw [gw_fl_0] at h
  exact ⟨13, h⟩
theorem gx_fs41 {post : SX → Prop} {s : Nat} (hs : s < 2) (K : post (f_end, f_at, f_written, f_read, f_error, f_culprit, f_nextHandle, f_depth, f_nTodo, a_defined, a_parent, a_level, a_version, a_fields, a_fName, a_fKind, a_latest, a_oClass, a_pinned, a_slot, a_handle, a_arrived, a_handles, gw_fl a_described (6 * s) (6 * s + 6) 0, a_dLevels, a_dFields, a_plan, a_wide, a_wire, a_order, a_made, a_sObj, a_sLev, a_sPos, a_sCls, a_pairs, a_todo)) : ∀ n i, i ≤ 6 → 6 - i < n → wX_forgetSession_41 post (nI s) f_end f_at f_written f_read f_error f_culprit f_nextHandle f_depth f_nTodo n (nI (6 * s + i)) a_defined a_parent a_level a_version a_fields a_fName a_fKind a_latest a_oClass a_pinned a_slot a_handle a_arrived a_handles (gw_fl a_described (6 * s) (6 * s + i) 0) a_dLevels a_dFields a_plan a_wide a_wire a_order a_made a_sObj a_sLev a_sPos a_sCls a_pairs a_todo := by
  intro n
  induction n with
  | zero => intro i h1 h2; omega
  | succ n ih =>
    intro i hi hn
    rw [wX_forgetSession_41]
    rcases Nat.eq_or_lt_of_le hi with z | z
    · subst z
      simp (disch := omega) only [ze_ge0t, ze_gt0t, ze_gt0f, ze_le0t, ze_le0f, ze_lt0f, ze_eq0p, ze_eq0f, ze_ge1t, ze_ge1f, ze_gt1t, ze_gt1f, ze_le1t, ze_le1f, ze_lt1t, ze_lt1f, ze_eq1p, ze_eq1f, ze_ge2t, ze_ge2f, ze_gt2t, ze_gt2f, ze_le2t, ze_le2f, ze_lt2t, ze_lt2f, ze_eq2p, ze_eq2f, ze_ge3t, ze_ge3f, ze_gt3t, ze_gt3f, ze_le3t, ze_le3f, ze_lt3t, ze_lt3f, ze_eq3p, ze_eq3f, ze_ge4t, ze_ge4f, ze_gt4t, ze_gt4f, ze_le4t, ze_le4f, ze_lt4t, ze_lt4f, ze_eq4p, ze_eq4f, ze_ge5t, ze_ge5f, ze_gt5t, ze_gt5f, ze_le5t, ze_le5f, ze_lt5t, ze_lt5f, ze_eq5p, ze_eq5f, ze_ge6t, ze_ge6f, ze_gt6t, ze_gt6f, ze_le6t, ze_le6f, ze_lt6t, ze_lt6f, ze_eq6p, ze_eq6f, ze_ge7t, ze_ge7f, ze_gt7t, ze_gt7f, ze_le7t, ze_le7f, ze_lt7t, ze_lt7f, ze_eq7p, ze_eq7f, ze_ge9t, ze_ge9f, ze_gt9t, ze_gt9f, ze_le9t, ze_le9f, ze_lt9t, ze_lt9f, ze_eq9p, ze_eq9f, ze_ge10t, ze_ge10f, ze_gt10t, ze_gt10f, ze_le10t, ze_le10f, ze_lt10t, ze_lt10f, ze_eq10p, ze_eq10f, ze_ge12t, ze_ge12f, ze_gt12t, ze_gt12f, ze_le12t, ze_le12f, ze_lt12t, ze_lt12f, ze_eq12p, ze_eq12f, ze_ge15t, ze_ge15f, ze_gt15t, ze_gt15f, ze_le15t, ze_le15f, ze_lt15t, ze_lt15f, ze_eq15p, ze_eq15f, ze_ge16t, ze_ge16f, ze_gt16t, ze_gt16f, ze_le16t, ze_le16f, ze_lt16t, ze_lt16f, ze_eq16p, ze_eq16f, ze_ge30t, ze_ge30f, ze_gt30t, ze_gt30f, ze_le30t, ze_le30f, ze_lt30t, ze_lt30f, ze_eq30p, ze_eq30f, ze_ge32t, ze_ge32f, ze_gt32t, ze_gt32f, ze_le32t, ze_le32f, ze_lt32t, ze_lt32f, ze_eq32p, ze_eq32f, ze_ge47t, ze_ge47f, ze_gt47t, ze_gt47f, ze_le47t, ze_le47f, ze_lt47t, ze_lt47f, ze_eq47p, ze_eq47f, ze_ge120t, ze_ge120f, ze_gt120t, ze_gt120f, ze_le120t, ze_le120f, ze_lt120t, ze_lt120f, ze_eq120p, ze_eq120f, ze_ge1024t, ze_ge1024f, ze_gt1024t, ze_gt1024f, ze_le1024t, ze_le1024f, ze_lt1024t, ze_lt1024f, ze_eq1024p, ze_eq1024f, ze_let, ze_lef, ze_ltt, ze_ltf, ze_eqt, ze_eqf, ze_m1_lt0, ze_m1_n0le, ze_m1_le0, ze_m1_le, ze_m1_lt, ze_m1_nle, ze_m1_nlt, ze_m1_ne, ze_m1_en, ze_m1_ne4, ze_m1_ne0, ze_nz6, ze_nz10, ze_nz12, ze_nz16, ze_nz32, ze_nz192, ze_1ne0, ze_0ne1, ze_0ne4, ↓ze_rem6, ↓ze_rem10, ↓ze_rem16, ↓ze_rem32, ↓ze_rem12, ze_div6, ze_div10, ze_div12, ze_div16, ze_div32, ze_div192, ze_mul3, ze_mul4, ze_mul6, ze_mul10, ze_mul12, ze_mul16, ze_mul17, ze_mul32, ze_mul60, ze_mulr6, ze_nrem6, ze_mulr10, ze_nrem10, ze_mulr12, ze_nrem12, ze_mulr16, ze_nrem16, ze_mulr32, ze_nrem32, nI_add, ze_add1, ze_add6, ze_add7, ze_add8, ze_add12, ze_add16, ze_add0, ze_radd0, ze_radd8, ze_sub1, ze_m1, ze_0sub1, ze_m1add1, ze_1sub, ze_2sub, pk_sub, ze_and3, ze_and7, ze_and31, ze_and127, ↓ze_shr2, ↓ze_shr3, ↓ze_shr5, ↓ze_shl3, ze_i8, ze_nby, ze_i8m1, ze_i80, ze_nbm1, ze_i16, ze_nsh, ze_nb0, ze_nt0, ze_nt1, ze_cl0, ze_cl1, nI_clamp, vp_in_nI, forall_eq, true_implies, false_implies, not_true_eq_false, not_false_eq_true, and_true, true_and, implies_true, and_self, forall_const, Classical.not_not]
      exact K
    · simp (disch := omega) only [ze_ge0t, ze_gt0t, ze_gt0f, ze_le0t, ze_le0f, ze_lt0f, ze_eq0p, ze_eq0f, ze_ge1t, ze_ge1f, ze_gt1t, ze_gt1f, ze_le1t, ze_le1f, ze_lt1t, ze_lt1f, ze_eq1p, ze_eq1f, ze_ge2t, ze_ge2f, ze_gt2t, ze_gt2f, ze_le2t, ze_le2f, ze_lt2t, ze_lt2f, ze_eq2p, ze_eq2f, ze_ge3t, ze_ge3f, ze_gt3t, ze_gt3f, ze_le3t, ze_le3f, ze_lt3t, ze_lt3f, ze_eq3p, ze_eq3f, ze_ge4t, ze_ge4f, ze_gt4t, ze_gt4f, ze_le4t, ze_le4f, ze_lt4t, ze_lt4f, ze_eq4p, ze_eq4f, ze_ge5t, ze_ge5f, ze_gt5t, ze_gt5f, ze_le5t, ze_le5f, ze_lt5t, ze_lt5f, ze_eq5p, ze_eq5f, ze_ge6t, ze_ge6f, ze_gt6t, ze_gt6f, ze_le6t, ze_le6f, ze_lt6t, ze_lt6f, ze_eq6p, ze_eq6f, ze_ge7t, ze_ge7f, ze_gt7t, ze_gt7f, ze_le7t, ze_le7f, ze_lt7t, ze_lt7f, ze_eq7p, ze_eq7f, ze_ge9t, ze_ge9f, ze_gt9t, ze_gt9f, ze_le9t, ze_le9f, ze_lt9t, ze_lt9f, ze_eq9p, ze_eq9f, ze_ge10t, ze_ge10f, ze_gt10t, ze_gt10f, ze_le10t, ze_le10f, ze_lt10t, ze_lt10f, ze_eq10p, ze_eq10f, ze_ge12t, ze_ge12f, ze_gt12t, ze_gt12f, ze_le12t, ze_le12f, ze_lt12t, ze_lt12f, ze_eq12p, ze_eq12f, ze_ge15t, ze_ge15f, ze_gt15t, ze_gt15f, ze_le15t, ze_le15f, ze_lt15t, ze_lt15f, ze_eq15p, ze_eq15f, ze_ge16t, ze_ge16f, ze_gt16t, ze_gt16f, ze_le16t, ze_le16f, ze_lt16t, ze_lt16f, ze_eq16p, ze_eq16f, ze_ge30t, ze_ge30f, ze_gt30t, ze_gt30f, ze_le30t, ze_le30f, ze_lt30t, ze_lt30f, ze_eq30p, ze_eq30f, ze_ge32t, ze_ge32f, ze_gt32t, ze_gt32f, ze_le32t, ze_le32f, ze_lt32t, ze_lt32f, ze_eq32p, ze_eq32f, ze_ge47t, ze_ge47f, ze_gt47t, ze_gt47f, ze_le47t, ze_le47f, ze_lt47t, ze_lt47f, ze_eq47p, ze_eq47f, ze_ge120t, ze_ge120f, ze_gt120t, ze_gt120f, ze_le120t, ze_le120f, ze_lt120t, ze_lt120f, ze_eq120p, ze_eq120f, ze_ge1024t, ze_ge1024f, ze_gt1024t, ze_gt1024f, ze_le1024t, ze_le1024f, ze_lt1024t, ze_lt1024f, ze_eq1024p, ze_eq1024f, ze_let, ze_lef, ze_ltt, ze_ltf, ze_eqt, ze_eqf, ze_m1_lt0, ze_m1_n0le, ze_m1_le0, ze_m1_le, ze_m1_lt, ze_m1_nle, ze_m1_nlt, ze_m1_ne, ze_m1_en, ze_m1_ne4, ze_m1_ne0, ze_nz6, ze_nz10, ze_nz12, ze_nz16, ze_nz32, ze_nz192, ze_1ne0, ze_0ne1, ze_0ne4, ↓ze_rem6, ↓ze_rem10, ↓ze_rem16, ↓ze_rem32, ↓ze_rem12, ze_div6, ze_div10, ze_div12, ze_div16, ze_div32, ze_div192, ze_mul3, ze_mul4, ze_mul6, ze_mul10, ze_mul12, ze_mul16, ze_mul17, ze_mul32, ze_mul60, ze_mulr6, ze_nrem6, ze_mulr10, ze_nrem10, ze_mulr12, ze_nrem12, ze_mulr16, ze_nrem16, ze_mulr32, ze_nrem32, nI_add, ze_add1, ze_add6, ze_add7, ze_add8, ze_add12, ze_add16, ze_add0, ze_radd0, ze_radd8, ze_sub1, ze_m1, ze_0sub1, ze_m1add1, ze_1sub, ze_2sub, pk_sub, ze_and3, ze_and7, ze_and31, ze_and127, ↓ze_shr2, ↓ze_shr3, ↓ze_shr5, ↓ze_shl3, ze_i8, ze_nby, ze_i8m1, ze_i80, ze_nbm1, ze_i16, ze_nsh, ze_nb0, ze_nt0, ze_nt1, ze_cl0, ze_cl1, nI_clamp, vp_in_nI, forall_eq, true_implies, false_implies, not_true_eq_false, not_false_eq_true, and_true, true_and, implies_true, and_self, forall_const, Classical.not_not, gw_fl_s]
      exact ih (i + 1) z (by omega)
theorem gx_fs12 {post : SX → Prop} {s : Nat} (hs : s < 2) (K : post (f_end, f_at, f_written, f_read, f_error, f_culprit, f_nextHandle, f_depth, f_nTodo, a_defined, a_parent, a_level, a_version, a_fields, a_fName, a_fKind, a_latest, a_oClass, a_pinned, a_slot, gw_fl a_handle (16 * s) (16 * s + 16) 0, a_arrived, a_handles, gw_fl a_described (6 * s) (6 * s + 6) 0, a_dLevels, a_dFields, a_plan, a_wide, a_wire, a_order, a_made, a_sObj, a_sLev, a_sPos, a_sCls, a_pairs, a_todo)) : ∀ n i, i ≤ 16 → 16 - i < n → wX_forgetSession_12 post (nI s) f_end f_at f_written f_read f_error f_culprit f_nextHandle f_depth f_nTodo n (nI (16 * s + i)) a_defined a_parent a_level a_version a_fields a_fName a_fKind a_latest a_oClass a_pinned a_slot (gw_fl a_handle (16 * s) (16 * s + i) 0) a_arrived a_handles a_described a_dLevels a_dFields a_plan a_wide a_wire a_order a_made a_sObj a_sLev a_sPos a_sCls a_pairs a_todo := by
  intro n
  induction n with
  | zero => intro i h1 h2; omega
  | succ n ih =>
    intro i hi hn
    rw [wX_forgetSession_12]
    rcases Nat.eq_or_lt_of_le hi with z | z
    · subst z
      simp (disch := omega) only [ze_ge0t, ze_gt0t, ze_gt0f, ze_le0t, ze_le0f, ze_lt0f, ze_eq0p, ze_eq0f, ze_ge1t, ze_ge1f, ze_gt1t, ze_gt1f, ze_le1t, ze_le1f, ze_lt1t, ze_lt1f, ze_eq1p, ze_eq1f, ze_ge2t, ze_ge2f, ze_gt2t, ze_gt2f, ze_le2t, ze_le2f, ze_lt2t, ze_lt2f, ze_eq2p, ze_eq2f, ze_ge3t, ze_ge3f, ze_gt3t, ze_gt3f, ze_le3t, ze_le3f, ze_lt3t, ze_lt3f, ze_eq3p, ze_eq3f, ze_ge4t, ze_ge4f, ze_gt4t, ze_gt4f, ze_le4t, ze_le4f, ze_lt4t, ze_lt4f, ze_eq4p, ze_eq4f, ze_ge5t, ze_ge5f, ze_gt5t, ze_gt5f, ze_le5t, ze_le5f, ze_lt5t, ze_lt5f, ze_eq5p, ze_eq5f, ze_ge6t, ze_ge6f, ze_gt6t, ze_gt6f, ze_le6t, ze_le6f, ze_lt6t, ze_lt6f, ze_eq6p, ze_eq6f, ze_ge7t, ze_ge7f, ze_gt7t, ze_gt7f, ze_le7t, ze_le7f, ze_lt7t, ze_lt7f, ze_eq7p, ze_eq7f, ze_ge9t, ze_ge9f, ze_gt9t, ze_gt9f, ze_le9t, ze_le9f, ze_lt9t, ze_lt9f, ze_eq9p, ze_eq9f, ze_ge10t, ze_ge10f, ze_gt10t, ze_gt10f, ze_le10t, ze_le10f, ze_lt10t, ze_lt10f, ze_eq10p, ze_eq10f, ze_ge12t, ze_ge12f, ze_gt12t, ze_gt12f, ze_le12t, ze_le12f, ze_lt12t, ze_lt12f, ze_eq12p, ze_eq12f, ze_ge15t, ze_ge15f, ze_gt15t, ze_gt15f, ze_le15t, ze_le15f, ze_lt15t, ze_lt15f, ze_eq15p, ze_eq15f, ze_ge16t, ze_ge16f, ze_gt16t, ze_gt16f, ze_le16t, ze_le16f, ze_lt16t, ze_lt16f, ze_eq16p, ze_eq16f, ze_ge30t, ze_ge30f, ze_gt30t, ze_gt30f, ze_le30t, ze_le30f, ze_lt30t, ze_lt30f, ze_eq30p, ze_eq30f, ze_ge32t, ze_ge32f, ze_gt32t, ze_gt32f, ze_le32t, ze_le32f, ze_lt32t, ze_lt32f, ze_eq32p, ze_eq32f, ze_ge47t, ze_ge47f, ze_gt47t, ze_gt47f, ze_le47t, ze_le47f, ze_lt47t, ze_lt47f, ze_eq47p, ze_eq47f, ze_ge120t, ze_ge120f, ze_gt120t, ze_gt120f, ze_le120t, ze_le120f, ze_lt120t, ze_lt120f, ze_eq120p, ze_eq120f, ze_ge1024t, ze_ge1024f, ze_gt1024t, ze_gt1024f, ze_le1024t, ze_le1024f, ze_lt1024t, ze_lt1024f, ze_eq1024p, ze_eq1024f, ze_let, ze_lef, ze_ltt, ze_ltf, ze_eqt, ze_eqf, ze_m1_lt0, ze_m1_n0le, ze_m1_le0, ze_m1_le, ze_m1_lt, ze_m1_nle, ze_m1_nlt, ze_m1_ne, ze_m1_en, ze_m1_ne4, ze_m1_ne0, ze_nz6, ze_nz10, ze_nz12, ze_nz16, ze_nz32, ze_nz192, ze_1ne0, ze_0ne1, ze_0ne4, ↓ze_rem6, ↓ze_rem10, ↓ze_rem16, ↓ze_rem32, ↓ze_rem12, ze_div6, ze_div10, ze_div12, ze_div16, ze_div32, ze_div192, ze_mul3, ze_mul4, ze_mul6, ze_mul10, ze_mul12, ze_mul16, ze_mul17, ze_mul32, ze_mul60, ze_mulr6, ze_nrem6, ze_mulr10, ze_nrem10, ze_mulr12, ze_nrem12, ze_mulr16, ze_nrem16, ze_mulr32, ze_nrem32, nI_add, ze_add1, ze_add6, ze_add7, ze_add8, ze_add12, ze_add16, ze_add0, ze_radd0, ze_radd8, ze_sub1, ze_m1, ze_0sub1, ze_m1add1, ze_1sub, ze_2sub, pk_sub, ze_and3, ze_and7, ze_and31, ze_and127, ↓ze_shr2, ↓ze_shr3, ↓ze_shr5, ↓ze_shl3, ze_i8, ze_nby, ze_i8m1, ze_i80, ze_nbm1, ze_i16, ze_nsh, ze_nb0, ze_nt0, ze_nt1, ze_cl0, ze_cl1, nI_clamp, vp_in_nI, forall_eq, true_implies, false_implies, not_true_eq_false, not_false_eq_true, and_true, true_and, implies_true, and_self, forall_const, Classical.not_not]
      have h := gx_fs41 hs K 7 0 (by omega) (by omega)
      rw [Nat.add_zero, gw_fl_0] at h
      exact ⟨7, h⟩
    · simp (disch := omega) only [ze_ge0t, ze_gt0t, ze_gt0f, ze_le0t, ze_le0f, ze_lt0f, ze_eq0p, ze_eq0f, ze_ge1t, ze_ge1f, ze_gt1t, ze_gt1f, ze_le1t, ze_le1f, ze_lt1t, ze_lt1f, ze_eq1p, ze_eq1f, ze_ge2t, ze_ge2f, ze_gt2t, ze_gt2f, ze_le2t, ze_le2f, ze_lt2t, ze_lt2f, ze_eq2p, ze_eq2f, ze_ge3t, ze_ge3f, ze_gt3t, ze_gt3f, ze_le3t, ze_le3f, ze_lt3t, ze_lt3f, ze_eq3p, ze_eq3f, ze_ge4t, ze_ge4f, ze_gt4t, ze_gt4f, ze_le4t, ze_le4f, ze_lt4t, ze_lt4f, ze_eq4p, ze_eq4f, ze_ge5t, ze_ge5f, ze_gt5t, ze_gt5f, ze_le5t, ze_le5f, ze_lt5t, ze_lt5f, ze_eq5p, ze_eq5f, ze_ge6t, ze_ge6f, ze_gt6t, ze_gt6f, ze_le6t, ze_le6f, ze_lt6t, ze_lt6f, ze_eq6p, ze_eq6f, ze_ge7t, ze_ge7f, ze_gt7t, ze_gt7f, ze_le7t, ze_le7f, ze_lt7t, ze_lt7f, ze_eq7p, ze_eq7f, ze_ge9t, ze_ge9f, ze_gt9t, ze_gt9f, ze_le9t, ze_le9f, ze_lt9t, ze_lt9f, ze_eq9p, ze_eq9f, ze_ge10t, ze_ge10f, ze_gt10t, ze_gt10f, ze_le10t, ze_le10f, ze_lt10t, ze_lt10f, ze_eq10p, ze_eq10f, ze_ge12t, ze_ge12f, ze_gt12t, ze_gt12f, ze_le12t, ze_le12f, ze_lt12t, ze_lt12f, ze_eq12p, ze_eq12f, ze_ge15t, ze_ge15f, ze_gt15t, ze_gt15f, ze_le15t, ze_le15f, ze_lt15t, ze_lt15f, ze_eq15p, ze_eq15f, ze_ge16t, ze_ge16f, ze_gt16t, ze_gt16f, ze_le16t, ze_le16f, ze_lt16t, ze_lt16f, ze_eq16p, ze_eq16f, ze_ge30t, ze_ge30f, ze_gt30t, ze_gt30f, ze_le30t, ze_le30f, ze_lt30t, ze_lt30f, ze_eq30p, ze_eq30f, ze_ge32t, ze_ge32f, ze_gt32t, ze_gt32f, ze_le32t, ze_le32f, ze_lt32t, ze_lt32f, ze_eq32p, ze_eq32f, ze_ge47t, ze_ge47f, ze_gt47t, ze_gt47f, ze_le47t, ze_le47f, ze_lt47t, ze_lt47f, ze_eq47p, ze_eq47f, ze_ge120t, ze_ge120f, ze_gt120t, ze_gt120f, ze_le120t, ze_le120f, ze_lt120t, ze_lt120f, ze_eq120p, ze_eq120f, ze_ge1024t, ze_ge1024f, ze_gt1024t, ze_gt1024f, ze_le1024t, ze_le1024f, ze_lt1024t, ze_lt1024f, ze_eq1024p, ze_eq1024f, ze_let, ze_lef, ze_ltt, ze_ltf, ze_eqt, ze_eqf, ze_m1_lt0, ze_m1_n0le, ze_m1_le0, ze_m1_le, ze_m1_lt, ze_m1_nle, ze_m1_nlt, ze_m1_ne, ze_m1_en, ze_m1_ne4, ze_m1_ne0, ze_nz6, ze_nz10, ze_nz12, ze_nz16, ze_nz32, ze_nz192, ze_1ne0, ze_0ne1, ze_0ne4, ↓ze_rem6, ↓ze_rem10, ↓ze_rem16, ↓ze_rem32, ↓ze_rem12, ze_div6, ze_div10, ze_div12, ze_div16, ze_div32, ze_div192, ze_mul3, ze_mul4, ze_mul6, ze_mul10, ze_mul12, ze_mul16, ze_mul17, ze_mul32, ze_mul60, ze_mulr6, ze_nrem6, ze_mulr10, ze_nrem10, ze_mulr12, ze_nrem12, ze_mulr16, ze_nrem16, ze_mulr32, ze_nrem32, nI_add, ze_add1, ze_add6, ze_add7, ze_add8, ze_add12, ze_add16, ze_add0, ze_radd0, ze_radd8, ze_sub1, ze_m1, ze_0sub1, ze_m1add1, ze_1sub, ze_2sub, pk_sub, ze_and3, ze_and7, ze_and31, ze_and127, ↓ze_shr2, ↓ze_shr3, ↓ze_shr5, ↓ze_shl3, ze_i8, ze_nby, ze_i8m1, ze_i80, ze_nbm1, ze_i16, ze_nsh, ze_nb0, ze_nt0, ze_nt1, ze_cl0, ze_cl1, nI_clamp, vp_in_nI, forall_eq, true_implies, false_implies, not_true_eq_false, not_false_eq_true, and_true, true_and, implies_true, and_self, forall_const, Classical.not_not, gw_fl_s]
      exact ih (i + 1) z (by omega)
theorem gx_fs {post : SX → Prop} {s : Nat} (hs : s < 2) (K : post (f_end, f_at, f_written, f_read, f_error, f_culprit, f_nextHandle, f_depth, f_nTodo, a_defined, a_parent, a_level, a_version, a_fields, a_fName, a_fKind, a_latest, a_oClass, a_pinned, a_slot, gw_fl a_handle (16 * s) (16 * s + 16) 0, a_arrived, upd a_handles s 0, gw_fl a_described (6 * s) (6 * s + 6) 0, a_dLevels, a_dFields, a_plan, a_wide, a_wire, a_order, a_made, a_sObj, a_sLev, a_sPos, a_sCls, a_pairs, a_todo)) : wpX_forgetSession post (f_end, f_at, f_written, f_read, f_error, f_culprit, f_nextHandle, f_depth, f_nTodo, a_defined, a_parent, a_level, a_version, a_fields, a_fName, a_fKind, a_latest, a_oClass, a_pinned, a_slot, a_handle, a_arrived, a_handles, a_described, a_dLevels, a_dFields, a_plan, a_wide, a_wire, a_order, a_made, a_sObj, a_sLev, a_sPos, a_sCls, a_pairs, a_todo) (nI s) := by
  unfold wpX_forgetSession; dsimp only
  simp (disch := omega) only [ze_ge0t, ze_gt0t, ze_gt0f, ze_le0t, ze_le0f, ze_lt0f, ze_eq0p, ze_eq0f, ze_ge1t, ze_ge1f, ze_gt1t, ze_gt1f, ze_le1t, ze_le1f, ze_lt1t, ze_lt1f, ze_eq1p, ze_eq1f, ze_ge2t, ze_ge2f, ze_gt2t, ze_gt2f, ze_le2t, ze_le2f, ze_lt2t, ze_lt2f, ze_eq2p, ze_eq2f, ze_ge3t, ze_ge3f, ze_gt3t, ze_gt3f, ze_le3t, ze_le3f, ze_lt3t, ze_lt3f, ze_eq3p, ze_eq3f, ze_ge4t, ze_ge4f, ze_gt4t, ze_gt4f, ze_le4t, ze_le4f, ze_lt4t, ze_lt4f, ze_eq4p, ze_eq4f, ze_ge5t, ze_ge5f, ze_gt5t, ze_gt5f, ze_le5t, ze_le5f, ze_lt5t, ze_lt5f, ze_eq5p, ze_eq5f, ze_ge6t, ze_ge6f, ze_gt6t, ze_gt6f, ze_le6t, ze_le6f, ze_lt6t, ze_lt6f, ze_eq6p, ze_eq6f, ze_ge7t, ze_ge7f, ze_gt7t, ze_gt7f, ze_le7t, ze_le7f, ze_lt7t, ze_lt7f, ze_eq7p, ze_eq7f, ze_ge9t, ze_ge9f, ze_gt9t, ze_gt9f, ze_le9t, ze_le9f, ze_lt9t, ze_lt9f, ze_eq9p, ze_eq9f, ze_ge10t, ze_ge10f, ze_gt10t, ze_gt10f, ze_le10t, ze_le10f, ze_lt10t, ze_lt10f, ze_eq10p, ze_eq10f, ze_ge12t, ze_ge12f, ze_gt12t, ze_gt12f, ze_le12t, ze_le12f, ze_lt12t, ze_lt12f, ze_eq12p, ze_eq12f, ze_ge15t, ze_ge15f, ze_gt15t, ze_gt15f, ze_le15t, ze_le15f, ze_lt15t, ze_lt15f, ze_eq15p, ze_eq15f, ze_ge16t, ze_ge16f, ze_gt16t, ze_gt16f, ze_le16t, ze_le16f, ze_lt16t, ze_lt16f, ze_eq16p, ze_eq16f, ze_ge30t, ze_ge30f, ze_gt30t, ze_gt30f, ze_le30t, ze_le30f, ze_lt30t, ze_lt30f, ze_eq30p, ze_eq30f, ze_ge32t, ze_ge32f, ze_gt32t, ze_gt32f, ze_le32t, ze_le32f, ze_lt32t, ze_lt32f, ze_eq32p, ze_eq32f, ze_ge47t, ze_ge47f, ze_gt47t, ze_gt47f, ze_le47t, ze_le47f, ze_lt47t, ze_lt47f, ze_eq47p, ze_eq47f, ze_ge120t, ze_ge120f, ze_gt120t, ze_gt120f, ze_le120t, ze_le120f, ze_lt120t, ze_lt120f, ze_eq120p, ze_eq120f, ze_ge1024t, ze_ge1024f, ze_gt1024t, ze_gt1024f, ze_le1024t, ze_le1024f, ze_lt1024t, ze_lt1024f, ze_eq1024p, ze_eq1024f, ze_let, ze_lef, ze_ltt, ze_ltf, ze_eqt, ze_eqf, ze_m1_lt0, ze_m1_n0le, ze_m1_le0, ze_m1_le, ze_m1_lt, ze_m1_nle, ze_m1_nlt, ze_m1_ne, ze_m1_en, ze_m1_ne4, ze_m1_ne0, ze_nz6, ze_nz10, ze_nz12, ze_nz16, ze_nz32, ze_nz192, ze_1ne0, ze_0ne1, ze_0ne4, ↓ze_rem6, ↓ze_rem10, ↓ze_rem16, ↓ze_rem32, ↓ze_rem12, ze_div6, ze_div10, ze_div12, ze_div16, ze_div32, ze_div192, ze_mul3, ze_mul4, ze_mul6, ze_mul10, ze_mul12, ze_mul16, ze_mul17, ze_mul32, ze_mul60, ze_mulr6, ze_nrem6, ze_mulr10, ze_nrem10, ze_mulr12, ze_nrem12, ze_mulr16, ze_nrem16, ze_mulr32, ze_nrem32, nI_add, ze_add1, ze_add6, ze_add7, ze_add8, ze_add12, ze_add16, ze_add0, ze_radd0, ze_radd8, ze_sub1, ze_m1, ze_0sub1, ze_m1add1, ze_1sub, ze_2sub, pk_sub, ze_and3, ze_and7, ze_and31, ze_and127, ↓ze_shr2, ↓ze_shr3, ↓ze_shr5, ↓ze_shl3, ze_i8, ze_nby, ze_i8m1, ze_i80, ze_nbm1, ze_i16, ze_nsh, ze_nb0, ze_nt0, ze_nt1, ze_cl0, ze_cl1, nI_clamp, vp_in_nI, forall_eq, true_implies, false_implies, not_true_eq_false, not_false_eq_true, and_true, true_and, implies_true, and_self, forall_const, Classical.not_not]
  have h := gx_fs12 hs K 17 0 (by omega) (by omega)
  rw [Nat.add_zero, gw_fl_0] at h
  exact ⟨17, h⟩
theorem gy_emptyL {post : SY → Prop} {s : Nat} (hs : s < 2) (K : post (g_culprit, g_depth, g_lastMade, b_defined, b_version, b_parent, b_own, b_latest, b_cls, gw_fl b_partner (16 * s) (16 * s + 16) (-1), b_pinned, b_arrived, b_val, b_from, b_made, b_done, b_rows)) : ∀ n i, i ≤ 16 → 16 - i < n → wY_empty_5 post (nI s) g_culprit g_depth g_lastMade n (nI (16 * s + i)) b_defined b_version b_parent b_own b_latest b_cls (gw_fl b_partner (16 * s) (16 * s + i) (-1)) b_pinned b_arrived b_val b_from b_made b_done b_rows := by
  intro n
  induction n with
  | zero => intro i h1 h2; omega
  | succ n ih =>
    intro i hi hn
    rw [wY_empty_5]
    rcases Nat.eq_or_lt_of_le hi with z | z
    · subst z
      simp (disch := omega) only [ze_ge0t, ze_gt0t, ze_gt0f, ze_le0t, ze_le0f, ze_lt0f, ze_eq0p, ze_eq0f, ze_ge1t, ze_ge1f, ze_gt1t, ze_gt1f, ze_le1t, ze_le1f, ze_lt1t, ze_lt1f, ze_eq1p, ze_eq1f, ze_ge2t, ze_ge2f, ze_gt2t, ze_gt2f, ze_le2t, ze_le2f, ze_lt2t, ze_lt2f, ze_eq2p, ze_eq2f, ze_ge3t, ze_ge3f, ze_gt3t, ze_gt3f, ze_le3t, ze_le3f, ze_lt3t, ze_lt3f, ze_eq3p, ze_eq3f, ze_ge4t, ze_ge4f, ze_gt4t, ze_gt4f, ze_le4t, ze_le4f, ze_lt4t, ze_lt4f, ze_eq4p, ze_eq4f, ze_ge5t, ze_ge5f, ze_gt5t, ze_gt5f, ze_le5t, ze_le5f, ze_lt5t, ze_lt5f, ze_eq5p, ze_eq5f, ze_ge6t, ze_ge6f, ze_gt6t, ze_gt6f, ze_le6t, ze_le6f, ze_lt6t, ze_lt6f, ze_eq6p, ze_eq6f, ze_ge7t, ze_ge7f, ze_gt7t, ze_gt7f, ze_le7t, ze_le7f, ze_lt7t, ze_lt7f, ze_eq7p, ze_eq7f, ze_ge9t, ze_ge9f, ze_gt9t, ze_gt9f, ze_le9t, ze_le9f, ze_lt9t, ze_lt9f, ze_eq9p, ze_eq9f, ze_ge10t, ze_ge10f, ze_gt10t, ze_gt10f, ze_le10t, ze_le10f, ze_lt10t, ze_lt10f, ze_eq10p, ze_eq10f, ze_ge12t, ze_ge12f, ze_gt12t, ze_gt12f, ze_le12t, ze_le12f, ze_lt12t, ze_lt12f, ze_eq12p, ze_eq12f, ze_ge15t, ze_ge15f, ze_gt15t, ze_gt15f, ze_le15t, ze_le15f, ze_lt15t, ze_lt15f, ze_eq15p, ze_eq15f, ze_ge16t, ze_ge16f, ze_gt16t, ze_gt16f, ze_le16t, ze_le16f, ze_lt16t, ze_lt16f, ze_eq16p, ze_eq16f, ze_ge30t, ze_ge30f, ze_gt30t, ze_gt30f, ze_le30t, ze_le30f, ze_lt30t, ze_lt30f, ze_eq30p, ze_eq30f, ze_ge32t, ze_ge32f, ze_gt32t, ze_gt32f, ze_le32t, ze_le32f, ze_lt32t, ze_lt32f, ze_eq32p, ze_eq32f, ze_ge47t, ze_ge47f, ze_gt47t, ze_gt47f, ze_le47t, ze_le47f, ze_lt47t, ze_lt47f, ze_eq47p, ze_eq47f, ze_ge120t, ze_ge120f, ze_gt120t, ze_gt120f, ze_le120t, ze_le120f, ze_lt120t, ze_lt120f, ze_eq120p, ze_eq120f, ze_ge1024t, ze_ge1024f, ze_gt1024t, ze_gt1024f, ze_le1024t, ze_le1024f, ze_lt1024t, ze_lt1024f, ze_eq1024p, ze_eq1024f, ze_let, ze_lef, ze_ltt, ze_ltf, ze_eqt, ze_eqf, ze_m1_lt0, ze_m1_n0le, ze_m1_le0, ze_m1_le, ze_m1_lt, ze_m1_nle, ze_m1_nlt, ze_m1_ne, ze_m1_en, ze_m1_ne4, ze_m1_ne0, ze_nz6, ze_nz10, ze_nz12, ze_nz16, ze_nz32, ze_nz192, ze_1ne0, ze_0ne1, ze_0ne4, ↓ze_rem6, ↓ze_rem10, ↓ze_rem16, ↓ze_rem32, ↓ze_rem12, ze_div6, ze_div10, ze_div12, ze_div16, ze_div32, ze_div192, ze_mul3, ze_mul4, ze_mul6, ze_mul10, ze_mul12, ze_mul16, ze_mul17, ze_mul32, ze_mul60, ze_mulr6, ze_nrem6, ze_mulr10, ze_nrem10, ze_mulr12, ze_nrem12, ze_mulr16, ze_nrem16, ze_mulr32, ze_nrem32, nI_add, ze_add1, ze_add6, ze_add7, ze_add8, ze_add12, ze_add16, ze_add0, ze_radd0, ze_radd8, ze_sub1, ze_m1, ze_0sub1, ze_m1add1, ze_1sub, ze_2sub, pk_sub, ze_and3, ze_and7, ze_and31, ze_and127, ↓ze_shr2, ↓ze_shr3, ↓ze_shr5, ↓ze_shl3, ze_i8, ze_nby, ze_i8m1, ze_i80, ze_nbm1, ze_i16, ze_nsh, ze_nb0, ze_nt0, ze_nt1, ze_cl0, ze_cl1, nI_clamp, vp_in_nI, forall_eq, true_implies, false_implies, not_true_eq_false, not_false_eq_true, and_true, true_and, implies_true, and_self, forall_const, Classical.not_not]
      exact K
    · simp (disch := omega) only [ze_ge0t, ze_gt0t, ze_gt0f, ze_le0t, ze_le0f, ze_lt0f, ze_eq0p, ze_eq0f, ze_ge1t, ze_ge1f, ze_gt1t, ze_gt1f, ze_le1t, ze_le1f, ze_lt1t, ze_lt1f, ze_eq1p, ze_eq1f, ze_ge2t, ze_ge2f, ze_gt2t, ze_gt2f, ze_le2t, ze_le2f, ze_lt2t, ze_lt2f, ze_eq2p, ze_eq2f, ze_ge3t, ze_ge3f, ze_gt3t, ze_gt3f, ze_le3t, ze_le3f, ze_lt3t, ze_lt3f, ze_eq3p, ze_eq3f, ze_ge4t, ze_ge4f, ze_gt4t, ze_gt4f, ze_le4t, ze_le4f, ze_lt4t, ze_lt4f, ze_eq4p, ze_eq4f, ze_ge5t, ze_ge5f, ze_gt5t, ze_gt5f, ze_le5t, ze_le5f, ze_lt5t, ze_lt5f, ze_eq5p, ze_eq5f, ze_ge6t, ze_ge6f, ze_gt6t, ze_gt6f, ze_le6t, ze_le6f, ze_lt6t, ze_lt6f, ze_eq6p, ze_eq6f, ze_ge7t, ze_ge7f, ze_gt7t, ze_gt7f, ze_le7t, ze_le7f, ze_lt7t, ze_lt7f, ze_eq7p, ze_eq7f, ze_ge9t, ze_ge9f, ze_gt9t, ze_gt9f, ze_le9t, ze_le9f, ze_lt9t, ze_lt9f, ze_eq9p, ze_eq9f, ze_ge10t, ze_ge10f, ze_gt10t, ze_gt10f, ze_le10t, ze_le10f, ze_lt10t, ze_lt10f, ze_eq10p, ze_eq10f, ze_ge12t, ze_ge12f, ze_gt12t, ze_gt12f, ze_le12t, ze_le12f, ze_lt12t, ze_lt12f, ze_eq12p, ze_eq12f, ze_ge15t, ze_ge15f, ze_gt15t, ze_gt15f, ze_le15t, ze_le15f, ze_lt15t, ze_lt15f, ze_eq15p, ze_eq15f, ze_ge16t, ze_ge16f, ze_gt16t, ze_gt16f, ze_le16t, ze_le16f, ze_lt16t, ze_lt16f, ze_eq16p, ze_eq16f, ze_ge30t, ze_ge30f, ze_gt30t, ze_gt30f, ze_le30t, ze_le30f, ze_lt30t, ze_lt30f, ze_eq30p, ze_eq30f, ze_ge32t, ze_ge32f, ze_gt32t, ze_gt32f, ze_le32t, ze_le32f, ze_lt32t, ze_lt32f, ze_eq32p, ze_eq32f, ze_ge47t, ze_ge47f, ze_gt47t, ze_gt47f, ze_le47t, ze_le47f, ze_lt47t, ze_lt47f, ze_eq47p, ze_eq47f, ze_ge120t, ze_ge120f, ze_gt120t, ze_gt120f, ze_le120t, ze_le120f, ze_lt120t, ze_lt120f, ze_eq120p, ze_eq120f, ze_ge1024t, ze_ge1024f, ze_gt1024t, ze_gt1024f, ze_le1024t, ze_le1024f, ze_lt1024t, ze_lt1024f, ze_eq1024p, ze_eq1024f, ze_let, ze_lef, ze_ltt, ze_ltf, ze_eqt, ze_eqf, ze_m1_lt0, ze_m1_n0le, ze_m1_le0, ze_m1_le, ze_m1_lt, ze_m1_nle, ze_m1_nlt, ze_m1_ne, ze_m1_en, ze_m1_ne4, ze_m1_ne0, ze_nz6, ze_nz10, ze_nz12, ze_nz16, ze_nz32, ze_nz192, ze_1ne0, ze_0ne1, ze_0ne4, ↓ze_rem6, ↓ze_rem10, ↓ze_rem16, ↓ze_rem32, ↓ze_rem12, ze_div6, ze_div10, ze_div12, ze_div16, ze_div32, ze_div192, ze_mul3, ze_mul4, ze_mul6, ze_mul10, ze_mul12, ze_mul16, ze_mul17, ze_mul32, ze_mul60, ze_mulr6, ze_nrem6, ze_mulr10, ze_nrem10, ze_mulr12, ze_nrem12, ze_mulr16, ze_nrem16, ze_mulr32, ze_nrem32, nI_add, ze_add1, ze_add6, ze_add7, ze_add8, ze_add12, ze_add16, ze_add0, ze_radd0, ze_radd8, ze_sub1, ze_m1, ze_0sub1, ze_m1add1, ze_1sub, ze_2sub, pk_sub, ze_and3, ze_and7, ze_and31, ze_and127, ↓ze_shr2, ↓ze_shr3, ↓ze_shr5, ↓ze_shl3, ze_i8, ze_nby, ze_i8m1, ze_i80, ze_nbm1, ze_i16, ze_nsh, ze_nb0, ze_nt0, ze_nt1, ze_cl0, ze_cl1, nI_clamp, vp_in_nI, forall_eq, true_implies, false_implies, not_true_eq_false, not_false_eq_true, and_true, true_and, implies_true, and_self, forall_const, Classical.not_not, gw_fl_s]
      exact ih (i + 1) z (by omega)
theorem gy_empty {post : SY → Prop} {s : Nat} (hs : s < 2) (K : post (g_culprit, g_depth, g_lastMade, b_defined, b_version, b_parent, b_own, b_latest, b_cls, gw_fl b_partner (16 * s) (16 * s + 16) (-1), b_pinned, b_arrived, b_val, b_from, b_made, b_done, b_rows)) : wpY_empty post (g_culprit, g_depth, g_lastMade, b_defined, b_version, b_parent, b_own, b_latest, b_cls, b_partner, b_pinned, b_arrived, b_val, b_from, b_made, b_done, b_rows) (nI s) := by
  unfold wpY_empty; dsimp only
  simp (disch := omega) only [ze_ge0t, ze_gt0t, ze_gt0f, ze_le0t, ze_le0f, ze_lt0f, ze_eq0p, ze_eq0f, ze_ge1t, ze_ge1f, ze_gt1t, ze_gt1f, ze_le1t, ze_le1f, ze_lt1t, ze_lt1f, ze_eq1p, ze_eq1f, ze_ge2t, ze_ge2f, ze_gt2t, ze_gt2f, ze_le2t, ze_le2f, ze_lt2t, ze_lt2f, ze_eq2p, ze_eq2f, ze_ge3t, ze_ge3f, ze_gt3t, ze_gt3f, ze_le3t, ze_le3f, ze_lt3t, ze_lt3f, ze_eq3p, ze_eq3f, ze_ge4t, ze_ge4f, ze_gt4t, ze_gt4f, ze_le4t, ze_le4f, ze_lt4t, ze_lt4f, ze_eq4p, ze_eq4f, ze_ge5t, ze_ge5f, ze_gt5t, ze_gt5f, ze_le5t, ze_le5f, ze_lt5t, ze_lt5f, ze_eq5p, ze_eq5f, ze_ge6t, ze_ge6f, ze_gt6t, ze_gt6f, ze_le6t, ze_le6f, ze_lt6t, ze_lt6f, ze_eq6p, ze_eq6f, ze_ge7t, ze_ge7f, ze_gt7t, ze_gt7f, ze_le7t, ze_le7f, ze_lt7t, ze_lt7f, ze_eq7p, ze_eq7f, ze_ge9t, ze_ge9f, ze_gt9t, ze_gt9f, ze_le9t, ze_le9f, ze_lt9t, ze_lt9f, ze_eq9p, ze_eq9f, ze_ge10t, ze_ge10f, ze_gt10t, ze_gt10f, ze_le10t, ze_le10f, ze_lt10t, ze_lt10f, ze_eq10p, ze_eq10f, ze_ge12t, ze_ge12f, ze_gt12t, ze_gt12f, ze_le12t, ze_le12f, ze_lt12t, ze_lt12f, ze_eq12p, ze_eq12f, ze_ge15t, ze_ge15f, ze_gt15t, ze_gt15f, ze_le15t, ze_le15f, ze_lt15t, ze_lt15f, ze_eq15p, ze_eq15f, ze_ge16t, ze_ge16f, ze_gt16t, ze_gt16f, ze_le16t, ze_le16f, ze_lt16t, ze_lt16f, ze_eq16p, ze_eq16f, ze_ge30t, ze_ge30f, ze_gt30t, ze_gt30f, ze_le30t, ze_le30f, ze_lt30t, ze_lt30f, ze_eq30p, ze_eq30f, ze_ge32t, ze_ge32f, ze_gt32t, ze_gt32f, ze_le32t, ze_le32f, ze_lt32t, ze_lt32f, ze_eq32p, ze_eq32f, ze_ge47t, ze_ge47f, ze_gt47t, ze_gt47f, ze_le47t, ze_le47f, ze_lt47t, ze_lt47f, ze_eq47p, ze_eq47f, ze_ge120t, ze_ge120f, ze_gt120t, ze_gt120f, ze_le120t, ze_le120f, ze_lt120t, ze_lt120f, ze_eq120p, ze_eq120f, ze_ge1024t, ze_ge1024f, ze_gt1024t, ze_gt1024f, ze_le1024t, ze_le1024f, ze_lt1024t, ze_lt1024f, ze_eq1024p, ze_eq1024f, ze_let, ze_lef, ze_ltt, ze_ltf, ze_eqt, ze_eqf, ze_m1_lt0, ze_m1_n0le, ze_m1_le0, ze_m1_le, ze_m1_lt, ze_m1_nle, ze_m1_nlt, ze_m1_ne, ze_m1_en, ze_m1_ne4, ze_m1_ne0, ze_nz6, ze_nz10, ze_nz12, ze_nz16, ze_nz32, ze_nz192, ze_1ne0, ze_0ne1, ze_0ne4, ↓ze_rem6, ↓ze_rem10, ↓ze_rem16, ↓ze_rem32, ↓ze_rem12, ze_div6, ze_div10, ze_div12, ze_div16, ze_div32, ze_div192, ze_mul3, ze_mul4, ze_mul6, ze_mul10, ze_mul12, ze_mul16, ze_mul17, ze_mul32, ze_mul60, ze_mulr6, ze_nrem6, ze_mulr10, ze_nrem10, ze_mulr12, ze_nrem12, ze_mulr16, ze_nrem16, ze_mulr32, ze_nrem32, nI_add, ze_add1, ze_add6, ze_add7, ze_add8, ze_add12, ze_add16, ze_add0, ze_radd0, ze_radd8, ze_sub1, ze_m1, ze_0sub1, ze_m1add1, ze_1sub, ze_2sub, pk_sub, ze_and3, ze_and7, ze_and31, ze_and127, ↓ze_shr2, ↓ze_shr3, ↓ze_shr5, ↓ze_shl3, ze_i8, ze_nby, ze_i8m1, ze_i80, ze_nbm1, ze_i16, ze_nsh, ze_nb0, ze_nt0, ze_nt1, ze_cl0, ze_cl1, nI_clamp, vp_in_nI, forall_eq, true_implies, false_implies, not_true_eq_false, not_false_eq_true, and_true, true_and, implies_true, and_self, forall_const, Classical.not_not]
  have h := gy_emptyL hs K 17 0 (by omega) (by omega)
  rw [Nat.add_zero, gw_fl_0] at h
  exact ⟨17, h⟩
/-- sessions of one side forgotten -/
theorem gw_S_fg {hh hs pq : Nat → Nat} {C HD AR HS PT : Nat → Int32} (h : gw_S C HD AR HS PT hh hs pq) {s : Nat} (hs2 : s < 2) :
    ∃ hh' hs', gw_S C (gw_fl HD (16 * s) (16 * s + 16) 0) AR (upd HS s 0) (gw_fl PT (16 * s) (16 * s + 16) (-1)) hh' hs' pq := by
  refine ⟨fun o => if o / 16 = s then 0 else hh o, fun t => if t = s then 0 else hs t, fun o ho => ?_, fun t ht => ?_⟩
  · by_cases e : o / 16 = s
    · refine ⟨?_, fun _ => gw_fl_in (by omega) (by omega), fun q => absurd (if_pos e) q⟩
      try dsimp only
      rw [gw_fl_in (by omega) (by omega), if_pos e]; rfl
    · obtain ⟨h1, h2, h3⟩ := h.1 o ho
      unfold gw_S1
      try dsimp only
      rw [gw_fl_out (by omega), gw_fl_out (by omega), if_neg e, if_neg e]
      exact ⟨h1, h2, h3⟩
  · by_cases e : t = s
    · subst e
      unfold gw_S2
      try dsimp only
      rw [pk_us, if_pos rfl]
      exact ⟨rfl, fun a h1 h2 => by omega⟩
    · obtain ⟨h1, h2⟩ := h.2 t ht
      unfold gw_S2
      try dsimp only
      rw [pk_un e, if_neg e]
      refine ⟨h1, fun a a1 a2 => ?_⟩
      obtain ⟨o, o1, o2, o3⟩ := h2 a a1 a2
      exact ⟨o, o1, o2, by rw [if_neg (by omega)]; exact o3⟩
theorem gw_DS_fl {D Vn DSC dL dF PL WD : Nat → Int32} {lv up nf nm kd : Nat → Nat} (h : gw_DS D Vn DSC dL dF PL WD lv up nf nm kd) (a b : Nat) : gw_DS D Vn (gw_fl DSC a b 0) dL dF PL WD lv up nf nm kd := by
  intro c hc hz
  by_cases e : a ≤ c ∧ c < b
  · rw [gw_fl_in e.1 e.2] at hz; exact absurd rfl hz
  · rw [gw_fl_out (by omega)] at hz; exact h c hc hz
theorem gm_reset {k : Nat} (R : gw_R a_defined a_parent a_level a_version a_fields a_fName a_fKind a_latest a_oClass a_slot a_handle a_arrived a_handles a_described a_dLevels a_dFields a_plan a_wide b_parent b_own b_cls b_partner b_val) (v1 : Int32) : wpX_reset (fun r u' => wpY_reset (fun r' v' => r' = r ∧ i_Rel (k + 5) u' v') (f_culprit, g_depth, g_lastMade, a_defined, a_version, b_parent, b_own, a_latest, b_cls, b_partner, a_pinned, b_arrived, b_val, b_from, b_made, b_done, b_rows) v1) (f_end, f_at, f_written, f_read, f_error, f_culprit, f_nextHandle, f_depth, f_nTodo, a_defined, a_parent, a_level, a_version, a_fields, a_fName, a_fKind, a_latest, a_oClass, a_pinned, a_slot, a_handle, a_arrived, a_handles, a_described, a_dLevels, a_dFields, a_plan, a_wide, a_wire, a_order, a_made, a_sObj, a_sLev, a_sPos, a_sCls, a_pairs, a_todo) v1 := by
  obtain ⟨lv, up, nf, nm, kd, hh, hs, pq, HW, HU, HX, HY, HO, HV, HS, HD, HL⟩ := id R
  unfold wpX_reset wpY_reset; dsimp only
  refine gx_side v1 (fun e0 e1 => br_t rfl (gy_side v1 (fun _ _ => br_t rfl ⟨rfl, gi_in R⟩) (fun s hs2 e => ?_))) (fun s hs2 e => ?_)
  · rcases (by omega : s = 0 ∨ s = 1) with z | z
    · subst z; exact absurd e e0
    · subst z; exact absurd e e1
  · subst e
    refine br_f (by decide) (gx_fs hs2 ?_)
    try dsimp only
    refine gy_side _ (fun a b => ?_) (fun s' hs' es => br_f (by decide) ?_)
    · rcases (by omega : s = 0 ∨ s = 1) with z | z
      · subst z; exact absurd rfl a
      · subst z; exact absurd rfl b
    · refine gy_empty hs2 ?_
      try dsimp only
      obtain ⟨hh', hs', H'⟩ := gw_S_fg HS hs2
      exact ⟨rfl, gi_in ⟨lv, up, nf, nm, kd, hh', hs', pq, HW, HU, HX, HY, HO, HV, H', gw_DS_fl HD _ _, HL⟩⟩
end
end
section
section
variable {D Vn : Nat → Int32} {lv up nf nm kd : Nat → Nat}
/-- a class that is new: level l, parent p (if l is not 0) -/
theorem gw_al_ext {c l p : Nat} (HW : gw_W D lv up nf nm kd) (hD : D c = 0) {x j : Nat} (hx : x < 12) (hd : D x ≠ 0) (hj : j ≤ lv x) :
    gw_al (fun i => if i = c then l else lv i) (fun i => if i = c then p else up i) x j = gw_al lv up x j := by
  have key : ∀ k y, y < 12 → D y ≠ 0 → k ≤ lv y → gw_an (fun i => if i = c then p else up i) k y = gw_an up k y := by
    intro k
    induction k with
    | zero => intro y _ _ _; rfl
    | succ k ih =>
      intro y hy hdy hk
      have e : y ≠ c := fun e => hdy (by rw [e]; exact hD)
      obtain ⟨h1, h2, h3, h4⟩ := (HW y hy).2.2.2.2.2 hdy (by omega)
      show gw_an _ k (if y = c then p else up y) = gw_an up k (up y)
      rw [if_neg e]
      exact ih (up y) h1 h3 (by omega)
  have e : x ≠ c := fun e => hd (by rw [e]; exact hD)
  unfold gw_al
  try dsimp only
  rw [if_neg e]
  exact key _ x hx hd (by omega)
end
def gw_gd (D : Nat → Int32) (lv : Nat → Nat) (v1 v2 v3 : Int32) : Prop := ∃ s c, s < 2 ∧ c < 6 ∧ v1 = nI s ∧ v2 = nI c ∧ D (6 * s + c) = 0 ∧ (v3 = -1 ∨ ∃ p, p < 6 ∧ v3 = nI p ∧ D (6 * s + p) ≠ 0 ∧ lv (6 * s + p) ≠ 2)
theorem gw_no01 {v : Int32} {s : Nat} (e0 : v ≠ 0) (e1 : v ≠ 1) (hs : s < 2) (e : v = nI s) : False := by
  rcases (by omega : s = 0 ∨ s = 1) with z | z
  · subst z; exact e0 e
  · subst z; exact e1 e
section
variable {f_end f_at f_written f_read f_error f_culprit f_nextHandle f_depth f_nTodo : Int32} {a_defined a_parent a_level a_version a_fields a_fName a_fKind a_latest a_oClass a_pinned a_handle a_arrived a_handles a_described a_dLevels a_dFields a_plan a_wide a_wire a_order a_made a_sObj a_sLev a_sPos a_sCls a_todo : Nat → Int32} {a_slot a_pairs : Nat → Int64} {g_culprit g_depth g_lastMade : Int32} {b_defined b_version b_parent b_own b_latest b_cls b_partner b_pinned b_arrived b_from b_made b_done b_rows : Nat → Int32} {b_val : Nat → Int64} {lv up nf nm kd : Nat → Nat}
theorem gx_define {post : Int32 → SX → Prop} (HW : gw_W a_defined lv up nf nm kd) (HX : gw_CX a_defined a_parent a_level a_fields a_fName a_fKind lv up nf nm kd) (v1 v2 v3 v4 : Int32) (K0 : ¬ gw_gd a_defined lv v1 v2 v3 → post 0 (f_end, f_at, f_written, f_read, f_error, f_culprit, f_nextHandle, f_depth, f_nTodo, a_defined, a_parent, a_level, a_version, a_fields, a_fName, a_fKind, a_latest, a_oClass, a_pinned, a_slot, a_handle, a_arrived, a_handles, a_described, a_dLevels, a_dFields, a_plan, a_wide, a_wire, a_order, a_made, a_sObj, a_sLev, a_sPos, a_sCls, a_pairs, a_todo))
    (K1 : ∀ s c, s < 2 → c < 6 → v1 = nI s → v2 = nI c → a_defined (6 * s + c) = 0 → v3 = -1 → post 1 (f_end, f_at, f_written, f_read, f_error, f_culprit, f_nextHandle, f_depth, f_nTodo, upd a_defined (6 * s + c) 1, upd a_parent (6 * s + c) (-1), upd a_level (6 * s + c) 0, upd a_version (6 * s + c) v4, a_fields, a_fName, a_fKind, upd a_latest s (nI c), a_oClass, a_pinned, a_slot, a_handle, a_arrived, a_handles, gw_fl a_described 0 12 0, a_dLevels, a_dFields, a_plan, a_wide, a_wire, a_order, a_made, a_sObj, a_sLev, a_sPos, a_sCls, a_pairs, a_todo))
    (K2 : ∀ s c p, s < 2 → c < 6 → p < 6 → v1 = nI s → v2 = nI c → v3 = nI p → a_defined (6 * s + c) = 0 → a_defined (6 * s + p) ≠ 0 → lv (6 * s + p) ≠ 2 → post 1 (f_end, f_at, f_written, f_read, f_error, f_culprit, f_nextHandle, f_depth, f_nTodo, upd a_defined (6 * s + c) 1, upd a_parent (6 * s + c) (nI (6 * s + p)), upd a_level (6 * s + c) (nI (lv (6 * s + p) + 1)), upd a_version (6 * s + c) v4, a_fields, a_fName, a_fKind, upd a_latest s (nI c), a_oClass, a_pinned, a_slot, a_handle, a_arrived, a_handles, gw_fl a_described 0 12 0, a_dLevels, a_dFields, a_plan, a_wide, a_wire, a_order, a_made, a_sObj, a_sLev, a_sPos, a_sCls, a_pairs, a_todo)) :
    wpX_define post (f_end, f_at, f_written, f_read, f_error, f_culprit, f_nextHandle, f_depth, f_nTodo, a_defined, a_parent, a_level, a_version, a_fields, a_fName, a_fKind, a_latest, a_oClass, a_pinned, a_slot, a_handle, a_arrived, a_handles, a_described, a_dLevels, a_dFields, a_plan, a_wide, a_wire, a_order, a_made, a_sObj, a_sLev, a_sPos, a_sCls, a_pairs, a_todo) v1 v2 v3 v4 := by
  unfold wpX_define; dsimp only
  refine gx_side v1 (fun e0 e1 => br_t rfl (K0 fun ⟨s, c, hs, hc, e, _⟩ => gw_no01 e0 e1 hs e)) (fun s hs e => br_f (by decide) ?_)
  subst e
  rcases pk_ix v2 (n := 6) (by decide) with z | z | ⟨c, hc, ec⟩
  · exact br_t z (K0 fun ⟨s, c, hs, hc, _, e, _⟩ => by subst e; exact absurd z (nI_pos (by omega)))
  · have z0 : ¬ v2 < 0 := fun h => absurd (Int32.lt_of_le_of_lt z h) (by decide)
    have z1 : 5 < v2 := Int32.lt_of_lt_of_le (by decide) z
    exact br_f z0 (br_t z1 (K0 fun ⟨s, c, hs, hc, _, e, _⟩ => by subst e; exact absurd z (nI_ge (by omega) (by decide))))
  · subst ec
    have inj : ∀ s' c', s' < 2 → c' < 6 → nI s = nI s' → nI c = nI c' → s' = s ∧ c' = c := fun s' c' h1 h2 h3 h4 => ⟨((nI_eq (by omega) (by omega)).mp h3).symm, ((nI_eq (by omega) (by omega)).mp h4).symm⟩
    refine br_f (nI_pos (by omega)) (br_f (ze_gt5f (by omega)) ?_)
    rw [ze_mul6, nI_add, nI_clamp (by omega)]
    refine ⟨vp_in_nI (by omega) (by decide), br_c (fun hD => ?_) (fun hD => K0 fun ⟨s', c', hs', hc', e1, e2, h, _⟩ => ?_)⟩
    · refine br_c (fun e => ?_) (fun e => ?_)
      · subst e
        unfold wX_define_63 wX_define_99 wX_define_128
        simp (disch := omega) only [ze_ge0t, ze_gt0t, ze_gt0f, ze_le0t, ze_le0f, ze_lt0f, ze_eq0p, ze_eq0f, ze_ge1t, ze_ge1f, ze_gt1t, ze_gt1f, ze_le1t, ze_le1f, ze_lt1t, ze_lt1f, ze_eq1p, ze_eq1f, ze_ge2t, ze_ge2f, ze_gt2t, ze_gt2f, ze_le2t, ze_le2f, ze_lt2t, ze_lt2f, ze_eq2p, ze_eq2f, ze_ge3t, ze_ge3f, ze_gt3t, ze_gt3f, ze_le3t, ze_le3f, ze_lt3t, ze_lt3f, ze_eq3p, ze_eq3f, ze_ge4t, ze_ge4f, ze_gt4t, ze_gt4f, ze_le4t, ze_le4f, ze_lt4t, ze_lt4f, ze_eq4p, ze_eq4f, ze_ge5t, ze_ge5f, ze_gt5t, ze_gt5f, ze_le5t, ze_le5f, ze_lt5t, ze_lt5f, ze_eq5p, ze_eq5f, ze_ge6t, ze_ge6f, ze_gt6t, ze_gt6f, ze_le6t, ze_le6f, ze_lt6t, ze_lt6f, ze_eq6p, ze_eq6f, ze_ge7t, ze_ge7f, ze_gt7t, ze_gt7f, ze_le7t, ze_le7f, ze_lt7t, ze_lt7f, ze_eq7p, ze_eq7f, ze_ge9t, ze_ge9f, ze_gt9t, ze_gt9f, ze_le9t, ze_le9f, ze_lt9t, ze_lt9f, ze_eq9p, ze_eq9f, ze_ge10t, ze_ge10f, ze_gt10t, ze_gt10f, ze_le10t, ze_le10f, ze_lt10t, ze_lt10f, ze_eq10p, ze_eq10f, ze_ge12t, ze_ge12f, ze_gt12t, ze_gt12f, ze_le12t, ze_le12f, ze_lt12t, ze_lt12f, ze_eq12p, ze_eq12f, ze_ge15t, ze_ge15f, ze_gt15t, ze_gt15f, ze_le15t, ze_le15f, ze_lt15t, ze_lt15f, ze_eq15p, ze_eq15f, ze_ge16t, ze_ge16f, ze_gt16t, ze_gt16f, ze_le16t, ze_le16f, ze_lt16t, ze_lt16f, ze_eq16p, ze_eq16f, ze_ge30t, ze_ge30f, ze_gt30t, ze_gt30f, ze_le30t, ze_le30f, ze_lt30t, ze_lt30f, ze_eq30p, ze_eq30f, ze_ge32t, ze_ge32f, ze_gt32t, ze_gt32f, ze_le32t, ze_le32f, ze_lt32t, ze_lt32f, ze_eq32p, ze_eq32f, ze_ge47t, ze_ge47f, ze_gt47t, ze_gt47f, ze_le47t, ze_le47f, ze_lt47t, ze_lt47f, ze_eq47p, ze_eq47f, ze_ge120t, ze_ge120f, ze_gt120t, ze_gt120f, ze_le120t, ze_le120f, ze_lt120t, ze_lt120f, ze_eq120p, ze_eq120f, ze_ge1024t, ze_ge1024f, ze_gt1024t, ze_gt1024f, ze_le1024t, ze_le1024f, ze_lt1024t, ze_lt1024f, ze_eq1024p, ze_eq1024f, ze_let, ze_lef, ze_ltt, ze_ltf, ze_eqt, ze_eqf, ze_m1_lt0, ze_m1_n0le, ze_m1_le0, ze_m1_le, ze_m1_lt, ze_m1_nle, ze_m1_nlt, ze_m1_ne, ze_m1_en, ze_m1_ne4, ze_m1_ne0, ze_nz6, ze_nz10, ze_nz12, ze_nz16, ze_nz32, ze_nz192, ze_1ne0, ze_0ne1, ze_0ne4, ↓ze_rem6, ↓ze_rem10, ↓ze_rem16, ↓ze_rem32, ↓ze_rem12, ze_div6, ze_div10, ze_div12, ze_div16, ze_div32, ze_div192, ze_mul3, ze_mul4, ze_mul6, ze_mul10, ze_mul12, ze_mul16, ze_mul17, ze_mul32, ze_mul60, ze_mulr6, ze_nrem6, ze_mulr10, ze_nrem10, ze_mulr12, ze_nrem12, ze_mulr16, ze_nrem16, ze_mulr32, ze_nrem32, nI_add, ze_add1, ze_add6, ze_add7, ze_add8, ze_add12, ze_add16, ze_add0, ze_radd0, ze_radd8, ze_sub1, ze_m1, ze_0sub1, ze_m1add1, ze_1sub, ze_2sub, pk_sub, ze_and3, ze_and7, ze_and31, ze_and127, ↓ze_shr2, ↓ze_shr3, ↓ze_shr5, ↓ze_shl3, ze_i8, ze_nby, ze_i8m1, ze_i80, ze_nbm1, ze_i16, ze_nsh, ze_nb0, ze_nt0, ze_nt1, ze_cl0, ze_cl1, nI_clamp, vp_in_nI, forall_eq, true_implies, false_implies, not_true_eq_false, not_false_eq_true, and_true, true_and, implies_true, and_self, forall_const, Classical.not_not]
        exact gx_fd (K1 s c hs hc rfl rfl hD rfl)
      · refine gx_class (nI s) v3 (fun no => br_t rfl (K0 fun ⟨s', c', hs', hc', e1, e2, h, h3⟩ => ?_)) (fun s' p hs' hp e1 e2 hd => br_f (by decide) ?_)
        · rcases h3 with h3 | ⟨p, hp, e3, h3, _⟩
          · exact e h3
          · have := ((nI_eq (by omega) (by omega)).mp e1)
            subst this
            exact h3 (no _ p hs' hp rfl e3)
        · have := ((nI_eq (by omega) (by omega)).mp e1)
          subst this
          subst e2
          have hl := (HW (6 * s + p) (by omega)).2.2.2.2.1
          have eL := ((HX (6 * s + p) (by omega)).2.2 hd).1
          rw [nI_add, nI_clamp (by omega), eL]
          refine ⟨vp_in_nI (by omega) (by decide), ?_⟩
          by_cases q : lv (6 * s + p) = 2
          · refine br_t (ze_eq2t q) (K0 fun ⟨s', c', hs', hc', e1, e2, h, h3⟩ => ?_)
            obtain ⟨rfl, rfl⟩ := inj s' c' hs' hc' e1 e2
            rcases h3 with h3 | ⟨p', hp', e3, h3, h4⟩
            · exact e h3
            · have := ((nI_eq (by omega) (by omega)).mp e3)
              subst this
              exact h4 q
          · refine br_f (ze_eq2f q (by omega)) ?_
            unfold wX_define_63 wX_define_99 wX_define_128
            simp (disch := omega) only [ze_ge0t, ze_gt0t, ze_gt0f, ze_le0t, ze_le0f, ze_lt0f, ze_eq0p, ze_eq0f, ze_ge1t, ze_ge1f, ze_gt1t, ze_gt1f, ze_le1t, ze_le1f, ze_lt1t, ze_lt1f, ze_eq1p, ze_eq1f, ze_ge2t, ze_ge2f, ze_gt2t, ze_gt2f, ze_le2t, ze_le2f, ze_lt2t, ze_lt2f, ze_eq2p, ze_eq2f, ze_ge3t, ze_ge3f, ze_gt3t, ze_gt3f, ze_le3t, ze_le3f, ze_lt3t, ze_lt3f, ze_eq3p, ze_eq3f, ze_ge4t, ze_ge4f, ze_gt4t, ze_gt4f, ze_le4t, ze_le4f, ze_lt4t, ze_lt4f, ze_eq4p, ze_eq4f, ze_ge5t, ze_ge5f, ze_gt5t, ze_gt5f, ze_le5t, ze_le5f, ze_lt5t, ze_lt5f, ze_eq5p, ze_eq5f, ze_ge6t, ze_ge6f, ze_gt6t, ze_gt6f, ze_le6t, ze_le6f, ze_lt6t, ze_lt6f, ze_eq6p, ze_eq6f, ze_ge7t, ze_ge7f, ze_gt7t, ze_gt7f, ze_le7t, ze_le7f, ze_lt7t, ze_lt7f, ze_eq7p, ze_eq7f, ze_ge9t, ze_ge9f, ze_gt9t, ze_gt9f, ze_le9t, ze_le9f, ze_lt9t, ze_lt9f, ze_eq9p, ze_eq9f, ze_ge10t, ze_ge10f, ze_gt10t, ze_gt10f, ze_le10t, ze_le10f, ze_lt10t, ze_lt10f, ze_eq10p, ze_eq10f, ze_ge12t, ze_ge12f, ze_gt12t, ze_gt12f, ze_le12t, ze_le12f, ze_lt12t, ze_lt12f, ze_eq12p, ze_eq12f, ze_ge15t, ze_ge15f, ze_gt15t, ze_gt15f, ze_le15t, ze_le15f, ze_lt15t, ze_lt15f, ze_eq15p, ze_eq15f, ze_ge16t, ze_ge16f, ze_gt16t, ze_gt16f, ze_le16t, ze_le16f, ze_lt16t, ze_lt16f, ze_eq16p, ze_eq16f, ze_ge30t, ze_ge30f, ze_gt30t, ze_gt30f, ze_le30t, ze_le30f, ze_lt30t, ze_lt30f, ze_eq30p, ze_eq30f, ze_ge32t, ze_ge32f, ze_gt32t, ze_gt32f, ze_le32t, ze_le32f, ze_lt32t, ze_lt32f, ze_eq32p, ze_eq32f, ze_ge47t, ze_ge47f, ze_gt47t, ze_gt47f, ze_le47t, ze_le47f, ze_lt47t, ze_lt47f, ze_eq47p, ze_eq47f, ze_ge120t, ze_ge120f, ze_gt120t, ze_gt120f, ze_le120t, ze_le120f, ze_lt120t, ze_lt120f, ze_eq120p, ze_eq120f, ze_ge1024t, ze_ge1024f, ze_gt1024t, ze_gt1024f, ze_le1024t, ze_le1024f, ze_lt1024t, ze_lt1024f, ze_eq1024p, ze_eq1024f, ze_let, ze_lef, ze_ltt, ze_ltf, ze_eqt, ze_eqf, ze_m1_lt0, ze_m1_n0le, ze_m1_le0, ze_m1_le, ze_m1_lt, ze_m1_nle, ze_m1_nlt, ze_m1_ne, ze_m1_en, ze_m1_ne4, ze_m1_ne0, ze_nz6, ze_nz10, ze_nz12, ze_nz16, ze_nz32, ze_nz192, ze_1ne0, ze_0ne1, ze_0ne4, ↓ze_rem6, ↓ze_rem10, ↓ze_rem16, ↓ze_rem32, ↓ze_rem12, ze_div6, ze_div10, ze_div12, ze_div16, ze_div32, ze_div192, ze_mul3, ze_mul4, ze_mul6, ze_mul10, ze_mul12, ze_mul16, ze_mul17, ze_mul32, ze_mul60, ze_mulr6, ze_nrem6, ze_mulr10, ze_nrem10, ze_mulr12, ze_nrem12, ze_mulr16, ze_nrem16, ze_mulr32, ze_nrem32, nI_add, ze_add1, ze_add6, ze_add7, ze_add8, ze_add12, ze_add16, ze_add0, ze_radd0, ze_radd8, ze_sub1, ze_m1, ze_0sub1, ze_m1add1, ze_1sub, ze_2sub, pk_sub, ze_and3, ze_and7, ze_and31, ze_and127, ↓ze_shr2, ↓ze_shr3, ↓ze_shr5, ↓ze_shl3, ze_i8, ze_nby, ze_i8m1, ze_i80, ze_nbm1, ze_i16, ze_nsh, ze_nb0, ze_nt0, ze_nt1, ze_cl0, ze_cl1, nI_clamp, vp_in_nI, forall_eq, true_implies, false_implies, not_true_eq_false, not_false_eq_true, and_true, true_and, implies_true, and_self, forall_const, Classical.not_not, eL]
            exact gx_fd (K2 s c p hs hc hp rfl rfl rfl hD hd q)
    · obtain ⟨rfl, rfl⟩ := inj s' c' hs' hc' e1 e2
      exact hD h
theorem gy_define {post : Int32 → SY → Prop} (HW : gw_W b_defined lv up nf nm kd) (HY : gw_CY b_defined b_parent b_own lv up nf nm kd) (v1 v2 v3 v4 : Int32) (K0 : ¬ gw_gd b_defined lv v1 v2 v3 → post 0 (g_culprit, g_depth, g_lastMade, b_defined, b_version, b_parent, b_own, b_latest, b_cls, b_partner, b_pinned, b_arrived, b_val, b_from, b_made, b_done, b_rows))
    (K1 : ∀ s c, s < 2 → c < 6 → v1 = nI s → v2 = nI c → b_defined (6 * s + c) = 0 → (v3 = -1 ∨ ∃ p, p < 6 ∧ v3 = nI p ∧ b_defined (6 * s + p) ≠ 0 ∧ lv (6 * s + p) ≠ 2) → post 1 (g_culprit, g_depth, g_lastMade, upd b_defined (6 * s + c) 1, upd b_version (6 * s + c) v4, upd b_parent (6 * s + c) v3, b_own, upd b_latest s (nI c), b_cls, b_partner, b_pinned, b_arrived, b_val, b_from, b_made, b_done, b_rows)) :
    wpY_define post (g_culprit, g_depth, g_lastMade, b_defined, b_version, b_parent, b_own, b_latest, b_cls, b_partner, b_pinned, b_arrived, b_val, b_from, b_made, b_done, b_rows) v1 v2 v3 v4 := by
  unfold wpY_define; dsimp only
  refine gy_side v1 (fun e0 e1 => br_t rfl (K0 fun ⟨s, c, hs, hc, e, _⟩ => gw_no01 e0 e1 hs e)) (fun s hs e => br_f (by decide) ?_)
  subst e
  rcases pk_ix v2 (n := 6) (by decide) with z | z | ⟨c, hc, ec⟩
  · exact br_t z (K0 fun ⟨s, c, hs, hc, _, e, _⟩ => by subst e; exact absurd z (nI_pos (by omega)))
  · have z0 : ¬ v2 < 0 := fun h => absurd (Int32.lt_of_le_of_lt z h) (by decide)
    have z1 : 5 < v2 := Int32.lt_of_lt_of_le (by decide) z
    exact br_f z0 (br_t z1 (K0 fun ⟨s, c, hs, hc, _, e, _⟩ => by subst e; exact absurd z (nI_ge (by omega) (by decide))))
  · subst ec
    have inj : ∀ s' c', s' < 2 → c' < 6 → nI s = nI s' → nI c = nI c' → s' = s ∧ c' = c := fun s' c' h1 h2 h3 h4 => ⟨((nI_eq (by omega) (by omega)).mp h3).symm, ((nI_eq (by omega) (by omega)).mp h4).symm⟩
    refine br_f (nI_pos (by omega)) (br_f (ze_gt5f (by omega)) ?_)
    rw [ze_mul6, nI_add, nI_clamp (by omega)]
    refine ⟨vp_in_nI (by omega) (by decide), br_c (fun hD => ?_) (fun hD => K0 fun ⟨s', c', hs', hc', e1, e2, h, _⟩ => ?_)⟩
    · rcases pk_ix v3 (n := 6) (by decide) with z | z | ⟨p, hp, ep⟩
      · by_cases q : v3 < -1
        · refine br_t q (K0 fun ⟨s', c', hs', hc', e1, e2, h, h3⟩ => ?_)
          rcases h3 with h3 | ⟨p, hp, e3, h3, _⟩
          · subst h3; exact absurd q (by decide)
          · subst e3; exact absurd z (nI_pos (by omega))
        · have e : v3 = -1 := by
            rw [Int32.lt_iff_toInt_lt] at z q
            rw [show (-1 : Int32).toInt = -1 from by decide] at q
            rw [show (0 : Int32).toInt = 0 from by decide] at z
            apply Int32.toInt_inj.mp
            rw [show (-1 : Int32).toInt = -1 from by decide]
            omega
          subst e
          refine br_f q (br_t (by decide) (br_t (by decide) ?_))
          unfold wY_define_73
          simp (disch := omega) only [ze_ge0t, ze_gt0t, ze_gt0f, ze_le0t, ze_le0f, ze_lt0f, ze_eq0p, ze_eq0f, ze_ge1t, ze_ge1f, ze_gt1t, ze_gt1f, ze_le1t, ze_le1f, ze_lt1t, ze_lt1f, ze_eq1p, ze_eq1f, ze_ge2t, ze_ge2f, ze_gt2t, ze_gt2f, ze_le2t, ze_le2f, ze_lt2t, ze_lt2f, ze_eq2p, ze_eq2f, ze_ge3t, ze_ge3f, ze_gt3t, ze_gt3f, ze_le3t, ze_le3f, ze_lt3t, ze_lt3f, ze_eq3p, ze_eq3f, ze_ge4t, ze_ge4f, ze_gt4t, ze_gt4f, ze_le4t, ze_le4f, ze_lt4t, ze_lt4f, ze_eq4p, ze_eq4f, ze_ge5t, ze_ge5f, ze_gt5t, ze_gt5f, ze_le5t, ze_le5f, ze_lt5t, ze_lt5f, ze_eq5p, ze_eq5f, ze_ge6t, ze_ge6f, ze_gt6t, ze_gt6f, ze_le6t, ze_le6f, ze_lt6t, ze_lt6f, ze_eq6p, ze_eq6f, ze_ge7t, ze_ge7f, ze_gt7t, ze_gt7f, ze_le7t, ze_le7f, ze_lt7t, ze_lt7f, ze_eq7p, ze_eq7f, ze_ge9t, ze_ge9f, ze_gt9t, ze_gt9f, ze_le9t, ze_le9f, ze_lt9t, ze_lt9f, ze_eq9p, ze_eq9f, ze_ge10t, ze_ge10f, ze_gt10t, ze_gt10f, ze_le10t, ze_le10f, ze_lt10t, ze_lt10f, ze_eq10p, ze_eq10f, ze_ge12t, ze_ge12f, ze_gt12t, ze_gt12f, ze_le12t, ze_le12f, ze_lt12t, ze_lt12f, ze_eq12p, ze_eq12f, ze_ge15t, ze_ge15f, ze_gt15t, ze_gt15f, ze_le15t, ze_le15f, ze_lt15t, ze_lt15f, ze_eq15p, ze_eq15f, ze_ge16t, ze_ge16f, ze_gt16t, ze_gt16f, ze_le16t, ze_le16f, ze_lt16t, ze_lt16f, ze_eq16p, ze_eq16f, ze_ge30t, ze_ge30f, ze_gt30t, ze_gt30f, ze_le30t, ze_le30f, ze_lt30t, ze_lt30f, ze_eq30p, ze_eq30f, ze_ge32t, ze_ge32f, ze_gt32t, ze_gt32f, ze_le32t, ze_le32f, ze_lt32t, ze_lt32f, ze_eq32p, ze_eq32f, ze_ge47t, ze_ge47f, ze_gt47t, ze_gt47f, ze_le47t, ze_le47f, ze_lt47t, ze_lt47f, ze_eq47p, ze_eq47f, ze_ge120t, ze_ge120f, ze_gt120t, ze_gt120f, ze_le120t, ze_le120f, ze_lt120t, ze_lt120f, ze_eq120p, ze_eq120f, ze_ge1024t, ze_ge1024f, ze_gt1024t, ze_gt1024f, ze_le1024t, ze_le1024f, ze_lt1024t, ze_lt1024f, ze_eq1024p, ze_eq1024f, ze_let, ze_lef, ze_ltt, ze_ltf, ze_eqt, ze_eqf, ze_m1_lt0, ze_m1_n0le, ze_m1_le0, ze_m1_le, ze_m1_lt, ze_m1_nle, ze_m1_nlt, ze_m1_ne, ze_m1_en, ze_m1_ne4, ze_m1_ne0, ze_nz6, ze_nz10, ze_nz12, ze_nz16, ze_nz32, ze_nz192, ze_1ne0, ze_0ne1, ze_0ne4, ↓ze_rem6, ↓ze_rem10, ↓ze_rem16, ↓ze_rem32, ↓ze_rem12, ze_div6, ze_div10, ze_div12, ze_div16, ze_div32, ze_div192, ze_mul3, ze_mul4, ze_mul6, ze_mul10, ze_mul12, ze_mul16, ze_mul17, ze_mul32, ze_mul60, ze_mulr6, ze_nrem6, ze_mulr10, ze_nrem10, ze_mulr12, ze_nrem12, ze_mulr16, ze_nrem16, ze_mulr32, ze_nrem32, nI_add, ze_add1, ze_add6, ze_add7, ze_add8, ze_add12, ze_add16, ze_add0, ze_radd0, ze_radd8, ze_sub1, ze_m1, ze_0sub1, ze_m1add1, ze_1sub, ze_2sub, pk_sub, ze_and3, ze_and7, ze_and31, ze_and127, ↓ze_shr2, ↓ze_shr3, ↓ze_shr5, ↓ze_shl3, ze_i8, ze_nby, ze_i8m1, ze_i80, ze_nbm1, ze_i16, ze_nsh, ze_nb0, ze_nt0, ze_nt1, ze_cl0, ze_cl1, nI_clamp, vp_in_nI, forall_eq, true_implies, false_implies, not_true_eq_false, not_false_eq_true, and_true, true_and, implies_true, and_self, forall_const, Classical.not_not]
          exact K1 s c hs hc rfl rfl hD (Or.inl rfl)
      · have q0 : ¬ v3 < -1 := fun h => absurd (Int32.lt_of_le_of_lt z h) (by decide)
        have q1 : ¬ v3 ≤ 5 := fun h => absurd (Int32.le_trans z h) (by decide)
        refine br_f q0 (br_f q1 (K0 fun ⟨s', c', hs', hc', e1, e2, h, h3⟩ => ?_))
        rcases h3 with h3 | ⟨p, hp, e3, h3, _⟩
        · subst h3; exact absurd z (by decide)
        · subst e3; exact absurd z (nI_ge (by omega) (by decide))
      · subst ep
        refine br_f (ze_m1_nlt (by omega)) (br_t (ze_le5t (by omega)) (br_f (nI_pos (by omega)) ?_))
        rw [nI_add, nI_clamp (by omega)]
        refine ⟨vp_in_nI (by omega) (by decide), br_c (fun hD2 => K0 fun ⟨s', c', hs', hc', e1, e2, h, h3⟩ => ?_) (fun hD2 => ?_)⟩
        · obtain ⟨rfl, rfl⟩ := inj s' c' hs' hc' e1 e2
          rcases h3 with h3 | ⟨p', hp', e3, h3, _⟩
          · exact absurd h3 (ze_m1_ne (by omega))
          · have := ((nI_eq (by omega) (by omega)).mp e3)
            subst this
            exact h3 hD2
        · refine gy_chain (k := 2) HW HY hs hp hD2 (by decide) ?_
          have hl := (HW (6 * s + p) (by omega)).2.2.2.2.1
          by_cases q : lv (6 * s + p) = 2
          · rw [gw_ch_t (by omega)]
            refine br_f (nI_pos (by omega)) (K0 fun ⟨s', c', hs', hc', e1, e2, h, h3⟩ => ?_)
            obtain ⟨rfl, rfl⟩ := inj s' c' hs' hc' e1 e2
            rcases h3 with h3 | ⟨p', hp', e3, h3, h4⟩
            · exact absurd h3 (ze_m1_ne (by omega))
            · have := ((nI_eq (by omega) (by omega)).mp e3)
              subst this
              exact h4 q
          · rw [gw_ch_f (by omega)]
            refine br_t (by decide) ?_
            unfold wY_define_73
            simp (disch := omega) only [ze_ge0t, ze_gt0t, ze_gt0f, ze_le0t, ze_le0f, ze_lt0f, ze_eq0p, ze_eq0f, ze_ge1t, ze_ge1f, ze_gt1t, ze_gt1f, ze_le1t, ze_le1f, ze_lt1t, ze_lt1f, ze_eq1p, ze_eq1f, ze_ge2t, ze_ge2f, ze_gt2t, ze_gt2f, ze_le2t, ze_le2f, ze_lt2t, ze_lt2f, ze_eq2p, ze_eq2f, ze_ge3t, ze_ge3f, ze_gt3t, ze_gt3f, ze_le3t, ze_le3f, ze_lt3t, ze_lt3f, ze_eq3p, ze_eq3f, ze_ge4t, ze_ge4f, ze_gt4t, ze_gt4f, ze_le4t, ze_le4f, ze_lt4t, ze_lt4f, ze_eq4p, ze_eq4f, ze_ge5t, ze_ge5f, ze_gt5t, ze_gt5f, ze_le5t, ze_le5f, ze_lt5t, ze_lt5f, ze_eq5p, ze_eq5f, ze_ge6t, ze_ge6f, ze_gt6t, ze_gt6f, ze_le6t, ze_le6f, ze_lt6t, ze_lt6f, ze_eq6p, ze_eq6f, ze_ge7t, ze_ge7f, ze_gt7t, ze_gt7f, ze_le7t, ze_le7f, ze_lt7t, ze_lt7f, ze_eq7p, ze_eq7f, ze_ge9t, ze_ge9f, ze_gt9t, ze_gt9f, ze_le9t, ze_le9f, ze_lt9t, ze_lt9f, ze_eq9p, ze_eq9f, ze_ge10t, ze_ge10f, ze_gt10t, ze_gt10f, ze_le10t, ze_le10f, ze_lt10t, ze_lt10f, ze_eq10p, ze_eq10f, ze_ge12t, ze_ge12f, ze_gt12t, ze_gt12f, ze_le12t, ze_le12f, ze_lt12t, ze_lt12f, ze_eq12p, ze_eq12f, ze_ge15t, ze_ge15f, ze_gt15t, ze_gt15f, ze_le15t, ze_le15f, ze_lt15t, ze_lt15f, ze_eq15p, ze_eq15f, ze_ge16t, ze_ge16f, ze_gt16t, ze_gt16f, ze_le16t, ze_le16f, ze_lt16t, ze_lt16f, ze_eq16p, ze_eq16f, ze_ge30t, ze_ge30f, ze_gt30t, ze_gt30f, ze_le30t, ze_le30f, ze_lt30t, ze_lt30f, ze_eq30p, ze_eq30f, ze_ge32t, ze_ge32f, ze_gt32t, ze_gt32f, ze_le32t, ze_le32f, ze_lt32t, ze_lt32f, ze_eq32p, ze_eq32f, ze_ge47t, ze_ge47f, ze_gt47t, ze_gt47f, ze_le47t, ze_le47f, ze_lt47t, ze_lt47f, ze_eq47p, ze_eq47f, ze_ge120t, ze_ge120f, ze_gt120t, ze_gt120f, ze_le120t, ze_le120f, ze_lt120t, ze_lt120f, ze_eq120p, ze_eq120f, ze_ge1024t, ze_ge1024f, ze_gt1024t, ze_gt1024f, ze_le1024t, ze_le1024f, ze_lt1024t, ze_lt1024f, ze_eq1024p, ze_eq1024f, ze_let, ze_lef, ze_ltt, ze_ltf, ze_eqt, ze_eqf, ze_m1_lt0, ze_m1_n0le, ze_m1_le0, ze_m1_le, ze_m1_lt, ze_m1_nle, ze_m1_nlt, ze_m1_ne, ze_m1_en, ze_m1_ne4, ze_m1_ne0, ze_nz6, ze_nz10, ze_nz12, ze_nz16, ze_nz32, ze_nz192, ze_1ne0, ze_0ne1, ze_0ne4, ↓ze_rem6, ↓ze_rem10, ↓ze_rem16, ↓ze_rem32, ↓ze_rem12, ze_div6, ze_div10, ze_div12, ze_div16, ze_div32, ze_div192, ze_mul3, ze_mul4, ze_mul6, ze_mul10, ze_mul12, ze_mul16, ze_mul17, ze_mul32, ze_mul60, ze_mulr6, ze_nrem6, ze_mulr10, ze_nrem10, ze_mulr12, ze_nrem12, ze_mulr16, ze_nrem16, ze_mulr32, ze_nrem32, nI_add, ze_add1, ze_add6, ze_add7, ze_add8, ze_add12, ze_add16, ze_add0, ze_radd0, ze_radd8, ze_sub1, ze_m1, ze_0sub1, ze_m1add1, ze_1sub, ze_2sub, pk_sub, ze_and3, ze_and7, ze_and31, ze_and127, ↓ze_shr2, ↓ze_shr3, ↓ze_shr5, ↓ze_shl3, ze_i8, ze_nby, ze_i8m1, ze_i80, ze_nbm1, ze_i16, ze_nsh, ze_nb0, ze_nt0, ze_nt1, ze_cl0, ze_cl1, nI_clamp, vp_in_nI, forall_eq, true_implies, false_implies, not_true_eq_false, not_false_eq_true, and_true, true_and, implies_true, and_self, forall_const, Classical.not_not]
            exact K1 s c hs hc rfl rfl hD (Or.inr ⟨p, hp, rfl, hD2, q⟩)
    · obtain ⟨rfl, rfl⟩ := inj s' c' hs' hc' e1 e2
      exact hD h
/-- the relation with a new class -/
theorem gw_R_def (R : gw_R a_defined a_parent a_level a_version a_fields a_fName a_fKind a_latest a_oClass a_slot a_handle a_arrived a_handles a_described a_dLevels a_dFields a_plan a_wide b_parent b_own b_cls b_partner b_val) {s c l p : Nat} {v x1 x2 : Int32} (hs : s < 2) (hc : c < 6) (hD : a_defined (6 * s + c) = 0)
    (h : (l = 0 ∧ x1 = -1 ∧ x2 = -1) ∨ (l ≤ 2 ∧ l ≠ 0 ∧ p < 12 ∧ p / 6 = s ∧ a_defined p ≠ 0 ∧ a_level p + 1 = nI l ∧ x1 = nI p ∧ x2 = nI (p % 6))) :
    gw_R (upd a_defined (6 * s + c) 1) (upd a_parent (6 * s + c) x1) (upd a_level (6 * s + c) (nI l)) (upd a_version (6 * s + c) v) a_fields a_fName a_fKind (upd a_latest s (nI c)) a_oClass a_slot a_handle a_arrived a_handles (gw_fl a_described 0 12 0) a_dLevels a_dFields a_plan a_wide (upd b_parent (6 * s + c) x2) b_own b_cls b_partner b_val := by
  obtain ⟨lv, up, nf, nm, kd, hh, hs', pq, HW, HU, HX, HY, HO, HV, HS, HDS, HL⟩ := R
  have up1 : ∀ i, a_defined i ≠ 0 → upd a_defined (6 * s + c) 1 i ≠ 0 := by
    intro i hi
    by_cases e : i = 6 * s + c
    · rw [e, pk_us]; decide
    · rw [pk_un e]; exact hi
  have hl : l ≠ 0 → p ≠ 6 * s + c ∧ lv p + 1 = l := by
    intro z
    rcases h with h | ⟨h0, -, h1, h2, h3, h4, -⟩
    · exact absurd h.1 z
    · refine ⟨fun e => h3 (by rw [e]; exact hD), ?_⟩
      have := (HW p h1).2.2.2.2.1
      rw [((HX p h1).2.2 h3).1, nI_1] at h4
      exact (nI_eq (by omega) (by omega)).mp h4
  have ext : ∀ x j, x < 12 → a_defined x ≠ 0 → j ≤ lv x → gw_al (fun i => if i = 6 * s + c then l else lv i) (fun i => if i = 6 * s + c then p else up i) x j = gw_al lv up x j := fun x j hx hd hj => gw_al_ext HW hD hx hd hj
  have nfc := (HW (6 * s + c) (by omega)).2.1 hD
  have W' : gw_W (upd a_defined (6 * s + c) 1) (fun i => if i = 6 * s + c then l else lv i) (fun i => if i = 6 * s + c then p else up i) nf nm kd := by
    intro x hx
    obtain ⟨w1, w2, w3, w4, w5, w6⟩ := HW x hx
    by_cases e : x = 6 * s + c
    · refine ⟨w1, fun _ => by rw [e]; exact nfc, w3, w4, ?_, fun _ hz => ?_⟩
      · try dsimp only
        rw [if_pos e]
        rcases h with h | h
        · omega
        · exact h.1
      · dsimp only at hz ⊢
        rw [if_pos e] at hz
        obtain ⟨hl1, hl2⟩ := hl hz
        rcases h with h | ⟨h0, -, h1, h2, h3, -⟩
        · exact absurd h.1 hz
        · rw [if_pos e, if_pos e, if_neg hl1]
          exact ⟨h1, by omega, up1 p h3, hl2⟩
    · refine ⟨w1, fun z => w2 (by rwa [pk_un e] at z), w3, w4, ?_, fun z hz => ?_⟩
      · try dsimp only
        rw [if_neg e]; exact w5
      · dsimp only at hz ⊢
        rw [if_neg e] at hz
        rw [pk_un e] at z
        obtain ⟨h1, h2, h3, h4⟩ := w6 z hz
        have e2 : up x ≠ 6 * s + c := fun e2 => h3 (by rw [e2]; exact hD)
        rw [if_neg e, if_neg e, if_neg e2]
        exact ⟨h1, h2, up1 _ h3, h4⟩
  have alc : ∀ j, j < l → gw_al (fun i => if i = 6 * s + c then l else lv i) (fun i => if i = 6 * s + c then p else up i) (6 * s + c) j = gw_al lv up p j := by
    intro j hj
    obtain ⟨hl1, hl2⟩ := hl (by omega)
    rcases h with h | ⟨h0, -, h1, h2, h3, -⟩
    · omega
    · rw [← ext p j h1 h3 (by omega)]
      unfold gw_al
      try dsimp only
      rw [if_pos rfl, if_neg hl1, show l - j = (lv p - j) + 1 from by omega]
      show gw_an _ (lv p - j) (if 6 * s + c = 6 * s + c then p else up (6 * s + c)) = _
      rw [if_pos rfl]
  refine ⟨fun i => if i = 6 * s + c then l else lv i, fun i => if i = 6 * s + c then p else up i, nf, nm, kd, hh, hs', pq, W', ?_, ?_, ?_, ?_, ?_, ?_, ?_, ?_⟩
  · intro x hx hd i j hij hj k m
    by_cases e : x = 6 * s + c
    · dsimp only at hj
      rw [if_pos e] at hj
      rcases Nat.eq_or_lt_of_le hj with z | z
      · have ej : gw_al (fun i => if i = 6 * s + c then l else lv i) (fun i => if i = 6 * s + c then p else up i) x j = 6 * s + c := by
          unfold gw_al
          try dsimp only
          rw [if_pos e, z, Nat.sub_self]
          exact e
        rw [ej, nfc]
        intro _ q; omega
      · subst e
        rw [alc i (by omega), alc j z]
        obtain ⟨hl1, hl2⟩ := hl (by omega)
        rcases h with h | ⟨h0, -, h1, h2, h3, -⟩
        · omega
        · exact HU p h1 h3 i j hij (by omega) k m
    · rw [pk_un e] at hd
      try dsimp only at hj
      rw [if_neg e] at hj
      rw [ext x i hx hd (by omega), ext x j hx hd hj]
      exact HU x hx hd i j hij hj k m
  · intro x hx
    obtain ⟨h1, h2, h3⟩ := HX x hx
    refine ⟨h1, h2, fun hd => ?_⟩
    by_cases e : x = 6 * s + c
    · try dsimp only
      rw [e, pk_us, pk_us]
      simp only [if_true]
      refine ⟨trivial, ?_⟩
      rcases h with h | ⟨h0, hz, -, -, -, -, q1, q2⟩
      · rw [if_pos h.1]; exact h.2.1
      · rw [if_neg hz]; exact q1
    · try dsimp only
      rw [pk_un e, pk_un e]
      simp only [if_neg e]
      rw [pk_un e] at hd
      exact h3 hd
  · intro x hx
    obtain ⟨h1, h2, h3⟩ := HY x hx
    refine ⟨h1, h2, fun hd => ?_⟩
    by_cases e : x = 6 * s + c
    · try dsimp only
      rw [e, pk_us]
      simp only [if_true]
      rcases h with h | ⟨h0, hz, -, -, -, -, q1, q2⟩
      · rw [if_pos h.1]; exact h.2.2
      · rw [if_neg hz]; exact q2
    · try dsimp only
      rw [pk_un e]
      simp only [if_neg e]
      rw [pk_un e] at hd
      exact h3 hd
  · intro o ho
    exact (HO o ho).imp id (fun ⟨h1, h2, h3, h4, h5⟩ => ⟨h1, h2, h3, up1 _ h4, h5⟩)
  · intro o ho ha j k
    obtain ⟨h1, h2, h3, h4, h5⟩ := gw_O_al HO ho ha
    have e : gw_kl a_oClass o ≠ 6 * s + c := fun e => h4 (by rw [e]; exact hD)
    try dsimp only
    rw [if_neg e]
    intro hj
    rw [ext _ j h1 h4 hj]
    exact HV o ho ha j k hj
  · exact HS
  · intro x hx hz
    rw [gw_fl_in (by omega) hx] at hz
    exact absurd rfl hz
  · intro t ht
    by_cases e : t = s
    · subst e
      rw [pk_us]
      refine Or.inr ⟨c, hc, rfl, by rw [pk_us]; decide, fun x hx hd hz => ?_⟩
      try dsimp only at hz ⊢
      by_cases e : x = 6 * t + c
      · rw [if_pos e] at hz ⊢
        exact (hl hz).1
      · rw [if_neg e] at hz ⊢
        rw [pk_un e] at hd
        exact fun e2 => ((HW x hx).2.2.2.2.2 hd hz).2.2.1 (by rw [e2]; exact hD)
    · rw [pk_un e]
      refine (HL t ht).imp id (fun ⟨y, h1, h2, h3, h4⟩ => ⟨y, h1, h2, up1 _ h3, fun x hx hd hz => ?_⟩)
      try dsimp only at hz ⊢
      by_cases e3 : x = 6 * s + c
      · rw [if_pos e3] at hz ⊢
        rcases h with h | ⟨h0, -, q1, q2, q3, -⟩
        · exact absurd h.1 hz
        · omega
      · rw [if_neg e3] at hz ⊢
        rw [pk_un e3] at hd
        exact h4 x hx hd hz
theorem gm_define {k : Nat} (R : gw_R a_defined a_parent a_level a_version a_fields a_fName a_fKind a_latest a_oClass a_slot a_handle a_arrived a_handles a_described a_dLevels a_dFields a_plan a_wide b_parent b_own b_cls b_partner b_val) (v1 v2 v3 v4 : Int32) : wpX_define (fun r u' => wpY_define (fun r' v' => r' = r ∧ i_Rel (k + 5) u' v') (f_culprit, g_depth, g_lastMade, a_defined, a_version, b_parent, b_own, a_latest, b_cls, b_partner, a_pinned, b_arrived, b_val, b_from, b_made, b_done, b_rows) v1 v2 v3 v4) (f_end, f_at, f_written, f_read, f_error, f_culprit, f_nextHandle, f_depth, f_nTodo, a_defined, a_parent, a_level, a_version, a_fields, a_fName, a_fKind, a_latest, a_oClass, a_pinned, a_slot, a_handle, a_arrived, a_handles, a_described, a_dLevels, a_dFields, a_plan, a_wide, a_wire, a_order, a_made, a_sObj, a_sLev, a_sPos, a_sCls, a_pairs, a_todo) v1 v2 v3 v4 := by
  obtain ⟨lv, up, nf, nm, kd, hh, hs', pq, HW, HU, HX, HY, HO, HV, HS, HDS, HL⟩ := id R
  refine gx_define HW HX v1 v2 v3 v4 (fun no => ?_) (fun s c hs hc e1 e2 hD e3 => ?_) (fun s c p hs hc hp e1 e2 e3 hD hd hl => ?_)
  · exact gy_define HW HY v1 v2 v3 v4 (fun _ => ⟨rfl, gi_in R⟩) (fun s c hs hc e1 e2 h1 h2 => absurd ⟨s, c, hs, hc, e1, e2, h1, h2⟩ no)
  · refine gy_define HW HY v1 v2 v3 v4 (fun no => absurd ⟨s, c, hs, hc, e1, e2, hD, Or.inl e3⟩ no) (fun s' c' hs2 hc2 e4 e5 h1 h2 => ?_)
    have a := (nI_eq (by omega) (by omega)).mp (e4.symm.trans e1)
    have b := (nI_eq (by omega) (by omega)).mp (e5.symm.trans e2)
    subst a b
    exact ⟨rfl, gi_in (gw_R_def (l := 0) (p := 0) R hs hc hD (Or.inl ⟨rfl, rfl, e3⟩))⟩
  · refine gy_define HW HY v1 v2 v3 v4 (fun no => absurd ⟨s, c, hs, hc, e1, e2, hD, Or.inr ⟨p, hp, e3, hd, hl⟩⟩ no) (fun s' c' hs2 hc2 e4 e5 h1 h2 => ?_)
    have a := (nI_eq (by omega) (by omega)).mp (e4.symm.trans e1)
    have b := (nI_eq (by omega) (by omega)).mp (e5.symm.trans e2)
    subst a b
    have l2 := (HW (6 * s' + p) (by omega)).2.2.2.2.1
    have eL := ((HX (6 * s' + p) (by omega)).2.2 hd).1
    exact ⟨rfl, gi_in (gw_R_def (l := lv (6 * s' + p) + 1) (p := 6 * s' + p) R hs hc hD (Or.inr ⟨by omega, by omega, by omega, by omega, hd, by rw [eL, nI_1], rfl, by rw [e3]; exact congrArg nI (by omega)⟩))⟩
end
end
section
def gw_sh (c f i : Nat) (A B : Nat → Int32) : Prop := (∀ j, j < 4 * c ∨ 4 * c + 4 ≤ j → B j = A j) ∧ (∀ l, l < i → B (4 * c + l) = A (4 * c + l)) ∧ (∀ l, i ≤ l → l < f → B (4 * c + (l + 1)) = A (4 * c + l))
def gw_ins (c f i : Nat) (A B : Nat → Int32) (v : Int32) : Prop := gw_sh c f i A B ∧ B (4 * c + i) = v
theorem gw_sh_0 (c f : Nat) (A : Nat → Int32) : gw_sh c f f A A := ⟨fun _ _ => rfl, fun _ _ => rfl, fun l h1 h2 => by omega⟩
theorem gw_sh_i {c f i : Nat} {A B : Nat → Int32} (h : gw_sh c f i A B) (hi : i ≤ 3) (v : Int32) : gw_ins c f i A (upd B (4 * c + i) v) v :=
  ⟨⟨fun j hj => by rw [pk_un (by omega)]; exact h.1 j hj, fun l hl => by rw [pk_un (by omega)]; exact h.2.1 l hl, fun l h1 h2 => by rw [pk_un (by omega)]; exact h.2.2 l h1 h2⟩, pk_us⟩
theorem gw_sh_s {c f i : Nat} {A B : Nat → Int32} (h : gw_sh c f (i + 1) A B) (hi : i < 3) {v : Int32} (hv : v = A (4 * c + i)) : gw_sh c f i A (upd B (4 * c + (i + 1)) v) := by
  refine ⟨fun j hj => by rw [pk_un (by omega)]; exact h.1 j hj, fun l hl => by rw [pk_un (by omega)]; exact h.2.1 l (by omega), fun l h1 h2 => ?_⟩
  rcases Nat.eq_or_lt_of_le h1 with z | z
  · subst z; rw [pk_us]; exact hv
  · rw [pk_un (by omega)]; exact h.2.2 l z h2
def gw_gf (D LT C : Nat → Int32) (lv up nf nm : Nat → Nat) (v1 v2 v3 v4 : Int32) (s c x y : Nat) : Prop :=
  s < 2 ∧ c < 6 ∧ x < 10 ∧ y < 5 ∧ v1 = nI s ∧ v2 = nI c ∧ v3 = nI x ∧ v4 = nI y ∧ D (6 * s + c) ≠ 0 ∧ LT s = nI c ∧ (∀ j k, j ≤ lv (6 * s + c) → k < nf (gw_al lv up (6 * s + c) j) → nm (4 * gw_al lv up (6 * s + c) j + k) ≠ x) ∧ nf (6 * s + c) ≠ 4 ∧ ∀ n, n < 16 → C (16 * s + n) ≠ nI (6 * s + c)
section
variable {f_end f_at f_written f_read f_error f_culprit f_nextHandle f_depth f_nTodo : Int32} {a_defined a_parent a_level a_version a_fields a_fName a_fKind a_latest a_oClass a_pinned a_handle a_arrived a_handles a_described a_dLevels a_dFields a_plan a_wide a_wire a_order a_made a_sObj a_sLev a_sPos a_sCls a_todo : Nat → Int32} {a_slot a_pairs : Nat → Int64} {g_culprit g_depth g_lastMade : Int32} {b_defined b_version b_parent b_own b_latest b_cls b_partner b_pinned b_arrived b_from b_made b_done b_rows : Nat → Int32} {b_val : Nat → Int64} {lv up nf nm kd : Nat → Nat}
theorem gx_f131 {post : Int32 → SX → Prop} {x y c f : Nat} (hc : c < 12) (hf : f ≤ 3) (hx : x < 10) (hy : y < 5) {A B : Nat → Int32} (hA : ∀ l, l < f → A (4 * c + l) = nI (nm (4 * c + l)) ∧ nm (4 * c + l) < 10 ∧ nm (4 * c + l) ≠ x) (hB : ∀ l, l < f → ∃ d, d < 5 ∧ B (4 * c + l) = nI d)
    (hasc : ∀ l, l + 1 < f → nm (4 * c + l) < nm (4 * c + (l + 1)))
    (K : ∀ A' B' i, gw_ins c f i A A' (nI x) → gw_ins c f i B B' (nI y) → i ≤ f → (∀ l, l < i → nm (4 * c + l) < x) → (∀ l, i ≤ l → l < f → x < nm (4 * c + l)) → post 1 (f_end, f_at, f_written, f_read, f_error, f_culprit, f_nextHandle, f_depth, f_nTodo, a_defined, a_parent, a_level, a_version, a_fields, A', B', a_latest, a_oClass, a_pinned, a_slot, a_handle, a_arrived, a_handles, gw_fl a_described 0 12 0, a_dLevels, a_dFields, a_plan, a_wide, a_wire, a_order, a_made, a_sObj, a_sLev, a_sPos, a_sCls, a_pairs, a_todo)) :
    ∀ n i A1 B1, i < n → i ≤ f → gw_sh c f i A A1 → gw_sh c f i B B1 → (∀ l, i ≤ l → l < f → x < nm (4 * c + l)) → wX_field_131 post (nI x) (nI y) f_end f_at f_written f_read f_error f_culprit f_nextHandle f_depth f_nTodo n (nI (4 * c + i)) a_defined a_parent a_level a_version a_fields A1 B1 a_latest a_oClass a_pinned a_slot a_handle a_arrived a_handles a_described a_dLevels a_dFields a_plan a_wide a_wire a_order a_made a_sObj a_sLev a_sPos a_sCls a_pairs a_todo := by
  intro n
  induction n with
  | zero => intro i A1 B1 h; omega
  | succ n ih =>
    intro i A1 B1 hn hi sA sB hup
    have fin : (∀ l, l < i → nm (4 * c + l) < x) → wX_field_189 post (nI x) (nI y) (nI (4 * c + i)) f_end f_at f_written f_read f_error f_culprit f_nextHandle f_depth f_nTodo a_defined a_parent a_level a_version a_fields A1 B1 a_latest a_oClass a_pinned a_slot a_handle a_arrived a_handles a_described a_dLevels a_dFields a_plan a_wide a_wire a_order a_made a_sObj a_sLev a_sPos a_sCls a_pairs a_todo := by
      intro hlo
      unfold wX_field_189
      simp (disch := omega) only [ze_ge0t, ze_gt0t, ze_gt0f, ze_le0t, ze_le0f, ze_lt0f, ze_eq0p, ze_eq0f, ze_ge1t, ze_ge1f, ze_gt1t, ze_gt1f, ze_le1t, ze_le1f, ze_lt1t, ze_lt1f, ze_eq1p, ze_eq1f, ze_ge2t, ze_ge2f, ze_gt2t, ze_gt2f, ze_le2t, ze_le2f, ze_lt2t, ze_lt2f, ze_eq2p, ze_eq2f, ze_ge3t, ze_ge3f, ze_gt3t, ze_gt3f, ze_le3t, ze_le3f, ze_lt3t, ze_lt3f, ze_eq3p, ze_eq3f, ze_ge4t, ze_ge4f, ze_gt4t, ze_gt4f, ze_le4t, ze_le4f, ze_lt4t, ze_lt4f, ze_eq4p, ze_eq4f, ze_ge5t, ze_ge5f, ze_gt5t, ze_gt5f, ze_le5t, ze_le5f, ze_lt5t, ze_lt5f, ze_eq5p, ze_eq5f, ze_ge6t, ze_ge6f, ze_gt6t, ze_gt6f, ze_le6t, ze_le6f, ze_lt6t, ze_lt6f, ze_eq6p, ze_eq6f, ze_ge7t, ze_ge7f, ze_gt7t, ze_gt7f, ze_le7t, ze_le7f, ze_lt7t, ze_lt7f, ze_eq7p, ze_eq7f, ze_ge9t, ze_ge9f, ze_gt9t, ze_gt9f, ze_le9t, ze_le9f, ze_lt9t, ze_lt9f, ze_eq9p, ze_eq9f, ze_ge10t, ze_ge10f, ze_gt10t, ze_gt10f, ze_le10t, ze_le10f, ze_lt10t, ze_lt10f, ze_eq10p, ze_eq10f, ze_ge12t, ze_ge12f, ze_gt12t, ze_gt12f, ze_le12t, ze_le12f, ze_lt12t, ze_lt12f, ze_eq12p, ze_eq12f, ze_ge15t, ze_ge15f, ze_gt15t, ze_gt15f, ze_le15t, ze_le15f, ze_lt15t, ze_lt15f, ze_eq15p, ze_eq15f, ze_ge16t, ze_ge16f, ze_gt16t, ze_gt16f, ze_le16t, ze_le16f, ze_lt16t, ze_lt16f, ze_eq16p, ze_eq16f, ze_ge30t, ze_ge30f, ze_gt30t, ze_gt30f, ze_le30t, ze_le30f, ze_lt30t, ze_lt30f, ze_eq30p, ze_eq30f, ze_ge32t, ze_ge32f, ze_gt32t, ze_gt32f, ze_le32t, ze_le32f, ze_lt32t, ze_lt32f, ze_eq32p, ze_eq32f, ze_ge47t, ze_ge47f, ze_gt47t, ze_gt47f, ze_le47t, ze_le47f, ze_lt47t, ze_lt47f, ze_eq47p, ze_eq47f, ze_ge120t, ze_ge120f, ze_gt120t, ze_gt120f, ze_le120t, ze_le120f, ze_lt120t, ze_lt120f, ze_eq120p, ze_eq120f, ze_ge1024t, ze_ge1024f, ze_gt1024t, ze_gt1024f, ze_le1024t, ze_le1024f, ze_lt1024t, ze_lt1024f, ze_eq1024p, ze_eq1024f, ze_let, ze_lef, ze_ltt, ze_ltf, ze_eqt, ze_eqf, ze_m1_lt0, ze_m1_n0le, ze_m1_le0, ze_m1_le, ze_m1_lt, ze_m1_nle, ze_m1_nlt, ze_m1_ne, ze_m1_en, ze_m1_ne4, ze_m1_ne0, ze_nz6, ze_nz10, ze_nz12, ze_nz16, ze_nz32, ze_nz192, ze_1ne0, ze_0ne1, ze_0ne4, ↓ze_rem6, ↓ze_rem10, ↓ze_rem16, ↓ze_rem32, ↓ze_rem12, ze_div6, ze_div10, ze_div12, ze_div16, ze_div32, ze_div192, ze_mul3, ze_mul4, ze_mul6, ze_mul10, ze_mul12, ze_mul16, ze_mul17, ze_mul32, ze_mul60, ze_mulr6, ze_nrem6, ze_mulr10, ze_nrem10, ze_mulr12, ze_nrem12, ze_mulr16, ze_nrem16, ze_mulr32, ze_nrem32, nI_add, ze_add1, ze_add6, ze_add7, ze_add8, ze_add12, ze_add16, ze_add0, ze_radd0, ze_radd8, ze_sub1, ze_m1, ze_0sub1, ze_m1add1, ze_1sub, ze_2sub, pk_sub, ze_and3, ze_and7, ze_and31, ze_and127, ↓ze_shr2, ↓ze_shr3, ↓ze_shr5, ↓ze_shl3, ze_i8, ze_nby, ze_i8m1, ze_i80, ze_nbm1, ze_i16, ze_nsh, ze_nb0, ze_nt0, ze_nt1, ze_cl0, ze_cl1, nI_clamp, vp_in_nI, forall_eq, true_implies, false_implies, not_true_eq_false, not_false_eq_true, and_true, true_and, implies_true, and_self, forall_const, Classical.not_not]
      exact gx_fd (K _ _ i (gw_sh_i sA (by omega) _) (gw_sh_i sB (by omega) _) hi hlo hup)
    rw [wX_field_131]
    dsimp only
    rw [ze_and3 (by omega), show (4 * c + i) % 4 = i from by omega]
    cases i with
    | zero => exact br_t (by decide) (fin fun l hl => by omega)
    | succ i =>
      obtain ⟨a1, a2, a3⟩ := hA i (by omega)
      obtain ⟨d, d1, d2⟩ := hB i (by omega)
      have e1 : A1 (4 * c + i) = nI (nm (4 * c + i)) := by rw [sA.2.1 i (by omega)]; exact a1
      have e2 : B1 (4 * c + i) = nI d := by rw [sB.2.1 i (by omega)]; exact d2
      have e3 : 4 * c + (i + 1) - 1 = 4 * c + i := by omega
      refine br_f (ze_le0f (by omega) (by omega)) ?_
      rw [ze_sub1 (by omega), e3, nI_clamp (by omega), e1, e2]
      refine ⟨vp_in_nI (by omega) (by decide), ?_⟩
      by_cases z : nm (4 * c + i) ≤ x
      · refine br_t (nI_le z (by omega)) (fin fun l hl => ?_)
        rcases Nat.eq_or_lt_of_le (Nat.le_of_lt_succ hl) with q | q
        · subst q; omega
        · have asc : ∀ m, m + 1 ≤ i → nm (4 * c + (i - (m + 1))) < nm (4 * c + i) := by
            intro m
            induction m with
            | zero => intro hm; have := hasc (i - 1) (by omega); rwa [show i - 1 + 1 = i from by omega] at this
            | succ m ihm =>
              intro hm
              have p1 := ihm (by omega)
              have p2 := hasc (i - (m + 1 + 1)) (by omega)
              rw [show i - (m + 1 + 1) + 1 = i - (m + 1) from by omega] at p2
              omega
          have := asc (i - l - 1) (by omega)
          rw [show i - (i - l - 1 + 1) = l from by omega] at this
          omega
      · refine br_f (nI_ge (by omega) (by omega)) ?_
        simp (disch := omega) only [ze_ge0t, ze_gt0t, ze_gt0f, ze_le0t, ze_le0f, ze_lt0f, ze_eq0p, ze_eq0f, ze_ge1t, ze_ge1f, ze_gt1t, ze_gt1f, ze_le1t, ze_le1f, ze_lt1t, ze_lt1f, ze_eq1p, ze_eq1f, ze_ge2t, ze_ge2f, ze_gt2t, ze_gt2f, ze_le2t, ze_le2f, ze_lt2t, ze_lt2f, ze_eq2p, ze_eq2f, ze_ge3t, ze_ge3f, ze_gt3t, ze_gt3f, ze_le3t, ze_le3f, ze_lt3t, ze_lt3f, ze_eq3p, ze_eq3f, ze_ge4t, ze_ge4f, ze_gt4t, ze_gt4f, ze_le4t, ze_le4f, ze_lt4t, ze_lt4f, ze_eq4p, ze_eq4f, ze_ge5t, ze_ge5f, ze_gt5t, ze_gt5f, ze_le5t, ze_le5f, ze_lt5t, ze_lt5f, ze_eq5p, ze_eq5f, ze_ge6t, ze_ge6f, ze_gt6t, ze_gt6f, ze_le6t, ze_le6f, ze_lt6t, ze_lt6f, ze_eq6p, ze_eq6f, ze_ge7t, ze_ge7f, ze_gt7t, ze_gt7f, ze_le7t, ze_le7f, ze_lt7t, ze_lt7f, ze_eq7p, ze_eq7f, ze_ge9t, ze_ge9f, ze_gt9t, ze_gt9f, ze_le9t, ze_le9f, ze_lt9t, ze_lt9f, ze_eq9p, ze_eq9f, ze_ge10t, ze_ge10f, ze_gt10t, ze_gt10f, ze_le10t, ze_le10f, ze_lt10t, ze_lt10f, ze_eq10p, ze_eq10f, ze_ge12t, ze_ge12f, ze_gt12t, ze_gt12f, ze_le12t, ze_le12f, ze_lt12t, ze_lt12f, ze_eq12p, ze_eq12f, ze_ge15t, ze_ge15f, ze_gt15t, ze_gt15f, ze_le15t, ze_le15f, ze_lt15t, ze_lt15f, ze_eq15p, ze_eq15f, ze_ge16t, ze_ge16f, ze_gt16t, ze_gt16f, ze_le16t, ze_le16f, ze_lt16t, ze_lt16f, ze_eq16p, ze_eq16f, ze_ge30t, ze_ge30f, ze_gt30t, ze_gt30f, ze_le30t, ze_le30f, ze_lt30t, ze_lt30f, ze_eq30p, ze_eq30f, ze_ge32t, ze_ge32f, ze_gt32t, ze_gt32f, ze_le32t, ze_le32f, ze_lt32t, ze_lt32f, ze_eq32p, ze_eq32f, ze_ge47t, ze_ge47f, ze_gt47t, ze_gt47f, ze_le47t, ze_le47f, ze_lt47t, ze_lt47f, ze_eq47p, ze_eq47f, ze_ge120t, ze_ge120f, ze_gt120t, ze_gt120f, ze_le120t, ze_le120f, ze_lt120t, ze_lt120f, ze_eq120p, ze_eq120f, ze_ge1024t, ze_ge1024f, ze_gt1024t, ze_gt1024f, ze_le1024t, ze_le1024f, ze_lt1024t, ze_lt1024f, ze_eq1024p, ze_eq1024f, ze_let, ze_lef, ze_ltt, ze_ltf, ze_eqt, ze_eqf, ze_m1_lt0, ze_m1_n0le, ze_m1_le0, ze_m1_le, ze_m1_lt, ze_m1_nle, ze_m1_nlt, ze_m1_ne, ze_m1_en, ze_m1_ne4, ze_m1_ne0, ze_nz6, ze_nz10, ze_nz12, ze_nz16, ze_nz32, ze_nz192, ze_1ne0, ze_0ne1, ze_0ne4, ↓ze_rem6, ↓ze_rem10, ↓ze_rem16, ↓ze_rem32, ↓ze_rem12, ze_div6, ze_div10, ze_div12, ze_div16, ze_div32, ze_div192, ze_mul3, ze_mul4, ze_mul6, ze_mul10, ze_mul12, ze_mul16, ze_mul17, ze_mul32, ze_mul60, ze_mulr6, ze_nrem6, ze_mulr10, ze_nrem10, ze_mulr12, ze_nrem12, ze_mulr16, ze_nrem16, ze_mulr32, ze_nrem32, nI_add, ze_add1, ze_add6, ze_add7, ze_add8, ze_add12, ze_add16, ze_add0, ze_radd0, ze_radd8, ze_sub1, ze_m1, ze_0sub1, ze_m1add1, ze_1sub, ze_2sub, pk_sub, ze_and3, ze_and7, ze_and31, ze_and127, ↓ze_shr2, ↓ze_shr3, ↓ze_shr5, ↓ze_shl3, ze_i8, ze_nby, ze_i8m1, ze_i80, ze_nbm1, ze_i16, ze_nsh, ze_nb0, ze_nt0, ze_nt1, ze_cl0, ze_cl1, nI_clamp, vp_in_nI, forall_eq, true_implies, false_implies, not_true_eq_false, not_false_eq_true, and_true, true_and, implies_true, and_self, forall_const, Classical.not_not]
        refine ih i _ _ (by omega) (by omega) (gw_sh_s sA (by omega) a1.symm) (gw_sh_s sB (by omega) d2.symm) (fun l h1 h2 => ?_)
        rcases Nat.eq_or_lt_of_le h1 with q | q
        · subst q; omega
        · exact hup l q h2
theorem gx_f79 {post : Int32 → SX → Prop} {x y s c : Nat} (hs : s < 2) (hc : c < 12) (HW : gw_W a_defined lv up nf nm kd) (HX : gw_CX a_defined a_parent a_level a_fields a_fName a_fKind lv up nf nm kd) (hf : nf c ≤ 3) (hx : x < 10) (hy : y < 5) (hno : ∀ l, l < nf c → nm (4 * c + l) ≠ x)
    (K0 : (∃ n, n < 16 ∧ a_oClass (16 * s + n) = nI c) → post 0 (f_end, f_at, f_written, f_read, f_error, f_culprit, f_nextHandle, f_depth, f_nTodo, a_defined, a_parent, a_level, a_version, a_fields, a_fName, a_fKind, a_latest, a_oClass, a_pinned, a_slot, a_handle, a_arrived, a_handles, a_described, a_dLevels, a_dFields, a_plan, a_wide, a_wire, a_order, a_made, a_sObj, a_sLev, a_sPos, a_sCls, a_pairs, a_todo))
    (K : (∀ n, n < 16 → a_oClass (16 * s + n) ≠ nI c) → ∀ A' B' i, gw_ins c (nf c) i a_fName A' (nI x) → gw_ins c (nf c) i a_fKind B' (nI y) → i ≤ nf c → (∀ l, l < i → nm (4 * c + l) < x) → (∀ l, i ≤ l → l < nf c → x < nm (4 * c + l)) → post 1 (f_end, f_at, f_written, f_read, f_error, f_culprit, f_nextHandle, f_depth, f_nTodo, a_defined, a_parent, a_level, a_version, upd a_fields c (nI (nf c + 1)), A', B', a_latest, a_oClass, a_pinned, a_slot, a_handle, a_arrived, a_handles, gw_fl a_described 0 12 0, a_dLevels, a_dFields, a_plan, a_wide, a_wire, a_order, a_made, a_sObj, a_sLev, a_sPos, a_sCls, a_pairs, a_todo)) :
    ∀ n i, i ≤ 16 → 16 - i < n → (∀ p, p < i → a_oClass (16 * s + p) ≠ nI c) → wX_field_79 post (nI s) (nI x) (nI y) (nI c) f_end f_at f_written f_read f_error f_culprit f_nextHandle f_depth f_nTodo a_defined a_parent a_level a_version a_fields a_fName a_fKind a_latest a_oClass a_pinned a_slot a_handle a_arrived a_handles a_described a_dLevels a_dFields a_plan a_wide a_wire a_order a_made a_sObj a_sLev a_sPos a_sCls a_pairs a_todo n (nI (16 * s + i)) := by
  intro n
  induction n with
  | zero => intro i h1 h2; omega
  | succ n ih =>
    intro i hi hn hp
    rw [wX_field_79]
    dsimp only
    rcases Nat.eq_or_lt_of_le hi with z | z
    · subst z
      have eF := (HX c hc).1
      obtain ⟨w1, w2, w3, w4, w5, w6⟩ := HW c hc
      simp (disch := omega) only [ze_ge0t, ze_gt0t, ze_gt0f, ze_le0t, ze_le0f, ze_lt0f, ze_eq0p, ze_eq0f, ze_ge1t, ze_ge1f, ze_gt1t, ze_gt1f, ze_le1t, ze_le1f, ze_lt1t, ze_lt1f, ze_eq1p, ze_eq1f, ze_ge2t, ze_ge2f, ze_gt2t, ze_gt2f, ze_le2t, ze_le2f, ze_lt2t, ze_lt2f, ze_eq2p, ze_eq2f, ze_ge3t, ze_ge3f, ze_gt3t, ze_gt3f, ze_le3t, ze_le3f, ze_lt3t, ze_lt3f, ze_eq3p, ze_eq3f, ze_ge4t, ze_ge4f, ze_gt4t, ze_gt4f, ze_le4t, ze_le4f, ze_lt4t, ze_lt4f, ze_eq4p, ze_eq4f, ze_ge5t, ze_ge5f, ze_gt5t, ze_gt5f, ze_le5t, ze_le5f, ze_lt5t, ze_lt5f, ze_eq5p, ze_eq5f, ze_ge6t, ze_ge6f, ze_gt6t, ze_gt6f, ze_le6t, ze_le6f, ze_lt6t, ze_lt6f, ze_eq6p, ze_eq6f, ze_ge7t, ze_ge7f, ze_gt7t, ze_gt7f, ze_le7t, ze_le7f, ze_lt7t, ze_lt7f, ze_eq7p, ze_eq7f, ze_ge9t, ze_ge9f, ze_gt9t, ze_gt9f, ze_le9t, ze_le9f, ze_lt9t, ze_lt9f, ze_eq9p, ze_eq9f, ze_ge10t, ze_ge10f, ze_gt10t, ze_gt10f, ze_le10t, ze_le10f, ze_lt10t, ze_lt10f, ze_eq10p, ze_eq10f, ze_ge12t, ze_ge12f, ze_gt12t, ze_gt12f, ze_le12t, ze_le12f, ze_lt12t, ze_lt12f, ze_eq12p, ze_eq12f, ze_ge15t, ze_ge15f, ze_gt15t, ze_gt15f, ze_le15t, ze_le15f, ze_lt15t, ze_lt15f, ze_eq15p, ze_eq15f, ze_ge16t, ze_ge16f, ze_gt16t, ze_gt16f, ze_le16t, ze_le16f, ze_lt16t, ze_lt16f, ze_eq16p, ze_eq16f, ze_ge30t, ze_ge30f, ze_gt30t, ze_gt30f, ze_le30t, ze_le30f, ze_lt30t, ze_lt30f, ze_eq30p, ze_eq30f, ze_ge32t, ze_ge32f, ze_gt32t, ze_gt32f, ze_le32t, ze_le32f, ze_lt32t, ze_lt32f, ze_eq32p, ze_eq32f, ze_ge47t, ze_ge47f, ze_gt47t, ze_gt47f, ze_le47t, ze_le47f, ze_lt47t, ze_lt47f, ze_eq47p, ze_eq47f, ze_ge120t, ze_ge120f, ze_gt120t, ze_gt120f, ze_le120t, ze_le120f, ze_lt120t, ze_lt120f, ze_eq120p, ze_eq120f, ze_ge1024t, ze_ge1024f, ze_gt1024t, ze_gt1024f, ze_le1024t, ze_le1024f, ze_lt1024t, ze_lt1024f, ze_eq1024p, ze_eq1024f, ze_let, ze_lef, ze_ltt, ze_ltf, ze_eqt, ze_eqf, ze_m1_lt0, ze_m1_n0le, ze_m1_le0, ze_m1_le, ze_m1_lt, ze_m1_nle, ze_m1_nlt, ze_m1_ne, ze_m1_en, ze_m1_ne4, ze_m1_ne0, ze_nz6, ze_nz10, ze_nz12, ze_nz16, ze_nz32, ze_nz192, ze_1ne0, ze_0ne1, ze_0ne4, ↓ze_rem6, ↓ze_rem10, ↓ze_rem16, ↓ze_rem32, ↓ze_rem12, ze_div6, ze_div10, ze_div12, ze_div16, ze_div32, ze_div192, ze_mul3, ze_mul4, ze_mul6, ze_mul10, ze_mul12, ze_mul16, ze_mul17, ze_mul32, ze_mul60, ze_mulr6, ze_nrem6, ze_mulr10, ze_nrem10, ze_mulr12, ze_nrem12, ze_mulr16, ze_nrem16, ze_mulr32, ze_nrem32, nI_add, ze_add1, ze_add6, ze_add7, ze_add8, ze_add12, ze_add16, ze_add0, ze_radd0, ze_radd8, ze_sub1, ze_m1, ze_0sub1, ze_m1add1, ze_1sub, ze_2sub, pk_sub, ze_and3, ze_and7, ze_and31, ze_and127, ↓ze_shr2, ↓ze_shr3, ↓ze_shr5, ↓ze_shl3, ze_i8, ze_nby, ze_i8m1, ze_i80, ze_nbm1, ze_i16, ze_nsh, ze_nb0, ze_nt0, ze_nt1, ze_cl0, ze_cl1, nI_clamp, vp_in_nI, forall_eq, true_implies, false_implies, not_true_eq_false, not_false_eq_true, and_true, true_and, implies_true, and_self, forall_const, Classical.not_not, eF]
      exact ⟨nf c + 1, gx_f131 hc hf hx hy (fun l hl => ⟨((HX c hc).2.1 l hl).1, (w3 l hl).1, hno l hl⟩) (fun l hl => ⟨_, (w3 l hl).2, ((HX c hc).2.1 l hl).2⟩) w4 (K hp) _ (nf c) _ _ (by omega) (by omega) (gw_sh_0 _ _ _) (gw_sh_0 _ _ _) (fun l h1 h2 => by omega)⟩
    · simp (disch := omega) only [ze_ge0t, ze_gt0t, ze_gt0f, ze_le0t, ze_le0f, ze_lt0f, ze_eq0p, ze_eq0f, ze_ge1t, ze_ge1f, ze_gt1t, ze_gt1f, ze_le1t, ze_le1f, ze_lt1t, ze_lt1f, ze_eq1p, ze_eq1f, ze_ge2t, ze_ge2f, ze_gt2t, ze_gt2f, ze_le2t, ze_le2f, ze_lt2t, ze_lt2f, ze_eq2p, ze_eq2f, ze_ge3t, ze_ge3f, ze_gt3t, ze_gt3f, ze_le3t, ze_le3f, ze_lt3t, ze_lt3f, ze_eq3p, ze_eq3f, ze_ge4t, ze_ge4f, ze_gt4t, ze_gt4f, ze_le4t, ze_le4f, ze_lt4t, ze_lt4f, ze_eq4p, ze_eq4f, ze_ge5t, ze_ge5f, ze_gt5t, ze_gt5f, ze_le5t, ze_le5f, ze_lt5t, ze_lt5f, ze_eq5p, ze_eq5f, ze_ge6t, ze_ge6f, ze_gt6t, ze_gt6f, ze_le6t, ze_le6f, ze_lt6t, ze_lt6f, ze_eq6p, ze_eq6f, ze_ge7t, ze_ge7f, ze_gt7t, ze_gt7f, ze_le7t, ze_le7f, ze_lt7t, ze_lt7f, ze_eq7p, ze_eq7f, ze_ge9t, ze_ge9f, ze_gt9t, ze_gt9f, ze_le9t, ze_le9f, ze_lt9t, ze_lt9f, ze_eq9p, ze_eq9f, ze_ge10t, ze_ge10f, ze_gt10t, ze_gt10f, ze_le10t, ze_le10f, ze_lt10t, ze_lt10f, ze_eq10p, ze_eq10f, ze_ge12t, ze_ge12f, ze_gt12t, ze_gt12f, ze_le12t, ze_le12f, ze_lt12t, ze_lt12f, ze_eq12p, ze_eq12f, ze_ge15t, ze_ge15f, ze_gt15t, ze_gt15f, ze_le15t, ze_le15f, ze_lt15t, ze_lt15f, ze_eq15p, ze_eq15f, ze_ge16t, ze_ge16f, ze_gt16t, ze_gt16f, ze_le16t, ze_le16f, ze_lt16t, ze_lt16f, ze_eq16p, ze_eq16f, ze_ge30t, ze_ge30f, ze_gt30t, ze_gt30f, ze_le30t, ze_le30f, ze_lt30t, ze_lt30f, ze_eq30p, ze_eq30f, ze_ge32t, ze_ge32f, ze_gt32t, ze_gt32f, ze_le32t, ze_le32f, ze_lt32t, ze_lt32f, ze_eq32p, ze_eq32f, ze_ge47t, ze_ge47f, ze_gt47t, ze_gt47f, ze_le47t, ze_le47f, ze_lt47t, ze_lt47f, ze_eq47p, ze_eq47f, ze_ge120t, ze_ge120f, ze_gt120t, ze_gt120f, ze_le120t, ze_le120f, ze_lt120t, ze_lt120f, ze_eq120p, ze_eq120f, ze_ge1024t, ze_ge1024f, ze_gt1024t, ze_gt1024f, ze_le1024t, ze_le1024f, ze_lt1024t, ze_lt1024f, ze_eq1024p, ze_eq1024f, ze_let, ze_lef, ze_ltt, ze_ltf, ze_eqt, ze_eqf, ze_m1_lt0, ze_m1_n0le, ze_m1_le0, ze_m1_le, ze_m1_lt, ze_m1_nle, ze_m1_nlt, ze_m1_ne, ze_m1_en, ze_m1_ne4, ze_m1_ne0, ze_nz6, ze_nz10, ze_nz12, ze_nz16, ze_nz32, ze_nz192, ze_1ne0, ze_0ne1, ze_0ne4, ↓ze_rem6, ↓ze_rem10, ↓ze_rem16, ↓ze_rem32, ↓ze_rem12, ze_div6, ze_div10, ze_div12, ze_div16, ze_div32, ze_div192, ze_mul3, ze_mul4, ze_mul6, ze_mul10, ze_mul12, ze_mul16, ze_mul17, ze_mul32, ze_mul60, ze_mulr6, ze_nrem6, ze_mulr10, ze_nrem10, ze_mulr12, ze_nrem12, ze_mulr16, ze_nrem16, ze_mulr32, ze_nrem32, nI_add, ze_add1, ze_add6, ze_add7, ze_add8, ze_add12, ze_add16, ze_add0, ze_radd0, ze_radd8, ze_sub1, ze_m1, ze_0sub1, ze_m1add1, ze_1sub, ze_2sub, pk_sub, ze_and3, ze_and7, ze_and31, ze_and127, ↓ze_shr2, ↓ze_shr3, ↓ze_shr5, ↓ze_shl3, ze_i8, ze_nby, ze_i8m1, ze_i80, ze_nbm1, ze_i16, ze_nsh, ze_nb0, ze_nt0, ze_nt1, ze_cl0, ze_cl1, nI_clamp, vp_in_nI, forall_eq, true_implies, false_implies, not_true_eq_false, not_false_eq_true, and_true, true_and, implies_true, and_self, forall_const, Classical.not_not]
      refine br_c (fun e => K0 ⟨i, z, e⟩) (fun e => ?_)
      refine ih (i + 1) z (by omega) (fun p h => ?_)
      rcases Nat.eq_or_lt_of_le (Nat.le_of_lt_succ h) with q | q
      · subst q; exact e
      · exact hp p q
theorem gx_field {post : Int32 → SX → Prop} (HW : gw_W a_defined lv up nf nm kd) (HX : gw_CX a_defined a_parent a_level a_fields a_fName a_fKind lv up nf nm kd) (v1 v2 v3 v4 : Int32) (K0 : (¬ ∃ s c x y, gw_gf a_defined a_latest a_oClass lv up nf nm v1 v2 v3 v4 s c x y) → post 0 (f_end, f_at, f_written, f_read, f_error, f_culprit, f_nextHandle, f_depth, f_nTodo, a_defined, a_parent, a_level, a_version, a_fields, a_fName, a_fKind, a_latest, a_oClass, a_pinned, a_slot, a_handle, a_arrived, a_handles, a_described, a_dLevels, a_dFields, a_plan, a_wide, a_wire, a_order, a_made, a_sObj, a_sLev, a_sPos, a_sCls, a_pairs, a_todo))
    (K : ∀ s c x y, gw_gf a_defined a_latest a_oClass lv up nf nm v1 v2 v3 v4 s c x y → ∀ A' B' i, gw_ins (6 * s + c) (nf (6 * s + c)) i a_fName A' (nI x) → gw_ins (6 * s + c) (nf (6 * s + c)) i a_fKind B' (nI y) → i ≤ nf (6 * s + c) → (∀ l, l < i → nm (4 * (6 * s + c) + l) < x) → (∀ l, i ≤ l → l < nf (6 * s + c) → x < nm (4 * (6 * s + c) + l)) → post 1 (f_end, f_at, f_written, f_read, f_error, f_culprit, f_nextHandle, f_depth, f_nTodo, a_defined, a_parent, a_level, a_version, upd a_fields (6 * s + c) (nI (nf (6 * s + c) + 1)), A', B', a_latest, a_oClass, a_pinned, a_slot, a_handle, a_arrived, a_handles, gw_fl a_described 0 12 0, a_dLevels, a_dFields, a_plan, a_wide, a_wire, a_order, a_made, a_sObj, a_sLev, a_sPos, a_sCls, a_pairs, a_todo)) :
    wpX_field post (f_end, f_at, f_written, f_read, f_error, f_culprit, f_nextHandle, f_depth, f_nTodo, a_defined, a_parent, a_level, a_version, a_fields, a_fName, a_fKind, a_latest, a_oClass, a_pinned, a_slot, a_handle, a_arrived, a_handles, a_described, a_dLevels, a_dFields, a_plan, a_wide, a_wire, a_order, a_made, a_sObj, a_sLev, a_sPos, a_sCls, a_pairs, a_todo) v1 v2 v3 v4 := by
  unfold wpX_field; dsimp only
  refine gx_class v1 v2 (fun no => br_t rfl (K0 fun ⟨s, c, x, y, h1, h2, h3, h4, h5, h6, h7, h8, h9, _⟩ => h9 (no s c h1 h2 h5 h6))) (fun s c hs hc e1 e2 hd => br_f (by decide) ?_)
  subst e1 e2
  have inj : ∀ s' c', s' < 2 → c' < 6 → nI s = nI s' → nI c = nI c' → s' = s ∧ c' = c := fun s' c' h1 h2 h3 h4 => ⟨((nI_eq (by omega) (by omega)).mp h3).symm, ((nI_eq (by omega) (by omega)).mp h4).symm⟩
  rw [nI_clamp (by omega)]
  refine ⟨vp_in_nI hs (by decide), br_c (fun eL => ?_) (fun eL => K0 fun ⟨s', c', x, y, h1, h2, h3, h4, h5, h6, h7, h8, h9, h10, _⟩ => ?_)⟩
  · rcases pk_ix v3 (n := 10) (by decide) with z | z | ⟨x, hx, ex⟩
    · exact br_t z (K0 fun ⟨s', c', x, y, h1, h2, h3, h4, h5, h6, h7, _⟩ => by subst h7; exact absurd z (nI_pos (by omega)))
    · have z0 : ¬ v3 < 0 := fun h => absurd (Int32.lt_of_le_of_lt z h) (by decide)
      have z1 : 9 < v3 := Int32.lt_of_lt_of_le (by decide) z
      exact br_f z0 (br_t z1 (K0 fun ⟨s', c', x, y, h1, h2, h3, h4, h5, h6, h7, _⟩ => by subst h7; exact absurd z (nI_ge (by omega) (by decide))))
    · subst ex
      refine br_f (nI_pos (by omega)) (br_f (ze_gt9f (by omega)) ?_)
      rcases pk_ix v4 (n := 5) (by decide) with z | z | ⟨y, hy, ey⟩
      · exact br_t z (K0 fun ⟨s', c', x, y, h1, h2, h3, h4, h5, h6, h7, h8, _⟩ => by subst h8; exact absurd z (nI_pos (by omega)))
      · have z0 : ¬ v4 < 0 := fun h => absurd (Int32.lt_of_le_of_lt z h) (by decide)
        have z1 : ¬ v4 ≤ 4 := fun h => absurd (Int32.le_trans z h) (by decide)
        exact br_f z0 (br_f z1 (K0 fun ⟨s', c', x, y, h1, h2, h3, h4, h5, h6, h7, h8, _⟩ => by subst h8; exact absurd z (nI_ge (by omega) (by decide))))
      · subst ey
        refine br_f (nI_pos (by omega)) (br_t (ze_le4t (by omega)) ?_)
        rw [ze_mul6, nI_add]
        refine nm_e ?_
        refine gx_place HW HX (by omega) hd (fun r hr => ?_)
        rcases hr with ⟨j, k, hj, hk, e3, er⟩ | ⟨er, hr⟩
        · have l2 := (HW (6 * s + c) (by omega)).2.2.2.2.1
          have f2 := (HW _ (gw_al_ok HW (by omega) hd hj).1).1
          have g2 := ((HW _ (gw_al_ok HW (by omega) hd hj).1).2.2.1 k hk).1
          subst er
          refine br_t (nI_pos' (by omega)) (K0 fun ⟨s', c', x', y', h1, h2, h3, h4, h5, h6, h7, h8, h9, h10, h11, _⟩ => ?_)
          obtain ⟨rfl, rfl⟩ := inj s' c' h1 h2 h5 h6
          have e4 := (nI_eq (by omega) (by omega)).mp e3
          have e5 := (nI_eq (by omega) (by omega)).mp h7
          exact h11 j k hj hk (by omega)
        · subst er
          have hno : ∀ j k, j ≤ lv (6 * s + c) → k < nf (gw_al lv up (6 * s + c) j) → nm (4 * gw_al lv up (6 * s + c) j + k) ≠ x := fun j k hj hk e => hr j k hj hk (by rw [e])
          have hno2 : ∀ l, l < nf (6 * s + c) → nm (4 * (6 * s + c) + l) ≠ x := by
            intro l hl
            have := hno (lv (6 * s + c)) l (by omega)
            rw [gw_al_top] at this
            exact this hl
          have f4 := (HW (6 * s + c) (by omega)).1
          refine br_f (by decide) ?_
          rw [nI_clamp (by omega), (HX (6 * s + c) (by omega)).1]
          refine ⟨vp_in_nI (by omega) (by decide), ?_⟩
          by_cases q : nf (6 * s + c) = 4
          · refine br_t (ze_eq4t q) (K0 fun ⟨s', c', x', y', h1, h2, h3, h4, h5, h6, h7, h8, h9, h10, h11, h12, _⟩ => ?_)
            obtain ⟨rfl, rfl⟩ := inj s' c' h1 h2 h5 h6
            exact h12 q
          · refine br_f (ze_eq4f q (by omega)) ?_
            rw [ze_mul16]
            refine nm_e ⟨17, ?_⟩
            refine gx_f79 hs (by omega) HW HX (by omega) hx hy hno2 (fun ⟨n, hn, e⟩ => K0 fun ⟨s', c', x', y', h1, h2, h3, h4, h5, h6, h7, h8, h9, h10, h11, h12, h13⟩ => ?_) (fun hob => K s c x y ⟨hs, hc, hx, hy, rfl, rfl, rfl, rfl, hd, eL, hno, q, hob⟩) 17 0 (by omega) (by omega) (fun p hp => by omega)
            obtain ⟨rfl, rfl⟩ := inj s' c' h1 h2 h5 h6
            exact h13 n hn e
  · obtain ⟨rfl, rfl⟩ := inj s' c' h1 h2 h5 h6
    exact eL h10
theorem gy_f81 {post : Int32 → SY → Prop} {s c x y m : Nat} (HW : gw_W b_defined lv up nf nm kd) (HY : gw_CY b_defined b_parent b_own lv up nf nm kd) (HO : gw_O b_defined a_oClass b_cls) (hs : s < 2) (hc : c < 6) (hx : x < 10) (hy : y < 5) (hd : b_defined (6 * s + c) ≠ 0) (hm : m ≤ 4)
    (K0 : ((∃ n, n < 16 ∧ a_oClass (16 * s + n) = nI (6 * s + c)) ∨ m = 4 ∨ ∃ j k, j ≤ lv (6 * s + c) ∧ k < nf (gw_al lv up (6 * s + c) j) ∧ nm (4 * gw_al lv up (6 * s + c) j + k) = x) → post 0 (g_culprit, g_depth, g_lastMade, b_defined, b_version, b_parent, b_own, b_latest, b_cls, b_partner, b_pinned, b_arrived, b_val, b_from, b_made, b_done, b_rows))
    (K : (∀ n, n < 16 → a_oClass (16 * s + n) ≠ nI (6 * s + c)) → m ≠ 4 → (∀ j k, j ≤ lv (6 * s + c) → k < nf (gw_al lv up (6 * s + c) j) → nm (4 * gw_al lv up (6 * s + c) j + k) ≠ x) → post 1 (g_culprit, g_depth, g_lastMade, b_defined, b_version, b_parent, upd b_own (10 * (6 * s + c) + x) (nI y), b_latest, b_cls, b_partner, b_pinned, b_arrived, b_val, b_from, b_made, b_done, b_rows)) :
    ∀ n i, i ≤ 16 → 16 - i < n → (∀ p, p < i → a_oClass (16 * s + p) ≠ nI (6 * s + c)) → wY_field_81 post (nI s) (nI c) (nI x) (nI y) (nI m) g_culprit g_depth g_lastMade b_defined b_version b_parent b_own b_latest b_cls b_partner b_pinned b_arrived b_val b_from b_made b_done b_rows n (nI i) := by
  intro n
  induction n with
  | zero => intro i h1 h2; omega
  | succ n ih =>
    intro i hi hn hp
    rw [wY_field_81]
    dsimp only
    rcases Nat.eq_or_lt_of_le hi with z | z
    · subst z
      refine br_t (by decide) ?_
      by_cases q : m = 4
      · exact br_t (ze_eq4t q) (K0 (Or.inr (Or.inl q)))
      · refine br_f (ze_eq4f q (by omega)) ?_
        refine gy_kind HW HY hs hc hd (fun r hr => ?_)
        rcases hr with ⟨j, k, hj, hk, e3, er⟩ | ⟨er, hr⟩
        · have g2 := ((HW _ (gw_al_ok HW (by omega) hd hj).1).2.2.1 k hk)
          subst er
          exact br_f (nI_pos (by omega)) (K0 (Or.inr (Or.inr ⟨j, k, hj, hk, ((nI_eq (by omega) (by omega)).mp e3).symm⟩)))
        · subst er
          refine br_t (by decide) ?_
          have e : 60 * s + 10 * c + x = 10 * (6 * s + c) + x := by omega
          simp (disch := omega) only [ze_ge0t, ze_gt0t, ze_gt0f, ze_le0t, ze_le0f, ze_lt0f, ze_eq0p, ze_eq0f, ze_ge1t, ze_ge1f, ze_gt1t, ze_gt1f, ze_le1t, ze_le1f, ze_lt1t, ze_lt1f, ze_eq1p, ze_eq1f, ze_ge2t, ze_ge2f, ze_gt2t, ze_gt2f, ze_le2t, ze_le2f, ze_lt2t, ze_lt2f, ze_eq2p, ze_eq2f, ze_ge3t, ze_ge3f, ze_gt3t, ze_gt3f, ze_le3t, ze_le3f, ze_lt3t, ze_lt3f, ze_eq3p, ze_eq3f, ze_ge4t, ze_ge4f, ze_gt4t, ze_gt4f, ze_le4t, ze_le4f, ze_lt4t, ze_lt4f, ze_eq4p, ze_eq4f, ze_ge5t, ze_ge5f, ze_gt5t, ze_gt5f, ze_le5t, ze_le5f, ze_lt5t, ze_lt5f, ze_eq5p, ze_eq5f, ze_ge6t, ze_ge6f, ze_gt6t, ze_gt6f, ze_le6t, ze_le6f, ze_lt6t, ze_lt6f, ze_eq6p, ze_eq6f, ze_ge7t, ze_ge7f, ze_gt7t, ze_gt7f, ze_le7t, ze_le7f, ze_lt7t, ze_lt7f, ze_eq7p, ze_eq7f, ze_ge9t, ze_ge9f, ze_gt9t, ze_gt9f, ze_le9t, ze_le9f, ze_lt9t, ze_lt9f, ze_eq9p, ze_eq9f, ze_ge10t, ze_ge10f, ze_gt10t, ze_gt10f, ze_le10t, ze_le10f, ze_lt10t, ze_lt10f, ze_eq10p, ze_eq10f, ze_ge12t, ze_ge12f, ze_gt12t, ze_gt12f, ze_le12t, ze_le12f, ze_lt12t, ze_lt12f, ze_eq12p, ze_eq12f, ze_ge15t, ze_ge15f, ze_gt15t, ze_gt15f, ze_le15t, ze_le15f, ze_lt15t, ze_lt15f, ze_eq15p, ze_eq15f, ze_ge16t, ze_ge16f, ze_gt16t, ze_gt16f, ze_le16t, ze_le16f, ze_lt16t, ze_lt16f, ze_eq16p, ze_eq16f, ze_ge30t, ze_ge30f, ze_gt30t, ze_gt30f, ze_le30t, ze_le30f, ze_lt30t, ze_lt30f, ze_eq30p, ze_eq30f, ze_ge32t, ze_ge32f, ze_gt32t, ze_gt32f, ze_le32t, ze_le32f, ze_lt32t, ze_lt32f, ze_eq32p, ze_eq32f, ze_ge47t, ze_ge47f, ze_gt47t, ze_gt47f, ze_le47t, ze_le47f, ze_lt47t, ze_lt47f, ze_eq47p, ze_eq47f, ze_ge120t, ze_ge120f, ze_gt120t, ze_gt120f, ze_le120t, ze_le120f, ze_lt120t, ze_lt120f, ze_eq120p, ze_eq120f, ze_ge1024t, ze_ge1024f, ze_gt1024t, ze_gt1024f, ze_le1024t, ze_le1024f, ze_lt1024t, ze_lt1024f, ze_eq1024p, ze_eq1024f, ze_let, ze_lef, ze_ltt, ze_ltf, ze_eqt, ze_eqf, ze_m1_lt0, ze_m1_n0le, ze_m1_le0, ze_m1_le, ze_m1_lt, ze_m1_nle, ze_m1_nlt, ze_m1_ne, ze_m1_en, ze_m1_ne4, ze_m1_ne0, ze_nz6, ze_nz10, ze_nz12, ze_nz16, ze_nz32, ze_nz192, ze_1ne0, ze_0ne1, ze_0ne4, ↓ze_rem6, ↓ze_rem10, ↓ze_rem16, ↓ze_rem32, ↓ze_rem12, ze_div6, ze_div10, ze_div12, ze_div16, ze_div32, ze_div192, ze_mul3, ze_mul4, ze_mul6, ze_mul10, ze_mul12, ze_mul16, ze_mul17, ze_mul32, ze_mul60, ze_mulr6, ze_nrem6, ze_mulr10, ze_nrem10, ze_mulr12, ze_nrem12, ze_mulr16, ze_nrem16, ze_mulr32, ze_nrem32, nI_add, ze_add1, ze_add6, ze_add7, ze_add8, ze_add12, ze_add16, ze_add0, ze_radd0, ze_radd8, ze_sub1, ze_m1, ze_0sub1, ze_m1add1, ze_1sub, ze_2sub, pk_sub, ze_and3, ze_and7, ze_and31, ze_and127, ↓ze_shr2, ↓ze_shr3, ↓ze_shr5, ↓ze_shl3, ze_i8, ze_nby, ze_i8m1, ze_i80, ze_nbm1, ze_i16, ze_nsh, ze_nb0, ze_nt0, ze_nt1, ze_cl0, ze_cl1, nI_clamp, vp_in_nI, forall_eq, true_implies, false_implies, not_true_eq_false, not_false_eq_true, and_true, true_and, implies_true, and_self, forall_const, Classical.not_not, e]
          exact K hp q (fun j k hj hk e => hr j k hj hk (by rw [e]))
    · refine br_f (ze_ge16f z) ?_
      rw [ze_mul16, nI_add, nI_clamp (by omega)]
      refine ⟨vp_in_nI (by omega) (by decide), ?_⟩
      have step : a_oClass (16 * s + i) ≠ nI (6 * s + c) → wY_field_81 post (nI s) (nI c) (nI x) (nI y) (nI m) g_culprit g_depth g_lastMade b_defined b_version b_parent b_own b_latest b_cls b_partner b_pinned b_arrived b_val b_from b_made b_done b_rows n (nI (i + 1)) := by
        intro e
        refine ih (i + 1) z (by omega) (fun p h => ?_)
        rcases Nat.eq_or_lt_of_le (Nat.le_of_lt_succ h) with q | q
        · subst q; exact e
        · exact hp p q
      rcases HO (16 * s + i) (by omega) with ⟨h1, h2⟩ | ⟨h1, h2, h3, h4, h5⟩
      · rw [h2]
        exact br_f (ze_m1_en (by omega)) (nm_r (nI_1 i) (step (by rw [h1]; exact ze_m1_en (by omega))))
      · rw [h3]
        by_cases q : gw_kl a_oClass (16 * s + i) % 6 = c
        · refine br_t (congrArg nI q) (K0 (Or.inl ⟨i, z, ?_⟩))
          rw [h2]; exact congrArg nI (by omega)
        · refine br_f (ze_eqf q (by omega) (by omega)) (nm_r (nI_1 i) (step ?_))
          rw [h2]; exact ze_eqf (by omega) (by omega) (by omega)
theorem gy_f51 {post : Int32 → SY → Prop} {s c x y : Nat} (HW : gw_W b_defined lv up nf nm kd) (HY : gw_CY b_defined b_parent b_own lv up nf nm kd) (hs : s < 2) (hc : c < 6)
    (K : ∃ n81, wY_field_81 post (nI s) (nI c) (nI x) (nI y) (nI (nf (6 * s + c))) g_culprit g_depth g_lastMade b_defined b_version b_parent b_own b_latest b_cls b_partner b_pinned b_arrived b_val b_from b_made b_done b_rows n81 0) :
    ∀ n i m, i ≤ 10 → 10 - i < n → m ≤ nf (6 * s + c) → (∀ k, k < m → nm (4 * (6 * s + c) + k) < i) → (∀ k, m ≤ k → k < nf (6 * s + c) → i ≤ nm (4 * (6 * s + c) + k)) → wY_field_51 post (nI s) (nI c) (nI x) (nI y) g_culprit g_depth g_lastMade b_defined b_version b_parent b_own b_latest b_cls b_partner b_pinned b_arrived b_val b_from b_made b_done b_rows n (nI m) (nI i) := by
  obtain ⟨w1, w2, w3, w4, w5, w6⟩ := HW (6 * s + c) (by omega)
  intro n
  induction n with
  | zero => intro i m h1 h2; omega
  | succ n ih =>
    intro i m hi hn hm hlo hhi
    rw [wY_field_51]
    dsimp only
    rcases Nat.eq_or_lt_of_le hi with z | z
    · subst z
      have e : m = nf (6 * s + c) := by
        rcases Nat.eq_or_lt_of_le hm with q | q
        · exact q
        · have := hhi m (Nat.le_refl _) q
          have := (w3 m q).1
          omega
      subst e
      exact br_t (by decide) K
    · refine br_f (ze_ge10f z) ?_
      refine gy_own hs hc z ?_
      rcases gw_ownC HY (c := 6 * s + c) (by omega) z with ⟨k, hk, e1, e2⟩ | ⟨h1, e2⟩
      · have g := (w3 k hk).2
        rw [e2]
        refine br_f (nI_pos (by omega)) (nm_r (nI_1 m) (nm_r (nI_1 i) ?_))
        have ek : k = m := by
          rcases Nat.lt_trichotomy k m with q | q | q
          · have := hlo k q; omega
          · exact q
          · have a := hhi m (Nat.le_refl _) (by omega)
            have b := gw_nm_lt HW (by omega) k q hk
            omega
        subst ek
        refine ih (i + 1) (k + 1) z (by omega) (by omega) (fun l hl => ?_) (fun l hl hl2 => ?_)
        · rcases Nat.eq_or_lt_of_le (Nat.le_of_lt_succ hl) with q | q
          · subst q; omega
          · have := hlo l q; omega
        · have := gw_nm_lt HW (by omega) l (by omega : k < l) hl2
          omega
      · rw [e2]
        refine br_t (by decide) (nm_r (nI_1 i) ?_)
        refine ih (i + 1) m z (by omega) hm (fun l hl => by have := hlo l hl; omega) (fun l hl hl2 => ?_)
        have a := hhi l hl hl2
        have b := h1 l hl2
        omega
theorem gy_field {post : Int32 → SY → Prop} (HW : gw_W b_defined lv up nf nm kd) (HY : gw_CY b_defined b_parent b_own lv up nf nm kd) (HO : gw_O b_defined a_oClass b_cls) (HL : gw_LT b_defined b_latest lv up) (v1 v2 v3 v4 : Int32)
    (K0 : (¬ ∃ s c x y, gw_gf b_defined b_latest a_oClass lv up nf nm v1 v2 v3 v4 s c x y) → post 0 (g_culprit, g_depth, g_lastMade, b_defined, b_version, b_parent, b_own, b_latest, b_cls, b_partner, b_pinned, b_arrived, b_val, b_from, b_made, b_done, b_rows))
    (K : ∀ s c x y, gw_gf b_defined b_latest a_oClass lv up nf nm v1 v2 v3 v4 s c x y → post 1 (g_culprit, g_depth, g_lastMade, b_defined, b_version, b_parent, upd b_own (10 * (6 * s + c) + x) (nI y), b_latest, b_cls, b_partner, b_pinned, b_arrived, b_val, b_from, b_made, b_done, b_rows)) :
    wpY_field post (g_culprit, g_depth, g_lastMade, b_defined, b_version, b_parent, b_own, b_latest, b_cls, b_partner, b_pinned, b_arrived, b_val, b_from, b_made, b_done, b_rows) v1 v2 v3 v4 := by
  unfold wpY_field; dsimp only
  refine gy_side v1 (fun e0 e1 => br_t rfl (K0 fun ⟨s, c, x, y, hs, _, _, _, e, _⟩ => gw_no01 e0 e1 hs e)) (fun s hs e => br_f (by decide) ?_)
  subst e
  by_cases z : v2 < 0
  · exact br_t z (K0 fun ⟨s, c, x, y, h1, h2, h3, h4, h5, h6, _⟩ => by subst h6; exact absurd z (nI_pos (by omega)))
  · rw [nI_clamp (by omega)]
    refine br_f z ⟨vp_in_nI hs (by decide), br_c (fun eL => ?_) (fun eL => K0 fun ⟨s', c', x, y, h1, h2, h3, h4, h5, h6, h7, h8, h9, h10, _⟩ => ?_)⟩
    · obtain ⟨c, hc, ec, hd, -⟩ : ∃ x, x < 6 ∧ b_latest s = nI x ∧ b_defined (6 * s + x) ≠ 0 ∧ ∀ c, c < 12 → b_defined c ≠ 0 → lv c ≠ 0 → up c ≠ 6 * s + x := by
        rcases HL s hs with h | h
        · rw [h] at eL; subst eL; exact absurd (by decide) z
        · exact h
      rw [ec] at eL
      subst eL
      have inj : ∀ s' c', s' < 2 → c' < 6 → nI s = nI s' → nI c = nI c' → s' = s ∧ c' = c := fun s' c' h1 h2 h3 h4 => ⟨((nI_eq (by omega) (by omega)).mp h3).symm, ((nI_eq (by omega) (by omega)).mp h4).symm⟩
      rcases pk_ix v3 (n := 10) (by decide) with z | z | ⟨x, hx, ex⟩
      · exact br_t z (K0 fun ⟨s', c', x, y, h1, h2, h3, h4, h5, h6, h7, _⟩ => by subst h7; exact absurd z (nI_pos (by omega)))
      · have z0 : ¬ v3 < 0 := fun h => absurd (Int32.lt_of_le_of_lt z h) (by decide)
        have z1 : 9 < v3 := Int32.lt_of_lt_of_le (by decide) z
        exact br_f z0 (br_t z1 (K0 fun ⟨s', c', x, y, h1, h2, h3, h4, h5, h6, h7, _⟩ => by subst h7; exact absurd z (nI_ge (by omega) (by decide))))
      · subst ex
        refine br_f (nI_pos (by omega)) (br_f (ze_gt9f (by omega)) ?_)
        rcases pk_ix v4 (n := 5) (by decide) with z | z | ⟨y, hy, ey⟩
        · exact br_t z (K0 fun ⟨s', c', x, y, h1, h2, h3, h4, h5, h6, h7, h8, _⟩ => by subst h8; exact absurd z (nI_pos (by omega)))
        · have z0 : ¬ v4 < 0 := fun h => absurd (Int32.lt_of_le_of_lt z h) (by decide)
          have z1 : ¬ v4 ≤ 4 := fun h => absurd (Int32.le_trans z h) (by decide)
          exact br_f z0 (br_f z1 (K0 fun ⟨s', c', x, y, h1, h2, h3, h4, h5, h6, h7, h8, _⟩ => by subst h8; exact absurd z (nI_ge (by omega) (by decide))))
        · subst ey
          refine br_f (nI_pos (by omega)) (br_t (ze_le4t (by omega)) ⟨11, ?_⟩)
          refine gy_f51 HW HY hs hc ⟨17, ?_⟩ 11 0 0 (by omega) (by omega) (by omega) (fun k hk => by omega) (fun k _ _ => by omega)
          refine gy_f81 HW HY HO hs hc hx hy hd (HW (6 * s + c) (by omega)).1 (fun h => K0 fun ⟨s', c', x', y', h1, h2, h3, h4, h5, h6, h7, h8, h9, h10, h11, h12, h13⟩ => ?_) (fun hob hm hno => K s c x y ⟨hs, hc, hx, hy, rfl, rfl, rfl, rfl, hd, ec, hno, hm, hob⟩) 17 0 (by omega) (by omega) (fun p hp => by omega)
          obtain ⟨rfl, rfl⟩ := inj s' c' h1 h2 h5 h6
          have e5 := (nI_eq (by omega) (by omega)).mp h7
          subst e5
          rcases h with ⟨n, hn, e⟩ | h | ⟨j, k, hj, hk, e⟩
          · exact h13 n hn e
          · exact h12 h
          · exact h11 j k hj hk e
    · have e5 := (nI_eq (by omega) (by omega)).mp h5
      subst e5
      exact eL (by rw [h10]; exact h6)
end
end
section
def gw_in1 (c i v : Nat) (g : Nat → Nat) : Nat → Nat := fun j => if j < 4 * c + i ∨ 4 * c + 4 ≤ j then g j else if j = 4 * c + i then v else g (j - 1)
theorem gw_in1_o {c i v j : Nat} {g : Nat → Nat} (h : j < 4 * c + i ∨ 4 * c + 4 ≤ j) : gw_in1 c i v g j = g j := if_pos h
theorem gw_in1_i {c i v : Nat} {g : Nat → Nat} (h : i ≤ 3) : gw_in1 c i v g (4 * c + i) = v := by unfold gw_in1; rw [if_neg (by omega), if_pos rfl]
theorem gw_in1_h {c i v l : Nat} {g : Nat → Nat} (h : i ≤ l) (h2 : l < 3) : gw_in1 c i v g (4 * c + (l + 1)) = g (4 * c + l) := by unfold gw_in1; rw [if_neg (by omega), if_neg (by omega)]; exact congrArg g (by omega)
section
variable {f_end f_at f_written f_read f_error f_culprit f_nextHandle f_depth f_nTodo : Int32} {a_defined a_parent a_level a_version a_fields a_fName a_fKind a_latest a_oClass a_pinned a_handle a_arrived a_handles a_described a_dLevels a_dFields a_plan a_wide a_wire a_order a_made a_sObj a_sLev a_sPos a_sCls a_todo : Nat → Int32} {a_slot a_pairs : Nat → Int64} {g_culprit g_depth g_lastMade : Int32} {b_defined b_version b_parent b_own b_latest b_cls b_partner b_pinned b_arrived b_from b_made b_done b_rows : Nat → Int32} {b_val : Nat → Int64}
theorem gw_R_field {lv up nf nm kd hh hs' pq : Nat → Nat} (HW : gw_W a_defined lv up nf nm kd) (HU : gw_U a_defined lv up nf nm) (HX : gw_CX a_defined a_parent a_level a_fields a_fName a_fKind lv up nf nm kd) (HY : gw_CY a_defined b_parent b_own lv up nf nm kd) (HO : gw_O a_defined a_oClass b_cls) (HV : gw_V lv up nf nm kd a_oClass a_slot b_val) (HS : gw_S a_oClass a_handle a_arrived a_handles b_partner hh hs' pq) (HL : gw_LT a_defined a_latest lv up)
    {v1 v2 v3 v4 : Int32} {s c x y i : Nat} {A B : Nat → Int32} (G : gw_gf a_defined a_latest a_oClass lv up nf nm v1 v2 v3 v4 s c x y) (hA : gw_ins (6 * s + c) (nf (6 * s + c)) i a_fName A (nI x)) (hB : gw_ins (6 * s + c) (nf (6 * s + c)) i a_fKind B (nI y)) (hi : i ≤ nf (6 * s + c)) (hlo : ∀ l, l < i → nm (4 * (6 * s + c) + l) < x) (hhi : ∀ l, i ≤ l → l < nf (6 * s + c) → x < nm (4 * (6 * s + c) + l)) :
    gw_R a_defined a_parent a_level a_version (upd a_fields (6 * s + c) (nI (nf (6 * s + c) + 1))) A B a_latest a_oClass a_slot a_handle a_arrived a_handles (gw_fl a_described 0 12 0) a_dLevels a_dFields a_plan a_wide b_parent (upd b_own (10 * (6 * s + c) + x) (nI y)) b_cls b_partner b_val := by
  obtain ⟨hs, hc, hx, hy, -, -, -, -, hd, eL, hno, h4, hob⟩ := G
  generalize eq0 : 6 * s + c = c0 at *
  have hc0 : c0 < 12 := by omega
  obtain ⟨w1, w2, w3, w4, w5, w6⟩ := HW c0 hc0
  have hno2 : ∀ l, l < nf c0 → nm (4 * c0 + l) ≠ x := by
    intro l hl
    have := hno (lv c0) l (by omega)
    rw [gw_al_top] at this
    exact this hl
  have nup : ∀ q, q < 12 → a_defined q ≠ 0 → lv q ≠ 0 → up q ≠ c0 := by
    rcases HL s hs with h | ⟨x', h1, h2, h3, h5⟩
    · rw [h] at eL; exact absurd eL (ze_m1_en (by omega))
    · have e := (nI_eq (by omega) (by omega)).mp (h2.symm.trans eL)
      subst e
      rw [eq0] at h5
      exact h5
  have nal : ∀ q j, q < 12 → a_defined q ≠ 0 → j ≤ lv q → (q ≠ c0 ∨ j < lv q) → gw_al lv up q j ≠ c0 := by
    intro q j hq hdq hj hz
    rcases Nat.eq_or_lt_of_le hj with z | z
    · subst z
      rw [gw_al_top]
      rcases hz with h | h
      · exact h
      · omega
    · rw [← gw_al_up lv up z]
      obtain ⟨k1, k2, k3, k4⟩ := gw_al_ok HW hq hdq (j := j + 1) z
      exact nup _ k1 k2 (by omega)
  have nmo : ∀ q k v (g : Nat → Nat), q ≠ c0 → k < 4 → gw_in1 c0 i v g (4 * q + k) = g (4 * q + k) := fun q k v g hq hk => gw_in1_o (by omega)
  have W' : gw_W a_defined lv up (fun q => if q = c0 then nf c0 + 1 else nf q) (gw_in1 c0 i x nm) (gw_in1 c0 i y kd) := by
    intro q hq
    by_cases e : q = c0
    · subst e
      try dsimp only
      rw [if_pos rfl]
      refine ⟨by omega, fun z => absurd z hd, fun k hk => ?_, fun k hk => ?_, w5, w6⟩
      · rcases Nat.lt_trichotomy k i with z | z | z
        · rw [gw_in1_o (by omega), gw_in1_o (by omega)]; exact w3 k (by omega)
        · subst z; rw [gw_in1_i (by omega), gw_in1_i (by omega)]; exact ⟨hx, hy⟩
        · obtain ⟨l, rfl⟩ : ∃ l, k = l + 1 := ⟨k - 1, by omega⟩
          rw [gw_in1_h (by omega) (by omega), gw_in1_h (by omega) (by omega)]; exact w3 l (by omega)
      · rcases Nat.lt_trichotomy (k + 1) i with z | z | z
        · rw [gw_in1_o (by omega), gw_in1_o (by omega)]; exact w4 k (by omega)
        · rw [gw_in1_o (by omega), z, gw_in1_i (by omega)]; exact hlo k (by omega)
        · rw [gw_in1_h (by omega) (by omega)]
          rcases Nat.eq_or_lt_of_le (Nat.le_of_lt_succ z) with y' | y'
          · subst y'; rw [gw_in1_i (by omega)]; exact hhi i (by omega) (by omega)
          · obtain ⟨l, rfl⟩ : ∃ l, k = l + 1 := ⟨k - 1, by omega⟩
            rw [gw_in1_h (by omega) (by omega)]; exact w4 l (by omega)
    · obtain ⟨u1, u2, u3, u4, u5, u6⟩ := HW q hq
      try dsimp only
      rw [if_neg e]
      refine ⟨u1, u2, fun k hk => ?_, fun k hk => ?_, u5, u6⟩
      · rw [nmo _ _ _ _ e (by omega), nmo _ _ _ _ e (by omega)]; exact u3 k hk
      · rw [nmo _ _ _ _ e (by omega), nmo _ _ _ _ e (by omega)]; exact u4 k hk
  refine ⟨lv, up, fun q => if q = c0 then nf c0 + 1 else nf q, gw_in1 c0 i x nm, gw_in1 c0 i y kd, hh, hs', pq, W', ?_, ?_, ?_, HO, ?_, HS, ?_, HL⟩
  · intro q hq hdq a b hab hb k l
    have ea := nal q a hq hdq (by omega) (Or.inr (by omega))
    have fa := (HW _ (gw_al_ok HW hq hdq (j := a) (by omega)).1).1
    have fb := (HW _ (gw_al_ok HW hq hdq hb).1).1
    try dsimp only
    rw [if_neg ea]
    intro hk
    rw [nmo _ _ _ _ ea (by omega)]
    by_cases eb : gw_al lv up q b = c0
    · rw [eb, if_pos rfl]
      intro hl
      have eqq : q = c0 ∧ b = lv q := by
        rcases Classical.em (q = c0) with h | h
        · refine ⟨h, ?_⟩
          rcases Nat.eq_or_lt_of_le hb with z | z
          · exact z
          · exact absurd eb (nal q b hq hdq hb (Or.inr z))
        · exact absurd eb (nal q b hq hdq hb (Or.inl h))
      obtain ⟨rfl, rfl⟩ := eqq
      have old := HU q hq hdq a (lv q) hab (Nat.le_refl _) k
      rw [gw_al_top] at old
      rcases Nat.lt_trichotomy l i with z | z | z
      · rw [gw_in1_o (by omega)]; exact old l hk (by omega)
      · subst z; rw [gw_in1_i (by omega)]; exact hno a k (by omega) hk
      · obtain ⟨l, rfl⟩ : ∃ m, l = m + 1 := ⟨l - 1, by omega⟩
        rw [gw_in1_h (by omega) (by omega)]; exact old l hk (by omega)
    · rw [if_neg eb]
      intro hl
      rw [nmo _ _ _ _ eb (by omega)]
      exact HU q hq hdq a b hab hb k l hk hl
  · intro q hq
    obtain ⟨h1, h2, h3⟩ := HX q hq
    by_cases e : q = c0
    · subst e
      try dsimp only
      rw [if_pos rfl, pk_us]
      refine ⟨rfl, fun k hk => ?_, h3⟩
      rcases Nat.lt_trichotomy k i with z | z | z
      · rw [gw_in1_o (by omega), gw_in1_o (by omega), hA.1.2.1 k z, hB.1.2.1 k z]; exact h2 k (by omega)
      · subst z; rw [gw_in1_i (by omega), gw_in1_i (by omega)]; exact ⟨hA.2, hB.2⟩
      · obtain ⟨l, rfl⟩ : ∃ l, k = l + 1 := ⟨k - 1, by omega⟩
        rw [gw_in1_h (by omega) (by omega), gw_in1_h (by omega) (by omega), hA.1.2.2 l (by omega) (by omega), hB.1.2.2 l (by omega) (by omega)]; exact h2 l (by omega)
    · have u1 := (HW q hq).1
      try dsimp only
      rw [if_neg e, pk_un e]
      refine ⟨h1, fun k hk => ?_, h3⟩
      rw [nmo _ _ _ _ e (by omega), nmo _ _ _ _ e (by omega), hA.1.1 _ (by omega), hB.1.1 _ (by omega)]
      exact h2 k hk
  · intro q hq
    obtain ⟨h1, h2, h3⟩ := HY q hq
    by_cases e : q = c0
    · subst e
      try dsimp only
      rw [if_pos rfl]
      refine ⟨fun k hk => ?_, fun z hz hn => ?_, h3⟩
      · rcases Nat.lt_trichotomy k i with z | z | z
        · rw [gw_in1_o (by omega), gw_in1_o (by omega), pk_un (by have := hno2 k (by omega); omega)]; exact h1 k (by omega)
        · subst z; rw [gw_in1_i (by omega), gw_in1_i (by omega), pk_us]
        · obtain ⟨l, rfl⟩ : ∃ l, k = l + 1 := ⟨k - 1, by omega⟩
          rw [gw_in1_h (by omega) (by omega), gw_in1_h (by omega) (by omega), pk_un (by have := hno2 l (by omega); omega)]; exact h1 l (by omega)
      · have e1 := hn i (by omega)
        rw [gw_in1_i (by omega)] at e1
        rw [pk_un (by omega)]
        refine h2 z hz (fun k hk => ?_)
        rcases Nat.lt_or_ge k i with y' | y'
        · have := hn k (by omega)
          rwa [gw_in1_o (by omega)] at this
        · have := hn (k + 1) (by omega)
          rwa [gw_in1_h y' (by omega)] at this
    · have u1 := (HW q hq).1
      try dsimp only
      rw [if_neg e]
      refine ⟨fun k hk => ?_, fun z hz hn => ?_, h3⟩
      · have g := ((HW q hq).2.2.1 k hk).1
        rw [nmo _ _ _ _ e (by omega), nmo _ _ _ _ e (by omega), pk_un (by omega)]
        exact h1 k hk
      · rw [pk_un (by omega)]
        refine h2 z hz (fun k hk => ?_)
        have := hn k hk
        rwa [nmo _ _ _ _ e (by omega)] at this
  · intro o ho ha j k
    obtain ⟨h1, h2, h3, h4', h5⟩ := gw_O_al HO ho ha
    have e : gw_kl a_oClass o ≠ c0 := by
      intro e
      have := hob (o % 16) (by omega)
      rw [show 16 * s + o % 16 = o from by omega, h2, e] at this
      exact this rfl
    intro hj
    have ea := nal _ j h1 h4' hj (Or.inl e)
    have fa := (HW _ (gw_al_ok HW h1 h4' hj).1).1
    try dsimp only
    rw [if_neg ea]
    intro hk
    rw [nmo _ _ _ _ ea (by omega), nmo _ _ _ _ ea (by omega)]
    exact HV o ho ha j k hj hk
  · intro q hq hz
    rw [gw_fl_in (by omega) hq] at hz
    exact absurd rfl hz
theorem gm_field {k : Nat} (R : gw_R a_defined a_parent a_level a_version a_fields a_fName a_fKind a_latest a_oClass a_slot a_handle a_arrived a_handles a_described a_dLevels a_dFields a_plan a_wide b_parent b_own b_cls b_partner b_val) (v1 v2 v3 v4 : Int32) : wpX_field (fun r u' => wpY_field (fun r' v' => r' = r ∧ i_Rel (k + 5) u' v') (f_culprit, g_depth, g_lastMade, a_defined, a_version, b_parent, b_own, a_latest, b_cls, b_partner, a_pinned, b_arrived, b_val, b_from, b_made, b_done, b_rows) v1 v2 v3 v4) (f_end, f_at, f_written, f_read, f_error, f_culprit, f_nextHandle, f_depth, f_nTodo, a_defined, a_parent, a_level, a_version, a_fields, a_fName, a_fKind, a_latest, a_oClass, a_pinned, a_slot, a_handle, a_arrived, a_handles, a_described, a_dLevels, a_dFields, a_plan, a_wide, a_wire, a_order, a_made, a_sObj, a_sLev, a_sPos, a_sCls, a_pairs, a_todo) v1 v2 v3 v4 := by
  obtain ⟨lv, up, nf, nm, kd, hh, hs', pq, HW, HU, HX, HY, HO, HV, HS, HDS, HL⟩ := id R
  refine gx_field HW HX v1 v2 v3 v4 (fun no => ?_) (fun s c x y G A' B' i hA hB hi hlo hhi => ?_)
  · exact gy_field HW HY HO HL v1 v2 v3 v4 (fun _ => ⟨rfl, gi_in R⟩) (fun s c x y G => absurd ⟨s, c, x, y, G⟩ no)
  · refine gy_field HW HY HO HL v1 v2 v3 v4 (fun no => absurd ⟨s, c, x, y, G⟩ no) (fun s2 c2 x2 y2 G2 => ?_)
    have G' := G
    obtain ⟨g1, g2, g3, g4, g5, g6, g7, g8, -⟩ := G'
    have G3 := G2
    obtain ⟨k1, k2, k3, k4, k5, k6, k7, k8, -⟩ := G3
    have e1 := (nI_eq (by omega) (by omega)).mp (k5.symm.trans g5)
    have e2 := (nI_eq (by omega) (by omega)).mp (k6.symm.trans g6)
    have e3 := (nI_eq (by omega) (by omega)).mp (k7.symm.trans g7)
    have e4 := (nI_eq (by omega) (by omega)).mp (k8.symm.trans g8)
    subst e1 e2 e3 e4
    exact ⟨rfl, gi_in (gw_R_field HW HU HX HY HO HV HS HL G hA hB hi hlo hhi)⟩
end
end
section
section
variable {f_end f_at f_written f_read f_error f_culprit f_nextHandle f_depth f_nTodo : Int32} {a_defined a_parent a_level a_version a_fields a_fName a_fKind a_latest a_oClass a_pinned a_handle a_arrived a_handles a_described a_dLevels a_dFields a_plan a_wide a_wire a_order a_made a_sObj a_sLev a_sPos a_sCls a_todo : Nat → Int32} {a_slot a_pairs : Nat → Int64} {g_culprit g_depth g_lastMade : Int32} {b_defined b_version b_parent b_own b_latest b_cls b_partner b_pinned b_arrived b_from b_made b_done b_rows : Nat → Int32} {b_val : Nat → Int64}
theorem gx_initL {post : SX → Prop} (K : post (f_end, f_at, f_written, f_read, f_error, (-1), f_nextHandle, f_depth, f_nTodo, a_defined, a_parent, a_level, a_version, a_fields, a_fName, a_fKind, upd (upd a_latest 0 (-1)) 1 (-1), gw_fl a_oClass 0 32 (-1), a_pinned, a_slot, a_handle, a_arrived, a_handles, a_described, a_dLevels, a_dFields, a_plan, a_wide, a_wire, a_order, a_made, a_sObj, a_sLev, a_sPos, a_sCls, a_pairs, a_todo)) : ∀ n i, i ≤ 32 → 32 - i < n → wX_init_233 post f_end f_at f_written f_read f_error f_culprit f_nextHandle f_depth f_nTodo n (nI i) a_defined a_parent a_level a_version a_fields a_fName a_fKind a_latest (gw_fl a_oClass 0 i (-1)) a_pinned a_slot a_handle a_arrived a_handles a_described a_dLevels a_dFields a_plan a_wide a_wire a_order a_made a_sObj a_sLev a_sPos a_sCls a_pairs a_todo := by
  intro n
  induction n with
  | zero => intro i h1 h2; omega
  | succ n ih =>
    intro i hi hn
    rw [wX_init_233]
    rcases Nat.eq_or_lt_of_le hi with z | z
    · subst z
      simp (disch := omega) only [ze_ge0t, ze_gt0t, ze_gt0f, ze_le0t, ze_le0f, ze_lt0f, ze_eq0p, ze_eq0f, ze_ge1t, ze_ge1f, ze_gt1t, ze_gt1f, ze_le1t, ze_le1f, ze_lt1t, ze_lt1f, ze_eq1p, ze_eq1f, ze_ge2t, ze_ge2f, ze_gt2t, ze_gt2f, ze_le2t, ze_le2f, ze_lt2t, ze_lt2f, ze_eq2p, ze_eq2f, ze_ge3t, ze_ge3f, ze_gt3t, ze_gt3f, ze_le3t, ze_le3f, ze_lt3t, ze_lt3f, ze_eq3p, ze_eq3f, ze_ge4t, ze_ge4f, ze_gt4t, ze_gt4f, ze_le4t, ze_le4f, ze_lt4t, ze_lt4f, ze_eq4p, ze_eq4f, ze_ge5t, ze_ge5f, ze_gt5t, ze_gt5f, ze_le5t, ze_le5f, ze_lt5t, ze_lt5f, ze_eq5p, ze_eq5f, ze_ge6t, ze_ge6f, ze_gt6t, ze_gt6f, ze_le6t, ze_le6f, ze_lt6t, ze_lt6f, ze_eq6p, ze_eq6f, ze_ge7t, ze_ge7f, ze_gt7t, ze_gt7f, ze_le7t, ze_le7f, ze_lt7t, ze_lt7f, ze_eq7p, ze_eq7f, ze_ge9t, ze_ge9f, ze_gt9t, ze_gt9f, ze_le9t, ze_le9f, ze_lt9t, ze_lt9f, ze_eq9p, ze_eq9f, ze_ge10t, ze_ge10f, ze_gt10t, ze_gt10f, ze_le10t, ze_le10f, ze_lt10t, ze_lt10f, ze_eq10p, ze_eq10f, ze_ge12t, ze_ge12f, ze_gt12t, ze_gt12f, ze_le12t, ze_le12f, ze_lt12t, ze_lt12f, ze_eq12p, ze_eq12f, ze_ge15t, ze_ge15f, ze_gt15t, ze_gt15f, ze_le15t, ze_le15f, ze_lt15t, ze_lt15f, ze_eq15p, ze_eq15f, ze_ge16t, ze_ge16f, ze_gt16t, ze_gt16f, ze_le16t, ze_le16f, ze_lt16t, ze_lt16f, ze_eq16p, ze_eq16f, ze_ge30t, ze_ge30f, ze_gt30t, ze_gt30f, ze_le30t, ze_le30f, ze_lt30t, ze_lt30f, ze_eq30p, ze_eq30f, ze_ge32t, ze_ge32f, ze_gt32t, ze_gt32f, ze_le32t, ze_le32f, ze_lt32t, ze_lt32f, ze_eq32p, ze_eq32f, ze_ge47t, ze_ge47f, ze_gt47t, ze_gt47f, ze_le47t, ze_le47f, ze_lt47t, ze_lt47f, ze_eq47p, ze_eq47f, ze_ge120t, ze_ge120f, ze_gt120t, ze_gt120f, ze_le120t, ze_le120f, ze_lt120t, ze_lt120f, ze_eq120p, ze_eq120f, ze_ge1024t, ze_ge1024f, ze_gt1024t, ze_gt1024f, ze_le1024t, ze_le1024f, ze_lt1024t, ze_lt1024f, ze_eq1024p, ze_eq1024f, ze_let, ze_lef, ze_ltt, ze_ltf, ze_eqt, ze_eqf, ze_m1_lt0, ze_m1_n0le, ze_m1_le0, ze_m1_le, ze_m1_lt, ze_m1_nle, ze_m1_nlt, ze_m1_ne, ze_m1_en, ze_m1_ne4, ze_m1_ne0, ze_nz6, ze_nz10, ze_nz12, ze_nz16, ze_nz32, ze_nz192, ze_1ne0, ze_0ne1, ze_0ne4, ↓ze_rem6, ↓ze_rem10, ↓ze_rem16, ↓ze_rem32, ↓ze_rem12, ze_div6, ze_div10, ze_div12, ze_div16, ze_div32, ze_div192, ze_mul3, ze_mul4, ze_mul6, ze_mul10, ze_mul12, ze_mul16, ze_mul17, ze_mul32, ze_mul60, ze_mulr6, ze_nrem6, ze_mulr10, ze_nrem10, ze_mulr12, ze_nrem12, ze_mulr16, ze_nrem16, ze_mulr32, ze_nrem32, nI_add, ze_add1, ze_add6, ze_add7, ze_add8, ze_add12, ze_add16, ze_add0, ze_radd0, ze_radd8, ze_sub1, ze_m1, ze_0sub1, ze_m1add1, ze_1sub, ze_2sub, pk_sub, ze_and3, ze_and7, ze_and31, ze_and127, ↓ze_shr2, ↓ze_shr3, ↓ze_shr5, ↓ze_shl3, ze_i8, ze_nby, ze_i8m1, ze_i80, ze_nbm1, ze_i16, ze_nsh, ze_nb0, ze_nt0, ze_nt1, ze_cl0, ze_cl1, nI_clamp, vp_in_nI, forall_eq, true_implies, false_implies, not_true_eq_false, not_false_eq_true, and_true, true_and, implies_true, and_self, forall_const, Classical.not_not]
      exact K
    · simp (disch := omega) only [ze_ge0t, ze_gt0t, ze_gt0f, ze_le0t, ze_le0f, ze_lt0f, ze_eq0p, ze_eq0f, ze_ge1t, ze_ge1f, ze_gt1t, ze_gt1f, ze_le1t, ze_le1f, ze_lt1t, ze_lt1f, ze_eq1p, ze_eq1f, ze_ge2t, ze_ge2f, ze_gt2t, ze_gt2f, ze_le2t, ze_le2f, ze_lt2t, ze_lt2f, ze_eq2p, ze_eq2f, ze_ge3t, ze_ge3f, ze_gt3t, ze_gt3f, ze_le3t, ze_le3f, ze_lt3t, ze_lt3f, ze_eq3p, ze_eq3f, ze_ge4t, ze_ge4f, ze_gt4t, ze_gt4f, ze_le4t, ze_le4f, ze_lt4t, ze_lt4f, ze_eq4p, ze_eq4f, ze_ge5t, ze_ge5f, ze_gt5t, ze_gt5f, ze_le5t, ze_le5f, ze_lt5t, ze_lt5f, ze_eq5p, ze_eq5f, ze_ge6t, ze_ge6f, ze_gt6t, ze_gt6f, ze_le6t, ze_le6f, ze_lt6t, ze_lt6f, ze_eq6p, ze_eq6f, ze_ge7t, ze_ge7f, ze_gt7t, ze_gt7f, ze_le7t, ze_le7f, ze_lt7t, ze_lt7f, ze_eq7p, ze_eq7f, ze_ge9t, ze_ge9f, ze_gt9t, ze_gt9f, ze_le9t, ze_le9f, ze_lt9t, ze_lt9f, ze_eq9p, ze_eq9f, ze_ge10t, ze_ge10f, ze_gt10t, ze_gt10f, ze_le10t, ze_le10f, ze_lt10t, ze_lt10f, ze_eq10p, ze_eq10f, ze_ge12t, ze_ge12f, ze_gt12t, ze_gt12f, ze_le12t, ze_le12f, ze_lt12t, ze_lt12f, ze_eq12p, ze_eq12f, ze_ge15t, ze_ge15f, ze_gt15t, ze_gt15f, ze_le15t, ze_le15f, ze_lt15t, ze_lt15f, ze_eq15p, ze_eq15f, ze_ge16t, ze_ge16f, ze_gt16t, ze_gt16f, ze_le16t, ze_le16f, ze_lt16t, ze_lt16f, ze_eq16p, ze_eq16f, ze_ge30t, ze_ge30f, ze_gt30t, ze_gt30f, ze_le30t, ze_le30f, ze_lt30t, ze_lt30f, ze_eq30p, ze_eq30f, ze_ge32t, ze_ge32f, ze_gt32t, ze_gt32f, ze_le32t, ze_le32f, ze_lt32t, ze_lt32f, ze_eq32p, ze_eq32f, ze_ge47t, ze_ge47f, ze_gt47t, ze_gt47f, ze_le47t, ze_le47f, ze_lt47t, ze_lt47f, ze_eq47p, ze_eq47f, ze_ge120t, ze_ge120f, ze_gt120t, ze_gt120f, ze_le120t, ze_le120f, ze_lt120t, ze_lt120f, ze_eq120p, ze_eq120f, ze_ge1024t, ze_ge1024f, ze_gt1024t, ze_gt1024f, ze_le1024t, ze_le1024f, ze_lt1024t, ze_lt1024f, ze_eq1024p, ze_eq1024f, ze_let, ze_lef, ze_ltt, ze_ltf, ze_eqt, ze_eqf, ze_m1_lt0, ze_m1_n0le, ze_m1_le0, ze_m1_le, ze_m1_lt, ze_m1_nle, ze_m1_nlt, ze_m1_ne, ze_m1_en, ze_m1_ne4, ze_m1_ne0, ze_nz6, ze_nz10, ze_nz12, ze_nz16, ze_nz32, ze_nz192, ze_1ne0, ze_0ne1, ze_0ne4, ↓ze_rem6, ↓ze_rem10, ↓ze_rem16, ↓ze_rem32, ↓ze_rem12, ze_div6, ze_div10, ze_div12, ze_div16, ze_div32, ze_div192, ze_mul3, ze_mul4, ze_mul6, ze_mul10, ze_mul12, ze_mul16, ze_mul17, ze_mul32, ze_mul60, ze_mulr6, ze_nrem6, ze_mulr10, ze_nrem10, ze_mulr12, ze_nrem12, ze_mulr16, ze_nrem16, ze_mulr32, ze_nrem32, nI_add, ze_add1, ze_add6, ze_add7, ze_add8, ze_add12, ze_add16, ze_add0, ze_radd0, ze_radd8, ze_sub1, ze_m1, ze_0sub1, ze_m1add1, ze_1sub, ze_2sub, pk_sub, ze_and3, ze_and7, ze_and31, ze_and127, ↓ze_shr2, ↓ze_shr3, ↓ze_shr5, ↓ze_shl3, ze_i8, ze_nby, ze_i8m1, ze_i80, ze_nbm1, ze_i16, ze_nsh, ze_nb0, ze_nt0, ze_nt1, ze_cl0, ze_cl1, nI_clamp, vp_in_nI, forall_eq, true_implies, false_implies, not_true_eq_false, not_false_eq_true, and_true, true_and, implies_true, and_self, forall_const, Classical.not_not, gw_fl_s0]
      exact ih (i + 1) z (by omega)
theorem gy_init139 {post : SY → Prop} (K : post ((-1), g_depth, g_lastMade, b_defined, b_version, b_parent, b_own, upd (upd b_latest 0 (-1)) 1 (-1), gw_fl b_cls 0 32 (-1), gw_fl b_partner 0 32 (-1), b_pinned, b_arrived, b_val, b_from, b_made, b_done, b_rows)) : ∀ n i, i ≤ 32 → 32 - i < n → wY_init_139 post g_culprit g_depth g_lastMade n (nI i) b_defined b_version b_parent b_own b_latest (gw_fl b_cls 0 i (-1)) (gw_fl b_partner 0 i (-1)) b_pinned b_arrived b_val b_from b_made b_done b_rows := by
  intro n
  induction n with
  | zero => intro i h1 h2; omega
  | succ n ih =>
    intro i hi hn
    rw [wY_init_139]
    rcases Nat.eq_or_lt_of_le hi with z | z
    · subst z
      simp (disch := omega) only [ze_ge0t, ze_gt0t, ze_gt0f, ze_le0t, ze_le0f, ze_lt0f, ze_eq0p, ze_eq0f, ze_ge1t, ze_ge1f, ze_gt1t, ze_gt1f, ze_le1t, ze_le1f, ze_lt1t, ze_lt1f, ze_eq1p, ze_eq1f, ze_ge2t, ze_ge2f, ze_gt2t, ze_gt2f, ze_le2t, ze_le2f, ze_lt2t, ze_lt2f, ze_eq2p, ze_eq2f, ze_ge3t, ze_ge3f, ze_gt3t, ze_gt3f, ze_le3t, ze_le3f, ze_lt3t, ze_lt3f, ze_eq3p, ze_eq3f, ze_ge4t, ze_ge4f, ze_gt4t, ze_gt4f, ze_le4t, ze_le4f, ze_lt4t, ze_lt4f, ze_eq4p, ze_eq4f, ze_ge5t, ze_ge5f, ze_gt5t, ze_gt5f, ze_le5t, ze_le5f, ze_lt5t, ze_lt5f, ze_eq5p, ze_eq5f, ze_ge6t, ze_ge6f, ze_gt6t, ze_gt6f, ze_le6t, ze_le6f, ze_lt6t, ze_lt6f, ze_eq6p, ze_eq6f, ze_ge7t, ze_ge7f, ze_gt7t, ze_gt7f, ze_le7t, ze_le7f, ze_lt7t, ze_lt7f, ze_eq7p, ze_eq7f, ze_ge9t, ze_ge9f, ze_gt9t, ze_gt9f, ze_le9t, ze_le9f, ze_lt9t, ze_lt9f, ze_eq9p, ze_eq9f, ze_ge10t, ze_ge10f, ze_gt10t, ze_gt10f, ze_le10t, ze_le10f, ze_lt10t, ze_lt10f, ze_eq10p, ze_eq10f, ze_ge12t, ze_ge12f, ze_gt12t, ze_gt12f, ze_le12t, ze_le12f, ze_lt12t, ze_lt12f, ze_eq12p, ze_eq12f, ze_ge15t, ze_ge15f, ze_gt15t, ze_gt15f, ze_le15t, ze_le15f, ze_lt15t, ze_lt15f, ze_eq15p, ze_eq15f, ze_ge16t, ze_ge16f, ze_gt16t, ze_gt16f, ze_le16t, ze_le16f, ze_lt16t, ze_lt16f, ze_eq16p, ze_eq16f, ze_ge30t, ze_ge30f, ze_gt30t, ze_gt30f, ze_le30t, ze_le30f, ze_lt30t, ze_lt30f, ze_eq30p, ze_eq30f, ze_ge32t, ze_ge32f, ze_gt32t, ze_gt32f, ze_le32t, ze_le32f, ze_lt32t, ze_lt32f, ze_eq32p, ze_eq32f, ze_ge47t, ze_ge47f, ze_gt47t, ze_gt47f, ze_le47t, ze_le47f, ze_lt47t, ze_lt47f, ze_eq47p, ze_eq47f, ze_ge120t, ze_ge120f, ze_gt120t, ze_gt120f, ze_le120t, ze_le120f, ze_lt120t, ze_lt120f, ze_eq120p, ze_eq120f, ze_ge1024t, ze_ge1024f, ze_gt1024t, ze_gt1024f, ze_le1024t, ze_le1024f, ze_lt1024t, ze_lt1024f, ze_eq1024p, ze_eq1024f, ze_let, ze_lef, ze_ltt, ze_ltf, ze_eqt, ze_eqf, ze_m1_lt0, ze_m1_n0le, ze_m1_le0, ze_m1_le, ze_m1_lt, ze_m1_nle, ze_m1_nlt, ze_m1_ne, ze_m1_en, ze_m1_ne4, ze_m1_ne0, ze_nz6, ze_nz10, ze_nz12, ze_nz16, ze_nz32, ze_nz192, ze_1ne0, ze_0ne1, ze_0ne4, ↓ze_rem6, ↓ze_rem10, ↓ze_rem16, ↓ze_rem32, ↓ze_rem12, ze_div6, ze_div10, ze_div12, ze_div16, ze_div32, ze_div192, ze_mul3, ze_mul4, ze_mul6, ze_mul10, ze_mul12, ze_mul16, ze_mul17, ze_mul32, ze_mul60, ze_mulr6, ze_nrem6, ze_mulr10, ze_nrem10, ze_mulr12, ze_nrem12, ze_mulr16, ze_nrem16, ze_mulr32, ze_nrem32, nI_add, ze_add1, ze_add6, ze_add7, ze_add8, ze_add12, ze_add16, ze_add0, ze_radd0, ze_radd8, ze_sub1, ze_m1, ze_0sub1, ze_m1add1, ze_1sub, ze_2sub, pk_sub, ze_and3, ze_and7, ze_and31, ze_and127, ↓ze_shr2, ↓ze_shr3, ↓ze_shr5, ↓ze_shl3, ze_i8, ze_nby, ze_i8m1, ze_i80, ze_nbm1, ze_i16, ze_nsh, ze_nb0, ze_nt0, ze_nt1, ze_cl0, ze_cl1, nI_clamp, vp_in_nI, forall_eq, true_implies, false_implies, not_true_eq_false, not_false_eq_true, and_true, true_and, implies_true, and_self, forall_const, Classical.not_not]
      exact K
    · simp (disch := omega) only [ze_ge0t, ze_gt0t, ze_gt0f, ze_le0t, ze_le0f, ze_lt0f, ze_eq0p, ze_eq0f, ze_ge1t, ze_ge1f, ze_gt1t, ze_gt1f, ze_le1t, ze_le1f, ze_lt1t, ze_lt1f, ze_eq1p, ze_eq1f, ze_ge2t, ze_ge2f, ze_gt2t, ze_gt2f, ze_le2t, ze_le2f, ze_lt2t, ze_lt2f, ze_eq2p, ze_eq2f, ze_ge3t, ze_ge3f, ze_gt3t, ze_gt3f, ze_le3t, ze_le3f, ze_lt3t, ze_lt3f, ze_eq3p, ze_eq3f, ze_ge4t, ze_ge4f, ze_gt4t, ze_gt4f, ze_le4t, ze_le4f, ze_lt4t, ze_lt4f, ze_eq4p, ze_eq4f, ze_ge5t, ze_ge5f, ze_gt5t, ze_gt5f, ze_le5t, ze_le5f, ze_lt5t, ze_lt5f, ze_eq5p, ze_eq5f, ze_ge6t, ze_ge6f, ze_gt6t, ze_gt6f, ze_le6t, ze_le6f, ze_lt6t, ze_lt6f, ze_eq6p, ze_eq6f, ze_ge7t, ze_ge7f, ze_gt7t, ze_gt7f, ze_le7t, ze_le7f, ze_lt7t, ze_lt7f, ze_eq7p, ze_eq7f, ze_ge9t, ze_ge9f, ze_gt9t, ze_gt9f, ze_le9t, ze_le9f, ze_lt9t, ze_lt9f, ze_eq9p, ze_eq9f, ze_ge10t, ze_ge10f, ze_gt10t, ze_gt10f, ze_le10t, ze_le10f, ze_lt10t, ze_lt10f, ze_eq10p, ze_eq10f, ze_ge12t, ze_ge12f, ze_gt12t, ze_gt12f, ze_le12t, ze_le12f, ze_lt12t, ze_lt12f, ze_eq12p, ze_eq12f, ze_ge15t, ze_ge15f, ze_gt15t, ze_gt15f, ze_le15t, ze_le15f, ze_lt15t, ze_lt15f, ze_eq15p, ze_eq15f, ze_ge16t, ze_ge16f, ze_gt16t, ze_gt16f, ze_le16t, ze_le16f, ze_lt16t, ze_lt16f, ze_eq16p, ze_eq16f, ze_ge30t, ze_ge30f, ze_gt30t, ze_gt30f, ze_le30t, ze_le30f, ze_lt30t, ze_lt30f, ze_eq30p, ze_eq30f, ze_ge32t, ze_ge32f, ze_gt32t, ze_gt32f, ze_le32t, ze_le32f, ze_lt32t, ze_lt32f, ze_eq32p, ze_eq32f, ze_ge47t, ze_ge47f, ze_gt47t, ze_gt47f, ze_le47t, ze_le47f, ze_lt47t, ze_lt47f, ze_eq47p, ze_eq47f, ze_ge120t, ze_ge120f, ze_gt120t, ze_gt120f, ze_le120t, ze_le120f, ze_lt120t, ze_lt120f, ze_eq120p, ze_eq120f, ze_ge1024t, ze_ge1024f, ze_gt1024t, ze_gt1024f, ze_le1024t, ze_le1024f, ze_lt1024t, ze_lt1024f, ze_eq1024p, ze_eq1024f, ze_let, ze_lef, ze_ltt, ze_ltf, ze_eqt, ze_eqf, ze_m1_lt0, ze_m1_n0le, ze_m1_le0, ze_m1_le, ze_m1_lt, ze_m1_nle, ze_m1_nlt, ze_m1_ne, ze_m1_en, ze_m1_ne4, ze_m1_ne0, ze_nz6, ze_nz10, ze_nz12, ze_nz16, ze_nz32, ze_nz192, ze_1ne0, ze_0ne1, ze_0ne4, ↓ze_rem6, ↓ze_rem10, ↓ze_rem16, ↓ze_rem32, ↓ze_rem12, ze_div6, ze_div10, ze_div12, ze_div16, ze_div32, ze_div192, ze_mul3, ze_mul4, ze_mul6, ze_mul10, ze_mul12, ze_mul16, ze_mul17, ze_mul32, ze_mul60, ze_mulr6, ze_nrem6, ze_mulr10, ze_nrem10, ze_mulr12, ze_nrem12, ze_mulr16, ze_nrem16, ze_mulr32, ze_nrem32, nI_add, ze_add1, ze_add6, ze_add7, ze_add8, ze_add12, ze_add16, ze_add0, ze_radd0, ze_radd8, ze_sub1, ze_m1, ze_0sub1, ze_m1add1, ze_1sub, ze_2sub, pk_sub, ze_and3, ze_and7, ze_and31, ze_and127, ↓ze_shr2, ↓ze_shr3, ↓ze_shr5, ↓ze_shl3, ze_i8, ze_nby, ze_i8m1, ze_i80, ze_nbm1, ze_i16, ze_nsh, ze_nb0, ze_nt0, ze_nt1, ze_cl0, ze_cl1, nI_clamp, vp_in_nI, forall_eq, true_implies, false_implies, not_true_eq_false, not_false_eq_true, and_true, true_and, implies_true, and_self, forall_const, Classical.not_not, gw_fl_s0]
      exact ih (i + 1) z (by omega)
theorem gy_init118 {post : SY → Prop} (K : post ((-1), g_depth, g_lastMade, b_defined, b_version, b_parent, gw_fl b_own 0 120 (-1), upd (upd b_latest 0 (-1)) 1 (-1), gw_fl b_cls 0 32 (-1), gw_fl b_partner 0 32 (-1), b_pinned, b_arrived, b_val, b_from, b_made, b_done, b_rows)) : ∀ n i, i ≤ 120 → 120 - i < n → wY_init_118 post g_culprit g_depth g_lastMade n (nI i) b_defined b_version b_parent (gw_fl b_own 0 i (-1)) b_latest b_cls b_partner b_pinned b_arrived b_val b_from b_made b_done b_rows := by
  intro n
  induction n with
  | zero => intro i h1 h2; omega
  | succ n ih =>
    intro i hi hn
    rw [wY_init_118]
    rcases Nat.eq_or_lt_of_le hi with z | z
    · subst z
      refine br_t (by decide) ?_
      have h := gy_init139 (g_culprit := g_culprit) K 33 0 (by omega) (by omega)
      rw [gw_fl_0, gw_fl_0] at h
      exact ⟨33, h⟩
    · simp (disch := omega) only [ze_ge0t, ze_gt0t, ze_gt0f, ze_le0t, ze_le0f, ze_lt0f, ze_eq0p, ze_eq0f, ze_ge1t, ze_ge1f, ze_gt1t, ze_gt1f, ze_le1t, ze_le1f, ze_lt1t, ze_lt1f, ze_eq1p, ze_eq1f, ze_ge2t, ze_ge2f, ze_gt2t, ze_gt2f, ze_le2t, ze_le2f, ze_lt2t, ze_lt2f, ze_eq2p, ze_eq2f, ze_ge3t, ze_ge3f, ze_gt3t, ze_gt3f, ze_le3t, ze_le3f, ze_lt3t, ze_lt3f, ze_eq3p, ze_eq3f, ze_ge4t, ze_ge4f, ze_gt4t, ze_gt4f, ze_le4t, ze_le4f, ze_lt4t, ze_lt4f, ze_eq4p, ze_eq4f, ze_ge5t, ze_ge5f, ze_gt5t, ze_gt5f, ze_le5t, ze_le5f, ze_lt5t, ze_lt5f, ze_eq5p, ze_eq5f, ze_ge6t, ze_ge6f, ze_gt6t, ze_gt6f, ze_le6t, ze_le6f, ze_lt6t, ze_lt6f, ze_eq6p, ze_eq6f, ze_ge7t, ze_ge7f, ze_gt7t, ze_gt7f, ze_le7t, ze_le7f, ze_lt7t, ze_lt7f, ze_eq7p, ze_eq7f, ze_ge9t, ze_ge9f, ze_gt9t, ze_gt9f, ze_le9t, ze_le9f, ze_lt9t, ze_lt9f, ze_eq9p, ze_eq9f, ze_ge10t, ze_ge10f, ze_gt10t, ze_gt10f, ze_le10t, ze_le10f, ze_lt10t, ze_lt10f, ze_eq10p, ze_eq10f, ze_ge12t, ze_ge12f, ze_gt12t, ze_gt12f, ze_le12t, ze_le12f, ze_lt12t, ze_lt12f, ze_eq12p, ze_eq12f, ze_ge15t, ze_ge15f, ze_gt15t, ze_gt15f, ze_le15t, ze_le15f, ze_lt15t, ze_lt15f, ze_eq15p, ze_eq15f, ze_ge16t, ze_ge16f, ze_gt16t, ze_gt16f, ze_le16t, ze_le16f, ze_lt16t, ze_lt16f, ze_eq16p, ze_eq16f, ze_ge30t, ze_ge30f, ze_gt30t, ze_gt30f, ze_le30t, ze_le30f, ze_lt30t, ze_lt30f, ze_eq30p, ze_eq30f, ze_ge32t, ze_ge32f, ze_gt32t, ze_gt32f, ze_le32t, ze_le32f, ze_lt32t, ze_lt32f, ze_eq32p, ze_eq32f, ze_ge47t, ze_ge47f, ze_gt47t, ze_gt47f, ze_le47t, ze_le47f, ze_lt47t, ze_lt47f, ze_eq47p, ze_eq47f, ze_ge120t, ze_ge120f, ze_gt120t, ze_gt120f, ze_le120t, ze_le120f, ze_lt120t, ze_lt120f, ze_eq120p, ze_eq120f, ze_ge1024t, ze_ge1024f, ze_gt1024t, ze_gt1024f, ze_le1024t, ze_le1024f, ze_lt1024t, ze_lt1024f, ze_eq1024p, ze_eq1024f, ze_let, ze_lef, ze_ltt, ze_ltf, ze_eqt, ze_eqf, ze_m1_lt0, ze_m1_n0le, ze_m1_le0, ze_m1_le, ze_m1_lt, ze_m1_nle, ze_m1_nlt, ze_m1_ne, ze_m1_en, ze_m1_ne4, ze_m1_ne0, ze_nz6, ze_nz10, ze_nz12, ze_nz16, ze_nz32, ze_nz192, ze_1ne0, ze_0ne1, ze_0ne4, ↓ze_rem6, ↓ze_rem10, ↓ze_rem16, ↓ze_rem32, ↓ze_rem12, ze_div6, ze_div10, ze_div12, ze_div16, ze_div32, ze_div192, ze_mul3, ze_mul4, ze_mul6, ze_mul10, ze_mul12, ze_mul16, ze_mul17, ze_mul32, ze_mul60, ze_mulr6, ze_nrem6, ze_mulr10, ze_nrem10, ze_mulr12, ze_nrem12, ze_mulr16, ze_nrem16, ze_mulr32, ze_nrem32, nI_add, ze_add1, ze_add6, ze_add7, ze_add8, ze_add12, ze_add16, ze_add0, ze_radd0, ze_radd8, ze_sub1, ze_m1, ze_0sub1, ze_m1add1, ze_1sub, ze_2sub, pk_sub, ze_and3, ze_and7, ze_and31, ze_and127, ↓ze_shr2, ↓ze_shr3, ↓ze_shr5, ↓ze_shl3, ze_i8, ze_nby, ze_i8m1, ze_i80, ze_nbm1, ze_i16, ze_nsh, ze_nb0, ze_nt0, ze_nt1, ze_cl0, ze_cl1, nI_clamp, vp_in_nI, forall_eq, true_implies, false_implies, not_true_eq_false, not_false_eq_true, and_true, true_and, implies_true, and_self, forall_const, Classical.not_not, gw_fl_s0]
      exact ih (i + 1) z (by omega)
end
theorem gw_R0 : gw_R (fun _ => 0) (fun _ => 0) (fun _ => 0) (fun _ => 0) (fun _ => 0) (fun _ => 0) (fun _ => 0) (upd (upd (fun _ => 0) 0 (-1)) 1 (-1)) (gw_fl (fun _ => 0) 0 32 (-1)) (fun _ => 0) (fun _ => 0) (fun _ => 0) (fun _ => 0) (fun _ => 0) (fun _ => 0) (fun _ => 0) (fun _ => 0) (fun _ => 0) (fun _ => 0) (gw_fl (fun _ => 0) 0 120 (-1)) (gw_fl (fun _ => 0) 0 32 (-1)) (gw_fl (fun _ => 0) 0 32 (-1)) (fun _ => 0) := by
  refine ⟨fun _ => 0, fun _ => 0, fun _ => 0, fun _ => 0, fun _ => 0, fun _ => 0, fun _ => 0, fun _ => 0, ?_, ?_, ?_, ?_, ?_, ?_, ?_, ?_, ?_⟩
  · intro c hc
    exact ⟨Nat.zero_le _, fun _ => rfl, fun k hk => absurd hk (Nat.not_lt_zero _), fun k hk => absurd hk (Nat.not_lt_zero _), Nat.zero_le _, fun h => absurd rfl h⟩
  · intro c hc h
    exact absurd rfl h
  · intro c hc
    exact ⟨rfl, fun k hk => absurd hk (Nat.not_lt_zero _), fun h => absurd rfl h⟩
  · intro c hc
    exact ⟨fun k hk => absurd hk (Nat.not_lt_zero _), fun x hx _ => gw_fl_in (by omega) (by omega), fun h => absurd rfl h⟩
  · intro o ho
    exact Or.inl ⟨gw_fl_in (by omega) ho, gw_fl_in (by omega) ho⟩
  · intro o ho ha
    exact absurd (gw_fl_in (by omega) ho) ha
  · exact ⟨fun o ho => ⟨rfl, fun _ => gw_fl_in (by omega) ho, fun h => absurd rfl h⟩, fun s hs => ⟨rfl, fun h h1 h2 => absurd (Nat.le_trans h1 h2) (Nat.not_succ_le_zero 0)⟩⟩
  · intro c hc h
    exact absurd rfl h
  · intro s hs
    refine Or.inl ?_
    rcases (by omega : s = 0 ∨ s = 1) with z | z
    · subst z; rfl
    · subst z; rfl
theorem i_vc0 : wpX_init (fun u => wpY_init (fun v => i_Rel 0 u v)) := by
  have hY : ∀ q : SY → Prop, q (-1, 0, 0, fun _ => 0, fun _ => 0, fun _ => 0, gw_fl (fun _ => 0) 0 120 (-1), upd (upd (fun _ => 0) 0 (-1)) 1 (-1), gw_fl (fun _ => 0) 0 32 (-1), gw_fl (fun _ => 0) 0 32 (-1), fun _ => 0, fun _ => 0, fun _ => 0, fun _ => 0, fun _ => 0, fun _ => 0, fun _ => 0) → wpY_init q := by
    intro q K
    have h := gy_init118 (g_culprit := 0) (g_depth := 0) (g_lastMade := 0) (b_defined := fun _ => 0) (b_version := fun _ => 0) (b_parent := fun _ => 0) (b_own := fun _ => 0) (b_latest := fun _ => 0) (b_cls := fun _ => 0) (b_partner := fun _ => 0) (b_pinned := fun _ => 0) (b_arrived := fun _ => 0) (b_val := fun _ => 0) (b_from := fun _ => 0) (b_made := fun _ => 0) (b_done := fun _ => 0) (b_rows := fun _ => 0) (post := q) K 121 0 (by omega) (by omega)
    rw [gw_fl_0] at h
    exact ⟨121, h⟩
  have h := gx_initL (post := fun u => wpY_init (fun v => i_Rel 0 u v)) (f_end := 0) (f_at := 0) (f_written := 0) (f_read := 0) (f_error := 0) (f_culprit := 0) (f_nextHandle := 0) (f_depth := 0) (f_nTodo := 0) (a_defined := fun _ => 0) (a_parent := fun _ => 0) (a_level := fun _ => 0) (a_version := fun _ => 0) (a_fields := fun _ => 0) (a_fName := fun _ => 0) (a_fKind := fun _ => 0) (a_latest := fun _ => 0) (a_oClass := fun _ => 0) (a_pinned := fun _ => 0) (a_slot := fun _ => 0) (a_handle := fun _ => 0) (a_arrived := fun _ => 0) (a_handles := fun _ => 0) (a_described := fun _ => 0) (a_dLevels := fun _ => 0) (a_dFields := fun _ => 0) (a_plan := fun _ => 0) (a_wide := fun _ => 0) (a_wire := fun _ => 0) (a_order := fun _ => 0) (a_made := fun _ => 0) (a_sObj := fun _ => 0) (a_sLev := fun _ => 0) (a_sPos := fun _ => 0) (a_sCls := fun _ => 0) (a_pairs := fun _ => 0) (a_todo := fun _ => 0) (hY _ ⟨rfl, rfl, rfl, rfl, rfl, gw_R0⟩) 33 0 (by omega) (by omega)
  rw [gw_fl_0] at h
  exact ⟨33, h⟩
end
section
def gb_x (m : Int64) (i : Nat) : Bool := m.toBitVec.getLsbD i
theorem gb_xext {m w : Int64} (h : ∀ i, i < 64 → gb_x m i = gb_x w i) : m = w := wb_inj (BitVec.eq_of_getLsbD_eq h)
theorem gb_xor (m w : Int64) (i : Nat) : gb_x (m ||| w) i = (gb_x m i || gb_x w i) := by unfold gb_x; rw [Int64.toBitVec_or, BitVec.getLsbD_or]
theorem gb_x0 (i : Nat) : gb_x 0 i = false := by
  unfold gb_x
  have : (0 : Int64).toBitVec = 0#64 := rfl
  rw [this, BitVec.getLsbD_zero]
theorem gb_x1 {o : Nat} (ho : o < 64) {i : Nat} (hi : i < 64) : gb_x ((1 : Int64) <<< ((nI o).toInt64 &&& 63)) i = decide (i = o) := by
  have e : (1 : Int64) <<< ((nI o).toInt64 &&& 63) = lN (1 * 2 ^ o) := wb_shl 1 ho
  rw [e]
  unfold gb_x
  rw [wb_tb, BitVec.getLsbD_ofNat, Nat.one_mul, Nat.testBit_two_pow]
  simp [hi, eq_comm]
theorem gb_xand1 (x : Int64) : (x &&& 1) = 0 ↔ x.toBitVec.getLsbD 0 = false := by
  obtain ⟨n, hn, e⟩ := wb_of x
  subst e
  rw [wb_a1 hn, wb_tb, BitVec.getLsbD_ofNat, Nat.testBit_zero]
  show lN (n % 2) = lN 0 ↔ _
  rw [lN_eq (by omega) (by omega)]
  simp
theorem gb_xt (m : Int64) {o : Nat} (ho : o < 64) : ((m >>> ((nI o).toInt64 &&& 63)) &&& 1) = 0 ↔ gb_x m o = false := by
  rw [wb_c o ho, gb_xand1]
  show (m.toBitVec.sshiftRight ((lN o).toBitVec.smod 64).toNat).getLsbD 0 = false ↔ _
  rw [wb_tb, wb_sm o ho, BitVec.toNat_ofNat, Nat.mod_eq_of_lt (by omega), BitVec.getLsbD_sshiftRight]
  unfold gb_x
  simp [ho]
theorem gb_yz (x : Int32) : (x &&& 1) = 0 ↔ bt x 0 = false := by
  rw [pk_and x 1 (by decide)]
  unfold bt
  show nI _ = nI 0 ↔ (x.toBitVec.toNat).testBit 0 = false
  rw [nI_eq (by omega) (by omega), Nat.testBit_zero]
  simp
theorem gb_yo (x : Int32) : (x &&& 1) = 1 ↔ bt x 0 = true := by
  rw [pk_and x 1 (by decide)]
  unfold bt
  show nI _ = nI 1 ↔ (x.toBitVec.toNat).testBit 0 = true
  rw [nI_eq (by omega) (by omega), Nat.testBit_zero]
  simp
theorem gb_yt0 (m : Int32) {o : Nat} (ho : o < 32) : ((m >>> (nI o &&& 31)) &&& 1) = 0 ↔ bt m o = false := by
  rw [gb_yz, b_sshr o ho m (by omega), if_pos (by omega), Nat.add_zero]
theorem gb_yt1 (m : Int32) {o : Nat} (ho : o < 32) : ((m >>> (nI o &&& 31)) &&& 1) = 1 ↔ bt m o = true := by
  rw [gb_yo, b_sshr o ho m (by omega), if_pos (by omega), Nat.add_zero]
theorem gb_y1 {o : Nat} (ho : o < 32) {i : Nat} (hi : i < 32) : bt ((1 : Int32) <<< (nI o &&& 31)) i = decide (i = o) := by
  rw [b_shl o ho 1 hi]
  have : bt 1 (i - o) = decide (i - o = 0) := by
    unfold bt
    have : (1 : Int32).toBitVec = 1#32 := rfl
    rw [this, BitVec.getLsbD_one]
    simp
  rw [this, ← Bool.decide_and]
  exact decide_eq_decide.mpr (by omega)
/-! counting -/
noncomputable def gc_b (P : Prop) : Nat := @ite Nat P (Classical.propDecidable P) 1 0
theorem gc_b_t {P : Prop} (h : P) : gc_b P = 1 := by unfold gc_b; rw [if_pos h]
theorem gc_b_f {P : Prop} (h : ¬ P) : gc_b P = 0 := by unfold gc_b; rw [if_neg h]
theorem gc_b_le (P : Prop) : gc_b P ≤ 1 := by
  rcases Classical.em P with h | h
  · rw [gc_b_t h]; omega
  · rw [gc_b_f h]; omega
theorem gc_b_mono {P Q : Prop} (h : P → Q) : gc_b P ≤ gc_b Q := by
  rcases Classical.em P with hp | hp
  · rw [gc_b_t hp, gc_b_t (h hp)]; omega
  · rw [gc_b_f hp]; omega
noncomputable def gc_n (P : Nat → Prop) : Nat → Nat
  | 0 => 0
  | k + 1 => gc_n P k + gc_b (P k)
theorem gc_n_mono {P Q : Nat → Prop} : ∀ {N : Nat}, (∀ k, k < N → P k → Q k) → gc_n P N ≤ gc_n Q N
  | 0, _ => Nat.le_refl _
  | N + 1, h => by
    have a := gc_n_mono (P := P) (Q := Q) (N := N) (fun k hk => h k (by omega))
    have b := gc_b_mono (h N (by omega))
    simp only [gc_n]; omega
theorem gc_n_lt {P Q : Nat → Prop} {a : Nat} (hp : ¬ P a) (hq : Q a) : ∀ {N : Nat}, (∀ k, k < N → P k → Q k) → a < N → gc_n P N < gc_n Q N
  | 0, _, h => by omega
  | N + 1, h, ha => by
    simp only [gc_n]
    rcases Nat.lt_or_ge a N with z | z
    · have x := gc_n_lt hp hq (N := N) (fun k hk => h k (by omega)) z
      have b := gc_b_mono (h N (by omega))
      omega
    · have e : a = N := by omega
      subst e
      have x := gc_n_mono (P := P) (Q := Q) (N := a) (fun k hk => h k (by omega))
      rw [gc_b_t hq, gc_b_f hp]; omega
theorem gc_n_le (P : Nat → Prop) : ∀ N, gc_n P N ≤ N
  | 0 => Nat.le_refl _
  | N + 1 => by have := gc_n_le P N; have := gc_b_le (P N); simp only [gc_n]; omega
theorem gc_n_eq {P Q : Nat → Prop} {N : Nat} (h : ∀ k, k < N → (P k ↔ Q k)) : gc_n P N = gc_n Q N :=
  Nat.le_antisymm (gc_n_mono fun k hk => (h k hk).mp) (gc_n_mono fun k hk => (h k hk).mpr)
theorem gc_n_pos {P : Nat → Prop} {a N : Nat} (h : P a) (ha : a < N) : 0 < gc_n P N := by
  have := gc_n_lt (P := fun _ => False) (Q := P) (a := a) (fun z => z) h (N := N) (fun _ _ z => z.elim) ha
  omega
theorem gc_n_add {P : Nat → Prop} {a : Nat} (hp : ¬ P a) : ∀ {N : Nat}, a < N → gc_n (fun k => P k ∨ k = a) N = gc_n P N + 1
  | 0, h => by omega
  | N + 1, h => by
    simp only [gc_n]
    rcases Nat.lt_or_ge a N with z | z
    · rw [gc_n_add hp z]
      have : gc_b (P N ∨ N = a) = gc_b (P N) := Nat.le_antisymm (gc_b_mono fun q => q.elim id (fun e => by omega)) (gc_b_mono Or.inl)
      omega
    · have e : a = N := by omega
      subst e
      rw [gc_n_eq (P := fun k => P k ∨ k = a) (Q := P) (fun k hk => ⟨fun q => q.elim id (fun e => by omega), Or.inl⟩), gc_b_t (Or.inr rfl), gc_b_f hp]
end
section
def gk_T (lv up nf nm kd : Nat → Nat) (C : Nat → Int32) (V : Nat → Int64) (o t : Nat) : Prop := ∃ j k, j ≤ lv (gw_kl C o) ∧ k < nf (gw_al lv up (gw_kl C o) j) ∧ kd (4 * gw_al lv up (gw_kl C o) j + k) = 4 ∧ V (10 * o + nm (4 * gw_al lv up (gw_kl C o) j + k)) = lN t ∧ t < 32
theorem gl_lN0 {t : Nat} (ht : t < 100) : ¬ lN (t + 1) ≤ 0 := fun h => by
  have := (lN_le (b := 0) (by omega) (by omega)).mp h
  omega
theorem gl_m1N {t : Nat} (ht : t < 100) : (-1 : Int64) ≠ lN t := fun h => by
  have := congrArg Int64.toInt h
  rw [lN_toInt (by omega), show (-1 : Int64).toInt = -1 from by decide] at this
  omega
theorem gl_m1lt : (-1 : Int64) < 0 := by decide
theorem gl_nlt {t : Nat} (ht : t < 100) : ¬ lN t < 0 := fun h => by
  have := (lN_lt (b := 0) (by omega) (by omega)).mp h
  omega
section
variable {f_end f_at f_written f_read f_error f_culprit f_nextHandle f_depth f_nTodo : Int32} {a_defined a_parent a_level a_version a_fields a_fName a_fKind a_latest a_oClass a_pinned a_handle a_arrived a_handles a_described a_dLevels a_dFields a_plan a_wide a_wire a_order a_made a_sObj a_sLev a_sPos a_sCls a_todo : Nat → Int32} {a_slot a_pairs : Nat → Int64} {g_culprit g_depth g_lastMade : Int32} {b_defined b_version b_parent b_own b_latest b_cls b_partner b_pinned b_arrived b_from b_made b_done b_rows : Nat → Int32} {b_val : Nat → Int64} {lv up nf nm kd : Nat → Nat}
theorem gx_targetsL {post : Int64 → Prop} (HW : gw_W a_defined lv up nf nm kd) (HX : gw_CX a_defined a_parent a_level a_fields a_fName a_fKind lv up nf nm kd) (HO : gw_O a_defined a_oClass b_cls) (HV : gw_V lv up nf nm kd a_oClass a_slot b_val) {o : Nat} (ho : o < 32) (ha : a_oClass o ≠ -1)
    (K : ∀ m, (∀ q, q < 64 → (gb_x m q = true ↔ gk_T lv up nf nm kd a_oClass b_val o q)) → post m) :
    ∀ n i m, i ≤ 12 → 12 - i < n → (∀ q, q < 64 → (gb_x m q = true ↔ ∃ j k, 4 * j + k < i ∧ j ≤ lv (gw_kl a_oClass o) ∧ k < nf (gw_al lv up (gw_kl a_oClass o) j) ∧ kd (4 * gw_al lv up (gw_kl a_oClass o) j + k) = 4 ∧ b_val (10 * o + nm (4 * gw_al lv up (gw_kl a_oClass o) j + k)) = lN q ∧ q < 32)) →
      wX_targets_5 post (nI o) f_end f_at f_written f_read f_error f_culprit f_nextHandle f_depth f_nTodo a_defined a_parent a_level a_version a_fields a_fName a_fKind a_latest a_oClass a_pinned a_slot a_handle a_arrived a_handles a_described a_dLevels a_dFields a_plan a_wide a_wire a_order a_made a_sObj a_sLev a_sPos a_sCls a_pairs a_todo n m (nI i) := by
  obtain ⟨h1, h2, h3, h4, h5⟩ := gw_O_al HO ho ha
  have hl := (HW _ h1).2.2.2.2.1
  have eL := ((HX _ h1).2.2 h4).1
  have f4 : ∀ j, j ≤ lv (gw_kl a_oClass o) → nf (gw_al lv up (gw_kl a_oClass o) j) ≤ 4 := fun j hj => (HW _ (gw_al_ok HW h1 h4 hj).1).1
  intro n
  induction n with
  | zero => intro i m h1 h2; omega
  | succ n ih =>
    intro i m hi hn hm
    rw [wX_targets_5]
    dsimp only
    rcases Nat.eq_or_lt_of_le hi with z | z
    · subst z
      refine br_t (by decide) (K m fun q hq => (hm q hq).trans ⟨fun ⟨j, k, h, r⟩ => ⟨j, k, r⟩, fun ⟨j, k, r⟩ => ⟨j, k, ?_, r⟩⟩)
      have := f4 j r.1
      have := r.1
      have := r.2.1
      omega
    · refine br_f (ze_ge12f z) ⟨vp_in_nI ho (by decide), nm_r (e' := nI (gw_kl a_oClass o)) (by rw [nI_clamp (by omega)]; exact h2) ⟨vp_in_nI h1 (by decide), ?_⟩⟩
      rw [nI_clamp (n := gw_kl a_oClass o) (by omega), eL, ze_shr2 (by omega)]
      have skip : ¬ (i / 4 ≤ lv (gw_kl a_oClass o) ∧ i % 4 < nf (gw_al lv up (gw_kl a_oClass o) (i / 4)) ∧ kd (4 * gw_al lv up (gw_kl a_oClass o) (i / 4) + i % 4) = 4 ∧ ∃ q, b_val (10 * o + nm (4 * gw_al lv up (gw_kl a_oClass o) (i / 4) + i % 4)) = lN q ∧ q < 32) → wX_targets_5 post (nI o) f_end f_at f_written f_read f_error f_culprit f_nextHandle f_depth f_nTodo a_defined a_parent a_level a_version a_fields a_fName a_fKind a_latest a_oClass a_pinned a_slot a_handle a_arrived a_handles a_described a_dLevels a_dFields a_plan a_wide a_wire a_order a_made a_sObj a_sLev a_sPos a_sCls a_pairs a_todo n m (nI (i + 1)) := by
        intro no
        refine ih (i + 1) m z (by omega) (fun q hq => (hm q hq).trans ⟨fun ⟨j, k, h, r⟩ => ⟨j, k, by omega, r⟩, fun ⟨j, k, h, r⟩ => ⟨j, k, ?_, r⟩⟩)
        have := f4 j r.1
        obtain ⟨r1, r2, r3, r4, r5⟩ := r
        rcases Nat.lt_or_ge (4 * j + k) i with y | y
        · exact y
        · have e1 : i / 4 = j := by omega
          have e2 : i % 4 = k := by omega
          rw [e1, e2] at no
          exact absurd ⟨r1, r2, r3, q, r4, r5⟩ no
      by_cases y : lv (gw_kl a_oClass o) < i / 4
      · exact br_t (nI_lt y (by omega)) (nm_r (nI_1 i) (skip fun h => by omega))
      · refine br_f (nI_nlt (by omega) (by omega)) ?_
        obtain ⟨m1, m2, m3, m4⟩ := gw_al_ok HW h1 h4 (j := i / 4) (by omega)
        refine gx_ancestor HW HX h1 h4 (by omega) ⟨vp_in_nI m1 (by decide), ?_⟩
        rw [nI_clamp (n := gw_al lv up (gw_kl a_oClass o) (i / 4)) (by omega), (HX _ m1).1, ze_and3 (by omega)]
        have f5 := f4 (i / 4) (by omega)
        by_cases y2 : i % 4 < nf (gw_al lv up (gw_kl a_oClass o) (i / 4))
        · refine br_t (nI_lt y2 (by omega)) ?_
          have g := ((HW _ m1).2.2.1 _ y2).2
          have e4 : nI i = nI (4 * (i / 4) + i % 4) := congrArg nI (by omega)
          have kA : ∀ p : Int32 → Prop, p (nI (kd (4 * gw_al lv up (gw_kl a_oClass o) (i / 4) + i % 4))) → wpX_kindAt p (f_end, f_at, f_written, f_read, f_error, f_culprit, f_nextHandle, f_depth, f_nTodo, a_defined, a_parent, a_level, a_version, a_fields, a_fName, a_fKind, a_latest, a_oClass, a_pinned, a_slot, a_handle, a_arrived, a_handles, a_described, a_dLevels, a_dFields, a_plan, a_wide, a_wire, a_order, a_made, a_sObj, a_sLev, a_sPos, a_sCls, a_pairs, a_todo) (nI (gw_kl a_oClass o)) (nI i) := by
            intro p hp
            rw [e4]
            exact gx_kindAt HW HX h1 h4 (by omega) y2 hp
          refine kA _ ?_
          by_cases y3 : kd (4 * gw_al lv up (gw_kl a_oClass o) (i / 4) + i % 4) = 4
          · refine br_t (ze_eq4t y3) ?_
            have e5 : 12 * o + i = 12 * o + 4 * (i / 4) + i % 4 := by omega
            rw [ze_mul12, nI_add, nI_clamp (n := 12 * o + i) (by omega), e5]
            refine ⟨vp_in_nI (by omega) (by decide), ?_⟩
            rcases (HV o ho ha _ _ (by omega) y2).1 y3 with ⟨e6, e7⟩ | ⟨t, ht, e6, e7, -⟩
            · rw [e7]
              refine br_t (by decide) (nm_r (nI_1 i) (skip fun ⟨_, _, _, q, hq, hq2⟩ => ?_))
              rw [e6] at hq
              exact gl_m1N (by omega) hq
            · rw [e7]
              refine br_f (gl_lN0 (by omega)) ⟨vp_in_nI (by omega) (by decide), nm_e (nm_r (nI_1 i) ?_)⟩
              rw [lN_i, nI_pred]
              refine ih (i + 1) _ z (by omega) (fun q hq => ?_)
              rw [gb_xor, gb_x1 (by omega) hq, Bool.or_eq_true, decide_eq_true_iff, hm q hq]
              constructor
              · rintro (⟨j, k, h, r⟩ | e)
                · exact ⟨j, k, by omega, r⟩
                · subst e; exact ⟨i / 4, i % 4, by omega, by omega, y2, y3, e6, ht⟩
              · rintro ⟨j, k, h, r⟩
                have := f4 j r.1
                obtain ⟨r1, r2, r3, r4, r5⟩ := r
                rcases Nat.lt_or_ge (4 * j + k) i with y | y
                · exact Or.inl ⟨j, k, y, r1, r2, r3, r4, r5⟩
                · have e1 : i / 4 = j := by omega
                  have e2 : i % 4 = k := by omega
                  rw [e1, e2, r4] at e6
                  exact Or.inr ((lN_eq (by omega) (by omega)).mp e6)
          · exact br_f (ze_eq4f y3 (by omega)) (nm_r (nI_1 i) (skip fun h => y3 h.2.2.1))
        · exact br_f (nI_nlt (by omega) (by omega)) (nm_r (nI_1 i) (skip fun h => y2 h.2.1))
theorem gx_targets {post : Int64 → Prop} (HW : gw_W a_defined lv up nf nm kd) (HX : gw_CX a_defined a_parent a_level a_fields a_fName a_fKind lv up nf nm kd) (HO : gw_O a_defined a_oClass b_cls) (HV : gw_V lv up nf nm kd a_oClass a_slot b_val) {o : Nat} (ho : o < 32) (ha : a_oClass o ≠ -1)
    (K : ∀ m, (∀ q, q < 64 → (gb_x m q = true ↔ gk_T lv up nf nm kd a_oClass b_val o q)) → post m) : wpX_targets post (f_end, f_at, f_written, f_read, f_error, f_culprit, f_nextHandle, f_depth, f_nTodo, a_defined, a_parent, a_level, a_version, a_fields, a_fName, a_fKind, a_latest, a_oClass, a_pinned, a_slot, a_handle, a_arrived, a_handles, a_described, a_dLevels, a_dFields, a_plan, a_wide, a_wire, a_order, a_made, a_sObj, a_sLev, a_sPos, a_sCls, a_pairs, a_todo) (nI o) :=
  ⟨13, gx_targetsL HW HX HO HV ho ha K 13 0 0 (by omega) (by omega) (fun q hq => by rw [gb_x0]; exact ⟨fun h => by simp at h, fun ⟨j, k, h, _⟩ => by omega⟩)⟩
theorem gy_targetsL {post : Int32 → Prop} (HW : gw_W b_defined lv up nf nm kd) (HU : gw_U b_defined lv up nf nm) (HY : gw_CY b_defined b_parent b_own lv up nf nm kd) (HO : gw_O b_defined a_oClass b_cls) (HV : gw_V lv up nf nm kd a_oClass a_slot b_val) {o : Nat} (ho : o < 32) (ha : a_oClass o ≠ -1)
    (K : ∀ m, (∀ q, q < 32 → (bt m q = true ↔ gk_T lv up nf nm kd a_oClass b_val o q)) → post m) :
    ∀ n i m, i ≤ 10 → 10 - i < n → (∀ q, q < 32 → (bt m q = true ↔ ∃ j k, nm (4 * gw_al lv up (gw_kl a_oClass o) j + k) < i ∧ j ≤ lv (gw_kl a_oClass o) ∧ k < nf (gw_al lv up (gw_kl a_oClass o) j) ∧ kd (4 * gw_al lv up (gw_kl a_oClass o) j + k) = 4 ∧ b_val (10 * o + nm (4 * gw_al lv up (gw_kl a_oClass o) j + k)) = lN q ∧ q < 32)) →
      wY_targets_4 post (nI o) g_culprit g_depth g_lastMade b_defined b_version b_parent b_own b_latest b_cls b_partner b_pinned b_arrived b_val b_from b_made b_done b_rows n m (nI i) := by
  obtain ⟨h1, h2, h3, h4, h5⟩ := gw_O_al HO ho ha
  have f4 : ∀ j k, j ≤ lv (gw_kl a_oClass o) → k < nf (gw_al lv up (gw_kl a_oClass o) j) → nm (4 * gw_al lv up (gw_kl a_oClass o) j + k) < 10 ∧ kd (4 * gw_al lv up (gw_kl a_oClass o) j + k) < 5 := fun j k hj => (HW _ (gw_al_ok HW h1 h4 hj).1).2.2.1 k
  intro n
  induction n with
  | zero => intro i m h1 h2; omega
  | succ n ih =>
    intro i m hi hn hm
    rw [wY_targets_4]
    dsimp only
    rcases Nat.eq_or_lt_of_le hi with z | z
    · subst z
      exact br_t (by decide) (K m fun q hq => (hm q hq).trans ⟨fun ⟨j, k, h, r⟩ => ⟨j, k, r⟩, fun ⟨j, k, r⟩ => ⟨j, k, (f4 j k r.1 r.2.1).1, r⟩⟩)
    · refine br_f (ze_ge10f z) ?_
      refine gy_kindOf HW HY HO ho ha (fun r hr => ?_)
      have skip : (∀ j k, j ≤ lv (gw_kl a_oClass o) → k < nf (gw_al lv up (gw_kl a_oClass o) j) → kd (4 * gw_al lv up (gw_kl a_oClass o) j + k) = 4 → nm (4 * gw_al lv up (gw_kl a_oClass o) j + k) = i → ∀ q, q < 32 → b_val (10 * o + i) ≠ lN q) → wY_targets_4 post (nI o) g_culprit g_depth g_lastMade b_defined b_version b_parent b_own b_latest b_cls b_partner b_pinned b_arrived b_val b_from b_made b_done b_rows n m (nI (i + 1)) := by
        intro no
        refine ih (i + 1) m z (by omega) (fun q hq => (hm q hq).trans ⟨fun ⟨j, k, h, r⟩ => ⟨j, k, by omega, r⟩, fun ⟨j, k, h, r⟩ => ⟨j, k, ?_, r⟩⟩)
        obtain ⟨r1, r2, r3, r4, r5⟩ := r
        rcases Nat.lt_or_ge (nm (4 * gw_al lv up (gw_kl a_oClass o) j + k)) i with y | y
        · exact y
        · have e1 : nm (4 * gw_al lv up (gw_kl a_oClass o) j + k) = i := by omega
          rw [e1] at r4
          exact absurd r4 (no j k r1 r2 r3 e1 q r5)
      rcases hr with ⟨j', k', hj', hk', e1, er⟩ | ⟨er, hr⟩
      · have g := f4 j' k' hj' hk'
        have e2 := (nI_eq (by omega) (by omega)).mp e1
        have uniq : ∀ j k, j ≤ lv (gw_kl a_oClass o) → k < nf (gw_al lv up (gw_kl a_oClass o) j) → nm (4 * gw_al lv up (gw_kl a_oClass o) j + k) = i → j = j' ∧ k = k' := fun j k hj hk e => gw_one HW HU h1 h4 hj hj' hk hk' (by omega)
        rw [er]
        by_cases y3 : kd (4 * gw_al lv up (gw_kl a_oClass o) j' + k') = 4
        · refine br_t (ze_eq4t y3) ?_
          rw [ze_mul10, nI_add, nI_clamp (n := 10 * o + i) (by omega)]
          refine ⟨vp_in_nI (by omega) (by decide), ?_⟩
          have hv := (HV o ho ha _ _ hj' hk').1 y3
          rw [← e2] at hv
          rcases hv with ⟨e6, e7⟩ | ⟨t, ht, e6, e7, -⟩
          · rw [e6]
            exact br_t gl_m1lt (nm_r (nI_1 i) (skip fun j k _ _ _ _ q hq => by rw [e6]; exact gl_m1N (by omega)))
          · rw [e6]
            refine br_f (gl_nlt (by omega)) ⟨vp_in_nI (by omega) (by decide), nm_e (nm_r (nI_1 i) ?_)⟩
            rw [lN_i]
            refine ih (i + 1) _ z (by omega) (fun q hq => ?_)
            rw [b_or, gb_y1 (by omega) hq, Bool.or_eq_true, decide_eq_true_iff, hm q hq]
            constructor
            · rintro (⟨j, k, h, r⟩ | e)
              · exact ⟨j, k, by omega, r⟩
              · subst e; exact ⟨j', k', by omega, hj', hk', y3, by rw [← e2]; exact e6, ht⟩
            · rintro ⟨j, k, h, r⟩
              obtain ⟨r1, r2, r3, r4, r5⟩ := r
              rcases Nat.lt_or_ge (nm (4 * gw_al lv up (gw_kl a_oClass o) j + k)) i with y | y
              · exact Or.inl ⟨j, k, y, r1, r2, r3, r4, r5⟩
              · have e8 : nm (4 * gw_al lv up (gw_kl a_oClass o) j + k) = i := by omega
                rw [e8, e6] at r4
                exact Or.inr ((lN_eq (by omega) (by omega)).mp r4).symm
        · refine br_f (ze_eq4f y3 (by omega)) (nm_r (nI_1 i) (skip fun j k hj hk hk4 e => ?_))
          obtain ⟨rfl, rfl⟩ := uniq j k hj hk e
          exact absurd hk4 y3
      · rw [er]
        exact br_f (by decide) (nm_r (nI_1 i) (skip fun j k hj hk _ e => absurd (congrArg nI e).symm (hr j k hj hk)))
theorem gy_targets {post : Int32 → Prop} (HW : gw_W b_defined lv up nf nm kd) (HU : gw_U b_defined lv up nf nm) (HY : gw_CY b_defined b_parent b_own lv up nf nm kd) (HO : gw_O b_defined a_oClass b_cls) (HV : gw_V lv up nf nm kd a_oClass a_slot b_val) {o : Nat} (ho : o < 32) (ha : a_oClass o ≠ -1)
    (K : ∀ m, (∀ q, q < 32 → (bt m q = true ↔ gk_T lv up nf nm kd a_oClass b_val o q)) → post m) : wpY_targets post (g_culprit, g_depth, g_lastMade, b_defined, b_version, b_parent, b_own, b_latest, b_cls, b_partner, b_pinned, b_arrived, b_val, b_from, b_made, b_done, b_rows) (nI o) :=
  ⟨11, gy_targetsL HW HU HY HO HV ho ha K 11 0 0 (by omega) (by omega) (fun q hq => by rw [b_0]; exact ⟨fun h => by simp at h, fun ⟨j, k, h, _⟩ => by omega⟩)⟩
end
end
section
def gk_cl (T : Nat → Nat → Prop) (s : Nat) (B : Nat → Prop) : Prop := ∀ p, p < 16 → B (16 * s + p) → ∀ t, T (16 * s + p) t → B t
def gk_P (T : Nat → Nat → Prop) (s i : Nat) (B0 B : Nat → Prop) : Prop :=
  (∀ q, q < 32 → B0 q → B q) ∧ (∀ S : Nat → Prop, (∀ q, q < 32 → B0 q → S q) → gk_cl T s S → ∀ q, q < 32 → B q → S q) ∧ ((∃ p, p < 16 ∧ B (16 * s + p) ∧ ¬ B0 (16 * s + p)) ∨ ∀ p, p < i → B0 (16 * s + p) → ∀ t, T (16 * s + p) t → B0 t)
theorem gk_P_0 (T : Nat → Nat → Prop) (s : Nat) (B : Nat → Prop) : gk_P T s 0 B B := ⟨fun _ _ h => h, fun S h _ => h, Or.inr fun p hp => by omega⟩
theorem gk_P_s {T : Nat → Nat → Prop} {s i : Nat} {B0 B B' : Nat → Prop} (hs : s < 2) (hi : i < 16) (h : gk_P T s i B0 B) (hT : B (16 * s + i) → ∀ t, T (16 * s + i) t → t < 32 ∧ t / 16 = s) (hB : ∀ q, q < 32 → (B' q ↔ B q ∨ (B (16 * s + i) ∧ T (16 * s + i) q))) : gk_P T s (i + 1) B0 B' := by
  obtain ⟨h1, h2, h3⟩ := h
  refine ⟨fun q hq z => (hB q hq).mpr (Or.inl (h1 q hq z)), fun S k1 k2 q hq z => ?_, ?_⟩
  · rcases (hB q hq).mp z with y | ⟨y1, y2⟩
    · exact h2 S k1 k2 q hq y
    · exact k2 i hi (h2 S k1 k2 _ (by omega) y1) q y2
  · rcases h3 with ⟨p, hp, y1, y2⟩ | h3
    · exact Or.inl ⟨p, hp, (hB _ (by omega)).mpr (Or.inl y1), y2⟩
    · rcases Classical.em (∃ t, B (16 * s + i) ∧ T (16 * s + i) t ∧ ¬ B0 t) with ⟨t, y1, y2, y3⟩ | no
      · obtain ⟨t1, t2⟩ := hT y1 t y2
        have e : 16 * s + t % 16 = t := by omega
        exact Or.inl ⟨t % 16, by omega, by rw [e]; exact (hB t t1).mpr (Or.inr ⟨y1, y2⟩), by rw [e]; exact y3⟩
      · refine Or.inr fun p hp y1 t y2 => ?_
        rcases Nat.lt_or_ge p i with z | z
        · exact h3 p z y1 t y2
        · have e : p = i := by omega
          subst e
          rcases Classical.em (B0 t) with y | y
          · exact y
          · exact absurd ⟨t, h1 _ (by omega) y1, y2, y⟩ no
noncomputable def gk_sw (C : Nat → Int32) (B : Nat → Prop) (s i : Nat) : Nat → Int32 := fun o => @ite _ (16 * s ≤ o ∧ o < 16 * s + i ∧ C o ≠ -1 ∧ ¬ B o) (Classical.propDecidable _) (-1) (C o)
theorem gk_sw_t {C : Nat → Int32} {B : Nat → Prop} {s i o : Nat} (h : 16 * s ≤ o ∧ o < 16 * s + i ∧ C o ≠ -1 ∧ ¬ B o) : gk_sw C B s i o = -1 := by unfold gk_sw; rw [if_pos h]
theorem gk_sw_f {C : Nat → Int32} {B : Nat → Prop} {s i o : Nat} (h : ¬ (16 * s ≤ o ∧ o < 16 * s + i ∧ C o ≠ -1 ∧ ¬ B o)) : gk_sw C B s i o = C o := by unfold gk_sw; rw [if_neg h]
theorem gk_sw_0 (C : Nat → Int32) (B : Nat → Prop) (s : Nat) : gk_sw C B s 0 = C := by
  funext o
  exact gk_sw_f (fun h => by omega)
theorem gk_sw_k {C : Nat → Int32} {B : Nat → Prop} {s i : Nat} (h : ¬ (C (16 * s + i) ≠ -1 ∧ ¬ B (16 * s + i))) : gk_sw C B s (i + 1) = gk_sw C B s i := by
  funext o
  rcases Classical.em (16 * s ≤ o ∧ o < 16 * s + i ∧ C o ≠ -1 ∧ ¬ B o) with z | z
  · rw [gk_sw_t z, gk_sw_t ⟨z.1, by omega, z.2.2⟩]
  · rw [gk_sw_f z, gk_sw_f]
    rintro ⟨h1, h2, h3⟩
    rcases Nat.lt_or_ge o (16 * s + i) with y | y
    · exact z ⟨h1, y, h3⟩
    · have e : o = 16 * s + i := by omega
      subst e; exact h h3
theorem gk_sw_d {C : Nat → Int32} {B : Nat → Prop} {s i : Nat} (h : C (16 * s + i) ≠ -1 ∧ ¬ B (16 * s + i)) : gk_sw C B s (i + 1) = upd (gk_sw C B s i) (16 * s + i) (-1) := by
  funext o
  by_cases e : o = 16 * s + i
  · subst e; rw [pk_us, gk_sw_t ⟨by omega, by omega, h⟩]
  · rw [pk_un e]
    rcases Classical.em (16 * s ≤ o ∧ o < 16 * s + i ∧ C o ≠ -1 ∧ ¬ B o) with z | z
    · rw [gk_sw_t z, gk_sw_t ⟨z.1, by omega, z.2.2⟩]
    · rw [gk_sw_f z, gk_sw_f]
      rintro ⟨h1, h2, h3⟩
      exact z ⟨h1, by omega, h3⟩
def gk_RT (C PN : Nat → Int32) (hh pq : Nat → Nat) (q : Nat) : Prop := PN q ≠ 0 ∨ hh q ≠ 0 ∨ ∃ o, o < 32 ∧ C o ≠ -1 ∧ hh o ≠ 0 ∧ pq o = q
theorem gk_T_al {D Z : Nat → Int32} {lv up nf nm kd : Nat → Nat} {C : Nat → Int32} {S V : Nat → Int64} (HV : gw_V lv up nf nm kd C S V) {o t : Nat} (ho : o < 32) (ha : C o ≠ -1) (h : gk_T lv up nf nm kd C V o t) : t < 32 ∧ t / 16 = o / 16 ∧ C t ≠ -1 := by
  obtain ⟨j, k, h1, h2, h3, h4, h5⟩ := h
  rcases (HV o ho ha j k h1 h2).1 h3 with ⟨e, -⟩ | ⟨t', ht, e, -, h6, h7⟩
  · rw [h4] at e; exact absurd e.symm (gl_m1N (by omega))
  · rw [h4] at e
    have := (lN_eq (by omega) (by omega)).mp e
    subst this
    exact ⟨h5, h7, h6⟩
section
variable {f_end f_at f_written f_read f_error f_culprit f_nextHandle f_depth f_nTodo : Int32} {a_defined a_parent a_level a_version a_fields a_fName a_fKind a_latest a_oClass a_pinned a_handle a_arrived a_handles a_described a_dLevels a_dFields a_plan a_wide a_wire a_order a_made a_sObj a_sLev a_sPos a_sCls a_todo : Nat → Int32} {a_slot a_pairs : Nat → Int64} {g_culprit g_depth g_lastMade : Int32} {b_defined b_version b_parent b_own b_latest b_cls b_partner b_pinned b_arrived b_from b_made b_done b_rows : Nat → Int32} {b_val : Nat → Int64} {lv up nf nm kd hh hs pq : Nat → Nat}
theorem gx_c151 {post : Int32 → SX → Prop} {s : Nat} {m : Int64} (hs2 : s < 2) (HO : gw_O a_defined a_oClass b_cls)
    (K : post (nI (gc_n (fun p => a_oClass (16 * s + p) ≠ -1 ∧ ¬ gb_x m (16 * s + p) = true) 16)) (f_end, f_at, f_written, f_read, f_error, f_culprit, f_nextHandle, f_depth, f_nTodo, a_defined, a_parent, a_level, a_version, a_fields, a_fName, a_fKind, a_latest, gk_sw a_oClass (fun q => gb_x m q = true) s 16, a_pinned, a_slot, a_handle, a_arrived, a_handles, a_described, a_dLevels, a_dFields, a_plan, a_wide, a_wire, a_order, a_made, a_sObj, a_sLev, a_sPos, a_sCls, a_pairs, a_todo)) :
    ∀ n i, i ≤ 16 → 16 - i < n → wX_collect_151 post (nI s) m f_end f_at f_written f_read f_error f_culprit f_nextHandle f_depth f_nTodo n (nI (gc_n (fun p => a_oClass (16 * s + p) ≠ -1 ∧ ¬ gb_x m (16 * s + p) = true) i)) (nI (16 * s + i)) a_defined a_parent a_level a_version a_fields a_fName a_fKind a_latest (gk_sw a_oClass (fun q => gb_x m q = true) s i) a_pinned a_slot a_handle a_arrived a_handles a_described a_dLevels a_dFields a_plan a_wide a_wire a_order a_made a_sObj a_sLev a_sPos a_sCls a_pairs a_todo := by
  intro n
  induction n with
  | zero => intro i h1 h2; omega
  | succ n ih =>
    intro i hi hn
    rw [wX_collect_151]
    dsimp only
    rcases Nat.eq_or_lt_of_le hi with z | z
    · subst z
      rw [ze_mul16, ze_add16]
      exact br_t (nI_le (by omega) (by omega)) K
    · rw [ze_mul16, ze_add16, nI_clamp (by omega), gk_sw_f (fun h => by omega)]
      refine br_f (nI_ge (by omega) (by omega)) ⟨vp_in_nI (by omega) (by decide), ?_⟩
      have ihn := ih (i + 1) z (by omega)
      rcases HO (16 * s + i) (by omega) with ⟨h1, h2⟩ | ⟨h1, h2, h3, h4, h5⟩
      · rw [gk_sw_k (fun h => h.1 h1)] at ihn
        rw [h1]
        refine br_t (by decide) (nm_r (nI_1 _) ?_)
        have e : gc_n (fun p => a_oClass (16 * s + p) ≠ -1 ∧ ¬ gb_x m (16 * s + p) = true) (i + 1) = gc_n (fun p => a_oClass (16 * s + p) ≠ -1 ∧ ¬ gb_x m (16 * s + p) = true) i := by
          show _ + gc_b _ = _
          rw [gc_b_f (fun h => h.1 h1), Nat.add_zero]
        rw [e] at ihn
        exact ihn
      · have ha : a_oClass (16 * s + i) ≠ -1 := by rw [h2]; exact ze_m1_ne (by omega)
        rw [h2]
        refine br_f (nI_pos (by omega)) ?_
        by_cases y : gb_x m (16 * s + i) = true
        · rw [gk_sw_k (fun h => h.2 y)] at ihn
          refine br_f (fun q => by rw [gb_xt m (by omega)] at q; rw [q] at y; exact absurd y (by decide)) (nm_r (nI_1 _) ?_)
          have e : gc_n (fun p => a_oClass (16 * s + p) ≠ -1 ∧ ¬ gb_x m (16 * s + p) = true) (i + 1) = gc_n (fun p => a_oClass (16 * s + p) ≠ -1 ∧ ¬ gb_x m (16 * s + p) = true) i := by
            show _ + gc_b _ = _
            rw [gc_b_f (fun h => h.2 y), Nat.add_zero]
          rw [e] at ihn
          exact ihn
        · rw [gk_sw_d ⟨ha, y⟩] at ihn
          refine br_t ((gb_xt m (by omega)).mpr (by simpa using y)) ⟨vp_in_nI (by omega) (by decide), nm_e (nm_r (nI_1 _) (nm_r (nI_1 _) ?_))⟩
          have e : gc_n (fun p => a_oClass (16 * s + p) ≠ -1 ∧ ¬ gb_x m (16 * s + p) = true) (i + 1) = gc_n (fun p => a_oClass (16 * s + p) ≠ -1 ∧ ¬ gb_x m (16 * s + p) = true) i + 1 := by
            show _ + gc_b _ = _
            rw [gc_b_t ⟨ha, y⟩]
          rw [e] at ihn
          rw [ze_nbm1]
          exact ihn
theorem gy_c122 {post : Int32 → SY → Prop} {s : Nat} {m : Int32} {B : Nat → Prop} (hs2 : s < 2) (HO : gw_O b_defined a_oClass b_cls) (hB : ∀ p, p < 16 → (bt m (16 * s + p) = true ↔ B (16 * s + p)))
    (K : post (nI (gc_n (fun p => a_oClass (16 * s + p) ≠ -1 ∧ ¬ B (16 * s + p)) 16)) (g_culprit, g_depth, g_lastMade, b_defined, b_version, b_parent, b_own, b_latest, gk_sw b_cls B s 16, b_partner, b_pinned, b_arrived, b_val, b_from, b_made, b_done, b_rows)) :
    ∀ n i, i ≤ 16 → 16 - i < n → wY_collect_122 post (nI s) m g_culprit g_depth g_lastMade n (nI (gc_n (fun p => a_oClass (16 * s + p) ≠ -1 ∧ ¬ B (16 * s + p)) i)) (nI (16 * s + i)) b_defined b_version b_parent b_own b_latest (gk_sw b_cls B s i) b_partner b_pinned b_arrived b_val b_from b_made b_done b_rows := by
  intro n
  induction n with
  | zero => intro i h1 h2; omega
  | succ n ih =>
    intro i hi hn
    rw [wY_collect_122]
    dsimp only
    rcases Nat.eq_or_lt_of_le hi with z | z
    · subst z
      rw [ze_mul16, ze_add16]
      exact br_t (nI_le (by omega) (by omega)) K
    · rw [ze_mul16, ze_add16, nI_clamp (by omega), gk_sw_f (fun h => by omega)]
      refine br_f (nI_ge (by omega) (by omega)) ⟨vp_in_nI (by omega) (by decide), ?_⟩
      have ihn := ih (i + 1) z (by omega)
      rcases HO (16 * s + i) (by omega) with ⟨h1, h2⟩ | ⟨h1, h2, h3, h4, h5⟩
      · rw [gk_sw_k (fun h => h.1 h2)] at ihn
        rw [h2]
        refine br_t (by decide) (nm_r (nI_1 _) ?_)
        have e : gc_n (fun p => a_oClass (16 * s + p) ≠ -1 ∧ ¬ B (16 * s + p)) (i + 1) = gc_n (fun p => a_oClass (16 * s + p) ≠ -1 ∧ ¬ B (16 * s + p)) i := by
          show _ + gc_b _ = _
          rw [gc_b_f (fun h => h.1 h1), Nat.add_zero]
        rw [e] at ihn
        exact ihn
      · have ha : a_oClass (16 * s + i) ≠ -1 := by rw [h2]; exact ze_m1_ne (by omega)
        have hz : b_cls (16 * s + i) ≠ -1 := by rw [h3]; exact ze_m1_ne (by omega)
        rw [h3]
        refine br_f (nI_pos (by omega)) ?_
        by_cases y : B (16 * s + i)
        · have y2 := (hB i z).mpr y
          rw [gk_sw_k (fun h => h.2 y)] at ihn
          refine br_f (fun q => by rw [gb_yt0 m (by omega)] at q; rw [q] at y2; exact absurd y2 (by decide)) (nm_r (nI_1 _) ?_)
          have e : gc_n (fun p => a_oClass (16 * s + p) ≠ -1 ∧ ¬ B (16 * s + p)) (i + 1) = gc_n (fun p => a_oClass (16 * s + p) ≠ -1 ∧ ¬ B (16 * s + p)) i := by
            show _ + gc_b _ = _
            rw [gc_b_f (fun h => h.2 y), Nat.add_zero]
          rw [e] at ihn
          exact ihn
        · have y2 : bt m (16 * s + i) = false := by
            rcases Bool.eq_false_or_eq_true (bt m (16 * s + i)) with q | q
            · exact absurd ((hB i z).mp q) y
            · exact q
          rw [gk_sw_d ⟨hz, y⟩] at ihn
          refine br_t ((gb_yt0 m (by omega)).mpr y2) ⟨vp_in_nI (by omega) (by decide), nm_e (nm_r (nI_1 _) (nm_r (nI_1 _) ?_))⟩
          have e : gc_n (fun p => a_oClass (16 * s + p) ≠ -1 ∧ ¬ B (16 * s + p)) (i + 1) = gc_n (fun p => a_oClass (16 * s + p) ≠ -1 ∧ ¬ B (16 * s + p)) i + 1 := by
            show _ + gc_b _ = _
            rw [gc_b_t ⟨ha, y⟩]
          rw [e] at ihn
          exact ihn
theorem gx_c97 {post : Int32 → SX → Prop} {J : Int64 → Prop} {s : Nat} {m0 : Int64} (hs2 : s < 2) (HW : gw_W a_defined lv up nf nm kd) (HX : gw_CX a_defined a_parent a_level a_fields a_fName a_fKind lv up nf nm kd) (HO : gw_O a_defined a_oClass b_cls) (HV : gw_V lv up nf nm kd a_oClass a_slot b_val)
    (h0 : ∀ q, q < 64 → gb_x m0 q = true → q < 32 ∧ a_oClass q ≠ -1)
    (K : ∀ m, gk_P (gk_T lv up nf nm kd a_oClass b_val) s 16 (fun q => gb_x m0 q = true) (fun q => gb_x m q = true) → (∀ q, q < 64 → gb_x m q = true → q < 32 ∧ a_oClass q ≠ -1) → (m = m0 → ∃ n151 : Nat, wX_collect_151 post (nI s) m f_end f_at f_written f_read f_error f_culprit f_nextHandle f_depth f_nTodo n151 0 (nI (16 * s)) a_defined a_parent a_level a_version a_fields a_fName a_fKind a_latest a_oClass a_pinned a_slot a_handle a_arrived a_handles a_described a_dLevels a_dFields a_plan a_wide a_wire a_order a_made a_sObj a_sLev a_sPos a_sCls a_pairs a_todo) ∧ (¬ m = m0 → J m)) :
    ∀ n i m, i ≤ 16 → 16 - i < n → gk_P (gk_T lv up nf nm kd a_oClass b_val) s i (fun q => gb_x m0 q = true) (fun q => gb_x m q = true) → (∀ q, q < 64 → gb_x m q = true → q < 32 ∧ a_oClass q ≠ -1) → wX_collect_97 post J (nI s) m0 f_end f_at f_written f_read f_error f_culprit f_nextHandle f_depth f_nTodo a_defined a_parent a_level a_version a_fields a_fName a_fKind a_latest a_oClass a_pinned a_slot a_handle a_arrived a_handles a_described a_dLevels a_dFields a_plan a_wide a_wire a_order a_made a_sObj a_sLev a_sPos a_sCls a_pairs a_todo n m (nI (16 * s + i)) := by
  intro n
  induction n with
  | zero => intro i m h1 h2; omega
  | succ n ih =>
    intro i m hi hn hP hA
    rw [wX_collect_97]
    dsimp only
    rw [ze_mul16, ze_add16]
    rcases Nat.eq_or_lt_of_le hi with z | z
    · subst z
      refine br_t (nI_le (by omega) (by omega)) ?_
      obtain ⟨k1, k2⟩ := K m hP hA
      exact br_c (fun e => nm_e (k1 e)) k2
    · refine br_f (nI_ge (by omega) (by omega)) ?_
      by_cases y : gb_x m (16 * s + i) = true
      · refine br_f (fun q => by rw [gb_xt m (by omega)] at q; rw [q] at y; exact absurd y (by decide)) ?_
        obtain ⟨-, ha⟩ := hA _ (by omega) y
        refine gx_targets HW HX HO HV (by omega) ha (fun w hw => nm_e (nm_r (nI_1 _) ?_))
        refine ih (i + 1) _ z (by omega) (gk_P_s hs2 z hP (fun _ t ht => ?_) (fun q hq => ?_)) (fun q hq h => ?_)
        · have := gk_T_al (D := a_defined) (Z := b_cls) HV (by omega) ha ht
          omega
        · show gb_x (m ||| w) q = true ↔ _
          rw [gb_xor, Bool.or_eq_true, hw q (by omega)]
          exact ⟨fun h => h.imp id (fun h => ⟨y, h⟩), fun h => h.imp id (fun h => h.2)⟩
        · rw [gb_xor, Bool.or_eq_true, hw q hq] at h
          rcases h with h | h
          · exact hA q hq h
          · have := gk_T_al (D := a_defined) (Z := b_cls) HV (by omega) ha h
            exact ⟨this.1, this.2.2⟩
      · refine br_t ((gb_xt m (by omega)).mpr (by simpa using y)) (nm_r (nI_1 _) ?_)
        refine ih (i + 1) m z (by omega) (gk_P_s hs2 z hP (fun h => absurd h y) (fun q hq => ?_)) hA
        exact ⟨Or.inl, fun h => h.elim id (fun h => absurd h.1 y)⟩
theorem gx_c88 {post : Int32 → SX → Prop} {s : Nat} {m0 : Int64} (hs2 : s < 2) (HW : gw_W a_defined lv up nf nm kd) (HX : gw_CX a_defined a_parent a_level a_fields a_fName a_fKind lv up nf nm kd) (HO : gw_O a_defined a_oClass b_cls) (HV : gw_V lv up nf nm kd a_oClass a_slot b_val)
    (K : ∀ m, (∀ q, q < 32 → gb_x m0 q = true → gb_x m q = true) → (∀ S : Nat → Prop, (∀ q, q < 32 → gb_x m0 q = true → S q) → gk_cl (gk_T lv up nf nm kd a_oClass b_val) s S → ∀ q, q < 32 → gb_x m q = true → S q) → gk_cl (gk_T lv up nf nm kd a_oClass b_val) s (fun q => gb_x m q = true) → ∃ n151 : Nat, wX_collect_151 post (nI s) m f_end f_at f_written f_read f_error f_culprit f_nextHandle f_depth f_nTodo n151 0 (nI (16 * s)) a_defined a_parent a_level a_version a_fields a_fName a_fKind a_latest a_oClass a_pinned a_slot a_handle a_arrived a_handles a_described a_dLevels a_dFields a_plan a_wide a_wire a_order a_made a_sObj a_sLev a_sPos a_sCls a_pairs a_todo) :
    ∀ n m, 32 - gc_n (fun q => gb_x m q = true) 32 < n → (∀ q, q < 32 → gb_x m0 q = true → gb_x m q = true) → (∀ S : Nat → Prop, (∀ q, q < 32 → gb_x m0 q = true → S q) → gk_cl (gk_T lv up nf nm kd a_oClass b_val) s S → ∀ q, q < 32 → gb_x m q = true → S q) → (∀ q, q < 64 → gb_x m q = true → q < 32 ∧ a_oClass q ≠ -1) → wX_collect_88 post (nI s) f_end f_at f_written f_read f_error f_culprit f_nextHandle f_depth f_nTodo a_defined a_parent a_level a_version a_fields a_fName a_fKind a_latest a_oClass a_pinned a_slot a_handle a_arrived a_handles a_described a_dLevels a_dFields a_plan a_wide a_wire a_order a_made a_sObj a_sLev a_sPos a_sCls a_pairs a_todo n m := by
  intro n
  induction n with
  | zero => intro m h1; omega
  | succ n ih =>
    intro m hn h1 h2 h3
    rw [wX_collect_88]
    dsimp only
    rw [ze_mul16]
    refine nm_e ⟨17, gx_c97 hs2 HW HX HO HV h3 (fun w hP hA => ⟨fun e => ?_, fun e => ?_⟩) 17 0 m (by omega) (by omega) (gk_P_0 _ _ _) h3⟩
    · subst e
      refine K w h1 h2 ?_
      rcases hP.2.2 with ⟨p, _, y1, y2⟩ | h
      · exact absurd y1 y2
      · exact fun p hp hb => h p hp hb
    · obtain ⟨a, ha1, ha2, ha3⟩ : ∃ q, q < 32 ∧ ¬ gb_x m q = true ∧ gb_x w q = true := by
        rcases Classical.em (∃ q, q < 32 ∧ ¬ gb_x m q = true ∧ gb_x w q = true) with h | h
        · exact h
        · refine absurd (gb_xext fun i hi => ?_) e
          rcases Classical.em (gb_x m i = true) with y | y
          · rw [y]; exact hP.1 i (h3 i hi y).1 y
          · rcases Classical.em (gb_x w i = true) with y2 | y2
            · exact absurd ⟨i, (hA i hi y2).1, y, y2⟩ h
            · simp only [Bool.not_eq_true] at y y2
              rw [y, y2]
      have lt := gc_n_lt (P := fun q => gb_x m q = true) (Q := fun q => gb_x w q = true) (a := a) ha2 ha3 (N := 32) hP.1 ha1
      have le := gc_n_le (fun q => gb_x w q = true) 32
      exact ih w (by omega) (fun q hq h => hP.1 q hq (h1 q hq h)) (fun S k1 k2 => hP.2.1 S (h2 S k1 k2) k2) hA
theorem gx_c14 {post : Int32 → SX → Prop} {s : Nat} (HO : gw_O a_defined a_oClass b_cls) (HS : gw_S a_oClass a_handle a_arrived a_handles b_partner hh hs pq)
    (K : ∀ m, (∀ q, q < 64 → (gb_x m q = true ↔ ∃ o, o < 32 ∧ a_oClass o ≠ -1 ∧ (((a_pinned o ≠ 0 ∨ hh o ≠ 0) ∧ q = o) ∨ (hh o ≠ 0 ∧ q = pq o)))) → ∃ n88 : Nat, wX_collect_88 post (nI s) f_end f_at f_written f_read f_error f_culprit f_nextHandle f_depth f_nTodo a_defined a_parent a_level a_version a_fields a_fName a_fKind a_latest a_oClass a_pinned a_slot a_handle a_arrived a_handles a_described a_dLevels a_dFields a_plan a_wide a_wire a_order a_made a_sObj a_sLev a_sPos a_sCls a_pairs a_todo n88 m) :
    ∀ n i m, i ≤ 32 → 32 - i < n → (∀ q, q < 64 → (gb_x m q = true ↔ ∃ o, o < i ∧ a_oClass o ≠ -1 ∧ (((a_pinned o ≠ 0 ∨ hh o ≠ 0) ∧ q = o) ∨ (hh o ≠ 0 ∧ q = pq o)))) → wX_collect_14 post (nI s) f_end f_at f_written f_read f_error f_culprit f_nextHandle f_depth f_nTodo a_defined a_parent a_level a_version a_fields a_fName a_fKind a_latest a_oClass a_pinned a_slot a_handle a_arrived a_handles a_described a_dLevels a_dFields a_plan a_wide a_wire a_order a_made a_sObj a_sLev a_sPos a_sCls a_pairs a_todo n m (nI i) := by
  intro n
  induction n with
  | zero => intro i m h1; omega
  | succ n ih =>
    intro i m hi hn hm
    rw [wX_collect_14]
    dsimp only
    rcases Nat.eq_or_lt_of_le hi with z | z
    · subst z
      exact br_t (by decide) (K m hm)
    · refine br_f (ze_ge32f z) ?_
      rw [nI_clamp (by omega)]
      refine ⟨vp_in_nI z (by decide), ?_⟩
      rcases HO i z with ⟨h1, h2⟩ | ⟨h1, h2, h3, h4, h5⟩
      · rw [h1]
        refine br_f (by decide) (nm_r (nI_1 _) (ih (i + 1) m z (by omega) fun q hq => (hm q hq).trans ⟨fun ⟨o, k1, k2⟩ => ⟨o, by omega, k2⟩, fun ⟨o, k1, k2, k3⟩ => ⟨o, ?_, k2, k3⟩⟩))
        rcases Nat.lt_or_ge o i with y | y
        · exact y
        · have e : o = i := by omega
          subst e; exact absurd h1 k2
      · have ha : a_oClass i ≠ -1 := by rw [h2]; exact ze_m1_ne (by omega)
        obtain ⟨s1, s2, s3⟩ := HS.1 i z
        have s16 : hh i ≤ 16 := by
          have q2 := gc_H16 (HS.2 (i / 16) (by omega)).2
          rcases Nat.eq_zero_or_pos (hh i) with q | q
          · omega
          · have := (s3 (by omega)).2.1; omega
        have c61 : ∀ w, (∀ q, q < 64 → (gb_x w q = true ↔ (∃ o, o < i ∧ a_oClass o ≠ -1 ∧ (((a_pinned o ≠ 0 ∨ hh o ≠ 0) ∧ q = o) ∨ (hh o ≠ 0 ∧ q = pq o))) ∨ ((a_pinned i ≠ 0 ∨ hh i ≠ 0) ∧ q = i))) → wX_collect_61 post (wX_collect_14 post (nI s) f_end f_at f_written f_read f_error f_culprit f_nextHandle f_depth f_nTodo a_defined a_parent a_level a_version a_fields a_fName a_fKind a_latest a_oClass a_pinned a_slot a_handle a_arrived a_handles a_described a_dLevels a_dFields a_plan a_wide a_wire a_order a_made a_sObj a_sLev a_sPos a_sCls a_pairs a_todo n) (nI s) w (nI i) f_end f_at f_written f_read f_error f_culprit f_nextHandle f_depth f_nTodo a_defined a_parent a_level a_version a_fields a_fName a_fKind a_latest a_oClass a_pinned a_slot a_handle a_arrived a_handles a_described a_dLevels a_dFields a_plan a_wide a_wire a_order a_made a_sObj a_sLev a_sPos a_sCls a_pairs a_todo := by
          intro w hw
          unfold wX_collect_61
          rw [nI_clamp (by omega), s1]
          refine ⟨vp_in_nI z (by decide), ?_⟩
          by_cases y : hh i = 0
          · refine br_t (ze_le0t (by omega)) (nm_r (nI_1 _) (ih (i + 1) w z (by omega) fun q hq => (hw q hq).trans ⟨?_, ?_⟩))
            · rintro (⟨o, k1, k2⟩ | k)
              · exact ⟨o, by omega, k2⟩
              · exact ⟨i, by omega, ha, Or.inl k⟩
            · rintro ⟨o, k1, k2, k3⟩
              rcases Nat.lt_or_ge o i with x | x
              · exact Or.inl ⟨o, x, k2, k3⟩
              · have e : o = i := by omega
                subst e
                rcases k3 with k3 | k3
                · exact Or.inr k3
                · exact absurd y k3.1
          · obtain ⟨t1, t2, t3, t4, t5, t6, t7⟩ := s3 y
            refine br_f (ze_le0f (by omega) (by omega)) ?_
            unfold wpX_partner; dsimp only
            simp (disch := omega) only [ze_ge0t, ze_gt0t, ze_gt0f, ze_le0t, ze_le0f, ze_lt0f, ze_eq0p, ze_eq0f, ze_ge1t, ze_ge1f, ze_gt1t, ze_gt1f, ze_le1t, ze_le1f, ze_lt1t, ze_lt1f, ze_eq1p, ze_eq1f, ze_ge2t, ze_ge2f, ze_gt2t, ze_gt2f, ze_le2t, ze_le2f, ze_lt2t, ze_lt2f, ze_eq2p, ze_eq2f, ze_ge3t, ze_ge3f, ze_gt3t, ze_gt3f, ze_le3t, ze_le3f, ze_lt3t, ze_lt3f, ze_eq3p, ze_eq3f, ze_ge4t, ze_ge4f, ze_gt4t, ze_gt4f, ze_le4t, ze_le4f, ze_lt4t, ze_lt4f, ze_eq4p, ze_eq4f, ze_ge5t, ze_ge5f, ze_gt5t, ze_gt5f, ze_le5t, ze_le5f, ze_lt5t, ze_lt5f, ze_eq5p, ze_eq5f, ze_ge6t, ze_ge6f, ze_gt6t, ze_gt6f, ze_le6t, ze_le6f, ze_lt6t, ze_lt6f, ze_eq6p, ze_eq6f, ze_ge7t, ze_ge7f, ze_gt7t, ze_gt7f, ze_le7t, ze_le7f, ze_lt7t, ze_lt7f, ze_eq7p, ze_eq7f, ze_ge9t, ze_ge9f, ze_gt9t, ze_gt9f, ze_le9t, ze_le9f, ze_lt9t, ze_lt9f, ze_eq9p, ze_eq9f, ze_ge10t, ze_ge10f, ze_gt10t, ze_gt10f, ze_le10t, ze_le10f, ze_lt10t, ze_lt10f, ze_eq10p, ze_eq10f, ze_ge12t, ze_ge12f, ze_gt12t, ze_gt12f, ze_le12t, ze_le12f, ze_lt12t, ze_lt12f, ze_eq12p, ze_eq12f, ze_ge15t, ze_ge15f, ze_gt15t, ze_gt15f, ze_le15t, ze_le15f, ze_lt15t, ze_lt15f, ze_eq15p, ze_eq15f, ze_ge16t, ze_ge16f, ze_gt16t, ze_gt16f, ze_le16t, ze_le16f, ze_lt16t, ze_lt16f, ze_eq16p, ze_eq16f, ze_ge30t, ze_ge30f, ze_gt30t, ze_gt30f, ze_le30t, ze_le30f, ze_lt30t, ze_lt30f, ze_eq30p, ze_eq30f, ze_ge32t, ze_ge32f, ze_gt32t, ze_gt32f, ze_le32t, ze_le32f, ze_lt32t, ze_lt32f, ze_eq32p, ze_eq32f, ze_ge47t, ze_ge47f, ze_gt47t, ze_gt47f, ze_le47t, ze_le47f, ze_lt47t, ze_lt47f, ze_eq47p, ze_eq47f, ze_ge120t, ze_ge120f, ze_gt120t, ze_gt120f, ze_le120t, ze_le120f, ze_lt120t, ze_lt120f, ze_eq120p, ze_eq120f, ze_ge1024t, ze_ge1024f, ze_gt1024t, ze_gt1024f, ze_le1024t, ze_le1024f, ze_lt1024t, ze_lt1024f, ze_eq1024p, ze_eq1024f, ze_let, ze_lef, ze_ltt, ze_ltf, ze_eqt, ze_eqf, ze_m1_lt0, ze_m1_n0le, ze_m1_le0, ze_m1_le, ze_m1_lt, ze_m1_nle, ze_m1_nlt, ze_m1_ne, ze_m1_en, ze_m1_ne4, ze_m1_ne0, ze_nz6, ze_nz10, ze_nz12, ze_nz16, ze_nz32, ze_nz192, ze_1ne0, ze_0ne1, ze_0ne4, ↓ze_rem6, ↓ze_rem10, ↓ze_rem16, ↓ze_rem32, ↓ze_rem12, ze_div6, ze_div10, ze_div12, ze_div16, ze_div32, ze_div192, ze_mul3, ze_mul4, ze_mul6, ze_mul10, ze_mul12, ze_mul16, ze_mul17, ze_mul32, ze_mul60, ze_mulr6, ze_nrem6, ze_mulr10, ze_nrem10, ze_mulr12, ze_nrem12, ze_mulr16, ze_nrem16, ze_mulr32, ze_nrem32, nI_add, ze_add1, ze_add6, ze_add7, ze_add8, ze_add12, ze_add16, ze_add0, ze_radd0, ze_radd8, ze_sub1, ze_m1, ze_0sub1, ze_m1add1, ze_1sub, ze_2sub, pk_sub, ze_and3, ze_and7, ze_and31, ze_and127, ↓ze_shr2, ↓ze_shr3, ↓ze_shr5, ↓ze_shl3, ze_i8, ze_nby, ze_i8m1, ze_i80, ze_nbm1, ze_i16, ze_nsh, ze_nb0, ze_nt0, ze_nt1, ze_cl0, ze_cl1, nI_clamp, vp_in_nI, forall_eq, true_implies, false_implies, not_true_eq_false, not_false_eq_true, and_true, true_and, implies_true, and_self, forall_const, Classical.not_not, s1, t6]
            refine ih (i + 1) _ z (by omega) fun q hq => ?_
            rw [gb_xor, gb_x1 (by omega) hq, Bool.or_eq_true, decide_eq_true_iff, hw q hq]
            constructor
            · rintro ((⟨o, k1, k2⟩ | k) | k)
              · exact ⟨o, by omega, k2⟩
              · exact ⟨i, by omega, ha, Or.inl k⟩
              · exact ⟨i, by omega, ha, Or.inr ⟨y, k⟩⟩
            · rintro ⟨o, k1, k2, k3⟩
              rcases Nat.lt_or_ge o i with x | x
              · exact Or.inl (Or.inl ⟨o, x, k2, k3⟩)
              · have e : o = i := by omega
                subst e
                rcases k3 with k3 | k3
                · exact Or.inl (Or.inr k3)
                · exact Or.inr k3.2
        have c54 : (a_pinned i ≠ 0 ∨ hh i ≠ 0) → wX_collect_54 post (wX_collect_14 post (nI s) f_end f_at f_written f_read f_error f_culprit f_nextHandle f_depth f_nTodo a_defined a_parent a_level a_version a_fields a_fName a_fKind a_latest a_oClass a_pinned a_slot a_handle a_arrived a_handles a_described a_dLevels a_dFields a_plan a_wide a_wire a_order a_made a_sObj a_sLev a_sPos a_sCls a_pairs a_todo n) (nI s) m (nI i) f_end f_at f_written f_read f_error f_culprit f_nextHandle f_depth f_nTodo a_defined a_parent a_level a_version a_fields a_fName a_fKind a_latest a_oClass a_pinned a_slot a_handle a_arrived a_handles a_described a_dLevels a_dFields a_plan a_wide a_wire a_order a_made a_sObj a_sLev a_sPos a_sCls a_pairs a_todo := by
          intro hr
          unfold wX_collect_54
          refine nm_e (c61 _ fun q hq => ?_)
          rw [gb_xor, gb_x1 (by omega) hq, Bool.or_eq_true, decide_eq_true_iff, hm q hq]
          exact ⟨fun h => h.imp id (fun h => ⟨hr, h⟩), fun h => h.imp id (fun h => h.2)⟩
        rw [h2, s1]
        refine br_t (nI_pos' (by omega)) ⟨vp_in_nI z (by decide), br_c (fun p0 => ⟨vp_in_nI z (by decide), ?_⟩) (fun p0 => c54 (Or.inl p0))⟩
        by_cases y : hh i = 0
        · refine br_t (ze_le0t (by omega)) (c61 m fun q hq => (hm q hq).trans ⟨Or.inl, fun h => h.elim id fun h => ?_⟩)
          rcases h.1 with h | h
          · exact absurd p0 h
          · exact absurd y h
        · exact br_f (ze_le0f (by omega) (by omega)) (c54 (Or.inr y))
theorem gy_c71 {post : Int32 → SY → Prop} {J : Int32 → Int32 → Prop} {s r : Nat} {m0 : Int32} (hs2 : s < 2) (HW : gw_W b_defined lv up nf nm kd) (HU : gw_U b_defined lv up nf nm) (HY : gw_CY b_defined b_parent b_own lv up nf nm kd) (HO : gw_O b_defined a_oClass b_cls) (HV : gw_V lv up nf nm kd a_oClass a_slot b_val)
    (K : ∀ m, gk_P (gk_T lv up nf nm kd a_oClass b_val) s 16 (fun q => bt m0 q = true) (fun q => bt m q = true) → (∀ q, q < 32 → bt m q = true → a_oClass q ≠ -1) → J m (nI (r + 1))) :
    ∀ n i m, i ≤ 16 → 16 - i < n → gk_P (gk_T lv up nf nm kd a_oClass b_val) s i (fun q => bt m0 q = true) (fun q => bt m q = true) → (∀ q, q < 32 → bt m q = true → a_oClass q ≠ -1) → wY_collect_71 post J (nI s) (nI r) g_culprit g_depth g_lastMade b_defined b_version b_parent b_own b_latest b_cls b_partner b_pinned b_arrived b_val b_from b_made b_done b_rows n m (nI (16 * s + i)) := by
  intro n
  induction n with
  | zero => intro i m h1 h2; omega
  | succ n ih =>
    intro i m hi hn hP hA
    rw [wY_collect_71]
    dsimp only
    rw [ze_mul16, ze_add16]
    rcases Nat.eq_or_lt_of_le hi with z | z
    · subst z
      exact br_t (nI_le (by omega) (by omega)) (nm_r (nI_1 _) (K m hP hA))
    · refine br_f (nI_ge (by omega) (by omega)) ?_
      by_cases y : bt m (16 * s + i) = true
      · refine br_t ((gb_yt1 m (by omega)).mpr y) ?_
        have ha := hA _ (by omega) y
        refine gy_targets HW HU HY HO HV (by omega) ha (fun w hw => nm_e (nm_r (nI_1 _) ?_))
        refine ih (i + 1) _ z (by omega) (gk_P_s hs2 z hP (fun _ t ht => ?_) (fun q hq => ?_)) (fun q hq h => ?_)
        · have := gk_T_al (D := b_defined) (Z := b_cls) HV (by omega) ha ht
          omega
        · show bt (m ||| w) q = true ↔ _
          rw [b_or, Bool.or_eq_true, hw q (by omega)]
          exact ⟨fun h => h.imp id (fun h => ⟨y, h⟩), fun h => h.imp id (fun h => h.2)⟩
        · rw [b_or, Bool.or_eq_true, hw q hq] at h
          rcases h with h | h
          · exact hA q hq h
          · exact (gk_T_al (D := b_defined) (Z := b_cls) HV (by omega) ha h).2.2
      · refine br_f (fun q => y ((gb_yt1 m (by omega)).mp q)) (nm_r (nI_1 _) ?_)
        refine ih (i + 1) m z (by omega) (gk_P_s hs2 z hP (fun h => absurd h y) (fun q hq => ?_)) hA
        exact ⟨Or.inl, fun h => h.elim id (fun h => absurd h.1 y)⟩
theorem gy_c59 {post : Int32 → SY → Prop} {s : Nat} {m0 : Int32} (hs2 : s < 2) (HW : gw_W b_defined lv up nf nm kd) (HU : gw_U b_defined lv up nf nm) (HY : gw_CY b_defined b_parent b_own lv up nf nm kd) (HO : gw_O b_defined a_oClass b_cls) (HV : gw_V lv up nf nm kd a_oClass a_slot b_val)
    (K : ∀ m, (∀ q, q < 32 → bt m0 q = true → bt m q = true) → (∀ S : Nat → Prop, (∀ q, q < 32 → bt m0 q = true → S q) → gk_cl (gk_T lv up nf nm kd a_oClass b_val) s S → ∀ q, q < 32 → bt m q = true → S q) → gk_cl (gk_T lv up nf nm kd a_oClass b_val) s (fun q => bt m q = true) → ∃ n122 : Nat, wY_collect_122 post (nI s) m g_culprit g_depth g_lastMade n122 0 (nI (16 * s)) b_defined b_version b_parent b_own b_latest b_cls b_partner b_pinned b_arrived b_val b_from b_made b_done b_rows) :
    ∀ n r m, r ≤ 16 → 16 - r < n → (∀ q, q < 32 → bt m0 q = true → bt m q = true) → (∀ S : Nat → Prop, (∀ q, q < 32 → bt m0 q = true → S q) → gk_cl (gk_T lv up nf nm kd a_oClass b_val) s S → ∀ q, q < 32 → bt m q = true → S q) → (∀ q, q < 32 → bt m q = true → a_oClass q ≠ -1) →
      (gk_cl (gk_T lv up nf nm kd a_oClass b_val) s (fun q => bt m q = true) ∨ r < gc_n (fun p => bt m (16 * s + p) = true) 16) → wY_collect_59 post (nI s) g_culprit g_depth g_lastMade b_defined b_version b_parent b_own b_latest b_cls b_partner b_pinned b_arrived b_val b_from b_made b_done b_rows n m (nI r) := by
  intro n
  induction n with
  | zero => intro r m h1 h2; omega
  | succ n ih =>
    intro r m hr hn h1 h2 h3 h4
    rw [wY_collect_59]
    dsimp only
    rw [ze_mul16]
    rcases Nat.eq_or_lt_of_le hr with z | z
    · subst z
      refine br_t (by decide) (nm_e (K m h1 h2 ?_))
      rcases h4 with h4 | h4
      · exact h4
      · have := gc_n_le (fun p => bt m (16 * s + p) = true) 16; omega
    · refine br_f (ze_ge16f z) (nm_e ⟨17, gy_c71 hs2 HW HU HY HO HV (fun w hP hA => ?_) 17 0 m (by omega) (by omega) (gk_P_0 _ _ _) h3⟩)
      refine ih (r + 1) w z (by omega) (fun q hq h => hP.1 q hq (h1 q hq h)) (fun S k1 k2 => hP.2.1 S (h2 S k1 k2) k2) hA ?_
      rcases Classical.em (gk_cl (gk_T lv up nf nm kd a_oClass b_val) s (fun q => bt m q = true)) with c | c
      · left
        have back := hP.2.1 (fun q => bt m q = true) (fun q _ h => h) c
        intro p hp hb t ht
        have hb0 := back _ (by omega) hb
        have htt := gk_T_al (D := b_defined) (Z := b_cls) HV (by omega) (h3 _ (by omega) hb0) ht
        exact hP.1 t htt.1 (c p hp hb0 t ht)
      · right
        rcases hP.2.2 with ⟨p, hp, y1, y2⟩ | h
        · have lt := gc_n_lt (P := fun p => bt m (16 * s + p) = true) (Q := fun p => bt w (16 * s + p) = true) (a := p) y2 y1 (N := 16) (fun k hk h => hP.1 _ (by omega) h) hp
          rcases h4 with h4 | h4
          · exact absurd h4 c
          · omega
        · exact absurd (fun p hp hb => h p hp hb) c
theorem gy_root {post : Int32 → Prop} (HO : gw_O b_defined a_oClass b_cls) (HS : gw_S a_oClass a_handle a_arrived a_handles b_partner hh hs pq) {o : Nat} (ho : o < 32) (h1 : gk_RT a_oClass b_pinned hh pq o → post 1) (h0 : ¬ gk_RT a_oClass b_pinned hh pq o → post 0) : wpY_root post (g_culprit, g_depth, g_lastMade, b_defined, b_version, b_parent, b_own, b_latest, b_cls, b_partner, b_pinned, b_arrived, b_val, b_from, b_made, b_done, b_rows) (nI o) := by
  have loop : b_pinned o = 0 → hh o = 0 → ∀ n i, i ≤ 32 → 32 - i < n → (∀ q, q < i → ¬ (a_oClass q ≠ -1 ∧ hh q ≠ 0 ∧ pq q = o)) → wY_root_22 post (nI o) g_culprit g_depth g_lastMade b_defined b_version b_parent b_own b_latest b_cls b_partner b_pinned b_arrived b_val b_from b_made b_done b_rows n (nI i) := by
    intro p0 hh0 n
    induction n with
    | zero => intro i h1 h2; omega
    | succ n ih =>
      intro i hi hn hno
      rw [wY_root_22]
      dsimp only
      rcases Nat.eq_or_lt_of_le hi with z | z
      · subst z
        refine br_t (by decide) (h0 ?_)
        rintro (h | h | ⟨q, hq, h⟩)
        · exact h p0
        · exact h hh0
        · exact hno q hq h
      · refine br_f (ze_ge32f z) ?_
        rw [nI_clamp (by omega)]
        refine ⟨vp_in_nI z (by decide), ?_⟩
        have step : ¬ (a_oClass i ≠ -1 ∧ hh i ≠ 0 ∧ pq i = o) → wY_root_22 post (nI o) g_culprit g_depth g_lastMade b_defined b_version b_parent b_own b_latest b_cls b_partner b_pinned b_arrived b_val b_from b_made b_done b_rows n (nI (i + 1)) := by
          intro h
          refine ih (i + 1) z (by omega) (fun q hq => ?_)
          rcases Nat.lt_or_ge q i with y | y
          · exact hno q y
          · have e : q = i := by omega
            subst e; exact h
        rcases HO i z with ⟨k1, k2⟩ | ⟨k1, k2, k3, k4, k5⟩
        · rw [k2]
          exact br_t (by decide) (nm_r (nI_1 _) (step fun h => h.1 k1))
        · have ha : a_oClass i ≠ -1 := by rw [k2]; exact ze_m1_ne (by omega)
          rw [k3]
          refine br_f (nI_pos (by omega)) ⟨vp_in_nI z (by decide), ?_⟩
          obtain ⟨s1, s2, s3⟩ := HS.1 i z
          by_cases y : hh i = 0
          · rw [s2 y]
            exact br_f (ze_m1_en (by omega)) (nm_r (nI_1 _) (step fun h => h.2.1 y))
          · obtain ⟨t1, t2, t3, t4, t5, t6, t7⟩ := s3 y
            rw [t7]
            by_cases e : pq i = o
            · exact br_t (congrArg nI e) (h1 (Or.inr (Or.inr ⟨i, z, ha, y, e⟩)))
            · exact br_f (ze_eqf e (by omega) (by omega)) (nm_r (nI_1 _) (step fun h => e h.2.2))
  unfold wpY_root; dsimp only
  rw [nI_clamp (by omega)]
  refine ⟨vp_in_nI ho (by decide), br_c (fun p0 => ⟨vp_in_nI ho (by decide), ?_⟩) (fun p0 => h1 (Or.inl p0))⟩
  obtain ⟨s1, s2, s3⟩ := HS.1 o ho
  by_cases y : hh o = 0
  · rw [s2 y]
    exact br_t (by decide) ⟨33, loop p0 y 33 0 (by omega) (by omega) (fun q hq => by omega)⟩
  · obtain ⟨t1, t2, t3, t4, t5, t6, t7⟩ := s3 y
    rw [t7]
    exact br_f (nI_pos (by omega)) (h1 (Or.inr (Or.inl y)))
theorem gy_c17 {post : Int32 → SY → Prop} {s : Nat} (hs2 : s < 2) (HO : gw_O b_defined a_oClass b_cls) (HS : gw_S a_oClass a_handle a_arrived a_handles b_partner hh hs pq)
    (K : ∀ m, (∀ q, q < 32 → (bt m q = true ↔ ∃ p, p < 16 ∧ q = 16 * s + p ∧ a_oClass q ≠ -1 ∧ gk_RT a_oClass b_pinned hh pq q)) → ∃ n59 : Nat, wY_collect_59 post (nI s) g_culprit g_depth g_lastMade b_defined b_version b_parent b_own b_latest b_cls b_partner b_pinned b_arrived b_val b_from b_made b_done b_rows n59 m 0) :
    ∀ n i m, i ≤ 16 → 16 - i < n → (∀ q, q < 32 → (bt m q = true ↔ ∃ p, p < i ∧ q = 16 * s + p ∧ a_oClass q ≠ -1 ∧ gk_RT a_oClass b_pinned hh pq q)) → wY_collect_17 post (nI s) g_culprit g_depth g_lastMade b_defined b_version b_parent b_own b_latest b_cls b_partner b_pinned b_arrived b_val b_from b_made b_done b_rows n m (nI (16 * s + i)) := by
  intro n
  induction n with
  | zero => intro i m h1; omega
  | succ n ih =>
    intro i m hi hn hm
    rw [wY_collect_17]
    dsimp only
    rw [ze_mul16, ze_add16]
    rcases Nat.eq_or_lt_of_le hi with z | z
    · subst z
      exact br_t (nI_le (by omega) (by omega)) (K m hm)
    · refine br_f (nI_ge (by omega) (by omega)) ?_
      rw [nI_clamp (by omega)]
      refine ⟨vp_in_nI (by omega) (by decide), ?_⟩
      have skip : ¬ (a_oClass (16 * s + i) ≠ -1 ∧ gk_RT a_oClass b_pinned hh pq (16 * s + i)) → wY_collect_17 post (nI s) g_culprit g_depth g_lastMade b_defined b_version b_parent b_own b_latest b_cls b_partner b_pinned b_arrived b_val b_from b_made b_done b_rows n m (nI (16 * s + i + 1)) := by
        intro no
        refine ih (i + 1) m z (by omega) fun q hq => (hm q hq).trans ⟨fun ⟨p, k1, k2⟩ => ⟨p, by omega, k2⟩, fun ⟨p, k1, k2, k3⟩ => ⟨p, ?_, k2, k3⟩⟩
        rcases Nat.lt_or_ge p i with y | y
        · exact y
        · have e : p = i := by omega
          subst e
          rw [← k2] at no
          exact absurd k3 no
      rcases HO (16 * s + i) (by omega) with ⟨k1, k2⟩ | ⟨k1, k2, k3, k4, k5⟩
      · rw [k2]
        exact br_t (by decide) (nm_r (nI_1 _) (skip fun h => h.1 k1))
      · have ha : a_oClass (16 * s + i) ≠ -1 := by rw [k2]; exact ze_m1_ne (by omega)
        rw [k3]
        refine br_f (nI_pos (by omega)) ?_
        refine gy_root HO HS (by omega) (fun hr => br_f (by decide) ?_) (fun hr => br_t rfl (nm_r (nI_1 _) (skip fun h => hr h.2)))
        refine nm_e (nm_r (nI_1 _) (ih (i + 1) _ z (by omega) fun q hq => ?_))
        rw [b_or, gb_y1 (by omega) hq, Bool.or_eq_true, decide_eq_true_iff, hm q hq]
        constructor
        · rintro (⟨p, k1, k2⟩ | k)
          · exact ⟨p, by omega, k2⟩
          · subst k; exact ⟨i, by omega, rfl, ha, hr⟩
        · rintro ⟨p, j1, j2, j3⟩
          rcases Nat.lt_or_ge p i with y | y
          · exact Or.inl ⟨p, y, j2, j3⟩
          · have e : p = i := by omega
            subst e
            exact Or.inr j2
/-- what is left after a sweep -/
theorem gw_R_sw (R : gw_R a_defined a_parent a_level a_version a_fields a_fName a_fKind a_latest a_oClass a_slot a_handle a_arrived a_handles a_described a_dLevels a_dFields a_plan a_wide b_parent b_own b_cls b_partner b_val) {lv up nf nm kd hh hs pq : Nat → Nat} (HW : gw_W a_defined lv up nf nm kd) (HU : gw_U a_defined lv up nf nm) (HX : gw_CX a_defined a_parent a_level a_fields a_fName a_fKind lv up nf nm kd) (HY : gw_CY a_defined b_parent b_own lv up nf nm kd) (HO : gw_O a_defined a_oClass b_cls) (HV : gw_V lv up nf nm kd a_oClass a_slot b_val) (HS : gw_S a_oClass a_handle a_arrived a_handles b_partner hh hs pq) (HD : gw_DS a_defined a_version a_described a_dLevels a_dFields a_plan a_wide lv up nf nm kd) (HL : gw_LT a_defined a_latest lv up)
    {s : Nat} {B : Nat → Prop} (hs2 : s < 2) (hr : ∀ q, q < 32 → q / 16 = s → a_oClass q ≠ -1 → gk_RT a_oClass a_pinned hh pq q → B q) (hc : gk_cl (gk_T lv up nf nm kd a_oClass b_val) s B) :
    gw_R a_defined a_parent a_level a_version a_fields a_fName a_fKind a_latest (gk_sw a_oClass B s 16) a_slot a_handle a_arrived a_handles a_described a_dLevels a_dFields a_plan a_wide b_parent b_own (gk_sw b_cls B s 16) b_partner b_val := by
  have keep : ∀ o, o < 32 → a_oClass o ≠ -1 → (o / 16 = s → B o) → gk_sw a_oClass B s 16 o = a_oClass o := by
    intro o ho ha h
    exact gk_sw_f fun ⟨k1, k2, k3, k4⟩ => k4 (h (by omega))
  have live : ∀ o, o < 32 → gk_sw a_oClass B s 16 o ≠ -1 → a_oClass o ≠ -1 ∧ (o / 16 = s → B o) ∧ gk_sw a_oClass B s 16 o = a_oClass o := by
    intro o ho ha
    rcases Classical.em (16 * s ≤ o ∧ o < 16 * s + 16 ∧ a_oClass o ≠ -1 ∧ ¬ B o) with z | z
    · exact absurd (gk_sw_t z) ha
    · have e := gk_sw_f z
      rw [e] at ha
      refine ⟨ha, fun h => ?_, e⟩
      rcases Classical.em (B o) with y | y
      · exact y
      · exact absurd ⟨by omega, by omega, ha, y⟩ z
  refine ⟨lv, up, nf, nm, kd, hh, hs, pq, HW, HU, HX, HY, ?_, ?_, ?_, HD, HL⟩
  · intro o ho
    rcases HO o ho with ⟨k1, k2⟩ | ⟨k1, k2, k3, k4, k5⟩
    · left
      rw [gk_sw_f (fun h => h.2.2.1 k1), gk_sw_f (fun h => h.2.2.1 k2)]
      exact ⟨k1, k2⟩
    · have ha : a_oClass o ≠ -1 := by rw [k2]; exact ze_m1_ne (by omega)
      have hz : b_cls o ≠ -1 := by rw [k3]; exact ze_m1_ne (by omega)
      rcases Classical.em (16 * s ≤ o ∧ o < 16 * s + 16 ∧ ¬ B o) with z | z
      · left
        exact ⟨gk_sw_t ⟨z.1, z.2.1, ha, z.2.2⟩, gk_sw_t ⟨z.1, z.2.1, hz, z.2.2⟩⟩
      · right
        have e1 : gk_sw a_oClass B s 16 o = a_oClass o := gk_sw_f fun h => z ⟨h.1, h.2.1, h.2.2.2⟩
        have e2 : gk_sw b_cls B s 16 o = b_cls o := gk_sw_f fun h => z ⟨h.1, h.2.1, h.2.2.2⟩
        unfold gw_kl
        rw [e1, e2]
        exact ⟨k1, k2, k3, k4, k5⟩
  · intro o ho ha j k
    obtain ⟨l1, l2, l3⟩ := live o ho ha
    have e : gw_kl (gk_sw a_oClass B s 16) o = gw_kl a_oClass o := by unfold gw_kl; rw [l3]
    rw [e]
    intro hj hk
    have h := HV o ho l1 j k hj hk
    refine ⟨fun z => (h.1 z).imp id ?_, h.2⟩
    rintro ⟨t, h1, h2, h3, h4, h5⟩
    refine ⟨t, h1, h2, h3, ?_, h5⟩
    rw [keep t h1 h4]
    · exact h4
    · intro ht
      have eo : 16 * s + o % 16 = o := by omega
      have := hc (o % 16) (by omega) (by rw [eo]; exact l2 (by omega)) t (by rw [eo]; exact ⟨j, k, hj, hk, z, h2, h1⟩)
      exact this
  · refine ⟨fun o ho => ?_, HS.2⟩
    obtain ⟨s1, s2, s3⟩ := HS.1 o ho
    refine ⟨s1, s2, fun z => ?_⟩
    obtain ⟨t1, t2, t3, t4, t5, t6, t7⟩ := s3 z
    refine ⟨?_, t2, t3, t4, ?_, t6, t7⟩
    · rw [keep o ho t1 (fun h => hr o ho h t1 (Or.inr (Or.inl z)))]; exact t1
    · rw [keep _ t3 t5 (fun h => hr _ t3 h t5 (Or.inr (Or.inr ⟨o, ho, t1, z, rfl⟩)))]; exact t5
theorem gm_collect {k : Nat} (R : gw_R a_defined a_parent a_level a_version a_fields a_fName a_fKind a_latest a_oClass a_slot a_handle a_arrived a_handles a_described a_dLevels a_dFields a_plan a_wide b_parent b_own b_cls b_partner b_val) (v1 : Int32) : wpX_collect (fun r u' => wpY_collect (fun r' v' => r' = r ∧ i_Rel (k + 5) u' v') (f_culprit, g_depth, g_lastMade, a_defined, a_version, b_parent, b_own, a_latest, b_cls, b_partner, a_pinned, b_arrived, b_val, b_from, b_made, b_done, b_rows) v1) (f_end, f_at, f_written, f_read, f_error, f_culprit, f_nextHandle, f_depth, f_nTodo, a_defined, a_parent, a_level, a_version, a_fields, a_fName, a_fKind, a_latest, a_oClass, a_pinned, a_slot, a_handle, a_arrived, a_handles, a_described, a_dLevels, a_dFields, a_plan, a_wide, a_wire, a_order, a_made, a_sObj, a_sLev, a_sPos, a_sCls, a_pairs, a_todo) v1 := by
  obtain ⟨lv, up, nf, nm, kd, hh, hs, pq, HW, HU, HX, HY, HO, HV, HS, HD, HL⟩ := id R
  unfold wpX_collect; dsimp only
  refine gx_side v1 (fun e0 e1 => br_t rfl ?_) (fun s hs2 e => br_f (by decide) ?_)
  · unfold wpY_collect; dsimp only
    exact gy_side v1 (fun _ _ => br_t rfl ⟨rfl, gi_in R⟩) (fun s hs2 e => (gw_no01 e0 e1 hs2 e).elim)
  · subst e
    refine ⟨33, gx_c14 HO HS (fun m hm => ⟨33 + 32, ?_⟩) 33 0 0 (by omega) (by omega) (fun q hq => by rw [gb_x0]; exact ⟨fun h => by simp at h, fun ⟨o, h, _⟩ => by omega⟩)⟩
    have hA : ∀ q, q < 64 → gb_x m q = true → q < 32 ∧ a_oClass q ≠ -1 := by
      intro q hq h
      obtain ⟨o, h1, h2, h3⟩ := (hm q hq).mp h
      rcases h3 with ⟨_, e⟩ | ⟨h3, e⟩
      · subst e; exact ⟨h1, h2⟩
      · subst e
        obtain ⟨t1, t2, t3, t4, t5, t6, t7⟩ := (HS.1 o h1).2.2 h3
        exact ⟨t3, t5⟩
    refine gx_c88 (m0 := m) hs2 HW HX HO HV (fun w w1 w2 w3 => ⟨17, ?_⟩) _ m (by omega) (fun q _ h => h) (fun S k1 _ => k1) hA
    have rootX : ∀ q, q < 32 → a_oClass q ≠ -1 → gk_RT a_oClass a_pinned hh pq q → gb_x w q = true := by
      intro q hq ha h
      refine w1 q hq ((hm q (by omega)).mpr ?_)
      rcases h with h | h | ⟨o, h1, h2, h3, h4⟩
      · exact ⟨q, hq, ha, Or.inl ⟨Or.inl h, rfl⟩⟩
      · exact ⟨q, hq, ha, Or.inl ⟨Or.inr h, rfl⟩⟩
      · exact ⟨o, h1, h2, Or.inr ⟨h3, h4.symm⟩⟩
    have hX : wX_collect_151 (fun r u' => wpY_collect (fun r' v' => r' = r ∧ i_Rel (k + 5) u' v') (f_culprit, g_depth, g_lastMade, a_defined, a_version, b_parent, b_own, a_latest, b_cls, b_partner, a_pinned, b_arrived, b_val, b_from, b_made, b_done, b_rows) (nI s)) (nI s) w f_end f_at f_written f_read f_error f_culprit f_nextHandle f_depth f_nTodo 17 (nI (gc_n (fun p => a_oClass (16 * s + p) ≠ -1 ∧ ¬ gb_x w (16 * s + p) = true) 0)) (nI (16 * s + 0)) a_defined a_parent a_level a_version a_fields a_fName a_fKind a_latest (gk_sw a_oClass (fun q => gb_x w q = true) s 0) a_pinned a_slot a_handle a_arrived a_handles a_described a_dLevels a_dFields a_plan a_wide a_wire a_order a_made a_sObj a_sLev a_sPos a_sCls a_pairs a_todo := by
      refine gx_c151 hs2 HO ?_ 17 0 (by omega) (by omega)
      unfold wpY_collect; dsimp only
      refine gy_side _ (fun a b => (gw_no01 a b hs2 rfl).elim) (fun s' hs' es => br_f (by decide) ?_)
      rw [ze_mul16]
      refine nm_e ⟨17, gy_c17 hs2 HO HS (fun y hy => ⟨17, ?_⟩) 17 0 0 (by omega) (by omega) (fun q hq => by rw [b_0]; exact ⟨fun h => by simp at h, fun ⟨p, h, _⟩ => by omega⟩)⟩
      have hYA : ∀ q, q < 32 → bt y q = true → a_oClass q ≠ -1 := fun q hq h => by
        obtain ⟨p, h1, h2, h3, h4⟩ := (hy q hq).mp h
        exact h3
      refine gy_c59 (m0 := y) hs2 HW HU HY HO HV (fun x x1 x2 x3 => ⟨17, ?_⟩) 17 0 y (by omega) (by omega) (fun q _ h => h) (fun S k1 _ => k1) hYA ?_
      · have eqB : ∀ p, p < 16 → (bt x (16 * s + p) = true ↔ gb_x w (16 * s + p) = true) := by
          intro p hp
          constructor
          · intro h
            refine x2 (fun q => gb_x w q = true) (fun q hq h => ?_) w3 _ (by omega) h
            obtain ⟨p, h1, h2, h3, h4⟩ := (hy q hq).mp h
            exact rootX q hq h3 h4
          · intro h
            refine w2 (fun q => q / 16 = s → bt x q = true) (fun q hq h e => ?_) (fun p' hp' h1 t ht e => ?_) _ (by omega) h (by omega)
            · obtain ⟨o, h1, h2, h3⟩ := (hm q (by omega)).mp h
              have ha := (hA q (by omega) h).2
              refine x1 q hq ((hy q hq).mpr ⟨q % 16, by omega, by omega, ha, ?_⟩)
              rcases h3 with ⟨h3, e⟩ | ⟨h3, e⟩
              · subst e; exact h3.imp id Or.inl
              · exact Or.inr (Or.inr ⟨o, h1, h2, h3, e.symm⟩)
            · exact x3 p' hp' (h1 (by omega)) t ht
        have hfin : wY_collect_122 (fun r' v' => r' = nI (gc_n (fun p => a_oClass (16 * s + p) ≠ -1 ∧ ¬ gb_x w (16 * s + p) = true) 16) ∧ i_Rel (k + 5) (f_end, f_at, f_written, f_read, f_error, f_culprit, f_nextHandle, f_depth, f_nTodo, a_defined, a_parent, a_level, a_version, a_fields, a_fName, a_fKind, a_latest, gk_sw a_oClass (fun q => gb_x w q = true) s 16, a_pinned, a_slot, a_handle, a_arrived, a_handles, a_described, a_dLevels, a_dFields, a_plan, a_wide, a_wire, a_order, a_made, a_sObj, a_sLev, a_sPos, a_sCls, a_pairs, a_todo) v') (nI s) x f_culprit g_depth g_lastMade 17 (nI (gc_n (fun p => a_oClass (16 * s + p) ≠ -1 ∧ ¬ gb_x w (16 * s + p) = true) 0)) (nI (16 * s + 0)) a_defined a_version b_parent b_own a_latest (gk_sw b_cls (fun q => gb_x w q = true) s 0) b_partner a_pinned b_arrived b_val b_from b_made b_done b_rows :=
          gy_c122 hs2 HO eqB ⟨rfl, gi_in (gw_R_sw R HW HU HX HY HO HV HS HD HL hs2 (fun q hq _ ha h => rootX q hq ha h) w3)⟩ 17 0 (by omega) (by omega)
        rw [gk_sw_0] at hfin
        exact hfin
      · rcases Classical.em (∃ p, p < 16 ∧ bt y (16 * s + p) = true) with ⟨p, hp, h⟩ | no
        · exact Or.inr (gc_n_pos (P := fun p => bt y (16 * s + p) = true) h hp)
        · exact Or.inl fun p hp h => absurd ⟨p, hp, h⟩ no
    rw [gk_sw_0] at hX
    exact hX
end
end
section
def gq_com (lv up nf nm : Nat → Nat) (C : Nat → Int32) (u v j k j' m : Nat) : Prop := j ≤ lv (gw_kl C u) ∧ k < nf (gw_al lv up (gw_kl C u) j) ∧ j' ≤ lv (gw_kl C v) ∧ m < nf (gw_al lv up (gw_kl C v) j') ∧ gw_al lv up (gw_kl C u) j % 6 = gw_al lv up (gw_kl C v) j' % 6 ∧ nm (4 * gw_al lv up (gw_kl C u) j + k) = nm (4 * gw_al lv up (gw_kl C v) j' + m)
def gq_fit (B : Nat → Nat → Prop) (k1 k2 : Nat) (x y : Int64) : Prop := (k1 = 4 ↔ k2 = 4) ∧ (k1 ≠ 4 → x = y) ∧ (k1 = 4 → (x = -1 ∧ y = -1) ∨ ∃ t t', t < 32 ∧ t' < 32 ∧ x = lN t ∧ y = lN t' ∧ B t t')
def gq_F (lv up nf nm kd : Nat → Nat) (C : Nat → Int32) (V : Nat → Int64) (B : Nat → Nat → Prop) (u v j k j' m : Nat) : Prop := gq_fit B (kd (4 * gw_al lv up (gw_kl C u) j + k)) (kd (4 * gw_al lv up (gw_kl C v) j' + m)) (V (10 * u + nm (4 * gw_al lv up (gw_kl C u) j + k))) (V (10 * v + nm (4 * gw_al lv up (gw_kl C v) j' + m)))
def gq_ok (lv up nf nm kd : Nat → Nat) (C : Nat → Int32) (V : Nat → Int64) (B : Nat → Nat → Prop) (u v : Nat) : Prop := C u ≠ -1 ∧ C v ≠ -1 ∧ gw_kl C u % 6 = gw_kl C v % 6 ∧ ∀ j k j' m, gq_com lv up nf nm C u v j k j' m → gq_F lv up nf nm kd C V B u v j k j' m
def gq_post (lv up nf nm kd : Nat → Nat) (C : Nat → Int32) (V : Nat → Int64) (B : Nat → Nat → Prop) : Prop := ∀ u v, u < 32 → v < 32 → B u v → gq_ok lv up nf nm kd C V B u v
def gq_ans (lv up nf nm kd : Nat → Nat) (C : Nat → Int32) (V : Nat → Int64) (p q : Nat) : Prop := ∃ B, gq_post lv up nf nm kd C V B ∧ B p q
theorem gq_fit_mono {B B' : Nat → Nat → Prop} {k1 k2 : Nat} {x y : Int64} (h : ∀ t t', t < 32 → t' < 32 → B t t' → B' t t') (hf : gq_fit B k1 k2 x y) : gq_fit B' k1 k2 x y :=
  ⟨hf.1, hf.2.1, fun z => (hf.2.2 z).imp id fun ⟨t, t', h1, h2, h3, h4, h5⟩ => ⟨t, t', h1, h2, h3, h4, h t t' h1 h2 h5⟩⟩
theorem gq_ok_mono {lv up nf nm kd : Nat → Nat} {C : Nat → Int32} {V : Nat → Int64} {B B' : Nat → Nat → Prop} {u v : Nat} (h : ∀ t t', t < 32 → t' < 32 → B t t' → B' t t') (hf : gq_ok lv up nf nm kd C V B u v) : gq_ok lv up nf nm kd C V B' u v :=
  ⟨hf.1, hf.2.1, hf.2.2.1, fun j k j' m hc => gq_fit_mono h (hf.2.2.2 j k j' m hc)⟩
def gq_RB (r : Nat → Int32) (u v : Nat) : Prop := bt (r u) v = true
section
variable {f_end f_at f_written f_read f_error f_culprit f_nextHandle f_depth f_nTodo : Int32} {a_defined a_parent a_level a_version a_fields a_fName a_fKind a_latest a_oClass a_pinned a_handle a_arrived a_handles a_described a_dLevels a_dFields a_plan a_wide a_wire a_order a_made a_sObj a_sLev a_sPos a_sCls a_todo : Nat → Int32} {a_slot a_pairs : Nat → Int64} {g_culprit g_depth g_lastMade : Int32} {b_defined b_version b_parent b_own b_latest b_cls b_partner b_pinned b_arrived b_from b_made b_done b_rows : Nat → Int32} {b_val : Nat → Int64} {lv up nf nm kd : Nat → Nat}
theorem gy_fits {post : Int32 → Prop} {u v x : Nat} {k1 k2 : Nat} {b1 b2 : Int32} (hu : u < 32) (hv : v < 32) (hx : x < 10) (e1 : b1 = if k1 = 4 then 1 else 0) (e2 : b2 = if k2 = 4 then 1 else 0)
    (r1 : k1 = 4 → b_val (10 * u + x) = -1 ∨ ∃ t, t < 32 ∧ b_val (10 * u + x) = lN t) (r2 : k2 = 4 → b_val (10 * v + x) = -1 ∨ ∃ t, t < 32 ∧ b_val (10 * v + x) = lN t)
    (h1 : gq_fit (gq_RB b_rows) k1 k2 (b_val (10 * u + x)) (b_val (10 * v + x)) → post 1) (h0 : ¬ gq_fit (gq_RB b_rows) k1 k2 (b_val (10 * u + x)) (b_val (10 * v + x)) → post 0) : wpY_fits post (g_culprit, g_depth, g_lastMade, b_defined, b_version, b_parent, b_own, b_latest, b_cls, b_partner, b_pinned, b_arrived, b_val, b_from, b_made, b_done, b_rows) (nI u) (nI v) (nI x) b1 b2 := by
  unfold wpY_fits wY_fits_54; dsimp only
  rw [ze_mul10, ze_mul10, nI_add, nI_add, nI_clamp (n := 10 * u + x) (by omega), nI_clamp (n := 10 * v + x) (by omega)]
  refine ⟨vp_in_nI (by omega) (by decide), nm_e ⟨vp_in_nI (by omega) (by decide), nm_e ?_⟩⟩
  by_cases z1 : k1 = 4
  · rw [if_pos z1] at e1
    by_cases z2 : k2 = 4
    · rw [if_pos z2] at e2
      subst e1 e2
      refine br_t rfl (br_f (by decide) ?_)
      rcases r1 z1 with a | ⟨t, ht, a⟩
      · rw [a] at h1 h0 ⊢
        refine br_t gl_m1lt ?_
        rcases r2 z2 with b | ⟨t', ht', b⟩
        · rw [b] at h1 h0 ⊢
          exact br_t rfl (h1 ⟨⟨fun _ => z2, fun _ => z1⟩, fun q => absurd z1 q, fun _ => Or.inl ⟨rfl, rfl⟩⟩)
        · rw [b] at h1 h0 ⊢
          refine br_f (gl_m1N (by omega)) (h0 fun h => ?_)
          rcases h.2.2 z1 with ⟨_, q⟩ | ⟨a', b', k1, k2, k3, _⟩
          · exact gl_m1N (by omega) q.symm
          · exact gl_m1N (by omega) k3
      · rw [a] at h1 h0 ⊢
        refine br_f (gl_nlt (by omega)) ?_
        rcases r2 z2 with b | ⟨t', ht', b⟩
        · rw [b] at h1 h0 ⊢
          refine br_f (by decide) (br_f (fun q => gl_m1N (by omega) q.symm) (h0 fun h => ?_))
          rcases h.2.2 z1 with ⟨q, _⟩ | ⟨a', b', k1, k2, k3, k4, _⟩
          · exact gl_m1N (by omega) q.symm
          · exact gl_m1N (by omega) k4
        · rw [b] at h1 h0 ⊢
          refine br_t (Int64.not_lt.mp (gl_nlt (by omega))) ?_
          rw [lN_i, lN_i, nI_clamp (by omega)]
          refine ⟨vp_in_nI ht (by decide), br_c (fun q => h1 ?_) (fun q => h0 fun h => q ?_)⟩
          · exact ⟨⟨fun _ => z2, fun _ => z1⟩, fun q => absurd z1 q, fun _ => Or.inr ⟨t, t', ht, ht', rfl, rfl, (gb_yt1 _ ht').mp q⟩⟩
          · rcases h.2.2 z1 with ⟨q, _⟩ | ⟨a', b', k1, k2, k3, k4, k5⟩
            · exact absurd q.symm (gl_m1N (by omega))
            · have e3 := (lN_eq (by omega) (by omega)).mp k3
              have e4 := (lN_eq (by omega) (by omega)).mp k4
              subst e3 e4
              exact (gb_yt1 _ ht').mpr k5
    · rw [if_neg z2] at e2
      subst e1 e2
      exact br_f (by decide) (h0 fun h => z2 (h.1.mp z1))
  · rw [if_neg z1] at e1
    by_cases z2 : k2 = 4
    · rw [if_pos z2] at e2
      subst e1 e2
      exact br_f (by decide) (h0 fun h => z1 (h.1.mpr z2))
    · rw [if_neg z2] at e2
      subst e1 e2
      refine br_t rfl (br_t rfl (br_c (fun q => h1 ⟨⟨fun q => absurd q z1, fun q => absurd q z2⟩, fun _ => q, fun q => absurd q z1⟩) (fun q => h0 fun h => q (h.2.1 z1))))
theorem gw_V_r4 {C : Nat → Int32} {S V : Nat → Int64} (HV : gw_V lv up nf nm kd C S V) {o j k : Nat} (ho : o < 32) (ha : C o ≠ -1) (hj : j ≤ lv (gw_kl C o)) (hk : k < nf (gw_al lv up (gw_kl C o) j)) (h4 : kd (4 * gw_al lv up (gw_kl C o) j + k) = 4) :
    V (10 * o + nm (4 * gw_al lv up (gw_kl C o) j + k)) = -1 ∨ ∃ t, t < 32 ∧ V (10 * o + nm (4 * gw_al lv up (gw_kl C o) j + k)) = lN t := by
  rcases (HV o ho ha j k hj hk).1 h4 with h | ⟨t, h1, h2, _⟩
  · exact Or.inl h.1
  · exact Or.inr ⟨t, h1, h2⟩
theorem gy_mayBeL {post : Int32 → Prop} (HW : gw_W b_defined lv up nf nm kd) (HU : gw_U b_defined lv up nf nm) (HY : gw_CY b_defined b_parent b_own lv up nf nm kd) (HO : gw_O b_defined a_oClass b_cls) (HV : gw_V lv up nf nm kd a_oClass a_slot b_val) {u v : Nat} (hu : u < 32) (hv : v < 32) (au : a_oClass u ≠ -1) (av : a_oClass v ≠ -1) (he : gw_kl a_oClass u % 6 = gw_kl a_oClass v % 6)
    (h1 : gq_ok lv up nf nm kd a_oClass b_val (gq_RB b_rows) u v → post 1) (h0 : ¬ gq_ok lv up nf nm kd a_oClass b_val (gq_RB b_rows) u v → post 0) :
    ∀ n i, i ≤ 30 → 30 - i < n → (∀ j k j' m, gq_com lv up nf nm a_oClass u v j k j' m → 10 * (lv (gw_kl a_oClass u) - j) + nm (4 * gw_al lv up (gw_kl a_oClass u) j + k) < i → gq_F lv up nf nm kd a_oClass b_val (gq_RB b_rows) u v j k j' m) → wY_mayBe_40 post (nI u) (nI v) (nI (u / 16)) (nI (v / 16)) g_culprit g_depth g_lastMade b_defined b_version b_parent b_own b_latest b_cls b_partner b_pinned b_arrived b_val b_from b_made b_done b_rows n (nI i) := by
  obtain ⟨c1, c2, c3, c4, c5⟩ := gw_O_al HO hu au
  obtain ⟨d1, d2, d3, d4, d5⟩ := gw_O_al HO hv av
  have lu := (HW _ c1).2.2.2.2.1
  have eu : 6 * (u / 16) + gw_kl a_oClass u % 6 = gw_kl a_oClass u := by omega
  have ev : 6 * (v / 16) + gw_kl a_oClass v % 6 = gw_kl a_oClass v := by omega
  intro n
  induction n with
  | zero => intro i h1 h2; omega
  | succ n ih =>
    intro i hi hn hok
    rw [wY_mayBe_40]
    dsimp only
    rcases Nat.eq_or_lt_of_le hi with z | z
    · subst z
      refine br_t (by decide) (h1 ⟨au, av, he, fun j k j' m hc => hok j k j' m hc ?_⟩)
      have := ((HW _ (gw_al_ok HW c1 c4 hc.1).1).2.2.1 k hc.2.1).1
      omega
    · refine br_f (ze_ge30f z) ⟨vp_in_nI hu (by decide), by decide, ?_⟩
      rw [nI_clamp (n := u) (by omega), c3, ze_div10 (by omega)]
      refine gy_chain HW HY (by omega) (by omega) (by rw [eu]; exact c4) (by omega) ⟨by decide, ?_⟩
      rw [eu]
      have skip : (∀ j k j' m, gq_com lv up nf nm a_oClass u v j k j' m → 10 * (lv (gw_kl a_oClass u) - j) + nm (4 * gw_al lv up (gw_kl a_oClass u) j + k) = i → gq_F lv up nf nm kd a_oClass b_val (gq_RB b_rows) u v j k j' m) → wY_mayBe_40 post (nI u) (nI v) (nI (u / 16)) (nI (v / 16)) g_culprit g_depth g_lastMade b_defined b_version b_parent b_own b_latest b_cls b_partner b_pinned b_arrived b_val b_from b_made b_done b_rows n (nI (i + 1)) := by
        intro hs
        refine ih (i + 1) z (by omega) (fun j k j' m hc hl => ?_)
        rcases Nat.lt_or_ge (10 * (lv (gw_kl a_oClass u) - j) + nm (4 * gw_al lv up (gw_kl a_oClass u) j + k)) i with y | y
        · exact hok j k j' m hc y
        · exact hs j k j' m hc (by omega)
      have s118 : ∀ x6 x7 : Int32, (∀ j k j' m, gq_com lv up nf nm a_oClass u v j k j' m → 10 * (lv (gw_kl a_oClass u) - j) + nm (4 * gw_al lv up (gw_kl a_oClass u) j + k) ≠ i) → wY_mayBe_118 post (wY_mayBe_40 post (nI u) (nI v) (nI (u / 16)) (nI (v / 16)) g_culprit g_depth g_lastMade b_defined b_version b_parent b_own b_latest b_cls b_partner b_pinned b_arrived b_val b_from b_made b_done b_rows n) (nI u) (nI v) (nI (u / 16)) (nI (v / 16)) (nI i) x6 x7 g_culprit g_depth g_lastMade b_defined b_version b_parent b_own b_latest b_cls b_partner b_pinned b_arrived b_val b_from b_made b_done b_rows := by
        intro x6 x7 hs
        unfold wY_mayBe_118 wY_mayBe_119
        exact br_t rfl (nm_r (nI_1 i) (skip fun j k j' m hc e => absurd e (hs j k j' m hc)))
      refine nm_r (e' := nI (i % 10)) (by rw [ze_mulr10, pk_sub (by omega), ze_nrem10]) ?_
      refine ⟨vp_in_nI hv (by decide), ?_⟩
      rw [nI_clamp (n := v) (by omega), d3]
      rcases Nat.lt_or_ge (lv (gw_kl a_oClass u)) (i / 10) with y | y
      · rw [gw_ch_f y]
        refine gy_inN (br_t rfl (s118 _ _ fun j k j' m hc e => ?_))
        have := ((HW _ (gw_al_ok HW c1 c4 hc.1).1).2.2.1 k hc.2.1).1
        omega
      · rw [gw_ch_t y]
        obtain ⟨i1, i2, i3, i4⟩ := gw_an_ok HW (i / 10) (gw_kl a_oClass u) c1 c4 y
        have ea : 6 * (u / 16) + gw_an up (i / 10) (gw_kl a_oClass u) % 6 = gw_an up (i / 10) (gw_kl a_oClass u) := by omega
        have ej : ∀ j k, j ≤ lv (gw_kl a_oClass u) → k < nf (gw_al lv up (gw_kl a_oClass u) j) → 10 * (lv (gw_kl a_oClass u) - j) + nm (4 * gw_al lv up (gw_kl a_oClass u) j + k) = i → gw_al lv up (gw_kl a_oClass u) j = gw_an up (i / 10) (gw_kl a_oClass u) ∧ nm (4 * gw_al lv up (gw_kl a_oClass u) j + k) = i % 10 := by
          intro j k hj hk e
          have := ((HW _ (gw_al_ok HW c1 c4 hj).1).2.2.1 k hk).1
          refine ⟨?_, by omega⟩
          unfold gw_al
          exact congrArg (fun t => gw_an up t (gw_kl a_oClass u)) (by omega)
        refine gy_in HW HY (by omega) (by omega) (by omega) (by rw [ev]; exact d4) (fun hin => br_f (by decide) ?_) (fun hin => br_t rfl (s118 _ _ fun j k j' m hc e => ?_))
        · rw [ev] at hin
          have hb := hin.2.2
          have lb := hin.2.1
          generalize eb : 6 * (v / 16) + gw_an up (i / 10) (gw_kl a_oClass u) % 6 = b at hin hb lb
          have b12 : b < 12 := by omega
          refine gy_own (by omega) (by omega) (by omega) ?_
          rw [ea]
          rcases gw_ownC HY i1 (x := i % 10) (by omega) with ⟨k, hk, e1, e2⟩ | ⟨hno, e2⟩
          · have gk := ((HW _ i1).2.2.1 k hk).2
            rw [e2]
            refine br_f (nI_pos (by omega)) ?_
            refine gy_own (by omega) (by omega) (by omega) ?_
            rw [eb]
            rcases gw_ownC HY b12 (x := i % 10) (by omega) with ⟨m, hm, e3, e4⟩ | ⟨hno, e4⟩
            · have gm := ((HW _ b12).2.2.1 m hm).2
              rw [e4]
              refine br_f (nI_pos (by omega)) ?_
              -- the one common field of this place
              have hau : gw_al lv up (gw_kl a_oClass u) (lv (gw_kl a_oClass u) - i / 10) = gw_an up (i / 10) (gw_kl a_oClass u) := gw_al_an lv up y
              have hF : gq_F lv up nf nm kd a_oClass b_val (gq_RB b_rows) u v (lv (gw_kl a_oClass u) - i / 10) k (lv b) m ↔ gq_fit (gq_RB b_rows) (kd (4 * gw_an up (i / 10) (gw_kl a_oClass u) + k)) (kd (4 * b + m)) (b_val (10 * u + i % 10)) (b_val (10 * v + i % 10)) := by
                unfold gq_F
                rw [hau, hb, e1, e3]
              have hcom : gq_com lv up nf nm a_oClass u v (lv (gw_kl a_oClass u) - i / 10) k (lv b) m := by
                refine ⟨by omega, by rw [hau]; exact hk, lb, by rw [hb]; exact hm, by rw [hau, hb]; omega, by rw [hau, hb, e1, e3]⟩
              have uniq : ∀ j k2 j' m2, gq_com lv up nf nm a_oClass u v j k2 j' m2 → 10 * (lv (gw_kl a_oClass u) - j) + nm (4 * gw_al lv up (gw_kl a_oClass u) j + k2) = i → j = lv (gw_kl a_oClass u) - i / 10 ∧ k2 = k ∧ j' = lv b ∧ m2 = m := by
                intro j k2 j' m2 hc e
                obtain ⟨q1, q2⟩ := ej j k2 hc.1 hc.2.1 e
                obtain ⟨w1, w2⟩ := gw_one HW HU c1 c4 hc.1 hcom.1 hc.2.1 hcom.2.1 (by rw [q2, hau, e1])
                obtain ⟨w3, w4⟩ := gw_one HW HU d1 d4 hc.2.2.1 hcom.2.2.1 hc.2.2.2.1 hcom.2.2.2.1 (by rw [← hc.2.2.2.2.2, q2, hb, e3])
                exact ⟨w1, w2, w3, w4⟩
              have fin : ∀ b1 b2 : Int32, (b1 = if kd (4 * gw_an up (i / 10) (gw_kl a_oClass u) + k) = 4 then 1 else 0) → (b2 = if kd (4 * b + m) = 4 then 1 else 0) → wY_mayBe_168 post (wY_mayBe_40 post (nI u) (nI v) (nI (u / 16)) (nI (v / 16)) g_culprit g_depth g_lastMade b_defined b_version b_parent b_own b_latest b_cls b_partner b_pinned b_arrived b_val b_from b_made b_done b_rows n) (nI u) (nI v) (nI (u / 16)) (nI (v / 16)) (nI i) b2 b1 (nI (i % 10)) (nI v) (nI u) g_culprit g_depth g_lastMade b_defined b_version b_parent b_own b_latest b_cls b_partner b_pinned b_arrived b_val b_from b_made b_done b_rows := by
                intro b1 b2 q1 q2
                unfold wY_mayBe_168
                refine gy_fits hu hv (by omega) q1 q2 (fun q => ?_) (fun q => ?_) (fun hf => br_f (by decide) (nm_r (nI_1 i) (skip fun j k2 j' m2 hc e => ?_))) (fun hf => br_t rfl (h0 fun ok => hf (hF.mp (ok.2.2.2 _ _ _ _ hcom))))
                · have := gw_V_r4 HV hu au hcom.1 hcom.2.1 (by rw [hau]; exact q)
                  rw [hau, e1] at this
                  exact this
                · have := gw_V_r4 HV hv av hcom.2.2.1 hcom.2.2.2.1 (by rw [hb]; exact q)
                  rw [hb, e3] at this
                  exact this
                · obtain ⟨rfl, rfl, rfl, rfl⟩ := uniq j k2 j' m2 hc e
                  exact hF.mpr hf
              have s149 : ∀ b1 : Int32, (b1 = if kd (4 * gw_an up (i / 10) (gw_kl a_oClass u) + k) = 4 then 1 else 0) → wY_mayBe_149 post (wY_mayBe_40 post (nI u) (nI v) (nI (u / 16)) (nI (v / 16)) g_culprit g_depth g_lastMade b_defined b_version b_parent b_own b_latest b_cls b_partner b_pinned b_arrived b_val b_from b_made b_done b_rows n) (nI u) (nI v) (nI (u / 16)) (nI (v / 16)) (nI i) (nI (gw_an up (i / 10) (gw_kl a_oClass u) % 6)) (nI (i % 10)) b1 (nI (i % 10)) (nI v) (nI u) g_culprit g_depth g_lastMade b_defined b_version b_parent b_own b_latest b_cls b_partner b_pinned b_arrived b_val b_from b_made b_done b_rows := by
                intro b1 q1
                unfold wY_mayBe_149
                refine gy_own (by omega) (by omega) (by omega) ?_
                rw [eb, e4]
                by_cases q : kd (4 * b + m) = 4
                · exact br_t (ze_eq4t q) (fin b1 1 q1 (by rw [if_pos q]))
                · exact br_f (ze_eq4f q (by omega)) (fin b1 0 q1 (by rw [if_neg q]))
              unfold wY_mayBe_119
              refine br_f (by decide) ?_
              refine gy_own (by omega) (by omega) (by omega) ?_
              rw [ea, e2]
              by_cases q : kd (4 * gw_an up (i / 10) (gw_kl a_oClass u) + k) = 4
              · exact br_t (ze_eq4t q) (s149 1 (by rw [if_pos q]))
              · exact br_f (ze_eq4f q (by omega)) (s149 0 (by rw [if_neg q]))
            · rw [e4]
              refine br_t (by decide) (s118 _ _ fun j k2 j' m2 hc e => ?_)
              obtain ⟨q1, q2⟩ := ej j k2 hc.1 hc.2.1 e
              obtain ⟨n1, n2, n3, n4⟩ := gw_al_ok HW d1 d4 hc.2.2.1
              have e5 : gw_al lv up (gw_kl a_oClass v) j' = b := by
                have := hc.2.2.2.2.1
                rw [q1] at this
                omega
              have h6 := hc.2.2.2.1
              rw [e5] at h6
              have h7 := hc.2.2.2.2.2
              rw [q2, e5] at h7
              exact hno m2 h6 h7.symm
          · rw [e2]
            refine br_t (by decide) (s118 _ _ fun j k2 j' m2 hc e => ?_)
            obtain ⟨q1, q2⟩ := ej j k2 hc.1 hc.2.1 e
            have h6 := hc.2.1
            rw [q1] at h6 q2
            exact hno k2 h6 q2
        · obtain ⟨q1, q2⟩ := ej j k hc.1 hc.2.1 e
          obtain ⟨n1, n2, n3, n4⟩ := gw_al_ok HW d1 d4 hc.2.2.1
          have e5 : gw_al lv up (gw_kl a_oClass v) j' = 6 * (v / 16) + gw_an up (i / 10) (gw_kl a_oClass u) % 6 := by
            have := hc.2.2.2.2.1
            rw [q1] at this
            omega
          rw [ev, ← e5] at hin
          have h3 := hc.2.2.1
          exact hin ⟨n2, by omega, by rw [n3]⟩
theorem gy_mayBe {post : Int32 → Prop} (HW : gw_W b_defined lv up nf nm kd) (HU : gw_U b_defined lv up nf nm) (HY : gw_CY b_defined b_parent b_own lv up nf nm kd) (HO : gw_O b_defined a_oClass b_cls) (HV : gw_V lv up nf nm kd a_oClass a_slot b_val) {u v : Nat} (hu : u < 32) (hv : v < 32)
    (h1 : gq_ok lv up nf nm kd a_oClass b_val (gq_RB b_rows) u v → post 1) (h0 : ¬ gq_ok lv up nf nm kd a_oClass b_val (gq_RB b_rows) u v → post 0) : wpY_mayBe post (g_culprit, g_depth, g_lastMade, b_defined, b_version, b_parent, b_own, b_latest, b_cls, b_partner, b_pinned, b_arrived, b_val, b_from, b_made, b_done, b_rows) (nI u) (nI v) := by
  unfold wpY_mayBe; dsimp only
  rw [nI_clamp (n := u) (by omega), nI_clamp (n := v) (by omega)]
  refine ⟨vp_in_nI hu (by decide), ?_⟩
  rcases HO u hu with ⟨c1, c2⟩ | ⟨c1, c2, c3, c4, c5⟩
  · rw [c2]
    exact br_t (by decide) (h0 fun h => h.1 c1)
  · have au : a_oClass u ≠ -1 := by rw [c2]; exact ze_m1_ne (by omega)
    rw [c3]
    refine br_f (nI_pos (by omega)) ⟨vp_in_nI hu (by decide), vp_in_nI hv (by decide), ?_⟩
    rcases HO v hv with ⟨d1, d2⟩ | ⟨d1, d2, d3, d4, d5⟩
    · rw [d2]
      exact br_f (ze_m1_ne (by omega)) (h0 fun h => h.2.1 d1)
    · have av : a_oClass v ≠ -1 := by rw [d2]; exact ze_m1_ne (by omega)
      rw [d3]
      by_cases e : gw_kl a_oClass u % 6 = gw_kl a_oClass v % 6
      · refine br_t (congrArg nI e) ⟨by decide, nm_r (e' := nI (u / 16)) (ze_div16 (a := u) (by omega)) ⟨by decide, nm_r (e' := nI (v / 16)) (ze_div16 (a := v) (by omega)) ?_⟩⟩
        exact ⟨31, gy_mayBeL HW HU HY HO HV hu hv au av e h1 h0 31 0 (by omega) (by omega) (fun j k j' m _ h => by omega)⟩
      · exact br_f (ze_eqf e (by omega) (by omega)) (h0 fun h => e h.2.2.1)
theorem gy_al62 {post : Int32 → SY → Prop} {J : Int32 → (Nat → Int32) → (Nat → Int32) → (Nat → Int32) → (Nat → Int32) → (Nat → Int32) → (Nat → Int32) → (Nat → Int32) → (Nat → Int32) → (Nat → Int32) → (Nat → Int64) → (Nat → Int32) → (Nat → Int32) → (Nat → Int32) → (Nat → Int32) → Prop} {x3 x4 : Int32}
    (HW : gw_W b_defined lv up nf nm kd) (HU : gw_U b_defined lv up nf nm) (HY : gw_CY b_defined b_parent b_own lv up nf nm kd) (HO : gw_O b_defined a_oClass b_cls) (HV : gw_V lv up nf nm kd a_oClass a_slot b_val) {r0 : Nat → Int32}
    (K0 : (∀ u v, u < 32 → v < 32 → gq_RB r0 u v → gq_ok lv up nf nm kd a_oClass b_val (gq_RB r0) u v) → J 0 b_defined b_version b_parent b_own b_latest b_cls b_partner b_pinned b_arrived b_val b_from b_made b_done r0)
    (K1 : ∀ r, gc_n (fun x => gq_RB r (x / 32) (x % 32)) 1024 < gc_n (fun x => gq_RB r0 (x / 32) (x % 32)) 1024 → (∀ B, gq_post lv up nf nm kd a_oClass b_val B → (∀ u v, u < 32 → v < 32 → B u v → gq_RB r0 u v) → ∀ u v, u < 32 → v < 32 → B u v → gq_RB r u v) → J 1 b_defined b_version b_parent b_own b_latest b_cls b_partner b_pinned b_arrived b_val b_from b_made b_done r) :
    ∀ n i r (f : Int32), i ≤ 1024 → 1024 - i < n → (∀ B, gq_post lv up nf nm kd a_oClass b_val B → (∀ u v, u < 32 → v < 32 → B u v → gq_RB r0 u v) → ∀ u v, u < 32 → v < 32 → B u v → gq_RB r u v) →
      ((f = 0 ∧ r = r0 ∧ ∀ x, x < i → gq_RB r0 (x / 32) (x % 32) → gq_ok lv up nf nm kd a_oClass b_val (gq_RB r0) (x / 32) (x % 32)) ∨ (f = 1 ∧ gc_n (fun x => gq_RB r (x / 32) (x % 32)) 1024 < gc_n (fun x => gq_RB r0 (x / 32) (x % 32)) 1024)) →
      wY_alike_62 post J x3 x4 g_culprit g_depth g_lastMade n f (nI i) b_defined b_version b_parent b_own b_latest b_cls b_partner b_pinned b_arrived b_val b_from b_made b_done r := by
  intro n
  induction n with
  | zero => intro i r f h1 h2; omega
  | succ n ih =>
    intro i r f hi hn hB hf
    rw [wY_alike_62]
    dsimp only
    rcases Nat.eq_or_lt_of_le hi with z | z
    · subst z
      refine br_t (by decide) ?_
      rcases hf with ⟨rfl, rfl, h⟩ | ⟨rfl, h⟩
      · refine K0 fun u v hu hv hr => ?_
        have := h (32 * u + v) (by omega)
        rw [show (32 * u + v) / 32 = u from by omega, show (32 * u + v) % 32 = v from by omega] at this
        exact this hr
      · exact K1 r h hB
    · refine br_f (ze_ge1024f z) ⟨by decide, nm_r (e' := nI (i / 32)) (ze_div32 (a := i) (by omega)) ⟨by decide, nm_r (e' := nI (i % 32)) (ze_rem32 (a := i) (by omega)) ⟨vp_in_nI (by omega) (by decide), ?_⟩⟩⟩
      rw [nI_clamp (by omega)]
      by_cases y : bt (r (i / 32)) (i % 32) = true
      · refine br_t ((gb_yt1 _ (by omega)).mpr y) ?_
        refine gy_mayBe HW HU HY HO HV (by omega) (by omega) (fun ok => br_f (by decide) (nm_r (nI_1 i) ?_)) (fun no => br_t rfl ⟨vp_in_nI (by omega) (by decide), vp_in_nI (by omega) (by decide), nm_e (nm_r (nI_1 i) ?_)⟩)
        · refine ih (i + 1) r f z (by omega) hB ?_
          rcases hf with ⟨rfl, rfl, h⟩ | h
          · refine Or.inl ⟨rfl, rfl, fun x hx hr => ?_⟩
            rcases Nat.lt_or_ge x i with q | q
            · exact h x q hr
            · have e : x = i := by omega
              subst e; exact ok
          · exact Or.inr h
        · have bits : ∀ u v, u < 32 → v < 32 → (gq_RB (upd r (i / 32) (r (i / 32) &&& (((1 : Int32) <<< (nI (i % 32) &&& 31)) ^^^ (-1)))) u v ↔ gq_RB r u v ∧ ¬ (u = i / 32 ∧ v = i % 32)) := by
            intro u v hu hv
            unfold gq_RB
            by_cases e : u = i / 32
            · subst e
              rw [pk_us, b_and, b_xor, b_m1 v hv, gb_y1 (by omega) hv]
              by_cases q : v = i % 32
              · simp [q]
              · simp [q]
            · rw [pk_un e]
              exact ⟨fun h => ⟨h, fun q => e q.1⟩, fun h => h.1⟩
          have sub : ∀ u v, u < 32 → v < 32 → gq_RB (upd r (i / 32) (r (i / 32) &&& (((1 : Int32) <<< (nI (i % 32) &&& 31)) ^^^ (-1)))) u v → gq_RB r u v := fun u v hu hv h => ((bits u v hu hv).mp h).1
          have lt : gc_n (fun x => gq_RB (upd r (i / 32) (r (i / 32) &&& (((1 : Int32) <<< (nI (i % 32) &&& 31)) ^^^ (-1)))) (x / 32) (x % 32)) 1024 < gc_n (fun x => gq_RB r (x / 32) (x % 32)) 1024 :=
            gc_n_lt (P := fun x => gq_RB (upd r (i / 32) (r (i / 32) &&& (((1 : Int32) <<< (nI (i % 32) &&& 31)) ^^^ (-1)))) (x / 32) (x % 32)) (Q := fun x => gq_RB r (x / 32) (x % 32)) (a := i) (fun h => ((bits _ _ (by omega) (by omega)).mp h).2 ⟨rfl, rfl⟩) y (fun x hx h => sub _ _ (by omega) (by omega) h) z
          refine ih (i + 1) _ 1 z (by omega) (fun B hp h0 u v hu hv hb => ?_) (Or.inr ⟨rfl, ?_⟩)
          · refine (bits u v hu hv).mpr ⟨hB B hp h0 u v hu hv hb, fun ⟨e1, e2⟩ => no ?_⟩
            rw [← e1, ← e2]
            exact gq_ok_mono (hB B hp h0) (hp u v hu hv hb)
          · rcases hf with ⟨_, rfl, _⟩ | ⟨_, h⟩
            · exact lt
            · omega
      · refine br_f (fun q => y ((gb_yt1 _ (by omega)).mp q)) (nm_r (nI_1 i) ?_)
        refine ih (i + 1) r f z (by omega) hB ?_
        rcases hf with ⟨rfl, rfl, h⟩ | h
        · refine Or.inl ⟨rfl, rfl, fun x hx hr => ?_⟩
          rcases Nat.lt_or_ge x i with q | q
          · exact h x q hr
          · have e : x = i := by omega
            subst e; exact absurd hr y
        · exact Or.inr h
theorem gy_al51 {post : Int32 → SY → Prop} {p q : Nat} (hp : p < 32) (hq : q < 32)
    (HW : gw_W b_defined lv up nf nm kd) (HU : gw_U b_defined lv up nf nm) (HY : gw_CY b_defined b_parent b_own lv up nf nm kd) (HO : gw_O b_defined a_oClass b_cls) (HV : gw_V lv up nf nm kd a_oClass a_slot b_val)
    (K1 : gq_ans lv up nf nm kd a_oClass b_val p q → ∀ r, post 1 (g_culprit, g_depth, g_lastMade, b_defined, b_version, b_parent, b_own, b_latest, b_cls, b_partner, b_pinned, b_arrived, b_val, b_from, b_made, b_done, r)) (K0 : ¬ gq_ans lv up nf nm kd a_oClass b_val p q → ∀ r, post 0 (g_culprit, g_depth, g_lastMade, b_defined, b_version, b_parent, b_own, b_latest, b_cls, b_partner, b_pinned, b_arrived, b_val, b_from, b_made, b_done, r)) :
    ∀ n r (f : Int32), gc_n (fun x => gq_RB r (x / 32) (x % 32)) 1024 + 1 < n → (∀ B, gq_post lv up nf nm kd a_oClass b_val B → ∀ u v, u < 32 → v < 32 → B u v → gq_RB r u v) → (f = 0 → gq_post lv up nf nm kd a_oClass b_val (gq_RB r)) →
      wY_alike_51 post (nI p) (nI q) g_culprit g_depth g_lastMade n f b_defined b_version b_parent b_own b_latest b_cls b_partner b_pinned b_arrived b_val b_from b_made b_done r := by
  intro n
  induction n with
  | zero => intro r f h; omega
  | succ n ih =>
    intro r f hn hB hf
    rw [wY_alike_51]
    dsimp only
    have fin : gq_post lv up nf nm kd a_oClass b_val (gq_RB r) → vp_in (nI p) 32 ∧ ((((((r (nI p).toNatClampNeg) >>> (nI q &&& 31)) &&& 1) = 1 → (post 1 (g_culprit, g_depth, g_lastMade, b_defined, b_version, b_parent, b_own, b_latest, b_cls, b_partner, b_pinned, b_arrived, b_val, b_from, b_made, b_done, r))) ∧ (¬ (((r (nI p).toNatClampNeg) >>> (nI q &&& 31)) &&& 1) = 1 → (post 0 (g_culprit, g_depth, g_lastMade, b_defined, b_version, b_parent, b_own, b_latest, b_cls, b_partner, b_pinned, b_arrived, b_val, b_from, b_made, b_done, r))))) := by
      intro hpost
      rw [nI_clamp (by omega)]
      refine ⟨vp_in_nI hp (by decide), br_c (fun h => K1 ⟨_, hpost, (gb_yt1 _ hq).mp h⟩ r) (fun h => K0 (fun ⟨B, h1, h2⟩ => h ((gb_yt1 _ hq).mpr (hB B h1 p q hp hq h2))) r)⟩
    by_cases z : f = 0
    · exact br_t z (fin (hf z))
    · refine br_f z ⟨1025, gy_al62 HW HU HY HO HV (fun h => ?_) (fun r' lt hB' => ?_) 1025 0 r 0 (by omega) (by omega) (fun B _ h => h) (Or.inl ⟨rfl, rfl, fun x hx => by omega⟩)⟩
      · obtain ⟨n, rfl⟩ : ∃ m, n = m + 1 := ⟨n - 1, by omega⟩
        rw [wY_alike_51]
        exact br_t rfl (fin h)
      · exact ih r' 1 (by omega) (fun B h => hB' B h (hB B h)) (fun h => absurd h (by decide))
theorem gy_al27 {post : Int32 → SY → Prop} {p q : Nat} (hp : p < 32) (hq : q < 32)
    (HW : gw_W b_defined lv up nf nm kd) (HU : gw_U b_defined lv up nf nm) (HY : gw_CY b_defined b_parent b_own lv up nf nm kd) (HO : gw_O b_defined a_oClass b_cls) (HV : gw_V lv up nf nm kd a_oClass a_slot b_val)
    (K1 : gq_ans lv up nf nm kd a_oClass b_val p q → ∀ r, post 1 (g_culprit, g_depth, g_lastMade, b_defined, b_version, b_parent, b_own, b_latest, b_cls, b_partner, b_pinned, b_arrived, b_val, b_from, b_made, b_done, r)) (K0 : ¬ gq_ans lv up nf nm kd a_oClass b_val p q → ∀ r, post 0 (g_culprit, g_depth, g_lastMade, b_defined, b_version, b_parent, b_own, b_latest, b_cls, b_partner, b_pinned, b_arrived, b_val, b_from, b_made, b_done, r)) :
    ∀ n i, i ≤ 32 → 32 - i < n → wY_alike_27 post (nI p) (nI q) g_culprit g_depth g_lastMade n (nI i) b_defined b_version b_parent b_own b_latest b_cls b_partner b_pinned b_arrived b_val b_from b_made b_done (gw_fl b_rows 0 i (-1)) := by
  intro n
  induction n with
  | zero => intro i h1 h2; omega
  | succ n ih =>
    intro i hi hn
    rw [wY_alike_27]
    dsimp only
    rcases Nat.eq_or_lt_of_le hi with z | z
    · subst z
      refine br_t (by decide) ⟨_, gy_al51 hp hq HW HU HY HO HV K1 K0 _ _ 1 (Nat.lt_succ_self _) (fun B _ u v hu hv _ => ?_) (fun h => absurd h (by decide))⟩
      show bt (gw_fl b_rows 0 32 (-1) u) v = true
      rw [gw_fl_in (by omega) hu, b_m1 v hv]
    · simp (disch := omega) only [ze_ge0t, ze_gt0t, ze_gt0f, ze_le0t, ze_le0f, ze_lt0f, ze_eq0p, ze_eq0f, ze_ge1t, ze_ge1f, ze_gt1t, ze_gt1f, ze_le1t, ze_le1f, ze_lt1t, ze_lt1f, ze_eq1p, ze_eq1f, ze_ge2t, ze_ge2f, ze_gt2t, ze_gt2f, ze_le2t, ze_le2f, ze_lt2t, ze_lt2f, ze_eq2p, ze_eq2f, ze_ge3t, ze_ge3f, ze_gt3t, ze_gt3f, ze_le3t, ze_le3f, ze_lt3t, ze_lt3f, ze_eq3p, ze_eq3f, ze_ge4t, ze_ge4f, ze_gt4t, ze_gt4f, ze_le4t, ze_le4f, ze_lt4t, ze_lt4f, ze_eq4p, ze_eq4f, ze_ge5t, ze_ge5f, ze_gt5t, ze_gt5f, ze_le5t, ze_le5f, ze_lt5t, ze_lt5f, ze_eq5p, ze_eq5f, ze_ge6t, ze_ge6f, ze_gt6t, ze_gt6f, ze_le6t, ze_le6f, ze_lt6t, ze_lt6f, ze_eq6p, ze_eq6f, ze_ge7t, ze_ge7f, ze_gt7t, ze_gt7f, ze_le7t, ze_le7f, ze_lt7t, ze_lt7f, ze_eq7p, ze_eq7f, ze_ge9t, ze_ge9f, ze_gt9t, ze_gt9f, ze_le9t, ze_le9f, ze_lt9t, ze_lt9f, ze_eq9p, ze_eq9f, ze_ge10t, ze_ge10f, ze_gt10t, ze_gt10f, ze_le10t, ze_le10f, ze_lt10t, ze_lt10f, ze_eq10p, ze_eq10f, ze_ge12t, ze_ge12f, ze_gt12t, ze_gt12f, ze_le12t, ze_le12f, ze_lt12t, ze_lt12f, ze_eq12p, ze_eq12f, ze_ge15t, ze_ge15f, ze_gt15t, ze_gt15f, ze_le15t, ze_le15f, ze_lt15t, ze_lt15f, ze_eq15p, ze_eq15f, ze_ge16t, ze_ge16f, ze_gt16t, ze_gt16f, ze_le16t, ze_le16f, ze_lt16t, ze_lt16f, ze_eq16p, ze_eq16f, ze_ge30t, ze_ge30f, ze_gt30t, ze_gt30f, ze_le30t, ze_le30f, ze_lt30t, ze_lt30f, ze_eq30p, ze_eq30f, ze_ge32t, ze_ge32f, ze_gt32t, ze_gt32f, ze_le32t, ze_le32f, ze_lt32t, ze_lt32f, ze_eq32p, ze_eq32f, ze_ge47t, ze_ge47f, ze_gt47t, ze_gt47f, ze_le47t, ze_le47f, ze_lt47t, ze_lt47f, ze_eq47p, ze_eq47f, ze_ge120t, ze_ge120f, ze_gt120t, ze_gt120f, ze_le120t, ze_le120f, ze_lt120t, ze_lt120f, ze_eq120p, ze_eq120f, ze_ge1024t, ze_ge1024f, ze_gt1024t, ze_gt1024f, ze_le1024t, ze_le1024f, ze_lt1024t, ze_lt1024f, ze_eq1024p, ze_eq1024f, ze_let, ze_lef, ze_ltt, ze_ltf, ze_eqt, ze_eqf, ze_m1_lt0, ze_m1_n0le, ze_m1_le0, ze_m1_le, ze_m1_lt, ze_m1_nle, ze_m1_nlt, ze_m1_ne, ze_m1_en, ze_m1_ne4, ze_m1_ne0, ze_nz6, ze_nz10, ze_nz12, ze_nz16, ze_nz32, ze_nz192, ze_1ne0, ze_0ne1, ze_0ne4, ↓ze_rem6, ↓ze_rem10, ↓ze_rem16, ↓ze_rem32, ↓ze_rem12, ze_div6, ze_div10, ze_div12, ze_div16, ze_div32, ze_div192, ze_mul3, ze_mul4, ze_mul6, ze_mul10, ze_mul12, ze_mul16, ze_mul17, ze_mul32, ze_mul60, ze_mulr6, ze_nrem6, ze_mulr10, ze_nrem10, ze_mulr12, ze_nrem12, ze_mulr16, ze_nrem16, ze_mulr32, ze_nrem32, nI_add, ze_add1, ze_add6, ze_add7, ze_add8, ze_add12, ze_add16, ze_add0, ze_radd0, ze_radd8, ze_sub1, ze_m1, ze_0sub1, ze_m1add1, ze_1sub, ze_2sub, pk_sub, ze_and3, ze_and7, ze_and31, ze_and127, ↓ze_shr2, ↓ze_shr3, ↓ze_shr5, ↓ze_shl3, ze_i8, ze_nby, ze_i8m1, ze_i80, ze_nbm1, ze_i16, ze_nsh, ze_nb0, ze_nt0, ze_nt1, ze_cl0, ze_cl1, nI_clamp, vp_in_nI, forall_eq, true_implies, false_implies, not_true_eq_false, not_false_eq_true, and_true, true_and, implies_true, and_self, forall_const, Classical.not_not, gw_fl_s0]
      exact ih (i + 1) z (by omega)
end
end
section
def gq_PS (pr : Nat → Int64) (a b : Nat) : Prop := gb_x (pr a) b = true
noncomputable def gq_cnt (pr : Nat → Int64) : Nat := gc_n (fun x => gq_PS pr (x / 32) (x % 32)) 1024
theorem gq_cnt_le (pr : Nat → Int64) : gq_cnt pr ≤ 1024 := gc_n_le _ _
def gq_E (SC : Nat → Nat → Prop) (pr : Nat → Int64) (td : Nat → Int32) (n : Nat) (pr' : Nat → Int64) (td' : Nat → Int32) (n' : Nat) : Prop :=
  n ≤ n' ∧ (∀ i, i < n → td' i = td i) ∧ (∀ a b, a < 32 → b < 32 → gq_PS pr a b → gq_PS pr' a b) ∧ (∀ a b, a < 32 → b < 32 → gq_PS pr' a b → gq_PS pr a b ∨ (SC a b ∧ ∃ i, n ≤ i ∧ i < n' ∧ td' i = nI (32 * a + b))) ∧
  (∀ i, n ≤ i → i < n' → ∃ a b, a < 32 ∧ b < 32 ∧ td' i = nI (32 * a + b) ∧ gq_PS pr' a b) ∧ gq_cnt pr + n' = gq_cnt pr' + n
theorem gq_E_r (SC : Nat → Nat → Prop) (pr : Nat → Int64) (td : Nat → Int32) (n : Nat) : gq_E SC pr td n pr td n :=
  ⟨Nat.le_refl _, fun _ _ => rfl, fun _ _ _ _ h => h, fun _ _ _ _ h => Or.inl h, fun i h1 h2 => by omega, rfl⟩
theorem gq_E_t {SC : Nat → Nat → Prop} {pr pr1 pr2 : Nat → Int64} {td td1 td2 : Nat → Int32} {n n1 n2 : Nat} (h : gq_E SC pr td n pr1 td1 n1) (k : gq_E SC pr1 td1 n1 pr2 td2 n2) : gq_E SC pr td n pr2 td2 n2 := by
  obtain ⟨h1, h2, h3, h4, h5, h6⟩ := h
  obtain ⟨k1, k2, k3, k4, k5, k6⟩ := k
  refine ⟨by omega, fun i hi => by rw [k2 i (by omega), h2 i hi], fun a b ha hb h => k3 a b ha hb (h3 a b ha hb h), fun a b ha hb h => ?_, fun i hi hi2 => ?_, by omega⟩
  · rcases k4 a b ha hb h with h | ⟨s, i, i1, i2, i3⟩
    · rcases h4 a b ha hb h with h | ⟨s, i, i1, i2, i3⟩
      · exact Or.inl h
      · exact Or.inr ⟨s, i, i1, by omega, by rw [k2 i i2]; exact i3⟩
    · exact Or.inr ⟨s, i, by omega, i2, i3⟩
  · rcases Nat.lt_or_ge i n1 with z | z
    · obtain ⟨a, b, ha, hb, e, p⟩ := h5 i hi z
      exact ⟨a, b, ha, hb, by rw [k2 i z]; exact e, k3 a b ha hb p⟩
    · exact k5 i z hi2
def gq_SC (lv up nf nm kd : Nat → Nat) (C : Nat → Int32) (V : Nat → Int64) (u v a b : Nat) : Prop := ∃ j k j' m, gq_com lv up nf nm C u v j k j' m ∧ kd (4 * gw_al lv up (gw_kl C u) j + k) = 4 ∧ kd (4 * gw_al lv up (gw_kl C v) j' + m) = 4 ∧ V (10 * u + nm (4 * gw_al lv up (gw_kl C u) j + k)) = lN a ∧ V (10 * v + nm (4 * gw_al lv up (gw_kl C v) j' + m)) = lN b
section
variable {f_end f_at f_written f_read f_error f_culprit f_nextHandle f_depth f_nTodo : Int32} {a_defined a_parent a_level a_version a_fields a_fName a_fKind a_latest a_oClass a_pinned a_handle a_arrived a_handles a_described a_dLevels a_dFields a_plan a_wide a_wire a_order a_made a_sObj a_sLev a_sPos a_sCls a_todo : Nat → Int32} {a_slot a_pairs : Nat → Int64} {g_culprit g_depth g_lastMade : Int32} {b_defined b_version b_parent b_own b_latest b_cls b_partner b_pinned b_arrived b_from b_made b_done b_rows : Nat → Int32} {b_val : Nat → Int64} {lv up nf nm kd : Nat → Nat}
theorem gx_later {post : SX → Prop} {SC : Nat → Nat → Prop} {a b n : Nat} (ha : a < 32) (hb : b < 32) (hn : n ≤ gq_cnt a_pairs) (hs : SC a b)
    (K : ∀ pr td n', gq_E SC a_pairs a_todo n pr td n' → gq_PS pr a b → post (f_end, f_at, f_written, f_read, f_error, f_culprit, f_nextHandle, f_depth, nI n', a_defined, a_parent, a_level, a_version, a_fields, a_fName, a_fKind, a_latest, a_oClass, a_pinned, a_slot, a_handle, a_arrived, a_handles, a_described, a_dLevels, a_dFields, a_plan, a_wide, a_wire, a_order, a_made, a_sObj, a_sLev, a_sPos, a_sCls, pr, td)) : wpX_compareLater post (f_end, f_at, f_written, f_read, f_error, f_culprit, f_nextHandle, f_depth, nI n, a_defined, a_parent, a_level, a_version, a_fields, a_fName, a_fKind, a_latest, a_oClass, a_pinned, a_slot, a_handle, a_arrived, a_handles, a_described, a_dLevels, a_dFields, a_plan, a_wide, a_wire, a_order, a_made, a_sObj, a_sLev, a_sPos, a_sCls, a_pairs, a_todo) (nI a) (nI b) := by
  unfold wpX_compareLater; dsimp only
  rw [nI_clamp (n := a) (by omega)]
  refine ⟨vp_in_nI ha (by decide), ?_⟩
  by_cases z : gb_x (a_pairs a) b = true
  · exact br_f (fun q => by rw [gb_xt _ (by omega)] at q; rw [q] at z; exact absurd z (by decide)) (K _ _ _ (gq_E_r _ _ _ _) z)
  · have bits : ∀ a' b', a' < 32 → b' < 32 → (gq_PS (vp_updL a_pairs a (a_pairs a ||| ((1 : Int64) <<< ((nI b).toInt64 &&& 63)))) a' b' ↔ gq_PS a_pairs a' b' ∨ (a' = a ∧ b' = b)) := by
      intro a' b' ha' hb'
      unfold gq_PS
      by_cases e : a' = a
      · subst e
        rw [pk_uLs, gb_xor, gb_x1 (by omega) (by omega), Bool.or_eq_true, decide_eq_true_iff]
        exact ⟨fun h => h.imp id (fun h => ⟨rfl, h⟩), fun h => h.imp id (fun h => h.2)⟩
      · rw [pk_uLn e]
        exact ⟨Or.inl, fun h => h.elim id (fun h => absurd h.1 e)⟩
    have cnt : gq_cnt (vp_updL a_pairs a (a_pairs a ||| ((1 : Int64) <<< ((nI b).toInt64 &&& 63)))) = gq_cnt a_pairs + 1 := by
      have := gc_n_add (P := fun x => gq_PS a_pairs (x / 32) (x % 32)) (a := 32 * a + b) (by
        show ¬ gq_PS a_pairs ((32 * a + b) / 32) ((32 * a + b) % 32)
        rw [show (32 * a + b) / 32 = a from by omega, show (32 * a + b) % 32 = b from by omega]
        exact z) (N := 1024) (by omega)
      unfold gq_cnt
      rw [← this]
      refine gc_n_eq (fun x hx => (bits _ _ (by omega) (by omega)).trans ?_)
      exact ⟨fun h => h.imp id (fun h => by omega), fun h => h.imp id (fun h => by omega)⟩
    have le := gq_cnt_le (vp_updL a_pairs a (a_pairs a ||| ((1 : Int64) <<< ((nI b).toInt64 &&& 63))))
    refine br_t ((gb_xt _ (by omega)).mpr (by simpa using z)) ⟨vp_in_nI ha (by decide), vp_in_nI ha (by decide), nm_e (nm_r (nI_1 n) ⟨vp_in_nI (by omega) (by decide), nm_e ?_⟩)⟩
    rw [nI_clamp (n := n) (by omega), ze_mul32, nI_add, ze_i16 (by omega), ze_nsh (by omega)]
    refine K _ _ _ ⟨by omega, fun i hi => pk_un (by omega), fun a' b' ha' hb' h => (bits a' b' ha' hb').mpr (Or.inl h), fun a' b' ha' hb' h => ?_, fun i hi hi2 => ?_, by rw [cnt]; omega⟩ ((bits a b ha hb).mpr (Or.inr ⟨rfl, rfl⟩))
    · rcases (bits a' b' ha' hb').mp h with h | ⟨rfl, rfl⟩
      · exact Or.inl h
      · exact Or.inr ⟨hs, n, by omega, by omega, pk_us⟩
    · have e : i = n := by omega
      subst e
      exact ⟨a, b, ha, hb, pk_us, (bits a b ha hb).mpr (Or.inr ⟨rfl, rfl⟩)⟩
theorem gx_mf {post : Int32 → SX → Prop} {p q j j' n0 : Nat} {pr0 : Nat → Int64} {td0 : Nat → Int32}
    (HW : gw_W a_defined lv up nf nm kd) (HX : gw_CX a_defined a_parent a_level a_fields a_fName a_fKind lv up nf nm kd) (HO : gw_O a_defined a_oClass b_cls) (HV : gw_V lv up nf nm kd a_oClass a_slot b_val)
    (hp : p < 32) (hq : q < 32) (ap : a_oClass p ≠ -1) (aq : a_oClass q ≠ -1) (hj : j ≤ lv (gw_kl a_oClass p)) (hj' : j' ≤ lv (gw_kl a_oClass q)) (he : gw_al lv up (gw_kl a_oClass p) j % 6 = gw_al lv up (gw_kl a_oClass q) j' % 6) (hn0 : n0 ≤ gq_cnt pr0)
    (K1 : ∀ pr td n, gq_E (gq_SC lv up nf nm kd a_oClass b_val p q) pr0 td0 n0 pr td n → (∀ k m, gq_com lv up nf nm a_oClass p q j k j' m → gq_F lv up nf nm kd a_oClass b_val (gq_PS pr) p q j k j' m) → post 1 (f_end, f_at, f_written, f_read, f_error, f_culprit, f_nextHandle, f_depth, nI n, a_defined, a_parent, a_level, a_version, a_fields, a_fName, a_fKind, a_latest, a_oClass, a_pinned, a_slot, a_handle, a_arrived, a_handles, a_described, a_dLevels, a_dFields, a_plan, a_wide, a_wire, a_order, a_made, a_sObj, a_sLev, a_sPos, a_sCls, pr, td))
    (K0 : ∀ pr td n, gq_E (gq_SC lv up nf nm kd a_oClass b_val p q) pr0 td0 n0 pr td n → (∃ k m, gq_com lv up nf nm a_oClass p q j k j' m ∧ ∀ B, ¬ gq_F lv up nf nm kd a_oClass b_val B p q j k j' m) → post 0 (f_end, f_at, f_written, f_read, f_error, f_culprit, f_nextHandle, f_depth, nI n, a_defined, a_parent, a_level, a_version, a_fields, a_fName, a_fKind, a_latest, a_oClass, a_pinned, a_slot, a_handle, a_arrived, a_handles, a_described, a_dLevels, a_dFields, a_plan, a_wide, a_wire, a_order, a_made, a_sObj, a_sLev, a_sPos, a_sCls, pr, td)) :
    ∀ fu i pr td n, i ≤ nf (gw_al lv up (gw_kl a_oClass p) j) → nf (gw_al lv up (gw_kl a_oClass p) j) - i < fu → gq_E (gq_SC lv up nf nm kd a_oClass b_val p q) pr0 td0 n0 pr td n → (∀ k m, k < i → gq_com lv up nf nm a_oClass p q j k j' m → gq_F lv up nf nm kd a_oClass b_val (gq_PS pr) p q j k j' m) →
      wX_matchFields_3 post (nI p) (nI q) (nI (gw_al lv up (gw_kl a_oClass p) j)) (nI (gw_al lv up (gw_kl a_oClass q) j')) fu (nI i) f_end f_at f_written f_read f_error f_culprit f_nextHandle f_depth (nI n) a_defined a_parent a_level a_version a_fields a_fName a_fKind a_latest a_oClass a_pinned a_slot a_handle a_arrived a_handles a_described a_dLevels a_dFields a_plan a_wide a_wire a_order a_made a_sObj a_sLev a_sPos a_sCls pr td := by
  obtain ⟨c1, c2, c3, c4, c5⟩ := gw_O_al HO hp ap
  obtain ⟨d1, d2, d3, d4, d5⟩ := gw_O_al HO hq aq
  obtain ⟨x1, x2, x3, x4⟩ := gw_al_ok HW c1 c4 hj
  obtain ⟨y1, y2, y3, y4⟩ := gw_al_ok HW d1 d4 hj'
  have lp := (HW _ c1).2.2.2.2.1
  have lq := (HW _ d1).2.2.2.2.1
  have fp := (HW _ x1).1
  have fq := (HW _ y1).1
  have eLp := ((HX _ x1).2.2 x2).1
  have eLq := ((HX _ y1).2.2 y2).1
  rw [x3] at eLp
  rw [y3] at eLq
  intro fu
  induction fu with
  | zero => intro i pr td n h1 h2; omega
  | succ fu ih =>
    intro i pr td n hi hfu hE hok
    have hcn : n ≤ gq_cnt pr := by have := hE.2.2.2.2.2; omega
    rw [wX_matchFields_3]
    dsimp only
    rw [nI_clamp (n := gw_al lv up (gw_kl a_oClass p) j) (by omega), (HX _ x1).1]
    refine ⟨vp_in_nI x1 (by decide), ?_⟩
    rcases Nat.eq_or_lt_of_le hi with z | z
    · refine br_t (nI_le (by omega) (by omega)) (K1 pr td n hE fun k m hc => hok k m ?_ hc)
      have := hc.2.1
      omega
    · refine br_f (nI_ge (by omega) (by omega)) ?_
      obtain ⟨eN, eK⟩ := (HX _ x1).2.1 i z
      have gi := (HW _ x1).2.2.1 i z
      rw [ze_mul4, nI_add, nI_clamp (n := 4 * gw_al lv up (gw_kl a_oClass p) j + i) (by omega), eN, eK]
      refine ⟨vp_in_nI (by omega) (by decide), ?_⟩
      have next : ∀ pr' td' n', gq_E (gq_SC lv up nf nm kd a_oClass b_val p q) pr td n pr' td' n' → (∀ m, gq_com lv up nf nm a_oClass p q j i j' m → gq_F lv up nf nm kd a_oClass b_val (gq_PS pr') p q j i j' m) → wX_matchFields_3 post (nI p) (nI q) (nI (gw_al lv up (gw_kl a_oClass p) j)) (nI (gw_al lv up (gw_kl a_oClass q) j')) fu (nI (i + 1)) f_end f_at f_written f_read f_error f_culprit f_nextHandle f_depth (nI n') a_defined a_parent a_level a_version a_fields a_fName a_fKind a_latest a_oClass a_pinned a_slot a_handle a_arrived a_handles a_described a_dLevels a_dFields a_plan a_wide a_wire a_order a_made a_sObj a_sLev a_sPos a_sCls pr' td' := by
        intro pr' td' n' hE' hi'
        refine ih (i + 1) pr' td' n' z (by omega) (gq_E_t hE hE') (fun k m hk hc => ?_)
        rcases Nat.lt_or_ge k i with w | w
        · exact gq_fit_mono hE'.2.2.1 (hok k m w hc)
        · have e : k = i := by omega
          subst e; exact hi' m hc
      refine gx_own HW HX y1 (fun r hr => ?_)
      rcases hr with ⟨m, hm, en, er⟩ | ⟨er, hr⟩
      · have gm := (HW _ y1).2.2.1 m hm
        have en := (nI_eq (by omega) (by omega)).mp en
        have hcom : gq_com lv up nf nm a_oClass p q j i j' m := ⟨hj, z, hj', hm, he, en⟩
        have uniq : ∀ m', gq_com lv up nf nm a_oClass p q j i j' m' → m' = m := fun m' hc => gw_nm_inj HW y1 hc.2.2.2.1 hm (by rw [← hc.2.2.2.2.2]; exact en)
        have eKq := ((HX _ y1).2.1 m hm).2
        have cp := HV p hp ap j i hj z
        have cq := HV q hq aq j' m hj' hm
        subst er
        refine br_t (nI_pos' (by omega)) ⟨vp_in_nI x1 (by decide), ?_⟩
        rw [nI_clamp (n := gw_al lv up (gw_kl a_oClass q) j') (by omega), eLp, eLq, ze_mul12, ze_mul12, ze_mul4, ze_mul4, nI_add, nI_add, nI_add, nI_add, nI_clamp (n := 12 * p + 4 * j + i) (by omega), nI_clamp (n := 12 * q + 4 * j' + m) (by omega)]
        refine ⟨vp_in_nI (by omega) (by decide), nm_e ⟨vp_in_nI y1 (by decide), ⟨vp_in_nI (by omega) (by decide), nm_e ⟨vp_in_nI (by omega) (by decide), ?_⟩⟩⟩⟩
        have s183 : ∀ b : Int32, b = 0 → gq_F lv up nf nm kd a_oClass b_val (gq_PS pr) p q j i j' m → ∀ w1 w2, wX_matchFields_183 post (wX_matchFields_3 post (nI p) (nI q) (nI (gw_al lv up (gw_kl a_oClass p) j)) (nI (gw_al lv up (gw_kl a_oClass q) j')) fu) (nI p) (nI q) (nI (gw_al lv up (gw_kl a_oClass p) j)) (nI (gw_al lv up (gw_kl a_oClass q) j')) (nI i) w1 w2 b f_end f_at f_written f_read f_error f_culprit f_nextHandle f_depth (nI n) a_defined a_parent a_level a_version a_fields a_fName a_fKind a_latest a_oClass a_pinned a_slot a_handle a_arrived a_handles a_described a_dLevels a_dFields a_plan a_wide a_wire a_order a_made a_sObj a_sLev a_sPos a_sCls pr td := by
          intro b eb hF w1 w2
          unfold wX_matchFields_183
          exact br_t eb (nm_r (nI_1 i) (next pr td n (gq_E_r _ _ _ _) (fun m' hc => by rw [uniq m' hc]; exact hF)))
        have k108 : ∀ b : Int32, (b = if kd (4 * gw_al lv up (gw_kl a_oClass p) j + i) = 4 then 1 else 0) → wX_matchFields_108 post (wX_matchFields_3 post (nI p) (nI q) (nI (gw_al lv up (gw_kl a_oClass p) j)) (nI (gw_al lv up (gw_kl a_oClass q) j')) fu) (nI p) (nI q) (nI (gw_al lv up (gw_kl a_oClass p) j)) (nI (gw_al lv up (gw_kl a_oClass q) j')) (nI i) (nI m) (a_slot (12 * p + 4 * j + i)) (a_slot (12 * q + 4 * j' + m)) b f_end f_at f_written f_read f_error f_culprit f_nextHandle f_depth (nI n) a_defined a_parent a_level a_version a_fields a_fName a_fKind a_latest a_oClass a_pinned a_slot a_handle a_arrived a_handles a_described a_dLevels a_dFields a_plan a_wide a_wire a_order a_made a_sObj a_sLev a_sPos a_sCls pr td := by
          intro b eb
          unfold wX_matchFields_108
          rw [ze_mul4, nI_add, nI_clamp (n := 4 * gw_al lv up (gw_kl a_oClass q) j' + m) (by omega), eKq]
          refine ⟨vp_in_nI (by omega) (by decide), ?_⟩
          by_cases kp : kd (4 * gw_al lv up (gw_kl a_oClass p) j + i) = 4
          · rw [if_pos kp] at eb
            subst eb
            by_cases kq : kd (4 * gw_al lv up (gw_kl a_oClass q) j' + m) = 4
            · refine br_t (ze_eq4t kq) ?_
              unfold wX_matchFields_133
              refine br_t rfl (br_f (by decide) ?_)
              rcases cp.1 kp with ⟨vp, sp⟩ | ⟨t, ht, vp, sp, -⟩
              · rw [sp]
                refine br_t rfl ?_
                unfold wX_matchFields_155
                rcases cq.1 kq with ⟨vq, sq⟩ | ⟨t', ht', vq, sq, -⟩
                · rw [sq]
                  refine br_t rfl ?_
                  unfold wX_matchFields_167
                  refine br_t rfl ?_
                  unfold wX_matchFields_183
                  refine br_f (by decide) (br_t (by decide) (nm_r (nI_1 i) (next pr td n (gq_E_r _ _ _ _) (fun m' hc => ?_))))
                  rw [uniq m' hc]
                  exact ⟨⟨fun _ => kq, fun _ => kp⟩, fun h => absurd kp h, fun _ => Or.inl ⟨vp, vq⟩⟩
                · rw [sq]
                  refine br_f (fun h => gl_lN0 (t := t') (by omega) (by rw [h]; decide)) ?_
                  unfold wX_matchFields_167
                  refine br_f (by decide) (K0 pr td n hE ⟨i, m, hcom, fun B hF => ?_⟩)
                  rcases hF.2.2 kp with ⟨_, h⟩ | ⟨s, s', h1, h2, h3, h4, _⟩
                  · rw [vq] at h; exact gl_m1N (by omega) h.symm
                  · rw [vp] at h3; exact gl_m1N (by omega) h3
              · rw [sp]
                refine br_f (fun h => gl_lN0 (t := t) (by omega) (by rw [h]; decide)) ?_
                unfold wX_matchFields_155
                rcases cq.1 kq with ⟨vq, sq⟩ | ⟨t', ht', vq, sq, -⟩
                · rw [sq]
                  refine br_t rfl ?_
                  unfold wX_matchFields_167
                  refine br_f (by decide) (K0 pr td n hE ⟨i, m, hcom, fun B hF => ?_⟩)
                  rcases hF.2.2 kp with ⟨h, _⟩ | ⟨s, s', h1, h2, h3, h4, _⟩
                  · rw [vp] at h; exact gl_m1N (by omega) h.symm
                  · rw [vq] at h4; exact gl_m1N (by omega) h4
                · rw [sq]
                  refine br_f (fun h => gl_lN0 (t := t') (by omega) (by rw [h]; decide)) ?_
                  unfold wX_matchFields_167
                  refine br_t rfl ?_
                  unfold wX_matchFields_183
                  refine br_f (by decide) (br_f (gl_lN0 (by omega)) ?_)
                  rw [lN_i, lN_i, nI_pred, nI_pred]
                  refine gx_later (SC := gq_SC lv up nf nm kd a_oClass b_val p q) ht ht' hcn ⟨j, i, j', m, hcom, kp, kq, vp, vq⟩ (fun pr' td' n' hE' hps => nm_r (nI_1 i) (next pr' td' n' hE' (fun m' hc => ?_)))
                  rw [uniq m' hc]
                  exact ⟨⟨fun _ => kq, fun _ => kp⟩, fun h => absurd kp h, fun _ => Or.inr ⟨t, t', ht, ht', vp, vq, hps⟩⟩
            · refine br_f (ze_eq4f kq (by omega)) ?_
              unfold wX_matchFields_133
              exact br_f (by decide) (K0 pr td n hE ⟨i, m, hcom, fun B hF => kq (hF.1.mp kp)⟩)
          · rw [if_neg kp] at eb
            subst eb
            by_cases kq : kd (4 * gw_al lv up (gw_kl a_oClass q) j' + m) = 4
            · refine br_t (ze_eq4t kq) ?_
              unfold wX_matchFields_133
              exact br_f (by decide) (K0 pr td n hE ⟨i, m, hcom, fun B hF => kp (hF.1.mpr kq)⟩)
            · refine br_f (ze_eq4f kq (by omega)) ?_
              unfold wX_matchFields_133
              refine br_t rfl (br_t rfl ?_)
              rw [cp.2 kp, cq.2 kq]
              refine br_c (fun e => s183 0 rfl ⟨⟨fun h => absurd h kp, fun h => absurd h kq⟩, fun _ => e, fun h => absurd h kp⟩ _ _) (fun e => K0 pr td n hE ⟨i, m, hcom, fun B hF => e (hF.2.1 kp)⟩)
        by_cases kp : kd (4 * gw_al lv up (gw_kl a_oClass p) j + i) = 4
        · exact br_t (ze_eq4t kp) (k108 1 (by rw [if_pos kp]))
        · exact br_f (ze_eq4f kp (by omega)) (k108 0 (by rw [if_neg kp]))
      · subst er
        refine br_f (by decide) (nm_r (nI_1 i) (next pr td n (gq_E_r _ _ _ _) (fun m hc => ?_)))
        exact absurd (congrArg nI hc.2.2.2.2.2) (hr m hc.2.2.2.1)
/-- the class at level r - 1, -1 for r = 0 -/
def gq_lI (lv up : Nat → Nat) (c r : Nat) : Int32 := if r = 0 then -1 else nI (gw_al lv up c (r - 1))
theorem gq_lI_p {D P L F N K : Nat → Int32} (HW : gw_W D lv up nf nm kd) (HX : gw_CX D P L F N K lv up nf nm kd) {c r : Nat} (hc : c < 12) (hd : D c ≠ 0) (hr : r ≤ lv c) : P (gw_al lv up c r) = gq_lI lv up c r := by
  obtain ⟨x1, x2, x3, x4⟩ := gw_al_ok HW hc hd hr
  rw [((HX _ x1).2.2 x2).2]
  unfold gq_lI
  rw [x3]
  by_cases z : r = 0
  · rw [if_pos z, if_pos z]
  · rw [if_neg z, if_neg z]
    have := gw_al_up lv up (c := c) (j := r - 1) (by omega)
    rw [show r - 1 + 1 = r from by omega] at this
    rw [this]
theorem gx_m49 {post : Int32 → SX → Prop} {J : Int32 → Int32 → Int32 → Int32 → Int32 → Int32 → Int32 → Int32 → Int32 → Int32 → Int32 → (Nat → Int32) → (Nat → Int32) → (Nat → Int32) → (Nat → Int32) → (Nat → Int32) → (Nat → Int32) → (Nat → Int32) → (Nat → Int32) → (Nat → Int32) → (Nat → Int32) → (Nat → Int64) → (Nat → Int32) → (Nat → Int32) → (Nat → Int32) → (Nat → Int32) → (Nat → Int32) → (Nat → Int32) → (Nat → Int32) → (Nat → Int32) → (Nat → Int32) → (Nat → Int32) → (Nat → Int32) → (Nat → Int32) → (Nat → Int32) → (Nat → Int32) → (Nat → Int32) → (Nat → Int64) → (Nat → Int32) → Prop} {x4 : Int32} {p q j n0 : Nat} {pr0 : Nat → Int64} {td0 : Nat → Int32}
    (HW : gw_W a_defined lv up nf nm kd) (HX : gw_CX a_defined a_parent a_level a_fields a_fName a_fKind lv up nf nm kd) (HO : gw_O a_defined a_oClass b_cls) (HV : gw_V lv up nf nm kd a_oClass a_slot b_val)
    (hp : p < 32) (hq : q < 32) (ap : a_oClass p ≠ -1) (aq : a_oClass q ≠ -1) (hj : j ≤ lv (gw_kl a_oClass p)) (hn0 : n0 ≤ gq_cnt pr0)
    (K1 : ∀ pr td n, gq_E (gq_SC lv up nf nm kd a_oClass b_val p q) pr0 td0 n0 pr td n → (∀ k j' m, gq_com lv up nf nm a_oClass p q j k j' m → gq_F lv up nf nm kd a_oClass b_val (gq_PS pr) p q j k j' m) → J 1 (gq_lI lv up (gw_kl a_oClass p) j) f_end f_at f_written f_read f_error f_culprit f_nextHandle f_depth (nI n) a_defined a_parent a_level a_version a_fields a_fName a_fKind a_latest a_oClass a_pinned a_slot a_handle a_arrived a_handles a_described a_dLevels a_dFields a_plan a_wide a_wire a_order a_made a_sObj a_sLev a_sPos a_sCls pr td)
    (K0 : ∀ pr td n, gq_E (gq_SC lv up nf nm kd a_oClass b_val p q) pr0 td0 n0 pr td n → (∃ k j' m, gq_com lv up nf nm a_oClass p q j k j' m ∧ ∀ B, ¬ gq_F lv up nf nm kd a_oClass b_val B p q j k j' m) → J 0 (gq_lI lv up (gw_kl a_oClass p) j) f_end f_at f_written f_read f_error f_culprit f_nextHandle f_depth (nI n) a_defined a_parent a_level a_version a_fields a_fName a_fKind a_latest a_oClass a_pinned a_slot a_handle a_arrived a_handles a_described a_dLevels a_dFields a_plan a_wide a_wire a_order a_made a_sObj a_sLev a_sPos a_sCls pr td) :
    ∀ fu r pr td n, r ≤ lv (gw_kl a_oClass q) + 1 → r < fu → gq_E (gq_SC lv up nf nm kd a_oClass b_val p q) pr0 td0 n0 pr td n → (∀ k j' m, r ≤ j' → gq_com lv up nf nm a_oClass p q j k j' m → gq_F lv up nf nm kd a_oClass b_val (gq_PS pr) p q j k j' m) →
      wX_match_49 post J (nI p) (nI q) x4 (nI (gw_al lv up (gw_kl a_oClass p) j)) fu 1 (gq_lI lv up (gw_kl a_oClass q) r) f_end f_at f_written f_read f_error f_culprit f_nextHandle f_depth (nI n) a_defined a_parent a_level a_version a_fields a_fName a_fKind a_latest a_oClass a_pinned a_slot a_handle a_arrived a_handles a_described a_dLevels a_dFields a_plan a_wide a_wire a_order a_made a_sObj a_sLev a_sPos a_sCls pr td := by
  obtain ⟨c1, c2, c3, c4, c5⟩ := gw_O_al HO hp ap
  obtain ⟨d1, d2, d3, d4, d5⟩ := gw_O_al HO hq aq
  obtain ⟨x1, x2, x3, x4'⟩ := gw_al_ok HW c1 c4 hj
  have pJ := gq_lI_p HW HX c1 c4 hj
  intro fu
  induction fu with
  | zero => intro r pr td n h1 h2; omega
  | succ fu ih =>
    intro r pr td n hr hfu hE hok
    rw [wX_match_49]
    dsimp only
    rw [nI_clamp (n := gw_al lv up (gw_kl a_oClass p) j) (by omega), pJ]
    cases r with
    | zero =>
      refine br_t (by unfold gq_lI; rw [if_pos rfl]; decide) ⟨vp_in_nI x1 (by decide), nm_e (K1 pr td n hE fun k j' m hc => hok k j' m (Nat.zero_le _) hc)⟩
    | succ r =>
      obtain ⟨y1, y2, y3, y4⟩ := gw_al_ok HW d1 d4 (j := r) (by omega)
      have e : gq_lI lv up (gw_kl a_oClass q) (r + 1) = nI (gw_al lv up (gw_kl a_oClass q) r) := by unfold gq_lI; rw [if_neg (by omega)]; rfl
      have pQ := gq_lI_p HW HX d1 d4 (r := r) (by omega)
      rw [e]
      refine br_f (nI_pos (by omega)) (br_f (by decide) ⟨by decide, by decide, ?_⟩)
      rw [ze_rem6 (by omega), ze_rem6 (by omega)]
      have hcn : n ≤ gq_cnt pr := by have := hE.2.2.2.2.2; omega
      by_cases z : gw_al lv up (gw_kl a_oClass p) j % 6 = gw_al lv up (gw_kl a_oClass q) r % 6
      · refine br_t (congrArg nI z) ?_
        refine ⟨5, gx_mf (pr0 := pr) (td0 := td) (n0 := n) HW HX HO HV hp hq ap aq hj (by omega) z hcn (fun pr' td' n' hE' hF => ?_) (fun pr' td' n' hE' hbad => ?_) 5 0 pr td n (by omega) (by have := (HW _ x1).1; omega) (gq_E_r _ _ _ _) (fun k m hk => by omega)⟩
        · dsimp only
          rw [nI_clamp (n := gw_al lv up (gw_kl a_oClass q) r) (by omega), pQ]
          refine ⟨vp_in_nI y1 (by decide), nm_e (ih r pr' td' n' (by omega) (by omega) (gq_E_t hE hE') (fun k j' m hj' hc => ?_))⟩
          rcases Nat.eq_or_lt_of_le hj' with w | w
          · subst w; exact hF k m hc
          · exact gq_fit_mono hE'.2.2.1 (hok k j' m w hc)
        · dsimp only
          rw [nI_clamp (n := gw_al lv up (gw_kl a_oClass q) r) (by omega), pQ]
          refine ⟨vp_in_nI y1 (by decide), nm_e ?_⟩
          obtain ⟨fu, rfl⟩ : ∃ m, fu = m + 1 := ⟨fu - 1, by omega⟩
          rw [wX_match_49]
          dsimp only
          rw [nI_clamp (n := gw_al lv up (gw_kl a_oClass p) j) (by omega), pJ]
          have fin := K0 pr' td' n' (gq_E_t hE hE') (by obtain ⟨k, m, h⟩ := hbad; exact ⟨k, r, m, h⟩)
          exact br_c (fun _ => ⟨vp_in_nI x1 (by decide), nm_e fin⟩) (fun _ => br_t rfl ⟨vp_in_nI x1 (by decide), nm_e fin⟩)
      · refine br_f (ze_eqf z (by omega) (by omega)) ?_
        rw [nI_clamp (n := gw_al lv up (gw_kl a_oClass q) r) (by omega), pQ]
        refine ⟨vp_in_nI y1 (by decide), nm_e (ih r pr td n (by omega) (by omega) hE (fun k j' m hj' hc => ?_))⟩
        rcases Nat.eq_or_lt_of_le hj' with w | w
        · subst w; exact absurd hc.2.2.2.2.1 z
        · exact hok k j' m w hc
theorem gx_m35 {post : Int32 → SX → Prop} {p q n0 : Nat} {pr0 : Nat → Int64} {td0 : Nat → Int32}
    (HW : gw_W a_defined lv up nf nm kd) (HX : gw_CX a_defined a_parent a_level a_fields a_fName a_fKind lv up nf nm kd) (HO : gw_O a_defined a_oClass b_cls) (HV : gw_V lv up nf nm kd a_oClass a_slot b_val)
    (hp : p < 32) (hq : q < 32) (ap : a_oClass p ≠ -1) (aq : a_oClass q ≠ -1) (hn0 : n0 ≤ gq_cnt pr0)
    (K1 : ∀ pr td n, gq_E (gq_SC lv up nf nm kd a_oClass b_val p q) pr0 td0 n0 pr td n → (∀ j k j' m, gq_com lv up nf nm a_oClass p q j k j' m → gq_F lv up nf nm kd a_oClass b_val (gq_PS pr) p q j k j' m) → post 1 (f_end, f_at, f_written, f_read, f_error, f_culprit, f_nextHandle, f_depth, nI n, a_defined, a_parent, a_level, a_version, a_fields, a_fName, a_fKind, a_latest, a_oClass, a_pinned, a_slot, a_handle, a_arrived, a_handles, a_described, a_dLevels, a_dFields, a_plan, a_wide, a_wire, a_order, a_made, a_sObj, a_sLev, a_sPos, a_sCls, pr, td))
    (K0 : ∀ pr td n, gq_E (gq_SC lv up nf nm kd a_oClass b_val p q) pr0 td0 n0 pr td n → (∃ j k j' m, gq_com lv up nf nm a_oClass p q j k j' m ∧ ∀ B, ¬ gq_F lv up nf nm kd a_oClass b_val B p q j k j' m) → post 0 (f_end, f_at, f_written, f_read, f_error, f_culprit, f_nextHandle, f_depth, nI n, a_defined, a_parent, a_level, a_version, a_fields, a_fName, a_fKind, a_latest, a_oClass, a_pinned, a_slot, a_handle, a_arrived, a_handles, a_described, a_dLevels, a_dFields, a_plan, a_wide, a_wire, a_order, a_made, a_sObj, a_sLev, a_sPos, a_sCls, pr, td)) :
    ∀ fu r pr td n, r ≤ lv (gw_kl a_oClass p) + 1 → r < fu → gq_E (gq_SC lv up nf nm kd a_oClass b_val p q) pr0 td0 n0 pr td n → (∀ j k j' m, r ≤ j → gq_com lv up nf nm a_oClass p q j k j' m → gq_F lv up nf nm kd a_oClass b_val (gq_PS pr) p q j k j' m) →
      wX_match_35 post (nI p) (nI q) (nI (gw_kl a_oClass q)) fu 1 (gq_lI lv up (gw_kl a_oClass p) r) f_end f_at f_written f_read f_error f_culprit f_nextHandle f_depth (nI n) a_defined a_parent a_level a_version a_fields a_fName a_fKind a_latest a_oClass a_pinned a_slot a_handle a_arrived a_handles a_described a_dLevels a_dFields a_plan a_wide a_wire a_order a_made a_sObj a_sLev a_sPos a_sCls pr td := by
  obtain ⟨c1, c2, c3, c4, c5⟩ := gw_O_al HO hp ap
  obtain ⟨d1, d2, d3, d4, d5⟩ := gw_O_al HO hq aq
  intro fu
  induction fu with
  | zero => intro r pr td n h1 h2; omega
  | succ fu ih =>
    intro r pr td n hr hfu hE hok
    rw [wX_match_35]
    dsimp only
    cases r with
    | zero =>
      exact br_t (by unfold gq_lI; rw [if_pos rfl]; decide) ⟨rfl, K1 pr td n hE fun j k j' m hc => hok j k j' m (Nat.zero_le _) hc⟩
    | succ r =>
      obtain ⟨y1, y2, y3, y4⟩ := gw_al_ok HW c1 c4 (j := r) (by omega)
      have e : gq_lI lv up (gw_kl a_oClass p) (r + 1) = nI (gw_al lv up (gw_kl a_oClass p) r) := by unfold gq_lI; rw [if_neg (by omega)]; rfl
      have e2 : gq_lI lv up (gw_kl a_oClass q) (lv (gw_kl a_oClass q) + 1) = nI (gw_kl a_oClass q) := by unfold gq_lI; rw [if_neg (by omega)]; exact congrArg nI (gw_al_top _ _ _)
      have hcn : n ≤ gq_cnt pr := by have := hE.2.2.2.2.2; omega
      rw [e]
      refine br_f (nI_pos (by omega)) (br_f (by decide) ⟨lv (gw_kl a_oClass q) + 2, ?_⟩)
      have key := gx_m49 (x4 := nI (gw_kl a_oClass q)) (post := post) (J := wX_match_35 post (nI p) (nI q) (nI (gw_kl a_oClass q)) fu) (j := r) (pr0 := pr) (td0 := td) (n0 := n) (f_end := f_end) (f_at := f_at) (f_written := f_written) (f_read := f_read) (f_error := f_error) (f_culprit := f_culprit) (f_nextHandle := f_nextHandle) (f_depth := f_depth) (a_defined := a_defined) (a_parent := a_parent) (a_level := a_level) (a_version := a_version) (a_fields := a_fields) (a_fName := a_fName) (a_fKind := a_fKind) (a_latest := a_latest) (a_oClass := a_oClass) (a_pinned := a_pinned) (a_slot := a_slot) (a_handle := a_handle) (a_arrived := a_arrived) (a_handles := a_handles) (a_described := a_described) (a_dLevels := a_dLevels) (a_dFields := a_dFields) (a_plan := a_plan) (a_wide := a_wide) (a_wire := a_wire) (a_order := a_order) (a_made := a_made) (a_sObj := a_sObj) (a_sLev := a_sLev) (a_sPos := a_sPos) (a_sCls := a_sCls) HW HX HO HV hp hq ap aq (by omega) hcn (fun pr' td' n' hE' hF => ?_) (fun pr' td' n' hE' hbad => ?_) (lv (gw_kl a_oClass q) + 2) (lv (gw_kl a_oClass q) + 1) pr td n (by omega) (by omega) (gq_E_r _ _ _ _) (fun k j' m h hc => by have := hc.2.2.1; omega)
      · rw [e2] at key; exact key
      · refine ih r pr' td' n' (by omega) (by omega) (gq_E_t hE hE') (fun j k j' m hj hc => ?_)
        rcases Nat.eq_or_lt_of_le hj with w | w
        · subst w; exact hF k j' m hc
        · exact gq_fit_mono hE'.2.2.1 (hok j k j' m w hc)
      · obtain ⟨fu, rfl⟩ : ∃ m, fu = m + 1 := ⟨fu - 1, by omega⟩
        rw [wX_match_35]
        dsimp only
        have fin := K0 pr' td' n' (gq_E_t hE hE') (by obtain ⟨k, j', m, h⟩ := hbad; exact ⟨r, k, j', m, h⟩)
        exact br_c (fun _ => ⟨rfl, fin⟩) (fun _ => br_t rfl ⟨rfl, fin⟩)
theorem gx_match {post : Int32 → SX → Prop} {p q n : Nat}
    (HW : gw_W a_defined lv up nf nm kd) (HX : gw_CX a_defined a_parent a_level a_fields a_fName a_fKind lv up nf nm kd) (HO : gw_O a_defined a_oClass b_cls) (HV : gw_V lv up nf nm kd a_oClass a_slot b_val)
    (hp : p < 32) (hq : q < 32) (ap : a_oClass p ≠ -1) (aq : a_oClass q ≠ -1) (hn : n ≤ gq_cnt a_pairs)
    (K1 : ∀ pr td n', gq_E (gq_SC lv up nf nm kd a_oClass b_val p q) a_pairs a_todo n pr td n' → gq_ok lv up nf nm kd a_oClass b_val (gq_PS pr) p q → post 1 (f_end, f_at, f_written, f_read, f_error, f_culprit, f_nextHandle, f_depth, nI n', a_defined, a_parent, a_level, a_version, a_fields, a_fName, a_fKind, a_latest, a_oClass, a_pinned, a_slot, a_handle, a_arrived, a_handles, a_described, a_dLevels, a_dFields, a_plan, a_wide, a_wire, a_order, a_made, a_sObj, a_sLev, a_sPos, a_sCls, pr, td))
    (K0 : ∀ pr td n', (∀ B, ¬ gq_ok lv up nf nm kd a_oClass b_val B p q) → post 0 (f_end, f_at, f_written, f_read, f_error, f_culprit, f_nextHandle, f_depth, nI n', a_defined, a_parent, a_level, a_version, a_fields, a_fName, a_fKind, a_latest, a_oClass, a_pinned, a_slot, a_handle, a_arrived, a_handles, a_described, a_dLevels, a_dFields, a_plan, a_wide, a_wire, a_order, a_made, a_sObj, a_sLev, a_sPos, a_sCls, pr, td)) : wpX_match post (f_end, f_at, f_written, f_read, f_error, f_culprit, f_nextHandle, f_depth, nI n, a_defined, a_parent, a_level, a_version, a_fields, a_fName, a_fKind, a_latest, a_oClass, a_pinned, a_slot, a_handle, a_arrived, a_handles, a_described, a_dLevels, a_dFields, a_plan, a_wide, a_wire, a_order, a_made, a_sObj, a_sLev, a_sPos, a_sCls, a_pairs, a_todo) (nI p) (nI q) := by
  obtain ⟨c1, c2, c3, c4, c5⟩ := gw_O_al HO hp ap
  obtain ⟨d1, d2, d3, d4, d5⟩ := gw_O_al HO hq aq
  unfold wpX_match; dsimp only
  rw [nI_clamp (n := p) (by omega), nI_clamp (n := q) (by omega), c2, d2]
  refine ⟨vp_in_nI hp (by decide), nm_e ⟨vp_in_nI hq (by decide), nm_e ⟨by decide, by decide, ?_⟩⟩⟩
  rw [ze_rem6 (by omega), ze_rem6 (by omega)]
  by_cases z : gw_kl a_oClass p % 6 = gw_kl a_oClass q % 6
  · have e2 : gq_lI lv up (gw_kl a_oClass p) (lv (gw_kl a_oClass p) + 1) = nI (gw_kl a_oClass p) := by unfold gq_lI; rw [if_neg (by omega)]; exact congrArg nI (gw_al_top _ _ _)
    refine br_t (congrArg nI z) ⟨lv (gw_kl a_oClass p) + 2, ?_⟩
    rw [← e2]
    exact gx_m35 (pr0 := a_pairs) (td0 := a_todo) (n0 := n) HW HX HO HV hp hq ap aq hn (fun pr td n' hE hF => K1 pr td n' hE ⟨ap, aq, z, hF⟩) (fun pr td n' _ ⟨j, k, j', m, hc, hB⟩ => K0 pr td n' (fun B hok => hB B (hok.2.2.2 j k j' m hc))) _ _ _ _ n (by omega) (by omega) (gq_E_r _ _ _ _) (fun j k j' m h hc => by have := hc.1; omega)
  · exact br_f (ze_eqf z (by omega) (by omega)) (K0 a_pairs a_todo n (fun B hok => z hok.2.2.1))
def gq_I (lv up nf nm kd : Nat → Nat) (C : Nat → Int32) (V : Nat → Int64) (p q : Nat) (pr : Nat → Int64) (td : Nat → Int32) (n : Nat) : Prop :=
  n ≤ gq_cnt pr ∧ (∀ i, i < n → ∃ a b, a < 32 ∧ b < 32 ∧ td i = nI (32 * a + b) ∧ gq_PS pr a b) ∧ (∀ a b, a < 32 → b < 32 → gq_PS pr a b → C a ≠ -1 ∧ C b ≠ -1 ∧ ((∃ i, i < n ∧ td i = nI (32 * a + b)) ∨ gq_ok lv up nf nm kd C V (gq_PS pr) a b)) ∧
  (∀ B, gq_post lv up nf nm kd C V B → B p q → ∀ a b, a < 32 → b < 32 → gq_PS pr a b → B a b) ∧ gq_PS pr p q
theorem gx_al63 {post : Int32 → SX → Prop} {p q : Nat}
    (HW : gw_W a_defined lv up nf nm kd) (HX : gw_CX a_defined a_parent a_level a_fields a_fName a_fKind lv up nf nm kd) (HO : gw_O a_defined a_oClass b_cls) (HV : gw_V lv up nf nm kd a_oClass a_slot b_val)
    (hp : p < 32) (hq : q < 32) (K1 : gq_ans lv up nf nm kd a_oClass b_val p q → ∀ pr td n, post 1 (f_end, f_at, f_written, f_read, f_error, f_culprit, f_nextHandle, f_depth, nI n, a_defined, a_parent, a_level, a_version, a_fields, a_fName, a_fKind, a_latest, a_oClass, a_pinned, a_slot, a_handle, a_arrived, a_handles, a_described, a_dLevels, a_dFields, a_plan, a_wide, a_wire, a_order, a_made, a_sObj, a_sLev, a_sPos, a_sCls, pr, td))
    (K0 : ¬ gq_ans lv up nf nm kd a_oClass b_val p q → ∀ pr td n, post 0 (f_end, f_at, f_written, f_read, f_error, f_culprit, f_nextHandle, f_depth, nI n, a_defined, a_parent, a_level, a_version, a_fields, a_fName, a_fKind, a_latest, a_oClass, a_pinned, a_slot, a_handle, a_arrived, a_handles, a_described, a_dLevels, a_dFields, a_plan, a_wide, a_wire, a_order, a_made, a_sObj, a_sLev, a_sPos, a_sCls, pr, td)) :
    ∀ fu pr td n, 2 * (1024 - gq_cnt pr) + n + 1 < fu → gq_I lv up nf nm kd a_oClass b_val p q pr td n → wX_alike_63 post fu 1 f_end f_at f_written f_read f_error f_culprit f_nextHandle f_depth (nI n) a_defined a_parent a_level a_version a_fields a_fName a_fKind a_latest a_oClass a_pinned a_slot a_handle a_arrived a_handles a_described a_dLevels a_dFields a_plan a_wide a_wire a_order a_made a_sObj a_sLev a_sPos a_sCls pr td := by
  intro fu
  induction fu with
  | zero => intro pr td n h; omega
  | succ fu ih =>
    intro pr td n hfu hI
    obtain ⟨i1, i2, i3, i4, i5⟩ := hI
    have cl := gq_cnt_le pr
    rw [wX_alike_63]
    dsimp only
    cases n with
    | zero =>
      refine br_t (by decide) ⟨rfl, K1 ⟨gq_PS pr, fun u v hu hv h => ?_, i5⟩ pr td 0⟩
      rcases (i3 u v hu hv h).2.2 with ⟨i, hi, _⟩ | h
      · omega
      · exact h
    | succ n =>
      obtain ⟨a, b, ha, hb, et, hps⟩ := i2 n (by omega)
      obtain ⟨aa, ab, -⟩ := i3 a b ha hb hps
      refine br_f (ze_le0f (by omega) (by omega)) (br_f (by decide) (nm_r (nI_pred n) ⟨vp_in_nI (by omega) (by decide), by decide, vp_in_nI (by omega) (by decide), by decide, ?_⟩))
      rw [nI_clamp (n := n) (by omega), et, ze_rem32 (by omega), ze_div32 (by omega), show (32 * a + b) / 32 = a from by omega, show (32 * a + b) % 32 = b from by omega]
      refine gx_match HW HX HO HV ha hb aa ab (by omega) (fun pr' td' n' hE hok => ?_) (fun pr' td' n' hno => ?_)
      · dsimp only
        obtain ⟨e1, e2, e3, e4, e5, e6⟩ := hE
        have cl' := gq_cnt_le pr'
        refine ih pr' td' n' (by omega) ⟨by omega, fun i hi => ?_, fun x y hx hy h => ?_, fun B hB hpq x y hx hy h => ?_, ?_⟩
        · rcases Nat.lt_or_ge i n with z | z
          · obtain ⟨x, y, hx, hy, e, h⟩ := i2 i (by omega)
            exact ⟨x, y, hx, hy, by rw [e2 i z]; exact e, e3 x y hx hy h⟩
          · exact e5 i z hi
        · rcases e4 x y hx hy h with h | ⟨hs, i, hi1, hi2, hi3⟩
          · obtain ⟨k1, k2, k3⟩ := i3 x y hx hy h
            refine ⟨k1, k2, ?_⟩
            rcases k3 with ⟨i, hi, e⟩ | k3
            · rcases Nat.lt_or_ge i n with z | z
              · exact Or.inl ⟨i, by omega, by rw [e2 i z]; exact e⟩
              · have : i = n := by omega
                subst this
                rw [et] at e
                have e7 := (nI_eq (by omega) (by omega)).mp e
                have ex : x = a := by omega
                have ey : y = b := by omega
                subst ex ey
                exact Or.inr hok
            · exact Or.inr (gq_ok_mono e3 k3)
          · obtain ⟨j, k, j', m, hc, k4, k4', va, vb⟩ := hs
            refine ⟨?_, ?_, Or.inl ⟨i, hi2, hi3⟩⟩
            · exact (gk_T_al (D := a_defined) (Z := b_cls) HV ha aa ⟨j, k, hc.1, hc.2.1, k4, va, hx⟩).2.2
            · exact (gk_T_al (D := a_defined) (Z := b_cls) HV hb ab ⟨j', m, hc.2.2.1, hc.2.2.2.1, k4', vb, hy⟩).2.2
        · rcases e4 x y hx hy h with h | ⟨hs, _⟩
          · exact i4 B hB hpq x y hx hy h
          · obtain ⟨j, k, j', m, hc, k4, k4', va, vb⟩ := hs
            have hab := i4 B hB hpq a b ha hb hps
            rcases ((hB a b ha hb hab).2.2.2 j k j' m hc).2.2 k4 with ⟨q1, _⟩ | ⟨t, t', ht, ht', q1, q2, q3⟩
            · rw [va] at q1; exact absurd q1.symm (gl_m1N (by omega))
            · rw [va] at q1
              rw [vb] at q2
              have r1 := (lN_eq (by omega) (by omega)).mp q1
              have r2 := (lN_eq (by omega) (by omega)).mp q2
              subst r1 r2
              exact q3
        · exact e3 p q hp hq i5
      · dsimp only
        have no : ¬ gq_ans lv up nf nm kd a_oClass b_val p q := fun ⟨B, h1, h2⟩ => hno B (h1 a b ha hb (i4 B h1 h2 a b ha hb hps))
        obtain ⟨fu, rfl⟩ : ∃ m, fu = m + 1 := ⟨fu - 1, by omega⟩
        rw [wX_alike_63]
        dsimp only
        exact br_c (fun _ => ⟨rfl, K0 no _ _ _⟩) (fun _ => br_t rfl ⟨rfl, K0 no _ _ _⟩)
end
end
section
section
variable {f_end f_at f_written f_read f_error f_culprit f_nextHandle f_depth f_nTodo : Int32} {a_defined a_parent a_level a_version a_fields a_fName a_fKind a_latest a_oClass a_pinned a_handle a_arrived a_handles a_described a_dLevels a_dFields a_plan a_wide a_wire a_order a_made a_sObj a_sLev a_sPos a_sCls a_todo : Nat → Int32} {a_slot a_pairs : Nat → Int64} {g_culprit g_depth g_lastMade : Int32} {b_defined b_version b_parent b_own b_latest b_cls b_partner b_pinned b_arrived b_from b_made b_done b_rows : Nat → Int32} {b_val : Nat → Int64} {lv up nf nm kd : Nat → Nat}
theorem gw_zr_s0 (S : Nat → Int64) (i : Nat) : vp_updL (gw_zr S 0 i) i 0 = gw_zr S 0 (i + 1) := by
  have := gw_zr_s S 0 i
  rwa [Nat.zero_add, Nat.zero_add] at this
theorem gx_al27 {post : Int32 → SX → Prop} {p q : Nat} (hp : p < 32) (hq : q < 32)
    (HW : gw_W a_defined lv up nf nm kd) (HX : gw_CX a_defined a_parent a_level a_fields a_fName a_fKind lv up nf nm kd) (HO : gw_O a_defined a_oClass b_cls) (HV : gw_V lv up nf nm kd a_oClass a_slot b_val) (ap : a_oClass p ≠ -1) (aq : a_oClass q ≠ -1)
    (K1 : gq_ans lv up nf nm kd a_oClass b_val p q → ∀ pr td n, post 1 (f_end, f_at, f_written, f_read, f_error, f_culprit, f_nextHandle, f_depth, nI n, a_defined, a_parent, a_level, a_version, a_fields, a_fName, a_fKind, a_latest, a_oClass, a_pinned, a_slot, a_handle, a_arrived, a_handles, a_described, a_dLevels, a_dFields, a_plan, a_wide, a_wire, a_order, a_made, a_sObj, a_sLev, a_sPos, a_sCls, pr, td))
    (K0 : ¬ gq_ans lv up nf nm kd a_oClass b_val p q → ∀ pr td n, post 0 (f_end, f_at, f_written, f_read, f_error, f_culprit, f_nextHandle, f_depth, nI n, a_defined, a_parent, a_level, a_version, a_fields, a_fName, a_fKind, a_latest, a_oClass, a_pinned, a_slot, a_handle, a_arrived, a_handles, a_described, a_dLevels, a_dFields, a_plan, a_wide, a_wire, a_order, a_made, a_sObj, a_sLev, a_sPos, a_sCls, pr, td)) :
    ∀ n i, i ≤ 32 → 32 - i < n → wX_alike_27 post (nI p) (nI q) f_end f_at f_written f_read f_error f_culprit f_nextHandle f_depth f_nTodo n (nI i) a_defined a_parent a_level a_version a_fields a_fName a_fKind a_latest a_oClass a_pinned a_slot a_handle a_arrived a_handles a_described a_dLevels a_dFields a_plan a_wide a_wire a_order a_made a_sObj a_sLev a_sPos a_sCls (gw_zr a_pairs 0 i) a_todo := by
  intro n
  induction n with
  | zero => intro i h1 h2; omega
  | succ n ih =>
    intro i hi hn
    rw [wX_alike_27]
    dsimp only
    rcases Nat.eq_or_lt_of_le hi with z | z
    · subst z
      refine br_t (by decide) ?_
      have none : ∀ a b, a < 32 → ¬ gq_PS (gw_zr a_pairs 0 32) a b := by
        intro a b ha h
        unfold gq_PS at h
        rw [gw_zr_in (by omega) ha, gb_x0] at h
        exact absurd h (by decide)
      refine gx_later (n := 0) (SC := fun a b => a = p ∧ b = q) hp hq (by omega) ⟨rfl, rfl⟩ (fun pr td n' hE hps => ?_)
      dsimp only
      obtain ⟨e1, e2, e3, e4, e5, e6⟩ := hE
      refine ⟨_, gx_al63 HW HX HO HV hp hq K1 K0 _ pr td n' (Nat.lt_succ_self _) ⟨by omega, fun i hi => e5 i (by omega) hi, fun a b ha hb h => ?_, fun B hB hpq a b ha hb h => ?_, hps⟩⟩
      · rcases e4 a b ha hb h with h | ⟨⟨rfl, rfl⟩, i, hi1, hi2, hi3⟩
        · exact absurd h (none a b ha)
        · exact ⟨ap, aq, Or.inl ⟨i, hi2, hi3⟩⟩
      · rcases e4 a b ha hb h with h | ⟨⟨rfl, rfl⟩, _⟩
        · exact absurd h (none a b ha)
        · exact hpq
    · simp (disch := omega) only [ze_ge0t, ze_gt0t, ze_gt0f, ze_le0t, ze_le0f, ze_lt0f, ze_eq0p, ze_eq0f, ze_ge1t, ze_ge1f, ze_gt1t, ze_gt1f, ze_le1t, ze_le1f, ze_lt1t, ze_lt1f, ze_eq1p, ze_eq1f, ze_ge2t, ze_ge2f, ze_gt2t, ze_gt2f, ze_le2t, ze_le2f, ze_lt2t, ze_lt2f, ze_eq2p, ze_eq2f, ze_ge3t, ze_ge3f, ze_gt3t, ze_gt3f, ze_le3t, ze_le3f, ze_lt3t, ze_lt3f, ze_eq3p, ze_eq3f, ze_ge4t, ze_ge4f, ze_gt4t, ze_gt4f, ze_le4t, ze_le4f, ze_lt4t, ze_lt4f, ze_eq4p, ze_eq4f, ze_ge5t, ze_ge5f, ze_gt5t, ze_gt5f, ze_le5t, ze_le5f, ze_lt5t, ze_lt5f, ze_eq5p, ze_eq5f, ze_ge6t, ze_ge6f, ze_gt6t, ze_gt6f, ze_le6t, ze_le6f, ze_lt6t, ze_lt6f, ze_eq6p, ze_eq6f, ze_ge7t, ze_ge7f, ze_gt7t, ze_gt7f, ze_le7t, ze_le7f, ze_lt7t, ze_lt7f, ze_eq7p, ze_eq7f, ze_ge9t, ze_ge9f, ze_gt9t, ze_gt9f, ze_le9t, ze_le9f, ze_lt9t, ze_lt9f, ze_eq9p, ze_eq9f, ze_ge10t, ze_ge10f, ze_gt10t, ze_gt10f, ze_le10t, ze_le10f, ze_lt10t, ze_lt10f, ze_eq10p, ze_eq10f, ze_ge12t, ze_ge12f, ze_gt12t, ze_gt12f, ze_le12t, ze_le12f, ze_lt12t, ze_lt12f, ze_eq12p, ze_eq12f, ze_ge15t, ze_ge15f, ze_gt15t, ze_gt15f, ze_le15t, ze_le15f, ze_lt15t, ze_lt15f, ze_eq15p, ze_eq15f, ze_ge16t, ze_ge16f, ze_gt16t, ze_gt16f, ze_le16t, ze_le16f, ze_lt16t, ze_lt16f, ze_eq16p, ze_eq16f, ze_ge30t, ze_ge30f, ze_gt30t, ze_gt30f, ze_le30t, ze_le30f, ze_lt30t, ze_lt30f, ze_eq30p, ze_eq30f, ze_ge32t, ze_ge32f, ze_gt32t, ze_gt32f, ze_le32t, ze_le32f, ze_lt32t, ze_lt32f, ze_eq32p, ze_eq32f, ze_ge47t, ze_ge47f, ze_gt47t, ze_gt47f, ze_le47t, ze_le47f, ze_lt47t, ze_lt47f, ze_eq47p, ze_eq47f, ze_ge120t, ze_ge120f, ze_gt120t, ze_gt120f, ze_le120t, ze_le120f, ze_lt120t, ze_lt120f, ze_eq120p, ze_eq120f, ze_ge1024t, ze_ge1024f, ze_gt1024t, ze_gt1024f, ze_le1024t, ze_le1024f, ze_lt1024t, ze_lt1024f, ze_eq1024p, ze_eq1024f, ze_let, ze_lef, ze_ltt, ze_ltf, ze_eqt, ze_eqf, ze_m1_lt0, ze_m1_n0le, ze_m1_le0, ze_m1_le, ze_m1_lt, ze_m1_nle, ze_m1_nlt, ze_m1_ne, ze_m1_en, ze_m1_ne4, ze_m1_ne0, ze_nz6, ze_nz10, ze_nz12, ze_nz16, ze_nz32, ze_nz192, ze_1ne0, ze_0ne1, ze_0ne4, ↓ze_rem6, ↓ze_rem10, ↓ze_rem16, ↓ze_rem32, ↓ze_rem12, ze_div6, ze_div10, ze_div12, ze_div16, ze_div32, ze_div192, ze_mul3, ze_mul4, ze_mul6, ze_mul10, ze_mul12, ze_mul16, ze_mul17, ze_mul32, ze_mul60, ze_mulr6, ze_nrem6, ze_mulr10, ze_nrem10, ze_mulr12, ze_nrem12, ze_mulr16, ze_nrem16, ze_mulr32, ze_nrem32, nI_add, ze_add1, ze_add6, ze_add7, ze_add8, ze_add12, ze_add16, ze_add0, ze_radd0, ze_radd8, ze_sub1, ze_m1, ze_0sub1, ze_m1add1, ze_1sub, ze_2sub, pk_sub, ze_and3, ze_and7, ze_and31, ze_and127, ↓ze_shr2, ↓ze_shr3, ↓ze_shr5, ↓ze_shl3, ze_i8, ze_nby, ze_i8m1, ze_i80, ze_nbm1, ze_i16, ze_nsh, ze_nb0, ze_nt0, ze_nt1, ze_cl0, ze_cl1, nI_clamp, vp_in_nI, forall_eq, true_implies, false_implies, not_true_eq_false, not_false_eq_true, and_true, true_and, implies_true, and_self, forall_const, Classical.not_not, gw_zr_s0]
      exact ih (i + 1) z (by omega)
theorem gm_alike {k : Nat} (R : gw_R a_defined a_parent a_level a_version a_fields a_fName a_fKind a_latest a_oClass a_slot a_handle a_arrived a_handles a_described a_dLevels a_dFields a_plan a_wide b_parent b_own b_cls b_partner b_val) (v1 v2 : Int32) : wpX_alike (fun r u' => wpY_alike (fun r' v' => r' = r ∧ i_Rel (k + 5) u' v') (f_culprit, g_depth, g_lastMade, a_defined, a_version, b_parent, b_own, a_latest, b_cls, b_partner, a_pinned, b_arrived, b_val, b_from, b_made, b_done, b_rows) v1 v2) (f_end, f_at, f_written, f_read, f_error, f_culprit, f_nextHandle, f_depth, f_nTodo, a_defined, a_parent, a_level, a_version, a_fields, a_fName, a_fKind, a_latest, a_oClass, a_pinned, a_slot, a_handle, a_arrived, a_handles, a_described, a_dLevels, a_dFields, a_plan, a_wide, a_wire, a_order, a_made, a_sObj, a_sLev, a_sPos, a_sCls, a_pairs, a_todo) v1 v2 := by
  obtain ⟨lv, up, nf, nm, kd, hh, hs, pq, HW, HU, HX, HY, HO, HV, HS, HD, HL⟩ := id R
  obtain ⟨r1, hr1, kx1, ky1⟩ : gj_OB a_oClass (f_end, f_at, f_written, f_read, f_error, f_culprit, f_nextHandle, f_depth, f_nTodo, a_defined, a_parent, a_level, a_version, a_fields, a_fName, a_fKind, a_latest, a_oClass, a_pinned, a_slot, a_handle, a_arrived, a_handles, a_described, a_dLevels, a_dFields, a_plan, a_wide, a_wire, a_order, a_made, a_sObj, a_sLev, a_sPos, a_sCls, a_pairs, a_todo) (f_culprit, g_depth, g_lastMade, a_defined, a_version, b_parent, b_own, a_latest, b_cls, b_partner, a_pinned, b_arrived, b_val, b_from, b_made, b_done, b_rows) v1 := gj_object HO v1
  obtain ⟨r2, hr2, kx2, ky2⟩ : gj_OB a_oClass (f_end, f_at, f_written, f_read, f_error, f_culprit, f_nextHandle, f_depth, f_nTodo, a_defined, a_parent, a_level, a_version, a_fields, a_fName, a_fKind, a_latest, a_oClass, a_pinned, a_slot, a_handle, a_arrived, a_handles, a_described, a_dLevels, a_dFields, a_plan, a_wide, a_wire, a_order, a_made, a_sObj, a_sLev, a_sPos, a_sCls, a_pairs, a_todo) (f_culprit, g_depth, g_lastMade, a_defined, a_version, b_parent, b_own, a_latest, b_cls, b_partner, a_pinned, b_arrived, b_val, b_from, b_made, b_done, b_rows) v2 := gj_object HO v2
  unfold wpX_alike; dsimp only
  refine kx1 _ (kx2 _ ?_)
  unfold wpY_alike; dsimp only
  rcases hr1 with rfl | ⟨-, p, hp, rfl, ap⟩
  · exact br_t (by decide) (ky1 _ (ky2 _ (br_t (by decide) ⟨rfl, gi_in R⟩)))
  · refine br_f (nI_pos (by omega)) ?_
    rcases hr2 with rfl | ⟨-, q, hq, rfl, aq⟩
    · exact br_f (by decide) (ky1 _ (ky2 _ (br_f (nI_pos (by omega)) (br_f (by decide) ⟨rfl, gi_in R⟩))))
    · refine br_t (nI_pos' (by omega)) ⟨33, ?_⟩
      have yy : ∀ (pr : Nat → Int64) (td : Nat → Int32) (n : Nat) (b : Int32), (gq_ans lv up nf nm kd a_oClass b_val p q → b = 1) → (¬ gq_ans lv up nf nm kd a_oClass b_val p q → b = 0) → wpY_object (fun r_1 => wpY_object (fun r_19 => (((r_1 < 0 → ((0 : Int32) = b ∧ i_Rel (k + 5) (f_end, f_at, f_written, f_read, f_error, f_culprit, f_nextHandle, f_depth, nI n, a_defined, a_parent, a_level, a_version, a_fields, a_fName, a_fKind, a_latest, a_oClass, a_pinned, a_slot, a_handle, a_arrived, a_handles, a_described, a_dLevels, a_dFields, a_plan, a_wide, a_wire, a_order, a_made, a_sObj, a_sLev, a_sPos, a_sCls, pr, td) (f_culprit, g_depth, g_lastMade, a_defined, a_version, b_parent, b_own, a_latest, b_cls, b_partner, a_pinned, b_arrived, b_val, b_from, b_made, b_done, b_rows))) ∧ (¬ r_1 < 0 → (((0 ≤ r_19 → (∃ n27 : Nat, wY_alike_27 (fun r' v' => r' = b ∧ i_Rel (k + 5) (f_end, f_at, f_written, f_read, f_error, f_culprit, f_nextHandle, f_depth, nI n, a_defined, a_parent, a_level, a_version, a_fields, a_fName, a_fKind, a_latest, a_oClass, a_pinned, a_slot, a_handle, a_arrived, a_handles, a_described, a_dLevels, a_dFields, a_plan, a_wide, a_wire, a_order, a_made, a_sObj, a_sLev, a_sPos, a_sCls, pr, td) v') r_1 r_19 f_culprit g_depth g_lastMade n27 0 a_defined a_version b_parent b_own a_latest b_cls b_partner a_pinned b_arrived b_val b_from b_made b_done b_rows)) ∧ (¬ 0 ≤ r_19 → ((0 : Int32) = b ∧ i_Rel (k + 5) (f_end, f_at, f_written, f_read, f_error, f_culprit, f_nextHandle, f_depth, nI n, a_defined, a_parent, a_level, a_version, a_fields, a_fName, a_fKind, a_latest, a_oClass, a_pinned, a_slot, a_handle, a_arrived, a_handles, a_described, a_dLevels, a_dFields, a_plan, a_wide, a_wire, a_order, a_made, a_sObj, a_sLev, a_sPos, a_sCls, pr, td) (f_culprit, g_depth, g_lastMade, a_defined, a_version, b_parent, b_own, a_latest, b_cls, b_partner, a_pinned, b_arrived, b_val, b_from, b_made, b_done, b_rows))))))))) (f_culprit, g_depth, g_lastMade, a_defined, a_version, b_parent, b_own, a_latest, b_cls, b_partner, a_pinned, b_arrived, b_val, b_from, b_made, b_done, b_rows) v2) (f_culprit, g_depth, g_lastMade, a_defined, a_version, b_parent, b_own, a_latest, b_cls, b_partner, a_pinned, b_arrived, b_val, b_from, b_made, b_done, b_rows) v1 := by
        intro pr td n b b1 b0
        refine ky1 _ (ky2 _ (br_f (nI_pos (by omega)) (br_t (nI_pos' (by omega)) ⟨33, ?_⟩)))
        have h : wY_alike_27 (fun r' v' => r' = b ∧ i_Rel (k + 5) (f_end, f_at, f_written, f_read, f_error, f_culprit, f_nextHandle, f_depth, nI n, a_defined, a_parent, a_level, a_version, a_fields, a_fName, a_fKind, a_latest, a_oClass, a_pinned, a_slot, a_handle, a_arrived, a_handles, a_described, a_dLevels, a_dFields, a_plan, a_wide, a_wire, a_order, a_made, a_sObj, a_sLev, a_sPos, a_sCls, pr, td) v') (nI p) (nI q) f_culprit g_depth g_lastMade 33 (nI 0) a_defined a_version b_parent b_own a_latest b_cls b_partner a_pinned b_arrived b_val b_from b_made b_done (gw_fl b_rows 0 0 (-1)) :=
          gy_al27 hp hq HW HU HY HO HV (fun h r => ⟨(b1 h).symm, gi_in R⟩) (fun h r => ⟨(b0 h).symm, gi_in R⟩) 33 0 (by omega) (by omega)
        rw [gw_fl_0] at h
        exact h
      have h : wX_alike_27 (fun r u' => wpY_alike (fun r' v' => r' = r ∧ i_Rel (k + 5) u' v') (f_culprit, g_depth, g_lastMade, a_defined, a_version, b_parent, b_own, a_latest, b_cls, b_partner, a_pinned, b_arrived, b_val, b_from, b_made, b_done, b_rows) v1 v2) (nI p) (nI q) f_end f_at f_written f_read f_error f_culprit f_nextHandle f_depth f_nTodo 33 (nI 0) a_defined a_parent a_level a_version a_fields a_fName a_fKind a_latest a_oClass a_pinned a_slot a_handle a_arrived a_handles a_described a_dLevels a_dFields a_plan a_wide a_wire a_order a_made a_sObj a_sLev a_sPos a_sCls (gw_zr a_pairs 0 0) a_todo :=
        gx_al27 hp hq HW HX HO HV ap aq (fun h pr td n => yy pr td n 1 (fun _ => rfl) (fun h2 => absurd h h2)) (fun h pr td n => yy pr td n 0 (fun h2 => absurd h2 h) (fun _ => rfl)) 33 0 (by omega) (by omega)
      rw [gw_zr_0] at h
      exact h
end
end
section
/-! longs on the wire -/
def gs_zz (v : Int64) : Int64 := (v <<< ((1 : Int32).toInt64 &&& 63)) ^^^ (v >>> ((63 : Int32).toInt64 &&& 63))
def gs_un (x : Int64) : Int64 := ((x.toUInt64 >>> ((1 : Int32).toInt64.toUInt64 &&& Int64.toUInt64 63)).toInt64) ^^^ (-(x &&& 1))
theorem gs_b_shl1 (v : Int64) (i : Nat) (hi : i < 64) : gb_x (v <<< ((1 : Int32).toInt64 &&& 63)) i = (decide (1 ≤ i) && gb_x v (i - 1)) := by
  have e : ((1 : Int32).toInt64 &&& 63) = lN 1 := wb_c 1 (by omega)
  rw [e]
  unfold gb_x
  show (v.toBitVec <<< ((lN 1).toBitVec.smod 64)).getLsbD i = _
  rw [wb_tb, wb_sm 1 (by omega), BitVec.shiftLeft_eq', BitVec.toNat_ofNat, Nat.mod_eq_of_lt (by omega), BitVec.getLsbD_shiftLeft]
  by_cases h : i < 1
  · have : i = 0 := by omega
    subst this; simp
  · simp [h, hi]; omega
theorem gs_b_shr63 (v : Int64) (i : Nat) (hi : i < 64) : gb_x (v >>> ((63 : Int32).toInt64 &&& 63)) i = gb_x v 63 := by
  have e : ((63 : Int32).toInt64 &&& 63) = lN 63 := wb_c 63 (by omega)
  rw [e]
  unfold gb_x
  show (v.toBitVec.sshiftRight ((lN 63).toBitVec.smod 64).toNat).getLsbD i = _
  rw [wb_tb, wb_sm 63 (by omega), BitVec.toNat_ofNat, Nat.mod_eq_of_lt (by omega), BitVec.getLsbD_sshiftRight]
  by_cases h : 63 + i < 64
  · have : i = 0 := by omega
    subst this; simp
  · rw [if_neg h, BitVec.msb_eq_getLsbD_last]
    simp [hi]
theorem gs_b_ushr1 (v : Int64) (i : Nat) (hi : i < 64) : gb_x ((v.toUInt64 >>> ((1 : Int32).toInt64.toUInt64 &&& Int64.toUInt64 63)).toInt64) i = gb_x v (1 + i) := by
  obtain ⟨n, hn, rfl⟩ := wb_of v
  have e : ((lN n).toUInt64 >>> ((1 : Int32).toInt64.toUInt64 &&& Int64.toUInt64 63)).toInt64 = lN (n / 2 ^ 1) := wb_shr (k := 1) hn (by decide)
  rw [e]
  unfold gb_x
  rw [wb_tb, wb_tb, BitVec.getLsbD_ofNat, BitVec.getLsbD_ofNat, Nat.testBit_div_two_pow]
  by_cases h : 1 + i < 64
  · simp [hi, h, Nat.add_comm]
    intro _; omega
  · have : i = 63 := by omega
    subst this
    simp
    exact Nat.testBit_lt_two_pow (by omega)
theorem gs_b_xor (x y : Int64) (i : Nat) : gb_x (x ^^^ y) i = (gb_x x i ^^ gb_x y i) := by unfold gb_x; rw [Int64.toBitVec_xor, BitVec.getLsbD_xor]
theorem gs_b_m1 {i : Nat} (hi : i < 64) : gb_x (-1) i = true := by
  unfold gb_x
  have : (-1 : Int64).toBitVec = BitVec.allOnes 64 := by decide
  rw [this, BitVec.getLsbD_allOnes]
  simp [hi]
theorem gs_b_neg1 (x : Int64) {i : Nat} (hi : i < 64) : gb_x (-(x &&& 1)) i = gb_x x 0 := by
  rcases Bool.eq_false_or_eq_true (gb_x x 0) with h | h
  · have e : x &&& 1 = 1 := by
      obtain ⟨n, hn, rfl⟩ := wb_of x
      unfold gb_x at h
      rw [wb_tb, BitVec.getLsbD_ofNat, Nat.testBit_zero] at h
      rw [wb_a1 hn]
      have : n % 2 = 1 := by simpa using h
      rw [this]; rfl
    rw [e, h]
    exact gs_b_m1 hi
  · have e : x &&& 1 = 0 := (gb_xand1 x).mpr h
    rw [e, h]
    exact gb_x0 i
theorem gs_un_zz (v : Int64) : gs_un (gs_zz v) = v := by
  apply gb_xext
  intro i hi
  unfold gs_un
  rw [gs_b_xor, gs_b_neg1 _ hi, gs_b_ushr1 _ i hi]
  have h0 : gb_x (gs_zz v) 0 = gb_x v 63 := by
    unfold gs_zz
    rw [gs_b_xor, gs_b_shl1 v 0 (by omega), gs_b_shr63 v 0 (by omega)]
    simp
  rw [h0]
  rcases Nat.lt_or_ge i 63 with z | z
  · have h1 : gb_x (gs_zz v) (1 + i) = (gb_x v i ^^ gb_x v 63) := by
      unfold gs_zz
      rw [gs_b_xor, gs_b_shl1 v (1 + i) (by omega), gs_b_shr63 v (1 + i) (by omega)]
      have : 1 + i - 1 = i := by omega
      simp [this]
    rw [h1]
    cases gb_x v i <;> cases gb_x v 63 <;> rfl
  · have e : i = 63 := by omega
    subst e
    have h1 : gb_x (gs_zz v) (1 + 63) = false := by
      unfold gb_x
      exact BitVec.getLsbD_of_ge _ _ (by omega)
    rw [h1]
    simp
def gs_en (u n i : Nat) : Int32 := if i + 1 < n then nI (u / 128 ^ i % 128) - 128 else nI (u / 128 ^ i % 128)
def gs_LB (w : Nat → Int32) (e n : Nat) (v : Int64) : Prop := ∃ u, u < 2 ^ 64 ∧ gs_zz v = lN u ∧ 1 ≤ n ∧ n ≤ 10 ∧ u < 128 ^ n ∧ ∀ i, i < n → w (e + i) = gs_en u n i
theorem gs_byte1 : ∀ g, g < 128 → vp_nar .byte ((nI g ||| 128).toInt8.toInt32) = nI g - 128 := by
  intro g hg
  rw [vp_nar_byte]
  exact (by decide +kernel : ∀ g : Fin 128, ((nI g.val ||| 128).toInt8.toInt32).toInt8.toInt32 = nI g.val - 128) ⟨g, hg⟩
theorem gs_byte2 : ∀ g, g < 128 → (nI g - 128) &&& 127 = nI g ∧ nI g - 128 < 0 := by
  intro g hg
  exact (by decide +kernel : ∀ g : Fin 128, (nI g.val - 128) &&& 127 = nI g.val ∧ nI g.val - 128 < 0) ⟨g, hg⟩
theorem gs_and127 (u : Nat) : nI u &&& 127 = nI (u % 128) := by
  rw [pk_and (nI u) 7 (by decide)]
  have : (nI u).toBitVec.toNat = u % 2 ^ 32 := by
    show (BitVec.ofNat 32 u).toNat = _
    rw [BitVec.toNat_ofNat]
  rw [this]
  exact congrArg nI (by omega)
theorem gs_en_s {u n i : Nat} : gs_en (u / 128) n i = gs_en u (n + 1) (i + 1) := by
  unfold gs_en
  have e : u / 128 / 128 ^ i = u / 128 ^ (i + 1) := by rw [Nat.div_div_eq_div_mul, Nat.pow_succ, Nat.mul_comm]
  rw [e]
  by_cases h : i + 1 < n
  · rw [if_pos h, if_pos (by omega)]
  · rw [if_neg h, if_neg (by omega)]
section
variable {f_end f_at f_written f_read f_error f_culprit f_nextHandle f_depth f_nTodo : Int32} {a_defined a_parent a_level a_version a_fields a_fName a_fKind a_latest a_oClass a_pinned a_handle a_arrived a_handles a_described a_dLevels a_dFields a_plan a_wide a_wire a_order a_made a_sObj a_sLev a_sPos a_sCls a_todo : Nat → Int32} {a_slot a_pairs : Nat → Int64}
theorem gx_put {post : SX → Prop} {e : Nat} {x : Int32} (he : e < 2400) (K : post (nI (e + 1), f_at, f_written, f_read, f_error, f_culprit, f_nextHandle, f_depth, f_nTodo, a_defined, a_parent, a_level, a_version, a_fields, a_fName, a_fKind, a_latest, a_oClass, a_pinned, a_slot, a_handle, a_arrived, a_handles, a_described, a_dLevels, a_dFields, a_plan, a_wide, upd a_wire e (vp_nar .byte x.toInt8.toInt32), a_order, a_made, a_sObj, a_sLev, a_sPos, a_sCls, a_pairs, a_todo)) : wpX_put post (nI e, f_at, f_written, f_read, f_error, f_culprit, f_nextHandle, f_depth, f_nTodo, a_defined, a_parent, a_level, a_version, a_fields, a_fName, a_fKind, a_latest, a_oClass, a_pinned, a_slot, a_handle, a_arrived, a_handles, a_described, a_dLevels, a_dFields, a_plan, a_wide, a_wire, a_order, a_made, a_sObj, a_sLev, a_sPos, a_sCls, a_pairs, a_todo) x := by
  unfold wpX_put; dsimp only
  refine nm_r (nI_1 e) ⟨vp_in_nI he (by decide), nm_e ?_⟩
  rw [nI_clamp (by omega)]
  exact K
theorem gx_putN {post : SX → Prop} {e x : Nat} (he : e < 2400) (hx : x < 128) (K : post (nI (e + 1), f_at, f_written, f_read, f_error, f_culprit, f_nextHandle, f_depth, f_nTodo, a_defined, a_parent, a_level, a_version, a_fields, a_fName, a_fKind, a_latest, a_oClass, a_pinned, a_slot, a_handle, a_arrived, a_handles, a_described, a_dLevels, a_dFields, a_plan, a_wide, upd a_wire e (nI x), a_order, a_made, a_sObj, a_sLev, a_sPos, a_sCls, a_pairs, a_todo)) : wpX_put post (nI e, f_at, f_written, f_read, f_error, f_culprit, f_nextHandle, f_depth, f_nTodo, a_defined, a_parent, a_level, a_version, a_fields, a_fName, a_fKind, a_latest, a_oClass, a_pinned, a_slot, a_handle, a_arrived, a_handles, a_described, a_dLevels, a_dFields, a_plan, a_wide, a_wire, a_order, a_made, a_sObj, a_sLev, a_sPos, a_sCls, a_pairs, a_todo) (nI x) := by
  refine gx_put he ?_
  rw [ze_i8 hx, ze_nby hx]
  exact K
theorem gx_putL {post : SX → Prop} : ∀ (m u e : Nat) (w : Nat → Int32), u < 128 ^ (m + 1) → u < 2 ^ 64 → e + (m + 1) ≤ 2400 →
    (∀ n w', 1 ≤ n → n ≤ m + 1 → (∀ j, j < e → w' j = w j) → u < 128 ^ n → (∀ i, i < n → w' (e + i) = gs_en u n i) → post (nI (e + n), f_at, f_written, f_read, f_error, f_culprit, f_nextHandle, f_depth, f_nTodo, a_defined, a_parent, a_level, a_version, a_fields, a_fName, a_fKind, a_latest, a_oClass, a_pinned, a_slot, a_handle, a_arrived, a_handles, a_described, a_dLevels, a_dFields, a_plan, a_wide, w', a_order, a_made, a_sObj, a_sLev, a_sPos, a_sCls, a_pairs, a_todo)) →
    ∀ fu, m < fu → wX_putLong_9 post fu (lN u) (nI e) f_at f_written f_read f_error f_culprit f_nextHandle f_depth f_nTodo a_defined a_parent a_level a_version a_fields a_fName a_fKind a_latest a_oClass a_pinned a_slot a_handle a_arrived a_handles a_described a_dLevels a_dFields a_plan a_wide w a_order a_made a_sObj a_sLev a_sPos a_sCls a_pairs a_todo := by
  intro m
  induction m with
  | zero =>
    intro u e w hu hu2 he K fu hfu
    obtain ⟨fu, rfl⟩ : ∃ k, fu = k + 1 := ⟨fu - 1, by omega⟩
    rw [wX_putLong_9]
    dsimp only
    have e7 : ((lN u).toUInt64 >>> ((7 : Int32).toInt64.toUInt64 &&& Int64.toUInt64 63)).toInt64 = lN (u / 2 ^ 7) := wb_shr (k := 7) hu2 (by decide)
    rw [e7, lN_i]
    refine br_t (by rw [show u / 2 ^ 7 = 0 from by omega]; rfl) ?_
    refine gx_putN (by omega) (by omega) ?_
    dsimp only
    refine K 1 _ (by omega) (by omega) (fun j hj => pk_un (by omega)) hu (fun i hi => ?_)
    have : i = 0 := by omega
    subst this
    rw [Nat.add_zero, pk_us]
    unfold gs_en
    rw [if_neg (by omega), Nat.pow_zero, Nat.div_one]
    exact congrArg nI (by omega)
  | succ m ih =>
    intro u e w hu hu2 he K fu hfu
    obtain ⟨fu, rfl⟩ : ∃ k, fu = k + 1 := ⟨fu - 1, by omega⟩
    rw [wX_putLong_9]
    dsimp only
    have e7 : ((lN u).toUInt64 >>> ((7 : Int32).toInt64.toUInt64 &&& Int64.toUInt64 63)).toInt64 = lN (u / 2 ^ 7) := wb_shr (k := 7) hu2 (by decide)
    rw [e7, lN_i]
    by_cases z : u < 128
    · refine br_t (by rw [show u / 2 ^ 7 = 0 from by omega]; rfl) ?_
      refine gx_putN (by omega) (by omega) ?_
      dsimp only
      refine K 1 _ (by omega) (by omega) (fun j hj => pk_un (by omega)) (by omega) (fun i hi => ?_)
      have : i = 0 := by omega
      subst this
      rw [Nat.add_zero, pk_us]
      unfold gs_en
      rw [if_neg (by omega), Nat.pow_zero, Nat.div_one]
      exact congrArg nI (by omega)
    · have hq : u / 2 ^ 7 ≠ 0 := by omega
      refine br_f (fun h => hq ?_) ?_
      · have := (pk_lEQ (a := u / 2 ^ 7) (b := 0) (by omega) (by omega)).mp h
        exact this
      · refine gx_put (by omega) ?_
        dsimp only
        refine nm_e ?_
        rw [gs_and127, gs_byte1 _ (by omega)]
        have hp : 128 ^ (m + 1 + 1) = 128 ^ (m + 1) * 128 := Nat.pow_succ ..
        have hd : u / 2 ^ 7 < 128 ^ (m + 1) := by
          rw [show (2 : Nat) ^ 7 = 128 from rfl]
          exact Nat.div_lt_of_lt_mul (by rw [Nat.mul_comm]; omega)
        refine ih (u / 2 ^ 7) (e + 1) _ hd (by omega) (by omega) (fun n w' h1 h2 h3 h4 h5 => ?_) fu (by omega)
        rw [show e + 1 + n = e + (n + 1) from by omega]
        refine K (n + 1) w' (by omega) (by omega) (fun j hj => by rw [h3 j (by omega), pk_un (by omega)]) ?_ (fun i hi => ?_)
        · rw [Nat.pow_succ]
          rw [show (2 : Nat) ^ 7 = 128 from rfl] at h4
          omega
        · cases i with
          | zero =>
            rw [Nat.add_zero, h3 e (by omega), pk_us]
            unfold gs_en
            rw [if_pos (by omega), Nat.pow_zero, Nat.div_one]
          | succ i =>
            rw [show e + (i + 1) = e + 1 + i from by omega, h5 i (by omega)]
            exact gs_en_s
theorem gx_putLong {post : SX → Prop} {e : Nat} {v : Int64} (he : e + 10 ≤ 2400) (K : ∀ n w', 1 ≤ n → n ≤ 10 → (∀ j, j < e → w' j = a_wire j) → gs_LB w' e n v → post (nI (e + n), f_at, f_written, f_read, f_error, f_culprit, f_nextHandle, f_depth, f_nTodo, a_defined, a_parent, a_level, a_version, a_fields, a_fName, a_fKind, a_latest, a_oClass, a_pinned, a_slot, a_handle, a_arrived, a_handles, a_described, a_dLevels, a_dFields, a_plan, a_wide, w', a_order, a_made, a_sObj, a_sLev, a_sPos, a_sCls, a_pairs, a_todo)) : wpX_putLong post (nI e, f_at, f_written, f_read, f_error, f_culprit, f_nextHandle, f_depth, f_nTodo, a_defined, a_parent, a_level, a_version, a_fields, a_fName, a_fKind, a_latest, a_oClass, a_pinned, a_slot, a_handle, a_arrived, a_handles, a_described, a_dLevels, a_dFields, a_plan, a_wide, a_wire, a_order, a_made, a_sObj, a_sLev, a_sPos, a_sCls, a_pairs, a_todo) v := by
  obtain ⟨u, hu, eu⟩ := wb_of (gs_zz v)
  unfold wpX_putLong; dsimp only
  refine nm_r (e' := lN u) eu ⟨10, ?_⟩
  exact gx_putL 9 u e a_wire (Nat.lt_of_lt_of_le hu (by decide)) hu he (fun n w' h1 h2 h3 h4 h5 => K n w' h1 h2 h3 ⟨u, hu, eu, h1, h2, h4, h5⟩) 10 (by omega)
theorem gx_take {post : Int32 → SX → Prop} {e : Nat} (he : e < 2400) (K : post (a_wire e) (f_end, nI (e + 1), f_written, f_read, f_error, f_culprit, f_nextHandle, f_depth, f_nTodo, a_defined, a_parent, a_level, a_version, a_fields, a_fName, a_fKind, a_latest, a_oClass, a_pinned, a_slot, a_handle, a_arrived, a_handles, a_described, a_dLevels, a_dFields, a_plan, a_wide, a_wire, a_order, a_made, a_sObj, a_sLev, a_sPos, a_sCls, a_pairs, a_todo)) : wpX_take post (f_end, nI e, f_written, f_read, f_error, f_culprit, f_nextHandle, f_depth, f_nTodo, a_defined, a_parent, a_level, a_version, a_fields, a_fName, a_fKind, a_latest, a_oClass, a_pinned, a_slot, a_handle, a_arrived, a_handles, a_described, a_dLevels, a_dFields, a_plan, a_wide, a_wire, a_order, a_made, a_sObj, a_sLev, a_sPos, a_sCls, a_pairs, a_todo) := by
  unfold wpX_take; dsimp only
  refine nm_r (nI_1 e) ⟨vp_in_nI he (by decide), ?_⟩
  rw [nI_clamp (by omega)]
  exact K
theorem gx_takeL {post : Int64 → SX → Prop} {e n u : Nat} (hu : u < 2 ^ 64) (h1 : 1 ≤ n) (h10 : n ≤ 10) (hun : u < 128 ^ n) (hw : ∀ i, i < n → a_wire (e + i) = gs_en u n i) (he : e + n ≤ 2400)
    (K : post (gs_un (lN u)) (f_end, nI (e + n), f_written, f_read, f_error, f_culprit, f_nextHandle, f_depth, f_nTodo, a_defined, a_parent, a_level, a_version, a_fields, a_fName, a_fKind, a_latest, a_oClass, a_pinned, a_slot, a_handle, a_arrived, a_handles, a_described, a_dLevels, a_dFields, a_plan, a_wide, a_wire, a_order, a_made, a_sObj, a_sLev, a_sPos, a_sCls, a_pairs, a_todo)) : ∀ d i, i + d + 1 = n → ∀ fu, d < fu → wX_takeLong_4 post fu (lN (u % 128 ^ i)) (nI (7 * i)) f_end (nI (e + i)) f_written f_read f_error f_culprit f_nextHandle f_depth f_nTodo a_defined a_parent a_level a_version a_fields a_fName a_fKind a_latest a_oClass a_pinned a_slot a_handle a_arrived a_handles a_described a_dLevels a_dFields a_plan a_wide a_wire a_order a_made a_sObj a_sLev a_sPos a_sCls a_pairs a_todo := by
  intro d
  induction d with
  | zero =>
    intro i hi fu hfu
    obtain ⟨fu, rfl⟩ : ∃ k, fu = k + 1 := ⟨fu - 1, by omega⟩
    rw [wX_takeLong_4]
    dsimp only
    refine gx_take (by omega) ?_
    dsimp only
    have eb : a_wire (e + i) = nI (u / 128 ^ i % 128) := by rw [hw i (by omega)]; unfold gs_en; rw [if_neg (by omega)]
    have p2 : 2 ^ (7 * i) = 128 ^ i := by rw [Nat.pow_mul]
    have ms : u % 128 ^ (i + 1) = u % 128 ^ i + u / 128 ^ i % 128 * 128 ^ i := by rw [Nat.mod_pow_succ, Nat.mul_comm (128 ^ i)]
    have acc : lN (u % 128 ^ i) ||| (((nI (u / 128 ^ i % 128) &&& 127).toInt64) <<< ((nI (7 * i)).toInt64 &&& 63)) = lN u := by
      rw [ze_and127 (by omega), show u / 128 ^ i % 128 % 128 = u / 128 ^ i % 128 from by omega, nI_l (by omega), wb_shl _ (by omega), p2, g_or' p2 (Nat.mod_lt _ (Nat.pow_pos (by omega))) (by rw [← ms]; exact Nat.lt_of_le_of_lt (Nat.mod_le _ _) hu), ← ms, show i + 1 = n from by omega, Nat.mod_eq_of_lt hun]
    rw [eb]
    refine nm_r acc (nm_e (br_f (nI_pos (by omega)) ?_))
    rw [show e + i + 1 = e + n from by omega]
    exact K
  | succ d ih =>
    intro i hi fu hfu
    obtain ⟨fu, rfl⟩ : ∃ k, fu = k + 1 := ⟨fu - 1, by omega⟩
    rw [wX_takeLong_4]
    dsimp only
    refine gx_take (by omega) ?_
    dsimp only
    have eb : a_wire (e + i) = nI (u / 128 ^ i % 128) - 128 := by rw [hw i (by omega)]; unfold gs_en; rw [if_pos (by omega)]
    have p2 : 2 ^ (7 * i) = 128 ^ i := by rw [Nat.pow_mul]
    have ms : u % 128 ^ (i + 1) = u % 128 ^ i + u / 128 ^ i % 128 * 128 ^ i := by rw [Nat.mod_pow_succ, Nat.mul_comm (128 ^ i)]
    have acc : lN (u % 128 ^ i) ||| ((((nI (u / 128 ^ i % 128) - 128) &&& 127).toInt64) <<< ((nI (7 * i)).toInt64 &&& 63)) = lN (u % 128 ^ (i + 1)) := by
      rw [(gs_byte2 _ (by omega)).1, nI_l (by omega), wb_shl _ (by omega), p2, g_or' p2 (Nat.mod_lt _ (Nat.pow_pos (by omega))) (by rw [← ms]; exact Nat.lt_of_le_of_lt (Nat.mod_le _ _) hu), ← ms]
    rw [eb]
    refine nm_r acc (nm_r (e' := nI (7 * (i + 1))) (ze_add7 (7 * i)) (br_t (gs_byte2 _ (by omega)).2 ?_))
    rw [show e + i + 1 = e + (i + 1) from by omega]
    exact ih (i + 1) (by omega) fu (by omega)
theorem gx_takeLong {post : Int64 → SX → Prop} {e n : Nat} {v : Int64} (h : gs_LB a_wire e n v) (he : e + n ≤ 2400) (K : post v (f_end, nI (e + n), f_written, f_read, f_error, f_culprit, f_nextHandle, f_depth, f_nTodo, a_defined, a_parent, a_level, a_version, a_fields, a_fName, a_fKind, a_latest, a_oClass, a_pinned, a_slot, a_handle, a_arrived, a_handles, a_described, a_dLevels, a_dFields, a_plan, a_wide, a_wire, a_order, a_made, a_sObj, a_sLev, a_sPos, a_sCls, a_pairs, a_todo)) : wpX_takeLong post (f_end, nI e, f_written, f_read, f_error, f_culprit, f_nextHandle, f_depth, f_nTodo, a_defined, a_parent, a_level, a_version, a_fields, a_fName, a_fKind, a_latest, a_oClass, a_pinned, a_slot, a_handle, a_arrived, a_handles, a_described, a_dLevels, a_dFields, a_plan, a_wide, a_wire, a_order, a_made, a_sObj, a_sLev, a_sPos, a_sCls, a_pairs, a_todo) := by
  obtain ⟨u, hu, eu, h1, h10, hun, hw⟩ := h
  have key : wX_takeLong_4 post n (lN (u % 128 ^ 0)) (nI (7 * 0)) f_end (nI (e + 0)) f_written f_read f_error f_culprit f_nextHandle f_depth f_nTodo a_defined a_parent a_level a_version a_fields a_fName a_fKind a_latest a_oClass a_pinned a_slot a_handle a_arrived a_handles a_described a_dLevels a_dFields a_plan a_wide a_wire a_order a_made a_sObj a_sLev a_sPos a_sCls a_pairs a_todo := gx_takeL hu h1 h10 hun hw he (by rw [← eu, gs_un_zz]; exact K) (n - 1) 0 (by omega) n (by omega)
  rw [Nat.pow_zero, Nat.mod_one] at key
  exact ⟨n, key⟩
end
end
section
/-! descriptions on the wire -/
def gs_nu (f : Nat → Nat) (j v : Nat) : Nat → Nat := fun i => if i = j then v else f i
theorem gs_nu_s {f : Nat → Nat} {j v : Nat} : gs_nu f j v j = v := if_pos rfl
theorem gs_nu_n {f : Nat → Nat} {j v i : Nat} (h : i ≠ j) : gs_nu f j v i = f i := if_neg h
def gs_E1 (Vn : Nat → Int32) (nf nm kd : Nat → Nat) (w : Nat → Int32) (a e e1 : Nat) : Prop := ∃ n, 1 ≤ n ∧ n ≤ 10 ∧ w e = nI (a % 6) ∧ gs_LB w (e + 1) n (Vn a).toInt64 ∧ w (e + 1 + n) = nI (nf a) ∧ (∀ k, k < nf a → w (e + 2 + n + k) = nI (nm (4 * a + k) * 8 + kd (4 * a + k))) ∧ e1 = e + 2 + n + nf a
def gs_DE (Vn : Nat → Int32) (lv up nf nm kd : Nat → Nat) (w : Nat → Int32) (c e e' : Nat) : Prop := ∃ ps : Nat → Nat, ps 0 = e ∧ ps (lv c + 1) = e' ∧ ∀ j, j ≤ lv c → gs_E1 Vn nf nm kd w (gw_al lv up c j) (ps j) (ps (j + 1))
def gs_OD (Vn : Nat → Int32) (lv up nf nm kd : Nat → Nat) (w : Nat → Int32) (d : Nat → Prop) (c e e' : Nat) : Prop := w e = nI (c % 6) ∧ ((d c ∧ w (e + 1) = 0 ∧ e' = e + 2) ∨ (¬ d c ∧ w (e + 1) = nI (lv c + 1) ∧ gs_DE Vn lv up nf nm kd w c (e + 2) e'))
theorem gs_LB_k {w w' : Nat → Int32} {e n : Nat} {v : Int64} (h : gs_LB w e n v) (hk : ∀ j, e ≤ j → j < e + n → w' j = w j) : gs_LB w' e n v := by
  obtain ⟨u, h1, h2, h3, h4, h5, h6⟩ := h
  exact ⟨u, h1, h2, h3, h4, h5, fun i hi => by rw [hk _ (by omega) (by omega)]; exact h6 i hi⟩
theorem gs_E1_k {Vn : Nat → Int32} {nf nm kd : Nat → Nat} {w w' : Nat → Int32} {a e e1 : Nat} (h : gs_E1 Vn nf nm kd w a e e1) (hk : ∀ j, e ≤ j → j < e1 → w' j = w j) : gs_E1 Vn nf nm kd w' a e e1 := by
  obtain ⟨n, h1, h2, h3, h4, h5, h6, h7⟩ := h
  exact ⟨n, h1, h2, by rw [hk _ (by omega) (by omega)]; exact h3, gs_LB_k h4 (fun j k1 k2 => hk j (by omega) (by omega)), by rw [hk _ (by omega) (by omega)]; exact h5, fun k hk2 => by rw [hk _ (by omega) (by omega)]; exact h6 k hk2, h7⟩
theorem gs_E1_b {Vn : Nat → Int32} {nf nm kd : Nat → Nat} {w : Nat → Int32} {a e e1 : Nat} (h : gs_E1 Vn nf nm kd w a e e1) : e + 3 ≤ e1 ∧ e1 ≤ e + 12 + nf a := by
  obtain ⟨n, h1, h2, h3, h4, h5, h6, h7⟩ := h
  omega
theorem gs_or8 : ∀ x y, x < 10 → y < 5 → nI (x * 8) ||| nI y = nI (x * 8 + y) := by
  intro x y hx hy
  exact (by decide +kernel : ∀ (x : Fin 10) (y : Fin 5), nI (x.val * 8) ||| nI y.val = nI (x.val * 8 + y.val)) ⟨x, hx⟩ ⟨y, hy⟩
section
variable {f_end f_at f_written f_read f_error f_culprit f_nextHandle f_depth f_nTodo : Int32} {a_defined a_parent a_level a_version a_fields a_fName a_fKind a_latest a_oClass a_pinned a_handle a_arrived a_handles a_described a_dLevels a_dFields a_plan a_wide a_wire a_order a_made a_sObj a_sLev a_sPos a_sCls a_todo : Nat → Int32} {a_slot a_pairs : Nat → Int64} {lv up nf nm kd : Nat → Nat}
theorem gx_d101 {post : SX → Prop} {J : Int32 → Int32 → Int32 → Int32 → Int32 → Int32 → Int32 → Int32 → Int32 → Int32 → (Nat → Int32) → (Nat → Int32) → (Nat → Int32) → (Nat → Int32) → (Nat → Int32) → (Nat → Int32) → (Nat → Int32) → (Nat → Int32) → (Nat → Int32) → (Nat → Int32) → (Nat → Int64) → (Nat → Int32) → (Nat → Int32) → (Nat → Int32) → (Nat → Int32) → (Nat → Int32) → (Nat → Int32) → (Nat → Int32) → (Nat → Int32) → (Nat → Int32) → (Nat → Int32) → (Nat → Int32) → (Nat → Int32) → (Nat → Int32) → (Nat → Int32) → (Nat → Int32) → (Nat → Int64) → (Nat → Int32) → Prop} {x1 x2 : Int32} {a : Nat} (HW : gw_W a_defined lv up nf nm kd) (HX : gw_CX a_defined a_parent a_level a_fields a_fName a_fKind lv up nf nm kd) (ha : a < 12) :
    ∀ fu k e w, k ≤ nf a → nf a - k < fu → e + (nf a - k) ≤ 2400 → (∀ w', (∀ j, j < e → w' j = w j) → (∀ i, k ≤ i → i < nf a → w' (e + (i - k)) = nI (nm (4 * a + i) * 8 + kd (4 * a + i))) → J (x2 + 1) (nI (e + (nf a - k))) f_at f_written f_read f_error f_culprit f_nextHandle f_depth f_nTodo a_defined a_parent a_level a_version a_fields a_fName a_fKind a_latest a_oClass a_pinned a_slot a_handle a_arrived a_handles a_described a_dLevels a_dFields a_plan a_wide w' a_order a_made a_sObj a_sLev a_sPos a_sCls a_pairs a_todo) →
      wX_describe_101 post J x1 x2 (nI a) fu (nI k) (nI e) f_at f_written f_read f_error f_culprit f_nextHandle f_depth f_nTodo a_defined a_parent a_level a_version a_fields a_fName a_fKind a_latest a_oClass a_pinned a_slot a_handle a_arrived a_handles a_described a_dLevels a_dFields a_plan a_wide w a_order a_made a_sObj a_sLev a_sPos a_sCls a_pairs a_todo := by
  obtain ⟨w1, w2, w3, w4, w5, w6⟩ := HW a ha
  intro fu
  induction fu with
  | zero => intro k e w h1 h2; omega
  | succ fu ih =>
    intro k e w hk hfu he K
    rw [wX_describe_101]
    dsimp only
    rw [nI_clamp (n := a) (by omega), (HX a ha).1]
    refine ⟨vp_in_nI ha (by decide), ?_⟩
    rcases Nat.eq_or_lt_of_le hk with z | z
    · refine br_t (nI_le (by omega) (by omega)) (nm_e ?_)
      have := K w (fun _ _ => rfl) (fun i h1 h2 => by omega)
      rw [show e + (nf a - k) = e from by omega] at this
      exact this
    · obtain ⟨eN, eK⟩ := (HX a ha).2.1 k z
      have g := w3 k z
      refine br_f (nI_ge z (by omega)) ?_
      rw [ze_mul4, nI_add, nI_clamp (n := 4 * a + k) (by omega), eN, eK, ze_shl3 (by omega), gs_or8 _ _ g.1 g.2]
      refine ⟨vp_in_nI (by omega) (by decide), vp_in_nI (by omega) (by decide), gx_putN (by omega) (by omega) ?_⟩
      dsimp only
      refine nm_r (nI_1 k) (ih (k + 1) (e + 1) _ z (by omega) (by omega) (fun w' h1 h2 => ?_))
      rw [show e + 1 + (nf a - (k + 1)) = e + (nf a - k) from by omega]
      refine K w' (fun j hj => by rw [h1 j (by omega), pk_un (by omega)]) (fun i hi hi2 => ?_)
      rcases Nat.eq_or_lt_of_le hi with y | y
      · subst y
        rw [show e + (k - k) = e from by omega, h1 e (by omega), pk_us]
      · rw [show e + (i - k) = e + 1 + (i - (k + 1)) from by omega]
        exact h2 i y hi2
theorem gx_d52 {post : SX → Prop} {c : Nat} (HW : gw_W a_defined lv up nf nm kd) (HX : gw_CX a_defined a_parent a_level a_fields a_fName a_fKind lv up nf nm kd) (hc : c < 12) (hd : a_defined c ≠ 0) :
    ∀ d j e w, j + d = lv c + 1 → e + 16 * d ≤ 2400 → (∀ w' e', e ≤ e' → e' ≤ e + 16 * d → (∀ i, i < e → w' i = w i) → (∃ ps : Nat → Nat, ps j = e ∧ ps (lv c + 1) = e' ∧ ∀ i, j ≤ i → i ≤ lv c → gs_E1 a_version nf nm kd w' (gw_al lv up c i) (ps i) (ps (i + 1))) → post (nI e', f_at, f_written, f_read, f_error, f_culprit, f_nextHandle, f_depth, f_nTodo, a_defined, a_parent, a_level, a_version, a_fields, a_fName, a_fKind, a_latest, a_oClass, a_pinned, a_slot, a_handle, a_arrived, a_handles, a_described, a_dLevels, a_dFields, a_plan, a_wide, w', a_order, a_made, a_sObj, a_sLev, a_sPos, a_sCls, a_pairs, a_todo)) →
      ∀ fu, d < fu → wX_describe_52 post (nI c) fu (nI j) (nI e) f_at f_written f_read f_error f_culprit f_nextHandle f_depth f_nTodo a_defined a_parent a_level a_version a_fields a_fName a_fKind a_latest a_oClass a_pinned a_slot a_handle a_arrived a_handles a_described a_dLevels a_dFields a_plan a_wide w a_order a_made a_sObj a_sLev a_sPos a_sCls a_pairs a_todo := by
  have hl := (HW c hc).2.2.2.2.1
  have eL := ((HX c hc).2.2 hd).1
  intro d
  induction d with
  | zero =>
    intro j e w hj he K fu hfu
    obtain ⟨fu, rfl⟩ : ∃ k, fu = k + 1 := ⟨fu - 1, by omega⟩
    rw [wX_describe_52]
    dsimp only
    rw [nI_clamp (n := c) (by omega), eL]
    refine ⟨vp_in_nI hc (by decide), br_t (nI_lt (by omega) (by omega)) (K w e (by omega) (by omega) (fun _ _ => rfl) ⟨fun _ => e, rfl, rfl, fun i h1 h2 => by omega⟩)⟩
  | succ d ih =>
    intro j e w hj he K fu hfu
    obtain ⟨fu, rfl⟩ : ∃ k, fu = k + 1 := ⟨fu - 1, by omega⟩
    obtain ⟨x1, x2, x3, x4⟩ := gw_al_ok HW hc hd (j := j) (by omega)
    have fp := (HW _ x1).1
    rw [wX_describe_52]
    dsimp only
    rw [nI_clamp (n := c) (by omega), eL]
    refine ⟨vp_in_nI hc (by decide), br_f (nI_nlt (by omega) (by omega)) ?_⟩
    refine gx_ancestor HW HX hc hd (by omega) ⟨by decide, ?_⟩
    rw [ze_rem6 (by omega)]
    refine gx_putN (by omega) (by omega) ?_
    dsimp only
    rw [nI_clamp (n := gw_al lv up c j) (by omega)]
    refine ⟨vp_in_nI x1 (by decide), gx_putLong (by omega) (fun n w1 n1 n2 p1 lb => ?_)⟩
    dsimp only
    rw [(HX _ x1).1]
    refine ⟨vp_in_nI x1 (by decide), gx_putN (by omega) (by omega) ?_⟩
    dsimp only
    refine ⟨nf (gw_al lv up c j) + 1, ?_⟩
    refine gx_d101 HW HX x1 _ 0 _ _ (by omega) (by omega) (by omega) (fun w2 p2 fs => ?_)
    rw [nI_1, show e + 1 + n + 1 + (nf (gw_al lv up c j) - 0) = e + 2 + n + nf (gw_al lv up c j) from by omega]
    refine ih (j + 1) _ _ (by omega) (by omega) (fun w' e' h1 h2 p3 ⟨ps, q1, q2, q3⟩ => ?_) fu (by omega)
    refine K w' e' (by omega) (by omega) (fun i hi => ?_) ⟨gs_nu ps j e, gs_nu_s, by rw [gs_nu_n (by omega)]; exact q2, fun i hi hi2 => ?_⟩
    · rw [p3 i (by omega), p2 i (by omega), pk_un (by omega), p1 i (by omega), pk_un (by omega)]
    · rcases Nat.eq_or_lt_of_le hi with y | y
      · subst y
        rw [gs_nu_s, gs_nu_n (by omega), q1]
        refine ⟨n, n1, n2, ?_, gs_LB_k lb (fun i h1 h2 => ?_), ?_, fun k hk => ?_, rfl⟩
        · rw [p3 e (by omega), p2 e (by omega), pk_un (by omega), p1 e (by omega), pk_us]
        · rw [p3 i (by omega), p2 i (by omega), pk_un (by omega)]
        · rw [p3 _ (by omega), p2 _ (by omega), pk_us]
        · rw [p3 _ (by omega), show e + 2 + n + k = e + 1 + n + 1 + (k - 0) from by omega]
          exact fs k (by omega) hk
      · rw [gs_nu_n (by omega), gs_nu_n (by omega)]
        exact q3 i y hi2
theorem gx_describe {post : SX → Prop} {c e : Nat} (HW : gw_W a_defined lv up nf nm kd) (HX : gw_CX a_defined a_parent a_level a_fields a_fName a_fKind lv up nf nm kd) (hc : c < 12) (hd : a_defined c ≠ 0) (he : e + 50 ≤ 2400)
    (K : ∀ w' e' DS, e + 2 ≤ e' → (a_described c ≠ 0 → e' ≤ e + 2) → e' ≤ e + 50 → (∀ i, i < e → w' i = a_wire i) → gs_OD a_version lv up nf nm kd w' (fun x => a_described x ≠ 0) c e e' → (∀ x, DS x ≠ 0 ↔ a_described x ≠ 0 ∨ x = c) → post (nI e', f_at, f_written, f_read, f_error, f_culprit, f_nextHandle, f_depth, f_nTodo, a_defined, a_parent, a_level, a_version, a_fields, a_fName, a_fKind, a_latest, a_oClass, a_pinned, a_slot, a_handle, a_arrived, a_handles, DS, a_dLevels, a_dFields, a_plan, a_wide, w', a_order, a_made, a_sObj, a_sLev, a_sPos, a_sCls, a_pairs, a_todo)) : wpX_describe post (nI e, f_at, f_written, f_read, f_error, f_culprit, f_nextHandle, f_depth, f_nTodo, a_defined, a_parent, a_level, a_version, a_fields, a_fName, a_fKind, a_latest, a_oClass, a_pinned, a_slot, a_handle, a_arrived, a_handles, a_described, a_dLevels, a_dFields, a_plan, a_wide, a_wire, a_order, a_made, a_sObj, a_sLev, a_sPos, a_sCls, a_pairs, a_todo) (nI c) := by
  have hl := (HW c hc).2.2.2.2.1
  have eL := ((HX c hc).2.2 hd).1
  unfold wpX_describe; dsimp only
  rw [ze_rem6 (by omega)]
  refine ⟨by decide, gx_putN (by omega) (by omega) ?_⟩
  dsimp only
  rw [nI_clamp (n := c) (by omega), eL]
  refine ⟨vp_in_nI hc (by decide), br_c (fun z => ⟨vp_in_nI hc (by decide), ?_⟩) (fun z => ?_)⟩
  · unfold wX_describe_30
    rw [nI_1]
    refine gx_putN (by omega) (by omega) ?_
    dsimp only
    rw [nI_clamp (n := c) (by omega)]
    refine ⟨vp_in_nI hc (by decide), br_t z ⟨vp_in_nI hc (by decide), nm_e ⟨lv c + 2, ?_⟩⟩⟩
    refine gx_d52 HW HX hc hd (lv c + 1) 0 _ _ (by omega) (by omega) (fun w' e' h1 h2 p1 ⟨ps, q1, q2, q3⟩ => ?_) _ (by omega)
    refine K w' e' _ (by omega) (fun h => absurd z h) (by omega) (fun i hi => by rw [p1 i (by omega), pk_un (by omega), pk_un (by omega)]) ⟨?_, Or.inr ⟨fun h => h z, ?_, ⟨ps, q1, q2, fun j hj => q3 j (by omega) hj⟩⟩⟩ (fun x => ?_)
    · rw [p1 e (by omega), pk_un (by omega), pk_us]
    · rw [p1 _ (by omega), pk_us]
    · rw [ze_nt1]
      by_cases y : x = c
      · subst y; rw [pk_us]; exact ⟨fun _ => Or.inr rfl, fun _ => by decide⟩
      · rw [pk_un y]; exact ⟨Or.inl, fun h => h.elim id (fun h => absurd h y)⟩
  · unfold wX_describe_30
    refine gx_putN (x := 0) (by omega) (by omega) ?_
    dsimp only
    rw [nI_clamp (n := c) (by omega)]
    refine ⟨vp_in_nI hc (by decide), br_f z (K _ _ _ (by omega) (fun _ => by omega) (by omega) (fun i hi => by rw [pk_un (by omega), pk_un (by omega)]) ⟨?_, Or.inl ⟨z, ?_, rfl⟩⟩ (fun x => ⟨Or.inl, fun h => h.elim id (fun h => by rw [h]; exact z)⟩))⟩
    · rw [pk_un (by omega), pk_us]
    · rw [pk_us]; rfl
theorem gx_push {post : SX → Prop} {n o c : Nat} (hn : n < 18) (ho : o < 128) (hc : c < 128)
    (K : post (f_end, f_at, f_written, f_read, f_error, f_culprit, f_nextHandle, nI (n + 1), f_nTodo, a_defined, a_parent, a_level, a_version, a_fields, a_fName, a_fKind, a_latest, a_oClass, a_pinned, a_slot, a_handle, a_arrived, a_handles, a_described, a_dLevels, a_dFields, a_plan, a_wide, a_wire, a_order, a_made, upd a_sObj n (nI o), upd a_sLev n 0, upd a_sPos n 0, upd a_sCls n (nI c), a_pairs, a_todo)) : wpX_push post (f_end, f_at, f_written, f_read, f_error, f_culprit, f_nextHandle, nI n, f_nTodo, a_defined, a_parent, a_level, a_version, a_fields, a_fName, a_fKind, a_latest, a_oClass, a_pinned, a_slot, a_handle, a_arrived, a_handles, a_described, a_dLevels, a_dFields, a_plan, a_wide, a_wire, a_order, a_made, a_sObj, a_sLev, a_sPos, a_sCls, a_pairs, a_todo) (nI o) (nI c) := by
  unfold wpX_push; dsimp only
  simp (disch := omega) only [ze_ge0t, ze_gt0t, ze_gt0f, ze_le0t, ze_le0f, ze_lt0f, ze_eq0p, ze_eq0f, ze_ge1t, ze_ge1f, ze_gt1t, ze_gt1f, ze_le1t, ze_le1f, ze_lt1t, ze_lt1f, ze_eq1p, ze_eq1f, ze_ge2t, ze_ge2f, ze_gt2t, ze_gt2f, ze_le2t, ze_le2f, ze_lt2t, ze_lt2f, ze_eq2p, ze_eq2f, ze_ge3t, ze_ge3f, ze_gt3t, ze_gt3f, ze_le3t, ze_le3f, ze_lt3t, ze_lt3f, ze_eq3p, ze_eq3f, ze_ge4t, ze_ge4f, ze_gt4t, ze_gt4f, ze_le4t, ze_le4f, ze_lt4t, ze_lt4f, ze_eq4p, ze_eq4f, ze_ge5t, ze_ge5f, ze_gt5t, ze_gt5f, ze_le5t, ze_le5f, ze_lt5t, ze_lt5f, ze_eq5p, ze_eq5f, ze_ge6t, ze_ge6f, ze_gt6t, ze_gt6f, ze_le6t, ze_le6f, ze_lt6t, ze_lt6f, ze_eq6p, ze_eq6f, ze_ge7t, ze_ge7f, ze_gt7t, ze_gt7f, ze_le7t, ze_le7f, ze_lt7t, ze_lt7f, ze_eq7p, ze_eq7f, ze_ge9t, ze_ge9f, ze_gt9t, ze_gt9f, ze_le9t, ze_le9f, ze_lt9t, ze_lt9f, ze_eq9p, ze_eq9f, ze_ge10t, ze_ge10f, ze_gt10t, ze_gt10f, ze_le10t, ze_le10f, ze_lt10t, ze_lt10f, ze_eq10p, ze_eq10f, ze_ge12t, ze_ge12f, ze_gt12t, ze_gt12f, ze_le12t, ze_le12f, ze_lt12t, ze_lt12f, ze_eq12p, ze_eq12f, ze_ge15t, ze_ge15f, ze_gt15t, ze_gt15f, ze_le15t, ze_le15f, ze_lt15t, ze_lt15f, ze_eq15p, ze_eq15f, ze_ge16t, ze_ge16f, ze_gt16t, ze_gt16f, ze_le16t, ze_le16f, ze_lt16t, ze_lt16f, ze_eq16p, ze_eq16f, ze_ge30t, ze_ge30f, ze_gt30t, ze_gt30f, ze_le30t, ze_le30f, ze_lt30t, ze_lt30f, ze_eq30p, ze_eq30f, ze_ge32t, ze_ge32f, ze_gt32t, ze_gt32f, ze_le32t, ze_le32f, ze_lt32t, ze_lt32f, ze_eq32p, ze_eq32f, ze_ge47t, ze_ge47f, ze_gt47t, ze_gt47f, ze_le47t, ze_le47f, ze_lt47t, ze_lt47f, ze_eq47p, ze_eq47f, ze_ge120t, ze_ge120f, ze_gt120t, ze_gt120f, ze_le120t, ze_le120f, ze_lt120t, ze_lt120f, ze_eq120p, ze_eq120f, ze_ge1024t, ze_ge1024f, ze_gt1024t, ze_gt1024f, ze_le1024t, ze_le1024f, ze_lt1024t, ze_lt1024f, ze_eq1024p, ze_eq1024f, ze_let, ze_lef, ze_ltt, ze_ltf, ze_eqt, ze_eqf, ze_m1_lt0, ze_m1_n0le, ze_m1_le0, ze_m1_le, ze_m1_lt, ze_m1_nle, ze_m1_nlt, ze_m1_ne, ze_m1_en, ze_m1_ne4, ze_m1_ne0, ze_nz6, ze_nz10, ze_nz12, ze_nz16, ze_nz32, ze_nz192, ze_1ne0, ze_0ne1, ze_0ne4, ↓ze_rem6, ↓ze_rem10, ↓ze_rem16, ↓ze_rem32, ↓ze_rem12, ze_div6, ze_div10, ze_div12, ze_div16, ze_div32, ze_div192, ze_mul3, ze_mul4, ze_mul6, ze_mul10, ze_mul12, ze_mul16, ze_mul17, ze_mul32, ze_mul60, ze_mulr6, ze_nrem6, ze_mulr10, ze_nrem10, ze_mulr12, ze_nrem12, ze_mulr16, ze_nrem16, ze_mulr32, ze_nrem32, nI_add, ze_add1, ze_add6, ze_add7, ze_add8, ze_add12, ze_add16, ze_add0, ze_radd0, ze_radd8, ze_sub1, ze_m1, ze_0sub1, ze_m1add1, ze_1sub, ze_2sub, pk_sub, ze_and3, ze_and7, ze_and31, ze_and127, ↓ze_shr2, ↓ze_shr3, ↓ze_shr5, ↓ze_shl3, ze_i8, ze_nby, ze_i8m1, ze_i80, ze_nbm1, ze_i16, ze_nsh, ze_nb0, ze_nt0, ze_nt1, ze_cl0, ze_cl1, nI_clamp, vp_in_nI, forall_eq, true_implies, false_implies, not_true_eq_false, not_false_eq_true, and_true, true_and, implies_true, and_self, forall_const, Classical.not_not]
  exact K
end
end
section
/-! the writer's run: one step a turn of its loop -/
def gs_S0 (lv up nf kd : Nat → Nat) (C : Nat → Int32) (o l p : Nat) : Prop := p < nf (gw_al lv up (gw_kl C o) l) ∧ kd (4 * gw_al lv up (gw_kl C o) l + p) = 4
def gs_St (Vn : Nat → Int32) (lv up nf nm kd : Nat → Nat) (C : Nat → Int32) (Sl : Nat → Int64) (s : Nat) (w od : Nat → Int32) (o l p : Nat) (S : List (Nat × Nat × Nat)) (h : Nat → Nat) (H : Nat) (d : Nat → Prop) (e wr : Nat)
    (stk' : List (Nat × Nat × Nat)) (h' : Nat → Nat) (H' : Nat) (d' : Nat → Prop) (e' wr' : Nat) : Prop :=
  (p < nf (gw_al lv up (gw_kl C o) l) ∧ kd (4 * gw_al lv up (gw_kl C o) l + p) ≠ 4 ∧ (∃ m, gs_LB w e m (Sl (12 * o + 4 * l + p)) ∧ e' = e + m) ∧ stk' = (o, l, p + 1) :: S ∧ h' = h ∧ H' = H ∧ d' = d ∧ wr' = wr) ∨
  (gs_S0 lv up nf kd C o l p ∧ Sl (12 * o + 4 * l + p) = 0 ∧ w e = 0 ∧ e' = e + 1 ∧ stk' = (o, l, p + 1) :: S ∧ h' = h ∧ H' = H ∧ d' = d ∧ wr' = wr) ∨
  (gs_S0 lv up nf kd C o l p ∧ (∃ z, z < 32 ∧ z / 16 = s ∧ C z ≠ -1 ∧ Sl (12 * o + 4 * l + p) = lN (z + 1) ∧ h z ≠ 0 ∧ h z ≤ 16 ∧ w e = 1 ∧ w (e + 1) = nI (h z)) ∧ e' = e + 2 ∧ stk' = (o, l, p + 1) :: S ∧ h' = h ∧ H' = H ∧ d' = d ∧ wr' = wr) ∨
  (gs_S0 lv up nf kd C o l p ∧ (∃ z, z < 32 ∧ z / 16 = s ∧ C z ≠ -1 ∧ Sl (12 * o + 4 * l + p) = lN (z + 1) ∧ h z = 0 ∧ H ≤ 15 ∧ S.length ≤ 15 ∧ wr ≤ 16 ∧ w e = 2 ∧ gs_OD Vn lv up nf nm kd w d (gw_kl C z) (e + 1) e' ∧ od wr = nI z ∧ stk' = (z, 0, 0) :: (o, l, p + 1) :: S ∧ h' = gs_nu h z (H + 1) ∧ H' = H + 1 ∧ d' = fun x => d x ∨ x = gw_kl C z) ∧ wr' = wr + 1) ∨
  (p = nf (gw_al lv up (gw_kl C o) l) ∧ l < lv (gw_kl C o) ∧ e' = e ∧ stk' = (o, l + 1, 0) :: S ∧ h' = h ∧ H' = H ∧ d' = d ∧ wr' = wr) ∨
  (p = nf (gw_al lv up (gw_kl C o) l) ∧ l = lv (gw_kl C o) ∧ e' = e ∧ stk' = S ∧ h' = h ∧ H' = H ∧ d' = d ∧ wr' = wr)
def gs_Run (Vn : Nat → Int32) (lv up nf nm kd : Nat → Nat) (C : Nat → Int32) (Sl : Nat → Int64) (s : Nat) (w od : Nat → Int32) (hF : Nat → Nat) (HF : Nat) (dF : Nat → Prop) : Nat → List (Nat × Nat × Nat) → (Nat → Nat) → Nat → (Nat → Prop) → Nat → Nat → Prop
  | 0, stk, h, H, d, _, _ => stk = [] ∧ h = hF ∧ H = HF ∧ d = dF
  | n + 1, stk, h, H, d, e, wr => ∃ o l p S stk' h' H' d' e' wr', stk = (o, l, p) :: S ∧ e' ≤ 2400 ∧ gs_St Vn lv up nf nm kd C Sl s w od o l p S h H d e wr stk' h' H' d' e' wr' ∧ gs_Run Vn lv up nf nm kd C Sl s w od hF HF dF n stk' h' H' d' e' wr'
def gs_B : List (Nat × Nat × Nat) → Nat
  | [] => 0
  | f :: S => 10 * (12 - (4 * f.2.1 + f.2.2)) + gs_B S
def gs_M : List (Nat × Nat × Nat) → Nat
  | [] => 0
  | f :: S => (6 * (3 - f.2.1) + (5 - f.2.2)) + gs_M S
def gs_SK (C sO sL sP sC : Nat → Int32) : List (Nat × Nat × Nat) → Prop
  | [] => True
  | f :: S => sO S.length = nI f.1 ∧ sL S.length = nI f.2.1 ∧ sP S.length = nI f.2.2 ∧ sC S.length = nI (gw_kl C f.1) ∧ gs_SK C sO sL sP sC S
theorem gs_SK_k {C sO sL sP sC sO' sL' sP' sC' : Nat → Int32} : ∀ {S : List (Nat × Nat × Nat)}, gs_SK C sO sL sP sC S → (∀ i, i < S.length → sO' i = sO i ∧ sL' i = sL i ∧ sP' i = sP i ∧ sC' i = sC i) → gs_SK C sO' sL' sP' sC' S
  | [], _, _ => trivial
  | f :: S, h, k => by
    obtain ⟨h1, h2, h3, h4, h5⟩ := h
    obtain ⟨k1, k2, k3, k4⟩ := k S.length (by simp)
    exact ⟨by rw [k1, h1], by rw [k2, h2], by rw [k3, h3], by rw [k4, h4], gs_SK_k h5 (fun i hi => k i (by simp; omega))⟩
def gs_FO (lv up nf : Nat → Nat) (C : Nat → Int32) (s : Nat) (f : Nat × Nat × Nat) : Prop := f.1 < 32 ∧ f.1 / 16 = s ∧ C f.1 ≠ -1 ∧ f.2.1 ≤ lv (gw_kl C f.1) ∧ f.2.2 ≤ nf (gw_al lv up (gw_kl C f.1) f.2.1)
def gs_HI (s : Nat) (h0 h : Nat → Nat) (H : Nat) : Prop := (∀ a, 1 ≤ a → a ≤ H → ∃ o, o < 32 ∧ o / 16 = s ∧ h o = a) ∧ (∀ o, o < 32 → o / 16 = s → h o ≤ H) ∧ (∀ o, o / 16 ≠ s → h o = h0 o)
theorem gs_HI_n {s H z : Nat} {h0 h : Nat → Nat} (k : gs_HI s h0 h H) (hz : z < 32) (hz2 : z / 16 = s) (hz3 : h z = 0) : gs_HI s h0 (gs_nu h z (H + 1)) (H + 1) := by
  obtain ⟨k1, k2, k3⟩ := k
  refine ⟨fun a h1 h2 => ?_, fun o ho ho2 => ?_, fun o ho => ?_⟩
  · rcases Nat.eq_or_lt_of_le h2 with y | y
    · exact ⟨z, hz, hz2, by rw [gs_nu_s, y]⟩
    · obtain ⟨o, o1, o2, o3⟩ := k1 a h1 (by omega)
      have e : o ≠ z := fun e => by rw [e, hz3] at o3; omega
      exact ⟨o, o1, o2, by rw [gs_nu_n e]; exact o3⟩
  · by_cases e : o = z
    · rw [e, gs_nu_s]; omega
    · rw [gs_nu_n e]; have := k2 o ho ho2; omega
  · rw [gs_nu_n (fun e => ho (by rw [e]; exact hz2))]; exact k3 o ho
noncomputable def gs_U (s : Nat) (d : Nat → Prop) : Nat := 6 - gc_n (fun i => d (6 * s + i)) 6
theorem gs_U_n {s c : Nat} {d : Nat → Prop} (hs : s < 2) (hc : c < 12) (hc2 : c / 6 = s) (hd : ¬ d c) : gs_U s (fun x => d x ∨ x = c) + 1 = gs_U s d := by
  unfold gs_U
  have a := gc_n_add (P := fun i => d (6 * s + i)) (a := c % 6) (by show ¬ d (6 * s + c % 6); rw [show 6 * s + c % 6 = c from by omega]; exact hd) (N := 6) (by omega)
  have b : gc_n (fun i => d (6 * s + i) ∨ 6 * s + i = c) 6 = gc_n (fun i => d (6 * s + i) ∨ i = c % 6) 6 := gc_n_eq fun i hi => ⟨fun h => h.imp id (fun h => by omega), fun h => h.imp id (fun h => by omega)⟩
  have l := gc_n_le (fun i => d (6 * s + i) ∨ 6 * s + i = c) 6
  show 6 - gc_n (fun i => d (6 * s + i) ∨ 6 * s + i = c) 6 + 1 = _
  omega
theorem gs_U_s {s c : Nat} {d : Nat → Prop} : gs_U s (fun x => d x ∨ x = c) ≤ gs_U s d := by
  unfold gs_U
  have := gc_n_mono (P := fun i => d (6 * s + i)) (Q := fun i => d (6 * s + i) ∨ 6 * s + i = c) (N := 6) (fun k _ h => Or.inl h)
  show 6 - gc_n (fun i => d (6 * s + i) ∨ 6 * s + i = c) 6 ≤ 6 - gc_n (fun i => d (6 * s + i)) 6
  omega
def gs_WI (lv up nf : Nat → Nat) (C : Nat → Int32) (s : Nat) (h0 : Nat → Nat) (stk : List (Nat × Nat × Nat)) (h : Nat → Nat) (H : Nat) (d : Nat → Prop) (e wr : Nat) : Prop :=
  (∀ f, f ∈ stk → gs_FO lv up nf C s f) ∧ gs_HI s h0 h H ∧ stk.length ≤ H + 1 ∧ wr ≤ H + 1 ∧ e + gs_B stk + 123 * (16 - H) + 48 * gs_U s d ≤ 2379
theorem gs_DE_m {Vn : Nat → Int32} {nf nm kd : Nat → Nat} {w : Nat → Int32} {L : Nat} {A : Nat → Nat} {ps : Nat → Nat} (h : ∀ j, j ≤ L → gs_E1 Vn nf nm kd w (A j) (ps j) (ps (j + 1))) : ∀ j, j ≤ L + 1 → ps 0 ≤ ps j ∧ ps j ≤ ps (L + 1) := by
  have up1 : ∀ d j, j + d = L + 1 → ps j ≤ ps (L + 1) := by
    intro d
    induction d with
    | zero => intro j hj; rw [show j = L + 1 from by omega]; exact Nat.le_refl _
    | succ d ih =>
      intro j hj
      have a := gs_E1_b (h j (by omega))
      have b := ih (j + 1) (by omega)
      omega
  have dn : ∀ j, j ≤ L + 1 → ps 0 ≤ ps j := by
    intro j
    induction j with
    | zero => intro _; exact Nat.le_refl _
    | succ j ih =>
      intro hj
      have a := gs_E1_b (h j (by omega))
      have b := ih (by omega)
      omega
  exact fun j hj => ⟨dn j hj, up1 (L + 1 - j) j (by omega)⟩
theorem gs_OD_k {Vn : Nat → Int32} {lv up nf nm kd : Nat → Nat} {w w' : Nat → Int32} {d : Nat → Prop} {c e e' : Nat} (h : gs_OD Vn lv up nf nm kd w d c e e') (he : e + 2 ≤ e') (hk : ∀ j, e ≤ j → j < e' → w' j = w j) : gs_OD Vn lv up nf nm kd w' d c e e' := by
  obtain ⟨h1, h2⟩ := h
  refine ⟨by rw [hk e (by omega) (by omega)]; exact h1, h2.imp (fun ⟨k1, k2, k3⟩ => ⟨k1, by rw [hk _ (by omega) (by omega)]; exact k2, k3⟩) (fun ⟨k1, k2, ps, p1, p2, p3⟩ => ⟨k1, by rw [hk _ (by omega) (by omega)]; exact k2, ps, p1, p2, fun j hj => gs_E1_k (p3 j hj) (fun i i1 i2 => ?_)⟩)⟩
  have a := gs_DE_m p3 j (by omega)
  have b := gs_DE_m p3 (j + 1) (by omega)
  exact hk i (by omega) (by omega)
section
variable {f_end f_at f_written f_read f_error f_culprit f_nextHandle f_depth f_nTodo : Int32} {a_defined a_parent a_level a_version a_fields a_fName a_fKind a_latest a_oClass a_pinned a_handle a_arrived a_handles a_described a_dLevels a_dFields a_plan a_wide a_wire a_order a_made a_sObj a_sLev a_sPos a_sCls a_todo : Nat → Int32} {a_slot a_pairs : Nat → Int64} {g_culprit g_depth g_lastMade : Int32} {b_defined b_version b_parent b_own b_latest b_cls b_partner b_pinned b_arrived b_from b_made b_done b_rows : Nat → Int32} {b_val : Nat → Int64} {lv up nf nm kd : Nat → Nat}
theorem gx_wnew {post : SX → Prop} {z s e wr n H : Nat} {x2 : Int32} (HW : gw_W a_defined lv up nf nm kd) (HX : gw_CX a_defined a_parent a_level a_fields a_fName a_fKind lv up nf nm kd) (HO : gw_O a_defined a_oClass b_cls) (hz : z < 32) (hs : z / 16 = s) (az : a_oClass z ≠ -1) (he : e + 51 ≤ 2400) (hwr : wr < 18) (hn : n < 18) (hH : H ≤ 16) (eH : a_handles s = nI H)
    (K0 : x2 = 0 → ∀ w' e' DS, e + 3 ≤ e' → (a_described (gw_kl a_oClass z) ≠ 0 → e' ≤ e + 3) → e' ≤ e + 51 → (∀ i, i < e → w' i = a_wire i) → w' e = 2 → gs_OD a_version lv up nf nm kd w' (fun x => a_described x ≠ 0) (gw_kl a_oClass z) (e + 1) e' → (∀ x, DS x ≠ 0 ↔ a_described x ≠ 0 ∨ x = gw_kl a_oClass z) →
      post (nI e', f_at, nI (wr + 1), f_read, f_error, f_culprit, f_nextHandle, nI (n + 1), f_nTodo, a_defined, a_parent, a_level, a_version, a_fields, a_fName, a_fKind, a_latest, a_oClass, a_pinned, a_slot, upd a_handle z (nI (H + 1)), a_arrived, upd a_handles s (nI (H + 1)), DS, a_dLevels, a_dFields, a_plan, a_wide, w', upd a_order wr (nI z), a_made, upd a_sObj n (nI z), upd a_sLev n 0, upd a_sPos n 0, upd a_sCls n (nI (gw_kl a_oClass z)), a_pairs, a_todo))
    (K1 : x2 ≠ 0 → ∀ w' e' DS, e + 3 ≤ e' → (a_described (gw_kl a_oClass z) ≠ 0 → e' ≤ e + 3) → e' ≤ e + 51 → (∀ i, i < e → w' i = a_wire i) → w' e = 3 → gs_OD a_version lv up nf nm kd w' (fun x => a_described x ≠ 0) (gw_kl a_oClass z) (e + 1) e' → (∀ x, DS x ≠ 0 ↔ a_described x ≠ 0 ∨ x = gw_kl a_oClass z) →
      post (nI e', f_at, nI (wr + 1), f_read, f_error, f_culprit, f_nextHandle, nI (n + 1), f_nTodo, a_defined, a_parent, a_level, a_version, a_fields, a_fName, a_fKind, a_latest, a_oClass, a_pinned, a_slot, a_handle, a_arrived, a_handles, DS, a_dLevels, a_dFields, a_plan, a_wide, w', upd a_order wr (nI z), a_made, upd a_sObj n (nI z), upd a_sLev n 0, upd a_sPos n 0, upd a_sCls n (nI (gw_kl a_oClass z)), a_pairs, a_todo)) :
    wX_write_43 post (nI z) x2 (nI e) f_at (nI wr) f_read f_error f_culprit f_nextHandle (nI n) f_nTodo a_defined a_parent a_level a_version a_fields a_fName a_fKind a_latest a_oClass a_pinned a_slot a_handle a_arrived a_handles a_described a_dLevels a_dFields a_plan a_wide a_wire a_order a_made a_sObj a_sLev a_sPos a_sCls a_pairs a_todo := by
  obtain ⟨c1, c2, c3, c4, c5⟩ := gw_O_al HO hz az
  have eS : (z : Nat) / 16 = s := hs
  unfold wX_write_43 wX_write_53 wX_write_99
  refine br_c (fun x0 => ?_) (fun x0 => ?_)
  · refine gx_putN (x := 2) (by omega) (by omega) ?_
    dsimp only
    refine nm_r (nI_1 wr) ⟨vp_in_nI hwr (by decide), nm_e (br_t x0 ⟨by decide, ?_⟩)⟩
    rw [ze_div16 (by omega), eS, nI_clamp (n := s) (by omega), nI_clamp (n := wr) (by omega), nI_clamp (n := z) (by omega), eH, nI_1, ze_i8 (by omega), ze_nby (by omega), ze_i8 (by omega), ze_nby (by omega), c2]
    refine ⟨vp_in_nI (by omega) (by decide), vp_in_nI (by omega) (by decide), nm_e ⟨vp_in_nI hz (by decide), nm_e ⟨vp_in_nI hz (by decide), ?_⟩⟩⟩
    refine gx_describe HW HX c1 c4 (by omega) (fun w' e' DS h1 h2 h3 h4 h5 h6 => ?_)
    dsimp only
    rw [c2]
    refine ⟨vp_in_nI hz (by decide), gx_push hn (by omega) (by omega) ?_⟩
    dsimp only
    exact K0 x0 w' e' DS (by omega) (fun h => by have := h2 h; omega) (by omega) (fun i hi => by rw [h4 i (by omega), pk_un (by omega)]) (by rw [h4 e (by omega), pk_us]; rfl) h5 h6
  · refine gx_putN (x := 3) (by omega) (by omega) ?_
    dsimp only
    refine nm_r (nI_1 wr) ⟨vp_in_nI hwr (by decide), nm_e (br_f x0 ?_)⟩
    rw [nI_clamp (n := wr) (by omega), nI_clamp (n := z) (by omega), ze_i8 (by omega), ze_nby (by omega), c2]
    refine ⟨vp_in_nI hz (by decide), ?_⟩
    refine gx_describe HW HX c1 c4 (by omega) (fun w' e' DS h1 h2 h3 h4 h5 h6 => ?_)
    dsimp only
    rw [c2]
    refine ⟨vp_in_nI hz (by decide), gx_push hn (by omega) (by omega) ?_⟩
    dsimp only
    exact K1 x0 w' e' DS (by omega) (fun h => by have := h2 h; omega) (by omega) (fun i hi => by rw [h4 i (by omega), pk_un (by omega)]) (by rw [h4 e (by omega), pk_us]; rfl) h5 h6
/-- the writer's loop -/
theorem gx_writer {post : SX → Prop} {s : Nat} {h0 : Nat → Nat} {HS0 : Nat → Int32} (hs : s < 2) (HW : gw_W a_defined lv up nf nm kd) (HX : gw_CX a_defined a_parent a_level a_fields a_fName a_fKind lv up nf nm kd) (HO : gw_O a_defined a_oClass b_cls) (HV : gw_V lv up nf nm kd a_oClass a_slot b_val) :
    ∀ fu stk h H d e wr HD HS DS od w sO sL sP sC, gs_M stk + 24 * (16 - H) < fu → gs_WI lv up nf a_oClass s h0 stk h H d e wr → (∀ o, o < 32 → HD o = nI (h o)) → HS s = nI H → (∀ t, t ≠ s → HS t = HS0 t) → (∀ c, DS c ≠ 0 ↔ d c) → gs_SK a_oClass sO sL sP sC stk →
      (∀ n hF HF dF wF odF e' wr' HD' HS' DS' sO' sL' sP' sC', gs_Run a_version lv up nf nm kd a_oClass a_slot s wF odF hF HF dF n stk h H d e wr → (∀ j, j < e → wF j = w j) → (∀ i, i < wr → odF i = od i) → (∀ o, o < 32 → HD' o = nI (hF o)) → HS' s = nI HF → (∀ t, t ≠ s → HS' t = HS0 t) → (∀ c, DS' c ≠ 0 ↔ dF c) → gs_HI s h0 hF HF →
        post (e', f_at, wr', f_read, f_error, f_culprit, f_nextHandle, 0, f_nTodo, a_defined, a_parent, a_level, a_version, a_fields, a_fName, a_fKind, a_latest, a_oClass, a_pinned, a_slot, HD', a_arrived, HS', DS', a_dLevels, a_dFields, a_plan, a_wide, wF, odF, a_made, sO', sL', sP', sC', a_pairs, a_todo)) →
      wX_writeAll_21 post fu (nI e) f_at (nI wr) f_read f_error f_culprit f_nextHandle (nI stk.length) f_nTodo a_defined a_parent a_level a_version a_fields a_fName a_fKind a_latest a_oClass a_pinned a_slot HD a_arrived HS DS a_dLevels a_dFields a_plan a_wide w od a_made sO sL sP sC a_pairs a_todo := by
  intro fu
  induction fu with
  | zero => intro stk h H d e wr HD HS DS od w sO sL sP sC hf; omega
  | succ fu ih =>
    intro stk h H d e wr HD HS DS od w sO sL sP sC hf hI eHD eHS eHS0 eDS hSK K
    obtain ⟨i1, i2, i3, i4, i5⟩ := hI
    have H16 := gc_H16 i2.1
    rw [wX_writeAll_21]
    dsimp only
    cases stk with
    | nil =>
      exact br_t (by decide) (K 0 h H d w od _ _ HD HS DS _ _ _ _ ⟨rfl, rfl, rfl, rfl⟩ (fun _ _ => rfl) (fun _ _ => rfl) eHD eHS eHS0 eDS i2)
    | cons f S =>
      obtain ⟨o, l, p⟩ := f
      obtain ⟨k1, k2, k3, k4, k5⟩ := hSK
      obtain ⟨f1, f2, f3, f4, f5⟩ := i1 (o, l, p) (List.mem_cons_self ..)
      dsimp only at k1 k2 k3 k4 f1 f2 f3 f4 f5
      obtain ⟨c1, c2, c3, c4, c5⟩ := gw_O_al HO f1 f3
      obtain ⟨x1, x2, x3, x4⟩ := gw_al_ok HW c1 c4 f4
      have lo := (HW _ c1).2.2.2.2.1
      have fp := (HW _ x1).1
      have hlen : (( o, l, p) :: S).length = S.length + 1 := rfl
      rw [hlen] at i3 ⊢
      have hB : gs_B ((o, l, p) :: S) = 10 * (12 - (4 * l + p)) + gs_B S := rfl
      have hM : gs_M ((o, l, p) :: S) = (6 * (3 - l) + (5 - p)) + gs_M S := rfl
      rw [hB] at i5
      rw [hM] at hf
      refine br_f (ze_le0f (by omega) (by omega)) (nm_r (nI_pred S.length) ⟨vp_in_nI (by omega) (by decide), vp_in_nI (by omega) (by decide), ?_⟩)
      rw [nI_clamp (n := S.length) (by omega), k1, k2, k3, k4]
      refine gx_ancestor HW HX c1 c4 f4 ⟨vp_in_nI (by omega) (by decide), vp_in_nI x1 (by decide), ?_⟩
      rw [nI_clamp (n := gw_al lv up (gw_kl a_oClass o) l) (by omega), (HX _ x1).1]
      by_cases z : p = nf (gw_al lv up (gw_kl a_oClass o) l)
      · refine br_t (nI_le (by omega) (by omega)) ⟨vp_in_nI (by omega) (by decide), vp_in_nI (by omega) (by decide), vp_in_nI c1 (by decide), ?_⟩
        rw [nI_clamp (n := gw_kl a_oClass o) (by omega), ((HX _ c1).2.2 c4).1]
        by_cases y : l = lv (gw_kl a_oClass o)
        · refine br_t (nI_le (by omega) (by omega)) (nm_r (nI_pred S.length) ?_)
          refine ih S h H d e wr HD HS DS od w sO sL sP sC (by omega) ⟨fun f hf => i1 f (List.mem_cons_of_mem _ hf), i2, by omega, i4, by omega⟩ eHD eHS eHS0 eDS k5 (fun n hF HF dF wF odF e' wr' HD' HS' DS' sO' sL' sP' sC' hR q1 q2 q3 q4 q5 q6 q7 => ?_)
          exact K (n + 1) hF HF dF wF odF e' wr' HD' HS' DS' sO' sL' sP' sC' ⟨o, l, p, S, S, h, H, d, e, wr, rfl, by omega, Or.inr (Or.inr (Or.inr (Or.inr (Or.inr ⟨z, y, rfl, rfl, rfl, rfl, rfl, rfl⟩)))), hR⟩ q1 q2 q3 q4 q5 q6 q7
        · refine br_f (nI_ge (by omega) (by omega)) ⟨vp_in_nI (by omega) (by decide), vp_in_nI (by omega) (by decide), nm_e ⟨vp_in_nI (by omega) (by decide), nm_e ?_⟩⟩
          rw [nI_1, ze_i8 (by omega), ze_nby (by omega), ze_nb0]
          have hal := gw_al_ok HW c1 c4 (j := l + 1) (by omega)
          have := ih ((o, l + 1, 0) :: S) h H d e wr HD HS DS od w sO (upd sL S.length (nI (l + 1))) (upd sP S.length 0) sC (by show (6 * (3 - (l + 1)) + (5 - 0)) + gs_M S + _ < _; omega) ⟨fun f hf => ?_, i2, i3, i4, by show e + (10 * (12 - (4 * (l + 1) + 0)) + gs_B S) + _ + _ ≤ _; omega⟩ eHD eHS eHS0 eDS ⟨k1, pk_us, pk_us, k4, gs_SK_k k5 (fun i hi => ⟨rfl, pk_un (by omega), pk_un (by omega), rfl⟩)⟩ (fun n hF HF dF wF odF e' wr' HD' HS' DS' sO' sL' sP' sC' hR q1 q2 q3 q4 q5 q6 q7 => ?_)
          · exact this
          · rcases List.mem_cons.mp hf with hf | hf
            · subst hf; exact ⟨f1, f2, f3, (by show l + 1 ≤ lv (gw_kl a_oClass o); omega), Nat.zero_le _⟩
            · exact i1 f (List.mem_cons_of_mem _ hf)
          · exact K (n + 1) hF HF dF wF odF e' wr' HD' HS' DS' sO' sL' sP' sC' ⟨o, l, p, S, _, h, H, d, e, wr, rfl, by omega, Or.inr (Or.inr (Or.inr (Or.inr (Or.inl ⟨z, by omega, rfl, rfl, rfl, rfl, rfl, rfl⟩)))), hR⟩ q1 q2 q3 q4 q5 q6 q7
      · have zp : p < nf (gw_al lv up (gw_kl a_oClass o) l) := by omega
        have g := (HW _ x1).2.2.1 p zp
        refine br_f (nI_ge zp (by omega)) ⟨vp_in_nI (by omega) (by decide), vp_in_nI (by omega) (by decide), vp_in_nI (by omega) (by decide), nm_e ?_⟩
        rw [nI_1, ze_i8 (by omega), ze_nby (by omega), ze_mul4, nI_add]
        refine nm_e ⟨vp_in_nI (by omega) (by decide), ?_⟩
        rw [ze_mul12, nI_add, nI_clamp (n := 12 * o + (4 * l + p)) (by omega), ← Nat.add_assoc (12 * o)]
        refine ⟨vp_in_nI (by omega) (by decide), nm_e ⟨vp_in_nI (by omega) (by decide), gx_kindAt HW HX c1 c4 f4 zp ?_⟩⟩
        have hSK' : gs_SK a_oClass sO sL (upd sP S.length (nI (p + 1))) sC ((o, l, p + 1) :: S) := ⟨k1, k2, pk_us, k4, gs_SK_k k5 (fun i hi => ⟨rfl, rfl, pk_un (by omega), rfl⟩)⟩
        have hFO' : ∀ f, f ∈ (o, l, p + 1) :: S → gs_FO lv up nf a_oClass s f := by
          intro f hf
          rcases List.mem_cons.mp hf with hf | hf
          · subst hf; exact ⟨f1, f2, f3, f4, (by show p + 1 ≤ nf (gw_al lv up (gw_kl a_oClass o) l); omega)⟩
          · exact i1 f (List.mem_cons_of_mem _ hf)
        have hM' : gs_M ((o, l, p + 1) :: S) = (6 * (3 - l) + (5 - (p + 1))) + gs_M S := rfl
        have hB' : gs_B ((o, l, p + 1) :: S) = 10 * (12 - (4 * l + (p + 1))) + gs_B S := rfl
        have cell := HV o f1 f3 l p f4 zp
        have e384 : 12 * o + 4 * l + p < 384 := by omega
        by_cases y : kd (4 * gw_al lv up (gw_kl a_oClass o) l + p) = 4
        · refine br_t (ze_eq4t y) ?_
          rcases cell.1 y with ⟨v1, v2⟩ | ⟨t, ht, v1, v2, v3, v4⟩
          · rw [v2]
            unfold wpX_write; dsimp only
            refine br_f (by decide) (gx_putN (x := 0) (by omega) (by omega) ?_)
            dsimp only
            refine ih ((o, l, p + 1) :: S) h H d (e + 1) wr HD HS DS od _ sO sL _ sC (by rw [hM']; omega) ⟨hFO', i2, i3, i4, by rw [hB']; omega⟩ eHD eHS eHS0 eDS hSK' (fun n hF HF dF wF odF e' wr' HD' HS' DS' sO' sL' sP' sC' hR q1 q2 q3 q4 q5 q6 q7 => ?_)
            exact K (n + 1) hF HF dF wF odF e' wr' HD' HS' DS' sO' sL' sP' sC' ⟨o, l, p, S, _, h, H, d, e + 1, wr, rfl, by omega, Or.inr (Or.inl ⟨⟨zp, y⟩, v2, by rw [q1 e (by omega), pk_us]; rfl, rfl, rfl, rfl, rfl, rfl, rfl⟩), hR⟩ (fun j hj => by rw [q1 j (by omega), pk_un (by omega)]) q2 q3 q4 q5 q6 q7
          · have v5 : t / 16 = s := by omega
            have h16 := i2.2.1 t ht v5
            rw [v2, lN_i, nI_pred]
            unfold wpX_write; dsimp only
            rw [nI_clamp (n := t) (by omega), eHD t ht]
            refine br_t (nI_pos' (by omega)) ⟨vp_in_nI ht (by decide), ?_⟩
            by_cases q : h t = 0
            · have H15 := gc_H15 i2.1 ht v5 q
              refine br_t (ze_le0t (by omega)) ?_
              have fin : ∀ w' e' DS', e + 3 ≤ e' → (DS (gw_kl a_oClass t) ≠ 0 → e' ≤ e + 3) → e' ≤ e + 51 → (∀ i, i < e → w' i = w i) → w' e = 2 → gs_OD a_version lv up nf nm kd w' (fun x => DS x ≠ 0) (gw_kl a_oClass t) (e + 1) e' → (∀ x, DS' x ≠ 0 ↔ DS x ≠ 0 ∨ x = gw_kl a_oClass t) →
                  wX_writeAll_21 post fu (nI e') f_at (nI (wr + 1)) f_read f_error f_culprit f_nextHandle (nI (S.length + 1 + 1)) f_nTodo a_defined a_parent a_level a_version a_fields a_fName a_fKind a_latest a_oClass a_pinned a_slot (upd HD t (nI (H + 1))) a_arrived (upd HS s (nI (H + 1))) DS' a_dLevels a_dFields a_plan a_wide w' (upd od wr (nI t)) a_made (upd sO (S.length + 1) (nI t)) (upd sL (S.length + 1) 0) (upd (upd sP S.length (nI (p + 1))) (S.length + 1) 0) (upd sC (S.length + 1) (nI (gw_kl a_oClass t))) a_pairs a_todo := by
                intro w' e' DS' b1 b2 b3 b4 b5 b6 b7
                obtain ⟨t1, t2, t3, t4, t5⟩ := gw_O_al HO ht v3
                have eDSp : (fun x => DS x ≠ 0) = d := funext fun x => propext (eDS x)
                rw [eDSp] at b6
                have bud : e' + (10 * (12 - (4 * 0 + 0)) + (10 * (12 - (4 * l + (p + 1))) + gs_B S)) + 123 * (16 - (H + 1)) + 48 * gs_U s (fun x => d x ∨ x = gw_kl a_oClass t) ≤ 2379 := by
                  rcases Classical.em (d (gw_kl a_oClass t)) with dd | dd
                  · have := b2 ((eDS _).mpr dd)
                    have := gs_U_s (s := s) (c := gw_kl a_oClass t) (d := d)
                    omega
                  · have := gs_U_n (s := s) hs t1 (by omega) dd
                    omega
                have hR0 := ih ((t, 0, 0) :: (o, l, p + 1) :: S) (gs_nu h t (H + 1)) (H + 1) (fun x => d x ∨ x = gw_kl a_oClass t) e' (wr + 1) (upd HD t (nI (H + 1))) (upd HS s (nI (H + 1))) DS' (upd od wr (nI t)) w' (upd sO (S.length + 1) (nI t)) (upd sL (S.length + 1) 0) (upd (upd sP S.length (nI (p + 1))) (S.length + 1) 0) (upd sC (S.length + 1) (nI (gw_kl a_oClass t)))
                  (by show (6 * (3 - 0) + (5 - 0)) + ((6 * (3 - l) + (5 - (p + 1))) + gs_M S) + 24 * (16 - (H + 1)) < fu; omega)
                  ⟨fun f hf => ?_, gs_HI_n i2 ht v5 q, by show S.length + 1 + 1 ≤ _; omega, by omega, bud⟩ (fun x hx => ?_) pk_us (fun t' ht' => by rw [pk_un ht']; exact eHS0 t' ht') (fun x => (b7 x).trans ⟨fun h => h.imp (eDS x).mp id, fun h => h.imp (eDS x).mpr id⟩)
                  ⟨pk_us, pk_us, pk_us, pk_us, gs_SK_k hSK' (fun i hi => by have hi2 : i < S.length + 1 := hi; exact ⟨pk_un (by omega), pk_un (by omega), pk_un (by omega), pk_un (by omega)⟩)⟩ (fun n hF HF dF wF odF e'' wr' HD' HS' DS'' sO' sL' sP' sC' hR q1 q2 q3 q4 q5 q6 q7 => ?_)
                · exact hR0
                · rcases List.mem_cons.mp hf with hf | hf
                  · subst hf; exact ⟨ht, v5, v3, Nat.zero_le _, Nat.zero_le _⟩
                  · exact hFO' f hf
                · by_cases ex : x = t
                  · subst ex; rw [pk_us, gs_nu_s]
                  · rw [pk_un ex, gs_nu_n ex]; exact eHD x hx
                · refine K (n + 1) hF HF dF wF odF e'' wr' HD' HS' DS'' sO' sL' sP' sC' ⟨o, l, p, S, _, _, H + 1, _, e', wr + 1, rfl, by omega, Or.inr (Or.inr (Or.inr (Or.inl ⟨⟨zp, y⟩, ⟨t, ht, v5, v3, v2, q, H15, by omega, by omega, ?_, gs_OD_k b6 (by omega) (fun j j1 j2 => q1 j (by omega)), ?_, rfl, rfl, rfl, rfl⟩, rfl⟩))), hR⟩ (fun j hj => by rw [q1 j (by omega), b4 j hj]) (fun i hi => by rw [q2 i (by omega), pk_un (by omega)]) q3 q4 q5 q6 q7
                  · rw [q1 e (by omega), b5]
                  · rw [q2 wr (by omega), pk_us]
              refine gx_wnew (s := s) HW HX HO ht v5 v3 (by omega) (by omega) (by omega) H16 eHS (fun _ w' e' DS' b1 b2 b3 b4 b5 b6 b7 => ?_) (fun h => absurd rfl h)
              dsimp only
              exact fin w' e' DS' b1 b2 b3 b4 b5 b6 b7
            · refine br_f (ze_le0f (by omega) (by omega)) (br_t rfl (gx_putN (x := 1) (by omega) (by omega) ?_))
              dsimp only
              rw [eHD t ht]
              refine ⟨vp_in_nI ht (by decide), gx_putN (by omega) (by omega) ?_⟩
              dsimp only
              refine ih ((o, l, p + 1) :: S) h H d (e + 2) wr HD HS DS od _ sO sL _ sC (by rw [hM']; omega) ⟨hFO', i2, i3, i4, by rw [hB']; omega⟩ eHD eHS eHS0 eDS hSK' (fun n hF HF dF wF odF e' wr' HD' HS' DS' sO' sL' sP' sC' hR q1 q2 q3 q4 q5 q6 q7 => ?_)
              refine K (n + 1) hF HF dF wF odF e' wr' HD' HS' DS' sO' sL' sP' sC' ⟨o, l, p, S, _, h, H, d, e + 2, wr, rfl, by omega, Or.inr (Or.inr (Or.inl ⟨⟨zp, y⟩, ⟨t, ht, v5, v3, v2, q, by omega, ?_, ?_⟩, rfl, rfl, rfl, rfl, rfl, rfl⟩)), hR⟩ (fun j hj => by rw [q1 j (by omega), pk_un (by omega), pk_un (by omega)]) q2 q3 q4 q5 q6 q7
              · rw [q1 e (by omega), pk_un (by omega), pk_us]; rfl
              · rw [q1 (e + 1) (by omega), pk_us]
        · refine br_f (ze_eq4f y (by omega)) ?_
          refine gx_putLong (by omega) (fun m w' m1 m2 p1 lb => ?_)
          dsimp only
          refine ih ((o, l, p + 1) :: S) h H d (e + m) wr HD HS DS od w' sO sL _ sC (by rw [hM']; omega) ⟨hFO', i2, i3, i4, by rw [hB']; omega⟩ eHD eHS eHS0 eDS hSK' (fun n hF HF dF wF odF e' wr' HD' HS' DS' sO' sL' sP' sC' hR q1 q2 q3 q4 q5 q6 q7 => ?_)
          exact K (n + 1) hF HF dF wF odF e' wr' HD' HS' DS' sO' sL' sP' sC' ⟨o, l, p, S, _, h, H, d, e + m, wr, rfl, by omega, Or.inl ⟨zp, y, ⟨m, gs_LB_k lb (fun j j1 j2 => q1 j (by omega)), rfl⟩, rfl, rfl, rfl, rfl, rfl⟩, hR⟩ (fun j hj => by rw [q1 j (by omega), p1 j hj]) q2 q3 q4 q5 q6 q7
end
end
section
/-! the reader's side of a description -/
/-- a kind that differs at level j of class c -/
def gs_mm (lv up nf nm kd : Nat → Nat) (c j k m : Nat) : Prop := k < nf (gw_al lv up c j) ∧ m < nf (gw_mir (gw_al lv up c j)) ∧ nm (4 * gw_al lv up c j + k) = nm (4 * gw_mir (gw_al lv up c j) + m) ∧ kd (4 * gw_al lv up c j + k) ≠ kd (4 * gw_mir (gw_al lv up c j) + m)
def gs_bad (D Vn : Nat → Int32) (lv up nf nm kd : Nat → Nat) (c j : Nat) (err : Int32) : Prop :=
  ∃ i, i < j ∧ i ≤ lv c ∧ (∀ i', i' < i → gw_LO D Vn lv up nf nm kd (gw_mir c) (gw_al lv up c i')) ∧ gw_inC D lv up (gw_mir c) (gw_mir (gw_al lv up c i)) ∧ ((err = -3 ∧ Vn (gw_al lv up c i) ≠ Vn (gw_mir (gw_al lv up c i))) ∨ (err = -4 ∧ Vn (gw_al lv up c i) = Vn (gw_mir (gw_al lv up c i)) ∧ ∃ k m, gs_mm lv up nf nm kd c i k m))
def gs_er (D Vn : Nat → Int32) (lv up nf nm kd : Nat → Nat) (c j : Nat) (err : Int32) : Prop :=
  (err = 0 ∧ ∀ i, i < j → gw_LO D Vn lv up nf nm kd (gw_mir c) (gw_al lv up c i)) ∨ gs_bad D Vn lv up nf nm kd c j err
theorem gs_bad_0 {D Vn : Nat → Int32} {lv up nf nm kd : Nat → Nat} {c j : Nat} {err : Int32} (h : gs_bad D Vn lv up nf nm kd c j err) : err ≠ 0 := by
  obtain ⟨i, -, -, -, -, h | h⟩ := h
  · rw [h.1]; decide
  · rw [h.1]; decide
theorem gs_bad_s {D Vn : Nat → Int32} {lv up nf nm kd : Nat → Nat} {c j : Nat} {err : Int32} (h : gs_bad D Vn lv up nf nm kd c j err) : gs_bad D Vn lv up nf nm kd c (j + 1) err := by
  obtain ⟨i, h1, h2⟩ := h
  exact ⟨i, by omega, h2⟩
/-- the plan of the first fields of level j -/
def gs_PL (D : Nat → Int32) (lv up nf nm kd : Nat → Nat) (c j n : Nat) (PL WD : Nat → Int32) : Prop :=
  ∀ k, k < n → (WD (12 * c + 4 * j + k) = if kd (4 * gw_al lv up c j + k) = 4 then 1 else 0) ∧ gw_PV D lv up nf nm (gw_mir c) (gw_mir (gw_al lv up c j)) (nm (4 * gw_al lv up c j + k)) (PL (12 * c + 4 * j + k))
def gs_in (D Vn : Nat → Int32) (lv up nf nm kd : Nat → Nat) (c j k : Nat) (err : Int32) : Prop :=
  (err = 0 ∧ (∀ i, i < j → gw_LO D Vn lv up nf nm kd (gw_mir c) (gw_al lv up c i)) ∧ (gw_inC D lv up (gw_mir c) (gw_mir (gw_al lv up c j)) → Vn (gw_al lv up c j) = Vn (gw_mir (gw_al lv up c j)) ∧ ∀ k' m, k' < k → ¬ gs_mm lv up nf nm kd c j k' m)) ∨ gs_bad D Vn lv up nf nm kd c (j + 1) err
section
variable {f_end f_at f_written f_read f_error f_culprit f_nextHandle f_depth f_nTodo : Int32} {a_defined a_parent a_level a_version a_fields a_fName a_fKind a_latest a_oClass a_pinned a_handle a_arrived a_handles a_described a_dLevels a_dFields a_plan a_wide a_wire a_order a_made a_sObj a_sLev a_sPos a_sCls a_todo : Nat → Int32} {a_slot a_pairs : Nat → Int64} {lv up nf nm kd : Nat → Nat}
theorem gx_r137 {post : SX → Prop} {J : Int32 → Int32 → Int32 → Int32 → Int32 → Int32 → Int32 → Int32 → Int32 → Int32 → (Nat → Int32) → (Nat → Int32) → (Nat → Int32) → (Nat → Int32) → (Nat → Int32) → (Nat → Int32) → (Nat → Int32) → (Nat → Int32) → (Nat → Int32) → (Nat → Int32) → (Nat → Int64) → (Nat → Int32) → (Nat → Int32) → (Nat → Int32) → (Nat → Int32) → (Nat → Int32) → (Nat → Int32) → (Nat → Int32) → (Nat → Int32) → (Nat → Int32) → (Nat → Int32) → (Nat → Int32) → (Nat → Int32) → (Nat → Int32) → (Nat → Int32) → (Nat → Int32) → (Nat → Int64) → (Nat → Int32) → Prop} {c j e0 : Nat} {x7 : Int32} (HW : gw_W a_defined lv up nf nm kd) (HX : gw_CX a_defined a_parent a_level a_fields a_fName a_fKind lv up nf nm kd) (hc : c < 12) (hd : a_defined c ≠ 0) (hj : j ≤ lv c)
    (hx7 : (x7 = 1 ∧ gw_inC a_defined lv up (gw_mir c) (gw_mir (gw_al lv up c j))) ∨ (x7 = 0 ∧ ¬ gw_inC a_defined lv up (gw_mir c) (gw_mir (gw_al lv up c j)))) (edF : a_dFields (3 * c + j) = nI (nf (gw_al lv up c j)))
    (hw : ∀ k, k < nf (gw_al lv up c j) → a_wire (e0 + k) = nI (nm (4 * gw_al lv up c j + k) * 8 + kd (4 * gw_al lv up c j + k))) (he : e0 + nf (gw_al lv up c j) ≤ 2400) {PL0 WD0 : Nat → Int32}
    (K : ∀ er PL WD, gs_in a_defined a_version lv up nf nm kd c j (nf (gw_al lv up c j)) er → gs_PL a_defined lv up nf nm kd c j (nf (gw_al lv up c j)) PL WD → (∀ i, i < 12 * c + 4 * j ∨ 12 * c + 4 * j + 4 ≤ i → PL i = PL0 i ∧ WD i = WD0 i) → J (nI (j + 1)) f_end (nI (e0 + nf (gw_al lv up c j))) f_written f_read er f_culprit f_nextHandle f_depth f_nTodo a_defined a_parent a_level a_version a_fields a_fName a_fKind a_latest a_oClass a_pinned a_slot a_handle a_arrived a_handles a_described a_dLevels a_dFields PL WD a_wire a_order a_made a_sObj a_sLev a_sPos a_sCls a_pairs a_todo) :
    ∀ fu k er PL WD, k ≤ nf (gw_al lv up c j) → nf (gw_al lv up c j) - k < fu → gs_in a_defined a_version lv up nf nm kd c j k er → gs_PL a_defined lv up nf nm kd c j k PL WD → (∀ i, i < 12 * c + 4 * j ∨ 12 * c + 4 * j + 4 ≤ i → PL i = PL0 i ∧ WD i = WD0 i) →
      wX_resolve_137 post J (nI c) (nI (gw_mir c)) (nI (lv c + 1)) (nI j) (nI (gw_mir (gw_al lv up c j))) x7 fu (nI k) f_end (nI (e0 + k)) f_written f_read er f_culprit f_nextHandle f_depth f_nTodo a_defined a_parent a_level a_version a_fields a_fName a_fKind a_latest a_oClass a_pinned a_slot a_handle a_arrived a_handles a_described a_dLevels a_dFields PL WD a_wire a_order a_made a_sObj a_sLev a_sPos a_sCls a_pairs a_todo := by
  obtain ⟨x1, x2, x3, x4⟩ := gw_al_ok HW hc hd hj
  have lc := (HW c hc).2.2.2.2.1
  have fa := (HW _ x1).1
  have b12 := gw_mir_lt x1
  have fb := (HW _ b12).1
  have lb := (HW _ b12).2.2.2.2.1
  intro fu
  induction fu with
  | zero => intro k er PL WD h1 h2; omega
  | succ fu ih =>
    intro k er PL WD hk hfu hin hPL hfr
    rw [wX_resolve_137]
    dsimp only
    rw [ze_mul3, nI_add, nI_clamp (n := 3 * c + j) (by omega), edF]
    refine ⟨vp_in_nI (by omega) (by decide), ?_⟩
    rcases Nat.eq_or_lt_of_le hk with z | z
    · subst z
      exact br_t (nI_le (by omega) (by omega)) (nm_r (nI_1 j) (K er PL WD hin hPL hfr))
    · refine br_f (nI_ge z (by omega)) (gx_take (by omega) ?_)
      have g := (HW _ x1).2.2.1 k z
      dsimp only
      rw [hw k z]
      have e7 : (nI (nm (4 * gw_al lv up c j + k) * 8 + kd (4 * gw_al lv up c j + k)) &&& 7) = nI (kd (4 * gw_al lv up c j + k)) := by rw [ze_and7 (by omega)]; exact congrArg nI (by omega)
      have e3 : nI (nm (4 * gw_al lv up c j + k) * 8 + kd (4 * gw_al lv up c j + k)) >>> ((3 : Int32) &&& 31) = nI (nm (4 * gw_al lv up c j + k)) := by rw [ze_shr3 (by omega)]; exact congrArg nI (by omega)
      -- the writes
      have s255 : ∀ (er' : Int32) (pv : Int32), gs_in a_defined a_version lv up nf nm kd c j (k + 1) er' → gw_PV a_defined lv up nf nm (gw_mir c) (gw_mir (gw_al lv up c j)) (nm (4 * gw_al lv up c j + k)) pv → vp_nar .byte pv.toInt8.toInt32 = pv →
          wX_resolve_255 post J (wX_resolve_137 post J (nI c) (nI (gw_mir c)) (nI (lv c + 1)) (nI j) (nI (gw_mir (gw_al lv up c j))) x7 fu) (nI c) (nI (gw_mir c)) (nI (lv c + 1)) (nI j) (nI (gw_mir (gw_al lv up c j))) x7 (nI k) (nI (nm (4 * gw_al lv up c j + k) * 8 + kd (4 * gw_al lv up c j + k))) pv (nI (12 * c + 4 * j + k)) f_end (nI (e0 + k + 1)) f_written f_read er' f_culprit f_nextHandle f_depth f_nTodo a_defined a_parent a_level a_version a_fields a_fName a_fKind a_latest a_oClass a_pinned a_slot a_handle a_arrived a_handles a_described a_dLevels a_dFields PL WD a_wire a_order a_made a_sObj a_sLev a_sPos a_sCls a_pairs a_todo := by
        intro er' pv hin' hpv hnar
        have nxt : ∀ b : Int32, (b = if kd (4 * gw_al lv up c j + k) = 4 then 1 else 0) → wX_resolve_137 post J (nI c) (nI (gw_mir c)) (nI (lv c + 1)) (nI j) (nI (gw_mir (gw_al lv up c j))) x7 fu (nI (k + 1)) f_end (nI (e0 + k + 1)) f_written f_read er' f_culprit f_nextHandle f_depth f_nTodo a_defined a_parent a_level a_version a_fields a_fName a_fKind a_latest a_oClass a_pinned a_slot a_handle a_arrived a_handles a_described a_dLevels a_dFields (upd PL (12 * c + 4 * j + k) pv) (upd WD (12 * c + 4 * j + k) b) a_wire a_order a_made a_sObj a_sLev a_sPos a_sCls a_pairs a_todo := by
          intro b hb
          refine ih (k + 1) er' _ _ z (by omega) hin' (fun k' hk' => ?_) (fun i hi => ?_)
          · rcases Nat.eq_or_lt_of_le (Nat.le_of_lt_succ hk') with y | y
            · subst y; rw [pk_us, pk_us]; exact ⟨hb, hpv⟩
            · rw [pk_un (by omega), pk_un (by omega)]; exact hPL k' y
          · rw [pk_un (by omega), pk_un (by omega)]; exact hfr i hi
        unfold wX_resolve_255
        rw [e7, hnar, nI_clamp (n := 12 * c + 4 * j + k) (by omega), ze_mul12, ze_mul4, nI_add, nI_add, nI_clamp (n := 12 * c + 4 * j + k) (by omega), ze_nt0, ze_nt1]
        refine ⟨vp_in_nI (by omega) (by decide), nm_e ?_⟩
        by_cases y : kd (4 * gw_al lv up c j + k) = 4
        · exact br_t (ze_eq4t y) ⟨vp_in_nI (by omega) (by decide), nm_e (nm_r (nI_1 k) (nxt 1 (by rw [if_pos y])))⟩
        · exact br_f (ze_eq4f y (by omega)) ⟨vp_in_nI (by omega) (by decide), nm_e (nm_r (nI_1 k) (nxt 0 (by rw [if_neg y])))⟩
      have s218 : ∀ (er' : Int32) (r : Int32), gs_in a_defined a_version lv up nf nm kd c j (k + 1) er' → (r = -1 ∧ (gw_inC a_defined lv up (gw_mir c) (gw_mir (gw_al lv up c j)) → ∀ m, m < nf (gw_mir (gw_al lv up c j)) → nm (4 * gw_mir (gw_al lv up c j) + m) ≠ nm (4 * gw_al lv up c j + k)) ∨ ∃ m, r = nI m ∧ m < nf (gw_mir (gw_al lv up c j)) ∧ gw_inC a_defined lv up (gw_mir c) (gw_mir (gw_al lv up c j)) ∧ nm (4 * gw_mir (gw_al lv up c j) + m) = nm (4 * gw_al lv up c j + k)) →
          wX_resolve_218 post J (wX_resolve_137 post J (nI c) (nI (gw_mir c)) (nI (lv c + 1)) (nI j) (nI (gw_mir (gw_al lv up c j))) x7 fu) (nI c) (nI (gw_mir c)) (nI (lv c + 1)) (nI j) (nI (gw_mir (gw_al lv up c j))) x7 (nI k) (nI (nm (4 * gw_al lv up c j + k) * 8 + kd (4 * gw_al lv up c j + k))) r f_end (nI (e0 + k + 1)) f_written f_read er' f_culprit f_nextHandle f_depth f_nTodo a_defined a_parent a_level a_version a_fields a_fName a_fKind a_latest a_oClass a_pinned a_slot a_handle a_arrived a_handles a_described a_dLevels a_dFields PL WD a_wire a_order a_made a_sObj a_sLev a_sPos a_sCls a_pairs a_todo := by
        intro er' r hin' hr
        unfold wX_resolve_218
        rw [ze_mul12, ze_mul4, nI_add, nI_add]
        rcases hr with ⟨rfl, hno⟩ | ⟨m, rfl, hm, hic, hnm⟩
        · exact br_f (by decide) (s255 er' (-1) hin' (Or.inr ⟨rfl, hno⟩) (by rw [ze_i8m1, ze_nbm1]))
        · have eL := ((HX _ b12).2.2 hic.1).1
          rw [nI_clamp (n := gw_mir (gw_al lv up c j)) (by omega), eL, ze_mul4, nI_add]
          exact br_t (nI_pos' (by omega)) ⟨vp_in_nI b12 (by decide), s255 er' _ hin' (Or.inl ⟨hic, m, hm, hnm, rfl⟩) (by rw [ze_i8 (by omega), ze_nby (by omega)])⟩
      rcases hx7 with ⟨rfl, hic⟩ | ⟨rfl, hic⟩
      · refine br_f (by decide) ?_
        rw [e3]
        refine gx_own HW HX b12 (fun r hr => ?_)
        unfold wX_resolve_178
        rw [e7]
        rcases hr with ⟨m, hm, en, rfl⟩ | ⟨rfl, hno⟩
        · have gm := (HW _ b12).2.2.1 m hm
          have en := (nI_eq (by omega) (by omega)).mp en
          have eK := ((HX _ b12).2.1 m hm).2
          have r218 := fun er' h => s218 er' (nI m) h (Or.inr ⟨m, rfl, hm, hic, en.symm⟩)
          by_cases q : er = 0
          · refine br_t q (br_f (nI_pos (by omega)) ?_)
            rw [ze_mul4, nI_add, nI_clamp (n := 4 * gw_mir (gw_al lv up c j) + m) (by omega), eK]
            refine ⟨vp_in_nI (by omega) (by decide), ?_⟩
            rcases hin with ⟨_, i2, i3⟩ | hb
            · by_cases y : kd (4 * gw_mir (gw_al lv up c j) + m) = kd (4 * gw_al lv up c j + k)
              · refine br_t (congrArg nI y) (r218 er (Or.inl ⟨q, i2, fun h => ⟨(i3 h).1, fun k' m' hk' hmm => ?_⟩⟩))
                rcases Nat.eq_or_lt_of_le (Nat.le_of_lt_succ hk') with w | w
                · subst w
                  have := gw_nm_inj HW b12 hmm.2.1 hm (by rw [← hmm.2.2.1]; exact en)
                  subst this
                  exact hmm.2.2.2 y.symm
                · exact (i3 h).2 k' m' w hmm
              · exact br_f (ze_eqf y (by omega) (by omega)) (r218 (-4) (Or.inr ⟨j, by omega, hj, i2, hic, Or.inr ⟨rfl, (i3 hic).1, k, m, z, hm, en, fun h => y h.symm⟩⟩))
            · exact absurd q (gs_bad_0 hb)
          · refine br_f q (r218 er (Or.inr ?_))
            rcases hin with ⟨i1, _⟩ | hb
            · exact absurd i1 q
            · exact hb
        · have r218 := fun er' h => s218 er' (-1) h (Or.inl ⟨rfl, fun _ m hm e => hno m hm (congrArg nI e).symm⟩)
          have hin' : gs_in a_defined a_version lv up nf nm kd c j (k + 1) er := by
            refine hin.imp (fun ⟨i1, i2, i3⟩ => ⟨i1, i2, fun h => ⟨(i3 h).1, fun k' m' hk' hmm => ?_⟩⟩) id
            rcases Nat.eq_or_lt_of_le (Nat.le_of_lt_succ hk') with w | w
            · subst w; exact hno m' hmm.2.1 (congrArg nI hmm.2.2.1)
            · exact (i3 h).2 k' m' w hmm
          exact br_c (fun _ => br_t (by decide) (r218 er hin')) (fun _ => r218 er hin')
      · refine br_t rfl ?_
        unfold wX_resolve_178
        have hin' : gs_in a_defined a_version lv up nf nm kd c j (k + 1) er := hin.imp (fun ⟨i1, i2, i3⟩ => ⟨i1, i2, fun h => absurd h hic⟩) id
        have r218 := s218 er (-1) hin' (Or.inl ⟨rfl, fun h => absurd h hic⟩)
        exact br_c (fun _ => br_t (by decide) r218) (fun _ => r218)
/-- a resolved description: levels, fields and plan of class c, all else as before -/
def gs_RD (D : Nat → Int32) (lv up nf nm kd : Nat → Nat) (c j : Nat) (dF PL WD dF0 PL0 WD0 : Nat → Int32) : Prop :=
  (∀ i, i < j → i ≤ lv c → dF (3 * c + i) = nI (nf (gw_al lv up c i)) ∧ gs_PL D lv up nf nm kd c i (nf (gw_al lv up c i)) PL WD) ∧ (∀ i, i < 3 * c ∨ 3 * c + 3 ≤ i → dF i = dF0 i) ∧ (∀ i, i < 12 * c ∨ 12 * c + 12 ≤ i → PL i = PL0 i ∧ WD i = WD0 i)
theorem gx_r11 {post : SX → Prop} {c : Nat} (HW : gw_W a_defined lv up nf nm kd) (HX : gw_CX a_defined a_parent a_level a_fields a_fName a_fKind lv up nf nm kd) (hc : c < 12) (hd : a_defined c ≠ 0) (hd2 : a_defined (gw_mir c) ≠ 0) {ps : Nat → Nat}
    (hps : ∀ j, j ≤ lv c → gs_E1 a_version nf nm kd a_wire (gw_al lv up c j) (ps j) (ps (j + 1))) (he : ps (lv c + 1) ≤ 2400) {dF0 PL0 WD0 : Nat → Int32}
    (K : ∀ er dF PL WD, gs_er a_defined a_version lv up nf nm kd c (lv c + 1) er → gs_RD a_defined lv up nf nm kd c (lv c + 1) dF PL WD dF0 PL0 WD0 → post (f_end, nI (ps (lv c + 1)), f_written, f_read, er, f_culprit, f_nextHandle, f_depth, f_nTodo, a_defined, a_parent, a_level, a_version, a_fields, a_fName, a_fKind, a_latest, a_oClass, a_pinned, a_slot, a_handle, a_arrived, a_handles, a_described, a_dLevels, dF, PL, WD, a_wire, a_order, a_made, a_sObj, a_sLev, a_sPos, a_sCls, a_pairs, a_todo)) :
    ∀ d j er dF PL WD, j + d = lv c + 1 → gs_er a_defined a_version lv up nf nm kd c j er → gs_RD a_defined lv up nf nm kd c j dF PL WD dF0 PL0 WD0 → ∀ fu, d < fu →
      wX_resolve_11 post (nI c) (nI (gw_mir c)) (nI (lv c + 1)) fu (nI j) f_end (nI (ps j)) f_written f_read er f_culprit f_nextHandle f_depth f_nTodo a_defined a_parent a_level a_version a_fields a_fName a_fKind a_latest a_oClass a_pinned a_slot a_handle a_arrived a_handles a_described a_dLevels dF PL WD a_wire a_order a_made a_sObj a_sLev a_sPos a_sCls a_pairs a_todo := by
  have lc := (HW c hc).2.2.2.2.1
  have m12 := gw_mir_lt hc
  have mono := gs_DE_m hps
  intro d
  induction d with
  | zero =>
    intro j er dF PL WD hj her hRD fu hfu
    obtain ⟨fu, rfl⟩ : ∃ k, fu = k + 1 := ⟨fu - 1, by omega⟩
    rw [wX_resolve_11]
    dsimp only
    have ej : j = lv c + 1 := by omega
    subst ej
    exact br_t (nI_le (by omega) (by omega)) (K er dF PL WD her hRD)
  | succ d ih =>
    intro j er dF PL WD hj her hRD fu hfu
    obtain ⟨fu, rfl⟩ : ∃ k, fu = k + 1 := ⟨fu - 1, by omega⟩
    obtain ⟨x1, x2, x3, x4⟩ := gw_al_ok HW hc hd (j := j) (by omega)
    have b12 := gw_mir_lt x1
    have fa := (HW _ x1).1
    obtain ⟨n, n1, n2, w1, lb, w2, w3, e1⟩ := hps j (by omega)
    have mj := mono (j + 1) (by omega)
    have eb : 6 * (gw_mir c / 6) + gw_al lv up c j % 6 = gw_mir (gw_al lv up c j) := by
      have a := gw_mir_div hc
      have b := gw_mir_mod x1
      have c' := gw_mir_div x1
      omega
    rw [wX_resolve_11]
    dsimp only
    refine br_f (nI_ge (by omega) (by omega)) ⟨by decide, gx_take (by omega) ?_⟩
    dsimp only
    rw [w1, ze_div6 (by omega), ze_mul6, nI_add, eb]
    refine nm_e (gx_takeLong lb (by omega) ?_)
    dsimp only
    refine gx_take (by omega) ?_
    dsimp only
    rw [w2, ze_mul3, nI_add, nI_clamp (n := 3 * c + j) (by omega), ze_i8 (by omega), ze_nby (by omega)]
    refine ⟨vp_in_nI (by omega) (by decide), nm_e ⟨vp_in_nI b12 (by decide), ?_⟩⟩
    rw [nI_clamp (n := gw_mir (gw_al lv up c j)) (by omega)]
    have eV : (a_version (gw_al lv up c j)).toInt64.toInt32 = a_version (gw_al lv up c j) := by simp
    rw [eV]
    have hdF : upd dF (3 * c + j) (nI (nf (gw_al lv up c j))) (3 * c + j) = nI (nf (gw_al lv up c j)) := pk_us
    -- behind the version check
    have s137 : ∀ (er' : Int32) (x7 : Int32), ((x7 = 1 ∧ gw_inC a_defined lv up (gw_mir c) (gw_mir (gw_al lv up c j))) ∨ (x7 = 0 ∧ ¬ gw_inC a_defined lv up (gw_mir c) (gw_mir (gw_al lv up c j)))) → gs_in a_defined a_version lv up nf nm kd c j 0 er' →
        ∃ n137 : Nat, wX_resolve_137 post (wX_resolve_11 post (nI c) (nI (gw_mir c)) (nI (lv c + 1)) fu) (nI c) (nI (gw_mir c)) (nI (lv c + 1)) (nI j) (nI (gw_mir (gw_al lv up c j))) x7 n137 0 f_end (nI (ps j + 1 + n + 1)) f_written f_read er' f_culprit f_nextHandle f_depth f_nTodo a_defined a_parent a_level a_version a_fields a_fName a_fKind a_latest a_oClass a_pinned a_slot a_handle a_arrived a_handles a_described a_dLevels (upd dF (3 * c + j) (nI (nf (gw_al lv up c j)))) PL WD a_wire a_order a_made a_sObj a_sLev a_sPos a_sCls a_pairs a_todo := by
      intro er' x7 hx7 hin
      refine ⟨nf (gw_al lv up c j) + 1, ?_⟩
      refine gx_r137 (e0 := ps j + 1 + n + 1) (PL0 := PL) (WD0 := WD) HW HX hc hd (by omega) hx7 hdF (fun k hk => by rw [← w3 k hk]; exact congrArg a_wire (by omega)) (by omega) (fun er2 PL2 WD2 hin2 hPL2 hfr2 => ?_) _ 0 er' PL WD (by omega) (by omega) hin (fun k hk => by omega) (fun i _ => ⟨rfl, rfl⟩)
      rw [show ps j + 1 + n + 1 + nf (gw_al lv up c j) = ps (j + 1) from by omega]
      refine ih (j + 1) er2 _ PL2 WD2 (by omega) ?_ ⟨fun i h1 h2 => ?_, fun i hi => ?_, fun i hi => ?_⟩ fu (by omega)
      · rcases hin2 with ⟨i1, i2, i3⟩ | hb
        · refine Or.inl ⟨i1, fun i hi => ?_⟩
          rcases Nat.eq_or_lt_of_le (Nat.le_of_lt_succ hi) with y | y
          · subst y
            exact fun hic => ⟨(i3 hic).1, fun k m hk hm e => Classical.byContradiction fun ne => (i3 hic).2 k m hk ⟨hk, hm, e, ne⟩⟩
          · exact i2 i y
        · exact Or.inr hb
      · rcases Nat.eq_or_lt_of_le (Nat.le_of_lt_succ h1) with y | y
        · subst y; exact ⟨pk_us, hPL2⟩
        · obtain ⟨r1, r2⟩ := hRD.1 i y h2
          refine ⟨by rw [pk_un (by omega)]; exact r1, fun k hk => ?_⟩
          have fi := (HW _ (gw_al_ok HW hc hd h2).1).1
          obtain ⟨q1, q2⟩ := hfr2 (12 * c + 4 * i + k) (by omega)
          rw [q1, q2]; exact r2 k hk
      · rw [pk_un (by omega)]; exact hRD.2.1 i hi
      · obtain ⟨q1, q2⟩ := hfr2 i (by omega)
        rw [q1, q2]; exact hRD.2.2 i hi
    have n101 : ¬ gw_inC a_defined lv up (gw_mir c) (gw_mir (gw_al lv up c j)) → wX_resolve_101 post (wX_resolve_11 post (nI c) (nI (gw_mir c)) (nI (lv c + 1)) fu) (nI c) (nI (gw_mir c)) (nI (lv c + 1)) (nI j) (nI (gw_mir (gw_al lv up c j))) (a_version (gw_al lv up c j)) f_end (nI (ps j + 1 + n + 1)) f_written f_read er f_culprit f_nextHandle f_depth f_nTodo a_defined a_parent a_level a_version a_fields a_fName a_fKind a_latest a_oClass a_pinned a_slot a_handle a_arrived a_handles a_described a_dLevels (upd dF (3 * c + j) (nI (nf (gw_al lv up c j)))) PL WD a_wire a_order a_made a_sObj a_sLev a_sPos a_sCls a_pairs a_todo := by
      intro hic
      unfold wX_resolve_101 wX_resolve_102
      have hin : gs_in a_defined a_version lv up nf nm kd c j 0 er := her.imp (fun ⟨i1, i2⟩ => ⟨i1, i2, fun h => absurd h hic⟩) gs_bad_s
      exact br_c (fun _ => br_t rfl (s137 er 0 (Or.inr ⟨rfl, hic⟩) hin)) (fun _ => s137 er 0 (Or.inr ⟨rfl, hic⟩) hin)
    by_cases q0 : a_defined (gw_mir (gw_al lv up c j)) = 0
    · exact br_t q0 (n101 fun h => h.1 q0)
    · refine br_f q0 ⟨vp_in_nI b12 (by decide), vp_in_nI m12 (by decide), ?_⟩
      have lm := (HW _ m12).2.2.2.2.1
      have lb' := (HW _ b12).2.2.2.2.1
      rw [nI_clamp (n := gw_mir c) (by omega), ((HX _ m12).2.2 hd2).1, ((HX _ b12).2.2 q0).1]
      by_cases q1 : lv (gw_mir c) < lv (gw_mir (gw_al lv up c j))
      · exact br_t (nI_lt q1 (by omega)) (n101 fun h => by have := h.2.1; omega)
      · refine br_f (nI_nlt (by omega) (by omega)) ⟨vp_in_nI b12 (by decide), gx_ancestor HW HX m12 hd2 (by omega) ?_⟩
        have a12 := (gw_al_ok HW m12 hd2 (j := lv (gw_mir (gw_al lv up c j))) (by omega)).1
        by_cases q2 : gw_al lv up (gw_mir c) (lv (gw_mir (gw_al lv up c j))) = gw_mir (gw_al lv up c j)
        · have hic : gw_inC a_defined lv up (gw_mir c) (gw_mir (gw_al lv up c j)) := ⟨q0, by omega, q2⟩
          refine br_t (congrArg nI q2) ?_
          unfold wX_resolve_102
          by_cases q : er = 0
          · refine br_t q (br_f (by decide) ⟨vp_in_nI b12 (by decide), ?_⟩)
            rw [nI_clamp (n := gw_mir (gw_al lv up c j)) (by omega)]
            rcases her with ⟨i1, i2⟩ | hb
            · refine br_c (fun ev => s137 er 1 (Or.inl ⟨rfl, hic⟩) (Or.inl ⟨q, i2, fun _ => ⟨ev.symm, fun k' m hk' => by omega⟩⟩)) (fun ev => s137 (-3) 1 (Or.inl ⟨rfl, hic⟩) (Or.inr ⟨j, by omega, by omega, i2, hic, Or.inl ⟨rfl, fun h => ev h.symm⟩⟩))
            · exact absurd q (gs_bad_0 hb)
          · refine br_f q (s137 er 1 (Or.inl ⟨rfl, hic⟩) (Or.inr ?_))
            rcases her with ⟨i1, _⟩ | hb
            · exact absurd i1 q
            · exact gs_bad_s hb
        · exact br_f (ze_eqf q2 (by omega) (by omega)) (n101 fun h => q2 h.2.2)
theorem gx_resolve {post : SX → Prop} {c e e' : Nat} (HW : gw_W a_defined lv up nf nm kd) (HX : gw_CX a_defined a_parent a_level a_fields a_fName a_fKind lv up nf nm kd) (hc : c < 12) (hd : a_defined c ≠ 0) (hd2 : a_defined (gw_mir c) ≠ 0)
    (hDE : gs_DE a_version lv up nf nm kd a_wire c e e') (he : e' ≤ 2400)
    (K : ∀ er dF PL WD, gs_er a_defined a_version lv up nf nm kd c (lv c + 1) er → gs_RD a_defined lv up nf nm kd c (lv c + 1) dF PL WD a_dFields a_plan a_wide → post (f_end, nI e', f_written, f_read, er, f_culprit, f_nextHandle, f_depth, f_nTodo, a_defined, a_parent, a_level, a_version, a_fields, a_fName, a_fKind, a_latest, a_oClass, a_pinned, a_slot, a_handle, a_arrived, a_handles, a_described, upd a_dLevels c (nI (lv c + 1)), dF, PL, WD, a_wire, a_order, a_made, a_sObj, a_sLev, a_sPos, a_sCls, a_pairs, a_todo)) :
    wpX_resolve post (f_end, nI e, f_written, f_read, 0, f_culprit, f_nextHandle, f_depth, f_nTodo, a_defined, a_parent, a_level, a_version, a_fields, a_fName, a_fKind, a_latest, a_oClass, a_pinned, a_slot, a_handle, a_arrived, a_handles, a_described, a_dLevels, a_dFields, a_plan, a_wide, a_wire, a_order, a_made, a_sObj, a_sLev, a_sPos, a_sCls, a_pairs, a_todo) (nI c) (nI (gw_mir c)) (nI (lv c + 1)) := by
  have lc := (HW c hc).2.2.2.2.1
  obtain ⟨ps, p1, p2, p3⟩ := hDE
  subst p1 p2
  unfold wpX_resolve; dsimp only
  rw [nI_clamp (n := c) (by omega), ze_i8 (by omega), ze_nby (by omega)]
  refine ⟨vp_in_nI hc (by decide), nm_e ⟨lv c + 2, ?_⟩⟩
  exact gx_r11 HW HX hc hd hd2 p3 he K (lv c + 1) 0 0 _ _ _ (by omega) (Or.inl ⟨rfl, fun i hi => by omega⟩) ⟨fun i hi => by omega, fun i _ => rfl, fun i _ => ⟨rfl, rfl⟩⟩ _ (by omega)
end
end
section
def gs_obs (D Vn C : Nat → Int32) (lv up nf nm kd : Nat → Nat) (c : Nat) (er : Int32) : Prop :=
  (er = -2 ∧ D (gw_mir c) = 0) ∨ (D (gw_mir c) ≠ 0 ∧ gs_bad D Vn lv up nf nm kd c (lv c + 1) er) ∨ (D (gw_mir c) ≠ 0 ∧ (∀ i, i ≤ lv c → gw_LO D Vn lv up nf nm kd (gw_mir c) (gw_al lv up c i)) ∧ er = -5 ∧ ∀ q, q < 16 → C (16 * (gw_mir c / 6) + q) ≠ -1)
theorem gs_obs_0 {D Vn C : Nat → Int32} {lv up nf nm kd : Nat → Nat} {c : Nat} {er : Int32} (h : gs_obs D Vn C lv up nf nm kd c er) : er ≠ 0 := by
  rcases h with h | h | h
  · rw [h.1]; decide
  · exact gs_bad_0 h.2
  · rw [h.2.2.1]; decide
def gs_FD (c : Nat) (dL dF PL WD dL0 dF0 PL0 WD0 : Nat → Int32) : Prop := (∀ x, x ≠ c → dL x = dL0 x) ∧ (∀ i, i < 3 * c ∨ 3 * c + 3 ≤ i → dF i = dF0 i) ∧ (∀ i, i < 12 * c ∨ 12 * c + 12 ≤ i → PL i = PL0 i ∧ WD i = WD0 i)
theorem gs_FD_r (c : Nat) (dL dF PL WD : Nat → Int32) : gs_FD c dL dF PL WD dL dF PL WD := ⟨fun _ _ => rfl, fun _ _ => rfl, fun _ _ => ⟨rfl, rfl⟩⟩
theorem gw_D1_fd {D Vn dL dF PL WD dL' dF' PL' WD' : Nat → Int32} {lv up nf nm kd : Nat → Nat} {c x : Nat} (HW : gw_W D lv up nf nm kd) (hx : x < 12) (h : gw_D1 D Vn dL dF PL WD lv up nf nm kd x) (hf : gs_FD c dL' dF' PL' WD' dL dF PL WD) (hn : x ≠ c) : gw_D1 D Vn dL' dF' PL' WD' lv up nf nm kd x := by
  obtain ⟨h1, h2, h3, h4⟩ := h
  have l := (HW x hx).2.2.2.2.1
  refine ⟨h1, h2, by rw [hf.1 x hn]; exact h3, fun j hj => ?_⟩
  obtain ⟨k1, k2, k3⟩ := h4 j hj
  have f := (HW _ (gw_al_ok HW hx h1 hj).1).1
  refine ⟨k1, by rw [hf.2.1 _ (by omega)]; exact k2, fun k hk => ?_⟩
  obtain ⟨q1, q2⟩ := hf.2.2 (12 * x + 4 * j + k) (by omega)
  rw [q1, q2]
  exact k3 k hk
section
variable {f_end f_at f_written f_read f_error f_culprit f_nextHandle f_depth f_nTodo : Int32} {a_defined a_parent a_level a_version a_fields a_fName a_fKind a_latest a_oClass a_pinned a_handle a_arrived a_handles a_described a_dLevels a_dFields a_plan a_wide a_wire a_order a_made a_sObj a_sLev a_sPos a_sCls a_todo : Nat → Int32} {a_slot a_pairs : Nat → Int64} {g_culprit g_depth g_lastMade : Int32} {b_defined b_version b_parent b_own b_latest b_cls b_partner b_pinned b_arrived b_from b_made b_done b_rows : Nat → Int32} {b_val : Nat → Int64} {lv up nf nm kd : Nat → Nat}
theorem gx_read0 {post : Int32 → SX → Prop} {e : Nat} {x : Int32} (he : e < 2400) (hw : a_wire e = 0) (K : post 0 (f_end, nI (e + 1), f_written, f_read, f_error, f_culprit, f_nextHandle, f_depth, f_nTodo, a_defined, a_parent, a_level, a_version, a_fields, a_fName, a_fKind, a_latest, a_oClass, a_pinned, a_slot, a_handle, a_arrived, a_handles, a_described, a_dLevels, a_dFields, a_plan, a_wide, a_wire, a_order, a_made, a_sObj, a_sLev, a_sPos, a_sCls, a_pairs, a_todo)) : wpX_read post (f_end, nI e, f_written, f_read, f_error, f_culprit, f_nextHandle, f_depth, f_nTodo, a_defined, a_parent, a_level, a_version, a_fields, a_fName, a_fKind, a_latest, a_oClass, a_pinned, a_slot, a_handle, a_arrived, a_handles, a_described, a_dLevels, a_dFields, a_plan, a_wide, a_wire, a_order, a_made, a_sObj, a_sLev, a_sPos, a_sCls, a_pairs, a_todo) x := by
  unfold wpX_read; dsimp only
  refine gx_take he ?_
  dsimp only
  exact br_t hw K
theorem gx_read1 {post : Int32 → SX → Prop} {e s h q : Nat} (hs : s < 2) (he : e + 1 < 2400) (hw : a_wire e = 1) (hw2 : a_wire (e + 1) = nI h) (hh : h ≤ 16) (hA : a_arrived (17 * s + h) = nI q) (K : post (nI (q + 1)) (f_end, nI (e + 2), f_written, f_read, f_error, f_culprit, f_nextHandle, f_depth, f_nTodo, a_defined, a_parent, a_level, a_version, a_fields, a_fName, a_fKind, a_latest, a_oClass, a_pinned, a_slot, a_handle, a_arrived, a_handles, a_described, a_dLevels, a_dFields, a_plan, a_wide, a_wire, a_order, a_made, a_sObj, a_sLev, a_sPos, a_sCls, a_pairs, a_todo)) : wpX_read post (f_end, nI e, f_written, f_read, f_error, f_culprit, f_nextHandle, f_depth, f_nTodo, a_defined, a_parent, a_level, a_version, a_fields, a_fName, a_fKind, a_latest, a_oClass, a_pinned, a_slot, a_handle, a_arrived, a_handles, a_described, a_dLevels, a_dFields, a_plan, a_wide, a_wire, a_order, a_made, a_sObj, a_sLev, a_sPos, a_sCls, a_pairs, a_todo) (nI (1 - s)) := by
  unfold wpX_read; dsimp only
  refine gx_take (by omega) ?_
  dsimp only
  rw [hw]
  refine br_f (by decide) (br_t rfl (gx_take (by omega) ?_))
  dsimp only
  rw [hw2, ze_1sub (by omega), show 1 - (1 - s) = s from by omega, ze_mul17, nI_add, nI_clamp (n := 17 * s + h) (by omega), hA, nI_1]
  exact ⟨vp_in_nI (by omega) (by decide), K⟩
theorem gx_read2 {post : Int32 → SX → Prop} {e e' c mk rd H n : Nat} {d : Nat → Prop} (HW : gw_W a_defined lv up nf nm kd) (HX : gw_CX a_defined a_parent a_level a_fields a_fName a_fKind lv up nf nm kd) (HO : gw_O a_defined a_oClass b_cls) (hc : c < 12) (hd : a_defined c ≠ 0) (hmk : mk = 2 ∨ mk = 3) (he : e' ≤ 2400) (he2 : e + 3 ≤ 2400) (hw : a_wire e = nI mk)
    (hOD : gs_OD a_version lv up nf nm kd a_wire d c (e + 1) e') (hdd : d c → gw_D1 a_defined a_version a_dLevels a_dFields a_plan a_wide lv up nf nm kd c) (hrd : (∃ q, q < 16 ∧ a_oClass (16 * (gw_mir c / 6) + q) = -1) → rd < 16) (hH : mk = 2 → H ≤ 15) (hn : n < 18)
    (KE : ∀ er at' dL dF PL WD, gs_obs a_defined a_version a_oClass lv up nf nm kd c er → gs_FD c dL dF PL WD a_dLevels a_dFields a_plan a_wide → (d c → dL = a_dLevels ∧ dF = a_dFields ∧ PL = a_plan ∧ WD = a_wide) → post (-1) (f_end, at', f_written, nI rd, er, f_culprit, nI H, nI n, f_nTodo, a_defined, a_parent, a_level, a_version, a_fields, a_fName, a_fKind, a_latest, a_oClass, a_pinned, a_slot, a_handle, a_arrived, a_handles, a_described, dL, dF, PL, WD, a_wire, a_order, a_made, a_sObj, a_sLev, a_sPos, a_sCls, a_pairs, a_todo))
    (KO : ∀ q dL dF PL WD AR H', q < 16 → a_oClass (16 * (gw_mir c / 6) + q) = -1 → (∀ p, p < q → a_oClass (16 * (gw_mir c / 6) + p) ≠ -1) → gw_D1 a_defined a_version dL dF PL WD lv up nf nm kd c → gs_FD c dL dF PL WD a_dLevels a_dFields a_plan a_wide → (mk = 2 → AR = upd a_arrived (17 * (c / 6) + (H + 1)) (nI (16 * (gw_mir c / 6) + q)) ∧ H' = H + 1) → (mk = 3 → AR = a_arrived ∧ H' = H) →
      post (nI (16 * (gw_mir c / 6) + q + 1)) (f_end, nI e', f_written, nI (rd + 1), 0, f_culprit, nI H', nI (n + 1), f_nTodo, a_defined, a_parent, a_level, a_version, a_fields, a_fName, a_fKind, a_latest, upd a_oClass (16 * (gw_mir c / 6) + q) (nI (gw_mir c)), upd a_pinned (16 * (gw_mir c / 6) + q) 0, gw_zr a_slot (12 * (16 * (gw_mir c / 6) + q)) (12 * (16 * (gw_mir c / 6) + q) + 12), a_handle, AR, a_handles, a_described, dL, dF, PL, WD, a_wire, a_order, upd a_made rd (nI (16 * (gw_mir c / 6) + q)), upd a_sObj n (nI (16 * (gw_mir c / 6) + q)), upd a_sLev n 0, upd a_sPos n 0, upd a_sCls n (nI c), a_pairs, a_todo)) :
    wpX_read post (f_end, nI e, f_written, nI rd, 0, f_culprit, nI H, nI n, f_nTodo, a_defined, a_parent, a_level, a_version, a_fields, a_fName, a_fKind, a_latest, a_oClass, a_pinned, a_slot, a_handle, a_arrived, a_handles, a_described, a_dLevels, a_dFields, a_plan, a_wide, a_wire, a_order, a_made, a_sObj, a_sLev, a_sPos, a_sCls, a_pairs, a_todo) (nI (1 - c / 6)) := by
  have lc := (HW c hc).2.2.2.2.1
  have m12 := gw_mir_lt hc
  have mdiv := gw_mir_div hc
  have mmod := gw_mir_mod hc
  have ec : 6 * (c / 6) + c % 6 = c := by omega
  have em : 6 * (1 - c / 6) + c % 6 = gw_mir c := by omega
  -- behind the checks
  have r100 : ∀ at' dL dF PL WD, gw_D1 a_defined a_version dL dF PL WD lv up nf nm kd c → gs_FD c dL dF PL WD a_dLevels a_dFields a_plan a_wide → (d c → dL = a_dLevels ∧ dF = a_dFields ∧ PL = a_plan ∧ WD = a_wide) → at' = nI e' → wX_read_100 post (nI (1 - c / 6)) (nI mk) (nI c) f_end at' f_written (nI rd) 0 f_culprit (nI H) (nI n) f_nTodo a_defined a_parent a_level a_version a_fields a_fName a_fKind a_latest a_oClass a_pinned a_slot a_handle a_arrived a_handles a_described dL dF PL WD a_wire a_order a_made a_sObj a_sLev a_sPos a_sCls a_pairs a_todo := by
    intro at' dL dF PL WD hD1 hFD hsame eat
    subst eat
    unfold wX_read_100
    refine br_t rfl ⟨by decide, ?_⟩
    rw [ze_rem6 (by omega), ze_mul6, nI_add, em]
    refine gx_create m12 HO (fun full => ?_) (fun q hq h1 h2 => ?_)
    · dsimp only
      exact br_f (by decide) (KE (-5) _ dL dF PL WD (Or.inr (Or.inr ⟨hD1.2.1, fun i hi => (hD1.2.2.2 i hi).1, rfl, full⟩)) hFD hsame)
    · dsimp only
      have rd16 := hrd ⟨q, hq, h1⟩
      refine br_t (nI_pos' (by omega)) (nm_r (nI_1 rd) ⟨vp_in_nI rd16 (by decide), nm_e ?_⟩)
      rw [nI_clamp (n := rd) (by omega), ze_i8 (by omega), ze_nby (by omega)]
      unfold wX_read_187
      rcases hmk with hmk | hmk
      · subst hmk
        have hH := hH rfl
        refine br_t rfl (nm_r (nI_1 H) ?_)
        rw [ze_1sub (by omega), show 1 - (1 - c / 6) = c / 6 from by omega, ze_mul17, nI_1, nI_add, nI_clamp (n := 17 * (c / 6) + (H + 1)) (by omega)]
        refine ⟨vp_in_nI (by omega) (by decide), nm_e (gx_push hn (by omega) (by omega) ?_)⟩
        dsimp only
        rw [nI_1]
        exact KO q dL dF PL WD _ _ hq h1 h2 hD1 hFD (fun _ => ⟨rfl, rfl⟩) (fun h => by omega)
      · subst hmk
        refine br_f (by decide) (gx_push hn (by omega) (by omega) ?_)
        dsimp only
        rw [nI_1]
        exact KO q dL dF PL WD _ _ hq h1 h2 hD1 hFD (fun h => by omega) (fun _ => ⟨rfl, rfl⟩)
  obtain ⟨o1, o2⟩ := hOD
  unfold wpX_read; dsimp only
  refine gx_take (by omega) ?_
  dsimp only
  rw [hw]
  refine br_f (ze_eq0f (by omega) (by omega)) (br_f (ze_eq1f (by omega) (by omega)) (gx_take (by omega) ?_))
  dsimp only
  rw [o1, ze_1sub (by omega), show 1 - (1 - c / 6) = c / 6 from by omega, ze_mul6, nI_add, ec]
  refine nm_e (gx_take (by omega) ?_)
  dsimp only
  rw [ze_rem6 (by omega), ze_mul6, nI_add, em, nI_clamp (n := gw_mir c) (by omega)]
  refine ⟨by decide, vp_in_nI m12 (by decide), br_c (fun z => ?_) (fun z => ?_)⟩
  · unfold wX_read_100
    exact br_f (by decide) (KE (-2) _ _ _ _ _ (Or.inl ⟨rfl, z⟩) (gs_FD_r _ _ _ _ _) (fun _ => ⟨rfl, rfl, rfl, rfl⟩))
  · rcases o2 with ⟨k1, k2, k3⟩ | ⟨k1, k2, k3⟩
    · rw [show e + 1 + 1 = e + 2 from by omega] at k2 ⊢
      rw [k2]
      exact br_t (by decide) (r100 _ _ _ _ _ (hdd k1) (gs_FD_r _ _ _ _ _) (fun _ => ⟨rfl, rfl, rfl, rfl⟩) (congrArg nI (by omega)))
    · rw [show e + 1 + 1 = e + 2 from by omega] at k2 ⊢
      rw [k2]
      refine br_f (ze_le0f (by omega) (by omega)) ⟨by decide, ?_⟩
      rw [show e + 2 + 1 = e + 1 + 2 from by omega]
      refine gx_resolve HW HX hc hd z k3 he (fun er dF PL WD her hRD => ?_)
      dsimp only
      have hFD : gs_FD c (upd a_dLevels c (nI (lv c + 1))) dF PL WD a_dLevels a_dFields a_plan a_wide := ⟨fun x hx => pk_un hx, hRD.2.1, hRD.2.2⟩
      rcases her with ⟨e0, hLO⟩ | hb
      · subst e0
        refine r100 _ _ _ _ _ ⟨hd, z, pk_us, fun j hj => ⟨hLO j (by omega), (hRD.1 j (by omega) hj).1, (hRD.1 j (by omega) hj).2⟩⟩ hFD (fun h => absurd h k1) rfl
      · unfold wX_read_100
        exact br_f (gs_bad_0 hb) (KE er _ _ _ _ _ (Or.inr (Or.inl ⟨z, hb⟩)) hFD (fun h => absurd h k1))
end
end
section
/-! the reference's side of sending -/
def gs_pl (lv up nm : Nat → Nat) (c l p : Nat) : Nat := 10 * (2 + l - lv c) + nm (4 * gw_al lv up c l + p)
def gs_pn (D : Nat → Int32) (lv up nf nm : Nat → Nat) (c l p : Nat) : Prop := gw_inC D lv up (gw_mir c) (gw_mir (gw_al lv up c l)) ∧ ∃ m, m < nf (gw_mir (gw_al lv up c l)) ∧ nm (4 * gw_mir (gw_al lv up c l) + m) = nm (4 * gw_al lv up c l + p)
theorem gs_bad_u {D Vn : Nat → Int32} {lv up nf nm kd : Nat → Nat} {c j : Nat} {e1 e2 : Int32} (h : gs_bad D Vn lv up nf nm kd c j e1) (k : gs_bad D Vn lv up nf nm kd c j e2) : e1 = e2 := by
  obtain ⟨i, h1, h2, h3, h4, h5⟩ := h
  obtain ⟨i', k1, k2, k3, k4, k5⟩ := k
  have lo : ∀ i e, gw_inC D lv up (gw_mir c) (gw_mir (gw_al lv up c i)) → ((e = (-3 : Int32) ∧ Vn (gw_al lv up c i) ≠ Vn (gw_mir (gw_al lv up c i))) ∨ (e = -4 ∧ Vn (gw_al lv up c i) = Vn (gw_mir (gw_al lv up c i)) ∧ ∃ k m, gs_mm lv up nf nm kd c i k m)) → ¬ gw_LO D Vn lv up nf nm kd (gw_mir c) (gw_al lv up c i) := by
    intro i e hi he hl
    obtain ⟨l1, l2⟩ := hl hi
    rcases he with ⟨_, he⟩ | ⟨_, _, a, b, m1, m2, m3, m4⟩
    · exact he l1
    · exact m4 (l2 a b m1 m2 m3)
  rcases Nat.lt_trichotomy i i' with z | z | z
  · exact absurd (k3 i z) (lo i e1 h4 h5)
  · subst z
    rcases h5 with h5 | h5 <;> rcases k5 with k5 | k5
    · rw [h5.1, k5.1]
    · exact absurd k5.2.1 h5.2
    · exact absurd h5.2.1 k5.2
    · rw [h5.1, k5.1]
  · exact absurd (h3 i' z) (lo i' e2 k4 k5)
theorem gs_bad_l {D Vn : Nat → Int32} {lv up nf nm kd : Nat → Nat} {c j : Nat} {e1 : Int32} (h : gs_bad D Vn lv up nf nm kd c j e1) (k : ∀ i, i ≤ lv c → gw_LO D Vn lv up nf nm kd (gw_mir c) (gw_al lv up c i)) : False := by
  obtain ⟨i, h1, h2, h3, h4, h5⟩ := h
  obtain ⟨l1, l2⟩ := k i h2 h4
  rcases h5 with ⟨_, he⟩ | ⟨_, _, a, b, m1, m2, m3, m4⟩
  · exact he l1
  · exact m4 (l2 a b m1 m2 m3)
noncomputable def gs_nvi (lv up nf nm kd : Nat → Nat) (c o : Nat) (V : Nat → Int64) (i : Nat) : Nat → Int64 := fun y => @ite _ (10 * o ≤ y ∧ y < 10 * o + i) (Classical.propDecidable _) (@ite _ (∃ j k, j ≤ lv c ∧ k < nf (gw_al lv up c j) ∧ 10 * o + nm (4 * gw_al lv up c j + k) = y ∧ kd (4 * gw_al lv up c j + k) = 4) (Classical.propDecidable _) (-1) 0) (V y)
theorem gs_nvi_0 (lv up nf nm kd : Nat → Nat) (c o : Nat) (V : Nat → Int64) : gs_nvi lv up nf nm kd c o V 0 = V := by
  funext y
  unfold gs_nvi
  rw [if_neg (by omega)]
theorem gs_nvi_s {lv up nf nm kd : Nat → Nat} {c o i : Nat} {V : Nat → Int64} {w : Int64} (h1 : (∃ j k, j ≤ lv c ∧ k < nf (gw_al lv up c j) ∧ 10 * o + nm (4 * gw_al lv up c j + k) = 10 * o + i ∧ kd (4 * gw_al lv up c j + k) = 4) → w = -1) (h0 : (¬ ∃ j k, j ≤ lv c ∧ k < nf (gw_al lv up c j) ∧ 10 * o + nm (4 * gw_al lv up c j + k) = 10 * o + i ∧ kd (4 * gw_al lv up c j + k) = 4) → w = 0) :
    vp_updL (gs_nvi lv up nf nm kd c o V i) (10 * o + i) w = gs_nvi lv up nf nm kd c o V (i + 1) := by
  funext y
  by_cases e : y = 10 * o + i
  · subst e
    rw [pk_uLs]
    unfold gs_nvi
    rw [if_pos (by omega)]
    rcases Classical.em (∃ j k, j ≤ lv c ∧ k < nf (gw_al lv up c j) ∧ 10 * o + nm (4 * gw_al lv up c j + k) = 10 * o + i ∧ kd (4 * gw_al lv up c j + k) = 4) with z | z
    · rw [if_pos z]; exact h1 z
    · rw [if_neg z]; exact h0 z
  · rw [pk_uLn e]
    unfold gs_nvi
    rcases Classical.em (10 * o ≤ y ∧ y < 10 * o + i) with z | z
    · have z2 : 10 * o ≤ y ∧ y < 10 * o + (i + 1) := by omega
      rw [if_pos z, if_pos z2]
    · have z2 : ¬ (10 * o ≤ y ∧ y < 10 * o + (i + 1)) := by omega
      rw [if_neg z, if_neg z2]
theorem gs_nvi_nv {D : Nat → Int32} {lv up nf nm kd : Nat → Nat} {c o : Nat} {V : Nat → Int64} (HW : gw_W D lv up nf nm kd) (HU : gw_U D lv up nf nm) (hc : c < 12) (hd : D c ≠ 0) : gw_nv lv up nf nm kd c o V (gs_nvi lv up nf nm kd c o V 10) := by
  refine ⟨fun y hy => ?_, fun j k hj hk => ?_⟩
  · unfold gs_nvi
    rw [if_neg (by omega)]
  · have g := ((HW _ (gw_al_ok HW hc hd hj).1).2.2.1 k hk).1
    unfold gs_nvi
    rw [if_pos (by omega)]
    by_cases z : kd (4 * gw_al lv up c j + k) = 4
    · rw [if_pos z, if_pos ⟨j, k, hj, hk, rfl, z⟩]
    · rw [if_neg z, if_neg]
      rintro ⟨j', k', hj', hk', e, h4⟩
      obtain ⟨rfl, rfl⟩ := gw_one HW HU hc hd hj' hj hk' hk (by omega)
      exact z h4
section
variable {f_end f_at f_written f_read f_error f_culprit f_nextHandle f_depth f_nTodo : Int32} {a_defined a_parent a_level a_version a_fields a_fName a_fKind a_latest a_oClass a_pinned a_handle a_arrived a_handles a_described a_dLevels a_dFields a_plan a_wide a_wire a_order a_made a_sObj a_sLev a_sPos a_sCls a_todo : Nat → Int32} {a_slot a_pairs : Nat → Int64} {g_culprit g_depth g_lastMade : Int32} {b_defined b_version b_parent b_own b_latest b_cls b_partner b_pinned b_arrived b_from b_made b_done b_rows : Nat → Int32} {b_val : Nat → Int64} {lv up nf nm kd : Nat → Nat}
theorem gy_sameKinds {post : Int32 → Prop} {a : Nat} (HW : gw_W b_defined lv up nf nm kd) (HY : gw_CY b_defined b_parent b_own lv up nf nm kd) (ha : a < 12)
    (h1 : (∀ k m, k < nf a → m < nf (gw_mir a) → nm (4 * a + k) = nm (4 * gw_mir a + m) → kd (4 * a + k) = kd (4 * gw_mir a + m)) → post 1)
    (h0 : (∃ k m, k < nf a ∧ m < nf (gw_mir a) ∧ nm (4 * a + k) = nm (4 * gw_mir a + m) ∧ kd (4 * a + k) ≠ kd (4 * gw_mir a + m)) → post 0) : wpY_sameKinds post (g_culprit, g_depth, g_lastMade, b_defined, b_version, b_parent, b_own, b_latest, b_cls, b_partner, b_pinned, b_arrived, b_val, b_from, b_made, b_done, b_rows) (nI (a % 6)) := by
  have b12 := gw_mir_lt ha
  have two : (a = a % 6 ∧ gw_mir a = 6 + a % 6) ∨ (a = 6 + a % 6 ∧ gw_mir a = a % 6) := by unfold gw_mir; split <;> omega
  -- in the order of the sides
  have key : ∀ A B, A = a % 6 → B = 6 + a % 6 → ((∀ k m, k < nf A → m < nf B → nm (4 * A + k) = nm (4 * B + m) → kd (4 * A + k) = kd (4 * B + m)) → post 1) → ((∃ k m, k < nf A ∧ m < nf B ∧ nm (4 * A + k) = nm (4 * B + m) ∧ kd (4 * A + k) ≠ kd (4 * B + m)) → post 0) →
      ∀ n i, i ≤ 10 → 10 - i < n → (∀ k m, k < nf A → m < nf B → nm (4 * A + k) = nm (4 * B + m) → nm (4 * A + k) < i → kd (4 * A + k) = kd (4 * B + m)) → wY_sameKinds_2 post (nI (a % 6)) g_culprit g_depth g_lastMade b_defined b_version b_parent b_own b_latest b_cls b_partner b_pinned b_arrived b_val b_from b_made b_done b_rows n (nI i) := by
    intro A B eA eB k1 k0 n
    have A12 : A < 12 := by omega
    have B12 : B < 12 := by omega
    induction n with
    | zero => intro i h1 h2; omega
    | succ n ih =>
      intro i hi hn hok
      rw [wY_sameKinds_2]
      dsimp only
      rcases Nat.eq_or_lt_of_le hi with z | z
      · subst z
        exact br_t (by decide) (k1 fun k m hk hm e => hok k m hk hm e ((HW A A12).2.2.1 k hk).1)
      · refine br_f (ze_ge10f z) (gy_own (s := 0) (by omega) (by omega) z (gy_own (s := 1) (by omega) (by omega) z ?_))
        rw [show 10 * (6 * 0 + a % 6) + i = 10 * A + i from by omega, show 10 * (6 * 1 + a % 6) + i = 10 * B + i from by omega]
        have skip : (∀ k m, k < nf A → m < nf B → nm (4 * A + k) = i → nm (4 * B + m) = i → kd (4 * A + k) = kd (4 * B + m)) → wY_sameKinds_2 post (nI (a % 6)) g_culprit g_depth g_lastMade b_defined b_version b_parent b_own b_latest b_cls b_partner b_pinned b_arrived b_val b_from b_made b_done b_rows n (nI (i + 1)) := by
          intro hs
          refine ih (i + 1) z (by omega) (fun k m hk hm e hl => ?_)
          rcases Nat.eq_or_lt_of_le (Nat.le_of_lt_succ hl) with y | y
          · exact hs k m hk hm y (by omega)
          · exact hok k m hk hm e y
        rcases gw_ownC HY A12 z with ⟨k, hk, e1, e2⟩ | ⟨hno, e2⟩
        · have gk := ((HW A A12).2.2.1 k hk).2
          rw [e2]
          refine br_f (nI_pos (by omega)) ?_
          rcases gw_ownC HY B12 z with ⟨m, hm, e3, e4⟩ | ⟨hno, e4⟩
          · have gm := ((HW B B12).2.2.1 m hm).2
            rw [e4]
            refine br_f (nI_pos (by omega)) ?_
            by_cases y : kd (4 * A + k) = kd (4 * B + m)
            · refine br_t (congrArg nI y) (nm_r (nI_1 i) (skip fun k' m' hk' hm' q1 q2 => ?_))
              have := gw_nm_inj HW A12 hk' hk (by omega)
              have := gw_nm_inj HW B12 hm' hm (by omega)
              subst_vars
              exact y
            · exact br_f (ze_eqf y (by omega) (by omega)) (k0 ⟨k, m, hk, hm, by omega, y⟩)
          · rw [e4]
            exact br_t (by decide) (nm_r (nI_1 i) (skip fun k' m' hk' hm' q1 q2 => absurd q2 (hno m' hm')))
        · rw [e2]
          exact br_t (by decide) (nm_r (nI_1 i) (skip fun k' m' hk' hm' q1 q2 => absurd q1 (hno k' hk')))
  rcases two with ⟨t1, t2⟩ | ⟨t1, t2⟩
  · exact ⟨11, key a (gw_mir a) t1 t2 h1 h0 11 0 (by omega) (by omega) (fun k m _ _ _ h => by omega)⟩
  · exact ⟨11, key (gw_mir a) a t2 t1 (fun h => h1 fun k m hk hm e => (h m k hm hk e.symm).symm) (fun ⟨k, m, hk, hm, e, ne⟩ => h0 ⟨m, k, hm, hk, e.symm, fun h => ne h.symm⟩) 11 0 (by omega) (by omega) (fun k m _ _ _ h => by omega)⟩
theorem gy_obst {post : Int32 → Prop} {y : Nat} (HW : gw_W b_defined lv up nf nm kd) (HY : gw_CY b_defined b_parent b_own lv up nf nm kd) (HO : gw_O b_defined a_oClass b_cls) (hy : y < 32) (ay : a_oClass y ≠ -1)
    (Kno : b_defined (gw_mir (gw_kl a_oClass y)) = 0 → post (-2)) (Kbad : b_defined (gw_mir (gw_kl a_oClass y)) ≠ 0 → ∀ er, gs_bad b_defined b_version lv up nf nm kd (gw_kl a_oClass y) (lv (gw_kl a_oClass y) + 1) er → post er)
    (Kok : b_defined (gw_mir (gw_kl a_oClass y)) ≠ 0 → (∀ i, i ≤ lv (gw_kl a_oClass y) → gw_LO b_defined b_version lv up nf nm kd (gw_mir (gw_kl a_oClass y)) (gw_al lv up (gw_kl a_oClass y) i)) → (((∀ q, q < 16 → a_oClass (16 * (1 - y / 16) + q) ≠ -1) → post (-5)) ∧ (∀ q, q < 16 → a_oClass (16 * (1 - y / 16) + q) = -1 → (∀ p, p < q → a_oClass (16 * (1 - y / 16) + p) ≠ -1) → post 0))) :
    wpY_obstacle post (g_culprit, g_depth, g_lastMade, b_defined, b_version, b_parent, b_own, b_latest, b_cls, b_partner, b_pinned, b_arrived, b_val, b_from, b_made, b_done, b_rows) (nI y) := by
  obtain ⟨c1, c2, c3, c4, c5⟩ := gw_O_al HO hy ay
  have lc := (HW _ c1).2.2.2.2.1
  have m12 := gw_mir_lt c1
  have mdiv := gw_mir_div c1
  have mmod := gw_mir_mod c1
  have em : 6 * (1 - y / 16) + gw_kl a_oClass y % 6 = gw_mir (gw_kl a_oClass y) := by omega
  have ec : 6 * (y / 16) + gw_kl a_oClass y % 6 = gw_kl a_oClass y := by omega
  unfold wpY_obstacle; dsimp only
  refine ⟨by decide, nm_r (ze_div16 (by omega)) ⟨vp_in_nI hy (by decide), ?_⟩⟩
  rw [nI_clamp (n := y) (by omega), c3]
  refine nm_e (nm_r (ze_1sub (by omega)) ?_)
  rw [ze_mul6, nI_add, em, nI_clamp (n := gw_mir (gw_kl a_oClass y)) (by omega)]
  refine ⟨vp_in_nI m12 (by decide), br_c Kno (fun hd2 => ⟨4, ?_⟩)⟩
  have loop : ∀ n m, m < n → m ≤ 3 → (∀ i, i ≤ lv (gw_kl a_oClass y) → m ≤ lv (gw_kl a_oClass y) - i → gw_LO b_defined b_version lv up nf nm kd (gw_mir (gw_kl a_oClass y)) (gw_al lv up (gw_kl a_oClass y) i)) → wY_obstacle_38 post (nI (y / 16)) (nI (gw_kl a_oClass y % 6)) (nI (1 - y / 16)) g_culprit g_depth g_lastMade b_defined b_version b_parent b_own b_latest b_cls b_partner b_pinned b_arrived b_val b_from b_made b_done b_rows n (nI m - 1) := by
    intro n
    induction n with
    | zero => intro m h; omega
    | succ n ih =>
      intro m hm h3 hok
      rw [wY_obstacle_38]
      dsimp only
      cases m with
      | zero =>
        refine br_t (by decide) ?_
        obtain ⟨kf, ks⟩ := Kok hd2 (fun i hi => hok i hi (Nat.zero_le _))
        exact gy_free (by omega) HO (fun full => br_f (by decide) (kf full)) (fun q hq h1 h2 => br_t (nI_pos' (by omega)) (ks q hq h1 h2))
      | succ k =>
        have e1 : nI (k + 1) - 1 = nI k := nI_pred k
        rw [e1]
        have e2 : nI k + (-1) = nI k - 1 := by rw [Int32.sub_eq_add_neg]
        rw [e2]
        refine br_f (nI_pos (by omega)) (gy_chain HW HY (by omega) (by omega) (by rw [ec]; exact c4) (by omega) ?_)
        rw [ec]
        have next : (∀ i, i ≤ lv (gw_kl a_oClass y) → lv (gw_kl a_oClass y) - i = k → gw_LO b_defined b_version lv up nf nm kd (gw_mir (gw_kl a_oClass y)) (gw_al lv up (gw_kl a_oClass y) i)) → wY_obstacle_38 post (nI (y / 16)) (nI (gw_kl a_oClass y % 6)) (nI (1 - y / 16)) g_culprit g_depth g_lastMade b_defined b_version b_parent b_own b_latest b_cls b_partner b_pinned b_arrived b_val b_from b_made b_done b_rows n (nI k - 1) := by
          intro hs
          refine ih k (by omega) (by omega) (fun i hi hk => ?_)
          rcases Nat.eq_or_lt_of_le hk with w | w
          · exact hs i hi w.symm
          · exact hok i hi w
        rcases Nat.lt_or_ge (lv (gw_kl a_oClass y)) k with q | q
        · rw [gw_ch_f q]
          exact gy_inN (br_t rfl (nm_e (next fun i hi e => by omega)))
        · rw [gw_ch_t q]
          obtain ⟨i1, i2, i3, i4⟩ := gw_an_ok HW k (gw_kl a_oClass y) c1 c4 q
          have ea : gw_al lv up (gw_kl a_oClass y) (lv (gw_kl a_oClass y) - k) = gw_an up k (gw_kl a_oClass y) := gw_al_an lv up q
          have b12 := gw_mir_lt i1
          have bd := gw_mir_div i1
          have bm := gw_mir_mod i1
          have eb : 6 * (1 - y / 16) + gw_an up k (gw_kl a_oClass y) % 6 = gw_mir (gw_an up k (gw_kl a_oClass y)) := by omega
          have ea2 : 6 * (y / 16) + gw_an up k (gw_kl a_oClass y) % 6 = gw_an up k (gw_kl a_oClass y) := by omega
          have pre : ∀ i', i' < lv (gw_kl a_oClass y) - k → gw_LO b_defined b_version lv up nf nm kd (gw_mir (gw_kl a_oClass y)) (gw_al lv up (gw_kl a_oClass y) i') := fun i' hi' => hok i' (by omega) (by omega)
          have lev : gw_LO b_defined b_version lv up nf nm kd (gw_mir (gw_kl a_oClass y)) (gw_an up k (gw_kl a_oClass y)) → ∀ i, i ≤ lv (gw_kl a_oClass y) → lv (gw_kl a_oClass y) - i = k → gw_LO b_defined b_version lv up nf nm kd (gw_mir (gw_kl a_oClass y)) (gw_al lv up (gw_kl a_oClass y) i) := by
            intro h i hi e
            rw [show i = lv (gw_kl a_oClass y) - k from by omega, ea]; exact h
          refine gy_in HW HY (by omega) (by omega) (by omega) (by rw [em]; exact hd2) (fun hic => br_f (by decide) ?_) (fun hic => br_t rfl (nm_e (next (lev fun h => ?_))))
          · rw [em, eb] at hic
            rw [ze_mul6, ze_mul6, nI_add, nI_add, ea2, eb, nI_clamp (n := gw_an up k (gw_kl a_oClass y)) (by omega), nI_clamp (n := gw_mir (gw_an up k (gw_kl a_oClass y))) (by omega)]
            refine ⟨vp_in_nI i1 (by decide), vp_in_nI b12 (by decide), br_c (fun ev => ?_) (fun ev => Kbad hd2 (-3) ⟨lv (gw_kl a_oClass y) - k, by omega, by omega, pre, by rw [ea]; exact hic, Or.inl ⟨rfl, by rw [ea]; exact ev⟩⟩)⟩
            refine gy_sameKinds HW HY i1 (fun hsame => br_f (by decide) (nm_e (next (lev fun _ => ⟨ev, hsame⟩)))) (fun ⟨k', m', w1, w2, w3, w4⟩ => br_t rfl (Kbad hd2 (-4) ⟨lv (gw_kl a_oClass y) - k, by omega, by omega, pre, by rw [ea]; exact hic, Or.inr ⟨rfl, by rw [ea]; exact ev, k', m', ?_⟩⟩))
            unfold gs_mm
            rw [ea]
            exact ⟨w1, w2, w3, w4⟩
          · rw [em, eb] at hic
            exact absurd h hic
  exact loop 4 3 (by omega) (by omega) (fun i hi h => by omega)
theorem gy_createXL {post : SY → Prop} (HW : gw_W b_defined lv up nf nm kd) (HU : gw_U b_defined lv up nf nm) (HY : gw_CY b_defined b_parent b_own lv up nf nm kd) {o c : Nat} (ho : o < 32) (hc : c < 12) (hco : c / 6 = o / 16) (hd : b_defined c ≠ 0)
    {V : Nat → Int64} (K : post (g_culprit, g_depth, g_lastMade, b_defined, b_version, b_parent, b_own, b_latest, b_cls, b_partner, b_pinned, b_arrived, gs_nvi lv up nf nm kd c o V 10, b_from, b_made, b_done, b_rows)) : ∀ n i, i ≤ 10 → 10 - i < n → wY_create_23 post (nI o) (nI (c % 6)) g_culprit g_depth g_lastMade n (nI i) b_defined b_version b_parent b_own b_latest b_cls b_partner b_pinned b_arrived (gs_nvi lv up nf nm kd c o V i) b_from b_made b_done b_rows := by
  intro n
  induction n with
  | zero => intro i h1 h2; omega
  | succ n ih =>
    intro i hi hn
    rw [wY_create_23]
    dsimp only
    rcases Nat.eq_or_lt_of_le hi with z | z
    · subst z
      exact br_t (by decide) K
    · have e : 6 * (o / 16) + c % 6 = c := by omega
      refine br_f (ze_ge10f z) ⟨by decide, ?_⟩
      rw [ze_div16 (by omega)]
      refine gy_kind HW HY (by omega) (by omega) (by rw [e]; exact hd) (fun r hr => ?_)
      rw [e] at hr
      have nx := ih (i + 1) z (by omega)
      rw [ze_mul10, nI_add, nI_clamp (n := 10 * o + i) (by omega)]
      rcases hr with ⟨j', k', hj', hk', e1, e2⟩ | ⟨e2, hr⟩
      · have g := (HW _ (gw_al_ok HW hc hd hj').1).2.2.1 k' hk'
        have e3 := (nI_eq (by omega) (by omega)).mp e1
        rw [e2]
        by_cases y : kd (4 * gw_al lv up c j' + k') = 4
        · refine br_t (ze_eq4t y) ⟨vp_in_nI (by omega) (by decide), nm_e (nm_r (nI_1 i) ?_)⟩
          rw [gs_nvi_s (fun _ => rfl) (fun h => absurd ⟨j', k', hj', hk', by omega, y⟩ h)]
          exact nx
        · refine br_f (ze_eq4f y (by omega)) ⟨vp_in_nI (by omega) (by decide), nm_e (nm_r (nI_1 i) ?_)⟩
          have no : ¬ ∃ j k, j ≤ lv c ∧ k < nf (gw_al lv up c j) ∧ 10 * o + nm (4 * gw_al lv up c j + k) = 10 * o + i ∧ kd (4 * gw_al lv up c j + k) = 4 := by
            rintro ⟨j, k, hj, hk, q1, q2⟩
            obtain ⟨rfl, rfl⟩ := gw_one HW HU hc hd hj hj' hk hk' (by omega)
            exact absurd q2 y
          rw [gs_nvi_s (fun h => absurd h no) (fun _ => rfl)]
          exact nx
      · rw [e2]
        refine br_f (by decide) ⟨vp_in_nI (by omega) (by decide), nm_e (nm_r (nI_1 i) ?_)⟩
        have no : ¬ ∃ j k, j ≤ lv c ∧ k < nf (gw_al lv up c j) ∧ 10 * o + nm (4 * gw_al lv up c j + k) = 10 * o + i ∧ kd (4 * gw_al lv up c j + k) = 4 := by
          rintro ⟨j, k, hj, hk, q1, q2⟩
          exact absurd (congrArg nI (show i = nm (4 * gw_al lv up c j + k) by omega)) (hr j k hj hk)
        rw [gs_nvi_s (fun h => absurd h no) (fun _ => rfl)]
        exact nx
theorem gy_createX {post : SY → Prop} (HW : gw_W b_defined lv up nf nm kd) (HU : gw_U b_defined lv up nf nm) (HY : gw_CY b_defined b_parent b_own lv up nf nm kd) {o c : Nat} (ho : o < 32) (hc : c < 12) (hco : c / 6 = o / 16) (hd : b_defined c ≠ 0) {d : Nat} (hcd : c % 6 = d)
    (K : post (g_culprit, g_depth, g_lastMade, b_defined, b_version, b_parent, b_own, b_latest, upd b_cls o (nI d), upd b_partner o (-1), upd b_pinned o 0, b_arrived, gs_nvi lv up nf nm kd c o b_val 10, b_from, b_made, b_done, b_rows)) : wpY_create post (g_culprit, g_depth, g_lastMade, b_defined, b_version, b_parent, b_own, b_latest, b_cls, b_partner, b_pinned, b_arrived, b_val, b_from, b_made, b_done, b_rows) (nI o) (nI d) := by
  subst hcd
  unfold wpY_create; dsimp only
  simp (disch := omega) only [ze_ge0t, ze_gt0t, ze_gt0f, ze_le0t, ze_le0f, ze_lt0f, ze_eq0p, ze_eq0f, ze_ge1t, ze_ge1f, ze_gt1t, ze_gt1f, ze_le1t, ze_le1f, ze_lt1t, ze_lt1f, ze_eq1p, ze_eq1f, ze_ge2t, ze_ge2f, ze_gt2t, ze_gt2f, ze_le2t, ze_le2f, ze_lt2t, ze_lt2f, ze_eq2p, ze_eq2f, ze_ge3t, ze_ge3f, ze_gt3t, ze_gt3f, ze_le3t, ze_le3f, ze_lt3t, ze_lt3f, ze_eq3p, ze_eq3f, ze_ge4t, ze_ge4f, ze_gt4t, ze_gt4f, ze_le4t, ze_le4f, ze_lt4t, ze_lt4f, ze_eq4p, ze_eq4f, ze_ge5t, ze_ge5f, ze_gt5t, ze_gt5f, ze_le5t, ze_le5f, ze_lt5t, ze_lt5f, ze_eq5p, ze_eq5f, ze_ge6t, ze_ge6f, ze_gt6t, ze_gt6f, ze_le6t, ze_le6f, ze_lt6t, ze_lt6f, ze_eq6p, ze_eq6f, ze_ge7t, ze_ge7f, ze_gt7t, ze_gt7f, ze_le7t, ze_le7f, ze_lt7t, ze_lt7f, ze_eq7p, ze_eq7f, ze_ge9t, ze_ge9f, ze_gt9t, ze_gt9f, ze_le9t, ze_le9f, ze_lt9t, ze_lt9f, ze_eq9p, ze_eq9f, ze_ge10t, ze_ge10f, ze_gt10t, ze_gt10f, ze_le10t, ze_le10f, ze_lt10t, ze_lt10f, ze_eq10p, ze_eq10f, ze_ge12t, ze_ge12f, ze_gt12t, ze_gt12f, ze_le12t, ze_le12f, ze_lt12t, ze_lt12f, ze_eq12p, ze_eq12f, ze_ge15t, ze_ge15f, ze_gt15t, ze_gt15f, ze_le15t, ze_le15f, ze_lt15t, ze_lt15f, ze_eq15p, ze_eq15f, ze_ge16t, ze_ge16f, ze_gt16t, ze_gt16f, ze_le16t, ze_le16f, ze_lt16t, ze_lt16f, ze_eq16p, ze_eq16f, ze_ge30t, ze_ge30f, ze_gt30t, ze_gt30f, ze_le30t, ze_le30f, ze_lt30t, ze_lt30f, ze_eq30p, ze_eq30f, ze_ge32t, ze_ge32f, ze_gt32t, ze_gt32f, ze_le32t, ze_le32f, ze_lt32t, ze_lt32f, ze_eq32p, ze_eq32f, ze_ge47t, ze_ge47f, ze_gt47t, ze_gt47f, ze_le47t, ze_le47f, ze_lt47t, ze_lt47f, ze_eq47p, ze_eq47f, ze_ge120t, ze_ge120f, ze_gt120t, ze_gt120f, ze_le120t, ze_le120f, ze_lt120t, ze_lt120f, ze_eq120p, ze_eq120f, ze_ge1024t, ze_ge1024f, ze_gt1024t, ze_gt1024f, ze_le1024t, ze_le1024f, ze_lt1024t, ze_lt1024f, ze_eq1024p, ze_eq1024f, ze_let, ze_lef, ze_ltt, ze_ltf, ze_eqt, ze_eqf, ze_m1_lt0, ze_m1_n0le, ze_m1_le0, ze_m1_le, ze_m1_lt, ze_m1_nle, ze_m1_nlt, ze_m1_ne, ze_m1_en, ze_m1_ne4, ze_m1_ne0, ze_nz6, ze_nz10, ze_nz12, ze_nz16, ze_nz32, ze_nz192, ze_1ne0, ze_0ne1, ze_0ne4, ↓ze_rem6, ↓ze_rem10, ↓ze_rem16, ↓ze_rem32, ↓ze_rem12, ze_div6, ze_div10, ze_div12, ze_div16, ze_div32, ze_div192, ze_mul3, ze_mul4, ze_mul6, ze_mul10, ze_mul12, ze_mul16, ze_mul17, ze_mul32, ze_mul60, ze_mulr6, ze_nrem6, ze_mulr10, ze_nrem10, ze_mulr12, ze_nrem12, ze_mulr16, ze_nrem16, ze_mulr32, ze_nrem32, nI_add, ze_add1, ze_add6, ze_add7, ze_add8, ze_add12, ze_add16, ze_add0, ze_radd0, ze_radd8, ze_sub1, ze_m1, ze_0sub1, ze_m1add1, ze_1sub, ze_2sub, pk_sub, ze_and3, ze_and7, ze_and31, ze_and127, ↓ze_shr2, ↓ze_shr3, ↓ze_shr5, ↓ze_shl3, ze_i8, ze_nby, ze_i8m1, ze_i80, ze_nbm1, ze_i16, ze_nsh, ze_nb0, ze_nt0, ze_nt1, ze_cl0, ze_cl1, nI_clamp, vp_in_nI, forall_eq, true_implies, false_implies, not_true_eq_false, not_false_eq_true, and_true, true_and, implies_true, and_self, forall_const, Classical.not_not]
  have h := gy_createXL HW HU HY ho hc hco hd K 11 0 (by omega) (by omega)
  rw [gs_nvi_0] at h
  exact ⟨11, h⟩
theorem gy_beginE {post : Int32 → SY → Prop} {y : Nat} {x er : Int32} (HW : gw_W b_defined lv up nf nm kd) (HY : gw_CY b_defined b_parent b_own lv up nf nm kd) (HO : gw_O b_defined a_oClass b_cls) (hy : y < 32) (ay : a_oClass y ≠ -1) (hob : gs_obs b_defined b_version a_oClass lv up nf nm kd (gw_kl a_oClass y) er)
    (K : post er (nI (y / 16 * 32 + y % 16), g_depth, g_lastMade, b_defined, b_version, b_parent, b_own, b_latest, b_cls, b_partner, b_pinned, b_arrived, b_val, b_from, b_made, b_done, b_rows)) : wpY_begin post (g_culprit, g_depth, g_lastMade, b_defined, b_version, b_parent, b_own, b_latest, b_cls, b_partner, b_pinned, b_arrived, b_val, b_from, b_made, b_done, b_rows) (nI y) x := by
  obtain ⟨c1, c2, c3, c4, c5⟩ := gw_O_al HO hy ay
  have mdiv := gw_mir_div c1
  have es : 1 - y / 16 = gw_mir (gw_kl a_oClass y) / 6 := by omega
  unfold wpY_begin; dsimp only
  refine gy_obst HW HY HO hy ay (fun h => ?_) (fun h er' hb => ?_) (fun h hlo => ⟨fun full => ?_, fun q hq h1 h2 => ?_⟩)
  · have e : er = -2 := by
      rcases hob with k | k | k
      · exact k.1
      · exact absurd h k.1
      · exact absurd h k.1
    subst e
    exact br_f (by decide) (gy_id hy K)
  · have e : er' = er := by
      rcases hob with k | k | k
      · exact absurd k.2 h
      · exact gs_bad_u hb k.2
      · exact (gs_bad_l hb k.2.1).elim
    subst e
    exact br_f (gs_bad_0 hb) (gy_id hy K)
  · have e : er = -5 := by
      rcases hob with k | k | k
      · exact absurd k.2 h
      · exact (gs_bad_l k.2 hlo).elim
      · exact k.2.2.1
    subst e
    exact br_f (by decide) (gy_id hy K)
  · rcases hob with k | k | k
    · exact absurd k.2 h
    · exact (gs_bad_l k.2 hlo).elim
    · rw [es] at h1
      exact absurd h1 (k.2.2.2 q hq)
theorem gy_beginO {post : Int32 → SY → Prop} {y n q : Nat} {x : Int32} {PT : Nat → Int32} (HW : gw_W b_defined lv up nf nm kd) (HU : gw_U b_defined lv up nf nm) (HY : gw_CY b_defined b_parent b_own lv up nf nm kd) (HO : gw_O b_defined a_oClass b_cls) (hy : y < 32) (ay : a_oClass y ≠ -1)
    (hd2 : b_defined (gw_mir (gw_kl a_oClass y)) ≠ 0) (hlo : ∀ i, i ≤ lv (gw_kl a_oClass y) → gw_LO b_defined b_version lv up nf nm kd (gw_mir (gw_kl a_oClass y)) (gw_al lv up (gw_kl a_oClass y) i)) (hq : q < 16) (hq1 : a_oClass (16 * (1 - y / 16) + q) = -1) (hq2 : ∀ p, p < q → a_oClass (16 * (1 - y / 16) + p) ≠ -1) (hn : n < 40)
    (hPT : (0 < n ∨ x = 0) ∧ PT = upd (upd b_partner (16 * (1 - y / 16) + q) (-1)) y (nI (16 * (1 - y / 16) + q)) ∨ (n = 0 ∧ x ≠ 0) ∧ PT = upd b_partner (16 * (1 - y / 16) + q) (-1))
    (K : post 0 (g_culprit, nI (n + 1), g_lastMade, b_defined, b_version, b_parent, b_own, b_latest, upd b_cls (16 * (1 - y / 16) + q) (nI (gw_kl a_oClass y % 6)), PT, upd b_pinned (16 * (1 - y / 16) + q) 0, upd b_arrived (16 * (1 - y / 16) + q) 1, gs_nvi lv up nf nm kd (gw_mir (gw_kl a_oClass y)) (16 * (1 - y / 16) + q) b_val 10, upd b_from n (nI y), upd b_made n (nI (16 * (1 - y / 16) + q)), upd b_done n 0, b_rows)) :
    wpY_begin post (g_culprit, nI n, g_lastMade, b_defined, b_version, b_parent, b_own, b_latest, b_cls, b_partner, b_pinned, b_arrived, b_val, b_from, b_made, b_done, b_rows) (nI y) x := by
  obtain ⟨c1, c2, c3, c4, c5⟩ := gw_O_al HO hy ay
  have m12 := gw_mir_lt c1
  have mdiv := gw_mir_div c1
  have mmod := gw_mir_mod c1
  unfold wpY_begin; dsimp only
  refine gy_obst HW HY HO hy ay (fun h => absurd h hd2) (fun h er' hb => (gs_bad_l hb hlo).elim) (fun h _ => ⟨fun full => absurd hq1 (full q hq), fun q' hq' h1 h2 => br_t rfl ⟨by decide, ?_⟩⟩)
  rw [ze_div16 (by omega), ze_1sub (by omega)]
  refine gy_free (by omega) HO (fun full => absurd hq1 (full q hq)) (fun q'' hq'' h3 h4 => ?_)
  have e : q'' = q := by
    rcases Nat.lt_trichotomy q'' q with z | z | z
    · exact absurd h3 (hq2 q'' z)
    · exact z
    · exact absurd hq1 (h4 q z)
  subst e
  rw [nI_clamp (n := y) (by omega), c3]
  refine ⟨vp_in_nI hy (by decide), gy_createX HW HU HY (by omega) m12 (by omega) hd2 mmod ?_⟩
  dsimp only
  have w72 : ∀ PT', PT' = PT → wY_begin_72 post (nI y) (nI (16 * (1 - y / 16) + q'')) g_culprit (nI n) g_lastMade b_defined b_version b_parent b_own b_latest (upd b_cls (16 * (1 - y / 16) + q'') (nI (gw_kl a_oClass y % 6))) PT' (upd b_pinned (16 * (1 - y / 16) + q'') 0) (upd b_arrived (16 * (1 - y / 16) + q'') 1) (gs_nvi lv up nf nm kd (gw_mir (gw_kl a_oClass y)) (16 * (1 - y / 16) + q'') b_val 10) b_from b_made b_done b_rows := by
    intro PT' e
    subst e
    unfold wY_begin_72
    rw [nI_clamp (n := n) (by omega)]
    exact ⟨vp_in_nI hn (by decide), nm_e ⟨vp_in_nI hn (by decide), nm_e ⟨vp_in_nI hn (by decide), nm_e (nm_r (nI_1 n) K)⟩⟩⟩
  rw [nI_clamp (n := 16 * (1 - y / 16) + q'') (by omega), ze_nt1]
  refine ⟨vp_in_nI (by omega) (by decide), nm_e ?_⟩
  have w64 : PT = upd (upd b_partner (16 * (1 - y / 16) + q'') (-1)) y (nI (16 * (1 - y / 16) + q'')) → wY_begin_64 post (nI y) (nI (16 * (1 - y / 16) + q'')) g_culprit (nI n) g_lastMade b_defined b_version b_parent b_own b_latest (upd b_cls (16 * (1 - y / 16) + q'') (nI (gw_kl a_oClass y % 6))) (upd b_partner (16 * (1 - y / 16) + q'') (-1)) (upd b_pinned (16 * (1 - y / 16) + q'') 0) (upd b_arrived (16 * (1 - y / 16) + q'') 1) (gs_nvi lv up nf nm kd (gw_mir (gw_kl a_oClass y)) (16 * (1 - y / 16) + q'') b_val 10) b_from b_made b_done b_rows := by
    intro e
    unfold wY_begin_64
    rw [nI_clamp (n := y) (by omega)]
    exact ⟨vp_in_nI hy (by decide), nm_e (w72 _ e.symm)⟩
  rcases hPT with ⟨h1, h2⟩ | ⟨⟨h0, h1⟩, h2⟩
  · by_cases z : 0 < n
    · exact br_t (ze_gt0t z (by omega)) (w64 h2)
    · exact br_f (ze_gt0f (by omega)) (br_t (h1.resolve_left z) (w64 h2))
  · exact br_f (ze_gt0f (by omega)) (br_f h1 (w72 _ h2.symm))
end
end
section
theorem gs_uu {f : Nat → Int32} {k : Nat} {x y : Int32} : upd (upd f k x) k y = upd f k y := by
  funext j
  by_cases e : j = k
  · subst e; rw [pk_us, pk_us]
  · rw [pk_un e, pk_un e, pk_un e]
theorem gs_ui {f : Nat → Int32} {k : Nat} {x : Int32} (h : f k = x) : upd f k x = f := by
  funext j
  by_cases e : j = k
  · subst e; rw [pk_us, h]
  · rw [pk_un e]
def gs_DN (lv up nf nm : Nat → Nat) (c l p Dn : Nat) : Prop := Dn ≤ 30 ∧ ∀ l' p', l' ≤ lv c → p' < nf (gw_al lv up c l') → ((l' < l ∨ (l' = l ∧ p' < p)) → gs_pl lv up nm c l' p' < Dn) ∧ ((l < l' ∨ (l' = l ∧ p ≤ p')) → Dn ≤ gs_pl lv up nm c l' p')
section
variable {D : Nat → Int32} {lv up nf nm kd : Nat → Nat}
theorem gs_pl_b (HW : gw_W D lv up nf nm kd) {c l p : Nat} (hc : c < 12) (hd : D c ≠ 0) (hl : l ≤ lv c) (hp : p < nf (gw_al lv up c l)) : 10 * (2 + l - lv c) ≤ gs_pl lv up nm c l p ∧ gs_pl lv up nm c l p < 10 * (2 + l - lv c) + 10 ∧ gs_pl lv up nm c l p < 30 ∧ gs_pl lv up nm c l p / 10 = 2 + l - lv c ∧ gs_pl lv up nm c l p % 10 = nm (4 * gw_al lv up c l + p) := by
  have g := ((HW _ (gw_al_ok HW hc hd hl).1).2.2.1 p hp).1
  have lc := (HW c hc).2.2.2.2.1
  unfold gs_pl
  omega
theorem gs_pl_lt (HW : gw_W D lv up nf nm kd) {c l p l' p' : Nat} (hc : c < 12) (hd : D c ≠ 0) (hl : l ≤ lv c) (hp : p < nf (gw_al lv up c l)) (hl' : l' ≤ lv c) (hp' : p' < nf (gw_al lv up c l')) (h : l < l' ∨ (l = l' ∧ p < p')) : gs_pl lv up nm c l p < gs_pl lv up nm c l' p' := by
  rcases h with h | ⟨rfl, h⟩
  · have a := gs_pl_b HW hc hd hl hp
    have b := gs_pl_b HW hc hd hl' hp'
    have lc := (HW c hc).2.2.2.2.1
    omega
  · have := gw_nm_lt HW (gw_al_ok HW hc hd hl).1 p' h hp'
    unfold gs_pl
    omega
theorem gs_DN_0 (lv up nf nm : Nat → Nat) (c : Nat) : gs_DN lv up nf nm c 0 0 0 := ⟨by omega, fun l' p' _ _ => ⟨fun h => by omega, fun _ => by omega⟩⟩
theorem gs_DN_n (HW : gw_W D lv up nf nm kd) {c l p : Nat} (hc : c < 12) (hd : D c ≠ 0) (hl : l ≤ lv c) (hp : p < nf (gw_al lv up c l)) : gs_DN lv up nf nm c l (p + 1) (gs_pl lv up nm c l p + 1) := by
  have b := gs_pl_b HW hc hd hl hp
  refine ⟨by omega, fun l' p' hl' hp' => ⟨fun h => ?_, fun h => ?_⟩⟩
  · by_cases e : l' = l ∧ p' = p
    · rw [e.1, e.2]; omega
    · have := gs_pl_lt HW hc hd hl' hp' hl hp (by omega); omega
  · have := gs_pl_lt HW hc hd hl hp hl' hp' (by omega); omega
theorem gs_DN_l {c l p Dn : Nat} (h : gs_DN lv up nf nm c l p Dn) (hp : p = nf (gw_al lv up c l)) : gs_DN lv up nf nm c (l + 1) 0 Dn := by
  refine ⟨h.1, fun l' p' hl' hp' => ⟨fun k => (h.2 l' p' hl' hp').1 ?_, fun k => (h.2 l' p' hl' hp').2 (by omega)⟩⟩
  rcases Nat.lt_or_ge l' l with z | z
  · exact Or.inl z
  · have e : l' = l := by omega
    subst e; exact Or.inr ⟨rfl, by omega⟩
theorem gs_DN_f (HW : gw_W D lv up nf nm kd) {c l p Dn : Nat} (hc : c < 12) (hd : D c ≠ 0) (hl : l ≤ lv c) (hp : p < nf (gw_al lv up c l)) (h : gs_DN lv up nf nm c l p Dn) : Dn ≤ gs_pl lv up nm c l p ∧ ∀ y, Dn ≤ y → y < gs_pl lv up nm c l p → ∀ l' p', l' ≤ lv c → p' < nf (gw_al lv up c l') → gs_pl lv up nm c l' p' ≠ y := by
  refine ⟨(h.2 l p hl hp).2 (Or.inr ⟨rfl, Nat.le_refl _⟩), fun y h1 h2 l' p' hl' hp' e => ?_⟩
  rcases Classical.em (l' < l ∨ (l' = l ∧ p' < p)) with z | z
  · have := (h.2 l' p' hl' hp').1 z; omega
  · by_cases e2 : l' = l ∧ p' = p
    · rw [e2.1, e2.2] at e; omega
    · have := gs_pl_lt HW hc hd hl hp hl' hp' (by omega); omega
theorem gs_DN_e {c l p Dn : Nat} (hl : l = lv c) (hp : p = nf (gw_al lv up c l)) (h : gs_DN lv up nf nm c l p Dn) : ∀ y, Dn ≤ y → ∀ l' p', l' ≤ lv c → p' < nf (gw_al lv up c l') → gs_pl lv up nm c l' p' ≠ y := by
  intro y h1 l' p' hl' hp' e
  have := (h.2 l' p' hl' hp').1 (by
    rcases Nat.lt_or_ge l' l with z | z
    · exact Or.inl z
    · have e2 : l' = l := by omega
      subst e2; exact Or.inr ⟨rfl, by omega⟩)
  omega
end
section
variable {f_end f_at f_written f_read f_error f_culprit f_nextHandle f_depth f_nTodo : Int32} {a_defined a_parent a_level a_version a_fields a_fName a_fKind a_latest a_oClass a_pinned a_handle a_arrived a_handles a_described a_dLevels a_dFields a_plan a_wide a_wire a_order a_made a_sObj a_sLev a_sPos a_sCls a_todo : Nat → Int32} {a_slot a_pairs : Nat → Int64} {g_culprit g_depth g_lastMade : Int32} {b_defined b_version b_parent b_own b_latest b_cls b_partner b_pinned b_arrived b_from b_made b_done b_rows : Nat → Int32} {b_val : Nat → Int64} {lv up nf nm kd : Nat → Nat}
theorem gy_give {post : SY → Prop} {f y m l p : Nat} {v : Int64} (HW : gw_W b_defined lv up nf nm kd) (HY : gw_CY b_defined b_parent b_own lv up nf nm kd) (hf : f < 40) (hy : y < 32) (hm : m < 32) {c : Nat} (hc : c < 12) (hcs : c / 6 = y / 16) (hd : b_defined c ≠ 0) (hd2 : b_defined (gw_mir c) ≠ 0) (hZ : b_cls y = nI (c % 6)) (hl : l ≤ lv c) (hp : p < nf (gw_al lv up c l))
    (e1 : b_from f = nI y) (e2 : b_made f = nI m) (e3 : b_done f = nI (gs_pl lv up nm c l p))
    (K1 : gs_pn b_defined lv up nf nm c l p → post (g_culprit, g_depth, g_lastMade, b_defined, b_version, b_parent, b_own, b_latest, b_cls, b_partner, b_pinned, b_arrived, vp_updL b_val (10 * m + nm (4 * gw_al lv up c l + p)) v, b_from, b_made, upd b_done f (nI (gs_pl lv up nm c l p + 1)), b_rows))
    (K0 : ¬ gs_pn b_defined lv up nf nm c l p → post (g_culprit, g_depth, g_lastMade, b_defined, b_version, b_parent, b_own, b_latest, b_cls, b_partner, b_pinned, b_arrived, b_val, b_from, b_made, upd b_done f (nI (gs_pl lv up nm c l p + 1)), b_rows)) : wpY_give post (g_culprit, g_depth, g_lastMade, b_defined, b_version, b_parent, b_own, b_latest, b_cls, b_partner, b_pinned, b_arrived, b_val, b_from, b_made, b_done, b_rows) (nI f) v := by
  obtain ⟨x1, x2, x3, x4⟩ := gw_al_ok HW hc hd hl
  have lc := (HW c hc).2.2.2.2.1
  obtain ⟨b1, b2, b3, b4, b5⟩ := gs_pl_b HW hc hd hl hp
  have g := ((HW _ x1).2.2.1 p hp).1
  have m12 := gw_mir_lt hc
  have mdiv := gw_mir_div hc
  have mmod := gw_mir_mod hc
  have a12 := gw_mir_lt x1
  have adiv := gw_mir_div x1
  have amod := gw_mir_mod x1
  have ec : 6 * (y / 16) + c % 6 = c := by omega
  have em : 6 * (1 - y / 16) + c % 6 = gw_mir c := by omega
  have eb : 6 * (1 - y / 16) + gw_al lv up c l % 6 = gw_mir (gw_al lv up c l) := by omega
  have d111 : ∀ V, post (g_culprit, g_depth, g_lastMade, b_defined, b_version, b_parent, b_own, b_latest, b_cls, b_partner, b_pinned, b_arrived, V, b_from, b_made, upd b_done f (nI (gs_pl lv up nm c l p + 1)), b_rows) → wY_give_111 post (nI f) g_culprit g_depth g_lastMade b_defined b_version b_parent b_own b_latest b_cls b_partner b_pinned b_arrived V b_from b_made b_done b_rows := by
    intro V h
    unfold wY_give_111
    rw [nI_clamp (n := f) (by omega), e3, nI_1]
    exact ⟨vp_in_nI hf (by decide), vp_in_nI hf (by decide), nm_e h⟩
  unfold wpY_give; dsimp only
  rw [nI_clamp (n := f) (by omega), e1, e2, e3]
  refine ⟨vp_in_nI hf (by decide), nm_e ⟨vp_in_nI hf (by decide), nm_e ⟨by decide, nm_r (ze_div16 (by omega)) (nm_r (ze_1sub (by omega)) ⟨vp_in_nI hf (by decide), by decide, ?_⟩)⟩⟩⟩
  rw [ze_rem10 (by omega), ze_div10 (by omega), b4, b5, nI_clamp (n := y) (by omega), hZ, ze_2sub (by omega), show 2 - (2 + l - lv c) = lv c - l from by omega]
  refine nm_e ⟨vp_in_nI hy (by decide), vp_in_nI hf (by decide), by decide, ?_⟩
  refine gy_chain HW HY (by omega) (by omega) (by rw [ec]; exact hd) (by omega) ⟨vp_in_nI hy (by decide), ?_⟩
  rw [ec, gw_ch_t (by omega)]
  have ea : gw_an up (lv c - l) c = gw_al lv up c l := rfl
  rw [ea]
  refine gy_in HW HY (by omega) (by omega) (by omega) (by rw [em]; exact hd2) (fun hic => br_f (by decide) ?_) (fun hic => br_t rfl (d111 _ (K0 fun h => ?_)))
  · rw [em, eb] at hic
    refine gy_own (by omega) (by omega) g ?_
    rw [eb]
    rcases gw_ownC HY a12 g with ⟨k, hk, q1, q2⟩ | ⟨hno, q2⟩
    · have gk := ((HW _ a12).2.2.1 k hk).2
      rw [q2]
      refine br_f (nI_pos (by omega)) ?_
      rw [ze_mul10, nI_add, nI_clamp (n := 10 * m + nm (4 * gw_al lv up c l + p)) (by omega)]
      exact ⟨vp_in_nI (by omega) (by decide), nm_e (d111 _ (K1 ⟨hic, k, hk, q1⟩))⟩
    · rw [q2]
      exact br_t (by decide) (d111 _ (K0 fun ⟨_, k, hk, h⟩ => hno k hk h))
  · rw [em, eb] at hic
    exact hic h.1
/-- the reference at a field -/
theorem gy_goF {post : Int32 → SY → Prop} {n y m l p : Nat} {x : Int32} (HW : gw_W b_defined lv up nf nm kd) (HY : gw_CY b_defined b_parent b_own lv up nf nm kd) (hn : n < 40) (hy : y < 32) {c : Nat} (hc : c < 12) (hcs : c / 6 = y / 16) (hd : b_defined c ≠ 0) (hZ : b_cls y = nI (c % 6)) (hl : l ≤ lv c) (hp : p < nf (gw_al lv up c l))
    (e1 : b_from n = nI y) (e2 : b_made n = nI m) (e3 : b_done n = nI (gs_pl lv up nm c l p))
    (K : wY_goOn_128 post x (nI n) (nI y) (nI (nm (4 * gw_al lv up c l + p))) (nI (kd (4 * gw_al lv up c l + p))) g_culprit (nI (n + 1)) g_lastMade b_defined b_version b_parent b_own b_latest b_cls b_partner b_pinned b_arrived b_val b_from b_made b_done b_rows) : wpY_goOn post (g_culprit, nI (n + 1), g_lastMade, b_defined, b_version, b_parent, b_own, b_latest, b_cls, b_partner, b_pinned, b_arrived, b_val, b_from, b_made, b_done, b_rows) x := by
  obtain ⟨x1, x2, x3, x4⟩ := gw_al_ok HW hc hd hl
  have lc := (HW c hc).2.2.2.2.1
  obtain ⟨b1, b2, b3, b4, b5⟩ := gs_pl_b HW hc hd hl hp
  have g := ((HW _ x1).2.2.1 p hp).1
  have ec : 6 * (y / 16) + c % 6 = c := by omega
  have ea2 : 6 * (y / 16) + gw_al lv up c l % 6 = gw_al lv up c l := by omega
  unfold wpY_goOn; dsimp only
  refine nm_r (nI_pred n) ⟨vp_in_nI hn (by decide), ?_⟩
  rw [nI_clamp (n := n) (by omega), e1, e2, e3]
  refine nm_e ⟨vp_in_nI hn (by decide), nm_e ⟨vp_in_nI hn (by decide), nm_e (br_f (ze_eq30f (by omega) (by omega)) ⟨by decide, nm_r (ze_div16 (by omega)) ⟨vp_in_nI hy (by decide), by decide, ?_⟩⟩)⟩⟩
  rw [ze_rem10 (by omega), ze_div10 (by omega), b4, b5, nI_clamp (n := y) (by omega), hZ, ze_2sub (by omega), show 2 - (2 + l - lv c) = lv c - l from by omega]
  refine gy_chain HW HY (by omega) (by omega) (by rw [ec]; exact hd) (by omega) ⟨by decide, nm_e ?_⟩
  rw [ec, gw_ch_t (by omega)]
  have ea : gw_an up (lv c - l) c = gw_al lv up c l := rfl
  rw [ea]
  refine br_t (nI_pos' (by omega)) (gy_own (by omega) (by omega) g ?_)
  rw [ea2, (HY _ x1).1 p hp]
  exact K
/-- .. at a place without a field -/
theorem gy_goS {post : Int32 → SY → Prop} {n y m Dn : Nat} {x : Int32} (HW : gw_W b_defined lv up nf nm kd) (HY : gw_CY b_defined b_parent b_own lv up nf nm kd) (hn : n < 40) (hy : y < 32) {c : Nat} (hc : c < 12) (hcs : c / 6 = y / 16) (hd : b_defined c ≠ 0) (hZ : b_cls y = nI (c % 6)) (hD : Dn < 30)
    (hno : ∀ l p, l ≤ lv c → p < nf (gw_al lv up c l) → gs_pl lv up nm c l p ≠ Dn) (e1 : b_from n = nI y) (e2 : b_made n = nI m) (e3 : b_done n = nI Dn)
    (K : post 0 (g_culprit, nI (n + 1), g_lastMade, b_defined, b_version, b_parent, b_own, b_latest, b_cls, b_partner, b_pinned, b_arrived, b_val, b_from, b_made, upd b_done n (nI (Dn + 1)), b_rows)) : wpY_goOn post (g_culprit, nI (n + 1), g_lastMade, b_defined, b_version, b_parent, b_own, b_latest, b_cls, b_partner, b_pinned, b_arrived, b_val, b_from, b_made, b_done, b_rows) x := by
  have lc := (HW c hc).2.2.2.2.1
  have ec : 6 * (y / 16) + c % 6 = c := by omega
  have s128 : wY_goOn_128 post x (nI n) (nI y) (nI (Dn % 10)) (-1) g_culprit (nI (n + 1)) g_lastMade b_defined b_version b_parent b_own b_latest b_cls b_partner b_pinned b_arrived b_val b_from b_made b_done b_rows := by
    unfold wY_goOn_128 wY_goOn_202
    rw [nI_clamp (n := n) (by omega), e3, nI_1]
    exact br_f (by decide) (br_t (by decide) ⟨vp_in_nI hn (by decide), vp_in_nI hn (by decide), nm_e K⟩)
  unfold wpY_goOn; dsimp only
  refine nm_r (nI_pred n) ⟨vp_in_nI hn (by decide), ?_⟩
  rw [nI_clamp (n := n) (by omega), e1, e2, e3]
  refine nm_e ⟨vp_in_nI hn (by decide), nm_e ⟨vp_in_nI hn (by decide), nm_e (br_f (ze_eq30f (by omega) (by omega)) ⟨by decide, nm_r (ze_div16 (by omega)) ⟨vp_in_nI hy (by decide), by decide, ?_⟩⟩)⟩⟩
  rw [ze_rem10 (by omega), ze_div10 (by omega), nI_clamp (n := y) (by omega), hZ, ze_2sub (by omega)]
  refine gy_chain HW HY (by omega) (by omega) (by rw [ec]; exact hd) (by omega) ⟨by decide, nm_e ?_⟩
  rw [ec]
  rcases Nat.lt_or_ge (lv c) (2 - Dn / 10) with z | z
  · rw [gw_ch_f z]
    exact br_f (by decide) s128
  · rw [gw_ch_t z]
    obtain ⟨i1, i2, i3, i4⟩ := gw_an_ok HW (2 - Dn / 10) c hc hd z
    have ea : gw_al lv up c (lv c - (2 - Dn / 10)) = gw_an up (2 - Dn / 10) c := gw_al_an lv up z
    have ea2 : 6 * (y / 16) + gw_an up (2 - Dn / 10) c % 6 = gw_an up (2 - Dn / 10) c := by omega
    refine br_t (nI_pos' (by omega)) (gy_own (by omega) (by omega) (by omega) ?_)
    rw [ea2]
    rcases gw_ownC HY i1 (x := Dn % 10) (by omega) with ⟨k, hk, q1, q2⟩ | ⟨_, q2⟩
    · refine absurd ?_ (hno (lv c - (2 - Dn / 10)) k (by omega) (by rw [ea]; exact hk))
      unfold gs_pl
      rw [ea, q1]
      omega
    · rw [q2]
      exact s128
theorem gy_skip {q : Int32 → SY → Prop} {x2 x3 : Int32} {n y m : Nat} (HW : gw_W b_defined lv up nf nm kd) (HY : gw_CY b_defined b_parent b_own lv up nf nm kd) (hn : n < 40) (hy : y < 32) {c : Nat} (hc : c < 12) (hcs : c / 6 = y / 16) (hd : b_defined c ≠ 0) (hZ : b_cls y = nI (c % 6))
    (e1 : b_from n = nI y) (e2 : b_made n = nI m) {D1 : Nat} (hD1 : D1 ≤ 30) (h : ∃ k, wY_send_84 q x2 x3 k 0 g_culprit (nI (n + 1)) g_lastMade b_defined b_version b_parent b_own b_latest b_cls b_partner b_pinned b_arrived b_val b_from b_made (upd b_done n (nI D1)) b_rows) :
    ∀ d Dn, Dn + d = D1 → (∀ z, Dn ≤ z → z < D1 → ∀ l p, l ≤ lv c → p < nf (gw_al lv up c l) → gs_pl lv up nm c l p ≠ z) → ∃ k, wY_send_84 q x2 x3 k 0 g_culprit (nI (n + 1)) g_lastMade b_defined b_version b_parent b_own b_latest b_cls b_partner b_pinned b_arrived b_val b_from b_made (upd b_done n (nI Dn)) b_rows := by
  intro d
  induction d with
  | zero =>
    intro Dn e _
    have : Dn = D1 := by omega
    subst this; exact h
  | succ d ih =>
    intro Dn e hno
    obtain ⟨k, hk⟩ := ih (Dn + 1) (by omega) (fun z h1 h2 => hno z (by omega) h2)
    refine ⟨k + 1, ?_⟩
    rw [wY_send_84]
    dsimp only
    refine br_t rfl (br_f (ze_le0f (by omega) (by omega)) ?_)
    refine gy_goS (Dn := Dn) HW HY hn hy hc hcs hd hZ (by omega) (hno Dn (by omega) (by omega)) e1 e2 pk_us ?_
    dsimp only
    rw [gs_uu]
    exact hk
end
end
section
/-! the lockstep's invariant -/
noncomputable def gs_ov (D : Nat → Int32) (lv up nf nm : Nat → Nat) (C0 : Nat → Int32) : Nat → List (Nat × Nat × Nat) → List Nat → (Nat → Int64) → (Nat → Int64)
  | _, [], _, V => V
  | _, _ :: _, [], V => V
  | ch, f :: S, m :: M, V => @ite _ (gs_pn D lv up nf nm (gw_kl C0 f.1) f.2.1 (f.2.2 - 1)) (Classical.propDecidable _) (vp_updL (gs_ov D lv up nf nm C0 m S M V) (10 * m + nm (4 * gw_al lv up (gw_kl C0 f.1) f.2.1 + (f.2.2 - 1))) (lN ch)) (gs_ov D lv up nf nm C0 m S M V)
noncomputable def gs_vv (D : Nat → Int32) (lv up nf nm : Nat → Nat) (C0 : Nat → Int32) : List (Nat × Nat × Nat) → List Nat → (Nat → Int64) → (Nat → Int64)
  | [], _, V => V
  | _ :: _, [], V => V
  | _ :: S, m :: M, V => gs_ov D lv up nf nm C0 m S M V
section
variable {D C0 : Nat → Int32} {lv up nf nm : Nat → Nat}
theorem gs_ov_t {ch m : Nat} {f : Nat × Nat × Nat} {S : List (Nat × Nat × Nat)} {M : List Nat} {V : Nat → Int64} (h : gs_pn D lv up nf nm (gw_kl C0 f.1) f.2.1 (f.2.2 - 1)) : gs_ov D lv up nf nm C0 ch (f :: S) (m :: M) V = vp_updL (gs_ov D lv up nf nm C0 m S M V) (10 * m + nm (4 * gw_al lv up (gw_kl C0 f.1) f.2.1 + (f.2.2 - 1))) (lN ch) := by
  rw [gs_ov, if_pos h]
theorem gs_ov_f {ch m : Nat} {f : Nat × Nat × Nat} {S : List (Nat × Nat × Nat)} {M : List Nat} {V : Nat → Int64} (h : ¬ gs_pn D lv up nf nm (gw_kl C0 f.1) f.2.1 (f.2.2 - 1)) : gs_ov D lv up nf nm C0 ch (f :: S) (m :: M) V = gs_ov D lv up nf nm C0 m S M V := by
  rw [gs_ov, if_neg h]
theorem gs_ov_c {V V' : Nat → Int64} {y : Nat} (h : V y = V' y) : ∀ {ch : Nat} {S : List (Nat × Nat × Nat)} {M : List Nat}, gs_ov D lv up nf nm C0 ch S M V y = gs_ov D lv up nf nm C0 ch S M V' y
  | _, [], _ => by rw [gs_ov, gs_ov]; exact h
  | _, _ :: _, [] => by rw [gs_ov, gs_ov]; exact h
  | ch, f :: S, m :: M => by
    have ih := gs_ov_c h (ch := m) (S := S) (M := M)
    rcases Classical.em (gs_pn D lv up nf nm (gw_kl C0 f.1) f.2.1 (f.2.2 - 1)) with z | z
    · rw [gs_ov_t z, gs_ov_t z]
      by_cases e : y = 10 * m + nm (4 * gw_al lv up (gw_kl C0 f.1) f.2.1 + (f.2.2 - 1))
      · rw [e, pk_uLs, pk_uLs]
      · rw [pk_uLn e, pk_uLn e]; exact ih
    · rw [gs_ov_f z, gs_ov_f z]; exact ih
theorem gs_ov_o {V : Nat → Int64} {y : Nat} : ∀ {ch : Nat} {S : List (Nat × Nat × Nat)} {M : List Nat}, (∀ f, f ∈ S → nm (4 * gw_al lv up (gw_kl C0 f.1) f.2.1 + (f.2.2 - 1)) < 10) → y / 10 ∉ M → gs_ov D lv up nf nm C0 ch S M V y = V y
  | _, [], _, _, _ => by rw [gs_ov]
  | _, _ :: _, [], _, _ => by rw [gs_ov]
  | ch, f :: S, m :: M, h, hy => by
    have ih := gs_ov_o (V := V) (ch := m) (S := S) (M := M) (fun g hg => h g (List.mem_cons_of_mem _ hg)) (fun k => hy (List.mem_cons_of_mem _ k))
    have h1 := h f (List.mem_cons_self ..)
    rcases Classical.em (gs_pn D lv up nf nm (gw_kl C0 f.1) f.2.1 (f.2.2 - 1)) with z | z
    · rw [gs_ov_t z, pk_uLn]
      · exact ih
      · intro e
        exact hy (by rw [show y / 10 = m from by omega]; exact List.mem_cons_self ..)
    · rw [gs_ov_f z]; exact ih
theorem gs_ov_u {V : Nat → Int64} {y : Nat} {v : Int64} {ch : Nat} {S : List (Nat × Nat × Nat)} {M : List Nat} (h : ∀ f, f ∈ S → nm (4 * gw_al lv up (gw_kl C0 f.1) f.2.1 + (f.2.2 - 1)) < 10) (hy : y / 10 ∉ M) : gs_ov D lv up nf nm C0 ch S M (vp_updL V y v) = vp_updL (gs_ov D lv up nf nm C0 ch S M V) y v := by
  funext z
  by_cases e : z = y
  · subst e
    rw [pk_uLs, gs_ov_o h hy, pk_uLs]
  · rw [pk_uLn e]
    exact gs_ov_c (pk_uLn e)
end
def gs_JS (C0 C sO sL sP sC fr ma : Nat → Int32) (s : Nat) : List (Nat × Nat × Nat) → List Nat → Prop
  | [], [] => True
  | [], _ :: _ => False
  | _ :: _, [] => False
  | f :: S, m :: M => (sO S.length = nI m ∧ sL S.length = nI f.2.1 ∧ sP S.length = nI f.2.2 ∧ sC S.length = nI (gw_kl C0 f.1) ∧ fr S.length = nI f.1 ∧ ma S.length = nI m ∧ m < 32 ∧ m / 16 = 1 - s ∧ C m = nI (gw_mir (gw_kl C0 f.1)) ∧ m ∉ M ∧ C0 m = -1) ∧ gs_JS C0 C sO sL sP sC fr ma s S M
theorem gs_JS_k {C0 C C' sO sL sP sC fr ma sO' sL' sP' sC' fr' ma' : Nat → Int32} {s : Nat} : ∀ {S : List (Nat × Nat × Nat)} {M : List Nat}, gs_JS C0 C sO sL sP sC fr ma s S M → (∀ i, i < S.length → sO' i = sO i ∧ sL' i = sL i ∧ sP' i = sP i ∧ sC' i = sC i ∧ fr' i = fr i ∧ ma' i = ma i) → (∀ m, m ∈ M → C' m = C m) → gs_JS C0 C' sO' sL' sP' sC' fr' ma' s S M
  | [], [], _, _, _ => trivial
  | [], _ :: _, h, _, _ => h
  | _ :: _, [], h, _, _ => h
  | f :: S, m :: M, h, k, kc => by
    obtain ⟨⟨h1, h2, h3, h4, h5, h6, h7, h8, h9, h10⟩, h11⟩ := h
    obtain ⟨k1, k2, k3, k4, k5, k6⟩ := k S.length (by simp)
    exact ⟨⟨by rw [k1, h1], by rw [k2, h2], by rw [k3, h3], by rw [k4, h4], by rw [k5, h5], by rw [k6, h6], h7, h8, by rw [kc m (List.mem_cons_self ..), h9], h10⟩, gs_JS_k h11 (fun i hi => k i (by simp; omega)) (fun x hx => kc x (List.mem_cons_of_mem _ hx))⟩
theorem gs_JS_m {C0 C sO sL sP sC fr ma : Nat → Int32} {s : Nat} : ∀ {S : List (Nat × Nat × Nat)} {M : List Nat}, gs_JS C0 C sO sL sP sC fr ma s S M → ∀ m, m ∈ M → ∃ f, f ∈ S ∧ C m = nI (gw_mir (gw_kl C0 f.1))
  | [], [], _, m, hm => by simp at hm
  | [], _ :: _, h, _, _ => h.elim
  | _ :: _, [], h, _, _ => h.elim
  | f :: S, m :: M, h, x, hx => by
    rcases List.mem_cons.mp hx with e | e
    · subst e; exact ⟨f, List.mem_cons_self .., h.1.2.2.2.2.2.2.2.2.1⟩
    · obtain ⟨g, g1, g2⟩ := gs_JS_m h.2 x e
      exact ⟨g, List.mem_cons_of_mem _ g1, g2⟩
def gs_pd (lv up nf nm kd : Nat → Nat) (C0 dn : Nat → Int32) : List (Nat × Nat × Nat) → Prop
  | [] => True
  | f :: S => (∃ p', f.2.2 = p' + 1 ∧ p' < nf (gw_al lv up (gw_kl C0 f.1) f.2.1) ∧ kd (4 * gw_al lv up (gw_kl C0 f.1) f.2.1 + p') = 4 ∧ dn S.length = nI (gs_pl lv up nm (gw_kl C0 f.1) f.2.1 p')) ∧ gs_pd lv up nf nm kd C0 dn S
theorem gs_pd_k {lv up nf nm kd : Nat → Nat} {C0 dn dn' : Nat → Int32} : ∀ {S : List (Nat × Nat × Nat)}, gs_pd lv up nf nm kd C0 dn S → (∀ i, i < S.length → dn' i = dn i) → gs_pd lv up nf nm kd C0 dn' S
  | [], _, _ => trivial
  | f :: S, h, k => by
    obtain ⟨⟨p', h1, h2, h3, h4⟩, h5⟩ := h
    exact ⟨⟨p', h1, h2, h3, by rw [k S.length (by simp), h4]⟩, gs_pd_k h5 (fun i hi => k i (by simp; omega))⟩
theorem gs_pd_m {lv up nf nm kd : Nat → Nat} {C0 dn : Nat → Int32} : ∀ {S : List (Nat × Nat × Nat)}, gs_pd lv up nf nm kd C0 dn S → ∀ f, f ∈ S → f.2.2 - 1 < nf (gw_al lv up (gw_kl C0 f.1) f.2.1)
  | [], _, f, hf => by simp at hf
  | g :: S, h, f, hf => by
    rcases List.mem_cons.mp hf with e | e
    · subst e
      obtain ⟨⟨p', h1, h2, _⟩, _⟩ := h
      rw [h1]; exact h2
    · exact gs_pd_m h.2 f e
def gs_dn (lv up nf nm kd : Nat → Nat) (C0 dn : Nat → Int32) : List (Nat × Nat × Nat) → Prop
  | [] => True
  | f :: S => (∃ Dn, dn S.length = nI Dn ∧ gs_DN lv up nf nm (gw_kl C0 f.1) f.2.1 f.2.2 Dn) ∧ gs_pd lv up nf nm kd C0 dn S
def gs_bt (x0 : Nat) (lm : Int32) : List Nat → Prop
  | [] => lm = nI x0
  | [m] => m = x0
  | _ :: m :: M => gs_bt x0 lm (m :: M)
theorem gs_bt_k {x0 : Nat} {lm lm' : Int32} : ∀ {M : List Nat}, M ≠ [] → gs_bt x0 lm M → gs_bt x0 lm' M
  | [], h, _ => absurd rfl h
  | [_], _, h => h
  | _ :: m :: M, _, h => gs_bt_k (M := m :: M) (by simp) h
def gs_J4 (C0 C : Nat → Int32) (S0 V0 Sl VL : Nat → Int64) : Prop := ∀ o, o < 32 → C0 o ≠ -1 → C o = C0 o ∧ (∀ i, i < 12 → Sl (12 * o + i) = S0 (12 * o + i)) ∧ ∀ x, x < 10 → VL (10 * o + x) = V0 (10 * o + x)
def gs_J5 (s : Nat) (C0 C MD YA : Nat → Int32) (mc : Nat → Nat) (wr : Nat) : Prop :=
  (∀ i, i < wr → MD i = nI (mc i) ∧ mc i < 32 ∧ mc i / 16 = 1 - s ∧ C0 (mc i) = -1 ∧ C (mc i) ≠ -1) ∧ (∀ i j, i < j → j < wr → mc i ≠ mc j) ∧ (∀ o, o < 32 → C o ≠ -1 → C0 o ≠ -1 ∨ ∃ i, i < wr ∧ mc i = o) ∧ (∀ o, o < 32 → (YA o ≠ 0 ↔ ∃ i, i < wr ∧ mc i = o))
def gs_J6 (s : Nat) (C0 PT0 AR0 C AR PT : Nat → Int32) (h : Nat → Nat) (H : Nat) (pq : Nat → Nat) : Prop :=
  (∀ z, z < 32 → z / 16 = s → (h z = 0 → PT z = -1) ∧ (h z ≠ 0 → h z ≤ H ∧ pq z < 32 ∧ pq z / 16 = 1 - s ∧ C (pq z) ≠ -1 ∧ AR (17 * s + h z) = nI (pq z) ∧ PT z = nI (pq z) ∧ C0 z ≠ -1)) ∧ (∀ z, z < 32 → z / 16 ≠ s → PT z = PT0 z) ∧ (∀ i, i / 17 ≠ s → AR i = AR0 i)
def gs_J (D Vn C0 : Nat → Int32) (S0 V0 : Nat → Int64) (PT0 AR0 : Nat → Int32) (lv up nf nm kd : Nat → Nat) (s x0 : Nat) (stk : List (Nat × Nat × Nat)) (ms : List Nat) (h : Nat → Nat) (H : Nat) (d : Nat → Prop) (wr : Nat)
    (C AR dL dF PL WD MD sO sL sP sC Z PT YA fr ma dn : Nat → Int32) (lm : Int32) (Sl VL : Nat → Int64) (mc pq : Nat → Nat) : Prop :=
  gs_JS C0 C sO sL sP sC fr ma s stk ms ∧ gs_dn lv up nf nm kd C0 dn stk ∧ (∀ f, f ∈ stk → gs_FO lv up nf C0 s f ∧ d (gw_kl C0 f.1)) ∧ gs_bt x0 lm ms ∧ gw_O D C Z ∧ gw_V lv up nf nm kd C Sl (gs_vv D lv up nf nm C0 stk ms VL) ∧ gs_J4 C0 C S0 V0 Sl VL ∧ gs_J5 s C0 C MD YA mc wr ∧ gs_J6 s C0 PT0 AR0 C AR PT h H pq ∧ (∀ c, c < 12 → d c → gw_D1 D Vn dL dF PL WD lv up nf nm kd c)
section
variable {f_end f_at f_written f_read f_error f_culprit f_nextHandle f_depth f_nTodo : Int32} {a_defined a_parent a_level a_version a_fields a_fName a_fKind a_latest a_oClass a_pinned a_handle a_arrived a_handles a_described a_dLevels a_dFields a_plan a_wide a_wire a_order a_made a_sObj a_sLev a_sPos a_sCls a_todo : Nat → Int32} {a_slot a_pairs : Nat → Int64} {g_culprit g_depth g_lastMade : Int32} {b_defined b_version b_parent b_own b_latest b_cls b_partner b_pinned b_arrived b_from b_made b_done b_rows : Nat → Int32} {b_val : Nat → Int64} {lv up nf nm kd : Nat → Nat}
theorem gx_store {post : Int32 → SX → Prop} {J : Int32 → Int32 → Int32 → Int32 → Int32 → Int32 → Int32 → Int32 → Int32 → (Nat → Int32) → (Nat → Int32) → (Nat → Int32) → (Nat → Int32) → (Nat → Int32) → (Nat → Int32) → (Nat → Int32) → (Nat → Int32) → (Nat → Int32) → (Nat → Int32) → (Nat → Int64) → (Nat → Int32) → (Nat → Int32) → (Nat → Int32) → (Nat → Int32) → (Nat → Int32) → (Nat → Int32) → (Nat → Int32) → (Nat → Int32) → (Nat → Int32) → (Nat → Int32) → (Nat → Int32) → (Nat → Int32) → (Nat → Int32) → (Nat → Int32) → (Nat → Int32) → (Nat → Int64) → (Nat → Int32) → Prop} {x1 x2 : Int32} {c l p m : Nat} {v : Int64} (HW : gw_W a_defined lv up nf nm kd) (hc : c < 12) (hm : m < 32) (hD1 : gw_D1 a_defined a_version a_dLevels a_dFields a_plan a_wide lv up nf nm kd c) (hl : l ≤ lv c) (hp : p < nf (gw_al lv up c l))
    (K1 : ∀ j mm, gs_pn a_defined lv up nf nm c l p → j ≤ lv (gw_mir c) → mm < nf (gw_al lv up (gw_mir c) j) → gw_al lv up (gw_mir c) j = gw_mir (gw_al lv up c l) → nm (4 * gw_al lv up (gw_mir c) j + mm) = nm (4 * gw_al lv up c l + p) → kd (4 * gw_al lv up (gw_mir c) j + mm) = kd (4 * gw_al lv up c l + p) → J f_end f_at f_written f_read f_error f_culprit f_nextHandle f_depth f_nTodo a_defined a_parent a_level a_version a_fields a_fName a_fKind a_latest a_oClass a_pinned (vp_updL a_slot (12 * m + 4 * j + mm) v) a_handle a_arrived a_handles a_described a_dLevels a_dFields a_plan a_wide a_wire a_order a_made a_sObj a_sLev a_sPos a_sCls a_pairs a_todo)
    (K0 : ¬ gs_pn a_defined lv up nf nm c l p → J f_end f_at f_written f_read f_error f_culprit f_nextHandle f_depth f_nTodo a_defined a_parent a_level a_version a_fields a_fName a_fKind a_latest a_oClass a_pinned a_slot a_handle a_arrived a_handles a_described a_dLevels a_dFields a_plan a_wide a_wire a_order a_made a_sObj a_sLev a_sPos a_sCls a_pairs a_todo) : wX_readAll_142 post J x1 x2 (nI (12 * c + 4 * l + p)) (nI m) v f_end f_at f_written f_read f_error f_culprit f_nextHandle f_depth f_nTodo a_defined a_parent a_level a_version a_fields a_fName a_fKind a_latest a_oClass a_pinned a_slot a_handle a_arrived a_handles a_described a_dLevels a_dFields a_plan a_wide a_wire a_order a_made a_sObj a_sLev a_sPos a_sCls a_pairs a_todo := by
  obtain ⟨d1, d2, d3, d4⟩ := hD1
  obtain ⟨l1, l2, l3⟩ := d4 l hl
  obtain ⟨w1, w2⟩ := l3 p hp
  have lc := (HW c hc).2.2.2.2.1
  obtain ⟨x1', x2', x3', x4'⟩ := gw_al_ok HW hc d1 hl
  have fa := (HW _ x1').1
  have b12 := gw_mir_lt x1'
  have fb := (HW _ b12).1
  have lb := (HW _ b12).2.2.2.2.1
  unfold wX_readAll_142
  rw [nI_clamp (n := 12 * c + 4 * l + p) (by omega)]
  refine ⟨vp_in_nI (by omega) (by decide), ?_⟩
  rcases w2 with ⟨hic, mm, hmm, e1, e2⟩ | ⟨e2, hno⟩
  · rw [e2]
    refine br_f (nI_pos (by omega)) ⟨vp_in_nI (by omega) (by decide), ?_⟩
    rw [ze_mul12, nI_add, nI_clamp (n := 12 * m + (4 * lv (gw_mir (gw_al lv up c l)) + mm)) (by omega), ← Nat.add_assoc]
    refine ⟨vp_in_nI (by omega) (by decide), nm_e (K1 (lv (gw_mir (gw_al lv up c l))) mm ⟨hic, mm, hmm, e1⟩ hic.2.1 ?_ hic.2.2 ?_ ?_)⟩
    · rw [hic.2.2]; exact hmm
    · rw [hic.2.2]; exact e1
    · rw [hic.2.2]
      exact ((l1 hic).2 p mm hp hmm e1.symm).symm
  · rw [e2]
    exact br_t (by decide) (K0 fun ⟨hic, mm, hmm, e1⟩ => hno hic mm hmm e1)
/-- the reference gives a value at the top -/
theorem gy_fieldG {post : Int32 → SY → Prop} {n y m l p : Nat} {x : Int32} {w : Int64} (HW : gw_W b_defined lv up nf nm kd) (HY : gw_CY b_defined b_parent b_own lv up nf nm kd) (hn : n < 40) (hy : y < 32) (hm : m < 32) {c : Nat} (hc : c < 12) (hcs : c / 6 = y / 16) (hd : b_defined c ≠ 0) (hd2 : b_defined (gw_mir c) ≠ 0) (hZ : b_cls y = nI (c % 6)) (hl : l ≤ lv c) (hp : p < nf (gw_al lv up c l))
    (e1 : b_from n = nI y) (e2 : b_made n = nI m) (e3 : b_done n = nI (gs_pl lv up nm c l p))
    (hw : (kd (4 * gw_al lv up c l + p) ≠ 4 ∧ w = b_val (10 * y + nm (4 * gw_al lv up c l + p))) ∨ (kd (4 * gw_al lv up c l + p) = 4 ∧ b_val (10 * y + nm (4 * gw_al lv up c l + p)) = -1 ∧ w = -1) ∨ (kd (4 * gw_al lv up c l + p) = 4 ∧ ∃ z q, z < 32 ∧ q < 32 ∧ b_val (10 * y + nm (4 * gw_al lv up c l + p)) = lN z ∧ b_partner z = nI q ∧ w = lN q))
    (K1 : gs_pn b_defined lv up nf nm c l p → post 0 (g_culprit, nI (n + 1), g_lastMade, b_defined, b_version, b_parent, b_own, b_latest, b_cls, b_partner, b_pinned, b_arrived, vp_updL b_val (10 * m + nm (4 * gw_al lv up c l + p)) w, b_from, b_made, upd b_done n (nI (gs_pl lv up nm c l p + 1)), b_rows))
    (K0 : ¬ gs_pn b_defined lv up nf nm c l p → post 0 (g_culprit, nI (n + 1), g_lastMade, b_defined, b_version, b_parent, b_own, b_latest, b_cls, b_partner, b_pinned, b_arrived, b_val, b_from, b_made, upd b_done n (nI (gs_pl lv up nm c l p + 1)), b_rows)) : wpY_goOn post (g_culprit, nI (n + 1), g_lastMade, b_defined, b_version, b_parent, b_own, b_latest, b_cls, b_partner, b_pinned, b_arrived, b_val, b_from, b_made, b_done, b_rows) x := by
  obtain ⟨x1, x2, x3, x4⟩ := gw_al_ok HW hc hd hl
  have g := (HW _ x1).2.2.1 p hp
  refine gy_goF HW HY hn hy hc hcs hd hZ hl hp e1 e2 e3 ?_
  unfold wY_goOn_128 wY_goOn_202
  rw [ze_mul10, nI_add, nI_clamp (n := 10 * y + nm (4 * gw_al lv up c l + p)) (by omega)]
  rcases hw with ⟨k4, ew⟩ | ⟨k4, ev, ew⟩ | ⟨k4, z, q, hz, hq, ev, ep, ew⟩
  · subst ew
    refine br_f (ze_eq4f k4 (by omega)) (br_f (nI_pos (by omega)) ⟨vp_in_nI (by omega) (by decide), gy_give HW HY hn hy hm hc hcs hd hd2 hZ hl hp e1 e2 e3 (fun h => ?_) (fun h => ?_)⟩)
    · exact K1 h
    · exact K0 h
  · subst ew
    rw [ev]
    refine br_t (ze_eq4t k4) ⟨vp_in_nI (by omega) (by decide), br_t gl_m1lt (br_f (nI_pos (by omega)) ⟨vp_in_nI (by omega) (by decide), gy_give HW HY hn hy hm hc hcs hd hd2 hZ hl hp e1 e2 e3 (fun h => ?_) (fun h => ?_)⟩)⟩
    · exact K1 h
    · exact K0 h
  · subst ew
    rw [ev]
    refine br_t (ze_eq4t k4) ⟨vp_in_nI (by omega) (by decide), br_f (gl_nlt (by omega)) ⟨vp_in_nI (by omega) (by decide), nm_r (lN_i z) ⟨vp_in_nI hz (by decide), ?_⟩⟩⟩
    rw [nI_clamp (n := z) (by omega), ep, nI_l (by omega)]
    refine br_t (nI_pos' (by omega)) ⟨vp_in_nI hz (by decide), gy_give HW HY hn hy hm hc hcs hd hd2 hZ hl hp e1 e2 e3 (fun h => ?_) (fun h => ?_)⟩
    · exact K1 h
    · exact K0 h
end
end
section
section
variable {D Vn C0 : Nat → Int32} {lv up nf nm kd : Nat → Nat}
theorem gs_Run_d {Z w od : Nat → Int32} {Sl : Nat → Int64} {s HF : Nat} {hF : Nat → Nat} {dF : Nat → Prop} (HO : gw_O D C0 Z) : ∀ n stk h H d e wr, gs_Run Vn lv up nf nm kd C0 Sl s w od hF HF dF n stk h H d e wr → ∀ c, c / 6 ≠ s → dF c → d c := by
  intro n
  induction n with
  | zero =>
    intro stk h H d e wr hR c _ hd
    obtain ⟨_, _, _, e4⟩ := hR
    rw [e4]; exact hd
  | succ n ih =>
    intro stk h H d e wr hR c hc hd
    obtain ⟨o, l, p, S, stk', h', H', d', e', wr', -, -, hSt, hR'⟩ := hR
    have k := ih stk' h' H' d' e' wr' hR' c hc hd
    rcases hSt with k' | k' | k' | k' | k' | k'
    · rw [← k'.2.2.2.2.2.2.1]; exact k
    · rw [← k'.2.2.2.2.2.2.2.1]; exact k
    · rw [← k'.2.2.2.2.2.2.1]; exact k
    · obtain ⟨_, ⟨z, z1, z2, z3, _, _, _, _, _, _, _, _, _, _, _, ed⟩, _⟩ := k'
      rw [ed] at k
      rcases k with k | k
      · exact k
      · obtain ⟨c1, c2, c3, c4, c5⟩ := gw_O_al HO z1 z3
        omega
    · rw [← k'.2.2.2.2.2.2.1]; exact k
    · rw [← k'.2.2.2.2.2.2.1]; exact k
end
section
variable {f_end f_at f_written f_read f_error f_culprit f_nextHandle f_depth f_nTodo : Int32} {a_defined a_parent a_level a_version a_fields a_fName a_fKind a_latest a_oClass a_pinned a_handle a_arrived a_handles a_described a_dLevels a_dFields a_plan a_wide a_wire a_order a_made a_sObj a_sLev a_sPos a_sCls a_todo : Nat → Int32} {a_slot a_pairs : Nat → Int64} {g_culprit g_depth g_lastMade : Int32} {b_defined b_version b_parent b_own b_latest b_cls b_partner b_pinned b_arrived b_from b_made b_done b_rows : Nat → Int32} {b_val : Nat → Int64} {lv up nf nm kd h mc pq : Nat → Nat} {C0 PT0 AR0 : Nat → Int32} {S0 V0 : Nat → Int64} {s x0 H wr o l p m : Nat} {S : List (Nat × Nat × Nat)} {M : List Nat} {d : Nat → Prop}
/-- the reference gives a value to the top: its loop -/
theorem gy_loopG {q : Int32 → SY → Prop} {x2 x3 : Int32} {n y Dn : Nat} {w : Int64} {V : Nat → Int64} (HW : gw_W b_defined lv up nf nm kd) (HY : gw_CY b_defined b_parent b_own lv up nf nm kd) (hn : n < 40) (hy : y < 32) (hm : m < 32) {c : Nat} (hc : c < 12) (hcs : c / 6 = y / 16) (hd : b_defined c ≠ 0) (hd2 : b_defined (gw_mir c) ≠ 0) (hZ : b_cls y = nI (c % 6)) (hl : l ≤ lv c) (hp : p < nf (gw_al lv up c l))
    (e1 : b_from n = nI y) (e2 : b_made n = nI m) (e3 : b_done n = nI Dn) (hDN : gs_DN lv up nf nm c l p Dn)
    (hw : (kd (4 * gw_al lv up c l + p) ≠ 4 ∧ w = b_val (10 * y + nm (4 * gw_al lv up c l + p))) ∨ (kd (4 * gw_al lv up c l + p) = 4 ∧ b_val (10 * y + nm (4 * gw_al lv up c l + p)) = -1 ∧ w = -1) ∨ (kd (4 * gw_al lv up c l + p) = 4 ∧ ∃ z q, z < 32 ∧ q < 32 ∧ b_val (10 * y + nm (4 * gw_al lv up c l + p)) = lN z ∧ b_partner z = nI q ∧ w = lN q))
    (hV : (gs_pn b_defined lv up nf nm c l p ∧ V = vp_updL b_val (10 * m + nm (4 * gw_al lv up c l + p)) w) ∨ (¬ gs_pn b_defined lv up nf nm c l p ∧ V = b_val))
    (h : ∃ k, wY_send_84 q x2 x3 k 0 g_culprit (nI (n + 1)) g_lastMade b_defined b_version b_parent b_own b_latest b_cls b_partner b_pinned b_arrived V b_from b_made (upd b_done n (nI (gs_pl lv up nm c l p + 1))) b_rows) : ∃ k, wY_send_84 q x2 x3 k 0 g_culprit (nI (n + 1)) g_lastMade b_defined b_version b_parent b_own b_latest b_cls b_partner b_pinned b_arrived b_val b_from b_made b_done b_rows := by
  obtain ⟨f1, f2⟩ := gs_DN_f HW hc hd hl hp hDN
  have b30 := (gs_pl_b HW hc hd hl hp).2.2.1
  have at' : ∃ k, wY_send_84 q x2 x3 k 0 g_culprit (nI (n + 1)) g_lastMade b_defined b_version b_parent b_own b_latest b_cls b_partner b_pinned b_arrived b_val b_from b_made (upd b_done n (nI (gs_pl lv up nm c l p))) b_rows := by
    obtain ⟨k, hk⟩ := h
    refine ⟨k + 1, ?_⟩
    rw [wY_send_84]
    dsimp only
    refine br_t rfl (br_f (ze_le0f (by omega) (by omega)) (gy_fieldG (w := w) HW HY hn hy hm hc hcs hd hd2 hZ hl hp e1 e2 pk_us hw (fun h => ?_) (fun h => ?_)))
    · dsimp only
      rw [gs_uu]
      rcases hV with ⟨_, e⟩ | ⟨hno, _⟩
      · rw [← e]; exact hk
      · exact absurd h hno
    · dsimp only
      rw [gs_uu]
      rcases hV with ⟨hy, _⟩ | ⟨_, e⟩
      · exact absurd hy h
      · rw [e] at hk; exact hk
  have key := gy_skip HW HY hn hy hc hcs hd hZ e1 e2 (by omega) at' (gs_pl lv up nm c l p - Dn) Dn (by omega) (fun z h1 h2 => f2 z h1 h2)
  rw [gs_ui e3] at key
  exact key
/-- the invariant behind a value given at the top -/
theorem gs_J_give {v w : Int64} {Sl V : Nat → Int64} (hs : s < 2) (HW : gw_W a_defined lv up nf nm kd) (HU : gw_U a_defined lv up nf nm) (HO0 : ∀ o, o < 32 → C0 o ≠ -1 → gw_kl C0 o < 12 ∧ a_defined (gw_kl C0 o) ≠ 0 ∧ gw_kl C0 o / 6 = o / 16) (hJ : gs_J a_defined a_version C0 S0 V0 PT0 AR0 lv up nf nm kd s x0 ((o, l, p) :: S) (m :: M) h H d wr a_oClass a_arrived a_dLevels a_dFields a_plan a_wide a_made a_sObj a_sLev a_sPos a_sCls b_cls b_partner b_arrived b_from b_made b_done g_lastMade a_slot b_val mc pq) (zp : p < nf (gw_al lv up (gw_kl C0 o) l))
    (hc : gw_cell a_oClass m (kd (4 * gw_al lv up (gw_kl C0 o) l + p)) v w)
    (hSV : (gs_pn a_defined lv up nf nm (gw_kl C0 o) l p ∧ ∃ j mm, j ≤ lv (gw_mir (gw_kl C0 o)) ∧ mm < nf (gw_al lv up (gw_mir (gw_kl C0 o)) j) ∧ nm (4 * gw_al lv up (gw_mir (gw_kl C0 o)) j + mm) = nm (4 * gw_al lv up (gw_kl C0 o) l + p) ∧ kd (4 * gw_al lv up (gw_mir (gw_kl C0 o)) j + mm) = kd (4 * gw_al lv up (gw_kl C0 o) l + p) ∧ Sl = vp_updL a_slot (12 * m + 4 * j + mm) v ∧ V = vp_updL b_val (10 * m + nm (4 * gw_al lv up (gw_kl C0 o) l + p)) w) ∨ (¬ gs_pn a_defined lv up nf nm (gw_kl C0 o) l p ∧ Sl = a_slot ∧ V = b_val)) :
    gs_J a_defined a_version C0 S0 V0 PT0 AR0 lv up nf nm kd s x0 ((o, l, p + 1) :: S) (m :: M) h H d wr a_oClass a_arrived a_dLevels a_dFields a_plan a_wide a_made a_sObj a_sLev (upd a_sPos S.length (nI (p + 1))) a_sCls b_cls b_partner b_arrived b_from b_made (upd b_done S.length (nI (gs_pl lv up nm (gw_kl C0 o) l p + 1))) g_lastMade Sl V mc pq := by
  obtain ⟨jS, jD, jF, jB, jO, jV, j4, j5, j6, j7⟩ := hJ
  obtain ⟨⟨s1, s2, s3, s4, s5, s6, s7, s8, s9, s10, s11⟩, sS⟩ := jS
  obtain ⟨⟨Dn, hDn, hDN⟩, hpd⟩ := jD
  obtain ⟨⟨f1, f2, f3, f4, f5⟩, fd⟩ := jF (o, l, p) (List.mem_cons_self ..)
  dsimp only at s1 s2 s3 s4 s5 s9 hDN f1 f2 f3 f4 f5 fd
  obtain ⟨c1, c2, c3⟩ := HO0 o f1 f3
  have m12 := gw_mir_lt c1
  have hkl : gw_kl a_oClass m = gw_mir (gw_kl C0 o) := by unfold gw_kl at *; rw [s9, nI_clamp (by omega)]
  have ham : a_oClass m ≠ -1 := by rw [s9]; exact ze_m1_ne (by omega)
  have hN : ∀ f, f ∈ S → nm (4 * gw_al lv up (gw_kl C0 f.1) f.2.1 + (f.2.2 - 1)) < 10 := by
    intro f hf
    obtain ⟨⟨g1, g2, g3, g4, g5⟩, _⟩ := jF f (List.mem_cons_of_mem _ hf)
    obtain ⟨k1, k2, k3⟩ := HO0 f.1 g1 g3
    exact ((HW _ (gw_al_ok HW k1 k2 g4).1).2.2.1 _ (gs_pd_m hpd f hf)).1
  have gx := ((HW _ (gw_al_ok HW c1 c2 f4).1).2.2.1 p zp).1
  have mdiv : (10 * m + nm (4 * gw_al lv up (gw_kl C0 o) l + p)) / 10 = m := by omega
  refine ⟨⟨⟨s1, s2, pk_us, s4, s5, s6, s7, s8, s9, s10, s11⟩, gs_JS_k sS (fun i hi => ⟨rfl, rfl, pk_un (by omega), rfl, rfl, rfl⟩) (fun _ _ => rfl)⟩, ⟨⟨_, pk_us, gs_DN_n HW c1 c2 f4 zp⟩, gs_pd_k hpd (fun i hi => pk_un (by omega))⟩, fun f hf => ?_, jB, jO, ?_, fun o' ho' ha' => ?_, j5, j6, j7⟩
  · rcases List.mem_cons.mp hf with e | e
    · subst e; exact ⟨⟨f1, f2, f3, f4, (by show p + 1 ≤ nf (gw_al lv up (gw_kl C0 o) l); omega)⟩, fd⟩
    · exact jF f (List.mem_cons_of_mem _ e)
  · rcases hSV with ⟨hpn, j, mm, hj, hmm, en, ek, eS, eV⟩ | ⟨_, eS, eV⟩
    · subst eS eV
      show gw_V lv up nf nm kd a_oClass _ (gs_ov a_defined lv up nf nm C0 m S M (vp_updL b_val _ w))
      rw [gs_ov_u hN (by rw [mdiv]; exact s10)]
      have jV' : gw_V lv up nf nm kd a_oClass a_slot (gs_ov a_defined lv up nf nm C0 m S M b_val) := jV
      have key := gw_V_upd HW HU jO jV' (o := m) (j := j) (k := mm) (v := v) (w := w) s7 ham (by rw [hkl]; exact hj) (by rw [hkl]; exact hmm) (by rw [hkl, ek]; exact hc)
      rw [hkl, en] at key
      exact key
    · subst eS eV
      exact jV
  · obtain ⟨k1, k2, k3⟩ := j4 o' ho' ha'
    have ne : o' ≠ m := fun e => ha' (by rw [e]; exact s11)
    rcases hSV with ⟨hpn, j, mm, hj, hmm, en, ek, eS, eV⟩ | ⟨_, eS, eV⟩
    · subst eS eV
      have lm := (HW _ m12).2.2.2.2.1
      have hd2 : a_defined (gw_mir (gw_kl C0 o)) ≠ 0 := by
        have := (gw_O_al jO s7 ham).2.2.2.1
        rw [hkl] at this; exact this
      have fm := (HW _ (gw_al_ok HW m12 hd2 hj).1).1
      exact ⟨k1, fun i hi => by rw [pk_uLn (by omega)]; exact k2 i hi, fun x hx => by rw [pk_uLn (by omega)]; exact k3 x hx⟩
    · subst eS eV
      exact ⟨k1, k2, k3⟩
/-- number, null or handle -/
theorem gs_lkG {post : Int32 → SX → Prop} {YS : (Int32 → SY → Prop) → Prop} {x2 x3 y2 : Int32} {fu e e' : Nat} {v w : Int64} (hs : s < 2) (HW : gw_W a_defined lv up nf nm kd) (HU : gw_U a_defined lv up nf nm) (HY : gw_CY a_defined b_parent b_own lv up nf nm kd) (HO0 : ∀ o, o < 32 → C0 o ≠ -1 → gw_kl C0 o < 12 ∧ a_defined (gw_kl C0 o) ≠ 0 ∧ gw_kl C0 o / 6 = o / 16)
    (hJ : gs_J a_defined a_version C0 S0 V0 PT0 AR0 lv up nf nm kd s x0 ((o, l, p) :: S) (m :: M) h H d wr a_oClass a_arrived a_dLevels a_dFields a_plan a_wide a_made a_sObj a_sLev a_sPos a_sCls b_cls b_partner b_arrived b_from b_made b_done g_lastMade a_slot b_val mc pq) (zp : p < nf (gw_al lv up (gw_kl C0 o) l)) (hlen : S.length ≤ 16)
    (hR : (kd (4 * gw_al lv up (gw_kl C0 o) l + p) ≠ 4 ∧ ∀ P : Int64 → SX → Prop, P v (f_end, nI e', f_written, nI wr, 0, f_culprit, nI H, nI (S.length + 1), f_nTodo, a_defined, a_parent, a_level, a_version, a_fields, a_fName, a_fKind, a_latest, a_oClass, a_pinned, a_slot, a_handle, a_arrived, a_handles, a_described, a_dLevels, a_dFields, a_plan, a_wide, a_wire, a_order, a_made, a_sObj, a_sLev, upd a_sPos S.length (nI (p + 1)), a_sCls, a_pairs, a_todo) → wpX_takeLong P (f_end, nI e, f_written, nI wr, 0, f_culprit, nI H, nI (S.length + 1), f_nTodo, a_defined, a_parent, a_level, a_version, a_fields, a_fName, a_fKind, a_latest, a_oClass, a_pinned, a_slot, a_handle, a_arrived, a_handles, a_described, a_dLevels, a_dFields, a_plan, a_wide, a_wire, a_order, a_made, a_sObj, a_sLev, upd a_sPos S.length (nI (p + 1)), a_sCls, a_pairs, a_todo)) ∨
      (kd (4 * gw_al lv up (gw_kl C0 o) l + p) = 4 ∧ ∃ r : Int32, r.toInt64 = v ∧ ∀ P : Int32 → SX → Prop, P r (f_end, nI e', f_written, nI wr, 0, f_culprit, nI H, nI (S.length + 1), f_nTodo, a_defined, a_parent, a_level, a_version, a_fields, a_fName, a_fKind, a_latest, a_oClass, a_pinned, a_slot, a_handle, a_arrived, a_handles, a_described, a_dLevels, a_dFields, a_plan, a_wide, a_wire, a_order, a_made, a_sObj, a_sLev, upd a_sPos S.length (nI (p + 1)), a_sCls, a_pairs, a_todo) → wpX_read P (f_end, nI e, f_written, nI wr, 0, f_culprit, nI H, nI (S.length + 1), f_nTodo, a_defined, a_parent, a_level, a_version, a_fields, a_fName, a_fKind, a_latest, a_oClass, a_pinned, a_slot, a_handle, a_arrived, a_handles, a_described, a_dLevels, a_dFields, a_plan, a_wide, a_wire, a_order, a_made, a_sObj, a_sLev, upd a_sPos S.length (nI (p + 1)), a_sCls, a_pairs, a_todo) (nI (1 - s))))
    (hw : (kd (4 * gw_al lv up (gw_kl C0 o) l + p) ≠ 4 ∧ w = b_val (10 * o + nm (4 * gw_al lv up (gw_kl C0 o) l + p))) ∨ (kd (4 * gw_al lv up (gw_kl C0 o) l + p) = 4 ∧ b_val (10 * o + nm (4 * gw_al lv up (gw_kl C0 o) l + p)) = -1 ∧ w = -1) ∨ (kd (4 * gw_al lv up (gw_kl C0 o) l + p) = 4 ∧ ∃ z q, z < 32 ∧ q < 32 ∧ b_val (10 * o + nm (4 * gw_al lv up (gw_kl C0 o) l + p)) = lN z ∧ b_partner z = nI q ∧ w = lN q))
    (hc : gw_cell a_oClass m (kd (4 * gw_al lv up (gw_kl C0 o) l + p)) v w)
    (YH : ∀ q, (∃ k, wY_send_84 q x2 x3 k 0 f_culprit (nI (S.length + 1)) g_lastMade a_defined a_version b_parent b_own a_latest b_cls b_partner a_pinned b_arrived b_val b_from b_made b_done b_rows) → YS q)
    (NEXT : ∀ sP dn Sl V, gs_J a_defined a_version C0 S0 V0 PT0 AR0 lv up nf nm kd s x0 ((o, l, p + 1) :: S) (m :: M) h H d wr a_oClass a_arrived a_dLevels a_dFields a_plan a_wide a_made a_sObj a_sLev sP a_sCls b_cls b_partner b_arrived b_from b_made dn g_lastMade Sl V mc pq → (∀ q, (∃ k, wY_send_84 q x2 x3 k 0 f_culprit (nI (S.length + 1)) g_lastMade a_defined a_version b_parent b_own a_latest b_cls b_partner a_pinned b_arrived V b_from b_made dn b_rows) → YS q) → wX_readAll_28 post (nI (1 - s)) y2 fu f_end (nI e') f_written (nI wr) 0 f_culprit (nI H) (nI (S.length + 1)) f_nTodo a_defined a_parent a_level a_version a_fields a_fName a_fKind a_latest a_oClass a_pinned Sl a_handle a_arrived a_handles a_described a_dLevels a_dFields a_plan a_wide a_wire a_order a_made a_sObj a_sLev sP a_sCls a_pairs a_todo) :
    wX_readAll_28 post (nI (1 - s)) y2 (fu + 1) f_end (nI e) f_written (nI wr) 0 f_culprit (nI H) (nI (S.length + 1)) f_nTodo a_defined a_parent a_level a_version a_fields a_fName a_fKind a_latest a_oClass a_pinned a_slot a_handle a_arrived a_handles a_described a_dLevels a_dFields a_plan a_wide a_wire a_order a_made a_sObj a_sLev a_sPos a_sCls a_pairs a_todo := by
  have hJ0 := hJ
  obtain ⟨jS, jD, jF, jB, jO, jV, j4, j5, j6, j7⟩ := hJ
  obtain ⟨⟨s1, s2, s3, s4, s5, s6, s7, s8, s9, s10, s11⟩, sS⟩ := jS
  obtain ⟨⟨Dn, hDn, hDN⟩, hpd⟩ := jD
  obtain ⟨⟨f1, f2, f3, f4, f5⟩, fd⟩ := jF (o, l, p) (List.mem_cons_self ..)
  dsimp only at s1 s2 s3 s4 s5 s9 hDN f1 f2 f3 f4 f5 fd
  obtain ⟨c1, c2, c3⟩ := HO0 o f1 f3
  obtain ⟨x1', x2', x3', x4'⟩ := gw_al_ok HW c1 c2 f4
  have lc := (HW _ c1).2.2.2.2.1
  have fa := (HW _ x1').1
  have hD1 := j7 _ c1 fd
  obtain ⟨d1, d2, d3, d4⟩ := id hD1
  obtain ⟨l1, l2, l3⟩ := d4 l f4
  obtain ⟨w1, w2⟩ := l3 p zp
  have go : ∀ Sl V, ((gs_pn a_defined lv up nf nm (gw_kl C0 o) l p ∧ ∃ j mm, j ≤ lv (gw_mir (gw_kl C0 o)) ∧ mm < nf (gw_al lv up (gw_mir (gw_kl C0 o)) j) ∧ nm (4 * gw_al lv up (gw_mir (gw_kl C0 o)) j + mm) = nm (4 * gw_al lv up (gw_kl C0 o) l + p) ∧ kd (4 * gw_al lv up (gw_mir (gw_kl C0 o)) j + mm) = kd (4 * gw_al lv up (gw_kl C0 o) l + p) ∧ Sl = vp_updL a_slot (12 * m + 4 * j + mm) v ∧ V = vp_updL b_val (10 * m + nm (4 * gw_al lv up (gw_kl C0 o) l + p)) w) ∨ (¬ gs_pn a_defined lv up nf nm (gw_kl C0 o) l p ∧ Sl = a_slot ∧ V = b_val)) → wX_readAll_28 post (nI (1 - s)) y2 fu f_end (nI e') f_written (nI wr) 0 f_culprit (nI H) (nI (S.length + 1)) f_nTodo a_defined a_parent a_level a_version a_fields a_fName a_fKind a_latest a_oClass a_pinned Sl a_handle a_arrived a_handles a_described a_dLevels a_dFields a_plan a_wide a_wire a_order a_made a_sObj a_sLev (upd a_sPos S.length (nI (p + 1))) a_sCls a_pairs a_todo := by
    intro Sl V hSV
    refine NEXT _ _ Sl V (gs_J_give hs HW HU HO0 hJ0 zp hc hSV) (fun q hq => YH q ?_)
    have hZ : b_cls o = nI (gw_kl C0 o % 6) := by
      have e := (j4 o f1 f3).1
      have := (gw_O_al jO f1 (by rw [e]; exact f3)).2.2.1
      have e2 : gw_kl a_oClass o = gw_kl C0 o := by unfold gw_kl; rw [e]
      rw [e2] at this; exact this
    refine gy_loopG HW HY (by omega) f1 s7 c1 (by omega) c2 d2 hZ f4 zp s5 s6 hDn hDN hw ?_ hq
    rcases hSV with ⟨h1, j, mm, _, _, _, _, _, h2⟩ | ⟨h1, _, h2⟩
    · exact Or.inl ⟨h1, h2⟩
    · exact Or.inr ⟨h1, h2⟩
  rw [wX_readAll_28]
  dsimp only
  refine br_f (ze_le0f (by omega) (by omega)) (br_t rfl (nm_r (nI_pred S.length) ⟨vp_in_nI (by omega) (by decide), ?_⟩))
  rw [nI_clamp (n := S.length) (by omega), s1, s2, s3, s4]
  refine nm_e ⟨vp_in_nI (by omega) (by decide), vp_in_nI (by omega) (by decide), ?_⟩
  rw [ze_mul3, nI_add, nI_clamp (n := 3 * gw_kl C0 o + l) (by omega), l2]
  refine ⟨vp_in_nI (by omega) (by decide), br_f (nI_ge zp (by omega)) ⟨vp_in_nI (by omega) (by decide), vp_in_nI (by omega) (by decide), vp_in_nI (by omega) (by decide), nm_e ?_⟩⟩
  rw [nI_1, ze_i8 (by omega), ze_nby (by omega), ze_mul12, ze_mul4, nI_add, nI_add]
  refine nm_e ⟨vp_in_nI (by omega) (by decide), nm_e ⟨vp_in_nI (by omega) (by decide), ?_⟩⟩
  rw [nI_clamp (n := 12 * gw_kl C0 o + 4 * l + p) (by omega), w1]
  rcases hR with ⟨k4, hR⟩ | ⟨k4, r, er, hR⟩
  · rw [if_neg k4]
    refine br_t rfl (hR _ ?_)
    dsimp only
    refine gx_store HW c1 s7 hD1 f4 zp (fun j mm h1 h2 h3 h4 h5 h6 => ?_) (fun h1 => ?_)
    · exact go _ _ (Or.inl ⟨h1, j, mm, h2, h3, h5, h6, rfl, rfl⟩)
    · exact go _ _ (Or.inr ⟨h1, rfl, rfl⟩)
  · rw [if_pos k4]
    refine br_f (by decide) (hR _ ?_)
    dsimp only
    rw [er]
    refine gx_store HW c1 s7 hD1 f4 zp (fun j mm h1 h2 h3 h4 h5 h6 => ?_) (fun h1 => ?_)
    · exact go _ _ (Or.inl ⟨h1, j, mm, h2, h3, h5, h6, rfl, rfl⟩)
    · exact go _ _ (Or.inr ⟨h1, rfl, rfl⟩)
end
end
section
section
variable {f_end f_at f_written f_read f_error f_culprit f_nextHandle f_depth f_nTodo : Int32} {a_defined a_parent a_level a_version a_fields a_fName a_fKind a_latest a_oClass a_pinned a_handle a_arrived a_handles a_described a_dLevels a_dFields a_plan a_wide a_wire a_order a_made a_sObj a_sLev a_sPos a_sCls a_todo : Nat → Int32} {a_slot a_pairs : Nat → Int64} {g_culprit g_depth g_lastMade : Int32} {b_defined b_version b_parent b_own b_latest b_cls b_partner b_pinned b_arrived b_from b_made b_done b_rows : Nat → Int32} {b_val : Nat → Int64} {lv up nf nm kd h mc pq : Nat → Nat} {C0 PT0 AR0 : Nat → Int32} {S0 V0 : Nat → Int64} {s x0 H wr o l p m : Nat} {S : List (Nat × Nat × Nat)} {M : List Nat} {d : Nat → Prop}
/-- one level up -/
theorem gs_lkL {post : Int32 → SX → Prop} {YS : (Int32 → SY → Prop) → Prop} {x2 x3 y2 : Int32} {fu e : Nat} (HW : gw_W a_defined lv up nf nm kd) (HO0 : ∀ o, o < 32 → C0 o ≠ -1 → gw_kl C0 o < 12 ∧ a_defined (gw_kl C0 o) ≠ 0 ∧ gw_kl C0 o / 6 = o / 16)
    (hJ : gs_J a_defined a_version C0 S0 V0 PT0 AR0 lv up nf nm kd s x0 ((o, l, p) :: S) (m :: M) h H d wr a_oClass a_arrived a_dLevels a_dFields a_plan a_wide a_made a_sObj a_sLev a_sPos a_sCls b_cls b_partner b_arrived b_from b_made b_done g_lastMade a_slot b_val mc pq) (zp : p = nf (gw_al lv up (gw_kl C0 o) l)) (zl : l < lv (gw_kl C0 o)) (hlen : S.length ≤ 16)
    (YH : ∀ q, (∃ k, wY_send_84 q x2 x3 k 0 f_culprit (nI (S.length + 1)) g_lastMade a_defined a_version b_parent b_own a_latest b_cls b_partner a_pinned b_arrived b_val b_from b_made b_done b_rows) → YS q)
    (NEXT : ∀ sL sP, gs_J a_defined a_version C0 S0 V0 PT0 AR0 lv up nf nm kd s x0 ((o, l + 1, 0) :: S) (m :: M) h H d wr a_oClass a_arrived a_dLevels a_dFields a_plan a_wide a_made a_sObj sL sP a_sCls b_cls b_partner b_arrived b_from b_made b_done g_lastMade a_slot b_val mc pq → (∀ q, (∃ k, wY_send_84 q x2 x3 k 0 f_culprit (nI (S.length + 1)) g_lastMade a_defined a_version b_parent b_own a_latest b_cls b_partner a_pinned b_arrived b_val b_from b_made b_done b_rows) → YS q) → wX_readAll_28 post (nI (1 - s)) y2 fu f_end (nI e) f_written (nI wr) 0 f_culprit (nI H) (nI (S.length + 1)) f_nTodo a_defined a_parent a_level a_version a_fields a_fName a_fKind a_latest a_oClass a_pinned a_slot a_handle a_arrived a_handles a_described a_dLevels a_dFields a_plan a_wide a_wire a_order a_made a_sObj sL sP a_sCls a_pairs a_todo) :
    wX_readAll_28 post (nI (1 - s)) y2 (fu + 1) f_end (nI e) f_written (nI wr) 0 f_culprit (nI H) (nI (S.length + 1)) f_nTodo a_defined a_parent a_level a_version a_fields a_fName a_fKind a_latest a_oClass a_pinned a_slot a_handle a_arrived a_handles a_described a_dLevels a_dFields a_plan a_wide a_wire a_order a_made a_sObj a_sLev a_sPos a_sCls a_pairs a_todo := by
  obtain ⟨jS, jD, jF, jB, jO, jV, j4, j5, j6, j7⟩ := hJ
  obtain ⟨⟨s1, s2, s3, s4, s5, s6, s7, s8, s9, s10, s11⟩, sS⟩ := jS
  obtain ⟨⟨Dn, hDn, hDN⟩, hpd⟩ := jD
  obtain ⟨⟨f1, f2, f3, f4, f5⟩, fd⟩ := jF (o, l, p) (List.mem_cons_self ..)
  dsimp only at s1 s2 s3 s4 s5 s9 hDN f1 f2 f3 f4 f5 fd
  obtain ⟨c1, c2, c3⟩ := HO0 o f1 f3
  obtain ⟨x1', x2', x3', x4'⟩ := gw_al_ok HW c1 c2 f4
  have lc := (HW _ c1).2.2.2.2.1
  have fa := (HW _ x1').1
  obtain ⟨d1, d2, d3, d4⟩ := j7 _ c1 fd
  obtain ⟨l1, l2, l3⟩ := d4 l f4
  rw [wX_readAll_28]
  dsimp only
  refine br_f (ze_le0f (by omega) (by omega)) (br_t rfl (nm_r (nI_pred S.length) ⟨vp_in_nI (by omega) (by decide), ?_⟩))
  rw [nI_clamp (n := S.length) (by omega), s2, s3, s4]
  refine nm_e ⟨vp_in_nI (by omega) (by decide), vp_in_nI (by omega) (by decide), ?_⟩
  rw [ze_mul3, nI_add, nI_clamp (n := 3 * gw_kl C0 o + l) (by omega), l2]
  refine ⟨vp_in_nI (by omega) (by decide), br_t (nI_le (by omega) (by omega)) ⟨vp_in_nI (by omega) (by decide), vp_in_nI c1 (by decide), ?_⟩⟩
  rw [nI_clamp (n := gw_kl C0 o) (by omega), d3, nI_1, ze_i8 (by omega), ze_nby (by omega), ze_nb0]
  refine br_f (nI_ge (by omega) (by omega)) ⟨vp_in_nI (by omega) (by decide), vp_in_nI (by omega) (by decide), nm_e ⟨vp_in_nI (by omega) (by decide), nm_e ?_⟩⟩
  refine NEXT _ _ ⟨⟨⟨s1, pk_us, pk_us, s4, s5, s6, s7, s8, s9, s10, s11⟩, gs_JS_k sS (fun i hi => ⟨rfl, pk_un (by omega), pk_un (by omega), rfl, rfl, rfl⟩) (fun _ _ => rfl)⟩, ⟨⟨Dn, hDn, gs_DN_l hDN zp⟩, hpd⟩, fun f hf => ?_, jB, jO, jV, j4, j5, j6, j7⟩ YH
  rcases List.mem_cons.mp hf with e | e
  · subst e; exact ⟨⟨f1, f2, f3, (by show l + 1 ≤ lv (gw_kl C0 o); omega), Nat.zero_le _⟩, fd⟩
  · exact jF f (List.mem_cons_of_mem _ e)
/-- the end of an object -/
theorem gs_lkP {post : Int32 → SX → Prop} {YS : (Int32 → SY → Prop) → Prop} {x2 x3 y2 : Int32} {fu e : Nat} (HW : gw_W a_defined lv up nf nm kd) (HY : gw_CY a_defined b_parent b_own lv up nf nm kd) (HO0 : ∀ o, o < 32 → C0 o ≠ -1 → gw_kl C0 o < 12 ∧ a_defined (gw_kl C0 o) ≠ 0 ∧ gw_kl C0 o / 6 = o / 16)
    (hJ : gs_J a_defined a_version C0 S0 V0 PT0 AR0 lv up nf nm kd s x0 ((o, l, p) :: S) (m :: M) h H d wr a_oClass a_arrived a_dLevels a_dFields a_plan a_wide a_made a_sObj a_sLev a_sPos a_sCls b_cls b_partner b_arrived b_from b_made b_done g_lastMade a_slot b_val mc pq) (zp : p = nf (gw_al lv up (gw_kl C0 o) l)) (zl : l = lv (gw_kl C0 o)) (hlen : S.length ≤ 16)
    (YH : ∀ q, (∃ k, wY_send_84 q x2 x3 k 0 f_culprit (nI (S.length + 1)) g_lastMade a_defined a_version b_parent b_own a_latest b_cls b_partner a_pinned b_arrived b_val b_from b_made b_done b_rows) → YS q)
    (NEXT : ∀ lm dn V, gs_J a_defined a_version C0 S0 V0 PT0 AR0 lv up nf nm kd s x0 S M h H d wr a_oClass a_arrived a_dLevels a_dFields a_plan a_wide a_made a_sObj a_sLev a_sPos a_sCls b_cls b_partner b_arrived b_from b_made dn lm a_slot V mc pq → (∀ q, (∃ k, wY_send_84 q x2 x3 k 0 f_culprit (nI S.length) lm a_defined a_version b_parent b_own a_latest b_cls b_partner a_pinned b_arrived V b_from b_made dn b_rows) → YS q) → wX_readAll_28 post (nI (1 - s)) y2 fu f_end (nI e) f_written (nI wr) 0 f_culprit (nI H) (nI S.length) f_nTodo a_defined a_parent a_level a_version a_fields a_fName a_fKind a_latest a_oClass a_pinned a_slot a_handle a_arrived a_handles a_described a_dLevels a_dFields a_plan a_wide a_wire a_order a_made a_sObj a_sLev a_sPos a_sCls a_pairs a_todo) :
    wX_readAll_28 post (nI (1 - s)) y2 (fu + 1) f_end (nI e) f_written (nI wr) 0 f_culprit (nI H) (nI (S.length + 1)) f_nTodo a_defined a_parent a_level a_version a_fields a_fName a_fKind a_latest a_oClass a_pinned a_slot a_handle a_arrived a_handles a_described a_dLevels a_dFields a_plan a_wide a_wire a_order a_made a_sObj a_sLev a_sPos a_sCls a_pairs a_todo := by
  obtain ⟨jS, jD, jF, jB, jO, jV, j4, j5, j6, j7⟩ := hJ
  obtain ⟨⟨s1, s2, s3, s4, s5, s6, s7, s8, s9, s10, s11⟩, sS⟩ := jS
  obtain ⟨⟨Dn, hDn, hDN⟩, hpd⟩ := jD
  obtain ⟨⟨f1, f2, f3, f4, f5⟩, fd⟩ := jF (o, l, p) (List.mem_cons_self ..)
  dsimp only at s1 s2 s3 s4 s5 s9 hDN f1 f2 f3 f4 f5 fd
  obtain ⟨c1, c2, c3⟩ := HO0 o f1 f3
  obtain ⟨x1', x2', x3', x4'⟩ := gw_al_ok HW c1 c2 f4
  have lc := (HW _ c1).2.2.2.2.1
  have fa := (HW _ x1').1
  obtain ⟨d1, d2, d3, d4⟩ := j7 _ c1 fd
  obtain ⟨l1, l2, l3⟩ := d4 l f4
  have zcls : ∀ y, y < 32 → C0 y ≠ -1 → b_cls y = nI (gw_kl C0 y % 6) := by
    intro y hy ay
    have e := (j4 y hy ay).1
    have := (gw_O_al jO hy (by rw [e]; exact ay)).2.2.1
    have e2 : gw_kl a_oClass y = gw_kl C0 y := by unfold gw_kl; rw [e]
    rw [e2] at this; exact this
  -- the reference: on to place 30
  have skip : ∀ q, (∃ k, wY_send_84 q x2 x3 k 0 f_culprit (nI (S.length + 1)) g_lastMade a_defined a_version b_parent b_own a_latest b_cls b_partner a_pinned b_arrived b_val b_from b_made (upd b_done S.length (nI 30)) b_rows) → ∃ k, wY_send_84 q x2 x3 k 0 f_culprit (nI (S.length + 1)) g_lastMade a_defined a_version b_parent b_own a_latest b_cls b_partner a_pinned b_arrived b_val b_from b_made b_done b_rows := by
    intro q hq
    have key := gy_skip HW HY (by omega) f1 c1 (by omega) c2 (zcls o f1 f3) s5 s6 (Nat.le_refl 30) hq (30 - Dn) Dn (by have := hDN.1; omega) (fun z h1 _ => gs_DN_e zl zp hDN z h1)
    rw [gs_ui hDn] at key
    exact key
  rw [wX_readAll_28]
  dsimp only
  refine br_f (ze_le0f (by omega) (by omega)) (br_t rfl (nm_r (nI_pred S.length) ⟨vp_in_nI (by omega) (by decide), ?_⟩))
  rw [nI_clamp (n := S.length) (by omega), s2, s3, s4]
  refine nm_e ⟨vp_in_nI (by omega) (by decide), vp_in_nI (by omega) (by decide), ?_⟩
  rw [ze_mul3, nI_add, nI_clamp (n := 3 * gw_kl C0 o + l) (by omega), l2]
  refine ⟨vp_in_nI (by omega) (by decide), br_t (nI_le (by omega) (by omega)) ⟨vp_in_nI (by omega) (by decide), vp_in_nI c1 (by decide), ?_⟩⟩
  rw [nI_clamp (n := gw_kl C0 o) (by omega), d3, nI_1]
  refine br_t (nI_le (by omega) (by omega)) (nm_r (nI_pred S.length) ?_)
  cases S with
  | nil =>
    cases M with
    | cons _ _ => exact sS.elim
    | nil =>
      have hl0 : ([] : List (Nat × Nat × Nat)).length = 0 := rfl
      rw [hl0] at skip YH NEXT ⊢
      refine NEXT (nI m) (upd b_done 0 (nI 30)) b_val ⟨trivial, trivial, fun f hf => by simp at hf, congrArg nI jB, jO, jV, j4, j5, j6, j7⟩ (fun q hq => YH q (skip q ?_))
      obtain ⟨k, hk⟩ := hq
      refine ⟨k + 1, ?_⟩
      rw [wY_send_84]
      dsimp only
      refine br_t rfl (br_f (ze_le0f (by simp) (by simp)) ?_)
      unfold wpY_goOn; dsimp only
      refine nm_r (e' := nI 0) (nI_pred 0) ⟨vp_in_nI (by omega) (by decide), ?_⟩
      rw [nI_clamp (n := 0) (by omega), pk_us]
      have s6' : b_made 0 = nI m := s6
      rw [s6']
      exact nm_e ⟨vp_in_nI (by omega) (by decide), nm_e ⟨vp_in_nI (by omega) (by decide), nm_e (br_t rfl (nm_r (e' := nI 0) (nI_pred 0) (br_t (by decide) hk)))⟩⟩
  | cons f1' S1 =>
    cases M with
    | nil => exact sS.elim
    | cons m1 M1 =>
      obtain ⟨o1, l1', p1⟩ := f1'
      obtain ⟨⟨t1, t2, t3, t4, t5, t6, t7, t8, t9, t10, t11⟩, tS⟩ := sS
      obtain ⟨⟨p', hp', hp2, hp3, hp4⟩, hpd1⟩ := hpd
      obtain ⟨⟨g1, g2, g3, g4, g5⟩, gd⟩ := jF (o1, l1', p1) (List.mem_cons_of_mem _ (List.mem_cons_self ..))
      dsimp only at t1 t2 t3 t4 t5 t9 hp' hp2 hp3 hp4 g1 g2 g3 g4 g5 gd
      subst hp'
      obtain ⟨k1, k2, k3⟩ := HO0 o1 g1 g3
      have gx := ((HW _ (gw_al_ok HW k1 k2 g4).1).2.2.1 p' hp2).1
      have hD1 := j7 _ k1 gd
      have hN : ∀ f, f ∈ S1 → nm (4 * gw_al lv up (gw_kl C0 f.1) f.2.1 + (f.2.2 - 1)) < 10 := by
        intro f hf
        obtain ⟨⟨q1, q2, q3, q4, q5⟩, _⟩ := jF f (List.mem_cons_of_mem _ (List.mem_cons_of_mem _ hf))
        obtain ⟨r1, r2, r3⟩ := HO0 f.1 q1 q3
        exact ((HW _ (gw_al_ok HW r1 r2 q4).1).2.2.1 _ (gs_pd_m hpd1 f hf)).1
      have hl1 : ((o1, l1', p' + 1) :: S1).length = S1.length + 1 := rfl
      rw [hl1] at skip hlen YH NEXT ⊢
      have go : ∀ V, ((gs_pn a_defined lv up nf nm (gw_kl C0 o1) l1' p' ∧ V = vp_updL b_val (10 * m1 + nm (4 * gw_al lv up (gw_kl C0 o1) l1' + p')) (lN m)) ∨ (¬ gs_pn a_defined lv up nf nm (gw_kl C0 o1) l1' p' ∧ V = b_val)) → wX_readAll_28 post (nI (1 - s)) y2 fu f_end (nI e) f_written (nI wr) 0 f_culprit (nI H) (nI (S1.length + 1)) f_nTodo a_defined a_parent a_level a_version a_fields a_fName a_fKind a_latest a_oClass a_pinned a_slot a_handle a_arrived a_handles a_described a_dLevels a_dFields a_plan a_wide a_wire a_order a_made a_sObj a_sLev a_sPos a_sCls a_pairs a_todo := by
        intro V hV
        refine NEXT (nI m) (upd (upd b_done (S1.length + 1) (nI 30)) S1.length (nI (gs_pl lv up nm (gw_kl C0 o1) l1' p' + 1))) V ⟨⟨⟨t1, t2, t3, t4, t5, t6, t7, t8, t9, t10, t11⟩, tS⟩, ⟨⟨_, pk_us, gs_DN_n HW k1 k2 g4 hp2⟩, gs_pd_k hpd1 (fun i hi => by rw [pk_un (by omega), pk_un (by omega)])⟩, fun f hf => jF f (List.mem_cons_of_mem _ hf), gs_bt_k (by simp) jB, jO, ?_, fun o' ho' ha' => ?_, j5, j6, j7⟩ (fun q hq => YH q (skip q ?_))
        · have jV' : gw_V lv up nf nm kd a_oClass a_slot (gs_ov a_defined lv up nf nm C0 m ((o1, l1', p' + 1) :: S1) (m1 :: M1) b_val) := jV
          show gw_V lv up nf nm kd a_oClass a_slot (gs_ov a_defined lv up nf nm C0 m1 S1 M1 V)
          rcases hV with ⟨h1, h2⟩ | ⟨h1, h2⟩
          · have e1 : gs_ov a_defined lv up nf nm C0 m ((o1, l1', p' + 1) :: S1) (m1 :: M1) b_val = vp_updL (gs_ov a_defined lv up nf nm C0 m1 S1 M1 b_val) (10 * m1 + nm (4 * gw_al lv up (gw_kl C0 o1) l1' + p')) (lN m) := gs_ov_t (f := (o1, l1', p' + 1)) h1
            rw [e1] at jV'
            rw [h2, gs_ov_u hN (by rw [show (10 * m1 + nm (4 * gw_al lv up (gw_kl C0 o1) l1' + p')) / 10 = m1 from by omega]; exact t10)]
            exact jV'
          · have e1 : gs_ov a_defined lv up nf nm C0 m ((o1, l1', p' + 1) :: S1) (m1 :: M1) b_val = gs_ov a_defined lv up nf nm C0 m1 S1 M1 b_val := gs_ov_f (f := (o1, l1', p' + 1)) h1
            rw [e1] at jV'
            rw [h2]; exact jV'
        · obtain ⟨q1, q2, q3⟩ := j4 o' ho' ha'
          refine ⟨q1, q2, fun x hx => ?_⟩
          have ne : o' ≠ m1 := fun e => ha' (by rw [e]; exact t11)
          rcases hV with ⟨h1, h2⟩ | ⟨h1, h2⟩
          · rw [h2, pk_uLn (by omega)]; exact q3 x hx
          · rw [h2]; exact q3 x hx
        · obtain ⟨k, hk⟩ := hq
          refine ⟨k + 1, ?_⟩
          rw [wY_send_84]
          dsimp only
          refine br_t rfl (br_f (ze_le0f (by omega) (by omega)) ?_)
          unfold wpY_goOn; dsimp only
          refine nm_r (nI_pred (S1.length + 1)) ⟨vp_in_nI (by omega) (by decide), ?_⟩
          rw [nI_clamp (n := S1.length + 1) (by omega), pk_us]
          have s6' : b_made (S1.length + 1) = nI m := s6
          rw [s6']
          refine nm_e ⟨vp_in_nI (by omega) (by decide), nm_e ⟨vp_in_nI (by omega) (by decide), nm_e (br_t rfl (nm_r (nI_pred (S1.length + 1)) (br_f (ze_le0f (by omega) (by omega)) ?_)))⟩⟩
          rw [nI_pred, nI_l (by omega)]
          refine gy_give HW HY (by omega) g1 t7 k1 (by omega) k2 hD1.2.1 (zcls o1 g1 g3) g4 hp2 t5 t6 (by rw [pk_un (by omega)]; exact hp4) (fun h => ?_) (fun h => ?_)
          · dsimp only
            rcases hV with ⟨h1, h2⟩ | ⟨h1, h2⟩
            · rw [← h2]; exact hk
            · exact absurd h h1
          · dsimp only
            rcases hV with ⟨h1, h2⟩ | ⟨h1, h2⟩
            · exact absurd h1 h
            · rw [h2] at hk; exact hk
      rcases Classical.em (gs_pn a_defined lv up nf nm (gw_kl C0 o1) l1' p') with hh | hh
      · exact go _ (Or.inl ⟨hh, rfl⟩)
      · exact go _ (Or.inr ⟨hh, rfl⟩)
end
end
section
def gs_FF (D Vn C0 : Nat → Int32) (S0 V0 : Nat → Int64) (PT0 AR0 : Nat → Int32) (lv up nf nm kd : Nat → Nat) (s : Nat) (d : Nat → Prop) (wr : Nat) (C AR dL dF PL WD MD Z PT YA : Nat → Int32) (Sl VL : Nat → Int64) (mc : Nat → Nat) : Prop :=
  gw_O D C Z ∧ gs_J4 C0 C S0 V0 Sl VL ∧ gs_J5 s C0 C MD YA mc wr ∧ (∀ z, z < 32 → z / 16 ≠ s → PT z = PT0 z) ∧ (∀ i, i / 17 ≠ s → AR i = AR0 i) ∧ (∀ c, c < 12 → c / 6 ≠ s → d c → gw_D1 D Vn dL dF PL WD lv up nf nm kd c)
theorem gs_J5_lt {s wr q : Nat} {C0 C MD YA : Nat → Int32} {mc : Nat → Nat} (hs : s < 2) (h : gs_J5 s C0 C MD YA mc wr) (hq : q < 16) (hc : C (16 * (1 - s) + q) = -1) : wr < 16 := by
  obtain ⟨h1, h2, -, -⟩ := h
  have : wr + 1 ≤ 16 := by
    refine gc_pig 16 (wr + 1) (fun i => if i < wr then mc i % 16 else q) (fun i hi => ?_) (fun i j hij hj e => ?_)
    · split <;> omega
    · rw [if_pos (by omega)] at e
      have a := h1 i (by omega)
      split at e
      · have b := h1 j (by omega)
        exact h2 i j hij (by omega) (by omega)
      · have e2 : mc i = 16 * (1 - s) + q := by omega
        rw [e2] at a
        exact a.2.2.2.2 hc
  omega
theorem gs_J5_le {s wr : Nat} {C0 C MD YA : Nat → Int32} {mc : Nat → Nat} (h : gs_J5 s C0 C MD YA mc wr) : wr ≤ 16 := by
  obtain ⟨h1, h2, -, -⟩ := h
  refine gc_pig 16 wr (fun i => mc i % 16) (fun i hi => Nat.mod_lt _ (by decide)) (fun i j hij hj e => ?_)
  have a := h1 i (by omega)
  have b := h1 j (by omega)
  exact h2 i j hij hj (by omega)
section
variable {f_end f_at f_written f_read f_error f_culprit f_nextHandle f_depth f_nTodo : Int32} {a_defined a_parent a_level a_version a_fields a_fName a_fKind a_latest a_oClass a_pinned a_handle a_arrived a_handles a_described a_dLevels a_dFields a_plan a_wide a_wire a_order a_made a_sObj a_sLev a_sPos a_sCls a_todo : Nat → Int32} {a_slot a_pairs : Nat → Int64} {g_culprit g_depth g_lastMade : Int32} {b_defined b_version b_parent b_own b_latest b_cls b_partner b_pinned b_arrived b_from b_made b_done b_rows : Nat → Int32} {b_val : Nat → Int64} {lv up nf nm kd h mc pq : Nat → Nat} {C0 PT0 AR0 : Nat → Int32} {S0 V0 : Nat → Int64} {s x0 H wr o l p m : Nat} {S : List (Nat × Nat × Nat)} {M : List Nat} {d : Nat → Prop}
theorem gy_fieldB {post : Int32 → SY → Prop} {n y l p z : Nat} {x r : Int32} {u : SY} (HW : gw_W b_defined lv up nf nm kd) (HY : gw_CY b_defined b_parent b_own lv up nf nm kd) (hn : n < 40) (hy : y < 32) {c : Nat} (hc : c < 12) (hcs : c / 6 = y / 16) (hd : b_defined c ≠ 0) (hZ : b_cls y = nI (c % 6)) (hl : l ≤ lv c) (hp : p < nf (gw_al lv up c l))
    (e1 : b_from n = nI y) (e2 : b_made n = nI m) (e3 : b_done n = nI (gs_pl lv up nm c l p)) (k4 : kd (4 * gw_al lv up c l + p) = 4) (hz : z < 32) (ev : b_val (10 * y + nm (4 * gw_al lv up c l + p)) = lN z) (ep : b_partner z = -1)
    (hB : ∀ P : Int32 → SY → Prop, P r u → wpY_begin P (g_culprit, nI (n + 1), g_lastMade, b_defined, b_version, b_parent, b_own, b_latest, b_cls, b_partner, b_pinned, b_arrived, b_val, b_from, b_made, b_done, b_rows) (nI z) x) (K : post r u) : wpY_goOn post (g_culprit, nI (n + 1), g_lastMade, b_defined, b_version, b_parent, b_own, b_latest, b_cls, b_partner, b_pinned, b_arrived, b_val, b_from, b_made, b_done, b_rows) x := by
  obtain ⟨x1, x2, x3, x4⟩ := gw_al_ok HW hc hd hl
  have g := (HW _ x1).2.2.1 p hp
  refine gy_goF HW HY hn hy hc hcs hd hZ hl hp e1 e2 e3 ?_
  unfold wY_goOn_128
  rw [ze_mul10, nI_add, nI_clamp (n := 10 * y + nm (4 * gw_al lv up c l + p)) (by omega), ev]
  refine br_t (ze_eq4t k4) ⟨vp_in_nI (by omega) (by decide), br_f (gl_nlt (by omega)) ⟨vp_in_nI (by omega) (by decide), nm_r (lN_i z) ⟨vp_in_nI hz (by decide), ?_⟩⟩⟩
  rw [nI_clamp (n := z) (by omega), ep]
  exact br_f (by decide) (hB _ K)
theorem gy_loopB {q : Int32 → SY → Prop} {x2 x3 : Int32} {n y Dn z : Nat} {r : Int32} {u : SY} (HW : gw_W b_defined lv up nf nm kd) (HY : gw_CY b_defined b_parent b_own lv up nf nm kd) (hn : n < 40) (hy : y < 32) {c : Nat} (hc : c < 12) (hcs : c / 6 = y / 16) (hd : b_defined c ≠ 0) (hZ : b_cls y = nI (c % 6)) (hl : l ≤ lv c) (hp : p < nf (gw_al lv up c l))
    (e1 : b_from n = nI y) (e2 : b_made n = nI m) (e3 : b_done n = nI Dn) (hDN : gs_DN lv up nf nm c l p Dn) (k4 : kd (4 * gw_al lv up c l + p) = 4) (hz : z < 32) (ev : b_val (10 * y + nm (4 * gw_al lv up c l + p)) = lN z) (ep : b_partner z = -1)
    (hB : ∀ P : Int32 → SY → Prop, P r u → wpY_begin P (g_culprit, nI (n + 1), g_lastMade, b_defined, b_version, b_parent, b_own, b_latest, b_cls, b_partner, b_pinned, b_arrived, b_val, b_from, b_made, upd b_done n (nI (gs_pl lv up nm c l p)), b_rows) (nI z) x2)
    (h : ∃ k, match u with | (g_culprit, g_depth, g_lastMade, b_defined, b_version, b_parent, b_own, b_latest, b_cls, b_partner, b_pinned, b_arrived, b_val, b_from, b_made, b_done, b_rows) => wY_send_84 q x2 x3 k r g_culprit g_depth g_lastMade b_defined b_version b_parent b_own b_latest b_cls b_partner b_pinned b_arrived b_val b_from b_made b_done b_rows) : ∃ k, wY_send_84 q x2 x3 k 0 g_culprit (nI (n + 1)) g_lastMade b_defined b_version b_parent b_own b_latest b_cls b_partner b_pinned b_arrived b_val b_from b_made b_done b_rows := by
  obtain ⟨f1, f2⟩ := gs_DN_f HW hc hd hl hp hDN
  have b30 := (gs_pl_b HW hc hd hl hp).2.2.1
  have at' : ∃ k, wY_send_84 q x2 x3 k 0 g_culprit (nI (n + 1)) g_lastMade b_defined b_version b_parent b_own b_latest b_cls b_partner b_pinned b_arrived b_val b_from b_made (upd b_done n (nI (gs_pl lv up nm c l p))) b_rows := by
    obtain ⟨k, hk⟩ := h
    refine ⟨k + 1, ?_⟩
    rw [wY_send_84]
    dsimp only
    exact br_t rfl (br_f (ze_le0f (by omega) (by omega)) (gy_fieldB HW HY hn hy hc hcs hd hZ hl hp e1 e2 pk_us k4 hz ev ep hB hk))
  have key := gy_skip HW HY hn hy hc hcs hd hZ e1 e2 (by omega) at' (gs_pl lv up nm c l p - Dn) Dn (by omega) (fun z h1 h2 => f2 z h1 h2)
  rw [gs_ui e3] at key
  exact key
/-- the invariant with a new object -/
theorem gs_J_new {dL dF PL WD : Nat → Int32} {Sl : Nat → Int64} {z q : Nat} (hs : s < 2) (HW : gw_W a_defined lv up nf nm kd) (HU : gw_U a_defined lv up nf nm) (HO0 : ∀ o, o < 32 → C0 o ≠ -1 → gw_kl C0 o < 12 ∧ a_defined (gw_kl C0 o) ≠ 0 ∧ gw_kl C0 o / 6 = o / 16) (hPT0 : ∀ z, z < 32 → C0 z = -1 → PT0 z = -1)
    (hJ : gs_J a_defined a_version C0 S0 V0 PT0 AR0 lv up nf nm kd s x0 ((o, l, p) :: S) (m :: M) h H d wr a_oClass a_arrived a_dLevels a_dFields a_plan a_wide a_made a_sObj a_sLev a_sPos a_sCls b_cls b_partner b_arrived b_from b_made b_done g_lastMade a_slot b_val mc pq) (zp : p < nf (gw_al lv up (gw_kl C0 o) l)) (k4 : kd (4 * gw_al lv up (gw_kl C0 o) l + p) = 4)
    (hz : z < 32) (hzs : z / 16 = s) (az : C0 z ≠ -1) (hhz : h z = 0) (hH : H ≤ 15) (hlen : S.length ≤ 15) (hq : q < 16) (hq1 : a_oClass (16 * (1 - s) + q) = -1)
    (hD1 : gw_D1 a_defined a_version dL dF PL WD lv up nf nm kd (gw_kl C0 z)) (hFD : gs_FD (gw_kl C0 z) dL dF PL WD a_dLevels a_dFields a_plan a_wide)
    (hSV : (gs_pn a_defined lv up nf nm (gw_kl C0 o) l p ∧ ∃ j mm, j ≤ lv (gw_mir (gw_kl C0 o)) ∧ mm < nf (gw_al lv up (gw_mir (gw_kl C0 o)) j) ∧ nm (4 * gw_al lv up (gw_mir (gw_kl C0 o)) j + mm) = nm (4 * gw_al lv up (gw_kl C0 o) l + p) ∧ kd (4 * gw_al lv up (gw_mir (gw_kl C0 o)) j + mm) = kd (4 * gw_al lv up (gw_kl C0 o) l + p) ∧ Sl = vp_updL (gw_zr a_slot (12 * (16 * (1 - s) + q)) (12 * (16 * (1 - s) + q) + 12)) (12 * m + 4 * j + mm) (lN (16 * (1 - s) + q + 1))) ∨ (¬ gs_pn a_defined lv up nf nm (gw_kl C0 o) l p ∧ Sl = gw_zr a_slot (12 * (16 * (1 - s) + q)) (12 * (16 * (1 - s) + q) + 12))) :
    gs_J a_defined a_version C0 S0 V0 PT0 AR0 lv up nf nm kd s x0 ((z, 0, 0) :: (o, l, p + 1) :: S) ((16 * (1 - s) + q) :: m :: M) (gs_nu h z (H + 1)) (H + 1) (fun x => d x ∨ x = gw_kl C0 z) (wr + 1) (upd a_oClass (16 * (1 - s) + q) (nI (gw_mir (gw_kl C0 z)))) (upd a_arrived (17 * s + (H + 1)) (nI (16 * (1 - s) + q))) dL dF PL WD (upd a_made wr (nI (16 * (1 - s) + q))) (upd a_sObj (S.length + 1) (nI (16 * (1 - s) + q))) (upd a_sLev (S.length + 1) 0) (upd (upd a_sPos S.length (nI (p + 1))) (S.length + 1) 0) (upd a_sCls (S.length + 1) (nI (gw_kl C0 z))) (upd b_cls (16 * (1 - s) + q) (nI (gw_kl C0 z % 6))) (upd (upd b_partner (16 * (1 - s) + q) (-1)) z (nI (16 * (1 - s) + q))) (upd b_arrived (16 * (1 - s) + q) 1) (upd b_from (S.length + 1) (nI z)) (upd b_made (S.length + 1) (nI (16 * (1 - s) + q))) (upd (upd b_done S.length (nI (gs_pl lv up nm (gw_kl C0 o) l p))) (S.length + 1) 0) g_lastMade Sl (gs_nvi lv up nf nm kd (gw_mir (gw_kl C0 z)) (16 * (1 - s) + q) b_val 10) (gs_nu mc wr (16 * (1 - s) + q)) (gs_nu pq z (16 * (1 - s) + q)) := by
  obtain ⟨jS, jD, jF, jB, jO, jV, j4, j5, j6, j7⟩ := hJ
  have jS0 := jS
  obtain ⟨⟨s1, s2, s3, s4, s5, s6, s7, s8, s9, s10, s11⟩, sS⟩ := jS
  obtain ⟨⟨Dn, hDn, hDN⟩, hpd⟩ := jD
  obtain ⟨⟨f1, f2, f3, f4, f5⟩, fd⟩ := jF (o, l, p) (List.mem_cons_self ..)
  dsimp only at s1 s2 s3 s4 s5 s9 hDN f1 f2 f3 f4 f5 fd
  obtain ⟨c1, c2, c3⟩ := HO0 o f1 f3
  obtain ⟨z1, z2, z3⟩ := HO0 z hz az
  have m12 := gw_mir_lt c1
  have mz12 := gw_mir_lt z1
  have mzdiv := gw_mir_div z1
  have mzmod := gw_mir_mod z1
  generalize eo : 16 * (1 - s) + q = o' at *
  have ho' : o' < 32 := by omega
  have ho's : o' / 16 = 1 - s := by omega
  have C0o' : C0 o' = -1 := Classical.byContradiction fun hne => by
    have := (j4 o' ho' hne).1
    rw [hq1] at this
    exact hne this.symm
  have ne_o' : ∀ x, a_oClass x ≠ -1 → x ≠ o' := fun x hx e => hx (by rw [e]; exact hq1)
  have hkl : gw_kl a_oClass m = gw_mir (gw_kl C0 o) := by unfold gw_kl at *; rw [s9, nI_clamp (by omega)]
  have ham : a_oClass m ≠ -1 := by rw [s9]; exact ze_m1_ne (by omega)
  have msal : ∀ x, x ∈ m :: M → a_oClass x ≠ -1 := by
    intro x hx
    obtain ⟨f, hf, e⟩ := gs_JS_m jS0 x hx
    obtain ⟨⟨g1, g2, g3, g4, g5⟩, _⟩ := jF f hf
    have := gw_mir_lt (HO0 f.1 g1 g3).1
    rw [e]; exact ze_m1_ne (by omega)
  have hN : ∀ f, f ∈ S → nm (4 * gw_al lv up (gw_kl C0 f.1) f.2.1 + (f.2.2 - 1)) < 10 := by
    intro f hf
    obtain ⟨⟨g1, g2, g3, g4, g5⟩, _⟩ := jF f (List.mem_cons_of_mem _ hf)
    obtain ⟨k1, k2, k3⟩ := HO0 f.1 g1 g3
    exact ((HW _ (gw_al_ok HW k1 k2 g4).1).2.2.1 _ (gs_pd_m hpd f hf)).1
  have gx := ((HW _ (gw_al_ok HW c1 c2 f4).1).2.2.1 p zp).1
  have hd2 : a_defined (gw_mir (gw_kl C0 o)) ≠ 0 := by
    have := (gw_O_al jO s7 ham).2.2.2.1
    rw [hkl] at this; exact this
  have jO' := gw_O_new jO (o := o') (c := gw_mir (gw_kl C0 z)) mz12 (by clear hSV; omega) hD1.2.1
  rw [mzmod] at jO'
  have nv0 : gw_nv lv up nf nm kd (gw_mir (gw_kl C0 z)) o' b_val (gs_nvi lv up nf nm kd (gw_mir (gw_kl C0 z)) o' b_val 10) := gs_nvi_nv HW HU mz12 hD1.2.1
  have o'M : o' ∉ M := fun hin => msal o' (List.mem_cons_of_mem _ hin) hq1
  have o'm : o' ≠ m := fun e => ham (by rw [← e]; exact hq1)
  refine ⟨⟨⟨pk_us, pk_us, pk_us, pk_us, pk_us, pk_us, ho', ho's, pk_us, ?_, C0o'⟩, ⟨⟨?_, ?_, ?_, ?_, ?_, ?_, s7, s8, ?_, s10, s11⟩, gs_JS_k sS (fun i hi => ?_) (fun x hx => ?_)⟩⟩, ⟨⟨0, pk_us, gs_DN_0 _ _ _ _ _⟩, ⟨⟨p, rfl, zp, k4, ?_⟩, gs_pd_k hpd (fun i hi => ?_)⟩⟩, fun f hf => ?_, jB, jO', ?_, ?_, ?_, ?_, ?_⟩
  · exact fun hin => msal o' hin hq1
  · show upd a_sObj (S.length + 1) _ S.length = _; rw [pk_un (by omega)]; exact s1
  · show upd a_sLev (S.length + 1) _ S.length = _; rw [pk_un (by omega)]; exact s2
  · show upd (upd a_sPos S.length _) (S.length + 1) _ S.length = _; rw [pk_un (by omega), pk_us]
  · show upd a_sCls (S.length + 1) _ S.length = _; rw [pk_un (by omega)]; exact s4
  · show upd b_from (S.length + 1) _ S.length = _; rw [pk_un (by omega)]; exact s5
  · show upd b_made (S.length + 1) _ S.length = _; rw [pk_un (by omega)]; exact s6
  · rw [pk_un (Ne.symm o'm)]; exact s9
  · exact ⟨pk_un (by omega), pk_un (by omega), by rw [pk_un (by omega), pk_un (by omega)], pk_un (by omega), pk_un (by omega), pk_un (by omega)⟩
  · exact pk_un (ne_o' x (msal x (List.mem_cons_of_mem _ hx)))
  · show upd (upd b_done S.length _) (S.length + 1) _ S.length = _; rw [pk_un (by omega), pk_us]
  · rw [pk_un (by omega), pk_un (by omega)]
  · rcases List.mem_cons.mp hf with e | e
    · subst e; exact ⟨⟨hz, hzs, az, Nat.zero_le _, Nat.zero_le _⟩, Or.inr rfl⟩
    · rcases List.mem_cons.mp e with e | e
      · subst e; exact ⟨⟨f1, f2, f3, f4, (by show p + 1 ≤ nf (gw_al lv up (gw_kl C0 o) l); omega)⟩, Or.inl fd⟩
      · obtain ⟨a, b⟩ := jF f (List.mem_cons_of_mem _ e)
        exact ⟨a, Or.inl b⟩
  · -- values
    have jV' : gw_V lv up nf nm kd a_oClass a_slot (gs_ov a_defined lv up nf nm C0 m S M b_val) := jV
    have nv1 : gw_nv lv up nf nm kd (gw_mir (gw_kl C0 z)) o' (gs_ov a_defined lv up nf nm C0 m S M b_val) (gs_ov a_defined lv up nf nm C0 m S M (gs_nvi lv up nf nm kd (gw_mir (gw_kl C0 z)) o' b_val 10)) := by
      refine ⟨fun y hy => gs_ov_c (nv0.1 y hy), fun j k hj hk => ?_⟩
      have g := ((HW _ (gw_al_ok HW mz12 hD1.2.1 hj).1).2.2.1 k hk).1
      rw [gs_ov_o hN (by rw [show (10 * o' + nm (4 * gw_al lv up (gw_mir (gw_kl C0 z)) j + k)) / 10 = o' from by omega]; exact o'M)]
      exact nv0.2 j k hj hk
    have base := gw_V_new HW jO jV' mz12 hD1.2.1 nv1
    show gw_V lv up nf nm kd _ Sl (gs_ov a_defined lv up nf nm C0 o' ((o, l, p + 1) :: S) (m :: M) _)
    rcases hSV with ⟨hpn, j, mm, hj, hmm, en, ek, eS⟩ | ⟨hpn, eS⟩
    · have e1 : gs_ov a_defined lv up nf nm C0 o' ((o, l, p + 1) :: S) (m :: M) (gs_nvi lv up nf nm kd (gw_mir (gw_kl C0 z)) o' b_val 10) = vp_updL (gs_ov a_defined lv up nf nm C0 m S M (gs_nvi lv up nf nm kd (gw_mir (gw_kl C0 z)) o' b_val 10)) (10 * m + nm (4 * gw_al lv up (gw_kl C0 o) l + p)) (lN o') := gs_ov_t (f := (o, l, p + 1)) hpn
      rw [e1, eS]
      have hkl2 : gw_kl (upd a_oClass o' (nI (gw_mir (gw_kl C0 z)))) m = gw_mir (gw_kl C0 o) := by rw [gw_kl_un (Ne.symm o'm)]; exact hkl
      have key := gw_V_upd HW HU jO' base (o := m) (j := j) (k := mm) (v := lN (o' + 1)) (w := lN o') s7 (by rw [pk_un (Ne.symm o'm)]; exact ham) (by rw [hkl2]; exact hj) (by rw [hkl2]; exact hmm) (by
        rw [hkl2, ek]
        exact ⟨fun _ => Or.inr ⟨o', ho', rfl, rfl, by rw [pk_us]; exact ze_m1_ne (by omega), by omega⟩, fun hne => absurd k4 hne⟩)
      rw [hkl2, en] at key
      exact key
    · have e1 : gs_ov a_defined lv up nf nm C0 o' ((o, l, p + 1) :: S) (m :: M) (gs_nvi lv up nf nm kd (gw_mir (gw_kl C0 z)) o' b_val 10) = gs_ov a_defined lv up nf nm C0 m S M (gs_nvi lv up nf nm kd (gw_mir (gw_kl C0 z)) o' b_val 10) := gs_ov_f (f := (o, l, p + 1)) hpn
      rw [e1, eS]
      exact base
  · -- old objects
    intro x hx ax
    obtain ⟨k1, k2, k3⟩ := j4 x hx ax
    have ne1 : x ≠ o' := fun e => ax (by rw [e]; exact C0o')
    have ne2 : x ≠ m := fun e => ax (by rw [e]; exact s11)
    refine ⟨by rw [pk_un ne1]; exact k1, fun i hi => ?_, fun i hi => ?_⟩
    · have base : gw_zr a_slot (12 * o') (12 * o' + 12) (12 * x + i) = S0 (12 * x + i) := by rw [gw_zr_out (by omega)]; exact k2 i hi
      rcases hSV with ⟨hpn, j, mm, hj, hmm, en, ek, eS⟩ | ⟨hpn, eS⟩
      · have lm := (HW _ m12).2.2.2.2.1
        have fm := (HW _ (gw_al_ok HW m12 hd2 hj).1).1
        rw [eS, pk_uLn (by omega)]; exact base
      · rw [eS]; exact base
    · rw [nv0.1 _ (by omega)]; exact k3 i hi
  · -- made
    obtain ⟨k1, k2, k3, k4'⟩ := j5
    refine ⟨fun i hi => ?_, fun i j hij hj => ?_, fun x hx ax => ?_, fun x hx => ?_⟩
    · rcases Nat.eq_or_lt_of_le (Nat.le_of_lt_succ hi) with e | e
      · subst e
        rw [pk_us, gs_nu_s, pk_us]
        exact ⟨rfl, ho', ho's, C0o', ze_m1_ne (by omega)⟩
      · obtain ⟨a1, a2, a3, a4, a5⟩ := k1 i e
        rw [pk_un (by omega), gs_nu_n (by omega), pk_un (ne_o' _ a5)]
        exact ⟨a1, a2, a3, a4, a5⟩
    · rw [gs_nu_n (show i ≠ wr by omega)]
      rcases Nat.eq_or_lt_of_le (Nat.le_of_lt_succ hj) with e | e
      · subst e
        rw [gs_nu_s]
        exact ne_o' _ (k1 i (by omega)).2.2.2.2
      · rw [gs_nu_n (by omega)]; exact k2 i j hij e
    · by_cases e : x = o'
      · exact Or.inr ⟨wr, by omega, by rw [gs_nu_s, e]⟩
      · rw [pk_un e] at ax
        rcases k3 x hx ax with k | ⟨i, hi, e2⟩
        · exact Or.inl k
        · exact Or.inr ⟨i, by omega, by rw [gs_nu_n (by omega)]; exact e2⟩
    · by_cases e : x = o'
      · subst e
        rw [pk_us]
        exact ⟨fun _ => ⟨wr, by omega, gs_nu_s⟩, fun _ => by decide⟩
      · rw [pk_un e]
        constructor
        · intro k
          obtain ⟨i, hi, e2⟩ := (k4' x hx).mp k
          exact ⟨i, by omega, by rw [gs_nu_n (by omega)]; exact e2⟩
        · rintro ⟨i, hi, e2⟩
          rcases Nat.eq_or_lt_of_le (Nat.le_of_lt_succ hi) with y | y
          · subst y; rw [gs_nu_s] at e2; exact absurd e2.symm e
          · rw [gs_nu_n (by omega)] at e2
            exact (k4' x hx).mpr ⟨i, y, e2⟩
  · -- sessions
    obtain ⟨k1, k2, k3⟩ := j6
    refine ⟨fun x hx hxs => ?_, fun x hx hxs => ?_, fun i hi => ?_⟩
    · have nx : x ≠ o' := by clear hSV; omega
      by_cases e : x = z
      · subst e
        rw [gs_nu_s, gs_nu_s, pk_us, pk_us, pk_us]
        exact ⟨fun e => by omega, fun _ => ⟨by omega, ho', ho's, ze_m1_ne (by omega), rfl, rfl, az⟩⟩
      · obtain ⟨a1, a2⟩ := k1 x hx hxs
        rw [gs_nu_n e, gs_nu_n e, pk_un e, pk_un nx]
        refine ⟨a1, fun hne => ?_⟩
        obtain ⟨b1, b2, b3, b4, b5, b6, b7⟩ := a2 hne
        refine ⟨by omega, b2, b3, by rw [pk_un (ne_o' _ b4)]; exact b4, by rw [pk_un (by omega)]; exact b5, b6, b7⟩
    · have nz : x ≠ z := fun e => hxs (by rw [e]; exact hzs)
      rw [pk_un nz]
      by_cases e : x = o'
      · subst e; rw [pk_us, hPT0 x hx C0o']
      · rw [pk_un e]; exact k2 x hx hxs
    · rw [pk_un (by omega)]; exact k3 i hi
  · -- plans
    intro c hc hdc
    by_cases e : c = gw_kl C0 z
    · rw [e]; exact hD1
    · exact gw_D1_fd HW hc (j7 c hc (hdc.resolve_right e)) hFD e
end
end
section
section
variable {f_end f_at f_written f_read f_error f_culprit f_nextHandle f_depth f_nTodo : Int32} {a_defined a_parent a_level a_version a_fields a_fName a_fKind a_latest a_oClass a_pinned a_handle a_arrived a_handles a_described a_dLevels a_dFields a_plan a_wide a_wire a_order a_made a_sObj a_sLev a_sPos a_sCls a_todo : Nat → Int32} {a_slot a_pairs : Nat → Int64} {g_culprit g_depth g_lastMade : Int32} {b_defined b_version b_parent b_own b_latest b_cls b_partner b_pinned b_arrived b_from b_made b_done b_rows : Nat → Int32} {b_val : Nat → Int64} {lv up nf nm kd h mc pq : Nat → Nat} {C0 PT0 AR0 : Nat → Int32} {S0 V0 : Nat → Int64} {s x0 H wr o l p m : Nat} {S : List (Nat × Nat × Nat)} {M : List Nat} {d : Nat → Prop}
theorem gx_read2s {post : Int32 → SX → Prop} {e e' c mk rd n : Nat} (HW : gw_W a_defined lv up nf nm kd) (HX : gw_CX a_defined a_parent a_level a_fields a_fName a_fKind lv up nf nm kd) (HO : gw_O a_defined a_oClass b_cls) (hc : c < 12) (hcs : c / 6 = s) (hd : a_defined c ≠ 0) (hmk : mk = 2 ∨ mk = 3) (he : e' ≤ 2400) (he2 : e + 3 ≤ 2400) (hw : a_wire e = nI mk)
    (hOD : gs_OD a_version lv up nf nm kd a_wire d c (e + 1) e') (hdd : d c → gw_D1 a_defined a_version a_dLevels a_dFields a_plan a_wide lv up nf nm kd c) (hrd : (∃ q, q < 16 ∧ a_oClass (16 * (1 - s) + q) = -1) → rd < 16) (hH : mk = 2 → H ≤ 15) (hn : n < 18)
    (KE : ∀ er at' dL dF PL WD, gs_obs a_defined a_version a_oClass lv up nf nm kd c er → gs_FD c dL dF PL WD a_dLevels a_dFields a_plan a_wide → (d c → dL = a_dLevels ∧ dF = a_dFields ∧ PL = a_plan ∧ WD = a_wide) → post (-1) (f_end, at', f_written, nI rd, er, f_culprit, nI H, nI n, f_nTodo, a_defined, a_parent, a_level, a_version, a_fields, a_fName, a_fKind, a_latest, a_oClass, a_pinned, a_slot, a_handle, a_arrived, a_handles, a_described, dL, dF, PL, WD, a_wire, a_order, a_made, a_sObj, a_sLev, a_sPos, a_sCls, a_pairs, a_todo))
    (KO : ∀ q dL dF PL WD AR H', q < 16 → a_oClass (16 * (1 - s) + q) = -1 → (∀ p, p < q → a_oClass (16 * (1 - s) + p) ≠ -1) → gw_D1 a_defined a_version dL dF PL WD lv up nf nm kd c → gs_FD c dL dF PL WD a_dLevels a_dFields a_plan a_wide → (mk = 2 → AR = upd a_arrived (17 * s + (H + 1)) (nI (16 * (1 - s) + q)) ∧ H' = H + 1) → (mk = 3 → AR = a_arrived ∧ H' = H) →
      post (nI (16 * (1 - s) + q + 1)) (f_end, nI e', f_written, nI (rd + 1), 0, f_culprit, nI H', nI (n + 1), f_nTodo, a_defined, a_parent, a_level, a_version, a_fields, a_fName, a_fKind, a_latest, upd a_oClass (16 * (1 - s) + q) (nI (gw_mir c)), upd a_pinned (16 * (1 - s) + q) 0, gw_zr a_slot (12 * (16 * (1 - s) + q)) (12 * (16 * (1 - s) + q) + 12), a_handle, AR, a_handles, a_described, dL, dF, PL, WD, a_wire, a_order, upd a_made rd (nI (16 * (1 - s) + q)), upd a_sObj n (nI (16 * (1 - s) + q)), upd a_sLev n 0, upd a_sPos n 0, upd a_sCls n (nI c), a_pairs, a_todo)) :
    wpX_read post (f_end, nI e, f_written, nI rd, 0, f_culprit, nI H, nI n, f_nTodo, a_defined, a_parent, a_level, a_version, a_fields, a_fName, a_fKind, a_latest, a_oClass, a_pinned, a_slot, a_handle, a_arrived, a_handles, a_described, a_dLevels, a_dFields, a_plan, a_wide, a_wire, a_order, a_made, a_sObj, a_sLev, a_sPos, a_sCls, a_pairs, a_todo) (nI (1 - s)) := by
  subst hcs
  have em := gw_mir_div hc
  refine gx_read2 HW HX HO hc hd hmk he he2 hw hOD hdd (by rw [em]; exact hrd) hH hn KE (fun q dL dF PL WD AR H' h1 h2 h3 h4 h5 h6 h7 => ?_)
  rw [em] at h2 h3 h6 ⊢
  exact KO q dL dF PL WD AR H' h1 h2 h3 h4 h5 h6 h7
theorem gs_OD_le {Vn : Nat → Int32} {w : Nat → Int32} {c e e' : Nat} (h : gs_OD Vn lv up nf nm kd w d c e e') : e + 2 ≤ e' := by
  rcases h.2 with ⟨_, _, k⟩ | ⟨_, _, ps, p1, p2, p3⟩
  · omega
  · have := (gs_DE_m p3 (lv c + 1) (by omega)).1
    omega
theorem gs_lkO {post : Int32 → SX → Prop} {YS : (Int32 → SY → Prop) → Prop} {x2 x3 y2 : Int32} {fu e e' z : Nat} (hs : s < 2) (HW : gw_W a_defined lv up nf nm kd) (HU : gw_U a_defined lv up nf nm) (HX : gw_CX a_defined a_parent a_level a_fields a_fName a_fKind lv up nf nm kd) (HY : gw_CY a_defined b_parent b_own lv up nf nm kd) (HO0 : ∀ o, o < 32 → C0 o ≠ -1 → gw_kl C0 o < 12 ∧ a_defined (gw_kl C0 o) ≠ 0 ∧ gw_kl C0 o / 6 = o / 16) (hPT0 : ∀ z, z < 32 → C0 z = -1 → PT0 z = -1)
    (hJ : gs_J a_defined a_version C0 S0 V0 PT0 AR0 lv up nf nm kd s x0 ((o, l, p) :: S) (m :: M) h H d wr a_oClass a_arrived a_dLevels a_dFields a_plan a_wide a_made a_sObj a_sLev a_sPos a_sCls b_cls b_partner b_arrived b_from b_made b_done g_lastMade a_slot b_val mc pq) (zp : p < nf (gw_al lv up (gw_kl C0 o) l)) (k4 : kd (4 * gw_al lv up (gw_kl C0 o) l + p) = 4)
    (hz : z < 32) (hzs : z / 16 = s) (az : C0 z ≠ -1) (ev : b_val (10 * o + nm (4 * gw_al lv up (gw_kl C0 o) l + p)) = lN z) (hhz : h z = 0) (hH : H ≤ 15) (hlen : S.length ≤ 15) (hw : a_wire e = 2) (hOD : gs_OD a_version lv up nf nm kd a_wire d (gw_kl C0 z) (e + 1) e') (he : e' ≤ 2400) (hfu : 0 < fu)
    (YH : ∀ q, (∃ k, wY_send_84 q x2 x3 k 0 f_culprit (nI (S.length + 1)) g_lastMade a_defined a_version b_parent b_own a_latest b_cls b_partner a_pinned b_arrived b_val b_from b_made b_done b_rows) → YS q)
    (NEXT : ∀ q dL dF PL WD Sl, gs_J a_defined a_version C0 S0 V0 PT0 AR0 lv up nf nm kd s x0 ((z, 0, 0) :: (o, l, p + 1) :: S) ((16 * (1 - s) + q) :: m :: M) (gs_nu h z (H + 1)) (H + 1) (fun x => d x ∨ x = gw_kl C0 z) (wr + 1) (upd a_oClass (16 * (1 - s) + q) (nI (gw_mir (gw_kl C0 z)))) (upd a_arrived (17 * s + (H + 1)) (nI (16 * (1 - s) + q))) dL dF PL WD (upd a_made wr (nI (16 * (1 - s) + q))) (upd a_sObj (S.length + 1) (nI (16 * (1 - s) + q))) (upd a_sLev (S.length + 1) 0) (upd (upd a_sPos S.length (nI (p + 1))) (S.length + 1) 0) (upd a_sCls (S.length + 1) (nI (gw_kl C0 z))) (upd b_cls (16 * (1 - s) + q) (nI (gw_kl C0 z % 6))) (upd (upd b_partner (16 * (1 - s) + q) (-1)) z (nI (16 * (1 - s) + q))) (upd b_arrived (16 * (1 - s) + q) 1) (upd b_from (S.length + 1) (nI z)) (upd b_made (S.length + 1) (nI (16 * (1 - s) + q))) (upd (upd b_done S.length (nI (gs_pl lv up nm (gw_kl C0 o) l p))) (S.length + 1) 0) g_lastMade Sl (gs_nvi lv up nf nm kd (gw_mir (gw_kl C0 z)) (16 * (1 - s) + q) b_val 10) (gs_nu mc wr (16 * (1 - s) + q)) (gs_nu pq z (16 * (1 - s) + q)) →
      (∀ q', (∃ k, wY_send_84 q' x2 x3 k 0 f_culprit (nI (S.length + 1 + 1)) g_lastMade a_defined a_version b_parent b_own a_latest (upd b_cls (16 * (1 - s) + q) (nI (gw_kl C0 z % 6))) (upd (upd b_partner (16 * (1 - s) + q) (-1)) z (nI (16 * (1 - s) + q))) (upd a_pinned (16 * (1 - s) + q) 0) (upd b_arrived (16 * (1 - s) + q) 1) (gs_nvi lv up nf nm kd (gw_mir (gw_kl C0 z)) (16 * (1 - s) + q) b_val 10) (upd b_from (S.length + 1) (nI z)) (upd b_made (S.length + 1) (nI (16 * (1 - s) + q))) (upd (upd b_done S.length (nI (gs_pl lv up nm (gw_kl C0 o) l p))) (S.length + 1) 0) b_rows) → YS q') →
      wX_readAll_28 post (nI (1 - s)) y2 fu f_end (nI e') f_written (nI (wr + 1)) 0 f_culprit (nI (H + 1)) (nI (S.length + 1 + 1)) f_nTodo a_defined a_parent a_level a_version a_fields a_fName a_fKind a_latest (upd a_oClass (16 * (1 - s) + q) (nI (gw_mir (gw_kl C0 z)))) (upd a_pinned (16 * (1 - s) + q) 0) Sl a_handle (upd a_arrived (17 * s + (H + 1)) (nI (16 * (1 - s) + q))) a_handles a_described dL dF PL WD a_wire a_order (upd a_made wr (nI (16 * (1 - s) + q))) (upd a_sObj (S.length + 1) (nI (16 * (1 - s) + q))) (upd a_sLev (S.length + 1) 0) (upd (upd a_sPos S.length (nI (p + 1))) (S.length + 1) 0) (upd a_sCls (S.length + 1) (nI (gw_kl C0 z))) a_pairs a_todo)
    (FAIL : ∀ er at' dL dF PL WD sP Sl dn, er ≠ 0 → gs_FF a_defined a_version C0 S0 V0 PT0 AR0 lv up nf nm kd s d wr a_oClass a_arrived dL dF PL WD a_made b_cls b_partner b_arrived Sl b_val mc → (∀ q, wY_send_106 q x3 er (nI (z / 16 * 32 + z % 16)) (nI (S.length + 1)) g_lastMade a_defined a_version b_parent b_own a_latest b_cls b_partner a_pinned b_arrived b_val b_from b_made dn b_rows → YS q) → post y2 (f_end, at', f_written, nI wr, er, f_culprit, nI H, nI (S.length + 1), f_nTodo, a_defined, a_parent, a_level, a_version, a_fields, a_fName, a_fKind, a_latest, a_oClass, a_pinned, Sl, a_handle, a_arrived, a_handles, a_described, dL, dF, PL, WD, a_wire, a_order, a_made, a_sObj, a_sLev, sP, a_sCls, a_pairs, a_todo)) :
    wX_readAll_28 post (nI (1 - s)) y2 (fu + 1) f_end (nI e) f_written (nI wr) 0 f_culprit (nI H) (nI (S.length + 1)) f_nTodo a_defined a_parent a_level a_version a_fields a_fName a_fKind a_latest a_oClass a_pinned a_slot a_handle a_arrived a_handles a_described a_dLevels a_dFields a_plan a_wide a_wire a_order a_made a_sObj a_sLev a_sPos a_sCls a_pairs a_todo := by
  have hJ0 := hJ
  obtain ⟨jS, jD, jF, jB, jO, jV, j4, j5, j6, j7⟩ := hJ
  obtain ⟨⟨s1, s2, s3, s4, s5, s6, s7, s8, s9, s10, s11⟩, sS⟩ := jS
  obtain ⟨⟨Dn, hDn, hDN⟩, hpd⟩ := jD
  obtain ⟨⟨f1, f2, f3, f4, f5⟩, fd⟩ := jF (o, l, p) (List.mem_cons_self ..)
  dsimp only at s1 s2 s3 s4 s5 s9 hDN f1 f2 f3 f4 f5 fd
  obtain ⟨c1, c2, c3⟩ := HO0 o f1 f3
  obtain ⟨z1, z2, z3⟩ := HO0 z hz az
  obtain ⟨x1', x2', x3', x4'⟩ := gw_al_ok HW c1 c2 f4
  have lc := (HW _ c1).2.2.2.2.1
  have fa := (HW _ x1').1
  have mo12 := gw_mir_lt c1
  obtain ⟨d1, d2, d3, d4⟩ := j7 _ c1 fd
  obtain ⟨l1, l2, l3⟩ := d4 l f4
  obtain ⟨w1, w2⟩ := l3 p zp
  have hle := gs_OD_le hOD
  have zcls : ∀ y, y < 32 → C0 y ≠ -1 → b_cls y = nI (gw_kl C0 y % 6) := by
    intro y hy ay
    have e := (j4 y hy ay).1
    have := (gw_O_al jO hy (by rw [e]; exact ay)).2.2.1
    have e2 : gw_kl a_oClass y = gw_kl C0 y := by unfold gw_kl; rw [e]
    rw [e2] at this; exact this
  have ecz := (j4 z hz az).1
  have az' : a_oClass z ≠ -1 := by rw [ecz]; exact az
  have ekz : gw_kl a_oClass z = gw_kl C0 z := by unfold gw_kl; rw [ecz]
  have epz : b_partner z = -1 := (j6.1 z hz hzs).1 hhz
  rw [wX_readAll_28]
  dsimp only
  refine br_f (ze_le0f (by omega) (by omega)) (br_t rfl (nm_r (nI_pred S.length) ⟨vp_in_nI (by omega) (by decide), ?_⟩))
  rw [nI_clamp (n := S.length) (by omega), s1, s2, s3, s4]
  refine nm_e ⟨vp_in_nI (by omega) (by decide), vp_in_nI (by omega) (by decide), ?_⟩
  rw [ze_mul3, nI_add, nI_clamp (n := 3 * gw_kl C0 o + l) (by omega), l2]
  refine ⟨vp_in_nI (by omega) (by decide), br_f (nI_ge zp (by omega)) ⟨vp_in_nI (by omega) (by decide), vp_in_nI (by omega) (by decide), vp_in_nI (by omega) (by decide), nm_e ?_⟩⟩
  rw [nI_1, ze_i8 (by omega), ze_nby (by omega), ze_mul12, ze_mul4, nI_add, nI_add]
  refine nm_e ⟨vp_in_nI (by omega) (by decide), nm_e ⟨vp_in_nI (by omega) (by decide), ?_⟩⟩
  rw [nI_clamp (n := 12 * gw_kl C0 o + 4 * l + p) (by omega), w1, if_pos k4]
  refine br_f (by decide) ?_
  refine gx_read2s (mk := 2) (rd := wr) (H := H) (d := d) HW HX jO z1 (by omega) z2 (Or.inl rfl) he (by omega) hw hOD (j7 _ z1) (fun ⟨q, hq, hq1⟩ => gs_J5_lt hs j5 hq hq1) (fun _ => hH) (by omega) (fun er at' dL dF PL WD hob hFD hsame => ?_) (fun q dL dF PL WD AR H' hq hq1 hq2 hD1 hFD hAR _ => ?_)
  · -- an obstacle
    dsimp only
    have er0 := gs_obs_0 hob
    have keep : ∀ c, c < 12 → d c → gw_D1 a_defined a_version dL dF PL WD lv up nf nm kd c := by
      intro c hc hdc
      by_cases ec : c = gw_kl C0 z
      · subst ec
        obtain ⟨q1, q2, q3, q4⟩ := hsame hdc
        rw [q1, q2, q3, q4]; exact j7 _ hc hdc
      · exact gw_D1_fd HW hc (j7 c hc hdc) hFD ec
    have fin : ∀ Sl, gs_J4 C0 a_oClass S0 V0 Sl b_val → wX_readAll_28 post (nI (1 - s)) y2 fu f_end at' f_written (nI wr) er f_culprit (nI H) (nI (S.length + 1)) f_nTodo a_defined a_parent a_level a_version a_fields a_fName a_fKind a_latest a_oClass a_pinned Sl a_handle a_arrived a_handles a_described dL dF PL WD a_wire a_order a_made a_sObj a_sLev (upd a_sPos S.length (nI (p + 1))) a_sCls a_pairs a_todo := by
      intro Sl h4
      obtain ⟨fu, rfl⟩ : ∃ k, fu = k + 1 := ⟨fu - 1, by omega⟩
      rw [wX_readAll_28]
      dsimp only
      refine br_f (ze_le0f (by omega) (by omega)) (br_f er0 ?_)
      refine FAIL er at' dL dF PL WD _ Sl (upd b_done S.length (nI (gs_pl lv up nm (gw_kl C0 o) l p))) er0 ⟨jO, h4, j5, j6.2.1, j6.2.2, fun c hc _ hdc => keep c hc hdc⟩ (fun q hq => YH q ?_)
      refine gy_loopB (z := z) (r := er) (u := (nI (z / 16 * 32 + z % 16), nI (S.length + 1), g_lastMade, a_defined, a_version, b_parent, b_own, a_latest, b_cls, b_partner, a_pinned, b_arrived, b_val, b_from, b_made, upd b_done S.length (nI (gs_pl lv up nm (gw_kl C0 o) l p)), b_rows)) HW HY (by omega) f1 c1 (by omega) c2 (zcls o f1 f3) f4 zp s5 s6 hDn hDN k4 hz ev epz (fun P hP => ?_) ⟨1, ?_⟩
      · exact gy_beginE (er := er) HW HY jO hz az' (by rw [ekz]; exact hob) hP
      · show wY_send_84 q x2 x3 1 er _ _ _ _ _ _ _ _ _ _ _ _ _ _ _ _ _
        rw [wY_send_84]
        dsimp only
        exact br_f er0 hq
    refine gx_store HW c1 s7 (keep _ c1 fd) f4 zp (fun j mm h1 h2 h3 h4 h5 h6 => fin _ (fun x hx ax => ?_)) (fun h1 => fin _ j4)
    obtain ⟨k1, k2, k3⟩ := j4 x hx ax
    have ne2 : x ≠ m := fun e => ax (by rw [e]; exact s11)
    have lm := (HW _ mo12).2.2.2.2.1
    have fm := (HW _ (gw_al_ok HW mo12 d2 h2).1).1
    exact ⟨k1, fun i hi => by rw [pk_uLn (by omega)]; exact k2 i hi, k3⟩
  · -- it arrives
    dsimp only
    obtain ⟨rfl, rfl⟩ := hAR rfl
    rw [nI_l (by omega)]
    have keep : gw_D1 a_defined a_version dL dF PL WD lv up nf nm kd (gw_kl C0 o) := by
      by_cases ec : gw_kl C0 o = gw_kl C0 z
      · rw [ec]; exact hD1
      · exact gw_D1_fd HW c1 (j7 _ c1 fd) hFD ec
    have yy : ∀ q', (∃ k, wY_send_84 q' x2 x3 k 0 f_culprit (nI (S.length + 1 + 1)) g_lastMade a_defined a_version b_parent b_own a_latest (upd b_cls (16 * (1 - s) + q) (nI (gw_kl C0 z % 6))) (upd (upd b_partner (16 * (1 - s) + q) (-1)) z (nI (16 * (1 - s) + q))) (upd a_pinned (16 * (1 - s) + q) 0) (upd b_arrived (16 * (1 - s) + q) 1) (gs_nvi lv up nf nm kd (gw_mir (gw_kl C0 z)) (16 * (1 - s) + q) b_val 10) (upd b_from (S.length + 1) (nI z)) (upd b_made (S.length + 1) (nI (16 * (1 - s) + q))) (upd (upd b_done S.length (nI (gs_pl lv up nm (gw_kl C0 o) l p))) (S.length + 1) 0) b_rows) → YS q' := by
      intro q' hq'
      refine YH q' (gy_loopB (z := z) (r := 0) (u := (f_culprit, nI (S.length + 1 + 1), g_lastMade, a_defined, a_version, b_parent, b_own, a_latest, upd b_cls (16 * (1 - s) + q) (nI (gw_kl C0 z % 6)), upd (upd b_partner (16 * (1 - s) + q) (-1)) z (nI (16 * (1 - s) + q)), upd a_pinned (16 * (1 - s) + q) 0, upd b_arrived (16 * (1 - s) + q) 1, gs_nvi lv up nf nm kd (gw_mir (gw_kl C0 z)) (16 * (1 - s) + q) b_val 10, upd b_from (S.length + 1) (nI z), upd b_made (S.length + 1) (nI (16 * (1 - s) + q)), upd (upd b_done S.length (nI (gs_pl lv up nm (gw_kl C0 o) l p))) (S.length + 1) 0, b_rows)) HW HY (by omega) f1 c1 (by omega) c2 (zcls o f1 f3) f4 zp s5 s6 hDn hDN k4 hz ev epz (fun P hP => ?_) hq')
      have e1s : 1 - z / 16 = 1 - s := by omega
      have key := gy_beginO (post := P) (n := S.length + 1) (q := q) (x := x2) (y := z) (a_oClass := a_oClass) (g_culprit := f_culprit) (g_lastMade := g_lastMade) (b_defined := a_defined) (b_version := a_version) (b_parent := b_parent) (b_own := b_own) (b_latest := a_latest) (b_cls := b_cls) (b_partner := b_partner) (b_pinned := a_pinned) (b_arrived := b_arrived) (b_val := b_val) (b_from := b_from) (b_made := b_made) (b_done := upd b_done S.length (nI (gs_pl lv up nm (gw_kl C0 o) l p))) (b_rows := b_rows) (PT := upd (upd b_partner (16 * (1 - s) + q) (-1)) z (nI (16 * (1 - s) + q))) HW HU HY jO hz az' (by rw [ekz]; exact hD1.2.1) (by rw [ekz]; exact fun i hi => (hD1.2.2.2 i hi).1) hq (by rw [e1s]; exact hq1) (by rw [e1s]; exact hq2) (by omega) (Or.inl ⟨Or.inl (by omega), by rw [e1s]⟩)
      rw [e1s, ekz] at key
      exact key hP
    refine gx_store HW c1 s7 keep f4 zp (fun j mm h1 h2 h3 h4 h5 h6 => ?_) (fun h1 => ?_)
    · exact NEXT q dL dF PL WD _ (gs_J_new hs HW HU HO0 hPT0 hJ0 zp k4 hz hzs az hhz hH hlen hq hq1 hD1 hFD (Or.inl ⟨h1, j, mm, h2, h3, h5, h6, rfl⟩)) yy
    · exact NEXT q dL dF PL WD _ (gs_J_new hs HW HU HO0 hPT0 hJ0 zp k4 hz hzs az hhz hH hlen hq hq1 hD1 hFD (Or.inr ⟨h1, rfl⟩)) yy
end
end
section
section
variable {f_end f_at f_written f_read f_error f_culprit f_nextHandle f_depth f_nTodo : Int32} {a_defined a_parent a_level a_version a_fields a_fName a_fKind a_latest a_oClass a_pinned a_handle a_arrived a_handles a_described a_dLevels a_dFields a_plan a_wide a_wire a_order a_made a_sObj a_sLev a_sPos a_sCls a_todo : Nat → Int32} {a_slot a_pairs : Nat → Int64} {g_culprit g_depth g_lastMade : Int32} {b_defined b_version b_parent b_own b_latest b_cls b_partner b_pinned b_arrived b_from b_made b_done b_rows : Nat → Int32} {b_val : Nat → Int64} {lv up nf nm kd : Nat → Nat} {C0 Z0 PT0 AR0 : Nat → Int32} {S0 V0 : Nat → Int64} {s x0 : Nat}
theorem gs_lock {post : Int32 → SX → Prop} {YS : (Int32 → SY → Prop) → Prop} {x2 x3 y2 : Int32} {hF : Nat → Nat} {HF : Nat} {dF : Nat → Prop} (hs : s < 2) (HW : gw_W a_defined lv up nf nm kd) (HU : gw_U a_defined lv up nf nm) (HX : gw_CX a_defined a_parent a_level a_fields a_fName a_fKind lv up nf nm kd) (HY : gw_CY a_defined b_parent b_own lv up nf nm kd) (HOO : gw_O a_defined C0 Z0) (HV0 : gw_V lv up nf nm kd C0 S0 V0) (hPT0 : ∀ z, z < 32 → C0 z = -1 → PT0 z = -1)
    (SUCC : ∀ (a_oClass a_pinned a_arrived a_dLevels a_dFields a_plan a_wide a_made a_sObj a_sLev a_sPos a_sCls b_cls b_partner b_arrived b_from b_made b_done : Nat → Int32) (a_slot b_val : Nat → Int64) (g_lastMade : Int32) (mc pq : Nat → Nat) e wr, gs_J a_defined a_version C0 S0 V0 PT0 AR0 lv up nf nm kd s x0 ([]) ([]) hF HF dF wr a_oClass a_arrived a_dLevels a_dFields a_plan a_wide a_made a_sObj a_sLev a_sPos a_sCls b_cls b_partner b_arrived b_from b_made b_done g_lastMade a_slot b_val mc pq → (∀ q, wY_send_106 q x3 0 f_culprit (nI 0) g_lastMade a_defined a_version b_parent b_own a_latest b_cls b_partner a_pinned b_arrived b_val b_from b_made b_done b_rows → YS q) → post y2 (f_end, nI e, f_written, nI wr, 0, f_culprit, nI HF, nI 0, f_nTodo, a_defined, a_parent, a_level, a_version, a_fields, a_fName, a_fKind, a_latest, a_oClass, a_pinned, a_slot, a_handle, a_arrived, a_handles, a_described, a_dLevels, a_dFields, a_plan, a_wide, a_wire, a_order, a_made, a_sObj, a_sLev, a_sPos, a_sCls, a_pairs, a_todo))
    (FAIL : ∀ (a_oClass a_pinned a_arrived a_dLevels a_dFields a_plan a_wide a_made a_sObj a_sLev a_sPos a_sCls b_cls b_partner b_arrived b_from b_made b_done : Nat → Int32) (a_slot b_val : Nat → Int64) (g_lastMade : Int32) (mc pq : Nat → Nat) er at' wr nh dp dq z, er ≠ 0 → z < 32 → z / 16 = s → C0 z ≠ -1 → a_order wr = nI z → wr ≤ 16 → gs_FF a_defined a_version C0 S0 V0 PT0 AR0 lv up nf nm kd s dF wr a_oClass a_arrived a_dLevels a_dFields a_plan a_wide a_made b_cls b_partner b_arrived a_slot b_val mc → (∀ q, wY_send_106 q x3 er (nI (z / 16 * 32 + z % 16)) dq g_lastMade a_defined a_version b_parent b_own a_latest b_cls b_partner a_pinned b_arrived b_val b_from b_made b_done b_rows → YS q) → post y2 (f_end, at', f_written, nI wr, er, f_culprit, nh, dp, f_nTodo, a_defined, a_parent, a_level, a_version, a_fields, a_fName, a_fKind, a_latest, a_oClass, a_pinned, a_slot, a_handle, a_arrived, a_handles, a_described, a_dLevels, a_dFields, a_plan, a_wide, a_wire, a_order, a_made, a_sObj, a_sLev, a_sPos, a_sCls, a_pairs, a_todo)) :
    ∀ n stk ms (h : Nat → Nat) H d e wr (a_oClass a_pinned a_arrived a_dLevels a_dFields a_plan a_wide a_made a_sObj a_sLev a_sPos a_sCls b_cls b_partner b_arrived b_from b_made b_done : Nat → Int32) (a_slot b_val : Nat → Int64) (g_lastMade : Int32) (mc pq : Nat → Nat), gs_Run a_version lv up nf nm kd C0 S0 s a_wire a_order hF HF dF n stk h H d e wr → stk.length ≤ 17 → gs_J a_defined a_version C0 S0 V0 PT0 AR0 lv up nf nm kd s x0 stk ms h H d wr a_oClass a_arrived a_dLevels a_dFields a_plan a_wide a_made a_sObj a_sLev a_sPos a_sCls b_cls b_partner b_arrived b_from b_made b_done g_lastMade a_slot b_val mc pq → (∀ q, (∃ k, wY_send_84 q x2 x3 k 0 f_culprit (nI stk.length) g_lastMade a_defined a_version b_parent b_own a_latest b_cls b_partner a_pinned b_arrived b_val b_from b_made b_done b_rows) → YS q) → ∀ fu, n < fu →
      wX_readAll_28 post (nI (1 - s)) y2 fu f_end (nI e) f_written (nI wr) 0 f_culprit (nI H) (nI stk.length) f_nTodo a_defined a_parent a_level a_version a_fields a_fName a_fKind a_latest a_oClass a_pinned a_slot a_handle a_arrived a_handles a_described a_dLevels a_dFields a_plan a_wide a_wire a_order a_made a_sObj a_sLev a_sPos a_sCls a_pairs a_todo := by
  have HO0 : ∀ o, o < 32 → C0 o ≠ -1 → gw_kl C0 o < 12 ∧ a_defined (gw_kl C0 o) ≠ 0 ∧ gw_kl C0 o / 6 = o / 16 := by
    intro o ho ha
    obtain ⟨c1, c2, c3, c4, c5⟩ := gw_O_al HOO ho ha
    exact ⟨c1, c4, c5⟩
  intro n
  induction n with
  | zero =>
    intro stk ms h H d e wr a_oClass a_pinned a_arrived a_dLevels a_dFields a_plan a_wide a_made a_sObj a_sLev a_sPos a_sCls b_cls b_partner b_arrived b_from b_made b_done a_slot b_val g_lastMade mc pq hR hlen hJ YH fu hfu
    obtain ⟨fu, rfl⟩ : ∃ k, fu = k + 1 := ⟨fu - 1, by omega⟩
    obtain ⟨r1, r2, r3, r4⟩ := hR
    subst r1 r2 r3 r4
    rw [wX_readAll_28]
    dsimp only
    cases ms with
    | cons _ _ => exact hJ.1.elim
    | nil =>
      refine br_t (by decide) (SUCC a_oClass a_pinned a_arrived a_dLevels a_dFields a_plan a_wide a_made a_sObj a_sLev a_sPos a_sCls b_cls b_partner b_arrived b_from b_made b_done a_slot b_val g_lastMade mc pq e wr hJ (fun q hq => YH q ⟨1, ?_⟩))
      rw [wY_send_84]
      dsimp only
      exact br_t rfl (br_t (by decide) hq)
  | succ n ih =>
    intro stk ms h H d e wr a_oClass a_pinned a_arrived a_dLevels a_dFields a_plan a_wide a_made a_sObj a_sLev a_sPos a_sCls b_cls b_partner b_arrived b_from b_made b_done a_slot b_val g_lastMade mc pq hR hlen hJ YH fu hfu
    obtain ⟨fu, rfl⟩ : ∃ k, fu = k + 1 := ⟨fu - 1, by omega⟩
    have hR0 := hR
    obtain ⟨o, l, p, S, stk', h', H', d', e', wr', er, he', hSt, hR'⟩ := hR
    subst er
    cases ms with
    | nil => exact hJ.1.elim
    | cons m M =>
      have hl1 : ((o, l, p) :: S).length = S.length + 1 := rfl
      rw [hl1] at hlen YH ⊢
      have j4 := hJ.2.2.2.2.2.2.1
      obtain ⟨⟨f1, f2, f3, f4, f5⟩, fd⟩ := hJ.2.2.1 (o, l, p) (List.mem_cons_self ..)
      dsimp only at f1 f2 f3 f4 f5 fd
      obtain ⟨c1, c2, c3⟩ := HO0 o f1 f3
      have sm := hJ.1.1
      obtain ⟨-, -, -, -, -, -, m1, m2, -⟩ := sm
      have val : ∀ (zp : p < nf (gw_al lv up (gw_kl C0 o) l)), b_val (10 * o + nm (4 * gw_al lv up (gw_kl C0 o) l + p)) = V0 (10 * o + nm (4 * gw_al lv up (gw_kl C0 o) l + p)) := fun zp => (j4 o f1 f3).2.2 _ (((HW _ (gw_al_ok HW c1 c2 f4).1).2.2.1 p zp).1)
      rcases hSt with ⟨zp, k4, ⟨mm, lb, ee⟩, q1, q2, q3, q4, q5⟩ | ⟨⟨zp, k4⟩, eS, ew, ee, q1, q2, q3, q4, q5⟩ | ⟨⟨zp, k4⟩, ⟨z, hz, hzs, az, eS, hhz, hh16, ew, ew2⟩, ee, q1, q2, q3, q4, q5⟩ | ⟨⟨zp, k4⟩, ⟨z, hz, hzs, az, eS, hhz, hH, hl15, hwr, ew, hOD, hod, q1, q2, q3, q4⟩, q5⟩ | ⟨zp, zl, ee, q1, q2, q3, q4, q5⟩ | ⟨zp, zl, ee, q1, q2, q3, q4, q5⟩
      · subst ee q1 q2 q3 q4 q5
        have cell := HV0 o f1 f3 l p f4 zp
        refine gs_lkG (v := S0 (12 * o + 4 * l + p)) (w := b_val (10 * o + nm (4 * gw_al lv up (gw_kl C0 o) l + p))) hs HW HU HY HO0 hJ zp (by omega) (Or.inl ⟨k4, fun P hP => gx_takeLong lb he' hP⟩) (Or.inl ⟨k4, rfl⟩) ⟨fun h => absurd h k4, fun _ => by rw [val zp]; exact cell.2 k4⟩ YH (fun sP dn Sl V hJ' YH' => ?_)
        exact ih _ (m :: M) _ _ _ _ _ a_oClass a_pinned a_arrived a_dLevels a_dFields a_plan a_wide a_made a_sObj a_sLev sP a_sCls b_cls b_partner b_arrived b_from b_made dn Sl V g_lastMade mc pq hR' hlen hJ' YH' fu (by omega)
      · subst ee q1 q2 q3 q4 q5
        have cell := HV0 o f1 f3 l p f4 zp
        have ev : V0 (10 * o + nm (4 * gw_al lv up (gw_kl C0 o) l + p)) = -1 := by
          rcases cell.1 k4 with ⟨a, _⟩ | ⟨t, ht, _, a, _⟩
          · exact a
          · rw [eS] at a
            have := (lN_eq (a := 0) (b := t + 1) (by omega) (by omega)).mp a
            omega
        refine gs_lkG (v := 0) (w := -1) hs HW HU HY HO0 hJ zp (by omega) (Or.inr ⟨k4, 0, rfl, fun P hP => gx_read0 (by omega) ew hP⟩) (Or.inr (Or.inl ⟨k4, by rw [val zp]; exact ev, rfl⟩)) ⟨fun _ => Or.inl ⟨rfl, rfl⟩, fun h => absurd k4 h⟩ YH (fun sP dn Sl V hJ' YH' => ?_)
        exact ih _ (m :: M) _ _ _ _ _ a_oClass a_pinned a_arrived a_dLevels a_dFields a_plan a_wide a_made a_sObj a_sLev sP a_sCls b_cls b_partner b_arrived b_from b_made dn Sl V g_lastMade mc pq hR' hlen hJ' YH' fu (by omega)
      · subst ee q1 q2 q3 q4 q5
        have cell := HV0 o f1 f3 l p f4 zp
        have ev : V0 (10 * o + nm (4 * gw_al lv up (gw_kl C0 o) l + p)) = lN z := by
          rcases cell.1 k4 with ⟨_, a⟩ | ⟨t, ht, b, a, _⟩
          · rw [eS] at a
            have := (lN_eq (a := z + 1) (b := 0) (by omega) (by omega)).mp a
            omega
          · rw [eS] at a
            have := (lN_eq (by omega) (by omega)).mp a
            rw [b]; exact congrArg lN (by omega)
        have j6 := hJ.2.2.2.2.2.2.2.2.1
        obtain ⟨b1, b2, b3, b4, b5, b6, b7⟩ := (j6.1 z hz hzs).2 hhz
        refine gs_lkG (v := lN (pq z + 1)) (w := lN (pq z)) hs HW HU HY HO0 hJ zp (by omega) (Or.inr ⟨k4, nI (pq z + 1), nI_l (by omega), fun P hP => gx_read1 hs (by omega) ew ew2 hh16 b5 hP⟩) (Or.inr (Or.inr ⟨k4, z, pq z, hz, b2, by rw [val zp]; exact ev, b6, rfl⟩)) ⟨fun _ => Or.inr ⟨pq z, b2, rfl, rfl, b4, by omega⟩, fun h => absurd k4 h⟩ YH (fun sP dn Sl V hJ' YH' => ?_)
        exact ih _ (m :: M) _ _ _ _ _ a_oClass a_pinned a_arrived a_dLevels a_dFields a_plan a_wide a_made a_sObj a_sLev sP a_sCls b_cls b_partner b_arrived b_from b_made dn Sl V g_lastMade mc pq hR' hlen hJ' YH' fu (by omega)
      · subst q1 q2 q3 q4 q5
        have cell := HV0 o f1 f3 l p f4 zp
        have ev : V0 (10 * o + nm (4 * gw_al lv up (gw_kl C0 o) l + p)) = lN z := by
          rcases cell.1 k4 with ⟨_, a⟩ | ⟨t, ht, b, a, _⟩
          · rw [eS] at a
            have := (lN_eq (a := z + 1) (b := 0) (by omega) (by omega)).mp a
            omega
          · rw [eS] at a
            have := (lN_eq (by omega) (by omega)).mp a
            rw [b]; exact congrArg lN (by omega)
        refine gs_lkO hs HW HU HX HY HO0 hPT0 hJ zp k4 hz hzs az (by rw [val zp]; exact ev) hhz hH hl15 ew hOD he' (by omega) YH (fun q dL dF' PL WD Sl hJ' YH' => ?_) (fun er at' dL dF' PL WD sP Sl dn er0 hFF YH' => ?_)
        · exact ih _ _ _ _ _ _ _ _ _ _ _ _ _ _ _ _ _ _ _ _ _ _ _ _ _ _ _ _ _ _ hR' (by show S.length + 1 + 1 ≤ 17; omega) hJ' YH' fu (by omega)
        · obtain ⟨g0, g1, g2, g3, g4, g5⟩ := hFF
          exact FAIL a_oClass a_pinned a_arrived dL dF' PL WD a_made a_sObj a_sLev sP a_sCls b_cls b_partner b_arrived b_from b_made dn Sl b_val g_lastMade mc pq er at' wr _ _ _ z er0 hz hzs az hod hwr ⟨g0, g1, g2, g3, g4, fun c hc hcs hdc => g5 c hc hcs (gs_Run_d HOO _ _ _ _ _ _ _ hR0 c hcs hdc)⟩ YH'
      · subst ee q1 q2 q3 q4 q5
        refine gs_lkL HW HO0 hJ zp zl (by omega) YH (fun sL sP hJ' YH' => ?_)
        exact ih _ (m :: M) _ _ _ _ _ a_oClass a_pinned a_arrived a_dLevels a_dFields a_plan a_wide a_made a_sObj sL sP a_sCls b_cls b_partner b_arrived b_from b_made b_done a_slot b_val g_lastMade mc pq hR' hlen hJ' YH' fu (by omega)
      · subst ee q1 q2 q3 q4 q5
        refine gs_lkP HW HY HO0 hJ zp zl (by omega) YH (fun lm dn V hJ' YH' => ?_)
        exact ih _ M _ _ _ _ _ a_oClass a_pinned a_arrived a_dLevels a_dFields a_plan a_wide a_made a_sObj a_sLev a_sPos a_sCls b_cls b_partner b_arrived b_from b_made dn a_slot V lm mc pq hR' (by omega) hJ' YH' fu (by omega)
end
end
section
section
variable {f_end f_at f_written f_read f_error f_culprit f_nextHandle f_depth f_nTodo : Int32} {a_defined a_parent a_level a_version a_fields a_fName a_fKind a_latest a_oClass a_pinned a_handle a_arrived a_handles a_described a_dLevels a_dFields a_plan a_wide a_wire a_order a_made a_sObj a_sLev a_sPos a_sCls a_todo : Nat → Int32} {a_slot a_pairs : Nat → Int64} {g_culprit g_depth g_lastMade : Int32} {b_defined b_version b_parent b_own b_latest b_cls b_partner b_pinned b_arrived b_from b_made b_done b_rows : Nat → Int32} {b_val : Nat → Int64} {lv up nf nm kd : Nat → Nat} {C0 Z0 HD0 HS0 PT0 AR0 : Nat → Int32} {S0 V0 : Nat → Int64} {s x0 wr : Nat} {mc : Nat → Nat}
theorem gx_s128 {post : Int32 → SX → Prop} (hs : s < 2) (hwr : wr ≤ 16) (hmc : ∀ i, i < wr → a_made i = nI (mc i) ∧ mc i < 32) (K : ∀ C : Nat → Int32, (∀ x, (∃ i, i < wr ∧ mc i = x) → C x = -1) → (∀ x, (¬ ∃ i, i < wr ∧ mc i = x) → C x = a_oClass x) → post f_error (f_end, f_at, f_written, nI wr, f_error, f_culprit, f_nextHandle, f_depth, f_nTodo, a_defined, a_parent, a_level, a_version, a_fields, a_fName, a_fKind, a_latest, C, a_pinned, a_slot, gw_fl a_handle (16 * s) (16 * s + 16) 0, a_arrived, upd a_handles s 0, gw_fl a_described (6 * s) (6 * s + 6) 0, a_dLevels, a_dFields, a_plan, a_wide, a_wire, a_order, a_made, a_sObj, a_sLev, a_sPos, a_sCls, a_pairs, a_todo)) :
    ∀ n i C, i ≤ wr → wr - i < n → (∀ x, (∃ j, j < i ∧ mc j = x) → C x = -1) → (∀ x, (¬ ∃ j, j < i ∧ mc j = x) → C x = a_oClass x) → wX_send_128 post (nI s) f_end f_at f_written (nI wr) f_error f_culprit f_nextHandle f_depth f_nTodo n (nI i) a_defined a_parent a_level a_version a_fields a_fName a_fKind a_latest C a_pinned a_slot a_handle a_arrived a_handles a_described a_dLevels a_dFields a_plan a_wide a_wire a_order a_made a_sObj a_sLev a_sPos a_sCls a_pairs a_todo := by
  intro n
  induction n with
  | zero => intro i C h1 h2; omega
  | succ n ih =>
    intro i C hi hn h1 h2
    rw [wX_send_128]
    dsimp only
    rcases Nat.eq_or_lt_of_le hi with z | z
    · subst z
      refine br_t (nI_le (by omega) (by omega)) (gx_fs hs ?_)
      dsimp only
      exact K C h1 h2
    · obtain ⟨e1, e2⟩ := hmc i z
      refine br_f (nI_ge z (by omega)) ⟨vp_in_nI (by omega) (by decide), ?_⟩
      rw [nI_clamp (n := i) (by omega), e1, nI_clamp (n := mc i) (by omega), ze_nbm1]
      refine ⟨vp_in_nI e2 (by decide), nm_e (nm_r (nI_1 i) (ih (i + 1) _ z (by omega) (fun x hx => ?_) (fun x hx => ?_)))⟩
      · by_cases e : x = mc i
        · subst e; rw [pk_us]
        · rw [pk_un e]
          obtain ⟨j, hj, ej⟩ := hx
          rcases Nat.eq_or_lt_of_le (Nat.le_of_lt_succ hj) with y | y
          · subst y; exact absurd ej.symm e
          · exact h1 x ⟨j, y, ej⟩
      · by_cases e : x = mc i
        · exact absurd ⟨i, by omega, e.symm⟩ hx
        · rw [pk_un e]
          exact h2 x (fun ⟨j, hj, ej⟩ => hx ⟨j, by omega, ej⟩)
theorem gy_undoL {post : SY → Prop} (hs : s < 2) (K : ∀ Z : Nat → Int32, (∀ x, x < 32 → b_arrived x ≠ 0 → Z x = -1) → (∀ x, x < 32 → b_arrived x = 0 → Z x = b_cls x) → post (g_culprit, g_depth, g_lastMade, b_defined, b_version, b_parent, b_own, b_latest, Z, gw_fl b_partner (16 * s) (16 * s + 16) (-1), b_pinned, b_arrived, b_val, b_from, b_made, b_done, b_rows)) :
    ∀ n i Z, i ≤ 32 → 32 - i < n → (∀ x, x < i → b_arrived x ≠ 0 → Z x = -1) → (∀ x, (i ≤ x ∨ b_arrived x = 0) → Z x = b_cls x) → wY_undo_2 post (nI s) g_culprit g_depth g_lastMade n (nI i) b_defined b_version b_parent b_own b_latest Z b_partner b_pinned b_arrived b_val b_from b_made b_done b_rows := by
  intro n
  induction n with
  | zero => intro i Z h1 h2; omega
  | succ n ih =>
    intro i Z hi hn h1 h2
    rw [wY_undo_2]
    dsimp only
    rcases Nat.eq_or_lt_of_le hi with z | z
    · subst z
      refine br_t (by decide) (gy_empty hs ?_)
      dsimp only
      exact K Z h1 (fun x _ hx => h2 x (Or.inr hx))
    · refine br_f (ze_ge32f z) ⟨vp_in_nI z (by decide), ?_⟩
      rw [nI_clamp (n := i) (by omega)]
      refine br_c (fun y => nm_r (nI_1 i) (ih (i + 1) Z z (by omega) (fun x hx hy => ?_) (fun x hx => ?_))) (fun y => ⟨vp_in_nI z (by decide), nm_e (nm_r (nI_1 i) (ih (i + 1) _ z (by omega) (fun x hx hy => ?_) (fun x hx => ?_)))⟩)
      · rcases Nat.eq_or_lt_of_le (Nat.le_of_lt_succ hx) with e | e
        · subst e; exact absurd y hy
        · exact h1 x e hy
      · rcases hx with hx | hx
        · exact h2 x (Or.inl (by omega))
        · exact h2 x (Or.inr hx)
      · rcases Nat.eq_or_lt_of_le (Nat.le_of_lt_succ hx) with e | e
        · subst e; rw [pk_us]
        · rw [pk_un (by omega)]; exact h1 x e hy
      · have ne : x ≠ i := fun e => by
          rcases hx with hx | hx
          · omega
          · rw [e] at hx; exact y hx
        rw [pk_un ne]
        rcases hx with hx | hx
        · exact h2 x (Or.inl (by omega))
        · exact h2 x (Or.inr hx)
theorem gy_undo {post : SY → Prop} (hs : s < 2) (K : ∀ Z : Nat → Int32, (∀ x, x < 32 → b_arrived x ≠ 0 → Z x = -1) → (∀ x, x < 32 → b_arrived x = 0 → Z x = b_cls x) → post (g_culprit, g_depth, g_lastMade, b_defined, b_version, b_parent, b_own, b_latest, Z, gw_fl b_partner (16 * s) (16 * s + 16) (-1), b_pinned, b_arrived, b_val, b_from, b_made, b_done, b_rows)) : wpY_undo post (g_culprit, g_depth, g_lastMade, b_defined, b_version, b_parent, b_own, b_latest, b_cls, b_partner, b_pinned, b_arrived, b_val, b_from, b_made, b_done, b_rows) (nI s) :=
  ⟨33, gy_undoL hs K 33 0 b_cls (by omega) (by omega) (fun x hx => by omega) (fun _ _ => rfl)⟩
/-- all has arrived -/
theorem gw_R_succ {hh hsn pq0 hF pq : Nat → Nat} {HF : Nat} {dF : Nat → Prop} (hs : s < 2) (HW : gw_W a_defined lv up nf nm kd) (HU : gw_U a_defined lv up nf nm) (HX : gw_CX a_defined a_parent a_level a_fields a_fName a_fKind lv up nf nm kd) (HY : gw_CY a_defined b_parent b_own lv up nf nm kd) (HL : gw_LT a_defined a_latest lv up) (HS : gw_S C0 HD0 AR0 HS0 PT0 hh hsn pq0)
    (hJ : gs_J a_defined a_version C0 S0 V0 PT0 AR0 lv up nf nm kd s x0 ([]) ([]) hF HF dF wr a_oClass a_arrived a_dLevels a_dFields a_plan a_wide a_made a_sObj a_sLev a_sPos a_sCls b_cls b_partner b_arrived b_from b_made b_done g_lastMade a_slot b_val mc pq) (hHD : ∀ o, o < 32 → a_handle o = nI (hF o)) (hHS : a_handles s = nI HF) (hHS0 : ∀ t, t ≠ s → a_handles t = HS0 t) (hDS : ∀ c, a_described c ≠ 0 ↔ dF c) (hHI : gs_HI s hh hF HF) : gw_R a_defined a_parent a_level a_version a_fields a_fName a_fKind a_latest a_oClass a_slot a_handle a_arrived a_handles a_described a_dLevels a_dFields a_plan a_wide b_parent b_own b_cls b_partner b_val := by
  obtain ⟨jS, jD, jF, jB, jO, jV, j4, j5, j6, j7⟩ := hJ
  refine ⟨lv, up, nf, nm, kd, hF, gs_nu hsn s HF, fun o => if o / 16 = s then pq o else pq0 o, HW, HU, HX, HY, jO, jV, ⟨fun o ho => ?_, fun t ht => ?_⟩, fun c hc hd => j7 c hc ((hDS c).mp hd), HL⟩
  · by_cases e : o / 16 = s
    · obtain ⟨a1, a2⟩ := j6.1 o ho e
      refine ⟨hHD o ho, a1, fun hne => ?_⟩
      obtain ⟨b1, b2, b3, b4, b5, b6, b7⟩ := a2 hne
      dsimp only
      rw [if_pos e, e, gs_nu_s]
      exact ⟨by rw [(j4 o ho b7).1]; exact b7, b1, b2, b3, b4, b5, b6⟩
    · have eh : hF o = hh o := hHI.2.2 o e
      obtain ⟨s1, s2, s3⟩ := HS.1 o ho
      refine ⟨hHD o ho, fun z => ?_, fun hne => ?_⟩
      · rw [j6.2.1 o ho e]; exact s2 (by rw [← eh]; exact z)
      · rw [eh] at hne ⊢
        obtain ⟨t1, t2, t3, t4, t5, t6, t7⟩ := s3 hne
        have h16 := gc_H16 (HS.2 (o / 16) (by omega)).2
        dsimp only
        rw [if_neg e, gs_nu_n e]
        refine ⟨by rw [(j4 o ho t1).1]; exact t1, t2, t3, t4, by rw [(j4 _ t3 t5).1]; exact t5, ?_, by rw [j6.2.1 o ho e]; exact t7⟩
        rw [j6.2.2 _ (by omega)]; exact t6
  · by_cases e : t = s
    · subst e
      unfold gw_S2
      rw [gs_nu_s]
      exact ⟨hHS, hHI.1⟩
    · obtain ⟨k1, k2⟩ := HS.2 t ht
      unfold gw_S2
      rw [gs_nu_n e]
      refine ⟨by rw [hHS0 t e]; exact k1, fun a a1 a2 => ?_⟩
      obtain ⟨o, o1, o2, o3⟩ := k2 a a1 a2
      exact ⟨o, o1, o2, by rw [hHI.2.2 o (by omega)]; exact o3⟩
/-- nothing has arrived -/
theorem gw_R_fail {hh hsn pq0 hF : Nat → Nat} {HF : Nat} {dF : Nat → Prop} {C Z : Nat → Int32} (hs : s < 2) (HW : gw_W a_defined lv up nf nm kd) (HU : gw_U a_defined lv up nf nm) (HX : gw_CX a_defined a_parent a_level a_fields a_fName a_fKind lv up nf nm kd) (HY : gw_CY a_defined b_parent b_own lv up nf nm kd) (HL : gw_LT a_defined a_latest lv up) (HOO : gw_O a_defined C0 Z0) (HV0 : gw_V lv up nf nm kd C0 S0 V0) (HS : gw_S C0 HD0 AR0 HS0 PT0 hh hsn pq0)
    (hFF : gs_FF a_defined a_version C0 S0 V0 PT0 AR0 lv up nf nm kd s dF wr a_oClass a_arrived a_dLevels a_dFields a_plan a_wide a_made b_cls b_partner b_arrived a_slot b_val mc) (hHD : ∀ o, o < 32 → a_handle o = nI (hF o)) (hHS0 : ∀ t, t ≠ s → a_handles t = HS0 t) (hDS : ∀ c, a_described c ≠ 0 ↔ dF c) (hHI : gs_HI s hh hF HF)
    (c1 : ∀ x, (∃ i, i < wr ∧ mc i = x) → C x = -1) (c2 : ∀ x, (¬ ∃ i, i < wr ∧ mc i = x) → C x = a_oClass x) (z1 : ∀ x, x < 32 → b_arrived x ≠ 0 → Z x = -1) (z2 : ∀ x, x < 32 → b_arrived x = 0 → Z x = b_cls x) :
    gw_R a_defined a_parent a_level a_version a_fields a_fName a_fKind a_latest C a_slot (gw_fl a_handle (16 * s) (16 * s + 16) 0) a_arrived (upd a_handles s 0) (gw_fl a_described (6 * s) (6 * s + 6) 0) a_dLevels a_dFields a_plan a_wide b_parent b_own Z (gw_fl b_partner (16 * s) (16 * s + 16) (-1)) b_val := by
  obtain ⟨gO, g4, g5, gP, gA, gD⟩ := hFF
  -- the classes of the objects are the old ones
  have eC : ∀ x, x < 32 → C x = C0 x := by
    intro x hx
    rcases Classical.em (∃ i, i < wr ∧ mc i = x) with h | h
    · rw [c1 x h]
      obtain ⟨i, hi, ei⟩ := h
      have := (g5.1 i hi).2.2.2.1
      rw [ei] at this
      exact this.symm
    · rw [c2 x h]
      rcases Classical.em (C0 x = -1) with y | y
      · rcases Classical.em (a_oClass x = -1) with q | q
        · rw [q, y]
        · rcases g5.2.2.1 x hx q with k | k
          · exact absurd y k
          · exact absurd k h
      · exact (g4 x hx y).1
  have eK : ∀ x, x < 32 → gw_kl C x = gw_kl C0 x := fun x hx => by unfold gw_kl; rw [eC x hx]
  have eZ : ∀ x, x < 32 → Z x = Z0 x := by
    intro x hx
    rcases Classical.em (b_arrived x = 0) with y | y
    · rw [z2 x hx y]
      have h : ¬ ∃ i, i < wr ∧ mc i = x := fun h => (g5.2.2.2 x hx).mpr h y
      have e : a_oClass x = C0 x := by rw [← c2 x h]; exact eC x hx
      rcases Classical.em (C0 x = -1) with q | q
      · rw [gw_O_de gO hx (by rw [e]; exact q), gw_O_de HOO hx q]
      · have e2 : gw_kl a_oClass x = gw_kl C0 x := by unfold gw_kl; rw [e]
        rw [(gw_O_al gO hx (by rw [e]; exact q)).2.2.1, (gw_O_al HOO hx q).2.2.1, e2]
    · rw [z1 x hx y]
      obtain ⟨i, hi, ei⟩ := (g5.2.2.2 x hx).mp y
      have := (g5.1 i hi).2.2.2.1
      rw [ei] at this
      exact (gw_O_de HOO hx this).symm
  refine ⟨lv, up, nf, nm, kd, fun o => if o / 16 = s then 0 else hh o, gs_nu hsn s 0, pq0, HW, HU, HX, HY, fun o ho => ?_, fun o ho ha j k => ?_, ⟨fun o ho => ?_, fun t ht => ?_⟩, fun c hc hd => ?_, HL⟩
  · rw [eC o ho, eZ o ho, eK o ho]; exact HOO o ho
  · rw [eK o ho]
    intro hj hk
    rw [eC o ho] at ha
    obtain ⟨q1, q2, q3, q4, q5⟩ := gw_O_al HOO ho ha
    have lo := (HW _ q1).2.2.2.2.1
    have fo := (HW _ (gw_al_ok HW q1 q4 hj).1).1
    have gx := ((HW _ (gw_al_ok HW q1 q4 hj).1).2.2.1 k hk).1
    obtain ⟨r1, r2, r3⟩ := g4 o ho ha
    have h := HV0 o ho ha j k hj hk
    have eS : a_slot (12 * o + 4 * j + k) = S0 (12 * o + 4 * j + k) := by
      have := r2 (4 * j + k) (by omega)
      rw [← Nat.add_assoc] at this
      exact this
    rw [eS, r3 _ gx]
    exact ⟨fun z => (h.1 z).imp id (fun ⟨t, t1, t2, t3, t4, t5⟩ => ⟨t, t1, t2, t3, by rw [eC t t1]; exact t4, t5⟩), h.2⟩
  · by_cases e : o / 16 = s
    · unfold gw_S1
      simp only [if_pos e]
      rw [gw_fl_in (by omega) (by omega), gw_fl_in (by omega) (by omega)]
      exact ⟨rfl, fun _ => rfl, fun h => absurd rfl h⟩
    · have eh : hF o = hh o := hHI.2.2 o e
      obtain ⟨s1, s2, s3⟩ := HS.1 o ho
      unfold gw_S1
      simp only [if_neg e]
      rw [gw_fl_out (by omega), gw_fl_out (by omega), gP o ho e, hHD o ho, eh]
      refine ⟨rfl, s2, fun hne => ?_⟩
      obtain ⟨t1, t2, t3, t4, t5, t6, t7⟩ := s3 hne
      have h16 := gc_H16 (HS.2 (o / 16) (by omega)).2
      rw [gs_nu_n e, eC o ho, eC _ t3, gA _ (by omega)]
      exact ⟨t1, t2, t3, t4, t5, t6, t7⟩
  · by_cases e : t = s
    · subst e
      unfold gw_S2
      rw [gs_nu_s, pk_us]
      exact ⟨rfl, fun a a1 a2 => by omega⟩
    · obtain ⟨k1, k2⟩ := HS.2 t ht
      unfold gw_S2
      rw [gs_nu_n e, pk_un e]
      refine ⟨by rw [hHS0 t e]; exact k1, fun a a1 a2 => ?_⟩
      obtain ⟨o, o1, o2, o3⟩ := k2 a a1 a2
      exact ⟨o, o1, o2, by dsimp only; rw [if_neg (by omega)]; exact o3⟩
  · by_cases e : c / 6 = s
    · rw [gw_fl_in (by omega) (by omega)] at hd
      exact absurd rfl hd
    · rw [gw_fl_out (by omega)] at hd
      exact gD c hc e ((hDS c).mp hd)
end
end
section
section
variable {f_end f_at f_written f_read f_error f_culprit f_nextHandle f_depth f_nTodo : Int32} {a_defined a_parent a_level a_version a_fields a_fName a_fKind a_latest a_oClass a_pinned a_handle a_arrived a_handles a_described a_dLevels a_dFields a_plan a_wide a_wire a_order a_made a_sObj a_sLev a_sPos a_sCls a_todo : Nat → Int32} {a_slot a_pairs : Nat → Int64} {g_culprit g_depth g_lastMade : Int32} {b_defined b_version b_parent b_own b_latest b_cls b_partner b_pinned b_arrived b_from b_made b_done b_rows : Nat → Int32} {b_val : Nat → Int64} {lv up nf nm kd : Nat → Nat} {s : Nat}
theorem gy_start {q : Int32 → SY → Prop} {x x3 r : Int32} {u : SY} (hB : ∀ P : Int32 → SY → Prop, P r u → wpY_begin P (g_culprit, 0, g_lastMade, b_defined, b_version, b_parent, b_own, b_latest, b_cls, b_partner, b_pinned, gw_fl b_arrived 0 32 0, b_val, b_from, b_made, b_done, b_rows) x3 x) (h : ∃ k, match u with | (g_culprit, g_depth, g_lastMade, b_defined, b_version, b_parent, b_own, b_latest, b_cls, b_partner, b_pinned, b_arrived, b_val, b_from, b_made, b_done, b_rows) => wY_send_84 q x x3 k r g_culprit g_depth g_lastMade b_defined b_version b_parent b_own b_latest b_cls b_partner b_pinned b_arrived b_val b_from b_made b_done b_rows) : ∃ n50, wY_send_50 q x x3 g_culprit g_depth g_lastMade n50 0 b_defined b_version b_parent b_own b_latest b_cls b_partner b_pinned b_arrived b_val b_from b_made b_done b_rows := by
  have loop : ∀ n i, i ≤ 32 → 32 - i < n → wY_send_50 q x x3 g_culprit g_depth g_lastMade n (nI i) b_defined b_version b_parent b_own b_latest b_cls b_partner b_pinned (gw_fl b_arrived 0 i 0) b_val b_from b_made b_done b_rows := by
    intro n
    induction n with
    | zero => intro i h1 h2; omega
    | succ n ih =>
      intro i hi hn
      rw [wY_send_50]
      dsimp only
      rcases Nat.eq_or_lt_of_le hi with z | z
      · subst z
        exact br_t (by decide) (hB _ h)
      · simp (disch := omega) only [ze_ge0t, ze_gt0t, ze_gt0f, ze_le0t, ze_le0f, ze_lt0f, ze_eq0p, ze_eq0f, ze_ge1t, ze_ge1f, ze_gt1t, ze_gt1f, ze_le1t, ze_le1f, ze_lt1t, ze_lt1f, ze_eq1p, ze_eq1f, ze_ge2t, ze_ge2f, ze_gt2t, ze_gt2f, ze_le2t, ze_le2f, ze_lt2t, ze_lt2f, ze_eq2p, ze_eq2f, ze_ge3t, ze_ge3f, ze_gt3t, ze_gt3f, ze_le3t, ze_le3f, ze_lt3t, ze_lt3f, ze_eq3p, ze_eq3f, ze_ge4t, ze_ge4f, ze_gt4t, ze_gt4f, ze_le4t, ze_le4f, ze_lt4t, ze_lt4f, ze_eq4p, ze_eq4f, ze_ge5t, ze_ge5f, ze_gt5t, ze_gt5f, ze_le5t, ze_le5f, ze_lt5t, ze_lt5f, ze_eq5p, ze_eq5f, ze_ge6t, ze_ge6f, ze_gt6t, ze_gt6f, ze_le6t, ze_le6f, ze_lt6t, ze_lt6f, ze_eq6p, ze_eq6f, ze_ge7t, ze_ge7f, ze_gt7t, ze_gt7f, ze_le7t, ze_le7f, ze_lt7t, ze_lt7f, ze_eq7p, ze_eq7f, ze_ge9t, ze_ge9f, ze_gt9t, ze_gt9f, ze_le9t, ze_le9f, ze_lt9t, ze_lt9f, ze_eq9p, ze_eq9f, ze_ge10t, ze_ge10f, ze_gt10t, ze_gt10f, ze_le10t, ze_le10f, ze_lt10t, ze_lt10f, ze_eq10p, ze_eq10f, ze_ge12t, ze_ge12f, ze_gt12t, ze_gt12f, ze_le12t, ze_le12f, ze_lt12t, ze_lt12f, ze_eq12p, ze_eq12f, ze_ge15t, ze_ge15f, ze_gt15t, ze_gt15f, ze_le15t, ze_le15f, ze_lt15t, ze_lt15f, ze_eq15p, ze_eq15f, ze_ge16t, ze_ge16f, ze_gt16t, ze_gt16f, ze_le16t, ze_le16f, ze_lt16t, ze_lt16f, ze_eq16p, ze_eq16f, ze_ge30t, ze_ge30f, ze_gt30t, ze_gt30f, ze_le30t, ze_le30f, ze_lt30t, ze_lt30f, ze_eq30p, ze_eq30f, ze_ge32t, ze_ge32f, ze_gt32t, ze_gt32f, ze_le32t, ze_le32f, ze_lt32t, ze_lt32f, ze_eq32p, ze_eq32f, ze_ge47t, ze_ge47f, ze_gt47t, ze_gt47f, ze_le47t, ze_le47f, ze_lt47t, ze_lt47f, ze_eq47p, ze_eq47f, ze_ge120t, ze_ge120f, ze_gt120t, ze_gt120f, ze_le120t, ze_le120f, ze_lt120t, ze_lt120f, ze_eq120p, ze_eq120f, ze_ge1024t, ze_ge1024f, ze_gt1024t, ze_gt1024f, ze_le1024t, ze_le1024f, ze_lt1024t, ze_lt1024f, ze_eq1024p, ze_eq1024f, ze_let, ze_lef, ze_ltt, ze_ltf, ze_eqt, ze_eqf, ze_m1_lt0, ze_m1_n0le, ze_m1_le0, ze_m1_le, ze_m1_lt, ze_m1_nle, ze_m1_nlt, ze_m1_ne, ze_m1_en, ze_m1_ne4, ze_m1_ne0, ze_nz6, ze_nz10, ze_nz12, ze_nz16, ze_nz32, ze_nz192, ze_1ne0, ze_0ne1, ze_0ne4, ↓ze_rem6, ↓ze_rem10, ↓ze_rem16, ↓ze_rem32, ↓ze_rem12, ze_div6, ze_div10, ze_div12, ze_div16, ze_div32, ze_div192, ze_mul3, ze_mul4, ze_mul6, ze_mul10, ze_mul12, ze_mul16, ze_mul17, ze_mul32, ze_mul60, ze_mulr6, ze_nrem6, ze_mulr10, ze_nrem10, ze_mulr12, ze_nrem12, ze_mulr16, ze_nrem16, ze_mulr32, ze_nrem32, nI_add, ze_add1, ze_add6, ze_add7, ze_add8, ze_add12, ze_add16, ze_add0, ze_radd0, ze_radd8, ze_sub1, ze_m1, ze_0sub1, ze_m1add1, ze_1sub, ze_2sub, pk_sub, ze_and3, ze_and7, ze_and31, ze_and127, ↓ze_shr2, ↓ze_shr3, ↓ze_shr5, ↓ze_shl3, ze_i8, ze_nby, ze_i8m1, ze_i80, ze_nbm1, ze_i16, ze_nsh, ze_nb0, ze_nt0, ze_nt1, ze_cl0, ze_cl1, nI_clamp, vp_in_nI, forall_eq, true_implies, false_implies, not_true_eq_false, not_false_eq_true, and_true, true_and, implies_true, and_self, forall_const, Classical.not_not, gw_fl_s0]
        exact ih (i + 1) z (by omega)
  have h := loop 33 0 (by omega) (by omega)
  rw [gw_fl_0] at h
  exact ⟨33, h⟩
/-- the invariant behind the root -/
theorem gs_J_init {dL dF PL WD AR PT : Nat → Int32} {o q H0 H1 : Nat} {hh h1 pq : Nat → Nat} {d : Nat → Prop} (hs : s < 2) (HW : gw_W a_defined lv up nf nm kd) (HU : gw_U a_defined lv up nf nm) (HO : gw_O a_defined a_oClass b_cls) (HV : gw_V lv up nf nm kd a_oClass a_slot b_val) (HS1 : ∀ z, z < 32 → z / 16 = s → (hh z = 0 → b_partner z = -1) ∧ (hh z ≠ 0 → hh z ≤ H0 ∧ pq z < 32 ∧ pq z / 16 = 1 - s ∧ a_oClass (pq z) ≠ -1 ∧ a_arrived (17 * s + hh z) = nI (pq z) ∧ b_partner z = nI (pq z) ∧ a_oClass z ≠ -1)) (hPT0 : ∀ z, z < 32 → a_oClass z = -1 → b_partner z = -1) (hH0 : H0 ≤ 16)
    (ho : o < 32) (hos : o / 16 = s) (ao : a_oClass o ≠ -1) (hq : q < 16) (hq1 : a_oClass (16 * (1 - s) + q) = -1) (hD1 : gw_D1 a_defined a_version dL dF PL WD lv up nf nm kd (gw_kl a_oClass o)) (hFD : gs_FD (gw_kl a_oClass o) dL dF PL WD a_dLevels a_dFields a_plan a_wide) (hdd : ∀ c, c < 12 → d c → gw_D1 a_defined a_version a_dLevels a_dFields a_plan a_wide lv up nf nm kd c)
    (hmk : (hh o = 0 ∧ H0 ≤ 15 ∧ h1 = gs_nu hh o (H0 + 1) ∧ H1 = H0 + 1 ∧ AR = upd a_arrived (17 * s + (H0 + 1)) (nI (16 * (1 - s) + q)) ∧ PT = upd (upd b_partner (16 * (1 - s) + q) (-1)) o (nI (16 * (1 - s) + q))) ∨ (h1 = hh ∧ H1 = H0 ∧ AR = a_arrived ∧ PT = upd b_partner (16 * (1 - s) + q) (-1))) :
    ∃ pq', gs_J a_defined a_version a_oClass a_slot b_val b_partner a_arrived lv up nf nm kd s (16 * (1 - s) + q) ([(o, 0, 0)]) ([16 * (1 - s) + q]) h1 H1 (fun x => d x ∨ x = gw_kl a_oClass o) 1 (upd a_oClass (16 * (1 - s) + q) (nI (gw_mir (gw_kl a_oClass o)))) AR dL dF PL WD (upd a_made 0 (nI (16 * (1 - s) + q))) (upd a_sObj 0 (nI (16 * (1 - s) + q))) (upd a_sLev 0 0) (upd a_sPos 0 0) (upd a_sCls 0 (nI (gw_kl a_oClass o))) (upd b_cls (16 * (1 - s) + q) (nI (gw_kl a_oClass o % 6))) PT (upd (gw_fl b_arrived 0 32 0) (16 * (1 - s) + q) 1) (upd b_from 0 (nI o)) (upd b_made 0 (nI (16 * (1 - s) + q))) (upd b_done 0 0) g_lastMade (gw_zr a_slot (12 * (16 * (1 - s) + q)) (12 * (16 * (1 - s) + q) + 12)) (gs_nvi lv up nf nm kd (gw_mir (gw_kl a_oClass o)) (16 * (1 - s) + q) b_val 10) (fun _ => 16 * (1 - s) + q) pq' := by
  obtain ⟨c1, c2, c3, c4, c5⟩ := gw_O_al HO ho ao
  have m12 := gw_mir_lt c1
  have mdiv := gw_mir_div c1
  have mmod := gw_mir_mod c1
  generalize eo : 16 * (1 - s) + q = o' at *
  have ho' : o' < 32 := by clear hmk; omega
  have ho's : o' / 16 = 1 - s := by clear hmk; omega
  have ne_o' : ∀ x, a_oClass x ≠ -1 → x ≠ o' := fun x hx e => hx (by rw [e]; exact hq1)
  have jO' := gw_O_new HO (o := o') (c := gw_mir (gw_kl a_oClass o)) m12 (by clear hmk; omega) hD1.2.1
  rw [mmod] at jO'
  have nv0 : gw_nv lv up nf nm kd (gw_mir (gw_kl a_oClass o)) o' b_val (gs_nvi lv up nf nm kd (gw_mir (gw_kl a_oClass o)) o' b_val 10) := gs_nvi_nv HW HU m12 hD1.2.1
  refine ⟨gs_nu pq o (if h1 o = hh o then pq o else o'), ⟨⟨pk_us, pk_us, pk_us, pk_us, pk_us, pk_us, ho', ho's, pk_us, by simp, hq1⟩, trivial⟩, ⟨⟨0, pk_us, gs_DN_0 _ _ _ _ _⟩, trivial⟩, fun f hf => ?_, rfl, jO', gw_V_new HW HO HV m12 hD1.2.1 nv0, fun x hx ax => ?_, ⟨fun i hi => ?_, fun i j hij hj => by omega, fun x hx ax => ?_, fun x hx => ?_⟩, ⟨fun x hx hxs => ?_, fun x hx hxs => ?_, fun i hi => ?_⟩, fun c hc hdc => ?_⟩
  · have e : f = (o, 0, 0) := by simpa using hf
    subst e
    exact ⟨⟨ho, hos, ao, Nat.zero_le _, Nat.zero_le _⟩, Or.inr rfl⟩
  · have ne := ne_o' x ax
    refine ⟨pk_un ne, fun i hi => gw_zr_out (by omega), fun i hi => nv0.1 _ (by omega)⟩
  · have e : i = 0 := by omega
    subst e
    exact ⟨pk_us, ho', ho's, hq1, by rw [pk_us]; exact ze_m1_ne (by omega)⟩
  · by_cases e : x = o'
    · exact Or.inr ⟨0, by omega, e.symm⟩
    · rw [pk_un e] at ax; exact Or.inl ax
  · by_cases e : x = o'
    · subst e; rw [pk_us]; exact ⟨fun _ => ⟨0, by omega, rfl⟩, fun _ => by decide⟩
    · rw [pk_un e, gw_fl_in (by omega) hx]
      exact ⟨fun h => absurd rfl h, fun ⟨i, _, ei⟩ => absurd ei.symm e⟩
  · have nx : x ≠ o' := by clear hmk; omega
    obtain ⟨a1, a2⟩ := HS1 x hx hxs
    rcases hmk with ⟨k1, k2, k3, k4, k5, k6⟩ | ⟨k1, k2, k3, k4⟩
    · subst k3 k4 k5 k6
      by_cases e : x = o
      · subst e
        rw [gs_nu_s, gs_nu_s, pk_us, pk_us, if_neg (by omega), pk_us]
        exact ⟨fun h => by omega, fun _ => ⟨by omega, ho', ho's, ze_m1_ne (by omega), rfl, rfl, ao⟩⟩
      · rw [gs_nu_n e, gs_nu_n e, pk_un e, pk_un nx]
        refine ⟨a1, fun hne => ?_⟩
        obtain ⟨b1, b2, b3, b4, b5, b6, b7⟩ := a2 hne
        exact ⟨by omega, b2, b3, by rw [pk_un (ne_o' _ b4)]; exact b4, by rw [pk_un (by omega)]; exact b5, b6, b7⟩
    · subst k1 k2 k3 k4
      have ep : gs_nu pq o (if h1 o = h1 o then pq o else o') x = pq x := by
        rw [if_pos rfl]
        by_cases e : x = o
        · subst e; rw [gs_nu_s]
        · rw [gs_nu_n e]
      rw [ep, pk_un nx]
      refine ⟨a1, fun hne => ?_⟩
      obtain ⟨b1, b2, b3, b4, b5, b6, b7⟩ := a2 hne
      exact ⟨b1, b2, b3, by rw [pk_un (ne_o' _ b4)]; exact b4, b5, b6, b7⟩
  · have base : upd b_partner o' (-1) x = b_partner x := by
      by_cases e : x = o'
      · subst e; rw [pk_us, hPT0 x hx hq1]
      · rw [pk_un e]
    rcases hmk with ⟨k1, k2, k3, k4, k5, k6⟩ | ⟨k1, k2, k3, k4⟩
    · rw [k6, pk_un (fun e => hxs (by rw [e]; exact hos))]; exact base
    · rw [k4]; exact base
  · rcases hmk with ⟨k1, k2, k3, k4, k5, k6⟩ | ⟨k1, k2, k3, k4⟩
    · rw [k5, pk_un (by omega)]
    · rw [k3]
  · by_cases e : c = gw_kl a_oClass o
    · rw [e]; exact hD1
    · exact gw_D1_fd HW hc (hdd c hc (hdc.resolve_right e)) hFD e
/-- behind the writer -/
theorem gs_rest {post : Int32 → SX → Prop} {YS : (Int32 → SY → Prop) → Prop} {x2 : Int32} {hF hh h1 pq : Nat → Nat} {HF H0 H1 n e0 o mk : Nat} {d dF : Nat → Prop} (hs : s < 2) (HW : gw_W a_defined lv up nf nm kd) (HU : gw_U a_defined lv up nf nm) (HX : gw_CX a_defined a_parent a_level a_fields a_fName a_fKind lv up nf nm kd) (HY : gw_CY a_defined b_parent b_own lv up nf nm kd) (HO : gw_O a_defined a_oClass b_cls) (HV : gw_V lv up nf nm kd a_oClass a_slot b_val)
    (HS1 : ∀ z, z < 32 → z / 16 = s → (hh z = 0 → b_partner z = -1) ∧ (hh z ≠ 0 → hh z ≤ H0 ∧ pq z < 32 ∧ pq z / 16 = 1 - s ∧ a_oClass (pq z) ≠ -1 ∧ a_arrived (17 * s + hh z) = nI (pq z) ∧ b_partner z = nI (pq z) ∧ a_oClass z ≠ -1)) (hPT0 : ∀ z, z < 32 → a_oClass z = -1 → b_partner z = -1) (hH0 : H0 ≤ 16)
    (ho : o < 32) (hos : o / 16 = s) (ao : a_oClass o ≠ -1) (hdd : ∀ c, c < 12 → d c → gw_D1 a_defined a_version a_dLevels a_dFields a_plan a_wide lv up nf nm kd c)
    (hmk : (mk = 2 ∧ x2 = 0 ∧ hh o = 0 ∧ H0 ≤ 15 ∧ h1 = gs_nu hh o (H0 + 1) ∧ H1 = H0 + 1) ∨ (mk = 3 ∧ x2 ≠ 0 ∧ h1 = hh ∧ H1 = H0))
    (hw : a_wire 0 = nI mk) (hOD : gs_OD a_version lv up nf nm kd a_wire d (gw_kl a_oClass o) 1 e0) (he0 : e0 ≤ 2400) (hod : a_order 0 = nI o)
    (hR : gs_Run a_version lv up nf nm kd a_oClass a_slot s a_wire a_order hF HF dF n [(o, 0, 0)] h1 H1 (fun x => d x ∨ x = gw_kl a_oClass o) e0 1)
    (YST : ∀ q r u, (∀ P : Int32 → SY → Prop, P r u → wpY_begin P (f_culprit, 0, g_lastMade, a_defined, a_version, b_parent, b_own, a_latest, b_cls, b_partner, a_pinned, gw_fl b_arrived 0 32 0, b_val, b_from, b_made, b_done, b_rows) (nI o) x2) → (∃ k, match u with | (g_culprit, g_depth, g_lastMade, b_defined, b_version, b_parent, b_own, b_latest, b_cls, b_partner, b_pinned, b_arrived, b_val, b_from, b_made, b_done, b_rows) => wY_send_84 q x2 (nI o) k r g_culprit g_depth g_lastMade b_defined b_version b_parent b_own b_latest b_cls b_partner b_pinned b_arrived b_val b_from b_made b_done b_rows) → YS q)
    (SUCC : ∀ C PN AR dL dF' PL WD MD sO sL sP sC Z PT YA fr ma dn Sl VL lm mc pq' x0 e wr, x0 < 32 → x0 / 16 = 1 - s → gs_J a_defined a_version a_oClass a_slot b_val b_partner a_arrived lv up nf nm kd s x0 ([]) ([]) hF HF dF wr C AR dL dF' PL WD MD sO sL sP sC Z PT YA fr ma dn lm Sl VL mc pq' →
      (∀ q, wY_send_106 q (nI o) 0 f_culprit (nI 0) lm a_defined a_version b_parent b_own a_latest Z PT PN YA VL fr ma dn b_rows → YS q) → post (nI x0) (f_end, nI e, f_written, nI wr, 0, f_culprit, nI HF, nI 0, f_nTodo, a_defined, a_parent, a_level, a_version, a_fields, a_fName, a_fKind, a_latest, C, PN, Sl, a_handle, AR, a_handles, a_described, dL, dF', PL, WD, a_wire, a_order, MD, sO, sL, sP, sC, a_pairs, a_todo))
    (FAIL : ∀ C PN AR dL dF' PL WD MD sO sL sP sC Z PT YA fr ma dn Sl VL lm mc y2 er at' wr nh dp dq z, er ≠ 0 → z < 32 → z / 16 = s → a_order wr = nI z → wr ≤ 16 → gs_FF a_defined a_version a_oClass a_slot b_val b_partner a_arrived lv up nf nm kd s dF wr C AR dL dF' PL WD MD Z PT YA Sl VL mc →
      (∀ q, wY_send_106 q (nI o) er (nI (z / 16 * 32 + z % 16)) dq lm a_defined a_version b_parent b_own a_latest Z PT PN YA VL fr ma dn b_rows → YS q) → post y2 (f_end, at', f_written, nI wr, er, f_culprit, nh, dp, f_nTodo, a_defined, a_parent, a_level, a_version, a_fields, a_fName, a_fKind, a_latest, C, PN, Sl, a_handle, AR, a_handles, a_described, dL, dF', PL, WD, a_wire, a_order, MD, sO, sL, sP, sC, a_pairs, a_todo)) :
    wpX_readAll post (f_end, f_at, f_written, f_read, f_error, f_culprit, nI H0, f_depth, f_nTodo, a_defined, a_parent, a_level, a_version, a_fields, a_fName, a_fKind, a_latest, a_oClass, a_pinned, a_slot, a_handle, a_arrived, a_handles, a_described, a_dLevels, a_dFields, a_plan, a_wide, a_wire, a_order, a_made, a_sObj, a_sLev, a_sPos, a_sCls, a_pairs, a_todo) (nI (1 - s)) := by
  obtain ⟨c1, c2, c3, c4, c5⟩ := gw_O_al HO ho ao
  have hle := gs_OD_le hOD
  unfold wpX_readAll; dsimp only
  refine gx_read2s (e := 0) (mk := mk) (rd := 0) (n := 0) (H := H0) (d := d) HW HX HO c1 (by omega) c4 (by rcases hmk with h | h; exact Or.inl h.1; exact Or.inr h.1) he0 (by omega) hw hOD (hdd _ c1) (fun _ => by omega) (fun h2 => by rcases hmk with h | h; exact h.2.2.2.1; exact absurd (h.1.symm.trans h2) (by decide)) (by omega) (fun er at' dL dF' PL WD hob hFD hsame => ?_) (fun q dL dF' PL WD AR H' hq hq1 hq2 hD1 hFD hA2 hA3 => ?_)
  · dsimp only
    refine nm_e ⟨1, ?_⟩
    rw [wX_readAll_28]
    dsimp only
    have er0 := gs_obs_0 hob
    have dFd : ∀ c, c < 12 → c / 6 ≠ s → dF c → gw_D1 a_defined a_version dL dF' PL WD lv up nf nm kd c := by
      intro c hc hcs hdc
      have k := gs_Run_d HO _ _ _ _ _ _ _ hR c hcs hdc
      have ne : c ≠ gw_kl a_oClass o := fun e => hcs (by rw [e]; omega)
      exact gw_D1_fd HW hc (hdd c hc (k.resolve_right ne)) hFD ne
    refine br_t (by decide) (FAIL a_oClass a_pinned a_arrived dL dF' PL WD a_made a_sObj a_sLev a_sPos a_sCls b_cls b_partner (gw_fl b_arrived 0 32 0) b_from b_made b_done a_slot b_val g_lastMade (fun _ => 0) _ er at' 0 _ _ 0 o er0 ho hos hod (by omega) ⟨HO, fun x _ _ => ⟨rfl, fun _ _ => rfl, fun _ _ => rfl⟩, ⟨fun i hi => by omega, fun i j hij hj => by omega, fun x _ hx => Or.inl hx, fun x hx => ?_⟩, fun _ _ _ => rfl, fun _ _ => rfl, dFd⟩ (fun q hq => YST q er (nI (o / 16 * 32 + o % 16), 0, g_lastMade, a_defined, a_version, b_parent, b_own, a_latest, b_cls, b_partner, a_pinned, gw_fl b_arrived 0 32 0, b_val, b_from, b_made, b_done, b_rows) (fun P hP => gy_beginE (er := er) HW HY HO ho ao hob hP) ⟨1, ?_⟩))
    · rw [gw_fl_in (by omega) hx]
      exact ⟨fun h => absurd rfl h, fun ⟨i, hi, _⟩ => by omega⟩
    · show wY_send_84 q x2 (nI o) 1 er _ _ _ _ _ _ _ _ _ _ _ _ _ _ _ _ _
      rw [wY_send_84]
      dsimp only
      exact br_f er0 hq
  · dsimp only
    refine nm_r (nI_pred _) ⟨n + 1, ?_⟩
    have e1s : 1 - o / 16 = 1 - s := by omega
    obtain ⟨PT, hPT, eH', hmk'⟩ : ∃ PT, ((0 < 0 ∨ x2 = 0) ∧ PT = upd (upd b_partner (16 * (1 - o / 16) + q) (-1)) o (nI (16 * (1 - o / 16) + q)) ∨ (0 = 0 ∧ x2 ≠ 0) ∧ PT = upd b_partner (16 * (1 - o / 16) + q) (-1)) ∧ H' = H1 ∧ ((hh o = 0 ∧ H0 ≤ 15 ∧ h1 = gs_nu hh o (H0 + 1) ∧ H1 = H0 + 1 ∧ AR = upd a_arrived (17 * s + (H0 + 1)) (nI (16 * (1 - s) + q)) ∧ PT = upd (upd b_partner (16 * (1 - s) + q) (-1)) o (nI (16 * (1 - s) + q))) ∨ (h1 = hh ∧ H1 = H0 ∧ AR = a_arrived ∧ PT = upd b_partner (16 * (1 - s) + q) (-1))) := by
      rcases hmk with ⟨k1, k2, k3, k4, k5, k6⟩ | ⟨k1, k2, k3, k4⟩
      · obtain ⟨a1, a2⟩ := hA2 k1
        exact ⟨_, Or.inl ⟨Or.inr k2, rfl⟩, by rw [a2, k6], Or.inl ⟨k3, k4, k5, k6, a1, by rw [e1s]⟩⟩
      · obtain ⟨a1, a2⟩ := hA3 k1
        exact ⟨_, Or.inr ⟨⟨rfl, k2⟩, rfl⟩, by rw [a2, k4], Or.inr ⟨k3, k4, a1, by rw [e1s]⟩⟩
    obtain ⟨pq', hJ⟩ := gs_J_init (b_arrived := b_arrived) (b_from := b_from) (b_made := b_made) (b_done := b_done) (g_lastMade := g_lastMade) (a_made := a_made) (a_sObj := a_sObj) (a_sLev := a_sLev) (a_sPos := a_sPos) (a_sCls := a_sCls) hs HW HU HO HV HS1 hPT0 hH0 ho hos ao hq hq1 hD1 hFD hdd hmk'
    rw [eH']
    have YH : ∀ q', (∃ k, wY_send_84 q' x2 (nI o) k 0 f_culprit (nI [(o, 0, 0)].length) g_lastMade a_defined a_version b_parent b_own a_latest (upd b_cls (16 * (1 - s) + q) (nI (gw_kl a_oClass o % 6))) PT (upd a_pinned (16 * (1 - s) + q) 0) (upd (gw_fl b_arrived 0 32 0) (16 * (1 - s) + q) 1) (gs_nvi lv up nf nm kd (gw_mir (gw_kl a_oClass o)) (16 * (1 - s) + q) b_val 10) (upd b_from 0 (nI o)) (upd b_made 0 (nI (16 * (1 - s) + q))) (upd b_done 0 0) b_rows) → YS q' := by
      intro q' hq'
      refine YST q' 0 (f_culprit, nI 1, g_lastMade, a_defined, a_version, b_parent, b_own, a_latest, upd b_cls (16 * (1 - s) + q) (nI (gw_kl a_oClass o % 6)), PT, upd a_pinned (16 * (1 - s) + q) 0, upd (gw_fl b_arrived 0 32 0) (16 * (1 - s) + q) 1, gs_nvi lv up nf nm kd (gw_mir (gw_kl a_oClass o)) (16 * (1 - s) + q) b_val 10, upd b_from 0 (nI o), upd b_made 0 (nI (16 * (1 - s) + q)), upd b_done 0 0, b_rows) (fun P hP => ?_) hq'
      have key := gy_beginO (post := P) (n := 0) (q := q) (x := x2) (y := o) (a_oClass := a_oClass) (g_culprit := f_culprit) (g_lastMade := g_lastMade) (b_defined := a_defined) (b_version := a_version) (b_parent := b_parent) (b_own := b_own) (b_latest := a_latest) (b_cls := b_cls) (b_partner := b_partner) (b_pinned := a_pinned) (b_arrived := gw_fl b_arrived 0 32 0) (b_val := b_val) (b_from := b_from) (b_made := b_made) (b_done := b_done) (b_rows := b_rows) (PT := PT) HW HU HY HO ho ao hD1.2.1 (fun i hi => (hD1.2.2.2 i hi).1) hq (by rw [e1s]; exact hq1) (by rw [e1s]; exact hq2) (by omega) hPT
      rw [e1s] at key
      exact key hP
    refine gs_lock (x3 := nI o) (x2 := x2) hs HW HU HX HY HO HV hPT0 (fun C PN AR dL dF' PL WD MD sO sL sP sC Z PT YA fr ma dn Sl VL lm mc pq' e wr hJ' YH' => ?_) (fun C PN AR dL dF' PL WD MD sO sL sP sC Z PT YA fr ma dn Sl VL lm mc pq' er at' wr nh dp dq z er0 hz hzs az hodz hwr hFF YH' => ?_) n [(o, 0, 0)] [16 * (1 - s) + q] h1 H1 (fun x => d x ∨ x = gw_kl a_oClass o) e0 1 _ _ _ _ _ _ _ _ _ _ _ _ _ _ _ _ _ _ _ _ _ (fun _ => 16 * (1 - s) + q) pq' hR (by show 0 + 1 ≤ 17; omega) hJ YH (n + 1) (by omega)
    · exact SUCC C PN AR dL dF' PL WD MD sO sL sP sC Z PT YA fr ma dn Sl VL lm mc pq' _ e wr (by omega) (by omega) hJ' YH'
    · exact FAIL C PN AR dL dF' PL WD MD sO sL sP sC Z PT YA fr ma dn Sl VL lm mc _ er at' wr nh dp dq z er0 hz hzs hodz hwr hFF YH'
end
end
section
section
variable {f_end f_at f_written f_read f_error f_culprit f_nextHandle f_depth f_nTodo : Int32} {a_defined a_parent a_level a_version a_fields a_fName a_fKind a_latest a_oClass a_pinned a_handle a_arrived a_handles a_described a_dLevels a_dFields a_plan a_wide a_wire a_order a_made a_sObj a_sLev a_sPos a_sCls a_todo : Nat → Int32} {a_slot a_pairs : Nat → Int64} {g_culprit g_depth g_lastMade : Int32} {b_defined b_version b_parent b_own b_latest b_cls b_partner b_pinned b_arrived b_from b_made b_done b_rows : Nat → Int32} {b_val : Nat → Int64}
theorem gm_send {k : Nat} (R : gw_R a_defined a_parent a_level a_version a_fields a_fName a_fKind a_latest a_oClass a_slot a_handle a_arrived a_handles a_described a_dLevels a_dFields a_plan a_wide b_parent b_own b_cls b_partner b_val) (v1 v2 : Int32) : wpX_send (fun r u' => wpY_send (fun r' v' => r' = r ∧ i_Rel (k + 5) u' v') (f_culprit, g_depth, g_lastMade, a_defined, a_version, b_parent, b_own, a_latest, b_cls, b_partner, a_pinned, b_arrived, b_val, b_from, b_made, b_done, b_rows) v1 v2) (f_end, f_at, f_written, f_read, f_error, f_culprit, f_nextHandle, f_depth, f_nTodo, a_defined, a_parent, a_level, a_version, a_fields, a_fName, a_fKind, a_latest, a_oClass, a_pinned, a_slot, a_handle, a_arrived, a_handles, a_described, a_dLevels, a_dFields, a_plan, a_wide, a_wire, a_order, a_made, a_sObj, a_sLev, a_sPos, a_sCls, a_pairs, a_todo) v1 v2 := by
  obtain ⟨lv, up, nf, nm, kd, hh, hsn, pq, HW, HU, HX, HY, HO, HV, HS, HD, HL⟩ := id R
  obtain ⟨r, hr, kx, ky⟩ : gj_OB a_oClass (f_end, f_at, f_written, f_read, f_error, f_culprit, f_nextHandle, f_depth, f_nTodo, a_defined, a_parent, a_level, a_version, a_fields, a_fName, a_fKind, a_latest, a_oClass, a_pinned, a_slot, a_handle, a_arrived, a_handles, a_described, a_dLevels, a_dFields, a_plan, a_wide, a_wire, a_order, a_made, a_sObj, a_sLev, a_sPos, a_sCls, a_pairs, a_todo) (f_culprit, g_depth, g_lastMade, a_defined, a_version, b_parent, b_own, a_latest, b_cls, b_partner, a_pinned, b_arrived, b_val, b_from, b_made, b_done, b_rows) v1 := gj_object HO v1
  rcases hr with rfl | ⟨-, o, ho, rfl, ao⟩
  · unfold wpX_send; dsimp only
    refine kx _ (br_f (by decide) ?_)
    unfold wpY_send; dsimp only
    exact ky _ (br_f (by decide) ⟨rfl, gi_in R⟩)
  · obtain ⟨c1, c2, c3, c4, c5⟩ := gw_O_al HO ho ao
    have hs : o / 16 < 2 := by omega
    obtain ⟨s1, s2, s3⟩ := HS.1 o ho
    obtain ⟨u1, u2⟩ := HS.2 (o / 16) hs
    have H16 := gc_H16 u2
    have o16 : hh o ≤ 16 := by
      rcases Nat.eq_zero_or_pos (hh o) with z | z
      · omega
      · have := (s3 (by omega)).2.1; omega
    have YST : (hh o = 0 ∨ v2 ≠ 0) → ∀ (q : Int32 → SY → Prop) (r : Int32) (u : SY), (∀ P : Int32 → SY → Prop, P r u → wpY_begin P (f_culprit, 0, g_lastMade, a_defined, a_version, b_parent, b_own, a_latest, b_cls, b_partner, a_pinned, gw_fl b_arrived 0 32 0, b_val, b_from, b_made, b_done, b_rows) (nI o) v2) → (∃ k, match u with | (g_culprit, g_depth, g_lastMade, b_defined, b_version, b_parent, b_own, b_latest, b_cls, b_partner, b_pinned, b_arrived, b_val, b_from, b_made, b_done, b_rows) => wY_send_84 q v2 (nI o) k r g_culprit g_depth g_lastMade b_defined b_version b_parent b_own b_latest b_cls b_partner b_pinned b_arrived b_val b_from b_made b_done b_rows) → wpY_send q (f_culprit, g_depth, g_lastMade, a_defined, a_version, b_parent, b_own, a_latest, b_cls, b_partner, a_pinned, b_arrived, b_val, b_from, b_made, b_done, b_rows) v1 v2 := by
      intro hgo q r u hB h
      have st := gy_start (g_depth := g_depth) hB h
      unfold wpY_send; dsimp only
      refine ky _ (br_t (nI_pos' (by omega)) ⟨vp_in_nI ho (by decide), ?_⟩)
      rw [nI_clamp (n := o) (by omega)]
      by_cases z : hh o = 0
      · rw [s2 z]
        exact br_t (by decide) st
      · obtain ⟨t1, t2, t3, t4, t5, t6, t7⟩ := s3 z
        rw [t7]
        exact br_f (nI_pos (by omega)) (br_f (hgo.resolve_left z) st)
    have hPT0 : ∀ z, z < 32 → a_oClass z = -1 → b_partner z = -1 := by
      intro z hz az
      obtain ⟨_, k2, k3⟩ := HS.1 z hz
      rcases Nat.eq_zero_or_pos (hh z) with y | y
      · exact k2 y
      · exact absurd az (k3 (by omega)).1
    have HS1 : ∀ z, z < 32 → z / 16 = o / 16 → (hh z = 0 → b_partner z = -1) ∧ (hh z ≠ 0 → hh z ≤ hsn (o / 16) ∧ pq z < 32 ∧ pq z / 16 = 1 - o / 16 ∧ a_oClass (pq z) ≠ -1 ∧ a_arrived (17 * (o / 16) + hh z) = nI (pq z) ∧ b_partner z = nI (pq z) ∧ a_oClass z ≠ -1) := by
      intro z hz e
      obtain ⟨_, k2, k3⟩ := HS.1 z hz
      refine ⟨k2, fun h => ?_⟩
      obtain ⟨t1, t2, t3, t4, t5, t6, t7⟩ := k3 h
      rw [e] at t2 t4 t6
      exact ⟨t2, t3, t4, t5, t6, t7, t1⟩
    have HI0 : gs_HI (o / 16) hh hh (hsn (o / 16)) := by
      refine ⟨u2, fun z hz e => ?_, fun _ _ => rfl⟩
      rcases Nat.eq_zero_or_pos (hh z) with y | y
      · omega
      · exact ((HS1 z hz e).2 (by omega)).1
    have hdd : ∀ c, c < 12 → a_described c ≠ 0 → gw_D1 a_defined a_version a_dLevels a_dFields a_plan a_wide lv up nf nm kd c := HD
    have U6 : gs_U (o / 16) (fun x => a_described x ≠ 0) ≤ 6 := by unfold gs_U; omega
    have go : (hh o = 0 ∨ v2 ≠ 0) → wX_send_56 (fun r u' => wpY_send (fun r' v' => r' = r ∧ i_Rel (k + 5) u' v') (f_culprit, g_depth, g_lastMade, a_defined, a_version, b_parent, b_own, a_latest, b_cls, b_partner, a_pinned, b_arrived, b_val, b_from, b_made, b_done, b_rows) v1 v2) v2 (nI o) (nI (o / 16)) f_end f_at f_written f_read f_error f_culprit f_nextHandle f_depth f_nTodo a_defined a_parent a_level a_version a_fields a_fName a_fKind a_latest a_oClass a_pinned a_slot a_handle a_arrived a_handles a_described a_dLevels a_dFields a_plan a_wide a_wire a_order a_made a_sObj a_sLev a_sPos a_sCls a_pairs a_todo := by
      intro hgo
      unfold wX_send_56
      refine ⟨vp_in_nI hs (by decide), nm_r (e' := nI (hsn (o / 16))) (by rw [nI_clamp (by omega)]; exact u1) ?_⟩
      rw [ze_1sub (by omega)]
      unfold wpX_writeAll wpX_write; dsimp only
      rw [nI_clamp (n := o) (by omega), s1]
      refine br_t (nI_pos' (by omega)) ⟨vp_in_nI ho (by decide), ?_⟩
      have split : ∀ W A : Prop, W → ((nI (hh o) ≤ 0 → W) ∧ (¬ nI (hh o) ≤ 0 → ((v2 = 0 → A) ∧ (¬ v2 = 0 → W)))) := by
        intro W A hW
        by_cases z : hh o = 0
        · exact br_t (ze_le0t (by omega)) hW
        · exact br_f (ze_le0f (by omega) (by omega)) (br_f (hgo.resolve_left z) hW)
      refine split _ _ ?_
      refine gx_wnew (z := o) (s := o / 16) (e := 0) (wr := 0) (n := 0) (H := hsn (o / 16)) HW HX HO ho rfl ao (by omega) (by omega) (by omega) H16 u1 (fun y0 w' e' DS b1 b2 b3 b4 b5 b6 b7 => ?_) (fun y0 w' e' DS b1 b2 b3 b4 b5 b6 b7 => ?_)
      · dsimp only
        have z0 : hh o = 0 := hgo.resolve_right (fun h => h y0)
        have H15 := gc_H15 u2 ho rfl z0
        have hHI : gs_HI (o / 16) hh (gs_nu hh o (hsn (o / 16) + 1)) (hsn (o / 16) + 1) := gs_HI_n HI0 ho rfl z0
        have hHD : ∀ x, x < 32 → upd a_handle o (nI (hsn (o / 16) + 1)) x = nI (gs_nu hh o (hsn (o / 16) + 1) x) := by
          intro x hx
          by_cases e : x = o
          · rw [e, pk_us, gs_nu_s]
          · rw [pk_un e, gs_nu_n e]; exact (HS.1 x hx).1
        have bud : e' + (10 * (12 - (4 * 0 + 0)) + 0) + 123 * (16 - (hsn (o / 16) + 1)) + 48 * gs_U (o / 16) (fun x => a_described x ≠ 0 ∨ x = gw_kl a_oClass o) ≤ 2379 := by
          rcases Classical.em (a_described (gw_kl a_oClass o) ≠ 0) with dd | dd
          · have a := b2 dd
            have b := gs_U_s (s := o / 16) (c := gw_kl a_oClass o) (d := fun x => a_described x ≠ 0)
            omega
          · have a := gs_U_n (s := o / 16) (d := fun x => a_described x ≠ 0) hs c1 (by omega) dd
            omega
        refine ⟨_, gx_writer (h0 := hh) (HS0 := a_handles) hs HW HX HO HV _ [(o, 0, 0)] (gs_nu hh o (hsn (o / 16) + 1)) (hsn (o / 16) + 1) (fun x => a_described x ≠ 0 ∨ x = gw_kl a_oClass o) e' 1 (upd a_handle o (nI (hsn (o / 16) + 1))) (upd a_handles (o / 16) (nI (hsn (o / 16) + 1))) DS (upd a_order 0 (nI o)) w' (upd a_sObj 0 (nI o)) (upd a_sLev 0 0) (upd a_sPos 0 0) (upd a_sCls 0 (nI (gw_kl a_oClass o))) (Nat.lt_succ_self _) ⟨fun f hf => ?_, hHI, by show 0 + 1 ≤ _; omega, by omega, bud⟩ hHD pk_us (fun t ht => pk_un ht) b7 ⟨pk_us, pk_us, pk_us, pk_us, trivial⟩ (fun n hF HF dF wF odF e'' wr' HD' HS' DS' sO' sL' sP' sC' hR q1 q2 q3 q4 q5 q6 q7 => ?_)⟩
        · have e : f = (o, 0, 0) := by simpa using hf
          subst e
          exact ⟨ho, rfl, ao, Nat.zero_le _, Nat.zero_le _⟩
        · dsimp only
          refine gs_rest (mk := 2) (YS := fun q => wpY_send q (f_culprit, g_depth, g_lastMade, a_defined, a_version, b_parent, b_own, a_latest, b_cls, b_partner, a_pinned, b_arrived, b_val, b_from, b_made, b_done, b_rows) v1 v2) (x2 := v2) (h1 := (gs_nu hh o (hsn (o / 16) + 1))) (H1 := (hsn (o / 16) + 1)) (H0 := hsn (o / 16)) (hh := hh) (pq := pq) (d := fun x => a_described x ≠ 0) (e0 := e') (n := n) (hF := hF) (HF := HF) (dF := dF) hs HW HU HX HY HO HV HS1 hPT0 H16 ho rfl ao hdd (Or.inl ⟨rfl, y0, z0, H15, rfl, rfl⟩) (by rw [q1 0 (by omega)]; exact b5) (gs_OD_k b6 (by omega) (fun j j1 j2 => q1 j j2)) (by omega) (by rw [q2 0 (by omega), pk_us]) hR (YST hgo) (fun C PN AR dL dF' PL WD MD sO sL sP sC Z PT YA fr ma dn Sl VL lm mc pq' x0 e wr hx hx2 hJ YH => ?_) (fun C PN AR dL dF' PL WD MD sO sL sP sC Z PT YA fr ma dn Sl VL lm mc y2 er at' wr nh dp dq z er0 hz hzs hod hwr hFF YH => ?_)
          · have elm : lm = nI x0 := hJ.2.2.2.1
            dsimp only
            refine br_t rfl ⟨vp_in_nI hx (by decide), nm_e (YH _ ?_)⟩
            subst elm
            unfold wY_send_106
            refine br_t rfl ⟨vp_in_nI hx (by decide), nm_e ⟨by decide, ?_, gi_in (gw_R_succ hs HW HU HX HY HL HS hJ q3 q4 q5 q6 q7)⟩⟩
            rw [ze_rem16 (by omega), ze_mul16, pk_sub (by omega)]
            exact congrArg nI (by omega)
          · dsimp only
            refine br_f er0 ⟨vp_in_nI (by omega) (by decide), ?_⟩
            rw [nI_clamp (n := wr) (by omega), hod]
            refine gx_idOf hz ⟨17, ?_⟩
            refine gx_s128 (mc := mc) hs hwr (fun i hi => ⟨(hFF.2.2.1.1 i hi).1, (hFF.2.2.1.1 i hi).2.1⟩) (fun C' k1 k2 => YH _ ?_) 17 0 C (by omega) (by omega) (fun x ⟨j, hj, _⟩ => by omega) (fun _ _ => rfl)
            unfold wY_send_106
            refine br_f er0 ⟨by decide, ?_⟩
            rw [ze_div16 (by omega)]
            refine gy_undo hs (fun Z' l1 l2 => ?_)
            dsimp only
            exact ⟨rfl, gi_in (gw_R_fail hs HW HU HX HY HL HO HV HS hFF q3 q5 q6 q7 k1 k2 l1 l2)⟩
      · dsimp only
        have bud : e' + (10 * (12 - (4 * 0 + 0)) + 0) + 123 * (16 - (hsn (o / 16))) + 48 * gs_U (o / 16) (fun x => a_described x ≠ 0 ∨ x = gw_kl a_oClass o) ≤ 2379 := by
          rcases Classical.em (a_described (gw_kl a_oClass o) ≠ 0) with dd | dd
          · have a := b2 dd
            have b := gs_U_s (s := o / 16) (c := gw_kl a_oClass o) (d := fun x => a_described x ≠ 0)
            omega
          · have a := gs_U_n (s := o / 16) (d := fun x => a_described x ≠ 0) hs c1 (by omega) dd
            omega
        refine ⟨_, gx_writer (h0 := hh) (HS0 := a_handles) hs HW HX HO HV _ [(o, 0, 0)] hh (hsn (o / 16)) (fun x => a_described x ≠ 0 ∨ x = gw_kl a_oClass o) e' 1 a_handle a_handles DS (upd a_order 0 (nI o)) w' (upd a_sObj 0 (nI o)) (upd a_sLev 0 0) (upd a_sPos 0 0) (upd a_sCls 0 (nI (gw_kl a_oClass o))) (Nat.lt_succ_self _) ⟨fun f hf => ?_, HI0, by show 0 + 1 ≤ _; omega, by omega, bud⟩ (fun x hx => (HS.1 x hx).1) u1 (fun _ _ => rfl) b7 ⟨pk_us, pk_us, pk_us, pk_us, trivial⟩ (fun n hF HF dF wF odF e'' wr' HD' HS' DS' sO' sL' sP' sC' hR q1 q2 q3 q4 q5 q6 q7 => ?_)⟩
        · have e : f = (o, 0, 0) := by simpa using hf
          subst e
          exact ⟨ho, rfl, ao, Nat.zero_le _, Nat.zero_le _⟩
        · dsimp only
          refine gs_rest (mk := 3) (YS := fun q => wpY_send q (f_culprit, g_depth, g_lastMade, a_defined, a_version, b_parent, b_own, a_latest, b_cls, b_partner, a_pinned, b_arrived, b_val, b_from, b_made, b_done, b_rows) v1 v2) (x2 := v2) (h1 := hh) (H1 := (hsn (o / 16))) (H0 := hsn (o / 16)) (hh := hh) (pq := pq) (d := fun x => a_described x ≠ 0) (e0 := e') (n := n) (hF := hF) (HF := HF) (dF := dF) hs HW HU HX HY HO HV HS1 hPT0 H16 ho rfl ao hdd (Or.inr ⟨rfl, y0, rfl, rfl⟩) (by rw [q1 0 (by omega)]; exact b5) (gs_OD_k b6 (by omega) (fun j j1 j2 => q1 j j2)) (by omega) (by rw [q2 0 (by omega), pk_us]) hR (YST hgo) (fun C PN AR dL dF' PL WD MD sO sL sP sC Z PT YA fr ma dn Sl VL lm mc pq' x0 e wr hx hx2 hJ YH => ?_) (fun C PN AR dL dF' PL WD MD sO sL sP sC Z PT YA fr ma dn Sl VL lm mc y2 er at' wr nh dp dq z er0 hz hzs hod hwr hFF YH => ?_)
          · have elm : lm = nI x0 := hJ.2.2.2.1
            dsimp only
            refine br_t rfl ⟨vp_in_nI hx (by decide), nm_e (YH _ ?_)⟩
            subst elm
            unfold wY_send_106
            refine br_t rfl ⟨vp_in_nI hx (by decide), nm_e ⟨by decide, ?_, gi_in (gw_R_succ hs HW HU HX HY HL HS hJ q3 q4 q5 q6 q7)⟩⟩
            rw [ze_rem16 (by omega), ze_mul16, pk_sub (by omega)]
            exact congrArg nI (by omega)
          · dsimp only
            refine br_f er0 ⟨vp_in_nI (by omega) (by decide), ?_⟩
            rw [nI_clamp (n := wr) (by omega), hod]
            refine gx_idOf hz ⟨17, ?_⟩
            refine gx_s128 (mc := mc) hs hwr (fun i hi => ⟨(hFF.2.2.1.1 i hi).1, (hFF.2.2.1.1 i hi).2.1⟩) (fun C' k1 k2 => YH _ ?_) 17 0 C (by omega) (by omega) (fun x ⟨j, hj, _⟩ => by omega) (fun _ _ => rfl)
            unfold wY_send_106
            refine br_f er0 ⟨by decide, ?_⟩
            rw [ze_div16 (by omega)]
            refine gy_undo hs (fun Z' l1 l2 => ?_)
            dsimp only
            exact ⟨rfl, gi_in (gw_R_fail hs HW HU HX HY HL HO HV HS hFF q3 q5 q6 q7 k1 k2 l1 l2)⟩
    unfold wpX_send; dsimp only
    refine kx _ (br_t (nI_pos' (by omega)) ⟨by decide, nm_r (ze_div16 (by omega)) ⟨vp_in_nI ho (by decide), ?_⟩⟩)
    rw [nI_clamp (n := o) (by omega), s1]
    by_cases z : hh o = 0
    · exact br_t (ze_le0t (by omega)) (go (Or.inl z))
    · refine br_f (ze_le0f (by omega) (by omega)) (br_c (fun y => ?_) (fun y => go (Or.inr y)))
      obtain ⟨t1, t2, t3, t4, t5, t6, t7⟩ := s3 z
      unfold wpX_partner; dsimp only
      simp (disch := omega) only [ze_ge0t, ze_gt0t, ze_gt0f, ze_le0t, ze_le0f, ze_lt0f, ze_eq0p, ze_eq0f, ze_ge1t, ze_ge1f, ze_gt1t, ze_gt1f, ze_le1t, ze_le1f, ze_lt1t, ze_lt1f, ze_eq1p, ze_eq1f, ze_ge2t, ze_ge2f, ze_gt2t, ze_gt2f, ze_le2t, ze_le2f, ze_lt2t, ze_lt2f, ze_eq2p, ze_eq2f, ze_ge3t, ze_ge3f, ze_gt3t, ze_gt3f, ze_le3t, ze_le3f, ze_lt3t, ze_lt3f, ze_eq3p, ze_eq3f, ze_ge4t, ze_ge4f, ze_gt4t, ze_gt4f, ze_le4t, ze_le4f, ze_lt4t, ze_lt4f, ze_eq4p, ze_eq4f, ze_ge5t, ze_ge5f, ze_gt5t, ze_gt5f, ze_le5t, ze_le5f, ze_lt5t, ze_lt5f, ze_eq5p, ze_eq5f, ze_ge6t, ze_ge6f, ze_gt6t, ze_gt6f, ze_le6t, ze_le6f, ze_lt6t, ze_lt6f, ze_eq6p, ze_eq6f, ze_ge7t, ze_ge7f, ze_gt7t, ze_gt7f, ze_le7t, ze_le7f, ze_lt7t, ze_lt7f, ze_eq7p, ze_eq7f, ze_ge9t, ze_ge9f, ze_gt9t, ze_gt9f, ze_le9t, ze_le9f, ze_lt9t, ze_lt9f, ze_eq9p, ze_eq9f, ze_ge10t, ze_ge10f, ze_gt10t, ze_gt10f, ze_le10t, ze_le10f, ze_lt10t, ze_lt10f, ze_eq10p, ze_eq10f, ze_ge12t, ze_ge12f, ze_gt12t, ze_gt12f, ze_le12t, ze_le12f, ze_lt12t, ze_lt12f, ze_eq12p, ze_eq12f, ze_ge15t, ze_ge15f, ze_gt15t, ze_gt15f, ze_le15t, ze_le15f, ze_lt15t, ze_lt15f, ze_eq15p, ze_eq15f, ze_ge16t, ze_ge16f, ze_gt16t, ze_gt16f, ze_le16t, ze_le16f, ze_lt16t, ze_lt16f, ze_eq16p, ze_eq16f, ze_ge30t, ze_ge30f, ze_gt30t, ze_gt30f, ze_le30t, ze_le30f, ze_lt30t, ze_lt30f, ze_eq30p, ze_eq30f, ze_ge32t, ze_ge32f, ze_gt32t, ze_gt32f, ze_le32t, ze_le32f, ze_lt32t, ze_lt32f, ze_eq32p, ze_eq32f, ze_ge47t, ze_ge47f, ze_gt47t, ze_gt47f, ze_le47t, ze_le47f, ze_lt47t, ze_lt47f, ze_eq47p, ze_eq47f, ze_ge120t, ze_ge120f, ze_gt120t, ze_gt120f, ze_le120t, ze_le120f, ze_lt120t, ze_lt120f, ze_eq120p, ze_eq120f, ze_ge1024t, ze_ge1024f, ze_gt1024t, ze_gt1024f, ze_le1024t, ze_le1024f, ze_lt1024t, ze_lt1024f, ze_eq1024p, ze_eq1024f, ze_let, ze_lef, ze_ltt, ze_ltf, ze_eqt, ze_eqf, ze_m1_lt0, ze_m1_n0le, ze_m1_le0, ze_m1_le, ze_m1_lt, ze_m1_nle, ze_m1_nlt, ze_m1_ne, ze_m1_en, ze_m1_ne4, ze_m1_ne0, ze_nz6, ze_nz10, ze_nz12, ze_nz16, ze_nz32, ze_nz192, ze_1ne0, ze_0ne1, ze_0ne4, ↓ze_rem6, ↓ze_rem10, ↓ze_rem16, ↓ze_rem32, ↓ze_rem12, ze_div6, ze_div10, ze_div12, ze_div16, ze_div32, ze_div192, ze_mul3, ze_mul4, ze_mul6, ze_mul10, ze_mul12, ze_mul16, ze_mul17, ze_mul32, ze_mul60, ze_mulr6, ze_nrem6, ze_mulr10, ze_nrem10, ze_mulr12, ze_nrem12, ze_mulr16, ze_nrem16, ze_mulr32, ze_nrem32, nI_add, ze_add1, ze_add6, ze_add7, ze_add8, ze_add12, ze_add16, ze_add0, ze_radd0, ze_radd8, ze_sub1, ze_m1, ze_0sub1, ze_m1add1, ze_1sub, ze_2sub, pk_sub, ze_and3, ze_and7, ze_and31, ze_and127, ↓ze_shr2, ↓ze_shr3, ↓ze_shr5, ↓ze_shl3, ze_i8, ze_nby, ze_i8m1, ze_i80, ze_nbm1, ze_i16, ze_nsh, ze_nb0, ze_nt0, ze_nt1, ze_cl0, ze_cl1, nI_clamp, vp_in_nI, forall_eq, true_implies, false_implies, not_true_eq_false, not_false_eq_true, and_true, true_and, implies_true, and_self, forall_const, Classical.not_not, s1, t6]
      unfold wpY_send; dsimp only
      refine ky _ (br_t (nI_pos' (by omega)) ⟨vp_in_nI ho (by decide), ?_⟩)
      rw [nI_clamp (n := o) (by omega), t7]
      refine br_f (nI_pos (by omega)) (br_t y ⟨vp_in_nI ho (by decide), vp_in_nI t3 (by decide), ?_⟩)
      rw [nI_clamp (n := pq o) (by omega), ze_nt1]
      refine nm_e ⟨vp_in_nI ho (by decide), by decide, ?_, gi_in R⟩
      rw [ze_rem16 (by omega)]
      exact congrArg nI (by omega)
end
end
section
theorem i_vc_define {k : Nat} {u : SX} {v : SY} (I : i_Rel k u v) (hk : k + 5 ≤ 2560) (v1 : Int32) (v2 : Int32) (v3 : Int32) (v4 : Int32) : wpX_define (fun r u' => wpY_define (fun r' v' => r' = r ∧ i_Rel (k + 5) u' v') v v1 v2 v3 v4) u v1 v2 v3 v4 :=
  gi_el (P := fun u v => wpX_define (fun r u' => wpY_define (fun r' v' => r' = r ∧ i_Rel (k + 5) u' v') v v1 v2 v3 v4) u v1 v2 v3 v4) (fun R => gm_define R v1 v2 v3 v4) I
theorem i_vc_field {k : Nat} {u : SX} {v : SY} (I : i_Rel k u v) (hk : k + 5 ≤ 2560) (v1 : Int32) (v2 : Int32) (v3 : Int32) (v4 : Int32) : wpX_field (fun r u' => wpY_field (fun r' v' => r' = r ∧ i_Rel (k + 5) u' v') v v1 v2 v3 v4) u v1 v2 v3 v4 :=
  gi_el (P := fun u v => wpX_field (fun r u' => wpY_field (fun r' v' => r' = r ∧ i_Rel (k + 5) u' v') v v1 v2 v3 v4) u v1 v2 v3 v4) (fun R => gm_field R v1 v2 v3 v4) I
theorem i_vc_make {k : Nat} {u : SX} {v : SY} (I : i_Rel k u v) (hk : k + 5 ≤ 2560) (v1 : Int32) (v2 : Int32) : wpX_make (fun r u' => wpY_make (fun r' v' => r' = r ∧ i_Rel (k + 5) u' v') v v1 v2) u v1 v2 :=
  gi_el (P := fun u v => wpX_make (fun r u' => wpY_make (fun r' v' => r' = r ∧ i_Rel (k + 5) u' v') v v1 v2) u v1 v2) (fun R => gm_make R v1 v2) I
theorem i_vc_set {k : Nat} {u : SX} {v : SY} (I : i_Rel k u v) (hk : k + 5 ≤ 2560) (v1 : Int32) (v2 : Int32) (a2 : Int64) : wpX_set (fun r u' => wpY_set (fun r' v' => r' = r ∧ i_Rel (k + 5) u' v') v v1 v2 a2) u v1 v2 a2 :=
  gi_el (P := fun u v => wpX_set (fun r u' => wpY_set (fun r' v' => r' = r ∧ i_Rel (k + 5) u' v') v v1 v2 a2) u v1 v2 a2) (fun R => gm_set R v1 v2 a2) I
theorem i_vc_link {k : Nat} {u : SX} {v : SY} (I : i_Rel k u v) (hk : k + 5 ≤ 2560) (v1 : Int32) (v2 : Int32) (v3 : Int32) : wpX_link (fun r u' => wpY_link (fun r' v' => r' = r ∧ i_Rel (k + 5) u' v') v v1 v2 v3) u v1 v2 v3 :=
  gi_el (P := fun u v => wpX_link (fun r u' => wpY_link (fun r' v' => r' = r ∧ i_Rel (k + 5) u' v') v v1 v2 v3) u v1 v2 v3) (fun R => gm_link R v1 v2 v3) I
theorem i_vc_pin {k : Nat} {u : SX} {v : SY} (I : i_Rel k u v) (hk : k + 5 ≤ 2560) (v1 : Int32) (v2 : Int32) : wpX_pin (fun r u' => wpY_pin (fun r' v' => r' = r ∧ i_Rel (k + 5) u' v') v v1 (lw_bz v2)) u v1 (lw_bz v2) :=
  gi_el (P := fun u v => wpX_pin (fun r u' => wpY_pin (fun r' v' => r' = r ∧ i_Rel (k + 5) u' v') v v1 (lw_bz v2)) u v1 (lw_bz v2)) (fun R => gm_pin R v1 (lw_bz v2)) I
theorem i_vc_collect {k : Nat} {u : SX} {v : SY} (I : i_Rel k u v) (hk : k + 5 ≤ 2560) (v1 : Int32) : wpX_collect (fun r u' => wpY_collect (fun r' v' => r' = r ∧ i_Rel (k + 5) u' v') v v1) u v1 :=
  gi_el (P := fun u v => wpX_collect (fun r u' => wpY_collect (fun r' v' => r' = r ∧ i_Rel (k + 5) u' v') v v1) u v1) (fun R => gm_collect R v1) I
theorem i_vc_send {k : Nat} {u : SX} {v : SY} (I : i_Rel k u v) (hk : k + 5 ≤ 2560) (v1 : Int32) (v2 : Int32) : wpX_send (fun r u' => wpY_send (fun r' v' => r' = r ∧ i_Rel (k + 5) u' v') v v1 (lw_bz v2)) u v1 (lw_bz v2) :=
  gi_el (P := fun u v => wpX_send (fun r u' => wpY_send (fun r' v' => r' = r ∧ i_Rel (k + 5) u' v') v v1 (lw_bz v2)) u v1 (lw_bz v2)) (fun R => gm_send R v1 (lw_bz v2)) I
theorem i_vc_reset {k : Nat} {u : SX} {v : SY} (I : i_Rel k u v) (hk : k + 5 ≤ 2560) (v1 : Int32) : wpX_reset (fun r u' => wpY_reset (fun r' v' => r' = r ∧ i_Rel (k + 5) u' v') v v1) u v1 :=
  gi_el (P := fun u v => wpX_reset (fun r u' => wpY_reset (fun r' v' => r' = r ∧ i_Rel (k + 5) u' v') v v1) u v1) (fun R => gm_reset R v1) I
theorem i_vc_num {k : Nat} {u : SX} {v : SY} (I : i_Rel k u v) (hk : k + 5 ≤ 2560) (v1 : Int32) (v2 : Int32) : wpX_num (fun r => wpY_num (fun r' => r' = r ∧ i_Rel (k + 5) u v) v v1 v2) u v1 v2 :=
  gi_el (P := fun u v => wpX_num (fun r => wpY_num (fun r' => r' = r ∧ i_Rel (k + 5) u v) v v1 v2) u v1 v2) (fun R => gm_num R v1 v2) I
theorem i_vc_ref {k : Nat} {u : SX} {v : SY} (I : i_Rel k u v) (hk : k + 5 ≤ 2560) (v1 : Int32) (v2 : Int32) : wpX_ref (fun r => wpY_ref (fun r' => r' = r ∧ i_Rel (k + 5) u v) v v1 v2) u v1 v2 :=
  gi_el (P := fun u v => wpX_ref (fun r => wpY_ref (fun r' => r' = r ∧ i_Rel (k + 5) u v) v v1 v2) u v1 v2) (fun R => gm_ref R v1 v2) I
theorem i_vc_look {k : Nat} {u : SX} {v : SY} (I : i_Rel k u v) (hk : k + 5 ≤ 2560) (v1 : Int32) : wpX_look (fun r => wpY_look (fun r' => r' = r ∧ i_Rel (k + 5) u v) v v1) u v1 :=
  gi_el (P := fun u v => wpX_look (fun r => wpY_look (fun r' => r' = r ∧ i_Rel (k + 5) u v) v v1) u v1) (fun R => gm_look R v1) I
theorem i_vc_sent {k : Nat} {u : SX} {v : SY} (I : i_Rel k u v) (hk : k + 5 ≤ 2560) (v1 : Int32) : wpX_sent (fun r => wpY_sent (fun r' => r' = r ∧ i_Rel (k + 5) u v) v v1) u v1 :=
  gi_el (P := fun u v => wpX_sent (fun r => wpY_sent (fun r' => r' = r ∧ i_Rel (k + 5) u v) v v1) u v1) (fun R => gm_sent R v1) I
theorem i_vc_culprit {k : Nat} {u : SX} {v : SY} (I : i_Rel k u v) (hk : k + 5 ≤ 2560) : wpX_culprit (fun r => wpY_culprit (fun r' => r' = r ∧ i_Rel (k + 5) u v) v) u :=
  gi_el (P := fun u v => wpX_culprit (fun r => wpY_culprit (fun r' => r' = r ∧ i_Rel (k + 5) u v) v) u) (fun R => gm_culprit R ) I
theorem i_vc_alike {k : Nat} {u : SX} {v : SY} (I : i_Rel k u v) (hk : k + 5 ≤ 2560) (v1 : Int32) (v2 : Int32) : wpX_alike (fun r u' => wpY_alike (fun r' v' => r' = r ∧ i_Rel (k + 5) u' v') v v1 v2) u v1 v2 :=
  gi_el (P := fun u v => wpX_alike (fun r u' => wpY_alike (fun r' v' => r' = r ∧ i_Rel (k + 5) u' v') v v1 v2) u v1 v2) (fun R => gm_alike R v1 v2) I
end
