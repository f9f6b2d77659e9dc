section
/-! pure rows to paste: stores, nI and lN arithmetic, masks, shifts, narrowing, branches by naturals (pk_le, pk_lt, pk_eq), loops (lp1 .. lp16: the measure of the state; rp1 ..: recursion), negatives. Take what you need -/
theorem pk_us {f : Nat → Int32} {k : Nat} {x : Int32} : upd f k x k = x := if_pos rfl
theorem pk_un {f : Nat → Int32} {k j : Nat} {x : Int32} (h : j ≠ k) : upd f k x j = f j := if_neg h
theorem pk_uLs {f : Nat → Int64} {k : Nat} {x : Int64} : vp_updL f k x k = x := if_pos rfl
theorem pk_uLn {f : Nat → Int64} {k j : Nat} {x : Int64} (h : j ≠ k) : vp_updL f k x j = f j := if_neg h
theorem pk_sub {a b : Nat} (h : b ≤ a) : nI a - nI b = nI (a - b) := by
  obtain ⟨c, rfl⟩ : ∃ c, a = c + b := ⟨a - b, by omega⟩
  rw [← nI_add, Int32.add_sub_cancel, Nat.add_sub_cancel]
theorem pk_m1 (n : Nat) : nI (n + 1) + (-1) = nI n := by
  rw [← nI_1, Int32.add_assoc, show (1 : Int32) + (-1) = 0 from rfl, Int32.add_zero]
theorem pk_mul (a b : Nat) : nI a * nI b = nI (a * b) := (Int32.ofNat_mul a b).symm
theorem pk_div {a d : Nat} (ha : a < 2 ^ 31) (h0 : 0 < d) (hd : d < 2 ^ 31) : nI a / nI d = nI (a / d) := by
  apply Int32.toInt_inj.mp
  rw [lg_idiv_nonneg (by rw [nI_toInt ha]; omega) (by rw [nI_toInt hd]; omega), nI_toInt ha, nI_toInt hd, nI_toInt (Nat.lt_of_le_of_lt (Nat.div_le_self a d) ha)]
  first | rfl | exact (Int.natCast_ediv _ _).symm
theorem pk_rem {a d : Nat} (ha : a < 2 ^ 31) (h0 : 0 < d) (hd : d < 2 ^ 31) : nI a - nI a / nI d * nI d = nI (a % d) := by
  rw [pk_div ha h0 hd, pk_mul, pk_sub (Nat.div_mul_le_self a d)]
  exact congrArg nI (by have := Nat.div_add_mod' a d; omega)
theorem pk_sub_toInt {a b : Nat} (ha : a < 2 ^ 30) (hb : b < 2 ^ 30) : (nI a - nI b).toInt = (a : Int) - b := by
  rw [Int32.toInt_sub, nI_toInt (by omega), nI_toInt (by omega)]
  exact Int.bmod_eq_of_le (by omega) (by omega)
theorem pk_sneg {a b : Nat} (hb : b < 2 ^ 30) (h : a < b) : nI a - nI b < 0 := by
  rw [Int32.lt_iff_toInt_lt, pk_sub_toInt (by omega) hb, show (0 : Int32).toInt = 0 from by decide]
  omega
theorem pk_ix (x : Int32) {n : Nat} (hn : n < 2 ^ 31) : x < 0 ∨ nI n ≤ x ∨ ∃ j : Nat, j < n ∧ x = nI j := by
  by_cases h : x < 0
  · exact Or.inl h
  · obtain ⟨j, hj, rfl⟩ := nI_of h
    by_cases h2 : j < n
    · exact Or.inr (Or.inr ⟨j, h2, rfl⟩)
    · exact Or.inr (Or.inl (nI_le (by omega) hj))
theorem pk_le {x y : Int32} {A B : Prop} (a b : Nat) (f : a ≤ b → A) (g : b < a → B) (hx : x = nI a := by rfl) (hy : y = nI b := by rfl) (ha : a < 2 ^ 31 := by omega) (hb : b < 2 ^ 31 := by omega) : (x ≤ y → A) ∧ (¬ x ≤ y → B) := by
  subst hx hy
  rw [nI_leI ha hb]
  exact ⟨f, fun z => g (by omega)⟩
theorem pk_lt {x y : Int32} {A B : Prop} (a b : Nat) (f : a < b → A) (g : b ≤ a → B) (hx : x = nI a := by rfl) (hy : y = nI b := by rfl) (ha : a < 2 ^ 31 := by omega) (hb : b < 2 ^ 31 := by omega) : (x < y → A) ∧ (¬ x < y → B) := by
  subst hx hy
  rw [nI_ltI ha hb]
  exact ⟨f, fun z => g (by omega)⟩
theorem pk_eq {x y : Int32} {A B : Prop} (a b : Nat) (f : a = b → A) (g : a ≠ b → B) (hx : x = nI a := by rfl) (hy : y = nI b := by rfl) (ha : a < 2 ^ 31 := by omega) (hb : b < 2 ^ 31 := by omega) : (x = y → A) ∧ (¬ x = y → B) := by
  subst hx hy
  rw [nI_eq ha hb]
  exact ⟨f, g⟩
theorem pk_in {x : Int32} (n N : Nat) (h : n < N) (hx : x = nI n := by rfl) (hN : N < 2 ^ 31 := by omega) : vp_in x N := by
  subst hx
  exact vp_in_nI h hN
theorem pk_cl {x : Int32} (n : Nat) (hx : x = nI n := by rfl) (h : n < 2 ^ 31 := by omega) : x.toNatClampNeg = n := by
  subst hx
  exact nI_clamp h
theorem pk_tn {n : Nat} (h : n < 2 ^ 32) : (nI n).toBitVec.toNat = n := Nat.mod_eq_of_lt h
theorem pk_and (x : Int32) {m : Int32} (k : Nat) (hm : m.toBitVec.toNat = 2 ^ k - 1) : x &&& m = nI (x.toBitVec.toNat % 2 ^ k) := by
  apply Int32.toBitVec_inj.mp
  apply BitVec.eq_of_toNat_eq
  rw [Int32.toBitVec_and, BitVec.toNat_and, hm, Nat.and_two_pow_sub_one_eq_mod]
  show _ = (BitVec.ofNat 32 _).toNat
  rw [BitVec.toNat_ofNat]
  exact (Nat.mod_eq_of_lt (Nat.lt_of_le_of_lt (Nat.mod_le _ _) x.toBitVec.isLt)).symm
theorem pk_andN {n : Nat} (h : n < 2 ^ 32) {m : Int32} (k : Nat) (hm : m.toBitVec.toNat = 2 ^ k - 1) : nI n &&& m = nI (n % 2 ^ k) := by
  rw [pk_and _ k hm, pk_tn h]
theorem pk_andE (x : Int32) {m : Int32} (k : Nat) (hm : m.toBitVec.toNat = 2 ^ k - 1) : ∃ j : Nat, j < 2 ^ k ∧ x &&& m = nI j := ⟨_, Nat.mod_lt _ (Nat.two_pow_pos k), pk_and x k hm⟩
theorem pk_andIn (x : Int32) {m : Int32} (k : Nat) (hm : m.toBitVec.toNat = 2 ^ k - 1) (hk : k ≤ 30) : vp_in (x &&& m) (2 ^ k) := by
  obtain ⟨j, hj, e⟩ := pk_andE x k hm
  rw [e]
  exact vp_in_nI hj (Nat.lt_of_le_of_lt (Nat.pow_le_pow_right (by decide) hk) (by decide))
theorem pk_shl (a s : Int32) (k : Nat) (hs : (s.toBitVec.smod 32).toNat = k) : (a <<< s).toBitVec.toNat = a.toBitVec.toNat * 2 ^ k % 2 ^ 32 := by
  show (a.toBitVec <<< (s.toBitVec.smod 32).toNat).toNat = _
  rw [hs, BitVec.toNat_shiftLeft, Nat.shiftLeft_eq]
theorem pk_shlN {n : Nat} (s : Int32) (k : Nat) (hs : (s.toBitVec.smod 32).toNat = k) (h : n * 2 ^ k < 2 ^ 32) : nI n <<< s = nI (n * 2 ^ k) := by
  apply Int32.toBitVec_inj.mp
  apply BitVec.eq_of_toNat_eq
  have hn : n < 2 ^ 32 := Nat.lt_of_le_of_lt (Nat.le_mul_of_pos_right n (Nat.two_pow_pos k)) h
  rw [pk_shl _ _ k hs, pk_tn hn, pk_tn h, Nat.mod_eq_of_lt h]
theorem pk_shr (a s : Int32) (k : Nat) (hs : (s.toBitVec.smod 32).toNat = k) : (a >>> s).toInt = a.toInt >>> k := by
  show (a.toBitVec.sshiftRight (s.toBitVec.smod 32).toNat).toInt = _
  rw [hs, BitVec.toInt_sshiftRight]
  rfl
theorem pk_shrN {n : Nat} (h : n < 2 ^ 31) (s : Int32) (k : Nat) (hs : (s.toBitVec.smod 32).toNat = k) : nI n >>> s = nI (n / 2 ^ k) := by
  apply Int32.toInt_inj.mp
  have h2 : n / 2 ^ k ≤ n := Nat.div_le_self _ _
  rw [pk_shr _ _ k hs, nI_toInt h, nI_toInt (by omega), Int.shiftRight_eq_div_pow]
  rfl
theorem pk_ushr (x s : Int32) (k : Nat) (hs : ((s.toUInt32 &&& Int32.toUInt32 31).toBitVec % 32).toNat = k) : (x.toUInt32 >>> (s.toUInt32 &&& Int32.toUInt32 31)).toInt32.toBitVec.toNat = x.toBitVec.toNat / 2 ^ k := by
  have e : (x.toUInt32 >>> (s.toUInt32 &&& Int32.toUInt32 31)).toInt32.toBitVec = x.toBitVec >>> k := by
    rw [← hs]
    exact UInt32.toBitVec_shiftRight _ _
  rw [e, BitVec.toNat_ushiftRight, Nat.shiftRight_eq_div_pow]
theorem pk_ushrN {n : Nat} (hn : n < 2 ^ 32) (s : Int32) (k : Nat) (hs : ((s.toUInt32 &&& Int32.toUInt32 31).toBitVec % 32).toNat = k) : ((nI n).toUInt32 >>> (s.toUInt32 &&& Int32.toUInt32 31)).toInt32 = nI (n / 2 ^ k) := by
  apply Int32.toBitVec_inj.mp
  apply BitVec.eq_of_toNat_eq
  rw [pk_ushr _ s k hs, pk_tn hn, pk_tn (Nat.lt_of_le_of_lt (Nat.div_le_self _ _) hn)]
theorem pk_nb (z : Int32) : narrow .byte (.int z.toInt8.toInt32) = .int z.toInt8.toInt32 := congrArg Value.int (by simp)
theorem pk_ns (z : Int32) : narrow .short (.int z.toInt16.toInt32) = .int z.toInt16.toInt32 := congrArg Value.int (by simp)
theorem pk_fb (r : Int32) : fits .byte (.int r.toInt8.toInt32) = true := by
  have ⟨a, b⟩ := lg_i2b_range r
  have h1 : (-128 : Int32).toInt = -128 := by decide
  have h2 : (127 : Int32).toInt = 127 := by decide
  simp only [fits, Bool.and_eq_true, decide_eq_true_eq, Int32.le_iff_toInt_le, h1, h2]
  omega
theorem pk_fs (r : Int32) : fits .short (.int r.toInt16.toInt32) = true := by
  have ⟨a, b⟩ := lg_i2s_range r
  have h1 : (-32768 : Int32).toInt = -32768 := by decide
  have h2 : (32767 : Int32).toInt = 32767 := by decide
  simp only [fits, Bool.and_eq_true, decide_eq_true_eq, Int32.le_iff_toInt_le, h1, h2]
  omega
theorem pk_charN {q : Nat} (hq : q < 65536) : narrow .char (.int (nI q)) = .int (nI q) ∧ fits .char (.int (nI q)) = true := by
  constructor
  · have e : (nI q).toUInt32.toUInt16.toUInt32.toInt32 = nI q := by
      apply Int32.toBitVec_inj.mp
      apply BitVec.eq_of_toNat_eq
      show (nI q).toUInt32.toUInt16.toUInt32.toNat = q % 2 ^ 32
      rw [UInt16.toNat_toUInt32, UInt32.toNat_toUInt16, show (nI q).toUInt32.toNat = q % 2 ^ 32 from rfl]
      omega
    exact congrArg Value.int e
  · have a : (0 : Int32) ≤ nI q := nI_pos' (by omega)
    have b : nI q ≤ 65535 := nI_le (b := 65535) (by omega) (by decide)
    show (decide ((0 : Int32) ≤ nI q) && decide (nI q ≤ 65535)) = true
    rw [decide_eq_true a, decide_eq_true b]
    rfl
theorem pk_char (x : Int32) : (x.toUInt32 % 65536).toInt32 = nI (x.toBitVec.toNat % 65536) := by
  apply Int32.toBitVec_inj.mp
  apply BitVec.eq_of_toNat_eq
  rw [pk_tn (by omega)]
  show (x.toUInt32 % 65536).toNat = _
  rw [UInt32.toNat_mod]
  rfl
theorem pk_nc (x : Int32) : narrow .char (.int (x.toUInt32 % 65536).toInt32) = .int (x.toUInt32 % 65536).toInt32 := by
  rw [pk_char]
  exact (pk_charN (Nat.mod_lt _ (by decide))).1
theorem pk_fc (x : Int32) : fits .char (.int (x.toUInt32 % 65536).toInt32) = true := by
  rw [pk_char]
  exact (pk_charN (Nat.mod_lt _ (by decide))).2
theorem pk_vb (z : Int32) : vp_nar .byte z.toInt8.toInt32 = z.toInt8.toInt32 := by rw [vp_nar_byte]; simp
theorem pk_vs (z : Int32) : vp_nar .short z.toInt16.toInt32 = z.toInt16.toInt32 := by rw [vp_nar_short]; simp
theorem pk_vc (z : Int32) : vp_nar .char (z.toUInt32 % 65536).toInt32 = (z.toUInt32 % 65536).toInt32 := Value.int.inj (pk_nc z)
theorem pk_lT {n : Nat} (h : n < 2 ^ 63) : (lN n).toInt = (n : Int) := lg_ofNat_toInt h
theorem pk_lLT {a b : Nat} (ha : a < 2 ^ 63) (hb : b < 2 ^ 63) : lN a < lN b ↔ a < b := by
  rw [Int64.lt_iff_toInt_lt, pk_lT ha, pk_lT hb]; omega
theorem pk_lLE {a b : Nat} (ha : a < 2 ^ 63) (hb : b < 2 ^ 63) : lN a ≤ lN b ↔ a ≤ b := by
  rw [Int64.le_iff_toInt_le, pk_lT ha, pk_lT hb]; omega
theorem pk_lEQ {a b : Nat} (ha : a < 2 ^ 63) (hb : b < 2 ^ 63) : lN a = lN b ↔ a = b := by
  rw [← Int64.toInt_inj, pk_lT ha, pk_lT hb]; omega
theorem pk_lOf {x : Int64} (h : ¬ x < 0) : ∃ k : Nat, k < 2 ^ 63 ∧ x = lN k := by
  rw [Int64.lt_iff_toInt_lt] at h
  have h0 : (0 : Int64).toInt = 0 := by decide
  have hx := Int64.toInt_lt x
  refine ⟨x.toInt.toNat, by omega, Int64.toInt_inj.mp ?_⟩
  rw [pk_lT (by omega)]
  omega
theorem pk_lDiv {a b : Nat} (ha : a < 2 ^ 63) (h0 : 0 < b) (hb : b < 2 ^ 63) : lN a / lN b = lN (a / b) := by
  apply Int64.toInt_inj.mp
  rw [lg_ldiv_nonneg (by rw [pk_lT ha]; omega) (by rw [pk_lT hb]; omega), pk_lT ha, pk_lT hb, pk_lT (Nat.lt_of_le_of_lt (Nat.div_le_self a b) ha)]
  rfl
theorem pk_lRem {a b : Nat} (ha : a < 2 ^ 63) (h0 : 0 < b) (hb : b < 2 ^ 63) : lN a - lN a / lN b * lN b = lN (a % b) := by
  rw [pk_lDiv ha h0 hb, lN_mul, lN_sub (Nat.div_mul_le_self a b)]
  exact congrArg lN (by have := Nat.div_add_mod' a b; omega)
theorem pk_loop {σ : Type} (W : Nat → Nat → σ → Prop) (I : Nat → σ → Prop) (e i0 : Nat) (s : σ) (hi : i0 ≤ e) (h0 : I i0 s) (hx : ∀ n s, I e s → W (n + 1) e s)
    (hs : ∀ n i s, i < e → I i s → (∀ s', I (i + 1) s' → W n (i + 1) s') → W (n + 1) i s) : ∃ n, W n i0 s :=
  ⟨e + 1, loop_i W I e hx hs (e + 1) i0 s hi (by omega) h0⟩
theorem pk_loopD {σ : Type} (W : Nat → Nat → σ → Prop) (I : Nat → σ → Prop) (hx : ∀ n s, I 0 s → W (n + 1) 0 s)
    (hs : ∀ n i s, I (i + 1) s → (∀ s', I i s' → W n i s') → W (n + 1) (i + 1) s) : ∀ (e : Nat) (s : σ), I e s → W (e + 1) e s := by
  intro e
  induction e with
  | zero => exact fun s h => hx 0 s h
  | succ e ih => exact fun s h => hs (e + 1) e s h (fun s' h' => ih s' h')
theorem lp1 {A1 : Type} (W : Nat → A1 → Prop) (I : A1 → Prop) (μ : A1 → Nat) (hs : ∀ (n : Nat) (a1 : A1), I a1 → (∀ (b1 : A1), I b1 → μ b1 < μ a1 → W n b1) → W (n + 1) a1) (a1 : A1) (h : I a1) : ∃ n, W n a1 :=
  loop_m (σ := A1) (fun n s => W n s) (fun s => I s) (fun s => μ s) (fun n s hI hk => hs n s hI (fun b1 h9 hm => hk b1 h9 hm)) a1 h
theorem lp2 {A1 A2 : Type} (W : Nat → A1 → A2 → Prop) (I : A1 → A2 → Prop) (μ : A1 → A2 → Nat) (hs : ∀ (n : Nat) (a1 : A1) (a2 : A2), I a1 a2 → (∀ (b1 : A1) (b2 : A2), I b1 b2 → μ b1 b2 < μ a1 a2 → W n b1 b2) → W (n + 1) a1 a2) (a1 : A1) (a2 : A2) (h : I a1 a2) : ∃ n, W n a1 a2 :=
  loop_m (σ := A1 × A2) (fun n s => W n s.1 s.2) (fun s => I s.1 s.2) (fun s => μ s.1 s.2) (fun n s hI hk => hs n s.1 s.2 hI (fun b1 b2 h9 hm => hk (b1, b2) h9 hm)) (a1, a2) h
theorem lp3 {A1 A2 A3 : Type} (W : Nat → A1 → A2 → A3 → Prop) (I : A1 → A2 → A3 → Prop) (μ : A1 → A2 → A3 → Nat) (hs : ∀ (n : Nat) (a1 : A1) (a2 : A2) (a3 : A3), I a1 a2 a3 → (∀ (b1 : A1) (b2 : A2) (b3 : A3), I b1 b2 b3 → μ b1 b2 b3 < μ a1 a2 a3 → W n b1 b2 b3) → W (n + 1) a1 a2 a3) (a1 : A1) (a2 : A2) (a3 : A3) (h : I a1 a2 a3) : ∃ n, W n a1 a2 a3 :=
  loop_m (σ := A1 × A2 × A3) (fun n s => W n s.1 s.2.1 s.2.2) (fun s => I s.1 s.2.1 s.2.2) (fun s => μ s.1 s.2.1 s.2.2) (fun n s hI hk => hs n s.1 s.2.1 s.2.2 hI (fun b1 b2 b3 h9 hm => hk (b1, b2, b3) h9 hm)) (a1, a2, a3) h
theorem lp4 {A1 A2 A3 A4 : Type} (W : Nat → A1 → A2 → A3 → A4 → Prop) (I : A1 → A2 → A3 → A4 → Prop) (μ : A1 → A2 → A3 → A4 → Nat) (hs : ∀ (n : Nat) (a1 : A1) (a2 : A2) (a3 : A3) (a4 : A4), I a1 a2 a3 a4 → (∀ (b1 : A1) (b2 : A2) (b3 : A3) (b4 : A4), I b1 b2 b3 b4 → μ b1 b2 b3 b4 < μ a1 a2 a3 a4 → W n b1 b2 b3 b4) → W (n + 1) a1 a2 a3 a4) (a1 : A1) (a2 : A2) (a3 : A3) (a4 : A4) (h : I a1 a2 a3 a4) : ∃ n, W n a1 a2 a3 a4 :=
  loop_m (σ := A1 × A2 × A3 × A4) (fun n s => W n s.1 s.2.1 s.2.2.1 s.2.2.2) (fun s => I s.1 s.2.1 s.2.2.1 s.2.2.2) (fun s => μ s.1 s.2.1 s.2.2.1 s.2.2.2) (fun n s hI hk => hs n s.1 s.2.1 s.2.2.1 s.2.2.2 hI (fun b1 b2 b3 b4 h9 hm => hk (b1, b2, b3, b4) h9 hm)) (a1, a2, a3, a4) h
theorem lp5 {A1 A2 A3 A4 A5 : Type} (W : Nat → A1 → A2 → A3 → A4 → A5 → Prop) (I : A1 → A2 → A3 → A4 → A5 → Prop) (μ : A1 → A2 → A3 → A4 → A5 → Nat) (hs : ∀ (n : Nat) (a1 : A1) (a2 : A2) (a3 : A3) (a4 : A4) (a5 : A5), I a1 a2 a3 a4 a5 → (∀ (b1 : A1) (b2 : A2) (b3 : A3) (b4 : A4) (b5 : A5), I b1 b2 b3 b4 b5 → μ b1 b2 b3 b4 b5 < μ a1 a2 a3 a4 a5 → W n b1 b2 b3 b4 b5) → W (n + 1) a1 a2 a3 a4 a5) (a1 : A1) (a2 : A2) (a3 : A3) (a4 : A4) (a5 : A5) (h : I a1 a2 a3 a4 a5) : ∃ n, W n a1 a2 a3 a4 a5 :=
  loop_m (σ := A1 × A2 × A3 × A4 × A5) (fun n s => W n s.1 s.2.1 s.2.2.1 s.2.2.2.1 s.2.2.2.2) (fun s => I s.1 s.2.1 s.2.2.1 s.2.2.2.1 s.2.2.2.2) (fun s => μ s.1 s.2.1 s.2.2.1 s.2.2.2.1 s.2.2.2.2) (fun n s hI hk => hs n s.1 s.2.1 s.2.2.1 s.2.2.2.1 s.2.2.2.2 hI (fun b1 b2 b3 b4 b5 h9 hm => hk (b1, b2, b3, b4, b5) h9 hm)) (a1, a2, a3, a4, a5) h
theorem lp6 {A1 A2 A3 A4 A5 A6 : Type} (W : Nat → A1 → A2 → A3 → A4 → A5 → A6 → Prop) (I : A1 → A2 → A3 → A4 → A5 → A6 → Prop) (μ : A1 → A2 → A3 → A4 → A5 → A6 → Nat) (hs : ∀ (n : Nat) (a1 : A1) (a2 : A2) (a3 : A3) (a4 : A4) (a5 : A5) (a6 : A6), I a1 a2 a3 a4 a5 a6 → (∀ (b1 : A1) (b2 : A2) (b3 : A3) (b4 : A4) (b5 : A5) (b6 : A6), I b1 b2 b3 b4 b5 b6 → μ b1 b2 b3 b4 b5 b6 < μ a1 a2 a3 a4 a5 a6 → W n b1 b2 b3 b4 b5 b6) → W (n + 1) a1 a2 a3 a4 a5 a6) (a1 : A1) (a2 : A2) (a3 : A3) (a4 : A4) (a5 : A5) (a6 : A6) (h : I a1 a2 a3 a4 a5 a6) : ∃ n, W n a1 a2 a3 a4 a5 a6 :=
  loop_m (σ := A1 × A2 × A3 × A4 × A5 × A6) (fun n s => W n s.1 s.2.1 s.2.2.1 s.2.2.2.1 s.2.2.2.2.1 s.2.2.2.2.2) (fun s => I s.1 s.2.1 s.2.2.1 s.2.2.2.1 s.2.2.2.2.1 s.2.2.2.2.2) (fun s => μ s.1 s.2.1 s.2.2.1 s.2.2.2.1 s.2.2.2.2.1 s.2.2.2.2.2) (fun n s hI hk => hs n s.1 s.2.1 s.2.2.1 s.2.2.2.1 s.2.2.2.2.1 s.2.2.2.2.2 hI (fun b1 b2 b3 b4 b5 b6 h9 hm => hk (b1, b2, b3, b4, b5, b6) h9 hm)) (a1, a2, a3, a4, a5, a6) h
theorem lp7 {A1 A2 A3 A4 A5 A6 A7 : Type} (W : Nat → A1 → A2 → A3 → A4 → A5 → A6 → A7 → Prop) (I : A1 → A2 → A3 → A4 → A5 → A6 → A7 → Prop) (μ : A1 → A2 → A3 → A4 → A5 → A6 → A7 → Nat) (hs : ∀ (n : Nat) (a1 : A1) (a2 : A2) (a3 : A3) (a4 : A4) (a5 : A5) (a6 : A6) (a7 : A7), I a1 a2 a3 a4 a5 a6 a7 → (∀ (b1 : A1) (b2 : A2) (b3 : A3) (b4 : A4) (b5 : A5) (b6 : A6) (b7 : A7), I b1 b2 b3 b4 b5 b6 b7 → μ b1 b2 b3 b4 b5 b6 b7 < μ a1 a2 a3 a4 a5 a6 a7 → W n b1 b2 b3 b4 b5 b6 b7) → W (n + 1) a1 a2 a3 a4 a5 a6 a7) (a1 : A1) (a2 : A2) (a3 : A3) (a4 : A4) (a5 : A5) (a6 : A6) (a7 : A7) (h : I a1 a2 a3 a4 a5 a6 a7) : ∃ n, W n a1 a2 a3 a4 a5 a6 a7 :=
  loop_m (σ := A1 × A2 × A3 × A4 × A5 × A6 × A7) (fun n s => W n s.1 s.2.1 s.2.2.1 s.2.2.2.1 s.2.2.2.2.1 s.2.2.2.2.2.1 s.2.2.2.2.2.2) (fun s => I s.1 s.2.1 s.2.2.1 s.2.2.2.1 s.2.2.2.2.1 s.2.2.2.2.2.1 s.2.2.2.2.2.2) (fun s => μ s.1 s.2.1 s.2.2.1 s.2.2.2.1 s.2.2.2.2.1 s.2.2.2.2.2.1 s.2.2.2.2.2.2) (fun n s hI hk => hs n s.1 s.2.1 s.2.2.1 s.2.2.2.1 s.2.2.2.2.1 s.2.2.2.2.2.1 s.2.2.2.2.2.2 hI (fun b1 b2 b3 b4 b5 b6 b7 h9 hm => hk (b1, b2, b3, b4, b5, b6, b7) h9 hm)) (a1, a2, a3, a4, a5, a6, a7) h
theorem lp8 {A1 A2 A3 A4 A5 A6 A7 A8 : Type} (W : Nat → A1 → A2 → A3 → A4 → A5 → A6 → A7 → A8 → Prop) (I : A1 → A2 → A3 → A4 → A5 → A6 → A7 → A8 → Prop) (μ : A1 → A2 → A3 → A4 → A5 → A6 → A7 → A8 → Nat) (hs : ∀ (n : Nat) (a1 : A1) (a2 : A2) (a3 : A3) (a4 : A4) (a5 : A5) (a6 : A6) (a7 : A7) (a8 : A8), I a1 a2 a3 a4 a5 a6 a7 a8 → (∀ (b1 : A1) (b2 : A2) (b3 : A3) (b4 : A4) (b5 : A5) (b6 : A6) (b7 : A7) (b8 : A8), I b1 b2 b3 b4 b5 b6 b7 b8 → μ b1 b2 b3 b4 b5 b6 b7 b8 < μ a1 a2 a3 a4 a5 a6 a7 a8 → W n b1 b2 b3 b4 b5 b6 b7 b8) → W (n + 1) a1 a2 a3 a4 a5 a6 a7 a8) (a1 : A1) (a2 : A2) (a3 : A3) (a4 : A4) (a5 : A5) (a6 : A6) (a7 : A7) (a8 : A8) (h : I a1 a2 a3 a4 a5 a6 a7 a8) : ∃ n, W n a1 a2 a3 a4 a5 a6 a7 a8 :=
  loop_m (σ := A1 × A2 × A3 × A4 × A5 × A6 × A7 × A8) (fun n s => W n s.1 s.2.1 s.2.2.1 s.2.2.2.1 s.2.2.2.2.1 s.2.2.2.2.2.1 s.2.2.2.2.2.2.1 s.2.2.2.2.2.2.2) (fun s => I s.1 s.2.1 s.2.2.1 s.2.2.2.1 s.2.2.2.2.1 s.2.2.2.2.2.1 s.2.2.2.2.2.2.1 s.2.2.2.2.2.2.2) (fun s => μ s.1 s.2.1 s.2.2.1 s.2.2.2.1 s.2.2.2.2.1 s.2.2.2.2.2.1 s.2.2.2.2.2.2.1 s.2.2.2.2.2.2.2) (fun n s hI hk => hs n s.1 s.2.1 s.2.2.1 s.2.2.2.1 s.2.2.2.2.1 s.2.2.2.2.2.1 s.2.2.2.2.2.2.1 s.2.2.2.2.2.2.2 hI (fun b1 b2 b3 b4 b5 b6 b7 b8 h9 hm => hk (b1, b2, b3, b4, b5, b6, b7, b8) h9 hm)) (a1, a2, a3, a4, a5, a6, a7, a8) h
theorem lp9 {A1 A2 A3 A4 A5 A6 A7 A8 A9 : Type} (W : Nat → A1 → A2 → A3 → A4 → A5 → A6 → A7 → A8 → A9 → Prop) (I : A1 → A2 → A3 → A4 → A5 → A6 → A7 → A8 → A9 → Prop) (μ : A1 → A2 → A3 → A4 → A5 → A6 → A7 → A8 → A9 → Nat) (hs : ∀ (n : Nat) (a1 : A1) (a2 : A2) (a3 : A3) (a4 : A4) (a5 : A5) (a6 : A6) (a7 : A7) (a8 : A8) (a9 : A9), I a1 a2 a3 a4 a5 a6 a7 a8 a9 → (∀ (b1 : A1) (b2 : A2) (b3 : A3) (b4 : A4) (b5 : A5) (b6 : A6) (b7 : A7) (b8 : A8) (b9 : A9), I b1 b2 b3 b4 b5 b6 b7 b8 b9 → μ b1 b2 b3 b4 b5 b6 b7 b8 b9 < μ a1 a2 a3 a4 a5 a6 a7 a8 a9 → W n b1 b2 b3 b4 b5 b6 b7 b8 b9) → W (n + 1) a1 a2 a3 a4 a5 a6 a7 a8 a9) (a1 : A1) (a2 : A2) (a3 : A3) (a4 : A4) (a5 : A5) (a6 : A6) (a7 : A7) (a8 : A8) (a9 : A9) (h : I a1 a2 a3 a4 a5 a6 a7 a8 a9) : ∃ n, W n a1 a2 a3 a4 a5 a6 a7 a8 a9 :=
  loop_m (σ := A1 × A2 × A3 × A4 × A5 × A6 × A7 × A8 × A9) (fun n s => W n s.1 s.2.1 s.2.2.1 s.2.2.2.1 s.2.2.2.2.1 s.2.2.2.2.2.1 s.2.2.2.2.2.2.1 s.2.2.2.2.2.2.2.1 s.2.2.2.2.2.2.2.2) (fun s => I s.1 s.2.1 s.2.2.1 s.2.2.2.1 s.2.2.2.2.1 s.2.2.2.2.2.1 s.2.2.2.2.2.2.1 s.2.2.2.2.2.2.2.1 s.2.2.2.2.2.2.2.2) (fun s => μ s.1 s.2.1 s.2.2.1 s.2.2.2.1 s.2.2.2.2.1 s.2.2.2.2.2.1 s.2.2.2.2.2.2.1 s.2.2.2.2.2.2.2.1 s.2.2.2.2.2.2.2.2) (fun n s hI hk => hs n s.1 s.2.1 s.2.2.1 s.2.2.2.1 s.2.2.2.2.1 s.2.2.2.2.2.1 s.2.2.2.2.2.2.1 s.2.2.2.2.2.2.2.1 s.2.2.2.2.2.2.2.2 hI (fun b1 b2 b3 b4 b5 b6 b7 b8 b9 h9 hm => hk (b1, b2, b3, b4, b5, b6, b7, b8, b9) h9 hm)) (a1, a2, a3, a4, a5, a6, a7, a8, a9) h
theorem lp10 {A1 A2 A3 A4 A5 A6 A7 A8 A9 A10 : Type} (W : Nat → A1 → A2 → A3 → A4 → A5 → A6 → A7 → A8 → A9 → A10 → Prop) (I : A1 → A2 → A3 → A4 → A5 → A6 → A7 → A8 → A9 → A10 → Prop) (μ : A1 → A2 → A3 → A4 → A5 → A6 → A7 → A8 → A9 → A10 → Nat) (hs : ∀ (n : Nat) (a1 : A1) (a2 : A2) (a3 : A3) (a4 : A4) (a5 : A5) (a6 : A6) (a7 : A7) (a8 : A8) (a9 : A9) (a10 : A10), I a1 a2 a3 a4 a5 a6 a7 a8 a9 a10 → (∀ (b1 : A1) (b2 : A2) (b3 : A3) (b4 : A4) (b5 : A5) (b6 : A6) (b7 : A7) (b8 : A8) (b9 : A9) (b10 : A10), I b1 b2 b3 b4 b5 b6 b7 b8 b9 b10 → μ b1 b2 b3 b4 b5 b6 b7 b8 b9 b10 < μ a1 a2 a3 a4 a5 a6 a7 a8 a9 a10 → W n b1 b2 b3 b4 b5 b6 b7 b8 b9 b10) → W (n + 1) a1 a2 a3 a4 a5 a6 a7 a8 a9 a10) (a1 : A1) (a2 : A2) (a3 : A3) (a4 : A4) (a5 : A5) (a6 : A6) (a7 : A7) (a8 : A8) (a9 : A9) (a10 : A10) (h : I a1 a2 a3 a4 a5 a6 a7 a8 a9 a10) : ∃ n, W n a1 a2 a3 a4 a5 a6 a7 a8 a9 a10 :=
  loop_m (σ := A1 × A2 × A3 × A4 × A5 × A6 × A7 × A8 × A9 × A10) (fun n s => W n s.1 s.2.1 s.2.2.1 s.2.2.2.1 s.2.2.2.2.1 s.2.2.2.2.2.1 s.2.2.2.2.2.2.1 s.2.2.2.2.2.2.2.1 s.2.2.2.2.2.2.2.2.1 s.2.2.2.2.2.2.2.2.2) (fun s => I s.1 s.2.1 s.2.2.1 s.2.2.2.1 s.2.2.2.2.1 s.2.2.2.2.2.1 s.2.2.2.2.2.2.1 s.2.2.2.2.2.2.2.1 s.2.2.2.2.2.2.2.2.1 s.2.2.2.2.2.2.2.2.2) (fun s => μ s.1 s.2.1 s.2.2.1 s.2.2.2.1 s.2.2.2.2.1 s.2.2.2.2.2.1 s.2.2.2.2.2.2.1 s.2.2.2.2.2.2.2.1 s.2.2.2.2.2.2.2.2.1 s.2.2.2.2.2.2.2.2.2) (fun n s hI hk => hs n s.1 s.2.1 s.2.2.1 s.2.2.2.1 s.2.2.2.2.1 s.2.2.2.2.2.1 s.2.2.2.2.2.2.1 s.2.2.2.2.2.2.2.1 s.2.2.2.2.2.2.2.2.1 s.2.2.2.2.2.2.2.2.2 hI (fun b1 b2 b3 b4 b5 b6 b7 b8 b9 b10 h9 hm => hk (b1, b2, b3, b4, b5, b6, b7, b8, b9, b10) h9 hm)) (a1, a2, a3, a4, a5, a6, a7, a8, a9, a10) h
theorem lp11 {A1 A2 A3 A4 A5 A6 A7 A8 A9 A10 A11 : Type} (W : Nat → A1 → A2 → A3 → A4 → A5 → A6 → A7 → A8 → A9 → A10 → A11 → Prop) (I : A1 → A2 → A3 → A4 → A5 → A6 → A7 → A8 → A9 → A10 → A11 → Prop) (μ : A1 → A2 → A3 → A4 → A5 → A6 → A7 → A8 → A9 → A10 → A11 → Nat) (hs : ∀ (n : Nat) (a1 : A1) (a2 : A2) (a3 : A3) (a4 : A4) (a5 : A5) (a6 : A6) (a7 : A7) (a8 : A8) (a9 : A9) (a10 : A10) (a11 : A11), I a1 a2 a3 a4 a5 a6 a7 a8 a9 a10 a11 → (∀ (b1 : A1) (b2 : A2) (b3 : A3) (b4 : A4) (b5 : A5) (b6 : A6) (b7 : A7) (b8 : A8) (b9 : A9) (b10 : A10) (b11 : A11), I b1 b2 b3 b4 b5 b6 b7 b8 b9 b10 b11 → μ b1 b2 b3 b4 b5 b6 b7 b8 b9 b10 b11 < μ a1 a2 a3 a4 a5 a6 a7 a8 a9 a10 a11 → W n b1 b2 b3 b4 b5 b6 b7 b8 b9 b10 b11) → W (n + 1) a1 a2 a3 a4 a5 a6 a7 a8 a9 a10 a11) (a1 : A1) (a2 : A2) (a3 : A3) (a4 : A4) (a5 : A5) (a6 : A6) (a7 : A7) (a8 : A8) (a9 : A9) (a10 : A10) (a11 : A11) (h : I a1 a2 a3 a4 a5 a6 a7 a8 a9 a10 a11) : ∃ n, W n a1 a2 a3 a4 a5 a6 a7 a8 a9 a10 a11 :=
  loop_m (σ := A1 × A2 × A3 × A4 × A5 × A6 × A7 × A8 × A9 × A10 × A11) (fun n s => W n s.1 s.2.1 s.2.2.1 s.2.2.2.1 s.2.2.2.2.1 s.2.2.2.2.2.1 s.2.2.2.2.2.2.1 s.2.2.2.2.2.2.2.1 s.2.2.2.2.2.2.2.2.1 s.2.2.2.2.2.2.2.2.2.1 s.2.2.2.2.2.2.2.2.2.2) (fun s => I s.1 s.2.1 s.2.2.1 s.2.2.2.1 s.2.2.2.2.1 s.2.2.2.2.2.1 s.2.2.2.2.2.2.1 s.2.2.2.2.2.2.2.1 s.2.2.2.2.2.2.2.2.1 s.2.2.2.2.2.2.2.2.2.1 s.2.2.2.2.2.2.2.2.2.2) (fun s => μ s.1 s.2.1 s.2.2.1 s.2.2.2.1 s.2.2.2.2.1 s.2.2.2.2.2.1 s.2.2.2.2.2.2.1 s.2.2.2.2.2.2.2.1 s.2.2.2.2.2.2.2.2.1 s.2.2.2.2.2.2.2.2.2.1 s.2.2.2.2.2.2.2.2.2.2) (fun n s hI hk => hs n s.1 s.2.1 s.2.2.1 s.2.2.2.1 s.2.2.2.2.1 s.2.2.2.2.2.1 s.2.2.2.2.2.2.1 s.2.2.2.2.2.2.2.1 s.2.2.2.2.2.2.2.2.1 s.2.2.2.2.2.2.2.2.2.1 s.2.2.2.2.2.2.2.2.2.2 hI (fun b1 b2 b3 b4 b5 b6 b7 b8 b9 b10 b11 h9 hm => hk (b1, b2, b3, b4, b5, b6, b7, b8, b9, b10, b11) h9 hm)) (a1, a2, a3, a4, a5, a6, a7, a8, a9, a10, a11) h
theorem lp12 {A1 A2 A3 A4 A5 A6 A7 A8 A9 A10 A11 A12 : Type} (W : Nat → A1 → A2 → A3 → A4 → A5 → A6 → A7 → A8 → A9 → A10 → A11 → A12 → Prop) (I : A1 → A2 → A3 → A4 → A5 → A6 → A7 → A8 → A9 → A10 → A11 → A12 → Prop) (μ : A1 → A2 → A3 → A4 → A5 → A6 → A7 → A8 → A9 → A10 → A11 → A12 → Nat) (hs : ∀ (n : Nat) (a1 : A1) (a2 : A2) (a3 : A3) (a4 : A4) (a5 : A5) (a6 : A6) (a7 : A7) (a8 : A8) (a9 : A9) (a10 : A10) (a11 : A11) (a12 : A12), I a1 a2 a3 a4 a5 a6 a7 a8 a9 a10 a11 a12 → (∀ (b1 : A1) (b2 : A2) (b3 : A3) (b4 : A4) (b5 : A5) (b6 : A6) (b7 : A7) (b8 : A8) (b9 : A9) (b10 : A10) (b11 : A11) (b12 : A12), I b1 b2 b3 b4 b5 b6 b7 b8 b9 b10 b11 b12 → μ b1 b2 b3 b4 b5 b6 b7 b8 b9 b10 b11 b12 < μ a1 a2 a3 a4 a5 a6 a7 a8 a9 a10 a11 a12 → W n b1 b2 b3 b4 b5 b6 b7 b8 b9 b10 b11 b12) → W (n + 1) a1 a2 a3 a4 a5 a6 a7 a8 a9 a10 a11 a12) (a1 : A1) (a2 : A2) (a3 : A3) (a4 : A4) (a5 : A5) (a6 : A6) (a7 : A7) (a8 : A8) (a9 : A9) (a10 : A10) (a11 : A11) (a12 : A12) (h : I a1 a2 a3 a4 a5 a6 a7 a8 a9 a10 a11 a12) : ∃ n, W n a1 a2 a3 a4 a5 a6 a7 a8 a9 a10 a11 a12 :=
  loop_m (σ := A1 × A2 × A3 × A4 × A5 × A6 × A7 × A8 × A9 × A10 × A11 × A12) (fun n s => W n s.1 s.2.1 s.2.2.1 s.2.2.2.1 s.2.2.2.2.1 s.2.2.2.2.2.1 s.2.2.2.2.2.2.1 s.2.2.2.2.2.2.2.1 s.2.2.2.2.2.2.2.2.1 s.2.2.2.2.2.2.2.2.2.1 s.2.2.2.2.2.2.2.2.2.2.1 s.2.2.2.2.2.2.2.2.2.2.2) (fun s => I s.1 s.2.1 s.2.2.1 s.2.2.2.1 s.2.2.2.2.1 s.2.2.2.2.2.1 s.2.2.2.2.2.2.1 s.2.2.2.2.2.2.2.1 s.2.2.2.2.2.2.2.2.1 s.2.2.2.2.2.2.2.2.2.1 s.2.2.2.2.2.2.2.2.2.2.1 s.2.2.2.2.2.2.2.2.2.2.2) (fun s => μ s.1 s.2.1 s.2.2.1 s.2.2.2.1 s.2.2.2.2.1 s.2.2.2.2.2.1 s.2.2.2.2.2.2.1 s.2.2.2.2.2.2.2.1 s.2.2.2.2.2.2.2.2.1 s.2.2.2.2.2.2.2.2.2.1 s.2.2.2.2.2.2.2.2.2.2.1 s.2.2.2.2.2.2.2.2.2.2.2) (fun n s hI hk => hs n s.1 s.2.1 s.2.2.1 s.2.2.2.1 s.2.2.2.2.1 s.2.2.2.2.2.1 s.2.2.2.2.2.2.1 s.2.2.2.2.2.2.2.1 s.2.2.2.2.2.2.2.2.1 s.2.2.2.2.2.2.2.2.2.1 s.2.2.2.2.2.2.2.2.2.2.1 s.2.2.2.2.2.2.2.2.2.2.2 hI (fun b1 b2 b3 b4 b5 b6 b7 b8 b9 b10 b11 b12 h9 hm => hk (b1, b2, b3, b4, b5, b6, b7, b8, b9, b10, b11, b12) h9 hm)) (a1, a2, a3, a4, a5, a6, a7, a8, a9, a10, a11, a12) h
theorem lp13 {A1 A2 A3 A4 A5 A6 A7 A8 A9 A10 A11 A12 A13 : Type} (W : Nat → A1 → A2 → A3 → A4 → A5 → A6 → A7 → A8 → A9 → A10 → A11 → A12 → A13 → Prop) (I : A1 → A2 → A3 → A4 → A5 → A6 → A7 → A8 → A9 → A10 → A11 → A12 → A13 → Prop) (μ : A1 → A2 → A3 → A4 → A5 → A6 → A7 → A8 → A9 → A10 → A11 → A12 → A13 → Nat) (hs : ∀ (n : Nat) (a1 : A1) (a2 : A2) (a3 : A3) (a4 : A4) (a5 : A5) (a6 : A6) (a7 : A7) (a8 : A8) (a9 : A9) (a10 : A10) (a11 : A11) (a12 : A12) (a13 : A13), I a1 a2 a3 a4 a5 a6 a7 a8 a9 a10 a11 a12 a13 → (∀ (b1 : A1) (b2 : A2) (b3 : A3) (b4 : A4) (b5 : A5) (b6 : A6) (b7 : A7) (b8 : A8) (b9 : A9) (b10 : A10) (b11 : A11) (b12 : A12) (b13 : A13), I b1 b2 b3 b4 b5 b6 b7 b8 b9 b10 b11 b12 b13 → μ b1 b2 b3 b4 b5 b6 b7 b8 b9 b10 b11 b12 b13 < μ a1 a2 a3 a4 a5 a6 a7 a8 a9 a10 a11 a12 a13 → W n b1 b2 b3 b4 b5 b6 b7 b8 b9 b10 b11 b12 b13) → W (n + 1) a1 a2 a3 a4 a5 a6 a7 a8 a9 a10 a11 a12 a13) (a1 : A1) (a2 : A2) (a3 : A3) (a4 : A4) (a5 : A5) (a6 : A6) (a7 : A7) (a8 : A8) (a9 : A9) (a10 : A10) (a11 : A11) (a12 : A12) (a13 : A13) (h : I a1 a2 a3 a4 a5 a6 a7 a8 a9 a10 a11 a12 a13) : ∃ n, W n a1 a2 a3 a4 a5 a6 a7 a8 a9 a10 a11 a12 a13 :=
  loop_m (σ := A1 × A2 × A3 × A4 × A5 × A6 × A7 × A8 × A9 × A10 × A11 × A12 × A13) (fun n s => W n s.1 s.2.1 s.2.2.1 s.2.2.2.1 s.2.2.2.2.1 s.2.2.2.2.2.1 s.2.2.2.2.2.2.1 s.2.2.2.2.2.2.2.1 s.2.2.2.2.2.2.2.2.1 s.2.2.2.2.2.2.2.2.2.1 s.2.2.2.2.2.2.2.2.2.2.1 s.2.2.2.2.2.2.2.2.2.2.2.1 s.2.2.2.2.2.2.2.2.2.2.2.2) (fun s => I s.1 s.2.1 s.2.2.1 s.2.2.2.1 s.2.2.2.2.1 s.2.2.2.2.2.1 s.2.2.2.2.2.2.1 s.2.2.2.2.2.2.2.1 s.2.2.2.2.2.2.2.2.1 s.2.2.2.2.2.2.2.2.2.1 s.2.2.2.2.2.2.2.2.2.2.1 s.2.2.2.2.2.2.2.2.2.2.2.1 s.2.2.2.2.2.2.2.2.2.2.2.2) (fun s => μ s.1 s.2.1 s.2.2.1 s.2.2.2.1 s.2.2.2.2.1 s.2.2.2.2.2.1 s.2.2.2.2.2.2.1 s.2.2.2.2.2.2.2.1 s.2.2.2.2.2.2.2.2.1 s.2.2.2.2.2.2.2.2.2.1 s.2.2.2.2.2.2.2.2.2.2.1 s.2.2.2.2.2.2.2.2.2.2.2.1 s.2.2.2.2.2.2.2.2.2.2.2.2) (fun n s hI hk => hs n s.1 s.2.1 s.2.2.1 s.2.2.2.1 s.2.2.2.2.1 s.2.2.2.2.2.1 s.2.2.2.2.2.2.1 s.2.2.2.2.2.2.2.1 s.2.2.2.2.2.2.2.2.1 s.2.2.2.2.2.2.2.2.2.1 s.2.2.2.2.2.2.2.2.2.2.1 s.2.2.2.2.2.2.2.2.2.2.2.1 s.2.2.2.2.2.2.2.2.2.2.2.2 hI (fun b1 b2 b3 b4 b5 b6 b7 b8 b9 b10 b11 b12 b13 h9 hm => hk (b1, b2, b3, b4, b5, b6, b7, b8, b9, b10, b11, b12, b13) h9 hm)) (a1, a2, a3, a4, a5, a6, a7, a8, a9, a10, a11, a12, a13) h
theorem lp14 {A1 A2 A3 A4 A5 A6 A7 A8 A9 A10 A11 A12 A13 A14 : Type} (W : Nat → A1 → A2 → A3 → A4 → A5 → A6 → A7 → A8 → A9 → A10 → A11 → A12 → A13 → A14 → Prop) (I : A1 → A2 → A3 → A4 → A5 → A6 → A7 → A8 → A9 → A10 → A11 → A12 → A13 → A14 → Prop) (μ : A1 → A2 → A3 → A4 → A5 → A6 → A7 → A8 → A9 → A10 → A11 → A12 → A13 → A14 → Nat) (hs : ∀ (n : Nat) (a1 : A1) (a2 : A2) (a3 : A3) (a4 : A4) (a5 : A5) (a6 : A6) (a7 : A7) (a8 : A8) (a9 : A9) (a10 : A10) (a11 : A11) (a12 : A12) (a13 : A13) (a14 : A14), I a1 a2 a3 a4 a5 a6 a7 a8 a9 a10 a11 a12 a13 a14 → (∀ (b1 : A1) (b2 : A2) (b3 : A3) (b4 : A4) (b5 : A5) (b6 : A6) (b7 : A7) (b8 : A8) (b9 : A9) (b10 : A10) (b11 : A11) (b12 : A12) (b13 : A13) (b14 : A14), I b1 b2 b3 b4 b5 b6 b7 b8 b9 b10 b11 b12 b13 b14 → μ b1 b2 b3 b4 b5 b6 b7 b8 b9 b10 b11 b12 b13 b14 < μ a1 a2 a3 a4 a5 a6 a7 a8 a9 a10 a11 a12 a13 a14 → W n b1 b2 b3 b4 b5 b6 b7 b8 b9 b10 b11 b12 b13 b14) → W (n + 1) a1 a2 a3 a4 a5 a6 a7 a8 a9 a10 a11 a12 a13 a14) (a1 : A1) (a2 : A2) (a3 : A3) (a4 : A4) (a5 : A5) (a6 : A6) (a7 : A7) (a8 : A8) (a9 : A9) (a10 : A10) (a11 : A11) (a12 : A12) (a13 : A13) (a14 : A14) (h : I a1 a2 a3 a4 a5 a6 a7 a8 a9 a10 a11 a12 a13 a14) : ∃ n, W n a1 a2 a3 a4 a5 a6 a7 a8 a9 a10 a11 a12 a13 a14 :=
  loop_m (σ := A1 × A2 × A3 × A4 × A5 × A6 × A7 × A8 × A9 × A10 × A11 × A12 × A13 × A14) (fun n s => W n s.1 s.2.1 s.2.2.1 s.2.2.2.1 s.2.2.2.2.1 s.2.2.2.2.2.1 s.2.2.2.2.2.2.1 s.2.2.2.2.2.2.2.1 s.2.2.2.2.2.2.2.2.1 s.2.2.2.2.2.2.2.2.2.1 s.2.2.2.2.2.2.2.2.2.2.1 s.2.2.2.2.2.2.2.2.2.2.2.1 s.2.2.2.2.2.2.2.2.2.2.2.2.1 s.2.2.2.2.2.2.2.2.2.2.2.2.2) (fun s => I s.1 s.2.1 s.2.2.1 s.2.2.2.1 s.2.2.2.2.1 s.2.2.2.2.2.1 s.2.2.2.2.2.2.1 s.2.2.2.2.2.2.2.1 s.2.2.2.2.2.2.2.2.1 s.2.2.2.2.2.2.2.2.2.1 s.2.2.2.2.2.2.2.2.2.2.1 s.2.2.2.2.2.2.2.2.2.2.2.1 s.2.2.2.2.2.2.2.2.2.2.2.2.1 s.2.2.2.2.2.2.2.2.2.2.2.2.2) (fun s => μ s.1 s.2.1 s.2.2.1 s.2.2.2.1 s.2.2.2.2.1 s.2.2.2.2.2.1 s.2.2.2.2.2.2.1 s.2.2.2.2.2.2.2.1 s.2.2.2.2.2.2.2.2.1 s.2.2.2.2.2.2.2.2.2.1 s.2.2.2.2.2.2.2.2.2.2.1 s.2.2.2.2.2.2.2.2.2.2.2.1 s.2.2.2.2.2.2.2.2.2.2.2.2.1 s.2.2.2.2.2.2.2.2.2.2.2.2.2) (fun n s hI hk => hs n s.1 s.2.1 s.2.2.1 s.2.2.2.1 s.2.2.2.2.1 s.2.2.2.2.2.1 s.2.2.2.2.2.2.1 s.2.2.2.2.2.2.2.1 s.2.2.2.2.2.2.2.2.1 s.2.2.2.2.2.2.2.2.2.1 s.2.2.2.2.2.2.2.2.2.2.1 s.2.2.2.2.2.2.2.2.2.2.2.1 s.2.2.2.2.2.2.2.2.2.2.2.2.1 s.2.2.2.2.2.2.2.2.2.2.2.2.2 hI (fun b1 b2 b3 b4 b5 b6 b7 b8 b9 b10 b11 b12 b13 b14 h9 hm => hk (b1, b2, b3, b4, b5, b6, b7, b8, b9, b10, b11, b12, b13, b14) h9 hm)) (a1, a2, a3, a4, a5, a6, a7, a8, a9, a10, a11, a12, a13, a14) h
theorem lp15 {A1 A2 A3 A4 A5 A6 A7 A8 A9 A10 A11 A12 A13 A14 A15 : Type} (W : Nat → A1 → A2 → A3 → A4 → A5 → A6 → A7 → A8 → A9 → A10 → A11 → A12 → A13 → A14 → A15 → Prop) (I : A1 → A2 → A3 → A4 → A5 → A6 → A7 → A8 → A9 → A10 → A11 → A12 → A13 → A14 → A15 → Prop) (μ : A1 → A2 → A3 → A4 → A5 → A6 → A7 → A8 → A9 → A10 → A11 → A12 → A13 → A14 → A15 → Nat) (hs : ∀ (n : Nat) (a1 : A1) (a2 : A2) (a3 : A3) (a4 : A4) (a5 : A5) (a6 : A6) (a7 : A7) (a8 : A8) (a9 : A9) (a10 : A10) (a11 : A11) (a12 : A12) (a13 : A13) (a14 : A14) (a15 : A15), I a1 a2 a3 a4 a5 a6 a7 a8 a9 a10 a11 a12 a13 a14 a15 → (∀ (b1 : A1) (b2 : A2) (b3 : A3) (b4 : A4) (b5 : A5) (b6 : A6) (b7 : A7) (b8 : A8) (b9 : A9) (b10 : A10) (b11 : A11) (b12 : A12) (b13 : A13) (b14 : A14) (b15 : A15), I b1 b2 b3 b4 b5 b6 b7 b8 b9 b10 b11 b12 b13 b14 b15 → μ b1 b2 b3 b4 b5 b6 b7 b8 b9 b10 b11 b12 b13 b14 b15 < μ a1 a2 a3 a4 a5 a6 a7 a8 a9 a10 a11 a12 a13 a14 a15 → W n b1 b2 b3 b4 b5 b6 b7 b8 b9 b10 b11 b12 b13 b14 b15) → W (n + 1) a1 a2 a3 a4 a5 a6 a7 a8 a9 a10 a11 a12 a13 a14 a15) (a1 : A1) (a2 : A2) (a3 : A3) (a4 : A4) (a5 : A5) (a6 : A6) (a7 : A7) (a8 : A8) (a9 : A9) (a10 : A10) (a11 : A11) (a12 : A12) (a13 : A13) (a14 : A14) (a15 : A15) (h : I a1 a2 a3 a4 a5 a6 a7 a8 a9 a10 a11 a12 a13 a14 a15) : ∃ n, W n a1 a2 a3 a4 a5 a6 a7 a8 a9 a10 a11 a12 a13 a14 a15 :=
  loop_m (σ := A1 × A2 × A3 × A4 × A5 × A6 × A7 × A8 × A9 × A10 × A11 × A12 × A13 × A14 × A15) (fun n s => W n s.1 s.2.1 s.2.2.1 s.2.2.2.1 s.2.2.2.2.1 s.2.2.2.2.2.1 s.2.2.2.2.2.2.1 s.2.2.2.2.2.2.2.1 s.2.2.2.2.2.2.2.2.1 s.2.2.2.2.2.2.2.2.2.1 s.2.2.2.2.2.2.2.2.2.2.1 s.2.2.2.2.2.2.2.2.2.2.2.1 s.2.2.2.2.2.2.2.2.2.2.2.2.1 s.2.2.2.2.2.2.2.2.2.2.2.2.2.1 s.2.2.2.2.2.2.2.2.2.2.2.2.2.2) (fun s => I s.1 s.2.1 s.2.2.1 s.2.2.2.1 s.2.2.2.2.1 s.2.2.2.2.2.1 s.2.2.2.2.2.2.1 s.2.2.2.2.2.2.2.1 s.2.2.2.2.2.2.2.2.1 s.2.2.2.2.2.2.2.2.2.1 s.2.2.2.2.2.2.2.2.2.2.1 s.2.2.2.2.2.2.2.2.2.2.2.1 s.2.2.2.2.2.2.2.2.2.2.2.2.1 s.2.2.2.2.2.2.2.2.2.2.2.2.2.1 s.2.2.2.2.2.2.2.2.2.2.2.2.2.2) (fun s => μ s.1 s.2.1 s.2.2.1 s.2.2.2.1 s.2.2.2.2.1 s.2.2.2.2.2.1 s.2.2.2.2.2.2.1 s.2.2.2.2.2.2.2.1 s.2.2.2.2.2.2.2.2.1 s.2.2.2.2.2.2.2.2.2.1 s.2.2.2.2.2.2.2.2.2.2.1 s.2.2.2.2.2.2.2.2.2.2.2.1 s.2.2.2.2.2.2.2.2.2.2.2.2.1 s.2.2.2.2.2.2.2.2.2.2.2.2.2.1 s.2.2.2.2.2.2.2.2.2.2.2.2.2.2) (fun n s hI hk => hs n s.1 s.2.1 s.2.2.1 s.2.2.2.1 s.2.2.2.2.1 s.2.2.2.2.2.1 s.2.2.2.2.2.2.1 s.2.2.2.2.2.2.2.1 s.2.2.2.2.2.2.2.2.1 s.2.2.2.2.2.2.2.2.2.1 s.2.2.2.2.2.2.2.2.2.2.1 s.2.2.2.2.2.2.2.2.2.2.2.1 s.2.2.2.2.2.2.2.2.2.2.2.2.1 s.2.2.2.2.2.2.2.2.2.2.2.2.2.1 s.2.2.2.2.2.2.2.2.2.2.2.2.2.2 hI (fun b1 b2 b3 b4 b5 b6 b7 b8 b9 b10 b11 b12 b13 b14 b15 h9 hm => hk (b1, b2, b3, b4, b5, b6, b7, b8, b9, b10, b11, b12, b13, b14, b15) h9 hm)) (a1, a2, a3, a4, a5, a6, a7, a8, a9, a10, a11, a12, a13, a14, a15) h
theorem lp16 {A1 A2 A3 A4 A5 A6 A7 A8 A9 A10 A11 A12 A13 A14 A15 A16 : Type} (W : Nat → A1 → A2 → A3 → A4 → A5 → A6 → A7 → A8 → A9 → A10 → A11 → A12 → A13 → A14 → A15 → A16 → Prop) (I : A1 → A2 → A3 → A4 → A5 → A6 → A7 → A8 → A9 → A10 → A11 → A12 → A13 → A14 → A15 → A16 → Prop) (μ : A1 → A2 → A3 → A4 → A5 → A6 → A7 → A8 → A9 → A10 → A11 → A12 → A13 → A14 → A15 → A16 → Nat) (hs : ∀ (n : Nat) (a1 : A1) (a2 : A2) (a3 : A3) (a4 : A4) (a5 : A5) (a6 : A6) (a7 : A7) (a8 : A8) (a9 : A9) (a10 : A10) (a11 : A11) (a12 : A12) (a13 : A13) (a14 : A14) (a15 : A15) (a16 : A16), I a1 a2 a3 a4 a5 a6 a7 a8 a9 a10 a11 a12 a13 a14 a15 a16 → (∀ (b1 : A1) (b2 : A2) (b3 : A3) (b4 : A4) (b5 : A5) (b6 : A6) (b7 : A7) (b8 : A8) (b9 : A9) (b10 : A10) (b11 : A11) (b12 : A12) (b13 : A13) (b14 : A14) (b15 : A15) (b16 : A16), I b1 b2 b3 b4 b5 b6 b7 b8 b9 b10 b11 b12 b13 b14 b15 b16 → μ b1 b2 b3 b4 b5 b6 b7 b8 b9 b10 b11 b12 b13 b14 b15 b16 < μ a1 a2 a3 a4 a5 a6 a7 a8 a9 a10 a11 a12 a13 a14 a15 a16 → W n b1 b2 b3 b4 b5 b6 b7 b8 b9 b10 b11 b12 b13 b14 b15 b16) → W (n + 1) a1 a2 a3 a4 a5 a6 a7 a8 a9 a10 a11 a12 a13 a14 a15 a16) (a1 : A1) (a2 : A2) (a3 : A3) (a4 : A4) (a5 : A5) (a6 : A6) (a7 : A7) (a8 : A8) (a9 : A9) (a10 : A10) (a11 : A11) (a12 : A12) (a13 : A13) (a14 : A14) (a15 : A15) (a16 : A16) (h : I a1 a2 a3 a4 a5 a6 a7 a8 a9 a10 a11 a12 a13 a14 a15 a16) : ∃ n, W n a1 a2 a3 a4 a5 a6 a7 a8 a9 a10 a11 a12 a13 a14 a15 a16 :=
  loop_m (σ := A1 × A2 × A3 × A4 × A5 × A6 × A7 × A8 × A9 × A10 × A11 × A12 × A13 × A14 × A15 × A16) (fun n s => W n s.1 s.2.1 s.2.2.1 s.2.2.2.1 s.2.2.2.2.1 s.2.2.2.2.2.1 s.2.2.2.2.2.2.1 s.2.2.2.2.2.2.2.1 s.2.2.2.2.2.2.2.2.1 s.2.2.2.2.2.2.2.2.2.1 s.2.2.2.2.2.2.2.2.2.2.1 s.2.2.2.2.2.2.2.2.2.2.2.1 s.2.2.2.2.2.2.2.2.2.2.2.2.1 s.2.2.2.2.2.2.2.2.2.2.2.2.2.1 s.2.2.2.2.2.2.2.2.2.2.2.2.2.2.1 s.2.2.2.2.2.2.2.2.2.2.2.2.2.2.2) (fun s => I s.1 s.2.1 s.2.2.1 s.2.2.2.1 s.2.2.2.2.1 s.2.2.2.2.2.1 s.2.2.2.2.2.2.1 s.2.2.2.2.2.2.2.1 s.2.2.2.2.2.2.2.2.1 s.2.2.2.2.2.2.2.2.2.1 s.2.2.2.2.2.2.2.2.2.2.1 s.2.2.2.2.2.2.2.2.2.2.2.1 s.2.2.2.2.2.2.2.2.2.2.2.2.1 s.2.2.2.2.2.2.2.2.2.2.2.2.2.1 s.2.2.2.2.2.2.2.2.2.2.2.2.2.2.1 s.2.2.2.2.2.2.2.2.2.2.2.2.2.2.2) (fun s => μ s.1 s.2.1 s.2.2.1 s.2.2.2.1 s.2.2.2.2.1 s.2.2.2.2.2.1 s.2.2.2.2.2.2.1 s.2.2.2.2.2.2.2.1 s.2.2.2.2.2.2.2.2.1 s.2.2.2.2.2.2.2.2.2.1 s.2.2.2.2.2.2.2.2.2.2.1 s.2.2.2.2.2.2.2.2.2.2.2.1 s.2.2.2.2.2.2.2.2.2.2.2.2.1 s.2.2.2.2.2.2.2.2.2.2.2.2.2.1 s.2.2.2.2.2.2.2.2.2.2.2.2.2.2.1 s.2.2.2.2.2.2.2.2.2.2.2.2.2.2.2) (fun n s hI hk => hs n s.1 s.2.1 s.2.2.1 s.2.2.2.1 s.2.2.2.2.1 s.2.2.2.2.2.1 s.2.2.2.2.2.2.1 s.2.2.2.2.2.2.2.1 s.2.2.2.2.2.2.2.2.1 s.2.2.2.2.2.2.2.2.2.1 s.2.2.2.2.2.2.2.2.2.2.1 s.2.2.2.2.2.2.2.2.2.2.2.1 s.2.2.2.2.2.2.2.2.2.2.2.2.1 s.2.2.2.2.2.2.2.2.2.2.2.2.2.1 s.2.2.2.2.2.2.2.2.2.2.2.2.2.2.1 s.2.2.2.2.2.2.2.2.2.2.2.2.2.2.2 hI (fun b1 b2 b3 b4 b5 b6 b7 b8 b9 b10 b11 b12 b13 b14 b15 b16 h9 hm => hk (b1, b2, b3, b4, b5, b6, b7, b8, b9, b10, b11, b12, b13, b14, b15, b16) h9 hm)) (a1, a2, a3, a4, a5, a6, a7, a8, a9, a10, a11, a12, a13, a14, a15, a16) h
theorem pk_least (P : Nat → Prop) (h : ∃ k, P k) : ∃ k, P k ∧ ∀ j, j < k → ¬ P j := by
  obtain ⟨k, hk⟩ := h
  induction k using Nat.strongRecOn with
  | ind k ih =>
    by_cases e : ∃ j, j < k ∧ P j
    · obtain ⟨j, hj, pj⟩ := e
      exact ih j hj pj
    · exact ⟨k, hk, fun j hj pj => e ⟨j, hj, pj⟩⟩
theorem rp1 {ρ A1 : Type} (W : Nat → (ρ → Prop) → A1 → Prop) (ok : A1 → Prop) (μ : A1 → Nat) (val : A1 → ρ)
    (hs : ∀ (d : Nat) (post : ρ → Prop) (a1 : A1), ok a1 → post (val a1) → (∀ (post' : ρ → Prop) (b1 : A1), ok b1 → μ b1 < μ a1 → post' (val b1) → W d post' b1) → W (d + 1) post a1) :
    ∀ (d : Nat) (post : ρ → Prop) (a1 : A1), ok a1 → μ a1 < d → post (val a1) → W d post a1 := by
  intro d
  induction d with
  | zero => intro post a1 _ h; omega
  | succ d ih =>
    intro post a1 ho hm hp
    exact hs d post a1 ho hp (fun post' b1 ho' hm' hp' => ih post' b1 ho' (by omega) hp')
theorem rp2 {ρ A1 A2 : Type} (W : Nat → (ρ → Prop) → A1 → A2 → Prop) (ok : A1 → A2 → Prop) (μ : A1 → A2 → Nat) (val : A1 → A2 → ρ)
    (hs : ∀ (d : Nat) (post : ρ → Prop) (a1 : A1) (a2 : A2), ok a1 a2 → post (val a1 a2) → (∀ (post' : ρ → Prop) (b1 : A1) (b2 : A2), ok b1 b2 → μ b1 b2 < μ a1 a2 → post' (val b1 b2) → W d post' b1 b2) → W (d + 1) post a1 a2) :
    ∀ (d : Nat) (post : ρ → Prop) (a1 : A1) (a2 : A2), ok a1 a2 → μ a1 a2 < d → post (val a1 a2) → W d post a1 a2 := by
  intro d
  induction d with
  | zero => intro post a1 a2 _ h; omega
  | succ d ih =>
    intro post a1 a2 ho hm hp
    exact hs d post a1 a2 ho hp (fun post' b1 b2 ho' hm' hp' => ih post' b1 b2 ho' (by omega) hp')
theorem rp3 {ρ A1 A2 A3 : Type} (W : Nat → (ρ → Prop) → A1 → A2 → A3 → Prop) (ok : A1 → A2 → A3 → Prop) (μ : A1 → A2 → A3 → Nat) (val : A1 → A2 → A3 → ρ)
    (hs : ∀ (d : Nat) (post : ρ → Prop) (a1 : A1) (a2 : A2) (a3 : A3), ok a1 a2 a3 → post (val a1 a2 a3) → (∀ (post' : ρ → Prop) (b1 : A1) (b2 : A2) (b3 : A3), ok b1 b2 b3 → μ b1 b2 b3 < μ a1 a2 a3 → post' (val b1 b2 b3) → W d post' b1 b2 b3) → W (d + 1) post a1 a2 a3) :
    ∀ (d : Nat) (post : ρ → Prop) (a1 : A1) (a2 : A2) (a3 : A3), ok a1 a2 a3 → μ a1 a2 a3 < d → post (val a1 a2 a3) → W d post a1 a2 a3 := by
  intro d
  induction d with
  | zero => intro post a1 a2 a3 _ h; omega
  | succ d ih =>
    intro post a1 a2 a3 ho hm hp
    exact hs d post a1 a2 a3 ho hp (fun post' b1 b2 b3 ho' hm' hp' => ih post' b1 b2 b3 ho' (by omega) hp')
theorem rp4 {ρ A1 A2 A3 A4 : Type} (W : Nat → (ρ → Prop) → A1 → A2 → A3 → A4 → Prop) (ok : A1 → A2 → A3 → A4 → Prop) (μ : A1 → A2 → A3 → A4 → Nat) (val : A1 → A2 → A3 → A4 → ρ)
    (hs : ∀ (d : Nat) (post : ρ → Prop) (a1 : A1) (a2 : A2) (a3 : A3) (a4 : A4), ok a1 a2 a3 a4 → post (val a1 a2 a3 a4) → (∀ (post' : ρ → Prop) (b1 : A1) (b2 : A2) (b3 : A3) (b4 : A4), ok b1 b2 b3 b4 → μ b1 b2 b3 b4 < μ a1 a2 a3 a4 → post' (val b1 b2 b3 b4) → W d post' b1 b2 b3 b4) → W (d + 1) post a1 a2 a3 a4) :
    ∀ (d : Nat) (post : ρ → Prop) (a1 : A1) (a2 : A2) (a3 : A3) (a4 : A4), ok a1 a2 a3 a4 → μ a1 a2 a3 a4 < d → post (val a1 a2 a3 a4) → W d post a1 a2 a3 a4 := by
  intro d
  induction d with
  | zero => intro post a1 a2 a3 a4 _ h; omega
  | succ d ih =>
    intro post a1 a2 a3 a4 ho hm hp
    exact hs d post a1 a2 a3 a4 ho hp (fun post' b1 b2 b3 b4 ho' hm' hp' => ih post' b1 b2 b3 b4 ho' (by omega) hp')
theorem rp5 {ρ A1 A2 A3 A4 A5 : Type} (W : Nat → (ρ → Prop) → A1 → A2 → A3 → A4 → A5 → Prop) (ok : A1 → A2 → A3 → A4 → A5 → Prop) (μ : A1 → A2 → A3 → A4 → A5 → Nat) (val : A1 → A2 → A3 → A4 → A5 → ρ)
    (hs : ∀ (d : Nat) (post : ρ → Prop) (a1 : A1) (a2 : A2) (a3 : A3) (a4 : A4) (a5 : A5), ok a1 a2 a3 a4 a5 → post (val a1 a2 a3 a4 a5) → (∀ (post' : ρ → Prop) (b1 : A1) (b2 : A2) (b3 : A3) (b4 : A4) (b5 : A5), ok b1 b2 b3 b4 b5 → μ b1 b2 b3 b4 b5 < μ a1 a2 a3 a4 a5 → post' (val b1 b2 b3 b4 b5) → W d post' b1 b2 b3 b4 b5) → W (d + 1) post a1 a2 a3 a4 a5) :
    ∀ (d : Nat) (post : ρ → Prop) (a1 : A1) (a2 : A2) (a3 : A3) (a4 : A4) (a5 : A5), ok a1 a2 a3 a4 a5 → μ a1 a2 a3 a4 a5 < d → post (val a1 a2 a3 a4 a5) → W d post a1 a2 a3 a4 a5 := by
  intro d
  induction d with
  | zero => intro post a1 a2 a3 a4 a5 _ h; omega
  | succ d ih =>
    intro post a1 a2 a3 a4 a5 ho hm hp
    exact hs d post a1 a2 a3 a4 a5 ho hp (fun post' b1 b2 b3 b4 b5 ho' hm' hp' => ih post' b1 b2 b3 b4 b5 ho' (by omega) hp')
theorem rp6 {ρ A1 A2 A3 A4 A5 A6 : Type} (W : Nat → (ρ → Prop) → A1 → A2 → A3 → A4 → A5 → A6 → Prop) (ok : A1 → A2 → A3 → A4 → A5 → A6 → Prop) (μ : A1 → A2 → A3 → A4 → A5 → A6 → Nat) (val : A1 → A2 → A3 → A4 → A5 → A6 → ρ)
    (hs : ∀ (d : Nat) (post : ρ → Prop) (a1 : A1) (a2 : A2) (a3 : A3) (a4 : A4) (a5 : A5) (a6 : A6), ok a1 a2 a3 a4 a5 a6 → post (val a1 a2 a3 a4 a5 a6) → (∀ (post' : ρ → Prop) (b1 : A1) (b2 : A2) (b3 : A3) (b4 : A4) (b5 : A5) (b6 : A6), ok b1 b2 b3 b4 b5 b6 → μ b1 b2 b3 b4 b5 b6 < μ a1 a2 a3 a4 a5 a6 → post' (val b1 b2 b3 b4 b5 b6) → W d post' b1 b2 b3 b4 b5 b6) → W (d + 1) post a1 a2 a3 a4 a5 a6) :
    ∀ (d : Nat) (post : ρ → Prop) (a1 : A1) (a2 : A2) (a3 : A3) (a4 : A4) (a5 : A5) (a6 : A6), ok a1 a2 a3 a4 a5 a6 → μ a1 a2 a3 a4 a5 a6 < d → post (val a1 a2 a3 a4 a5 a6) → W d post a1 a2 a3 a4 a5 a6 := by
  intro d
  induction d with
  | zero => intro post a1 a2 a3 a4 a5 a6 _ h; omega
  | succ d ih =>
    intro post a1 a2 a3 a4 a5 a6 ho hm hp
    exact hs d post a1 a2 a3 a4 a5 a6 ho hp (fun post' b1 b2 b3 b4 b5 b6 ho' hm' hp' => ih post' b1 b2 b3 b4 b5 b6 ho' (by omega) hp')
theorem rec_p {σ ρ : Type} (W : Nat → (ρ → Prop) → σ → Prop) (ok : σ → Prop) (μ : σ → Nat) (val : σ → ρ)
    (hs : ∀ d s post, ok s → post (val s) → (∀ s' post', ok s' → μ s' < μ s → post' (val s') → W d post' s') → W (d + 1) post s) :
    ∀ d s post, ok s → μ s < d → post (val s) → W d post s := by
  intro d
  induction d with
  | zero => intro s post _ h; omega
  | succ d ih =>
    intro s post ho hm hp
    exact hs d s post ho hp (fun s' post' ho' hm' hp' => ih s' post' ho' (by omega) hp')
theorem rec_q {σ ρ : Type} (W : Nat → (ρ → Prop) → σ → Prop) (ok : σ → Prop) (μ : σ → Nat) (Q : σ → ρ → Prop)
    (hs : ∀ d s post, ok s → (∀ r, Q s r → post r) → (∀ s' post', ok s' → μ s' < μ s → (∀ r, Q s' r → post' r) → W d post' s') → W (d + 1) post s) :
    ∀ d s post, ok s → μ s < d → (∀ r, Q s r → post r) → W d post s := by
  intro d
  induction d with
  | zero => intro s post _ h; omega
  | succ d ih =>
    intro s post ho hm hp
    exact hs d s post ho hp (fun s' post' ho' hm' hp' => ih s' post' ho' (by omega) hp')
def bx_sum (f : Nat → Int32) : Nat → Int32
  | 0 => 0
  | n + 1 => bx_sum f n + f n
theorem ek_u {A : Prop} {B : Nat → Prop} {k N : Nat} (hk : k < N) (h : B k) : (some k = none → A) ∧ (∀ y : Nat, some k = some y → (y < N ∧ B y)) :=
  ⟨fun z => absurd z (Option.some_ne_none k), fun _ e => (by cases e; exact ⟨hk, h⟩)⟩
theorem ek_nu {A : Prop} {B : Nat → Prop} (h : A) : ((none : Option Nat) = none → A) ∧ (∀ y : Nat, (none : Option Nat) = some y → B y) :=
  ⟨fun _ => h, fun _ e => (by cases e)⟩
theorem ek_if {c d A B : Prop} (e : c ↔ d) (f : d → A) (g : ¬ d → B) : (c → A) ∧ (¬ c → B) :=
  ⟨fun z => f (e.mp z), fun z => g (fun y => z (e.mpr y))⟩
theorem ek_v {α : Sort _} {P : α → Prop} {a b : α} (e : a = b) (h : P b) : P a := e ▸ h
theorem co_some {x : Option Nat} {A : Prop} {B : Nat → Prop} (i : Nat) (h : B i) (hx : x = some i := by rfl) : (x = none → A) ∧ (∀ y : Nat, x = some y → B y) := by
  subst hx
  exact ⟨fun e => (nomatch e), fun y e => Option.some.inj e ▸ h⟩
theorem co_none {x : Option Nat} {A : Prop} {B : Nat → Prop} (h : A) (hx : x = none := by rfl) : (x = none → A) ∧ (∀ y : Nat, x = some y → B y) := by
  subst hx
  exact ⟨fun _ => h, fun y e => (nomatch e)⟩
theorem co_any {x : Option Nat} {A : Prop} {B : Nat → Prop} (hn : x = none → A) (hs : ∀ i : Nat, x = some i → B i) : (x = none → A) ∧ (∀ y : Nat, x = some y → B y) := ⟨hn, hs⟩
theorem co_2 {P : Nat → Prop} (h0 : P 0) (h1 : P 1) {i : Nat} (hi : i < 2) : P i :=
  match i, hi with
  | 0, _ => h0
  | 1, _ => h1
theorem co_3 {P : Nat → Prop} (h0 : P 0) (h1 : P 1) (h2 : P 2) {i : Nat} (hi : i < 3) : P i :=
  match i, hi with
  | 0, _ => h0
  | 1, _ => h1
  | 2, _ => h2
theorem co_4 {P : Nat → Prop} (h0 : P 0) (h1 : P 1) (h2 : P 2) (h3 : P 3) {i : Nat} (hi : i < 4) : P i :=
  match i, hi with
  | 0, _ => h0
  | 1, _ => h1
  | 2, _ => h2
  | 3, _ => h3
theorem co_dec {N : Nat} {P : Nat → Prop} [DecidablePred P] (h : (List.range N).all (fun i => decide (P i)) = true) {i : Nat} (hi : i < N) : P i := by
  have := List.all_eq_true.mp h i (List.mem_range.mpr hi)
  exact of_decide_eq_true this
theorem co_tab {α : Type} {l : List α} {d : α} {P : α → Prop} (h : ∀ a, a ∈ l → P a) {i : Nat} (hi : i < l.length) : P (l.getD i d) := by
  rw [List.getD_eq_getElem?_getD, List.getElem?_eq_getElem hi]
  exact h _ (List.getElem_mem hi)
theorem pk_mu {x : Int32} {L : Nat} (h0 : ¬ x < 0) (h : ¬ nI L ≤ x) (hL : L < 2 ^ 31) : ∃ j : Nat, j < L ∧ x = nI j ∧ x + 1 = nI (j + 1) ∧ x.toNatClampNeg = j ∧ L - (x + 1).toNatClampNeg < L - x.toNatClampNeg := by
  obtain ⟨j, hj, rfl⟩ := nI_of h0
  have hl : j < L := Nat.not_le.mp fun q => h (nI_le q hj)
  refine ⟨j, hl, rfl, nI_1 j, nI_clamp hj, ?_⟩
  rw [nI_1, nI_clamp (by omega), nI_clamp hj]
  omega
theorem op_s {α : Type} {r : Option α} {A : Prop} {B : α → Prop} {y : α} (h : r = some y) (b : B y) : (r = none → A) ∧ ∀ z, r = some z → B z :=
  ⟨fun e => (by rw [h] at e; cases e), fun z e => (by rw [h] at e; cases e; exact b)⟩
def l_holds {α : Type} (a : Nat → Option Nat) (LP : List Nat) (p : Nat → α) (c : Nat) (b : Nat → α) : Prop :=
  ∀ j, j < c → ∃ y, a j = some y ∧ y ∈ LP ∧ p y = b j
theorem l_holds_0 {α : Type} {a : Nat → Option Nat} {LP : List Nat} {p b : Nat → α} : l_holds a LP p 0 b := fun j h => absurd h (Nat.not_lt_zero j)
theorem l_in_new (LP : List Nat) (q : Nat) : q ∈ LP ++ [q] := List.mem_append.mpr (Or.inr (List.mem_singleton.mpr rfl))
def l_sum (b : Nat → Int32) : Nat → Int32
  | 0 => 0
  | k + 1 => l_sum b k + b k
theorem sb_shr0 (x : Int32) : x >>> ((0 : Int32) &&& 31) = x := by
  rw [show ((0 : Int32) &&& 31) = 0 by decide]
  simp
theorem sb_shl0 (x : Int32) : x <<< ((0 : Int32) &&& 31) = x := by
  rw [show ((0 : Int32) &&& 31) = 0 by decide]
  simp
theorem sb_cl0 : (0 : Int32).toNatClampNeg = 0 := by decide
theorem sb_m1 {p : Nat} (h : 0 < p) : nI p + (-1) = nI (p - 1) := by
  obtain ⟨q, rfl⟩ : ∃ q, p = q + 1 := ⟨p - 1, by omega⟩
  exact pk_m1 q
def sb_b (c : Nat) : Int32 := (nI c).toInt8.toInt32
theorem sb_byte : ∀ c, c < 256 → sb_b c &&& 255 = nI c ∧ ((nI c).toUInt32 % 65536).toInt32 = nI c ∧ nI c ≤ 255 := by decide +kernel
def sb_Fit (a : Nat → Int32) : Prop := ∀ j, fits .byte (.int (a j)) = true
def sb_Lat (t : Nat → Nat) (n : Nat) (a : Nat → Int32) : Prop := ∀ j, j < n → t j < 256 ∧ a j = sb_b (t j)
theorem sb_fitB (c : Nat) : fits .byte (.int (sb_b c)) = true := pk_fb _
theorem sb_fit0 : sb_Fit (fun _ => 0) := fun _ => by
  show fits .byte (.int 0) = true
  decide
theorem sb_fitU {a : Nat → Int32} {k : Nat} {x : Int32} (h : sb_Fit a) (hx : fits .byte (.int x) = true) : sb_Fit (upd a k x) := by
  intro j
  by_cases e : j = k
  · subst e
    rw [pk_us]
    exact hx
  · rw [pk_un e]
    exact h j
def sb_cat (t : Nat → Nat) (n : Nat) (s : Nat → Nat) : Nat → Nat := fun j => if j < n then t j else s (j - n)
theorem sb_cat_lo {t s : Nat → Nat} {n j : Nat} (h : j < n) : sb_cat t n s j = t j := if_pos h
theorem sb_cat_hi {t s : Nat → Nat} {n j : Nat} : sb_cat t n s (n + j) = s j := by
  show (if n + j < n then t (n + j) else s (n + j - n)) = s j
  rw [if_neg (by omega), Nat.add_sub_cancel_left]
theorem sb_latPut {t s : Nat → Nat} {n w : Nat} {a a' : Nat → Int32} (h : sb_Lat t n a) (hk : ∀ j, j < n → a' j = a j) (hs : ∀ i, i < w → s i < 256 ∧ a' (n + i) = sb_b (s i)) : sb_Lat (sb_cat t n s) (n + w) a' := by
  intro j hj
  by_cases e : j < n
  · rw [sb_cat_lo e, hk j e]
    exact h j e
  · obtain ⟨i, rfl⟩ : ∃ i, j = n + i := ⟨j - n, by omega⟩
    rw [sb_cat_hi]
    exact hs i (by omega)
theorem sb_latKeep {t : Nat → Nat} {n : Nat} {a a' : Nat → Int32} (h : sb_Lat t n a) (hk : ∀ j, j < n → a' j = a j) : sb_Lat t n a' := fun j hj => by
  rw [hk j hj]
  exact h j hj
def sb_cap (q m : Nat) : Nat := if q ≤ m then m else if 2 * m + 2 < q then q else 2 * m + 2
def sb_Room (q m mc ms : Nat) : Prop := q ≤ m ∨ (1 ≤ mc ∧ sb_cap q m ≤ ms ∧ sb_cap q m ≤ 65536)
theorem sb_cap_ge (q m : Nat) : q ≤ sb_cap q m := by
  unfold sb_cap
  split
  · omega
  · split <;> omega
theorem sb_cap_gem (q m : Nat) : m ≤ sb_cap q m := by
  unfold sb_cap
  split
  · omega
  · split <;> omega
theorem sb_cap_le {q m mc ms : Nat} (hm : m ≤ 65536) (hr : sb_Room q m mc ms) : sb_cap q m ≤ 65536 := by
  rcases hr with h | h
  · rw [sb_cap, if_pos h]
    exact hm
  · exact h.2.2
theorem sb_at {P : Int32 → Prop} {x y : Int32} (e : x = y) (h : P y) : P x := e ▸ h
def sb_dg (w : Nat) : Nat := if w < 10 then 1 else if w < 100 then 2 else if w < 1000 then 3 else if w < 10000 then 4 else if w < 100000 then 5 else if w < 1000000 then 6 else if w < 10000000 then 7 else if w < 100000000 then 8 else if w < 1000000000 then 9 else 10
def sb_dec (v : Nat) : Nat → Nat := fun i => 48 + v / 10 ^ (sb_dg v - 1 - i) % 10
theorem sb_dg_in (w : Nat) : 1 ≤ sb_dg w ∧ sb_dg w ≤ 10 := by
  unfold sb_dg
  constructor <;> (repeat' split) <;> omega
theorem sb_dg100 {w : Nat} (h : 100 ≤ w) (hw : w < 2 ^ 31) : sb_dg w = sb_dg (w / 100) + 2 := by
  rw [sb_dg, sb_dg, if_neg (show ¬ w < 10 by omega), if_neg (show ¬ w < 100 by omega)]
  by_cases h3 : w < 1000
  · rw [if_pos h3, if_pos (show w / 100 < 10 by omega)]
  rw [if_neg h3, if_neg (show ¬ w / 100 < 10 by omega)]
  by_cases h4 : w < 10000
  · rw [if_pos h4, if_pos (show w / 100 < 100 by omega)]
  rw [if_neg h4, if_neg (show ¬ w / 100 < 100 by omega)]
  by_cases h5 : w < 100000
  · rw [if_pos h5, if_pos (show w / 100 < 1000 by omega)]
  rw [if_neg h5, if_neg (show ¬ w / 100 < 1000 by omega)]
  by_cases h6 : w < 1000000
  · rw [if_pos h6, if_pos (show w / 100 < 10000 by omega)]
  rw [if_neg h6, if_neg (show ¬ w / 100 < 10000 by omega)]
  by_cases h7 : w < 10000000
  · rw [if_pos h7, if_pos (show w / 100 < 100000 by omega)]
  rw [if_neg h7, if_neg (show ¬ w / 100 < 100000 by omega)]
  by_cases h8 : w < 100000000
  · rw [if_pos h8, if_pos (show w / 100 < 1000000 by omega)]
  rw [if_neg h8, if_neg (show ¬ w / 100 < 1000000 by omega)]
  by_cases h9 : w < 1000000000
  · rw [if_pos h9, if_pos (show w / 100 < 10000000 by omega)]
  rw [if_neg h9, if_neg (show ¬ w / 100 < 10000000 by omega)]
  rw [if_pos (show w / 100 < 100000000 by omega)]
theorem sb_negT {w : Nat} (h : w < 2 ^ 31) : (-nI w).toInt = -(w : Int) := by
  rw [Int32.toInt_neg, nI_toInt h]
  exact Int.bmod_eq_of_le (by omega) (by omega)
theorem sb_nle {a b : Nat} (ha : a < 2 ^ 31) (hb : b < 2 ^ 31) : -nI a ≤ -nI b ↔ b ≤ a := by
  rw [Int32.le_iff_toInt_le, sb_negT ha, sb_negT hb]
  omega
theorem sb_nlt {a b : Nat} (ha : a < 2 ^ 31) (hb : b < 2 ^ 31) : -nI a < -nI b ↔ b < a := by
  rw [Int32.lt_iff_toInt_lt, sb_negT ha, sb_negT hb]
  omega
theorem sb_cmp {A B : Prop} {x : Int32} (v c : Nat) (f : c ≤ v → A) (g : v < c → B) (hv : v < 2 ^ 31) (hx : x = -nI c := by rfl) (hc : c < 2 ^ 31 := by omega) : (-nI v ≤ x → A) ∧ (¬ -nI v ≤ x → B) := by
  subst hx
  rw [sb_nle hv hc]
  exact ⟨f, fun z => g (by omega)⟩
theorem sb_ndiv {w : Nat} (hw : w < 2 ^ 31) : (-nI w) / 100 = -nI (w / 100) := by
  apply Int32.toInt_inj.mp
  have h100 : (100 : Int32).toInt = 100 := by decide
  rw [Int32.toInt_div, sb_negT hw, h100, sb_negT (by omega), Int.neg_tdiv, Int.tdiv_eq_ediv_of_nonneg (by omega), Int.bmod_eq_of_le (by omega) (by omega)]
  omega
theorem sb_nrem {w : Nat} (hw : w < 2 ^ 31) : (-nI (w / 100)) * 100 - (-nI w) = nI (w % 100) := by
  have h := pk_rem (a := w) (d := 100) hw (by decide) (by decide)
  rw [pk_div hw (by decide) (by decide)] at h
  rw [← h]
  show (-nI (w / 100)) * nI 100 - (-nI w) = nI w - nI (w / 100) * nI 100
  rw [Int32.neg_mul, Int32.sub_neg, Int32.add_comm, ← Int32.sub_eq_add_neg]
end
section
/-! small facts on numbers and stores -/
section ZA
theorem za_p (n : Nat) : 0 < 10 ^ n := Nat.pow_pos (by decide)
theorem za_s {n : Nat} (h : 0 < n) : nI n - 1 = nI (n - 1) := by
  obtain ⟨m, rfl⟩ : ∃ m, n = m + 1 := ⟨n - 1, by omega⟩
  exact nI_pred m
theorem za_m {n : Nat} (h : 0 < n) : nI n + (-1) = nI (n - 1) := by
  obtain ⟨m, rfl⟩ : ∃ m, n = m + 1 := ⟨n - 1, by omega⟩
  exact pk_m1 m
theorem za_lt0 {a : Nat} (h : a < 2 ^ 31) : ¬ nI a < 0 := nI_pos h
theorem za_0le {a : Nat} (h : a < 2 ^ 31) : 0 ≤ nI a := nI_pos' h
theorem za_ne1 {a : Nat} (h : a < 2 ^ 31) : ¬ nI a = -1 := by
  intro e
  have := nI_pos (n := a) h
  rw [e] at this
  exact this (by decide)
/-- -1 less a small number is negative -/
theorem za_neg1 {a : Nat} (h : a < 2 ^ 30) : (-1 - nI a).toInt = -1 - (a : Int) := by
  rw [Int32.toInt_sub, nI_toInt (by omega), show ((-1 : Int32)).toInt = -1 from by decide]
  exact Int.bmod_eq_of_le (by omega) (by omega)
theorem za_neg2 {a : Nat} (h : a < 2 ^ 30) : (-2 - nI a).toInt = -2 - (a : Int) := by
  rw [Int32.toInt_sub, nI_toInt (by omega), show ((-2 : Int32)).toInt = -2 from by decide]
  exact Int.bmod_eq_of_le (by omega) (by omega)
theorem za_n1lt {a : Nat} (h : a < 2 ^ 30) : (-1 - nI a) < 0 := by
  rw [Int32.lt_iff_toInt_lt, za_neg1 h, show ((0 : Int32)).toInt = 0 from by decide]
  omega
theorem za_21 (a : Nat) : -2 - nI a = -1 - nI (a + 1) := by
  rw [← nI_1]; grind
theorem za_11 (x : Int32) : -1 - (-1 - x) = x := by grind
theorem za_22 (x : Int32) : -2 - (-1 - x) = x - 1 := by grind
theorem za_b0 : vp_nar .boolean 0 = 0 := by decide
theorem za_b1 : vp_nar .boolean 1 = 1 := by decide
theorem za_nb0 : narrow .boolean (.int 0) = .int 0 := rfl
theorem za_nb1 : narrow .boolean (.int 1) = .int 1 := rfl
/-- a small number, narrowed to a byte, stays -/
theorem za_i8 : ∀ n, n < 128 → (nI n).toInt8.toInt32 = nI n := by decide +kernel
theorem za_i8m : ((-1 : Int32)).toInt8.toInt32 = -1 := by decide
theorem za_by {n : Nat} (h : n < 128) : vp_nar .byte (nI n) = nI n := by
  rw [vp_nar_byte]; exact za_i8 n h
theorem za_by2 {n : Nat} (h : n < 128) : vp_nar .byte ((nI n).toInt8.toInt32) = nI n := by
  rw [za_i8 n h]; exact za_by h
theorem za_bym : vp_nar .byte ((-1 : Int32).toInt8.toInt32) = -1 := by
  rw [za_i8m, vp_nar_byte]; exact za_i8m
theorem za_bym1 : vp_nar .byte (-1 : Int32) = -1 := by
  rw [vp_nar_byte]; exact za_i8m
theorem za_in {x : Int32} {n : Nat} (h : vp_in x n) (hn : n < 2 ^ 31) : ∃ j : Nat, j < n ∧ x = nI j := vp_in_of h hn
theorem za_cl {x : Int32} {n : Nat} (h : vp_in x n) (hn : n < 2 ^ 31) : x.toNatClampNeg < n ∧ x = nI x.toNatClampNeg := by
  obtain ⟨j, hj, rfl⟩ := vp_in_of h hn
  rw [nI_clamp (by omega)]
  exact ⟨hj, rfl⟩
theorem za_e {a b : Nat} (h : nI a = nI b) (ha : a < 2 ^ 31) (hb : b < 2 ^ 31) : a = b := (nI_eq ha hb).mp h
theorem za_ne {a b : Nat} (h : a ≠ b) (ha : a < 2 ^ 31) (hb : b < 2 ^ 31) : ¬ nI a = nI b := fun z => h ((nI_eq ha hb).mp z)
end ZA
end
section
/-! numbers: the machine of their characters, and what they are worth: naturals alone -/
section ZN
def zn_nx (q c : Nat) : Nat :=
  if q = 1 then (if c < 10 then (if c = 0 then 2 else 3) else 0)
  else if q = 2 then (if c = 18 then 4 else if c = 19 then 6 else 0)
  else if q = 3 then (if c < 10 then 3 else if c = 18 then 4 else if c = 19 then 6 else 0)
  else if q = 4 then (if c < 10 then 5 else 0)
  else if q = 5 then (if c < 10 then 5 else if c = 19 then 6 else 0)
  else if q = 6 then (if c < 10 then 8 else if c = 17 then 7 else if c = 31 then 7 else 0)
  else if q = 0 then 0
  else (if c < 10 then 8 else 0)
def zn_nq (c : Nat) : Nat := if c = 17 then 1 else if c = 0 then 2 else 3
def zn_dq (t : Nat → Nat) (p : Nat) : Nat → Nat
  | 0 => zn_nq (t p)
  | j + 1 => zn_nx (zn_dq t p j) (t (p + 1 + j))
def zn_acc (q : Nat) : Prop := q = 2 ∨ q = 3 ∨ q = 5 ∨ q = 8
theorem zn_nx8 (q c : Nat) (h : q ≤ 8) : zn_nx q c ≤ 8 := by
  unfold zn_nx
  repeat' split
  all_goals omega
theorem zn_cases {q c : Nat} (h1 : 1 ≤ q) (h8 : q ≤ 8) (h : zn_nx q c ≠ 0) :
    (c < 10 ∧ (q = 1 ∨ q = 3) ∧ ((zn_nx q c = 2 ∧ q = 1 ∧ c = 0) ∨ (zn_nx q c = 3 ∧ (q = 3 ∨ c ≠ 0)))) ∨ (c = 18 ∧ (q = 2 ∨ q = 3) ∧ zn_nx q c = 4) ∨ (c = 19 ∧ (q = 2 ∨ q = 3 ∨ q = 5) ∧ zn_nx q c = 6)
    ∨ (c < 10 ∧ (q = 4 ∨ q = 5) ∧ zn_nx q c = 5) ∨ ((c = 17 ∨ c = 31) ∧ q = 6 ∧ zn_nx q c = 7) ∨ (c < 10 ∧ (q = 6 ∨ q = 7 ∨ q = 8) ∧ zn_nx q c = 8) := by
  unfold zn_nx at h ⊢
  repeat' split at h
  all_goals simp_all
  all_goals omega
/-- all the digits of a stretch, as one number -/
def zn_mz (t : Nat → Nat) (p : Nat) : Nat → Nat
  | 0 => 0
  | i + 1 => if p ≤ i ∧ t i < 10 then 10 * zn_mz t p i + t i else zn_mz t p i
def zn_nd (t : Nat → Nat) (p : Nat) : Nat → Nat
  | 0 => 0
  | i + 1 => if p ≤ i ∧ t i < 10 then zn_nd t p i + 1 else zn_nd t p i
def zn_xp (t : Nat → Nat) (m : Nat) : Nat → Nat
  | 0 => 0
  | i + 1 => if m < i ∧ t i < 10 then (if zn_xp t m i ≤ 999 then 10 * zn_xp t m i + t i else zn_xp t m i) else zn_xp t m i
def zn_yp (t : Nat → Nat) (m : Nat) : Nat → Nat
  | 0 => 0
  | i + 1 => if m < i ∧ t i < 10 then (if 10000 ≤ zn_yp t m i then zn_yp t m i else 10 * zn_yp t m i + t i) else zn_yp t m i
theorem zn_px (t : Nat → Nat) (m : Nat) : ∀ i, (zn_xp t m i = zn_yp t m i ∧ zn_xp t m i ≤ 999) ∨ (1000 ≤ zn_xp t m i ∧ zn_xp t m i ≤ 9999 ∧ 1000 ≤ zn_yp t m i ∧ zn_yp t m i ≤ 99999) := by
  intro i
  induction i with
  | zero => exact Or.inl ⟨rfl, by simp [zn_xp]⟩
  | succ i ih =>
    simp only [zn_xp, zn_yp]
    by_cases h : m < i ∧ t i < 10
    · rw [if_pos h, if_pos h]
      generalize zn_xp t m i = a at ih ⊢
      generalize zn_yp t m i = b at ih ⊢
      repeat' split
      all_goals omega
    · rw [if_neg h, if_neg h]; exact ih
theorem zn_mz_0 (t : Nat → Nat) (p : Nat) : ∀ i, i ≤ p → zn_mz t p i = 0 := by
  intro i
  induction i with
  | zero => intro _; rfl
  | succ i ih =>
    intro h
    simp only [zn_mz]
    rw [if_neg (by omega)]
    exact ih (by omega)
theorem zn_xp_0 (t : Nat → Nat) (m : Nat) : ∀ i, i ≤ m + 1 → zn_xp t m i = 0 := by
  intro i
  induction i with
  | zero => intro _; rfl
  | succ i ih =>
    intro h
    simp only [zn_xp]
    rw [if_neg (by omega)]
    exact ih (by omega)
theorem zn_yp_0 (t : Nat → Nat) (m : Nat) : ∀ i, i ≤ m + 1 → zn_yp t m i = 0 := by
  intro i
  induction i with
  | zero => intro _; rfl
  | succ i ih =>
    intro h
    simp only [zn_yp]
    rw [if_neg (by omega)]
    exact ih (by omega)
theorem zn_nd_0 (t : Nat → Nat) (p : Nat) : ∀ i, i ≤ p → zn_nd t p i = 0 := by
  intro i
  induction i with
  | zero => intro _; rfl
  | succ i ih =>
    intro h
    simp only [zn_nd]
    rw [if_neg (by omega)]
    exact ih (by omega)
theorem zn_nd_le (t : Nat → Nat) (p : Nat) : ∀ i, zn_nd t p i ≤ i - p := by
  intro i
  induction i with
  | zero => exact Nat.zero_le _
  | succ i ih =>
    simp only [zn_nd]
    split <;> omega
theorem zn_nd_l (t : Nat → Nat) (a : Nat) : ∀ b, a < b → zn_nd t a b = (if t a < 10 then 1 else 0) + zn_nd t (a + 1) b := by
  intro b
  induction b with
  | zero => intro h; omega
  | succ b ih =>
    intro h
    simp only [zn_nd]
    by_cases e : a = b
    · subst e
      rw [zn_nd_0 t a a (Nat.le_refl _), zn_nd_0 t (a + 1) a (by omega)]
      by_cases c : t a < 10
      · simp [c]
      · simp [c]
    · have := ih (by omega)
      by_cases c : t b < 10
      · rw [if_pos (c := a ≤ b ∧ t b < 10) ⟨by omega, c⟩, if_pos (c := a + 1 ≤ b ∧ t b < 10) ⟨by omega, c⟩, this]; omega
      · rw [if_neg (c := a ≤ b ∧ t b < 10) (fun z => c z.2), if_neg (c := a + 1 ≤ b ∧ t b < 10) (fun z => c z.2), this]
/-- the digits behind a place weigh less than one at it -/
theorem zn_mz_split (t : Nat → Nat) (p a : Nat) (hp : p ≤ a) : ∀ b, a ≤ b → ∃ r, r < 10 ^ zn_nd t a b ∧ zn_mz t p b = zn_mz t p a * 10 ^ zn_nd t a b + r := by
  intro b
  induction b with
  | zero => intro h; obtain rfl : a = 0 := by omega
            exact ⟨0, by simp [zn_nd], by simp [zn_nd]⟩
  | succ b ih =>
    intro h
    by_cases e : a = b + 1
    · subst e
      rw [zn_nd_0 t (b + 1) (b + 1) (Nat.le_refl _)]
      exact ⟨0, by decide, by omega⟩
    · obtain ⟨r, h1, h2⟩ := ih (by omega)
      simp only [zn_nd, zn_mz]
      by_cases c : t b < 10
      · rw [if_pos ⟨by omega, c⟩, if_pos ⟨by omega, c⟩, h2]
        refine ⟨10 * r + t b, ?_, ?_⟩
        · rw [Nat.pow_succ]; omega
        · rw [Nat.pow_succ, Nat.mul_add, ← Nat.mul_assoc]
          have : 10 * zn_mz t p a * 10 ^ zn_nd t a b = zn_mz t p a * (10 ^ zn_nd t a b * 10) := by
            rw [Nat.mul_comm 10, Nat.mul_assoc, Nat.mul_comm 10]
          omega
      · rw [if_neg (by omega), if_neg (by omega)]
        exact ⟨r, h1, h2⟩
theorem zn_mz_lt (t : Nat → Nat) (p : Nat) : ∀ i, zn_mz t p i < 10 ^ i := by
  intro i
  induction i with
  | zero => exact Nat.one_pos
  | succ i ih =>
    simp only [zn_mz]
    rw [Nat.pow_succ]
    split <;> omega
end ZN
end
section
/-! numbers: significant digits and waiting zeros; worth of a number in units -/
section ZV
def zv_W (M D s : Nat) : Prop := (s = 0 → M = 0) ∧ (0 < s → 10 ^ (s - 1) ≤ M) ∧ M < 10 ^ s ∧ (s ≤ 12 → D = M) ∧ (12 < s → 0 < D) ∧ D < 10 ^ 12
theorem zv_W_more {M D s c : Nat} (h : zv_W M D s) (hc : c < 10) (h0 : 0 < M ∨ 0 < c) : zv_W (10 * M + c) (if s < 12 then 10 * D + c else D) (s + 1) := by
  obtain ⟨h1, h2, h3, h4, h5, h6⟩ := h
  refine ⟨fun z => by omega, fun _ => ?_, ?_, fun z => ?_, fun z => ?_, ?_⟩
  · rw [Nat.add_sub_cancel]
    by_cases e : s = 0
    · subst e; have := h1 rfl; simp; omega
    · have := h2 (by omega)
      have e2 : 10 ^ s = 10 ^ (s - 1) * 10 := by rw [← Nat.pow_succ]; congr 1; omega
      omega
  · rw [Nat.pow_succ]; omega
  · rw [if_pos (by omega), h4 (by omega)]
  · by_cases e : s < 12
    · omega
    · rw [if_neg e]
      by_cases e2 : s = 12
      · have := h4 (by omega)
        have := h2 (by omega)
        have := za_p (s - 1)
        omega
      · exact h5 (by omega)
  · split
    · have e := h4 (by omega)
      have : 10 ^ s ≤ 10 ^ 11 := Nat.pow_le_pow_right (by decide) (by omega)
      have : (10:Nat) ^ 12 = 10 ^ 11 * 10 := by decide
      omega
    · exact h6
def zv_MI (Z D z s : Nat) : Prop := ∃ M, Z = M * 10 ^ z ∧ zv_W M D s ∧ (s = 0 → z = 0) ∧ (0 < s → M % 10 ≠ 0)
theorem zv_MI_0 : zv_MI 0 0 0 0 := ⟨0, rfl, ⟨fun _ => rfl, fun h => by omega, by decide, fun _ => rfl, fun h => by omega, by decide⟩, fun _ => rfl, fun h => by omega⟩
theorem zv_MI_D {Z D z s : Nat} (h : zv_MI Z D z s) : (D = 0 ↔ Z = 0) ∧ (D = 0 → z = 0 ∧ s = 0) ∧ (0 < D → 0 < s) := by
  obtain ⟨M, hZ, ⟨h1, h2, h3, h4, h5, h6⟩, h7, h8⟩ := h
  have hz := za_p z
  by_cases e : s = 0
  · have m0 := h1 e
    have d0 := h4 (by omega)
    subst m0
    rw [Nat.zero_mul] at hZ
    exact ⟨⟨fun _ => hZ, fun _ => d0⟩, fun _ => ⟨h7 e, e⟩, fun z => by omega⟩
  · have m1 := h2 (by omega)
    have := za_p (s - 1)
    have d1 : 0 < D := by
      by_cases k : s ≤ 12
      · rw [h4 k]; omega
      · exact h5 (by omega)
    have : 0 < Z := by rw [hZ]; exact Nat.mul_pos (by omega) hz
    exact ⟨⟨fun z => by omega, fun z => by omega⟩, fun z => by omega, fun _ => by omega⟩
/-- a zero behind it -/
theorem zv_MI_z {Z D z s : Nat} (h : zv_MI Z D z s) (hD : 0 < D) : zv_MI (10 * Z + 0) D (z + 1) s := by
  have hs := (zv_MI_D h).2.2 hD
  obtain ⟨M, hZ, hW, h7, h8⟩ := h
  refine ⟨M, ?_, hW, fun e => by omega, h8⟩
  rw [hZ, Nat.pow_succ, ← Nat.mul_assoc M, Nat.mul_comm 10, Nat.add_zero]
theorem zv_MI_z0 {Z D z s : Nat} (h : zv_MI Z D z s) (hD : D = 0) : zv_MI (10 * Z + 0) D z s := by
  have := ((zv_MI_D h).1.mp hD)
  subst this
  exact h
/-- the zeros that waited are taken, then the digit -/
theorem zv_W_flush {D s M c : Nat} (h : zv_W (10 * M + c) D s) (hc : 0 < c) (hc2 : c < 10) (hs : 0 < s) : zv_MI (10 * M + c) D 0 s :=
  ⟨10 * M + c, by simp, h, fun e => by omega, fun _ => by omega⟩
/-- w units are the number: digits Z, e places -/
def zv_Q (e : Int) (Z w : Nat) : Prop := w * 10 ^ (-e).toNat = Z * 10 ^ e.toNat
def zv_no (e : Int) (Z : Nat) : Prop := ∀ w, w < 10 ^ 11 → ¬ zv_Q e Z w
theorem zv_Q_inj {e : Int} {Z w w' : Nat} (h : zv_Q e Z w) (h' : zv_Q e Z w') : w = w' :=
  Nat.eq_of_mul_eq_mul_right (za_p (-e).toNat) (h.trans h'.symm)
theorem zv_Q_0 {e : Int} : zv_Q e 0 0 := by unfold zv_Q; simp
theorem zv_Q_0' {e : Int} {w : Nat} (h : zv_Q e 0 w) : w = 0 := zv_Q_inj h zv_Q_0
theorem zv_far {e : Int} {Z : Nat} (h0 : Z ≠ 0) (hZ : Z < 10 ^ 97) (he : e ≤ -200 ∨ 200 ≤ e) : zv_no e Z := by
  intro w hw hq
  unfold zv_Q at hq
  rcases he with he | he
  · have e1 : e.toNat = 0 := by omega
    rw [e1, Nat.pow_zero, Nat.mul_one] at hq
    by_cases w0 : w = 0
    · subst w0; rw [Nat.zero_mul] at hq; exact h0 hq.symm
    · have h2 : 10 ^ 97 ≤ 10 ^ (-e).toNat := Nat.pow_le_pow_right (by decide) (by omega)
      have h3 : 10 ^ (-e).toNat ≤ w * 10 ^ (-e).toNat := Nat.le_mul_of_pos_left _ (by omega)
      omega
  · have e1 : (-e).toNat = 0 := by omega
    rw [e1, Nat.pow_zero, Nat.mul_one] at hq
    have h2 : 10 ^ 11 ≤ 10 ^ e.toNat := Nat.pow_le_pow_right (by decide) (by omega)
    have h3 : 10 ^ e.toNat ≤ Z * 10 ^ e.toNat := Nat.le_mul_of_pos_left _ (by omega)
    omega
/-- X's answer: the digits M with e places behind, e = e0 + z -/
theorem zv_X_neg {e : Int} {Z D z s : Nat} (h : zv_MI Z D z s) (hD : 0 < D) (he : e + z < 0) : zv_no e Z := by
  have hs := (zv_MI_D h).2.2 hD
  obtain ⟨M, hZ, hW, h7, h8⟩ := h
  intro w _ hq
  unfold zv_Q at hq
  rw [show e.toNat = 0 from by omega, Nat.pow_zero, Nat.mul_one, hZ, show (-e).toNat = ((-e).toNat - z - 1) + 1 + z from by omega, Nat.pow_add, ← Nat.mul_assoc] at hq
  have := Nat.eq_of_mul_eq_mul_right (za_p z) hq
  rw [Nat.pow_succ, ← Nat.mul_assoc] at this
  have := h8 hs
  omega
theorem zv_X_val {e : Int} {Z D z s M w : Nat} (hZ : Z = M * 10 ^ z) (he : 0 ≤ e + z) : zv_Q e Z w ↔ w = M * 10 ^ (e + z).toNat := by
  have key : zv_Q e Z (M * 10 ^ (e + z).toNat) := by
    unfold zv_Q
    rw [hZ, Nat.mul_assoc, Nat.mul_assoc, ← Nat.pow_add, ← Nat.pow_add]
    congr 2
    omega
  exact ⟨fun h => zv_Q_inj h key, fun h => h ▸ key⟩
/-- Y's sum: what is read so far, r digits to come -/
theorem zv_Y_pos {e : Int} {Z v d : Nat} {a : Int} (h : zv_Q (a + 1) Z v) (ha : 0 ≤ a) : zv_Q a (10 * Z + d) (v + d * 10 ^ a.toNat) := by
  unfold zv_Q at h ⊢
  rw [show (-(a + 1)).toNat = 0 from by omega, Nat.pow_zero, Nat.mul_one, show (a + 1).toNat = a.toNat + 1 from by omega, Nat.pow_succ] at h
  rw [show (-a).toNat = 0 from by omega, Nat.pow_zero, Nat.mul_one, h, Nat.add_mul]
  congr 1
  rw [Nat.mul_comm 10 Z, Nat.mul_assoc, Nat.mul_comm 10]
theorem zv_Y_neg {Z v : Nat} {a : Int} (h : zv_Q (a + 1) Z v) (ha : a < 0) : zv_Q a (10 * Z + 0) v := by
  unfold zv_Q at h ⊢
  rw [show (a + 1).toNat = 0 from by omega, Nat.pow_zero, Nat.mul_one] at h
  rw [show a.toNat = 0 from by omega, Nat.pow_zero, Nat.mul_one, show (-a).toNat = (-(a + 1)).toNat + 1 from by omega, Nat.pow_succ, ← Nat.mul_assoc, h]
  omega
/-- a digit that is cut off -/
theorem zv_Y_cut {e : Int} {Z' Zi n r d : Nat} (hZ : Z' = (10 * Zi + d) * 10 ^ n + r) (hr : r < 10 ^ n) (hd : 0 < d) (hd2 : d < 10) (he : e + n < 0) : zv_no e Z' := by
  intro w _ hq
  unfold zv_Q at hq
  rw [show e.toNat = 0 from by omega, Nat.pow_zero, Nat.mul_one, hZ, show (-e).toNat = ((-e).toNat - n - 1) + 1 + n from by omega, Nat.pow_add, ← Nat.mul_assoc] at hq
  generalize hk : w * 10 ^ ((-e).toNat - n - 1 + 1) = K at hq
  have h10 : K % 10 = 0 := by rw [← hk, Nat.pow_succ, ← Nat.mul_assoc]; exact Nat.mul_mod_left _ _
  generalize 10 ^ n = p at hq hr
  have h1 : (10 * Zi + d) * p + r < (10 * Zi + d + 1) * p := by rw [Nat.add_mul (10 * Zi + d) 1 p, Nat.one_mul]; omega
  have h2 : K < 10 * Zi + d + 1 := Nat.lt_of_mul_lt_mul_right (a := p) (by omega)
  have h3 : 10 * Zi + d ≤ K := by
    apply Nat.le_of_not_lt
    intro h
    have : (K + 1) * p ≤ (10 * Zi + d) * p := Nat.mul_le_mul_right p h
    rw [Nat.add_mul, Nat.one_mul] at this
    omega
  omega
/-- a digit too high -/
theorem zv_Y_big {e : Int} {Z' Zi n r d : Nat} (hZ : Z' = (10 * Zi + d) * 10 ^ n + r) (hd : 0 < d) (he : 11 ≤ e + n) : zv_no e Z' := by
  intro w hw hq
  unfold zv_Q at hq
  have h1 : 10 ^ n ≤ Z' := by
    rw [hZ]
    have : 1 * 10 ^ n ≤ (10 * Zi + d) * 10 ^ n := Nat.mul_le_mul_right _ (by omega)
    omega
  have h2 : 10 ^ n * 10 ^ e.toNat ≤ Z' * 10 ^ e.toNat := Nat.mul_le_mul_right _ h1
  rw [← hq, ← Nat.pow_add, show n + e.toNat = (n + e).toNat + (-e).toNat from by omega, Nat.pow_add] at h2
  have h3 := Nat.le_of_mul_le_mul_right h2 (za_p _)
  have h4 : 10 ^ 11 ≤ 10 ^ (n + e).toNat := Nat.pow_le_pow_right (by decide) (by omega)
  omega
end ZV
end
section
/-! the shape of a number as its machine reads it: where its point and its mark are -/
section ZH
/-- behind the mark m -/
def zh_Mk (t : Nat → Nat) (p i q m Z F P dw : Nat) : Prop :=
  p ≤ m ∧ m < i ∧ t m = 19 ∧ (∀ j, p ≤ j → j < i → j ≠ m → t j ≠ 19) ∧ (q = 6 → i = m + 1) ∧ (q ≠ 6 → m + 1 < i) ∧ Z = zn_mz t p m ∧ P = zn_xp t m i
  ∧ dw = (if m + 1 < i ∧ t (m + 1) = 17 then 1 else 0)
  ∧ ((F = 0 ∧ ∀ j, p ≤ j → j < i → t j ≠ 18) ∨ ∃ w, p ≤ w ∧ w < m ∧ t w = 18 ∧ (∀ j, p ≤ j → j < i → j ≠ w → t j ≠ 18) ∧ F = m - w - 1)
def zh_Pt (t : Nat → Nat) (p i F : Nat) : Prop :=
  ∃ w, p ≤ w ∧ w < i ∧ t w = 18 ∧ (∀ j, p ≤ j → j < i → t j ≠ 19 ∧ (j ≠ w → t j ≠ 18)) ∧ F = i - w - 1
def zh_Sh (t : Nat → Nat) (p i q Z F P dw : Nat) : Prop :=
  (q ≤ 3 ∧ (∀ j, p ≤ j → j < i → t j ≠ 18 ∧ t j ≠ 19) ∧ Z = zn_mz t p i ∧ F = 0 ∧ P = 0 ∧ dw = 0) ∨
  ((q = 4 ∨ q = 5) ∧ zh_Pt t p i F ∧ Z = zn_mz t p i ∧ P = 0 ∧ dw = 0) ∨
  (6 ≤ q ∧ ∃ m, zh_Mk t p i q m Z F P dw)
theorem zh_0 {t : Nat → Nat} {p : Nat} (h : t p < 10 ∨ t p = 17) : zh_Sh t p (p + 1) (zn_nq (t p)) (if t p < 10 then t p else 0) 0 0 0 := by
  refine Or.inl ⟨?_, ?_, ?_, rfl, rfl, rfl⟩
  · unfold zn_nq; repeat' split
    all_goals omega
  · intro j h1 h2
    obtain rfl : j = p := by omega
    omega
  · simp only [zn_mz]
    rw [zn_mz_0 t p p (Nat.le_refl _)]
    by_cases c : t p < 10
    · rw [if_pos c, if_pos ⟨Nat.le_refl _, c⟩]; omega
    · rw [if_neg c, if_neg (by omega)]
/-- a digit ahead of the point -/
theorem zh_int {t : Nat → Nat} {p i q q' Z F P dw : Nat} (h : zh_Sh t p i q Z F P dw) (hp : p ≤ i) (hq : q = 1 ∨ q = 3) (hc : t i < 10) (hq' : q' ≤ 3) : zh_Sh t p (i + 1) q' (10 * Z + t i) F P dw := by
  rcases h with ⟨_, h2, h3, h4, h5, h6⟩ | ⟨h1, _⟩ | ⟨h1, _⟩
  · refine Or.inl ⟨hq', ?_, ?_, h4, h5, h6⟩
    · intro j a b
      by_cases e : j = i
      · subst e; omega
      · exact h2 j a (by omega)
    · simp only [zn_mz]; rw [if_pos ⟨hp, hc⟩, h3]
  · omega
  · omega
theorem zh_pt {t : Nat → Nat} {p i q Z F P dw : Nat} (h : zh_Sh t p i q Z F P dw) (hp : p ≤ i) (hq : q = 2 ∨ q = 3) (hc : t i = 18) : zh_Sh t p (i + 1) 4 Z F P dw := by
  rcases h with ⟨_, h2, h3, h4, h5, h6⟩ | ⟨h1, _⟩ | ⟨h1, _⟩
  · refine Or.inr (Or.inl ⟨Or.inl rfl, ⟨i, hp, by omega, hc, ?_, by omega⟩, ?_, h5, h6⟩)
    · intro j a b
      by_cases e : j = i
      · subst e; exact ⟨by omega, fun z => absurd rfl z⟩
      · have := h2 j a (by omega)
        exact ⟨this.2, fun _ => this.1⟩
    · simp only [zn_mz]; rw [if_neg (by omega), h3]
  · omega
  · omega
theorem zh_frac {t : Nat → Nat} {p i q Z F P dw : Nat} (h : zh_Sh t p i q Z F P dw) (hp : p ≤ i) (hq : q = 4 ∨ q = 5) (hc : t i < 10) : zh_Sh t p (i + 1) 5 (10 * Z + t i) (F + 1) P dw := by
  rcases h with ⟨h1, _⟩ | ⟨h1, ⟨w, a1, a2, a3, a4, a5⟩, h3, h5, h6⟩ | ⟨h1, _⟩
  · omega
  · refine Or.inr (Or.inl ⟨Or.inr rfl, ⟨w, a1, by omega, a3, ?_, by omega⟩, ?_, h5, h6⟩)
    · intro j a b
      by_cases e : j = i
      · subst e; exact ⟨by omega, fun z => by omega⟩
      · exact a4 j a (by omega)
    · simp only [zn_mz]; rw [if_pos ⟨hp, hc⟩, h3]
  · omega
theorem zh_mark {t : Nat → Nat} {p i q Z F P dw : Nat} (h : zh_Sh t p i q Z F P dw) (hp : p ≤ i) (hq : q = 2 ∨ q = 3 ∨ q = 5) (hc : t i = 19) : zh_Sh t p (i + 1) 6 Z F P dw := by
  rcases h with ⟨_, h2, h3, h4, h5, h6⟩ | ⟨h1, ⟨w, a1, a2, a3, a4, a5⟩, h3, h5, h6⟩ | ⟨h1, _⟩
  · refine Or.inr (Or.inr ⟨Nat.le_refl _, i, hp, by omega, hc, ?_, fun _ => rfl, fun z => absurd rfl z, h3, ?_, ?_, Or.inl ⟨h4, ?_⟩⟩)
    · intro j a b e
      exact (h2 j a (by omega)).2
    · rw [h5, zn_xp_0 t i (i + 1) (Nat.le_refl _)]
    · rw [if_neg (by omega)]; exact h6
    · intro j a b
      by_cases e : j = i
      · subst e; omega
      · exact (h2 j a (by omega)).1
  · refine Or.inr (Or.inr ⟨Nat.le_refl _, i, hp, by omega, hc, ?_, fun _ => rfl, fun z => absurd rfl z, h3, ?_, ?_, Or.inr ⟨w, a1, a2, a3, ?_, a5⟩⟩)
    · intro j a b e
      exact (a4 j a (by omega)).1
    · rw [h5, zn_xp_0 t i (i + 1) (Nat.le_refl _)]
    · rw [if_neg (by omega)]; exact h6
    · intro j a b e
      by_cases e2 : j = i
      · subst e2; omega
      · exact (a4 j a (by omega)).2 e
  · omega
theorem zh_sign {t : Nat → Nat} {p i Z F P dw : Nat} (h : zh_Sh t p i 6 Z F P dw) (hc : t i = 17 ∨ t i = 31) : zh_Sh t p (i + 1) 7 Z F P (if t i = 17 then 1 else dw) := by
  rcases h with ⟨h1, _⟩ | ⟨h1, _⟩ | ⟨h1, m, a1, a2, a3, a4, a5, a6, a7, a8, a9, a10⟩
  · omega
  · omega
  · have e := a5 rfl
    subst e
    rw [if_neg (by omega)] at a9
    refine Or.inr (Or.inr ⟨by omega, m, a1, by omega, a3, ?_, fun z => by omega, fun _ => by omega, a7, ?_, ?_, ?_⟩)
    · intro j a b e
      by_cases e2 : j = m + 1
      · subst e2; omega
      · exact a4 j a (by omega) e
    · rw [a8]; simp only [zn_xp]
      rw [if_neg (by omega : ¬ (m < m + 1 ∧ t (m + 1) < 10))]
    · rw [a9]
      by_cases c : t (m + 1) = 17
      · rw [if_pos c, if_pos ⟨by omega, c⟩]
      · rw [if_neg c, if_neg (by omega)]
    · rcases a10 with ⟨b1, b2⟩ | ⟨w, b1, b2, b3, b4, b5⟩
      · refine Or.inl ⟨b1, fun j a b => ?_⟩
        by_cases e2 : j = m + 1
        · subst e2; omega
        · exact b2 j a (by omega)
      · refine Or.inr ⟨w, b1, b2, b3, fun j a b e => ?_, b5⟩
        by_cases e2 : j = m + 1
        · subst e2; omega
        · exact b4 j a (by omega) e
theorem zh_exp {t : Nat → Nat} {p i q Z F P dw : Nat} (h : zh_Sh t p i q Z F P dw) (hq : q = 6 ∨ q = 7 ∨ q = 8) (hc : t i < 10) : zh_Sh t p (i + 1) 8 Z F (if P ≤ 999 then 10 * P + t i else P) dw := by
  rcases h with ⟨h1, _⟩ | ⟨h1, _⟩ | ⟨h1, m, a1, a2, a3, a4, a5, a6, a7, a8, a9, a10⟩
  · omega
  · omega
  · refine Or.inr (Or.inr ⟨by omega, m, a1, by omega, a3, ?_, fun z => by omega, fun _ => by omega, a7, ?_, ?_, ?_⟩)
    · intro j a b e
      by_cases e2 : j = i
      · subst e2; omega
      · exact a4 j a (by omega) e
    · simp only [zn_xp]
      rw [if_pos (c := m < i ∧ t i < 10) ⟨a2, hc⟩, a8]
    · rw [a9]
      by_cases e : m + 1 < i
      · by_cases c : t (m + 1) = 17
        · rw [if_pos ⟨e, c⟩, if_pos ⟨by omega, c⟩]
        · rw [if_neg (fun z => c z.2), if_neg (fun z => c z.2)]
      · have : i = m + 1 := by omega
        subst this
        rw [if_neg (fun z => e z.1), if_neg (by omega)]
    · rcases a10 with ⟨b1, b2⟩ | ⟨w, b1, b2, b3, b4, b5⟩
      · refine Or.inl ⟨b1, fun j a b => ?_⟩
        by_cases e2 : j = i
        · subst e2; omega
        · exact b2 j a (by omega)
      · refine Or.inr ⟨w, b1, b2, b3, fun j a b e => ?_, b5⟩
        by_cases e2 : j = i
        · subst e2; omega
        · exact b4 j a (by omega) e
end ZH
end
section
/-! the parts of a text: pure -/
section ZT
/-- goes over a string from behind its quote: (1, the place behind its last quote) or (0, the first place that doesn't fit) -/
def zs_sc (t : Nat → Nat) (len : Nat) : Nat → Nat → Nat × Nat
  | 0, _ => (0, len)
  | f + 1, i => if len ≤ i then (0, len) else if t i = 16 then (1, i + 1) else if t i = 30 then (if len ≤ i + 1 then (0, len) else if t (i + 1) = 16 ∨ t (i + 1) = 30 then zs_sc t len f (i + 2) else (0, i + 1)) else zs_sc t len f (i + 1)
theorem zs_s {t : Nat → Nat} {len f i : Nat} : zs_sc t len (f + 1) i = if len ≤ i then (0, len) else if t i = 16 then (1, i + 1) else if t i = 30 then (if len ≤ i + 1 then (0, len) else if t (i + 1) = 16 ∨ t (i + 1) = 30 then zs_sc t len f (i + 2) else (0, i + 1)) else zs_sc t len f (i + 1) := rfl
theorem zs_le {t : Nat → Nat} {len : Nat} : ∀ f i, (zs_sc t len f i).2 ≤ len ∧ (zs_sc t len f i).1 ≤ 1 := by
  intro f
  induction f with
  | zero => intro i; exact ⟨Nat.le_refl _, Nat.zero_le 1⟩
  | succ f ih =>
    intro i
    rw [zs_s]
    repeat' split
    all_goals first | exact ih _ | (dsimp only; omega)
theorem zs_ge {t : Nat → Nat} {len : Nat} : ∀ f i, i ≤ len → i ≤ (zs_sc t len f i).2 ∧ ((zs_sc t len f i).1 = 1 → i < (zs_sc t len f i).2) := by
  intro f
  induction f with
  | zero => intro i h; exact ⟨h, fun z => absurd (show (0 : Nat) = 1 from z) (by decide)⟩
  | succ f ih =>
    intro i h
    rw [zs_s]
    split
    · exact ⟨h, fun z => absurd (show (0 : Nat) = 1 from z) (by decide)⟩
    · split
      · dsimp only; omega
      · split
        · split
          · exact ⟨h, fun z => absurd (show (0 : Nat) = 1 from z) (by decide)⟩
          · split
            · have := ih (i + 2) (by omega)
              exact ⟨by omega, fun z => by have := this.2 z; omega⟩
            · dsimp only; exact ⟨by omega, fun z => absurd (show (0 : Nat) = 1 from z) (by decide)⟩
        · have := ih (i + 1) (by omega)
          exact ⟨by omega, fun z => by have := this.2 z; omega⟩
def zn_run (t : Nat → Nat) (len p i q : Nat) : Prop := ∃ j, i = p + 1 + j ∧ i ≤ len ∧ zn_dq t p j = q ∧ q ≠ 0
def zn_end (t : Nat → Nat) (len p k q : Nat) : Prop := zn_run t len p k q ∧ (k = len ∨ zn_nx q (t k) = 0)
theorem zn_run_0 {t : Nat → Nat} {len p : Nat} (h : p < len) : zn_run t len p (p + 1) (zn_nq (t p)) :=
  ⟨0, rfl, by omega, rfl, by unfold zn_nq; repeat' split
                             all_goals omega⟩
theorem zn_run_s {t : Nat → Nat} {len p i q q' : Nat} (h : zn_run t len p i q) (hi : i < len) (e : zn_nx q (t i) = q') (h0 : q' ≠ 0) : zn_run t len p (i + 1) q' := by
  obtain ⟨j, rfl, _, h3, _⟩ := h
  refine ⟨j + 1, by omega, by omega, ?_, h0⟩
  simp only [zn_dq]
  rw [h3, e]
theorem zn_run_ds {t : Nat → Nat} {len p q : Nat} (hq : q = 3 ∨ q = 5 ∨ q = 8) : ∀ d i, zn_run t len p i q → i + d ≤ len → (∀ j, i ≤ j → j < i + d → t j < 10) → zn_run t len p (i + d) q := by
  intro d
  induction d with
  | zero => intro i h _ _; exact h
  | succ d ih =>
    intro i h hl hd
    have h1 := ih i h (by omega) (fun j a b => hd j a (by omega))
    have hc := hd (i + d) (by omega) (by omega)
    have hlt : i + d < len := by omega
    refine zn_run_s (i := i + d) (q' := q) h1 hlt ?_ (by omega)
    rcases hq with rfl | rfl | rfl <;> simp [zn_nx, hc]
theorem zn_run_dk {t : Nat → Nat} {len p q i k : Nat} (hq : q = 3 ∨ q = 5 ∨ q = 8) (h : zn_run t len p i q) (hk : i ≤ k) (hl : k ≤ len) (hd : ∀ j, i ≤ j → j < k → t j < 10) : zn_run t len p k q := by
  obtain ⟨d, rfl⟩ : ∃ d, k = i + d := ⟨k - i, by omega⟩
  exact zn_run_ds hq d i h hl hd
theorem zn_run_p {t : Nat → Nat} {len p i q : Nat} (h : zn_run t len p i q) : p < i ∧ i ≤ len := by
  obtain ⟨j, rfl, h2, _⟩ := h
  omega
/-- the part that begins at p: whole (ok = 1) up to k, or not (ok = 0): k is the first place that doesn't fit -/
def zt_Ov (t : Nat → Nat) (len p ok k : Nat) : Prop :=
  (t p = 16 ∧ zs_sc t len 97 (p + 1) = (ok, k)) ∨
  ((t p < 10 ∨ t p = 17) ∧ ∃ q, zn_end t len p k q ∧ ((zn_acc q ∧ ok = 1) ∨ (¬ zn_acc q ∧ ok = 0))) ∨
  (t p ≠ 16 ∧ 10 ≤ t p ∧ t p ≠ 17 ∧ ok = 1 ∧ k = p + 1)
theorem zt_Ov_k {t : Nat → Nat} {len p ok k : Nat} (h : zt_Ov t len p ok k) (hp : p < len) : p < k ∧ k ≤ len ∧ ok ≤ 1 := by
  rcases h with ⟨_, h⟩ | ⟨_, q, ⟨h1, _⟩, h2⟩ | ⟨_, _, _, h1, h2⟩
  · have h1 := zs_ge (t := t) (len := len) 97 (p + 1) (by omega)
    have h2 := zs_le (t := t) (len := len) 97 (p + 1)
    rw [h] at h1 h2
    dsimp only at h1 h2
    omega
  · have := zn_run_p h1
    omega
  · omega
def zt_sk (t : Nat → Nat) (len p q : Nat) : Prop := p ≤ q ∧ q ≤ len ∧ (∀ i, p ≤ i → i < q → t i = 20) ∧ (q < len → t q ≠ 20)
theorem zt_sk_ex (t : Nat → Nat) (len : Nat) : ∀ d p, p + d = len → ∃ q, zt_sk t len p q := by
  intro d
  induction d with
  | zero => intro p h; exact ⟨p, Nat.le_refl _, by omega, fun i a b => by omega, fun z => by omega⟩
  | succ d ih =>
    intro p h
    by_cases c : t p = 20
    · obtain ⟨q, h1, h2, h3, h4⟩ := ih (p + 1) (by omega)
      refine ⟨q, by omega, h2, fun i a b => ?_, h4⟩
      by_cases e : i = p
      · subst e; exact c
      · exact h3 i (by omega) b
    · exact ⟨p, Nat.le_refl _, by omega, fun i a b => by omega, fun _ => c⟩
def zt_fit (e L gL c : Nat) : Prop :=
  (e < 2 ∧ (c ≤ 10 ∨ c = 12 ∨ c = 16 ∨ c = 17 ∨ (27 ≤ c ∧ c ≤ 29))) ∨ (e = 1 ∧ c = 13) ∨ (e = 2 ∧ (c = 16 ∨ c = 11)) ∨ (e = 3 ∧ c = 16) ∨ (e = 4 ∧ c = 14)
  ∨ (e = 5 ∧ 0 < L ∧ (c = 15 ∨ (c = 13 ∧ gL = 12) ∨ (c = 11 ∧ gL = 10)))
def zt_nL (L c : Nat) : Nat := if c = 13 ∨ c = 11 then L - 1 else if c = 10 ∨ c = 12 then L + 1 else L
def zt_ne (e gL c : Nat) : Nat := if c = 13 ∨ c = 11 then 5 else if c = 15 then (if gL = 12 then 0 else 3) else if c = 14 then 0 else if e = 2 ∨ e = 3 then 4 else if c = 10 then 2 else if c = 12 then 1 else 5
def zt_ng (g : Nat → Nat) (L c : Nat) : Nat → Nat := fun i => if (c = 10 ∨ c = 12) ∧ i = L + 1 then c else g i
/-- what the parts from the k-th on are, from the place p on, with L open (g: what they are), and e expected -/
def zt_Sp (t : Nat → Nat) (len : Nat) (be en wh : Nat → Int32) (ps ba : Int32) : Nat → Nat → Nat → Nat → (Nat → Nat) → Nat → Prop
  | 0, _, _, _, _, _ => False
  | m + 1, k, L, e, g, p => ∃ q, zt_sk t len p q ∧
      ((q = len ∧ e = 5 ∧ L = 0 ∧ ps = nI k ∧ ba = -1)
      ∨ (((q = len ∧ ¬ (e = 5 ∧ L = 0)) ∨ (q < len ∧ ¬ zt_fit e L (g L) (t q))) ∧ ps = nI k ∧ ba = nI q)
      ∨ (q < len ∧ zt_fit e L (g L) (t q) ∧ k < 96 ∧ ∃ ok r, zt_Ov t len q ok r ∧ be k = nI q ∧ en k = nI (r - 1) ∧ wh k = nI ok ∧
          ((ok = 0 ∧ ps = nI (k + 1) ∧ ba = nI r) ∨ (ok = 1 ∧ zt_Sp t len be en wh ps ba m (k + 1) (zt_nL L (t q)) (zt_ne e (g L) (t q)) (zt_ng g L (t q)) r))))
theorem zt_Sp_ps {t : Nat → Nat} {len : Nat} {be en wh : Nat → Int32} {ps ba : Int32} : ∀ m k L e g p, zt_Sp t len be en wh ps ba m k L e g p → k ≤ 96 → ∃ z, k ≤ z ∧ z ≤ 96 ∧ ps = nI z := by
  intro m
  induction m with
  | zero => intro k L e g p h _; exact h.elim
  | succ m ih =>
    intro k L e g p h hk
    obtain ⟨q, _, h | h | ⟨_, _, h3, ok, r, _, _, _, _, h⟩⟩ := h
    · exact ⟨k, Nat.le_refl _, hk, h.2.2.2.1⟩
    · exact ⟨k, Nat.le_refl _, hk, h.2.1⟩
    · rcases h with ⟨_, h, _⟩ | ⟨_, h⟩
      · exact ⟨k + 1, by omega, by omega, h⟩
      · obtain ⟨z, h1, h2, h4⟩ := ih _ _ _ _ _ h (by omega)
        exact ⟨z, by omega, h2, h4⟩
end ZT
end
section
/-! the reference goes over one part -/
section ZYO
variable {t : Nat → Nat} {len : Nat}
def zt_at (t : Nat → Nat) (len i : Nat) : Int32 := if i < len then nI (t i) else -1
theorem zt_at_eq {i c : Nat} (ht : ∀ i, t i < 32) (hc : c < 2 ^ 31) : zt_at t len i = nI c ↔ (i < len ∧ t i = c) := by
  unfold zt_at
  by_cases h : i < len
  · rw [if_pos h, nI_eq (by have := ht i; omega) hc]
    exact ⟨fun z => ⟨h, z⟩, fun z => z.2⟩
  · rw [if_neg h]
    exact ⟨fun z => absurd z.symm (za_ne1 hc), fun z => absurd z.1 h⟩
theorem zy_at {ps ba ct fl yp yb dp nn wN wT pr wg sc : Int32} {so tA tB tC fN fO fS yt fQ T be en ins wh kd yv pa na ty fr cm oN yT yC yE oH ou td : Nat → Int32} {post : Int32 → Prop} {i : Nat} (hT : ∀ i, T i = nI (t i)) (hl : len ≤ 96) (hi : i < 2 ^ 31) (h : post (zt_at t len i)) : wpY_at post (nI len, ps, ba, ct, fl, yp, yb, dp, nn, wN, wT, pr, wg, sc, so, tA, tB, tC, fN, fO, fS, yt, fQ, T, be, en, ins, wh, kd, yv, pa, na, ty, fr, cm, oN, yT, yC, yE, oH, ou, td) (nI i) := by
  unfold zt_at at h
  by_cases c : i < len
  · rw [if_pos c] at h
    refine br_f (nI_ge c (by omega)) ⟨vp_in_nI (by omega) (by omega), ?_⟩
    rw [nI_clamp hi, hT]
    exact h
  · rw [if_neg c] at h
    exact br_t (nI_le (by omega) hi) h
/-- a digit stands at i -/
def zt_dg (t : Nat → Nat) (len i : Nat) : Prop := i < len ∧ t i < 10
theorem zy_digit_t {ps ba ct fl yp yb dp nn wN wT pr wg sc : Int32} {so tA tB tC fN fO fS yt fQ T be en ins wh kd yv pa na ty fr cm oN yT yC yE oH ou td : Nat → Int32} {post : Int32 → Prop} {i : Nat} (hT : ∀ i, T i = nI (t i)) (hl : len ≤ 96) (hi : i < 2 ^ 31) (hd : zt_dg t len i) (h : post 1) : wpY_digit post (nI len, ps, ba, ct, fl, yp, yb, dp, nn, wN, wT, pr, wg, sc, so, tA, tB, tC, fN, fO, fS, yt, fQ, T, be, en, ins, wh, kd, yv, pa, na, ty, fr, cm, oN, yT, yC, yE, oH, ou, td) (nI i) := by
  unfold wpY_digit
  dsimp only
  refine zy_at hT hl hi ?_
  unfold zt_at
  rw [if_pos hd.1]
  exact br_f (nI_pos (by have := hd.2; omega)) (br_f (nI_nlt (a := 9) (by have := hd.2; omega) (by omega)) ⟨za_nb1, h⟩)
theorem zy_digit_f {ps ba ct fl yp yb dp nn wN wT pr wg sc : Int32} {so tA tB tC fN fO fS yt fQ T be en ins wh kd yv pa na ty fr cm oN yT yC yE oH ou td : Nat → Int32} {post : Int32 → Prop} {i : Nat} (hT : ∀ i, T i = nI (t i)) (ht : ∀ i, t i < 32) (hl : len ≤ 96) (hi : i < 2 ^ 31) (hd : ¬ zt_dg t len i) (h : post 0) : wpY_digit post (nI len, ps, ba, ct, fl, yp, yb, dp, nn, wN, wT, pr, wg, sc, so, tA, tB, tC, fN, fO, fS, yt, fQ, T, be, en, ins, wh, kd, yv, pa, na, ty, fr, cm, oN, yT, yC, yE, oH, ou, td) (nI i) := by
  unfold wpY_digit
  dsimp only
  refine zy_at hT hl hi ?_
  unfold zt_at
  by_cases c : i < len
  · rw [if_pos c]
    have h1 : ¬ t i < 10 := fun z => hd ⟨c, z⟩
    have h2 := ht i
    exact br_f (nI_pos (by omega)) (br_t (nI_lt (a := 9) (by omega) (by omega)) ⟨za_nb0, h⟩)
  · rw [if_neg c]
    exact br_t (by decide) ⟨za_nb0, h⟩
theorem zy_digits (ht : ∀ i, t i < 32) (hl : len ≤ 96) : ∀ d i, i + d = len → ∃ k, i ≤ k ∧ k ≤ len ∧ (∀ j, i ≤ j → j < k → t j < 10) ∧ ¬ zt_dg t len k ∧ ∀ {ps ba ct fl yp yb dp nn wN wT pr wg sc : Int32} {so tA tB tC fN fO fS yt fQ T be en ins wh kd yv pa na ty fr cm oN yT yC yE oH ou td : Nat → Int32}, (∀ i, T i = nI (t i)) → ∀ (post : Int32 → Prop) n, d < n → post (nI k) → wY_digits_2 post (nI len) ps ba ct fl yp yb dp nn wN wT pr wg sc so tA tB tC fN fO fS yt fQ T be en ins wh kd yv pa na ty fr cm oN yT yC yE oH ou td n (nI i) := by
  intro d
  induction d with
  | zero =>
    intro i h
    have hn : ¬ zt_dg t len i := fun z => by have := z.1; omega
    refine ⟨i, Nat.le_refl _, by omega, fun j a b => by omega, hn, fun hT post n h1 h2 => ?_⟩
    obtain ⟨n, rfl⟩ : ∃ m, n = m + 1 := ⟨n - 1, by omega⟩
    rw [wY_digits_2]
    exact zy_digit_f hT ht hl (by omega) hn (br_t rfl h2)
  | succ d ih =>
    intro i h
    by_cases c : zt_dg t len i
    · obtain ⟨k, h1, h2, h3, h4, h5⟩ := ih (i + 1) (by omega)
      refine ⟨k, by omega, h2, fun j a b => ?_, h4, fun hT post n g1 g2 => ?_⟩
      · by_cases e : j = i
        · subst e; exact c.2
        · exact h3 j (by omega) b
      · obtain ⟨n, rfl⟩ : ∃ m, n = m + 1 := ⟨n - 1, by omega⟩
        rw [wY_digits_2]
        exact zy_digit_t hT hl (by omega) c (br_f (by decide) (nm_r (nI_1 i) (h5 hT post n (by omega) g2)))
    · refine ⟨i, Nat.le_refl _, by omega, fun j a b => by omega, c, fun hT post n h1 h2 => ?_⟩
      obtain ⟨n, rfl⟩ : ∃ m, n = m + 1 := ⟨n - 1, by omega⟩
      rw [wY_digits_2]
      exact zy_digit_f hT ht hl (by omega) c (br_t rfl h2)
theorem zy_digitsP (ht : ∀ i, t i < 32) (hl : len ≤ 96) {i : Nat} (hi : i ≤ len) : ∃ k, i ≤ k ∧ k ≤ len ∧ (∀ j, i ≤ j → j < k → t j < 10) ∧ ¬ zt_dg t len k ∧ ∀ {ps ba ct fl yp yb dp nn wN wT pr wg sc : Int32} {so tA tB tC fN fO fS yt fQ T be en ins wh kd yv pa na ty fr cm oN yT yC yE oH ou td : Nat → Int32}, (∀ i, T i = nI (t i)) → ∀ (post : Int32 → Prop), post (nI k) → wpY_digits post (nI len, ps, ba, ct, fl, yp, yb, dp, nn, wN, wT, pr, wg, sc, so, tA, tB, tC, fN, fO, fS, yt, fQ, T, be, en, ins, wh, kd, yv, pa, na, ty, fr, cm, oN, yT, yC, yE, oH, ou, td) (nI i) := by
  obtain ⟨k, h1, h2, h3, h4, h5⟩ := zy_digits (t := t) (len := len) ht hl (len - i) i (by omega)
  exact ⟨k, h1, h2, h3, h4, fun hT post h => Exists.intro _ (h5 hT post (len - i + 1) (by omega) h)⟩
/-- the answer of 'over' -/
def zt_r (ok k : Nat) (r : Int32) : Prop := (ok = 1 ∧ r = nI k) ∨ (ok = 0 ∧ r = -1 - nI k)
def zt_na (t : Nat → Nat) (len p k q : Nat) (r : Int32) : Prop := zn_end t len p k q ∧ ((zn_acc q ∧ r = nI k) ∨ (¬ zn_acc q ∧ r = -1 - nI k))
theorem zt_ndg {q k : Nat} (hd : ¬ zt_dg t len k) (hk : k ≤ len) : k = len ∨ 10 ≤ t k := by
  by_cases c : k = len
  · exact Or.inl c
  · refine Or.inr (Nat.le_of_not_lt fun z => hd ⟨by omega, z⟩)
theorem zy_over_243 (ht : ∀ i, t i < 32) (hl : len ≤ 96) {p i q : Nat} (hr : zn_run t len p i q) (hq : q = 7 ∨ (q = 6 ∧ ¬ zt_at t len i = nI 17 ∧ ¬ zt_at t len i = nI 31)) :
    ∃ k q' r, zt_na t len p k q' r ∧ ∀ {ps ba ct fl yp yb dp nn wN wT pr wg sc : Int32} {so tA tB tC fN fO fS yt fQ T be en ins wh kd yv pa na ty fr cm oN yT yC yE oH ou td : Nat → Int32}, (∀ i, T i = nI (t i)) → ∀ post : Int32 → Prop, post r → wY_over_243 post (nI i) (nI len) ps ba ct fl yp yb dp nn wN wT pr wg sc so tA tB tC fN fO fS yt fQ T be en ins wh kd yv pa na ty fr cm oN yT yC yE oH ou td := by
  have hp := zn_run_p hr
  by_cases c : zt_dg t len i
  · obtain ⟨k, h1, h2, h3, h4, h5⟩ := zy_digitsP (t := t) (len := len) ht hl (i := i) (by omega)
    have hik : i + 1 ≤ k := by
      apply Nat.le_of_not_lt; intro z
      obtain rfl : k = i := by omega
      exact h4 c
    have r1 : zn_run t len p (i + 1) 8 := by
      refine zn_run_s hr c.1 ?_ (by decide)
      have := c.2
      rcases hq with rfl | ⟨rfl, _⟩ <;> simp [zn_nx, this]
    have r2 := zn_run_dk (Or.inr (Or.inr rfl)) r1 hik h2 (fun j a b => h3 j (by omega) b)
    refine ⟨k, 8, nI k, ⟨⟨r2, ?_⟩, Or.inl ⟨Or.inr (Or.inr (Or.inr rfl)), rfl⟩⟩, fun hT post h => ?_⟩
    · rcases zt_ndg (q := 0) h4 h2 with e | e
      · exact Or.inl e
      · exact Or.inr (by simp [zn_nx]; omega)
    · unfold wY_over_243
      exact zy_digit_t hT hl (by omega) c (br_f (by decide) (h5 hT _ h))
  · refine ⟨i, q, -1 - nI i, ⟨⟨hr, ?_⟩, Or.inr ⟨?_, rfl⟩⟩, fun hT post h => by unfold wY_over_243; exact zy_digit_f hT ht hl (by omega) c (br_t rfl h)⟩
    · rcases zt_ndg (q := 0) c hp.2 with e | e
      · exact Or.inl e
      · by_cases e2 : i = len
        · exact Or.inl e2
        · refine Or.inr ?_
          rcases hq with rfl | ⟨rfl, a1, a2⟩
          · simp [zn_nx]; omega
          · rw [zt_at_eq ht (by decide)] at a1 a2
            simp only [zn_nx]
            repeat' split
            all_goals first | contradiction | omega
    · unfold zn_acc; rcases hq with rfl | ⟨rfl, _⟩ <;> omega
theorem zy_over_207 (ht : ∀ i, t i < 32) (hl : len ≤ 96) {p i q : Nat} (hr : zn_run t len p i q) (hq : (q = 2 ∧ ¬ zt_at t len i = nI 18) ∨ (q = 3 ∧ ¬ zt_dg t len i ∧ ¬ zt_at t len i = nI 18) ∨ (q = 5 ∧ ¬ zt_dg t len i)) :
    ∃ k q' r, zt_na t len p k q' r ∧ ∀ {ps ba ct fl yp yb dp nn wN wT pr wg sc : Int32} {so tA tB tC fN fO fS yt fQ T be en ins wh kd yv pa na ty fr cm oN yT yC yE oH ou td : Nat → Int32}, (∀ i, T i = nI (t i)) → ∀ post : Int32 → Prop, post r → wY_over_207 post (nI i) (nI len) ps ba ct fl yp yb dp nn wN wT pr wg sc so tA tB tC fN fO fS yt fQ T be en ins wh kd yv pa na ty fr cm oN yT yC yE oH ou td := by
  have hp := zn_run_p hr
  by_cases c : zt_at t len i = nI 19
  · have c' := (zt_at_eq ht (by decide)).mp c
    have r1 : zn_run t len p (i + 1) 6 := by
      refine zn_run_s hr c'.1 ?_ (by decide)
      rcases hq with ⟨rfl, _⟩ | ⟨rfl, _⟩ | ⟨rfl, _⟩ <;> simp [zn_nx, c'.2]
    by_cases d1 : zt_at t len (i + 1) = nI 17
    · have d' := (zt_at_eq ht (by decide)).mp d1
      obtain ⟨k, q', r, g1, g2⟩ := zy_over_243 (t := t) (len := len) ht hl (zn_run_s (q' := 7) r1 d'.1 (by simp [zn_nx, d'.2]) (by decide)) (Or.inl rfl)
      exact ⟨k, q', r, g1, fun hT post h => by unfold wY_over_207; exact zy_at hT hl (by omega) (br_t c (nm_r (nI_1 i) (zy_at hT hl (by omega) (br_t d1 (nm_r (nI_1 (i + 1)) (g2 hT post h))))))⟩
    · by_cases d2 : zt_at t len (i + 1) = nI 31
      · have d' := (zt_at_eq ht (by decide)).mp d2
        obtain ⟨k, q', r, g1, g2⟩ := zy_over_243 (t := t) (len := len) ht hl (zn_run_s (q' := 7) r1 d'.1 (by simp [zn_nx, d'.2]) (by decide)) (Or.inl rfl)
        exact ⟨k, q', r, g1, fun hT post h => by unfold wY_over_207; exact zy_at hT hl (by omega) (br_t c (nm_r (nI_1 i) (zy_at hT hl (by omega) (br_f d1 (zy_at hT hl (by omega) (br_t d2 (nm_r (nI_1 (i + 1)) (g2 hT post h))))))))⟩
      · obtain ⟨k, q', r, g1, g2⟩ := zy_over_243 (t := t) (len := len) ht hl r1 (Or.inr ⟨rfl, d1, d2⟩)
        exact ⟨k, q', r, g1, fun hT post h => by unfold wY_over_207; exact zy_at hT hl (by omega) (br_t c (nm_r (nI_1 i) (zy_at hT hl (by omega) (br_f d1 (zy_at hT hl (by omega) (br_f d2 (g2 hT post h)))))))⟩
  · refine ⟨i, q, nI i, ⟨⟨hr, ?_⟩, Or.inl ⟨?_, rfl⟩⟩, fun hT post h => by unfold wY_over_207; exact zy_at hT hl (by omega) (br_f c h)⟩
    · by_cases e2 : i = len
      · exact Or.inl e2
      · refine Or.inr ?_
        rw [zt_at_eq ht (by decide)] at c
        rcases hq with ⟨rfl, a1⟩ | ⟨rfl, a0, a1⟩ | ⟨rfl, a0⟩
        · rw [zt_at_eq ht (by decide)] at a1
          simp only [zn_nx]
          repeat' split
          all_goals first | contradiction | omega
        · rw [zt_at_eq ht (by decide)] at a1
          have := zt_ndg (q := 0) a0 hp.2
          simp only [zn_nx]
          repeat' split
          all_goals first | contradiction | omega
        · have := zt_ndg (q := 0) a0 hp.2
          simp only [zn_nx]
          repeat' split
          all_goals first | contradiction | omega
    · unfold zn_acc; rcases hq with ⟨rfl, _⟩ | ⟨rfl, _⟩ | ⟨rfl, _⟩ <;> omega
theorem zy_over_173 (ht : ∀ i, t i < 32) (hl : len ≤ 96) {p i q : Nat} (hr : zn_run t len p i q) (hq : q = 2 ∨ (q = 3 ∧ ¬ zt_dg t len i)) :
    ∃ k q' r, zt_na t len p k q' r ∧ ∀ {ps ba ct fl yp yb dp nn wN wT pr wg sc : Int32} {so tA tB tC fN fO fS yt fQ T be en ins wh kd yv pa na ty fr cm oN yT yC yE oH ou td : Nat → Int32}, (∀ i, T i = nI (t i)) → ∀ post : Int32 → Prop, post r → wY_over_173 post (nI i) (nI len) ps ba ct fl yp yb dp nn wN wT pr wg sc so tA tB tC fN fO fS yt fQ T be en ins wh kd yv pa na ty fr cm oN yT yC yE oH ou td := by
  have hp := zn_run_p hr
  by_cases c : zt_at t len i = nI 18
  · have c' := (zt_at_eq ht (by decide)).mp c
    have r1 : zn_run t len p (i + 1) 4 := by
      refine zn_run_s hr c'.1 ?_ (by decide)
      rcases hq with rfl | ⟨rfl, _⟩ <;> simp [zn_nx, c'.2]
    by_cases d : zt_dg t len (i + 1)
    · obtain ⟨k, h1, h2, h3, h4, h5⟩ := zy_digitsP (t := t) (len := len) ht hl (i := i + 1) (by omega)
      have hik : i + 1 + 1 ≤ k := by
        apply Nat.le_of_not_lt; intro z
        obtain rfl : k = i + 1 := by omega
        exact h4 d
      have r2 : zn_run t len p (i + 1 + 1) 5 := by
        refine zn_run_s r1 d.1 ?_ (by decide)
        have := d.2
        simp [zn_nx, this]
      have r3 := zn_run_dk (Or.inr (Or.inl rfl)) r2 hik h2 (fun j a b => h3 j (by omega) b)
      obtain ⟨k', q', r, g1, g2⟩ := zy_over_207 (t := t) (len := len) ht hl r3 (Or.inr (Or.inr ⟨rfl, h4⟩))
      refine ⟨k', q', r, g1, fun hT post h => ?_⟩
      unfold wY_over_173
      refine zy_at hT hl (by omega) (br_t c ?_)
      rw [nI_1]
      exact zy_digit_t hT hl (by omega) d (br_f (by decide) (h5 hT _ (g2 hT post h)))
    · refine ⟨i + 1, 4, -1 - nI (i + 1), ⟨⟨r1, ?_⟩, Or.inr ⟨by unfold zn_acc; omega, rfl⟩⟩, fun hT post h => ?_⟩
      · rcases zt_ndg (q := 0) d (by omega) with e | e
        · exact Or.inl e
        · exact Or.inr (by simp [zn_nx]; omega)
      · unfold wY_over_173
        refine zy_at hT hl (by omega) (br_t c ?_)
        rw [nI_1]
        refine zy_digit_f hT ht hl (by omega) d (br_t rfl ?_)
        rw [za_21]; exact h
  · obtain ⟨k', q', r, g1, g2⟩ := zy_over_207 (t := t) (len := len) ht hl hr (by rcases hq with rfl | ⟨rfl, h⟩; exact Or.inl ⟨rfl, c⟩; exact Or.inr (Or.inl ⟨rfl, h, c⟩))
    exact ⟨k', q', r, g1, fun hT post h => by unfold wY_over_173; exact zy_at hT hl (by omega) (br_f c (g2 hT post h))⟩
/-- the digits ahead of the point: i is the first of them -/
theorem zy_over_142 (ht : ∀ i, t i < 32) (hl : len ≤ 96) {p i : Nat} (hp : p < len) (hi : (i = p ∧ t p < 10) ∨ (i = p + 1 ∧ t p = 17)) :
    ∃ k q' r, zt_na t len p k q' r ∧ ∀ {ps ba ct fl yp yb dp nn wN wT pr wg sc : Int32} {so tA tB tC fN fO fS yt fQ T be en ins wh kd yv pa na ty fr cm oN yT yC yE oH ou td : Nat → Int32}, (∀ i, T i = nI (t i)) → ∀ post : Int32 → Prop, post r → wY_over_142 post (nI i) (nI len) ps ba ct fl yp yb dp nn wN wT pr wg sc so tA tB tC fN fO fS yt fQ T be en ins wh kd yv pa na ty fr cm oN yT yC yE oH ou td := by
  by_cases d : zt_dg t len i
  · have d2 := d.2
    have r1 : zn_run t len p (i + 1) (if t i = 0 then 2 else 3) := by
      rcases hi with ⟨rfl, h⟩ | ⟨rfl, h⟩
      · have := zn_run_0 (t := t) hp
        unfold zn_nq at this
        rw [if_neg (by omega)] at this
        exact this
      · have r0 := zn_run_0 (t := t) hp
        unfold zn_nq at r0
        rw [if_pos h] at r0
        refine zn_run_s r0 d.1 ?_ (by split <;> decide)
        simp [zn_nx, d2]
    by_cases c : zt_at t len i = nI 0
    · have c' := (zt_at_eq ht (by decide)).mp c
      rw [if_pos c'.2] at r1
      obtain ⟨k', q', r, g1, g2⟩ := zy_over_173 (t := t) (len := len) ht hl r1 (Or.inl rfl)
      refine ⟨k', q', r, g1, fun hT post h => ?_⟩
      unfold wY_over_142
      refine zy_digit_t hT hl (by omega) d (br_f (by decide) (zy_at hT hl (by omega) (br_t c ?_)))
      rw [nI_1]
      exact g2 hT post h
    · have c' : ¬ t i = 0 := fun z => c ((zt_at_eq ht (by decide)).mpr ⟨d.1, z⟩)
      rw [if_neg c'] at r1
      obtain ⟨k, h1, h2, h3, h4, h5⟩ := zy_digitsP (t := t) (len := len) ht hl (i := i) (by have := d.1; omega)
      have hik : i + 1 ≤ k := by
        apply Nat.le_of_not_lt; intro z
        obtain rfl : k = i := by omega
        exact h4 d
      have r3 := zn_run_dk (Or.inl rfl) r1 hik h2 (fun j a b => h3 j (by omega) b)
      obtain ⟨k', q', r, g1, g2⟩ := zy_over_173 (t := t) (len := len) ht hl r3 (Or.inr ⟨rfl, h4⟩)
      exact ⟨k', q', r, g1, fun hT post h => by unfold wY_over_142; exact zy_digit_t hT hl (by omega) d (br_f (by decide) (zy_at hT hl (by omega) (br_f c (h5 hT _ (g2 hT post h)))))⟩
  · rcases hi with ⟨rfl, h⟩ | ⟨rfl, h⟩
    · exact absurd ⟨hp, h⟩ d
    · have r0 := zn_run_0 (t := t) hp
      unfold zn_nq at r0
      rw [if_pos h] at r0
      refine ⟨p + 1, 1, -1 - nI (p + 1), ⟨⟨r0, ?_⟩, Or.inr ⟨by unfold zn_acc; omega, rfl⟩⟩, fun hT post h => by unfold wY_over_142; exact zy_digit_f hT ht hl (by omega) d (br_t rfl h)⟩
      rcases zt_ndg (q := 0) d (by omega) with e | e
      · exact Or.inl e
      · exact Or.inr (by simp [zn_nx]; omega)
/-- a string -/
theorem zy_over_17 (ht : ∀ i, t i < 32) (hl : len ≤ 96) : ∀ f i, i < 98 → len < i + f → ∃ r, zt_r (zs_sc t len f i).1 (zs_sc t len f i).2 r ∧ ∀ {ps ba ct fl yp yb dp nn wN wT pr wg sc : Int32} {so tA tB tC fN fO fS yt fQ T be en ins wh kd yv pa na ty fr cm oN yT yC yE oH ou td : Nat → Int32}, (∀ i, T i = nI (t i)) → ∀ (post : Int32 → Prop) n, f < n → post r → wY_over_17 post (nI len) ps ba ct fl yp yb dp nn wN wT pr wg sc so tA tB tC fN fO fS yt fQ T be en ins wh kd yv pa na ty fr cm oN yT yC yE oH ou td n (nI i) := by
  intro f
  induction f with
  | zero =>
    intro i h0 h1
    refine ⟨-1 - nI len, Or.inr ⟨rfl, rfl⟩, fun hT post n hn h => ?_⟩
    obtain ⟨n, rfl⟩ : ∃ m, n = m + 1 := ⟨n - 1, by omega⟩
    have e1 : ∀ c, c < 32 → ¬ zt_at t len i = nI c := fun c hc z => by have := (zt_at_eq ht (by omega)).mp z; omega
    rw [wY_over_17]
    refine zy_at hT hl (by omega) (br_f (e1 16 (by decide)) (zy_at hT hl (by omega) (br_f (e1 30 (by decide)) (zy_at hT hl (by omega) (br_f (e1 30 (by decide)) (nm_r (nI_1 i) (br_f ?_ h)))))))
    exact nI_nlt (by omega) (by omega)
  | succ f ih =>
    intro i h0 h1
    rw [zs_s]
    by_cases c0 : len ≤ i
    · rw [if_pos c0]
      refine ⟨-1 - nI len, Or.inr ⟨rfl, rfl⟩, fun hT post n hn h => ?_⟩
      obtain ⟨n, rfl⟩ : ∃ m, n = m + 1 := ⟨n - 1, by omega⟩
      have e1 : ∀ c, c < 32 → ¬ zt_at t len i = nI c := fun c hc z => by have := (zt_at_eq ht (by omega)).mp z; omega
      rw [wY_over_17]
      refine zy_at hT hl (by omega) (br_f (e1 16 (by decide)) (zy_at hT hl (by omega) (br_f (e1 30 (by decide)) (zy_at hT hl (by omega) (br_f (e1 30 (by decide)) (nm_r (nI_1 i) (br_f ?_ h)))))))
      exact nI_nlt (by omega) (by omega)
    · rw [if_neg c0]
      have q : ∀ c, c < 32 → (zt_at t len i = nI c ↔ t i = c) := fun c hc => by rw [zt_at_eq ht (by omega)]; exact ⟨fun z => z.2, fun z => ⟨by omega, z⟩⟩
      by_cases c1 : t i = 16
      · rw [if_pos c1]
        refine ⟨nI (i + 1), Or.inl ⟨rfl, rfl⟩, fun hT post n hn h => ?_⟩
        obtain ⟨n, rfl⟩ : ∃ m, n = m + 1 := ⟨n - 1, by omega⟩
        rw [wY_over_17]
        refine zy_at hT hl (by omega) (br_t ((q 16 (by decide)).mpr c1) ?_)
        rw [nI_1]; exact h
      · rw [if_neg c1]
        have n16 : ¬ zt_at t len i = nI 16 := fun z => c1 ((q 16 (by decide)).mp z)
        by_cases c2 : t i = 30
        · rw [if_pos c2]
          have y30 := (q 30 (by decide)).mpr c2
          by_cases c3 : len ≤ i + 1
          · rw [if_pos c3]
            refine ⟨-1 - nI len, Or.inr ⟨rfl, rfl⟩, fun hT post n hn h => ?_⟩
            obtain ⟨n, rfl⟩ : ∃ m, n = m + 1 := ⟨n - 1, by omega⟩
            have hle : nI len ≤ nI i + 1 := by rw [nI_1]; exact nI_le (by omega) (by omega)
            rw [wY_over_17]
            refine zy_at hT hl (by omega) (br_f n16 (zy_at hT hl (by omega) (br_t y30 (br_t hle (zy_at hT hl (by omega) (br_t y30 (nm_r (nI_add i 2) (br_f ?_ h))))))))
            exact nI_nlt (by omega) (by omega)
          · rw [if_neg c3]
            have q2 : ∀ c, c < 32 → (zt_at t len (i + 1) = nI c ↔ t (i + 1) = c) := fun c hc => by rw [zt_at_eq ht (by omega)]; exact ⟨fun z => z.2, fun z => ⟨by omega, z⟩⟩
            have nle : ¬ nI len ≤ nI i + 1 := by rw [nI_1]; exact nI_ge (by omega) (by omega)
            by_cases c4 : t (i + 1) = 16 ∨ t (i + 1) = 30
            · rw [if_pos c4]
              obtain ⟨r, r1, r2⟩ := ih (i + 2) (by omega) (by omega)
              refine ⟨r, r1, ?_⟩
              intro ps ba ct fl yp yb dp nn wN wT pr wg sc so tA tB tC fN fO fS yt fQ T be en ins wh kd yv pa na ty fr cm oN yT yC yE oH ou td hT post n hn h
              obtain ⟨n, rfl⟩ : ∃ m, n = m + 1 := ⟨n - 1, by omega⟩
              have fin : wY_over_76 post (wY_over_17 post (nI len) ps ba ct fl yp yb dp nn wN wT pr wg sc so tA tB tC fN fO fS yt fQ T be en ins wh kd yv pa na ty fr cm oN yT yC yE oH ou td n) (nI i) (nI len) ps ba ct fl yp yb dp nn wN wT pr wg sc so tA tB tC fN fO fS yt fQ T be en ins wh kd yv pa na ty fr cm oN yT yC yE oH ou td := by
                unfold wY_over_76
                refine zy_at hT hl (by omega) (br_t y30 (nm_r (nI_add i 2) ?_))
                by_cases c5 : i + 2 < len
                · exact br_t (nI_lt c5 (by omega)) (r2 hT post n (by omega) h)
                · have e : zs_sc t len f (i + 2) = (0, len) := by
                    cases f with
                    | zero => rfl
                    | succ f => rw [zs_s, if_pos (by omega)]
                  rw [e] at r1
                  rcases r1 with ⟨z, _⟩ | ⟨_, z⟩
                  · exact absurd (show (0 : Nat) = 1 from z) (by decide)
                  · refine br_f (nI_nlt (by omega) (by omega)) ?_
                    rw [z] at h; exact h
              rw [wY_over_17]
              refine zy_at hT hl (by omega) (br_f n16 (zy_at hT hl (by omega) (br_t y30 (br_f nle ?_))))
              rw [nI_1]
              rcases c4 with c4 | c4
              · exact zy_at hT hl (by omega) (br_t ((q2 16 (by decide)).mpr c4) fin)
              · exact zy_at hT hl (by omega) (br_f (fun z => by have := (q2 16 (by decide)).mp z; omega) (zy_at hT hl (by omega) (br_t ((q2 30 (by decide)).mpr c4) fin)))
            · rw [if_neg c4]
              refine ⟨-1 - nI (i + 1), Or.inr ⟨rfl, rfl⟩, fun hT post n hn h => ?_⟩
              obtain ⟨n, rfl⟩ : ∃ m, n = m + 1 := ⟨n - 1, by omega⟩
              rw [wY_over_17]
              refine zy_at hT hl (by omega) (br_f n16 (zy_at hT hl (by omega) (br_t y30 (br_f nle ?_))))
              rw [nI_1]
              refine zy_at hT hl (by omega) (br_f (fun z => c4 (Or.inl ((q2 16 (by decide)).mp z))) (zy_at hT hl (by omega) (br_f (fun z => c4 (Or.inr ((q2 30 (by decide)).mp z))) ?_)))
              rw [za_21]; exact h
        · rw [if_neg c2]
          have n30 : ¬ zt_at t len i = nI 30 := fun z => c2 ((q 30 (by decide)).mp z)
          obtain ⟨r, r1, r2⟩ := ih (i + 1) (by omega) (by omega)
          refine ⟨r, r1, fun hT post n hn h => ?_⟩
          obtain ⟨n, rfl⟩ : ∃ m, n = m + 1 := ⟨n - 1, by omega⟩
          rw [wY_over_17]
          refine zy_at hT hl (by omega) (br_f n16 (zy_at hT hl (by omega) (br_f n30 (zy_at hT hl (by omega) (br_f n30 (nm_r (nI_1 i) ?_))))))
          by_cases c5 : i + 1 < len
          · exact br_t (nI_lt c5 (by omega)) (r2 hT post n (by omega) h)
          · have e : zs_sc t len f (i + 1) = (0, len) := by
              cases f with
              | zero => rfl
              | succ f => rw [zs_s, if_pos (by omega)]
            rw [e] at r1
            rcases r1 with ⟨z, _⟩ | ⟨_, z⟩
            · exact absurd (show (0 : Nat) = 1 from z) (by decide)
            · refine br_f (nI_nlt (by omega) (by omega)) ?_
              rw [z] at h; exact h
/-- 'over' as a whole -/
theorem zy_over (ht : ∀ i, t i < 32) (hl : len ≤ 96) {p : Nat} (hp : p < len) : ∃ ok k r, zt_Ov t len p ok k ∧ zt_r ok k r ∧ ∀ {ps ba ct fl yp yb dp nn wN wT pr wg sc : Int32} {so tA tB tC fN fO fS yt fQ T be en ins wh kd yv pa na ty fr cm oN yT yC yE oH ou td : Nat → Int32}, (∀ i, T i = nI (t i)) → ∀ post : Int32 → Prop, post r → wpY_over post (nI len, ps, ba, ct, fl, yp, yb, dp, nn, wN, wT, pr, wg, sc, so, tA, tB, tC, fN, fO, fS, yt, fQ, T, be, en, ins, wh, kd, yv, pa, na, ty, fr, cm, oN, yT, yC, yE, oH, ou, td) (nI p) := by
  have e : zt_at t len p = nI (t p) := by unfold zt_at; rw [if_pos hp]
  have hp32 := ht p
  by_cases c1 : t p = 16
  · obtain ⟨r, r1, r2⟩ := zy_over_17 (t := t) (len := len) ht hl 97 (p + 1) (by omega) (by omega)
    refine ⟨_, _, r, Or.inl ⟨c1, rfl⟩, r1, fun hT post h => ?_⟩
    unfold wpY_over
    dsimp only
    refine zy_at hT hl (by omega) ?_
    rw [e, c1]
    exact br_t rfl (nm_r (nI_1 p) ⟨98, r2 hT post 98 (by decide) h⟩)
  · have n16 : ¬ nI (t p) = nI 16 := za_ne c1 (by omega) (by decide)
    by_cases c2 : t p = 17
    · obtain ⟨k, q, r, ⟨r1, r2⟩, r3⟩ := zy_over_142 (t := t) (len := len) ht hl hp (Or.inr ⟨rfl, c2⟩)
      have fin : ∀ {ps ba ct fl yp yb dp nn wN wT pr wg sc : Int32} {so tA tB tC fN fO fS yt fQ T be en ins wh kd yv pa na ty fr cm oN yT yC yE oH ou td : Nat → Int32}, (∀ i, T i = nI (t i)) → ∀ post : Int32 → Prop, post r → wpY_over post (nI len, ps, ba, ct, fl, yp, yb, dp, nn, wN, wT, pr, wg, sc, so, tA, tB, tC, fN, fO, fS, yt, fQ, T, be, en, ins, wh, kd, yv, pa, na, ty, fr, cm, oN, yT, yC, yE, oH, ou, td) (nI p) := by
        intro ps ba ct fl yp yb dp nn wN wT pr wg sc so tA tB tC fN fO fS yt fQ T be en ins wh kd yv pa na ty fr cm oN yT yC yE oH ou td hT post h
        unfold wpY_over
        dsimp only
        refine zy_at hT hl (by omega) ?_
        rw [e]
        refine br_f n16 (br_f (nI_pos (by omega)) (br_t (nI_lt (a := 9) (by omega) (by omega)) ?_))
        rw [c2]
        exact br_t rfl (br_t rfl (br_t rfl (nm_r (nI_1 p) (r3 hT post h))))
      rcases r2 with ⟨r4, r5⟩ | ⟨r4, r5⟩
      · exact ⟨1, k, r, Or.inr (Or.inl ⟨Or.inr c2, q, r1, Or.inl ⟨r4, rfl⟩⟩), Or.inl ⟨rfl, r5⟩, fin⟩
      · exact ⟨0, k, r, Or.inr (Or.inl ⟨Or.inr c2, q, r1, Or.inr ⟨r4, rfl⟩⟩), Or.inr ⟨rfl, r5⟩, fin⟩
    · have n17 : ¬ nI (t p) = nI 17 := za_ne c2 (by omega) (by decide)
      by_cases c3 : t p < 10
      · obtain ⟨k, q, r, ⟨r1, r2⟩, r3⟩ := zy_over_142 (t := t) (len := len) ht hl hp (Or.inl ⟨rfl, c3⟩)
        have fin : ∀ {ps ba ct fl yp yb dp nn wN wT pr wg sc : Int32} {so tA tB tC fN fO fS yt fQ T be en ins wh kd yv pa na ty fr cm oN yT yC yE oH ou td : Nat → Int32}, (∀ i, T i = nI (t i)) → ∀ post : Int32 → Prop, post r → wpY_over post (nI len, ps, ba, ct, fl, yp, yb, dp, nn, wN, wT, pr, wg, sc, so, tA, tB, tC, fN, fO, fS, yt, fQ, T, be, en, ins, wh, kd, yv, pa, na, ty, fr, cm, oN, yT, yC, yE, oH, ou, td) (nI p) := by
          intro ps ba ct fl yp yb dp nn wN wT pr wg sc so tA tB tC fN fO fS yt fQ T be en ins wh kd yv pa na ty fr cm oN yT yC yE oH ou td hT post h
          unfold wpY_over
          dsimp only
          refine zy_at hT hl (by omega) ?_
          rw [e]
          exact br_f n16 (br_f (nI_pos (by omega)) (br_f (nI_nlt (a := 9) (by omega) (by omega)) (br_f (by decide) (br_f n17 (r3 hT post h)))))
        rcases r2 with ⟨r4, r5⟩ | ⟨r4, r5⟩
        · exact ⟨1, k, r, Or.inr (Or.inl ⟨Or.inl c3, q, r1, Or.inl ⟨r4, rfl⟩⟩), Or.inl ⟨rfl, r5⟩, fin⟩
        · exact ⟨0, k, r, Or.inr (Or.inl ⟨Or.inl c3, q, r1, Or.inr ⟨r4, rfl⟩⟩), Or.inr ⟨rfl, r5⟩, fin⟩
      · refine ⟨1, p + 1, nI (p + 1), Or.inr (Or.inr ⟨c1, by omega, c2, rfl, rfl⟩), Or.inl ⟨rfl, rfl⟩, fun hT post h => ?_⟩
        unfold wpY_over
        dsimp only
        refine zy_at hT hl (by omega) ?_
        rw [e]
        refine br_f n16 (br_f (nI_pos (by omega)) (br_t (nI_lt (a := 9) (by omega) (by omega)) (br_t rfl (br_f n17 ?_))))
        rw [nI_1]; exact h
end ZYO
end
section
/-! the reference finds the parts -/
section ZYS
variable {t : Nat → Nat} {len : Nat} {ln ps ba ct fl yp yb dp nn wN wT pr wg sc : Int32} {so tA tB tC fN fO fS yt fQ T be en ins wh kd yv pa na ty fr cm oN yT yC yE oH ou td : Nat → Int32}
theorem zy_starts_t {post : Int32 → Prop} {c : Nat} (hc : c < 32) (h : c ≤ 10 ∨ c = 12 ∨ c = 16 ∨ c = 17 ∨ (27 ≤ c ∧ c ≤ 29)) (hp : post 1) : wpY_startsValue post (nI c) := by
  by_cases a : c ≤ 10
  · exact br_f (nI_pos (by omega)) (br_f (nI_nlt (a := 10) (b := c) (by omega) (by omega)) (br_f (by decide) hp))
  · refine br_f (nI_pos (by omega)) (br_t (nI_lt (a := 10) (by omega) (by omega)) (br_t rfl ?_))
    by_cases b : c = 12
    · subst b; exact br_t rfl hp
    · refine br_f (za_ne (b := 12) b (by omega) (by decide)) ?_
      by_cases d : c = 16 ∨ c = 17
      · exact br_f (nI_nlt (b := 16) (by omega) (by omega)) (br_f (nI_nlt (a := 17) (by omega) (by omega)) (br_f (by decide) hp))
      · have h29 : 27 ≤ c ∧ c ≤ 29 := by omega
        exact br_f (nI_nlt (b := 16) (by omega) (by omega)) (br_t (nI_lt (a := 17) (by omega) (by omega)) (br_t rfl (br_f (nI_nlt (b := 27) (by omega) (by omega)) (br_f (nI_nlt (a := 29) (by omega) (by omega)) (br_f (by decide) hp)))))
theorem zy_starts_f {post : Int32 → Prop} {c : Nat} (hc : c < 32) (h : ¬ (c ≤ 10 ∨ c = 12 ∨ c = 16 ∨ c = 17 ∨ (27 ≤ c ∧ c ≤ 29))) (hp : post 0) : wpY_startsValue post (nI c) := by
  refine br_f (nI_pos (by omega)) (br_t (nI_lt (a := 10) (by omega) (by omega)) (br_t rfl (br_f (za_ne (b := 12) (by omega) (by omega) (by decide)) ?_)))
  by_cases d : c < 16
  · exact br_t (nI_lt (b := 16) (by omega) (by omega)) (br_t rfl (br_t (nI_lt (b := 27) (by omega) (by omega)) (br_t rfl hp)))
  · refine br_f (nI_nlt (b := 16) (by omega) (by omega)) (br_t (nI_lt (a := 17) (by omega) (by omega)) (br_t rfl ?_))
    by_cases e : c < 27
    · exact br_t (nI_lt (b := 27) (by omega) (by omega)) (br_t rfl hp)
    · exact br_f (nI_nlt (b := 27) (by omega) (by omega)) (br_t (nI_lt (a := 29) (by omega) (by omega)) (br_t rfl hp))
theorem zy_starts_m {post : Int32 → Prop} (hp : post 0) : wpY_startsValue post (-1) := by
  exact br_t (by decide) (br_t rfl (br_f (by decide) (br_t (by decide) (br_t rfl (br_t (by decide) (br_t rfl hp))))))
variable {J : _} {L e q n : Nat}
/-- a character that fits -/
theorem zy_fit {post : SY → Prop} (hT : ∀ i, T i = nI (t i)) (ht : ∀ i, t i < 32) (hl : len ≤ 96) (hq : q < len) (h20 : t q ≠ 20) (he : e ≤ 5) (hL : L ≤ 96) {g : Nat → Nat} (hg : 0 < L → ins L = nI (g L)) (hf : zt_fit e L (g L) (t q))
    (hy : t q = 13 ∨ t q = 11 → wY_split_209 post J (nI L) (nI e) (nI q) (nI (t q)) 1 1 (nI len) ps ba ct fl yp yb dp nn wN wT pr wg sc so tA tB tC fN fO fS yt fQ T be en ins wh kd yv pa na ty fr cm oN yT yC yE oH ou td) (hn : ¬ (t q = 13 ∨ t q = 11) → wY_split_209 post J (nI L) (nI e) (nI q) (nI (t q)) 0 1 (nI len) ps ba ct fl yp yb dp nn wN wT pr wg sc so tA tB tC fN fO fS yt fQ T be en ins wh kd yv pa na ty fr cm oN yT yC yE oH ou td) :
    wY_split_23 post J (nI L) (nI e) (nI len) ps ba ct fl yp yb dp nn wN wT pr wg sc so tA tB tC fN fO fS yt fQ T be en ins wh kd yv pa na ty fr cm oN yT yC yE oH ou td (n + 1) (nI q) := by
  have ec : zt_at t len q = nI (t q) := by unfold zt_at; rw [if_pos hq]
  have h32 := ht q
  rw [wY_split_23]
  refine zy_at hT hl (by omega) ?_
  rw [ec]
  refine br_f (za_ne (b := 20) h20 (by omega) (by decide)) (zy_at hT hl (by omega) ?_)
  rw [ec]
  have K1 : (t q = 13 ∨ t q = 11) → wY_split_123 post J (nI L) (nI e) (nI q) (nI (t q)) 1 (nI len) ps ba ct fl yp yb dp nn wN wT pr wg sc so tA tB tC fN fO fS yt fQ T be en ins wh kd yv pa na ty fr cm oN yT yC yE oH ou td := fun z => br_f (by decide) (br_t (nI_pos' (by omega)) (hy z))
  have K2 : ¬ (t q = 13 ∨ t q = 11) → wY_split_187 post J (nI L) (nI e) (nI q) (nI (t q)) 0 (nI len) ps ba ct fl yp yb dp nn wN wT pr wg sc so tA tB tC fN fO fS yt fQ T be en ins wh kd yv pa na ty fr cm oN yT yC yE oH ou td := fun z => br_t (nI_pos' (by omega)) (hn z)
  have K0 : ¬ (t q = 13 ∨ t q = 11) → wY_split_123 post J (nI L) (nI e) (nI q) (nI (t q)) 0 (nI len) ps ba ct fl yp yb dp nn wN wT pr wg sc so tA tB tC fN fO fS yt fQ T be en ins wh kd yv pa na ty fr cm oN yT yC yE oH ou td := fun z => br_t rfl (pk_le 2 e
    (fun e2 => pk_le 4 e
      (fun e4 => pk_eq e 4
        (fun e4 => pk_eq (t q) 14 (fun _ => K2 z) (fun z2 => by exfalso; unfold zt_fit at hf; omega))
        (fun ne4 => pk_eq (t q) 15 (fun _ => pk_le L 0 (fun l0 => by exfalso; unfold zt_fit at hf; omega) (fun _ => K2 z)) (fun z2 => by exfalso; unfold zt_fit at hf; omega)))
      (fun e4 => pk_eq (t q) 16 (fun _ => K2 z) (fun z2 => by exfalso; unfold zt_fit at hf; omega)))
    (fun e2 => zy_starts_t h32 (by unfold zt_fit at hf; omega) (br_f (by decide) (K2 z))))
  have hgL : 0 < L → ins (nI L).toNatClampNeg = nI (g L) := fun z => by rw [nI_clamp (by omega)]; exact hg z
  refine pk_eq (t q) 13
    (fun c13 => pk_eq e 1 (fun _ => K1 (Or.inl c13)) (fun ne1 => pk_eq e 5 (fun e5 => pk_le L 0 (fun l0 => by exfalso; unfold zt_fit at hf; omega) (fun l0 => ⟨vp_in_nI (by omega) (by omega), br_t ?_ (K1 (Or.inl c13))⟩)) (fun ne5 => by exfalso; unfold zt_fit at hf; omega)))
    (fun n13 => pk_eq (t q) 11
      (fun c11 => pk_eq e 2 (fun _ => K1 (Or.inr c11)) (fun ne1 => pk_eq e 5 (fun e5 => pk_le L 0 (fun l0 => by exfalso; unfold zt_fit at hf; omega) (fun l0 => ⟨vp_in_nI (by omega) (by omega), br_t ?_ (K1 (Or.inr c11))⟩)) (fun ne5 => by exfalso; unfold zt_fit at hf; omega)))
      (fun n11 => K0 (by omega)))
  · rw [hgL l0]
    have : g L = 12 := by unfold zt_fit at hf; omega
    rw [this]; rfl
  · rw [hgL l0]
    have : g L = 10 := by unfold zt_fit at hf; omega
    rw [this]; rfl
/-- one that doesn't -/
theorem zy_nofit {post : SY → Prop} (hT : ∀ i, T i = nI (t i)) (ht : ∀ i, t i < 32) (hl : len ≤ 96) (hq : q < len) (h20 : t q ≠ 20) (he : e ≤ 5) (hL : L ≤ 96) {g : Nat → Nat} (hg : 0 < L → ins L = nI (g L)) (hgc : 0 < L → g L = 10 ∨ g L = 12) (hf : ¬ zt_fit e L (g L) (t q))
    (hp : post (nI len, ps, nI q, ct, fl, yp, yb, dp, nn, wN, wT, pr, wg, sc, so, tA, tB, tC, fN, fO, fS, yt, fQ, T, be, en, ins, wh, kd, yv, pa, na, ty, fr, cm, oN, yT, yC, yE, oH, ou, td)) : wY_split_23 post J (nI L) (nI e) (nI len) ps ba ct fl yp yb dp nn wN wT pr wg sc so tA tB tC fN fO fS yt fQ T be en ins wh kd yv pa na ty fr cm oN yT yC yE oH ou td (n + 1) (nI q) := by
  have ec : zt_at t len q = nI (t q) := by unfold zt_at; rw [if_pos hq]
  have h32 := ht q
  rw [wY_split_23]
  refine zy_at hT hl (by omega) ?_
  rw [ec]
  refine br_f (za_ne (b := 20) h20 (by omega) (by decide)) (zy_at hT hl (by omega) ?_)
  rw [ec]
  have K2 : wY_split_191 post J (nI L) (nI e) (nI q) (nI (t q)) 0 (nI len) ps ba ct fl yp yb dp nn wN wT pr wg sc so tA tB tC fN fO fS yt fQ T be en ins wh kd yv pa na ty fr cm oN yT yC yE oH ou td := br_t (nI_pos' (by omega)) (br_t rfl hp)
  have K0 : wY_split_123 post J (nI L) (nI e) (nI q) (nI (t q)) 0 (nI len) ps ba ct fl yp yb dp nn wN wT pr wg sc so tA tB tC fN fO fS yt fQ T be en ins wh kd yv pa na ty fr cm oN yT yC yE oH ou td := br_t rfl (pk_le 2 e
    (fun e2 => pk_le 4 e
      (fun e4 => pk_eq e 4
        (fun e4 => pk_eq (t q) 14 (fun z2 => by exfalso; unfold zt_fit at hf; omega) (fun _ => K2))
        (fun ne4 => pk_eq (t q) 15 (fun z2 => pk_le L 0 (fun _ => K2) (fun l0 => by exfalso; unfold zt_fit at hf; omega)) (fun _ => K2)))
      (fun e4 => pk_eq (t q) 16 (fun z2 => by exfalso; unfold zt_fit at hf; omega) (fun _ => K2)))
    (fun e2 => zy_starts_f h32 (by unfold zt_fit at hf; omega) (br_t rfl K2)))
  have hgL : 0 < L → ins (nI L).toNatClampNeg = nI (g L) := fun z => by rw [nI_clamp (by omega)]; exact hg z
  refine pk_eq (t q) 13
    (fun c13 => pk_eq e 1 (fun _ => by exfalso; unfold zt_fit at hf; omega) (fun ne1 => pk_eq e 5 (fun e5 => pk_le L 0 (fun l0 => K0) (fun l0 => ⟨vp_in_nI (by omega) (by omega), br_f ?_ K0⟩)) (fun ne5 => K0)))
    (fun n13 => pk_eq (t q) 11
      (fun c11 => pk_eq e 2 (fun _ => by exfalso; unfold zt_fit at hf; omega) (fun ne1 => pk_eq e 5 (fun e5 => pk_le L 0 (fun l0 => K0) (fun l0 => ⟨vp_in_nI (by omega) (by omega), br_f ?_ K0⟩)) (fun ne5 => K0)))
      (fun n11 => K0))
  · rw [hgL l0]
    have := hgc l0
    exact za_ne (b := 12) (by unfold zt_fit at hf; omega) (by omega) (by decide)
  · rw [hgL l0]
    have := hgc l0
    exact za_ne (b := 10) (by unfold zt_fit at hf; omega) (by omega) (by decide)
/-- the end of the text -/
theorem zy_fin {post : SY → Prop} (hT : ∀ i, T i = nI (t i)) (ht : ∀ i, t i < 32) (hl : len ≤ 96) (he : e ≤ 5) (hL : L ≤ 96)
    (hp : e = 5 ∧ L = 0 → post (nI len, ps, ba, ct, fl, yp, yb, dp, nn, wN, wT, pr, wg, sc, so, tA, tB, tC, fN, fO, fS, yt, fQ, T, be, en, ins, wh, kd, yv, pa, na, ty, fr, cm, oN, yT, yC, yE, oH, ou, td)) (hn : ¬ (e = 5 ∧ L = 0) → post (nI len, ps, nI len, ct, fl, yp, yb, dp, nn, wN, wT, pr, wg, sc, so, tA, tB, tC, fN, fO, fS, yt, fQ, T, be, en, ins, wh, kd, yv, pa, na, ty, fr, cm, oN, yT, yC, yE, oH, ou, td)) : wY_split_23 post J (nI L) (nI e) (nI len) ps ba ct fl yp yb dp nn wN wT pr wg sc so tA tB tC fN fO fS yt fQ T be en ins wh kd yv pa na ty fr cm oN yT yC yE oH ou td (n + 1) (nI len) := by
  have ec : zt_at t len len = -1 := by unfold zt_at; rw [if_neg (by omega)]
  rw [wY_split_23]
  refine zy_at hT hl (by omega) ?_
  rw [ec]
  refine br_f (by decide) (zy_at hT hl (by omega) ?_)
  rw [ec]
  have K2 : wY_split_191 post J (nI L) (nI e) (nI len) (-1) 0 (nI len) ps ba ct fl yp yb dp nn wN wT pr wg sc so tA tB tC fN fO fS yt fQ T be en ins wh kd yv pa na ty fr cm oN yT yC yE oH ou td := br_f (by decide) (pk_eq e 5
    (fun e5 => pk_eq L 0 (fun l0 => hp ⟨e5, l0⟩) (fun l0 => br_t rfl (hn (by omega)))) (fun e5 => br_t rfl (hn (by omega))))
  have K0 : wY_split_123 post J (nI L) (nI e) (nI len) (-1) 0 (nI len) ps ba ct fl yp yb dp nn wN wT pr wg sc so tA tB tC fN fO fS yt fQ T be en ins wh kd yv pa na ty fr cm oN yT yC yE oH ou td := br_t rfl (pk_le 2 e
    (fun e2 => pk_le 4 e
      (fun e4 => pk_eq e 4 (fun e4 => br_f (by decide) K2) (fun ne4 => br_f (by decide) K2))
      (fun e4 => br_f (by decide) K2))
    (fun e2 => zy_starts_m (br_t rfl K2)))
  exact br_f (by decide) (br_f (by decide) K0)
/-- over the spaces -/
theorem zy_skip {post : SY → Prop} (hT : ∀ i, T i = nI (t i)) (hl : len ≤ 96) (h20 : ∀ n, wY_split_23 post J (nI L) (nI e) (nI len) ps ba ct fl yp yb dp nn wN wT pr wg sc so tA tB tC fN fO fS yt fQ T be en ins wh kd yv pa na ty fr cm oN yT yC yE oH ou td (n + 1) (nI q)) : ∀ d p n, p + d = q → q ≤ len → (∀ i, p ≤ i → i < q → t i = 20) → d < n → wY_split_23 post J (nI L) (nI e) (nI len) ps ba ct fl yp yb dp nn wN wT pr wg sc so tA tB tC fN fO fS yt fQ T be en ins wh kd yv pa na ty fr cm oN yT yC yE oH ou td n (nI p) := by
  intro d
  induction d with
  | zero =>
    intro p n h1 h2 h3 h4
    obtain ⟨n, rfl⟩ : ∃ m, n = m + 1 := ⟨n - 1, by omega⟩
    obtain rfl : p = q := by omega
    exact h20 n
  | succ d ih =>
    intro p n h1 h2 h3 h4
    obtain ⟨n, rfl⟩ : ∃ m, n = m + 1 := ⟨n - 1, by omega⟩
    have ec : zt_at t len p = nI 20 := by unfold zt_at; rw [if_pos (by omega), h3 p (Nat.le_refl _) (by omega)]
    rw [wY_split_23]
    refine zy_at hT hl (by omega) (br_t ec (nm_r (nI_1 p) (ih (p + 1) n (by omega) h2 (fun i a b => h3 i (by omega) b) (by omega))))
/-- what is expected next -/
theorem zy_306 {post : SY → Prop} {c : Nat} {r z x5 : Int32} (hx5 : x5 = if c = 13 ∨ c = 11 then 1 else 0) (he : e ≤ 5) (hL : L ≤ 95) (hc : c < 32) {g : Nat → Nat} (hg : 0 < L → ins L = nI (g L)) (hgc : 0 < L → g L = 10 ∨ g L = 12) (hf : zt_fit e L (g L) c) (h12 : (e = 1 ∨ e = 2) → 0 < L)
    (h : J (nI (zt_nL L c)) (nI (zt_ne e (g L) c)) r ps z so tA tB tC fN fO fS yt fQ T be en (if c = 10 ∨ c = 12 then upd ins (L + 1) (nI c) else ins) wh kd yv pa na ty fr cm oN yT yC yE oH ou td) :
    wY_split_306 post J (nI L) (nI e) (nI c) x5 r z ln ps ba ct fl yp yb dp nn wN wT pr wg sc so tA tB tC fN fO fS yt fQ T be en ins wh kd yv pa na ty fr cm oN yT yC yE oH ou td := by
  subst hx5
  unfold zt_nL zt_ne at h
  by_cases cl : c = 13 ∨ c = 11
  · rw [if_pos cl] at h ⊢
    rw [if_pos cl, if_neg (by omega)] at h
    have hL0 : 0 < L := by unfold zt_fit at hf; omega
    exact br_f (by decide) (nm_r (za_m hL0) h)
  · rw [if_neg cl] at h ⊢
    rw [if_neg cl] at h
    refine br_t rfl ?_
    by_cases c15 : c = 15
    · subst c15
      have hL0 : 0 < L := by unfold zt_fit at hf; omega
      have hcl : ins (nI L).toNatClampNeg = nI (g L) := by rw [nI_clamp (by omega)]; exact hg hL0
      rw [if_neg (by omega), if_pos rfl, if_neg (c := 15 = 10 ∨ 15 = 12) (by omega)] at h
      refine br_t rfl ⟨vp_in_nI (by omega) (by omega), ?_⟩
      rw [hcl]
      refine pk_eq (g L) 12 (fun z => ?_) (fun z => ?_) rfl rfl (by have := hgc hL0; omega)
      · rw [if_pos z] at h; exact h
      · rw [if_neg z] at h; exact h
    · refine br_f (za_ne (b := 15) c15 (by omega) (by decide)) ?_
      rw [if_neg c15] at h
      by_cases c14 : c = 14
      · subst c14
        rw [if_neg (by omega), if_pos rfl, if_neg (by omega)] at h
        exact br_t rfl h
      · refine br_f (za_ne (b := 14) c14 (by omega) (by decide)) ?_
        rw [if_neg c14] at h
        by_cases e23 : e = 2 ∨ e = 3
        · have : c = 16 := by unfold zt_fit at hf; omega
          subst this
          rw [if_neg (by omega), if_pos e23, if_neg (by omega)] at h
          exact pk_eq e 2 (fun _ => h) (fun _ => pk_eq e 3 (fun _ => h) (fun _ => by omega))
        · rw [if_neg e23] at h
          refine br_f (za_ne (b := 2) (by omega) (by omega) (by decide)) (br_f (za_ne (b := 3) (by omega) (by omega) (by decide)) ?_)
          by_cases c10 : c = 10
          · subst c10
            rw [if_pos (by omega), if_pos rfl, if_pos (by omega)] at h
            refine br_t rfl (nm_r (nI_1 L) ⟨vp_in_nI (by omega) (by omega), nm_r (e' := upd ins (L + 1) (nI 10)) (by rw [nI_clamp (by omega)]) (br_t rfl h)⟩)
          · refine br_f (za_ne (b := 10) c10 (by omega) (by decide)) ?_
            rw [if_neg c10] at h
            by_cases c12 : c = 12
            · subst c12
              rw [if_pos (by omega), if_pos rfl, if_pos (by omega)] at h
              refine br_t rfl (nm_r (nI_1 L) ⟨vp_in_nI (by omega) (by omega), nm_r (e' := upd ins (L + 1) (nI 12)) (by rw [nI_clamp (by omega)]) (br_f (by decide) h)⟩)
            · rw [if_neg (by omega), if_neg c12, if_neg (by omega)] at h
              exact br_f (za_ne (b := 12) c12 (by omega) (by decide)) h
/-- a part is found -/
theorem zy_209 {post : SY → Prop} {k ok kk : Nat} {r c z zz : Int32} (hzz : (ok = 1 ∧ zz = -1) ∨ (ok = 0 ∧ zz = nI kk)) (hk : k < 96) (hkk : 0 < kk) (hkk2 : kk ≤ 96) (hr : zt_r ok kk r) (ho : ∀ P : Int32 → Prop, P r → wpY_over P (ln, nI k, ba, ct, fl, yp, yb, dp, nn, wN, wT, pr, wg, sc, so, tA, tB, tC, fN, fO, fS, yt, fQ, T, be, en, ins, wh, kd, yv, pa, na, ty, fr, cm, oN, yT, yC, yE, oH, ou, td) (nI q))
    (h : wY_split_306 post J (nI L) (nI e) c z r zz ln (nI (k + 1)) ba ct fl yp yb dp nn wN wT pr wg sc so tA tB tC fN fO fS yt fQ T (upd be k (nI q)) (upd en k (nI (kk - 1))) ins (upd wh k (nI ok)) kd yv pa na ty fr cm oN yT yC yE oH ou td) :
    wY_split_209 post J (nI L) (nI e) (nI q) c z 1 ln (nI k) ba ct fl yp yb dp nn wN wT pr wg sc so tA tB tC fN fO fS yt fQ T be en ins wh kd yv pa na ty fr cm oN yT yC yE oH ou td := by
  refine br_f (by decide) (ho _ ⟨vp_in_nI hk (by omega), nm_r (e' := upd be k (nI q)) (by rw [nI_clamp (by omega)]) ?_⟩)
  rcases hr with ⟨rfl, rfl⟩ | ⟨rfl, rfl⟩
  · refine br_f (nI_pos (by omega)) ⟨vp_in_nI hk (by omega), nm_r (e' := upd wh k (nI 1)) (by rw [nI_clamp (by omega), za_b1]; rfl) (br_f (nI_pos (by omega)) ⟨vp_in_nI hk (by omega), nm_r (e' := upd en k (nI (kk - 1))) (by rw [nI_clamp (by omega), za_s hkk]) (nm_r (nI_1 k) (br_t (nI_pos' (by omega)) ?_))⟩)⟩
    obtain rfl : zz = -1 := by
      rcases hzz with ⟨_, h⟩ | ⟨h, _⟩
      · exact h
      · omega
    exact h
  · have ng := za_n1lt (a := kk) (by omega)
    have ng2 : ¬ 0 ≤ -1 - nI kk := Int32.not_le.mpr ng
    refine br_t ng ⟨vp_in_nI hk (by omega), nm_r (e' := upd wh k (nI 0)) (by rw [nI_clamp (by omega), za_b0]; rfl) (br_t ng ⟨vp_in_nI hk (by omega), nm_r (e' := upd en k (nI (kk - 1))) (by rw [nI_clamp (by omega), za_22, za_s hkk]) (nm_r (nI_1 k) (br_f ng2 ?_))⟩)⟩
    obtain rfl : zz = nI kk := by
      rcases hzz with ⟨h, _⟩ | ⟨_, h⟩
      · omega
      · exact h
    rw [za_11]; exact h
end ZYS
end
section
section ZYT
variable {t : Nat → Nat} {len : Nat}
theorem zt_ne5 (e gL c : Nat) : zt_ne e gL c ≤ 5 := by
  unfold zt_ne
  repeat' split
  all_goals omega
theorem zt_ne12 {e gL c L : Nat} (h : zt_ne e gL c = 1 ∨ zt_ne e gL c = 2) : 0 < zt_nL L c := by
  unfold zt_ne at h
  unfold zt_nL
  by_cases c1 : c = 13 ∨ c = 11
  · rw [if_pos c1] at h; omega
  · rw [if_neg c1] at h
    rw [if_neg c1]
    by_cases c2 : c = 10 ∨ c = 12
    · rw [if_pos c2]; omega
    · exfalso
      repeat' split at h
      all_goals omega
theorem zt_nL1 (L c : Nat) : zt_nL L c ≤ L + 1 := by
  unfold zt_nL
  repeat' split
  all_goals omega
/-- what is open, kept -/
def zt_G (ins : Nat → Int32) (g : Nat → Nat) (L : Nat) : Prop := ∀ i, 1 ≤ i → i ≤ L → ins i = nI (g i) ∧ (g i = 10 ∨ g i = 12)
theorem zt_G_s {ins : Nat → Int32} {g : Nat → Nat} {L c : Nat} (h : zt_G ins g L) : zt_G (if c = 10 ∨ c = 12 then upd ins (L + 1) (nI c) else ins) (zt_ng g L c) (zt_nL L c) := by
  intro i h1 h2
  unfold zt_nL at h2
  unfold zt_ng
  by_cases c2 : c = 10 ∨ c = 12
  · rw [if_neg (by omega), if_pos c2] at h2
    rw [if_pos c2]
    by_cases e : i = L + 1
    · subst e
      rw [pk_us, if_pos ⟨c2, rfl⟩]
      exact ⟨rfl, c2⟩
    · rw [pk_un e, if_neg (fun z => e z.2)]
      exact h i h1 (by omega)
  · rw [if_neg c2, if_neg (fun z => c2 z.1)]
    rw [if_neg c2] at h2
    refine h i h1 ?_
    split at h2 <;> omega
theorem zy_split_ind (ht : ∀ i, t i < 32) (hl : len ≤ 96) : ∀ m k L e g p (be en ins wh : Nat → Int32), p ≤ len → k ≤ p → L ≤ k → e ≤ 5 → len < p + m → zt_G ins g L → ((e = 1 ∨ e = 2) → 0 < L) →
    ∃ (ps ba : Int32) (be' en' ins' wh' : Nat → Int32), (∀ i, i < k → be' i = be i ∧ en' i = en i ∧ wh' i = wh i) ∧ zt_Sp t len be' en' wh' ps ba m k L e g p ∧
      ∀ {ct fl yp yb dp nn wN wT pr wg sc : Int32} {so tA tB tC fN fO fS yt fQ T kd yv pa na ty fr cm oN yT yC yE oH ou td : Nat → Int32}, (∀ i, T i = nI (t i)) → ∀ (post : SY → Prop) n, m ≤ n → post (nI len, ps, ba, ct, fl, yp, yb, dp, nn, wN, wT, pr, wg, sc, so, tA, tB, tC, fN, fO, fS, yt, fQ, T, be', en', ins', wh', kd, yv, pa, na, ty, fr, cm, oN, yT, yC, yE, oH, ou, td) → wY_split_16 post (nI len) ct fl yp yb dp nn wN wT pr wg sc n (nI L) (nI e) (nI p) (nI k) (-1) so tA tB tC fN fO fS yt fQ T be en ins wh kd yv pa na ty fr cm oN yT yC yE oH ou td := by
  intro m
  induction m with
  | zero => intro k L e g p be en ins wh h1 h2 h3 h4 h5; omega
  | succ m ih =>
    intro k L e g p be en ins wh h1 h2 h3 h4 h5 hG h12
    obtain ⟨q, s1, s2, s3, s4⟩ := zt_sk_ex t len (len - p) p (by omega)
    have hg : 0 < L → ins L = nI (g L) := fun z => (hG L z (Nat.le_refl _)).1
    have hgc : 0 < L → g L = 10 ∨ g L = 12 := fun z => (hG L z (Nat.le_refl _)).2
    by_cases c0 : q = len
    · subst c0
      by_cases c1 : e = 5 ∧ L = 0
      · refine ⟨nI k, -1, be, en, ins, wh, fun _ _ => ⟨rfl, rfl, rfl⟩, ⟨q, ⟨s1, s2, s3, s4⟩, Or.inl ⟨rfl, c1.1, c1.2, rfl, rfl⟩⟩, fun hT post n hn hp => ?_⟩
        obtain ⟨n, rfl⟩ : ∃ m, n = m + 1 := ⟨n - 1, by omega⟩
        exact br_f (by decide) ⟨98, zy_skip hT hl (fun n9 => zy_fin hT ht hl h4 (by omega) (fun _ => hp) (fun z => absurd c1 z)) (q - p) p 98 (by omega) (Nat.le_refl _) s3 (by omega)⟩
      · refine ⟨nI k, nI q, be, en, ins, wh, fun _ _ => ⟨rfl, rfl, rfl⟩, ⟨q, ⟨s1, s2, s3, s4⟩, Or.inr (Or.inl ⟨Or.inl ⟨rfl, c1⟩, rfl, rfl⟩)⟩, fun hT post n hn hp => ?_⟩
        obtain ⟨n, rfl⟩ : ∃ m, n = m + 1 := ⟨n - 1, by omega⟩
        exact br_f (by decide) ⟨98, zy_skip hT hl (fun n9 => zy_fin hT ht hl h4 (by omega) (fun z => absurd z c1) (fun z => hp)) (q - p) p 98 (by omega) (Nat.le_refl _) s3 (by omega)⟩
    · have hq : q < len := by omega
      have h20 := s4 hq
      by_cases c1 : zt_fit e L (g L) (t q)
      · obtain ⟨ok, kk, r, o1, o2, o3⟩ := zy_over (t := t) (len := len) ht hl hq
        have ok3 := zt_Ov_k o1 hq
        by_cases c2 : ok = 1
        · subst c2
          obtain ⟨ps, ba, be', en', ins', wh', i1, i2, i3⟩ := ih (k + 1) (zt_nL L (t q)) (zt_ne e (g L) (t q)) (zt_ng g L (t q)) kk (upd be k (nI q)) (upd en k (nI (kk - 1))) (if t q = 10 ∨ t q = 12 then upd ins (L + 1) (nI (t q)) else ins) (upd wh k (nI 1)) (by omega) (by omega) (by have := zt_nL1 L (t q); omega) (zt_ne5 _ _ _) (by omega) (zt_G_s hG) zt_ne12
          refine ⟨ps, ba, be', en', ins', wh', fun i hi => ?_, ⟨q, ⟨s1, s2, s3, s4⟩, Or.inr (Or.inr ⟨hq, c1, by omega, 1, kk, o1, ?_, ?_, ?_, Or.inr ⟨rfl, i2⟩⟩)⟩, fun hT post n hn hp => ?_⟩
          · obtain ⟨a1, a2, a3⟩ := i1 i (by omega)
            rw [a1, a2, a3, pk_un (by omega), pk_un (by omega), pk_un (by omega)]
            exact ⟨rfl, rfl, rfl⟩
          · rw [(i1 k (by omega)).1, pk_us]
          · rw [(i1 k (by omega)).2.1, pk_us]
          · rw [(i1 k (by omega)).2.2, pk_us]
          · obtain ⟨n, rfl⟩ : ∃ m, n = m + 1 := ⟨n - 1, by omega⟩
            obtain rfl : r = nI kk := by
              rcases o2 with ⟨_, o2⟩ | ⟨o2, _⟩
              · exact o2
              · omega
            refine br_f (by decide) ⟨98, zy_skip hT hl (fun n9 => zy_fit hT ht hl hq h20 h4 (by omega) hg c1 (fun z => ?_) (fun z => ?_)) (q - p) p 98 (by omega) (by omega) s3 (by omega)⟩
            · exact zy_209 (Or.inl ⟨rfl, rfl⟩) (by omega) (by omega) (by omega) o2 (o3 hT) (zy_306 (g := g) (if_pos z).symm h4 (by omega) (ht q) hg hgc c1 h12 (i3 hT post n (by omega) hp))
            · exact zy_209 (Or.inl ⟨rfl, rfl⟩) (by omega) (by omega) (by omega) o2 (o3 hT) (zy_306 (g := g) (if_neg z).symm h4 (by omega) (ht q) hg hgc c1 h12 (i3 hT post n (by omega) hp))
        · obtain rfl : ok = 0 := by omega
          refine ⟨nI (k + 1), nI kk, upd be k (nI q), upd en k (nI (kk - 1)), (if t q = 10 ∨ t q = 12 then upd ins (L + 1) (nI (t q)) else ins), upd wh k (nI 0), fun i hi => ?_, ⟨q, ⟨s1, s2, s3, s4⟩, Or.inr (Or.inr ⟨hq, c1, by omega, 0, kk, o1, pk_us, pk_us, pk_us, Or.inl ⟨rfl, rfl, rfl⟩⟩)⟩, fun hT post n hn hp => ?_⟩
          · rw [pk_un (by omega), pk_un (by omega), pk_un (by omega)]
            exact ⟨rfl, rfl, rfl⟩
          · obtain ⟨n, rfl⟩ : ∃ m, n = m + 1 + 1 := ⟨n - 2, by omega⟩
            refine br_f (by decide) ⟨98, zy_skip hT hl (fun n9 => zy_fit hT ht hl hq h20 h4 (by omega) hg c1 (fun z => ?_) (fun z => ?_)) (q - p) p 98 (by omega) (by omega) s3 (by omega)⟩
            · exact zy_209 (Or.inr ⟨rfl, rfl⟩) (by omega) (by omega) (by omega) o2 (o3 hT) (zy_306 (g := g) (if_pos z).symm h4 (by omega) (ht q) hg hgc c1 h12 (br_t (nI_pos' (by omega)) hp))
            · exact zy_209 (Or.inr ⟨rfl, rfl⟩) (by omega) (by omega) (by omega) o2 (o3 hT) (zy_306 (g := g) (if_neg z).symm h4 (by omega) (ht q) hg hgc c1 h12 (br_t (nI_pos' (by omega)) hp))
      · refine ⟨nI k, nI q, be, en, ins, wh, fun _ _ => ⟨rfl, rfl, rfl⟩, ⟨q, ⟨s1, s2, s3, s4⟩, Or.inr (Or.inl ⟨Or.inr ⟨hq, c1⟩, rfl, rfl⟩)⟩, fun hT post n hn hp => ?_⟩
        obtain ⟨n, rfl⟩ : ∃ m, n = m + 1 := ⟨n - 1, by omega⟩
        exact br_f (by decide) ⟨98, zy_skip hT hl (fun n9 => zy_nofit hT ht hl hq h20 h4 (by omega) hg hgc c1 hp) (q - p) p 98 (by omega) (by omega) s3 (by omega)⟩
theorem zy_split (ht : ∀ i, t i < 32) (hl : len ≤ 96) : ∀ {ps ba ct fl yp yb dp nn wN wT pr wg sc : Int32} {so tA tB tC fN fO fS yt fQ T be en ins wh kd yv pa na ty fr cm oN yT yC yE oH ou td : Nat → Int32}, (∀ i, T i = nI (t i)) → ∃ (ps' ba' : Int32) (be' en' ins' wh' : Nat → Int32), zt_Sp t len be' en' wh' ps' ba' 97 0 0 0 (fun _ => 0) 0 ∧
      ∀ (post : SY → Prop), post (nI len, ps', ba', ct, fl, yp, yb, dp, nn, wN, wT, pr, wg, sc, so, tA, tB, tC, fN, fO, fS, yt, fQ, T, be', en', ins', wh', kd, yv, pa, na, ty, fr, cm, oN, yT, yC, yE, oH, ou, td) → wpY_split post (nI len, ps, ba, ct, fl, yp, yb, dp, nn, wN, wT, pr, wg, sc, so, tA, tB, tC, fN, fO, fS, yt, fQ, T, be, en, ins, wh, kd, yv, pa, na, ty, fr, cm, oN, yT, yC, yE, oH, ou, td) := by
  intro ps ba ct fl yp yb dp nn wN wT pr wg sc so tA tB tC fN fO fS yt fQ T be en ins wh kd yv pa na ty fr cm oN yT yC yE oH ou td hT
  obtain ⟨ps', ba', be', en', ins', wh', _, i2, i3⟩ := zy_split_ind (t := t) (len := len) ht hl 97 0 0 0 (fun _ => 0) 0 be en ins wh (by omega) (Nat.le_refl _) (Nat.le_refl _) (by omega) (by omega) (fun i a b => by omega) (fun z => by omega)
  exact ⟨ps', ba', be', en', ins', wh', i2, fun post hp => ⟨97, i3 hT post 97 (Nat.le_refl _) hp⟩⟩
end ZYT
end
section
/-! the reference's units of a number -/
section ZU
variable {t : Nat → Nat}
theorem zu_add {x y : Int32} {a b : Int} (hx : x.toInt = a) (hy : y.toInt = b) (h1 : -2147483648 ≤ a + b) (h2 : a + b < 2147483648) : (x + y).toInt = a + b := by
  rw [Int32.toInt_add, hx, hy]
  exact Int.bmod_eq_of_le (by omega) (by omega)
theorem zu_sub {x y : Int32} {a b : Int} (hx : x.toInt = a) (hy : y.toInt = b) (h1 : -2147483648 ≤ a - b) (h2 : a - b < 2147483648) : (x - y).toInt = a - b := by
  rw [Int32.toInt_sub, hx, hy]
  exact Int.bmod_eq_of_le (by omega) (by omega)
theorem zu_neg {x : Int32} {a : Int} (hx : x.toInt = a) (h1 : -2147483648 < a) (h2 : a < 2147483648) : (-x).toInt = -a := by
  rw [Int32.toInt_neg, hx]
  exact Int.bmod_eq_of_le (by omega) (by omega)
theorem zu_le {x y : Int32} {a b : Int} (hx : x.toInt = a) (hy : y.toInt = b) : x ≤ y ↔ a ≤ b := by rw [Int32.le_iff_toInt_le, hx, hy]
theorem zu_lt {x y : Int32} {a b : Int} (hx : x.toInt = a) (hy : y.toInt = b) : x < y ↔ a < b := by rw [Int32.lt_iff_toInt_lt, hx, hy]
theorem zu_0 : ((0 : Int32)).toInt = 0 := by decide
theorem zu_1 : ((1 : Int32)).toInt = 1 := by decide
theorem zu_11 : ((11 : Int32)).toInt = 11 := by decide
/-- the last place of a character -/
def zu_l (t : Nat → Nat) (c p : Nat) : Nat → Int32
  | 0 => -1
  | i + 1 => if p ≤ i ∧ t i = c then nI i else zu_l t c p i
theorem zu_l_no {c p : Nat} : ∀ i, (∀ j, p ≤ j → j < i → t j ≠ c) → zu_l t c p i = -1 := by
  intro i
  induction i with
  | zero => intro _; rfl
  | succ i ih =>
    intro h
    simp only [zu_l]
    rw [if_neg (fun z => h i z.1 (by omega) z.2)]
    exact ih (fun j a b => h j a (by omega))
theorem zu_l_at {c p w : Nat} (hw : p ≤ w) (hc : t w = c) : ∀ i, w < i → (∀ j, p ≤ j → j < i → j ≠ w → t j ≠ c) → zu_l t c p i = nI w := by
  intro i
  induction i with
  | zero => intro h; omega
  | succ i ih =>
    intro h1 h2
    simp only [zu_l]
    by_cases e : w = i
    · subst e; rw [if_pos ⟨hw, hc⟩]
    · rw [if_neg (fun z => h2 i z.1 (by omega) (fun z2 => e z2.symm) z.2)]
      exact ih (by omega) (fun j a b c => h2 j a (by omega) c)
variable {ln ps ba ct fl yp yb dp nn wN wT pr wg sc : Int32} {so tA tB tC fN fO fS yt fQ T be en ins wh kd yv pa na ty fr cm oN yT yC yE oH ou td : Nat → Int32} {post : Int32 → SY → Prop}
theorem zu_45 (hT : ∀ i, T i = nI (t i)) (ht : ∀ i, t i < 32) {p k : Nat} (hk : k ≤ 96) {dec x8 : Int32} (hpk : p < k)
    (hc : (0 ≤ zu_l t 19 p k → ∃ n, wY_units_108 post dec (nI p) (zu_l t 18 p k) (zu_l t 19 p k) (nI (k - 1)) x8 ln ps ba ct fl yp yb dp nn wN wT pr wg sc so tA tB tC fN fO fS yt fQ T be en ins wh kd yv pa na ty fr cm oN yT yC yE oH ou td n 0 (zu_l t 19 p k + 1)) ∧ (¬ 0 ≤ zu_l t 19 p k → ∃ n, wY_units_108 post dec (nI p) (zu_l t 18 p k) (zu_l t 19 p k) (nI (k - 1)) x8 ln ps ba ct fl yp yb dp nn wN wT pr wg sc so tA tB tC fN fO fS yt fQ T be en ins wh kd yv pa na ty fr cm oN yT yC yE oH ou td n 0 (nI k))) :
    ∀ d i n, i + d = k → p ≤ i → d < n → wY_units_45 post dec (nI p) (nI (k - 1)) 0 x8 ln ps ba ct fl yp yb dp nn wN wT pr wg sc so tA tB tC fN fO fS yt fQ T be en ins wh kd yv pa na ty fr cm oN yT yC yE oH ou td n (zu_l t 18 p i) (zu_l t 19 p i) (nI i) := by
  intro d
  induction d with
  | zero =>
    intro i n h1 h2 h3
    obtain ⟨n, rfl⟩ : ∃ m, n = m + 1 := ⟨n - 1, by omega⟩
    obtain rfl : i = k := by omega
    refine br_t (nI_lt (by omega) (by omega)) ⟨fun z => ?_, fun z => ?_⟩
    · exact nm_e (hc.1 z)
    · refine nm_r (e' := nI i) ?_ (hc.2 z)
      rw [nI_1]; exact congrArg nI (by omega)
  | succ d ih =>
    intro i n h1 h2 h3
    obtain ⟨n, rfl⟩ : ∃ m, n = m + 1 := ⟨n - 1, by omega⟩
    have hi : i < 96 := by omega
    have ec : T (nI i).toNatClampNeg = nI (t i) := by rw [nI_clamp (by omega), hT]
    have h32 := ht i
    have nx := ih (i + 1) n (by omega) (by omega) (by omega)
    simp only [zu_l] at nx
    refine br_f (nI_nlt (by omega) (by omega)) ⟨vp_in_nI hi (by omega), ?_⟩
    rw [ec]
    refine pk_eq (t i) 18 (fun z => ⟨vp_in_nI hi (by omega), ?_⟩) (fun z => ⟨vp_in_nI hi (by omega), ?_⟩)
    · rw [ec]
      rw [if_pos ⟨h2, z⟩, if_neg (by omega)] at nx
      exact br_f (za_ne (b := 19) (by omega) (by omega) (by decide)) (nm_r (nI_1 i) nx)
    · rw [ec]
      rw [if_neg (fun y => z y.2)] at nx
      refine pk_eq (t i) 19 (fun y => ?_) (fun y => ?_)
      · rw [if_pos ⟨h2, y⟩] at nx
        exact nm_r (nI_1 i) nx
      · rw [if_neg (fun x => y x.2)] at nx
        exact nm_r (nI_1 i) nx
/-- the exponent's digits -/
theorem zu_108 (hT : ∀ i, T i = nI (t i)) (ht : ∀ i, t i < 32) {p k m : Nat} (hk : k ≤ 96) {dec x8 x4 : Int32} (hmk : m + 1 < k)
    (hc : wY_units_180 post dec (nI p) x4 (nI m) (nI (k - 1)) (if t (m + 1) = 17 then -nI (zn_yp t m k) else nI (zn_yp t m k)) x8 ln ps ba ct fl yp yb dp nn wN wT pr wg sc so tA tB tC fN fO fS yt fQ T be en ins wh kd yv pa na ty fr cm oN yT yC yE oH ou td) :
    ∀ d i n, i + d = k → m < i → d < n → wY_units_108 post dec (nI p) x4 (nI m) (nI (k - 1)) x8 ln ps ba ct fl yp yb dp nn wN wT pr wg sc so tA tB tC fN fO fS yt fQ T be en ins wh kd yv pa na ty fr cm oN yT yC yE oH ou td n (nI (zn_yp t m i)) (nI i) := by
  intro d
  induction d with
  | zero =>
    intro i n h1 h2 h3
    obtain ⟨n, rfl⟩ : ∃ m, n = m + 1 := ⟨n - 1, by omega⟩
    obtain rfl : i = k := by omega
    refine br_t (nI_lt (by omega) (by omega)) (br_f (nI_pos (by omega)) ?_)
    rw [nI_1]
    refine ⟨vp_in_nI (by omega) (by omega), ?_⟩
    rw [nI_clamp (by omega), hT]
    refine pk_eq (t (m + 1)) 17 (fun z => ?_) (fun z => ?_) rfl rfl (by have := ht (m + 1); omega)
    · rw [if_pos z] at hc; exact nm_e hc
    · rw [if_neg z] at hc; exact hc
  | succ d ih =>
    intro i n h1 h2 h3
    obtain ⟨n, rfl⟩ : ∃ m, n = m + 1 := ⟨n - 1, by omega⟩
    have hi : i < 96 := by omega
    have ec : T (nI i).toNatClampNeg = nI (t i) := by rw [nI_clamp (by omega), hT]
    have h32 := ht i
    have nx := ih (i + 1) n (by omega) (by omega) (by omega)
    have hb : zn_yp t m i ≤ 99999 := by have := zn_px t m i; omega
    simp only [zn_yp] at nx
    refine br_f (nI_nlt (by omega) (by omega)) ⟨vp_in_nI hi (by omega), ?_⟩
    rw [ec]
    refine pk_le 10 (t i) (fun z => ?_) (fun z => ?_)
    · rw [if_neg (by omega)] at nx
      exact nm_r (nI_1 i) nx
    · rw [if_pos ⟨h2, z⟩] at nx
      refine pk_le 10000 (zn_yp t m i) (fun y => ?_) (fun y => ⟨vp_in_nI hi (by omega), ?_⟩)
      · rw [if_pos y] at nx
        exact nm_r (nI_1 i) nx
      · rw [if_neg (by omega)] at nx
        exact nm_r (e' := nI (10 * zn_yp t m i + t i)) (by rw [← nI_add, ← pk_mul]; rfl) (nm_r (nI_1 i) nx)
/-- how many digits are left behind one -/
theorem zu_260 {J : _} (hT : ∀ i, T i = nI (t i)) (ht : ∀ i, t i < 32) {i s : Nat} (hs : s ≤ 96) {x8 x10 x13 : Int32} {x11 : Int64} {e0 : Int} (he : -300000 ≤ e0 ∧ e0 ≤ 300000)
    (hc : ∀ x15 n, x15.toInt = e0 + zn_nd t (i + 1) s → wY_units_260 post J x8 (nI s) x10 x11 x13 (nI i) ln ps ba ct fl yp yb dp nn wN wT pr wg sc so tA tB tC fN fO fS yt fQ T be en ins wh kd yv pa na ty fr cm oN yT yC yE oH ou td (n + 1) x15 (nI s)) :
    ∀ d j n x15, j + d = s → x15.toInt = e0 + zn_nd t (i + 1) j → i + 1 ≤ j → d < n → wY_units_260 post J x8 (nI s) x10 x11 x13 (nI i) ln ps ba ct fl yp yb dp nn wN wT pr wg sc so tA tB tC fN fO fS yt fQ T be en ins wh kd yv pa na ty fr cm oN yT yC yE oH ou td n x15 (nI j) := by
  intro d
  induction d with
  | zero =>
    intro j n x15 h1 h2 h3 h4
    obtain ⟨n, rfl⟩ : ∃ m, n = m + 1 := ⟨n - 1, by omega⟩
    obtain rfl : j = s := by omega
    exact hc x15 n h2
  | succ d ih =>
    intro j n x15 h1 h2 h3 h4
    obtain ⟨n, rfl⟩ : ∃ m, n = m + 1 := ⟨n - 1, by omega⟩
    have hj : j < 96 := by omega
    have ec : T (nI j).toNatClampNeg = nI (t j) := by rw [nI_clamp (by omega), hT]
    have h32 := ht j
    have hb := zn_nd_le t (i + 1) j
    have ex : zn_nd t (i + 1) (j + 1) = if t j < 10 then zn_nd t (i + 1) j + 1 else zn_nd t (i + 1) j := by
      simp only [zn_nd]
      by_cases z : t j < 10
      · rw [if_pos ⟨h3, z⟩, if_pos z]
      · rw [if_neg (fun y => z y.2), if_neg z]
    refine br_f (nI_ge (by omega) (by omega)) ⟨vp_in_nI hj (by omega), ?_⟩
    rw [ec]
    refine pk_le 10 (t j) (fun z => ?_) (fun z => ?_)
    · refine nm_r (nI_1 j) (ih (j + 1) n x15 (by omega) ?_ (by omega) (by omega))
      rw [ex, if_neg (by omega)]; exact h2
    · refine nm_e (nm_r (nI_1 j) (ih (j + 1) n (x15 + 1) (by omega) ?_ (by omega) (by omega)))
      rw [ex, if_pos z, zu_add h2 zu_1 (by omega) (by omega)]; omega
/-- the power of ten of one digit -/
theorem zu_356 {J : _} {s i v a : Nat} {x8 x10 x13 x15 : Int32} {e : Nat} (he : x15.toInt = (e : Int)) (h11 : e < 11) (ha : a < 10)
    (hc : J (lN (v + a * 10 ^ e)) x13 (nI (i + 1))) :
    ∀ d j n, j + d = e → d < n → wY_units_356 post J x8 (nI s) x10 (lN v) x13 (nI i) x15 ln ps ba ct fl yp yb dp nn wN wT pr wg sc so tA tB tC fN fO fS yt fQ T be en ins wh kd yv pa na ty fr cm oN yT yC yE oH ou td n (lN (a * 10 ^ j)) (nI j) := by
  intro d
  induction d with
  | zero =>
    intro j n h1 h2
    obtain ⟨n, rfl⟩ : ∃ m, n = m + 1 := ⟨n - 1, by omega⟩
    obtain rfl : j = e := by omega
    refine br_t ((zu_le he (nI_toInt (by omega))).mpr (Int.le_refl _)) (nm_r (lN_add _ _) (nm_r (nI_1 i) hc))
  | succ d ih =>
    intro j n h1 h2
    obtain ⟨n, rfl⟩ : ∃ m, n = m + 1 := ⟨n - 1, by omega⟩
    refine br_f (fun z => by have := (zu_le he (nI_toInt (by omega))).mp z; omega) (br_f (fun z => by have := (zu_le zu_11 he).mp z; omega) (nm_r (e' := lN (a * 10 ^ (j + 1))) ?_ (nm_r (nI_1 j) (ih (j + 1) n (by omega) (by omega)))))
    rw [show (10 : Int64) = lN 10 from rfl, lN_mul, Nat.pow_succ, Nat.mul_assoc]
end ZU
end
section
section ZU2
variable {t : Nat → Nat}
def zu_v (e : Int) (a v : Nat) : Nat := if 0 ≤ e ∧ 0 < a then (if e < 11 then v + a * 10 ^ e.toNat else v + a) else v
def zu_f (e : Int) (a f : Nat) : Nat := if a = 0 then f else if 0 ≤ e ∧ e < 11 then f else 0
def zu_I (t : Nat → Nat) (p s : Nat) (e0 : Int) (i v f : Nat) : Prop := ((f = 1 ∧ zv_Q (e0 + zn_nd t i s) (zn_mz t p i) v) ∨ (f = 0 ∧ zv_no e0 (zn_mz t p s))) ∧ v ≤ (i - p) * 90000000000
theorem zu_I_n {p s i v f : Nat} {e0 : Int} (h : zu_I t p s e0 i v f) (hi : i < s) (hc : ¬ t i < 10) : zu_I t p s e0 (i + 1) v f := by
  have e1 := zn_nd_l t i s hi
  rw [if_neg hc, Nat.zero_add] at e1
  have e2 : zn_mz t p (i + 1) = zn_mz t p i := by simp only [zn_mz]; rw [if_neg (fun z => hc z.2)]
  obtain ⟨h1, h2⟩ := h
  refine ⟨?_, Nat.le_trans h2 (Nat.mul_le_mul_right _ (by omega))⟩
  rw [e2, ← e1]; exact h1
theorem zu_I_s {p s i v f : Nat} {e0 : Int} (h : zu_I t p s e0 i v f) (hp : p ≤ i) (hi : i < s) (hc : t i < 10) : zu_I t p s e0 (i + 1) (zu_v (e0 + zn_nd t (i + 1) s) (t i) v) (zu_f (e0 + zn_nd t (i + 1) s) (t i) f) := by
  have e1 := zn_nd_l t i s hi
  rw [if_pos hc] at e1
  have e2 : zn_mz t p (i + 1) = 10 * zn_mz t p i + t i := by simp only [zn_mz]; rw [if_pos ⟨hp, hc⟩]
  obtain ⟨h1, h2⟩ := h
  obtain ⟨r, hr, hz⟩ := zn_mz_split t p (i + 1) (by omega) s (by omega)
  rw [e2] at hz
  unfold zu_I
  rw [e2]
  have e3 : e0 + (zn_nd t i s : Nat) = (e0 + (zn_nd t (i + 1) s : Nat)) + 1 := by omega
  rw [e3] at h1
  generalize hn : zn_nd t (i + 1) s = n at *
  generalize ht : t i = a at *
  generalize zn_mz t p i = Zi at *
  generalize zn_mz t p s = Zs at *
  refine ⟨?_, ?_⟩
  · rcases h1 with ⟨rfl, h1⟩ | ⟨rfl, h1⟩
    · unfold zu_v zu_f
      by_cases a0 : a = 0
      · subst a0
        rw [if_pos rfl, if_neg (by omega)]
        refine Or.inl ⟨rfl, ?_⟩
        by_cases pe : 0 ≤ e0 + (n : Nat)
        · have := zv_Y_pos (e := 0) (d := 0) h1 pe
          rw [Nat.zero_mul, Nat.add_zero] at this
          exact this
        · exact zv_Y_neg h1 (by omega)
      · rw [if_neg a0]
        by_cases pe : 0 ≤ e0 + (n : Nat) ∧ e0 + (n : Nat) < 11
        · rw [if_pos pe, if_pos ⟨pe.1, by omega⟩, if_pos pe.2]
          exact Or.inl ⟨rfl, zv_Y_pos (e := 0) h1 pe.1⟩
        · rw [if_neg pe]
          refine Or.inr ⟨rfl, ?_⟩
          by_cases ne : e0 + (n : Nat) < 0
          · exact zv_Y_cut hz hr (by omega) hc ne
          · exact zv_Y_big hz (by omega) (by omega)
    · refine Or.inr ⟨?_, h1⟩
      unfold zu_f
      repeat' split
      all_goals rfl
  · have e4 : i + 1 - p = (i - p) + 1 := by omega
    rw [e4, Nat.add_mul, Nat.one_mul]
    unfold zu_v
    by_cases c1 : 0 ≤ e0 + (n : Nat) ∧ 0 < a
    · rw [if_pos c1]
      by_cases c2 : e0 + (n : Nat) < 11
      · rw [if_pos c2]
        have b1 : 10 ^ (e0 + (n : Nat)).toNat ≤ 10 ^ 10 := Nat.pow_le_pow_right (by decide) (by omega)
        have b2 : a * 10 ^ (e0 + (n : Nat)).toNat ≤ 9 * 10 ^ 10 := Nat.mul_le_mul (by omega) b1
        omega
      · rw [if_neg c2]; omega
    · rw [if_neg c1]; exact Nat.le_trans h2 (Nat.le_add_right _ _)
theorem zu_a1 {f : Nat} (h : f ≤ 1) : nI f &&& 1 = nI f := by
  have : f = 0 ∨ f = 1 := by omega
  rcases this with rfl | rfl <;> decide
theorem zu_a0 {f : Nat} (h : f ≤ 1) : nI f &&& 0 = 0 := by
  have : f = 0 ∨ f = 1 := by omega
  rcases this with rfl | rfl <;> decide
theorem zu_fl (e : Int) (a : Nat) {f : Nat} (h : f ≤ 1) : zu_f e a f ≤ 1 := by
  unfold zu_f
  repeat' split
  all_goals omega
variable {ln ps ba ct fl yp yb dp nn wN wT pr wg sc : Int32} {so tA tB tC fN fO fS yt fQ T be en ins wh kd yv pa na ty fr cm oN yT yC yE oH ou td : Nat → Int32} {post : Int32 → SY → Prop}
theorem zu_dig {J : _} (hT : ∀ i, T i = nI (t i)) {i s v f n : Nat} (hs : s ≤ 96) (hi : i < s) (hc : t i < 10) (hf : f ≤ 1) {x8 x10 x15 : Int32} {e : Int} (he : x15.toInt = e)
    (h : J (lN (zu_v e (t i) v)) (nI (zu_f e (t i) f)) (nI (i + 1))) : wY_units_260 post J x8 (nI s) x10 (lN v) (nI f) (nI i) ln ps ba ct fl yp yb dp nn wN wT pr wg sc so tA tB tC fN fO fS yt fQ T be en ins wh kd yv pa na ty fr cm oN yT yC yE oH ou td (n + 1) x15 (nI s) := by
  have ec : T (nI i).toNatClampNeg = nI (t i) := by rw [nI_clamp (by omega), hT]
  unfold zu_v zu_f at h
  refine br_t (nI_le (Nat.le_refl _) (by omega)) ?_
  by_cases p0 : 0 ≤ e
  · refine br_t ((zu_le zu_0 he).mpr p0) ⟨vp_in_nI (by omega) (by omega), ?_⟩
    rw [ec]
    refine pk_le (t i) 0 (fun z => ?_) (fun z => ?_)
    · rw [if_neg (by omega), if_pos (by omega)] at h
      exact nm_r (nI_1 i) h
    · rw [if_pos (c := 0 ≤ e ∧ 0 < t i) ⟨p0, z⟩, if_neg (c := t i = 0) (by omega)] at h
      by_cases q : e < 11
      · rw [if_pos q, if_pos ⟨p0, q⟩] at h
        refine br_f (fun y => by have := (zu_le zu_11 he).mp y; omega) (nm_r (zu_a1 hf) ⟨vp_in_nI (by omega) (by omega), nm_r (e' := lN (t i * 10 ^ 0)) ?_ ⟨12, ?_⟩⟩)
        · rw [ec, nI_l (by omega), Nat.pow_zero, Nat.mul_one]
        · exact zu_356 (e := e.toNat) (by rw [he]; omega) (by omega) hc h e.toNat 0 12 (by omega) (by omega)
      · rw [if_neg q, if_neg (fun y => q y.2)] at h
        refine br_t ((zu_le zu_11 he).mpr (by omega)) (nm_r (zu_a0 hf) ⟨vp_in_nI (by omega) (by omega), nm_r (e' := lN (t i)) ?_ ⟨1, ?_⟩⟩)
        · rw [ec, nI_l (by omega)]
        · exact br_f (fun y => by have := (zu_le he zu_0).mp y; omega) (br_t ((zu_le zu_11 he).mpr (by omega)) (nm_r (lN_add _ _) (nm_r (nI_1 i) h)))
  · refine br_f (fun y => p0 ((zu_le zu_0 he).mp y)) ⟨vp_in_nI (by omega) (by omega), ?_⟩
    rw [ec]
    rw [if_neg (fun y => p0 y.1), if_neg (c := 0 ≤ e ∧ e < 11) (fun y => p0 y.1)] at h
    refine pk_eq (t i) 0 (fun z => ?_) (fun z => ?_)
    · rw [if_pos z] at h
      exact nm_r (zu_a1 hf) (nm_r (nI_1 i) h)
    · rw [if_neg z] at h
      exact nm_r (zu_a0 hf) (nm_r (nI_1 i) h)
theorem zu_228 (ht : ∀ i, t i < 32) {p s : Nat} (hs : s ≤ 96) {e0 : Int} (he : -300000 ≤ e0 ∧ e0 ≤ 300000) : ∀ d i v f, i + d = s → p ≤ i → f ≤ 1 → zu_I t p s e0 i v f →
    ∃ v' f', f' ≤ 1 ∧ zu_I t p s e0 s v' f' ∧ ∀ {ln ps ba ct fl yp yb dp nn wN wT pr wg sc : Int32} {so tA tB tC fN fO fS yt fQ T be en ins wh kd yv pa na ty fr cm oN yT yC yE oH ou td : Nat → Int32}, (∀ i, T i = nI (t i)) → ∀ (post : Int32 → SY → Prop) (x8 x10 : Int32) n, x10.toInt = e0 → d < n → ((x8 = 0 → wY_units_410 post (nI f') (lN v') ln ps ba ct fl yp yb dp nn wN wT pr wg sc so tA tB tC fN fO fS yt fQ T be en ins wh kd yv pa na ty fr cm oN yT yC yE oH ou td) ∧ (¬ x8 = 0 → wY_units_410 post (nI f') (-(lN v')) ln ps ba ct fl yp yb dp nn wN wT pr wg sc so tA tB tC fN fO fS yt fQ T be en ins wh kd yv pa na ty fr cm oN yT yC yE oH ou td)) → wY_units_228 post x8 (nI s) x10 ln ps ba ct fl yp yb dp nn wN wT pr wg sc so tA tB tC fN fO fS yt fQ T be en ins wh kd yv pa na ty fr cm oN yT yC yE oH ou td n (lN v) (nI f) (nI i) := by
  intro d
  induction d with
  | zero =>
    intro i v f h1 h2 h3 h4
    obtain rfl : i = s := by omega
    refine ⟨v, f, h3, h4, fun hT post x8 x10 n hx hn hc => ?_⟩
    obtain ⟨n, rfl⟩ : ∃ m, n = m + 1 := ⟨n - 1, by omega⟩
    exact br_t (nI_le (Nat.le_refl _) (by omega)) hc
  | succ d ih =>
    intro i v f h1 h2 h3 h4
    by_cases c : t i < 10
    · obtain ⟨v', f', g1, g2, g3⟩ := ih (i + 1) _ _ (by omega) (by omega) (zu_fl _ _ h3) (zu_I_s h4 h2 (by omega) c)
      refine ⟨v', f', g1, g2, ?_⟩
      intro ln ps ba ct fl yp yb dp nn wN wT pr wg sc so tA tB tC fN fO fS yt fQ T be en ins wh kd yv pa na ty fr cm oN yT yC yE oH ou td hT post x8 x10 n hx hn hc
      obtain ⟨n, rfl⟩ : ∃ m, n = m + 1 := ⟨n - 1, by omega⟩
      have hi : i < 96 := by omega
      have ec : T (nI i).toNatClampNeg = nI (t i) := by rw [nI_clamp (by omega), hT]
      refine br_f (nI_ge (by omega) (by omega)) ⟨vp_in_nI hi (by omega), ?_⟩
      rw [ec]
      refine br_t (nI_le (b := 9) (by omega) (by omega)) (nm_r (nI_1 i) ⟨98, ?_⟩)
      refine zu_260 hT ht hs he (fun x15 n' hx15 => zu_dig hT hs (by omega) c h3 hx15 (g3 hT post x8 x10 n hx (by omega) hc)) (s - (i + 1)) (i + 1) 98 x10 (by omega) ?_ (Nat.le_refl _) (by omega)
      rw [zn_nd_0 t (i + 1) (i + 1) (Nat.le_refl _), hx]; omega
    · obtain ⟨v', f', g1, g2, g3⟩ := ih (i + 1) v f (by omega) (by omega) h3 (zu_I_n h4 (by omega) c)
      refine ⟨v', f', g1, g2, ?_⟩
      intro ln ps ba ct fl yp yb dp nn wN wT pr wg sc so tA tB tC fN fO fS yt fQ T be en ins wh kd yv pa na ty fr cm oN yT yC yE oH ou td hT post x8 x10 n hx hn hc
      obtain ⟨n, rfl⟩ : ∃ m, n = m + 1 := ⟨n - 1, by omega⟩
      have hi : i < 96 := by omega
      have h32 := ht i
      have ec : T (nI i).toNatClampNeg = nI (t i) := by rw [nI_clamp (by omega), hT]
      refine br_f (nI_ge (by omega) (by omega)) ⟨vp_in_nI hi (by omega), ?_⟩
      rw [ec]
      exact br_f (nI_ge (a := 9) (by omega) (by omega)) (nm_r (nI_1 i) (g3 hT post x8 x10 n hx (by omega) hc))
end ZU2
end
section
section ZU3
variable {t : Nat → Nat}
def zu_sv (t : Nat → Nat) (p v : Nat) : Int64 := if t p = 17 then -(lN v) else lN v
def zu_r (f : Nat) (sv : Int64) : Int32 := if f = 1 ∧ sv = sv.toInt32.toInt64 then 1 else 0
theorem zu_410 {ln ps ba ct fl yp yb dp nn wN wT pr wg sc : Int32} {so tA tB tC fN fO fS yt fQ T be en ins wh kd yv pa na ty fr cm oN yT yC yE oH ou td : Nat → Int32} {post : Int32 → SY → Prop} {f : Nat} (hf : f ≤ 1) {sv : Int64} (h : post (zu_r f sv) (ln, ps, ba, ct, fl, yp, yb, dp, nn, wN, wT, pr, wg, sv.toInt32, so, tA, tB, tC, fN, fO, fS, yt, fQ, T, be, en, ins, wh, kd, yv, pa, na, ty, fr, cm, oN, yT, yC, yE, oH, ou, td)) : wY_units_410 post (nI f) sv ln ps ba ct fl yp yb dp nn wN wT pr wg sc so tA tB tC fN fO fS yt fQ T be en ins wh kd yv pa na ty fr cm oN yT yC yE oH ou td := by
  unfold zu_r at h
  by_cases c : f = 1
  · subst c
    refine br_f (by decide) ?_
    by_cases d : sv = sv.toInt32.toInt64
    · rw [if_pos ⟨rfl, d⟩] at h; exact br_t d h
    · rw [if_neg (fun z => d z.2)] at h; exact br_f d h
  · obtain rfl : f = 0 := by omega
    rw [if_neg (fun z => by have := z.1; omega)] at h
    exact br_t rfl h
/-- from the place of the point and of the mark on -/
theorem zu_180 (ht : ∀ i, t i < 32) {p s dc : Nat} (hs : s ≤ 96) (hp : p ≤ s) {E : Int} (hE : -100000 ≤ E ∧ E ≤ 100000) (hdc : dc ≤ 40) {F : Nat} (hF : F ≤ 96) :
    ∃ v f, f ≤ 1 ∧ zu_I t p s (E + dc - F) s v f ∧ ∀ {ln ps ba ct fl yp yb dp nn wN wT pr wg sc : Int32} {so tA tB tC fN fO fS yt fQ T be en ins wh kd yv pa na ty fr cm oN yT yC yE oH ou td : Nat → Int32}, (∀ i, T i = nI (t i)) → ∀ (post : Int32 → SY → Prop) (x4 x5 x6 x7 x8 : Int32), x7.toInt = E → ((x5 = nI s ∧ s < 96) ∨ (x5 = -1 ∧ x6 + 1 = nI s)) → ((x4 = -1 ∧ F = 0) ∨ (∃ w, x4 = nI w ∧ w < s ∧ F = s - w - 1)) →
      ((x8 = 0 → post (zu_r f (lN v)) (ln, ps, ba, ct, fl, yp, yb, dp, nn, wN, wT, pr, wg, (lN v).toInt32, so, tA, tB, tC, fN, fO, fS, yt, fQ, T, be, en, ins, wh, kd, yv, pa, na, ty, fr, cm, oN, yT, yC, yE, oH, ou, td)) ∧ (¬ x8 = 0 → post (zu_r f (-(lN v))) (ln, ps, ba, ct, fl, yp, yb, dp, nn, wN, wT, pr, wg, (-(lN v)).toInt32, so, tA, tB, tC, fN, fO, fS, yt, fQ, T, be, en, ins, wh, kd, yv, pa, na, ty, fr, cm, oN, yT, yC, yE, oH, ou, td))) → wY_units_180 post (nI dc) (nI p) x4 x5 x6 x7 x8 ln ps ba ct fl yp yb dp nn wN wT pr wg sc so tA tB tC fN fO fS yt fQ T be en ins wh kd yv pa na ty fr cm oN yT yC yE oH ou td := by
  have h0 : zu_I t p s (E + dc - F) p 0 1 := by
    refine ⟨Or.inl ⟨rfl, ?_⟩, by omega⟩
    rw [zn_mz_0 t p p (Nat.le_refl _)]; exact zv_Q_0
  obtain ⟨v, f, g1, g2, g3⟩ := zu_228 ht hs (e0 := E + dc - F) (by omega) (s - p) p 0 1 (by omega) (Nat.le_refl _) (by omega) h0
  refine ⟨v, f, g1, g2, ?_⟩
  intro ln ps ba ct fl yp yb dp nn wN wT pr wg sc so tA tB tC fN fO fS yt fQ T be en ins wh kd yv pa na ty fr cm oN yT yC yE oH ou td hT post x4 x5 x6 x7 x8 hx7 h5 h4 hp
  have fin : (x8 = 0 → wY_units_410 post (nI f) (lN v) ln ps ba ct fl yp yb dp nn wN wT pr wg sc so tA tB tC fN fO fS yt fQ T be en ins wh kd yv pa na ty fr cm oN yT yC yE oH ou td) ∧ (¬ x8 = 0 → wY_units_410 post (nI f) (-(lN v)) ln ps ba ct fl yp yb dp nn wN wT pr wg sc so tA tB tC fN fO fS yt fQ T be en ins wh kd yv pa na ty fr cm oN yT yC yE oH ou td) := ⟨fun z => zu_410 g1 (hp.1 z), fun z => zu_410 g1 (hp.2 z)⟩
  have hxd : (x7 + nI dc).toInt = E + dc := zu_add hx7 (nI_toInt (by omega)) (by omega) (by omega)
  have k194 : wY_units_194 post (nI dc) (nI p) x4 x7 x8 (nI s) ln ps ba ct fl yp yb dp nn wN wT pr wg sc so tA tB tC fN fO fS yt fQ T be en ins wh kd yv pa na ty fr cm oN yT yC yE oH ou td := by
    rcases h4 with ⟨rfl, rfl⟩ | ⟨w, rfl, hw, rfl⟩
    · refine br_f (by decide) (nm_e ⟨98, g3 hT post x8 _ 98 ?_ (by omega) fin⟩)
      rw [zu_sub hxd zu_0 (by omega) (by omega)]; omega
    · refine br_t (nI_pos' (by omega)) (nm_e ⟨98, g3 hT post x8 _ 98 ?_ (by omega) fin⟩)
      rw [pk_sub (by omega), za_s (by omega), zu_sub hxd (nI_toInt (by omega)) (by omega) (by omega)]
  rcases h5 with ⟨rfl, _⟩ | ⟨rfl, h6⟩
  · exact br_t (nI_pos' (by omega)) k194
  · refine br_f (by decide) ?_
    rw [h6]; exact k194
theorem zu_units (ht : ∀ i, t i < 32) {p k q Z F P dw dc : Nat} (hk : k ≤ 96) (hsh : zh_Sh t p k q Z F P dw) (hacc : zn_acc q) (hpk : p < k) (hdc : dc ≤ 40) :
    ∃ (e0 : Int) (s v f : Nat), zn_mz t p s = Z ∧ s ≤ 96 ∧ f ≤ 1 ∧ zu_I t p s e0 s v f ∧ F ≤ 96 ∧ (e0 = (if dw = 1 then -(P : Int) else P) + dc - F ∨ (1000 ≤ P ∧ (e0 ≤ -200 ∨ 200 ≤ e0))) ∧
      ∀ {ln ps ba ct fl yp yb dp nn wN wT pr wg sc : Int32} {so tA tB tC fN fO fS yt fQ T be en ins wh kd yv pa na ty fr cm oN yT yC yE oH ou td : Nat → Int32}, (∀ i, T i = nI (t i)) → ∀ (post : Int32 → SY → Prop) kk, kk < 96 → be kk = nI p → en kk = nI (k - 1) → post (zu_r f (zu_sv t p v)) (ln, ps, ba, ct, fl, yp, yb, dp, nn, wN, wT, pr, wg, (zu_sv t p v).toInt32, so, tA, tB, tC, fN, fO, fS, yt, fQ, T, be, en, ins, wh, kd, yv, pa, na, ty, fr, cm, oN, yT, yC, yE, oH, ou, td) → wpY_units post (ln, ps, ba, ct, fl, yp, yb, dp, nn, wN, wT, pr, wg, sc, so, tA, tB, tC, fN, fO, fS, yt, fQ, T, be, en, ins, wh, kd, yv, pa, na, ty, fr, cm, oN, yT, yC, yE, oH, ou, td) (nI kk) (nI dc) := by
  have wrap : ∀ {ln ps ba ct fl yp yb dp nn wN wT pr wg sc : Int32} {so tA tB tC fN fO fS yt fQ T be en ins wh kd yv pa na ty fr cm oN yT yC yE oH ou td : Nat → Int32}, (∀ i, T i = nI (t i)) → ∀ (post : Int32 → SY → Prop) kk, kk < 96 → be kk = nI p → en kk = nI (k - 1) → (∀ x8 : Int32, ((x8 = 0 ∧ t p ≠ 17) ∨ (x8 = 1 ∧ t p = 17)) → (0 ≤ zu_l t 19 p k → ∃ n, wY_units_108 post (nI dc) (nI p) (zu_l t 18 p k) (zu_l t 19 p k) (nI (k - 1)) x8 ln ps ba ct fl yp yb dp nn wN wT pr wg sc so tA tB tC fN fO fS yt fQ T be en ins wh kd yv pa na ty fr cm oN yT yC yE oH ou td n 0 (zu_l t 19 p k + 1)) ∧ (¬ 0 ≤ zu_l t 19 p k → ∃ n, wY_units_108 post (nI dc) (nI p) (zu_l t 18 p k) (zu_l t 19 p k) (nI (k - 1)) x8 ln ps ba ct fl yp yb dp nn wN wT pr wg sc so tA tB tC fN fO fS yt fQ T be en ins wh kd yv pa na ty fr cm oN yT yC yE oH ou td n 0 (nI k))) → wpY_units post (ln, ps, ba, ct, fl, yp, yb, dp, nn, wN, wT, pr, wg, sc, so, tA, tB, tC, fN, fO, fS, yt, fQ, T, be, en, ins, wh, kd, yv, pa, na, ty, fr, cm, oN, yT, yC, yE, oH, ou, td) (nI kk) (nI dc) := by
    intro ln ps ba ct fl yp yb dp nn wN wT pr wg sc so tA tB tC fN fO fS yt fQ T be en ins wh kd yv pa na ty fr cm oN yT yC yE oH ou td hT post kk hkk hb he hc
    have l1 : zu_l t 18 p p = -1 := zu_l_no p (fun j a b => by omega)
    have l2 : zu_l t 19 p p = -1 := zu_l_no p (fun j a b => by omega)
    refine ⟨vp_in_nI hkk (by omega), nm_r (e' := nI p) (by rw [nI_clamp (by omega), hb]) ⟨vp_in_nI hkk (by omega), nm_r (e' := nI (k - 1)) (by rw [nI_clamp (by omega), he]) ⟨vp_in_nI (by omega) (by omega), ?_⟩⟩⟩
    rw [nI_clamp (by omega), hT]
    refine pk_eq (t p) 17 (fun z => ⟨98, ?_⟩) (fun z => ⟨98, ?_⟩) rfl rfl (by have := ht p; omega)
    · have := zu_45 hT ht hk hpk (hc 1 (Or.inr ⟨rfl, z⟩)) (k - p) p 98 (by omega) (Nat.le_refl _) (by omega)
      rw [l1, l2] at this
      exact this
    · have := zu_45 hT ht hk hpk (hc 0 (Or.inl ⟨rfl, z⟩)) (k - p) p 98 (by omega) (Nat.le_refl _) (by omega)
      rw [l1, l2] at this
      exact this
  have sgn : ∀ {ln ps ba ct fl yp yb dp nn wN wT pr wg : Int32} {so tA tB tC fN fO fS yt fQ T be en ins wh kd yv pa na ty fr cm oN yT yC yE oH ou td : Nat → Int32} (post : Int32 → SY → Prop) (v f : Nat) (x8 : Int32), ((x8 = 0 ∧ t p ≠ 17) ∨ (x8 = 1 ∧ t p = 17)) → post (zu_r f (zu_sv t p v)) (ln, ps, ba, ct, fl, yp, yb, dp, nn, wN, wT, pr, wg, (zu_sv t p v).toInt32, so, tA, tB, tC, fN, fO, fS, yt, fQ, T, be, en, ins, wh, kd, yv, pa, na, ty, fr, cm, oN, yT, yC, yE, oH, ou, td) → ((x8 = 0 → post (zu_r f (lN v)) (ln, ps, ba, ct, fl, yp, yb, dp, nn, wN, wT, pr, wg, (lN v).toInt32, so, tA, tB, tC, fN, fO, fS, yt, fQ, T, be, en, ins, wh, kd, yv, pa, na, ty, fr, cm, oN, yT, yC, yE, oH, ou, td)) ∧ (¬ x8 = 0 → post (zu_r f (-(lN v))) (ln, ps, ba, ct, fl, yp, yb, dp, nn, wN, wT, pr, wg, (-(lN v)).toInt32, so, tA, tB, tC, fN, fO, fS, yt, fQ, T, be, en, ins, wh, kd, yv, pa, na, ty, fr, cm, oN, yT, yC, yE, oH, ou, td))) := by
    intro ln ps ba ct fl yp yb dp nn wN wT pr wg so tA tB tC fN fO fS yt fQ T be en ins wh kd yv pa na ty fr cm oN yT yC yE oH ou td post v f x8 h hp
    unfold zu_sv at hp
    rcases h with ⟨rfl, h⟩ | ⟨rfl, h⟩
    · rw [if_neg h] at hp
      exact br_t rfl hp
    · rw [if_pos h] at hp
      exact br_f (by decide) hp
  rcases hsh with ⟨_, h2, rfl, rfl, rfl, rfl⟩ | ⟨h1, ⟨w, a1, a2, a3, a4, a5⟩, rfl, rfl, rfl⟩ | ⟨h1, m, a1, a2, a3, a4, a5, a6, a7, a8, a9, a10⟩
  · have l1 : zu_l t 18 p k = -1 := zu_l_no k (fun j a b => (h2 j a b).1)
    have l2 : zu_l t 19 p k = -1 := zu_l_no k (fun j a b => (h2 j a b).2)
    obtain ⟨v, f, g1, g2, g3⟩ := zu_180 (t := t) ht hk (p := p) (by omega) (E := 0) (by omega) hdc (F := 0) (by omega)
    refine ⟨0 + dc - (0 : Nat), k, v, f, rfl, hk, g1, g2, by omega, Or.inl (by simp), fun hT post kk hkk hb he hp => wrap hT post kk hkk hb he (fun x8 hx8 => ?_)⟩
    rw [l1, l2]
    refine br_f (by decide) ⟨1, br_t (nI_lt (by omega) (by omega)) (br_t (by decide) (g3 hT post (-1) (-1) (nI (k - 1)) 0 x8 zu_0 (Or.inr ⟨rfl, ?_⟩) (Or.inl ⟨rfl, rfl⟩) (sgn post v f x8 hx8 hp)))⟩
    rw [nI_1]; exact congrArg nI (by omega)
  · have l1 : zu_l t 18 p k = nI w := zu_l_at a1 a3 k a2 (fun j a b c => (a4 j a b).2 c)
    have l2 : zu_l t 19 p k = -1 := zu_l_no k (fun j a b => (a4 j a b).1)
    obtain ⟨v, f, g1, g2, g3⟩ := zu_180 (t := t) ht hk (p := p) (by omega) (E := 0) (by omega) hdc (F := F) (by omega)
    refine ⟨0 + dc - (F : Nat), k, v, f, rfl, hk, g1, g2, by omega, Or.inl (by simp), fun hT post kk hkk hb he hp => wrap hT post kk hkk hb he (fun x8 hx8 => ?_)⟩
    rw [l1, l2]
    refine br_f (by decide) ⟨1, br_t (nI_lt (by omega) (by omega)) (br_t (by decide) (g3 hT post (nI w) (-1) (nI (k - 1)) 0 x8 zu_0 (Or.inr ⟨rfl, ?_⟩) (Or.inr ⟨w, rfl, a2, a5⟩) (sgn post v f x8 hx8 hp)))⟩
    rw [nI_1]; exact congrArg nI (by omega)
  · have q8 : q = 8 := by unfold zn_acc at hacc; clear a10; omega
    have hmk : m + 1 < k := a6 (by omega)
    have l2 : zu_l t 19 p k = nI m := zu_l_at a1 a3 k a2 a4
    have px := zn_px t m k
    have hyb : zn_yp t m k ≤ 99999 := by clear a10; omega
    have hyi : (nI (zn_yp t m k)).toInt = ((zn_yp t m k : Nat) : Int) := nI_toInt (Nat.lt_of_le_of_lt hyb (by decide))
    have hyn : (-nI (zn_yp t m k)).toInt = -((zn_yp t m k : Nat) : Int) := zu_neg hyi (by clear a10; omega) (by clear a10; omega)
    have hF : F ≤ 96 := by
      rcases a10 with ⟨b1, _⟩ | ⟨w, b1, b2, b3, b4, b5⟩ <;> omega
    have hm96 : m ≤ 96 := by omega
    generalize hEx : (if t (m + 1) = 17 then -((zn_yp t m k : Nat) : Int) else ((zn_yp t m k : Nat) : Int)) = E
    have hE : -100000 ≤ E ∧ E ≤ 100000 := by split at hEx <;> omega
    obtain ⟨v, f, g1, g2, g3⟩ := zu_180 (t := t) ht hm96 a1 hE hdc hF
    refine ⟨E + dc - (F : Nat), m, v, f, a7.symm, hm96, g1, g2, hF, ?_, ?_⟩
    · rw [a9]
      by_cases c17 : t (m + 1) = 17
      · rw [if_pos c17] at hEx
        rw [if_pos (c := m + 1 < k ∧ t (m + 1) = 17) ⟨hmk, c17⟩, if_pos rfl]
        rcases px with ⟨b1, b2⟩ | ⟨b1, b2, b3, b4⟩
        · exact Or.inl (by omega)
        · exact Or.inr (by omega)
      · rw [if_neg c17] at hEx
        rw [if_neg (c := m + 1 < k ∧ t (m + 1) = 17) (fun z => c17 z.2), if_neg (by decide)]
        rcases px with ⟨b1, b2⟩ | ⟨b1, b2, b3, b4⟩
        · exact Or.inl (by omega)
        · exact Or.inr (by omega)
    · intro ln ps ba ct fl yp yb dp nn wN wT pr wg sc so tA tB tC fN fO fS yt fQ T be en ins wh kd yv pa na ty fr cm oN yT yC yE oH ou td hT post kk hkk hb he hp
      refine wrap hT post kk hkk hb he (fun x8 hx8 => ?_)
      rw [l2]
      refine br_t (nI_pos' (by omega)) ⟨98, ?_⟩
      rw [nI_1]
      have st : ∀ x4, ((x4 = -1 ∧ F = 0) ∨ (∃ w, x4 = nI w ∧ w < m ∧ F = m - w - 1)) → wY_units_108 post (nI dc) (nI p) x4 (nI m) (nI (k - 1)) x8 ln ps ba ct fl yp yb dp nn wN wT pr wg sc so tA tB tC fN fO fS yt fQ T be en ins wh kd yv pa na ty fr cm oN yT yC yE oH ou td 98 0 (nI (m + 1)) := by
        intro x4 hx4
        have := zu_108 (sc := sc) (p := p) (x4 := x4) hT ht hk hmk (g3 hT post x4 (nI m) (nI (k - 1)) (if t (m + 1) = 17 then -nI (zn_yp t m k) else nI (zn_yp t m k)) x8 (by
          rw [← hEx]
          split
          · exact hyn
          · exact hyi) (Or.inl ⟨rfl, by omega⟩) hx4 (sgn post v f x8 hx8 hp)) (k - (m + 1)) (m + 1) 98 (by omega) (by omega) (by omega)
        rw [zn_yp_0 t m (m + 1) (Nat.le_refl _)] at this
        exact this
      rcases a10 with ⟨b1, b2⟩ | ⟨w, b1, b2, b3, b4, b5⟩
      · rw [zu_l_no k b2]
        exact st _ (Or.inl ⟨rfl, b1⟩)
      · rw [zu_l_at b1 b3 k (by omega) b4]
        exact st _ (Or.inr ⟨w, rfl, b2, b5⟩)
end ZU3
end
section
section ZXU
def zx_IV (M j v : Nat) : Prop := (v = M * 10 ^ j ∧ v < 10 ^ 13) ∨ (v = 1125899906842624 ∧ 100000000000 ≤ M * 10 ^ j)
theorem zx_lit : (99999999999 : Int64) = lN 99999999999 := rfl
theorem zx_74 {M e b : Nat} (he : e ≤ 11) (hb : b ≤ 1) : ∀ d j v, j + d = e → zx_IV M j v → ∃ V, zx_IV M e V ∧ ∀ {ln ap st er pl wt wn tg rf dp pt zs te pw sg bg dw es ct bd pr lt : Int32} {dg : Int64} {T so tA tB tC fN fO fQ fS tO oS oT oN oC oE oH cm kd vl pa na ty fr ta ou wk sp : Nat → Int32} (post : Int64 → Prop) n, d < n → post (if b = 1 then -(lN V) else lN V) → wX_units_74 post (nI e) ln ap st er pl wt wn tg rf dp pt zs te pw sg bg dg (nI b) dw es ct bd pr lt T so tA tB tC fN fO fQ fS tO oS oT oN oC oE oH cm kd vl pa na ty fr ta ou wk sp n (lN v) (nI j) := by
  intro d
  induction d with
  | zero =>
    intro j v h1 h2
    obtain rfl : j = e := by omega
    refine ⟨v, h2, fun post n hn hp => ?_⟩
    obtain ⟨n, rfl⟩ : ∃ m, n = m + 1 := ⟨n - 1, by omega⟩
    refine br_t (nI_le (Nat.le_refl _) (by omega)) (pk_eq b 0 (fun z => ?_) (fun z => ?_))
    · rw [if_neg (by omega)] at hp; exact hp
    · rw [if_pos (by omega)] at hp; exact hp
  | succ d ih =>
    intro j v h1 h2
    have hv : v < 2 ^ 62 := by rcases h2 with h | h <;> omega
    by_cases c : v ≤ 99999999999
    · have nx : zx_IV M (j + 1) (10 * v) := by
        rcases h2 with ⟨h, _⟩ | ⟨h, _⟩
        · refine Or.inl ⟨?_, by omega⟩
          rw [h, Nat.pow_succ, ← Nat.mul_assoc, Nat.mul_comm 10 M, Nat.mul_assoc, Nat.mul_comm 10]
        · omega
      obtain ⟨V, g1, g2⟩ := ih (j + 1) (10 * v) (by omega) nx
      refine ⟨V, g1, fun post n hn hp => ?_⟩
      obtain ⟨n, rfl⟩ : ∃ m, n = m + 1 := ⟨n - 1, by omega⟩
      refine br_f (nI_ge (by omega) (by omega)) (br_t ?_ (nm_r (e' := lN (10 * v)) (lN_mul 10 v) (nm_r (nI_1 j) (g2 post n (by omega) hp))))
      rw [zx_lit, pk_lLE (by omega) (by omega)]; exact c
    · have nx : zx_IV M (j + 1) 1125899906842624 := by
        refine Or.inr ⟨rfl, ?_⟩
        rw [Nat.pow_succ, ← Nat.mul_assoc]
        rcases h2 with ⟨h, _⟩ | ⟨_, h⟩ <;> omega
      obtain ⟨V, g1, g2⟩ := ih (j + 1) 1125899906842624 (by omega) nx
      refine ⟨V, g1, fun post n hn hp => ?_⟩
      obtain ⟨n, rfl⟩ : ∃ m, n = m + 1 := ⟨n - 1, by omega⟩
      refine br_f (nI_ge (by omega) (by omega)) (br_f ?_ (nm_r (nI_1 j) (g2 post n (by omega) hp)))
      rw [zx_lit, pk_lLE (by omega) (by omega)]; exact c
theorem zx_units {Z D z s F P w dc b : Nat} (hM : zv_MI Z D z s) (hz : z ≤ 96) (hs : s ≤ 96) (hF : F ≤ 96) (hP : P ≤ 9999) (hw : w ≤ 1) (hdc : dc ≤ 40) (hb : b ≤ 1) :
    ∃ (V : Nat) (W : Int64), V < 2 ^ 51 ∧ ((zv_Q ((if w = 1 then -(P : Int) else P) + dc - F) Z V ∧ W = (if b = 1 then -(lN V) else lN V)) ∨ (zv_no ((if w = 1 then -(P : Int) else P) + dc - F) Z ∧ 10 ^ 11 ≤ V ∧ (W = lN V ∨ W = -(lN V)))) ∧
      ∀ {ln ap st er pl wt wn tg rf dp pt bg es ct bd pr lt : Int32} {T so tA tB tC fN fO fQ fS tO oS oT oN oC oE oH cm kd vl pa na ty fr ta ou wk sp : Nat → Int32} (post : Int64 → Prop), post W → wpX_units post (ln, ap, st, er, pl, wt, wn, tg, rf, dp, pt, nI z, -nI F, nI P, nI s, bg, lN D, nI b, nI w, es, ct, bd, pr, lt, T, so, tA, tB, tC, fN, fO, fQ, fS, tO, oS, oT, oN, oC, oE, oH, cm, kd, vl, pa, na, ty, fr, ta, ou, wk, sp) (nI dc) := by
  have hD := zv_MI_D hM
  have hD2 : D < 10 ^ 12 := by obtain ⟨M, _, h, _⟩ := hM; exact h.2.2.2.2.2
  by_cases d0 : D = 0
  · subst d0
    have hZ := hD.1.mp rfl
    subst hZ
    refine ⟨0, 0, by decide, Or.inl ⟨zv_Q_0, ?_⟩, fun post hp => br_t rfl hp⟩
    split <;> rfl
  · have dpos : 0 < D := by omega
    have nd0 : ¬ lN D = 0 := by
      intro h
      have := (pk_lEQ (a := D) (b := 0) (by omega) (by omega)).mp h
      omega
    generalize hpw : (if w = 1 then -(P : Int) else (P : Int)) = pw'
    have hpwb : -9999 ≤ pw' ∧ pw' ≤ 9999 := by split at hpw <;> omega
    -- the walk to the place where e is known
    have wk30 : ∀ {ln ap st er pl wt wn tg rf dp pt bg es ct bd pr lt : Int32} {T so tA tB tC fN fO fQ fS tO oS oT oN oC oE oH cm kd vl pa na ty fr ta ou wk sp : Nat → Int32} (post : Int64 → Prop), (∀ x2 : Int32, x2.toInt = pw' + dc - F + z → ((11 < nI s → post 1125899906842624) ∧ (¬ 11 < nI s → ((x2 < 0 → post 1125899906842624) ∧ (¬ x2 < 0 → ((x2 ≤ 11 → ∃ n74 : Nat, wX_units_74 post x2 ln ap st er pl wt wn tg rf dp pt (nI z) (-nI F) (nI P) (nI s) bg (lN D) (nI b) (nI w) es ct bd pr lt T so tA tB tC fN fO fQ fS tO oS oT oN oC oE oH cm kd vl pa na ty fr ta ou wk sp n74 (lN D) 0) ∧ (¬ x2 ≤ 11 → post 1125899906842624))))))) → wpX_units post (ln, ap, st, er, pl, wt, wn, tg, rf, dp, pt, nI z, -nI F, nI P, nI s, bg, lN D, nI b, nI w, es, ct, bd, pr, lt, T, so, tA, tB, tC, fN, fO, fQ, fS, tO, oS, oT, oN, oC, oE, oH, cm, kd, vl, pa, na, ty, fr, ta, ou, wk, sp) (nI dc) := by
      intro ln ap st er pl wt wn tg rf dp pt bg es ct bd pr lt T so tA tB tC fN fO fQ fS tO oS oT oN oC oE oH cm kd vl pa na ty fr ta ou wk sp post h
      have tF : (-nI F).toInt = -(F : Int) := zu_neg (nI_toInt (by omega)) (by omega) (by omega)
      have step : ∀ z0 : Int32, z0.toInt = pw' → (((z0 + -nI F) + nI z) + nI dc).toInt = pw' + dc - F + z := by
        intro z0 hz0
        have a1 := zu_add hz0 tF (by omega) (by omega)
        have a2 := zu_add a1 (nI_toInt (n := z) (by omega)) (by omega) (by omega)
        have a3 := zu_add a2 (nI_toInt (n := dc) (by omega)) (by omega) (by omega)
        rw [a3]; omega
      refine br_f nd0 (pk_eq w 0 (fun e => ?_) (fun e => ?_))
      · rw [if_neg (by omega)] at hpw
        exact nm_e (h _ (step _ (by rw [nI_toInt (by omega)]; exact hpw)))
      · rw [if_pos (by omega)] at hpw
        refine nm_e (h _ (step _ ?_))
        rw [zu_neg (nI_toInt (n := P) (by omega)) (by omega) (by omega)]; exact hpw
    generalize hx : pw' + dc - F = x at *
    by_cases s11 : 11 < s
    · refine ⟨1125899906842624, lN 1125899906842624, by decide, Or.inr ⟨?_, by decide, Or.inl rfl⟩, fun post hp => wk30 post (fun x2 hx2 => br_t (nI_lt (a := 11) s11 (by omega)) hp)⟩
      by_cases ne : x + z < 0
      · exact zv_X_neg hM dpos ne
      · obtain ⟨M, hZ, hW, h7, h8⟩ := hM
        intro v hv hq
        have := (zv_X_val (D := 0) (s := 0) (w := v) hZ (by omega)).mp hq
        have m1 := hW.2.1 (by omega)
        have m2 : 10 ^ 11 ≤ 10 ^ (s - 1) := Nat.pow_le_pow_right (by decide) (by omega)
        have m3 : M * 1 ≤ M * 10 ^ (x + z).toNat := Nat.mul_le_mul_left _ (za_p _)
        omega
    · by_cases ne : x + z < 0
      · exact ⟨1125899906842624, lN 1125899906842624, by decide, Or.inr ⟨zv_X_neg hM dpos ne, by decide, Or.inl rfl⟩, fun post hp => wk30 post (fun x2 hx2 => br_f (nI_nlt (a := 11) (by omega) (by omega)) (br_t ((zu_lt hx2 zu_0).mpr ne) hp))⟩
      · obtain ⟨M, hZ, hW, h7, h8⟩ := hM
        by_cases e11 : x + z ≤ 11
        · have hDM : D = M := hW.2.2.2.1 (by omega)
          subst hDM
          obtain ⟨V, g1, g2⟩ := zx_74 (M := D) (e := (x + z).toNat) (b := b) (by omega) hb (x + z).toNat 0 D (by omega) (Or.inl ⟨by simp, by omega⟩)
          refine ⟨V, if b = 1 then -(lN V) else lN V, ?_, ?_, fun post hp => wk30 post (fun x2 hx2 => br_f (nI_nlt (a := 11) (by omega) (by omega)) (br_f (fun y => ne ((zu_lt hx2 zu_0).mp y)) (br_t ((zu_le hx2 zu_11).mpr e11) ⟨13, ?_⟩)))⟩
          · rcases g1 with g | g <;> omega
          · rcases g1 with ⟨g, _⟩ | ⟨g, g'⟩
            · exact Or.inl ⟨(zv_X_val (D := 0) (s := 0) hZ (by omega)).mpr g, rfl⟩
            · refine Or.inr ⟨fun v hv hq => ?_, by omega, ?_⟩
              · have := (zv_X_val (D := 0) (s := 0) (w := v) hZ (by omega)).mp hq
                omega
              · split
                · exact Or.inr rfl
                · exact Or.inl rfl
          · have e2 : x2 = nI (x + z).toNat := by
              apply Int32.toInt_inj.mp
              rw [hx2, nI_toInt (by omega)]; omega
            rw [e2]
            exact g2 post 13 (by omega) hp
        · refine ⟨1125899906842624, lN 1125899906842624, by decide, Or.inr ⟨?_, by decide, Or.inl rfl⟩, fun post hp => wk30 post (fun x2 hx2 => br_f (nI_nlt (a := 11) (by omega) (by omega)) (br_f (fun y => ne ((zu_lt hx2 zu_0).mp y)) (br_f (fun y => e11 ((zu_le hx2 zu_11).mp y)) hp)))⟩
          intro v hv hq
          have := (zv_X_val (D := 0) (s := 0) (w := v) hZ (by omega)).mp hq
          have m1 : 10 ^ 11 ≤ 10 ^ (x + z).toNat := Nat.pow_le_pow_right (by decide) (by omega)
          have m0 : 0 < M := by
            have := hW.2.1 ((zv_MI_D ⟨M, hZ, hW, h7, h8⟩).2.2 dpos)
            have := za_p (s - 1)
            omega
          have m3 : 1 * 10 ^ (x + z).toNat ≤ M * 10 ^ (x + z).toNat := Nat.mul_le_mul_right _ m0
          omega
/-! the two answers -/
theorem zx_i32 (x : Int64) : x = x.toInt32.toInt64 ↔ (-2147483648 ≤ x.toInt ∧ x.toInt < 2147483648) := by
  have e : x.toInt32.toInt64.toInt = x.toInt.bmod (2 ^ 32) := by rw [Int32.toInt_toInt64, Int64.toInt_toInt32]
  constructor
  · intro h
    have h2 := congrArg Int64.toInt h
    rw [e] at h2
    have b1 := Int.le_bmod (x := x.toInt) (m := 2 ^ 32) (by decide)
    have b2 := Int.bmod_lt (x := x.toInt) (m := 2 ^ 32) (by decide)
    omega
  · intro h
    apply Int64.toInt_inj.mp
    rw [e, Int.bmod_eq_of_le (by omega) (by omega)]
theorem zx_neg {V : Nat} (h : V < 2 ^ 62) : (-(lN V)).toInt = -(V : Int) := by
  rw [Int64.toInt_neg, pk_lT (by omega)]
  exact Int.bmod_eq_of_le (by omega) (by omega)
/-- X's answer W against Y's f and v -/
theorem zx_agree {t : Nat → Nat} {p Z V v f P F : Nat} {e0 e1 : Int} {W : Int64} (hv : v < 2 ^ 62) (hV : V < 2 ^ 51) (hZ : Z < 10 ^ 97) (hP : 1000 ≤ P → (e1 ≤ -200 ∨ 200 ≤ e1)) (he : e0 = e1 ∨ (1000 ≤ P ∧ (e0 ≤ -200 ∨ 200 ≤ e0)))
    (hX : (zv_Q e1 Z V ∧ W = (if t p = 17 then -(lN V) else lN V)) ∨ (zv_no e1 Z ∧ 10 ^ 11 ≤ V ∧ (W = lN V ∨ W = -(lN V))))
    (hY : (f = 1 ∧ zv_Q e0 Z v) ∨ (f = 0 ∧ zv_no e0 Z)) :
    (zu_r f (zu_sv t p v) = 1 ∧ W = (zu_sv t p v).toInt32.toInt64) ∨ (zu_r f (zu_sv t p v) = 0 ∧ (W.toInt < -2147483648 ∨ 2147483648 ≤ W.toInt)) := by
  have far : zv_no e1 Z → (W.toInt < -2147483648 ∨ 2147483648 ≤ W.toInt) := by
    intro hn
    have big : 10 ^ 11 ≤ V ∧ (W = lN V ∨ W = -(lN V)) := by
      rcases hX with ⟨h1, h2⟩ | ⟨h1, h2, h3⟩
      · refine ⟨Nat.le_of_not_lt fun z => hn V z h1, ?_⟩
        rw [h2]; split
        · exact Or.inr rfl
        · exact Or.inl rfl
      · exact ⟨h2, h3⟩
    rcases big with ⟨b1, rfl | rfl⟩
    · rw [pk_lT (by omega)]; omega
    · rw [zx_neg (by omega)]; omega
  have noY : zv_no e0 Z → zu_r f (zu_sv t p v) = 0 := by
    intro hn
    unfold zu_r
    refine if_neg (fun hz => ?_)
    have hq : zv_Q e0 Z v := by
      rcases hY with ⟨_, h⟩ | ⟨h, _⟩
      · exact h
      · have := hz.1; omega
    have hb : ¬ v < 10 ^ 11 := fun z => hn v z hq
    have h2 := (zx_i32 _).mp hz.2
    unfold zu_sv at h2
    split at h2
    · rw [zx_neg hv] at h2; omega
    · rw [pk_lT (by omega)] at h2; omega
  by_cases some : ∃ w0, w0 < 10 ^ 11 ∧ zv_Q e0 Z w0 ∧ zv_Q e1 Z w0
  · obtain ⟨w0, hw, q0, q1⟩ := some
    have hf : f = 1 ∧ v = w0 := by
      rcases hY with ⟨h1, h2⟩ | ⟨_, h2⟩
      · exact ⟨h1, zv_Q_inj h2 q0⟩
      · exact absurd q0 (h2 w0 hw)
    obtain ⟨rfl, rfl⟩ := hf
    have hW : W = zu_sv t p v := by
      rcases hX with ⟨h1, h2⟩ | ⟨h1, _⟩
      · rw [h2, zv_Q_inj h1 q1]; rfl
      · exact absurd q1 (h1 v hw)
    by_cases c : zu_sv t p v = (zu_sv t p v).toInt32.toInt64
    · refine Or.inl ⟨if_pos ⟨rfl, c⟩, ?_⟩
      rw [← c]; exact hW
    · refine Or.inr ⟨if_neg (fun z => c z.2), ?_⟩
      rw [hW]
      have h9 : ¬ (-2147483648 ≤ (zu_sv t p v).toInt ∧ (zu_sv t p v).toInt < 2147483648) := fun z => c ((zx_i32 _).mpr z)
      omega
  · have hno : zv_no e0 Z ∧ zv_no e1 Z := by
      rcases he with rfl | ⟨h1, h2⟩
      · have : zv_no e0 Z := fun w hw hq => some ⟨w, hw, hq, hq⟩
        exact ⟨this, this⟩
      · have z0 : Z ≠ 0 := by
          rintro rfl
          exact some ⟨0, by decide, zv_Q_0, zv_Q_0⟩
        exact ⟨zv_far z0 hZ h2, zv_far z0 hZ (hP h1)⟩
    exact Or.inr ⟨noY hno.1, far hno.2⟩
end ZXU
end
section
/-! X reads a number, character by character -/
section ZXN
theorem zx_more {ln ap st er pl wt wn tg rf dp pt zs te pw bg bl dw es ct bd pr lt : Int32} {T so tA tB tC fN fO fQ fS tO oS oT oN oC oE oH cm kd vl pa na ty fr ta ou wk sp : Nat → Int32} {post : SX → Prop} {D s c : Nat} (hs : s < 1000) (hc : c < 10) (h : post (ln, ap, st, er, pl, wt, wn, tg, rf, dp, pt, zs, te, pw, nI (s + 1), bg, lN (if s < 12 then 10 * D + c else D), bl, dw, es, ct, bd, pr, lt, T, so, tA, tB, tC, fN, fO, fQ, fS, tO, oS, oT, oN, oC, oE, oH, cm, kd, vl, pa, na, ty, fr, ta, ou, wk, sp)) : wpX_more post (ln, ap, st, er, pl, wt, wn, tg, rf, dp, pt, zs, te, pw, nI s, bg, lN D, bl, dw, es, ct, bd, pr, lt, T, so, tA, tB, tC, fN, fO, fQ, fS, tO, oS, oT, oN, oC, oE, oH, cm, kd, vl, pa, na, ty, fr, ta, ou, wk, sp) (nI c) := by
  refine pk_le 12 s (fun z => nm_r (nI_1 s) ?_) (fun z => nm_r (e' := lN (10 * D + c)) ?_ (nm_r (nI_1 s) ?_))
  · rw [if_neg (by omega)] at h; exact h
  · rw [nI_l (by omega), show (10 : Int64) = lN 10 from rfl, lN_mul, lN_add]
  · rw [if_pos z] at h; exact h
theorem zx_42 {c : Nat} (hc : 0 < c) (hc2 : c < 10) : ∀ z M D s, zv_W M D s → (0 < M ∨ z = 0) → s + z < 500 → ∃ D' s', zv_W (10 * (M * 10 ^ z) + c) D' s' ∧ s' = s + z + 1 ∧
    ∀ {ln ap st er pl wt wn tg rf dp pt te pw bg bl dw es ct bd pr lt : Int32} {T so tA tB tC fN fO fQ fS tO oS oT oN oC oE oH cm kd vl pa na ty fr ta ou wk sp : Nat → Int32} (post : SX → Prop) n, z < n → post (ln, ap, st, er, pl, wt, wn, tg, rf, dp, pt, nI 0, te, pw, nI s', bg, lN D', bl, dw, es, ct, bd, pr, lt, T, so, tA, tB, tC, fN, fO, fQ, fS, tO, oS, oT, oN, oC, oE, oH, cm, kd, vl, pa, na, ty, fr, ta, ou, wk, sp) → wX_figure_42 post (nI c) n ln ap st er pl wt wn tg rf dp pt (nI z) te pw (nI s) bg (lN D) bl dw es ct bd pr lt T so tA tB tC fN fO fQ fS tO oS oT oN oC oE oH cm kd vl pa na ty fr ta ou wk sp := by
  intro z
  induction z with
  | zero =>
    intro M D s hW hM hs
    refine ⟨if s < 12 then 10 * D + c else D, s + 1, ?_, rfl, fun post n hn hp => ?_⟩
    · rw [Nat.pow_zero, Nat.mul_one]
      exact zv_W_more hW hc2 (Or.inr hc)
    · obtain ⟨n, rfl⟩ : ∃ m, n = m + 1 := ⟨n - 1, by omega⟩
      exact br_t (by decide) (zx_more (by omega) hc2 hp)
  | succ z ih =>
    intro M D s hW hM hs
    have hM0 : 0 < M := by omega
    obtain ⟨D', s', g1, g2, g3⟩ := ih (10 * M + 0) _ (s + 1) (zv_W_more (c := 0) hW (by decide) (Or.inl hM0)) (Or.inl (by omega)) (by omega)
    refine ⟨D', s', ?_, by omega, fun post n hn hp => ?_⟩
    · have e : M * 10 ^ (z + 1) = (10 * M + 0) * 10 ^ z := by rw [Nat.pow_succ, Nat.add_zero, Nat.mul_comm 10 M, Nat.mul_assoc, Nat.mul_comm 10]
      rw [e]; exact g1
    · obtain ⟨n, rfl⟩ : ∃ m, n = m + 1 := ⟨n - 1, by omega⟩
      refine br_f (nI_nle (by omega) (by omega)) (zx_more (c := 0) (by omega) (by decide) (nm_r (nI_pred z) (g3 post n (by omega) hp)))
theorem zx_figure {Z D z s c : Nat} (hM : zv_MI Z D z s) (hb : z + s < 400) (hc : c < 10) : ∃ D' z' s', zv_MI (10 * Z + c) D' z' s' ∧ z' + s' ≤ z + s + 1 ∧
    ∀ {ln ap st er pl wt wn tg rf dp pt te pw bg bl dw es ct bd pr lt : Int32} {T so tA tB tC fN fO fQ fS tO oS oT oN oC oE oH cm kd vl pa na ty fr ta ou wk sp : Nat → Int32} (post : SX → Prop), post (ln, ap, st, er, pl, wt, wn, tg, rf, dp, pt, nI z', if pt = 5 then te - 1 else te, pw, nI s', bg, lN D', bl, dw, es, ct, bd, pr, lt, T, so, tA, tB, tC, fN, fO, fQ, fS, tO, oS, oT, oN, oC, oE, oH, cm, kd, vl, pa, na, ty, fr, ta, ou, wk, sp) → wpX_figure post (ln, ap, st, er, pl, wt, wn, tg, rf, dp, pt, nI z, te, pw, nI s, bg, lN D, bl, dw, es, ct, bd, pr, lt, T, so, tA, tB, tC, fN, fO, fQ, fS, tO, oS, oT, oN, oC, oE, oH, cm, kd, vl, pa, na, ty, fr, ta, ou, wk, sp) (nI c) := by
  have pre : ∀ D' z' s', (∀ {ln ap st er pl wt wn tg rf dp pt te pw bg bl dw es ct bd pr lt : Int32} {T so tA tB tC fN fO fQ fS tO oS oT oN oC oE oH cm kd vl pa na ty fr ta ou wk sp : Nat → Int32} (post : SX → Prop), post (ln, ap, st, er, pl, wt, wn, tg, rf, dp, pt, nI z', te, pw, nI s', bg, lN D', bl, dw, es, ct, bd, pr, lt, T, so, tA, tB, tC, fN, fO, fQ, fS, tO, oS, oT, oN, oC, oE, oH, cm, kd, vl, pa, na, ty, fr, ta, ou, wk, sp) → wX_figure_18 post (nI c) ln ap st er pl wt wn tg rf dp pt (nI z) te pw (nI s) bg (lN D) bl dw es ct bd pr lt T so tA tB tC fN fO fQ fS tO oS oT oN oC oE oH cm kd vl pa na ty fr ta ou wk sp) →
      ∀ {ln ap st er pl wt wn tg rf dp pt te pw bg bl dw es ct bd pr lt : Int32} {T so tA tB tC fN fO fQ fS tO oS oT oN oC oE oH cm kd vl pa na ty fr ta ou wk sp : Nat → Int32} (post : SX → Prop), post (ln, ap, st, er, pl, wt, wn, tg, rf, dp, pt, nI z', if pt = 5 then te - 1 else te, pw, nI s', bg, lN D', bl, dw, es, ct, bd, pr, lt, T, so, tA, tB, tC, fN, fO, fQ, fS, tO, oS, oT, oN, oC, oE, oH, cm, kd, vl, pa, na, ty, fr, ta, ou, wk, sp) → wpX_figure post (ln, ap, st, er, pl, wt, wn, tg, rf, dp, pt, nI z, te, pw, nI s, bg, lN D, bl, dw, es, ct, bd, pr, lt, T, so, tA, tB, tC, fN, fO, fQ, fS, tO, oS, oT, oN, oC, oE, oH, cm, kd, vl, pa, na, ty, fr, ta, ou, wk, sp) (nI c) := by
    intro D' z' s' h ln ap st er pl wt wn tg rf dp pt te pw bg bl dw es ct bd pr lt T so tA tB tC fN fO fQ fS tO oS oT oN oC oE oH cm kd vl pa na ty fr ta ou wk sp post hp
    by_cases e : pt = 5
    · rw [if_pos e] at hp
      exact br_t e (nm_e (h post hp))
    · rw [if_neg e] at hp
      exact br_f e (h post hp)
  have hD2 : D < 10 ^ 12 := by obtain ⟨M, _, h, _⟩ := hM; exact h.2.2.2.2.2
  by_cases c0 : c = 0
  · subst c0
    by_cases d0 : D = 0
    · refine ⟨D, z, s, zv_MI_z0 hM d0, by omega, pre D z s (fun post hp => br_t rfl (br_t ?_ hp))⟩
      subst d0; decide
    · refine ⟨D, z + 1, s, zv_MI_z hM (by omega), by omega, pre D (z + 1) s (fun post hp => br_t rfl (br_f ?_ (nm_r (nI_1 z) hp)))⟩
      rw [show (0 : Int64) = lN 0 from rfl, pk_lLE (by omega) (by omega)]; omega
  · have hM' := hM
    obtain ⟨M, hZ, hW, h7, h8⟩ := hM
    have hz : 0 < M ∨ z = 0 := by
      by_cases e : s = 0
      · exact Or.inr (h7 e)
      · have := hW.2.1 (by omega)
        have := za_p (s - 1)
        exact Or.inl (by omega)
    obtain ⟨D', s', g1, g2, g3⟩ := zx_42 (c := c) (by omega) hc z M D s hW hz (by omega)
    rw [← hZ] at g1
    refine ⟨D', 0, s', zv_W_flush g1 (by omega) hc (by omega), by omega, pre D' 0 s' (fun post hp => br_f (za_ne (b := 0) c0 (by omega) (by decide)) ⟨z + 1, g3 post (z + 1) (by omega) hp⟩)⟩
def zx_N (t : Nat → Nat) (p i q D z s F P w : Nat) : Prop := ∃ Z, zh_Sh t p i q Z F P w ∧ zv_MI Z D z s ∧ z + s ≤ i - p ∧ F ≤ i - p ∧ P ≤ 9999 ∧ w ≤ 1 ∧ 1 ≤ q ∧ q ≤ 8
theorem zx_neg1 (F : Nat) : -nI F - 1 = -nI (F + 1) := by rw [← nI_1]; grind
section G
variable {ln ap st er pl wt wn tg rf dp pt zs te pw sg bg bl dw es ct bd pr lt : Int32} {dg : Int64} {T so tA tB tC fN fO fQ fS tO oS oT oN oC oE oH cm kd vl pa na ty fr ta ou wk sp : Nat → Int32} {post : Int32 → SX → Prop} {c : Int32} {i : Nat}
theorem zx_295 (h : post 1 (ln, nI (i + 1), st, er, pl, wt, wn, tg, rf, dp, pt, zs, te, pw, sg, bg, dg, bl, dw, es, ct, bd, pr, lt, T, so, tA, tB, tC, fN, fO, fQ, fS, tO, oS, oT, oN, oC, oE, oH, cm, kd, vl, pa, na, ty, fr, ta, ou, wk, sp)) : wX_digit_295 post ln (nI i) st er pl wt wn tg rf dp pt zs te pw sg bg dg bl dw es ct bd pr lt T so tA tB tC fN fO fQ fS tO oS oT oN oC oE oH cm kd vl pa na ty fr ta ou wk sp := nm_r (nI_1 i) h
/-- a sign, a point, a mark -/
theorem zx_216n {q' : Nat} (h6 : ¬ pt = 6) (h8 : q' ≠ 8) (hq : q' < 100) (h : post 1 (ln, nI (i + 1), st, er, pl, wt, wn, tg, rf, dp, nI q', zs, te, pw, sg, bg, dg, bl, dw, es, ct, bd, pr, lt, T, so, tA, tB, tC, fN, fO, fQ, fS, tO, oS, oT, oN, oC, oE, oH, cm, kd, vl, pa, na, ty, fr, ta, ou, wk, sp)) : wX_digit_216 post c (nI q') 0 ln (nI i) st er pl wt wn tg rf dp pt zs te pw sg bg dg bl dw es ct bd pr lt T so tA tB tC fN fO fQ fS tO oS oT oN oC oE oH cm kd vl pa na ty fr ta ou wk sp :=
  br_t (nI_pos' (by omega)) (br_f h6 (br_f (za_ne (b := 8) h8 (by omega) (by decide)) (br_t rfl (zx_295 h))))
theorem zx_216s (h : post 1 (ln, nI (i + 1), st, er, pl, wt, wn, tg, rf, dp, nI 7, zs, te, pw, sg, bg, dg, bl, if c = 17 then 1 else dw, es, ct, bd, pr, lt, T, so, tA, tB, tC, fN, fO, fQ, fS, tO, oS, oT, oN, oC, oE, oH, cm, kd, vl, pa, na, ty, fr, ta, ou, wk, sp)) : wX_digit_216 post c (nI 7) 0 ln (nI i) st er pl wt wn tg rf dp (nI 6) zs te pw sg bg dg bl dw es ct bd pr lt T so tA tB tC fN fO fQ fS tO oS oT oN oC oE oH cm kd vl pa na ty fr ta ou wk sp := by
  refine br_t (nI_pos' (by omega)) (br_t rfl ?_)
  by_cases e : c = 17
  · rw [if_pos e] at h
    exact br_t e (br_f (by decide) (br_t rfl (zx_295 h)))
  · rw [if_neg e] at h
    exact br_f e (br_f (by decide) (br_t rfl (zx_295 h)))
end G
end ZXN
end
section
section ZXD
theorem zx_216e {ln st er pl wt wn tg rf dp zs te sg bg bl dw es ct bd pr lt : Int32} {dg : Int64} {T so tA tB tC fN fO fQ fS tO oS oT oN oC oE oH cm kd vl pa na ty fr ta ou wk sp : Nat → Int32} {post : Int32 → SX → Prop} {c i P q : Nat} {fg : Int32} (hc : c < 10) (hP : P ≤ 9999) (hq : ¬ (nI q = 6 ∧ nI c = (17 : Int32)))
    (h : post 1 (ln, nI (i + 1), st, er, pl, wt, wn, tg, rf, dp, nI 8, zs, te, nI (if P ≤ 999 then 10 * P + c else P), sg, bg, dg, bl, dw, es, ct, bd, pr, lt, T, so, tA, tB, tC, fN, fO, fQ, fS, tO, oS, oT, oN, oC, oE, oH, cm, kd, vl, pa, na, ty, fr, ta, ou, wk, sp)) : wX_digit_216 post (nI c) (nI 8) fg ln (nI i) st er pl wt wn tg rf dp (nI q) zs te (nI P) sg bg dg bl dw es ct bd pr lt T so tA tB tC fN fO fQ fS tO oS oT oN oC oE oH cm kd vl pa na ty fr ta ou wk sp := by
  have k242 : wX_digit_242 post (nI c) (nI 8) fg ln (nI i) st er pl wt wn tg rf dp (nI q) zs te (nI P) sg bg dg bl dw es ct bd pr lt T so tA tB tC fN fO fQ fS tO oS oT oN oC oE oH cm kd vl pa na ty fr ta ou wk sp := by
    refine br_t rfl (pk_le P 999 (fun z => ?_) (fun z => ?_))
    · rw [if_pos z] at h
      rw [show (10 : Int32) = nI 10 from rfl, pk_mul, nI_add]
      exact zx_295 h
    · rw [if_neg (by omega)] at h
      exact zx_295 h
  refine br_t (by decide) ?_
  by_cases e6 : nI q = 6
  · exact br_t e6 (br_f (fun z => hq ⟨e6, z⟩) k242)
  · exact br_f e6 k242
theorem zx_216f {Z D z s c : Nat} (hM : zv_MI Z D z s) (hb : z + s < 400) (hc : c < 10) : ∃ D' z' s', zv_MI (10 * Z + c) D' z' s' ∧ z' + s' ≤ z + s + 1 ∧
    ∀ {ln st er pl wt wn tg rf dp pw bg bl dw es ct bd pr lt : Int32} {T so tA tB tC fN fO fQ fS tO oS oT oN oC oE oH cm kd vl pa na ty fr ta ou wk sp : Nat → Int32} (post : Int32 → SX → Prop) (q q' F F' i : Nat), q ≠ 6 → q < 100 → q' ≠ 8 → q' < 100 → (q' = 5 → F' = F + 1) → (q' ≠ 5 → F' = F) → post 1 (ln, nI (i + 1), st, er, pl, wt, wn, tg, rf, dp, nI q', nI z', -nI F', pw, nI s', bg, lN D', bl, dw, es, ct, bd, pr, lt, T, so, tA, tB, tC, fN, fO, fQ, fS, tO, oS, oT, oN, oC, oE, oH, cm, kd, vl, pa, na, ty, fr, ta, ou, wk, sp) → wX_digit_216 post (nI c) (nI q') 1 ln (nI i) st er pl wt wn tg rf dp (nI q) (nI z) (-nI F) pw (nI s) bg (lN D) bl dw es ct bd pr lt T so tA tB tC fN fO fQ fS tO oS oT oN oC oE oH cm kd vl pa na ty fr ta ou wk sp := by
  obtain ⟨D', z', s', g1, g2, g3⟩ := zx_figure hM hb hc
  refine ⟨D', z', s', g1, g2, fun post q q' F F' i h6 hq h8 hq' h5 h5' hp => ?_⟩
  refine br_t (nI_pos' (by omega)) (br_f (za_ne (b := 6) h6 (by omega) (by decide)) (br_f (za_ne (b := 8) h8 (by omega) (by decide)) (br_f (by decide) (g3 _ (zx_295 ?_)))))
  by_cases e : q' = 5
  · subst e
    rw [h5 rfl] at hp
    rw [if_pos (by decide), zx_neg1]; exact hp
  · rw [h5' e] at hp
    rw [if_neg (c := nI q' = 5) (za_ne (b := 5) e (by omega) (by decide))]; exact hp
theorem zx_digit {t : Nat → Nat} {p i q D z s F P w : Nat} (h : zx_N t p i q D z s F P w) (hp : p < i) (hi : i < 96) (h32 : t i < 32) (h0 : zn_nx q (t i) ≠ 0) :
    ∃ D' z' s' F' P' w', zx_N t p (i + 1) (zn_nx q (t i)) D' z' s' F' P' w' ∧ ∀ {ln st er pl wt wn tg rf dp bg bl es ct bd pr lt : Int32} {T so tA tB tC fN fO fQ fS tO oS oT oN oC oE oH cm kd vl pa na ty fr ta ou wk sp : Nat → Int32} (post : Int32 → SX → Prop), post 1 (ln, nI (i + 1), st, er, pl, wt, wn, tg, rf, dp, nI (zn_nx q (t i)), nI z', -nI F', nI P', nI s', bg, lN D', bl, nI w', es, ct, bd, pr, lt, T, so, tA, tB, tC, fN, fO, fQ, fS, tO, oS, oT, oN, oC, oE, oH, cm, kd, vl, pa, na, ty, fr, ta, ou, wk, sp) → wpX_digit post (ln, nI i, st, er, pl, wt, wn, tg, rf, dp, nI q, nI z, -nI F, nI P, nI s, bg, lN D, bl, nI w, es, ct, bd, pr, lt, T, so, tA, tB, tC, fN, fO, fQ, fS, tO, oS, oT, oN, oC, oE, oH, cm, kd, vl, pa, na, ty, fr, ta, ou, wk, sp) (nI (t i)) := by
  obtain ⟨Z, hS, hM, hzs, hF, hP, hw, hq1, hq8⟩ := h
  rcases zn_cases hq1 hq8 h0 with ⟨hc, hq, hn⟩ | ⟨hc, hq, hn⟩ | ⟨hc, hq, hn⟩ | ⟨hc, hq, hn⟩ | ⟨hc, hq, hn⟩ | ⟨hc, hq, hn⟩
  · -- a digit ahead of the point
    obtain ⟨D', z', s', g1, g2, g3⟩ := zx_216f hM (by omega) hc
    have hq3 : zn_nx q (t i) ≤ 3 ∧ 1 ≤ zn_nx q (t i) := by omega
    refine ⟨D', z', s', F, P, w, ⟨10 * Z + t i, zh_int hS (by omega) hq hc hq3.1, g1, by omega, by omega, hP, hw, hq3.2, by omega⟩, fun post hp => ?_⟩
    generalize hqq : zn_nx q (t i) = q' at hn hp hq3 h0
    have K := g3 post q q' F F i (by omega) (by omega) (by omega) (by omega) (by omega) (fun _ => rfl) hp
    refine br_f (nI_ge (b := 10) hc (by omega)) ?_
    rcases hq with rfl | rfl
    · refine br_f (by decide) (br_f (by decide) (br_t rfl (br_f (by decide) (pk_eq (t i) 0 (fun z => ?_) (fun z => ?_)))))
      · obtain rfl : q' = 2 := by omega
        exact K
      · obtain rfl : q' = 3 := by omega
        exact K
    · obtain rfl : q' = 3 := by omega
      exact br_f (by decide) (br_f (by decide) (br_f (by decide) (br_f (by decide) (br_t rfl (br_f (by decide) K)))))
  · refine ⟨D, z, s, F, P, w, ⟨Z, ?_, hM, by omega, by omega, hP, hw, by omega, by omega⟩, fun post hp => ?_⟩
    · rw [hn]; exact zh_pt hS (by omega) hq hc
    · rw [hn] at hp
      rw [hc]
      refine br_t (by decide) ?_
      rcases hq with rfl | rfl
      · exact br_f (by decide) (br_f (by decide) (br_f (by decide) (br_t rfl (br_t rfl (zx_216n (q' := 4) (by decide) (by decide) (by decide) hp)))))
      · exact br_f (by decide) (br_f (by decide) (br_f (by decide) (br_f (by decide) (br_t rfl (br_t rfl (br_t rfl (zx_216n (q' := 4) (by decide) (by decide) (by decide) hp)))))))
  · refine ⟨D, z, s, F, P, w, ⟨Z, ?_, hM, by omega, by omega, hP, hw, by omega, by omega⟩, fun post hp => ?_⟩
    · rw [hn]; exact zh_mark hS (by omega) hq hc
    · rw [hn] at hp
      rw [hc]
      refine br_t (by decide) ?_
      rcases hq with rfl | rfl | rfl
      · exact br_f (by decide) (br_f (by decide) (br_f (by decide) (br_t rfl (br_f (by decide) (br_t rfl (zx_216n (q' := 6) (by decide) (by decide) (by decide) hp))))))
      · exact br_f (by decide) (br_f (by decide) (br_f (by decide) (br_f (by decide) (br_t rfl (br_t rfl (br_f (by decide) (br_t rfl (zx_216n (q' := 6) (by decide) (by decide) (by decide) hp))))))))
      · exact br_f (by decide) (br_f (by decide) (br_f (by decide) (br_f (by decide) (br_f (by decide) (br_f (by decide) (br_t rfl (br_t rfl (br_t rfl (zx_216n (q' := 6) (by decide) (by decide) (by decide) hp)))))))))
  · obtain ⟨D', z', s', g1, g2, g3⟩ := zx_216f hM (by omega) hc
    refine ⟨D', z', s', F + 1, P, w, ⟨10 * Z + t i, ?_, g1, by omega, by omega, hP, hw, by omega, by omega⟩, fun post hp => ?_⟩
    · rw [hn]; exact zh_frac hS (by omega) hq hc
    · rw [hn] at hp
      have K := g3 post q 5 F (F + 1) i (by omega) (by omega) (by omega) (by omega) (fun _ => rfl) (by omega) hp
      refine br_f (nI_ge (b := 10) hc (by omega)) ?_
      rcases hq with rfl | rfl
      · exact br_f (by decide) (br_f (by decide) (br_f (by decide) (br_f (by decide) (br_f (by decide) (br_t rfl (br_f (by decide) K))))))
      · exact br_f (by decide) (br_f (by decide) (br_f (by decide) (br_f (by decide) (br_f (by decide) (br_f (by decide) (br_t rfl (br_f (by decide) K)))))))
  · obtain rfl := hq
    refine ⟨D, z, s, F, P, if t i = 17 then 1 else w, ⟨Z, ?_, hM, by omega, by omega, hP, by split <;> omega, by omega, by omega⟩, fun post hp => ?_⟩
    · rw [hn]; exact zh_sign hS hc
    · rw [hn] at hp
      rcases hc with hc | hc
      · rw [hc] at hp ⊢
        rw [if_pos rfl] at hp
        exact br_t (by decide) (br_f (by decide) (br_f (by decide) (br_f (by decide) (br_f (by decide) (br_f (by decide) (br_f (by decide) (br_f (by decide) (br_t rfl (br_t rfl (br_t rfl (zx_216s hp)))))))))))
      · rw [hc] at hp ⊢
        rw [if_neg (by decide)] at hp
        exact br_t (by decide) (br_f (by decide) (br_f (by decide) (br_f (by decide) (br_f (by decide) (br_f (by decide) (br_f (by decide) (br_f (by decide) (br_t rfl (br_t rfl (br_f (by decide) (br_t rfl (zx_216s hp))))))))))))
  · refine ⟨D, z, s, F, if P ≤ 999 then 10 * P + t i else P, w, ⟨Z, ?_, hM, by omega, by omega, by split <;> omega, hw, by omega, by omega⟩, fun post hp => ?_⟩
    · rw [hn]; exact zh_exp hS hq hc
    · rw [hn] at hp
      have K := zx_216e (fg := 1) (q := q) hc hP (fun z => za_ne (a := t i) (b := 17) (by omega) (by omega) (by decide) z.2) hp
      refine br_f (nI_ge (b := 10) hc (by omega)) ?_
      rcases hq with rfl | rfl | rfl
      · exact br_f (by decide) (br_f (by decide) (br_f (by decide) (br_f (by decide) (br_f (by decide) (br_f (by decide) (br_f (by decide) (br_t rfl (br_f (by decide) K))))))))
      · exact br_f (by decide) (br_t (by decide) (br_f (by decide) K))
      · exact br_f (by decide) (br_t (by decide) (br_f (by decide) K))
/-- a character that ends the number -/
theorem zx_digit0 {q c : Nat} (hq1 : 1 ≤ q) (hq8 : q ≤ 8) (h32 : c < 32) (h0 : zn_nx q c = 0) : ∀ {ln ap st er pl wt wn tg rf dp zs te pw sg bg bl dw es ct bd pr lt : Int32} {dg : Int64} {T so tA tB tC fN fO fQ fS tO oS oT oN oC oE oH cm kd vl pa na ty fr ta ou wk sp : Nat → Int32} (post : Int32 → SX → Prop), post 0 (ln, ap, st, er, pl, wt, wn, tg, rf, dp, nI q, zs, te, pw, sg, bg, dg, bl, dw, es, ct, bd, pr, lt, T, so, tA, tB, tC, fN, fO, fQ, fS, tO, oS, oT, oN, oC, oE, oH, cm, kd, vl, pa, na, ty, fr, ta, ou, wk, sp) → wpX_digit post (ln, ap, st, er, pl, wt, wn, tg, rf, dp, nI q, zs, te, pw, sg, bg, dg, bl, dw, es, ct, bd, pr, lt, T, so, tA, tB, tC, fN, fO, fQ, fS, tO, oS, oT, oN, oC, oE, oH, cm, kd, vl, pa, na, ty, fr, ta, ou, wk, sp) (nI c) := by
  intro ln ap st er pl wt wn tg rf dp zs te pw sg bg bl dw es ct bd pr lt dg T so tA tB tC fN fO fQ fS tO oS oT oN oC oE oH cm kd vl pa na ty fr ta ou wk sp post hp
  have K : ∀ fg, wX_digit_216 post (nI c) (-1) fg ln ap st er pl wt wn tg rf dp (nI q) zs te pw sg bg dg bl dw es ct bd pr lt T so tA tB tC fN fO fQ fS tO oS oT oN oC oE oH cm kd vl pa na ty fr ta ou wk sp := fun fg => br_f (by decide) hp
  have hq : q = 1 ∨ q = 2 ∨ q = 3 ∨ q = 4 ∨ q = 5 ∨ q = 6 ∨ q = 7 ∨ q = 8 := by omega
  unfold zn_nx at h0
  refine pk_le 10 c (fun z => ?_) (fun z => ?_)
  · rcases hq with rfl | rfl | rfl | rfl | rfl | rfl | rfl | rfl
    · exact br_f (by decide) (br_f (by decide) (br_t rfl (br_t rfl (K 0))))
    · have a : c ≠ 18 := by rintro rfl; simp at h0
      have b : c ≠ 19 := by rintro rfl; simp at h0
      exact br_f (by decide) (br_f (by decide) (br_f (by decide) (br_t rfl (br_f (za_ne (b := 18) a (by omega) (by decide)) (br_f (za_ne (b := 19) b (by omega) (by decide)) (K 0))))))
    · have a : c ≠ 18 := by rintro rfl; simp at h0
      have b : c ≠ 19 := by rintro rfl; simp at h0
      exact br_f (by decide) (br_f (by decide) (br_f (by decide) (br_f (by decide) (br_t rfl (br_t rfl (br_f (za_ne (b := 18) a (by omega) (by decide)) (br_f (za_ne (b := 19) b (by omega) (by decide)) (K 0))))))))
    · exact br_f (by decide) (br_f (by decide) (br_f (by decide) (br_f (by decide) (br_f (by decide) (br_t rfl (br_t rfl (K 0)))))))
    · have b : c ≠ 19 := by rintro rfl; simp at h0
      exact br_f (by decide) (br_f (by decide) (br_f (by decide) (br_f (by decide) (br_f (by decide) (br_f (by decide) (br_t rfl (br_t rfl (br_f (za_ne (b := 19) b (by omega) (by decide)) (K 0)))))))))
    · have a : c ≠ 17 := by rintro rfl; simp at h0
      have b : c ≠ 31 := by rintro rfl; simp at h0
      exact br_f (by decide) (br_f (by decide) (br_f (by decide) (br_f (by decide) (br_f (by decide) (br_f (by decide) (br_f (by decide) (br_t rfl (br_t rfl (br_f (za_ne (b := 17) a (by omega) (by decide)) (br_f (za_ne (b := 31) b (by omega) (by decide)) (K 0)))))))))))
    · exact br_f (by decide) (br_t (by decide) (br_t rfl (K 0)))
    · exact br_f (by decide) (br_t (by decide) (br_t rfl (K 0)))
  · rcases hq with rfl | rfl | rfl | rfl | rfl | rfl | rfl | rfl
    · exfalso; simp [z] at h0; split at h0 <;> omega
    · exact br_f (by decide) (br_f (by decide) (br_f (by decide) (br_t rfl (br_f (za_ne (b := 18) (by omega) (by omega) (by decide)) (br_f (za_ne (b := 19) (by omega) (by omega) (by decide)) (K 1))))))
    · exfalso; simp [z] at h0
    · exfalso; simp [z] at h0
    · exfalso; simp [z] at h0
    · exfalso; simp [z] at h0
    · exfalso; simp [z] at h0
    · exfalso; simp [z] at h0
end ZXD
end
section
/-! the relation -/
section ZR
/-- a number that a byte holds: -1 or small -/
def zb_ok (x : Int32) : Prop := x = -1 ∨ ∃ j, j < 128 ∧ x = nI j
theorem zb_1 {x : Int32} (h : zb_ok x) : vp_nar .byte x = x := by
  rcases h with rfl | ⟨j, hj, rfl⟩
  · exact za_bym1
  · exact za_by hj
theorem zb_2 {x : Int32} (h : zb_ok x) : vp_nar .byte x.toInt8.toInt32 = x := by
  rcases h with rfl | ⟨j, hj, rfl⟩
  · exact za_bym
  · exact za_by2 hj
/-- the types: what the defining calls leave -/
def zr_Ts (so tA tC fN fO fS tO yt : Nat → Int32) (s : Nat) : Prop :=
  (∃ k, k ≤ 8 ∧ so s = nI k) ∧ (so s = 1 → ∃ a, a ≤ 4 ∧ tA s = nI a) ∧ (so s = 2 → ∃ a, a ≤ 40 ∧ tA s = nI a) ∧ (so s = 4 → (∃ a, a < 12 ∧ tA s = nI a) ∧ ∃ c, c ≤ 20 ∧ tC s = nI c) ∧ (so s = 6 → ∃ a, a ≤ 5 ∧ tA s = nI a) ∧ (so s = 7 ∨ so s = 8 → ∃ a, a < 12 ∧ tA s = nI a)
  ∧ (so s = 6 → ∀ k, k < 6 → tO (6 * s + k) = yt (6 * s + k) ∧ (tO (6 * s + k) = -1 ∨ ∃ a, a < 12 ∧ tO (6 * s + k) = nI a))
  ∧ ∃ n, n ≤ 4 ∧ fS s = nI n ∧ (∀ f, f < n → (∃ a, a ≤ 5 ∧ fN (4 * s + f) = nI a) ∧ ∃ a, a < 12 ∧ fO (4 * s + f) = nI a) ∧ ∀ f f', f < n → f' < n → fN (4 * s + f) = fN (4 * s + f') → f = f'
def zr_Tab (so tA tC fN fO fS tO yt : Nat → Int32) : Prop := ∀ s, s < 12 → zr_Ts so tA tC fN fO fS tO yt s
/-- the units of the part kk are g, whoever asks -/
def zl_UT (t : Nat → Nat) (be en : Nat → Int32) (kk g : Nat) : Prop :=
  ∀ {ln ps ba ct fl yp yb dp nn wN wT pr wg sc : Int32} {so tA tB tC fN fO fS yt fQ T ins wh kd yv pa na ty fr cm oN yT yC yE oH ou td : Nat → Int32}, (∀ i, T i = nI (t i)) → ∀ (post : Int32 → SY → Prop), post 1 (ln, ps, ba, ct, fl, yp, yb, dp, nn, wN, wT, pr, wg, nI g, so, tA, tB, tC, fN, fO, fS, yt, fQ, T, be, en, ins, wh, kd, yv, pa, na, ty, fr, cm, oN, yT, yC, yE, oH, ou, td) → wpY_units post (ln, ps, ba, ct, fl, yp, yb, dp, nn, wN, wT, pr, wg, sc, so, tA, tB, tC, fN, fO, fS, yt, fQ, T, be, en, ins, wh, kd, yv, pa, na, ty, fr, cm, oN, yT, yC, yE, oH, ou, td) (nI kk) 0
/-- a choice whose tag is known: its record, its tag, and where that stands -/
def zl_Ch (t : Nat → Nat) (be en yv fr ta : Nat → Int32) (j : Nat) : Prop :=
  (∃ v, v < 12 ∧ yv j = nI v) ∧ ∃ g, g ≤ 5 ∧ ta j = nI g ∧ ∃ kk, kk + 3 < 96 ∧ be kk = fr j ∧ (∀ i, i < kk → be i ≠ fr j) ∧ zl_UT t be en (kk + 3) g
def zl_Kd (t : Nat → Nat) (len : Nat) (so be en : Nat → Int32) (c d : Nat) (oN oS kd yv pa na fr ta : Nat → Int32) (dep : Nat → Nat) (j s : Nat) : Prop :=
  (kd j = 0 ∧ so s = 1) ∨ (kd j = 1 ∧ ∃ b, fr j = nI b ∧ b < len ∧ t b = 16 ∧ (zs_sc t len 97 (b + 1)).1 = 1) ∨ kd j = 2
  ∨ (kd j = 3 ∧ dep j ≤ 5 ∧ ∃ v, v ≤ 20 ∧ yv j = nI v ∧ ∀ i, i < v → ∃ q, j < q ∧ q < c ∧ pa q = nI j ∧ na q = nI i)
  ∨ (kd j = 4 ∧ dep j ≤ 5 ∧ ((so s = 5 ∧ ta j = -1) ∨ (so s = 6 ∧ ((∃ i, i + 1 = d ∧ oN i = nI j ∧ oS i = 6) ∨ zl_Ch t be en yv fr ta j))))
  ∨ kd j = 5 ∨ kd j = 6
def zl_Nd (t : Nat → Nat) (len : Nat) (so be en : Nat → Int32) (c d : Nat) (oN oS kd yv pa na ty fr ta : Nat → Int32) (dep : Nat → Nat) (j : Nat) : Prop :=
  dep j ≤ 6 ∧ ((j = 0 ∧ dep j = 0) ∨ (∃ q, q < j ∧ pa j = nI q ∧ dep j = dep q + 1)) ∧ ∃ s, s < 12 ∧ ty j = nI s ∧ zl_Kd t len so be en c d oN oS kd yv pa na fr ta dep j s
def zl_Tr (t : Nat → Nat) (len : Nat) (so be en : Nat → Int32) (c d : Nat) (oN oS kd yv pa na ty fr ta : Nat → Int32) : Prop :=
  ∃ dep : Nat → Nat, (∀ i j, i < d → j < c → oN i = nI j → dep j = i) ∧ ∀ j, j < c → zl_Nd t len so be en c d oN oS kd yv pa na ty fr ta dep j
def zr_Bd (t : Nat → Nat) (len : Nat) (so be en oN oS kd vl yv pa na ty fr ta : Nat → Int32) (ct yc : Int32) : Prop :=
  ∃ c, 1 ≤ c ∧ c ≤ 40 ∧ ct = nI c ∧ yc = nI c ∧ (∀ j, j < c → vl j = yv j) ∧ zl_Tr t len so be en c 0 oN oS kd yv pa na ty fr ta
def zr_R (t : Nat → Nat) (len : Nat) (T so tA tC fN fO fS tO yt be en oN oS kd vl yv pa na ty fr ta : Nat → Int32) (bd ct yc : Int32) : Prop :=
  (∀ i, T i = nI (t i)) ∧ (∀ i, t i < 32) ∧ len ≤ 96 ∧ zr_Tab so tA tC fN fO fS tO yt ∧ (bd = 0 ∨ (bd = 1 ∧ zr_Bd t len so be en oN oS kd vl yv pa na ty fr ta ct yc))
/-- the relation at the head of a turn -/
def i_Rel (k : Nat) (u : SX) (v : SY) : Prop :=
  ∃ (t : Nat → Nat) (len : Nat) (ap : Int32) (st : Int32) (er : Int32) (pl : Int32) (wt : Int32) (wn : Int32) (tg : Int32) (rf : Int32) (dp : Int32) (pt : Int32) (zs : Int32) (te : Int32) (pw : Int32) (sg : Int32) (bg : Int32) (dg : Int64) (bl : Int32) (dw : Int32) (es : Int32) (ct : Int32) (bd : Int32) (pr : Int32) (lt : Int32) (T : Nat → Int32) (so : Nat → Int32) (tA : Nat → Int32) (tB : Nat → Int32) (tC : Nat → Int32) (fN : Nat → Int32) (fO : Nat → Int32) (fQ : Nat → Int32) (fS : Nat → Int32) (tO : Nat → Int32) (oS : Nat → Int32) (oT : Nat → Int32) (oN : Nat → Int32) (oC : Nat → Int32) (oE : Nat → Int32) (oH : Nat → Int32) (cm : Nat → Int32) (kd : Nat → Int32) (vl : Nat → Int32) (pa : Nat → Int32) (na : Nat → Int32) (ty : Nat → Int32) (fr : Nat → Int32) (ta : Nat → Int32) (ou : Nat → Int32) (wk : Nat → Int32) (sp : Nat → Int32) (yc : Int32) (yd : Int32) (ps : Int32) (ba : Int32) (fl : Int32) (nn : Int32) (wN : Int32) (wT : Int32) (wg : Int32) (sc : Int32) (yt : Nat → Int32) (be : Nat → Int32) (en : Nat → Int32) (ins : Nat → Int32) (wh : Nat → Int32) (yv : Nat → Int32) (yT : Nat → Int32) (yC : Nat → Int32) (yE : Nat → Int32) (td : Nat → Int32) (ym : Nat → Int32),
    u = (nI len, ap, st, er, pl, wt, wn, tg, rf, dp, pt, zs, te, pw, sg, bg, dg, bl, dw, es, ct, bd, pr, lt, T, so, tA, tB, tC, fN, fO, fQ, fS, tO, oS, oT, oN, oC, oE, oH, cm, kd, vl, pa, na, ty, fr, ta, ou, wk, sp) ∧ v = (nI len, ps, ba, yc, fl, pl, bd, yd, nn, wN, wT, pr, wg, sc, so, tA, tB, tC, fN, fO, fS, yt, fQ, T, be, en, ins, wh, kd, yv, pa, na, ty, fr, ym, oN, yT, yC, yE, oH, ou, td) ∧ zr_R t len T so tA tC fN fO fS tO yt be en oN oS kd vl yv pa na ty fr ta bd ct yc
theorem i_up {k : Nat} {u : SX} {v : SY} (h : i_Rel k u v) : i_Rel (k + 6) u v := h
theorem zr_in {kk : Nat} {t : Nat → Nat} {len : Nat} {ap : Int32} {st : Int32} {er : Int32} {pl : Int32} {wt : Int32} {wn : Int32} {tg : Int32} {rf : Int32} {dp : Int32} {pt : Int32} {zs : Int32} {te : Int32} {pw : Int32} {sg : Int32} {bg : Int32} {dg : Int64} {bl : Int32} {dw : Int32} {es : Int32} {ct : Int32} {bd : Int32} {pr : Int32} {lt : Int32} {T : Nat → Int32} {so : Nat → Int32} {tA : Nat → Int32} {tB : Nat → Int32} {tC : Nat → Int32} {fN : Nat → Int32} {fO : Nat → Int32} {fQ : Nat → Int32} {fS : Nat → Int32} {tO : Nat → Int32} {oS : Nat → Int32} {oT : Nat → Int32} {oN : Nat → Int32} {oC : Nat → Int32} {oE : Nat → Int32} {oH : Nat → Int32} {cm : Nat → Int32} {kd : Nat → Int32} {vl : Nat → Int32} {pa : Nat → Int32} {na : Nat → Int32} {ty : Nat → Int32} {fr : Nat → Int32} {ta : Nat → Int32} {ou : Nat → Int32} {wk : Nat → Int32} {sp : Nat → Int32} {yc : Int32} {yd : Int32} {ps : Int32} {ba : Int32} {fl : Int32} {nn : Int32} {wN : Int32} {wT : Int32} {wg : Int32} {sc : Int32} {yt : Nat → Int32} {be : Nat → Int32} {en : Nat → Int32} {ins : Nat → Int32} {wh : Nat → Int32} {yv : Nat → Int32} {yT : Nat → Int32} {yC : Nat → Int32} {yE : Nat → Int32} {td : Nat → Int32} {ym : Nat → Int32} (h : zr_R t len T so tA tC fN fO fS tO yt be en oN oS kd vl yv pa na ty fr ta bd ct yc) : i_Rel kk (nI len, ap, st, er, pl, wt, wn, tg, rf, dp, pt, zs, te, pw, sg, bg, dg, bl, dw, es, ct, bd, pr, lt, T, so, tA, tB, tC, fN, fO, fQ, fS, tO, oS, oT, oN, oC, oE, oH, cm, kd, vl, pa, na, ty, fr, ta, ou, wk, sp) (nI len, ps, ba, yc, fl, pl, bd, yd, nn, wN, wT, pr, wg, sc, so, tA, tB, tC, fN, fO, fS, yt, fQ, T, be, en, ins, wh, kd, yv, pa, na, ty, fr, ym, oN, yT, yC, yE, oH, ou, td) :=
  ⟨t, len, ap, st, er, pl, wt, wn, tg, rf, dp, pt, zs, te, pw, sg, bg, dg, bl, dw, es, ct, bd, pr, lt, T, so, tA, tB, tC, fN, fO, fQ, fS, tO, oS, oT, oN, oC, oE, oH, cm, kd, vl, pa, na, ty, fr, ta, ou, wk, sp, yc, yd, ps, ba, fl, nn, wN, wT, wg, sc, yt, be, en, ins, wh, yv, yT, yC, yE, td, ym, rfl, rfl, h⟩
theorem zr_el {P : SX → SY → Prop} {kk : Nat} {u : SX} {v : SY} (h : ∀ (t : Nat → Nat) (len : Nat) (ap : Int32) (st : Int32) (er : Int32) (pl : Int32) (wt : Int32) (wn : Int32) (tg : Int32) (rf : Int32) (dp : Int32) (pt : Int32) (zs : Int32) (te : Int32) (pw : Int32) (sg : Int32) (bg : Int32) (dg : Int64) (bl : Int32) (dw : Int32) (es : Int32) (ct : Int32) (bd : Int32) (pr : Int32) (lt : Int32) (T : Nat → Int32) (so : Nat → Int32) (tA : Nat → Int32) (tB : Nat → Int32) (tC : Nat → Int32) (fN : Nat → Int32) (fO : Nat → Int32) (fQ : Nat → Int32) (fS : Nat → Int32) (tO : Nat → Int32) (oS : Nat → Int32) (oT : Nat → Int32) (oN : Nat → Int32) (oC : Nat → Int32) (oE : Nat → Int32) (oH : Nat → Int32) (cm : Nat → Int32) (kd : Nat → Int32) (vl : Nat → Int32) (pa : Nat → Int32) (na : Nat → Int32) (ty : Nat → Int32) (fr : Nat → Int32) (ta : Nat → Int32) (ou : Nat → Int32) (wk : Nat → Int32) (sp : Nat → Int32) (yc : Int32) (yd : Int32) (ps : Int32) (ba : Int32) (fl : Int32) (nn : Int32) (wN : Int32) (wT : Int32) (wg : Int32) (sc : Int32) (yt : Nat → Int32) (be : Nat → Int32) (en : Nat → Int32) (ins : Nat → Int32) (wh : Nat → Int32) (yv : Nat → Int32) (yT : Nat → Int32) (yC : Nat → Int32) (yE : Nat → Int32) (td : Nat → Int32) (ym : Nat → Int32), zr_R t len T so tA tC fN fO fS tO yt be en oN oS kd vl yv pa na ty fr ta bd ct yc → P (nI len, ap, st, er, pl, wt, wn, tg, rf, dp, pt, zs, te, pw, sg, bg, dg, bl, dw, es, ct, bd, pr, lt, T, so, tA, tB, tC, fN, fO, fQ, fS, tO, oS, oT, oN, oC, oE, oH, cm, kd, vl, pa, na, ty, fr, ta, ou, wk, sp) (nI len, ps, ba, yc, fl, pl, bd, yd, nn, wN, wT, pr, wg, sc, so, tA, tB, tC, fN, fO, fS, yt, fQ, T, be, en, ins, wh, kd, yv, pa, na, ty, fr, ym, oN, yT, yC, yE, oH, ou, td)) (I : i_Rel kk u v) : P u v :=
  Exists.elim I fun t I => Exists.elim I fun len I => Exists.elim I fun ap I => Exists.elim I fun st I => Exists.elim I fun er I => Exists.elim I fun pl I => Exists.elim I fun wt I => Exists.elim I fun wn I => Exists.elim I fun tg I => Exists.elim I fun rf I => Exists.elim I fun dp I => Exists.elim I fun pt I => Exists.elim I fun zs I => Exists.elim I fun te I => Exists.elim I fun pw I => Exists.elim I fun sg I => Exists.elim I fun bg I => Exists.elim I fun dg I => Exists.elim I fun bl I => Exists.elim I fun dw I => Exists.elim I fun es I => Exists.elim I fun ct I => Exists.elim I fun bd I => Exists.elim I fun pr I => Exists.elim I fun lt I => Exists.elim I fun T I => Exists.elim I fun so I => Exists.elim I fun tA I => Exists.elim I fun tB I => Exists.elim I fun tC I => Exists.elim I fun fN I => Exists.elim I fun fO I => Exists.elim I fun fQ I => Exists.elim I fun fS I => Exists.elim I fun tO I => Exists.elim I fun oS I => Exists.elim I fun oT I => Exists.elim I fun oN I => Exists.elim I fun oC I => Exists.elim I fun oE I => Exists.elim I fun oH I => Exists.elim I fun cm I => Exists.elim I fun kd I => Exists.elim I fun vl I => Exists.elim I fun pa I => Exists.elim I fun na I => Exists.elim I fun ty I => Exists.elim I fun fr I => Exists.elim I fun ta I => Exists.elim I fun ou I => Exists.elim I fun wk I => Exists.elim I fun sp I => Exists.elim I fun yc I => Exists.elim I fun yd I => Exists.elim I fun ps I => Exists.elim I fun ba I => Exists.elim I fun fl I => Exists.elim I fun nn I => Exists.elim I fun wN I => Exists.elim I fun wT I => Exists.elim I fun wg I => Exists.elim I fun sc I => Exists.elim I fun yt I => Exists.elim I fun be I => Exists.elim I fun en I => Exists.elim I fun ins I => Exists.elim I fun wh I => Exists.elim I fun yv I => Exists.elim I fun yT I => Exists.elim I fun yC I => Exists.elim I fun yE I => Exists.elim I fun td I => Exists.elim I fun ym I => by rw [I.1, I.2.1]; exact h t len ap st er pl wt wn tg rf dp pt zs te pw sg bg dg bl dw es ct bd pr lt T so tA tB tC fN fO fQ fS tO oS oT oN oC oE oH cm kd vl pa na ty fr ta ou wk sp yc yd ps ba fl nn wN wT wg sc yt be en ins wh yv yT yC yE td ym I.2.2
end ZR
end
section
/-! the calls that define: tables -/
section ZE
theorem ze_slot_t {post : Int32 → Prop} {s : Nat} (hs : s < 12) (h : post 1) : wpX_isSlot post (nI s) :=
  br_f (nI_pos (by omega)) (br_f (nI_ge (b := 12) hs (by omega)) h)
theorem ze_slot_f {post : Int32 → Prop} {x : Int32} (hx : x < 0 ∨ nI 12 ≤ x) (h : post 0) : wpX_isSlot post x := by
  by_cases c : x < 0
  · exact br_t c h
  · exact br_f c (br_t (hx.resolve_left c) h)
theorem ze_in_t {post : Int32 → Prop} {x lo hi : Int32} (h1 : ¬ x < lo) (h2 : ¬ hi < x) (h : post 1) : wpY_in post x lo hi := br_f h1 (br_f h2 h)
theorem ze_in_f {post : Int32 → Prop} {x lo hi : Int32} (hx : x < lo ∨ hi < x) (h : post 0) : wpY_in post x lo hi := by
  by_cases c : x < lo
  · exact br_t c h
  · exact br_f c (br_t (hx.resolve_left c) h)
theorem ze_in_s {post : Int32 → Prop} {s : Nat} (hs : s < 12) (h : post 1) : wpY_in post (nI s) 0 11 := ze_in_t (nI_pos (by omega)) (nI_nlt (a := 11) (by omega) (by omega)) h
theorem ze_12 {x : Int32} (h : nI 12 ≤ x) : (11 : Int32) < x := by
  rw [Int32.lt_iff_toInt_lt, show ((11 : Int32)).toInt = 11 from by decide]
  rw [Int32.le_iff_toInt_le, nI_toInt (by decide)] at h
  omega
theorem ze_in_sf {post : Int32 → Prop} {x : Int32} (hx : x < 0 ∨ nI 12 ≤ x) (h : post 0) : wpY_in post x 0 11 := ze_in_f (hx.imp id ze_12) h
/-- a small range -/
theorem ze_rg {x : Int32} {m : Nat} (hm : m < 2 ^ 31) (h0 : ¬ x < 0) (h1 : ¬ nI m < x) : ∃ j, j ≤ m ∧ x = nI j := by
  obtain ⟨j, hj, rfl⟩ := nI_of h0
  exact ⟨j, Nat.le_of_not_lt (fun z => h1 (nI_lt z hj)), rfl⟩
def ze_Tn (k0 : Nat) (a c : Int32) : Prop := k0 ≤ 8 ∧ (k0 = 1 → ∃ x, x ≤ 4 ∧ a = nI x) ∧ (k0 = 2 → ∃ x, x ≤ 40 ∧ a = nI x) ∧ (k0 = 4 → (∃ x, x < 12 ∧ a = nI x) ∧ ∃ y, y ≤ 20 ∧ c = nI y) ∧ (k0 = 6 → ∃ x, x ≤ 5 ∧ a = nI x) ∧ (k0 = 7 ∨ k0 = 8 → ∃ x, x < 12 ∧ a = nI x)
/-- tags wiped for a slot -/
def ze_Tg (tO tO' : Nat → Int32) (s : Nat) : Prop := (∀ k, k < 6 → tO' (6 * s + k) = -1) ∧ ∀ i, (i < 6 * s ∨ 6 * s + 6 ≤ i) → tO' i = tO i
theorem ze_Tab {so tA tC fN fO fS tO yt tO' yt' : Nat → Int32} {s k0 : Nat} {a c : Int32} (h : zr_Tab so tA tC fN fO fS tO yt) (hs : s < 12) (hn : ze_Tn k0 a c) (h1 : ze_Tg tO tO' s) (h2 : ze_Tg yt yt' s) :
    zr_Tab (upd so s (nI k0)) (upd tA s a) (upd tC s c) fN fO (upd fS s 0) tO' yt' := by
  intro r hr
  by_cases e : r = s
  · subst e
    obtain ⟨n1, n2, n3, n4, n5, n6⟩ := hn
    unfold zr_Ts
    rw [pk_us, pk_us, pk_us, pk_us]
    have q : ∀ m, m < 9 → nI k0 = nI m → k0 = m := fun m hm z => za_e z (by omega) (by omega)
    refine ⟨⟨k0, n1, rfl⟩, fun z => n2 (q 1 (by decide) z), fun z => n3 (q 2 (by decide) z), fun z => n4 (q 4 (by decide) z), fun z => n5 (q 6 (by decide) z), fun z => n6 (z.imp (q 7 (by decide)) (q 8 (by decide))), fun z k hk => ?_, 0, by decide, rfl, fun f hf => by omega, fun f f' hf => by omega⟩
    rw [h1.1 k hk, h2.1 k hk]
    exact ⟨rfl, Or.inl rfl⟩
  · have := h r hr
    unfold zr_Ts at this ⊢
    rw [pk_un e, pk_un e, pk_un e, pk_un e]
    obtain ⟨m1, m2, m3, m4, m5, m6, m7, m8⟩ := this
    refine ⟨m1, m2, m3, m4, m5, m6, fun z k hk => ?_, m8⟩
    rw [h1.2 _ (by omega), h2.2 _ (by omega)]
    exact m7 z k hk
theorem ze_b0 : vp_nar .byte (0 : Int32) = 0 := za_by (n := 0) (by decide)
theorem ze_6 (s j : Nat) : 6 * nI s + nI j = nI (6 * s + j) := by rw [← nI_add, ← pk_mul]; rfl
theorem ze_bec {s : Nat} (hs : s < 12) : ∀ d j (tO : Nat → Int32), j + d = 6 → (∀ k, k < j → tO (6 * s + k) = -1) → ∃ tO', ze_Tg tO tO' s ∧
    ∀ {ln ap st er pl wt wn tg rf dp pt zs te pw sg bg bl dw es ct pr lt : Int32} {dg : Int64} {T so tA tB tC fN fO fQ fS oS oT oN oC oE oH cm kd vl pa na ty fr ta ou wk sp : Nat → Int32} (bd : Int32) (post : Int32 → SX → Prop) n, d < n → post 1 (ln, ap, st, er, pl, wt, wn, tg, rf, dp, pt, zs, te, pw, sg, bg, dg, bl, dw, es, ct, 0, pr, lt, T, so, tA, tB, tC, fN, fO, fQ, fS, tO', oS, oT, oN, oC, oE, oH, cm, kd, vl, pa, na, ty, fr, ta, ou, wk, sp) → wX_become_41 post (nI s) ln ap st er pl wt wn tg rf dp pt zs te pw sg bg dg bl dw es ct bd pr lt n (nI j) T so tA tB tC fN fO fQ fS tO oS oT oN oC oE oH cm kd vl pa na ty fr ta ou wk sp := by
  intro d
  induction d with
  | zero =>
    intro j tO h1 h2
    refine ⟨tO, ⟨fun k hk => h2 k (by omega), fun _ _ => rfl⟩, fun bd post n hn hp => ?_⟩
    obtain ⟨n, rfl⟩ : ∃ m, n = m + 1 := ⟨n - 1, by omega⟩
    exact br_t (nI_le (a := 6) (by omega) (by omega)) hp
  | succ d ih =>
    intro j tO h1 h2
    obtain ⟨tO', ⟨g1, g2⟩, g3⟩ := ih (j + 1) (upd tO (6 * s + j) (-1)) (by omega) (fun k hk => by
      by_cases e : k = j
      · subst e; exact pk_us
      · rw [pk_un (by omega)]; exact h2 k (by omega))
    refine ⟨tO', ⟨g1, fun i hi => by rw [g2 i hi, pk_un (by omega)]⟩, fun bd post n hn hp => ?_⟩
    obtain ⟨n, rfl⟩ : ∃ m, n = m + 1 := ⟨n - 1, by omega⟩
    refine br_f (nI_ge (b := 6) (by omega) (by omega)) ⟨by rw [ze_6]; exact vp_in_nI (by omega) (by omega), nm_r (e' := upd tO (6 * s + j) (-1)) ?_ (nm_r (nI_1 j) (g3 bd post n (by omega) hp))⟩
    rw [ze_6, nI_clamp (by omega), za_bym1]
theorem ze_become {s k0 : Nat} (hs : s < 12) (hk : k0 ≤ 8) (tO : Nat → Int32) : ∃ tO', ze_Tg tO tO' s ∧
    ∀ {ln ap st er pl wt wn tg rf dp pt zs te pw sg bg bl dw es ct bd pr lt : Int32} {dg : Int64} {T so tA tB tC fN fO fQ fS oS oT oN oC oE oH cm kd vl pa na ty fr ta ou wk sp : Nat → Int32} (post : Int32 → SX → Prop) (a b c : Int32), post 1 (ln, ap, st, er, pl, wt, wn, tg, rf, dp, pt, zs, te, pw, sg, bg, dg, bl, dw, es, ct, 0, pr, lt, T, upd so s (nI k0), upd tA s a, upd tB s b, upd tC s c, fN, fO, fQ, upd fS s 0, tO', oS, oT, oN, oC, oE, oH, cm, kd, vl, pa, na, ty, fr, ta, ou, wk, sp) → wpX_become post (ln, ap, st, er, pl, wt, wn, tg, rf, dp, pt, zs, te, pw, sg, bg, dg, bl, dw, es, ct, bd, pr, lt, T, so, tA, tB, tC, fN, fO, fQ, fS, tO, oS, oT, oN, oC, oE, oH, cm, kd, vl, pa, na, ty, fr, ta, ou, wk, sp) (nI s) (nI k0) a b c := by
  obtain ⟨tO', g1, g2⟩ := ze_bec hs 6 0 tO (by omega) (fun k hk => by omega)
  refine ⟨tO', g1, ?_⟩
  intro ln ap st er pl wt wn tg rf dp pt zs te pw sg bg bl dw es ct bd pr lt dg T so tA tB tC fN fO fQ fS oS oT oN oC oE oH cm kd vl pa na ty fr ta ou wk sp post a b c hp
  have w : vp_in (nI s) 12 := vp_in_nI hs (by omega)
  have e : (nI s).toNatClampNeg = s := nI_clamp (by omega)
  exact ⟨w, nm_r (e' := upd so s (nI k0)) (by rw [e, za_by2 (by omega)]) ⟨w, nm_r (e' := upd tA s a) (by rw [e]) ⟨w, nm_r (e' := upd tB s b) (by rw [e]) ⟨w, nm_r (e' := upd tC s c) (by rw [e]) ⟨w, nm_r (e' := upd fS s 0) (by rw [e, ze_b0]) ⟨7, g2 bd post 7 (by omega) hp⟩⟩⟩⟩⟩⟩
theorem ze_def {s : Nat} (hs : s < 12) : ∀ d j (yt : Nat → Int32), j + d = 6 → (∀ k, k < j → yt (6 * s + k) = -1) → ∃ yt', ze_Tg yt yt' s ∧
    ∀ {ln ps ba ct fl yp dp nn wN wT pr wg sc : Int32} {so tA tB tC fN fO fS fQ T be en ins wh kd yv pa na ty fr cm oN yT yC yE oH ou td : Nat → Int32} (yb : Int32) (post : Int32 → SY → Prop) n, d < n → post 1 (ln, ps, ba, ct, fl, yp, 0, dp, nn, wN, wT, pr, wg, sc, so, tA, tB, tC, fN, fO, fS, yt', fQ, T, be, en, ins, wh, kd, yv, pa, na, ty, fr, cm, oN, yT, yC, yE, oH, ou, td) → wY_define_43 post (nI s) ln ps ba ct fl yp yb dp nn wN wT pr wg sc n (nI (6 * s + j)) so tA tB tC fN fO fS yt fQ T be en ins wh kd yv pa na ty fr cm oN yT yC yE oH ou td := by
  intro d
  induction d with
  | zero =>
    intro j yt h1 h2
    refine ⟨yt, ⟨fun k hk => h2 k (by omega), fun _ _ => rfl⟩, fun yb post n hn hp => ?_⟩
    obtain ⟨n, rfl⟩ : ∃ m, n = m + 1 := ⟨n - 1, by omega⟩
    refine br_t ?_ hp
    rw [show (6 : Int32) * nI s + 6 = nI (6 * s + 6) from ze_6 s 6]
    exact nI_le (by omega) (by omega)
  | succ d ih =>
    intro j yt h1 h2
    obtain ⟨yt', ⟨g1, g2⟩, g3⟩ := ih (j + 1) (upd yt (6 * s + j) (-1)) (by omega) (fun k hk => by
      by_cases e : k = j
      · subst e; exact pk_us
      · rw [pk_un (by omega)]; exact h2 k (by omega))
    refine ⟨yt', ⟨g1, fun i hi => by rw [g2 i hi, pk_un (by omega)]⟩, fun yb post n hn hp => ?_⟩
    obtain ⟨n, rfl⟩ : ∃ m, n = m + 1 := ⟨n - 1, by omega⟩
    refine br_f ?_ ⟨vp_in_nI (by omega) (by omega), nm_r (e' := upd yt (6 * s + j) (-1)) (by rw [nI_clamp (by omega)]) (nm_r (nI_1 (6 * s + j)) (g3 yb post n (by omega) hp))⟩
    rw [show (6 : Int32) * nI s + 6 = nI (6 * s + 6) from ze_6 s 6]
    exact nI_ge (by omega) (by omega)
theorem ze_define {s : Nat} (hs : s < 12) (yt : Nat → Int32) : ∃ yt', ze_Tg yt yt' s ∧
    ∀ {ln ps ba ct fl yp yb dp nn wN wT pr wg sc : Int32} {so tA tB tC fN fO fS fQ T be en ins wh kd yv pa na ty fr cm oN yT yC yE oH ou td : Nat → Int32} (post : Int32 → SY → Prop) (k0 a b c : Int32), post 1 (ln, ps, ba, ct, fl, yp, 0, dp, nn, wN, wT, pr, wg, sc, upd so s k0, upd tA s a, upd tB s b, upd tC s c, fN, fO, upd fS s 0, yt', fQ, T, be, en, ins, wh, kd, yv, pa, na, ty, fr, cm, oN, yT, yC, yE, oH, ou, td) → wpY_define post (ln, ps, ba, ct, fl, yp, yb, dp, nn, wN, wT, pr, wg, sc, so, tA, tB, tC, fN, fO, fS, yt, fQ, T, be, en, ins, wh, kd, yv, pa, na, ty, fr, cm, oN, yT, yC, yE, oH, ou, td) (nI s) k0 a b c := by
  obtain ⟨yt', g1, g2⟩ := ze_def hs 6 0 yt (by omega) (fun k hk => by omega)
  refine ⟨yt', g1, ?_⟩
  intro ln ps ba ct fl yp yb dp nn wN wT pr wg sc so tA tB tC fN fO fS fQ T be en ins wh kd yv pa na ty fr cm oN yT yC yE oH ou td post k0 a b c hp
  have w : vp_in (nI s) 12 := vp_in_nI hs (by omega)
  have e : (nI s).toNatClampNeg = s := nI_clamp (by omega)
  exact ⟨w, nm_r (e' := upd so s k0) (by rw [e]) ⟨w, nm_r (e' := upd tA s a) (by rw [e]) ⟨w, nm_r (e' := upd tB s b) (by rw [e]) ⟨w, nm_r (e' := upd tC s c) (by rw [e]) ⟨w, nm_r (e' := upd fS s 0) (by rw [e]) (nm_r (e' := nI (6 * s + 0)) (by rw [Nat.add_zero, ← pk_mul]; rfl) ⟨7, g2 yb post 7 (by omega) hp⟩)⟩⟩⟩⟩⟩
/-- a definition that both take: the relation is kept -/
theorem ze_both {k s k0 : Nat} {ap : Int32} {st : Int32} {er : Int32} {pl : Int32} {wt : Int32} {wn : Int32} {tg : Int32} {rf : Int32} {dp : Int32} {pt : Int32} {zs : Int32} {te : Int32} {pw : Int32} {sg : Int32} {bg : Int32} {dg : Int64} {bl : Int32} {dw : Int32} {es : Int32} {ct : Int32} {bd : Int32} {pr : Int32} {lt : Int32} {T : Nat → Int32} {so : Nat → Int32} {tA : Nat → Int32} {tB : Nat → Int32} {tC : Nat → Int32} {fN : Nat → Int32} {fO : Nat → Int32} {fQ : Nat → Int32} {fS : Nat → Int32} {tO : Nat → Int32} {oS : Nat → Int32} {oT : Nat → Int32} {oN : Nat → Int32} {oC : Nat → Int32} {oE : Nat → Int32} {oH : Nat → Int32} {cm : Nat → Int32} {kd : Nat → Int32} {vl : Nat → Int32} {pa : Nat → Int32} {na : Nat → Int32} {ty : Nat → Int32} {fr : Nat → Int32} {ta : Nat → Int32} {ou : Nat → Int32} {wk : Nat → Int32} {sp : Nat → Int32} {yc : Int32} {yd : Int32} {ps : Int32} {ba : Int32} {fl : Int32} {nn : Int32} {wN : Int32} {wT : Int32} {wg : Int32} {sc : Int32} {yt : Nat → Int32} {be : Nat → Int32} {en : Nat → Int32} {ins : Nat → Int32} {wh : Nat → Int32} {yv : Nat → Int32} {yT : Nat → Int32} {yC : Nat → Int32} {yE : Nat → Int32} {td : Nat → Int32} {ym : Nat → Int32} {t : Nat → Nat} {len : Nat} (h : zr_R t len T so tA tC fN fO fS tO yt be en oN oS kd vl yv pa na ty fr ta bd ct yc) (hs : s < 12) {a b c : Int32} (hn : ze_Tn k0 a c) {PX : (Int32 → SX → Prop) → Prop} {PY : (Int32 → SY → Prop) → Prop}
    (hX : ∀ (tO' : Nat → Int32) (P : Int32 → SX → Prop), (∀ Q : Int32 → SX → Prop, Q 1 (nI len, ap, st, er, pl, wt, wn, tg, rf, dp, pt, zs, te, pw, sg, bg, dg, bl, dw, es, ct, 0, pr, lt, T, upd so s (nI k0), upd tA s a, upd tB s b, upd tC s c, fN, fO, fQ, upd fS s 0, tO', oS, oT, oN, oC, oE, oH, cm, kd, vl, pa, na, ty, fr, ta, ou, wk, sp) → wpX_become Q (nI len, ap, st, er, pl, wt, wn, tg, rf, dp, pt, zs, te, pw, sg, bg, dg, bl, dw, es, ct, bd, pr, lt, T, so, tA, tB, tC, fN, fO, fQ, fS, tO, oS, oT, oN, oC, oE, oH, cm, kd, vl, pa, na, ty, fr, ta, ou, wk, sp) (nI s) (nI k0) a b c) → P 1 (nI len, ap, st, er, pl, wt, wn, tg, rf, dp, pt, zs, te, pw, sg, bg, dg, bl, dw, es, ct, 0, pr, lt, T, upd so s (nI k0), upd tA s a, upd tB s b, upd tC s c, fN, fO, fQ, upd fS s 0, tO', oS, oT, oN, oC, oE, oH, cm, kd, vl, pa, na, ty, fr, ta, ou, wk, sp) → PX P)
    (hY : ∀ (yt' : Nat → Int32) (P : Int32 → SY → Prop), (∀ Q : Int32 → SY → Prop, Q 1 (nI len, ps, ba, yc, fl, pl, 0, yd, nn, wN, wT, pr, wg, sc, upd so s (nI k0), upd tA s a, upd tB s b, upd tC s c, fN, fO, upd fS s 0, yt', fQ, T, be, en, ins, wh, kd, yv, pa, na, ty, fr, ym, oN, yT, yC, yE, oH, ou, td) → wpY_define Q (nI len, ps, ba, yc, fl, pl, bd, yd, nn, wN, wT, pr, wg, sc, so, tA, tB, tC, fN, fO, fS, yt, fQ, T, be, en, ins, wh, kd, yv, pa, na, ty, fr, ym, oN, yT, yC, yE, oH, ou, td) (nI s) (nI k0) a b c) → P 1 (nI len, ps, ba, yc, fl, pl, 0, yd, nn, wN, wT, pr, wg, sc, upd so s (nI k0), upd tA s a, upd tB s b, upd tC s c, fN, fO, upd fS s 0, yt', fQ, T, be, en, ins, wh, kd, yv, pa, na, ty, fr, ym, oN, yT, yC, yE, oH, ou, td) → PY P) :
    PX (fun r u' => PY (fun r' v' => r' = r ∧ i_Rel (k + 6) u' v')) := by
  obtain ⟨tO', g1, g2⟩ := ze_become (k0 := k0) hs hn.1 tO
  obtain ⟨yt', g3, g4⟩ := ze_define hs yt
  refine hX tO' _ (fun Q hq => g2 Q a b c hq) (hY yt' _ (fun Q hq => g4 Q (nI k0) a b c hq) ⟨rfl, zr_in (t := t) ?_⟩)
  exact ⟨h.1, h.2.1, h.2.2.1, ze_Tab h.2.2.2.1 hs hn g1 g3, Or.inl rfl⟩
end ZE
end
section
section ZE2
theorem i_vc_put {k : Nat} {u : SX} {v : SY} (I : i_Rel k u v) (hk : k + 6 ≤ 3072) (v1 : Int32) : wpX_put (fun r u' => wpY_put (fun r' v' => r' = r ∧ i_Rel (k + 6) u' v') v v1) u v1 := by
  refine zr_el (P := fun u v => wpX_put (fun r u' => wpY_put (fun r' v' => r' = r ∧ i_Rel (k + 6) u' v') v v1) u v1) ?_ I
  intro t len ap st er pl wt wn tg rf dp pt zs te pw sg bg dg bl dw es ct bd pr lt T so tA tB tC fN fO fQ fS tO oS oT oN oC oE oH cm kd vl pa na ty fr ta ou wk sp yc yd ps ba fl nn wN wT wg sc yt be en ins wh yv yT yC yE td ym h
  by_cases h0 : v1 < 0
  · exact br_t h0 (br_t h0 (br_t rfl ⟨rfl, zr_in h⟩))
  · by_cases h1 : 31 < v1
    · exact br_f h0 (br_t h1 (br_f h0 (br_t h1 (br_t rfl ⟨rfl, zr_in h⟩))))
    · by_cases h2 : nI len = 96
      · exact br_f h0 (br_f h1 (br_t h2 (br_f h0 (br_f h1 (br_f (by decide) (br_t h2 ⟨rfl, zr_in h⟩))))))
      · obtain ⟨c, hc, rfl⟩ := ze_rg (m := 31) (by decide) h0 h1
        obtain ⟨hT, ht, hl, htab, _⟩ := h
        have hl2 : len < 96 := by
          have : len ≠ 96 := fun z => h2 (by rw [z]; rfl)
          omega
        have w : vp_in (nI len) 96 := vp_in_nI hl2 (by omega)
        have e : (nI len).toNatClampNeg = len := nI_clamp (by omega)
        refine br_f h0 (br_f h1 (br_f h2 (nm_r (nI_1 len) ⟨w, nm_r (e' := upd T len (nI c)) (by rw [e, za_by2 (by omega)]) (br_f h0 (br_f h1 (br_f (by decide) (br_f h2 ⟨w, nm_r (e' := upd T len (nI c)) (by rw [e]) (nm_r (nI_1 len) ⟨rfl, zr_in (t := fun i => if i = len then c else t i) ⟨fun i => ?_, fun i => ?_, by omega, htab, Or.inl rfl⟩⟩)⟩))))⟩)))
        · by_cases z : i = len
          · subst z; rw [pk_us]; dsimp only; rw [if_pos rfl]
          · rw [pk_un z]; dsimp only; rw [if_neg z]; exact hT i
        · dsimp only
          split
          · omega
          · exact ht i
theorem i_vc_wipe {k : Nat} {u : SX} {v : SY} (I : i_Rel k u v) (hk : k + 6 ≤ 3072) : wpX_wipe (fun r u' => wpY_wipe (fun r' v' => r' = r ∧ i_Rel (k + 6) u' v') v) u := by
  refine zr_el (P := fun u v => wpX_wipe (fun r u' => wpY_wipe (fun r' v' => r' = r ∧ i_Rel (k + 6) u' v') v) u) ?_ I
  intro t len ap st er pl wt wn tg rf dp pt zs te pw sg bg dg bl dw es ct bd pr lt T so tA tB tC fN fO fQ fS tO oS oT oN oC oE oH cm kd vl pa na ty fr ta ou wk sp yc yd ps ba fl nn wN wT wg sc yt be en ins wh yv yT yC yE td ym h
  exact ⟨rfl, zr_in (len := 0) ⟨h.1, h.2.1, by omega, h.2.2.2.1, Or.inl rfl⟩⟩
theorem i_vc_place {k : Nat} {u : SX} {v : SY} (I : i_Rel k u v) (hk : k + 6 ≤ 3072) : wpX_place (fun r => wpY_place (fun r' => r' = r ∧ i_Rel (k + 6) u v) v) u := by
  refine zr_el (P := fun u v => wpX_place (fun r => wpY_place (fun r' => r' = r ∧ i_Rel (k + 6) u v) v) u) ?_ I
  intro t len ap st er pl wt wn tg rf dp pt zs te pw sg bg dg bl dw es ct bd pr lt T so tA tB tC fN fO fQ fS tO oS oT oN oC oE oH cm kd vl pa na ty fr ta ou wk sp yc yd ps ba fl nn wN wT wg sc yt be en ins wh yv yT yC yE td ym h
  exact ⟨rfl, zr_in h⟩
theorem i_vc_nodes {k : Nat} {u : SX} {v : SY} (I : i_Rel k u v) (hk : k + 6 ≤ 3072) : wpX_nodes (fun r => wpY_nodes (fun r' => r' = r ∧ i_Rel (k + 6) u v) v) u := by
  refine zr_el (P := fun u v => wpX_nodes (fun r => wpY_nodes (fun r' => r' = r ∧ i_Rel (k + 6) u v) v) u) ?_ I
  intro t len ap st er pl wt wn tg rf dp pt zs te pw sg bg dg bl dw es ct bd pr lt T so tA tB tC fN fO fQ fS tO oS oT oN oC oE oH cm kd vl pa na ty fr ta ou wk sp yc yd ps ba fl nn wN wT wg sc yt be en ins wh yv yT yC yE td ym h
  have R : i_Rel (k + 6) (nI len, ap, st, er, pl, wt, wn, tg, rf, dp, pt, zs, te, pw, sg, bg, dg, bl, dw, es, ct, bd, pr, lt, T, so, tA, tB, tC, fN, fO, fQ, fS, tO, oS, oT, oN, oC, oE, oH, cm, kd, vl, pa, na, ty, fr, ta, ou, wk, sp) (nI len, ps, ba, yc, fl, pl, bd, yd, nn, wN, wT, pr, wg, sc, so, tA, tB, tC, fN, fO, fS, yt, fQ, T, be, en, ins, wh, kd, yv, pa, na, ty, fr, ym, oN, yT, yC, yE, oH, ou, td) := zr_in h
  obtain ⟨_, _, _, _, rfl | ⟨rfl, c, _, _, rfl, rfl, _⟩⟩ := h
  · exact br_t rfl (br_t rfl ⟨rfl, R⟩)
  · exact br_f (by decide) (br_f (by decide) ⟨rfl, R⟩)
theorem i_vc_node {k : Nat} {u : SX} {v : SY} (I : i_Rel k u v) (hk : k + 6 ≤ 3072) (v1 : Int32) (v2 : Int32) : wpX_node (fun r => wpY_node (fun r' => r' = r ∧ i_Rel (k + 6) u v) v v1 v2) u v1 v2 := by
  refine zr_el (P := fun u v => wpX_node (fun r => wpY_node (fun r' => r' = r ∧ i_Rel (k + 6) u v) v v1 v2) u v1 v2) ?_ I
  intro t len ap st er pl wt wn tg rf dp pt zs te pw sg bg dg bl dw es ct bd pr lt T so tA tB tC fN fO fQ fS tO oS oT oN oC oE oH cm kd vl pa na ty fr ta ou wk sp yc yd ps ba fl nn wN wT wg sc yt be en ins wh yv yT yC yE td ym h
  have R : i_Rel (k + 6) (nI len, ap, st, er, pl, wt, wn, tg, rf, dp, pt, zs, te, pw, sg, bg, dg, bl, dw, es, ct, bd, pr, lt, T, so, tA, tB, tC, fN, fO, fQ, fS, tO, oS, oT, oN, oC, oE, oH, cm, kd, vl, pa, na, ty, fr, ta, ou, wk, sp) (nI len, ps, ba, yc, fl, pl, bd, yd, nn, wN, wT, pr, wg, sc, so, tA, tB, tC, fN, fO, fS, yt, fQ, T, be, en, ins, wh, kd, yv, pa, na, ty, fr, ym, oN, yT, yC, yE, oH, ou, td) := zr_in h
  obtain ⟨_, _, _, _, rfl | ⟨rfl, c, _, hc, rfl, rfl, hv, _⟩⟩ := h
  · exact br_t rfl (br_t rfl ⟨rfl, R⟩)
  · have b1 : ¬ (1 : Int32) = 0 := by decide
    by_cases h0 : v1 < 0
    · exact br_f b1 (br_t h0 (br_f b1 (br_t h0 ⟨rfl, R⟩)))
    · by_cases h1 : v1 < nI c
      · obtain ⟨j, hj, rfl⟩ := nI_of h0
        have hjc := (nI_ltI hj (by omega)).mp h1
        have h1' : ¬ nI c ≤ nI j := nI_ge hjc (by omega)
        have w : vp_in (nI j) 40 := vp_in_nI (by omega) (by omega)
        have e : (nI j).toNatClampNeg = j := nI_clamp (by omega)
        refine br_f b1 (br_f h0 (br_t h1 ?_))
        by_cases k0 : v2 = 0
        · subst k0
          exact br_t rfl ⟨w, br_f b1 (br_f h0 (br_f h1' (ze_in_t (by decide) (by decide) (br_f b1 (br_t rfl ⟨w, rfl, R⟩)))))⟩
        · by_cases k1 : v2 = 1
          · subst k1
            refine br_f k0 (br_t rfl ⟨w, br_f b1 (br_f h0 (br_f h1' (ze_in_t (by decide) (by decide) (br_f b1 (br_f k0 (br_t rfl ⟨w, ?_, R⟩))))))⟩)
            rw [e]; exact (hv j hjc).symm
          · by_cases k2 : v2 = 2
            · subst k2
              exact br_f k0 (br_f k1 (br_t rfl ⟨w, br_f b1 (br_f h0 (br_f h1' (ze_in_t (by decide) (by decide) (br_f b1 (br_f k0 (br_f k1 (br_t rfl ⟨w, rfl, R⟩)))))))⟩))
            · by_cases k3 : v2 = 3
              · subst k3
                exact br_f k0 (br_f k1 (br_f k2 (br_t rfl ⟨w, br_f b1 (br_f h0 (br_f h1' (ze_in_t (by decide) (by decide) (br_f b1 (br_f k0 (br_f k1 (br_f k2 ⟨w, rfl, R⟩)))))))⟩)))
              · refine br_f k0 (br_f k1 (br_f k2 (br_f k3 (br_f b1 (br_f h0 (br_f h1' (ze_in_f ?_ (br_t rfl ⟨rfl, R⟩))))))))
                by_cases n0 : v2 < 0
                · exact Or.inl n0
                · refine Or.inr ?_
                  obtain ⟨m, hm, rfl⟩ := nI_of n0
                  refine nI_lt (a := 3) ?_ hm
                  have q : ∀ x, ¬ nI m = nI x → m ≠ x := fun x z y => z (by rw [y])
                  have := q 0 k0
                  have := q 1 k1
                  have := q 2 k2
                  have := q 3 k3
                  omega
      · have h1' : nI c ≤ v1 := Int32.not_lt.mp h1
        exact br_f b1 (br_f h0 (br_f h1 (br_f b1 (br_f h0 (br_t h1' ⟨rfl, R⟩)))))
theorem i_vc_printed {k : Nat} {u : SX} {v : SY} (I : i_Rel k u v) (hk : k + 6 ≤ 3072) (v1 : Int32) : wpX_printed (fun r => wpY_printed (fun r' => r' = r ∧ i_Rel (k + 6) u v) v v1) u v1 := by
  refine zr_el (P := fun u v => wpX_printed (fun r => wpY_printed (fun r' => r' = r ∧ i_Rel (k + 6) u v) v v1) u v1) ?_ I
  intro t len ap st er pl wt wn tg rf dp pt zs te pw sg bg dg bl dw es ct bd pr lt T so tA tB tC fN fO fQ fS tO oS oT oN oC oE oH cm kd vl pa na ty fr ta ou wk sp yc yd ps ba fl nn wN wT wg sc yt be en ins wh yv yT yC yE td ym h
  have R : i_Rel (k + 6) (nI len, ap, st, er, pl, wt, wn, tg, rf, dp, pt, zs, te, pw, sg, bg, dg, bl, dw, es, ct, bd, pr, lt, T, so, tA, tB, tC, fN, fO, fQ, fS, tO, oS, oT, oN, oC, oE, oH, cm, kd, vl, pa, na, ty, fr, ta, ou, wk, sp) (nI len, ps, ba, yc, fl, pl, bd, yd, nn, wN, wT, pr, wg, sc, so, tA, tB, tC, fN, fO, fS, yt, fQ, T, be, en, ins, wh, kd, yv, pa, na, ty, fr, ym, oN, yT, yC, yE, oH, ou, td) := zr_in h
  by_cases h0 : v1 < 0
  · exact br_t h0 (br_t h0 ⟨rfl, R⟩)
  · by_cases h1 : v1 < pr
    · have h1' : ¬ pr ≤ v1 := Int32.not_le.mpr h1
      by_cases h2 : 191 < v1
      · exact br_f h0 (br_t h2 (br_f h0 (br_f h1' (br_f (Int32.not_le.mpr h2) ⟨rfl, R⟩))))
      · have h2' : v1 ≤ 191 := Int32.not_lt.mp h2
        obtain ⟨j, hj, rfl⟩ := ze_rg (m := 191) (by decide) h0 h2
        have w : vp_in (nI j) 192 := vp_in_nI (by omega) (by omega)
        exact br_f h0 (br_f h2 (br_t h1 ⟨w, br_f h0 (br_f h1' (br_t h2' ⟨w, rfl, R⟩))⟩))
    · have h1' : pr ≤ v1 := Int32.not_lt.mp h1
      by_cases h2 : 191 < v1
      · exact br_f h0 (br_t h2 (br_f h0 (br_t h1' ⟨rfl, R⟩)))
      · exact br_f h0 (br_f h2 (br_f h1 (br_f h0 (br_t h1' ⟨rfl, R⟩))))
theorem ze_ix (x : Int32) : (x < 0 ∨ nI 12 ≤ x) ∨ ∃ s, s < 12 ∧ x = nI s := by
  rcases pk_ix x (n := 12) (by decide) with h | h | h
  · exact Or.inl (Or.inl h)
  · exact Or.inl (Or.inr h)
  · exact Or.inr h
theorem i_vc_simple {k : Nat} {u : SX} {v : SY} (I : i_Rel k u v) (hk : k + 6 ≤ 3072) (v1 : Int32) (v2 : Int32) (v3 : Int32) (v4 : Int32) (v5 : Int32) : wpX_simple (fun r u' => wpY_simple (fun r' v' => r' = r ∧ i_Rel (k + 6) u' v') v v1 v2 v3 v4 v5) u v1 v2 v3 v4 v5 := by
  refine zr_el (P := fun u v => wpX_simple (fun r u' => wpY_simple (fun r' v' => r' = r ∧ i_Rel (k + 6) u' v') v v1 v2 v3 v4 v5) u v1 v2 v3 v4 v5) ?_ I
  intro t len ap st er pl wt wn tg rf dp pt zs te pw sg bg dg bl dw es ct bd pr lt T so tA tB tC fN fO fQ fS tO oS oT oN oC oE oH cm kd vl pa na ty fr ta ou wk sp yc yd ps ba fl nn wN wT wg sc yt be en ins wh yv yT yC yE td ym h
  have R : i_Rel (k + 6) (nI len, ap, st, er, pl, wt, wn, tg, rf, dp, pt, zs, te, pw, sg, bg, dg, bl, dw, es, ct, bd, pr, lt, T, so, tA, tB, tC, fN, fO, fQ, fS, tO, oS, oT, oN, oC, oE, oH, cm, kd, vl, pa, na, ty, fr, ta, ou, wk, sp) (nI len, ps, ba, yc, fl, pl, bd, yd, nn, wN, wT, pr, wg, sc, so, tA, tB, tC, fN, fO, fS, yt, fQ, T, be, en, ins, wh, kd, yv, pa, na, ty, fr, ym, oN, yT, yC, yE, oH, ou, td) := zr_in h
  have b1 : ¬ (1 : Int32) = 0 := by decide
  unfold wpX_simple
  dsimp only
  rcases ze_ix v1 with hb | ⟨s, hs, rfl⟩
  · exact ze_slot_f hb (br_t rfl (by unfold wpY_simple; dsimp only; exact (ze_in_sf hb (br_t rfl ⟨rfl, R⟩))))
  · by_cases n0 : v2 < 0
    · exact ze_slot_t hs (br_f b1 (br_t n0 (by unfold wpY_simple; dsimp only; exact (ze_in_s hs (br_f b1 (ze_in_f (Or.inl n0) (br_t rfl ⟨rfl, R⟩)))))))
    · by_cases n2 : v2 ≤ 2
      · have n2' : ¬ 2 < v2 := Int32.not_lt.mpr n2
        obtain ⟨w, hw, rfl⟩ := ze_rg (m := 2) (by decide) n0 n2'
        refine ze_slot_t hs (br_f b1 (br_f n0 (br_t n2 ?_)))
        by_cases w0 : nI w = 0
        · have w1 : ¬ nI w = 1 := by rw [w0]; decide
          obtain rfl : w = 0 := za_e (b := 0) w0 (by omega) (by decide)
          refine br_t w0 ?_
          by_cases a0 : v3 < 0
          · exact br_t a0 ((by unfold wpY_simple; dsimp only; exact ze_in_s hs (br_f b1 (ze_in_t n0 n2' (br_f b1 (br_t w0 (ze_in_f (Or.inl a0) (br_t rfl ⟨rfl, R⟩))))))))
          · by_cases a4 : 4 < v3
            · exact br_f a0 (br_t a4 ((by unfold wpY_simple; dsimp only; exact ze_in_s hs (br_f b1 (ze_in_t n0 n2' (br_f b1 (br_t w0 (ze_in_f (Or.inr a4) (br_t rfl ⟨rfl, R⟩)))))))))
            · by_cases bc : v5 < v4
              · exact br_f a0 (br_f a4 (br_t bc ((by unfold wpY_simple; dsimp only; exact ze_in_s hs (br_f b1 (ze_in_t n0 n2' (br_f b1 (br_t w0 (ze_in_t a0 a4 (br_f b1 (br_t bc ⟨rfl, R⟩)))))))))))
              · obtain ⟨x, hx, hx2⟩ := ze_rg (m := 4) (by decide) a0 a4
                refine br_f a0 (br_f a4 (br_f bc (br_f w1 ?_)))
                exact ze_both (k := k) (k0 := 1) (PX := fun P => wX_simple_55 P (nI s) (nI 0) v3 v4 v5 (nI len) ap st er pl wt wn tg rf dp pt zs te pw sg bg dg bl dw es ct bd pr lt T so tA tB tC fN fO fQ fS tO oS oT oN oC oE oH cm kd vl pa na ty fr ta ou wk sp) (PY := fun P => wpY_simple P (nI len, ps, ba, yc, fl, pl, bd, yd, nn, wN, wT, pr, wg, sc, so, tA, tB, tC, fN, fO, fS, yt, fQ, T, be, en, ins, wh, kd, yv, pa, na, ty, fr, ym, oN, yT, yC, yE, oH, ou, td) (nI s) (nI 0) v3 v4 v5) h hs ⟨by decide, fun _ => ⟨x, hx, hx2⟩, fun z => by omega, fun z => by omega, fun z => by omega, fun z => by omega⟩
                  (fun tO' P hb hp => by first | exact hb _ ⟨za_nb1, hp⟩ | (unfold wX_simple_55; exact hb _ ⟨za_nb1, hp⟩) | (unfold wX_members_31; exact hb _ ⟨za_nb1, hp⟩)) (fun yt' P hb hp => (by unfold wpY_simple; dsimp only; exact ze_in_s hs (br_f b1 (ze_in_t n0 n2' (br_f b1 (br_t w0 (ze_in_t a0 a4 (br_f b1 (br_f bc (br_f w1 (hb _ ⟨za_nb1, hp⟩)))))))))))
        · refine br_f w0 ?_
          by_cases w1 : nI w = 1
          · obtain rfl : w = 1 := za_e (b := 1) w1 (by omega) (by decide)
            refine br_t w1 ?_
            by_cases a0 : v3 < 0
            · exact br_t a0 ((by unfold wpY_simple; dsimp only; exact ze_in_s hs (br_f b1 (ze_in_t n0 n2' (br_f b1 (br_f w0 (br_t w1 (ze_in_f (Or.inl a0) (br_t rfl ⟨rfl, R⟩)))))))))
            · by_cases a4 : 40 < v3
              · exact br_f a0 (br_f (Int32.not_le.mpr a4) ((by unfold wpY_simple; dsimp only; exact ze_in_s hs (br_f b1 (ze_in_t n0 n2' (br_f b1 (br_f w0 (br_t w1 (ze_in_f (Or.inr a4) (br_t rfl ⟨rfl, R⟩))))))))))
              · obtain ⟨x, hx, hx2⟩ := ze_rg (m := 40) (by decide) a0 a4
                refine br_f a0 (br_t (Int32.not_lt.mp a4) ?_)
                exact ze_both (k := k) (k0 := 2) (PX := fun P => wX_simple_55 P (nI s) (nI 1) v3 v4 v5 (nI len) ap st er pl wt wn tg rf dp pt zs te pw sg bg dg bl dw es ct bd pr lt T so tA tB tC fN fO fQ fS tO oS oT oN oC oE oH cm kd vl pa na ty fr ta ou wk sp) (PY := fun P => wpY_simple P (nI len, ps, ba, yc, fl, pl, bd, yd, nn, wN, wT, pr, wg, sc, so, tA, tB, tC, fN, fO, fS, yt, fQ, T, be, en, ins, wh, kd, yv, pa, na, ty, fr, ym, oN, yT, yC, yE, oH, ou, td) (nI s) (nI 1) v3 v4 v5) h hs ⟨by decide, fun z => by omega, fun _ => ⟨x, hx, hx2⟩, fun z => by omega, fun z => by omega, fun z => by omega⟩
                  (fun tO' P hb hp => by first | exact hb _ ⟨za_nb1, hp⟩ | (unfold wX_simple_55; exact hb _ ⟨za_nb1, hp⟩) | (unfold wX_members_31; exact hb _ ⟨za_nb1, hp⟩)) (fun yt' P hb hp => (by unfold wpY_simple; dsimp only; exact ze_in_s hs (br_f b1 (ze_in_t n0 n2' (br_f b1 (br_f w0 (br_t w1 (ze_in_t a0 a4 (br_f b1 (hb _ ⟨za_nb1, hp⟩))))))))))
          · obtain rfl : w = 2 := by
              have : w ≠ 0 := fun z => w0 (by rw [z]; rfl)
              have : w ≠ 1 := fun z => w1 (by rw [z]; rfl)
              omega
            refine br_f w1 ?_
            exact ze_both (k := k) (k0 := 3) (PX := fun P => wX_simple_55 P (nI s) (nI 2) v3 v4 v5 (nI len) ap st er pl wt wn tg rf dp pt zs te pw sg bg dg bl dw es ct bd pr lt T so tA tB tC fN fO fQ fS tO oS oT oN oC oE oH cm kd vl pa na ty fr ta ou wk sp) (PY := fun P => wpY_simple P (nI len, ps, ba, yc, fl, pl, bd, yd, nn, wN, wT, pr, wg, sc, so, tA, tB, tC, fN, fO, fS, yt, fQ, T, be, en, ins, wh, kd, yv, pa, na, ty, fr, ym, oN, yT, yC, yE, oH, ou, td) (nI s) (nI 2) v3 v4 v5) h hs ⟨by decide, fun z => by omega, fun z => by omega, fun z => by omega, fun z => by omega, fun z => by omega⟩
              (fun tO' P hb hp => by first | exact hb _ ⟨za_nb1, hp⟩ | (unfold wX_simple_55; exact hb _ ⟨za_nb1, hp⟩) | (unfold wX_members_31; exact hb _ ⟨za_nb1, hp⟩)) (fun yt' P hb hp => (by unfold wpY_simple; dsimp only; exact ze_in_s hs (br_f b1 (ze_in_t n0 n2' (br_f b1 (br_f w0 (br_f w1 (hb _ ⟨za_nb1, hp⟩))))))))
      · have n2' : 2 < v2 := Int32.not_le.mp n2
        exact ze_slot_t hs (br_f b1 (br_f n0 (br_f n2 (by unfold wpY_simple; dsimp only; exact (ze_in_s hs (br_f b1 (ze_in_f (Or.inr n2') (br_t rfl ⟨rfl, R⟩))))))))
theorem i_vc_list {k : Nat} {u : SX} {v : SY} (I : i_Rel k u v) (hk : k + 6 ≤ 3072) (v1 : Int32) (v2 : Int32) (v3 : Int32) (v4 : Int32) : wpX_list (fun r u' => wpY_list (fun r' v' => r' = r ∧ i_Rel (k + 6) u' v') v v1 v2 v3 v4) u v1 v2 v3 v4 := by
  refine zr_el (P := fun u v => wpX_list (fun r u' => wpY_list (fun r' v' => r' = r ∧ i_Rel (k + 6) u' v') v v1 v2 v3 v4) u v1 v2 v3 v4) ?_ I
  intro t len ap st er pl wt wn tg rf dp pt zs te pw sg bg dg bl dw es ct bd pr lt T so tA tB tC fN fO fQ fS tO oS oT oN oC oE oH cm kd vl pa na ty fr ta ou wk sp yc yd ps ba fl nn wN wT wg sc yt be en ins wh yv yT yC yE td ym h
  have R : i_Rel (k + 6) (nI len, ap, st, er, pl, wt, wn, tg, rf, dp, pt, zs, te, pw, sg, bg, dg, bl, dw, es, ct, bd, pr, lt, T, so, tA, tB, tC, fN, fO, fQ, fS, tO, oS, oT, oN, oC, oE, oH, cm, kd, vl, pa, na, ty, fr, ta, ou, wk, sp) (nI len, ps, ba, yc, fl, pl, bd, yd, nn, wN, wT, pr, wg, sc, so, tA, tB, tC, fN, fO, fS, yt, fQ, T, be, en, ins, wh, kd, yv, pa, na, ty, fr, ym, oN, yT, yC, yE, oH, ou, td) := zr_in h
  have b1 : ¬ (1 : Int32) = 0 := by decide
  unfold wpX_list
  dsimp only
  rcases ze_ix v1 with hb | ⟨s, hs, rfl⟩
  · exact ze_slot_f hb (br_t rfl (by unfold wpY_list; dsimp only; exact (ze_in_sf hb (br_t rfl ⟨rfl, R⟩))))
  · rcases ze_ix v2 with hb | ⟨o, ho, rfl⟩
    · exact ze_slot_t hs (br_f b1 (ze_slot_f hb (br_t rfl (by unfold wpY_list; dsimp only; exact (ze_in_s hs (br_f b1 (ze_in_sf hb (br_t rfl ⟨rfl, R⟩))))))))
    · refine ze_slot_t hs (br_f b1 (ze_slot_t ho (br_f b1 ?_)))
      by_cases n0 : v3 < 0
      · exact br_t n0 ((by unfold wpY_list; dsimp only; exact ze_in_s hs (br_f b1 (ze_in_s ho (br_f b1 (br_t n0 ⟨rfl, R⟩))))))
      · by_cases n1 : v4 < v3
        · exact br_f n0 (br_t n1 ((by unfold wpY_list; dsimp only; exact ze_in_s hs (br_f b1 (ze_in_s ho (br_f b1 (br_f n0 (br_t n1 ⟨rfl, R⟩))))))))
        · by_cases n2 : v4 ≤ 20
          · have v40 : ¬ v4 < 0 := fun z => by
              rw [Int32.lt_iff_toInt_lt, show ((0 : Int32)).toInt = 0 from by decide] at z n0
              rw [Int32.lt_iff_toInt_lt] at n1
              omega
            obtain ⟨y, hy, hy2⟩ := ze_rg (m := 20) (by decide) v40 (Int32.not_lt.mpr n2)
            refine br_f n0 (br_f n1 (br_t n2 ?_))
            exact ze_both (k := k) (k0 := 4) (PX := fun P => wpX_become (fun r u => match u with | (ln, ap, st, er, pl, wt, wn, tg, rf, dp, pt, zs, te, pw, sg, bg, dg, bl, dw, es, ct, bd, pr, lt, T, so, tA, tB, tC, fN, fO, fQ, fS, tO, oS, oT, oN, oC, oE, oH, cm, kd, vl, pa, na, ty, fr, ta, ou, wk, sp) => (narrow .boolean (.int r) = .int r ∧ (P r (ln, ap, st, er, pl, wt, wn, tg, rf, dp, pt, zs, te, pw, sg, bg, dg, bl, dw, es, ct, bd, pr, lt, T, so, tA, tB, tC, fN, fO, fQ, fS, tO, oS, oT, oN, oC, oE, oH, cm, kd, vl, pa, na, ty, fr, ta, ou, wk, sp)))) (nI len, ap, st, er, pl, wt, wn, tg, rf, dp, pt, zs, te, pw, sg, bg, dg, bl, dw, es, ct, bd, pr, lt, T, so, tA, tB, tC, fN, fO, fQ, fS, tO, oS, oT, oN, oC, oE, oH, cm, kd, vl, pa, na, ty, fr, ta, ou, wk, sp) (nI s) 4 (nI o) v3 v4) (PY := fun P => wpY_list P (nI len, ps, ba, yc, fl, pl, bd, yd, nn, wN, wT, pr, wg, sc, so, tA, tB, tC, fN, fO, fS, yt, fQ, T, be, en, ins, wh, kd, yv, pa, na, ty, fr, ym, oN, yT, yC, yE, oH, ou, td) (nI s) (nI o) v3 v4) h hs ⟨by decide, fun z => by omega, fun z => by omega, fun _ => ⟨⟨o, ho, rfl⟩, y, hy, hy2⟩, fun z => by omega, fun z => by omega⟩
              (fun tO' P hb hp => by first | exact hb _ ⟨za_nb1, hp⟩ | (unfold wX_simple_55; exact hb _ ⟨za_nb1, hp⟩) | (unfold wX_members_31; exact hb _ ⟨za_nb1, hp⟩)) (fun yt' P hb hp => (by unfold wpY_list; dsimp only; exact ze_in_s hs (br_f b1 (ze_in_s ho (br_f b1 (br_f n0 (br_f n1 (br_t n2 (hb _ ⟨za_nb1, hp⟩)))))))))
          · exact br_f n0 (br_f n1 (br_f n2 ((by unfold wpY_list; dsimp only; exact ze_in_s hs (br_f b1 (ze_in_s ho (br_f b1 (br_f n0 (br_f n1 (br_f n2 ⟨rfl, R⟩))))))))))
theorem ze_m1 {x : Int32} (h : ¬ x < -1) (h0 : ¬ 0 ≤ x) : x = -1 := by
  apply Int32.toInt_inj.mp
  rw [Int32.lt_iff_toInt_lt, show ((-1 : Int32)).toInt = -1 from by decide] at h
  rw [Int32.le_iff_toInt_le, show ((0 : Int32)).toInt = 0 from by decide] at h0
  rw [show ((-1 : Int32)).toInt = -1 from by decide]
  omega
theorem i_vc_members {k : Nat} {u : SX} {v : SY} (I : i_Rel k u v) (hk : k + 6 ≤ 3072) (v1 : Int32) (v2 : Int32) : wpX_members (fun r u' => wpY_members (fun r' v' => r' = r ∧ i_Rel (k + 6) u' v') v v1 v2) u v1 v2 := by
  refine zr_el (P := fun u v => wpX_members (fun r u' => wpY_members (fun r' v' => r' = r ∧ i_Rel (k + 6) u' v') v v1 v2) u v1 v2) ?_ I
  intro t len ap st er pl wt wn tg rf dp pt zs te pw sg bg dg bl dw es ct bd pr lt T so tA tB tC fN fO fQ fS tO oS oT oN oC oE oH cm kd vl pa na ty fr ta ou wk sp yc yd ps ba fl nn wN wT wg sc yt be en ins wh yv yT yC yE td ym h
  have R : i_Rel (k + 6) (nI len, ap, st, er, pl, wt, wn, tg, rf, dp, pt, zs, te, pw, sg, bg, dg, bl, dw, es, ct, bd, pr, lt, T, so, tA, tB, tC, fN, fO, fQ, fS, tO, oS, oT, oN, oC, oE, oH, cm, kd, vl, pa, na, ty, fr, ta, ou, wk, sp) (nI len, ps, ba, yc, fl, pl, bd, yd, nn, wN, wT, pr, wg, sc, so, tA, tB, tC, fN, fO, fS, yt, fQ, T, be, en, ins, wh, kd, yv, pa, na, ty, fr, ym, oN, yT, yC, yE, oH, ou, td) := zr_in h
  have b1 : ¬ (1 : Int32) = 0 := by decide
  unfold wpX_members
  dsimp only
  rcases ze_ix v1 with hb | ⟨s, hs, rfl⟩
  · exact ze_slot_f hb (br_t rfl (by unfold wpY_members; dsimp only; exact (ze_in_sf hb (br_t rfl ⟨rfl, R⟩))))
  · by_cases n0 : v2 < -1
    · exact ze_slot_t hs (br_f b1 (br_t n0 (by unfold wpY_members; dsimp only; exact (ze_in_s hs (br_f b1 (ze_in_f (Or.inl n0) (br_t rfl ⟨rfl, R⟩)))))))
    · by_cases n5 : 5 < v2
      · exact ze_slot_t hs (br_f b1 (br_f n0 (br_f (Int32.not_le.mpr n5) (by unfold wpY_members; dsimp only; exact (ze_in_s hs (br_f b1 (ze_in_f (Or.inr n5) (br_t rfl ⟨rfl, R⟩))))))))
      · refine ze_slot_t hs (br_f b1 (br_f n0 (br_t (Int32.not_lt.mp n5) ?_)))
        by_cases p0 : 0 ≤ v2
        · obtain ⟨x, hx, hx2⟩ := ze_rg (m := 5) (by decide) (Int32.not_lt.mpr p0) n5
          refine br_t p0 ?_
          exact ze_both (k := k) (k0 := 6) (PX := fun P => wX_members_31 P v2 6 (nI s) (nI len) ap st er pl wt wn tg rf dp pt zs te pw sg bg dg bl dw es ct bd pr lt T so tA tB tC fN fO fQ fS tO oS oT oN oC oE oH cm kd vl pa na ty fr ta ou wk sp) (PY := fun P => wpY_members P (nI len, ps, ba, yc, fl, pl, bd, yd, nn, wN, wT, pr, wg, sc, so, tA, tB, tC, fN, fO, fS, yt, fQ, T, be, en, ins, wh, kd, yv, pa, na, ty, fr, ym, oN, yT, yC, yE, oH, ou, td) (nI s) v2) h hs ⟨by decide, fun z => by omega, fun z => by omega, fun z => by omega, fun _ => ⟨x, hx, hx2⟩, fun z => by omega⟩
            (fun tO' P hb hp => by first | exact hb _ ⟨za_nb1, hp⟩ | (unfold wX_simple_55; exact hb _ ⟨za_nb1, hp⟩) | (unfold wX_members_31; exact hb _ ⟨za_nb1, hp⟩)) (fun yt' P hb hp => (by unfold wpY_members; dsimp only; exact ze_in_s hs (br_f b1 (ze_in_t n0 n5 (br_f b1 (br_t p0 (hb _ (br_f b1 hp))))))))
        · refine br_f p0 ?_
          exact ze_both (k := k) (k0 := 5) (PX := fun P => wX_members_31 P v2 5 (nI s) (nI len) ap st er pl wt wn tg rf dp pt zs te pw sg bg dg bl dw es ct bd pr lt T so tA tB tC fN fO fQ fS tO oS oT oN oC oE oH cm kd vl pa na ty fr ta ou wk sp) (PY := fun P => wpY_members P (nI len, ps, ba, yc, fl, pl, bd, yd, nn, wN, wT, pr, wg, sc, so, tA, tB, tC, fN, fO, fS, yt, fQ, T, be, en, ins, wh, kd, yv, pa, na, ty, fr, ym, oN, yT, yC, yE, oH, ou, td) (nI s) v2) h hs ⟨by decide, fun z => by omega, fun z => by omega, fun z => by omega, fun z => by omega, fun z => by omega⟩
            (fun tO' P hb hp => by first | exact hb _ ⟨za_nb1, hp⟩ | (unfold wX_simple_55; exact hb _ ⟨za_nb1, hp⟩) | (unfold wX_members_31; exact hb _ ⟨za_nb1, hp⟩)) (fun yt' P hb hp => (by unfold wpY_members; dsimp only; exact ze_in_s hs (br_f b1 (ze_in_t n0 n5 (br_f b1 (br_f p0 (hb _ (br_f b1 hp))))))))
theorem i_vc_wrap {k : Nat} {u : SX} {v : SY} (I : i_Rel k u v) (hk : k + 6 ≤ 3072) (v1 : Int32) (v2 : Int32) (v3 : Int32) : wpX_wrap (fun r u' => wpY_wrap (fun r' v' => r' = r ∧ i_Rel (k + 6) u' v') v v1 v2 v3) u v1 v2 v3 := by
  refine zr_el (P := fun u v => wpX_wrap (fun r u' => wpY_wrap (fun r' v' => r' = r ∧ i_Rel (k + 6) u' v') v v1 v2 v3) u v1 v2 v3) ?_ I
  intro t len ap st er pl wt wn tg rf dp pt zs te pw sg bg dg bl dw es ct bd pr lt T so tA tB tC fN fO fQ fS tO oS oT oN oC oE oH cm kd vl pa na ty fr ta ou wk sp yc yd ps ba fl nn wN wT wg sc yt be en ins wh yv yT yC yE td ym h
  have R : i_Rel (k + 6) (nI len, ap, st, er, pl, wt, wn, tg, rf, dp, pt, zs, te, pw, sg, bg, dg, bl, dw, es, ct, bd, pr, lt, T, so, tA, tB, tC, fN, fO, fQ, fS, tO, oS, oT, oN, oC, oE, oH, cm, kd, vl, pa, na, ty, fr, ta, ou, wk, sp) (nI len, ps, ba, yc, fl, pl, bd, yd, nn, wN, wT, pr, wg, sc, so, tA, tB, tC, fN, fO, fS, yt, fQ, T, be, en, ins, wh, kd, yv, pa, na, ty, fr, ym, oN, yT, yC, yE, oH, ou, td) := zr_in h
  have b1 : ¬ (1 : Int32) = 0 := by decide
  unfold wpX_wrap
  dsimp only
  rcases ze_ix v1 with hb | ⟨s, hs, rfl⟩
  · exact ze_slot_f hb (br_t rfl (by unfold wpY_wrap; dsimp only; exact (ze_in_sf hb (br_t rfl ⟨rfl, R⟩))))
  · by_cases n0 : v2 < 0
    · exact ze_slot_t hs (br_f b1 (br_t n0 (by unfold wpY_wrap; dsimp only; exact (ze_in_s hs (br_f b1 (ze_in_f (Or.inl n0) (br_t rfl ⟨rfl, R⟩)))))))
    · by_cases n1 : 1 < v2
      · exact ze_slot_t hs (br_f b1 (br_f n0 (br_t n1 (by unfold wpY_wrap; dsimp only; exact (ze_in_s hs (br_f b1 (ze_in_f (Or.inr n1) (br_t rfl ⟨rfl, R⟩))))))))
      · obtain ⟨x, hx, rfl⟩ := ze_rg (m := 1) (by decide) n0 n1
        refine ze_slot_t hs (br_f b1 (br_f n0 (br_f n1 ?_)))
        rcases ze_ix v3 with hb | ⟨o, ho, rfl⟩
        · exact ze_slot_f hb (br_t rfl (by unfold wpY_wrap; dsimp only; exact (ze_in_s hs (br_f b1 (ze_in_t n0 n1 (br_f b1 (ze_in_sf hb (br_t rfl ⟨rfl, R⟩))))))))
        · refine ze_slot_t ho (br_f b1 ?_)
          have e7 : (7 : Int32) + nI x = nI (7 + x) := nI_add 7 x
          exact ze_both (k := k) (k0 := 7 + x) (PX := fun P => wpX_become (fun r u => match u with | (ln, ap, st, er, pl, wt, wn, tg, rf, dp, pt, zs, te, pw, sg, bg, dg, bl, dw, es, ct, bd, pr, lt, T, so, tA, tB, tC, fN, fO, fQ, fS, tO, oS, oT, oN, oC, oE, oH, cm, kd, vl, pa, na, ty, fr, ta, ou, wk, sp) => (narrow .boolean (.int r) = .int r ∧ (P r (ln, ap, st, er, pl, wt, wn, tg, rf, dp, pt, zs, te, pw, sg, bg, dg, bl, dw, es, ct, bd, pr, lt, T, so, tA, tB, tC, fN, fO, fQ, fS, tO, oS, oT, oN, oC, oE, oH, cm, kd, vl, pa, na, ty, fr, ta, ou, wk, sp)))) (nI len, ap, st, er, pl, wt, wn, tg, rf, dp, pt, zs, te, pw, sg, bg, dg, bl, dw, es, ct, bd, pr, lt, T, so, tA, tB, tC, fN, fO, fQ, fS, tO, oS, oT, oN, oC, oE, oH, cm, kd, vl, pa, na, ty, fr, ta, ou, wk, sp) (nI s) (7 + nI x) (nI o) 0 0) (PY := fun P => wpY_wrap P (nI len, ps, ba, yc, fl, pl, bd, yd, nn, wN, wT, pr, wg, sc, so, tA, tB, tC, fN, fO, fS, yt, fQ, T, be, en, ins, wh, kd, yv, pa, na, ty, fr, ym, oN, yT, yC, yE, oH, ou, td) (nI s) (nI x) (nI o)) h hs ⟨by omega, fun z => by omega, fun z => by omega, fun z => by omega, fun z => by omega, fun _ => ⟨o, ho, rfl⟩⟩
            (fun tO' P hb hp => by rw [e7]; exact hb _ ⟨za_nb1, hp⟩) (fun yt' P hb hp => (by unfold wpY_wrap; dsimp only; exact ze_in_s hs (br_f b1 (ze_in_t n0 n1 (br_f b1 (ze_in_s ho (br_f b1 (by rw [e7]; exact hb _ (br_f b1 hp)))))))))
end ZE2
end
section
/-! fields by name -/
section ZF
def zf_no (fN : Nat → Int32) (s n : Nat) (nm : Int32) : Prop := ∀ f, f < n → fN (4 * s + f) ≠ nm
def zf_at (fN : Nat → Int32) (s n : Nat) (nm : Int32) (f : Nat) : Prop := f < n ∧ fN (4 * s + f) = nm ∧ ∀ g, g < f → fN (4 * s + g) ≠ nm
theorem zf_ex (fN : Nat → Int32) (s : Nat) (nm : Int32) : ∀ n, zf_no fN s n nm ∨ ∃ f, zf_at fN s n nm f := by
  intro n
  induction n with
  | zero => exact Or.inl (fun f hf => by omega)
  | succ n ih =>
    rcases ih with h | ⟨f, h1, h2, h3⟩
    · by_cases c : fN (4 * s + n) = nm
      · exact Or.inr ⟨n, by omega, c, h⟩
      · refine Or.inl (fun f hf => ?_)
        by_cases e : f = n
        · subst e; exact c
        · exact h f (by omega)
    · exact Or.inr ⟨f, by omega, h2, h3⟩
theorem zf_4 (s j : Nat) : 4 * nI s + nI j = nI (4 * s + j) := by rw [← nI_add, ← pk_mul]; rfl
theorem zf_x {s n : Nat} {nm : Int32} {ln ap st er pl wt wn tg rf dp pt zs te pw sg bg bl dw es ct bd pr lt : Int32} {dg : Int64} {T so tA tB tC fN fO fQ fS tO oS oT oN oC oE oH cm kd vl pa na ty fr ta ou wk sp : Nat → Int32} {post : Int32 → Prop} (hs : s < 12) (hn : n ≤ 4) (hfS : fS s = nI n) : ∀ d j m, j + d ≤ n → (∀ g, g < j + d → fN (4 * s + g) ≠ nm) → (∀ m', wX_fieldOfName_4 post (nI s) nm ln ap st er pl wt wn tg rf dp pt zs te pw sg bg dg bl dw es ct bd pr lt T so tA tB tC fN fO fQ fS tO oS oT oN oC oE oH cm kd vl pa na ty fr ta ou wk sp (m' + 1) (nI (4 * s + (j + d)))) → d < m → wX_fieldOfName_4 post (nI s) nm ln ap st er pl wt wn tg rf dp pt zs te pw sg bg dg bl dw es ct bd pr lt T so tA tB tC fN fO fQ fS tO oS oT oN oC oE oH cm kd vl pa na ty fr ta ou wk sp m (nI (4 * s + j)) := by
  intro d
  induction d with
  | zero =>
    intro j m h1 h2 h3 h4
    obtain ⟨m, rfl⟩ : ∃ m', m = m' + 1 := ⟨m - 1, by omega⟩
    exact h3 m
  | succ d ih =>
    intro j m h1 h2 h3 h4
    obtain ⟨m, rfl⟩ : ∃ m', m = m' + 1 := ⟨m - 1, by omega⟩
    have e : 4 * nI s + fS (nI s).toNatClampNeg = nI (4 * s + n) := by rw [nI_clamp (by omega), hfS, zf_4]
    refine ⟨vp_in_nI hs (by omega), br_f ?_ ⟨vp_in_nI (by omega) (by omega), br_f ?_ (nm_r (nI_1 (4 * s + j)) (ih (j + 1) m (by omega) (fun g hg => h2 g (by omega)) (by rw [show j + 1 + d = j + (d + 1) from by omega]; exact h3) (by omega)))⟩⟩
    · rw [e]; exact nI_ge (by omega) (by omega)
    · rw [nI_clamp (by omega)]; exact h2 j (by omega)
theorem zf_x_no {s n : Nat} {nm : Int32} {ln ap st er pl wt wn tg rf dp pt zs te pw sg bg bl dw es ct bd pr lt : Int32} {dg : Int64} {T so tA tB tC fN fO fQ fS tO oS oT oN oC oE oH cm kd vl pa na ty fr ta ou wk sp : Nat → Int32} {post : Int32 → Prop} (hs : s < 12) (hn : n ≤ 4) (hfS : fS s = nI n) (h : zf_no fN s n nm) (hp : post (-1)) : wpX_fieldOfName post (ln, ap, st, er, pl, wt, wn, tg, rf, dp, pt, zs, te, pw, sg, bg, dg, bl, dw, es, ct, bd, pr, lt, T, so, tA, tB, tC, fN, fO, fQ, fS, tO, oS, oT, oN, oC, oE, oH, cm, kd, vl, pa, na, ty, fr, ta, ou, wk, sp) (nI s) nm := by
  refine nm_r (e' := nI (4 * s + 0)) (by rw [Nat.add_zero, ← pk_mul]; rfl) ⟨6, zf_x hs hn hfS n 0 6 (by omega) (fun g hg => h g (by omega)) (fun m' => ⟨vp_in_nI hs (by omega), br_t ?_ hp⟩) (by omega)⟩
  rw [nI_clamp (by omega), hfS, zf_4]
  exact nI_le (by omega) (by omega)
theorem zf_x_at {s n f : Nat} {nm : Int32} {ln ap st er pl wt wn tg rf dp pt zs te pw sg bg bl dw es ct bd pr lt : Int32} {dg : Int64} {T so tA tB tC fN fO fQ fS tO oS oT oN oC oE oH cm kd vl pa na ty fr ta ou wk sp : Nat → Int32} {post : Int32 → Prop} (hs : s < 12) (hn : n ≤ 4) (hfS : fS s = nI n) (h : zf_at fN s n nm f) (hp : post (nI (4 * s + f))) : wpX_fieldOfName post (ln, ap, st, er, pl, wt, wn, tg, rf, dp, pt, zs, te, pw, sg, bg, dg, bl, dw, es, ct, bd, pr, lt, T, so, tA, tB, tC, fN, fO, fQ, fS, tO, oS, oT, oN, oC, oE, oH, cm, kd, vl, pa, na, ty, fr, ta, ou, wk, sp) (nI s) nm := by
  obtain ⟨h1, h2, h3⟩ := h
  refine nm_r (e' := nI (4 * s + 0)) (by rw [Nat.add_zero, ← pk_mul]; rfl) ⟨6, zf_x hs hn hfS f 0 6 (by omega) (fun g hg => h3 g (by omega)) (fun m' => ⟨vp_in_nI hs (by omega), br_f ?_ ⟨vp_in_nI (by omega) (by omega), br_t ?_ ?_⟩⟩) (by omega)⟩
  · rw [nI_clamp (by omega), hfS, zf_4]
    exact nI_ge (by omega) (by omega)
  · rw [nI_clamp (by omega), Nat.zero_add]; exact h2
  · rw [Nat.zero_add]; exact hp
theorem zf_y {s n : Nat} {nm : Int32} {ln ps ba ct fl yp yb dp nn wN wT pr wg sc : Int32} {so tA tB tC fN fO fS yt fQ T be en ins wh kd yv pa na ty fr cm oN yT yC yE oH ou td : Nat → Int32} {post : Int32 → Prop} (hs : s < 12) (hn : n ≤ 4) (hfS : fS s = nI n) : ∀ d j m, j + d ≤ n → (∀ g, g < j + d → fN (4 * s + g) ≠ nm) → (∀ m', wY_fieldOf_4 post (nI s) nm ln ps ba ct fl yp yb dp nn wN wT pr wg sc so tA tB tC fN fO fS yt fQ T be en ins wh kd yv pa na ty fr cm oN yT yC yE oH ou td (m' + 1) (nI (4 * s + (j + d)))) → d < m → wY_fieldOf_4 post (nI s) nm ln ps ba ct fl yp yb dp nn wN wT pr wg sc so tA tB tC fN fO fS yt fQ T be en ins wh kd yv pa na ty fr cm oN yT yC yE oH ou td m (nI (4 * s + j)) := by
  intro d
  induction d with
  | zero =>
    intro j m h1 h2 h3 h4
    obtain ⟨m, rfl⟩ : ∃ m', m = m' + 1 := ⟨m - 1, by omega⟩
    exact h3 m
  | succ d ih =>
    intro j m h1 h2 h3 h4
    obtain ⟨m, rfl⟩ : ∃ m', m = m' + 1 := ⟨m - 1, by omega⟩
    have e : 4 * nI s + fS (nI s).toNatClampNeg = nI (4 * s + n) := by rw [nI_clamp (by omega), hfS, zf_4]
    refine ⟨vp_in_nI hs (by omega), br_f ?_ ⟨vp_in_nI (by omega) (by omega), br_f ?_ (nm_r (nI_1 (4 * s + j)) (ih (j + 1) m (by omega) (fun g hg => h2 g (by omega)) (by rw [show j + 1 + d = j + (d + 1) from by omega]; exact h3) (by omega)))⟩⟩
    · rw [e]; exact nI_ge (by omega) (by omega)
    · rw [nI_clamp (by omega)]; exact h2 j (by omega)
theorem zf_y_no {s n : Nat} {nm : Int32} {ln ps ba ct fl yp yb dp nn wN wT pr wg sc : Int32} {so tA tB tC fN fO fS yt fQ T be en ins wh kd yv pa na ty fr cm oN yT yC yE oH ou td : Nat → Int32} {post : Int32 → Prop} (hs : s < 12) (hn : n ≤ 4) (hfS : fS s = nI n) (h : zf_no fN s n nm) (hp : post (-1)) : wpY_fieldOf post (ln, ps, ba, ct, fl, yp, yb, dp, nn, wN, wT, pr, wg, sc, so, tA, tB, tC, fN, fO, fS, yt, fQ, T, be, en, ins, wh, kd, yv, pa, na, ty, fr, cm, oN, yT, yC, yE, oH, ou, td) (nI s) nm := by
  refine nm_r (e' := nI (4 * s + 0)) (by rw [Nat.add_zero, ← pk_mul]; rfl) ⟨6, zf_y hs hn hfS n 0 6 (by omega) (fun g hg => h g (by omega)) (fun m' => ⟨vp_in_nI hs (by omega), br_t ?_ hp⟩) (by omega)⟩
  rw [nI_clamp (by omega), hfS, zf_4]
  exact nI_le (by omega) (by omega)
theorem zf_y_at {s n f : Nat} {nm : Int32} {ln ps ba ct fl yp yb dp nn wN wT pr wg sc : Int32} {so tA tB tC fN fO fS yt fQ T be en ins wh kd yv pa na ty fr cm oN yT yC yE oH ou td : Nat → Int32} {post : Int32 → Prop} (hs : s < 12) (hn : n ≤ 4) (hfS : fS s = nI n) (h : zf_at fN s n nm f) (hp : post (nI (4 * s + f))) : wpY_fieldOf post (ln, ps, ba, ct, fl, yp, yb, dp, nn, wN, wT, pr, wg, sc, so, tA, tB, tC, fN, fO, fS, yt, fQ, T, be, en, ins, wh, kd, yv, pa, na, ty, fr, cm, oN, yT, yC, yE, oH, ou, td) (nI s) nm := by
  obtain ⟨h1, h2, h3⟩ := h
  refine nm_r (e' := nI (4 * s + 0)) (by rw [Nat.add_zero, ← pk_mul]; rfl) ⟨6, zf_y hs hn hfS f 0 6 (by omega) (fun g hg => h3 g (by omega)) (fun m' => ⟨vp_in_nI hs (by omega), br_f ?_ ⟨vp_in_nI (by omega) (by omega), br_t ?_ ?_⟩⟩) (by omega)⟩
  · rw [nI_clamp (by omega), hfS, zf_4]
    exact nI_ge (by omega) (by omega)
  · rw [nI_clamp (by omega), Nat.zero_add]; exact h2
  · rw [Nat.zero_add]; exact hp
theorem zf_Tab {so tA tC fN fO fS tO yt : Nat → Int32} {s n a o : Nat} (h : zr_Tab so tA tC fN fO fS tO yt) (hs : s < 12) (hn : n < 4) (hfS : fS s = nI n) (hno : zf_no fN s n (nI a)) (ha : a ≤ 5) (ho : o < 12) :
    zr_Tab so tA tC (upd fN (4 * s + n) (nI a)) (upd fO (4 * s + n) (nI o)) (upd fS s (nI (n + 1))) tO yt := by
  intro r hr
  obtain ⟨m1, m2, m3, m4, m5, m6, m7, nr, m8, m9, m10, m11⟩ := h r hr
  refine ⟨m1, m2, m3, m4, m5, m6, m7, ?_⟩
  by_cases e : r = s
  · subst e
    obtain rfl : nr = n := za_e (m9.symm.trans hfS) (by omega) (by omega)
    refine ⟨nr + 1, by omega, pk_us, fun f hf => ?_, fun f f' hf hf' => ?_⟩
    · by_cases e2 : f = nr
      · subst e2
        rw [pk_us, pk_us]
        exact ⟨⟨a, ha, rfl⟩, o, ho, rfl⟩
      · rw [pk_un (by omega), pk_un (by omega)]
        exact m10 f (by omega)
    · by_cases e2 : f = nr
      · by_cases e3 : f' = nr
        · intro _; omega
        · subst e2
          rw [pk_us, pk_un (by omega)]
          intro z
          exact absurd z.symm (hno f' (by omega))
      · by_cases e3 : f' = nr
        · subst e3
          rw [pk_us, pk_un (by omega)]
          intro z
          exact absurd z (hno f (by omega))
        · rw [pk_un (by omega), pk_un (by omega)]
          exact m11 f f' (by omega) (by omega)
  · refine ⟨nr, m8, by rw [pk_un e]; exact m9, fun f hf => ?_, fun f f' hf hf' => ?_⟩
    · rw [pk_un (by omega), pk_un (by omega)]
      exact m10 f hf
    · rw [pk_un (by omega), pk_un (by omega)]
      exact m11 f f' hf hf'
theorem ze_so_f {ln ps ba ct fl yp yb dp nn wN wT pr wg sc : Int32} {so tA tB tC fN fO fS yt fQ T be en ins wh kd yv pa na ty fr cm oN yT yC yE oH ou td : Nat → Int32} {post : Int32 → Prop} {x k : Int32} (hx : x < 0 ∨ nI 12 ≤ x) (h : post 0) : wpY_isSort post (ln, ps, ba, ct, fl, yp, yb, dp, nn, wN, wT, pr, wg, sc, so, tA, tB, tC, fN, fO, fS, yt, fQ, T, be, en, ins, wh, kd, yv, pa, na, ty, fr, cm, oN, yT, yC, yE, oH, ou, td) x k := by
  unfold wpY_isSort
  dsimp only
  exact ze_in_sf hx (br_t rfl h)
theorem ze_so_t {ln ps ba ct fl yp yb dp nn wN wT pr wg sc : Int32} {so tA tB tC fN fO fS yt fQ T be en ins wh kd yv pa na ty fr cm oN yT yC yE oH ou td : Nat → Int32} {post : Int32 → Prop} {s : Nat} {k : Int32} (hs : s < 12) (hk : so (nI s).toNatClampNeg = k) (h : post 1) : wpY_isSort post (ln, ps, ba, ct, fl, yp, yb, dp, nn, wN, wT, pr, wg, sc, so, tA, tB, tC, fN, fO, fS, yt, fQ, T, be, en, ins, wh, kd, yv, pa, na, ty, fr, cm, oN, yT, yC, yE, oH, ou, td) (nI s) k := by
  unfold wpY_isSort
  dsimp only
  exact ze_in_s hs (br_f (by decide) ⟨vp_in_nI hs (by omega), br_t hk h⟩)
theorem ze_so_n {ln ps ba ct fl yp yb dp nn wN wT pr wg sc : Int32} {so tA tB tC fN fO fS yt fQ T be en ins wh kd yv pa na ty fr cm oN yT yC yE oH ou td : Nat → Int32} {post : Int32 → Prop} {s : Nat} {k : Int32} (hs : s < 12) (hk : ¬ so (nI s).toNatClampNeg = k) (h : post 0) : wpY_isSort post (ln, ps, ba, ct, fl, yp, yb, dp, nn, wN, wT, pr, wg, sc, so, tA, tB, tC, fN, fO, fS, yt, fQ, T, be, en, ins, wh, kd, yv, pa, na, ty, fr, cm, oN, yT, yC, yE, oH, ou, td) (nI s) k := by
  unfold wpY_isSort
  dsimp only
  exact ze_in_s hs (br_f (by decide) ⟨vp_in_nI hs (by omega), br_f hk h⟩)
theorem i_vc_field {k : Nat} {u : SX} {v : SY} (I : i_Rel k u v) (hk : k + 6 ≤ 3072) (v1 : Int32) (v2 : Int32) (v3 : Int32) (v4 : Int32) : wpX_field (fun r u' => wpY_field (fun r' v' => r' = r ∧ i_Rel (k + 6) u' v') v v1 v2 v3 (lw_bz v4)) u v1 v2 v3 (lw_bz v4) := by
  refine zr_el (P := fun u v => wpX_field (fun r u' => wpY_field (fun r' v' => r' = r ∧ i_Rel (k + 6) u' v') v v1 v2 v3 (lw_bz v4)) u v1 v2 v3 (lw_bz v4)) ?_ I
  intro t len ap st er pl wt wn tg rf dp pt zs te pw sg bg dg bl dw es ct bd pr lt T so tA tB tC fN fO fQ fS tO oS oT oN oC oE oH cm kd vl pa na ty fr ta ou wk sp yc yd ps ba fl nn wN wT wg sc yt be en ins wh yv yT yC yE td ym h
  have R : i_Rel (k + 6) (nI len, ap, st, er, pl, wt, wn, tg, rf, dp, pt, zs, te, pw, sg, bg, dg, bl, dw, es, ct, bd, pr, lt, T, so, tA, tB, tC, fN, fO, fQ, fS, tO, oS, oT, oN, oC, oE, oH, cm, kd, vl, pa, na, ty, fr, ta, ou, wk, sp) (nI len, ps, ba, yc, fl, pl, bd, yd, nn, wN, wT, pr, wg, sc, so, tA, tB, tC, fN, fO, fS, yt, fQ, T, be, en, ins, wh, kd, yv, pa, na, ty, fr, ym, oN, yT, yC, yE, oH, ou, td) := zr_in h
  have b1 : ¬ (1 : Int32) = 0 := by decide
  unfold wpX_field
  dsimp only
  rcases ze_ix v1 with hb | ⟨s, hs, rfl⟩
  · exact ze_slot_f hb (br_t rfl (by unfold wpY_field; dsimp only; exact ze_so_f hb (br_t rfl ⟨rfl, R⟩)))
  · have w : vp_in (nI s) 12 := vp_in_nI hs (by omega)
    have e : (nI s).toNatClampNeg = s := nI_clamp (by omega)
    refine ze_slot_t hs (br_f b1 ⟨w, ?_⟩)
    by_cases s5 : so (nI s).toNatClampNeg = 5
    · refine br_t s5 ?_
      by_cases a0 : v2 < 0
      · exact br_t a0 ((by unfold wpY_field; dsimp only; exact ze_so_t hs s5 (br_f b1 (ze_in_f (Or.inl a0) (br_t rfl ⟨rfl, R⟩)))))
      · by_cases a5 : 5 < v2
        · exact br_f a0 (br_t a5 ((by unfold wpY_field; dsimp only; exact ze_so_t hs s5 (br_f b1 (ze_in_f (Or.inr a5) (br_t rfl ⟨rfl, R⟩))))))
        · refine br_f a0 (br_f a5 ?_)
          rcases ze_ix v3 with hb | ⟨o, ho, rfl⟩
          · exact ze_slot_f hb (br_t rfl ((by unfold wpY_field; dsimp only; exact ze_so_t hs s5 (br_f b1 (ze_in_t a0 a5 (br_f b1 (ze_in_sf hb (br_t rfl ⟨rfl, R⟩))))))))
          · refine ze_slot_t ho (br_f b1 ⟨w, ?_⟩)
            obtain ⟨hT, ht, hl, htab, hbd⟩ := h
            obtain ⟨_, _, _, _, _, _, _, n, hn, hfS, _⟩ := htab s hs
            by_cases f4 : fS (nI s).toNatClampNeg = 4
            · exact br_t f4 ((by unfold wpY_field; dsimp only; exact ze_so_t hs s5 (br_f b1 (ze_in_t a0 a5 (br_f b1 (ze_in_s ho (br_f b1 ⟨w, (br_t f4 ⟨rfl, R⟩)⟩)))))))
            · have hn4 : n < 4 := by
                have : n ≠ 4 := fun z => f4 (by rw [e, hfS, z]; rfl)
                omega
              rcases zf_ex fN s v2 n with hno | ⟨f, hat⟩
              · obtain ⟨a, ha, rfl⟩ := ze_rg (m := 5) (by decide) a0 a5
                have e5 : 4 * nI s + fS (nI s).toNatClampNeg = nI (4 * s + n) := by rw [e, hfS, zf_4]
                have wf : vp_in (nI (4 * s + n)) 48 := vp_in_nI (by omega) (by omega)
                have ef : (nI (4 * s + n)).toNatClampNeg = 4 * s + n := nI_clamp (by omega)
                refine br_f f4 (zf_x_no hs hn hfS hno (br_t (by decide) ⟨w, w, nm_r (e' := upd fS s (nI (n + 1))) ?_ (nm_r e5 ⟨wf, nm_r (e' := upd fN (4 * s + n) (nI a)) ?_ ⟨wf, nm_r (e' := upd fO (4 * s + n) (nI o)) ?_ ⟨wf, nm_r (e' := upd fQ (4 * s + n) (vp_nar .boolean (lw_bz v4))) ?_ ?_⟩⟩⟩)⟩))
                · rw [e, hfS, nI_1, za_by2 (by omega)]
                · rw [ef, za_by2 (by omega)]
                · rw [ef, za_by2 (by omega)]
                · rw [ef]
                · unfold wpY_field
                  dsimp only
                  refine ze_so_t hs s5 (br_f b1 (ze_in_t a0 a5 (br_f b1 (ze_in_s ho (br_f b1 ⟨w, (br_f f4 (zf_y_no hs hn hfS hno (br_t (by decide) ⟨w, nm_r e5 ⟨wf, nm_r (e' := upd fN (4 * s + n) (nI a)) ?_ ⟨wf, nm_r (e' := upd fO (4 * s + n) (nI o)) ?_ ⟨wf, nm_r (e' := upd fQ (4 * s + n) (vp_nar .boolean (lw_bz v4))) ?_ ⟨w, w, nm_r (e' := upd fS s (nI (n + 1))) ?_ ⟨rfl, zr_in ⟨hT, ht, hl, zf_Tab htab hs hn4 hfS hno ha ho, Or.inl rfl⟩⟩⟩⟩⟩⟩⟩)))⟩)))))
                  · rw [ef]
                  · rw [ef]
                  · rw [ef]
                  · rw [e, hfS, nI_1]
              · have hf := hat.1
                exact br_f f4 (zf_x_at hs hn hfS hat (br_f (nI_pos (by omega)) ((by unfold wpY_field; dsimp only; exact ze_so_t hs s5 (br_f b1 (ze_in_t a0 a5 (br_f b1 (ze_in_s ho (br_f b1 ⟨w, (br_f f4 (zf_y_at hs hn hfS hat (br_f (nI_pos (by omega)) ⟨rfl, R⟩)))⟩)))))))))
    · exact br_f s5 ((by unfold wpY_field; dsimp only; exact ze_so_n hs s5 (br_t rfl ⟨rfl, R⟩)))
theorem zf_Tag {so tA tC fN fO fS tO yt : Nat → Int32} {s g o : Nat} (h : zr_Tab so tA tC fN fO fS tO yt) (hs : s < 12) (hg : g ≤ 5) (ho : o < 12) :
    zr_Tab so tA tC fN fO fS (upd tO (6 * s + g) (nI o)) (upd yt (6 * s + g) (nI o)) := by
  intro r hr
  obtain ⟨m1, m2, m3, m4, m5, m6, m7, m8⟩ := h r hr
  refine ⟨m1, m2, m3, m4, m5, m6, fun z k hk => ?_, m8⟩
  by_cases e : 6 * r + k = 6 * s + g
  · rw [e, pk_us, pk_us]
    exact ⟨rfl, Or.inr ⟨o, ho, rfl⟩⟩
  · rw [pk_un e, pk_un e]
    exact m7 z k hk
theorem i_vc_tag {k : Nat} {u : SX} {v : SY} (I : i_Rel k u v) (hk : k + 6 ≤ 3072) (v1 : Int32) (v2 : Int32) (v3 : Int32) : wpX_tag (fun r u' => wpY_tag (fun r' v' => r' = r ∧ i_Rel (k + 6) u' v') v v1 v2 v3) u v1 v2 v3 := by
  refine zr_el (P := fun u v => wpX_tag (fun r u' => wpY_tag (fun r' v' => r' = r ∧ i_Rel (k + 6) u' v') v v1 v2 v3) u v1 v2 v3) ?_ I
  intro t len ap st er pl wt wn tg rf dp pt zs te pw sg bg dg bl dw es ct bd pr lt T so tA tB tC fN fO fQ fS tO oS oT oN oC oE oH cm kd vl pa na ty fr ta ou wk sp yc yd ps ba fl nn wN wT wg sc yt be en ins wh yv yT yC yE td ym h
  have R : i_Rel (k + 6) (nI len, ap, st, er, pl, wt, wn, tg, rf, dp, pt, zs, te, pw, sg, bg, dg, bl, dw, es, ct, bd, pr, lt, T, so, tA, tB, tC, fN, fO, fQ, fS, tO, oS, oT, oN, oC, oE, oH, cm, kd, vl, pa, na, ty, fr, ta, ou, wk, sp) (nI len, ps, ba, yc, fl, pl, bd, yd, nn, wN, wT, pr, wg, sc, so, tA, tB, tC, fN, fO, fS, yt, fQ, T, be, en, ins, wh, kd, yv, pa, na, ty, fr, ym, oN, yT, yC, yE, oH, ou, td) := zr_in h
  have b1 : ¬ (1 : Int32) = 0 := by decide
  unfold wpX_tag
  dsimp only
  rcases ze_ix v1 with hb | ⟨s, hs, rfl⟩
  · exact ze_slot_f hb (br_t rfl (by unfold wpY_tag; dsimp only; exact ze_so_f hb (br_t rfl ⟨rfl, R⟩)))
  · have w : vp_in (nI s) 12 := vp_in_nI hs (by omega)
    have e : (nI s).toNatClampNeg = s := nI_clamp (by omega)
    refine ze_slot_t hs (br_f b1 ⟨w, ?_⟩)
    by_cases s5 : so (nI s).toNatClampNeg = 6
    · refine br_t s5 ?_
      by_cases a0 : v2 < 0
      · exact br_t a0 ((by unfold wpY_tag; dsimp only; exact ze_so_t hs s5 (br_f b1 (ze_in_f (Or.inl a0) (br_t rfl ⟨rfl, R⟩)))))
      · by_cases a5 : 5 < v2
        · exact br_f a0 (br_t a5 ((by unfold wpY_tag; dsimp only; exact ze_so_t hs s5 (br_f b1 (ze_in_f (Or.inr a5) (br_t rfl ⟨rfl, R⟩))))))
        · refine br_f a0 (br_f a5 ?_)
          rcases ze_ix v3 with hb | ⟨o, ho, rfl⟩
          · exact ze_slot_f hb (br_t rfl ((by unfold wpY_tag; dsimp only; exact ze_so_t hs s5 (br_f b1 (ze_in_t a0 a5 (br_f b1 (ze_in_sf hb (br_t rfl ⟨rfl, R⟩))))))))
          · obtain ⟨hT, ht, hl, htab, hbd⟩ := h
            obtain ⟨g, hg, rfl⟩ := ze_rg (m := 5) (by decide) a0 a5
            have wf : vp_in (6 * nI s + nI g) 72 := by rw [ze_6]; exact vp_in_nI (by omega) (by omega)
            have ef : (6 * nI s + nI g).toNatClampNeg = 6 * s + g := by rw [ze_6]; exact nI_clamp (by omega)
            refine ze_slot_t ho (br_f b1 ⟨wf, nm_r (e' := upd tO (6 * s + g) (nI o)) (by rw [ef, za_by2 (by omega)]) ((by unfold wpY_tag; dsimp only; exact ze_so_t hs s5 (br_f b1 (ze_in_t a0 a5 (br_f b1 (ze_in_s ho (br_f b1 ⟨wf, nm_r (e' := upd yt (6 * s + g) (nI o)) (by rw [ef]) ⟨rfl, zr_in ⟨hT, ht, hl, zf_Tag htab hs hg ho, Or.inl rfl⟩⟩⟩)))))))⟩)
    · exact br_f s5 ((by unfold wpY_tag; dsimp only; exact ze_so_n hs s5 (br_t rfl ⟨rfl, R⟩)))
theorem zf_init {post : SY → Prop} {ln ps ba ct fl yp yb dp nn wN wT pr wg sc : Int32} {so tA tB tC fN fO fS fQ T be en ins wh kd yv pa na ty fr cm oN yT yC yE oH ou td : Nat → Int32} (hp : ∀ yt', post (ln, ps, ba, ct, fl, yp, yb, dp, nn, wN, wT, pr, wg, sc, so, tA, tB, tC, fN, fO, fS, yt', fQ, T, be, en, ins, wh, kd, yv, pa, na, ty, fr, cm, oN, yT, yC, yE, oH, ou, td)) : ∀ d j n yt, j + d = 72 → d < n → wY_init_237 post ln ps ba ct fl yp yb dp nn wN wT pr wg sc n (nI j) so tA tB tC fN fO fS yt fQ T be en ins wh kd yv pa na ty fr cm oN yT yC yE oH ou td := by
  intro d
  induction d with
  | zero =>
    intro j n yt h1 h2
    obtain ⟨n, rfl⟩ : ∃ m, n = m + 1 := ⟨n - 1, by omega⟩
    exact br_t (nI_le (a := 72) (by omega) (by omega)) (hp yt)
  | succ d ih =>
    intro j n yt h1 h2
    obtain ⟨n, rfl⟩ : ∃ m, n = m + 1 := ⟨n - 1, by omega⟩
    exact br_f (nI_ge (b := 72) (by omega) (by omega)) ⟨vp_in_nI (by omega) (by omega), nm_e (nm_r (nI_1 j) (ih (j + 1) n _ (by omega) (by omega)))⟩
theorem i_vc0 : wpX_init (fun u => wpY_init (fun v => i_Rel 0 u v)) := by
  unfold wpX_init wpY_init
  dsimp only
  refine ⟨73, zf_init (fun yt' => ?_) 72 0 73 _ (by omega) (by omega)⟩
  refine zr_in (len := 0) (t := fun _ => 0) ⟨fun _ => rfl, fun _ => Nat.zero_lt_succ 31, by decide, fun s hs => ?_, Or.inl rfl⟩
  have q : ∀ m : Int32, (0 : Int32) ≠ m → (fun _ : Nat => (0 : Int32)) s = m → False := fun m h z => h z
  refine ⟨⟨0, by decide, rfl⟩, fun z => (q 1 (by decide) z).elim, fun z => (q 2 (by decide) z).elim, fun z => (q 4 (by decide) z).elim, fun z => (q 6 (by decide) z).elim, fun z => (z.elim (q 7 (by decide)) (q 8 (by decide))).elim, fun z => (q 6 (by decide) z).elim, 0, by decide, rfl, fun f hf => by omega, fun f f' hf => by omega⟩
end ZF
end
section
/-! the two loops of 'bind', and their one outcome -/
section ZL
def zl_bX (post : Int32 → SX → Prop) (n : Nat) (u : SX) : Prop := match u with | (ln, ap, st, er, pl, wt, wn, tg, rf, dp, pt, zs, te, pw, sg, bg, dg, bl, dw, es, ct, bd, pr, lt, T, so, tA, tB, tC, fN, fO, fQ, fS, tO, oS, oT, oN, oC, oE, oH, cm, kd, vl, pa, na, ty, fr, ta, ou, wk, sp) => wX_bind_84 post n ln ap st er pl wt wn tg rf dp pt zs te pw sg bg dg bl dw es ct bd pr lt T so tA tB tC fN fO fQ fS tO oS oT oN oC oE oH cm kd vl pa na ty fr ta ou wk sp
def zl_bY (post : Int32 → SY → Prop) (sl : Int32) (n k : Nat) (v : SY) : Prop := match v with | (ln, ps, ba, ct, fl, yp, yb, dp, nn, wN, wT, pr, wg, sc, so, tA, tB, tC, fN, fO, fS, yt, fQ, T, be, en, ins, wh, kd, yv, pa, na, ty, fr, cm, oN, yT, yC, yE, oH, ou, td) => wY_bind_73 post sl n (nI k) ln ps ba ct fl yp yb dp nn wN wT pr wg sc so tA tB tC fN fO fS yt fQ T be en ins wh kd yv pa na ty fr cm oN yT yC yE oH ou td
/-- X's loop comes from u0 to u1 -/
def zl_XS (u0 u1 : SX) : Prop := ∃ N, ∀ (post : Int32 → SX → Prop) n, zl_bX post (n + 1) u1 → zl_bX post (n + 1 + N) u0
theorem zl_XS_rf (u : SX) : zl_XS u u := ⟨0, fun _ _ h => h⟩
theorem zl_XS_tr {u v w : SX} (h1 : zl_XS u v) (h2 : zl_XS v w) : zl_XS u w := by
  obtain ⟨N, h1⟩ := h1
  obtain ⟨M, h2⟩ := h2
  refine ⟨M + N, fun post n h => ?_⟩
  have := h1 post (n + M) (by rw [show n + M + 1 = n + 1 + M from by omega]; exact h2 post n h)
  rw [show n + 1 + (M + N) = n + M + 1 + N from by omega]
  exact this
def zl_Out (sl : Int32) (k : Nat) (u : SX) (v : SY) : Prop :=
  ∃ (r : Int32) (u' : SX) (v' : SY), (∀ kk, i_Rel kk u' v') ∧ (∃ N, ∀ post : Int32 → SX → Prop, post r u' → zl_bX post (N + 1) u) ∧ (∃ N, ∀ post : Int32 → SY → Prop, post r v' → zl_bY post sl N k v)
theorem zl_Out_x {sl : Int32} {k : Nat} {u0 u1 : SX} {v : SY} (h : zl_XS u0 u1) (o : zl_Out sl k u1 v) : zl_Out sl k u0 v := by
  obtain ⟨N, h⟩ := h
  obtain ⟨r, u', v', f, ⟨M, hx⟩, hy⟩ := o
  refine ⟨r, u', v', f, ⟨M + N, fun post hp => ?_⟩, hy⟩
  rw [show M + N + 1 = M + 1 + N from by omega]
  exact h post M (hx post hp)
theorem zl_Out_y {sl : Int32} {k : Nat} {u : SX} {ln ps ba ct yp yb dp nn wN wT pr wg sc : Int32} {so tA tB tC fN fO fS yt fQ T be en ins wh kd yv pa na ty fr cm oN yT yC yE oH ou td : Nat → Int32} {ln1 ps1 ba1 ct1 fl1 yp1 yb1 dp1 nn1 wN1 wT1 pr1 wg1 sc1 : Int32} {so1 tA1 tB1 tC1 fN1 fO1 fS1 yt1 fQ1 T1 be1 en1 ins1 wh1 kd1 yv1 pa1 na1 ty1 fr1 cm1 oN1 yT1 yC1 yE1 oH1 ou1 td1 : Nat → Int32} {z : Nat} (hps : ps = nI z) (hz : z ≤ 96) (hk : k < z) (h : ∀ P : SY → Prop, P (ln1, ps1, ba1, ct1, fl1, yp1, yb1, dp1, nn1, wN1, wT1, pr1, wg1, sc1, so1, tA1, tB1, tC1, fN1, fO1, fS1, yt1, fQ1, T1, be1, en1, ins1, wh1, kd1, yv1, pa1, na1, ty1, fr1, cm1, oN1, yT1, yC1, yE1, oH1, ou1, td1) → wpY_part P (ln, ps, ba, ct, 0, yp, yb, dp, nn, wN, wT, pr, wg, sc, so, tA, tB, tC, fN, fO, fS, yt, fQ, T, be, en, ins, wh, kd, yv, pa, na, ty, fr, cm, oN, yT, yC, yE, oH, ou, td) (nI k) sl) (o : zl_Out sl (k + 1) u (ln1, ps1, ba1, ct1, fl1, yp1, yb1, dp1, nn1, wN1, wT1, pr1, wg1, sc1, so1, tA1, tB1, tC1, fN1, fO1, fS1, yt1, fQ1, T1, be1, en1, ins1, wh1, kd1, yv1, pa1, na1, ty1, fr1, cm1, oN1, yT1, yC1, yE1, oH1, ou1, td1)) : zl_Out sl k u (ln, ps, ba, ct, 0, yp, yb, dp, nn, wN, wT, pr, wg, sc, so, tA, tB, tC, fN, fO, fS, yt, fQ, T, be, en, ins, wh, kd, yv, pa, na, ty, fr, cm, oN, yT, yC, yE, oH, ou, td) := by
  obtain ⟨r, u', v', f, hx, ⟨M, hy⟩⟩ := o
  refine ⟨r, u', v', f, hx, ⟨M + 1, fun post hp => ?_⟩⟩
  subst hps
  exact br_f (nI_ge hk (by omega)) (br_t rfl (h _ (nm_r (nI_1 k) (hy post hp))))
section X
variable {t : Nat → Nat} {len a : Nat} {ln ap st er pl wt wn tg rf dp pt zs te pw sg bg bl dw es ct bd pr lt : Int32} {dg : Int64} {T so tA tB tC fN fO fQ fS tO oS oT oN oC oE oH cm kd vl pa na ty fr ta ou wk sp : Nat → Int32} {ln1 ap1 st1 er1 pl1 wt1 wn1 tg1 rf1 dp1 pt1 zs1 te1 pw1 sg1 bg1 bl1 dw1 es1 ct1 bd1 pr1 lt1 : Int32} {dg1 : Int64} {T1 so1 tA1 tB1 tC1 fN1 fO1 fQ1 fS1 tO1 oS1 oT1 oN1 oC1 oE1 oH1 cm1 kd1 vl1 pa1 na1 ty1 fr1 ta1 ou1 wk1 sp1 : Nat → Int32}
theorem zl_read (hT : ∀ i, T i = nI (t i)) (hl : len ≤ 96) (ha : a < len) (hst : ¬ st = 2) (h : ∀ P : SX → Prop, P (ln1, ap1, st1, er1, pl1, wt1, wn1, tg1, rf1, dp1, pt1, zs1, te1, pw1, sg1, bg1, dg1, bl1, dw1, es1, ct1, bd1, pr1, lt1, T1, so1, tA1, tB1, tC1, fN1, fO1, fQ1, fS1, tO1, oS1, oT1, oN1, oC1, oE1, oH1, cm1, kd1, vl1, pa1, na1, ty1, fr1, ta1, ou1, wk1, sp1) → wpX_read P (nI len, nI a, st, 0, pl, wt, wn, tg, rf, dp, pt, zs, te, pw, sg, bg, dg, bl, dw, es, ct, bd, pr, lt, T, so, tA, tB, tC, fN, fO, fQ, fS, tO, oS, oT, oN, oC, oE, oH, cm, kd, vl, pa, na, ty, fr, ta, ou, wk, sp) (nI (t a))) : zl_XS (nI len, nI a, st, 0, pl, wt, wn, tg, rf, dp, pt, zs, te, pw, sg, bg, dg, bl, dw, es, ct, bd, pr, lt, T, so, tA, tB, tC, fN, fO, fQ, fS, tO, oS, oT, oN, oC, oE, oH, cm, kd, vl, pa, na, ty, fr, ta, ou, wk, sp) (ln1, ap1, st1, er1, pl1, wt1, wn1, tg1, rf1, dp1, pt1, zs1, te1, pw1, sg1, bg1, dg1, bl1, dw1, es1, ct1, bd1, pr1, lt1, T1, so1, tA1, tB1, tC1, fN1, fO1, fQ1, fS1, tO1, oS1, oT1, oN1, oC1, oE1, oH1, cm1, kd1, vl1, pa1, na1, ty1, fr1, ta1, ou1, wk1, sp1) :=
  ⟨1, fun post n hn => br_t rfl (br_f (nI_ge ha (by omega)) ⟨vp_in_nI (by omega) (by omega), nm_r (e' := nI (t a)) (by rw [nI_clamp (by omega), hT]) (br_f hst (br_f hst (h _ hn)))⟩)⟩
theorem zl_dig (hT : ∀ i, T i = nI (t i)) (hl : len ≤ 96) (ha : a < len) (h : ∀ P : Int32 → SX → Prop, P 1 (ln1, ap1, 2, er1, pl1, wt1, wn1, tg1, rf1, dp1, pt1, zs1, te1, pw1, sg1, bg1, dg1, bl1, dw1, es1, ct1, bd1, pr1, lt1, T1, so1, tA1, tB1, tC1, fN1, fO1, fQ1, fS1, tO1, oS1, oT1, oN1, oC1, oE1, oH1, cm1, kd1, vl1, pa1, na1, ty1, fr1, ta1, ou1, wk1, sp1) → wpX_digit P (nI len, nI a, 2, 0, pl, wt, wn, tg, rf, dp, pt, zs, te, pw, sg, bg, dg, bl, dw, es, ct, bd, pr, lt, T, so, tA, tB, tC, fN, fO, fQ, fS, tO, oS, oT, oN, oC, oE, oH, cm, kd, vl, pa, na, ty, fr, ta, ou, wk, sp) (nI (t a))) : zl_XS (nI len, nI a, 2, 0, pl, wt, wn, tg, rf, dp, pt, zs, te, pw, sg, bg, dg, bl, dw, es, ct, bd, pr, lt, T, so, tA, tB, tC, fN, fO, fQ, fS, tO, oS, oT, oN, oC, oE, oH, cm, kd, vl, pa, na, ty, fr, ta, ou, wk, sp) (ln1, ap1, 2, er1, pl1, wt1, wn1, tg1, rf1, dp1, pt1, zs1, te1, pw1, sg1, bg1, dg1, bl1, dw1, es1, ct1, bd1, pr1, lt1, T1, so1, tA1, tB1, tC1, fN1, fO1, fQ1, fS1, tO1, oS1, oT1, oN1, oC1, oE1, oH1, cm1, kd1, vl1, pa1, na1, ty1, fr1, ta1, ou1, wk1, sp1) :=
  ⟨1, fun post n hn => br_t rfl (br_f (nI_ge ha (by omega)) ⟨vp_in_nI (by omega) (by omega), nm_r (e' := nI (t a)) (by rw [nI_clamp (by omega), hT]) (br_t rfl (h _ (br_f (by decide) (br_t rfl hn))))⟩)⟩
theorem zl_dig0 (hT : ∀ i, T i = nI (t i)) (hl : len ≤ 96) (ha : a < len) (h : ∀ P : Int32 → SX → Prop, P 0 (nI len, nI a, 2, 0, pl, wt, wn, tg, rf, dp, pt, zs, te, pw, sg, bg, dg, bl, dw, es, ct, bd, pr, lt, T, so, tA, tB, tC, fN, fO, fQ, fS, tO, oS, oT, oN, oC, oE, oH, cm, kd, vl, pa, na, ty, fr, ta, ou, wk, sp) → wpX_digit P (nI len, nI a, 2, 0, pl, wt, wn, tg, rf, dp, pt, zs, te, pw, sg, bg, dg, bl, dw, es, ct, bd, pr, lt, T, so, tA, tB, tC, fN, fO, fQ, fS, tO, oS, oT, oN, oC, oE, oH, cm, kd, vl, pa, na, ty, fr, ta, ou, wk, sp) (nI (t a))) (he : ∀ P : SX → Prop, P (ln1, ap1, st1, er1, pl1, wt1, wn1, tg1, rf1, dp1, pt1, zs1, te1, pw1, sg1, bg1, dg1, bl1, dw1, es1, ct1, bd1, pr1, lt1, T1, so1, tA1, tB1, tC1, fN1, fO1, fQ1, fS1, tO1, oS1, oT1, oN1, oC1, oE1, oH1, cm1, kd1, vl1, pa1, na1, ty1, fr1, ta1, ou1, wk1, sp1) → wpX_endNumber P (nI len, nI a, 2, 0, pl, wt, wn, tg, rf, dp, pt, zs, te, pw, sg, bg, dg, bl, dw, es, ct, bd, pr, lt, T, so, tA, tB, tC, fN, fO, fQ, fS, tO, oS, oT, oN, oC, oE, oH, cm, kd, vl, pa, na, ty, fr, ta, ou, wk, sp)) : zl_XS (nI len, nI a, 2, 0, pl, wt, wn, tg, rf, dp, pt, zs, te, pw, sg, bg, dg, bl, dw, es, ct, bd, pr, lt, T, so, tA, tB, tC, fN, fO, fQ, fS, tO, oS, oT, oN, oC, oE, oH, cm, kd, vl, pa, na, ty, fr, ta, ou, wk, sp) (ln1, ap1, st1, er1, pl1, wt1, wn1, tg1, rf1, dp1, pt1, zs1, te1, pw1, sg1, bg1, dg1, bl1, dw1, es1, ct1, bd1, pr1, lt1, T1, so1, tA1, tB1, tC1, fN1, fO1, fQ1, fS1, tO1, oS1, oT1, oN1, oC1, oE1, oH1, cm1, kd1, vl1, pa1, na1, ty1, fr1, ta1, ou1, wk1, sp1) :=
  ⟨1, fun post n hn => br_t rfl (br_f (nI_ge ha (by omega)) ⟨vp_in_nI (by omega) (by omega), nm_r (e' := nI (t a)) (by rw [nI_clamp (by omega), hT]) (br_t rfl (h _ (br_t rfl (he _ hn))))⟩)⟩
/-- a number at the end of the text -/
theorem zl_eofn (hl : len ≤ 96) (he1 : ¬ er1 = 0 ∨ (er1 = 0 ∧ st1 = 1)) (he : ∀ P : SX → Prop, P (nI len, nI len, st1, er1, pl1, wt1, wn1, tg1, rf1, dp1, pt1, zs1, te1, pw1, sg1, bg1, dg1, bl1, dw1, es1, ct1, bd1, pr1, lt1, T1, so1, tA1, tB1, tC1, fN1, fO1, fQ1, fS1, tO1, oS1, oT1, oN1, oC1, oE1, oH1, cm1, kd1, vl1, pa1, na1, ty1, fr1, ta1, ou1, wk1, sp1) → wpX_endNumber P (nI len, nI len, 2, 0, pl, wt, wn, tg, rf, dp, pt, zs, te, pw, sg, bg, dg, bl, dw, es, ct, bd, pr, lt, T, so, tA, tB, tC, fN, fO, fQ, fS, tO, oS, oT, oN, oC, oE, oH, cm, kd, vl, pa, na, ty, fr, ta, ou, wk, sp)) : zl_XS (nI len, nI len, 2, 0, pl, wt, wn, tg, rf, dp, pt, zs, te, pw, sg, bg, dg, bl, dw, es, ct, bd, pr, lt, T, so, tA, tB, tC, fN, fO, fQ, fS, tO, oS, oT, oN, oC, oE, oH, cm, kd, vl, pa, na, ty, fr, ta, ou, wk, sp) (nI len, nI len, st1, er1, pl1, wt1, wn1, tg1, rf1, dp1, pt1, zs1, te1, pw1, sg1, bg1, dg1, bl1, dw1, es1, ct1, bd1, pr1, lt1, T1, so1, tA1, tB1, tC1, fN1, fO1, fQ1, fS1, tO1, oS1, oT1, oN1, oC1, oE1, oH1, cm1, kd1, vl1, pa1, na1, ty1, fr1, ta1, ou1, wk1, sp1) := by
  have hle : nI len ≤ nI len := nI_le (Nat.le_refl _) (by omega)
  refine ⟨0, fun post n hn => br_t rfl (br_t hle (br_t rfl (br_t rfl (he _ ?_))))⟩
  have hn' : wX_bind_84 post (n + 1) (nI len) (nI len) st1 er1 pl1 wt1 wn1 tg1 rf1 dp1 pt1 zs1 te1 pw1 sg1 bg1 dg1 bl1 dw1 es1 ct1 bd1 pr1 lt1 T1 so1 tA1 tB1 tC1 fN1 fO1 fQ1 fS1 tO1 oS1 oT1 oN1 oC1 oE1 oH1 cm1 kd1 vl1 pa1 na1 ty1 fr1 ta1 ou1 wk1 sp1 := hn
  rw [wX_bind_84] at hn'
  rcases he1 with e1 | ⟨e1, e2⟩
  · exact (hn'.2 e1).2 e1
  · have h151 := (hn'.1 e1).1 hle
    exact (h151.1 e1).2 (by rw [e2]; decide)
end X
section E
variable {t : Nat → Nat} {len k : Nat} {sl : Int32} {ln ap st er pl wt wn tg rf dp pt zs te pw sg bg bl dw es ct bd pr lt : Int32} {dg : Int64} {T so tA tB tC fN fO fQ fS tO oS oT oN oC oE oH cm kd vl pa na ty fr ta ou wk sp : Nat → Int32} {ln ps ba ct fl yp yb dp nn wN wT pr wg sc : Int32} {so tA tB tC fN fO fS yt fQ T be en ins wh kd yv pa na ty fr cm oN yT yC yE oH ou td : Nat → Int32} {yc yd : Int32} {ym : Nat → Int32}
def zl_B (t : Nat → Nat) (len : Nat) (T so tA tC fN fO fS tO yt : Nat → Int32) : Prop := (∀ i, T i = nI (t i)) ∧ (∀ i, t i < 32) ∧ len ≤ 96 ∧ zr_Tab so tA tC fN fO fS tO yt
/-- an error, the same on both sides -/
theorem zl_err (hB : zl_B t len T so tA tC fN fO fS tO yt) (he : ¬ er = 0) : zl_Out sl k (nI len, ap, st, er, pl, wt, wn, tg, rf, dp, pt, zs, te, pw, sg, bg, dg, bl, dw, es, ct, bd, pr, lt, T, so, tA, tB, tC, fN, fO, fQ, fS, tO, oS, oT, oN, oC, oE, oH, cm, kd, vl, pa, na, ty, fr, ta, ou, wk, sp) (nI len, ps, ba, yc, er, pl, yb, yd, nn, wN, wT, pr, wg, sc, so, tA, tB, tC, fN, fO, fS, yt, fQ, T, be, en, ins, wh, kd, yv, pa, na, ty, fr, ym, oN, yT, yC, yE, oH, ou, td) := by
  refine ⟨er, (nI len, ap, st, er, pl, wt, wn, tg, rf, dp, pt, zs, te, pw, sg, bg, dg, bl, dw, es, ct, 0, pr, lt, T, so, tA, tB, tC, fN, fO, fQ, fS, tO, oS, oT, oN, oC, oE, oH, cm, kd, vl, pa, na, ty, fr, ta, ou, wk, sp), (nI len, ps, ba, yc, er, pl, 0, yd, nn, wN, wT, pr, wg, sc, so, tA, tB, tC, fN, fO, fS, yt, fQ, T, be, en, ins, wh, kd, yv, pa, na, ty, fr, ym, oN, yT, yC, yE, oH, ou, td), fun kk => zr_in ⟨hB.1, hB.2.1, hB.2.2.1, hB.2.2.2, Or.inl rfl⟩, ⟨0, fun post hp => br_f he (br_f he (br_f he (br_f he hp)))⟩, ⟨1, fun post hp => ?_⟩⟩
  have h100 : wY_bind_100 post (nI len) ps ba yc er pl yb yd nn wN wT pr wg sc so tA tB tC fN fO fS yt fQ T be en ins wh kd yv pa na ty fr ym oN yT yC yE oH ou td := br_c (fun _ => br_f he hp) (fun _ => br_f he (br_f he hp))
  exact br_c (fun _ => h100) (fun _ => br_f he h100)
/-- the text doesn't follow the grammar -/
theorem zl_syn (hB : zl_B t len T so tA tC fN fO fS tO yt) {q : Nat} (hq : q ≤ 96) (hk : k ≤ 96) (hps : ps = nI k) (hba : ba = nI q) : zl_Out sl k (nI len, ap, st, 1, nI q, wt, wn, tg, rf, dp, pt, zs, te, pw, sg, bg, dg, bl, dw, es, ct, bd, pr, lt, T, so, tA, tB, tC, fN, fO, fQ, fS, tO, oS, oT, oN, oC, oE, oH, cm, kd, vl, pa, na, ty, fr, ta, ou, wk, sp) (nI len, ps, ba, yc, 0, yp, yb, yd, nn, wN, wT, pr, wg, sc, so, tA, tB, tC, fN, fO, fS, yt, fQ, T, be, en, ins, wh, kd, yv, pa, na, ty, fr, ym, oN, yT, yC, yE, oH, ou, td) := by
  subst hps hba
  refine ⟨1, (nI len, ap, st, 1, nI q, wt, wn, tg, rf, dp, pt, zs, te, pw, sg, bg, dg, bl, dw, es, ct, 0, pr, lt, T, so, tA, tB, tC, fN, fO, fQ, fS, tO, oS, oT, oN, oC, oE, oH, cm, kd, vl, pa, na, ty, fr, ta, ou, wk, sp), (nI len, nI k, nI q, yc, 1, nI q, 0, yd, nn, wN, wT, pr, wg, sc, so, tA, tB, tC, fN, fO, fS, yt, fQ, T, be, en, ins, wh, kd, yv, pa, na, ty, fr, ym, oN, yT, yC, yE, oH, ou, td), fun kk => zr_in ⟨hB.1, hB.2.1, hB.2.2.1, hB.2.2.2, Or.inl rfl⟩, ⟨0, fun post hp => br_f (by decide) (br_f (by decide) (br_f (by decide) (br_f (by decide) hp)))⟩, ⟨1, fun post hp => ?_⟩⟩
  exact br_t (nI_le (Nat.le_refl _) (by omega)) (br_f (nI_pos (by omega)) (br_t rfl (br_f (by decide) hp)))
/-- the end of a text that is bound -/
theorem zl_done (hB : zl_B t len T so tA tC fN fO fS tO yt) (hk : k ≤ 96) (hps : ps = nI k) (hba : ba = -1) (hf : zr_Bd t len so be en oN oS kd vl yv pa na ty fr ta ct yc) : zl_Out sl k (nI len, nI len, 1, 0, -1, wt, wn, tg, rf, 0, pt, zs, te, pw, sg, bg, dg, bl, dw, es, ct, bd, pr, lt, T, so, tA, tB, tC, fN, fO, fQ, fS, tO, oS, oT, oN, oC, oE, oH, cm, kd, vl, pa, na, ty, fr, ta, ou, wk, sp) (nI len, ps, ba, yc, 0, -1, yb, yd, nn, wN, wT, pr, wg, sc, so, tA, tB, tC, fN, fO, fS, yt, fQ, T, be, en, ins, wh, kd, yv, pa, na, ty, fr, ym, oN, yT, yC, yE, oH, ou, td) := by
  subst hps hba
  have hle : nI len ≤ nI len := nI_le (Nat.le_refl _) (by have := hB.2.2.1; omega)
  refine ⟨0, (nI len, nI len, 1, 0, -1, wt, wn, tg, rf, 0, pt, zs, te, pw, sg, bg, dg, bl, dw, es, ct, 1, pr, lt, T, so, tA, tB, tC, fN, fO, fQ, fS, tO, oS, oT, oN, oC, oE, oH, cm, kd, vl, pa, na, ty, fr, ta, ou, wk, sp), (nI len, nI k, -1, yc, 0, -1, 1, yd, nn, wN, wT, pr, wg, sc, so, tA, tB, tC, fN, fO, fS, yt, fQ, T, be, en, ins, wh, kd, yv, pa, na, ty, fr, ym, oN, yT, yC, yE, oH, ou, td), fun kk => zr_in ⟨hB.1, hB.2.1, hB.2.2.1, hB.2.2.2, Or.inr ⟨rfl, hf⟩⟩, ⟨0, fun post hp => ?_⟩, ⟨1, fun post hp => ?_⟩⟩
  · exact br_t rfl (br_t hle (br_t rfl (br_f (by decide) (br_t rfl (br_t rfl (br_t (by decide) (br_t rfl hp)))))))
  · exact br_t (nI_le (Nat.le_refl _) (by omega)) (br_t (by decide) (br_t rfl hp))
/-- the end of the text in the midst -/
theorem zl_eofb (hB : zl_B t len T so tA tC fN fO fS tO yt) (hk : k ≤ 96) (hps : ps = nI k) (hba : ba = nI len) (hst : ¬ st = 2) (hd : ¬ st = 1 ∨ ¬ dp ≤ 0) : zl_Out sl k (nI len, nI len, st, 0, pl, wt, wn, tg, rf, dp, pt, zs, te, pw, sg, bg, dg, bl, dw, es, ct, bd, pr, lt, T, so, tA, tB, tC, fN, fO, fQ, fS, tO, oS, oT, oN, oC, oE, oH, cm, kd, vl, pa, na, ty, fr, ta, ou, wk, sp) (nI len, ps, ba, yc, 0, yp, yb, yd, nn, wN, wT, pr, wg, sc, so, tA, tB, tC, fN, fO, fS, yt, fQ, T, be, en, ins, wh, kd, yv, pa, na, ty, fr, ym, oN, yT, yC, yE, oH, ou, td) := by
  subst hps hba
  have hl := hB.2.2.1
  have hle : nI len ≤ nI len := nI_le (Nat.le_refl _) (by omega)
  refine ⟨1, (nI len, nI len, st, 1, nI len, wt, wn, tg, rf, dp, pt, zs, te, pw, sg, bg, dg, bl, dw, es, ct, 0, pr, lt, T, so, tA, tB, tC, fN, fO, fQ, fS, tO, oS, oT, oN, oC, oE, oH, cm, kd, vl, pa, na, ty, fr, ta, ou, wk, sp), (nI len, nI k, nI len, yc, 1, nI len, 0, yd, nn, wN, wT, pr, wg, sc, so, tA, tB, tC, fN, fO, fS, yt, fQ, T, be, en, ins, wh, kd, yv, pa, na, ty, fr, ym, oN, yT, yC, yE, oH, ou, td), fun kk => zr_in ⟨hB.1, hB.2.1, hB.2.2.1, hB.2.2.2, Or.inl rfl⟩, ⟨0, fun post hp => ?_⟩, ⟨1, fun post hp => ?_⟩⟩
  · have h192 : wX_bind_192 post (nI len) (nI len) st 0 pl wt wn tg rf dp pt zs te pw sg bg dg bl dw es ct bd pr lt T so tA tB tC fN fO fQ fS tO oS oT oN oC oE oH cm kd vl pa na ty fr ta ou wk sp := br_f (by decide) hp
    refine br_t rfl (br_t hle (br_t rfl (br_f hst (br_t rfl ?_))))
    by_cases s1 : st = 1
    · exact br_t s1 (br_f (hd.resolve_left (fun z => z s1)) h192)
    · exact br_f s1 h192
  · exact br_t (nI_le (Nat.le_refl _) (by omega)) (br_f (nI_pos (by omega)) (br_t rfl (br_f (by decide) hp)))
end E
end ZL
end
section
/-! X reads one character: commas, colons, names begin, lists and records end -/
section XR
variable {t : Nat → Nat} {len a c d : Nat} {ln ap st er pl wt wn tg rf dp pt zs te pw sg bg bl dw es ct bd pr lt : Int32} {dg : Int64} {T so tA tB tC fN fO fQ fS tO oS oT oN oC oE oH cm kd vl pa na ty fr ta ou wk sp : Nat → Int32} {ln1 ap1 st1 er1 pl1 wt1 wn1 tg1 rf1 dp1 pt1 zs1 te1 pw1 sg1 bg1 bl1 dw1 es1 ct1 bd1 pr1 lt1 : Int32} {dg1 : Int64} {T1 so1 tA1 tB1 tC1 fN1 fO1 fQ1 fS1 tO1 oS1 oT1 oN1 oC1 oE1 oH1 cm1 kd1 vl1 pa1 na1 ty1 fr1 ta1 ou1 wk1 sp1 : Nat → Int32} {P : SX → Prop}
theorem xr_skip (hT : ∀ i, T i = nI (t i)) (hl : len ≤ 96) (h2 : ¬ st = 2) (h3 : ¬ st = 3) (h4 : ¬ st = 4) {q : Nat} : ∀ d p, p + d = q → q ≤ len → (∀ i, p ≤ i → i < q → t i = 20) → zl_XS (nI len, nI p, st, 0, pl, wt, wn, tg, rf, dp, pt, zs, te, pw, sg, bg, dg, bl, dw, es, ct, bd, pr, lt, T, so, tA, tB, tC, fN, fO, fQ, fS, tO, oS, oT, oN, oC, oE, oH, cm, kd, vl, pa, na, ty, fr, ta, ou, wk, sp) (nI len, nI q, st, 0, pl, wt, wn, tg, rf, dp, pt, zs, te, pw, sg, bg, dg, bl, dw, es, ct, bd, pr, lt, T, so, tA, tB, tC, fN, fO, fQ, fS, tO, oS, oT, oN, oC, oE, oH, cm, kd, vl, pa, na, ty, fr, ta, ou, wk, sp) := by
  intro d
  induction d with
  | zero =>
    intro p h _ _
    obtain rfl : p = q := by omega
    exact zl_XS_rf _
  | succ d ih =>
    intro p h hq h20
    refine zl_XS_tr (zl_read hT hl (by omega) h2 (fun P hp => ?_)) (ih (p + 1) (by omega) hq (fun i a b => h20 i (by omega) b))
    rw [h20 p (Nat.le_refl _) (by omega)]
    exact br_f h3 (br_f h4 (br_t rfl (nm_r (nI_1 p) hp)))
theorem xr_colon (h : P (ln, nI (a + 1), 0, er, pl, wt, wn, tg, rf, dp, pt, zs, te, pw, sg, bg, dg, bl, dw, es, ct, bd, pr, lt, T, so, tA, tB, tC, fN, fO, fQ, fS, tO, oS, oT, oN, oC, oE, oH, cm, kd, vl, pa, na, ty, fr, ta, ou, wk, sp)) : wpX_read P (ln, nI a, 7, er, pl, wt, wn, tg, rf, dp, pt, zs, te, pw, sg, bg, dg, bl, dw, es, ct, bd, pr, lt, T, so, tA, tB, tC, fN, fO, fQ, fS, tO, oS, oT, oN, oC, oE, oH, cm, kd, vl, pa, na, ty, fr, ta, ou, wk, sp) (nI 14) :=
  br_f (by decide) (br_f (by decide) (br_f (by decide) (br_f (by decide) (br_f (by decide) (br_f (by decide) (br_f (by decide) (br_t rfl (br_t rfl (nm_r (nI_1 a) h)))))))))
theorem xr_nocolon (hc : c < 32) (h14 : c ≠ 14) (h20 : c ≠ 20) (h : P (ln, ap, 7, 1, ap, wt, wn, tg, rf, dp, pt, zs, te, pw, sg, bg, dg, bl, dw, es, ct, bd, pr, lt, T, so, tA, tB, tC, fN, fO, fQ, fS, tO, oS, oT, oN, oC, oE, oH, cm, kd, vl, pa, na, ty, fr, ta, ou, wk, sp)) : wpX_read P (ln, ap, 7, er, pl, wt, wn, tg, rf, dp, pt, zs, te, pw, sg, bg, dg, bl, dw, es, ct, bd, pr, lt, T, so, tA, tB, tC, fN, fO, fQ, fS, tO, oS, oT, oN, oC, oE, oH, cm, kd, vl, pa, na, ty, fr, ta, ou, wk, sp) (nI c) :=
  br_f (by decide) (br_f (by decide) (br_f (za_ne (b := 20) h20 (by omega) (by decide)) (br_f (by decide) (br_f (by decide) (br_f (by decide) (br_f (by decide) (br_t rfl (br_f (za_ne (b := 14) h14 (by omega) (by decide)) h))))))))
theorem xr_key (hs : st = 5 ∨ st = 6) (h : P (ln, nI (a + 1), 4, er, pl, wt, wn, tg, rf, dp, pt, zs, te, pw, 0, -1, dg, bl, dw, 0, ct, bd, pr, lt, T, so, tA, tB, tC, fN, fO, fQ, fS, tO, oS, oT, oN, oC, oE, oH, cm, kd, vl, pa, na, ty, fr, ta, ou, wk, sp)) : wpX_read P (ln, nI a, st, er, pl, wt, wn, tg, rf, dp, pt, zs, te, pw, sg, bg, dg, bl, dw, es, ct, bd, pr, lt, T, so, tA, tB, tC, fN, fO, fQ, fS, tO, oS, oT, oN, oC, oE, oH, cm, kd, vl, pa, na, ty, fr, ta, ou, wk, sp) (nI 16) := by
  rcases hs with rfl | rfl
  · exact br_f (by decide) (br_f (by decide) (br_f (by decide) (br_f (by decide) (br_f (by decide) (br_f (by decide) (br_f (by decide) (br_f (by decide) (br_t rfl (nm_r (nI_1 a) h)))))))))
  · exact br_f (by decide) (br_f (by decide) (br_f (by decide) (br_f (by decide) (br_f (by decide) (br_f (by decide) (br_f (by decide) (br_f (by decide) (br_t rfl (nm_r (nI_1 a) h)))))))))
theorem xr_nokey (hs : st = 5 ∨ st = 6) (hc : c < 32) (h16 : c ≠ 16) (h20 : c ≠ 20) (h11 : st = 5 → c ≠ 11) (h : P (ln, ap, st, 1, ap, wt, wn, tg, rf, dp, pt, zs, te, pw, sg, bg, dg, bl, dw, es, ct, bd, pr, lt, T, so, tA, tB, tC, fN, fO, fQ, fS, tO, oS, oT, oN, oC, oE, oH, cm, kd, vl, pa, na, ty, fr, ta, ou, wk, sp)) : wpX_read P (ln, ap, st, er, pl, wt, wn, tg, rf, dp, pt, zs, te, pw, sg, bg, dg, bl, dw, es, ct, bd, pr, lt, T, so, tA, tB, tC, fN, fO, fQ, fS, tO, oS, oT, oN, oC, oE, oH, cm, kd, vl, pa, na, ty, fr, ta, ou, wk, sp) (nI c) := by
  rcases hs with rfl | rfl
  · exact br_f (by decide) (br_f (by decide) (br_f (za_ne (b := 20) h20 (by omega) (by decide)) (br_f (by decide) (br_f (by decide) (br_f (by decide) (br_f (by decide) (br_f (by decide) (br_f (za_ne (b := 16) h16 (by omega) (by decide)) (br_t rfl (br_f (za_ne (b := 11) (h11 rfl) (by omega) (by decide)) h))))))))))
  · exact br_f (by decide) (br_f (by decide) (br_f (za_ne (b := 20) h20 (by omega) (by decide)) (br_f (by decide) (br_f (by decide) (br_f (by decide) (br_f (by decide) (br_f (by decide) (br_f (za_ne (b := 16) h16 (by omega) (by decide)) (br_f (by decide) h)))))))))
/-- to the parts of 'read' -/
theorem xr_val (hs : st = 0 ∨ (st = 8 ∧ c ≠ 13)) (hc : c < 32) (h20 : c ≠ 20) (h : ∀ Q : SX → Prop, Q (ln1, ap1, st1, er1, pl1, wt1, wn1, tg1, rf1, dp1, pt1, zs1, te1, pw1, sg1, bg1, dg1, bl1, dw1, es1, ct1, bd1, pr1, lt1, T1, so1, tA1, tB1, tC1, fN1, fO1, fQ1, fS1, tO1, oS1, oT1, oN1, oC1, oE1, oH1, cm1, kd1, vl1, pa1, na1, ty1, fr1, ta1, ou1, wk1, sp1) → wpX_value Q (ln, ap, st, er, pl, wt, wn, tg, rf, dp, pt, zs, te, pw, sg, bg, dg, bl, dw, es, ct, bd, pr, lt, T, so, tA, tB, tC, fN, fO, fQ, fS, tO, oS, oT, oN, oC, oE, oH, cm, kd, vl, pa, na, ty, fr, ta, ou, wk, sp) (nI c)) (hp : P (ln1, ap1, st1, er1, pl1, wt1, wn1, tg1, rf1, dp1, pt1, zs1, te1, pw1, sg1, bg1, dg1, bl1, dw1, es1, ct1, bd1, pr1, lt1, T1, so1, tA1, tB1, tC1, fN1, fO1, fQ1, fS1, tO1, oS1, oT1, oN1, oC1, oE1, oH1, cm1, kd1, vl1, pa1, na1, ty1, fr1, ta1, ou1, wk1, sp1)) : wpX_read P (ln, ap, st, er, pl, wt, wn, tg, rf, dp, pt, zs, te, pw, sg, bg, dg, bl, dw, es, ct, bd, pr, lt, T, so, tA, tB, tC, fN, fO, fQ, fS, tO, oS, oT, oN, oC, oE, oH, cm, kd, vl, pa, na, ty, fr, ta, ou, wk, sp) (nI c) := by
  have k65 : wX_read_65 P (nI c) ln ap st er pl wt wn tg rf dp pt zs te pw sg bg dg bl dw es ct bd pr lt T so tA tB tC fN fO fQ fS tO oS oT oN oC oE oH cm kd vl pa na ty fr ta ou wk sp := by unfold wX_read_65; exact h _ hp
  rcases hs with rfl | ⟨rfl, h13⟩
  · exact br_f (by decide) (br_f (by decide) (br_f (za_ne (b := 20) h20 (by omega) (by decide)) (br_t rfl k65)))
  · exact br_f (by decide) (br_f (by decide) (br_f (za_ne (b := 20) h20 (by omega) (by decide)) (br_f (by decide) (br_t rfl (br_f (za_ne (b := 13) h13 (by omega) (by decide)) k65)))))
theorem xr_aft (hc : c < 32) (h20 : c ≠ 20) (h : ∀ Q : SX → Prop, Q (ln1, ap1, st1, er1, pl1, wt1, wn1, tg1, rf1, dp1, pt1, zs1, te1, pw1, sg1, bg1, dg1, bl1, dw1, es1, ct1, bd1, pr1, lt1, T1, so1, tA1, tB1, tC1, fN1, fO1, fQ1, fS1, tO1, oS1, oT1, oN1, oC1, oE1, oH1, cm1, kd1, vl1, pa1, na1, ty1, fr1, ta1, ou1, wk1, sp1) → wpX_after Q (ln, ap, 1, er, pl, wt, wn, tg, rf, dp, pt, zs, te, pw, sg, bg, dg, bl, dw, es, ct, bd, pr, lt, T, so, tA, tB, tC, fN, fO, fQ, fS, tO, oS, oT, oN, oC, oE, oH, cm, kd, vl, pa, na, ty, fr, ta, ou, wk, sp) (nI c)) (hp : P (ln1, ap1, st1, er1, pl1, wt1, wn1, tg1, rf1, dp1, pt1, zs1, te1, pw1, sg1, bg1, dg1, bl1, dw1, es1, ct1, bd1, pr1, lt1, T1, so1, tA1, tB1, tC1, fN1, fO1, fQ1, fS1, tO1, oS1, oT1, oN1, oC1, oE1, oH1, cm1, kd1, vl1, pa1, na1, ty1, fr1, ta1, ou1, wk1, sp1)) : wpX_read P (ln, ap, 1, er, pl, wt, wn, tg, rf, dp, pt, zs, te, pw, sg, bg, dg, bl, dw, es, ct, bd, pr, lt, T, so, tA, tB, tC, fN, fO, fQ, fS, tO, oS, oT, oN, oC, oE, oH, cm, kd, vl, pa, na, ty, fr, ta, ou, wk, sp) (nI c) :=
  br_f (by decide) (br_f (by decide) (br_f (za_ne (b := 20) h20 (by omega) (by decide)) (br_f (by decide) (br_f (by decide) (br_f (by decide) (br_t rfl (h _ hp)))))))
theorem xr_cl8 (h : ∀ Q : SX → Prop, Q (ln1, ap1, st1, er1, pl1, wt1, wn1, tg1, rf1, dp1, pt1, zs1, te1, pw1, sg1, bg1, dg1, bl1, dw1, es1, ct1, bd1, pr1, lt1, T1, so1, tA1, tB1, tC1, fN1, fO1, fQ1, fS1, tO1, oS1, oT1, oN1, oC1, oE1, oH1, cm1, kd1, vl1, pa1, na1, ty1, fr1, ta1, ou1, wk1, sp1) → wpX_closeList Q (ln, ap, 8, er, pl, wt, wn, tg, rf, dp, pt, zs, te, pw, sg, bg, dg, bl, dw, es, ct, bd, pr, lt, T, so, tA, tB, tC, fN, fO, fQ, fS, tO, oS, oT, oN, oC, oE, oH, cm, kd, vl, pa, na, ty, fr, ta, ou, wk, sp)) (hp : P (ln1, ap1, st1, er1, pl1, wt1, wn1, tg1, rf1, dp1, pt1, zs1, te1, pw1, sg1, bg1, dg1, bl1, dw1, es1, ct1, bd1, pr1, lt1, T1, so1, tA1, tB1, tC1, fN1, fO1, fQ1, fS1, tO1, oS1, oT1, oN1, oC1, oE1, oH1, cm1, kd1, vl1, pa1, na1, ty1, fr1, ta1, ou1, wk1, sp1)) : wpX_read P (ln, ap, 8, er, pl, wt, wn, tg, rf, dp, pt, zs, te, pw, sg, bg, dg, bl, dw, es, ct, bd, pr, lt, T, so, tA, tB, tC, fN, fO, fQ, fS, tO, oS, oT, oN, oC, oE, oH, cm, kd, vl, pa, na, ty, fr, ta, ou, wk, sp) (nI 13) :=
  br_f (by decide) (br_f (by decide) (br_f (by decide) (br_f (by decide) (br_t rfl (br_t rfl (br_t rfl (h _ hp)))))))
theorem xr_cr5 (h : ∀ Q : SX → Prop, Q (ln1, ap1, st1, er1, pl1, wt1, wn1, tg1, rf1, dp1, pt1, zs1, te1, pw1, sg1, bg1, dg1, bl1, dw1, es1, ct1, bd1, pr1, lt1, T1, so1, tA1, tB1, tC1, fN1, fO1, fQ1, fS1, tO1, oS1, oT1, oN1, oC1, oE1, oH1, cm1, kd1, vl1, pa1, na1, ty1, fr1, ta1, ou1, wk1, sp1) → wpX_closeRecord Q (ln, ap, 5, er, pl, wt, wn, tg, rf, dp, pt, zs, te, pw, sg, bg, dg, bl, dw, es, ct, bd, pr, lt, T, so, tA, tB, tC, fN, fO, fQ, fS, tO, oS, oT, oN, oC, oE, oH, cm, kd, vl, pa, na, ty, fr, ta, ou, wk, sp)) (hp : P (ln1, ap1, st1, er1, pl1, wt1, wn1, tg1, rf1, dp1, pt1, zs1, te1, pw1, sg1, bg1, dg1, bl1, dw1, es1, ct1, bd1, pr1, lt1, T1, so1, tA1, tB1, tC1, fN1, fO1, fQ1, fS1, tO1, oS1, oT1, oN1, oC1, oE1, oH1, cm1, kd1, vl1, pa1, na1, ty1, fr1, ta1, ou1, wk1, sp1)) : wpX_read P (ln, ap, 5, er, pl, wt, wn, tg, rf, dp, pt, zs, te, pw, sg, bg, dg, bl, dw, es, ct, bd, pr, lt, T, so, tA, tB, tC, fN, fO, fQ, fS, tO, oS, oT, oN, oC, oE, oH, cm, kd, vl, pa, na, ty, fr, ta, ou, wk, sp) (nI 11) :=
  br_f (by decide) (br_f (by decide) (br_f (by decide) (br_f (by decide) (br_f (by decide) (br_f (by decide) (br_f (by decide) (br_f (by decide) (br_f (by decide) (br_t rfl (br_t rfl (h _ hp)))))))))))
theorem xr_chr (hs : st = 3 ∨ st = 4) (h : ∀ Q : SX → Prop, Q (ln1, ap1, st1, er1, pl1, wt1, wn1, tg1, rf1, dp1, pt1, zs1, te1, pw1, sg1, bg1, dg1, bl1, dw1, es1, ct1, bd1, pr1, lt1, T1, so1, tA1, tB1, tC1, fN1, fO1, fQ1, fS1, tO1, oS1, oT1, oN1, oC1, oE1, oH1, cm1, kd1, vl1, pa1, na1, ty1, fr1, ta1, ou1, wk1, sp1) → wpX_character Q (ln, ap, st, er, pl, wt, wn, tg, rf, dp, pt, zs, te, pw, sg, bg, dg, bl, dw, es, ct, bd, pr, lt, T, so, tA, tB, tC, fN, fO, fQ, fS, tO, oS, oT, oN, oC, oE, oH, cm, kd, vl, pa, na, ty, fr, ta, ou, wk, sp) (nI c)) (hp : P (ln1, ap1, st1, er1, pl1, wt1, wn1, tg1, rf1, dp1, pt1, zs1, te1, pw1, sg1, bg1, dg1, bl1, dw1, es1, ct1, bd1, pr1, lt1, T1, so1, tA1, tB1, tC1, fN1, fO1, fQ1, fS1, tO1, oS1, oT1, oN1, oC1, oE1, oH1, cm1, kd1, vl1, pa1, na1, ty1, fr1, ta1, ou1, wk1, sp1)) : wpX_read P (ln, ap, st, er, pl, wt, wn, tg, rf, dp, pt, zs, te, pw, sg, bg, dg, bl, dw, es, ct, bd, pr, lt, T, so, tA, tB, tC, fN, fO, fQ, fS, tO, oS, oT, oN, oC, oE, oH, cm, kd, vl, pa, na, ty, fr, ta, ou, wk, sp) (nI c) := by
  have k16 : wX_read_16 P (nI c) ln ap st er pl wt wn tg rf dp pt zs te pw sg bg dg bl dw es ct bd pr lt T so tA tB tC fN fO fQ fS tO oS oT oN oC oE oH cm kd vl pa na ty fr ta ou wk sp := by unfold wX_read_16; exact h _ hp
  rcases hs with rfl | rfl
  · exact br_t rfl k16
  · exact br_f (by decide) (br_t rfl k16)
/-! behind a value -/
theorem xa_0 (h : P (ln, ap, st, 1, ap, wt, wn, tg, rf, nI 0, pt, zs, te, pw, sg, bg, dg, bl, dw, es, ct, bd, pr, lt, T, so, tA, tB, tC, fN, fO, fQ, fS, tO, oS, oT, oN, oC, oE, oH, cm, kd, vl, pa, na, ty, fr, ta, ou, wk, sp)) : wpX_after P (ln, ap, st, er, pl, wt, wn, tg, rf, nI 0, pt, zs, te, pw, sg, bg, dg, bl, dw, es, ct, bd, pr, lt, T, so, tA, tB, tC, fN, fO, fQ, fS, tO, oS, oT, oN, oC, oE, oH, cm, kd, vl, pa, na, ty, fr, ta, ou, wk, sp) (nI c) :=
  br_t (by decide) (br_t rfl h)
theorem xa_l {Q : Prop} (hd : d < 6) (hS : oS d = 4) (h : wX_after_27 P (nI c) 1 ln ap st er pl wt wn tg rf (nI (d + 1)) pt zs te pw sg bg dg bl dw es ct bd pr lt T so tA tB tC fN fO fQ fS tO oS oT oN oC oE oH cm kd vl pa na ty fr ta ou wk sp) : wpX_after P (ln, ap, st, er, pl, wt, wn, tg, rf, nI (d + 1), pt, zs, te, pw, sg, bg, dg, bl, dw, es, ct, bd, pr, lt, T, so, tA, tB, tC, fN, fO, fQ, fS, tO, oS, oT, oN, oC, oE, oH, cm, kd, vl, pa, na, ty, fr, ta, ou, wk, sp) (nI c) := by
  refine br_f (nI_nle (by omega) (by omega)) ?_
  rw [nI_pred]
  refine ⟨vp_in_nI hd (by omega), br_t ?_ h⟩
  rw [nI_clamp (by omega)]; exact hS
theorem xa_r {Q : Prop} (hd : d < 6) (hS : ¬ oS d = 4) (h : wX_after_27 P (nI c) 0 ln ap st er pl wt wn tg rf (nI (d + 1)) pt zs te pw sg bg dg bl dw es ct bd pr lt T so tA tB tC fN fO fQ fS tO oS oT oN oC oE oH cm kd vl pa na ty fr ta ou wk sp) : wpX_after P (ln, ap, st, er, pl, wt, wn, tg, rf, nI (d + 1), pt, zs, te, pw, sg, bg, dg, bl, dw, es, ct, bd, pr, lt, T, so, tA, tB, tC, fN, fO, fQ, fS, tO, oS, oT, oN, oC, oE, oH, cm, kd, vl, pa, na, ty, fr, ta, ou, wk, sp) (nI c) := by
  refine br_f (nI_nle (by omega) (by omega)) ?_
  rw [nI_pred]
  refine ⟨vp_in_nI hd (by omega), br_f ?_ h⟩
  rw [nI_clamp (by omega)]; exact hS
theorem xa_elem {s : Nat} (hd : d < 6) (hs : s < 12) (hT' : oT d = nI s) (h : P (ln, ap, st, er, pl, tA s, oC d, tg, rf, nI (d + 1), pt, zs, te, pw, sg, bg, dg, bl, dw, es, ct, bd, pr, lt, T, so, tA, tB, tC, fN, fO, fQ, fS, tO, oS, oT, oN, oC, oE, oH, cm, kd, vl, pa, na, ty, fr, ta, ou, wk, sp)) : wpX_element P (ln, ap, st, er, pl, wt, wn, tg, rf, nI (d + 1), pt, zs, te, pw, sg, bg, dg, bl, dw, es, ct, bd, pr, lt, T, so, tA, tB, tC, fN, fO, fQ, fS, tO, oS, oT, oN, oC, oE, oH, cm, kd, vl, pa, na, ty, fr, ta, ou, wk, sp) := by
  have e : (nI d).toNatClampNeg = d := nI_clamp (by omega)
  have w : vp_in (nI d) 6 := vp_in_nI hd (by omega)
  refine nm_r (nI_pred d) ⟨w, ?_⟩
  rw [e, hT']
  exact ⟨vp_in_nI hs (by omega), nm_r (e' := tA s) (by rw [nI_clamp (by omega)]) ⟨w, nm_e h⟩⟩
theorem xa_comma_l {s : Nat} (hd : d < 6) (hS : oS d = 4) (hs : s < 12) (hT' : oT d = nI s) (h : P (ln, nI (a + 1), 0, er, pl, tA s, oC d, tg, rf, nI (d + 1), pt, zs, te, pw, sg, bg, dg, bl, dw, es, ct, bd, pr, lt, T, so, tA, tB, tC, fN, fO, fQ, fS, tO, oS, oT, oN, oC, oE, oH, cm, kd, vl, pa, na, ty, fr, ta, ou, wk, sp)) : wpX_after P (ln, nI a, st, er, pl, wt, wn, tg, rf, nI (d + 1), pt, zs, te, pw, sg, bg, dg, bl, dw, es, ct, bd, pr, lt, T, so, tA, tB, tC, fN, fO, fQ, fS, tO, oS, oT, oN, oC, oE, oH, cm, kd, vl, pa, na, ty, fr, ta, ou, wk, sp) (nI 15) := by
  refine xa_l (Q := True) hd hS (br_f (nI_ne0 (by omega) (by omega)) (br_t rfl (br_f (by decide) (xa_elem hd hs hT' ?_))))
  exact br_f (by decide) (nm_r (nI_1 a) h)
theorem xa_comma_r (hd : d < 6) (hS : ¬ oS d = 4) (h : P (ln, nI (a + 1), 6, er, pl, wt, wn, tg, rf, nI (d + 1), pt, zs, te, pw, sg, bg, dg, bl, dw, es, ct, bd, pr, lt, T, so, tA, tB, tC, fN, fO, fQ, fS, tO, oS, oT, oN, oC, oE, oH, cm, kd, vl, pa, na, ty, fr, ta, ou, wk, sp)) : wpX_after P (ln, nI a, st, er, pl, wt, wn, tg, rf, nI (d + 1), pt, zs, te, pw, sg, bg, dg, bl, dw, es, ct, bd, pr, lt, T, so, tA, tB, tC, fN, fO, fQ, fS, tO, oS, oT, oN, oC, oE, oH, cm, kd, vl, pa, na, ty, fr, ta, ou, wk, sp) (nI 15) :=
  xa_r (Q := True) hd hS (br_f (nI_ne0 (by omega) (by omega)) (br_t rfl (br_t rfl (br_t rfl (nm_r (nI_1 a) h)))))
theorem xa_cl (hd : d < 6) (hS : oS d = 4) (h : ∀ Q : SX → Prop, Q (ln1, ap1, st1, er1, pl1, wt1, wn1, tg1, rf1, dp1, pt1, zs1, te1, pw1, sg1, bg1, dg1, bl1, dw1, es1, ct1, bd1, pr1, lt1, T1, so1, tA1, tB1, tC1, fN1, fO1, fQ1, fS1, tO1, oS1, oT1, oN1, oC1, oE1, oH1, cm1, kd1, vl1, pa1, na1, ty1, fr1, ta1, ou1, wk1, sp1) → wpX_closeList Q (ln, ap, st, er, pl, wt, wn, tg, rf, nI (d + 1), pt, zs, te, pw, sg, bg, dg, bl, dw, es, ct, bd, pr, lt, T, so, tA, tB, tC, fN, fO, fQ, fS, tO, oS, oT, oN, oC, oE, oH, cm, kd, vl, pa, na, ty, fr, ta, ou, wk, sp)) (hp : P (ln1, ap1, st1, er1, pl1, wt1, wn1, tg1, rf1, dp1, pt1, zs1, te1, pw1, sg1, bg1, dg1, bl1, dw1, es1, ct1, bd1, pr1, lt1, T1, so1, tA1, tB1, tC1, fN1, fO1, fQ1, fS1, tO1, oS1, oT1, oN1, oC1, oE1, oH1, cm1, kd1, vl1, pa1, na1, ty1, fr1, ta1, ou1, wk1, sp1)) : wpX_after P (ln, ap, st, er, pl, wt, wn, tg, rf, nI (d + 1), pt, zs, te, pw, sg, bg, dg, bl, dw, es, ct, bd, pr, lt, T, so, tA, tB, tC, fN, fO, fQ, fS, tO, oS, oT, oN, oC, oE, oH, cm, kd, vl, pa, na, ty, fr, ta, ou, wk, sp) (nI 13) :=
  xa_l (Q := True) hd hS (br_f (nI_ne0 (by omega) (by omega)) (br_f (by decide) (br_t rfl (br_f (by decide) (h _ hp)))))
theorem xa_cr (hd : d < 6) (hS : ¬ oS d = 4) (h : ∀ Q : SX → Prop, Q (ln1, ap1, st1, er1, pl1, wt1, wn1, tg1, rf1, dp1, pt1, zs1, te1, pw1, sg1, bg1, dg1, bl1, dw1, es1, ct1, bd1, pr1, lt1, T1, so1, tA1, tB1, tC1, fN1, fO1, fQ1, fS1, tO1, oS1, oT1, oN1, oC1, oE1, oH1, cm1, kd1, vl1, pa1, na1, ty1, fr1, ta1, ou1, wk1, sp1) → wpX_closeRecord Q (ln, ap, st, er, pl, wt, wn, tg, rf, nI (d + 1), pt, zs, te, pw, sg, bg, dg, bl, dw, es, ct, bd, pr, lt, T, so, tA, tB, tC, fN, fO, fQ, fS, tO, oS, oT, oN, oC, oE, oH, cm, kd, vl, pa, na, ty, fr, ta, ou, wk, sp)) (hp : P (ln1, ap1, st1, er1, pl1, wt1, wn1, tg1, rf1, dp1, pt1, zs1, te1, pw1, sg1, bg1, dg1, bl1, dw1, es1, ct1, bd1, pr1, lt1, T1, so1, tA1, tB1, tC1, fN1, fO1, fQ1, fS1, tO1, oS1, oT1, oN1, oC1, oE1, oH1, cm1, kd1, vl1, pa1, na1, ty1, fr1, ta1, ou1, wk1, sp1)) : wpX_after P (ln, ap, st, er, pl, wt, wn, tg, rf, nI (d + 1), pt, zs, te, pw, sg, bg, dg, bl, dw, es, ct, bd, pr, lt, T, so, tA, tB, tC, fN, fO, fQ, fS, tO, oS, oT, oN, oC, oE, oH, cm, kd, vl, pa, na, ty, fr, ta, ou, wk, sp) (nI 11) :=
  xa_r (Q := True) hd hS (br_f (nI_ne0 (by omega) (by omega)) (br_f (by decide) (br_f (by decide) (br_t rfl (br_t rfl (h _ hp))))))
theorem xa_bad_l (hd : d < 6) (hS : oS d = 4) (hc : c < 32) (h15 : c ≠ 15) (h13 : c ≠ 13) (h : P (ln, ap, st, 1, ap, wt, wn, tg, rf, nI (d + 1), pt, zs, te, pw, sg, bg, dg, bl, dw, es, ct, bd, pr, lt, T, so, tA, tB, tC, fN, fO, fQ, fS, tO, oS, oT, oN, oC, oE, oH, cm, kd, vl, pa, na, ty, fr, ta, ou, wk, sp)) : wpX_after P (ln, ap, st, er, pl, wt, wn, tg, rf, nI (d + 1), pt, zs, te, pw, sg, bg, dg, bl, dw, es, ct, bd, pr, lt, T, so, tA, tB, tC, fN, fO, fQ, fS, tO, oS, oT, oN, oC, oE, oH, cm, kd, vl, pa, na, ty, fr, ta, ou, wk, sp) (nI c) := by
  refine xa_l (Q := True) hd hS (br_f (nI_ne0 (by omega) (by omega)) (br_f (za_ne (b := 15) h15 (by omega) (by decide)) (br_f (za_ne (b := 13) h13 (by omega) (by decide)) ?_)))
  by_cases e : c = 11
  · subst e; exact br_t rfl (br_f (by decide) h)
  · exact br_f (za_ne (b := 11) e (by omega) (by decide)) h
theorem xa_bad_r (hd : d < 6) (hS : ¬ oS d = 4) (hc : c < 32) (h15 : c ≠ 15) (h11 : c ≠ 11) (h : P (ln, ap, st, 1, ap, wt, wn, tg, rf, nI (d + 1), pt, zs, te, pw, sg, bg, dg, bl, dw, es, ct, bd, pr, lt, T, so, tA, tB, tC, fN, fO, fQ, fS, tO, oS, oT, oN, oC, oE, oH, cm, kd, vl, pa, na, ty, fr, ta, ou, wk, sp)) : wpX_after P (ln, ap, st, er, pl, wt, wn, tg, rf, nI (d + 1), pt, zs, te, pw, sg, bg, dg, bl, dw, es, ct, bd, pr, lt, T, so, tA, tB, tC, fN, fO, fQ, fS, tO, oS, oT, oN, oC, oE, oH, cm, kd, vl, pa, na, ty, fr, ta, ou, wk, sp) (nI c) := by
  have k : wX_after_105 P (nI c) 0 ln ap st er pl wt wn tg rf (nI (d + 1)) pt zs te pw sg bg dg bl dw es ct bd pr lt T so tA tB tC fN fO fQ fS tO oS oT oN oC oE oH cm kd vl pa na ty fr ta ou wk sp := br_f (za_ne (b := 11) h11 (by omega) (by decide)) h
  refine xa_r (Q := True) hd hS (br_f (nI_ne0 (by omega) (by omega)) (br_f (za_ne (b := 15) h15 (by omega) (by decide)) ?_))
  by_cases e : c = 13
  · subst e; exact br_t rfl (br_t rfl k)
  · exact br_f (za_ne (b := 13) e (by omega) (by decide)) k
/-! a list ends -/
theorem xc_list {s j m : Nat} (hd : d < 6) (hs : s < 12) (hj : j < 40) (hT' : oT d = nI s) (hN : oN d = nI j) (hC : oC d = nI m) (hb : tB s ≤ nI m) (h : P (ln, nI (a + 1), 1, er, pl, wt, wn, tg, rf, nI d, pt, zs, te, pw, sg, bg, dg, bl, dw, es, ct, bd, pr, lt, T, so, tA, tB, tC, fN, fO, fQ, fS, tO, oS, oT, oN, oC, oE, oH, cm, kd, upd vl j (nI m), pa, na, ty, fr, ta, ou, wk, sp)) : wpX_closeList P (ln, nI a, st, er, pl, wt, wn, tg, rf, nI (d + 1), pt, zs, te, pw, sg, bg, dg, bl, dw, es, ct, bd, pr, lt, T, so, tA, tB, tC, fN, fO, fQ, fS, tO, oS, oT, oN, oC, oE, oH, cm, kd, vl, pa, na, ty, fr, ta, ou, wk, sp) := by
  have e : (nI d).toNatClampNeg = d := nI_clamp (by omega)
  have w : vp_in (nI d) 6 := vp_in_nI hd (by omega)
  refine nm_r (nI_pred d) ⟨w, w, ?_⟩
  rw [e, hT', hC, hN, nI_clamp (n := s) (by omega)]
  refine ⟨vp_in_nI hs (by omega), br_t hb ⟨w, w, vp_in_nI hj (by omega), nm_r (e' := upd vl j (nI m)) (by rw [nI_clamp (by omega)]) (nm_r (nI_pred d) (nm_r (nI_1 a) h))⟩⟩
theorem xc_listf {s m : Nat} (hd : d < 6) (hs : s < 12) (hT' : oT d = nI s) (hC : oC d = nI m) (hb : ¬ tB s ≤ nI m) (h : P (ln, ap, st, 6, ap, wt, wn, tg, rf, nI (d + 1), pt, zs, te, pw, sg, bg, dg, bl, dw, es, ct, bd, pr, lt, T, so, tA, tB, tC, fN, fO, fQ, fS, tO, oS, oT, oN, oC, oE, oH, cm, kd, vl, pa, na, ty, fr, ta, ou, wk, sp)) : wpX_closeList P (ln, ap, st, er, pl, wt, wn, tg, rf, nI (d + 1), pt, zs, te, pw, sg, bg, dg, bl, dw, es, ct, bd, pr, lt, T, so, tA, tB, tC, fN, fO, fQ, fS, tO, oS, oT, oN, oC, oE, oH, cm, kd, vl, pa, na, ty, fr, ta, ou, wk, sp) := by
  have e : (nI d).toNatClampNeg = d := nI_clamp (by omega)
  have w : vp_in (nI d) 6 := vp_in_nI hd (by omega)
  refine nm_r (nI_pred d) ⟨w, w, ?_⟩
  rw [e, hT', hC, nI_clamp (n := s) (by omega)]
  exact ⟨vp_in_nI hs (by omega), br_f hb h⟩
end XR
end
section
/-! records end; the reference's commas, colons and ends -/
section XC
def zf_mb (E x : Int32) : Prop := ((E >>> (x &&& 31)) &&& 1) = 0
def zf_fine (fN fQ : Nat → Int32) (s : Nat) (E : Int32) (f : Nat) : Prop := fQ (4 * s + f) = 0 ∨ ¬ zf_mb E (fN (4 * s + f))
def zf_mi (fN fQ : Nat → Int32) (s n : Nat) (E : Int32) (f : Nat) : Prop := f < n ∧ ¬ fQ (4 * s + f) = 0 ∧ zf_mb E (fN (4 * s + f)) ∧ ∀ g, g < f → zf_fine fN fQ s E g
theorem zf_oe (fN fQ : Nat → Int32) (s : Nat) (E : Int32) : ∀ n, (∀ f, f < n → zf_fine fN fQ s E f) ∨ ∃ f, zf_mi fN fQ s n E f := by
  intro n
  induction n with
  | zero => exact Or.inl (fun f hf => by omega)
  | succ n ih =>
    rcases ih with h | ⟨f, h1, h2, h3, h4⟩
    · by_cases c : fQ (4 * s + n) = 0
      · refine Or.inl (fun f hf => ?_)
        by_cases e : f = n
        · subst e; exact Or.inl c
        · exact h f (by omega)
      · by_cases c2 : zf_mb E (fN (4 * s + n))
        · exact Or.inr ⟨n, by omega, c, c2, h⟩
        · refine Or.inl (fun f hf => ?_)
          by_cases e : f = n
          · subst e; exact Or.inr c2
          · exact h f (by omega)
    · exact Or.inr ⟨f, by omega, h2, h3, h4⟩
section X
variable {a d : Nat} {ln ap st er pl wt wn tg rf dp pt zs te pw sg bg bl dw es ct bd pr lt : Int32} {dg : Int64} {T so tA tB tC fN fO fQ fS tO oS oT oN oC oE oH cm kd vl pa na ty fr ta ou wk sp : Nat → Int32} {P : SX → Prop}
theorem xc_40 {s n : Nat} (hd : d < 6) (hs : s < 12) (hn : n ≤ 4) (hfS : fS s = nI n) : ∀ dd j m, j + dd ≤ n → (∀ g, j ≤ g → g < j + dd → zf_fine fN fQ s (oE d) g) → (∀ m', wX_closeRecord_40 P (nI d) (nI s) ln ap st er pl wt wn tg rf dp pt zs te pw sg bg dg bl dw es ct bd pr lt T so tA tB tC fN fO fQ fS tO oS oT oN oC oE oH cm kd vl pa na ty fr ta ou wk sp (m' + 1) (nI (4 * s + (j + dd)))) → dd < m → wX_closeRecord_40 P (nI d) (nI s) ln ap st er pl wt wn tg rf dp pt zs te pw sg bg dg bl dw es ct bd pr lt T so tA tB tC fN fO fQ fS tO oS oT oN oC oE oH cm kd vl pa na ty fr ta ou wk sp m (nI (4 * s + j)) := by
  intro dd
  induction dd with
  | zero =>
    intro j m h1 h2 h3 h4
    obtain ⟨m, rfl⟩ : ∃ m', m = m' + 1 := ⟨m - 1, by omega⟩
    exact h3 m
  | succ dd ih =>
    intro j m h1 h2 h3 h4
    obtain ⟨m, rfl⟩ : ∃ m', m = m' + 1 := ⟨m - 1, by omega⟩
    have e : 4 * nI s + fS (nI s).toNatClampNeg = nI (4 * s + n) := by rw [nI_clamp (by omega), hfS, zf_4]
    have nx := ih (j + 1) m (by omega) (fun g ha hb => h2 g (by omega) (by omega)) (by rw [show j + 1 + dd = j + (dd + 1) from by omega]; exact h3) (by omega)
    have wj : vp_in (nI (4 * s + j)) 48 := vp_in_nI (by omega) (by omega)
    have ej : (nI (4 * s + j)).toNatClampNeg = 4 * s + j := nI_clamp (by omega)
    refine ⟨vp_in_nI hs (by omega), br_f (by rw [e]; exact nI_ge (by omega) (by omega)) ⟨wj, ?_⟩⟩
    rw [ej]
    by_cases q0 : fQ (4 * s + j) = 0
    · exact br_t q0 (nm_r (nI_1 (4 * s + j)) nx)
    · refine br_f q0 ⟨vp_in_nI hd (by omega), wj, ?_⟩
      rw [nI_clamp (n := d) (by omega)]
      exact br_f ((h2 j (Nat.le_refl _) (by omega)).resolve_left q0) (nm_r (nI_1 (4 * s + j)) nx)
theorem xc_rec_ch (hd : d < 6) (hS : oS d = 6) (h : P (ln, ap, st, 7, ap, wt, wn, tg, rf, nI (d + 1), pt, zs, te, pw, sg, bg, dg, bl, dw, es, ct, bd, pr, lt, T, so, tA, tB, tC, fN, fO, fQ, fS, tO, oS, oT, oN, oC, oE, oH, cm, kd, vl, pa, na, ty, fr, ta, ou, wk, sp)) : wpX_closeRecord P (ln, ap, st, er, pl, wt, wn, tg, rf, nI (d + 1), pt, zs, te, pw, sg, bg, dg, bl, dw, es, ct, bd, pr, lt, T, so, tA, tB, tC, fN, fO, fQ, fS, tO, oS, oT, oN, oC, oE, oH, cm, kd, vl, pa, na, ty, fr, ta, ou, wk, sp) := by
  have e : (nI d).toNatClampNeg = d := nI_clamp (by omega)
  have w : vp_in (nI d) 6 := vp_in_nI hd (by omega)
  exact nm_r (nI_pred d) ⟨w, nm_e ⟨w, br_t (by rw [e]; exact hS) h⟩⟩
theorem xc_rec_mi {s n f : Nat} (hd : d < 6) (hs : s < 12) (hn : n ≤ 4) (hS : ¬ oS d = 6) (hT' : oT d = nI s) (hfS : fS s = nI n) (hm : zf_mi fN fQ s n (oE d) f) (h : P (ln, ap, st, 8, ap, wt, wn, tg, rf, nI (d + 1), pt, zs, te, pw, sg, bg, dg, bl, dw, es, ct, bd, pr, lt, T, so, tA, tB, tC, fN, fO, fQ, fS, tO, oS, oT, oN, oC, oE, oH, cm, kd, vl, pa, na, ty, fr, ta, ou, wk, sp)) : wpX_closeRecord P (ln, ap, st, er, pl, wt, wn, tg, rf, nI (d + 1), pt, zs, te, pw, sg, bg, dg, bl, dw, es, ct, bd, pr, lt, T, so, tA, tB, tC, fN, fO, fQ, fS, tO, oS, oT, oN, oC, oE, oH, cm, kd, vl, pa, na, ty, fr, ta, ou, wk, sp) := by
  have e : (nI d).toNatClampNeg = d := nI_clamp (by omega)
  have w : vp_in (nI d) 6 := vp_in_nI hd (by omega)
  obtain ⟨h1, h2, h3, h4⟩ := hm
  have wj : vp_in (nI (4 * s + f)) 48 := vp_in_nI (by omega) (by omega)
  have ej : (nI (4 * s + f)).toNatClampNeg = 4 * s + f := nI_clamp (by omega)
  refine nm_r (nI_pred d) ⟨w, nm_r (e' := nI s) (by rw [e, hT']) ⟨w, br_f (by rw [e]; exact hS) (nm_r (e' := nI (4 * s + 0)) (by rw [Nat.add_zero, ← pk_mul]; rfl) ⟨6, xc_40 hd hs hn hfS f 0 6 (by omega) (fun g _ hb => h4 g (by omega)) (fun m' => ?_) (by omega)⟩)⟩⟩
  rw [Nat.zero_add]
  refine ⟨vp_in_nI hs (by omega), br_f (by rw [nI_clamp (n := s) (by omega), hfS, zf_4]; exact nI_ge (by omega) (by omega)) ⟨wj, ?_⟩⟩
  rw [ej]
  refine br_f h2 ⟨w, wj, ?_⟩
  rw [e]
  exact br_t h3 h
theorem xc_rec_ok {s n : Nat} {cm' : Nat → Int32} (hd : d < 6) (hs : s < 12) (hn : n ≤ 4) (hS : ¬ oS d = 6) (hT' : oT d = nI s) (hfS : fS s = nI n) (hm : ∀ f, f < n → zf_fine fN fQ s (oE d) f)
    (hH : (0 ≤ oH d ∧ cm' = cm) ∨ (¬ 0 ≤ oH d ∧ ∃ q, q < 126 ∧ cm s = nI q ∧ cm' = upd cm s (nI (q + 1)))) (h : P (ln, nI (a + 1), 1, er, pl, wt, wn, tg, rf, nI d, pt, zs, te, pw, sg, bg, dg, bl, dw, es, ct, bd, pr, lt, T, so, tA, tB, tC, fN, fO, fQ, fS, tO, oS, oT, oN, oC, oE, oH, cm', kd, vl, pa, na, ty, fr, ta, ou, wk, sp)) : wpX_closeRecord P (ln, nI a, st, er, pl, wt, wn, tg, rf, nI (d + 1), pt, zs, te, pw, sg, bg, dg, bl, dw, es, ct, bd, pr, lt, T, so, tA, tB, tC, fN, fO, fQ, fS, tO, oS, oT, oN, oC, oE, oH, cm, kd, vl, pa, na, ty, fr, ta, ou, wk, sp) := by
  have e : (nI d).toNatClampNeg = d := nI_clamp (by omega)
  have es : (nI s).toNatClampNeg = s := nI_clamp (by omega)
  have w : vp_in (nI d) 6 := vp_in_nI hd (by omega)
  have ws : vp_in (nI s) 12 := vp_in_nI hs (by omega)
  refine nm_r (nI_pred d) ⟨w, nm_r (e' := nI s) (by rw [e, hT']) ⟨w, br_f (by rw [e]; exact hS) (nm_r (e' := nI (4 * s + 0)) (by rw [Nat.add_zero, ← pk_mul]; rfl) ⟨6, xc_40 hd hs hn hfS n 0 6 (by omega) (fun g _ hb => hm g (by omega)) (fun m' => ?_) (by omega)⟩)⟩⟩
  rw [Nat.zero_add]
  refine ⟨ws, br_t (by rw [es, hfS, zf_4]; exact nI_le (by omega) (by omega)) ⟨w, ?_⟩⟩
  rw [e]
  rcases hH with ⟨h1, rfl⟩ | ⟨h1, q, h2, h3, rfl⟩
  · exact br_t h1 (nm_r (nI_pred d) (nm_r (nI_1 a) h))
  · refine br_f h1 ⟨ws, ws, nm_r (e' := upd cm s (nI (q + 1))) ?_ (nm_r (nI_pred d) (nm_r (nI_1 a) h))⟩
    rw [es, h3, nI_1, za_by2 (by omega)]
end X
section Y
variable {q c k d : Nat} {sl : Int32} {ln ps ba ct fl yp yb dp nn wN wT pr wg sc : Int32} {so tA tB tC fN fO fS yt fQ T be en ins wh kd yv pa na ty fr cm oN yT yC yE oH ou td : Nat → Int32} {ln1 ps1 ba1 ct1 fl1 yp1 yb1 dp1 nn1 wN1 wT1 pr1 wg1 sc1 : Int32} {so1 tA1 tB1 tC1 fN1 fO1 fS1 yt1 fQ1 T1 be1 en1 ins1 wh1 kd1 yv1 pa1 na1 ty1 fr1 cm1 oN1 yT1 yC1 yE1 oH1 ou1 td1 : Nat → Int32} {P : SY → Prop}
theorem yp_fail0 {x y : Int32} (h : P (ln, ps, ba, ct, x, y, yb, dp, nn, wN, wT, pr, wg, sc, so, tA, tB, tC, fN, fO, fS, yt, fQ, T, be, en, ins, wh, kd, yv, pa, na, ty, fr, cm, oN, yT, yC, yE, oH, ou, td)) : wpY_fail P (ln, ps, ba, ct, 0, yp, yb, dp, nn, wN, wT, pr, wg, sc, so, tA, tB, tC, fN, fO, fS, yt, fQ, T, be, en, ins, wh, kd, yv, pa, na, ty, fr, cm, oN, yT, yC, yE, oH, ou, td) x y := br_t rfl h
theorem yp_fail1 {x y : Int32} (hf : ¬ fl = 0) (h : P (ln, ps, ba, ct, fl, yp, yb, dp, nn, wN, wT, pr, wg, sc, so, tA, tB, tC, fN, fO, fS, yt, fQ, T, be, en, ins, wh, kd, yv, pa, na, ty, fr, cm, oN, yT, yC, yE, oH, ou, td)) : wpY_fail P (ln, ps, ba, ct, fl, yp, yb, dp, nn, wN, wT, pr, wg, sc, so, tA, tB, tC, fN, fO, fS, yt, fQ, T, be, en, ins, wh, kd, yv, pa, na, ty, fr, cm, oN, yT, yC, yE, oH, ou, td) x y := br_f hf h
/-- what a part is: its first character -/
theorem yp_open (hk : k < 96) (hb : be k = nI q) (hq : q < 96) (hc : T q = nI c) (Pr : Int32 → Prop) (h : Pr (nI c)) : vp_in (nI k) 96 ∧ (vp_in (be (nI k).toNatClampNeg) 96 ∧ ∀ x : Int32, x = T (be (nI k).toNatClampNeg).toNatClampNeg → Pr x) := by
  rw [nI_clamp (n := k) (by omega), hb]
  exact ⟨vp_in_nI hk (by omega), vp_in_nI hq (by omega), nm_r (e' := nI c) (by rw [nI_clamp (by omega), hc]) h⟩
theorem yp_root (hk : k < 96) (hb : be k = nI q) (hq : q < 96) (hc : T q = nI c) (h : ∀ Q : SY → Prop, Q (ln1, ps1, ba1, ct1, fl1, yp1, yb1, dp1, nn1, wN1, wT1, pr1, wg1, sc1, so1, tA1, tB1, tC1, fN1, fO1, fS1, yt1, fQ1, T1, be1, en1, ins1, wh1, kd1, yv1, pa1, na1, ty1, fr1, cm1, oN1, yT1, yC1, yE1, oH1, ou1, td1) → wpY_bindValue Q (ln, ps, ba, ct, fl, yp, yb, nI 0, nn, wN, wT, pr, wg, sc, so, tA, tB, tC, fN, fO, fS, yt, fQ, T, be, en, ins, wh, kd, yv, pa, na, ty, fr, cm, oN, yT, yC, yE, oH, ou, td) (nI k) sl (-1) (-1)) (hp : P (ln1, ps1, ba1, ct1, fl1, yp1, yb1, dp1, nn1, wN1, wT1, pr1, wg1, sc1, so1, tA1, tB1, tC1, fN1, fO1, fS1, yt1, fQ1, T1, be1, en1, ins1, wh1, kd1, yv1, pa1, na1, ty1, fr1, cm1, oN1, yT1, yC1, yE1, oH1, ou1, td1)) : wpY_part P (ln, ps, ba, ct, fl, yp, yb, nI 0, nn, wN, wT, pr, wg, sc, so, tA, tB, tC, fN, fO, fS, yt, fQ, T, be, en, ins, wh, kd, yv, pa, na, ty, fr, cm, oN, yT, yC, yE, oH, ou, td) (nI k) sl :=
  yp_open hk hb hq hc _ (nm_e (br_t rfl (h _ hp)))
theorem yp_cl (hk : k < 96) (hb : be k = nI q) (hq : q < 96) (hc : T q = nI 13) (hd : d < 6) (h : ∀ Q : SY → Prop, Q (ln1, ps1, ba1, ct1, fl1, yp1, yb1, dp1, nn1, wN1, wT1, pr1, wg1, sc1, so1, tA1, tB1, tC1, fN1, fO1, fS1, yt1, fQ1, T1, be1, en1, ins1, wh1, kd1, yv1, pa1, na1, ty1, fr1, cm1, oN1, yT1, yC1, yE1, oH1, ou1, td1) → wpY_closeList Q (ln, ps, ba, ct, fl, yp, yb, nI (d + 1), nn, wN, wT, pr, wg, sc, so, tA, tB, tC, fN, fO, fS, yt, fQ, T, be, en, ins, wh, kd, yv, pa, na, ty, fr, cm, oN, yT, yC, yE, oH, ou, td) (nI k)) (hp : P (ln1, ps1, ba1, ct1, fl1, yp1, yb1, dp1, nn1, wN1, wT1, pr1, wg1, sc1, so1, tA1, tB1, tC1, fN1, fO1, fS1, yt1, fQ1, T1, be1, en1, ins1, wh1, kd1, yv1, pa1, na1, ty1, fr1, cm1, oN1, yT1, yC1, yE1, oH1, ou1, td1)) : wpY_part P (ln, ps, ba, ct, fl, yp, yb, nI (d + 1), nn, wN, wT, pr, wg, sc, so, tA, tB, tC, fN, fO, fS, yt, fQ, T, be, en, ins, wh, kd, yv, pa, na, ty, fr, cm, oN, yT, yC, yE, oH, ou, td) (nI k) sl :=
  yp_open hk hb hq hc _ (nm_e (br_f (nI_ne0 (by omega) (by omega)) (br_t rfl (h _ hp))))
theorem yp_cr (hk : k < 96) (hb : be k = nI q) (hq : q < 96) (hc : T q = nI 11) (hd : d < 6) (h : ∀ Q : SY → Prop, Q (ln1, ps1, ba1, ct1, fl1, yp1, yb1, dp1, nn1, wN1, wT1, pr1, wg1, sc1, so1, tA1, tB1, tC1, fN1, fO1, fS1, yt1, fQ1, T1, be1, en1, ins1, wh1, kd1, yv1, pa1, na1, ty1, fr1, cm1, oN1, yT1, yC1, yE1, oH1, ou1, td1) → wpY_closeRecord Q (ln, ps, ba, ct, fl, yp, yb, nI (d + 1), nn, wN, wT, pr, wg, sc, so, tA, tB, tC, fN, fO, fS, yt, fQ, T, be, en, ins, wh, kd, yv, pa, na, ty, fr, cm, oN, yT, yC, yE, oH, ou, td) (nI k)) (hp : P (ln1, ps1, ba1, ct1, fl1, yp1, yb1, dp1, nn1, wN1, wT1, pr1, wg1, sc1, so1, tA1, tB1, tC1, fN1, fO1, fS1, yt1, fQ1, T1, be1, en1, ins1, wh1, kd1, yv1, pa1, na1, ty1, fr1, cm1, oN1, yT1, yC1, yE1, oH1, ou1, td1)) : wpY_part P (ln, ps, ba, ct, fl, yp, yb, nI (d + 1), nn, wN, wT, pr, wg, sc, so, tA, tB, tC, fN, fO, fS, yt, fQ, T, be, en, ins, wh, kd, yv, pa, na, ty, fr, cm, oN, yT, yC, yE, oH, ou, td) (nI k) sl :=
  yp_open hk hb hq hc _ (nm_e (br_f (nI_ne0 (by omega) (by omega)) (br_f (by decide) (br_t rfl (h _ hp)))))
theorem yp_comma {j : Nat} (hk : k < 96) (hb : be k = nI q) (hq : q < 96) (hc : T q = nI 15) (hd : d < 6) (hN : oN d = nI j) (hj : j < 40) (h4 : kd j = 4 → P (ln, ps, ba, ct, fl, yp, yb, nI (d + 1), nn, 1, wT, pr, wg, sc, so, tA, tB, tC, fN, fO, fS, yt, fQ, T, be, en, ins, wh, kd, yv, pa, na, ty, fr, cm, oN, yT, yC, yE, oH, ou, td)) (h3 : ¬ kd j = 4 → P (ln, ps, ba, ct, fl, yp, yb, nI (d + 1), nn, 0, wT, pr, wg, sc, so, tA, tB, tC, fN, fO, fS, yt, fQ, T, be, en, ins, wh, kd, yv, pa, na, ty, fr, cm, oN, yT, yC, yE, oH, ou, td)) : wpY_part P (ln, ps, ba, ct, fl, yp, yb, nI (d + 1), nn, wN, wT, pr, wg, sc, so, tA, tB, tC, fN, fO, fS, yt, fQ, T, be, en, ins, wh, kd, yv, pa, na, ty, fr, cm, oN, yT, yC, yE, oH, ou, td) (nI k) sl := by
  refine yp_open hk hb hq hc _ (nm_r (nI_pred d) (br_f (nI_ne0 (by omega) (by omega)) (br_f (by decide) (br_f (by decide) (br_t rfl ⟨vp_in_nI (by omega) (by omega), ?_⟩)))))
  rw [nI_clamp (n := d) (by omega), hN]
  refine ⟨vp_in_nI hj (by omega), ?_⟩
  rw [nI_clamp (n := j) (by omega)]
  exact ⟨h4, h3⟩
theorem yp_colon (hk : k < 96) (hb : be k = nI q) (hq : q < 96) (hc : T q = nI 14) (hd : d < 6) (h : P (ln, ps, ba, ct, fl, yp, yb, nI (d + 1), nn, 0, wT, pr, wg, sc, so, tA, tB, tC, fN, fO, fS, yt, fQ, T, be, en, ins, wh, kd, yv, pa, na, ty, fr, cm, oN, yT, yC, yE, oH, ou, td)) : wpY_part P (ln, ps, ba, ct, fl, yp, yb, nI (d + 1), nn, wN, wT, pr, wg, sc, so, tA, tB, tC, fN, fO, fS, yt, fQ, T, be, en, ins, wh, kd, yv, pa, na, ty, fr, cm, oN, yT, yC, yE, oH, ou, td) (nI k) sl :=
  yp_open hk hb hq hc _ (nm_e (br_f (nI_ne0 (by omega) (by omega)) (br_f (by decide) (br_f (by decide) (br_f (by decide) (br_t rfl h))))))
theorem yc_list {s m : Nat} (hd : d < 6) (hs : s < 12) (hT' : yT d = nI s) (hC : yC d = nI m) (hb : tB s ≤ nI m) (h : P (ln, ps, ba, ct, fl, yp, yb, nI d, nn, wN, wT, pr, wg, sc, so, tA, tB, tC, fN, fO, fS, yt, fQ, T, be, en, ins, wh, kd, yv, pa, na, ty, fr, cm, oN, yT, yC, yE, oH, ou, td)) : wpY_closeList P (ln, ps, ba, ct, fl, yp, yb, nI (d + 1), nn, wN, wT, pr, wg, sc, so, tA, tB, tC, fN, fO, fS, yt, fQ, T, be, en, ins, wh, kd, yv, pa, na, ty, fr, cm, oN, yT, yC, yE, oH, ou, td) (nI k) := by
  have e : (nI d).toNatClampNeg = d := nI_clamp (by omega)
  have w : vp_in (nI d) 8 := vp_in_nI (by omega) (by omega)
  refine nm_r (nI_pred d) ⟨w, w, ?_⟩
  rw [e, hT', hC, nI_clamp (n := s) (by omega)]
  exact ⟨vp_in_nI hs (by omega), br_t hb (nm_r (nI_pred d) h)⟩
theorem yc_listf {s m : Nat} (hk : k < 96) (hd : d < 6) (hs : s < 12) (hT' : yT d = nI s) (hC : yC d = nI m) (hb : ¬ tB s ≤ nI m) (h : P (ln, ps, ba, ct, 6, be k, yb, nI d, nn, wN, wT, pr, wg, sc, so, tA, tB, tC, fN, fO, fS, yt, fQ, T, be, en, ins, wh, kd, yv, pa, na, ty, fr, cm, oN, yT, yC, yE, oH, ou, td)) : wpY_closeList P (ln, ps, ba, ct, 0, yp, yb, nI (d + 1), nn, wN, wT, pr, wg, sc, so, tA, tB, tC, fN, fO, fS, yt, fQ, T, be, en, ins, wh, kd, yv, pa, na, ty, fr, cm, oN, yT, yC, yE, oH, ou, td) (nI k) := by
  have e : (nI d).toNatClampNeg = d := nI_clamp (by omega)
  have w : vp_in (nI d) 8 := vp_in_nI (by omega) (by omega)
  refine nm_r (nI_pred d) ⟨w, w, ?_⟩
  rw [e, hT', hC, nI_clamp (n := s) (by omega), nI_clamp (n := k) (by omega)]
  exact ⟨vp_in_nI hs (by omega), br_f hb ⟨vp_in_nI hk (by omega), br_t rfl (nm_r (nI_pred d) h)⟩⟩
/-- the needed fields: none is missing up to here -/
theorem yc_36 {s n : Nat} (hd : d < 6) (hs : s < 12) (hn : n ≤ 4) (hfS : fS s = nI n) : ∀ dd j m, j + dd ≤ n → (∀ g, j ≤ g → g < j + dd → zf_fine fN fQ s (yE d) g) → (∀ m', dd + m' + 1 ≥ m → wY_closeRecord_36 P (nI k) (nI d) (nI s) m' (nI (4 * s + (j + dd))) ln ps ba ct fl yp yb dp nn wN wT pr wg sc so tA tB tC fN fO fS yt fQ T be en ins wh kd yv pa na ty fr cm oN yT yC yE oH ou td) → dd < m → wY_closeRecord_36 P (nI k) (nI d) (nI s) m (nI (4 * s + j)) ln ps ba ct fl yp yb dp nn wN wT pr wg sc so tA tB tC fN fO fS yt fQ T be en ins wh kd yv pa na ty fr cm oN yT yC yE oH ou td := by
  intro dd
  induction dd with
  | zero =>
    intro j m h1 h2 h3 h4
    exact h3 m (by omega)
  | succ dd ih =>
    intro j m h1 h2 h3 h4
    obtain ⟨m, rfl⟩ : ∃ m', m = m' + 1 := ⟨m - 1, by omega⟩
    have e : 4 * nI s + fS (nI s).toNatClampNeg = nI (4 * s + n) := by rw [nI_clamp (by omega), hfS, zf_4]
    have nx := ih (j + 1) m (by omega) (fun g ha hb => h2 g (by omega) (by omega)) (fun m' hm' => by rw [show j + 1 + dd = j + (dd + 1) from by omega]; exact h3 m' (by omega)) (by omega)
    have wj : vp_in (nI (4 * s + j)) 48 := vp_in_nI (by omega) (by omega)
    have ej : (nI (4 * s + j)).toNatClampNeg = 4 * s + j := nI_clamp (by omega)
    refine ⟨vp_in_nI hs (by omega), br_f (by rw [e]; exact nI_ge (by omega) (by omega)) ⟨wj, ?_⟩⟩
    rw [ej]
    by_cases q0 : fQ (4 * s + j) = 0
    · exact br_t q0 (nm_r (nI_1 (4 * s + j)) nx)
    · refine br_f q0 ⟨vp_in_nI (by omega) (by omega), wj, ?_⟩
      rw [nI_clamp (n := d) (by omega)]
      exact br_f ((h2 j (Nat.le_refl _) (by omega)).resolve_left q0) (nm_r (nI_1 (4 * s + j)) nx)
/-- a fault is there already: to the end -/
theorem yc_36f {s n : Nat} (hk : k < 96) (hd : d < 6) (hs : s < 12) (hn : n ≤ 4) (hfS : fS s = nI n) (hf : ¬ fl = 0) : ∀ dd j m, j + dd = n → (∀ m', wY_closeRecord_36 P (nI k) (nI d) (nI s) (m' + 1) (nI (4 * s + n)) ln ps ba ct fl yp yb dp nn wN wT pr wg sc so tA tB tC fN fO fS yt fQ T be en ins wh kd yv pa na ty fr cm oN yT yC yE oH ou td) → dd < m → wY_closeRecord_36 P (nI k) (nI d) (nI s) m (nI (4 * s + j)) ln ps ba ct fl yp yb dp nn wN wT pr wg sc so tA tB tC fN fO fS yt fQ T be en ins wh kd yv pa na ty fr cm oN yT yC yE oH ou td := by
  intro dd
  induction dd with
  | zero =>
    intro j m h1 h3 h4
    obtain ⟨m, rfl⟩ : ∃ m', m = m' + 1 := ⟨m - 1, by omega⟩
    obtain rfl : j = n := by omega
    exact h3 m
  | succ dd ih =>
    intro j m h1 h3 h4
    obtain ⟨m, rfl⟩ : ∃ m', m = m' + 1 := ⟨m - 1, by omega⟩
    have e : 4 * nI s + fS (nI s).toNatClampNeg = nI (4 * s + n) := by rw [nI_clamp (by omega), hfS, zf_4]
    have nx := ih (j + 1) m (by omega) h3 (by omega)
    have wj : vp_in (nI (4 * s + j)) 48 := vp_in_nI (by omega) (by omega)
    refine ⟨vp_in_nI hs (by omega), br_f (by rw [e]; exact nI_ge (by omega) (by omega)) ⟨wj, br_c (fun _ => nm_r (nI_1 (4 * s + j)) nx) (fun _ => ⟨vp_in_nI (by omega) (by omega), wj, br_c (fun _ => ⟨vp_in_nI hk (by omega), br_f hf (nm_r (nI_1 (4 * s + j)) nx)⟩) (fun _ => nm_r (nI_1 (4 * s + j)) nx)⟩)⟩⟩
theorem yc_36e {s n m : Nat} {cm' : Nat → Int32} (hd : d < 6) (hs : s < 12) (hn : n ≤ 4) (hfS : fS s = nI n) (hH : (0 ≤ oH d ∧ cm' = cm) ∨ (¬ 0 ≤ oH d ∧ cm' = upd cm s (cm s + 1))) (h : P (ln, ps, ba, ct, fl, yp, yb, nI d, nn, wN, wT, pr, wg, sc, so, tA, tB, tC, fN, fO, fS, yt, fQ, T, be, en, ins, wh, kd, yv, pa, na, ty, fr, cm', oN, yT, yC, yE, oH, ou, td)) : wY_closeRecord_36 P (nI k) (nI d) (nI s) (m + 1) (nI (4 * s + n)) ln ps ba ct fl yp yb (nI (d + 1)) nn wN wT pr wg sc so tA tB tC fN fO fS yt fQ T be en ins wh kd yv pa na ty fr cm oN yT yC yE oH ou td := by
  have e : (nI d).toNatClampNeg = d := nI_clamp (by omega)
  have es : (nI s).toNatClampNeg = s := nI_clamp (by omega)
  have ws : vp_in (nI s) 12 := vp_in_nI hs (by omega)
  refine ⟨ws, br_t (by rw [es, hfS, zf_4]; exact nI_le (by omega) (by omega)) ⟨vp_in_nI (by omega) (by omega), ?_⟩⟩
  rw [e]
  rcases hH with ⟨h1, rfl⟩ | ⟨h1, rfl⟩
  · exact br_t h1 (nm_r (nI_pred d) h)
  · exact br_f h1 ⟨ws, ws, nm_r (e' := upd cm s (cm s + 1)) (by rw [es]) (nm_r (nI_pred d) h)⟩
theorem yc_rec_ch (hk : k < 96) (hd : d < 6) (hT' : yT d = -1) (h : P (ln, ps, ba, ct, 7, be k, yb, nI (d + 1), nn, wN, wT, pr, wg, sc, so, tA, tB, tC, fN, fO, fS, yt, fQ, T, be, en, ins, wh, kd, yv, pa, na, ty, fr, cm, oN, yT, yC, yE, oH, ou, td)) : wpY_closeRecord P (ln, ps, ba, ct, 0, yp, yb, nI (d + 1), nn, wN, wT, pr, wg, sc, so, tA, tB, tC, fN, fO, fS, yt, fQ, T, be, en, ins, wh, kd, yv, pa, na, ty, fr, cm, oN, yT, yC, yE, oH, ou, td) (nI k) := by
  have e : (nI d).toNatClampNeg = d := nI_clamp (by omega)
  refine nm_r (nI_pred d) ⟨vp_in_nI (by omega) (by omega), nm_r (e' := -1) (by rw [e, hT']) (br_f (by decide) ⟨vp_in_nI hk (by omega), br_t rfl ?_⟩)⟩
  rw [nI_clamp (n := k) (by omega)]; exact h
theorem yc_rec_ok {s n : Nat} {cm' : Nat → Int32} (hd : d < 6) (hs : s < 12) (hn : n ≤ 4) (hT' : yT d = nI s) (hfS : fS s = nI n) (hm : ∀ f, f < n → zf_fine fN fQ s (yE d) f) (hH : (0 ≤ oH d ∧ cm' = cm) ∨ (¬ 0 ≤ oH d ∧ cm' = upd cm s (cm s + 1))) (h : P (ln, ps, ba, ct, fl, yp, yb, nI d, nn, wN, wT, pr, wg, sc, so, tA, tB, tC, fN, fO, fS, yt, fQ, T, be, en, ins, wh, kd, yv, pa, na, ty, fr, cm', oN, yT, yC, yE, oH, ou, td)) : wpY_closeRecord P (ln, ps, ba, ct, fl, yp, yb, nI (d + 1), nn, wN, wT, pr, wg, sc, so, tA, tB, tC, fN, fO, fS, yt, fQ, T, be, en, ins, wh, kd, yv, pa, na, ty, fr, cm, oN, yT, yC, yE, oH, ou, td) (nI k) := by
  have e : (nI d).toNatClampNeg = d := nI_clamp (by omega)
  refine nm_r (nI_pred d) ⟨vp_in_nI (by omega) (by omega), nm_r (e' := nI s) (by rw [e, hT']) (br_t (nI_pos' (by omega)) (nm_r (e' := nI (4 * s + 0)) (by rw [Nat.add_zero, ← pk_mul]; rfl) ⟨6, yc_36 hd hs hn hfS n 0 6 (by omega) (fun g _ hb => hm g (by omega)) (fun m' hm' => ?_) (by omega)⟩))⟩
  obtain ⟨m', rfl⟩ : ∃ z, m' = z + 1 := ⟨m' - 1, by omega⟩
  rw [Nat.zero_add]
  exact yc_36e hd hs hn hfS hH h
theorem yc_rec_mi {s n f : Nat} (hk : k < 96) (hd : d < 6) (hs : s < 12) (hn : n ≤ 4) (hT' : yT d = nI s) (hfS : fS s = nI n) (hm : zf_mi fN fQ s n (yE d) f) (h : ∀ cm', P (ln, ps, ba, ct, 8, be k, yb, nI d, nn, wN, wT, pr, wg, sc, so, tA, tB, tC, fN, fO, fS, yt, fQ, T, be, en, ins, wh, kd, yv, pa, na, ty, fr, cm', oN, yT, yC, yE, oH, ou, td)) : wpY_closeRecord P (ln, ps, ba, ct, 0, yp, yb, nI (d + 1), nn, wN, wT, pr, wg, sc, so, tA, tB, tC, fN, fO, fS, yt, fQ, T, be, en, ins, wh, kd, yv, pa, na, ty, fr, cm, oN, yT, yC, yE, oH, ou, td) (nI k) := by
  have e : (nI d).toNatClampNeg = d := nI_clamp (by omega)
  obtain ⟨h1, h2, h3, h4⟩ := hm
  have wj : vp_in (nI (4 * s + f)) 48 := vp_in_nI (by omega) (by omega)
  have ej : (nI (4 * s + f)).toNatClampNeg = 4 * s + f := nI_clamp (by omega)
  refine nm_r (nI_pred d) ⟨vp_in_nI (by omega) (by omega), nm_r (e' := nI s) (by rw [e, hT']) (br_t (nI_pos' (by omega)) (nm_r (e' := nI (4 * s + 0)) (by rw [Nat.add_zero, ← pk_mul]; rfl) ⟨12, yc_36 hd hs hn hfS f 0 12 (by omega) (fun g _ hb => h4 g (by omega)) (fun m' hm' => ?_) (by omega)⟩))⟩
  obtain ⟨m', rfl⟩ : ∃ z, m' = z + 1 := ⟨m' - 1, by omega⟩
  rw [Nat.zero_add]
  refine ⟨vp_in_nI hs (by omega), br_f (by rw [nI_clamp (n := s) (by omega), hfS, zf_4]; exact nI_ge (by omega) (by omega)) ⟨wj, ?_⟩⟩
  rw [ej]
  refine br_f h2 ⟨vp_in_nI (by omega) (by omega), wj, ?_⟩
  rw [e]
  refine br_t h3 ⟨vp_in_nI hk (by omega), br_t rfl (nm_r (nI_1 (4 * s + f)) ?_)⟩
  rw [nI_clamp (n := k) (by omega)]
  refine yc_36f hk hd hs hn hfS (by decide) (n - (f + 1)) (f + 1) m' (by omega) (fun m'' => ?_) (by omega)
  by_cases hh : 0 ≤ oH d
  · exact yc_36e hd hs hn hfS (Or.inl ⟨hh, rfl⟩) (h _)
  · exact yc_36e hd hs hn hfS (Or.inr ⟨hh, rfl⟩) (h _)
theorem yc_rec_mi1 {s n f : Nat} {cm' : Nat → Int32} (hk : k < 96) (hd : d < 6) (hs : s < 12) (hn : n ≤ 4) (hT' : yT d = nI s) (hfS : fS s = nI n) (hm : zf_mi fN fQ s n (yE d) f) (hH : (0 ≤ oH d ∧ cm' = cm) ∨ (¬ 0 ≤ oH d ∧ cm' = upd cm s (cm s + 1))) (h : P (ln, ps, ba, ct, 8, be k, yb, nI d, nn, wN, wT, pr, wg, sc, so, tA, tB, tC, fN, fO, fS, yt, fQ, T, be, en, ins, wh, kd, yv, pa, na, ty, fr, cm', oN, yT, yC, yE, oH, ou, td)) : wpY_closeRecord P (ln, ps, ba, ct, 0, yp, yb, nI (d + 1), nn, wN, wT, pr, wg, sc, so, tA, tB, tC, fN, fO, fS, yt, fQ, T, be, en, ins, wh, kd, yv, pa, na, ty, fr, cm, oN, yT, yC, yE, oH, ou, td) (nI k) := by
  have e : (nI d).toNatClampNeg = d := nI_clamp (by omega)
  obtain ⟨h1, h2, h3, h4⟩ := hm
  have wj : vp_in (nI (4 * s + f)) 48 := vp_in_nI (by omega) (by omega)
  have ej : (nI (4 * s + f)).toNatClampNeg = 4 * s + f := nI_clamp (by omega)
  refine nm_r (nI_pred d) ⟨vp_in_nI (by omega) (by omega), nm_r (e' := nI s) (by rw [e, hT']) (br_t (nI_pos' (by omega)) (nm_r (e' := nI (4 * s + 0)) (by rw [Nat.add_zero, ← pk_mul]; rfl) ⟨12, yc_36 hd hs hn hfS f 0 12 (by omega) (fun g _ hb => h4 g (by omega)) (fun m' hm' => ?_) (by omega)⟩))⟩
  obtain ⟨m', rfl⟩ : ∃ z, m' = z + 1 := ⟨m' - 1, by omega⟩
  rw [Nat.zero_add]
  refine ⟨vp_in_nI hs (by omega), br_f (by rw [nI_clamp (n := s) (by omega), hfS, zf_4]; exact nI_ge (by omega) (by omega)) ⟨wj, ?_⟩⟩
  rw [ej]
  refine br_f h2 ⟨vp_in_nI (by omega) (by omega), wj, ?_⟩
  rw [e]
  refine br_t h3 ⟨vp_in_nI hk (by omega), br_t rfl (nm_r (nI_1 (4 * s + f)) ?_)⟩
  rw [nI_clamp (n := k) (by omega)]
  refine yc_36f hk hd hs hn hfS (by decide) (n - (f + 1)) (f + 1) m' (by omega) (fun m'' => ?_) (by omega)
  exact yc_36e hd hs hn hfS hH h
end Y
end XC
end
section
/-! X: characters of strings and names -/
section XS
theorem xs_fb0 : fits .boolean (.int 0) = true := by
  have := fits_narrow_boolean 0
  rw [narrow_b0] at this
  exact this
theorem xs_fb1 : fits .boolean (.int 1) = true := by
  have := fits_narrow_boolean 1
  rw [narrow_b1] at this
  exact this
theorem xs_uu {f : Nat → Int32} {k : Nat} {x y : Int32} : upd (upd f k x) k y = upd f k y := by
  funext j
  by_cases e : j = k
  · subst e; rw [pk_us, pk_us]
  · rw [pk_un e, pk_un e, pk_un e]
variable {t : Nat → Nat} {len a c n m s A : Nat} {h : Int32} {ln ap st er pl wt wn tg rf dp pt zs te pw sg bg bl dw es ct bd pr lt : Int32} {dg : Int64} {T so tA tB tC fN fO fQ fS tO oS oT oN oC oE oH cm kd vl pa na ty fr ta ou wk sp : Nat → Int32} {P : SX → Prop}
theorem xs_take (hn : n < 40) (hs : s < 12) (hty : ty n = nI s) (hA : tA s = nI A) (hA2 : A ≤ 40) (hm : m < 1000) (hle : m + 1 ≤ A) (hp : P (ln, ap, 3, er, pl, wt, wn, tg, rf, dp, pt, zs, te, pw, nI (m + 1), bg, dg, bl, dw, es, nI (n + 1), bd, pr, lt, T, so, tA, tB, tC, fN, fO, fQ, fS, tO, oS, oT, oN, oC, oE, oH, cm, kd, upd vl n (32 * h + nI c), pa, na, ty, fr, ta, ou, wk, sp)) : wpX_take P (ln, ap, 3, er, pl, wt, wn, tg, rf, dp, pt, zs, te, pw, nI m, bg, dg, bl, dw, es, nI (n + 1), bd, pr, lt, T, so, tA, tB, tC, fN, fO, fQ, fS, tO, oS, oT, oN, oC, oE, oH, cm, kd, upd vl n h, pa, na, ty, fr, ta, ou, wk, sp) (nI c) := by
  have w : vp_in (nI n) 40 := vp_in_nI hn (by omega)
  have e : (nI n).toNatClampNeg = n := nI_clamp (by omega)
  refine nm_r (nI_1 m) (br_f (by decide) (nm_r (nI_pred n) ⟨w, w, nm_r (e' := upd vl n (32 * h + nI c)) ?_ ⟨w, ?_⟩⟩))
  · rw [e, pk_us, xs_uu]
  · rw [e, hty]
    refine ⟨vp_in_nI hs (by omega), br_t ?_ hp⟩
    rw [nI_clamp (by omega), hA]
    exact nI_le hle (by omega)
theorem xs_takef (hn : n < 40) (hs : s < 12) (hty : ty n = nI s) (hA : tA s = nI A) (hA2 : A ≤ 40) (hm : m < 1000) (hle : ¬ m + 1 ≤ A) (hp : P (ln, ap, 3, 6, ap, wt, wn, tg, rf, dp, pt, zs, te, pw, nI (m + 1), bg, dg, bl, dw, es, nI (n + 1), bd, pr, lt, T, so, tA, tB, tC, fN, fO, fQ, fS, tO, oS, oT, oN, oC, oE, oH, cm, kd, upd vl n (32 * h + nI c), pa, na, ty, fr, ta, ou, wk, sp)) : wpX_take P (ln, ap, 3, er, pl, wt, wn, tg, rf, dp, pt, zs, te, pw, nI m, bg, dg, bl, dw, es, nI (n + 1), bd, pr, lt, T, so, tA, tB, tC, fN, fO, fQ, fS, tO, oS, oT, oN, oC, oE, oH, cm, kd, upd vl n h, pa, na, ty, fr, ta, ou, wk, sp) (nI c) := by
  have w : vp_in (nI n) 40 := vp_in_nI hn (by omega)
  have e : (nI n).toNatClampNeg = n := nI_clamp (by omega)
  refine nm_r (nI_1 m) (br_f (by decide) (nm_r (nI_pred n) ⟨w, w, nm_r (e' := upd vl n (32 * h + nI c)) ?_ ⟨w, ?_⟩⟩))
  · rw [e, pk_us, xs_uu]
  · rw [e, hty]
    refine ⟨vp_in_nI hs (by omega), br_f ?_ hp⟩
    rw [nI_clamp (by omega), hA]
    exact nI_ge (by omega) (by omega)
theorem xs_taken (hm : m < 1000) (hp : P (ln, ap, 4, er, pl, wt, wn, tg, rf, dp, pt, zs, te, pw, nI (m + 1), nI c, dg, bl, dw, es, ct, bd, pr, lt, T, so, tA, tB, tC, fN, fO, fQ, fS, tO, oS, oT, oN, oC, oE, oH, cm, kd, vl, pa, na, ty, fr, ta, ou, wk, sp)) : wpX_take P (ln, ap, 4, er, pl, wt, wn, tg, rf, dp, pt, zs, te, pw, nI m, bg, dg, bl, dw, es, ct, bd, pr, lt, T, so, tA, tB, tC, fN, fO, fQ, fS, tO, oS, oT, oN, oC, oE, oH, cm, kd, vl, pa, na, ty, fr, ta, ou, wk, sp) (nI c) := nm_r (nI_1 m) (br_t rfl hp)
section C
variable {ln1 ap1 st1 er1 pl1 wt1 wn1 tg1 rf1 dp1 pt1 zs1 te1 pw1 sg1 bg1 bl1 dw1 es1 ct1 bd1 pr1 lt1 : Int32} {dg1 : Int64} {T1 so1 tA1 tB1 tC1 fN1 fO1 fQ1 fS1 tO1 oS1 oT1 oN1 oC1 oE1 oH1 cm1 kd1 vl1 pa1 na1 ty1 fr1 ta1 ou1 wk1 sp1 : Nat → Int32}
theorem xs_close (hp : P (ln, nI (a + 1), 1, er, pl, wt, wn, tg, rf, dp, pt, zs, te, pw, sg, bg, dg, bl, dw, 0, ct, bd, pr, lt, T, so, tA, tB, tC, fN, fO, fQ, fS, tO, oS, oT, oN, oC, oE, oH, cm, kd, vl, pa, na, ty, fr, ta, ou, wk, sp)) : wpX_character P (ln, nI a, 3, er, pl, wt, wn, tg, rf, dp, pt, zs, te, pw, sg, bg, dg, bl, dw, 0, ct, bd, pr, lt, T, so, tA, tB, tC, fN, fO, fQ, fS, tO, oS, oT, oN, oC, oE, oH, cm, kd, vl, pa, na, ty, fr, ta, ou, wk, sp) (nI 16) :=
  br_t rfl (br_t rfl (br_f (by decide) (nm_r (nI_1 a) hp)))
theorem xs_esc (hp : P (ln, nI (a + 1), st, er, pl, wt, wn, tg, rf, dp, pt, zs, te, pw, sg, bg, dg, bl, dw, 1, ct, bd, pr, lt, T, so, tA, tB, tC, fN, fO, fQ, fS, tO, oS, oT, oN, oC, oE, oH, cm, kd, vl, pa, na, ty, fr, ta, ou, wk, sp)) : wpX_character P (ln, nI a, st, er, pl, wt, wn, tg, rf, dp, pt, zs, te, pw, sg, bg, dg, bl, dw, 0, ct, bd, pr, lt, T, so, tA, tB, tC, fN, fO, fQ, fS, tO, oS, oT, oN, oC, oE, oH, cm, kd, vl, pa, na, ty, fr, ta, ou, wk, sp) (nI 30) :=
  br_t rfl (br_f (by decide) (br_t rfl (br_t rfl (br_t rfl ⟨za_nb1, xs_fb1, br_f (by decide) (nm_r (nI_1 a) hp)⟩))))
theorem xs_bad (hc : c < 32) (h16 : c ≠ 16) (h30 : c ≠ 30) (hp : P (ln, ap, st, 1, ap, wt, wn, tg, rf, dp, pt, zs, te, pw, sg, bg, dg, bl, dw, 1, ct, bd, pr, lt, T, so, tA, tB, tC, fN, fO, fQ, fS, tO, oS, oT, oN, oC, oE, oH, cm, kd, vl, pa, na, ty, fr, ta, ou, wk, sp)) : wpX_character P (ln, ap, st, er, pl, wt, wn, tg, rf, dp, pt, zs, te, pw, sg, bg, dg, bl, dw, 1, ct, bd, pr, lt, T, so, tA, tB, tC, fN, fO, fQ, fS, tO, oS, oT, oN, oC, oE, oH, cm, kd, vl, pa, na, ty, fr, ta, ou, wk, sp) (nI c) :=
  br_f (by decide) (br_f (by decide) (br_f (za_ne (b := 16) h16 (by omega) (by decide)) (br_f (za_ne (b := 30) h30 (by omega) (by decide)) hp)))
theorem xs_plain (hc : c < 32) (h16 : c ≠ 16) (h30 : c ≠ 30) (ht : ∀ Q : SX → Prop, Q (ln1, nI a, st1, er1, pl1, wt1, wn1, tg1, rf1, dp1, pt1, zs1, te1, pw1, sg1, bg1, dg1, bl1, dw1, es1, ct1, bd1, pr1, lt1, T1, so1, tA1, tB1, tC1, fN1, fO1, fQ1, fS1, tO1, oS1, oT1, oN1, oC1, oE1, oH1, cm1, kd1, vl1, pa1, na1, ty1, fr1, ta1, ou1, wk1, sp1) → wpX_take Q (ln, nI a, st, er, pl, wt, wn, tg, rf, dp, pt, zs, te, pw, sg, bg, dg, bl, dw, 0, ct, bd, pr, lt, T, so, tA, tB, tC, fN, fO, fQ, fS, tO, oS, oT, oN, oC, oE, oH, cm, kd, vl, pa, na, ty, fr, ta, ou, wk, sp) (nI c)) (hp : P (ln1, nI (a + 1), st1, er1, pl1, wt1, wn1, tg1, rf1, dp1, pt1, zs1, te1, pw1, sg1, bg1, dg1, bl1, dw1, es1, ct1, bd1, pr1, lt1, T1, so1, tA1, tB1, tC1, fN1, fO1, fQ1, fS1, tO1, oS1, oT1, oN1, oC1, oE1, oH1, cm1, kd1, vl1, pa1, na1, ty1, fr1, ta1, ou1, wk1, sp1)) : wpX_character P (ln, nI a, st, er, pl, wt, wn, tg, rf, dp, pt, zs, te, pw, sg, bg, dg, bl, dw, 0, ct, bd, pr, lt, T, so, tA, tB, tC, fN, fO, fQ, fS, tO, oS, oT, oN, oC, oE, oH, cm, kd, vl, pa, na, ty, fr, ta, ou, wk, sp) (nI c) :=
  br_t rfl (br_f (za_ne (b := 16) h16 (by omega) (by decide)) (br_t rfl (br_t rfl (br_f (za_ne (b := 30) h30 (by omega) (by decide)) ⟨za_nb0, xs_fb0, br_t rfl (ht _ (nm_r (nI_1 a) hp))⟩))))
theorem xs_escd (hc : c = 16 ∨ c = 30) (ht : ∀ Q : SX → Prop, Q (ln1, nI a, st1, er1, pl1, wt1, wn1, tg1, rf1, dp1, pt1, zs1, te1, pw1, sg1, bg1, dg1, bl1, dw1, es1, ct1, bd1, pr1, lt1, T1, so1, tA1, tB1, tC1, fN1, fO1, fQ1, fS1, tO1, oS1, oT1, oN1, oC1, oE1, oH1, cm1, kd1, vl1, pa1, na1, ty1, fr1, ta1, ou1, wk1, sp1) → wpX_take Q (ln, nI a, st, er, pl, wt, wn, tg, rf, dp, pt, zs, te, pw, sg, bg, dg, bl, dw, 0, ct, bd, pr, lt, T, so, tA, tB, tC, fN, fO, fQ, fS, tO, oS, oT, oN, oC, oE, oH, cm, kd, vl, pa, na, ty, fr, ta, ou, wk, sp) (nI c)) (hp : P (ln1, nI (a + 1), st1, er1, pl1, wt1, wn1, tg1, rf1, dp1, pt1, zs1, te1, pw1, sg1, bg1, dg1, bl1, dw1, es1, ct1, bd1, pr1, lt1, T1, so1, tA1, tB1, tC1, fN1, fO1, fQ1, fS1, tO1, oS1, oT1, oN1, oC1, oE1, oH1, cm1, kd1, vl1, pa1, na1, ty1, fr1, ta1, ou1, wk1, sp1)) : wpX_character P (ln, nI a, st, er, pl, wt, wn, tg, rf, dp, pt, zs, te, pw, sg, bg, dg, bl, dw, 1, ct, bd, pr, lt, T, so, tA, tB, tC, fN, fO, fQ, fS, tO, oS, oT, oN, oC, oE, oH, cm, kd, vl, pa, na, ty, fr, ta, ou, wk, sp) (nI c) := by
  have k73 : wX_character_73 P (nI c) ln (nI a) st er pl wt wn tg rf dp pt zs te pw sg bg dg bl dw 1 ct bd pr lt T so tA tB tC fN fO fQ fS tO oS oT oN oC oE oH cm kd vl pa na ty fr ta ou wk sp := br_f (by decide) ⟨za_nb0, xs_fb0, br_t rfl (ht _ (nm_r (nI_1 a) hp))⟩
  refine br_f (by decide) (br_f (by decide) ?_)
  rcases hc with rfl | rfl
  · exact br_t rfl k73
  · exact br_f (by decide) (br_t rfl k73)
theorem xs_kclose (hn : ∀ Q : SX → Prop, Q (ln1, nI a, st1, er1, pl1, wt1, wn1, tg1, rf1, dp1, pt1, zs1, te1, pw1, sg1, bg1, dg1, bl1, dw1, es1, ct1, bd1, pr1, lt1, T1, so1, tA1, tB1, tC1, fN1, fO1, fQ1, fS1, tO1, oS1, oT1, oN1, oC1, oE1, oH1, cm1, kd1, vl1, pa1, na1, ty1, fr1, ta1, ou1, wk1, sp1) → wpX_endName Q (ln, nI a, 4, er, pl, wt, wn, tg, rf, dp, pt, zs, te, pw, sg, bg, dg, bl, dw, 0, ct, bd, pr, lt, T, so, tA, tB, tC, fN, fO, fQ, fS, tO, oS, oT, oN, oC, oE, oH, cm, kd, vl, pa, na, ty, fr, ta, ou, wk, sp)) (hp : P (ln1, nI (a + 1), st1, er1, pl1, wt1, wn1, tg1, rf1, dp1, pt1, zs1, te1, pw1, sg1, bg1, dg1, bl1, dw1, es1, ct1, bd1, pr1, lt1, T1, so1, tA1, tB1, tC1, fN1, fO1, fQ1, fS1, tO1, oS1, oT1, oN1, oC1, oE1, oH1, cm1, kd1, vl1, pa1, na1, ty1, fr1, ta1, ou1, wk1, sp1)) : wpX_character P (ln, nI a, 4, er, pl, wt, wn, tg, rf, dp, pt, zs, te, pw, sg, bg, dg, bl, dw, 0, ct, bd, pr, lt, T, so, tA, tB, tC, fN, fO, fQ, fS, tO, oS, oT, oN, oC, oE, oH, cm, kd, vl, pa, na, ty, fr, ta, ou, wk, sp) (nI 16) :=
  br_t rfl (br_t rfl (br_t rfl (hn _ (nm_r (nI_1 a) hp))))
end C
end XS
end
section
/-! a string as a value -/
section ZS
/-- (0, place behind, value), (1, place of the character too many), (2, the first place that doesn't fit) -/
def zs_go (t : Nat → Nat) (len A : Nat) : Nat → Nat → Nat → Int32 → Nat × Nat × Int32
  | 0, _, _, h => (2, len, h)
  | f + 1, i, m, h => if len ≤ i then (3, len, h) else if t i = 16 then (0, i + 1, h) else if t i = 30 then (if len ≤ i + 1 then (2, len, h) else if t (i + 1) = 16 ∨ t (i + 1) = 30 then (if m + 1 ≤ A then zs_go t len A f (i + 2) (m + 1) (32 * h + nI (t (i + 1))) else (1, i + 1, h)) else (2, i + 1, h)) else (if m + 1 ≤ A then zs_go t len A f (i + 1) (m + 1) (32 * h + nI (t i)) else (1, i, h))
theorem zs_gs {t : Nat → Nat} {len A f i m : Nat} {h : Int32} : zs_go t len A (f + 1) i m h = if len ≤ i then (3, len, h) else if t i = 16 then (0, i + 1, h) else if t i = 30 then (if len ≤ i + 1 then (2, len, h) else if t (i + 1) = 16 ∨ t (i + 1) = 30 then (if m + 1 ≤ A then zs_go t len A f (i + 2) (m + 1) (32 * h + nI (t (i + 1))) else (1, i + 1, h)) else (2, i + 1, h)) else (if m + 1 ≤ A then zs_go t len A f (i + 1) (m + 1) (32 * h + nI (t i)) else (1, i, h)) := rfl
/-- where X's loop comes to in a string of the node n -/
def zs_XR (t : Nat → Nat) (len n : Nat) (g : Nat × Nat × Int32) (u0 : SX) (w : Int32 → Int32 → Int32 → Int32 → Int32 → Int32 → (Nat → Int32) → SX) (vl : Nat → Int32) : Prop :=
  -- w ap st er pl es sg vl
  (g.1 = 0 ∧ ∃ sg, zl_XS u0 (w (nI g.2.1) 1 0 (-1) 0 sg (upd vl n g.2.2))) ∨
  (g.1 = 1 ∧ ∃ ap sg vl', zl_XS u0 (w ap 3 6 (nI g.2.1) 0 sg vl')) ∨
  (2 ≤ g.1 ∧ ((g.2.1 = len ∧ ∃ es sg vl', zl_XS u0 (w (nI len) 3 0 (-1) es sg vl')) ∨ (g.2.1 < len ∧ ∃ ap sg vl', zl_XS u0 (w ap 3 1 (nI g.2.1) 1 sg vl'))))
theorem zs_XR_tr {t : Nat → Nat} {len n : Nat} {g : Nat × Nat × Int32} {u u0 : SX} {w : Int32 → Int32 → Int32 → Int32 → Int32 → Int32 → (Nat → Int32) → SX} {vl : Nat → Int32} (h1 : zl_XS u u0) (h : zs_XR t len n g u0 w vl) : zs_XR t len n g u w vl := by
  rcases h with ⟨a, sg, b⟩ | ⟨a, ap, sg, vl', b⟩ | ⟨a, ⟨c, es, sg, vl', b⟩ | ⟨c, ap, sg, vl', b⟩⟩
  · exact Or.inl ⟨a, sg, zl_XS_tr h1 b⟩
  · exact Or.inr (Or.inl ⟨a, ap, sg, vl', zl_XS_tr h1 b⟩)
  · exact Or.inr (Or.inr ⟨a, Or.inl ⟨c, es, sg, vl', zl_XS_tr h1 b⟩⟩)
  · exact Or.inr (Or.inr ⟨a, Or.inr ⟨c, ap, sg, vl', zl_XS_tr h1 b⟩⟩)
section X
variable {t : Nat → Nat} {len n s A : Nat} {ln ap st er pl wt wn tg rf dp pt zs te pw sg bg bl dw es ct bd pr lt : Int32} {dg : Int64} {T so tA tB tC fN fO fQ fS tO oS oT oN oC oE oH cm kd vl pa na ty fr ta ou wk sp : Nat → Int32}
theorem zs_x (hT : ∀ i, T i = nI (t i)) (ht : ∀ i, t i < 32) (hl : len ≤ 96) (hn : n < 40) (hs : s < 12) (hty : ty n = nI s) (hA : tA s = nI A) (hA2 : A ≤ 40) :
    ∀ f i m h, i ≤ len → len < i + f → m ≤ i → zs_XR t len n (zs_go t len A f i m h) (nI len, nI i, 3, 0, -1, wt, wn, tg, rf, dp, pt, zs, te, pw, nI m, bg, dg, bl, dw, 0, nI (n + 1), bd, pr, lt, T, so, tA, tB, tC, fN, fO, fQ, fS, tO, oS, oT, oN, oC, oE, oH, cm, kd, upd vl n h, pa, na, ty, fr, ta, ou, wk, sp) (fun ap st er pl es sg vl => (nI len, ap, st, er, pl, wt, wn, tg, rf, dp, pt, zs, te, pw, sg, bg, dg, bl, dw, es, nI (n + 1), bd, pr, lt, T, so, tA, tB, tC, fN, fO, fQ, fS, tO, oS, oT, oN, oC, oE, oH, cm, kd, vl, pa, na, ty, fr, ta, ou, wk, sp)) vl := by
  intro f
  induction f with
  | zero => intro i m h h1 h2; omega
  | succ f ih =>
    intro i m h h1 h2 h3
    rw [zs_gs]
    by_cases c0 : len ≤ i
    · obtain rfl : i = len := by omega
      rw [if_pos c0]
      exact Or.inr (Or.inr ⟨Nat.le_succ 2, Or.inl ⟨rfl, 0, nI m, upd vl n h, zl_XS_rf _⟩⟩)
    · rw [if_neg c0]
      have hi : i < len := by omega
      have n2 : ¬ (3 : Int32) = 2 := by decide
      by_cases c1 : t i = 16
      · rw [if_pos c1]
        refine Or.inl ⟨rfl, nI m, zl_read hT hl hi n2 (fun P hp => ?_)⟩
        rw [c1]
        exact xr_chr (Or.inl rfl) (fun Q hq => xs_close hq) hp
      · rw [if_neg c1]
        by_cases c2 : t i = 30
        · rw [if_pos c2]
          have e1 : zl_XS (nI len, nI i, 3, 0, -1, wt, wn, tg, rf, dp, pt, zs, te, pw, nI m, bg, dg, bl, dw, 0, nI (n + 1), bd, pr, lt, T, so, tA, tB, tC, fN, fO, fQ, fS, tO, oS, oT, oN, oC, oE, oH, cm, kd, upd vl n h, pa, na, ty, fr, ta, ou, wk, sp) (nI len, nI (i + 1), 3, 0, -1, wt, wn, tg, rf, dp, pt, zs, te, pw, nI m, bg, dg, bl, dw, 1, nI (n + 1), bd, pr, lt, T, so, tA, tB, tC, fN, fO, fQ, fS, tO, oS, oT, oN, oC, oE, oH, cm, kd, upd vl n h, pa, na, ty, fr, ta, ou, wk, sp) := by
            refine zl_read hT hl hi n2 (fun P hp => ?_)
            rw [c2]
            exact xr_chr (Or.inl rfl) (fun Q hq => xs_esc hq) hp
          by_cases c3 : len ≤ i + 1
          · rw [if_pos c3]
            obtain rfl : len = i + 1 := by omega
            exact Or.inr (Or.inr ⟨Nat.le_refl 2, Or.inl ⟨rfl, 1, nI m, upd vl n h, e1⟩⟩)
          · rw [if_neg c3]
            by_cases c4 : t (i + 1) = 16 ∨ t (i + 1) = 30
            · rw [if_pos c4]
              by_cases c5 : m + 1 ≤ A
              · rw [if_pos c5]
                refine zs_XR_tr (zl_XS_tr e1 (zl_read hT hl (by omega) n2 (fun P hp => ?_))) (ih (i + 2) (m + 1) (32 * h + nI (t (i + 1))) (by omega) (by omega) (by omega))
                exact xr_chr (Or.inl rfl) (fun Q hq => xs_escd c4 (fun Q hq => xs_take hn hs hty hA hA2 (by omega) c5 hq) hq) hp
              · rw [if_neg c5]
                refine Or.inr (Or.inl ⟨rfl, nI (i + 1 + 1), nI (m + 1), upd vl n (32 * h + nI (t (i + 1))), zl_XS_tr e1 (zl_read hT hl (by omega) n2 (fun P hp => ?_))⟩)
                exact xr_chr (Or.inl rfl) (fun Q hq => xs_escd c4 (fun Q hq => xs_takef hn hs hty hA hA2 (by omega) c5 hq) hq) hp
            · rw [if_neg c4]
              refine Or.inr (Or.inr ⟨Nat.le_refl 2, Or.inr ⟨by dsimp only; omega, nI (i + 1), nI m, upd vl n h, zl_XS_tr e1 (zl_read hT hl (by omega) n2 (fun P hp => ?_))⟩⟩)
              exact xr_chr (Or.inl rfl) (fun Q hq => xs_bad (ht _) (by omega) (by omega) hq) hp
        · rw [if_neg c2]
          by_cases c5 : m + 1 ≤ A
          · rw [if_pos c5]
            refine zs_XR_tr (zl_read hT hl hi n2 (fun P hp => ?_)) (ih (i + 1) (m + 1) (32 * h + nI (t i)) (by omega) (by omega) (by omega))
            exact xr_chr (Or.inl rfl) (fun Q hq => xs_plain (ht _) c1 c2 (fun Q hq => xs_take hn hs hty hA hA2 (by omega) c5 hq) hq) hp
          · rw [if_neg c5]
            refine Or.inr (Or.inl ⟨rfl, nI (i + 1), nI (m + 1), upd vl n (32 * h + nI (t i)), zl_read hT hl hi n2 (fun P hp => ?_)⟩)
            exact xr_chr (Or.inl rfl) (fun Q hq => xs_plain (ht _) c1 c2 (fun Q hq => xs_takef hn hs hty hA hA2 (by omega) c5 hq) hq) hp
end X
section Y
variable {t : Nat → Nat} {len n s A last : Nat} {ln ps ba ct fl yp yb dp nn wN wT pr wg sc : Int32} {so tA tB tC fN fO fS yt fQ T be en ins wh kd yv pa na ty fr cm oN yT yC yE oH ou td : Nat → Int32} {P : SY → Prop}
/-- where the reference comes to in a string of the node n -/
def zs_YR (t : Nat → Nat) (n : Nat) (g : Nat × Nat × Int32) (P : SY → Prop) (w : Int32 → Int32 → (Nat → Int32) → SY) (yv : Nat → Int32) (yp : Int32) : Prop :=
  (g.1 = 0 → P (w 0 yp (upd yv n g.2.2))) ∧ (g.1 = 1 → P (w 6 (nI g.2.1) (upd yv n (32 * g.2.2 + nI (t g.2.1))))) ∧ (g.1 = 2 → P (w 0 yp yv)) ∧ (g.1 = 3 → P (w 0 yp (upd yv n g.2.2)))
theorem zs_y106 {J : _} {i n' : Nat} {x2 x3 x5 h : Int32} (hT : ∀ i, T i = nI (t i)) (hi : i < 96) (hj : J x3 (nI (i + 1)) (32 * h + nI (t i)) ln ps ba ct fl yp yb dp nn wN wT pr wg sc so tA tB tC fN fO fS yt fQ T be en ins wh kd yv pa na ty fr cm oN yT yC yE oH ou td) : wY_bindText_106 P J x2 x3 (nI i) x5 h ln ps ba ct fl yp yb dp nn wN wT pr wg sc so tA tB tC fN fO fS yt fQ T be en ins wh kd yv pa na ty fr cm oN yT yC yE oH ou td := by
  refine ⟨vp_in_nI hi (by omega), nm_r (e' := 32 * h + nI (t i)) (by rw [nI_clamp (by omega), hT]) (nm_r (nI_1 i) hj)⟩
theorem zs_y (hT : ∀ i, T i = nI (t i)) (ht : ∀ i, t i < 32) (hl : len ≤ 96) (hn : n < 40) (hs : s < 12) (hty : ty n = nI s) (hA : tA s = nI A) (hA2 : A ≤ 40) :
    ∀ f i m h fu, i ≤ len → len < i + f → m ≤ i → f + 1 < fu → (zs_sc t len f i = (1, last + 1) ∨ zs_sc t len f i = (0, last)) → zs_YR t n (zs_go t len A f i m h) P (fun fl yp yv => (ln, ps, ba, ct, fl, yp, yb, dp, nn, wN, wT, pr, wg, sc, so, tA, tB, tC, fN, fO, fS, yt, fQ, T, be, en, ins, wh, kd, yv, pa, na, ty, fr, cm, oN, yT, yC, yE, oH, ou, td)) yv yp → wY_bindText_43 P (nI n) (nI last) fu (nI m) (nI i) h ln ps ba ct 0 yp yb dp nn wN wT pr wg sc so tA tB tC fN fO fS yt fQ T be en ins wh kd yv pa na ty fr cm oN yT yC yE oH ou td := by
  intro f
  induction f with
  | zero => intro i m h fu h1 h2; omega
  | succ f ih =>
    intro i m h fu h1 h2 h3 h4 h5 h6
    obtain ⟨fu, rfl⟩ : ∃ z, fu = z + 1 + 1 := ⟨fu - 2, by omega⟩
    have wn : vp_in (nI n) 40 := vp_in_nI hn (by omega)
    have en' : (nI n).toNatClampNeg = n := nI_clamp (by omega)
    have ex : ∀ (f6 : Int32) (y6 : Int32) (h9 : Int32) (i9 : Int32) (m9 : Int32), (f6 = 0 → nI last ≤ i9) → P (ln, ps, ba, ct, f6, y6, yb, dp, nn, wN, wT, pr, wg, sc, so, tA, tB, tC, fN, fO, fS, yt, fQ, T, be, en, ins, wh, kd, upd yv n h9, pa, na, ty, fr, cm, oN, yT, yC, yE, oH, ou, td) → wY_bindText_43 P (nI n) (nI last) (fu + 1) m9 i9 h9 ln ps ba ct f6 y6 yb dp nn wN wT pr wg sc so tA tB tC fN fO fS yt fQ T be en ins wh kd yv pa na ty fr cm oN yT yC yE oH ou td := by
      intro f6 y6 h9 i9 m9 hle hp
      refine br_c (fun _ => ⟨wn, nm_r (e' := upd yv n h9) (by rw [en']) hp⟩) (fun hne => ?_)
      have hf6 : ¬ f6 = 0 := fun z => hne (hle z)
      exact br_f hf6 ⟨wn, nm_r (e' := upd yv n h9) (by rw [en']) hp⟩
    have hlast : last ≤ 96 := by
      have := (zs_le (t := t) (len := len) (f + 1) i).1
      rcases h5 with h5 | h5 <;> (rw [h5] at this; dsimp only at this; omega)
    rw [zs_s] at h5
    rw [zs_gs] at h6
    by_cases c0 : len ≤ i
    · rw [if_pos c0] at h5 h6
      obtain rfl : i = len := by omega
      have : last = i := by
        rcases h5 with h5 | h5
        · have := congrArg Prod.fst h5; dsimp only at this; omega
        · exact (congrArg Prod.snd h5).symm
      subst this
      exact br_t (nI_le (Nat.le_refl _) (by omega)) ⟨wn, nm_r (e' := upd yv n h) (by rw [en']) (h6.2.2.2 rfl)⟩
    · rw [if_neg c0] at h5 h6
      have hi : i < 96 := by omega
      have wi : vp_in (nI i) 96 := vp_in_nI hi (by omega)
      have ei : T (nI i).toNatClampNeg = nI (t i) := by rw [nI_clamp (by omega), hT]
      have h32 := ht i
      by_cases c1 : t i = 16
      · rw [if_pos c1] at h5 h6
        have : last = i := by
          rcases h5 with h5 | h5
          · have := congrArg Prod.snd h5; dsimp only at this; omega
          · have := congrArg Prod.fst h5; dsimp only at this; omega
        subst this
        exact br_t (nI_le (Nat.le_refl _) (by omega)) ⟨wn, nm_r (e' := upd yv n h) (by rw [en']) (h6.1 rfl)⟩
      · rw [if_neg c1] at h5 h6
        by_cases c2 : t i = 30
        · rw [if_pos c2] at h5 h6
          by_cases c3 : len ≤ i + 1
          · rw [if_pos c3] at h5 h6
            have : last = len := by
              rcases h5 with h5 | h5
              · have := congrArg Prod.fst h5; dsimp only at this; omega
              · exact (congrArg Prod.snd h5).symm
            subst this
            refine br_f (nI_ge (by omega) (by omega)) (br_t rfl ⟨wi, br_t (by rw [ei, c2]; rfl) (nm_r (nI_1 i) (br_f (nI_nlt (by omega) (by omega)) (h6.2.2.1 rfl)))⟩)
          · rw [if_neg c3] at h5 h6
            have h32' := ht (i + 1)
            by_cases c4 : t (i + 1) = 16 ∨ t (i + 1) = 30
            · rw [if_pos c4] at h5 h6
              have hil : i + 1 < last := by
                have := zs_ge (t := t) (len := len) f (i + 2) (by omega)
                rcases h5 with h5 | h5 <;> (rw [h5] at this; dsimp only at this)
                · have := this.2 rfl; omega
                · omega
              refine br_f (nI_ge (by omega) (by omega)) (br_t rfl ⟨wi, br_t (by rw [ei, c2]; rfl) (nm_r (nI_1 i) (br_t (nI_lt hil (by omega)) (nm_r (nI_1 m) ⟨wn, ?_⟩)))⟩)
              rw [en', hty]
              refine ⟨vp_in_nI hs (by omega), ?_⟩
              rw [nI_clamp (n := s) (by omega), hA]
              by_cases c5 : m + 1 ≤ A
              · rw [if_pos c5] at h6
                exact br_t (nI_le c5 (by omega)) (zs_y106 (n' := 0) hT (by omega) (ih (i + 2) (m + 1) _ (fu + 1) (by omega) (by omega) (by omega) (by omega) h5 h6))
              · rw [if_neg c5] at h6
                exact br_f (nI_ge (by omega) (by omega)) (br_t rfl (zs_y106 (n' := 0) hT (by omega) (ex 6 (nI (i + 1)) _ _ _ (fun z => absurd z (by decide)) (h6.2.1 rfl))))
            · rw [if_neg c4] at h5 h6
              have : last = i + 1 := by
                rcases h5 with h5 | h5
                · have := congrArg Prod.fst h5; dsimp only at this; omega
                · exact (congrArg Prod.snd h5).symm
              subst this
              refine br_f (nI_ge (by omega) (by omega)) (br_t rfl ⟨wi, br_t (by rw [ei, c2]; rfl) (nm_r (nI_1 i) (br_f (nI_nlt (by omega) (by omega)) (h6.2.2.1 rfl)))⟩)
        · rw [if_neg c2] at h5 h6
          have hil : i < last := by
            have := zs_ge (t := t) (len := len) f (i + 1) (by omega)
            rcases h5 with h5 | h5 <;> (rw [h5] at this; dsimp only at this)
            · have := this.2 rfl; omega
            · omega
          refine br_f (nI_ge hil (by omega)) (br_t rfl ⟨wi, br_f (by rw [ei]; exact za_ne (b := 30) c2 (by omega) (by decide)) (br_t (nI_lt hil (by omega)) (nm_r (nI_1 m) ⟨wn, ?_⟩))⟩)
          rw [en', hty]
          refine ⟨vp_in_nI hs (by omega), ?_⟩
          rw [nI_clamp (n := s) (by omega), hA]
          by_cases c5 : m + 1 ≤ A
          · rw [if_pos c5] at h6
            exact br_t (nI_le c5 (by omega)) (zs_y106 (n' := 0) hT (by omega) (ih (i + 1) (m + 1) _ (fu + 1) (by omega) (by omega) (by omega) (by omega) h5 h6))
          · rw [if_neg c5] at h6
            exact br_f (nI_ge (by omega) (by omega)) (br_t rfl (zs_y106 (n' := 0) hT (by omega) (ex 6 (nI i) _ _ _ (fun z => absurd z (by decide)) (h6.2.1 rfl))))
end Y
end ZS
end
section
/-! names -/
section ZK
/-- what X has kept of a name at the place i -/
def zk_I (t : Nat → Nat) (p i m : Nat) (bg : Int32) : Prop :=
  (i = p + 1 ∧ m = 0) ∨ (i = p + 2 ∧ m = 1 ∧ bg = nI (t (p + 1)) ∧ t (p + 1) ≠ 16 ∧ t (p + 1) ≠ 30) ∨ (i = p + 3 ∧ m = 1 ∧ (bg = nI 16 ∨ bg = nI 30)) ∨ (p + 3 ≤ i ∧ 2 ≤ m)
/-- the letter of a name whose last quote is at b: 0 to 5, or -1 -/
def zk_lt (t : Nat → Nat) (p b : Nat) : Int32 := if b = p + 2 ∧ 21 ≤ t (p + 1) ∧ t (p + 1) ≤ 26 then nI (t (p + 1) - 21) else -1
theorem zk_I1 {t : Nat → Nat} {p i m : Nat} {bg : Int32} (h : zk_I t p i m bg) (h16 : t i ≠ 16) (h30 : t i ≠ 30) : zk_I t p (i + 1) (m + 1) (nI (t i)) := by
  rcases h with ⟨rfl, rfl⟩ | ⟨rfl, rfl, _⟩ | ⟨rfl, rfl, _⟩ | ⟨h1, h2⟩
  · exact Or.inr (Or.inl ⟨rfl, rfl, rfl, h16, h30⟩)
  · exact Or.inr (Or.inr (Or.inr ⟨by omega, by omega⟩))
  · exact Or.inr (Or.inr (Or.inr ⟨by omega, by omega⟩))
  · exact Or.inr (Or.inr (Or.inr ⟨by omega, by omega⟩))
theorem zk_I2 {t : Nat → Nat} {p i m : Nat} {bg : Int32} (h : zk_I t p i m bg) (hc : t (i + 1) = 16 ∨ t (i + 1) = 30) : zk_I t p (i + 2) (m + 1) (nI (t (i + 1))) := by
  rcases h with ⟨rfl, rfl⟩ | ⟨rfl, rfl, _⟩ | ⟨rfl, rfl, _⟩ | ⟨h1, h2⟩
  · refine Or.inr (Or.inr (Or.inl ⟨rfl, rfl, ?_⟩))
    rcases hc with hc | hc
    · exact Or.inl (by rw [hc])
    · exact Or.inr (by rw [hc])
  · exact Or.inr (Or.inr (Or.inr ⟨by omega, by omega⟩))
  · exact Or.inr (Or.inr (Or.inr ⟨by omega, by omega⟩))
  · exact Or.inr (Or.inr (Or.inr ⟨by omega, by omega⟩))
section X
variable {t : Nat → Nat} {len p : Nat} {ln ap st er pl wt wn tg rf dp pt zs te pw sg bg bl dw es ct bd pr lt : Int32} {dg : Int64} {T so tA tB tC fN fO fQ fS tO oS oT oN oC oE oH cm kd vl pa na ty fr ta ou wk sp : Nat → Int32}
theorem zk_x (hT : ∀ i, T i = nI (t i)) (ht : ∀ i, t i < 32) (hl : len ≤ 96) :
    ∀ f i m bg, i ≤ len → len < i + f → m ≤ i → zk_I t p i m bg →
      (∃ b m' bg', zs_sc t len f i = (1, b + 1) ∧ i ≤ b ∧ b < len ∧ t b = 16 ∧ m' ≤ b ∧ zk_I t p b m' bg' ∧ zl_XS (nI len, nI i, 4, 0, pl, wt, wn, tg, rf, dp, pt, zs, te, pw, nI m, bg, dg, bl, dw, 0, ct, bd, pr, lt, T, so, tA, tB, tC, fN, fO, fQ, fS, tO, oS, oT, oN, oC, oE, oH, cm, kd, vl, pa, na, ty, fr, ta, ou, wk, sp) (nI len, nI b, 4, 0, pl, wt, wn, tg, rf, dp, pt, zs, te, pw, nI m', bg', dg, bl, dw, 0, ct, bd, pr, lt, T, so, tA, tB, tC, fN, fO, fQ, fS, tO, oS, oT, oN, oC, oE, oH, cm, kd, vl, pa, na, ty, fr, ta, ou, wk, sp)) ∨
      (zs_sc t len f i = (0, len) ∧ ∃ es' sg' bg', zl_XS (nI len, nI i, 4, 0, pl, wt, wn, tg, rf, dp, pt, zs, te, pw, nI m, bg, dg, bl, dw, 0, ct, bd, pr, lt, T, so, tA, tB, tC, fN, fO, fQ, fS, tO, oS, oT, oN, oC, oE, oH, cm, kd, vl, pa, na, ty, fr, ta, ou, wk, sp) (nI len, nI len, 4, 0, pl, wt, wn, tg, rf, dp, pt, zs, te, pw, sg', bg', dg, bl, dw, es', ct, bd, pr, lt, T, so, tA, tB, tC, fN, fO, fQ, fS, tO, oS, oT, oN, oC, oE, oH, cm, kd, vl, pa, na, ty, fr, ta, ou, wk, sp)) ∨
      (∃ b, b < len ∧ zs_sc t len f i = (0, b) ∧ ∃ ap' es' sg' bg', zl_XS (nI len, nI i, 4, 0, pl, wt, wn, tg, rf, dp, pt, zs, te, pw, nI m, bg, dg, bl, dw, 0, ct, bd, pr, lt, T, so, tA, tB, tC, fN, fO, fQ, fS, tO, oS, oT, oN, oC, oE, oH, cm, kd, vl, pa, na, ty, fr, ta, ou, wk, sp) (nI len, ap', 4, 1, nI b, wt, wn, tg, rf, dp, pt, zs, te, pw, sg', bg', dg, bl, dw, es', ct, bd, pr, lt, T, so, tA, tB, tC, fN, fO, fQ, fS, tO, oS, oT, oN, oC, oE, oH, cm, kd, vl, pa, na, ty, fr, ta, ou, wk, sp)) := by
  intro f
  induction f with
  | zero => intro i m bg h1 h2; omega
  | succ f ih =>
    intro i m bg h1 h2 h3 hI
    rw [zs_s]
    have n2 : ¬ (4 : Int32) = 2 := by decide
    by_cases c0 : len ≤ i
    · obtain rfl : i = len := by omega
      rw [if_pos c0]
      exact Or.inr (Or.inl ⟨rfl, 0, nI m, bg, zl_XS_rf _⟩)
    · rw [if_neg c0]
      have hi : i < len := by omega
      by_cases c1 : t i = 16
      · rw [if_pos c1]
        exact Or.inl ⟨i, m, bg, rfl, Nat.le_refl _, hi, c1, h3, hI, zl_XS_rf _⟩
      · rw [if_neg c1]
        by_cases c2 : t i = 30
        · rw [if_pos c2]
          have e1 : zl_XS (nI len, nI i, 4, 0, pl, wt, wn, tg, rf, dp, pt, zs, te, pw, nI m, bg, dg, bl, dw, 0, ct, bd, pr, lt, T, so, tA, tB, tC, fN, fO, fQ, fS, tO, oS, oT, oN, oC, oE, oH, cm, kd, vl, pa, na, ty, fr, ta, ou, wk, sp) (nI len, nI (i + 1), 4, 0, pl, wt, wn, tg, rf, dp, pt, zs, te, pw, nI m, bg, dg, bl, dw, 1, ct, bd, pr, lt, T, so, tA, tB, tC, fN, fO, fQ, fS, tO, oS, oT, oN, oC, oE, oH, cm, kd, vl, pa, na, ty, fr, ta, ou, wk, sp) := by
            refine zl_read hT hl hi n2 (fun P hp => ?_)
            rw [c2]
            exact xr_chr (Or.inr rfl) (fun Q hq => xs_esc hq) hp
          by_cases c3 : len ≤ i + 1
          · rw [if_pos c3]
            obtain rfl : len = i + 1 := by omega
            exact Or.inr (Or.inl ⟨rfl, 1, nI m, bg, e1⟩)
          · rw [if_neg c3]
            by_cases c4 : t (i + 1) = 16 ∨ t (i + 1) = 30
            · rw [if_pos c4]
              have e2 : zl_XS (nI len, nI i, 4, 0, pl, wt, wn, tg, rf, dp, pt, zs, te, pw, nI m, bg, dg, bl, dw, 0, ct, bd, pr, lt, T, so, tA, tB, tC, fN, fO, fQ, fS, tO, oS, oT, oN, oC, oE, oH, cm, kd, vl, pa, na, ty, fr, ta, ou, wk, sp) (nI len, nI (i + 2), 4, 0, pl, wt, wn, tg, rf, dp, pt, zs, te, pw, nI (m + 1), nI (t (i + 1)), dg, bl, dw, 0, ct, bd, pr, lt, T, so, tA, tB, tC, fN, fO, fQ, fS, tO, oS, oT, oN, oC, oE, oH, cm, kd, vl, pa, na, ty, fr, ta, ou, wk, sp) := by
                refine zl_XS_tr e1 (zl_read hT hl (by omega) n2 (fun P hp => ?_))
                exact xr_chr (Or.inr rfl) (fun Q hq => xs_escd c4 (fun Q hq => xs_taken (by omega) hq) hq) hp
              rcases ih (i + 2) (m + 1) (nI (t (i + 1))) (by omega) (by omega) (by omega) (zk_I2 hI c4) with ⟨b, m', bg', g1, g2, g3, g4, g5, g6, g7⟩ | ⟨g1, es', sg', bg', g2⟩ | ⟨b, g1, g2, ap', es', sg', bg', g3⟩
              · exact Or.inl ⟨b, m', bg', g1, by omega, g3, g4, g5, g6, zl_XS_tr e2 g7⟩
              · exact Or.inr (Or.inl ⟨g1, es', sg', bg', zl_XS_tr e2 g2⟩)
              · exact Or.inr (Or.inr ⟨b, g1, g2, ap', es', sg', bg', zl_XS_tr e2 g3⟩)
            · rw [if_neg c4]
              refine Or.inr (Or.inr ⟨i + 1, by omega, rfl, nI (i + 1), 1, nI m, bg, zl_XS_tr e1 (zl_read hT hl (by omega) n2 (fun P hp => ?_))⟩)
              exact xr_chr (Or.inr rfl) (fun Q hq => xs_bad (ht _) (by omega) (by omega) hq) hp
        · rw [if_neg c2]
          have e2 : zl_XS (nI len, nI i, 4, 0, pl, wt, wn, tg, rf, dp, pt, zs, te, pw, nI m, bg, dg, bl, dw, 0, ct, bd, pr, lt, T, so, tA, tB, tC, fN, fO, fQ, fS, tO, oS, oT, oN, oC, oE, oH, cm, kd, vl, pa, na, ty, fr, ta, ou, wk, sp) (nI len, nI (i + 1), 4, 0, pl, wt, wn, tg, rf, dp, pt, zs, te, pw, nI (m + 1), nI (t i), dg, bl, dw, 0, ct, bd, pr, lt, T, so, tA, tB, tC, fN, fO, fQ, fS, tO, oS, oT, oN, oC, oE, oH, cm, kd, vl, pa, na, ty, fr, ta, ou, wk, sp) := by
            refine zl_read hT hl hi n2 (fun P hp => ?_)
            exact xr_chr (Or.inr rfl) (fun Q hq => xs_plain (ht _) c1 c2 (fun Q hq => xs_taken (by omega) hq) hq) hp
          rcases ih (i + 1) (m + 1) (nI (t i)) (by omega) (by omega) (by omega) (zk_I1 hI c1 c2) with ⟨b, m', bg', g1, g2, g3, g4, g5, g6, g7⟩ | ⟨g1, es', sg', bg', g2⟩ | ⟨b, g1, g2, ap', es', sg', bg', g3⟩
          · exact Or.inl ⟨b, m', bg', g1, by omega, g3, g4, g5, g6, zl_XS_tr e2 g7⟩
          · exact Or.inr (Or.inl ⟨g1, es', sg', bg', zl_XS_tr e2 g2⟩)
          · exact Or.inr (Or.inr ⟨b, g1, g2, ap', es', sg', bg', zl_XS_tr e2 g3⟩)
variable {P : SX → Prop} {b m d : Nat}
theorem zk_end (ht : ∀ i, t i < 32) (hI : zk_I t p b m bg) (hm : m < 1000) (h : wX_endName_44 P (nI d) (zk_lt t p b) ln ap st er pl wt wn tg rf (nI (d + 1)) pt zs te pw (nI m) bg dg bl dw es ct bd pr lt T so tA tB tC fN fO fQ fS tO oS oT oN oC oE oH cm kd vl pa na ty fr ta ou wk sp) : wpX_endName P (ln, ap, st, er, pl, wt, wn, tg, rf, nI (d + 1), pt, zs, te, pw, nI m, bg, dg, bl, dw, es, ct, bd, pr, lt, T, so, tA, tB, tC, fN, fO, fQ, fS, tO, oS, oT, oN, oC, oE, oH, cm, kd, vl, pa, na, ty, fr, ta, ou, wk, sp) := by
  have h32 := ht (p + 1)
  refine nm_r (nI_pred d) ?_
  unfold zk_lt at h
  rcases hI with ⟨rfl, rfl⟩ | ⟨rfl, rfl, rfl, h16, h30⟩ | ⟨rfl, rfl, hb⟩ | ⟨h1, h2⟩
  · rw [if_neg (by omega)] at h
    exact br_f (by decide) h
  · refine br_t rfl (pk_le (t (p + 1)) 20 (fun z => ?_) (fun z => pk_le 27 (t (p + 1)) (fun y => ?_) (fun y => ?_)))
    · rw [if_neg (by omega)] at h
      exact h
    · rw [if_neg (by omega)] at h
      exact h
    · rw [if_pos ⟨rfl, by omega, by omega⟩] at h
      rw [show (21 : Int32) = nI 21 from rfl, pk_sub (by omega)]
      exact h
  · rw [if_neg (by omega)] at h
    refine br_t rfl ?_
    rcases hb with rfl | rfl
    · exact br_t (by decide) h
    · exact br_f (by decide) (br_t (by decide) h)
  · rw [if_neg (by omega)] at h
    exact br_f (za_ne (b := 1) (by omega) (by omega) (by decide)) h
/-- the name of a choice's tag -/
theorem zk_choice {s : Nat} {l : Int32} (hd : d < 6) (hS : oS d = 6) (hH : oH d = nI s) (hs : s < 12) (hl : l = tA s) (h : P (ln, ap, 7, er, pl, wt, wn, 1, rf, nI (d + 1), pt, zs, te, pw, sg, bg, dg, bl, dw, es, ct, bd, pr, lt, T, so, tA, tB, tC, fN, fO, fQ, fS, tO, oS, oT, oN, oC, oE, oH, cm, kd, vl, pa, na, ty, fr, ta, ou, wk, sp)) : wX_endName_44 P (nI d) l ln ap st er pl wt wn tg rf (nI (d + 1)) pt zs te pw sg bg dg bl dw es ct bd pr lt T so tA tB tC fN fO fQ fS tO oS oT oN oC oE oH cm kd vl pa na ty fr ta ou wk sp := by
  have w : vp_in (nI d) 6 := vp_in_nI hd (by omega)
  refine ⟨w, ?_⟩
  rw [nI_clamp (n := d) (by omega)]
  refine br_t hS ⟨w, ?_⟩
  rw [hH]
  refine ⟨vp_in_nI hs (by omega), br_t ?_ h⟩
  rw [nI_clamp (by omega)]; exact hl
theorem zk_choicef {s : Nat} {l : Int32} (hd : d < 6) (hS : oS d = 6) (hH : oH d = nI s) (hs : s < 12) (hl : ¬ l = tA s) (h : P (ln, ap, 7, 7, ap, wt, wn, 1, rf, nI (d + 1), pt, zs, te, pw, sg, bg, dg, bl, dw, es, ct, bd, pr, lt, T, so, tA, tB, tC, fN, fO, fQ, fS, tO, oS, oT, oN, oC, oE, oH, cm, kd, vl, pa, na, ty, fr, ta, ou, wk, sp)) : wX_endName_44 P (nI d) l ln ap st er pl wt wn tg rf (nI (d + 1)) pt zs te pw sg bg dg bl dw es ct bd pr lt T so tA tB tC fN fO fQ fS tO oS oT oN oC oE oH cm kd vl pa na ty fr ta ou wk sp := by
  have w : vp_in (nI d) 6 := vp_in_nI hd (by omega)
  refine ⟨w, ?_⟩
  rw [nI_clamp (n := d) (by omega)]
  refine br_t hS ⟨w, ?_⟩
  rw [hH]
  refine ⟨vp_in_nI hs (by omega), br_f ?_ h⟩
  rw [nI_clamp (by omega)]; exact hl
/-- a field's name: new -/
theorem zk_field {s n f l : Nat} {E : Int32} (hd : d < 6) (hS : ¬ oS d = 6) (hT' : oT d = nI s) (hs : s < 12) (hn : n ≤ 4) (hfS : fS s = nI n) (hf : zf_at fN s n (nI l) f) (hl : l ≤ 5) (hb : zf_mb (oE d) (nI l)) (hE : vp_nar .byte ((oE d ||| ((1 : Int32) <<< (nI l &&& 31))).toInt8.toInt32) = E)
    (h : P (ln, ap, 7, er, pl, fO (4 * s + f), nI l, tg, rf, nI (d + 1), pt, zs, te, pw, sg, bg, dg, bl, dw, es, ct, bd, pr, lt, T, so, tA, tB, tC, fN, fO, fQ, fS, tO, oS, oT, oN, oC, upd oE d E, oH, cm, kd, vl, pa, na, ty, fr, ta, ou, wk, sp)) : wX_endName_44 P (nI d) (nI l) ln ap st er pl wt wn tg rf (nI (d + 1)) pt zs te pw sg bg dg bl dw es ct bd pr lt T so tA tB tC fN fO fQ fS tO oS oT oN oC oE oH cm kd vl pa na ty fr ta ou wk sp := by
  have w : vp_in (nI d) 6 := vp_in_nI hd (by omega)
  have e : (nI d).toNatClampNeg = d := nI_clamp (by omega)
  have hf1 := hf.1
  refine ⟨w, ?_⟩
  rw [e]
  refine br_f hS (br_t (nI_pos' (by omega)) ⟨w, ?_⟩)
  rw [hT']
  refine zf_x_at hs hn hfS hf (br_f (nI_pos (by omega)) ⟨w, ?_⟩)
  rw [e]
  refine br_t hb ⟨w, w, nm_r (e' := upd oE d E) (by rw [hE]) ⟨vp_in_nI (by omega) (by omega), nm_r (e' := fO (4 * s + f)) (by rw [nI_clamp (by omega)]) h⟩⟩
/-- not a field's name, or not a new one -/
theorem zk_fieldf {s n : Nat} {l : Int32} (hd : d < 6) (hS : ¬ oS d = 6) (hT' : oT d = nI s) (hs : s < 12) (hn : n ≤ 4) (hfS : fS s = nI n)
    (hl : l = -1 ∨ ∃ l', l' ≤ 5 ∧ l = nI l' ∧ (zf_no fN s n (nI l') ∨ ∃ f, zf_at fN s n (nI l') f ∧ ¬ zf_mb (oE d) (nI l'))) (h : P (ln, ap, 7, 7, ap, wt, wn, tg, rf, nI (d + 1), pt, zs, te, pw, sg, bg, dg, bl, dw, es, ct, bd, pr, lt, T, so, tA, tB, tC, fN, fO, fQ, fS, tO, oS, oT, oN, oC, oE, oH, cm, kd, vl, pa, na, ty, fr, ta, ou, wk, sp)) : wX_endName_44 P (nI d) l ln ap st er pl wt wn tg rf (nI (d + 1)) pt zs te pw sg bg dg bl dw es ct bd pr lt T so tA tB tC fN fO fQ fS tO oS oT oN oC oE oH cm kd vl pa na ty fr ta ou wk sp := by
  have w : vp_in (nI d) 6 := vp_in_nI hd (by omega)
  have e : (nI d).toNatClampNeg = d := nI_clamp (by omega)
  refine ⟨w, ?_⟩
  rw [e]
  refine br_f hS ?_
  rcases hl with rfl | ⟨l', h5, rfl, hno | ⟨f, hf, hb⟩⟩
  · exact br_f (by decide) (br_t (by decide) h)
  · refine br_t (nI_pos' (by omega)) ⟨w, ?_⟩
    rw [hT']
    exact zf_x_no hs hn hfS hno (br_t (by decide) h)
  · have hf1 := hf.1
    refine br_t (nI_pos' (by omega)) ⟨w, ?_⟩
    rw [hT']
    refine zf_x_at hs hn hfS hf (br_f (nI_pos (by omega)) ⟨w, ?_⟩)
    rw [e]
    exact br_f hb h
end X
end ZK
end
section
/-! the reference: names, tags, and what a part inside is -/
section ZYN
theorem yn_bit (E x : Int32) : ((E >>> (x &&& 31)) &&& 1) = 0 ∨ ((E >>> (x &&& 31)) &&& 1) = 1 := by
  obtain ⟨j, hj, e⟩ := pk_andE (E >>> (x &&& 31)) (m := 1) 1 (by decide)
  rw [e]
  have : j = 0 ∨ j = 1 := by omega
  rcases this with rfl | rfl
  · exact Or.inl rfl
  · exact Or.inr rfl
variable {t : Nat → Nat} {k p b d : Nat} {sl : Int32} {ln ps ba ct fl yp yb dp nn wN wT pr wg sc : Int32} {so tA tB tC fN fO fS yt fQ T be en ins wh kd yv pa na ty fr cm oN yT yC yE oH ou td : Nat → Int32} {ln1 ps1 ba1 ct1 fl1 yp1 yb1 dp1 nn1 wN1 wT1 pr1 wg1 sc1 : Int32} {so1 tA1 tB1 tC1 fN1 fO1 fS1 yt1 fQ1 T1 be1 en1 ins1 wh1 kd1 yv1 pa1 na1 ty1 fr1 cm1 oN1 yT1 yC1 yE1 oH1 ou1 td1 : Nat → Int32} {P : SY → Prop}
theorem yn_not (hk : k < 96) (hw : wh k = nI 0) (h : P (ln, ps, ba, ct, fl, yp, yb, dp, nn, wN, wT, pr, wg, sc, so, tA, tB, tC, fN, fO, fS, yt, fQ, T, be, en, ins, wh, kd, yv, pa, na, ty, fr, cm, oN, yT, yC, yE, oH, ou, td)) : wpY_bindName P (ln, ps, ba, ct, fl, yp, yb, dp, nn, wN, wT, pr, wg, sc, so, tA, tB, tC, fN, fO, fS, yt, fQ, T, be, en, ins, wh, kd, yv, pa, na, ty, fr, cm, oN, yT, yC, yE, oH, ou, td) (nI k) := by
  refine ⟨vp_in_nI hk (by omega), br_t ?_ h⟩
  rw [nI_clamp (by omega), hw]; rfl
theorem yn_good {l : Nat} (hT : ∀ i, T i = nI (t i)) (hk : k < 96) (hw : wh k = nI 1) (hb : be k = nI p) (he : en k = nI b) (hp : p + 1 < 96) (hg : b = p + 2) (h21 : t (p + 1) = l + 21) (hl : l ≤ 5) (h : wY_bindName_69 P (nI k) (nI d) (nI l) 1 ln ps ba ct fl yp yb (nI (d + 1)) nn wN wT pr wg sc so tA tB tC fN fO fS yt fQ T be en ins wh kd yv pa na ty fr cm oN yT yC yE oH ou td) : wpY_bindName P (ln, ps, ba, ct, fl, yp, yb, nI (d + 1), nn, wN, wT, pr, wg, sc, so, tA, tB, tC, fN, fO, fS, yt, fQ, T, be, en, ins, wh, kd, yv, pa, na, ty, fr, cm, oN, yT, yC, yE, oH, ou, td) (nI k) := by
  have wk' : vp_in (nI k) 96 := vp_in_nI hk (by omega)
  refine ⟨wk', br_f ?_ (nm_r (nI_pred d) ⟨wk', ?_⟩)⟩
  · rw [nI_clamp (by omega), hw]; decide
  · rw [nI_clamp (n := k) (by omega), hb, nI_1, he]
    refine ⟨vp_in_nI hp (by omega), nm_r (e' := nI (l + 21)) (by rw [nI_clamp (by omega), hT, h21]) (nm_r (e' := nI l) ?_ ⟨wk', wk', br_t ?_ ?_⟩)⟩
    · rw [show (21 : Int32) = nI 21 from rfl, pk_sub (by omega)]; exact congrArg nI (by omega)
    · rw [hg, show (2 : Int32) = nI 2 from rfl, nI_add]
    · exact ze_in_t (nI_pos (by omega)) (nI_nlt (a := 5) (by omega) (by omega)) (br_f (by decide) h)
theorem yn_bad (hT : ∀ i, T i = nI (t i)) (ht : ∀ i, t i < 32) (hk : k < 96) (hw : wh k = nI 1) (hb : be k = nI p) (he : en k = nI b) (hp : p + 1 < 96) (hb2 : b < 1000) (hg : ¬ (b = p + 2 ∧ 21 ≤ t (p + 1) ∧ t (p + 1) ≤ 26)) (h : ∀ x4, wY_bindName_69 P (nI k) (nI d) x4 0 ln ps ba ct fl yp yb (nI (d + 1)) nn wN wT pr wg sc so tA tB tC fN fO fS yt fQ T be en ins wh kd yv pa na ty fr cm oN yT yC yE oH ou td) : wpY_bindName P (ln, ps, ba, ct, fl, yp, yb, nI (d + 1), nn, wN, wT, pr, wg, sc, so, tA, tB, tC, fN, fO, fS, yt, fQ, T, be, en, ins, wh, kd, yv, pa, na, ty, fr, cm, oN, yT, yC, yE, oH, ou, td) (nI k) := by
  have wk' : vp_in (nI k) 96 := vp_in_nI hk (by omega)
  have h32 := ht (p + 1)
  refine ⟨wk', br_f ?_ (nm_r (nI_pred d) ⟨wk', ?_⟩)⟩
  · rw [nI_clamp (by omega), hw]; decide
  · rw [nI_clamp (n := k) (by omega), hb, nI_1, he, show (2 : Int32) = nI 2 from rfl, nI_add]
    refine ⟨vp_in_nI hp (by omega), nm_r (e' := nI (t (p + 1))) (by rw [nI_clamp (by omega), hT]) (nm_e ⟨wk', wk', ?_⟩)⟩
    refine pk_eq b (p + 2) (fun z => ?_) (fun z => h _)
    refine ze_in_f ?_ (br_t rfl (h _))
    by_cases q : t (p + 1) < 21
    · refine Or.inl ?_
      rw [Int32.lt_iff_toInt_lt, show (21 : Int32) = nI 21 from rfl, pk_sub_toInt (by omega) (by omega), show ((0 : Int32)).toInt = 0 from by decide]
      omega
    · refine Or.inr ?_
      rw [show (21 : Int32) = nI 21 from rfl, pk_sub (by omega)]
      exact nI_lt (a := 5) (by omega) (by omega)
theorem yn_bad' (hT : ∀ i, T i = nI (t i)) (ht : ∀ i, t i < 32) (hk : k < 96) (hw : wh k = nI 1) (hb : be k = nI p) (he : en k = nI b) (hp : p + 1 < 96) (hb2 : b < 1000) (hg : ¬ (b = p + 2 ∧ 21 ≤ t (p + 1) ∧ t (p + 1) ≤ 26)) (h : wY_bindName_69 P (nI k) (nI d) (nI (t (p + 1)) - 21) 0 ln ps ba ct fl yp yb (nI (d + 1)) nn wN wT pr wg sc so tA tB tC fN fO fS yt fQ T be en ins wh kd yv pa na ty fr cm oN yT yC yE oH ou td) : wpY_bindName P (ln, ps, ba, ct, fl, yp, yb, nI (d + 1), nn, wN, wT, pr, wg, sc, so, tA, tB, tC, fN, fO, fS, yt, fQ, T, be, en, ins, wh, kd, yv, pa, na, ty, fr, cm, oN, yT, yC, yE, oH, ou, td) (nI k) := by
  have wk' : vp_in (nI k) 96 := vp_in_nI hk (by omega)
  have h32 := ht (p + 1)
  refine ⟨wk', br_f ?_ (nm_r (nI_pred d) ⟨wk', ?_⟩)⟩
  · rw [nI_clamp (by omega), hw]; decide
  · rw [nI_clamp (n := k) (by omega), hb, nI_1, he, show (2 : Int32) = nI 2 from rfl, nI_add]
    refine ⟨vp_in_nI hp (by omega), nm_r (e' := nI (t (p + 1))) (by rw [nI_clamp (by omega), hT]) (nm_e ⟨wk', wk', ?_⟩)⟩
    refine pk_eq b (p + 2) (fun z => ?_) (fun z => h)
    refine ze_in_f ?_ (br_t rfl h)
    by_cases q : t (p + 1) < 21
    · refine Or.inl ?_
      rw [Int32.lt_iff_toInt_lt, show (21 : Int32) = nI 21 from rfl, pk_sub_toInt (by omega) (by omega), show ((0 : Int32)).toInt = 0 from by decide]
      omega
    · refine Or.inr ?_
      rw [show (21 : Int32) = nI 21 from rfl, pk_sub (by omega)]
      exact nI_lt (a := 5) (by omega) (by omega)
theorem yn_choice {s : Nat} {x4 : Int32} (hd : d < 6) (hH : oH d = nI s) (hs : s < 12) (hT' : yT d = -1) (hl : x4 = tA s) (h : P (ln, ps, ba, ct, fl, yp, yb, dp, nn, wN, 1, pr, wg, sc, so, tA, tB, tC, fN, fO, fS, yt, fQ, T, be, en, ins, wh, kd, yv, pa, na, ty, fr, cm, oN, yT, yC, yE, oH, ou, td)) : wY_bindName_69 P (nI k) (nI d) x4 1 ln ps ba ct fl yp yb dp nn wN wT pr wg sc so tA tB tC fN fO fS yt fQ T be en ins wh kd yv pa na ty fr cm oN yT yC yE oH ou td := by
  have w : vp_in (nI d) 8 := vp_in_nI (by omega) (by omega)
  refine ⟨w, ?_⟩
  rw [nI_clamp (n := d) (by omega), hH, hT', nI_clamp (n := s) (by omega)]
  exact br_f (nI_pos (by omega)) ⟨w, br_f (by decide) (br_f (by decide) ⟨w, vp_in_nI hs (by omega), br_t hl h⟩)⟩
theorem yn_choicef {s : Nat} {x4 z : Int32} (hk : k < 96) (hd : d < 6) (hH : oH d = nI s) (hs : s < 12) (hT' : yT d = -1) (hl : z = 0 ∨ ¬ x4 = tA s) (h : P (ln, ps, ba, ct, 7, en k, yb, dp, nn, wN, 1, pr, wg, sc, so, tA, tB, tC, fN, fO, fS, yt, fQ, T, be, en, ins, wh, kd, yv, pa, na, ty, fr, cm, oN, yT, yC, yE, oH, ou, td)) : wY_bindName_69 P (nI k) (nI d) x4 z ln ps ba ct 0 yp yb dp nn wN wT pr wg sc so tA tB tC fN fO fS yt fQ T be en ins wh kd yv pa na ty fr cm oN yT yC yE oH ou td := by
  have w : vp_in (nI d) 8 := vp_in_nI (by omega) (by omega)
  have k110 : wY_bindName_110 P (nI k) ln ps ba ct 0 yp yb dp nn wN wT pr wg sc so tA tB tC fN fO fS yt fQ T be en ins wh kd yv pa na ty fr cm oN yT yC yE oH ou td := by
    refine ⟨vp_in_nI hk (by omega), br_t rfl ?_⟩
    rw [nI_clamp (by omega)]; exact h
  refine ⟨w, ?_⟩
  rw [nI_clamp (n := d) (by omega), hH, hT', nI_clamp (n := s) (by omega)]
  refine br_f (nI_pos (by omega)) ⟨w, br_f (by decide) ?_⟩
  by_cases z0 : z = 0
  · exact br_t z0 k110
  · exact br_f z0 ⟨w, vp_in_nI hs (by omega), br_f (hl.resolve_left z0) k110⟩
theorem yn_128 {s : Nat} {x4 z : Int32} (hd : d < 6) (hT' : yT d = nI s) (hs : s < 12) (h : wY_bindName_128 P (nI k) (nI d) x4 z ln ps ba ct fl yp yb dp nn wN wT pr wg sc so tA tB tC fN fO fS yt fQ T be en ins wh kd yv pa na ty fr cm oN yT yC yE oH ou td) : wY_bindName_69 P (nI k) (nI d) x4 z ln ps ba ct fl yp yb dp nn wN wT pr wg sc so tA tB tC fN fO fS yt fQ T be en ins wh kd yv pa na ty fr cm oN yT yC yE oH ou td := by
  have w : vp_in (nI d) 8 := vp_in_nI (by omega) (by omega)
  refine ⟨w, br_c (fun _ => h) (fun _ => ⟨w, br_t ?_ h⟩)⟩
  rw [nI_clamp (n := d) (by omega), hT']
  exact nI_pos' (by omega)
theorem yn_field {s n f l : Nat} (hd : d < 6) (hT' : yT d = nI s) (hs : s < 12) (hn : n ≤ 4) (hfS : fS s = nI n) (hf : zf_at fN s n (nI l) f) (hb : zf_mb (yE d) (nI l))
    (h : P (ln, ps, ba, ct, fl, yp, yb, dp, nI l, wN, wT, pr, wg, sc, so, tA, tB, tC, fN, fO, fS, yt, fQ, T, be, en, ins, wh, kd, yv, pa, na, ty, fr, cm, oN, yT, yC, upd yE d (yE d ||| ((1 : Int32) <<< (nI l &&& 31))), oH, ou, td)) : wY_bindName_69 P (nI k) (nI d) (nI l) 1 ln ps ba ct fl yp yb dp nn wN wT pr wg sc so tA tB tC fN fO fS yt fQ T be en ins wh kd yv pa na ty fr cm oN yT yC yE oH ou td := by
  have w : vp_in (nI d) 8 := vp_in_nI (by omega) (by omega)
  have e : (nI d).toNatClampNeg = d := nI_clamp (by omega)
  have hf1 := hf.1
  have hb' : ((yE d >>> (nI l &&& 31)) &&& 1) = 0 := hb
  refine yn_128 hd hT' hs (br_f (by decide) ⟨w, ?_⟩)
  rw [e, hT']
  refine zf_y_at hs hn hfS hf (br_f (nI_pos (by omega)) ⟨w, ?_⟩)
  refine br_f (by rw [hb']; decide) ⟨w, w, nm_e h⟩
theorem yn_fieldf {s n : Nat} {x4 z : Int32} (hk : k < 96) (hd : d < 6) (hT' : yT d = nI s) (hs : s < 12) (hn : n ≤ 4) (hfS : fS s = nI n)
    (hl : z = 0 ∨ (¬ z = 0 ∧ (zf_no fN s n x4 ∨ ∃ f, zf_at fN s n x4 f ∧ ¬ zf_mb (yE d) x4))) (h : P (ln, ps, ba, ct, 7, en k, yb, dp, x4, wN, wT, pr, wg, sc, so, tA, tB, tC, fN, fO, fS, yt, fQ, T, be, en, ins, wh, kd, yv, pa, na, ty, fr, cm, oN, yT, yC, yE, oH, ou, td)) : wY_bindName_69 P (nI k) (nI d) x4 z ln ps ba ct 0 yp yb dp nn wN wT pr wg sc so tA tB tC fN fO fS yt fQ T be en ins wh kd yv pa na ty fr cm oN yT yC yE oH ou td := by
  have w : vp_in (nI d) 8 := vp_in_nI (by omega) (by omega)
  have e : (nI d).toNatClampNeg = d := nI_clamp (by omega)
  have k163 : wY_bindName_163 P (nI k) x4 ln ps ba ct 0 yp yb dp nn wN wT pr wg sc so tA tB tC fN fO fS yt fQ T be en ins wh kd yv pa na ty fr cm oN yT yC yE oH ou td := by
    refine ⟨vp_in_nI hk (by omega), br_t rfl ?_⟩
    rw [nI_clamp (by omega)]; exact h
  refine yn_128 hd hT' hs ?_
  rcases hl with hz | ⟨hz, hno | ⟨f, hf, hb⟩⟩
  · exact br_t hz k163
  · refine br_f hz ⟨w, ?_⟩
    rw [e, hT']
    exact zf_y_no hs hn hfS hno (br_t (by decide) k163)
  · have hf1 := hf.1
    refine br_f hz ⟨w, ?_⟩
    rw [e, hT']
    refine zf_y_at hs hn hfS hf (br_f (nI_pos (by omega)) ⟨w, ?_⟩)
    exact br_t ((yn_bit (yE d) x4).resolve_left hb) k163
/-! tags -/
theorem yn_tagt {c : Nat} (hk : k < 96) (hb : be k = nI p) (hp : p < 96) (hc : T p = nI c) (hc1 : ¬ c < 10) (hc2 : c ≠ 17) (hc3 : c < 32) (hd : d < 6) (h : P (ln, ps, ba, ct, 3, be k, yb, nI (d + 1), nn, wN, 0, pr, wg, sc, so, tA, tB, tC, fN, fO, fS, yt, fQ, T, be, en, ins, wh, kd, yv, pa, na, ty, fr, cm, oN, yT, yC, yE, oH, ou, td)) : wpY_bindTag P (ln, ps, ba, ct, 0, yp, yb, nI (d + 1), nn, wN, wT, pr, wg, sc, so, tA, tB, tC, fN, fO, fS, yt, fQ, T, be, en, ins, wh, kd, yv, pa, na, ty, fr, cm, oN, yT, yC, yE, oH, ou, td) (nI k) := by
  have wk' : vp_in (nI k) 96 := vp_in_nI hk (by omega)
  refine ⟨wk', ?_⟩
  rw [nI_clamp (n := k) (by omega)]
  refine ⟨by rw [hb]; exact vp_in_nI hp (by omega), nm_r (e' := nI c) (by rw [hb, nI_clamp (by omega), hc]) (nm_r (nI_pred d) ⟨vp_in_nI (by omega) (by omega), nm_e (br_f (nI_ge (a := 9) (by omega) (by omega)) (br_f (za_ne (b := 17) hc2 (by omega) (by decide)) ⟨wk', br_t rfl h⟩))⟩)⟩
theorem yn_tag53 {c s : Nat} (hk : k < 96) (hb : be k = nI p) (hp : p < 96) (hc : T p = nI c) (hc1 : c < 10 ∨ c = 17) (hd : d < 6) (hH : oH d = nI s) (h : wY_bindTag_53 P (nI k) (nI d) (nI s) ln ps ba ct fl yp yb (nI (d + 1)) nn wN wT pr wg sc so tA tB tC fN fO fS yt fQ T be en ins wh kd yv pa na ty fr cm oN yT yC yE oH ou td) : wpY_bindTag P (ln, ps, ba, ct, fl, yp, yb, nI (d + 1), nn, wN, wT, pr, wg, sc, so, tA, tB, tC, fN, fO, fS, yt, fQ, T, be, en, ins, wh, kd, yv, pa, na, ty, fr, cm, oN, yT, yC, yE, oH, ou, td) (nI k) := by
  have wk' : vp_in (nI k) 96 := vp_in_nI hk (by omega)
  refine ⟨wk', ?_⟩
  rw [nI_clamp (n := k) (by omega)]
  refine ⟨by rw [hb]; exact vp_in_nI hp (by omega), nm_r (e' := nI c) (by rw [hb, nI_clamp (by omega), hc]) (nm_r (nI_pred d) ⟨vp_in_nI (by omega) (by omega), nm_r (e' := nI s) (by rw [nI_clamp (by omega), hH]) ?_⟩)⟩
  rcases hc1 with hc1 | rfl
  · exact br_t (nI_le (b := 9) (by omega) (by omega)) h
  · exact br_f (by decide) (br_t rfl h)
theorem yn_tagn {s : Nat} (hk : k < 96) (hw : wh k = nI 0) (h : P (ln, ps, ba, ct, fl, yp, yb, dp, nn, wN, 0, pr, wg, sc, so, tA, tB, tC, fN, fO, fS, yt, fQ, T, be, en, ins, wh, kd, yv, pa, na, ty, fr, cm, oN, yT, yC, yE, oH, ou, td)) : wY_bindTag_53 P (nI k) (nI d) (nI s) ln ps ba ct fl yp yb dp nn wN wT pr wg sc so tA tB tC fN fO fS yt fQ T be en ins wh kd yv pa na ty fr cm oN yT yC yE oH ou td := by
  refine ⟨vp_in_nI hk (by omega), br_t ?_ h⟩
  rw [nI_clamp (by omega), hw]; rfl
theorem yn_tagok {s g v j : Nat} (hk : k < 96) (hw : wh k = nI 1) (hd : d < 6) (hs : s < 12) (hg : g ≤ 5) (hv : v < 12) (hj : j < 40) (hN : oN d = nI j) (hyt : yt (6 * s + g) = nI v) (hso : so v = 5) (hu : ∀ Q : Int32 → SY → Prop, Q 1 (ln, ps, ba, ct, fl, yp, yb, dp, nn, wN, wT, pr, wg, nI g, so, tA, tB, tC, fN, fO, fS, yt, fQ, T, be, en, ins, wh, kd, yv, pa, na, ty, fr, cm, oN, yT, yC, yE, oH, ou, td) → wpY_units Q (ln, ps, ba, ct, fl, yp, yb, dp, nn, wN, wT, pr, wg, sc, so, tA, tB, tC, fN, fO, fS, yt, fQ, T, be, en, ins, wh, kd, yv, pa, na, ty, fr, cm, oN, yT, yC, yE, oH, ou, td) (nI k) 0)
    (h : P (ln, ps, ba, ct, fl, yp, yb, dp, nn, wN, 0, pr, wg, nI g, so, tA, tB, tC, fN, fO, fS, yt, fQ, T, be, en, ins, wh, kd, upd yv j (nI v), pa, na, ty, fr, cm, oN, upd yT d (nI v), yC, yE, oH, ou, td)) : wY_bindTag_53 P (nI k) (nI d) (nI s) ln ps ba ct fl yp yb dp nn wN wT pr wg sc so tA tB tC fN fO fS yt fQ T be en ins wh kd yv pa na ty fr cm oN yT yC yE oH ou td := by
  have w : vp_in (nI d) 8 := vp_in_nI (by omega) (by omega)
  have wf : vp_in (nI (6 * s + g)) 72 := vp_in_nI (by omega) (by omega)
  have ef : (nI (6 * s + g)).toNatClampNeg = 6 * s + g := nI_clamp (by omega)
  have ed : (nI d).toNatClampNeg = d := nI_clamp (by omega)
  refine ⟨vp_in_nI hk (by omega), br_f (by rw [nI_clamp (by omega), hw]; decide) (hu _ (br_f (by decide) (ze_in_t (nI_pos (by omega)) (nI_nlt (a := 5) (by omega) (by omega)) (br_f (by decide) ?_))))⟩
  rw [ze_6, ef, hyt, nI_clamp (n := v) (by omega)]
  refine ⟨wf, br_f (nI_pos (by omega)) ⟨wf, vp_in_nI hv (by omega), br_t hso (br_f (by decide) ?_)⟩⟩
  rw [ze_6, ef, hyt, ed]
  refine ⟨wf, w, nm_e ⟨w, w, ?_⟩⟩
  rw [hN, pk_us]
  exact ⟨vp_in_nI hj (by omega), nm_r (e' := upd yv j (nI v)) (by rw [nI_clamp (by omega)]) h⟩
theorem yn_tagf {s : Nat} {r x : Int32} (hk : k < 96) (hw : wh k = nI 1) (hs : s < 12) (hu : ∀ Q : Int32 → SY → Prop, Q r (ln, ps, ba, ct, 0, yp, yb, dp, nn, wN, wT, pr, wg, x, so, tA, tB, tC, fN, fO, fS, yt, fQ, T, be, en, ins, wh, kd, yv, pa, na, ty, fr, cm, oN, yT, yC, yE, oH, ou, td) → wpY_units Q (ln, ps, ba, ct, 0, yp, yb, dp, nn, wN, wT, pr, wg, sc, so, tA, tB, tC, fN, fO, fS, yt, fQ, T, be, en, ins, wh, kd, yv, pa, na, ty, fr, cm, oN, yT, yC, yE, oH, ou, td) (nI k) 0)
    (hf : r = 0 ∨ (¬ r = 0 ∧ ((x < 0 ∨ 5 < x) ∨ ∃ g, g ≤ 5 ∧ x = nI g ∧ (yt (6 * s + g) = -1 ∨ ∃ v, v < 12 ∧ yt (6 * s + g) = nI v ∧ ¬ so v = 5))))
    (h : P (ln, ps, ba, ct, 6, en k, yb, dp, nn, wN, 0, pr, wg, x, so, tA, tB, tC, fN, fO, fS, yt, fQ, T, be, en, ins, wh, kd, yv, pa, na, ty, fr, cm, oN, yT, yC, yE, oH, ou, td)) : wY_bindTag_53 P (nI k) (nI d) (nI s) ln ps ba ct 0 yp yb dp nn wN wT pr wg sc so tA tB tC fN fO fS yt fQ T be en ins wh kd yv pa na ty fr cm oN yT yC yE oH ou td := by
  have k129 : wY_bindTag_129 P (nI k) (nI d) (nI s) ln ps ba ct 0 yp yb dp nn wN wT pr wg x so tA tB tC fN fO fS yt fQ T be en ins wh kd yv pa na ty fr cm oN yT yC yE oH ou td := by
    refine br_t rfl ⟨vp_in_nI hk (by omega), br_t rfl ?_⟩
    rw [nI_clamp (by omega)]; exact h
  refine ⟨vp_in_nI hk (by omega), br_f (by rw [nI_clamp (by omega), hw]; decide) (hu _ ?_)⟩
  rcases hf with rfl | ⟨hr, hx | ⟨g, hg, rfl, hy⟩⟩
  · exact br_t rfl k129
  · exact br_f hr (ze_in_f hx (br_t rfl k129))
  · have wf : vp_in (nI (6 * s + g)) 72 := vp_in_nI (by omega) (by omega)
    have ef : (nI (6 * s + g)).toNatClampNeg = 6 * s + g := nI_clamp (by omega)
    refine br_f hr (ze_in_t (nI_pos (by omega)) (nI_nlt (a := 5) (by omega) (by omega)) (br_f (by decide) ?_))
    rw [ze_6, ef]
    refine ⟨wf, ?_⟩
    rcases hy with hy | ⟨v, hv, hy, hso⟩
    · rw [hy]; exact br_t (by decide) k129
    · rw [hy, nI_clamp (n := v) (by omega)]
      exact br_f (nI_pos (by omega)) ⟨wf, vp_in_nI hv (by omega), br_f hso k129⟩
/-! what a part inside is -/
theorem yp_list {j c : Nat} (hk : k < 96) (hb : be k = nI p) (hq : p < 96) (hc : T p = nI c) (hcc : c < 32 ∧ c ≠ 13 ∧ c ≠ 11 ∧ c ≠ 15 ∧ c ≠ 14) (hd : d < 6) (hN : oN d = nI j) (hj : j < 40) {s m : Nat} (h3 : kd j = 3) (hC : yC d = nI m) (hT' : yT d = nI s) (hs : s < 12) (h : ∀ Q : SY → Prop, Q (ln1, ps1, ba1, ct1, fl1, yp1, yb1, dp1, nn1, wN1, wT1, pr1, wg1, sc1, so1, tA1, tB1, tC1, fN1, fO1, fS1, yt1, fQ1, T1, be1, en1, ins1, wh1, kd1, yv1, pa1, na1, ty1, fr1, cm1, oN1, yT1, yC1, yE1, oH1, ou1, td1) → wpY_bindValue Q (ln, ps, ba, ct, fl, yp, yb, nI (d + 1), nn, wN, wT, pr, wg, sc, so, tA, tB, tC, fN, fO, fS, yt, fQ, T, be, en, ins, wh, kd, yv, pa, na, ty, fr, cm, oN, yT, upd yC d (nI (m + 1)), yE, oH, ou, td) (nI k) (tA s) (nI j) (nI m)) (hp : P (ln1, ps1, ba1, ct1, fl1, yp1, yb1, dp1, nn1, wN1, wT1, pr1, wg1, sc1, so1, tA1, tB1, tC1, fN1, fO1, fS1, yt1, fQ1, T1, be1, en1, ins1, wh1, kd1, yv1, pa1, na1, ty1, fr1, cm1, oN1, yT1, yC1, yE1, oH1, ou1, td1)) : wpY_part P (ln, ps, ba, ct, fl, yp, yb, nI (d + 1), nn, wN, wT, pr, wg, sc, so, tA, tB, tC, fN, fO, fS, yt, fQ, T, be, en, ins, wh, kd, yv, pa, na, ty, fr, cm, oN, yT, yC, yE, oH, ou, td) (nI k) sl := by
  have w : vp_in (nI d) 8 := vp_in_nI (by omega) (by omega)
  have e : (nI d).toNatClampNeg = d := nI_clamp (by omega)
  refine yp_open hk hb hq hc _ (nm_r (nI_pred d) (br_f (nI_ne0 (by omega) (by omega)) (br_f (za_ne (b := 13) (by omega) (by omega) (by decide)) (br_f (za_ne (b := 11) (by omega) (by omega) (by decide)) (br_f (za_ne (b := 15) (by omega) (by omega) (by decide)) (br_f (za_ne (b := 14) (by omega) (by omega) (by decide)) ⟨w, ?_⟩))))))
  rw [e, hN]
  refine ⟨vp_in_nI hj (by omega), ?_⟩
  rw [nI_clamp (n := j) (by omega)]
  refine br_t h3 ⟨w, nm_r (e' := nI m) hC ⟨w, w, nm_r (e' := upd yC d (nI (m + 1))) (by rw [hC, nI_1]) ⟨w, ?_⟩⟩⟩
  rw [hT', nI_clamp (n := s) (by omega)]
  exact ⟨vp_in_nI hs (by omega), w, h _ hp⟩
theorem yp_name {j c : Nat} (hk : k < 96) (hb : be k = nI p) (hq : p < 96) (hc : T p = nI c) (hcc : c < 32 ∧ c ≠ 13 ∧ c ≠ 11 ∧ c ≠ 15 ∧ c ≠ 14) (hd : d < 6) (hN : oN d = nI j) (hj : j < 40) (h3 : ¬ kd j = 3) (hw : ¬ wN = 0) (h : ∀ Q : SY → Prop, Q (ln1, ps1, ba1, ct1, fl1, yp1, yb1, dp1, nn1, wN1, wT1, pr1, wg1, sc1, so1, tA1, tB1, tC1, fN1, fO1, fS1, yt1, fQ1, T1, be1, en1, ins1, wh1, kd1, yv1, pa1, na1, ty1, fr1, cm1, oN1, yT1, yC1, yE1, oH1, ou1, td1) → wpY_bindName Q (ln, ps, ba, ct, fl, yp, yb, nI (d + 1), nn, wN, wT, pr, wg, sc, so, tA, tB, tC, fN, fO, fS, yt, fQ, T, be, en, ins, wh, kd, yv, pa, na, ty, fr, cm, oN, yT, yC, yE, oH, ou, td) (nI k)) (hp : P (ln1, ps1, ba1, ct1, fl1, yp1, yb1, dp1, nn1, wN1, wT1, pr1, wg1, sc1, so1, tA1, tB1, tC1, fN1, fO1, fS1, yt1, fQ1, T1, be1, en1, ins1, wh1, kd1, yv1, pa1, na1, ty1, fr1, cm1, oN1, yT1, yC1, yE1, oH1, ou1, td1)) : wpY_part P (ln, ps, ba, ct, fl, yp, yb, nI (d + 1), nn, wN, wT, pr, wg, sc, so, tA, tB, tC, fN, fO, fS, yt, fQ, T, be, en, ins, wh, kd, yv, pa, na, ty, fr, cm, oN, yT, yC, yE, oH, ou, td) (nI k) sl := by
  have w : vp_in (nI d) 8 := vp_in_nI (by omega) (by omega)
  have e : (nI d).toNatClampNeg = d := nI_clamp (by omega)
  refine yp_open hk hb hq hc _ (nm_r (nI_pred d) (br_f (nI_ne0 (by omega) (by omega)) (br_f (za_ne (b := 13) (by omega) (by omega) (by decide)) (br_f (za_ne (b := 11) (by omega) (by omega) (by decide)) (br_f (za_ne (b := 15) (by omega) (by omega) (by decide)) (br_f (za_ne (b := 14) (by omega) (by omega) (by decide)) ⟨w, ?_⟩))))))
  rw [e, hN]
  refine ⟨vp_in_nI hj (by omega), ?_⟩
  rw [nI_clamp (n := j) (by omega)]
  exact br_f h3 (br_f hw (h _ hp))
theorem yp_tag {j c : Nat} (hk : k < 96) (hb : be k = nI p) (hq : p < 96) (hc : T p = nI c) (hcc : c < 32 ∧ c ≠ 13 ∧ c ≠ 11 ∧ c ≠ 15 ∧ c ≠ 14) (hd : d < 6) (hN : oN d = nI j) (hj : j < 40) (h3 : ¬ kd j = 3) (hw : wN = 0) (hw2 : ¬ wT = 0) (h : ∀ Q : SY → Prop, Q (ln1, ps1, ba1, ct1, fl1, yp1, yb1, dp1, nn1, wN1, wT1, pr1, wg1, sc1, so1, tA1, tB1, tC1, fN1, fO1, fS1, yt1, fQ1, T1, be1, en1, ins1, wh1, kd1, yv1, pa1, na1, ty1, fr1, cm1, oN1, yT1, yC1, yE1, oH1, ou1, td1) → wpY_bindTag Q (ln, ps, ba, ct, fl, yp, yb, nI (d + 1), nn, wN, wT, pr, wg, sc, so, tA, tB, tC, fN, fO, fS, yt, fQ, T, be, en, ins, wh, kd, yv, pa, na, ty, fr, cm, oN, yT, yC, yE, oH, ou, td) (nI k)) (hp : P (ln1, ps1, ba1, ct1, fl1, yp1, yb1, dp1, nn1, wN1, wT1, pr1, wg1, sc1, so1, tA1, tB1, tC1, fN1, fO1, fS1, yt1, fQ1, T1, be1, en1, ins1, wh1, kd1, yv1, pa1, na1, ty1, fr1, cm1, oN1, yT1, yC1, yE1, oH1, ou1, td1)) : wpY_part P (ln, ps, ba, ct, fl, yp, yb, nI (d + 1), nn, wN, wT, pr, wg, sc, so, tA, tB, tC, fN, fO, fS, yt, fQ, T, be, en, ins, wh, kd, yv, pa, na, ty, fr, cm, oN, yT, yC, yE, oH, ou, td) (nI k) sl := by
  have w : vp_in (nI d) 8 := vp_in_nI (by omega) (by omega)
  have e : (nI d).toNatClampNeg = d := nI_clamp (by omega)
  refine yp_open hk hb hq hc _ (nm_r (nI_pred d) (br_f (nI_ne0 (by omega) (by omega)) (br_f (za_ne (b := 13) (by omega) (by omega) (by decide)) (br_f (za_ne (b := 11) (by omega) (by omega) (by decide)) (br_f (za_ne (b := 15) (by omega) (by omega) (by decide)) (br_f (za_ne (b := 14) (by omega) (by omega) (by decide)) ⟨w, ?_⟩))))))
  rw [e, hN]
  refine ⟨vp_in_nI hj (by omega), ?_⟩
  rw [nI_clamp (n := j) (by omega)]
  exact br_f h3 (br_t hw (br_f hw2 (h _ hp)))
theorem yp_fval {j c : Nat} (hk : k < 96) (hb : be k = nI p) (hq : p < 96) (hc : T p = nI c) (hcc : c < 32 ∧ c ≠ 13 ∧ c ≠ 11 ∧ c ≠ 15 ∧ c ≠ 14) (hd : d < 6) (hN : oN d = nI j) (hj : j < 40) {s n f : Nat} (h3 : ¬ kd j = 3) (hw : wN = 0) (hw2 : wT = 0) (hT' : yT d = nI s) (hs : s < 12) (hn : n ≤ 4) (hfS : fS s = nI n) (hf : zf_at fN s n nn f) (h : ∀ Q : SY → Prop, Q (ln1, ps1, ba1, ct1, fl1, yp1, yb1, dp1, nn1, wN1, wT1, pr1, wg1, sc1, so1, tA1, tB1, tC1, fN1, fO1, fS1, yt1, fQ1, T1, be1, en1, ins1, wh1, kd1, yv1, pa1, na1, ty1, fr1, cm1, oN1, yT1, yC1, yE1, oH1, ou1, td1) → wpY_bindValue Q (ln, ps, ba, ct, fl, yp, yb, nI (d + 1), nn, wN, wT, pr, wg, sc, so, tA, tB, tC, fN, fO, fS, yt, fQ, T, be, en, ins, wh, kd, yv, pa, na, ty, fr, cm, oN, yT, yC, yE, oH, ou, td) (nI k) (fO (4 * s + f)) (nI j) nn) (hp : P (ln1, ps1, ba1, ct1, fl1, yp1, yb1, dp1, nn1, wN1, wT1, pr1, wg1, sc1, so1, tA1, tB1, tC1, fN1, fO1, fS1, yt1, fQ1, T1, be1, en1, ins1, wh1, kd1, yv1, pa1, na1, ty1, fr1, cm1, oN1, yT1, yC1, yE1, oH1, ou1, td1)) : wpY_part P (ln, ps, ba, ct, fl, yp, yb, nI (d + 1), nn, wN, wT, pr, wg, sc, so, tA, tB, tC, fN, fO, fS, yt, fQ, T, be, en, ins, wh, kd, yv, pa, na, ty, fr, cm, oN, yT, yC, yE, oH, ou, td) (nI k) sl := by
  have w : vp_in (nI d) 8 := vp_in_nI (by omega) (by omega)
  have e : (nI d).toNatClampNeg = d := nI_clamp (by omega)
  refine yp_open hk hb hq hc _ (nm_r (nI_pred d) (br_f (nI_ne0 (by omega) (by omega)) (br_f (za_ne (b := 13) (by omega) (by omega) (by decide)) (br_f (za_ne (b := 11) (by omega) (by omega) (by decide)) (br_f (za_ne (b := 15) (by omega) (by omega) (by decide)) (br_f (za_ne (b := 14) (by omega) (by omega) (by decide)) ⟨w, ?_⟩))))))
  rw [e, hN]
  refine ⟨vp_in_nI hj (by omega), ?_⟩
  rw [nI_clamp (n := j) (by omega)]
  have hf1 := hf.1
  refine br_f h3 (br_t hw (br_t hw2 ⟨w, ?_⟩))
  rw [hT']
  refine zf_y_at hs hn hfS hf ⟨vp_in_nI (by omega) (by omega), w, ?_⟩
  rw [nI_clamp (by omega)]
  exact h _ hp
end ZYN
end
section
/-! X: the first character of a value -/
section ZW
def zw_num (c : Nat) : Prop := c < 10 ∨ c = 17
def zw_st (c : Nat) : Prop := c ≤ 10 ∨ c = 12 ∨ c = 16 ∨ c = 17 ∨ (27 ≤ c ∧ c ≤ 29)
/-- the type inside a possible or shared one -/
def zw_in (so tA : Nat → Int32) (w : Nat) : Nat := if so w = 7 ∨ so w = 8 then (tA w).toNatClampNeg else w
def zw_und (so tA : Nat → Int32) (w : Nat) : Prop := so (zw_in so tA w) = 0 ∨ (so w = 7 ∧ (so (zw_in so tA w) = 7 ∨ so (zw_in so tA w) = 8)) ∨ (so w = 8 ∧ ¬ so (zw_in so tA w) = 5)
def zw_rt (so tA : Nat → Int32) (w c : Nat) : Prop :=
  (c = 27 ∧ so w = 7) ∨ (zw_num c ∧ (so (zw_in so tA w) = 1 ∨ so w = 8)) ∨ (c = 16 ∧ so (zw_in so tA w) = 2) ∨ (c = 12 ∧ so (zw_in so tA w) = 4) ∨ (c = 10 ∧ (so (zw_in so tA w) = 5 ∨ so (zw_in so tA w) = 6)) ∨ ((c = 28 ∨ c = 29) ∧ so (zw_in so tA w) = 3)
noncomputable def zw_no (so : Nat → Int32) (w c : Nat) : Nat := if so w = 7 ∧ c = 27 then 1 else 0
noncomputable def zw_rf (so : Nat → Int32) (w c : Nat) : Nat := if so w = 8 ∧ (c < 10 ∨ c = 17) then 1 else 0
noncomputable def zw_kd (no rff k : Nat) : Nat := if no = 1 then 5 else if rff = 1 then 6 else if k = 6 then 4 else k - 1
/-- the flag of a number's beginning -/
def zw_nf (c : Nat) : Int32 := if c < 10 ∨ c = 17 then 1 else 0
def zw_ft (k c : Nat) : Prop := (k = 1 ∧ zw_num c) ∨ (k = 2 ∧ c = 16) ∨ (k = 3 ∧ (c = 28 ∨ c = 29)) ∨ (k = 4 ∧ c = 12) ∨ (5 ≤ k ∧ c = 10)
theorem zw_nf_t {c : Nat} (h : zw_num c) : zw_nf c = 1 := if_pos h
theorem zw_nf_f {c : Nat} (h : ¬ zw_num c) : zw_nf c = 0 := if_neg h
theorem zw_in_lt {so tA tC fN fO fS tO yt : Nat → Int32} (h : zr_Tab so tA tC fN fO fS tO yt) {w : Nat} (hw : w < 12) : zw_in so tA w < 12 ∧ ((so w = 7 ∨ so w = 8) → tA w = nI (zw_in so tA w)) := by
  unfold zw_in
  by_cases c : so w = 7 ∨ so w = 8
  · rw [if_pos c]
    obtain ⟨a, ha, he⟩ := (h w hw).2.2.2.2.2.1 c
    rw [he, nI_clamp (by omega)]
    exact ⟨ha, fun _ => rfl⟩
  · rw [if_neg c]
    exact ⟨hw, fun z => absurd z c⟩
section X
variable {c w a d : Nat} {ln ap st er pl wt wn tg rf dp pt zs te pw sg bg bl dw es ct bd pr lt : Int32} {dg : Int64} {T so tA tB tC fN fO fQ fS tO oS oT oN oC oE oH cm kd vl pa na ty fr ta ou wk sp : Nat → Int32} {P : SX → Prop}
/-- to the place where it is known that a value begins -/
theorem xv_57 (hc : c < 32) (hs : zw_st c) (h : wX_value_57 P (nI c) (zw_nf c) 1 ln ap st er pl wt wn tg rf dp pt zs te pw sg bg dg bl dw es ct bd pr lt T so tA tB tC fN fO fQ fS tO oS oT oN oC oE oH cm kd vl pa na ty fr ta ou wk sp) : wpX_value P (ln, ap, st, er, pl, wt, wn, tg, rf, dp, pt, zs, te, pw, sg, bg, dg, bl, dw, es, ct, bd, pr, lt, T, so, tA, tB, tC, fN, fO, fQ, fS, tO, oS, oT, oN, oC, oE, oH, cm, kd, vl, pa, na, ty, fr, ta, ou, wk, sp) (nI c) := by
  unfold zw_nf at h
  by_cases n1 : c < 10
  · rw [if_pos (Or.inl n1)] at h
    exact br_t (nI_lt (b := 10) n1 (by omega)) (br_f (by decide) h)
  · refine br_f (nI_nlt (b := 10) (by omega) (by omega)) ?_
    by_cases n2 : c = 17
    · subst n2
      rw [if_pos (Or.inr rfl)] at h
      exact br_t rfl (br_f (by decide) h)
    · rw [if_neg (by omega)] at h
      refine br_f (za_ne (b := 17) n2 (by omega) (by decide)) (br_t rfl (pk_eq c 16 (fun _ => h) (fun h16 => pk_eq c 10 (fun _ => h) (fun h10 => pk_eq c 12 (fun _ => h) (fun h12 => pk_le c 26 (fun z => ?_) (fun z => pk_le 30 c (fun y => ?_) (fun _ => h)))))))
      · unfold zw_st at hs; omega
      · unfold zw_st at hs; omega
theorem xv_bad (hc : c < 32) (hs : ¬ zw_st c) (h : P (ln, ap, st, 1, ap, wt, wn, tg, rf, dp, pt, zs, te, pw, sg, bg, dg, bl, dw, es, ct, bd, pr, lt, T, so, tA, tB, tC, fN, fO, fQ, fS, tO, oS, oT, oN, oC, oE, oH, cm, kd, vl, pa, na, ty, fr, ta, ou, wk, sp)) : wpX_value P (ln, ap, st, er, pl, wt, wn, tg, rf, dp, pt, zs, te, pw, sg, bg, dg, bl, dw, es, ct, bd, pr, lt, T, so, tA, tB, tC, fN, fO, fQ, fS, tO, oS, oT, oN, oC, oE, oH, cm, kd, vl, pa, na, ty, fr, ta, ou, wk, sp) (nI c) := by
  unfold zw_st at hs
  have k56 : wX_value_56 P (nI c) 0 ln ap st er pl wt wn tg rf dp pt zs te pw sg bg dg bl dw es ct bd pr lt T so tA tB tC fN fO fQ fS tO oS oT oN oC oE oH cm kd vl pa na ty fr ta ou wk sp := br_t rfl h
  refine br_f (nI_nlt (b := 10) (by omega) (by omega)) (br_f (za_ne (b := 17) (by omega) (by omega) (by decide)) (br_t rfl (br_f (za_ne (b := 16) (by omega) (by omega) (by decide)) (br_f (za_ne (b := 10) (by omega) (by omega) (by decide)) (br_f (za_ne (b := 12) (by omega) (by omega) (by decide)) (pk_le c 26 (fun _ => k56) (fun z => pk_le 30 c (fun _ => k56) (fun y => ?_))))))))
  omega
theorem xv_tagt (hc : c < 32) (hs : zw_st c) (hn : ¬ zw_num c) (htg : ¬ tg = 0) (h : P (ln, ap, st, 3, ap, wt, wn, tg, rf, dp, pt, zs, te, pw, sg, bg, dg, bl, dw, es, ct, bd, pr, lt, T, so, tA, tB, tC, fN, fO, fQ, fS, tO, oS, oT, oN, oC, oE, oH, cm, kd, vl, pa, na, ty, fr, ta, ou, wk, sp)) : wpX_value P (ln, ap, st, er, pl, wt, wn, tg, rf, dp, pt, zs, te, pw, sg, bg, dg, bl, dw, es, ct, bd, pr, lt, T, so, tA, tB, tC, fN, fO, fQ, fS, tO, oS, oT, oN, oC, oE, oH, cm, kd, vl, pa, na, ty, fr, ta, ou, wk, sp) (nI c) := by
  refine xv_57 hc hs (br_f (by decide) (br_f htg (br_t ?_ h)))
  exact zw_nf_f hn
theorem xv_tagn {ln1 ap1 st1 er1 pl1 wt1 wn1 tg1 rf1 dp1 pt1 zs1 te1 pw1 sg1 bg1 bl1 dw1 es1 ct1 bd1 pr1 lt1 : Int32} {dg1 : Int64} {T1 so1 tA1 tB1 tC1 fN1 fO1 fQ1 fS1 tO1 oS1 oT1 oN1 oC1 oE1 oH1 cm1 kd1 vl1 pa1 na1 ty1 fr1 ta1 ou1 wk1 sp1 : Nat → Int32} (hc : c < 32) (hn : zw_num c) (htg : ¬ tg = 0) (hst : ∀ Q : SX → Prop, Q (ln1, ap1, st1, er1, pl1, wt1, wn1, tg1, rf1, dp1, pt1, zs1, te1, pw1, sg1, bg1, dg1, bl1, dw1, es1, ct1, bd1, pr1, lt1, T1, so1, tA1, tB1, tC1, fN1, fO1, fQ1, fS1, tO1, oS1, oT1, oN1, oC1, oE1, oH1, cm1, kd1, vl1, pa1, na1, ty1, fr1, ta1, ou1, wk1, sp1) → wpX_startNumber Q (ln, ap, st, er, pl, wt, wn, tg, rf, dp, pt, zs, te, pw, sg, bg, dg, bl, dw, es, ct, bd, pr, lt, T, so, tA, tB, tC, fN, fO, fQ, fS, tO, oS, oT, oN, oC, oE, oH, cm, kd, vl, pa, na, ty, fr, ta, ou, wk, sp) (nI c)) (h : P (ln1, ap1, st1, er1, pl1, wt1, wn1, tg1, rf1, dp1, pt1, zs1, te1, pw1, sg1, bg1, dg1, bl1, dw1, es1, ct1, bd1, pr1, lt1, T1, so1, tA1, tB1, tC1, fN1, fO1, fQ1, fS1, tO1, oS1, oT1, oN1, oC1, oE1, oH1, cm1, kd1, vl1, pa1, na1, ty1, fr1, ta1, ou1, wk1, sp1)) : wpX_value P (ln, ap, st, er, pl, wt, wn, tg, rf, dp, pt, zs, te, pw, sg, bg, dg, bl, dw, es, ct, bd, pr, lt, T, so, tA, tB, tC, fN, fO, fQ, fS, tO, oS, oT, oN, oC, oE, oH, cm, kd, vl, pa, na, ty, fr, ta, ou, wk, sp) (nI c) := by
  refine xv_57 hc (by unfold zw_num at hn; unfold zw_st; omega) (br_f (by decide) (br_f htg (br_f ?_ (hst _ h))))
  rw [zw_nf_t hn]; decide
theorem zw_kk {yt : Nat → Int32} (hB : zr_Tab so tA tC fN fO fS tO yt) (hw : w < 12) (hu : ¬ zw_und so tA w) : ∃ k, 1 ≤ k ∧ k ≤ 6 ∧ so (zw_in so tA w) = nI k := by
  have hin := zw_in_lt hB hw
  obtain ⟨k, hk, e⟩ := (hB _ hin.1).1
  unfold zw_und at hu
  have n0 : k ≠ 0 := fun z => hu (Or.inl (by rw [e, z]; rfl))
  by_cases c7 : so w = 7
  · have n7 : k ≠ 7 := fun z => hu (Or.inr (Or.inl ⟨c7, Or.inl (by rw [e, z]; rfl)⟩))
    have n8 : k ≠ 8 := fun z => hu (Or.inr (Or.inl ⟨c7, Or.inr (by rw [e, z]; rfl)⟩))
    exact ⟨k, by omega, by omega, e⟩
  · by_cases c8 : so w = 8
    · have h5 : so (zw_in so tA w) = 5 := by
        apply Decidable.byContradiction
        intro z
        exact hu (Or.inr (Or.inr ⟨c8, z⟩))
      have : k = 5 := za_e (b := 5) (e.symm.trans h5) (by omega) (by decide)
      exact ⟨k, by omega, by omega, e⟩
    · have ew : zw_in so tA w = w := by unfold zw_in; rw [if_neg (fun z => z.elim c7 c8)]
      rw [ew] at e
      have n7 : k ≠ 7 := fun z => c7 (by rw [e, z]; rfl)
      have n8 : k ≠ 8 := fun z => c8 (by rw [e, z]; rfl)
      rw [ew]
      exact ⟨k, by omega, by omega, e⟩
theorem xv_245 {yt : Nat → Int32} (hB : zr_Tab so tA tC fN fO fS tO yt) (hc : c < 32) (hw : w < 12) (hu : ¬ zw_und so tA w) (h : wX_value_245 P (nI c) (zw_nf c) (nI (zw_in so tA w)) (so (zw_in so tA w)) (nI (zw_no so w c)) ln ap st er pl (nI w) wn 0 (nI (zw_rf so w c)) dp pt zs te pw sg bg dg bl dw es ct bd pr lt T so tA tB tC fN fO fQ fS tO oS oT oN oC oE oH cm kd vl pa na ty fr ta ou wk sp) : wX_value_57 P (nI c) (zw_nf c) 1 ln ap st er pl (nI w) wn 0 rf dp pt zs te pw sg bg dg bl dw es ct bd pr lt T so tA tB tC fN fO fQ fS tO oS oT oN oC oE oH cm kd vl pa na ty fr ta ou wk sp := by
  have hin := zw_in_lt hB hw
  obtain ⟨k, hk1, hk6, hkk⟩ := zw_kk hB hw hu
  have ww : vp_in (nI w) 12 := vp_in_nI hw (by omega)
  have ew : (nI w).toNatClampNeg = w := nI_clamp (by omega)
  unfold zw_no zw_rf at h
  refine br_f (by decide) (br_t rfl ⟨ww, nm_r (e' := so w) (by rw [ew]) ?_⟩)
  by_cases c8 : so w = 8
  · have h5 : so (zw_in so tA w) = 5 := by
      apply Decidable.byContradiction
      intro z
      exact hu (Or.inr (Or.inr ⟨c8, z⟩))
    have eA := hin.2 (Or.inr c8)
    rw [if_neg (c := so w = 7 ∧ c = 27) (fun z => by rw [c8] at z; exact absurd z.1 (by decide))] at h
    refine br_t c8 (br_f (by rw [c8]; decide) (br_f (by decide) ⟨ww, ?_⟩))
    rw [ew, eA]
    refine ⟨vp_in_nI hin.1 (by omega), nm_r (e' := so (zw_in so tA w)) (by rw [nI_clamp (by omega)]) (br_f (by decide) (br_t h5 (br_f (by decide) (br_f (by decide) ?_))))⟩
    by_cases n : zw_num c
    · rw [if_pos (c := so w = 8 ∧ (c < 10 ∨ c = 17)) ⟨c8, n⟩] at h
      refine br_f (by rw [zw_nf_t n]; decide) ⟨za_nb1, xs_fb1, ww, nm_r (e' := nI (zw_in so tA w)) (by rw [ew, eA]) h⟩
    · rw [if_neg (c := so w = 8 ∧ (c < 10 ∨ c = 17)) (fun z => n z.2)] at h
      refine br_t (zw_nf_f n) ⟨za_nb0, xs_fb0, ww, nm_r (e' := nI (zw_in so tA w)) (by rw [ew, eA]) h⟩
  · rw [if_neg (c := so w = 8 ∧ (c < 10 ∨ c = 17)) (fun z => c8 z.1)] at h
    refine br_f c8 ?_
    by_cases c7 : so w = 7
    · have eA := hin.2 (Or.inl c7)
      refine br_t c7 ⟨ww, ?_⟩
      rw [ew, eA]
      refine ⟨vp_in_nI hin.1 (by omega), nm_r (e' := so (zw_in so tA w)) (by rw [nI_clamp (by omega)]) (br_t rfl (br_f (by rw [hkk]; exact nI_ne0 (by omega) (by omega)) (br_t (by rw [hkk]; exact nI_lt (b := 7) (by omega) (by omega)) (br_t rfl ?_))))⟩
      refine pk_eq c 27 (fun z => ?_) (fun z => ?_)
      · rw [if_pos (c := so w = 7 ∧ c = 27) ⟨c7, z⟩] at h
        exact br_t rfl ⟨za_nb0, xs_fb0, ww, nm_r (e' := nI (zw_in so tA w)) (by rw [ew, eA]) h⟩
      · rw [if_neg (c := so w = 7 ∧ c = 27) (fun y => z y.2)] at h
        exact br_t rfl ⟨za_nb0, xs_fb0, ww, nm_r (e' := nI (zw_in so tA w)) (by rw [ew, eA]) h⟩
    · rw [if_neg (c := so w = 7 ∧ c = 27) (fun z => c7 z.1)] at h
      have ei : zw_in so tA w = w := by unfold zw_in; rw [if_neg (fun z => z.elim c7 c8)]
      rw [ei] at h
      exact br_f c7 (br_t rfl h)
theorem xv_un {yt : Nat → Int32} (hB : zr_Tab so tA tC fN fO fS tO yt) (hc : c < 32) (hs : zw_st c) (hw : w < 12) (hu : zw_und so tA w) (h : P (ln, ap, st, 2, ap, nI w, wn, 0, 0, dp, pt, zs, te, pw, sg, bg, dg, bl, dw, es, ct, bd, pr, lt, T, so, tA, tB, tC, fN, fO, fQ, fS, tO, oS, oT, oN, oC, oE, oH, cm, kd, vl, pa, na, ty, fr, ta, ou, wk, sp)) : wpX_value P (ln, ap, st, er, pl, nI w, wn, 0, rf, dp, pt, zs, te, pw, sg, bg, dg, bl, dw, es, ct, bd, pr, lt, T, so, tA, tB, tC, fN, fO, fQ, fS, tO, oS, oT, oN, oC, oE, oH, cm, kd, vl, pa, na, ty, fr, ta, ou, wk, sp) (nI c) := by
  have hin := zw_in_lt hB hw
  obtain ⟨k, hk8, hkk⟩ := (hB _ hin.1).1
  have ww : vp_in (nI w) 12 := vp_in_nI hw (by omega)
  have ew : (nI w).toNatClampNeg = w := nI_clamp (by omega)
  have k190 : ∀ x4 x6, wX_value_190 P (nI c) (zw_nf c) x4 x6 ln ap st er pl (nI w) wn 0 0 dp pt zs te pw sg bg dg bl dw es ct bd pr lt T so tA tB tC fN fO fQ fS tO oS oT oN oC oE oH cm kd vl pa na ty fr ta ou wk sp := fun x4 x6 => br_t rfl h
  refine xv_57 hc hs (br_f (by decide) (br_t rfl ⟨ww, nm_r (e' := so w) (by rw [ew]) ?_⟩))
  unfold zw_und at hu
  by_cases c8 : so w = 8
  · have eA := hin.2 (Or.inr c8)
    have h5 : ¬ so (zw_in so tA w) = 5 := by
      rcases hu with hu | hu | hu
      · rw [hu]; decide
      · rw [c8] at hu; exact absurd hu.1 (by decide)
      · exact hu.2
    refine br_t c8 (br_f (by rw [c8]; decide) (br_f (by decide) ⟨ww, ?_⟩))
    rw [ew, eA]
    exact ⟨vp_in_nI hin.1 (by omega), nm_r (e' := so (zw_in so tA w)) (by rw [nI_clamp (by omega)]) (br_f (by decide) (br_f h5 (k190 _ _)))⟩
  · refine br_f c8 ?_
    by_cases c7 : so w = 7
    · have eA := hin.2 (Or.inl c7)
      refine br_t c7 ⟨ww, ?_⟩
      rw [ew, eA]
      refine ⟨vp_in_nI hin.1 (by omega), nm_r (e' := so (zw_in so tA w)) (by rw [nI_clamp (by omega)]) (br_t rfl ?_)⟩
      by_cases z0 : so (zw_in so tA w) = 0
      · exact br_t z0 (k190 _ _)
      · refine br_f z0 (br_f ?_ (k190 _ _))
        have h78 : so (zw_in so tA w) = 7 ∨ so (zw_in so tA w) = 8 := by
          rcases hu with hu | hu | hu
          · exact absurd hu z0
          · exact hu.2
          · exact absurd hu.1 c8
        rcases h78 with e | e <;> (rw [e]; decide)
    · have ei : zw_in so tA w = w := by unfold zw_in; rw [if_neg (fun z => z.elim c7 c8)]
      rw [ei] at hu
      have h0 : so w = 0 := by
        rcases hu with hu | hu | hu
        · exact hu
        · exact absurd hu.1 c7
        · exact absurd hu.1 c8
      exact br_f c7 (br_t rfl (br_t h0 h))
theorem xv_fits {P : Int32 → Prop} {k : Nat} (hc : c < 32) (hk1 : 1 ≤ k) (hk6 : k ≤ 6) (h1 : zw_ft k c → P 1) (h0 : ¬ zw_ft k c → P 0) : wpX_fits P (ln, ap, st, er, pl, wt, wn, tg, rf, dp, pt, zs, te, pw, sg, bg, dg, bl, dw, es, ct, bd, pr, lt, T, so, tA, tB, tC, fN, fO, fQ, fS, tO, oS, oT, oN, oC, oE, oH, cm, kd, vl, pa, na, ty, fr, ta, ou, wk, sp) (nI k) (nI c) (zw_nf c) := by
  unfold zw_ft at h1 h0
  refine pk_eq k 1 (fun z => ?_) (fun z => pk_eq k 2 (fun y => pk_eq c 16 (fun x => h1 (by omega)) (fun x => h0 (by omega))) (fun y => pk_eq k 3 (fun x => pk_eq c 28 (fun _ => h1 (by omega)) (fun _ => pk_eq c 29 (fun _ => h1 (by omega)) (fun _ => h0 (by omega)))) (fun x => pk_eq k 4 (fun v => pk_eq c 12 (fun _ => h1 (by omega)) (fun _ => h0 (by omega))) (fun v => pk_eq c 10 (fun _ => h1 (by omega)) (fun _ => h0 (by omega))))))
  by_cases n : zw_num c
  · rw [zw_nf_t n]
    exact ⟨za_nb1, h1 (Or.inl ⟨z, n⟩)⟩
  · rw [zw_nf_f n]
    refine ⟨za_nb0, h0 (fun y => ?_)⟩
    rcases y with y | y | y | y | y
    · exact n y.2
    all_goals omega
/-- whether the type takes such a value -/
theorem zw_rt_ft {k : Nat} (hs : zw_st c) (hk1 : 1 ≤ k) (hk6 : k ≤ 6) (hkk : so (zw_in so tA w) = nI k) (hn : ¬ (so w = 7 ∧ c = 27)) (hr : ¬ (so w = 8 ∧ (c < 10 ∨ c = 17))) : zw_rt so tA w c ↔ zw_ft k c := by
  unfold zw_rt zw_ft
  rw [hkk]
  have q : ∀ m, m < 9 → (nI k = nI m ↔ k = m) := fun m hm => nI_eq (by omega) (by omega)
  have q1 := q 1 (by decide)
  have q2 := q 2 (by decide)
  have q3 := q 3 (by decide)
  have q4 := q 4 (by decide)
  have q5 := q 5 (by decide)
  have q6 := q 6 (by decide)
  constructor
  · intro h
    rcases h with h | ⟨h, h2⟩ | ⟨h, h2⟩ | ⟨h, h2⟩ | ⟨h, h2⟩ | ⟨h, h2⟩
    · exact absurd ⟨h.2, h.1⟩ hn
    · rcases h2 with h2 | h2
      · exact Or.inl ⟨q1.mp h2, h⟩
      · exact absurd ⟨h2, h⟩ hr
    · exact Or.inr (Or.inl ⟨q2.mp h2, h⟩)
    · exact Or.inr (Or.inr (Or.inr (Or.inl ⟨q4.mp h2, h⟩)))
    · rcases h2 with h2 | h2
      · have := q5.mp h2
        exact Or.inr (Or.inr (Or.inr (Or.inr ⟨by omega, h⟩)))
      · have := q6.mp h2
        exact Or.inr (Or.inr (Or.inr (Or.inr ⟨by omega, h⟩)))
    · exact Or.inr (Or.inr (Or.inl ⟨q3.mp h2, h⟩))
  · intro h
    rcases h with ⟨h, h2⟩ | ⟨h, h2⟩ | ⟨h, h2⟩ | ⟨h, h2⟩ | ⟨h, h2⟩
    · exact Or.inr (Or.inl ⟨h2, Or.inl (q1.mpr h)⟩)
    · exact Or.inr (Or.inr (Or.inl ⟨h2, q2.mpr h⟩))
    · exact Or.inr (Or.inr (Or.inr (Or.inr (Or.inr ⟨h2, q3.mpr h⟩))))
    · exact Or.inr (Or.inr (Or.inr (Or.inl ⟨h2, q4.mpr h⟩)))
    · refine Or.inr (Or.inr (Or.inr (Or.inr (Or.inl ⟨h2, ?_⟩))))
      by_cases e : k = 5
      · exact Or.inl (q5.mpr e)
      · exact Or.inr (q6.mpr (by omega))
theorem xv_ty {yt : Nat → Int32} (hB : zr_Tab so tA tC fN fO fS tO yt) (hc : c < 32) (hs : zw_st c) (hw : w < 12) (hu : ¬ zw_und so tA w) (hr : ¬ zw_rt so tA w c) (h : P (ln, ap, st, 3, ap, nI w, wn, 0, nI (zw_rf so w c), dp, pt, zs, te, pw, sg, bg, dg, bl, dw, es, ct, bd, pr, lt, T, so, tA, tB, tC, fN, fO, fQ, fS, tO, oS, oT, oN, oC, oE, oH, cm, kd, vl, pa, na, ty, fr, ta, ou, wk, sp)) : wpX_value P (ln, ap, st, er, pl, nI w, wn, 0, rf, dp, pt, zs, te, pw, sg, bg, dg, bl, dw, es, ct, bd, pr, lt, T, so, tA, tB, tC, fN, fO, fQ, fS, tO, oS, oT, oN, oC, oE, oH, cm, kd, vl, pa, na, ty, fr, ta, ou, wk, sp) (nI c) := by
  obtain ⟨k, hk1, hk6, hkk⟩ := zw_kk hB hw hu
  have hn : ¬ (so w = 7 ∧ c = 27) := fun z => hr (Or.inl ⟨z.2, z.1⟩)
  have hr' : ¬ (so w = 8 ∧ (c < 10 ∨ c = 17)) := fun z => hr (Or.inr (Or.inl ⟨z.2, Or.inr z.1⟩))
  have e1 : zw_no so w c = 0 := if_neg hn
  have e2 : zw_rf so w c = 0 := if_neg hr'
  refine xv_57 hc hs (xv_245 hB hc hw hu ?_)
  rw [e2] at h
  rw [e1, e2, hkk]
  refine br_f (nI_ne0 (by omega) (by omega)) (br_t rfl (br_t rfl (xv_fits hc hk1 hk6 (fun z => ?_) (fun z => br_t rfl h))))
  exact absurd ((zw_rt_ft hs hk1 hk6 hkk hn hr').mpr z) hr
theorem xv_go {yt : Nat → Int32} {k : Nat} (hB : zr_Tab so tA tC fN fO fS tO yt) (hc : c < 32) (hs : zw_st c) (hw : w < 12) (hu : ¬ zw_und so tA w) (hr : zw_rt so tA w c) (hk1 : 1 ≤ k) (hk6 : k ≤ 6) (hkk : so (zw_in so tA w) = nI k) (h : wX_value_297 P (nI c) (nI (zw_in so tA w)) (nI k) (nI (zw_no so w c)) ln ap st er pl (nI w) wn 0 (nI (zw_rf so w c)) dp pt zs te pw sg bg dg bl dw es ct bd pr lt T so tA tB tC fN fO fQ fS tO oS oT oN oC oE oH cm kd vl pa na ty fr ta ou wk sp) : wpX_value P (ln, ap, st, er, pl, nI w, wn, 0, rf, dp, pt, zs, te, pw, sg, bg, dg, bl, dw, es, ct, bd, pr, lt, T, so, tA, tB, tC, fN, fO, fQ, fS, tO, oS, oT, oN, oC, oE, oH, cm, kd, vl, pa, na, ty, fr, ta, ou, wk, sp) (nI c) := by
  refine xv_57 hc hs (xv_245 hB hc hw hu ?_)
  rw [hkk]
  refine br_f (nI_ne0 (by omega) (by omega)) ?_
  by_cases hn : so w = 7 ∧ c = 27
  · have e1 : zw_no so w c = 1 := if_pos hn
    rw [e1] at h ⊢
    exact br_f (by decide) h
  · have e1 : zw_no so w c = 0 := if_neg hn
    rw [e1] at h ⊢
    refine br_t rfl ?_
    by_cases hr' : so w = 8 ∧ (c < 10 ∨ c = 17)
    · have e2 : zw_rf so w c = 1 := if_pos hr'
      rw [e2] at h ⊢
      exact br_f (by decide) h
    · have e2 : zw_rf so w c = 0 := if_neg hr'
      rw [e2] at h ⊢
      refine br_t rfl (xv_fits hc hk1 hk6 (fun z => br_f (by decide) h) (fun z => ?_))
      exact absurd ((zw_rt_ft hs hk1 hk6 hkk hn hr').mp hr) z
end X
end ZW
end
section
/-! X: a node begins -/
section ZO
def zw_pa (oN : Nat → Int32) (d : Nat) : Int32 := if d = 0 then -1 else oN (d - 1)
def zw_oc (oC : Nat → Int32) (d : Nat) : Nat → Int32 := if d = 0 then oC else upd oC (d - 1) (oC (d - 1) + 1)
/-- the list is full -/
def zw_mu (oS oT oC tC : Nat → Int32) (d : Nat) : Prop := 0 < d ∧ oS (d - 1) = 4 ∧ ¬ oC (d - 1) < tC (oT (d - 1)).toNatClampNeg
theorem zw_nd {x : Int32} {d : Nat} (h : x = nI (d + 1)) : x - 1 = nI d := by rw [h]; exact nI_pred d
variable {c a d n s k no rff : Nat} {x4 x5 x6 : Int32} {ln ap st er pl wt wn tg rf dp pt zs te pw sg bg bl dw es ct bd pr lt : Int32} {dg : Int64} {T so tA tB tC fN fO fQ fS tO oS oT oN oC oE oH cm kd vl pa na ty fr ta ou wk sp : Nat → Int32} {P : SX → Prop}
theorem xo_deep (hc : c = 10 ∨ c = 12) (h : P (ln, ap, st, 4, ap, wt, wn, tg, rf, nI 6, pt, zs, te, pw, sg, bg, dg, bl, dw, es, ct, bd, pr, lt, T, so, tA, tB, tC, fN, fO, fQ, fS, tO, oS, oT, oN, oC, oE, oH, cm, kd, vl, pa, na, ty, fr, ta, ou, wk, sp)) : wX_value_297 P (nI c) x4 x5 x6 ln ap st er pl wt wn tg rf (nI 6) pt zs te pw sg bg dg bl dw es ct bd pr lt T so tA tB tC fN fO fQ fS tO oS oT oN oC oE oH cm kd vl pa na ty fr ta ou wk sp := by
  rcases hc with rfl | rfl
  · exact br_t rfl (br_t rfl h)
  · exact br_f (by decide) (br_t rfl (br_t rfl h))
theorem xo_330 (hc : c < 32) (hd : d < 100) (hn : ¬ ((c = 10 ∨ c = 12) ∧ d = 6)) (h : wX_value_330 P (nI c) x4 x5 x6 ln ap st er pl wt wn tg rf (nI d) pt zs te pw sg bg dg bl dw es ct bd pr lt T so tA tB tC fN fO fQ fS tO oS oT oN oC oE oH cm kd vl pa na ty fr ta ou wk sp) : wX_value_297 P (nI c) x4 x5 x6 ln ap st er pl wt wn tg rf (nI d) pt zs te pw sg bg dg bl dw es ct bd pr lt T so tA tB tC fN fO fQ fS tO oS oT oN oC oE oH cm kd vl pa na ty fr ta ou wk sp := by
  have k309 : (c = 10 ∨ c = 12) → wX_value_309 P (nI c) x4 x5 x6 ln ap st er pl wt wn tg rf (nI d) pt zs te pw sg bg dg bl dw es ct bd pr lt T so tA tB tC fN fO fQ fS tO oS oT oN oC oE oH cm kd vl pa na ty fr ta ou wk sp := fun z => br_f (za_ne (b := 6) (by omega) (by omega) (by decide)) h
  exact pk_eq c 10 (fun z => k309 (Or.inl z)) (fun z => pk_eq c 12 (fun y => k309 (Or.inr y)) (fun _ => h))
theorem xo_many (h : P (ln, ap, st, 5, ap, wt, wn, tg, rf, dp, pt, zs, te, pw, sg, bg, dg, bl, dw, es, nI 40, bd, pr, lt, T, so, tA, tB, tC, fN, fO, fQ, fS, tO, oS, oT, oN, oC, oE, oH, cm, kd, vl, pa, na, ty, fr, ta, ou, wk, sp)) : wX_value_330 P (nI c) x4 x5 x6 ln ap st er pl wt wn tg rf dp pt zs te pw sg bg dg bl dw es (nI 40) bd pr lt T so tA tB tC fN fO fQ fS tO oS oT oN oC oE oH cm kd vl pa na ty fr ta ou wk sp := br_t rfl h
theorem xo_tm1 {Q : Int32 → Prop} (hd : d ≤ 6) (hs : 0 < d → oS (d - 1) = 4 → vp_in (oT (d - 1)) 12) (h : zw_mu oS oT oC tC d) (h1 : Q 1) : wpX_tooMuch Q (ln, ap, st, er, pl, wt, wn, tg, rf, nI d, pt, zs, te, pw, sg, bg, dg, bl, dw, es, ct, bd, pr, lt, T, so, tA, tB, tC, fN, fO, fQ, fS, tO, oS, oT, oN, oC, oE, oH, cm, kd, vl, pa, na, ty, fr, ta, ou, wk, sp) := by
  obtain ⟨h0, h4, hc⟩ := h
  obtain ⟨e, rfl⟩ : ∃ e, d = e + 1 := ⟨d - 1, by omega⟩
  rw [Nat.add_sub_cancel] at h4 hc hs
  have w : vp_in (nI e) 6 := vp_in_nI (by omega) (by omega)
  refine nm_r (nI_pred e) (br_f (nI_pos (by omega)) ⟨w, ?_⟩)
  rw [nI_clamp (by omega)]
  exact br_t h4 ⟨w, w, hs (by omega) h4, br_f hc h1⟩
theorem xo_tm0 {Q : Int32 → Prop} (hd : d ≤ 6) (hs : 0 < d → oS (d - 1) = 4 → vp_in (oT (d - 1)) 12) (h : ¬ zw_mu oS oT oC tC d) (h0 : Q 0) : wpX_tooMuch Q (ln, ap, st, er, pl, wt, wn, tg, rf, nI d, pt, zs, te, pw, sg, bg, dg, bl, dw, es, ct, bd, pr, lt, T, so, tA, tB, tC, fN, fO, fQ, fS, tO, oS, oT, oN, oC, oE, oH, cm, kd, vl, pa, na, ty, fr, ta, ou, wk, sp) := by
  by_cases z : d = 0
  · subst z
    exact nm_e (br_t (by decide) h0)
  · obtain ⟨e, rfl⟩ : ∃ e, d = e + 1 := ⟨d - 1, by omega⟩
    unfold zw_mu at h
    rw [Nat.add_sub_cancel] at hs h
    have w : vp_in (nI e) 6 := vp_in_nI (by omega) (by omega)
    refine nm_r (nI_pred e) (br_f (nI_pos (by omega)) ⟨w, ?_⟩)
    rw [nI_clamp (by omega)]
    by_cases h4 : oS e = 4
    · refine br_t h4 ⟨w, w, hs (by omega) h4, br_t ?_ h0⟩
      apply Decidable.byContradiction
      intro y
      exact h ⟨by omega, h4, y⟩
    · exact br_f h4 h0
theorem xo_much (hn : n < 40) (hd : d ≤ 6) (hs : 0 < d → oS (d - 1) = 4 → vp_in (oT (d - 1)) 12) (hm : zw_mu oS oT oC tC d) (h : P (ln, ap, st, 6, ap, wt, wn, tg, rf, nI d, pt, zs, te, pw, sg, bg, dg, bl, dw, es, nI n, bd, pr, lt, T, so, tA, tB, tC, fN, fO, fQ, fS, tO, oS, oT, oN, oC, oE, oH, cm, kd, vl, pa, na, ty, fr, ta, ou, wk, sp)) : wX_value_330 P (nI c) x4 x5 x6 ln ap st er pl wt wn tg rf (nI d) pt zs te pw sg bg dg bl dw es (nI n) bd pr lt T so tA tB tC fN fO fQ fS tO oS oT oN oC oE oH cm kd vl pa na ty fr ta ou wk sp :=
  br_f (za_ne (b := 40) (by omega) (by omega) (by decide)) (xo_tm1 hd hs hm (br_f (by decide) h))
theorem xo_open {ln1 ap1 st1 er1 pl1 wt1 wn1 tg1 rf1 dp1 pt1 zs1 te1 pw1 sg1 bg1 bl1 dw1 es1 ct1 bd1 pr1 lt1 : Int32} {dg1 : Int64} {T1 so1 tA1 tB1 tC1 fN1 fO1 fQ1 fS1 tO1 oS1 oT1 oN1 oC1 oE1 oH1 cm1 kd1 vl1 pa1 na1 ty1 fr1 ta1 ou1 wk1 sp1 : Nat → Int32} (hn : n < 40) (hd : d ≤ 6) (hs : 0 < d → oS (d - 1) = 4 → vp_in (oT (d - 1)) 12) (hm : ¬ zw_mu oS oT oC tC d) (ho : ∀ Q : SX → Prop, Q (ln1, ap1, st1, er1, pl1, wt1, wn1, tg1, rf1, dp1, pt1, zs1, te1, pw1, sg1, bg1, dg1, bl1, dw1, es1, ct1, bd1, pr1, lt1, T1, so1, tA1, tB1, tC1, fN1, fO1, fQ1, fS1, tO1, oS1, oT1, oN1, oC1, oE1, oH1, cm1, kd1, vl1, pa1, na1, ty1, fr1, ta1, ou1, wk1, sp1) → wpX_open Q (ln, ap, st, er, pl, wt, wn, tg, rf, nI d, pt, zs, te, pw, sg, bg, dg, bl, dw, es, nI n, bd, pr, lt, T, so, tA, tB, tC, fN, fO, fQ, fS, tO, oS, oT, oN, oC, oE, oH, cm, kd, vl, pa, na, ty, fr, ta, ou, wk, sp) x4 x5 (nI c) x6) (h : P (ln1, ap1, st1, er1, pl1, wt1, wn1, tg1, rf1, dp1, pt1, zs1, te1, pw1, sg1, bg1, dg1, bl1, dw1, es1, ct1, bd1, pr1, lt1, T1, so1, tA1, tB1, tC1, fN1, fO1, fQ1, fS1, tO1, oS1, oT1, oN1, oC1, oE1, oH1, cm1, kd1, vl1, pa1, na1, ty1, fr1, ta1, ou1, wk1, sp1)) : wX_value_330 P (nI c) x4 x5 x6 ln ap st er pl wt wn tg rf (nI d) pt zs te pw sg bg dg bl dw es (nI n) bd pr lt T so tA tB tC fN fO fQ fS tO oS oT oN oC oE oH cm kd vl pa na ty fr ta ou wk sp :=
  br_f (za_ne (b := 40) (by omega) (by omega) (by decide)) (xo_tm0 hd hs hm (br_t rfl (ho _ h)))
/-- the node's entries -/
theorem xo_94 (hn : n < 40) (hk : k ≤ 8) (hk1 : 1 ≤ k) (hno : no ≤ 1) (hrf : rff ≤ 1)
    (h : wX_open_153 P (nI s) (nI k) (nI c) (nI n) (if c = 28 then 1 else 0) (nI n) ln ap st er pl wt wn tg (nI rff) dp pt zs te pw sg bg dg bl dw es ct bd pr lt T so tA tB tC fN fO fQ fS tO oS oT oN oC oE oH cm (upd kd n (nI (zw_kd no rff k))) vl pa na ty fr ta ou wk sp) (hc : c < 32) : wX_open_94 P (nI s) (nI k) (nI c) (nI no) (nI n) ln ap st er pl wt wn tg (nI rff) dp pt zs te pw sg bg dg bl dw es ct bd pr lt T so tA tB tC fN fO fQ fS tO oS oT oN oC oE oH cm kd vl pa na ty fr ta ou wk sp := by
  have w : vp_in (nI n) 40 := vp_in_nI hn (by omega)
  have e : (nI n).toNatClampNeg = n := nI_clamp (by omega)
  have k134 : ∀ z : Nat, z < 100 → z = zw_kd no rff k → wX_open_134 P (nI s) (nI k) (nI c) (nI n) (nI z) (nI n) ln ap st er pl wt wn tg (nI rff) dp pt zs te pw sg bg dg bl dw es ct bd pr lt T so tA tB tC fN fO fQ fS tO oS oT oN oC oE oH cm kd vl pa na ty fr ta ou wk sp := by
    intro z hz hz2
    subst hz2
    refine ⟨w, nm_r (e' := upd kd n (nI (zw_kd no rff k))) (by rw [e, za_by2 (by omega)]) (pk_eq c 28 (fun y => ?_) (fun y => ?_))⟩
    · rw [if_pos y] at h; exact h
    · rw [if_neg y] at h; exact h
  unfold zw_kd at k134
  refine pk_eq no 0 (fun z => pk_eq rff 0 (fun y => pk_eq k 6 (fun x => ?_) (fun x => ?_)) (fun y => ?_)) (fun z => ?_)
  · exact k134 4 (by decide) (by rw [if_neg (by omega), if_neg (by omega), if_pos x])
  · rw [za_s (by omega)]
    exact k134 (k - 1) (by omega) (by rw [if_neg (by omega), if_neg (by omega), if_neg x])
  · exact k134 6 (by decide) (by rw [if_neg (by omega), if_pos (by omega)])
  · exact k134 5 (by decide) (by rw [if_pos (by omega)])
theorem xo_43 (hn : n < 40) (hs : s < 12) (hk : k ≤ 8) (hk1 : 1 ≤ k) (hno : no ≤ 1) (hrf : rff ≤ 1) (hc : c < 32) (ha : a < 128) (hd : d ≤ 6) (hpa : zb_ok (zw_pa oN d)) (hwn : zb_ok wn) (hoc : 0 < d → ∃ m, m < 120 ∧ oC (d - 1) = nI m)
    (h : wX_open_153 P (nI s) (nI k) (nI c) (nI n) (if c = 28 then 1 else 0) (nI n) ln (nI a) st er pl wt wn tg (nI rff) (nI d) pt zs te pw sg bg dg bl dw es (nI (n + 1)) bd pr lt T so tA tB tC fN fO fQ fS tO oS oT oN (zw_oc oC d) oE oH cm (upd kd n (nI (zw_kd no rff k))) vl (upd pa n (zw_pa oN d)) (upd na n wn) (upd ty n (nI s)) (upd fr n (nI a)) ta ou wk sp) :
    wpX_open P (ln, nI a, st, er, pl, wt, wn, tg, nI rff, nI d, pt, zs, te, pw, sg, bg, dg, bl, dw, es, nI n, bd, pr, lt, T, so, tA, tB, tC, fN, fO, fQ, fS, tO, oS, oT, oN, oC, oE, oH, cm, kd, vl, pa, na, ty, fr, ta, ou, wk, sp) (nI s) (nI k) (nI c) (nI no) := by
  have w : vp_in (nI n) 40 := vp_in_nI hn (by omega)
  have e : (nI n).toNatClampNeg = n := nI_clamp (by omega)
  refine nm_r (nI_1 n) ?_
  by_cases d0 : d = 0
  · subst d0
    have ep : zw_pa oN 0 = -1 := if_pos rfl
    have eo : zw_oc oC 0 = oC := if_pos rfl
    rw [ep, eo] at h
    refine nm_e (br_f (by decide) ⟨w, nm_r (e' := upd pa n (-1)) (by rw [e, za_bym1]) ⟨w, nm_r (e' := upd na n wn) (by rw [e, zb_2 hwn]) ⟨w, nm_r (e' := upd ty n (nI s)) (by rw [e, za_by2 (by omega)]) ⟨w, nm_r (e' := upd fr n (nI a)) (by rw [e, za_by2 ha]) (br_t (by decide) (xo_94 hn hk hk1 hno hrf h hc))⟩⟩⟩⟩)
  · obtain ⟨f, rfl⟩ : ∃ f, d = f + 1 := ⟨d - 1, by omega⟩
    obtain ⟨m, hm, hm2⟩ := hoc (by omega)
    have ep : zw_pa oN (f + 1) = oN f := if_neg (by omega)
    have eo : zw_oc oC (f + 1) = upd oC f (nI (m + 1)) := by
      unfold zw_oc; rw [if_neg (by omega)]
      rw [Nat.add_sub_cancel] at hm2 ⊢
      rw [hm2, nI_1]
    rw [Nat.add_sub_cancel] at hm2
    rw [ep] at hpa
    rw [ep, eo] at h
    have wf : vp_in (nI f) 6 := vp_in_nI (by omega) (by omega)
    have ef : (nI f).toNatClampNeg = f := nI_clamp (by omega)
    refine nm_r (nI_pred f) (br_t (nI_pos' (by omega)) ⟨wf, ?_⟩)
    rw [ef]
    refine ⟨w, nm_r (e' := upd pa n (oN f)) (by rw [e, zb_1 hpa]) ⟨w, nm_r (e' := upd na n wn) (by rw [e, zb_2 hwn]) ⟨w, nm_r (e' := upd ty n (nI s)) (by rw [e, za_by2 (by omega)]) ⟨w, nm_r (e' := upd fr n (nI a)) (by rw [e, za_by2 ha]) (br_f (nI_pos (by omega)) ⟨wf, wf, nm_r (e' := upd oC f (nI (m + 1))) (by rw [ef, hm2, nI_1, za_by2 (by omega)]) (xo_94 hn hk hk1 hno hrf h hc)⟩)⟩⟩⟩⟩
/-! what follows the entries -/
theorem xo_num {ln1 ap1 st1 er1 pl1 wt1 wn1 tg1 rf1 dp1 pt1 zs1 te1 pw1 sg1 bg1 bl1 dw1 es1 ct1 bd1 pr1 lt1 : Int32} {dg1 : Int64} {T1 so1 tA1 tB1 tC1 fN1 fO1 fQ1 fS1 tO1 oS1 oT1 oN1 oC1 oE1 oH1 cm1 kd1 vl1 pa1 na1 ty1 fr1 ta1 ou1 wk1 sp1 : Nat → Int32} {z0 x1 x2 : Int32} (hn : n < 40) (hc : c < 32) (hnum : zw_num c) (hst : ∀ Q : SX → Prop, Q (ln1, ap1, st1, er1, pl1, wt1, wn1, tg1, rf1, dp1, pt1, zs1, te1, pw1, sg1, bg1, dg1, bl1, dw1, es1, ct1, bd1, pr1, lt1, T1, so1, tA1, tB1, tC1, fN1, fO1, fQ1, fS1, tO1, oS1, oT1, oN1, oC1, oE1, oH1, cm1, kd1, vl1, pa1, na1, ty1, fr1, ta1, ou1, wk1, sp1) → wpX_startNumber Q (ln, ap, st, er, pl, wt, wn, tg, rf, dp, pt, zs, te, pw, sg, bg, dg, bl, dw, es, ct, bd, pr, lt, T, so, tA, tB, tC, fN, fO, fQ, fS, tO, oS, oT, oN, oC, oE, oH, cm, kd, upd vl n z0, pa, na, ty, fr, ta, ou, wk, sp) (nI c)) (h : P (ln1, ap1, st1, er1, pl1, wt1, wn1, tg1, rf1, dp1, pt1, zs1, te1, pw1, sg1, bg1, dg1, bl1, dw1, es1, ct1, bd1, pr1, lt1, T1, so1, tA1, tB1, tC1, fN1, fO1, fQ1, fS1, tO1, oS1, oT1, oN1, oC1, oE1, oH1, cm1, kd1, vl1, pa1, na1, ty1, fr1, ta1, ou1, wk1, sp1)) : wX_open_153 P x1 x2 (nI c) (nI n) z0 (nI n) ln ap st er pl wt wn tg rf dp pt zs te pw sg bg dg bl dw es ct bd pr lt T so tA tB tC fN fO fQ fS tO oS oT oN oC oE oH cm kd vl pa na ty fr ta ou wk sp := by
  have e : (nI n).toNatClampNeg = n := nI_clamp (by omega)
  have k166 : wX_open_166 P (nI c) ln ap st er pl wt wn tg rf dp pt zs te pw sg bg dg bl dw es ct bd pr lt T so tA tB tC fN fO fQ fS tO oS oT oN oC oE oH cm kd (upd vl n z0) pa na ty fr ta ou wk sp := by unfold wX_open_166; exact hst _ h
  refine ⟨vp_in_nI hn (by omega), nm_r (e' := upd vl n z0) (by rw [e]) (pk_lt c 10 (fun _ => k166) (fun z => br_t ?_ k166))⟩
  have : c = 17 := by unfold zw_num at hnum; omega
  rw [this]; rfl
theorem xo_str {z0 x1 x2 : Int32} (hn : n < 40) (h : P (ln, nI (a + 1), 3, er, pl, wt, wn, tg, rf, dp, pt, zs, te, pw, 0, bg, dg, bl, dw, 0, ct, bd, pr, lt, T, so, tA, tB, tC, fN, fO, fQ, fS, tO, oS, oT, oN, oC, oE, oH, cm, kd, upd vl n z0, pa, na, ty, fr, ta, ou, wk, sp)) : wX_open_153 P x1 x2 (nI 16) (nI n) z0 (nI n) ln (nI a) st er pl wt wn tg rf dp pt zs te pw sg bg dg bl dw es ct bd pr lt T so tA tB tC fN fO fQ fS tO oS oT oN oC oE oH cm kd vl pa na ty fr ta ou wk sp := by
  have e : (nI n).toNatClampNeg = n := nI_clamp (by omega)
  exact ⟨vp_in_nI hn (by omega), nm_r (e' := upd vl n z0) (by rw [e]) (br_f (by decide) (br_f (by decide) (br_t rfl (nm_r (nI_1 a) h))))⟩
theorem xo_atm {z0 x1 x2 : Int32} (hn : n < 40) (hc : 27 ≤ c) (hc2 : c < 32) (h : P (ln, nI (a + 1), 1, er, pl, wt, wn, tg, rf, dp, pt, zs, te, pw, sg, bg, dg, bl, dw, es, ct, bd, pr, lt, T, so, tA, tB, tC, fN, fO, fQ, fS, tO, oS, oT, oN, oC, oE, oH, cm, kd, upd vl n z0, pa, na, ty, fr, ta, ou, wk, sp)) : wX_open_153 P x1 x2 (nI c) (nI n) z0 (nI n) ln (nI a) st er pl wt wn tg rf dp pt zs te pw sg bg dg bl dw es ct bd pr lt T so tA tB tC fN fO fQ fS tO oS oT oN oC oE oH cm kd vl pa na ty fr ta ou wk sp := by
  have e : (nI n).toNatClampNeg = n := nI_clamp (by omega)
  exact ⟨vp_in_nI hn (by omega), nm_r (e' := upd vl n z0) (by rw [e]) (br_f (nI_nlt (b := 10) (by omega) (by omega)) (br_f (za_ne (b := 17) (by omega) (by omega) (by decide)) (br_f (za_ne (b := 16) (by omega) (by omega) (by decide)) (br_f (nI_ge (a := 26) (by omega) (by omega)) (nm_r (nI_1 a) h)))))⟩
theorem xo_ins {ln1 ap1 st1 er1 pl1 wt1 wn1 tg1 rf1 dp1 pt1 zs1 te1 pw1 sg1 bg1 bl1 dw1 es1 ct1 bd1 pr1 lt1 : Int32} {dg1 : Int64} {T1 so1 tA1 tB1 tC1 fN1 fO1 fQ1 fS1 tO1 oS1 oT1 oN1 oC1 oE1 oH1 cm1 kd1 vl1 pa1 na1 ty1 fr1 ta1 ou1 wk1 sp1 : Nat → Int32} {z0 : Int32} (hn : n < 40) (hc : c = 10 ∨ c = 12) (ho : ∀ Q : SX → Prop, Q (ln1, ap1, st1, er1, pl1, wt1, wn1, tg1, rf1, dp1, pt1, zs1, te1, pw1, sg1, bg1, dg1, bl1, dw1, es1, ct1, bd1, pr1, lt1, T1, so1, tA1, tB1, tC1, fN1, fO1, fQ1, fS1, tO1, oS1, oT1, oN1, oC1, oE1, oH1, cm1, kd1, vl1, pa1, na1, ty1, fr1, ta1, ou1, wk1, sp1) → wpX_openInside Q (ln, ap, st, er, pl, wt, wn, tg, rf, dp, pt, zs, te, pw, sg, bg, dg, bl, dw, es, ct, bd, pr, lt, T, so, tA, tB, tC, fN, fO, fQ, fS, tO, oS, oT, oN, oC, oE, oH, cm, kd, upd vl n z0, pa, na, ty, fr, ta, ou, wk, sp) (nI n) (nI s) (nI k)) (h : P (ln1, ap1, st1, er1, pl1, wt1, wn1, tg1, rf1, dp1, pt1, zs1, te1, pw1, sg1, bg1, dg1, bl1, dw1, es1, ct1, bd1, pr1, lt1, T1, so1, tA1, tB1, tC1, fN1, fO1, fQ1, fS1, tO1, oS1, oT1, oN1, oC1, oE1, oH1, cm1, kd1, vl1, pa1, na1, ty1, fr1, ta1, ou1, wk1, sp1)) : wX_open_153 P (nI s) (nI k) (nI c) (nI n) z0 (nI n) ln ap st er pl wt wn tg rf dp pt zs te pw sg bg dg bl dw es ct bd pr lt T so tA tB tC fN fO fQ fS tO oS oT oN oC oE oH cm kd vl pa na ty fr ta ou wk sp := by
  have e : (nI n).toNatClampNeg = n := nI_clamp (by omega)
  rcases hc with rfl | rfl
  · exact ⟨vp_in_nI hn (by omega), nm_r (e' := upd vl n z0) (by rw [e]) (br_f (by decide) (br_f (by decide) (br_f (by decide) (br_t (by decide) (ho _ h)))))⟩
  · exact ⟨vp_in_nI hn (by omega), nm_r (e' := upd vl n z0) (by rw [e]) (br_f (by decide) (br_f (by decide) (br_f (by decide) (br_t (by decide) (ho _ h)))))⟩
/-- what is opened -/
theorem xo_inside (hn : n < 40) (hs : s < 12) (hd : d < 6) (hk : k = 4 ∨ k = 5 ∨ k = 6)
    (h4 : k = 4 → P (ln, nI (a + 1), 8, er, pl, tA s, 0, tg, rf, nI (d + 1), pt, zs, te, pw, sg, bg, dg, bl, dw, es, ct, bd, pr, lt, T, so, tA, tB, tC, fN, fO, fQ, fS, tO, upd oS d (nI 4), upd oT d (nI s), upd oN d (nI n), upd oC d 0, upd oE d 0, upd oH d (-1), cm, kd, vl, pa, na, ty, fr, upd ta n (-1), ou, wk, sp))
    (h5 : k = 5 → P (ln, nI (a + 1), 5, er, pl, wt, wn, tg, rf, nI (d + 1), pt, zs, te, pw, sg, bg, dg, bl, dw, es, ct, bd, pr, lt, T, so, tA, tB, tC, fN, fO, fQ, fS, tO, upd oS d (nI 5), upd oT d (nI s), upd oN d (nI n), upd oC d 0, upd oE d 0, upd oH d (-1), cm, kd, upd vl n (cm s), pa, na, ty, fr, upd ta n (-1), ou, wk, sp))
    (h6 : k = 6 → P (ln, nI (a + 1), 5, er, pl, wt, wn, tg, rf, nI (d + 1), pt, zs, te, pw, sg, bg, dg, bl, dw, es, ct, bd, pr, lt, T, so, tA, tB, tC, fN, fO, fQ, fS, tO, upd oS d (nI 6), upd oT d (nI s), upd oN d (nI n), upd oC d 0, upd oE d 0, upd oH d (nI s), cm, kd, vl, pa, na, ty, fr, upd ta n (-1), ou, wk, sp)) :
    wpX_openInside P (ln, nI a, st, er, pl, wt, wn, tg, rf, nI d, pt, zs, te, pw, sg, bg, dg, bl, dw, es, ct, bd, pr, lt, T, so, tA, tB, tC, fN, fO, fQ, fS, tO, oS, oT, oN, oC, oE, oH, cm, kd, vl, pa, na, ty, fr, ta, ou, wk, sp) (nI n) (nI s) (nI k) := by
  have w : vp_in (nI d) 6 := vp_in_nI hd (by omega)
  have e : (nI d).toNatClampNeg = d := nI_clamp (by omega)
  have en : (nI n).toNatClampNeg = n := nI_clamp (by omega)
  have wn' : vp_in (nI n) 40 := vp_in_nI hn (by omega)
  refine ⟨w, nm_r (e' := upd oS d (nI k)) (by rw [e, za_by2 (by omega)]) ⟨w, nm_r (e' := upd oT d (nI s)) (by rw [e, za_by2 (by omega)]) ⟨w, nm_r (e' := upd oN d (nI n)) (by rw [e, za_by2 (by omega)]) ⟨w, nm_r (e' := upd oC d 0) (by rw [e, ze_b0]) ⟨w, nm_r (e' := upd oE d 0) (by rw [e, ze_b0]) ?_⟩⟩⟩⟩⟩
  rcases hk with rfl | rfl | rfl
  · refine br_f (by decide) ⟨w, nm_r (e' := upd oH d (-1)) (by rw [e, za_bym]) (nm_r (nI_1 d) (br_f (by decide) ⟨wn', nm_r (e' := upd ta n (-1)) (by rw [en, za_bym1]) (br_t rfl (xa_elem (s := s) hd hs pk_us (br_t rfl (nm_r (nI_1 a) ?_))))⟩))⟩
    rw [pk_us]; exact h4 rfl
  · exact br_f (by decide) ⟨w, nm_r (e' := upd oH d (-1)) (by rw [e, za_bym]) (nm_r (nI_1 d) (br_t rfl ⟨vp_in_nI hs (by omega), wn', nm_r (e' := upd vl n (cm s)) (by rw [en, nI_clamp (by omega)]) ⟨wn', nm_r (e' := upd ta n (-1)) (by rw [en, za_bym1]) (br_f (by decide) (br_f (by decide) (nm_r (nI_1 a) (h5 rfl))))⟩⟩))⟩
  · exact br_t rfl ⟨w, nm_r (e' := upd oH d (nI s)) (by rw [e, za_by2 (by omega)]) (nm_r (nI_1 d) (br_f (by decide) ⟨wn', nm_r (e' := upd ta n (-1)) (by rw [en, za_bym1]) (br_f (by decide) (br_f (by decide) (nm_r (nI_1 a) (h6 rfl))))⟩))⟩
end ZO
end
section
/-! the reference: a value is bound -/
section ZYV
def yv_7 (so : Nat → Int32) (w : Nat) : Int32 := if so w = 7 then 1 else 0
def yv_8 (so : Nat → Int32) (w : Nat) : Int32 := if so w = 8 then 1 else 0
/-- where the value stands: at the top, in a record, in a list -/
def yv_cx (kd yT : Nat → Int32) (d : Nat) (x3 : Int32) : Prop := x3 = -1 ∨ ∃ j, j < 40 ∧ x3 = nI j ∧ (¬ kd j = 3 ∨ (0 < d ∧ vp_in (yT (d - 1)) 12))
def yv_mu (kd yT tC : Nat → Int32) (d : Nat) (x3 x4 : Int32) : Prop := ∃ j, j < 40 ∧ x3 = nI j ∧ kd j = 3 ∧ ¬ x4 < tC (yT (d - 1)).toNatClampNeg
variable {k q c w d n s kk : Nat} {x3 x4 x5 x7 x8 x9 x10 x11 : Int32} {ln ps ba ct fl yp yb dp nn wN wT pr wg sc : Int32} {so tA tB tC fN fO fS yt fQ T be en ins wh kd yv pa na ty fr cm oN yT yC yE oH ou td : Nat → Int32} {P : SY → Prop}
section F
/-! behind a fault nothing happens -/
theorem yv_f316 (hd : d ≤ 6) (hx : yv_cx kd yT d x3) (hf : ¬ fl = 0) (h : P (ln, ps, ba, ct, fl, yp, yb, nI d, nn, wN, wT, pr, wg, sc, so, tA, tB, tC, fN, fO, fS, yt, fQ, T, be, en, ins, wh, kd, yv, pa, na, ty, fr, cm, oN, yT, yC, yE, oH, ou, td)) : wY_bindValue_316 P (nI k) x3 x4 x5 (nI c) x7 x8 x10 x11 ln ps ba ct fl yp yb (nI d) nn wN wT pr wg sc so tA tB tC fN fO fS yt fQ T be en ins wh kd yv pa na ty fr cm oN yT yC yE oH ou td := by
  have k359 : wY_bindValue_359 P (nI k) x3 x4 x5 (nI c) x7 x8 x10 x11 ln ps ba ct fl yp yb (nI d) nn wN wT pr wg sc so tA tB tC fN fO fS yt fQ T be en ins wh kd yv pa na ty fr cm oN yT yC yE oH ou td := br_f hf h
  rcases hx with rfl | ⟨j, hj, rfl, hk⟩
  · exact br_t (by decide) k359
  · refine br_f (nI_pos (by omega)) ⟨vp_in_nI hj (by omega), ?_⟩
    rw [nI_clamp (n := j) (by omega)]
    by_cases h3 : kd j = 3
    · obtain ⟨h0, hv⟩ := hk.resolve_left (fun z => z h3)
      obtain ⟨e, rfl⟩ : ∃ e, d = e + 1 := ⟨d - 1, by omega⟩
      rw [Nat.add_sub_cancel] at hv
      refine br_t h3 ?_
      rw [nI_pred, nI_clamp (n := e) (by omega)]
      exact ⟨vp_in_nI (by omega) (by omega), hv, br_c (fun _ => k359) (fun _ => br_f hf k359)⟩
    · exact br_f h3 k359
theorem yv_f300 (hd : d ≤ 6) (hx : yv_cx kd yT d x3) (hf : ¬ fl = 0) (h : P (ln, ps, ba, ct, fl, yp, yb, nI d, nn, wN, wT, pr, wg, sc, so, tA, tB, tC, fN, fO, fS, yt, fQ, T, be, en, ins, wh, kd, yv, pa, na, ty, fr, cm, oN, yT, yC, yE, oH, ou, td)) : wY_bindValue_300 P (nI k) x3 x4 x5 (nI c) x7 x8 x10 x11 ln ps ba ct fl yp yb (nI d) nn wN wT pr wg sc so tA tB tC fN fO fS yt fQ T be en ins wh kd yv pa na ty fr cm oN yT yC yE oH ou td :=
  br_c (fun _ => br_f hf (yv_f316 hd hx hf h)) (fun _ => yv_f316 hd hx hf h)
theorem yv_f271 (hd : d ≤ 6) (hx : yv_cx kd yT d x3) (hf : ¬ fl = 0) (h : P (ln, ps, ba, ct, fl, yp, yb, nI d, nn, wN, wT, pr, wg, sc, so, tA, tB, tC, fN, fO, fS, yt, fQ, T, be, en, ins, wh, kd, yv, pa, na, ty, fr, cm, oN, yT, yC, yE, oH, ou, td)) : wY_bindValue_271 P (nI k) x3 x4 x5 (nI c) x7 x8 x10 x11 ln ps ba ct fl yp yb (nI d) nn wN wT pr wg sc so tA tB tC fN fO fS yt fQ T be en ins wh kd yv pa na ty fr cm oN yT yC yE oH ou td := by
  have k285 : wY_bindValue_285 P (nI k) x3 x4 x5 (nI c) x7 x8 x10 x11 ln ps ba ct fl yp yb (nI d) nn wN wT pr wg sc so tA tB tC fN fO fS yt fQ T be en ins wh kd yv pa na ty fr cm oN yT yC yE oH ou td := br_c (fun _ => yv_f300 hd hx hf h) (fun _ => br_f hf (yv_f300 hd hx hf h))
  exact br_c (fun _ => k285) (fun _ => br_c (fun _ => k285) (fun _ => yv_f300 hd hx hf h))
theorem yv_f257 {z : Int32} (hd : d ≤ 6) (hx : yv_cx kd yT d x3) (hf : ¬ fl = 0) (h : P (ln, ps, ba, ct, fl, yp, yb, nI d, nn, wN, wT, pr, wg, sc, so, tA, tB, tC, fN, fO, fS, yt, fQ, T, be, en, ins, wh, kd, yv, pa, na, ty, fr, cm, oN, yT, yC, yE, oH, ou, td)) : wY_bindValue_257 P (nI k) x3 x4 x5 (nI c) x7 x8 x10 x11 z ln ps ba ct fl yp yb (nI d) nn wN wT pr wg sc so tA tB tC fN fO fS yt fQ T be en ins wh kd yv pa na ty fr cm oN yT yC yE oH ou td :=
  br_c (fun _ => br_f hf (yv_f271 hd hx hf h)) (fun _ => yv_f271 hd hx hf h)
theorem yv_f140 (hd : d ≤ 6) (hx : yv_cx kd yT d x3) (hf : ¬ fl = 0) (h : P (ln, ps, ba, ct, fl, yp, yb, nI d, nn, wN, wT, pr, wg, sc, so, tA, tB, tC, fN, fO, fS, yt, fQ, T, be, en, ins, wh, kd, yv, pa, na, ty, fr, cm, oN, yT, yC, yE, oH, ou, td)) : wY_bindValue_140 P (nI k) x3 x4 x5 (nI c) x7 x8 x9 x10 x11 ln ps ba ct fl yp yb (nI d) nn wN wT pr wg sc so tA tB tC fN fO fS yt fQ T be en ins wh kd yv pa na ty fr cm oN yT yC yE oH ou td := by
  have g : ∀ z, wY_bindValue_257 P (nI k) x3 x4 x5 (nI c) x7 x8 x10 x11 z ln ps ba ct fl yp yb (nI d) nn wN wT pr wg sc so tA tB tC fN fO fS yt fQ T be en ins wh kd yv pa na ty fr cm oN yT yC yE oH ou td := fun z => yv_f257 hd hx hf h
  exact br_c (fun _ => g _) (fun _ => br_c (fun _ => br_c (fun _ => br_c (fun _ => g _) (fun _ => g _)) (fun _ => br_c (fun _ => br_c (fun _ => g _) (fun _ => g _)) (fun _ => br_c (fun _ => br_c (fun _ => g _) (fun _ => br_c (fun _ => g _) (fun _ => g _))) (fun _ => br_c (fun _ => g _) (fun _ => g _))))) (fun _ => br_c (fun _ => g _) (fun _ => br_c (fun _ => g _) (fun _ => g _))))
end F
theorem yv_wr {Q : Int32 → Prop} (hw : w < 12) (h1 : so w = 7 ∨ so w = 8 → Q 1) (h0 : ¬ (so w = 7 ∨ so w = 8) → Q 0) : wpY_wrapped Q (ln, ps, ba, ct, fl, yp, yb, dp, nn, wN, wT, pr, wg, sc, so, tA, tB, tC, fN, fO, fS, yt, fQ, T, be, en, ins, wh, kd, yv, pa, na, ty, fr, cm, oN, yT, yC, yE, oH, ou, td) (nI w) := by
  have v : vp_in (nI w) 12 := vp_in_nI hw (by omega)
  have e : (nI w).toNatClampNeg = w := nI_clamp (by omega)
  refine ⟨v, ?_⟩
  rw [e]
  by_cases c7 : so w = 7
  · exact br_t c7 (h1 (Or.inl c7))
  · refine br_f c7 ⟨v, ?_⟩
    by_cases c8 : so w = 8
    · exact br_t c8 (h1 (Or.inr c8))
    · exact br_f c8 (h0 (fun z => z.elim c7 c8))
theorem yv_101 {tO : Nat → Int32} (hB : zr_Tab so tA tC fN fO fS tO yt) (hk : k < 96) (hb : be k = nI q) (hq : q < 96) (hc : T q = nI c) (hc2 : c < 32) (hw : w < 12) (h : wY_bindValue_101 P (nI k) x3 x4 (nI q) (nI c) (nI (zw_in so tA w)) (so (zw_in so tA w)) (yv_7 so w) (yv_8 so w) (zw_nf c) ln ps ba ct fl yp yb dp nn wN wT pr wg sc so tA tB tC fN fO fS yt fQ T be en ins wh kd yv pa na ty fr cm oN yT yC yE oH ou td) : wpY_bindValue P (ln, ps, ba, ct, fl, yp, yb, dp, nn, wN, wT, pr, wg, sc, so, tA, tB, tC, fN, fO, fS, yt, fQ, T, be, en, ins, wh, kd, yv, pa, na, ty, fr, cm, oN, yT, yC, yE, oH, ou, td) (nI k) (nI w) x3 x4 := by
  have hin := zw_in_lt hB hw
  have ww : vp_in (nI w) 12 := vp_in_nI hw (by omega)
  have ew : (nI w).toNatClampNeg = w := nI_clamp (by omega)
  have k80 : ∀ z9 z10, z9 = yv_7 so w → z10 = yv_8 so w → wY_bindValue_80 P (nI k) x3 x4 (nI q) (nI c) (nI (zw_in so tA w)) (so (zw_in so tA w)) z9 z10 ln ps ba ct fl yp yb dp nn wN wT pr wg sc so tA tB tC fN fO fS yt fQ T be en ins wh kd yv pa na ty fr cm oN yT yC yE oH ou td := by
    rintro z9 z10 rfl rfl
    by_cases n1 : c < 10
    · rw [zw_nf_t (Or.inl n1)] at h
      exact br_t (nI_lt (b := 10) n1 (by omega)) h
    · refine br_f (nI_nlt (b := 10) (by omega) (by omega)) ?_
      by_cases n2 : c = 17
      · rw [zw_nf_t (Or.inr n2)] at h
        exact br_t (by rw [n2]; rfl) h
      · rw [zw_nf_f (fun z => by unfold zw_num at z; omega)] at h
        exact br_f (za_ne (b := 17) n2 (by omega) (by decide)) h
  have k62 : ∀ z9, z9 = yv_7 so w → wY_bindValue_62 P (nI k) (nI w) x3 x4 (nI q) (nI c) (nI (zw_in so tA w)) (so (zw_in so tA w)) z9 ln ps ba ct fl yp yb dp nn wN wT pr wg sc so tA tB tC fN fO fS yt fQ T be en ins wh kd yv pa na ty fr cm oN yT yC yE oH ou td := by
    intro z9 h9
    refine ⟨ww, ?_⟩
    rw [ew]
    by_cases c8 : so w = 8
    · exact br_t c8 (k80 z9 1 h9 (if_pos c8).symm)
    · exact br_f c8 (k80 z9 0 h9 (if_neg c8).symm)
  have k35 : wY_bindValue_35 P (nI k) (nI w) x3 x4 (nI q) (nI c) (nI (zw_in so tA w)) ln ps ba ct fl yp yb dp nn wN wT pr wg sc so tA tB tC fN fO fS yt fQ T be en ins wh kd yv pa na ty fr cm oN yT yC yE oH ou td := by
    refine ⟨vp_in_nI hin.1 (by omega), nm_r (e' := so (zw_in so tA w)) (by rw [nI_clamp (by omega)]) ⟨ww, ?_⟩⟩
    rw [ew]
    by_cases c7 : so w = 7
    · exact br_t c7 (k62 1 (if_pos c7).symm)
    · exact br_f c7 (k62 0 (if_neg c7).symm)
  refine ⟨vp_in_nI hk (by omega), nm_r (e' := nI q) (by rw [nI_clamp (by omega), hb]) ⟨vp_in_nI hq (by omega), nm_r (e' := nI c) (by rw [nI_clamp (by omega), hc]) (yv_wr hw (fun z => br_f (by decide) ⟨ww, ?_⟩) (fun z => br_t rfl ?_))⟩⟩
  · rw [ew, hin.2 z]; exact k35
  · have ei : zw_in so tA w = w := by unfold zw_in; rw [if_neg z]
    rw [ei] at k35
    exact k35
theorem yv_un {tO : Nat → Int32} (hB : zr_Tab so tA tC fN fO fS tO yt) (hk : k < 96) (hb : be k = nI q) (hq : q < 96) (hc : T q = nI c) (hc2 : c < 32) (hw : w < 12) (hd : d ≤ 6) (hx : yv_cx kd yT d x3) (hu : zw_und so tA w) (h : P (ln, ps, ba, ct, 2, nI q, yb, nI d, nn, wN, wT, pr, wg, sc, so, tA, tB, tC, fN, fO, fS, yt, fQ, T, be, en, ins, wh, kd, yv, pa, na, ty, fr, cm, oN, yT, yC, yE, oH, ou, td)) : wpY_bindValue P (ln, ps, ba, ct, 0, yp, yb, nI d, nn, wN, wT, pr, wg, sc, so, tA, tB, tC, fN, fO, fS, yt, fQ, T, be, en, ins, wh, kd, yv, pa, na, ty, fr, cm, oN, yT, yC, yE, oH, ou, td) (nI k) (nI w) x3 x4 := by
  have hin := zw_in_lt hB hw
  refine yv_101 hB hk hb hq hc hc2 hw ?_
  have k133 : ∀ x9 x10 x11, wY_bindValue_133 P (nI k) x3 x4 (nI q) (nI c) (nI (zw_in so tA w)) (so (zw_in so tA w)) x9 x10 x11 ln ps ba ct 0 yp yb (nI d) nn wN wT pr wg sc so tA tB tC fN fO fS yt fQ T be en ins wh kd yv pa na ty fr cm oN yT yC yE oH ou td := fun x9 x10 x11 => br_t rfl (yv_f140 hd hx (by decide) h)
  by_cases z0 : so (zw_in so tA w) = 0
  · exact br_t z0 (k133 _ _ _)
  · refine br_f z0 ?_
    unfold zw_und at hu
    rcases hu with hu | ⟨h7, hu⟩ | ⟨h8, hu⟩
    · exact absurd hu z0
    · have e7 : yv_7 so w = 1 := if_pos h7
      rw [e7]
      exact br_f (by decide) (yv_wr hin.1 (fun _ => br_f (by decide) (k133 _ _ _)) (fun z => absurd hu z))
    · have e7 : yv_7 so w = 0 := if_neg (fun z => by rw [h8] at z; exact absurd z (by decide))
      have e8 : yv_8 so w = 1 := if_pos h8
      rw [e7, e8]
      exact br_t rfl (br_f (by decide) (br_f hu (k133 _ _ _)))
theorem yv_140 {tO : Nat → Int32} (hB : zr_Tab so tA tC fN fO fS tO yt) (hk : k < 96) (hb : be k = nI q) (hq : q < 96) (hc : T q = nI c) (hc2 : c < 32) (hw : w < 12) (hu : ¬ zw_und so tA w) (h : wY_bindValue_140 P (nI k) x3 x4 (nI q) (nI c) (nI (zw_in so tA w)) (so (zw_in so tA w)) (yv_7 so w) (yv_8 so w) (zw_nf c) ln ps ba ct fl yp yb dp nn wN wT pr wg sc so tA tB tC fN fO fS yt fQ T be en ins wh kd yv pa na ty fr cm oN yT yC yE oH ou td) : wpY_bindValue P (ln, ps, ba, ct, fl, yp, yb, dp, nn, wN, wT, pr, wg, sc, so, tA, tB, tC, fN, fO, fS, yt, fQ, T, be, en, ins, wh, kd, yv, pa, na, ty, fr, cm, oN, yT, yC, yE, oH, ou, td) (nI k) (nI w) x3 x4 := by
  have hin := zw_in_lt hB hw
  refine yv_101 hB hk hb hq hc hc2 hw (br_f (fun z => hu (Or.inl z)) ?_)
  have k122 : wY_bindValue_122 P (nI k) x3 x4 (nI q) (nI c) (nI (zw_in so tA w)) (so (zw_in so tA w)) (yv_7 so w) (yv_8 so w) (zw_nf c) ln ps ba ct fl yp yb dp nn wN wT pr wg sc so tA tB tC fN fO fS yt fQ T be en ins wh kd yv pa na ty fr cm oN yT yC yE oH ou td := by
    by_cases c8 : so w = 8
    · have e8 : yv_8 so w = 1 := if_pos c8
      rw [e8] at h ⊢
      refine br_f (by decide) (br_t ?_ h)
      apply Decidable.byContradiction
      intro z
      exact hu (Or.inr (Or.inr ⟨c8, z⟩))
    · have e8 : yv_8 so w = 0 := if_neg c8
      rw [e8] at h ⊢
      exact br_t rfl h
  by_cases c7 : so w = 7
  · have e7 : yv_7 so w = 1 := if_pos c7
    rw [e7] at k122 ⊢
    exact br_f (by decide) (yv_wr hin.1 (fun z => absurd (Or.inr (Or.inl ⟨c7, z⟩)) hu) (fun z => br_t rfl k122))
  · have e7 : yv_7 so w = 0 := if_neg c7
    rw [e7] at k122 ⊢
    exact br_t rfl k122
/-- right or not -/
theorem yv_rt (hc2 : c < 32) (hs : zw_st c) (ht : zw_rt so tA w c → ∀ z, ¬ z = 0 → wY_bindValue_257 P (nI k) x3 x4 x5 (nI c) x7 (so (zw_in so tA w)) (yv_8 so w) (zw_nf c) z ln ps ba ct fl yp yb dp nn wN wT pr wg sc so tA tB tC fN fO fS yt fQ T be en ins wh kd yv pa na ty fr cm oN yT yC yE oH ou td) (hf : ¬ zw_rt so tA w c → wY_bindValue_257 P (nI k) x3 x4 x5 (nI c) x7 (so (zw_in so tA w)) (yv_8 so w) (zw_nf c) 0 ln ps ba ct fl yp yb dp nn wN wT pr wg sc so tA tB tC fN fO fS yt fQ T be en ins wh kd yv pa na ty fr cm oN yT yC yE oH ou td) :
    wY_bindValue_140 P (nI k) x3 x4 x5 (nI c) x7 (so (zw_in so tA w)) (yv_7 so w) (yv_8 so w) (zw_nf c) ln ps ba ct fl yp yb dp nn wN wT pr wg sc so tA tB tC fN fO fS yt fQ T be en ins wh kd yv pa na ty fr cm oN yT yC yE oH ou td := by
  have o1 : ¬ (1 : Int32) = 0 := by decide
  have nn27 : ∀ m : Nat, m < 27 → ¬ zw_num 27 := fun _ _ z => by unfold zw_num at z; omega
  refine pk_eq c 27 (fun c27 => ?_) (fun c27 => ?_)
  · subst c27
    by_cases c7 : so w = 7
    · have e7 : yv_7 so w = 1 := if_pos c7
      rw [e7]
      exact ht (Or.inl ⟨rfl, c7⟩) 1 o1
    · have e7 : yv_7 so w = 0 := if_neg c7
      rw [e7]
      refine hf (fun z => ?_)
      unfold zw_rt zw_num at z
      rcases z with z | z | z | z | z | z
      · exact c7 z.2
      · omega
      · omega
      · omega
      · omega
      · omega
  · by_cases n : zw_num c
    · have en := zw_nf_t n
      rw [en] at ht hf ⊢
      refine br_f o1 ?_
      by_cases s1 : so (zw_in so tA w) = 1
      · exact br_t s1 (ht (Or.inr (Or.inl ⟨n, Or.inl s1⟩)) 1 o1)
      · refine br_f s1 ?_
        by_cases c8 : so w = 8
        · have e8 : yv_8 so w = 1 := if_pos c8
          rw [e8] at ht ⊢
          exact br_f o1 (ht (Or.inr (Or.inl ⟨n, Or.inr c8⟩)) 1 o1)
        · have e8 : yv_8 so w = 0 := if_neg c8
          rw [e8] at hf ⊢
          refine br_t rfl (hf (fun z => ?_))
          unfold zw_rt at z
          unfold zw_num at n
          rcases z with z | z | z | z | z | z
          · exact c27 z.1
          · exact z.2.elim s1 c8
          · omega
          · omega
          · omega
          · omega
    · have en := zw_nf_f n
      rw [en] at ht hf ⊢
      have nr : ∀ {Q : Prop}, zw_rt so tA w c → ((c = 16 ∧ so (zw_in so tA w) = 2) ∨ (c = 12 ∧ so (zw_in so tA w) = 4) ∨ (c = 10 ∧ (so (zw_in so tA w) = 5 ∨ so (zw_in so tA w) = 6)) ∨ ((c = 28 ∨ c = 29) ∧ so (zw_in so tA w) = 3) → Q) → Q := by
        intro Q z g
        unfold zw_rt at z
        rcases z with z | z | z
        · exact absurd z.1 c27
        · exact absurd z.1 n
        · exact g z
      refine br_t rfl (pk_eq c 16 (fun c16 => ?_) (fun c16 => pk_eq c 12 (fun c12 => ?_) (fun c12 => pk_eq c 10 (fun c10 => ?_) (fun c10 => ?_))))
      · by_cases s2 : so (zw_in so tA w) = 2
        · exact br_t s2 (ht (Or.inr (Or.inr (Or.inl ⟨c16, s2⟩))) 1 o1)
        · refine br_f s2 (hf (fun z => nr z (fun y => ?_)))
          rcases y with y | y | y | y
          · exact s2 y.2
          · omega
          · omega
          · omega
      · by_cases s4 : so (zw_in so tA w) = 4
        · exact br_t s4 (ht (Or.inr (Or.inr (Or.inr (Or.inl ⟨c12, s4⟩)))) 1 o1)
        · refine br_f s4 (hf (fun z => nr z (fun y => ?_)))
          rcases y with y | y | y | y
          · omega
          · exact s4 y.2
          · omega
          · omega
      · by_cases s5 : so (zw_in so tA w) = 5
        · exact br_t s5 (ht (Or.inr (Or.inr (Or.inr (Or.inr (Or.inl ⟨c10, Or.inl s5⟩))))) 1 o1)
        · refine br_f s5 ?_
          by_cases s6 : so (zw_in so tA w) = 6
          · exact br_t s6 (ht (Or.inr (Or.inr (Or.inr (Or.inr (Or.inl ⟨c10, Or.inr s6⟩))))) 1 o1)
          · refine br_f s6 (hf (fun z => nr z (fun y => ?_)))
            rcases y with y | y | y | y
            · omega
            · omega
            · exact y.2.elim s5 s6
            · omega
      · have c89 : c = 28 ∨ c = 29 := by unfold zw_st at hs; unfold zw_num at n; omega
        by_cases s3 : so (zw_in so tA w) = 3
        · exact br_t s3 (ht (Or.inr (Or.inr (Or.inr (Or.inr (Or.inr ⟨c89, s3⟩))))) 1 o1)
        · refine br_f s3 (hf (fun z => nr z (fun y => ?_)))
          rcases y with y | y | y | y
          · omega
          · omega
          · omega
          · exact s3 y.2
theorem yv_ty {tO : Nat → Int32} (hB : zr_Tab so tA tC fN fO fS tO yt) (hk : k < 96) (hb : be k = nI q) (hq : q < 96) (hc : T q = nI c) (hc2 : c < 32) (hs : zw_st c) (hw : w < 12) (hd : d ≤ 6) (hx : yv_cx kd yT d x3) (hu : ¬ zw_und so tA w) (hr : ¬ zw_rt so tA w c) (h : P (ln, ps, ba, ct, 3, nI q, yb, nI d, nn, wN, wT, pr, wg, sc, so, tA, tB, tC, fN, fO, fS, yt, fQ, T, be, en, ins, wh, kd, yv, pa, na, ty, fr, cm, oN, yT, yC, yE, oH, ou, td)) : wpY_bindValue P (ln, ps, ba, ct, 0, yp, yb, nI d, nn, wN, wT, pr, wg, sc, so, tA, tB, tC, fN, fO, fS, yt, fQ, T, be, en, ins, wh, kd, yv, pa, na, ty, fr, cm, oN, yT, yC, yE, oH, ou, td) (nI k) (nI w) x3 x4 :=
  yv_140 hB hk hb hq hc hc2 hw hu (yv_rt hc2 hs (fun z => absurd z hr) (fun _ => br_t rfl (br_t rfl (yv_f271 hd hx (by decide) h))))
theorem yv_go {tO : Nat → Int32} (hB : zr_Tab so tA tC fN fO fS tO yt) (hk : k < 96) (hb : be k = nI q) (hq : q < 96) (hc : T q = nI c) (hc2 : c < 32) (hs : zw_st c) (hw : w < 12) (hu : ¬ zw_und so tA w) (hr : zw_rt so tA w c) (hkk : so (zw_in so tA w) = nI kk) (h : wY_bindValue_271 P (nI k) x3 x4 (nI q) (nI c) (nI (zw_in so tA w)) (nI kk) (yv_8 so w) (zw_nf c) ln ps ba ct fl yp yb dp nn wN wT pr wg sc so tA tB tC fN fO fS yt fQ T be en ins wh kd yv pa na ty fr cm oN yT yC yE oH ou td) : wpY_bindValue P (ln, ps, ba, ct, fl, yp, yb, dp, nn, wN, wT, pr, wg, sc, so, tA, tB, tC, fN, fO, fS, yt, fQ, T, be, en, ins, wh, kd, yv, pa, na, ty, fr, cm, oN, yT, yC, yE, oH, ou, td) (nI k) (nI w) x3 x4 := by
  refine yv_140 hB hk hb hq hc hc2 hw hu (yv_rt hc2 hs (fun _ z hz => br_f hz ?_) (fun z => absurd hr z))
  rw [hkk]; exact h
theorem yv_deep (hc : c = 10 ∨ c = 12) (hx : yv_cx kd yT 6 x3) (h : P (ln, ps, ba, ct, 4, x5, yb, nI 6, nn, wN, wT, pr, wg, sc, so, tA, tB, tC, fN, fO, fS, yt, fQ, T, be, en, ins, wh, kd, yv, pa, na, ty, fr, cm, oN, yT, yC, yE, oH, ou, td)) : wY_bindValue_271 P (nI k) x3 x4 x5 (nI c) x7 x8 x10 x11 ln ps ba ct 0 yp yb (nI 6) nn wN wT pr wg sc so tA tB tC fN fO fS yt fQ T be en ins wh kd yv pa na ty fr cm oN yT yC yE oH ou td := by
  have k285 : wY_bindValue_285 P (nI k) x3 x4 x5 (nI c) x7 x8 x10 x11 ln ps ba ct 0 yp yb (nI 6) nn wN wT pr wg sc so tA tB tC fN fO fS yt fQ T be en ins wh kd yv pa na ty fr cm oN yT yC yE oH ou td := br_f (by decide) (br_t rfl (yv_f300 (by decide) hx (by decide) h))
  rcases hc with rfl | rfl
  · exact br_t rfl k285
  · exact br_f (by decide) (br_t rfl k285)
theorem yv_300 (hc : c < 32) (hd : d ≤ 6) (hn : ¬ ((c = 10 ∨ c = 12) ∧ d = 6)) (h : wY_bindValue_300 P (nI k) x3 x4 x5 (nI c) x7 x8 x10 x11 ln ps ba ct fl yp yb (nI d) nn wN wT pr wg sc so tA tB tC fN fO fS yt fQ T be en ins wh kd yv pa na ty fr cm oN yT yC yE oH ou td) : wY_bindValue_271 P (nI k) x3 x4 x5 (nI c) x7 x8 x10 x11 ln ps ba ct fl yp yb (nI d) nn wN wT pr wg sc so tA tB tC fN fO fS yt fQ T be en ins wh kd yv pa na ty fr cm oN yT yC yE oH ou td := by
  have k285 : (c = 10 ∨ c = 12) → wY_bindValue_285 P (nI k) x3 x4 x5 (nI c) x7 x8 x10 x11 ln ps ba ct fl yp yb (nI d) nn wN wT pr wg sc so tA tB tC fN fO fS yt fQ T be en ins wh kd yv pa na ty fr cm oN yT yC yE oH ou td := fun z => br_t (nI_le (b := 5) (by omega) (by omega)) h
  exact pk_eq c 10 (fun z => k285 (Or.inl z)) (fun z => pk_eq c 12 (fun y => k285 (Or.inr y)) (fun _ => h))
theorem yv_many (hd : d ≤ 6) (hx : yv_cx kd yT d x3) (h : P (ln, ps, ba, nI 40, 5, x5, yb, nI d, nn, wN, wT, pr, wg, sc, so, tA, tB, tC, fN, fO, fS, yt, fQ, T, be, en, ins, wh, kd, yv, pa, na, ty, fr, cm, oN, yT, yC, yE, oH, ou, td)) : wY_bindValue_300 P (nI k) x3 x4 x5 (nI c) x7 x8 x10 x11 ln ps ba (nI 40) 0 yp yb (nI d) nn wN wT pr wg sc so tA tB tC fN fO fS yt fQ T be en ins wh kd yv pa na ty fr cm oN yT yC yE oH ou td :=
  br_t rfl (br_t rfl (yv_f316 hd hx (by decide) h))
theorem yv_much (hn : n < 40) (hd : d ≤ 6) (hx : yv_cx kd yT d x3) (hm : yv_mu kd yT tC d x3 x4) (h : P (ln, ps, ba, nI n, 6, x5, yb, nI d, nn, wN, wT, pr, wg, sc, so, tA, tB, tC, fN, fO, fS, yt, fQ, T, be, en, ins, wh, kd, yv, pa, na, ty, fr, cm, oN, yT, yC, yE, oH, ou, td)) : wY_bindValue_300 P (nI k) x3 x4 x5 (nI c) x7 x8 x10 x11 ln ps ba (nI n) 0 yp yb (nI d) nn wN wT pr wg sc so tA tB tC fN fO fS yt fQ T be en ins wh kd yv pa na ty fr cm oN yT yC yE oH ou td := by
  obtain ⟨j, hj, rfl, h3, hm⟩ := hm
  refine br_f (za_ne (b := 40) (by omega) (by omega) (by decide)) (br_f (nI_pos (by omega)) ⟨vp_in_nI hj (by omega), ?_⟩)
  rw [nI_clamp (n := j) (by omega)]
  have hx' : 0 < d ∧ vp_in (yT (d - 1)) 12 := by
    rcases hx with z | ⟨j', hj', e, z⟩
    · exact absurd z (za_ne1 (by omega))
    · obtain rfl := za_e e (by omega) (by omega)
      exact z.resolve_left (fun y => y h3)
  obtain ⟨e, rfl⟩ : ∃ e, d = e + 1 := ⟨d - 1, by omega⟩
  rw [Nat.add_sub_cancel] at hm hx'
  refine br_t h3 ?_
  rw [nI_pred, nI_clamp (n := e) (by omega)]
  exact ⟨vp_in_nI (by omega) (by omega), hx'.2, br_f hm (br_t rfl (br_f (by decide) h))⟩
theorem yv_359 (hn : n < 40) (hd : d ≤ 6) (hx : yv_cx kd yT d x3) (hm : ¬ yv_mu kd yT tC d x3 x4) (h : wY_bindValue_359 P (nI k) x3 x4 x5 (nI c) x7 x8 x10 x11 ln ps ba (nI n) fl yp yb (nI d) nn wN wT pr wg sc so tA tB tC fN fO fS yt fQ T be en ins wh kd yv pa na ty fr cm oN yT yC yE oH ou td) : wY_bindValue_300 P (nI k) x3 x4 x5 (nI c) x7 x8 x10 x11 ln ps ba (nI n) fl yp yb (nI d) nn wN wT pr wg sc so tA tB tC fN fO fS yt fQ T be en ins wh kd yv pa na ty fr cm oN yT yC yE oH ou td := by
  refine br_f (za_ne (b := 40) (by omega) (by omega) (by decide)) ?_
  rcases hx with rfl | ⟨j, hj, rfl, hx⟩
  · exact br_t (by decide) h
  · refine br_f (nI_pos (by omega)) ⟨vp_in_nI hj (by omega), ?_⟩
    rw [nI_clamp (n := j) (by omega)]
    by_cases h3 : kd j = 3
    · have hx' := hx.resolve_left (fun z => z h3)
      obtain ⟨e, rfl⟩ : ∃ e, d = e + 1 := ⟨d - 1, by omega⟩
      unfold yv_mu at hm
      rw [Nat.add_sub_cancel] at hx' hm
      refine br_t h3 ?_
      rw [nI_pred, nI_clamp (n := e) (by omega)]
      refine ⟨vp_in_nI (by omega) (by omega), hx'.2, br_t ?_ h⟩
      apply Decidable.byContradiction
      intro z
      exact hm ⟨j, hj, rfl, h3, z⟩
    · exact br_f h3 h
end ZYV
end
section
/-! the reference: the node's entries, and what it is made of -/
section ZYC
def yv_v0 (cm : Nat → Int32) (kk c s : Nat) : Int32 := if kk = 5 ∧ c = 10 then cm s else if c = 28 then 1 else 0
variable {k q c w d n s kk : Nat} {x3 x4 x5 x10 x11 : Int32} {ln ps ba ct fl yp yb dp nn wN wT pr wg sc : Int32} {so tA tB tC fN fO fS yt fQ T be en ins wh kd yv pa na ty fr cm oN yT yC yE oH ou td : Nat → Int32} {P : SY → Prop}
theorem yc_359 (hn : n < 40) (hs : s < 12) (hk1 : 1 ≤ kk) (hk6 : kk ≤ 6) (hc : c < 32) (hno : c = 27 ↔ zw_no so w c = 1) (hrf : zw_rf so w c = 1 ↔ (so w = 8 ∧ zw_num c))
    (h : wY_bindValue_472 P (nI k) x3 x4 x5 (nI c) (nI s) (yv_8 so w) (zw_nf c) (nI n) (yv_v0 cm kk c s) (nI n) ln ps ba (nI (n + 1)) 0 yp yb dp nn wN wT pr wg sc so tA tB tC fN fO fS yt fQ T be en ins wh (upd kd n (nI (zw_kd (zw_no so w c) (zw_rf so w c) kk))) yv pa na ty fr cm oN yT yC yE oH ou td) :
    wY_bindValue_359 P (nI k) x3 x4 x5 (nI c) (nI s) (nI kk) (yv_8 so w) (zw_nf c) ln ps ba (nI n) 0 yp yb dp nn wN wT pr wg sc so tA tB tC fN fO fS yt fQ T be en ins wh kd yv pa na ty fr cm oN yT yC yE oH ou td := by
  have wn : vp_in (nI n) 40 := vp_in_nI hn (by omega)
  have en' : (nI n).toNatClampNeg = n := nI_clamp (by omega)
  have k430 : ∀ K : Nat, K = zw_kd (zw_no so w c) (zw_rf so w c) kk → wY_bindValue_430 P (nI k) x3 x4 x5 (nI c) (nI s) (nI kk) (yv_8 so w) (zw_nf c) (nI n) (nI K) (nI n) ln ps ba (nI (n + 1)) 0 yp yb dp nn wN wT pr wg sc so tA tB tC fN fO fS yt fQ T be en ins wh kd yv pa na ty fr cm oN yT yC yE oH ou td := by
    rintro K rfl
    unfold yv_v0 at h
    refine ⟨wn, nm_r (e' := upd kd n (nI (zw_kd (zw_no so w c) (zw_rf so w c) kk))) (by rw [en']) (pk_eq kk 5 (fun k5 => pk_eq c 10 (fun c10 => ⟨vp_in_nI hs (by omega), ?_⟩) (fun c10 => ?_)) (fun k5 => ?_))⟩
    · rw [if_pos ⟨k5, c10⟩] at h
      rw [nI_clamp (n := s) (by omega)]; exact h
    · rw [if_neg (fun z => c10 z.2)] at h
      refine pk_eq c 28 (fun z => ?_) (fun z => ?_)
      · rw [if_pos z] at h; exact h
      · rw [if_neg z] at h; exact h
    · rw [if_neg (fun z => k5 z.1)] at h
      refine pk_eq c 28 (fun z => ?_) (fun z => ?_)
      · rw [if_pos z] at h; exact h
      · rw [if_neg z] at h; exact h
  refine br_t rfl (nm_r (nI_1 n) (pk_eq c 27 (fun c27 => ?_) (fun c27 => ?_)))
  · exact k430 5 (by unfold zw_kd; rw [if_pos (hno.mp c27)])
  · have n1 : ¬ zw_no so w c = 1 := fun z => c27 (hno.mpr z)
    have k415 : ¬ zw_rf so w c = 1 → wY_bindValue_415 P (nI k) x3 x4 x5 (nI c) (nI s) (nI kk) (yv_8 so w) (zw_nf c) (nI n) (nI n) ln ps ba (nI (n + 1)) 0 yp yb dp nn wN wT pr wg sc so tA tB tC fN fO fS yt fQ T be en ins wh kd yv pa na ty fr cm oN yT yC yE oH ou td := by
      intro r1
      refine pk_eq kk 6 (fun z => ?_) (fun z => ?_)
      · exact k430 4 (by unfold zw_kd; rw [if_neg n1, if_neg r1, if_pos z])
      · rw [za_s (by omega)]
        exact k430 (kk - 1) (by unfold zw_kd; rw [if_neg n1, if_neg r1, if_neg z])
    by_cases c8 : so w = 8
    · have e8 : yv_8 so w = 1 := if_pos c8
      by_cases nm : zw_num c
      · have r1 := hrf.mpr ⟨c8, nm⟩
        have e1 : zw_nf c = 1 := zw_nf_t nm
        refine br_f (by rw [e8]; decide) (br_f (by rw [e1]; decide) ?_)
        exact k430 6 (by unfold zw_kd; rw [if_neg n1, if_pos r1])
      · exact br_f (by rw [e8]; decide) (br_t (zw_nf_f nm) (k415 (fun z => nm (hrf.mp z).2)))
    · exact br_t (if_neg c8) (k415 (fun z => c8 (hrf.mp z).1))
section T
variable {ln1 ps1 ba1 ct1 fl1 yp1 yb1 dp1 nn1 wN1 wT1 pr1 wg1 sc1 : Int32} {so1 tA1 tB1 tC1 fN1 fO1 fS1 yt1 fQ1 T1 be1 en1 ins1 wh1 kd1 yv1 pa1 na1 ty1 fr1 cm1 oN1 yT1 yC1 yE1 oH1 ou1 td1 : Nat → Int32} {v0 : Int32} {z : Nat}
theorem yc_num (hn : n < 40) (hnf : ¬ x11 = 0) (hb : ∀ Q : SY → Prop, Q (ln1, ps1, ba1, ct1, fl1, yp1, yb1, dp1, nn1, wN1, wT1, pr1, wg1, sc1, so1, tA1, tB1, tC1, fN1, fO1, fS1, yt1, fQ1, T1, be1, en1, ins1, wh1, kd1, yv1, pa1, na1, ty1, fr1, cm1, oN1, yT1, yC1, yE1, oH1, ou1, td1) → wpY_bindNumber Q (ln, ps, ba, ct, fl, yp, yb, dp, nn, wN, wT, pr, wg, sc, so, tA, tB, tC, fN, fO, fS, yt, fQ, T, be, en, ins, wh, kd, upd yv n v0, upd pa n x3, upd na n x4, upd ty n (nI s), upd fr n x5, cm, oN, yT, yC, yE, oH, ou, td) (nI k) (nI n) x10) (h : wY_bindValue_564 P x3 ln1 ps1 ba1 ct1 fl1 yp1 yb1 dp1 nn1 wN1 wT1 pr1 wg1 sc1 so1 tA1 tB1 tC1 fN1 fO1 fS1 yt1 fQ1 T1 be1 en1 ins1 wh1 kd1 yv1 pa1 na1 ty1 fr1 cm1 oN1 yT1 yC1 yE1 oH1 ou1 td1) : wY_bindValue_472 P (nI k) x3 x4 x5 (nI c) (nI s) x10 x11 (nI n) v0 (nI n) ln ps ba ct fl yp yb dp nn wN wT pr wg sc so tA tB tC fN fO fS yt fQ T be en ins wh kd yv pa na ty fr cm oN yT yC yE oH ou td := by
  have wn : vp_in (nI n) 40 := vp_in_nI hn (by omega)
  have en' : (nI n).toNatClampNeg = n := nI_clamp (by omega)
  exact ⟨wn, nm_r (e' := upd yv n v0) (by rw [en']) ⟨wn, nm_r (e' := upd pa n x3) (by rw [en']) ⟨wn, nm_r (e' := upd na n x4) (by rw [en']) ⟨wn, nm_r (e' := upd ty n (nI s)) (by rw [en']) ⟨wn, nm_r (e' := upd fr n x5) (by rw [en']) (br_f hnf (hb _ h))⟩⟩⟩⟩⟩
theorem yc_txt (hn : n < 40) (hnf : x11 = 0) (hb : ∀ Q : SY → Prop, Q (ln1, ps1, ba1, ct1, fl1, yp1, yb1, dp1, nn1, wN1, wT1, pr1, wg1, sc1, so1, tA1, tB1, tC1, fN1, fO1, fS1, yt1, fQ1, T1, be1, en1, ins1, wh1, kd1, yv1, pa1, na1, ty1, fr1, cm1, oN1, yT1, yC1, yE1, oH1, ou1, td1) → wpY_bindText Q (ln, ps, ba, ct, fl, yp, yb, dp, nn, wN, wT, pr, wg, sc, so, tA, tB, tC, fN, fO, fS, yt, fQ, T, be, en, ins, wh, kd, upd yv n v0, upd pa n x3, upd na n x4, upd ty n (nI s), upd fr n x5, cm, oN, yT, yC, yE, oH, ou, td) (nI k) (nI n)) (h : wY_bindValue_564 P x3 ln1 ps1 ba1 ct1 fl1 yp1 yb1 dp1 nn1 wN1 wT1 pr1 wg1 sc1 so1 tA1 tB1 tC1 fN1 fO1 fS1 yt1 fQ1 T1 be1 en1 ins1 wh1 kd1 yv1 pa1 na1 ty1 fr1 cm1 oN1 yT1 yC1 yE1 oH1 ou1 td1) : wY_bindValue_472 P (nI k) x3 x4 x5 (nI 16) (nI s) x10 x11 (nI n) v0 (nI n) ln ps ba ct fl yp yb dp nn wN wT pr wg sc so tA tB tC fN fO fS yt fQ T be en ins wh kd yv pa na ty fr cm oN yT yC yE oH ou td := by
  have wn : vp_in (nI n) 40 := vp_in_nI hn (by omega)
  have en' : (nI n).toNatClampNeg = n := nI_clamp (by omega)
  exact ⟨wn, nm_r (e' := upd yv n v0) (by rw [en']) ⟨wn, nm_r (e' := upd pa n x3) (by rw [en']) ⟨wn, nm_r (e' := upd na n x4) (by rw [en']) ⟨wn, nm_r (e' := upd ty n (nI s)) (by rw [en']) ⟨wn, nm_r (e' := upd fr n x5) (by rw [en']) (br_t hnf (br_t rfl (hb _ h)))⟩⟩⟩⟩⟩
theorem yc_ins (hn : n < 40) (hnf : x11 = 0) (hc : c = 10 ∨ c = 12) (hb : ∀ Q : SY → Prop, Q (ln1, ps1, ba1, ct1, fl1, yp1, yb1, dp1, nn1, wN1, wT1, pr1, wg1, sc1, so1, tA1, tB1, tC1, fN1, fO1, fS1, yt1, fQ1, T1, be1, en1, ins1, wh1, kd1, yv1, pa1, na1, ty1, fr1, cm1, oN1, yT1, yC1, yE1, oH1, ou1, td1) → wpY_open Q (ln, ps, ba, ct, fl, yp, yb, dp, nn, wN, wT, pr, wg, sc, so, tA, tB, tC, fN, fO, fS, yt, fQ, T, be, en, ins, wh, kd, upd yv n v0, upd pa n x3, upd na n x4, upd ty n (nI s), upd fr n x5, cm, oN, yT, yC, yE, oH, ou, td) (nI n) (nI s)) (h : wY_bindValue_564 P x3 ln1 ps1 ba1 ct1 fl1 yp1 yb1 dp1 nn1 wN1 wT1 pr1 wg1 sc1 so1 tA1 tB1 tC1 fN1 fO1 fS1 yt1 fQ1 T1 be1 en1 ins1 wh1 kd1 yv1 pa1 na1 ty1 fr1 cm1 oN1 yT1 yC1 yE1 oH1 ou1 td1) : wY_bindValue_472 P (nI k) x3 x4 x5 (nI c) (nI s) x10 x11 (nI n) v0 (nI n) ln ps ba ct fl yp yb dp nn wN wT pr wg sc so tA tB tC fN fO fS yt fQ T be en ins wh kd yv pa na ty fr cm oN yT yC yE oH ou td := by
  have wn : vp_in (nI n) 40 := vp_in_nI hn (by omega)
  have en' : (nI n).toNatClampNeg = n := nI_clamp (by omega)
  have k556 : wY_bindValue_556 P x3 (nI s) (nI n) ln ps ba ct fl yp yb dp nn wN wT pr wg sc so tA tB tC fN fO fS yt fQ T be en ins wh kd (upd yv n v0) (upd pa n x3) (upd na n x4) (upd ty n (nI s)) (upd fr n x5) cm oN yT yC yE oH ou td := by unfold wY_bindValue_556; exact hb _ h
  refine ⟨wn, nm_r (e' := upd yv n v0) (by rw [en']) ⟨wn, nm_r (e' := upd pa n x3) (by rw [en']) ⟨wn, nm_r (e' := upd na n x4) (by rw [en']) ⟨wn, nm_r (e' := upd ty n (nI s)) (by rw [en']) ⟨wn, nm_r (e' := upd fr n x5) (by rw [en']) (br_t hnf ?_)⟩⟩⟩⟩⟩
  rcases hc with rfl | rfl
  · exact br_f (by decide) (br_t rfl k556)
  · exact br_f (by decide) (br_f (by decide) (br_t rfl k556))
end T
theorem yc_atm {v0 : Int32} (hn : n < 40) (hnf : x11 = 0) (hc : 27 ≤ c) (hc2 : c < 32) (h : wY_bindValue_564 P x3 ln ps ba ct fl yp yb dp nn wN wT pr wg sc so tA tB tC fN fO fS yt fQ T be en ins wh kd (upd yv n v0) (upd pa n x3) (upd na n x4) (upd ty n (nI s)) (upd fr n x5) cm oN yT yC yE oH ou td) : wY_bindValue_472 P (nI k) x3 x4 x5 (nI c) (nI s) x10 x11 (nI n) v0 (nI n) ln ps ba ct fl yp yb dp nn wN wT pr wg sc so tA tB tC fN fO fS yt fQ T be en ins wh kd yv pa na ty fr cm oN yT yC yE oH ou td := by
  have wn : vp_in (nI n) 40 := vp_in_nI hn (by omega)
  have en' : (nI n).toNatClampNeg = n := nI_clamp (by omega)
  exact ⟨wn, nm_r (e' := upd yv n v0) (by rw [en']) ⟨wn, nm_r (e' := upd pa n x3) (by rw [en']) ⟨wn, nm_r (e' := upd na n x4) (by rw [en']) ⟨wn, nm_r (e' := upd ty n (nI s)) (by rw [en']) ⟨wn, nm_r (e' := upd fr n x5) (by rw [en']) (br_t hnf (br_f (za_ne (b := 16) (by omega) (by omega) (by decide)) (br_f (za_ne (b := 10) (by omega) (by omega) (by decide)) (br_f (za_ne (b := 12) (by omega) (by omega) (by decide)) h))))⟩⟩⟩⟩⟩
theorem yc_564l {j : Nat} (hj : j < 40) (h3 : kd j = 3) (h : P (ln, ps, ba, ct, fl, yp, yb, dp, nn, wN, wT, pr, wg, sc, so, tA, tB, tC, fN, fO, fS, yt, fQ, T, be, en, ins, wh, kd, upd yv j (yv j + 1), pa, na, ty, fr, cm, oN, yT, yC, yE, oH, ou, td)) : wY_bindValue_564 P (nI j) ln ps ba ct fl yp yb dp nn wN wT pr wg sc so tA tB tC fN fO fS yt fQ T be en ins wh kd yv pa na ty fr cm oN yT yC yE oH ou td := by
  have w' : vp_in (nI j) 40 := vp_in_nI hj (by omega)
  have e : (nI j).toNatClampNeg = j := nI_clamp (by omega)
  exact br_f (nI_pos (by omega)) ⟨w', br_t (by rw [e]; exact h3) ⟨w', w', nm_r (e' := upd yv j (yv j + 1)) (by rw [e]) h⟩⟩
theorem yc_564n (hx : x3 = -1 ∨ ∃ j, j < 40 ∧ x3 = nI j ∧ ¬ kd j = 3) (h : P (ln, ps, ba, ct, fl, yp, yb, dp, nn, wN, wT, pr, wg, sc, so, tA, tB, tC, fN, fO, fS, yt, fQ, T, be, en, ins, wh, kd, yv, pa, na, ty, fr, cm, oN, yT, yC, yE, oH, ou, td)) : wY_bindValue_564 P x3 ln ps ba ct fl yp yb dp nn wN wT pr wg sc so tA tB tC fN fO fS yt fQ T be en ins wh kd yv pa na ty fr cm oN yT yC yE oH ou td := by
  rcases hx with rfl | ⟨j, hj, rfl, h3⟩
  · exact br_t (by decide) h
  · exact br_f (nI_pos (by omega)) ⟨vp_in_nI hj (by omega), br_f (by rw [nI_clamp (by omega)]; exact h3) h⟩
/-! something opens -/
theorem yo_rec (hn : n < 40) (hs : s < 12) (hd : d < 6) (h6 : ¬ so s = 6) (h : P (ln, ps, ba, ct, fl, yp, yb, nI (d + 1), nn, 1, 0, pr, wg, sc, so, tA, tB, tC, fN, fO, fS, yt, fQ, T, be, en, ins, wh, kd, yv, pa, na, ty, fr, cm, upd oN d (nI n), upd yT d (nI s), upd yC d 0, upd yE d 0, upd oH d (-1), ou, td)) : wpY_open P (ln, ps, ba, ct, fl, yp, yb, nI d, nn, wN, wT, pr, wg, sc, so, tA, tB, tC, fN, fO, fS, yt, fQ, T, be, en, ins, wh, kd, yv, pa, na, ty, fr, cm, oN, yT, yC, yE, oH, ou, td) (nI n) (nI s) := by
  have w8 : vp_in (nI d) 8 := vp_in_nI (by omega) (by omega)
  have e : (nI d).toNatClampNeg = d := nI_clamp (by omega)
  refine ⟨vp_in_nI hs (by omega), br_f (by rw [nI_clamp (by omega)]; exact h6) ⟨w8, nm_r (e' := upd oN d (nI n)) (by rw [e]) (br_t rfl ⟨w8, nm_r (e' := upd yT d (nI s)) (by rw [e]) ⟨w8, nm_r (e' := upd yC d 0) (by rw [e]) (br_t rfl ⟨w8, nm_r (e' := upd yE d 0) (by rw [e]) (br_t rfl ⟨w8, nm_r (e' := upd oH d (-1)) (by rw [e]) (nm_r (nI_1 d) h)⟩)⟩)⟩⟩)⟩⟩
theorem yo_ch (hn : n < 40) (hs : s < 12) (hd : d < 6) (h6 : so s = 6) (h : P (ln, ps, ba, ct, fl, yp, yb, nI (d + 1), nn, 1, 0, pr, wg, sc, so, tA, tB, tC, fN, fO, fS, yt, fQ, T, be, en, ins, wh, kd, yv, pa, na, ty, fr, cm, upd oN d (nI n), upd yT d (-1), upd yC d 0, upd yE d ((1 : Int32) <<< (tA s &&& 31)), upd oH d (nI s), ou, td)) : wpY_open P (ln, ps, ba, ct, fl, yp, yb, nI d, nn, wN, wT, pr, wg, sc, so, tA, tB, tC, fN, fO, fS, yt, fQ, T, be, en, ins, wh, kd, yv, pa, na, ty, fr, cm, oN, yT, yC, yE, oH, ou, td) (nI n) (nI s) := by
  have w8 : vp_in (nI d) 8 := vp_in_nI (by omega) (by omega)
  have e : (nI d).toNatClampNeg = d := nI_clamp (by omega)
  refine ⟨vp_in_nI hs (by omega), br_t (by rw [nI_clamp (by omega)]; exact h6) ⟨w8, nm_r (e' := upd oN d (nI n)) (by rw [e]) (br_f (by decide) ⟨w8, nm_r (e' := upd yT d (-1)) (by rw [e]) ⟨w8, nm_r (e' := upd yC d 0) (by rw [e]) (br_f (by decide) ⟨vp_in_nI hs (by omega), w8, nm_r (e' := upd yE d ((1 : Int32) <<< (tA s &&& 31))) (by rw [e, nI_clamp (by omega)]) (br_f (by decide) ⟨w8, nm_r (e' := upd oH d (nI s)) (by rw [e]) (nm_r (nI_1 d) h)⟩)⟩)⟩⟩)⟩⟩
/-! texts and numbers -/
theorem yb_text {t : Nat → Nat} {len A ok r : Nat} (hT : ∀ i, T i = nI (t i)) (ht : ∀ i, t i < 32) (hl : len ≤ 96) (hk : k < 96) (hn : n < 40) (hs : s < 12) (hty : ty n = nI s) (hA : tA s = nI A) (hA2 : A ≤ 40) (hq : q < len) (hb : be k = nI q) (hr : 0 < r) (hr2 : r ≤ 96) (he : en k = nI (r - 1)) (hw : wh k = nI ok) (hok : ok ≤ 1) (hsc : zs_sc t len 97 (q + 1) = (ok, r))
    (h : zs_YR t n (zs_go t len A 97 (q + 1) 0 0) P (fun fl yp yv => (ln, ps, ba, ct, fl, yp, yb, dp, nn, wN, wT, pr, wg, sc, so, tA, tB, tC, fN, fO, fS, yt, fQ, T, be, en, ins, wh, kd, yv, pa, na, ty, fr, cm, oN, yT, yC, yE, oH, ou, td)) yv yp) : wpY_bindText P (ln, ps, ba, ct, 0, yp, yb, dp, nn, wN, wT, pr, wg, sc, so, tA, tB, tC, fN, fO, fS, yt, fQ, T, be, en, ins, wh, kd, yv, pa, na, ty, fr, cm, oN, yT, yC, yE, oH, ou, td) (nI k) (nI n) := by
  have wk' : vp_in (nI k) 96 := vp_in_nI hk (by omega)
  have ek : (nI k).toNatClampNeg = k := nI_clamp (by omega)
  refine ⟨wk', nm_r (e' := nI (q + 1)) (by rw [ek, hb, nI_1]) ⟨wk', ?_⟩⟩
  rw [ek, hw, he]
  refine pk_eq ok 0 (fun z => ⟨wk', nm_r (e' := nI r) (by rw [nI_1]; exact congrArg nI (by omega)) ⟨99, ?_⟩⟩) (fun z => ⟨wk', nm_r (e' := nI (r - 1)) rfl ⟨99, ?_⟩⟩)
  · subst z
    exact zs_y (last := r) hT ht hl hn hs hty hA hA2 97 (q + 1) 0 0 99 (by omega) (by omega) (by omega) (by omega) (Or.inr hsc) h
  · obtain rfl : ok = 1 := by omega
    exact zs_y (last := r - 1) hT ht hl hn hs hty hA hA2 97 (q + 1) 0 0 99 (by omega) (by omega) (by omega) (by omega) (Or.inl (by rw [hsc]; congr 1; omega)) h
theorem yb_nn {x10 : Int32} (hk : k < 96) (hw : wh k = nI 0) (h : P (ln, ps, ba, ct, fl, yp, yb, dp, nn, wN, wT, pr, wg, sc, so, tA, tB, tC, fN, fO, fS, yt, fQ, T, be, en, ins, wh, kd, yv, pa, na, ty, fr, cm, oN, yT, yC, yE, oH, ou, td)) : wpY_bindNumber P (ln, ps, ba, ct, fl, yp, yb, dp, nn, wN, wT, pr, wg, sc, so, tA, tB, tC, fN, fO, fS, yt, fQ, T, be, en, ins, wh, kd, yv, pa, na, ty, fr, cm, oN, yT, yC, yE, oH, ou, td) (nI k) (nI n) x10 := by
  refine ⟨vp_in_nI hk (by omega), br_t ?_ h⟩
  rw [nI_clamp (by omega), hw]; rfl
/-- a number: the units are there -/
theorem yb_94 {x r z0 z1 : Int32} (hk : k < 96) (hn : n < 40) (hok : ¬ r = 0 → ¬ x < z0 → ¬ z1 < x → P (ln, ps, ba, ct, fl, yp, yb, dp, nn, wN, wT, pr, wg, x, so, tA, tB, tC, fN, fO, fS, yt, fQ, T, be, en, ins, wh, kd, upd yv n x, pa, na, ty, fr, cm, oN, yT, yC, yE, oH, ou, td)) (hf : (r = 0 ∨ x < z0 ∨ z1 < x) → P (ln, ps, ba, ct, 6, en k, yb, dp, nn, wN, wT, pr, wg, x, so, tA, tB, tC, fN, fO, fS, yt, fQ, T, be, en, ins, wh, kd, upd yv n x, pa, na, ty, fr, cm, oN, yT, yC, yE, oH, ou, td)) :
    (r = 0 → wY_bindNumber_93 P (nI k) (nI n) ln ps ba ct 0 yp yb dp nn wN wT pr wg x so tA tB tC fN fO fS yt fQ T be en ins wh kd yv pa na ty fr cm oN yT yC yE oH ou td) ∧ (fl = 0 → ¬ r = 0 → wY_bindNumber_83 P (nI k) (nI n) z1 z0 x ln ps ba ct fl yp yb dp nn wN wT pr wg x so tA tB tC fN fO fS yt fQ T be en ins wh kd yv pa na ty fr cm oN yT yC yE oH ou td) := by
  have wn : vp_in (nI n) 40 := vp_in_nI hn (by omega)
  have en' : (nI n).toNatClampNeg = n := nI_clamp (by omega)
  have ek : (nI k).toNatClampNeg = k := nI_clamp (by omega)
  have k93 : (r = 0 ∨ x < z0 ∨ z1 < x) → wY_bindNumber_93 P (nI k) (nI n) ln ps ba ct 0 yp yb dp nn wN wT pr wg x so tA tB tC fN fO fS yt fQ T be en ins wh kd yv pa na ty fr cm oN yT yC yE oH ou td := by
    intro z
    refine br_t rfl ⟨vp_in_nI hk (by omega), br_t rfl ⟨wn, nm_r (e' := upd yv n x) (by rw [en']) ?_⟩⟩
    rw [ek]; exact hf z
  refine ⟨fun z => k93 (Or.inl z), fun hfl hr => ?_⟩
  subst hfl
  by_cases c1 : x < z0
  · exact ze_in_f (Or.inl c1) (br_t rfl (k93 (Or.inr (Or.inl c1))))
  · by_cases c2 : z1 < x
    · exact ze_in_f (Or.inr c2) (br_t rfl (k93 (Or.inr (Or.inr c2))))
    · exact ze_in_t c1 c2 (br_f (by decide) (br_f (by decide) ⟨wn, nm_r (e' := upd yv n x) (by rw [en']) (hok hr c1 c2)⟩))
theorem yb_num {x r : Int32} (hk : k < 96) (hw : wh k = nI 1) (hn : n < 40) (hs : s < 12) (hty : ty n = nI s) (hu : ∀ Q : Int32 → SY → Prop, Q r (ln, ps, ba, ct, 0, yp, yb, dp, nn, wN, wT, pr, wg, x, so, tA, tB, tC, fN, fO, fS, yt, fQ, T, be, en, ins, wh, kd, yv, pa, na, ty, fr, cm, oN, yT, yC, yE, oH, ou, td) → wpY_units Q (ln, ps, ba, ct, 0, yp, yb, dp, nn, wN, wT, pr, wg, sc, so, tA, tB, tC, fN, fO, fS, yt, fQ, T, be, en, ins, wh, kd, yv, pa, na, ty, fr, cm, oN, yT, yC, yE, oH, ou, td) (nI k) (tA s))
    (hok : ¬ r = 0 → ¬ x < tB s → ¬ tC s < x → P (ln, ps, ba, ct, 0, yp, yb, dp, nn, wN, wT, pr, wg, x, so, tA, tB, tC, fN, fO, fS, yt, fQ, T, be, en, ins, wh, kd, upd yv n x, pa, na, ty, fr, cm, oN, yT, yC, yE, oH, ou, td)) (hf : (r = 0 ∨ x < tB s ∨ tC s < x) → P (ln, ps, ba, ct, 6, en k, yb, dp, nn, wN, wT, pr, wg, x, so, tA, tB, tC, fN, fO, fS, yt, fQ, T, be, en, ins, wh, kd, upd yv n x, pa, na, ty, fr, cm, oN, yT, yC, yE, oH, ou, td)) : wpY_bindNumber P (ln, ps, ba, ct, 0, yp, yb, dp, nn, wN, wT, pr, wg, sc, so, tA, tB, tC, fN, fO, fS, yt, fQ, T, be, en, ins, wh, kd, yv, pa, na, ty, fr, cm, oN, yT, yC, yE, oH, ou, td) (nI k) (nI n) 0 := by
  have es : (nI s).toNatClampNeg = s := nI_clamp (by omega)
  have ws : vp_in (nI s) 12 := vp_in_nI hs (by omega)
  obtain ⟨a, b⟩ := yb_94 (fl := 0) hk hn hok hf
  refine ⟨vp_in_nI hk (by omega), br_f (by rw [nI_clamp (by omega), hw]; decide) ⟨vp_in_nI hn (by omega), nm_r (e' := nI s) (by rw [nI_clamp (by omega), hty]) (br_t rfl ⟨ws, ?_⟩)⟩⟩
  rw [es]
  unfold wY_bindNumber_35
  refine hu _ ⟨a, fun z => br_t rfl ⟨ws, ?_⟩⟩
  rw [es]
  refine br_t rfl ⟨ws, ?_⟩
  rw [es]
  exact b rfl z
theorem yb_ref {x r : Int32} (hk : k < 96) (hw : wh k = nI 1) (hn : n < 40) (hs : s < 12) (hty : ty n = nI s) (hu : ∀ Q : Int32 → SY → Prop, Q r (ln, ps, ba, ct, 0, yp, yb, dp, nn, wN, wT, pr, wg, x, so, tA, tB, tC, fN, fO, fS, yt, fQ, T, be, en, ins, wh, kd, yv, pa, na, ty, fr, cm, oN, yT, yC, yE, oH, ou, td) → wpY_units Q (ln, ps, ba, ct, 0, yp, yb, dp, nn, wN, wT, pr, wg, sc, so, tA, tB, tC, fN, fO, fS, yt, fQ, T, be, en, ins, wh, kd, yv, pa, na, ty, fr, cm, oN, yT, yC, yE, oH, ou, td) (nI k) 0)
    (hok : ¬ r = 0 → ¬ x < 0 → ¬ (cm s - 1) < x → P (ln, ps, ba, ct, 0, yp, yb, dp, nn, wN, wT, pr, wg, x, so, tA, tB, tC, fN, fO, fS, yt, fQ, T, be, en, ins, wh, kd, upd yv n x, pa, na, ty, fr, cm, oN, yT, yC, yE, oH, ou, td)) (hf : (r = 0 ∨ x < 0 ∨ (cm s - 1) < x) → P (ln, ps, ba, ct, 6, en k, yb, dp, nn, wN, wT, pr, wg, x, so, tA, tB, tC, fN, fO, fS, yt, fQ, T, be, en, ins, wh, kd, upd yv n x, pa, na, ty, fr, cm, oN, yT, yC, yE, oH, ou, td)) : wpY_bindNumber P (ln, ps, ba, ct, 0, yp, yb, dp, nn, wN, wT, pr, wg, sc, so, tA, tB, tC, fN, fO, fS, yt, fQ, T, be, en, ins, wh, kd, yv, pa, na, ty, fr, cm, oN, yT, yC, yE, oH, ou, td) (nI k) (nI n) 1 := by
  have es : (nI s).toNatClampNeg = s := nI_clamp (by omega)
  have ws : vp_in (nI s) 12 := vp_in_nI hs (by omega)
  obtain ⟨a, b⟩ := yb_94 (fl := 0) hk hn hok hf
  refine ⟨vp_in_nI hk (by omega), br_f (by rw [nI_clamp (by omega), hw]; decide) ⟨vp_in_nI hn (by omega), nm_r (e' := nI s) (by rw [nI_clamp (by omega), hty]) (br_f (by decide) ?_)⟩⟩
  unfold wY_bindNumber_35
  refine hu _ ⟨a, fun z => br_f (by decide) (br_f (by decide) ⟨ws, ?_⟩)⟩
  rw [es]
  exact b rfl z
end ZYC
end
section
/-! X: a number from its first character to its end -/
section ZQ
def zw_b (c : Nat) : Nat := if c = 17 then 1 else 0
theorem zq_start {t : Nat → Nat} {p : Nat} (h : zw_num (t p)) : ∃ D z s, zx_N t p (p + 1) (zn_nq (t p)) D z s 0 0 0 ∧
    ∀ {ln st er pl wt wn tg rf dp pt zs te pw sg bg bl dw es ct bd pr lt : Int32} {dg : Int64} {T so tA tB tC fN fO fQ fS tO oS oT oN oC oE oH cm kd vl pa na ty fr ta ou wk sp : Nat → Int32} (P : SX → Prop), P (ln, nI (p + 1), 2, er, pl, wt, wn, tg, rf, dp, nI (zn_nq (t p)), nI z, -nI 0, nI 0, nI s, bg, lN D, nI (zw_b (t p)), nI 0, es, ct, bd, pr, lt, T, so, tA, tB, tC, fN, fO, fQ, fS, tO, oS, oT, oN, oC, oE, oH, cm, kd, vl, pa, na, ty, fr, ta, ou, wk, sp) → wpX_startNumber P (ln, nI p, st, er, pl, wt, wn, tg, rf, dp, pt, zs, te, pw, sg, bg, dg, bl, dw, es, ct, bd, pr, lt, T, so, tA, tB, tC, fN, fO, fQ, fS, tO, oS, oT, oN, oC, oE, oH, cm, kd, vl, pa, na, ty, fr, ta, ou, wk, sp) (nI (t p)) := by
  have hS := zh_0 (t := t) (p := p) h
  have m0 : (0 : Int32) = -nI 0 := by decide
  by_cases c17 : t p = 17
  · have eq : zn_nq (t p) = 1 := if_pos c17
    have eb : zw_b (t p) = 1 := if_pos c17
    rw [eq] at hS ⊢
    rw [if_neg (by omega)] at hS
    refine ⟨0, 0, 0, ⟨0, hS, zv_MI_0, by omega, by omega, by omega, by omega, by omega, by omega⟩, fun P hp => ?_⟩
    rw [eb] at hp
    rw [c17]
    exact br_t rfl ⟨za_nb1, xs_fb1, br_f (by decide) (br_f (by decide) (nm_r (nI_1 p) hp))⟩
  · have hc : t p < 10 := by unfold zw_num at h; omega
    have eb : zw_b (t p) = 0 := if_neg c17
    rw [if_pos hc] at hS
    obtain ⟨D, z, s, g1, g2, g3⟩ := zx_figure zv_MI_0 (by omega) hc
    have hq : zn_nq (t p) = 2 ∨ zn_nq (t p) = 3 := by unfold zn_nq; repeat' split
                                                      all_goals omega
    refine ⟨D, z, s, ⟨t p, hS, by rw [Nat.mul_zero, Nat.zero_add] at g1; exact g1, by omega, by omega, by omega, by omega, by omega, by omega⟩, ?_⟩
    intro ln st er pl wt wn tg rf dp pt zs te pw sg bg bl dw es ct bd pr lt dg T so tA tB tC fN fO fQ fS tO oS oT oN oC oE oH cm kd vl pa na ty fr ta ou wk sp P hp
    rw [eb] at hp
    refine br_f (za_ne (b := 17) c17 (by omega) (by decide)) ⟨za_nb0, xs_fb0, br_t rfl ?_⟩
    have fin : ∀ q' : Nat, q' = zn_nq (t p) → wX_startNumber_71 P (nI (t p)) (nI q') ln (nI p) 2 er pl wt wn tg rf dp pt 0 0 0 0 bg 0 0 0 es ct bd pr lt T so tA tB tC fN fO fQ fS tO oS oT oN oC oE oH cm kd vl pa na ty fr ta ou wk sp := by
      rintro q' rfl
      refine br_t rfl (g3 _ (nm_r (nI_1 p) ?_))
      rw [if_neg (by rcases hq with e | e <;> (rw [e]; decide))]
      exact hp
    refine pk_eq (t p) 0 (fun z => ?_) (fun z => ?_)
    · exact fin 2 (by unfold zn_nq; rw [if_neg c17, if_pos z])
    · exact fin 3 (by unfold zn_nq; rw [if_neg c17, if_neg z])
theorem zq_nx0 (c : Nat) : zn_nx 0 c = 0 := by unfold zn_nx; simp
theorem zq_run {t : Nat → Nat} {len p D z s : Nat} (ht : ∀ i, t i < 32) (hl : len ≤ 96) (h0 : zx_N t p (p + 1) (zn_nq (t p)) D z s 0 0 0) :
    ∀ j, p + 1 + j ≤ len → zn_dq t p j ≠ 0 → ∃ D' z' s' F' P' w', zx_N t p (p + 1 + j) (zn_dq t p j) D' z' s' F' P' w' ∧
      ∀ {pl wt wn tg rf dp bg bl es ct bd pr lt : Int32} {T so tA tB tC fN fO fQ fS tO oS oT oN oC oE oH cm kd vl pa na ty fr ta ou wk sp : Nat → Int32}, (∀ i, T i = nI (t i)) → zl_XS (nI len, nI (p + 1), 2, 0, pl, wt, wn, tg, rf, dp, nI (zn_nq (t p)), nI z, -nI 0, nI 0, nI s, bg, lN D, bl, nI 0, es, ct, bd, pr, lt, T, so, tA, tB, tC, fN, fO, fQ, fS, tO, oS, oT, oN, oC, oE, oH, cm, kd, vl, pa, na, ty, fr, ta, ou, wk, sp) (nI len, nI (p + 1 + j), 2, 0, pl, wt, wn, tg, rf, dp, nI (zn_dq t p j), nI z', -nI F', nI P', nI s', bg, lN D', bl, nI w', es, ct, bd, pr, lt, T, so, tA, tB, tC, fN, fO, fQ, fS, tO, oS, oT, oN, oC, oE, oH, cm, kd, vl, pa, na, ty, fr, ta, ou, wk, sp) := by
  intro j
  induction j with
  | zero => intro _ _; exact ⟨D, z, s, 0, 0, 0, h0, fun _ => zl_XS_rf _⟩
  | succ j ih =>
    intro hj hq
    have hq0 : zn_dq t p j ≠ 0 := by
      intro e
      apply hq
      simp only [zn_dq]
      rw [e]; exact zq_nx0 _
    obtain ⟨D1, z1, s1, F1, P1, w1, g1, g2⟩ := ih (by omega) hq0
    have e : zn_dq t p (j + 1) = zn_nx (zn_dq t p j) (t (p + 1 + j)) := rfl
    rw [e] at hq
    obtain ⟨D2, z2, s2, F2, P2, w2, k1, k2⟩ := zx_digit g1 (by omega) (by omega) (ht _) hq
    refine ⟨D2, z2, s2, F2, P2, w2, by rw [e]; exact k1, fun hT => zl_XS_tr (g2 hT) ?_⟩
    rw [e]
    exact zl_dig hT hl (by omega) (fun P hp => k2 P hp)
/-! the end -/
section E
variable {q k n s d : Nat} {ln ap st er pl wt wn tg rf dp pt zs te pw sg bg bl dw es ct bd pr lt : Int32} {dg : Int64} {T so tA tB tC fN fO fQ fS tO oS oT oN oC oE oH cm kd vl pa na ty fr ta ou wk sp : Nat → Int32} {P : SX → Prop}
theorem xe_syn (hq : q ≤ 8) (ha : ¬ zn_acc q) (h : P (ln, ap, st, 1, ap, wt, wn, tg, rf, dp, nI q, zs, te, pw, sg, bg, dg, bl, dw, es, ct, bd, pr, lt, T, so, tA, tB, tC, fN, fO, fQ, fS, tO, oS, oT, oN, oC, oE, oH, cm, kd, vl, pa, na, ty, fr, ta, ou, wk, sp)) : wpX_endNumber P (ln, ap, st, er, pl, wt, wn, tg, rf, dp, nI q, zs, te, pw, sg, bg, dg, bl, dw, es, ct, bd, pr, lt, T, so, tA, tB, tC, fN, fO, fQ, fS, tO, oS, oT, oN, oC, oE, oH, cm, kd, vl, pa, na, ty, fr, ta, ou, wk, sp) := by
  unfold zn_acc at ha
  exact br_f (za_ne (b := 2) (by omega) (by omega) (by decide)) (br_f (za_ne (b := 3) (by omega) (by omega) (by decide)) (br_f (za_ne (b := 5) (by omega) (by omega) (by decide)) (br_f (za_ne (b := 8) (by omega) (by omega) (by decide)) h)))
theorem xe_43 (ha : zn_acc q) (h : wX_endNumber_43 P ln ap st er pl wt wn tg rf dp (nI q) zs te pw sg bg dg bl dw es ct bd pr lt T so tA tB tC fN fO fQ fS tO oS oT oN oC oE oH cm kd vl pa na ty fr ta ou wk sp) : wpX_endNumber P (ln, ap, st, er, pl, wt, wn, tg, rf, dp, nI q, zs, te, pw, sg, bg, dg, bl, dw, es, ct, bd, pr, lt, T, so, tA, tB, tC, fN, fO, fQ, fS, tO, oS, oT, oN, oC, oE, oH, cm, kd, vl, pa, na, ty, fr, ta, ou, wk, sp) := by
  unfold zn_acc at ha
  rcases ha with rfl | rfl | rfl | rfl
  · exact br_t rfl h
  · exact br_f (by decide) (br_t rfl h)
  · exact br_f (by decide) (br_f (by decide) (br_t rfl h))
  · exact br_f (by decide) (br_f (by decide) (br_f (by decide) (br_t rfl h)))
theorem xe_num {W : Int64} (hk : 0 < k) (hn : n < 40) (hs : s < 12) (hty : ty n = nI s) (h6 : ¬ kd n = 6) (hu : ∀ Q : Int64 → Prop, Q W → wpX_units Q (ln, nI k, 1, er, pl, wt, wn, 0, rf, dp, pt, zs, te, pw, sg, bg, dg, bl, dw, es, nI (n + 1), bd, pr, lt, T, so, tA, tB, tC, fN, fO, fQ, fS, tO, oS, oT, oN, oC, oE, oH, cm, kd, vl, pa, na, ty, fr, ta, ou, wk, sp) (tA s))
    (hok : ¬ W < (tB s).toInt64 → W ≤ (tC s).toInt64 → P (ln, nI k, 1, er, pl, wt, wn, 0, rf, dp, pt, zs, te, pw, sg, bg, dg, bl, dw, es, nI (n + 1), bd, pr, lt, T, so, tA, tB, tC, fN, fO, fQ, fS, tO, oS, oT, oN, oC, oE, oH, cm, kd, upd vl n W.toInt32, pa, na, ty, fr, ta, ou, wk, sp)) (hf : (W < (tB s).toInt64 ∨ ¬ W ≤ (tC s).toInt64) → P (ln, nI k, 1, 6, nI (k - 1), wt, wn, 0, rf, dp, pt, zs, te, pw, sg, bg, dg, bl, dw, es, nI (n + 1), bd, pr, lt, T, so, tA, tB, tC, fN, fO, fQ, fS, tO, oS, oT, oN, oC, oE, oH, cm, kd, vl, pa, na, ty, fr, ta, ou, wk, sp)) : wX_endNumber_43 P ln (nI k) st er pl wt wn 0 rf dp pt zs te pw sg bg dg bl dw es (nI (n + 1)) bd pr lt T so tA tB tC fN fO fQ fS tO oS oT oN oC oE oH cm kd vl pa na ty fr ta ou wk sp := by
  have wn' : vp_in (nI n) 40 := vp_in_nI hn (by omega)
  have e : (nI n).toNatClampNeg = n := nI_clamp (by omega)
  have ws : vp_in (nI s) 12 := vp_in_nI hs (by omega)
  have es' : (nI s).toNatClampNeg = s := nI_clamp (by omega)
  have k168 : (W < (tB s).toInt64 ∨ ¬ W ≤ (tC s).toInt64) → wX_endNumber_168 P ln (nI k) 1 er pl wt wn 0 rf dp pt zs te pw sg bg dg bl dw es (nI (n + 1)) bd pr lt T so tA tB tC fN fO fQ fS tO oS oT oN oC oE oH cm kd vl pa na ty fr ta ou wk sp := by
    intro z
    unfold wX_endNumber_168
    rw [za_s hk]
    exact hf z
  refine br_t rfl (nm_r (nI_pred n) ⟨wn', nm_r (e' := nI s) (by rw [e, hty]) ⟨wn', ?_⟩⟩)
  rw [e]
  refine br_f h6 ⟨ws, ?_⟩
  rw [es']
  refine hu _ ⟨ws, ?_⟩
  by_cases c1 : W < (tB s).toInt64
  · exact br_t c1 (k168 (Or.inl c1))
  · refine br_f c1 ⟨ws, ?_⟩
    by_cases c2 : W ≤ (tC s).toInt64
    · exact br_t c2 ⟨wn', nm_r (e' := upd vl n W.toInt32) (by first | rfl | rw [e]) (hok c1 c2)⟩
    · exact br_f c2 (k168 (Or.inr c2))
theorem xe_ref {W : Int64} (hk : 0 < k) (hn : n < 40) (hs : s < 12) (hty : ty n = nI s) (h6 : kd n = 6) (hu : ∀ Q : Int64 → Prop, Q W → wpX_units Q (ln, nI k, 1, er, pl, wt, wn, 0, rf, dp, pt, zs, te, pw, sg, bg, dg, bl, dw, es, nI (n + 1), bd, pr, lt, T, so, tA, tB, tC, fN, fO, fQ, fS, tO, oS, oT, oN, oC, oE, oH, cm, kd, vl, pa, na, ty, fr, ta, ou, wk, sp) 0)
    (hok : ¬ W < 0 → W < (cm s).toInt64 → P (ln, nI k, 1, er, pl, wt, wn, 0, rf, dp, pt, zs, te, pw, sg, bg, dg, bl, dw, es, nI (n + 1), bd, pr, lt, T, so, tA, tB, tC, fN, fO, fQ, fS, tO, oS, oT, oN, oC, oE, oH, cm, kd, upd vl n W.toInt32, pa, na, ty, fr, ta, ou, wk, sp)) (hf : (W < 0 ∨ ¬ W < (cm s).toInt64) → P (ln, nI k, 1, 6, nI (k - 1), wt, wn, 0, rf, dp, pt, zs, te, pw, sg, bg, dg, bl, dw, es, nI (n + 1), bd, pr, lt, T, so, tA, tB, tC, fN, fO, fQ, fS, tO, oS, oT, oN, oC, oE, oH, cm, kd, vl, pa, na, ty, fr, ta, ou, wk, sp)) : wX_endNumber_43 P ln (nI k) st er pl wt wn 0 rf dp pt zs te pw sg bg dg bl dw es (nI (n + 1)) bd pr lt T so tA tB tC fN fO fQ fS tO oS oT oN oC oE oH cm kd vl pa na ty fr ta ou wk sp := by
  have wn' : vp_in (nI n) 40 := vp_in_nI hn (by omega)
  have e : (nI n).toNatClampNeg = n := nI_clamp (by omega)
  have ws : vp_in (nI s) 12 := vp_in_nI hs (by omega)
  have es' : (nI s).toNatClampNeg = s := nI_clamp (by omega)
  have k109 : (W < 0 ∨ ¬ W < (cm s).toInt64) → wX_endNumber_109 P ln (nI k) 1 er pl wt wn 0 rf dp pt zs te pw sg bg dg bl dw es (nI (n + 1)) bd pr lt T so tA tB tC fN fO fQ fS tO oS oT oN oC oE oH cm kd vl pa na ty fr ta ou wk sp := by
    intro z
    unfold wX_endNumber_109
    rw [za_s hk]
    exact hf z
  refine br_t rfl (nm_r (nI_pred n) ⟨wn', nm_r (e' := nI s) (by rw [e, hty]) ⟨wn', ?_⟩⟩)
  rw [e]
  refine br_t h6 (hu _ ?_)
  by_cases c1 : W < 0
  · exact br_t c1 (k109 (Or.inl c1))
  · refine br_f c1 ⟨ws, ?_⟩
    rw [es']
    by_cases c2 : W < (cm s).toInt64
    · exact br_t c2 ⟨wn', nm_r (e' := upd vl n W.toInt32) (by first | rfl | rw [e]) (hok c1 c2)⟩
    · exact br_f c2 (k109 (Or.inr c2))
/-- the tag of a choice -/
theorem xe_tagok {W : Int64} {g v j a : Nat} (hd : d < 6) (hs : s < 12) (hH : oH d = nI s) (hA : tA s = nI a) (ha : a ≤ 5) (hg : g ≤ 5) (hW : W = lN g) (htO : tO (6 * s + g) = nI v) (hv : v < 12) (hso : so v = 5) (hN : oN d = nI j) (hj : j < 40) (htg : ¬ tg = 0)
    (hu : ∀ Q : Int64 → Prop, Q W → wpX_units Q (ln, ap, 1, er, pl, wt, wn, tg, rf, nI (d + 1), pt, zs, te, pw, sg, bg, dg, bl, dw, es, ct, bd, pr, lt, T, so, tA, tB, tC, fN, fO, fQ, fS, tO, oS, oT, oN, oC, oE, oH, cm, kd, vl, pa, na, ty, fr, ta, ou, wk, sp) 0)
    (h : P (ln, ap, 1, er, pl, wt, wn, 0, rf, nI (d + 1), pt, zs, te, pw, sg, bg, dg, bl, dw, es, ct, bd, pr, lt, T, so, tA, tB, tC, fN, fO, fQ, fS, tO, upd oS d 5, upd oT d (nI v), oN, oC, upd oE d ((1 : Int32) <<< (tA s &&& 31)), oH, cm, kd, upd vl j (nI v), pa, na, ty, fr, upd ta j (nI g), ou, wk, sp)) : wX_endNumber_43 P ln ap st er pl wt wn tg rf (nI (d + 1)) pt zs te pw sg bg dg bl dw es ct bd pr lt T so tA tB tC fN fO fQ fS tO oS oT oN oC oE oH cm kd vl pa na ty fr ta ou wk sp := by
  subst hW
  have w : vp_in (nI d) 6 := vp_in_nI hd (by omega)
  have e : (nI d).toNatClampNeg = d := nI_clamp (by omega)
  have eg : (lN g).toInt32 = nI g := lN_i g
  have ej : (nI j).toNatClampNeg = j := nI_clamp (by omega)
  have esn : (nI s).toNatClampNeg = s := nI_clamp (by omega)
  have wj : vp_in (nI j) 40 := vp_in_nI hj (by omega)
  have sh : vp_nar .byte (((1 : Int32) <<< (nI a &&& 31)).toInt8.toInt32) = (1 : Int32) <<< (nI a &&& 31) := by
    have : a = 0 ∨ a = 1 ∨ a = 2 ∨ a = 3 ∨ a = 4 ∨ a = 5 := by omega
    rcases this with rfl | rfl | rfl | rfl | rfl | rfl <;> (rw [vp_nar_byte]; decide)
  refine br_f htg (nm_r (nI_pred d) (hu _ (br_f ?_ (br_t ?_ ⟨w, ?_⟩))))
  · rw [show (0 : Int64) = lN 0 from rfl, pk_lLT (by omega) (by omega)]; omega
  · rw [show (5 : Int64) = lN 5 from rfl, pk_lLE (by omega) (by omega)]; omega
  · rw [e, hH, eg, ze_6, nI_clamp (n := 6 * s + g) (by omega), htO]
    refine ⟨vp_in_nI (by omega) (by omega), br_f (nI_pos (by omega)) ⟨vp_in_nI hv (by omega), ?_⟩⟩
    rw [nI_clamp (n := v) (by omega)]
    refine br_t hso ⟨w, nm_r (e' := upd oS d 5) (by rw [e]; exact congrArg (upd oS d) (za_by (n := 5) (by decide))) ⟨w, nm_r (e' := upd oT d (nI v)) (by rw [e, za_by2 (by omega)]) ⟨w, ?_⟩⟩⟩
    rw [e, hH, esn, hA, hN]
    rw [hA] at h
    refine ⟨vp_in_nI hs (by omega), w, nm_r (e' := upd oE d ((1 : Int32) <<< (nI a &&& 31))) (by rw [sh]) ⟨w, wj, nm_r (e' := upd vl j (nI v)) (by rw [ej]) ⟨w, wj, nm_r (e' := upd ta j (nI g)) (by rw [ej, eg, za_by2 (by omega)]) h⟩⟩⟩
theorem xe_tagf {W : Int64} (hk : 0 < k) (hd : d < 6) (hs : s < 12) (hH : oH d = nI s) (htg : ¬ tg = 0) (hu : ∀ Q : Int64 → Prop, Q W → wpX_units Q (ln, nI k, 1, er, pl, wt, wn, tg, rf, nI (d + 1), pt, zs, te, pw, sg, bg, dg, bl, dw, es, ct, bd, pr, lt, T, so, tA, tB, tC, fN, fO, fQ, fS, tO, oS, oT, oN, oC, oE, oH, cm, kd, vl, pa, na, ty, fr, ta, ou, wk, sp) 0)
    (hf : (W < 0 ∨ ¬ W ≤ 5) ∨ ∃ g, g ≤ 5 ∧ W = lN g ∧ (tO (6 * s + g) = -1 ∨ ∃ v, v < 12 ∧ tO (6 * s + g) = nI v ∧ ¬ so v = 5))
    (h : P (ln, nI k, 1, 6, nI (k - 1), wt, wn, tg, rf, nI (d + 1), pt, zs, te, pw, sg, bg, dg, bl, dw, es, ct, bd, pr, lt, T, so, tA, tB, tC, fN, fO, fQ, fS, tO, oS, oT, oN, oC, oE, oH, cm, kd, vl, pa, na, ty, fr, ta, ou, wk, sp)) : wX_endNumber_43 P ln (nI k) st er pl wt wn tg rf (nI (d + 1)) pt zs te pw sg bg dg bl dw es ct bd pr lt T so tA tB tC fN fO fQ fS tO oS oT oN oC oE oH cm kd vl pa na ty fr ta ou wk sp := by
  have w : vp_in (nI d) 6 := vp_in_nI hd (by omega)
  have e : (nI d).toNatClampNeg = d := nI_clamp (by omega)
  have k66 : wX_endTag_66 (fun u => match u with | (ln, ap, st, er, pl, wt, wn, tg, rf, dp, pt, zs, te, pw, sg, bg, dg, bl, dw, es, ct, bd, pr, lt, T, so, tA, tB, tC, fN, fO, fQ, fS, tO, oS, oT, oN, oC, oE, oH, cm, kd, vl, pa, na, ty, fr, ta, ou, wk, sp) => P (ln, ap, st, er, pl, wt, wn, tg, rf, dp, pt, zs, te, pw, sg, bg, dg, bl, dw, es, ct, bd, pr, lt, T, so, tA, tB, tC, fN, fO, fQ, fS, tO, oS, oT, oN, oC, oE, oH, cm, kd, vl, pa, na, ty, fr, ta, ou, wk, sp)) ln (nI k) 1 er pl wt wn tg rf (nI (d + 1)) pt zs te pw sg bg dg bl dw es ct bd pr lt T so tA tB tC fN fO fQ fS tO oS oT oN oC oE oH cm kd vl pa na ty fr ta ou wk sp := by
    unfold wX_endTag_66
    rw [za_s hk]
    exact h
  refine br_f htg (nm_r (nI_pred d) (hu _ ?_))
  rcases hf with hf | ⟨g, hg, rfl, hg2⟩
  · by_cases c1 : W < 0
    · exact br_t c1 (br_t (by decide) k66)
    · exact br_f c1 (br_f (hf.resolve_left c1) (br_t (by decide) k66))
  · have eg : (lN g).toInt32 = nI g := lN_i g
    refine br_f ?_ (br_t ?_ ⟨w, ?_⟩)
    · rw [show (0 : Int64) = lN 0 from rfl, pk_lLT (by omega) (by omega)]; omega
    · rw [show (5 : Int64) = lN 5 from rfl, pk_lLE (by omega) (by omega)]; omega
    · rw [e, hH, eg, ze_6, nI_clamp (n := 6 * s + g) (by omega)]
      refine ⟨vp_in_nI (by omega) (by omega), ?_⟩
      rcases hg2 with z | ⟨v, hv, z, hso⟩
      · rw [z]; exact br_t (by decide) k66
      · rw [z]
        refine br_f (nI_pos (by omega)) ⟨vp_in_nI hv (by omega), ?_⟩
        rw [nI_clamp (n := v) (by omega)]
        exact br_f hso k66
end E
end ZQ
end
section
/-! what holds between two parts -/
section ZI
/-- one open value -/
def zl_Lv (so tA oS oT oN oC oE oH yT yC yE kd ty : Nat → Int32) (c i : Nat) : Prop :=
  (∃ j, j < c ∧ oN i = nI j ∧ (oS i = 4 → kd j = 3) ∧ (¬ oS i = 4 → kd j = 4) ∧ (oS i = 6 → ty j = oT i)) ∧ (∃ m, m ≤ c ∧ oC i = nI m) ∧ (∃ m, m < 64 ∧ oE i = nI m) ∧ (oH i = -1 ∨ ∃ s, s < 12 ∧ oH i = nI s) ∧
  ∃ s, s < 12 ∧ oT i = nI s ∧ ((oS i = 4 ∧ so s = 4 ∧ yT i = nI s ∧ yC i = oC i) ∨ (oS i = 5 ∧ so s = 5 ∧ yT i = nI s ∧ yE i = oE i) ∨ (oS i = 6 ∧ so s = 6 ∧ yT i = -1 ∧ yE i = (1 : Int32) <<< (tA s &&& 31) ∧ oH i = nI s))
def zl_EV (d c : Nat) (oS oN oC vl yv : Nat → Int32) : Prop :=
  (∀ j, j < c → (∀ i, i < d → oS i = 4 → oN i ≠ nI j) → vl j = yv j) ∧ ∀ i j, i < d → j < c → oS i = 4 → oN i = nI j → yv j = oC i
/-- a field by its name, wanted -/
def zl_Fd (fN fO fS : Nat → Int32) (wt wn nn : Int32) (s : Nat) : Prop := ∃ x l n, l ≤ 5 ∧ nn = nI l ∧ n ≤ 4 ∧ fS s = nI n ∧ zf_at fN s n (nI l) x ∧ wt = fO (4 * s + x) ∧ wn = nI l
def zl_Cx (e d k c : Nat) (sl wt wn tg nn wN wT : Int32) (tA fN fO fS oS oT oN oC be fr : Nat → Int32) : Prop :=
  (0 < d → wT = tg) ∧ ((e = 0 ∧ d = 0 ∧ c = 0 ∧ wt = sl ∧ wn = -1 ∧ tg = 0) ∨
   (e ≤ 1 ∧ tg = 0 ∧ ∃ f s, d = f + 1 ∧ oS f = 4 ∧ s < 12 ∧ oT f = nI s ∧ wt = tA s ∧ wn = oC f) ∨
   (e = 0 ∧ tg = 0 ∧ wN = 0 ∧ ∃ f s, d = f + 1 ∧ oS f = 5 ∧ s < 12 ∧ oT f = nI s ∧ zl_Fd fN fO fS wt wn nn s) ∨
   (e = 0 ∧ tg = 1 ∧ wN = 0 ∧ ∃ f j, d = f + 1 ∧ oS f = 6 ∧ j < c ∧ oN f = nI j ∧ 3 ≤ k ∧ be (k - 3) = fr j) ∨
   (e = 2 ∧ tg = 0 ∧ wN = 1 ∧ ∃ f, d = f + 1 ∧ (oS f = 5 ∨ (oS f = 6 ∧ ∃ j, j < c ∧ oN f = nI j ∧ 1 ≤ k ∧ be (k - 1) = fr j))) ∨
   (e = 3 ∧ tg = 0 ∧ wN = 1 ∧ ∃ f, d = f + 1 ∧ oS f = 5) ∨
   (e = 4 ∧ ∃ f, d = f + 1 ∧ ((oS f = 5 ∧ tg = 0 ∧ ∃ s, s < 12 ∧ oT f = nI s ∧ zl_Fd fN fO fS wt wn nn s) ∨ (oS f = 6 ∧ tg = 1 ∧ ∃ j, j < c ∧ oN f = nI j ∧ 2 ≤ k ∧ be (k - 2) = fr j))) ∨
   (e = 5 ∧ tg = 0 ∧ 1 ≤ c ∧ ∀ f, d = f + 1 → oS f = 4 ∨ oS f = 5))
def zl_Inv (t : Nat → Nat) (len : Nat) (sl : Int32) (so tA fN fO fS be en : Nat → Int32) (k e d c p : Nat) (g : Nat → Nat) (wt wn tg nn wN wT : Int32) (oS oT oN oC oE oH cm kd vl pa na ty fr ta yv ym yT yC yE : Nat → Int32) : Prop :=
  (d ≤ 6 ∧ c ≤ 40 ∧ k ≤ p ∧ p ≤ len) ∧
  (∀ i, i < d → zl_Lv so tA oS oT oN oC oE oH yT yC yE kd ty c i ∧ (i + 1 < d → ¬ oS i = 6)) ∧
  zl_Tr t len so be en c d oN oS kd yv pa na ty fr ta ∧
  zl_EV d c oS oN oC vl yv ∧
  (∀ s, s < 12 → ∃ m, m ≤ p ∧ cm s = nI m ∧ ym s = nI m) ∧
  (∀ i, i < k → ∃ b, be i = nI b ∧ b < p ∧ ∀ i', i' < i → be i' ≠ be i) ∧
  (∀ i, i < d → g (i + 1) = if oS i = 4 then 12 else 10) ∧
  zl_Cx e d k c sl wt wn tg nn wN wT tA fN fO fS oS oT oN oC be fr
def zl_st (e : Nat) : Int32 := if e = 0 then 0 else if e = 1 then 8 else if e = 2 then 5 else if e = 3 then 6 else if e = 4 then 7 else 1
/-- from such a state on, both come to one outcome -/
def zl_H (t : Nat → Nat) (len : Nat) (sl : Int32) (T so tA tB tC fN fO fQ fS tO yt be en ins wh : Nat → Int32) (ps ba : Int32) (k e d p : Nat) (g : Nat → Nat) : Prop :=
  ∀ {c : Nat} {wt wn tg rf pt zs te pw sg bg bl dw es bd pr lt yb nn wN wT wg sc : Int32} {dg : Int64} {oS oT oN oC oE oH cm kd vl pa na ty fr ta ou wk sp yv yT yC yE td ym : Nat → Int32}, zl_Inv t len sl so tA fN fO fS be en k e d c p g wt wn tg nn wN wT oS oT oN oC oE oH cm kd vl pa na ty fr ta yv ym yT yC yE → zl_Out sl k (nI len, nI p, zl_st e, 0, -1, wt, wn, tg, rf, nI d, pt, zs, te, pw, sg, bg, dg, bl, dw, es, nI c, bd, pr, lt, T, so, tA, tB, tC, fN, fO, fQ, fS, tO, oS, oT, oN, oC, oE, oH, cm, kd, vl, pa, na, ty, fr, ta, ou, wk, sp) (nI len, ps, ba, nI c, 0, -1, yb, nI d, nn, wN, wT, pr, wg, sc, so, tA, tB, tC, fN, fO, fS, yt, fQ, T, be, en, ins, wh, kd, yv, pa, na, ty, fr, ym, oN, yT, yC, yE, oH, ou, td)
theorem zl_st_n (e : Nat) : ¬ zl_st e = 2 ∧ ¬ zl_st e = 3 ∧ ¬ zl_st e = 4 := by
  unfold zl_st
  repeat' split
  all_goals decide
section M
variable {t : Nat → Nat} {len : Nat} {sl : Int32} {k e d c p q : Nat} {g : Nat → Nat} {ln ap st er pl wt wn tg rf dp pt zs te pw sg bg bl dw es ct bd pr lt : Int32} {dg : Int64} {T so tA tB tC fN fO fQ fS tO oS oT oN oC oE oH cm kd vl pa na ty fr ta ou wk sp : Nat → Int32} {ln ps ba ct fl yp yb dp nn wN wT pr wg sc : Int32} {so tA tB tC fN fO fS yt fQ T be en ins wh kd yv pa na ty fr cm oN yT yC yE oH ou td : Nat → Int32} {ym : Nat → Int32}
theorem zl_Inv_p (I : zl_Inv t len sl so tA fN fO fS be en k e d c p g wt wn tg nn wN wT oS oT oN oC oE oH cm kd vl pa na ty fr ta yv ym yT yC yE) (h : p ≤ q) (hq : q ≤ len) : zl_Inv t len sl so tA fN fO fS be en k e d c q g wt wn tg nn wN wT oS oT oN oC oE oH cm kd vl pa na ty fr ta yv ym yT yC yE := by
  obtain ⟨⟨a1, a2, a3, a4⟩, h2, h3, h4, h5, h6, h7, h8⟩ := I
  refine ⟨⟨a1, a2, by omega, hq⟩, h2, h3, h4, fun s hs => ?_, fun i hi => ?_, h7, h8⟩
  · obtain ⟨m, hm, r⟩ := h5 s hs
    exact ⟨m, by omega, r⟩
  · obtain ⟨b, hb, r⟩ := h6 i hi
    exact ⟨b, hb, by omega, r.2⟩
theorem zl_Lv_vp {i : Nat} (h : zl_Lv so tA oS oT oN oC oE oH yT yC yE kd ty c i) : vp_in (oT i) 12 := by
  obtain ⟨_, _, _, _, s, hs, e, _⟩ := h
  rw [e]; exact vp_in_nI hs (by omega)
/-- the entry of a part -/
theorem zl_be (I : zl_Inv t len sl so tA fN fO fS be en k e d c p g wt wn tg nn wN wT oS oT oN oC oE oH cm kd vl pa na ty fr ta yv ym yT yC yE) (h : p ≤ q) (hb : be k = nI q) (hq : q < len) (hl : len ≤ 96) {r : Nat} (hr : q < r) : ∀ i, i < k + 1 → ∃ b, be i = nI b ∧ b < r ∧ ∀ i', i' < i → be i' ≠ be i := by
  intro i hi
  by_cases e : i = k
  · subst e
    refine ⟨q, hb, hr, fun i' hi' => ?_⟩
    obtain ⟨b, h1, h2, _⟩ := I.2.2.2.2.2.1 i' hi'
    rw [h1, hb]
    exact za_ne (by omega) (by omega) (by omega)
  · obtain ⟨b, h1, h2, h3⟩ := I.2.2.2.2.2.1 i (by omega)
    exact ⟨b, h1, by omega, h3⟩
end M
end ZI
end
section
/-! the nodes, when one more comes, when something ends, when a tag is known -/
section ZG
variable {t : Nat → Nat} {len : Nat} {so be en oN oS oN' oS' kd kd' yv yv' pa pa' na na' ty ty' fr fr' ta ta' : Nat → Int32} {c c' d d' : Nat} {dep dep' : Nat → Nat}
theorem zg_Ch {j : Nat} (hy : yv' j = yv j) (hf : fr' j = fr j) (ht : ta' j = ta j) (h : zl_Ch t be en yv fr ta j) : zl_Ch t be en yv' fr' ta' j := by
  unfold zl_Ch at h ⊢
  rw [hy, hf, ht]; exact h
theorem zg_Kd {j s : Nat} (hc : c ≤ c') (hk : kd' j = kd j) (hy : yv' j = yv j) (hf : fr' j = fr j) (ht : ta' j = ta j) (hd : dep' j = dep j) (hp : ∀ q, q < c → pa' q = pa q ∧ na' q = na q)
    (hno : ∀ i, i + 1 = d → oN i = nI j → oS i = 6 → ∃ i', i' + 1 = d' ∧ oN' i' = nI j ∧ oS' i' = 6) (h : zl_Kd t len so be en c d oN oS kd yv pa na fr ta dep j s) : zl_Kd t len so be en c' d' oN' oS' kd' yv' pa' na' fr' ta' dep' j s := by
  unfold zl_Kd at h ⊢
  rw [hk, hd, hy, hf, ht]
  rcases h with h | h | h | ⟨h1, h2, v, h3, h4, h5⟩ | ⟨h1, h2, h3⟩ | h | h
  · exact Or.inl h
  · exact Or.inr (Or.inl h)
  · exact Or.inr (Or.inr (Or.inl h))
  · refine Or.inr (Or.inr (Or.inr (Or.inl ⟨h1, h2, v, h3, h4, fun i hi => ?_⟩)))
    obtain ⟨q, a1, a2, a3, a4⟩ := h5 i hi
    exact ⟨q, a1, by omega, by rw [(hp q a2).1]; exact a3, by rw [(hp q a2).2]; exact a4⟩
  · refine Or.inr (Or.inr (Or.inr (Or.inr (Or.inl ⟨h1, h2, ?_⟩))))
    rcases h3 with h3 | ⟨h3, ⟨i, e1, e2, e3⟩ | h4⟩
    · exact Or.inl h3
    · exact Or.inr ⟨h3, Or.inl (hno i e1 e2 e3)⟩
    · exact Or.inr ⟨h3, Or.inr (zg_Ch hy hf ht h4)⟩
  · exact Or.inr (Or.inr (Or.inr (Or.inr (Or.inr (Or.inl h)))))
  · exact Or.inr (Or.inr (Or.inr (Or.inr (Or.inr (Or.inr h)))))
theorem zg_Nd {j : Nat} (hj : j < c) (hc : c ≤ c') (hk : kd' j = kd j) (hy : yv' j = yv j) (hf : fr' j = fr j) (ht : ta' j = ta j) (hty : ty' j = ty j) (hd : ∀ j, j < c → dep' j = dep j) (hp : ∀ q, q < c → pa' q = pa q ∧ na' q = na q)
    (hno : ∀ i, i + 1 = d → oN i = nI j → oS i = 6 → ∃ i', i' + 1 = d' ∧ oN' i' = nI j ∧ oS' i' = 6) (h : zl_Nd t len so be en c d oN oS kd yv pa na ty fr ta dep j) : zl_Nd t len so be en c' d' oN' oS' kd' yv' pa' na' ty' fr' ta' dep' j := by
  obtain ⟨h1, h2, s, h3, h4, h5⟩ := h
  refine ⟨by rw [hd j hj]; exact h1, ?_, s, h3, by rw [hty]; exact h4, zg_Kd hc hk hy hf ht (hd j hj) hp hno h5⟩
  rcases h2 with ⟨a, b⟩ | ⟨q, a1, a2, a3⟩
  · exact Or.inl ⟨a, by rw [hd j hj]; exact b⟩
  · exact Or.inr ⟨q, a1, by rw [(hp j hj).1]; exact a2, by rw [hd j hj, hd q (by omega)]; exact a3⟩
/-- something that is open ends -/
theorem zg_pop {f : Nat} (h6 : ¬ oS f = 6) (h : zl_Tr t len so be en c (f + 1) oN oS kd yv pa na ty fr ta) : zl_Tr t len so be en c f oN oS kd yv pa na ty fr ta := by
  obtain ⟨dep, h1, h2⟩ := h
  refine ⟨dep, fun i j hi hj he => h1 i j (by omega) hj he, fun j hj => zg_Nd hj (Nat.le_refl _) rfl rfl rfl rfl rfl (fun _ _ => rfl) (fun _ _ => ⟨rfl, rfl⟩) (fun i e1 e2 e3 => ?_) (h2 j hj)⟩
  obtain rfl : i = f := by omega
  exact absurd e3 h6
/-- one more node: what the old ones keep. d2, oN2, oS2: what is open afterwards -/
theorem zg_new {d2 : Nat} {oN2 oS2 : Nat → Int32} {K s0 x n0 v0 q0 : Int32} {oC : Nat → Int32} (hd6 : d ≤ 6) (hc40 : c < 40) (h : zl_Tr t len so be en c d oN oS kd yv pa na ty fr ta) (h6 : ∀ f, d = f + 1 → ¬ oS f = 6)
    (hta : ∀ j, j < c → ta' j = ta j)
    (hy : ∀ j, j < c → (yv' j = yv j ∨ (kd j = 3 ∧ ∃ m, m + 1 ≤ 20 ∧ yv j = nI m ∧ yv' j = nI (m + 1) ∧ x = nI j ∧ n0 = nI m))) :
    ∃ dep', (∀ i j, i < d → j < c → oN i = nI j → dep' j = i) ∧ dep' c = d ∧ ∀ j, j < c → zl_Nd t len so be en (c + 1) d2 oN2 oS2 (upd kd c K) yv' (upd pa c x) (upd na c n0) (upd ty c s0) (upd fr c q0) ta' dep' j := by
  obtain ⟨dep, h1, h2⟩ := h
  have hdep : ∀ j, j < c → (fun j => if j = c then d else dep j) j = dep j := fun j hj => by dsimp only; rw [if_neg (by omega)]
  refine ⟨fun j => if j = c then d else dep j, fun i j hi hj he => by rw [hdep j hj]; exact h1 i j hi hj he, by dsimp only; rw [if_pos rfl], fun j hj => ?_⟩
  have hp : ∀ q, q < c → upd pa c x q = pa q ∧ upd na c n0 q = na q := fun q hq => ⟨pk_un (by omega), pk_un (by omega)⟩
  have hno : ∀ i, i + 1 = d → oN i = nI j → oS i = 6 → ∃ i', i' + 1 = d2 ∧ oN2 i' = nI j ∧ oS2 i' = 6 := fun i e1 _ e3 => absurd e3 (h6 i e1.symm)
  rcases hy j hj with hy | ⟨k3, m, m20, e1, e2, rfl, rfl⟩
  · exact zg_Nd hj (by omega) (pk_un (by omega)) hy (pk_un (by omega)) (hta j hj) (pk_un (by omega)) hdep hp hno (h2 j hj)
  · obtain ⟨g1, g2, s, g3, g4, g5⟩ := h2 j hj
    refine ⟨by rw [hdep j hj]; exact g1, ?_, s, g3, by rw [pk_un (by omega)]; exact g4, ?_⟩
    · rcases g2 with ⟨a, b⟩ | ⟨q, a1, a2, a3⟩
      · exact Or.inl ⟨a, by rw [hdep j hj]; exact b⟩
      · exact Or.inr ⟨q, a1, by rw [pk_un (by omega)]; exact a2, by rw [hdep j hj, hdep q (by omega)]; exact a3⟩
    · unfold zl_Kd at g5
      have cs : ∀ z : Int32, ¬ (3 : Int32) = z → kd j = z → False := fun z hz e => hz (k3.symm.trans e)
      rcases g5 with ⟨z, _⟩ | ⟨z, _⟩ | z | ⟨_, z2, v, z3, z4, z5⟩ | ⟨z, _⟩ | z | z
      · exact (cs _ (by decide) z).elim
      · exact (cs _ (by decide) z).elim
      · exact (cs _ (by decide) z).elim
      · obtain rfl : v = m := za_e (z4.symm.trans e1) (by omega) (by omega)
        refine Or.inr (Or.inr (Or.inr (Or.inl ⟨by rw [pk_un (by omega)]; exact k3, by rw [hdep j hj]; exact z2, v + 1, m20, e2, fun i hi => ?_⟩)))
        by_cases iv : i = v
        · subst iv
          exact ⟨c, hj, by omega, pk_us, pk_us⟩
        · obtain ⟨q, a1, a2, a3, a4⟩ := z5 i (by omega)
          exact ⟨q, a1, by omega, by rw [pk_un (by omega)]; exact a3, by rw [pk_un (by omega)]; exact a4⟩
      · exact (cs _ (by decide) z).elim
      · exact (cs _ (by decide) z).elim
      · exact (cs _ (by decide) z).elim
/-- the entries of the new node -/
theorem zg_newN {d2 s : Nat} {oN2 oS2 : Nat → Int32} {dep' : Nat → Nat} (hd6 : d ≤ 6) (hdc : dep' c = d) (hpar : (d = 0 ∧ c = 0) ∨ ∃ f j, d = f + 1 ∧ j < c ∧ pa' c = nI j ∧ dep' j = f) (hs : s < 12) (hty : ty' c = nI s)
    (hK : zl_Kd t len so be en c' d2 oN2 oS2 kd' yv' pa' na' fr' ta' dep' c s) : zl_Nd t len so be en c' d2 oN2 oS2 kd' yv' pa' na' ty' fr' ta' dep' c := by
  refine ⟨by omega, ?_, s, hs, hty, hK⟩
  rcases hpar with ⟨a, b⟩ | ⟨f, j, a1, a2, a3, a4⟩
  · exact Or.inl ⟨b, by omega⟩
  · exact Or.inr ⟨j, a2, a3, by omega⟩
end ZG
end
section
/-! both sides over one part: commas, colons, ends -/
section ZT1
variable {t : Nat → Nat} {len : Nat} {sl : Int32} {k d c p q f z : Nat} {g : Nat → Nat} {ln ap st er pl wt wn tg rf dp pt zs te pw sg bg bl dw es ct bd pr lt : Int32} {dg : Int64} {T so tA tB tC fN fO fQ fS tO oS oT oN oC oE oH cm kd vl pa na ty fr ta ou wk sp : Nat → Int32} {ln ps ba ct fl yp yb dp nn wN wT pr wg sc : Int32} {so tA tB tC fN fO fS yt fQ T be en ins wh kd yv pa na ty fr cm oN yT yC yE oH ou td : Nat → Int32} {ym : Nat → Int32}
theorem zt_cx5 (h : zl_Cx 5 d k c sl wt wn tg nn wN wT tA fN fO fS oS oT oN oC be fr) : (0 < d → wT = 0) ∧ tg = 0 ∧ 1 ≤ c ∧ ∀ f, d = f + 1 → oS f = 4 ∨ oS f = 5 := by
  obtain ⟨h0, h⟩ := h
  rcases h with ⟨z, _⟩ | ⟨z, _⟩ | ⟨z, _⟩ | ⟨z, _⟩ | ⟨z, _⟩ | ⟨z, _⟩ | ⟨z, _⟩ | ⟨_, h1, h2, h3⟩
  all_goals first | omega | exact ⟨fun z => (h0 z).trans h1, h1, h2, h3⟩
theorem zt_cx4 (h : zl_Cx 4 d k c sl wt wn tg nn wN wT tA fN fO fS oS oT oN oC be fr) : wT = tg ∧ ∃ f, d = f + 1 ∧ ((oS f = 5 ∧ tg = 0 ∧ ∃ s, s < 12 ∧ oT f = nI s ∧ zl_Fd fN fO fS wt wn nn s) ∨ (oS f = 6 ∧ tg = 1 ∧ ∃ j, j < c ∧ oN f = nI j ∧ 2 ≤ k ∧ be (k - 2) = fr j)) := by
  obtain ⟨h0, h⟩ := h
  rcases h with ⟨z, _⟩ | ⟨z, _⟩ | ⟨z, _⟩ | ⟨z, _⟩ | ⟨z, _⟩ | ⟨z, _⟩ | ⟨_, h1⟩ | ⟨z, _⟩
  all_goals first | omega | (obtain ⟨f, rfl, h2⟩ := h1; exact ⟨h0 (Nat.succ_pos _), f, rfl, h2⟩)
theorem zt_cx3 (h : zl_Cx 3 d k c sl wt wn tg nn wN wT tA fN fO fS oS oT oN oC be fr) : wT = 0 ∧ tg = 0 ∧ wN = 1 ∧ ∃ f, d = f + 1 ∧ (oS f = 5 ∨ (oS f = 6 ∧ ∃ j, j < c ∧ oN f = nI j ∧ 1 ≤ k ∧ be (k - 1) = fr j)) := by
  obtain ⟨h0, h⟩ := h
  rcases h with ⟨z, _⟩ | ⟨z, _⟩ | ⟨z, _⟩ | ⟨z, _⟩ | ⟨z, _⟩ | ⟨_, h1, h2, f, h3, h4⟩ | ⟨z, _⟩ | ⟨z, _⟩
  all_goals first | omega | (subst h3; exact ⟨(h0 (Nat.succ_pos _)).trans h1, h1, h2, f, rfl, Or.inl h4⟩)
theorem zt_cx2 (h : zl_Cx 2 d k c sl wt wn tg nn wN wT tA fN fO fS oS oT oN oC be fr) : wT = 0 ∧ tg = 0 ∧ wN = 1 ∧ ∃ f, d = f + 1 ∧ (oS f = 5 ∨ (oS f = 6 ∧ ∃ j, j < c ∧ oN f = nI j ∧ 1 ≤ k ∧ be (k - 1) = fr j)) := by
  obtain ⟨h0, h⟩ := h
  rcases h with ⟨z, _⟩ | ⟨z, _⟩ | ⟨z, _⟩ | ⟨z, _⟩ | ⟨_, h1, h2, h3⟩ | ⟨z, _⟩ | ⟨z, _⟩ | ⟨z, _⟩
  all_goals first | omega | (obtain ⟨f, rfl, h4⟩ := h3; exact ⟨(h0 (Nat.succ_pos _)).trans h1, h1, h2, f, rfl, h4⟩)
theorem zt_comma (hB : zl_B t len T so tA tC fN fO fS tO yt) (hps : ps = nI z) (hz : z ≤ 96) (hkz : k < z) (hb : be k = nI q) (hq : q < len) (h15 : t q = 15) (I : zl_Inv t len sl so tA fN fO fS be en k 5 (f + 1) c q g wt wn tg nn wN wT oS oT oN oC oE oH cm kd vl pa na ty fr ta yv ym yT yC yE)
    (hH : oS f = 4 → zl_H t len sl T so tA tB tC fN fO fQ fS tO yt be en ins wh ps ba (k + 1) 0 (f + 1) (q + 1) g) (hH' : ¬ oS f = 4 → zl_H t len sl T so tA tB tC fN fO fQ fS tO yt be en ins wh ps ba (k + 1) 3 (f + 1) (q + 1) g) :
    zl_Out sl k (nI len, nI q, 1, 0, -1, wt, wn, tg, rf, nI (f + 1), pt, zs, te, pw, sg, bg, dg, bl, dw, es, nI c, bd, pr, lt, T, so, tA, tB, tC, fN, fO, fQ, fS, tO, oS, oT, oN, oC, oE, oH, cm, kd, vl, pa, na, ty, fr, ta, ou, wk, sp) (nI len, ps, ba, nI c, 0, -1, yb, nI (f + 1), nn, wN, wT, pr, wg, sc, so, tA, tB, tC, fN, fO, fS, yt, fQ, T, be, en, ins, wh, kd, yv, pa, na, ty, fr, ym, oN, yT, yC, yE, oH, ou, td) := by
  have I0 := I
  obtain ⟨⟨a1, a2, a3, a4⟩, hLv, hTr, hEV, hcm, hbe, hg, hCx⟩ := I
  obtain ⟨hT, ht, hl, htab⟩ := hB
  obtain ⟨w0, t0, c1, hS⟩ := zt_cx5 hCx
  obtain ⟨⟨j, hj, hN, h3, h4, h7⟩, hC, hE, hHH, s, hs, hT', hcase⟩ := (hLv f (by omega)).1
  have hcm' : ∀ s, s < 12 → ∃ m, m ≤ q + 1 ∧ cm s = nI m ∧ ym s = nI m := fun s hs => by
    obtain ⟨m, hm, r⟩ := hcm s hs
    exact ⟨m, by omega, r⟩
  have hTq : T q = nI 15 := by rw [hT, h15]
  have hbe' := zl_be I0 (Nat.le_refl _) hb hq hl (r := q + 1) (by omega)
  by_cases s4 : oS f = 4
  · have hx : zl_XS (nI len, nI q, 1, 0, -1, wt, wn, tg, rf, nI (f + 1), pt, zs, te, pw, sg, bg, dg, bl, dw, es, nI c, bd, pr, lt, T, so, tA, tB, tC, fN, fO, fQ, fS, tO, oS, oT, oN, oC, oE, oH, cm, kd, vl, pa, na, ty, fr, ta, ou, wk, sp) (nI len, nI (q + 1), 0, 0, -1, tA s, oC f, tg, rf, nI (f + 1), pt, zs, te, pw, sg, bg, dg, bl, dw, es, nI c, bd, pr, lt, T, so, tA, tB, tC, fN, fO, fQ, fS, tO, oS, oT, oN, oC, oE, oH, cm, kd, vl, pa, na, ty, fr, ta, ou, wk, sp) := by
      refine zl_read hT hl hq (by decide) (fun P hp => ?_)
      rw [h15]
      exact xr_aft (by decide) (by decide) (fun Q hq => xa_comma_l (by omega) s4 hs hT' hq) hp
    have hy : ∀ P : SY → Prop, P (nI len, ps, ba, nI c, 0, -1, yb, nI (f + 1), nn, 0, wT, pr, wg, sc, so, tA, tB, tC, fN, fO, fS, yt, fQ, T, be, en, ins, wh, kd, yv, pa, na, ty, fr, ym, oN, yT, yC, yE, oH, ou, td) → wpY_part P (nI len, ps, ba, nI c, 0, -1, yb, nI (f + 1), nn, wN, wT, pr, wg, sc, so, tA, tB, tC, fN, fO, fS, yt, fQ, T, be, en, ins, wh, kd, yv, pa, na, ty, fr, ym, oN, yT, yC, yE, oH, ou, td) (nI k) sl := by
      intro P hp
      refine yp_comma (by omega) hb (by omega) hTq (by omega) hN (by omega) (fun z => ?_) (fun _ => hp)
      rw [h3 s4] at z
      exact absurd z (by decide)
    refine zl_Out_x hx (zl_Out_y hps hz hkz hy (hH s4 ⟨⟨a1, a2, by omega, by omega⟩, hLv, hTr, hEV, hcm', hbe', hg, fun _ => (w0 (Nat.succ_pos _)).trans t0.symm, Or.inr (Or.inl ⟨by omega, t0, f, s, rfl, s4, hs, hT', rfl, rfl⟩)⟩))
  · have s5 : oS f = 5 := (hS f rfl).resolve_left s4
    have hx : zl_XS (nI len, nI q, 1, 0, -1, wt, wn, tg, rf, nI (f + 1), pt, zs, te, pw, sg, bg, dg, bl, dw, es, nI c, bd, pr, lt, T, so, tA, tB, tC, fN, fO, fQ, fS, tO, oS, oT, oN, oC, oE, oH, cm, kd, vl, pa, na, ty, fr, ta, ou, wk, sp) (nI len, nI (q + 1), 6, 0, -1, wt, wn, tg, rf, nI (f + 1), pt, zs, te, pw, sg, bg, dg, bl, dw, es, nI c, bd, pr, lt, T, so, tA, tB, tC, fN, fO, fQ, fS, tO, oS, oT, oN, oC, oE, oH, cm, kd, vl, pa, na, ty, fr, ta, ou, wk, sp) := by
      refine zl_read hT hl hq (by decide) (fun P hp => ?_)
      rw [h15]
      exact xr_aft (by decide) (by decide) (fun Q hq => xa_comma_r (by omega) s4 hq) hp
    have hy : ∀ P : SY → Prop, P (nI len, ps, ba, nI c, 0, -1, yb, nI (f + 1), nn, 1, wT, pr, wg, sc, so, tA, tB, tC, fN, fO, fS, yt, fQ, T, be, en, ins, wh, kd, yv, pa, na, ty, fr, ym, oN, yT, yC, yE, oH, ou, td) → wpY_part P (nI len, ps, ba, nI c, 0, -1, yb, nI (f + 1), nn, wN, wT, pr, wg, sc, so, tA, tB, tC, fN, fO, fS, yt, fQ, T, be, en, ins, wh, kd, yv, pa, na, ty, fr, ym, oN, yT, yC, yE, oH, ou, td) (nI k) sl := by
      intro P hp
      exact yp_comma (by omega) hb (by omega) hTq (by omega) hN (by omega) (fun _ => hp) (fun z => absurd (h4 s4) z)
    exact zl_Out_x hx (zl_Out_y hps hz hkz hy (hH' s4 ⟨⟨a1, a2, by omega, by omega⟩, hLv, hTr, hEV, hcm', hbe', hg, fun _ => (w0 (Nat.succ_pos _)).trans t0.symm, Or.inr (Or.inr (Or.inr (Or.inr (Or.inr (Or.inl ⟨rfl, t0, rfl, f, rfl, s5⟩)))))⟩))
theorem zt_colon (hB : zl_B t len T so tA tC fN fO fS tO yt) (hps : ps = nI z) (hz : z ≤ 96) (hkz : k < z) (hb : be k = nI q) (hq : q < len) (h14 : t q = 14) (I : zl_Inv t len sl so tA fN fO fS be en k 4 d c q g wt wn tg nn wN wT oS oT oN oC oE oH cm kd vl pa na ty fr ta yv ym yT yC yE) (hH : zl_H t len sl T so tA tB tC fN fO fQ fS tO yt be en ins wh ps ba (k + 1) 0 d (q + 1) g) :
    zl_Out sl k (nI len, nI q, 7, 0, -1, wt, wn, tg, rf, nI d, pt, zs, te, pw, sg, bg, dg, bl, dw, es, nI c, bd, pr, lt, T, so, tA, tB, tC, fN, fO, fQ, fS, tO, oS, oT, oN, oC, oE, oH, cm, kd, vl, pa, na, ty, fr, ta, ou, wk, sp) (nI len, ps, ba, nI c, 0, -1, yb, nI d, nn, wN, wT, pr, wg, sc, so, tA, tB, tC, fN, fO, fS, yt, fQ, T, be, en, ins, wh, kd, yv, pa, na, ty, fr, ym, oN, yT, yC, yE, oH, ou, td) := by
  have I0 := I
  obtain ⟨⟨a1, a2, a3, a4⟩, hLv, hTr, hEV, hcm, hbe, hg, hCx⟩ := I
  obtain ⟨hT, ht, hl, htab⟩ := hB
  obtain ⟨w0, f, rfl, hS⟩ := zt_cx4 hCx
  have hcm' : ∀ s, s < 12 → ∃ m, m ≤ q + 1 ∧ cm s = nI m ∧ ym s = nI m := fun s hs => by
    obtain ⟨m, hm, r⟩ := hcm s hs
    exact ⟨m, by omega, r⟩
  have hTq : T q = nI 14 := by rw [hT, h14]
  have hbe' := zl_be I0 (Nat.le_refl _) hb hq hl (r := q + 1) (by omega)
  have hx : zl_XS (nI len, nI q, 7, 0, -1, wt, wn, tg, rf, nI (f + 1), pt, zs, te, pw, sg, bg, dg, bl, dw, es, nI c, bd, pr, lt, T, so, tA, tB, tC, fN, fO, fQ, fS, tO, oS, oT, oN, oC, oE, oH, cm, kd, vl, pa, na, ty, fr, ta, ou, wk, sp) (nI len, nI (q + 1), 0, 0, -1, wt, wn, tg, rf, nI (f + 1), pt, zs, te, pw, sg, bg, dg, bl, dw, es, nI c, bd, pr, lt, T, so, tA, tB, tC, fN, fO, fQ, fS, tO, oS, oT, oN, oC, oE, oH, cm, kd, vl, pa, na, ty, fr, ta, ou, wk, sp) := by
    refine zl_read hT hl hq (by decide) (fun P hp => ?_)
    rw [h14]
    exact xr_colon hp
  have hy : ∀ P : SY → Prop, P (nI len, ps, ba, nI c, 0, -1, yb, nI (f + 1), nn, 0, wT, pr, wg, sc, so, tA, tB, tC, fN, fO, fS, yt, fQ, T, be, en, ins, wh, kd, yv, pa, na, ty, fr, ym, oN, yT, yC, yE, oH, ou, td) → wpY_part P (nI len, ps, ba, nI c, 0, -1, yb, nI (f + 1), nn, wN, wT, pr, wg, sc, so, tA, tB, tC, fN, fO, fS, yt, fQ, T, be, en, ins, wh, kd, yv, pa, na, ty, fr, ym, oN, yT, yC, yE, oH, ou, td) (nI k) sl := by
    intro P hp
    exact yp_colon (by omega) hb (by omega) hTq (by omega) hp
  refine zl_Out_x hx (zl_Out_y hps hz hkz hy (hH ⟨⟨a1, a2, by omega, by omega⟩, hLv, hTr, hEV, hcm', hbe', hg, fun _ => w0, ?_⟩))
  rcases hS with ⟨s5, t0, s, hs, hT', hF⟩ | ⟨s6, t1, j, hj, hN, hk2, hbj⟩
  · exact Or.inr (Or.inr (Or.inl ⟨rfl, t0, rfl, f, s, rfl, s5, hs, hT', hF⟩))
  · refine Or.inr (Or.inr (Or.inr (Or.inl ⟨rfl, t1, rfl, f, j, rfl, s6, hj, hN, by omega, ?_⟩)))
    rw [show k + 1 - 3 = k - 2 from by omega]; exact hbj
theorem zt_top {e : Nat} (hLv : ∀ i, i < f + 1 → zl_Lv so tA oS oT oN oC oE oH yT yC yE kd ty c i ∧ (i + 1 < f + 1 → ¬ oS i = 6)) : ∀ i, f = i + 1 → oS i = 4 ∨ oS i = 5 := by
  intro i hi
  obtain ⟨⟨_, _, _, _, s, _, _, h⟩, h6⟩ := hLv i (by omega)
  rcases h with h | h | h
  · exact Or.inl h.1
  · exact Or.inr h.1
  · exact absurd h.1 (h6 (by omega))
theorem zt_cl (hB : zl_B t len T so tA tC fN fO fS tO yt) (hps : ps = nI z) (hz : z ≤ 96) (hkz : k < z) (hb : be k = nI q) (hq : q < len) (h13 : t q = 13) {e : Nat} (he : e = 1 ∨ e = 5) (hc1 : 1 ≤ c) (ht0 : tg = 0) (hw0 : wT = 0) (I : zl_Inv t len sl so tA fN fO fS be en k e (f + 1) c q g wt wn tg nn wN wT oS oT oN oC oE oH cm kd vl pa na ty fr ta yv ym yT yC yE) (s4 : oS f = 4) (hH : zl_H t len sl T so tA tB tC fN fO fQ fS tO yt be en ins wh ps ba (k + 1) 5 f (q + 1) g) :
    zl_Out sl k (nI len, nI q, zl_st e, 0, -1, wt, wn, tg, rf, nI (f + 1), pt, zs, te, pw, sg, bg, dg, bl, dw, es, nI c, bd, pr, lt, T, so, tA, tB, tC, fN, fO, fQ, fS, tO, oS, oT, oN, oC, oE, oH, cm, kd, vl, pa, na, ty, fr, ta, ou, wk, sp) (nI len, ps, ba, nI c, 0, -1, yb, nI (f + 1), nn, wN, wT, pr, wg, sc, so, tA, tB, tC, fN, fO, fS, yt, fQ, T, be, en, ins, wh, kd, yv, pa, na, ty, fr, ym, oN, yT, yC, yE, oH, ou, td) := by
  have I0 := I
  have hB0 := hB
  obtain ⟨⟨a1, a2, a3, a4⟩, hLv, hTr, hEV, hcm, hbe, hg, hCx⟩ := I
  obtain ⟨hT, ht, hl, htab⟩ := hB
  obtain ⟨⟨j, hj, hN, h3, h4, h7⟩, ⟨m, hm, hC⟩, hE, hHH, s, hs, hT', hcase⟩ := (hLv f (by omega)).1
  have hcs : so s = 4 ∧ yT f = nI s ∧ yC f = oC f := by
    rcases hcase with h | h | h
    · exact h.2
    · rw [s4] at h; exact absurd h.1 (by decide)
    · rw [s4] at h; exact absurd h.1 (by decide)
  have hTq : T q = nI 13 := by rw [hT, h13]
  have rd : ∀ {ln1 ap1 st1 er1 pl1 wt1 wn1 tg1 rf1 dp1 pt1 zs1 te1 pw1 sg1 bg1 bl1 dw1 es1 ct1 bd1 pr1 lt1 : Int32} {dg1 : Int64} {T1 so1 tA1 tB1 tC1 fN1 fO1 fQ1 fS1 tO1 oS1 oT1 oN1 oC1 oE1 oH1 cm1 kd1 vl1 pa1 na1 ty1 fr1 ta1 ou1 wk1 sp1 : Nat → Int32}, (∀ Q : SX → Prop, Q (ln1, ap1, st1, er1, pl1, wt1, wn1, tg1, rf1, dp1, pt1, zs1, te1, pw1, sg1, bg1, dg1, bl1, dw1, es1, ct1, bd1, pr1, lt1, T1, so1, tA1, tB1, tC1, fN1, fO1, fQ1, fS1, tO1, oS1, oT1, oN1, oC1, oE1, oH1, cm1, kd1, vl1, pa1, na1, ty1, fr1, ta1, ou1, wk1, sp1) → wpX_closeList Q (nI len, nI q, zl_st e, 0, -1, wt, wn, tg, rf, nI (f + 1), pt, zs, te, pw, sg, bg, dg, bl, dw, es, nI c, bd, pr, lt, T, so, tA, tB, tC, fN, fO, fQ, fS, tO, oS, oT, oN, oC, oE, oH, cm, kd, vl, pa, na, ty, fr, ta, ou, wk, sp)) → zl_XS (nI len, nI q, zl_st e, 0, -1, wt, wn, tg, rf, nI (f + 1), pt, zs, te, pw, sg, bg, dg, bl, dw, es, nI c, bd, pr, lt, T, so, tA, tB, tC, fN, fO, fQ, fS, tO, oS, oT, oN, oC, oE, oH, cm, kd, vl, pa, na, ty, fr, ta, ou, wk, sp) (ln1, ap1, st1, er1, pl1, wt1, wn1, tg1, rf1, dp1, pt1, zs1, te1, pw1, sg1, bg1, dg1, bl1, dw1, es1, ct1, bd1, pr1, lt1, T1, so1, tA1, tB1, tC1, fN1, fO1, fQ1, fS1, tO1, oS1, oT1, oN1, oC1, oE1, oH1, cm1, kd1, vl1, pa1, na1, ty1, fr1, ta1, ou1, wk1, sp1) := by
    intro ln1 ap1 st1 er1 pl1 wt1 wn1 tg1 rf1 dp1 pt1 zs1 te1 pw1 sg1 bg1 bl1 dw1 es1 ct1 bd1 pr1 lt1 dg1 T1 so1 tA1 tB1 tC1 fN1 fO1 fQ1 fS1 tO1 oS1 oT1 oN1 oC1 oE1 oH1 cm1 kd1 vl1 pa1 na1 ty1 fr1 ta1 ou1 wk1 sp1 hcl
    refine zl_read hT hl hq (zl_st_n e).1 (fun P hp => ?_)
    rw [h13]
    rcases he with rfl | rfl
    · exact xr_cl8 hcl hp
    · exact xr_aft (by decide) (by decide) (fun Q hq => xa_cl (by omega) s4 hcl hq) hp
  by_cases hle : tB s ≤ nI m
  · have hx := rd (fun Q hq => xc_list (by omega) hs (by omega) hT' hN hC hle hq)
    have hy : ∀ P : SY → Prop, P (nI len, ps, ba, nI c, 0, -1, yb, nI f, nn, wN, wT, pr, wg, sc, so, tA, tB, tC, fN, fO, fS, yt, fQ, T, be, en, ins, wh, kd, yv, pa, na, ty, fr, ym, oN, yT, yC, yE, oH, ou, td) → wpY_part P (nI len, ps, ba, nI c, 0, -1, yb, nI (f + 1), nn, wN, wT, pr, wg, sc, so, tA, tB, tC, fN, fO, fS, yt, fQ, T, be, en, ins, wh, kd, yv, pa, na, ty, fr, ym, oN, yT, yC, yE, oH, ou, td) (nI k) sl := by
      intro P hp
      exact yp_cl (by omega) hb (by omega) hTq (by omega) (fun Q hq => yc_list (by omega) hs hcs.2.1 (hcs.2.2.trans hC) hle hq) hp
    have hbe' := zl_be I0 (Nat.le_refl _) hb hq hl (r := q + 1) (by omega)
    refine zl_Out_x hx (zl_Out_y hps hz hkz hy (hH ⟨⟨by omega, a2, by omega, by omega⟩, fun i hi => ⟨(hLv i (by omega)).1, fun hi2 => (hLv i (by omega)).2 (by omega)⟩, zg_pop (by rw [s4]; decide) hTr, ⟨fun j' hj' hno => ?_, fun i j' hi hj' e4 e5 => hEV.2 i j' (by omega) hj' e4 e5⟩, fun s hs => ?_, hbe', fun i hi => hg i (by omega), fun _ => hw0.trans ht0.symm, Or.inr (Or.inr (Or.inr (Or.inr (Or.inr (Or.inr (Or.inr ⟨rfl, ht0, hc1, zt_top (e := 0) hLv⟩))))))⟩))
    · by_cases e : j' = j
      · subst e
        rw [pk_us, hEV.2 f j' (by omega) hj' s4 hN, hC]
      · rw [pk_un e]
        refine hEV.1 j' hj' (fun i hi e4 e5 => ?_)
        by_cases ei : i = f
        · subst ei
          exact e (za_e (e5.symm.trans hN) (by omega) (by omega))
        · exact hno i (by omega) e4 e5
    · obtain ⟨m, hm, r⟩ := hcm s hs
      exact ⟨m, by omega, r⟩
  · have hx := rd (fun Q hq => xc_listf (by omega) hs hT' hC hle hq)
    have hy : ∀ P : SY → Prop, P (nI len, ps, ba, nI c, 6, be k, yb, nI f, nn, wN, wT, pr, wg, sc, so, tA, tB, tC, fN, fO, fS, yt, fQ, T, be, en, ins, wh, kd, yv, pa, na, ty, fr, ym, oN, yT, yC, yE, oH, ou, td) → wpY_part P (nI len, ps, ba, nI c, 0, -1, yb, nI (f + 1), nn, wN, wT, pr, wg, sc, so, tA, tB, tC, fN, fO, fS, yt, fQ, T, be, en, ins, wh, kd, yv, pa, na, ty, fr, ym, oN, yT, yC, yE, oH, ou, td) (nI k) sl := by
      intro P hp
      exact yp_cl (by omega) hb (by omega) hTq (by omega) (fun Q hq => yc_listf (by omega) (by omega) hs hcs.2.1 (hcs.2.2.trans hC) hle hq) hp
    rw [hb] at hy
    exact zl_Out_x hx (zl_Out_y hps hz hkz hy (zl_err hB0 (by decide)))
end ZT1
end
section
section ZT2
variable {t : Nat → Nat} {len : Nat} {sl : Int32} {k d c p q f z e : Nat} {g : Nat → Nat} {ln ap st er pl wt wn tg rf dp pt zs te pw sg bg bl dw es ct bd pr lt : Int32} {dg : Int64} {T so tA tB tC fN fO fQ fS tO oS oT oN oC oE oH cm kd vl pa na ty fr ta ou wk sp : Nat → Int32} {ln ps ba ct fl yp yb dp nn wN wT pr wg sc : Int32} {so tA tB tC fN fO fS yt fQ T be en ins wh kd yv pa na ty fr cm oN yT yC yE oH ou td : Nat → Int32} {ym : Nat → Int32}
theorem zt_cr (hB : zl_B t len T so tA tC fN fO fS tO yt) (hps : ps = nI z) (hz : z ≤ 96) (hkz : k < z) (hb : be k = nI q) (hq : q < len) (h11 : t q = 11) (he : e = 2 ∨ e = 5) (hc1 : 1 ≤ c) (ht0 : tg = 0) (hw0 : wT = 0) (I : zl_Inv t len sl so tA fN fO fS be en k e (f + 1) c q g wt wn tg nn wN wT oS oT oN oC oE oH cm kd vl pa na ty fr ta yv ym yT yC yE) (s4 : ¬ oS f = 4) (hH : zl_H t len sl T so tA tB tC fN fO fQ fS tO yt be en ins wh ps ba (k + 1) 5 f (q + 1) g) :
    zl_Out sl k (nI len, nI q, zl_st e, 0, -1, wt, wn, tg, rf, nI (f + 1), pt, zs, te, pw, sg, bg, dg, bl, dw, es, nI c, bd, pr, lt, T, so, tA, tB, tC, fN, fO, fQ, fS, tO, oS, oT, oN, oC, oE, oH, cm, kd, vl, pa, na, ty, fr, ta, ou, wk, sp) (nI len, ps, ba, nI c, 0, -1, yb, nI (f + 1), nn, wN, wT, pr, wg, sc, so, tA, tB, tC, fN, fO, fS, yt, fQ, T, be, en, ins, wh, kd, yv, pa, na, ty, fr, ym, oN, yT, yC, yE, oH, ou, td) := by
  have I0 := I
  have hB0 := hB
  obtain ⟨⟨a1, a2, a3, a4⟩, hLv, hTr, hEV, hcm, hbe, hg, hCx⟩ := I
  obtain ⟨hT, ht, hl, htab⟩ := hB
  obtain ⟨⟨j, hj, hN, h3, h4, h7⟩, ⟨m, hm, hC⟩, hE, hHH, s, hs, hT', hcase⟩ := (hLv f (by omega)).1
  have hTq : T q = nI 11 := by rw [hT, h11]
  have rd : ∀ {ln1 ap1 st1 er1 pl1 wt1 wn1 tg1 rf1 dp1 pt1 zs1 te1 pw1 sg1 bg1 bl1 dw1 es1 ct1 bd1 pr1 lt1 : Int32} {dg1 : Int64} {T1 so1 tA1 tB1 tC1 fN1 fO1 fQ1 fS1 tO1 oS1 oT1 oN1 oC1 oE1 oH1 cm1 kd1 vl1 pa1 na1 ty1 fr1 ta1 ou1 wk1 sp1 : Nat → Int32}, (∀ Q : SX → Prop, Q (ln1, ap1, st1, er1, pl1, wt1, wn1, tg1, rf1, dp1, pt1, zs1, te1, pw1, sg1, bg1, dg1, bl1, dw1, es1, ct1, bd1, pr1, lt1, T1, so1, tA1, tB1, tC1, fN1, fO1, fQ1, fS1, tO1, oS1, oT1, oN1, oC1, oE1, oH1, cm1, kd1, vl1, pa1, na1, ty1, fr1, ta1, ou1, wk1, sp1) → wpX_closeRecord Q (nI len, nI q, zl_st e, 0, -1, wt, wn, tg, rf, nI (f + 1), pt, zs, te, pw, sg, bg, dg, bl, dw, es, nI c, bd, pr, lt, T, so, tA, tB, tC, fN, fO, fQ, fS, tO, oS, oT, oN, oC, oE, oH, cm, kd, vl, pa, na, ty, fr, ta, ou, wk, sp)) → zl_XS (nI len, nI q, zl_st e, 0, -1, wt, wn, tg, rf, nI (f + 1), pt, zs, te, pw, sg, bg, dg, bl, dw, es, nI c, bd, pr, lt, T, so, tA, tB, tC, fN, fO, fQ, fS, tO, oS, oT, oN, oC, oE, oH, cm, kd, vl, pa, na, ty, fr, ta, ou, wk, sp) (ln1, ap1, st1, er1, pl1, wt1, wn1, tg1, rf1, dp1, pt1, zs1, te1, pw1, sg1, bg1, dg1, bl1, dw1, es1, ct1, bd1, pr1, lt1, T1, so1, tA1, tB1, tC1, fN1, fO1, fQ1, fS1, tO1, oS1, oT1, oN1, oC1, oE1, oH1, cm1, kd1, vl1, pa1, na1, ty1, fr1, ta1, ou1, wk1, sp1) := by
    intro ln1 ap1 st1 er1 pl1 wt1 wn1 tg1 rf1 dp1 pt1 zs1 te1 pw1 sg1 bg1 bl1 dw1 es1 ct1 bd1 pr1 lt1 dg1 T1 so1 tA1 tB1 tC1 fN1 fO1 fQ1 fS1 tO1 oS1 oT1 oN1 oC1 oE1 oH1 cm1 kd1 vl1 pa1 na1 ty1 fr1 ta1 ou1 wk1 sp1 hcl
    refine zl_read hT hl hq (zl_st_n e).1 (fun P hp => ?_)
    rw [h11]
    rcases he with rfl | rfl
    · exact xr_cr5 hcl hp
    · exact xr_aft (by decide) (by decide) (fun Q hq => xa_cr (by omega) s4 hcl hq) hp
  have yd : ∀ {ln1 ps1 ba1 ct1 fl1 yp1 yb1 dp1 nn1 wN1 wT1 pr1 wg1 sc1 : Int32} {so1 tA1 tB1 tC1 fN1 fO1 fS1 yt1 fQ1 T1 be1 en1 ins1 wh1 kd1 yv1 pa1 na1 ty1 fr1 cm1 oN1 yT1 yC1 yE1 oH1 ou1 td1 : Nat → Int32}, (∀ Q : SY → Prop, Q (ln1, ps1, ba1, ct1, fl1, yp1, yb1, dp1, nn1, wN1, wT1, pr1, wg1, sc1, so1, tA1, tB1, tC1, fN1, fO1, fS1, yt1, fQ1, T1, be1, en1, ins1, wh1, kd1, yv1, pa1, na1, ty1, fr1, cm1, oN1, yT1, yC1, yE1, oH1, ou1, td1) → wpY_closeRecord Q (nI len, ps, ba, nI c, 0, -1, yb, nI (f + 1), nn, wN, wT, pr, wg, sc, so, tA, tB, tC, fN, fO, fS, yt, fQ, T, be, en, ins, wh, kd, yv, pa, na, ty, fr, ym, oN, yT, yC, yE, oH, ou, td) (nI k)) → ∀ P : SY → Prop, P (ln1, ps1, ba1, ct1, fl1, yp1, yb1, dp1, nn1, wN1, wT1, pr1, wg1, sc1, so1, tA1, tB1, tC1, fN1, fO1, fS1, yt1, fQ1, T1, be1, en1, ins1, wh1, kd1, yv1, pa1, na1, ty1, fr1, cm1, oN1, yT1, yC1, yE1, oH1, ou1, td1) → wpY_part P (nI len, ps, ba, nI c, 0, -1, yb, nI (f + 1), nn, wN, wT, pr, wg, sc, so, tA, tB, tC, fN, fO, fS, yt, fQ, T, be, en, ins, wh, kd, yv, pa, na, ty, fr, ym, oN, yT, yC, yE, oH, ou, td) (nI k) sl := by
    intro ln1 ps1 ba1 ct1 fl1 yp1 yb1 dp1 nn1 wN1 wT1 pr1 wg1 sc1 so1 tA1 tB1 tC1 fN1 fO1 fS1 yt1 fQ1 T1 be1 en1 ins1 wh1 kd1 yv1 pa1 na1 ty1 fr1 cm1 oN1 yT1 yC1 yE1 oH1 ou1 td1 hcl P hp
    exact yp_cr (by omega) hb (by omega) hTq (by omega) hcl hp
  rcases hcase with h | ⟨s5, hso, hyT, hyE⟩ | ⟨s6, hso, hyT, hyE, hyH⟩
  · exact absurd h.1 s4
  · obtain ⟨_, _, _, _, _, _, _, n, hn, hfS, _⟩ := htab s hs
    have n6 : ¬ oS f = 6 := by rw [s5]; decide
    rcases zf_oe fN fQ s (oE f) n with hok | ⟨x, hmi⟩
    · obtain ⟨m9, hm9, e1, e2⟩ := hcm s hs
      have go : ∀ cm' ym' : Nat → Int32, ((0 ≤ oH f ∧ cm' = cm) ∨ (¬ 0 ≤ oH f ∧ ∃ q, q < 126 ∧ cm s = nI q ∧ cm' = upd cm s (nI (q + 1)))) → ((0 ≤ oH f ∧ ym' = ym) ∨ (¬ 0 ≤ oH f ∧ ym' = upd ym s (ym s + 1))) → (∀ s, s < 12 → ∃ m, m ≤ q + 1 ∧ cm' s = nI m ∧ ym' s = nI m) → zl_Out sl k (nI len, nI q, zl_st e, 0, -1, wt, wn, tg, rf, nI (f + 1), pt, zs, te, pw, sg, bg, dg, bl, dw, es, nI c, bd, pr, lt, T, so, tA, tB, tC, fN, fO, fQ, fS, tO, oS, oT, oN, oC, oE, oH, cm, kd, vl, pa, na, ty, fr, ta, ou, wk, sp) (nI len, ps, ba, nI c, 0, -1, yb, nI (f + 1), nn, wN, wT, pr, wg, sc, so, tA, tB, tC, fN, fO, fS, yt, fQ, T, be, en, ins, wh, kd, yv, pa, na, ty, fr, ym, oN, yT, yC, yE, oH, ou, td) := by
        intro cm' ym' hx1 hy1 hcm'
        have hx := rd (fun Q hq => xc_rec_ok (by omega) hs hn n6 hT' hfS hok hx1 hq)
        have hy := yd (fun Q hq => yc_rec_ok (by omega) hs hn hyT hfS (by rw [hyE]; exact hok) hy1 hq)
        have hbe' := zl_be I0 (Nat.le_refl _) hb hq hl (r := q + 1) (by omega)
        refine zl_Out_x hx (zl_Out_y hps hz hkz hy (hH ⟨⟨by omega, a2, by omega, by omega⟩, fun i hi => ⟨(hLv i (by omega)).1, fun hi2 => (hLv i (by omega)).2 (by omega)⟩, zg_pop n6 hTr, ⟨fun j' hj' hno => hEV.1 j' hj' (fun i hi e4 e5 => ?_), fun i j' hi hj' e4 e5 => hEV.2 i j' (by omega) hj' e4 e5⟩, hcm', hbe', fun i hi => hg i (by omega), fun _ => hw0.trans ht0.symm, Or.inr (Or.inr (Or.inr (Or.inr (Or.inr (Or.inr (Or.inr ⟨rfl, ht0, hc1, zt_top (e := 0) hLv⟩))))))⟩))
        by_cases ei : i = f
        · subst ei; exact s4 e4
        · exact hno i (by omega) e4 e5
      by_cases hh : 0 ≤ oH f
      · exact go cm ym (Or.inl ⟨hh, rfl⟩) (Or.inl ⟨hh, rfl⟩) (fun s hs => by obtain ⟨m, hm, r⟩ := hcm s hs; exact ⟨m, by omega, r⟩)
      · refine go _ _ (Or.inr ⟨hh, m9, by omega, e1, rfl⟩) (Or.inr ⟨hh, rfl⟩) (fun s2 hs2 => ?_)
        by_cases es2 : s2 = s
        · subst es2
          rw [pk_us, pk_us, e2, nI_1]
          exact ⟨m9 + 1, by omega, rfl, rfl⟩
        · rw [pk_un es2, pk_un es2]
          obtain ⟨m, hm, r⟩ := hcm s2 hs2
          exact ⟨m, by omega, r⟩
    · have hx := rd (fun Q hq => xc_rec_mi (by omega) hs hn n6 hT' hfS hmi hq)
      refine zl_Out_x hx ?_
      obtain ⟨cm1, hy⟩ : ∃ cm1, ∀ P : SY → Prop, P (nI len, ps, ba, nI c, 8, be k, yb, nI f, nn, wN, wT, pr, wg, sc, so, tA, tB, tC, fN, fO, fS, yt, fQ, T, be, en, ins, wh, kd, yv, pa, na, ty, fr, cm1, oN, yT, yC, yE, oH, ou, td) → wpY_part P (nI len, ps, ba, nI c, 0, -1, yb, nI (f + 1), nn, wN, wT, pr, wg, sc, so, tA, tB, tC, fN, fO, fS, yt, fQ, T, be, en, ins, wh, kd, yv, pa, na, ty, fr, ym, oN, yT, yC, yE, oH, ou, td) (nI k) sl := by
        by_cases hh : 0 ≤ oH f
        · exact ⟨ym, yd (fun Q hq => yc_rec_mi1 (by omega) (by omega) hs hn hyT hfS (by rw [hyE]; exact hmi) (Or.inl ⟨hh, rfl⟩) hq)⟩
        · exact ⟨upd ym s (ym s + 1), yd (fun Q hq => yc_rec_mi1 (by omega) (by omega) hs hn hyT hfS (by rw [hyE]; exact hmi) (Or.inr ⟨hh, rfl⟩) hq)⟩
      rw [hb] at hy
      exact zl_Out_y hps hz hkz hy (zl_err hB0 (by decide))
  · have hx := rd (fun Q hq => xc_rec_ch (by omega) s6 hq)
    have hy := yd (fun Q hq => yc_rec_ch (by omega) (by omega) hyT hq)
    rw [hb] at hy
    exact zl_Out_x hx (zl_Out_y hps hz hkz hy (zl_err hB0 (by decide)))
/-- a character that doesn't fit -/
theorem zt_bad (hB : zl_B t len T so tA tC fN fO fS tO yt) (hps : ps = nI k) (hba : ba = nI q) (hk : k ≤ 96) (hq : q < len) (he : e ≤ 5) (h20 : t q ≠ 20) (hf : ¬ zt_fit e d (g d) (t q)) (I : zl_Inv t len sl so tA fN fO fS be en k e d c q g wt wn tg nn wN wT oS oT oN oC oE oH cm kd vl pa na ty fr ta yv ym yT yC yE) :
    zl_Out sl k (nI len, nI q, zl_st e, 0, -1, wt, wn, tg, rf, nI d, pt, zs, te, pw, sg, bg, dg, bl, dw, es, nI c, bd, pr, lt, T, so, tA, tB, tC, fN, fO, fQ, fS, tO, oS, oT, oN, oC, oE, oH, cm, kd, vl, pa, na, ty, fr, ta, ou, wk, sp) (nI len, ps, ba, nI c, 0, -1, yb, nI d, nn, wN, wT, pr, wg, sc, so, tA, tB, tC, fN, fO, fS, yt, fQ, T, be, en, ins, wh, kd, yv, pa, na, ty, fr, ym, oN, yT, yC, yE, oH, ou, td) := by
  have hB0 := hB
  obtain ⟨⟨a1, a2, a3, a4⟩, hLv, hTr, hEV, hcm, hbe, hg, hCx⟩ := I
  obtain ⟨hT, ht, hl, htab⟩ := hB
  have h32 := ht q
  have nst : e < 2 → ¬ zw_st (t q) := fun z y => hf (Or.inl ⟨z, y⟩)
  have fin : ∀ rf, zl_XS (nI len, nI q, zl_st e, 0, -1, wt, wn, tg, rf, nI d, pt, zs, te, pw, sg, bg, dg, bl, dw, es, nI c, bd, pr, lt, T, so, tA, tB, tC, fN, fO, fQ, fS, tO, oS, oT, oN, oC, oE, oH, cm, kd, vl, pa, na, ty, fr, ta, ou, wk, sp) (nI len, nI q, zl_st e, 1, nI q, wt, wn, tg, rf, nI d, pt, zs, te, pw, sg, bg, dg, bl, dw, es, nI c, bd, pr, lt, T, so, tA, tB, tC, fN, fO, fQ, fS, tO, oS, oT, oN, oC, oE, oH, cm, kd, vl, pa, na, ty, fr, ta, ou, wk, sp) → zl_Out sl k (nI len, nI q, zl_st e, 0, -1, wt, wn, tg, rf, nI d, pt, zs, te, pw, sg, bg, dg, bl, dw, es, nI c, bd, pr, lt, T, so, tA, tB, tC, fN, fO, fQ, fS, tO, oS, oT, oN, oC, oE, oH, cm, kd, vl, pa, na, ty, fr, ta, ou, wk, sp) (nI len, ps, ba, nI c, 0, -1, yb, nI d, nn, wN, wT, pr, wg, sc, so, tA, tB, tC, fN, fO, fS, yt, fQ, T, be, en, ins, wh, kd, yv, pa, na, ty, fr, ym, oN, yT, yC, yE, oH, ou, td) := fun rf hx => zl_Out_x hx (zl_syn hB0 (by omega) hk hps hba)
  refine fin rf (zl_read hT hl hq (zl_st_n e).1 (fun P hp => ?_))
  have : e = 0 ∨ e = 1 ∨ e = 2 ∨ e = 3 ∨ e = 4 ∨ e = 5 := by omega
  rcases this with rfl | rfl | rfl | rfl | rfl | rfl
  · exact xr_val (Or.inl rfl) h32 h20 (fun Q hq => xv_bad h32 (nst (by decide)) hq) hp
  · exact xr_val (Or.inr ⟨rfl, fun y => hf (Or.inr (Or.inl ⟨rfl, y⟩))⟩) h32 h20 (fun Q hq => xv_bad h32 (nst (by decide)) hq) hp
  · unfold zt_fit at hf
    exact xr_nokey (Or.inl rfl) h32 (by omega) h20 (fun _ => by omega) hp
  · unfold zt_fit at hf
    exact xr_nokey (Or.inr rfl) h32 (by omega) h20 (fun y => absurd y (by decide)) hp
  · unfold zt_fit at hf
    exact xr_nocolon h32 (by omega) h20 hp
  · refine xr_aft h32 h20 (fun Q hq => ?_) hp
    unfold zt_fit at hf
    by_cases d0 : d = 0
    · subst d0
      exact xa_0 hq
    · obtain ⟨f, rfl⟩ : ∃ f, d = f + 1 := ⟨d - 1, by omega⟩
      have hgf := hg f (by omega)
      by_cases s4 : oS f = 4
      · rw [if_pos s4] at hgf
        exact xa_bad_l (by omega) s4 h32 (by omega) (by omega) hq
      · rw [if_neg s4] at hgf
        exact xa_bad_r (by omega) s4 h32 (by omega) (by omega) hq
theorem zt_eof (hB : zl_B t len T so tA tC fN fO fS tO yt) (hps : ps = nI k) (hk : k ≤ 96) (he : e ≤ 5) (hba : (e = 5 ∧ d = 0 ∧ ba = -1) ∨ (¬ (e = 5 ∧ d = 0) ∧ ba = nI len)) (I : zl_Inv t len sl so tA fN fO fS be en k e d c len g wt wn tg nn wN wT oS oT oN oC oE oH cm kd vl pa na ty fr ta yv ym yT yC yE) :
    zl_Out sl k (nI len, nI len, zl_st e, 0, -1, wt, wn, tg, rf, nI d, pt, zs, te, pw, sg, bg, dg, bl, dw, es, nI c, bd, pr, lt, T, so, tA, tB, tC, fN, fO, fQ, fS, tO, oS, oT, oN, oC, oE, oH, cm, kd, vl, pa, na, ty, fr, ta, ou, wk, sp) (nI len, ps, ba, nI c, 0, -1, yb, nI d, nn, wN, wT, pr, wg, sc, so, tA, tB, tC, fN, fO, fS, yt, fQ, T, be, en, ins, wh, kd, yv, pa, na, ty, fr, ym, oN, yT, yC, yE, oH, ou, td) := by
  obtain ⟨⟨a1, a2, a3, a4⟩, hLv, hTr, hEV, hcm, hbe, hg, hCx⟩ := I
  rcases hba with ⟨rfl, rfl, rfl⟩ | ⟨h1, h2⟩
  · obtain ⟨w0, t0, c1, _⟩ := zt_cx5 hCx
    exact zl_done hB hk hps rfl ⟨c, c1, a2, rfl, rfl, fun j hj => hEV.1 j hj (fun i hi => by omega), hTr⟩
  · refine zl_eofb hB hk hps h2 (zl_st_n e).1 ?_
    by_cases e5 : e = 5
    · refine Or.inr (nI_nle (by omega) (by omega))
    · refine Or.inl ?_
      have : e = 0 ∨ e = 1 ∨ e = 2 ∨ e = 3 ∨ e = 4 := by omega
      rcases this with rfl | rfl | rfl | rfl | rfl <;> decide
end ZT2
end
section
/-! both sides over a name -/
section ZT3
theorem zt_or : ∀ m, m < 64 → ∀ l, l < 6 → (nI m ||| ((1 : Int32) <<< (nI l &&& 31))) = nI (m ||| 2 ^ l) ∧ (m ||| 2 ^ l) < 64 := by decide +kernel
variable {t : Nat → Nat} {len : Nat} {sl : Int32} {k d c p q f z e ok r : Nat} {g : Nat → Nat} {ln ap st er pl wt wn tg rf dp pt zs te pw sg bg bl dw es ct bd pr lt : Int32} {dg : Int64} {T so tA tB tC fN fO fQ fS tO oS oT oN oC oE oH cm kd vl pa na ty fr ta ou wk sp : Nat → Int32} {ln ps ba ct fl yp yb dp nn wN wT pr wg sc : Int32} {so tA tB tC fN fO fS yt fQ T be en ins wh kd yv pa na ty fr cm oN yT yC yE oH ou td : Nat → Int32} {ym : Nat → Int32}
theorem zt_name (hB : zl_B t len T so tA tC fN fO fS tO yt) (hps : ps = nI z) (hz : z ≤ 96) (hkz : k < z) (hb : be k = nI q) (hq : q < len) (he : e = 2 ∨ e = 3) (h16 : t q = 16) (hsc : zs_sc t len 97 (q + 1) = (ok, r)) (hen : en k = nI (r - 1)) (hwh : wh k = nI ok)
    (h0 : ok = 0 → ps = nI (k + 1) ∧ ba = nI r) (h1 : ok = 1 → zl_H t len sl T so tA tB tC fN fO fQ fS tO yt be en ins wh ps ba (k + 1) 4 d r g) (I : zl_Inv t len sl so tA fN fO fS be en k e d c q g wt wn tg nn wN wT oS oT oN oC oE oH cm kd vl pa na ty fr ta yv ym yT yC yE) :
    zl_Out sl k (nI len, nI q, zl_st e, 0, -1, wt, wn, tg, rf, nI d, pt, zs, te, pw, sg, bg, dg, bl, dw, es, nI c, bd, pr, lt, T, so, tA, tB, tC, fN, fO, fQ, fS, tO, oS, oT, oN, oC, oE, oH, cm, kd, vl, pa, na, ty, fr, ta, ou, wk, sp) (nI len, ps, ba, nI c, 0, -1, yb, nI d, nn, wN, wT, pr, wg, sc, so, tA, tB, tC, fN, fO, fS, yt, fQ, T, be, en, ins, wh, kd, yv, pa, na, ty, fr, ym, oN, yT, yC, yE, oH, ou, td) := by
  have I0 := I
  have hB0 := hB
  obtain ⟨⟨a1, a2, a3, a4⟩, hLv, hTr, hEV, hcm, hbe, hg, hCx⟩ := I
  obtain ⟨hT, ht, hl, htab⟩ := hB
  have hCx2 : wT = 0 ∧ tg = 0 ∧ wN = 1 ∧ ∃ f, d = f + 1 ∧ (oS f = 5 ∨ (oS f = 6 ∧ ∃ j, j < c ∧ oN f = nI j ∧ 1 ≤ k ∧ be (k - 1) = fr j)) := by
    rcases he with rfl | rfl
    · exact zt_cx2 hCx
    · exact zt_cx3 hCx
  obtain ⟨w0, t0, n1, f, rfl, hS⟩ := hCx2
  obtain ⟨⟨j, hj, hN, h3, h4, h7⟩, hC, ⟨mE, hmE, hE⟩, hHH, s, hs, hT', hcase⟩ := (hLv f (by omega)).1
  have n4 : ¬ oS f = 4 := by
    rcases hS with h | h
    · rw [h]; decide
    · rw [h.1]; decide
  have k3 : ¬ kd j = 3 := by rw [h4 n4]; decide
  have hTq : T q = nI 16 := by rw [hT, h16]
  -- X to the first character of the name
  have x0 : zl_XS (nI len, nI q, zl_st e, 0, -1, wt, wn, tg, rf, nI (f + 1), pt, zs, te, pw, sg, bg, dg, bl, dw, es, nI c, bd, pr, lt, T, so, tA, tB, tC, fN, fO, fQ, fS, tO, oS, oT, oN, oC, oE, oH, cm, kd, vl, pa, na, ty, fr, ta, ou, wk, sp) (nI len, nI (q + 1), 4, 0, -1, wt, wn, tg, rf, nI (f + 1), pt, zs, te, pw, nI 0, -1, dg, bl, dw, 0, nI c, bd, pr, lt, T, so, tA, tB, tC, fN, fO, fQ, fS, tO, oS, oT, oN, oC, oE, oH, cm, kd, vl, pa, na, ty, fr, ta, ou, wk, sp) := by
    refine zl_read hT hl hq (zl_st_n e).1 (fun P hp => ?_)
    rw [h16]
    refine xr_key ?_ hp
    rcases he with rfl | rfl
    · exact Or.inl rfl
    · exact Or.inr rfl
  have yd : ∀ {ln1 ps1 ba1 ct1 fl1 yp1 yb1 dp1 nn1 wN1 wT1 pr1 wg1 sc1 : Int32} {so1 tA1 tB1 tC1 fN1 fO1 fS1 yt1 fQ1 T1 be1 en1 ins1 wh1 kd1 yv1 pa1 na1 ty1 fr1 cm1 oN1 yT1 yC1 yE1 oH1 ou1 td1 : Nat → Int32}, (∀ Q : SY → Prop, Q (ln1, ps1, ba1, ct1, fl1, yp1, yb1, dp1, nn1, wN1, wT1, pr1, wg1, sc1, so1, tA1, tB1, tC1, fN1, fO1, fS1, yt1, fQ1, T1, be1, en1, ins1, wh1, kd1, yv1, pa1, na1, ty1, fr1, cm1, oN1, yT1, yC1, yE1, oH1, ou1, td1) → wpY_bindName Q (nI len, ps, ba, nI c, 0, -1, yb, nI (f + 1), nn, wN, wT, pr, wg, sc, so, tA, tB, tC, fN, fO, fS, yt, fQ, T, be, en, ins, wh, kd, yv, pa, na, ty, fr, ym, oN, yT, yC, yE, oH, ou, td) (nI k)) → ∀ P : SY → Prop, P (ln1, ps1, ba1, ct1, fl1, yp1, yb1, dp1, nn1, wN1, wT1, pr1, wg1, sc1, so1, tA1, tB1, tC1, fN1, fO1, fS1, yt1, fQ1, T1, be1, en1, ins1, wh1, kd1, yv1, pa1, na1, ty1, fr1, cm1, oN1, yT1, yC1, yE1, oH1, ou1, td1) → wpY_part P (nI len, ps, ba, nI c, 0, -1, yb, nI (f + 1), nn, wN, wT, pr, wg, sc, so, tA, tB, tC, fN, fO, fS, yt, fQ, T, be, en, ins, wh, kd, yv, pa, na, ty, fr, ym, oN, yT, yC, yE, oH, ou, td) (nI k) sl := by
    intro ln1 ps1 ba1 ct1 fl1 yp1 yb1 dp1 nn1 wN1 wT1 pr1 wg1 sc1 so1 tA1 tB1 tC1 fN1 fO1 fS1 yt1 fQ1 T1 be1 en1 ins1 wh1 kd1 yv1 pa1 na1 ty1 fr1 cm1 oN1 yT1 yC1 yE1 oH1 ou1 td1 hcl P hp
    exact yp_name (by omega) hb (by omega) hTq (by decide) (by omega) hN (by omega) k3 (by rw [n1]; decide) hcl hp
  rcases zk_x (p := q) (pl := -1) (dp := nI (f + 1)) (ct := nI c) (wt := wt) (wn := wn) (tg := tg) (rf := rf) (pt := pt) (zs := zs) (te := te) (pw := pw) (dg := dg) (bl := bl) (dw := dw) (bd := bd) (pr := pr) (lt := lt) (T := T) (so := so) (tA := tA) (tB := tB) (tC := tC) (fN := fN) (fO := fO) (fQ := fQ) (fS := fS) (tO := tO) (oS := oS) (oT := oT) (oN := oN) (oC := oC) (oE := oE) (oH := oH) (cm := cm) (kd := kd) (vl := vl) (pa := pa) (na := na) (ty := ty) (fr := fr) (ta := ta) (ou := ou) (wk := wk) (sp := sp) hT ht hl 97 (q + 1) 0 (-1) (by omega) (by omega) (by omega) (Or.inl ⟨rfl, rfl⟩) with ⟨b, m', bg', g1, g2, g3, g4, g5, g6, g7⟩ | ⟨g1, es', sg', bg', g2⟩ | ⟨b, g1, g2, ap', es', sg', bg', g3⟩
  · -- the name is whole
    rw [hsc] at g1
    have eok : ok = 1 := congrArg Prod.fst g1
    have er : r = b + 1 := congrArg Prod.snd g1
    subst eok er
    rw [Nat.add_sub_cancel] at hen
    have H : zl_H t len sl T so tA tB tC fN fO fQ fS tO yt be en ins wh ps ba (k + 1) 4 (f + 1) (b + 1) g := h1 rfl
    have x1 : ∀ {ln1 st1 er1 pl1 wt1 wn1 tg1 rf1 dp1 pt1 zs1 te1 pw1 sg1 bg1 bl1 dw1 es1 ct1 bd1 pr1 lt1 : Int32} {dg1 : Int64} {T1 so1 tA1 tB1 tC1 fN1 fO1 fQ1 fS1 tO1 oS1 oT1 oN1 oC1 oE1 oH1 cm1 kd1 vl1 pa1 na1 ty1 fr1 ta1 ou1 wk1 sp1 : Nat → Int32}, (∀ Q : SX → Prop, Q (ln1, nI b, st1, er1, pl1, wt1, wn1, tg1, rf1, dp1, pt1, zs1, te1, pw1, sg1, bg1, dg1, bl1, dw1, es1, ct1, bd1, pr1, lt1, T1, so1, tA1, tB1, tC1, fN1, fO1, fQ1, fS1, tO1, oS1, oT1, oN1, oC1, oE1, oH1, cm1, kd1, vl1, pa1, na1, ty1, fr1, ta1, ou1, wk1, sp1) → wX_endName_44 Q (nI f) (zk_lt t q b) (nI len) (nI b) 4 0 (-1) wt wn tg rf (nI (f + 1)) pt zs te pw (nI m') bg' dg bl dw 0 (nI c) bd pr lt T so tA tB tC fN fO fQ fS tO oS oT oN oC oE oH cm kd vl pa na ty fr ta ou wk sp) → zl_XS (nI len, nI q, zl_st e, 0, -1, wt, wn, tg, rf, nI (f + 1), pt, zs, te, pw, sg, bg, dg, bl, dw, es, nI c, bd, pr, lt, T, so, tA, tB, tC, fN, fO, fQ, fS, tO, oS, oT, oN, oC, oE, oH, cm, kd, vl, pa, na, ty, fr, ta, ou, wk, sp) (ln1, nI (b + 1), st1, er1, pl1, wt1, wn1, tg1, rf1, dp1, pt1, zs1, te1, pw1, sg1, bg1, dg1, bl1, dw1, es1, ct1, bd1, pr1, lt1, T1, so1, tA1, tB1, tC1, fN1, fO1, fQ1, fS1, tO1, oS1, oT1, oN1, oC1, oE1, oH1, cm1, kd1, vl1, pa1, na1, ty1, fr1, ta1, ou1, wk1, sp1) := by
      intro ln1 st1 er1 pl1 wt1 wn1 tg1 rf1 dp1 pt1 zs1 te1 pw1 sg1 bg1 bl1 dw1 es1 ct1 bd1 pr1 lt1 dg1 T1 so1 tA1 tB1 tC1 fN1 fO1 fQ1 fS1 tO1 oS1 oT1 oN1 oC1 oE1 oH1 cm1 kd1 vl1 pa1 na1 ty1 fr1 ta1 ou1 wk1 sp1 hen
      refine zl_XS_tr x0 (zl_XS_tr g7 (zl_read hT hl g3 (by decide) (fun P hp => ?_)))
      rw [g4]
      exact xr_chr (Or.inr rfl) (fun Q hq => xs_kclose (fun Q hq => zk_end ht g6 (by omega) (hen Q hq)) hq) hp
    have hbe' := zl_be I0 (Nat.le_refl _) hb hq hl (r := b + 1) (by omega)
    have hcm' : ∀ s, s < 12 → ∃ m, m ≤ b + 1 ∧ cm s = nI m ∧ ym s = nI m := fun s hs => by
      obtain ⟨m, hm, r⟩ := hcm s hs
      exact ⟨m, by omega, r⟩
    rcases hcase with h | ⟨s5, hso, hyT, hyE⟩ | ⟨s6, hso, hyT, hyE, hyH⟩
    · exact absurd h.1 n4
    · -- a field
      have n6 : ¬ oS f = 6 := by rw [s5]; decide
      obtain ⟨_, _, _, _, _, _, _, n, hn, hfS, _⟩ := htab s hs
      by_cases good : b = q + 2 ∧ 21 ≤ t (q + 1) ∧ t (q + 1) ≤ 26
      · obtain ⟨l, hl5, hlt⟩ : ∃ l, l ≤ 5 ∧ t (q + 1) = l + 21 := ⟨t (q + 1) - 21, by omega, by omega⟩
        have elt : zk_lt t q b = nI l := by unfold zk_lt; rw [if_pos good, hlt, Nat.add_sub_cancel]
        rcases zf_ex fN s (nI l) n with hno | ⟨x, hat⟩
        · have hx := x1 (fun Q hq => zk_fieldf (by omega) n6 hT' hs hn hfS (Or.inr ⟨l, hl5, elt, Or.inl hno⟩) hq)
          have hy := yd (fun Q hq => yn_good (b := b) hT (by omega) hwh hb hen (by omega) good.1 hlt hl5 (yn_fieldf (n := n) (by omega) (by omega) hyT hs hn hfS (Or.inr ⟨by decide, Or.inl hno⟩) hq))
          rw [hen] at hy
          exact zl_Out_x hx (zl_Out_y hps hz hkz hy (zl_err hB0 (by decide)))
        · by_cases hbit : zf_mb (oE f) (nI l)
          · obtain ⟨o1, o2⟩ := zt_or mE hmE l (by omega)
            have eN : vp_nar .byte ((oE f ||| ((1 : Int32) <<< (nI l &&& 31))).toInt8.toInt32) = nI (mE ||| 2 ^ l) := by
              rw [hE, o1]; exact za_by2 (by omega)
            have hx := x1 (fun Q hq => by rw [elt]; exact zk_field (by omega) n6 hT' hs hn hfS hat hl5 hbit eN hq)
            have hy := yd (fun Q hq => yn_good (b := b) hT (by omega) hwh hb hen (by omega) good.1 hlt hl5 (yn_field (n := n) (by omega) hyT hs hn hfS hat (by rw [hyE]; exact hbit) hq))
            refine zl_Out_x hx (zl_Out_y hps hz hkz hy (H ⟨⟨a1, a2, by omega, by omega⟩, fun i hi => ⟨?_, (hLv i hi).2⟩, hTr, hEV, hcm', hbe', hg, fun _ => w0.trans t0.symm, Or.inr (Or.inr (Or.inr (Or.inr (Or.inr (Or.inr (Or.inl ⟨rfl, f, rfl, Or.inl ⟨s5, t0, s, hs, hT', x, l, n, hl5, rfl, hn, hfS, hat, rfl, rfl⟩⟩))))))⟩))
            by_cases ei : i = f
            · subst ei
              refine ⟨⟨j, hj, hN, h3, h4, h7⟩, hC, ⟨mE ||| 2 ^ l, o2, pk_us⟩, hHH, s, hs, hT', Or.inr (Or.inl ⟨s5, hso, hyT, ?_⟩)⟩
              rw [pk_us, pk_us, hyE, hE, o1]
            · obtain ⟨⟨b1, b2, b3, b4, b5⟩, _⟩ := hLv i hi
              unfold zl_Lv
              rw [pk_un ei, pk_un ei]
              exact ⟨b1, b2, b3, b4, b5⟩
          · have hx := x1 (fun Q hq => zk_fieldf (by omega) n6 hT' hs hn hfS (Or.inr ⟨l, hl5, elt, Or.inr ⟨x, hat, hbit⟩⟩) hq)
            have hy := yd (fun Q hq => yn_good (b := b) hT (by omega) hwh hb hen (by omega) good.1 hlt hl5 (yn_fieldf (n := n) (by omega) (by omega) hyT hs hn hfS (Or.inr ⟨by decide, Or.inr ⟨x, hat, by rw [hyE]; exact hbit⟩⟩) hq))
            rw [hen] at hy
            exact zl_Out_x hx (zl_Out_y hps hz hkz hy (zl_err hB0 (by decide)))
      · have elt : zk_lt t q b = -1 := by unfold zk_lt; rw [if_neg good]
        have hx := x1 (fun Q hq => zk_fieldf (by omega) n6 hT' hs hn hfS (Or.inl elt) hq)
        refine zl_Out_x hx ?_
        have hy := yd (nn1 := nI (t (q + 1)) - 21) (fun Q hq => yn_bad' (b := b) hT ht (by omega) hwh hb hen (by omega) (by omega) good (yn_fieldf (n := n) (by omega) (by omega) hyT hs hn hfS (Or.inl rfl) hq))
        rw [hen] at hy
        exact zl_Out_y hps hz hkz hy (zl_err hB0 (by decide))
    · -- the tag of a choice
      have s6' : oS f = 6 ∧ ∃ j, j < c ∧ oN f = nI j ∧ 1 ≤ k ∧ be (k - 1) = fr j := by
        rcases hS with h | h
        · rw [s6] at h; exact absurd h (by decide)
        · exact h
      obtain ⟨_, j2, hj2, hN2, hk1, hbj⟩ := s6'
      obtain rfl : j2 = j := za_e (hN2.symm.trans hN) (by omega) (by omega)
      obtain ⟨a, ha5, hA⟩ := (htab s hs).2.2.2.2.1 hso
      by_cases good : b = q + 2 ∧ 21 ≤ t (q + 1) ∧ t (q + 1) ≤ 26
      · obtain ⟨l, hl5, hlt⟩ : ∃ l, l ≤ 5 ∧ t (q + 1) = l + 21 := ⟨t (q + 1) - 21, by omega, by omega⟩
        have elt : zk_lt t q b = nI l := by unfold zk_lt; rw [if_pos good, hlt, Nat.add_sub_cancel]
        by_cases la : nI l = tA s
        · have hx := x1 (fun Q hq => zk_choice (by omega) s6 hyH hs (elt.trans la) hq)
          have hy := yd (fun Q hq => yn_good (b := b) hT (by omega) hwh hb hen (by omega) good.1 hlt hl5 (yn_choice (by omega) hyH hs hyT la hq))
          refine zl_Out_x hx (zl_Out_y hps hz hkz hy (H ⟨⟨a1, a2, by omega, by omega⟩, hLv, hTr, hEV, hcm', hbe', hg, fun _ => rfl, Or.inr (Or.inr (Or.inr (Or.inr (Or.inr (Or.inr (Or.inl ⟨rfl, f, rfl, Or.inr ⟨s6, rfl, j2, hj, hN, by omega, ?_⟩⟩))))))⟩))
          rw [show k + 1 - 2 = k - 1 from by omega]; exact hbj
        · have hx := x1 (fun Q hq => zk_choicef (by omega) s6 hyH hs (by rw [elt]; exact la) hq)
          have hy := yd (fun Q hq => yn_good (b := b) hT (by omega) hwh hb hen (by omega) good.1 hlt hl5 (yn_choicef (by omega) (by omega) hyH hs hyT (Or.inr la) hq))
          rw [hen] at hy
          exact zl_Out_x hx (zl_Out_y hps hz hkz hy (zl_err hB0 (by decide)))
      · have elt : zk_lt t q b = -1 := by unfold zk_lt; rw [if_neg good]
        have hx := x1 (fun Q hq => zk_choicef (by omega) s6 hyH hs (by rw [elt, hA]; exact fun y => za_ne1 (by omega) y.symm) hq)
        have hy := yd (fun Q hq => yn_bad' (b := b) hT ht (by omega) hwh hb hen (by omega) (by omega) good (yn_choicef (by omega) (by omega) hyH hs hyT (Or.inl rfl) hq))
        rw [hen] at hy
        exact zl_Out_x hx (zl_Out_y hps hz hkz hy (zl_err hB0 (by decide)))
  · rw [hsc] at g1
    have eok : ok = 0 := congrArg Prod.fst g1
    have er : r = len := congrArg Prod.snd g1
    subst eok er
    obtain ⟨p1, p2⟩ := h0 rfl
    have hy := yd (fun Q hq => yn_not (by omega) hwh hq)
    exact zl_Out_x (zl_XS_tr x0 g2) (zl_Out_y hps hz hkz hy (zl_eofb hB0 (by omega) p1 p2 (by decide) (Or.inl (by decide))))
  · rw [hsc] at g2
    have eok : ok = 0 := congrArg Prod.fst g2
    have er : r = b := congrArg Prod.snd g2
    subst eok er
    obtain ⟨p1, p2⟩ := h0 rfl
    have hy := yd (fun Q hq => yn_not (by omega) hwh hq)
    exact zl_Out_x (zl_XS_tr x0 g3) (zl_Out_y hps hz hkz hy (zl_syn hB0 (by omega) (by omega) p1 p2))
end ZT3
end
section
/-! both sides over a number -/
section ZT4
theorem zq_agree {t : Nat → Nat} {q r qq D z s F P w dc : Nat} (ht : ∀ i, t i < 32) (hN : zx_N t q r qq D z s F P w) (hacc : zn_acc qq) (hq : q < r) (hr : r ≤ 96) (hdc : dc ≤ 40) :
    ∃ (W : Int64) (rr x : Int32), ((rr = 1 ∧ W = x.toInt64) ∨ (rr = 0 ∧ (W.toInt < -2147483648 ∨ 2147483648 ≤ W.toInt))) ∧
      (∀ {ln ap st er pl wt wn tg rf dp pt bg es ct bd pr lt : Int32} {T so tA tB tC fN fO fQ fS tO oS oT oN oC oE oH cm kd vl pa na ty fr ta ou wk sp : Nat → Int32} (post : Int64 → Prop), post W → wpX_units post (ln, ap, st, er, pl, wt, wn, tg, rf, dp, pt, nI z, -nI F, nI P, nI s, bg, lN D, nI (zw_b (t q)), nI w, es, ct, bd, pr, lt, T, so, tA, tB, tC, fN, fO, fQ, fS, tO, oS, oT, oN, oC, oE, oH, cm, kd, vl, pa, na, ty, fr, ta, ou, wk, sp) (nI dc)) ∧
      (∀ {ln ps ba ct fl yp yb dp nn wN wT pr wg sc : Int32} {so tA tB tC fN fO fS yt fQ T be en ins wh kd yv pa na ty fr cm oN yT yC yE oH ou td : Nat → Int32}, (∀ i, T i = nI (t i)) → ∀ (post : Int32 → SY → Prop) kk, kk < 96 → be kk = nI q → en kk = nI (r - 1) → post rr (ln, ps, ba, ct, fl, yp, yb, dp, nn, wN, wT, pr, wg, x, so, tA, tB, tC, fN, fO, fS, yt, fQ, T, be, en, ins, wh, kd, yv, pa, na, ty, fr, cm, oN, yT, yC, yE, oH, ou, td) → wpY_units post (ln, ps, ba, ct, fl, yp, yb, dp, nn, wN, wT, pr, wg, sc, so, tA, tB, tC, fN, fO, fS, yt, fQ, T, be, en, ins, wh, kd, yv, pa, na, ty, fr, cm, oN, yT, yC, yE, oH, ou, td) (nI kk) (nI dc)) := by
  obtain ⟨Z, hS, hM, hzs, hF, hP, hw, hq1, hq8⟩ := hN
  obtain ⟨e0, s2, v, f, hZ, hs2, hf, hI, hF2, he, hY⟩ := zu_units ht hr hS hacc hq hdc
  have hb1 : zw_b (t q) ≤ 1 := by unfold zw_b; split <;> omega
  obtain ⟨V, W, hV, hX, hXw⟩ := zx_units (F := F) (P := P) (w := w) (dc := dc) (b := zw_b (t q)) hM (by omega) (by omega) hF2 hP hw hdc hb1
  have hX' : (zv_Q ((if w = 1 then -(P : Int) else P) + dc - F) Z V ∧ W = (if t q = 17 then -(lN V) else lN V)) ∨ (zv_no ((if w = 1 then -(P : Int) else P) + dc - F) Z ∧ 10 ^ 11 ≤ V ∧ (W = lN V ∨ W = -(lN V))) := by
    rcases hX with ⟨h1, h2⟩ | h
    · refine Or.inl ⟨h1, ?_⟩
      rw [h2]
      unfold zw_b
      by_cases c : t q = 17
      · rw [if_pos c, if_pos rfl, if_pos c]
      · rw [if_neg c, if_neg (by decide), if_neg c]
    · exact Or.inr h
  obtain ⟨hI1, hI2⟩ := hI
  rw [zn_nd_0 t s2 s2 (Nat.le_refl _), hZ] at hI1
  have hY' : (f = 1 ∧ zv_Q e0 Z v) ∨ (f = 0 ∧ zv_no e0 Z) := by
    rcases hI1 with ⟨h1, h2⟩ | h
    · refine Or.inl ⟨h1, ?_⟩
      have e : e0 + ((0 : Nat) : Int) = e0 := by omega
      rw [e] at h2; exact h2
    · exact Or.inr h
  have hZ97 : Z < 10 ^ 97 := by
    rw [← hZ]
    have h1 := zn_mz_lt t q s2
    have h2 : 10 ^ s2 ≤ 10 ^ 97 := Nat.pow_le_pow_right (by decide) (by omega)
    omega
  have hvb : v < 2 ^ 62 := by
    have : (s2 - q) * 90000000000 ≤ 96 * 90000000000 := Nat.mul_le_mul_right _ (by omega)
    omega
  have hPb : 1000 ≤ P → ((if w = 1 then -(P : Int) else P) + dc - F ≤ -200 ∨ 200 ≤ (if w = 1 then -(P : Int) else P) + dc - F) := by
    intro h
    split <;> omega
  refine ⟨W, zu_r f (zu_sv t q v), (zu_sv t q v).toInt32, zx_agree (P := P) (F := F) hvb hV hZ97 hPb he hX' hY', fun post hp => hXw post hp, fun hT post kk h1 h2 h3 hp => hY hT post kk h1 h2 h3 hp⟩
theorem zq_fin {t : Nat → Nat} {len r qq : Nat} {pl wt wn tg rf dp zs te pw sg bg bl dw es ct bd pr lt : Int32} {dg : Int64} {T so tA tB tC fN fO fQ fS tO oS oT oN oC oE oH cm kd vl pa na ty fr ta ou wk sp : Nat → Int32} {st1 er1 pl1 wt1 wn1 tg1 rf1 dp1 pt1 zs1 te1 pw1 sg1 bg1 bl1 dw1 es1 ct1 bd1 pr1 lt1 : Int32} {dg1 : Int64} {T1 so1 tA1 tB1 tC1 fN1 fO1 fQ1 fS1 tO1 oS1 oT1 oN1 oC1 oE1 oH1 cm1 kd1 vl1 pa1 na1 ty1 fr1 ta1 ou1 wk1 sp1 : Nat → Int32} (hT : ∀ i, T i = nI (t i)) (ht : ∀ i, t i < 32) (hl : len ≤ 96) (hr : r ≤ len) (hq1 : 1 ≤ qq) (hq8 : qq ≤ 8) (hend : r = len ∨ zn_nx qq (t r) = 0) (he1 : ¬ er1 = 0 ∨ (er1 = 0 ∧ st1 = 1))
    (he : ∀ P : SX → Prop, P (nI len, nI r, st1, er1, pl1, wt1, wn1, tg1, rf1, dp1, pt1, zs1, te1, pw1, sg1, bg1, dg1, bl1, dw1, es1, ct1, bd1, pr1, lt1, T1, so1, tA1, tB1, tC1, fN1, fO1, fQ1, fS1, tO1, oS1, oT1, oN1, oC1, oE1, oH1, cm1, kd1, vl1, pa1, na1, ty1, fr1, ta1, ou1, wk1, sp1) → wpX_endNumber P (nI len, nI r, 2, 0, pl, wt, wn, tg, rf, dp, nI qq, zs, te, pw, sg, bg, dg, bl, dw, es, ct, bd, pr, lt, T, so, tA, tB, tC, fN, fO, fQ, fS, tO, oS, oT, oN, oC, oE, oH, cm, kd, vl, pa, na, ty, fr, ta, ou, wk, sp)) : zl_XS (nI len, nI r, 2, 0, pl, wt, wn, tg, rf, dp, nI qq, zs, te, pw, sg, bg, dg, bl, dw, es, ct, bd, pr, lt, T, so, tA, tB, tC, fN, fO, fQ, fS, tO, oS, oT, oN, oC, oE, oH, cm, kd, vl, pa, na, ty, fr, ta, ou, wk, sp) (nI len, nI r, st1, er1, pl1, wt1, wn1, tg1, rf1, dp1, pt1, zs1, te1, pw1, sg1, bg1, dg1, bl1, dw1, es1, ct1, bd1, pr1, lt1, T1, so1, tA1, tB1, tC1, fN1, fO1, fQ1, fS1, tO1, oS1, oT1, oN1, oC1, oE1, oH1, cm1, kd1, vl1, pa1, na1, ty1, fr1, ta1, ou1, wk1, sp1) := by
  by_cases c : r = len
  · subst c
    exact zl_eofn hl he1 he
  · exact zl_dig0 hT hl (by omega) (fun P hp => zx_digit0 hq1 hq8 (ht _) (hend.resolve_left c) P hp) he
/-- from the first character of a number to its end -/
theorem zq_all {t : Nat → Nat} {len q r qq : Nat} (ht : ∀ i, t i < 32) (hl : len ≤ 96) (hn : zw_num (t q)) (hE : zn_end t len q r qq) : ∃ D z s F P w D0 z0 s0, zx_N t q r qq D z s F P w ∧
    (∀ {ln st er pl wt wn tg rf dp pt zs te pw sg bg bl dw es ct bd pr lt : Int32} {dg : Int64} {T so tA tB tC fN fO fQ fS tO oS oT oN oC oE oH cm kd vl pa na ty fr ta ou wk sp : Nat → Int32} (P : SX → Prop), P (ln, nI (q + 1), 2, er, pl, wt, wn, tg, rf, dp, nI (zn_nq (t q)), nI z0, -nI 0, nI 0, nI s0, bg, lN D0, nI (zw_b (t q)), nI 0, es, ct, bd, pr, lt, T, so, tA, tB, tC, fN, fO, fQ, fS, tO, oS, oT, oN, oC, oE, oH, cm, kd, vl, pa, na, ty, fr, ta, ou, wk, sp) → wpX_startNumber P (ln, nI q, st, er, pl, wt, wn, tg, rf, dp, pt, zs, te, pw, sg, bg, dg, bl, dw, es, ct, bd, pr, lt, T, so, tA, tB, tC, fN, fO, fQ, fS, tO, oS, oT, oN, oC, oE, oH, cm, kd, vl, pa, na, ty, fr, ta, ou, wk, sp) (nI (t q))) ∧
    (∀ {pl wt wn tg rf dp bg bl es ct bd pr lt : Int32} {T so tA tB tC fN fO fQ fS tO oS oT oN oC oE oH cm kd vl pa na ty fr ta ou wk sp : Nat → Int32}, (∀ i, T i = nI (t i)) → zl_XS (nI len, nI (q + 1), 2, 0, pl, wt, wn, tg, rf, dp, nI (zn_nq (t q)), nI z0, -nI 0, nI 0, nI s0, bg, lN D0, bl, nI 0, es, ct, bd, pr, lt, T, so, tA, tB, tC, fN, fO, fQ, fS, tO, oS, oT, oN, oC, oE, oH, cm, kd, vl, pa, na, ty, fr, ta, ou, wk, sp) (nI len, nI r, 2, 0, pl, wt, wn, tg, rf, dp, nI qq, nI z, -nI F, nI P, nI s, bg, lN D, bl, nI w, es, ct, bd, pr, lt, T, so, tA, tB, tC, fN, fO, fQ, fS, tO, oS, oT, oN, oC, oE, oH, cm, kd, vl, pa, na, ty, fr, ta, ou, wk, sp)) := by
  obtain ⟨D0, z0, s0, h1, h2⟩ := zq_start hn
  obtain ⟨⟨j, rfl, hj, hd, h0⟩, _⟩ := hE
  obtain ⟨D, z, s, F, P, w, h3, h4⟩ := zq_run ht hl h1 j hj (by rw [hd]; exact h0)
  rw [hd] at h3 h4
  exact ⟨D, z, s, F, P, w, D0, z0, s0, h3, h2, h4⟩
theorem zq_64 {a b : Int32} : (a.toInt64 < b.toInt64 ↔ a < b) ∧ (a.toInt64 ≤ b.toInt64 ↔ a ≤ b) := by
  rw [Int64.lt_iff_toInt_lt, Int64.le_iff_toInt_le, Int32.toInt_toInt64, Int32.toInt_toInt64, Int32.lt_iff_toInt_lt, Int32.le_iff_toInt_le]
  exact ⟨Iff.rfl, Iff.rfl⟩
theorem zq_back (x : Int32) : x.toInt64.toInt32 = x := by
  apply Int32.toInt_inj.mp
  rw [Int64.toInt_toInt32, Int32.toInt_toInt64]
  have h1 := x.le_toInt
  have h2 := x.toInt_lt
  exact Int.bmod_eq_of_le (by omega) (by omega)
/-- in the range on both sides, or on none -/
theorem zq_rg {W : Int64} {rr x lo hi : Int32} (h : (rr = 1 ∧ W = x.toInt64) ∨ (rr = 0 ∧ (W.toInt < -2147483648 ∨ 2147483648 ≤ W.toInt))) :
    (¬ rr = 0 ∧ ¬ x < lo ∧ ¬ hi < x ∧ ¬ W < lo.toInt64 ∧ W ≤ hi.toInt64 ∧ W.toInt32 = x) ∨ ((rr = 0 ∨ x < lo ∨ hi < x) ∧ (W < lo.toInt64 ∨ ¬ W ≤ hi.toInt64)) := by
  rcases h with ⟨h1, rfl⟩ | ⟨h1, h2⟩
  · by_cases c1 : x < lo
    · exact Or.inr ⟨Or.inr (Or.inl c1), Or.inl (zq_64.1.mpr c1)⟩
    · by_cases c2 : hi < x
      · exact Or.inr ⟨Or.inr (Or.inr c2), Or.inr (fun z => Int32.not_le.mpr c2 (zq_64.2.mp z))⟩
      · exact Or.inl ⟨by rw [h1]; decide, c1, c2, fun z => c1 (zq_64.1.mp z), zq_64.2.mpr (Int32.not_lt.mp c2), zq_back x⟩
  · refine Or.inr ⟨Or.inl h1, ?_⟩
    rw [Int64.lt_iff_toInt_lt, Int64.le_iff_toInt_le, Int32.toInt_toInt64, Int32.toInt_toInt64]
    have a1 := lo.le_toInt
    have a2 := hi.toInt_lt
    rcases h2 with h2 | h2
    · exact Or.inl (by omega)
    · exact Or.inr (by omega)
end ZT4
end
section
/-! both sides over the tag of a choice -/
section ZT5
theorem zt_sh : ∀ a, a < 6 → ((1 : Int32) <<< (nI a &&& 31)) = nI (2 ^ a) ∧ 2 ^ a < 64 := by decide +kernel
theorem zt_cx0t {t : Nat → Nat} {e d k c : Nat} {sl wt wn tg nn wN wT : Int32} {tA fN fO fS oS oT oN oC be fr : Nat → Int32} (h : zl_Cx e d k c sl wt wn tg nn wN wT tA fN fO fS oS oT oN oC be fr) (he : e ≤ 1) (h1 : ¬ tg = 0) : wT = tg ∧ e = 0 ∧ tg = 1 ∧ wN = 0 ∧ ∃ f j, d = f + 1 ∧ oS f = 6 ∧ j < c ∧ oN f = nI j ∧ 3 ≤ k ∧ be (k - 3) = fr j := by
  obtain ⟨h0, h⟩ := h
  rcases h with ⟨_, _, _, _, _, z⟩ | ⟨_, z, _⟩ | ⟨_, z, _⟩ | ⟨e0, t1, n0, h⟩ | ⟨z, _⟩ | ⟨z, _⟩ | ⟨z, _⟩ | ⟨z, _⟩
  · exact absurd z h1
  · exact absurd z h1
  · exact absurd z h1
  · obtain ⟨f, j, rfl, h5⟩ := h
    exact ⟨h0 (Nat.succ_pos _), e0, t1, n0, f, j, rfl, h5⟩
  all_goals omega
/-- the nodes, when the tag is known -/
theorem zg_tag {t : Nat → Nat} {len : Nat} {so be en oN oS kd yv pa na ty fr ta oS' yv' ta' : Nat → Int32} {c f j : Nat} (hj : j < c) (hN : oN f = nI j) (hc : c ≤ 40) (hk4 : kd j = 4) (hyv : ∀ j', j' ≠ j → yv' j' = yv j') (hta : ∀ j', j' ≠ j → ta' j' = ta j')
    (hCh : zl_Ch t be en yv' fr ta' j) (h6 : ∀ s, ty j = nI s → s < 12 → so s = 6) (h : zl_Tr t len so be en c (f + 1) oN oS kd yv pa na ty fr ta) : zl_Tr t len so be en c (f + 1) oN oS' kd yv' pa na ty fr ta' := by
  obtain ⟨dep, h1, h2⟩ := h
  refine ⟨dep, h1, fun j' hj' => ?_⟩
  by_cases e : j' = j
  · subst e
    obtain ⟨g1, g2, s, g3, g4, g5⟩ := h2 j' hj'
    refine ⟨g1, g2, s, g3, g4, ?_⟩
    unfold zl_Kd at g5
    have cs : ∀ z : Int32, ¬ (4 : Int32) = z → kd j' = z → False := fun z hz e => hz (hk4.symm.trans e)
    rcases g5 with ⟨z, _⟩ | ⟨z, _⟩ | z | ⟨z, _⟩ | ⟨_, z2, _⟩ | z | z
    · exact (cs _ (by decide) z).elim
    · exact (cs _ (by decide) z).elim
    · exact (cs _ (by decide) z).elim
    · exact (cs _ (by decide) z).elim
    · exact Or.inr (Or.inr (Or.inr (Or.inr (Or.inl ⟨hk4, z2, Or.inr ⟨h6 s g4 g3, Or.inr hCh⟩⟩))))
    · exact (cs _ (by decide) z).elim
    · exact (cs _ (by decide) z).elim
  · refine zg_Nd hj' (Nat.le_refl _) rfl (hyv j' e) rfl (hta j' e) rfl (fun _ _ => rfl) (fun _ _ => ⟨rfl, rfl⟩) (fun i e1 e2 e3 => ?_) (h2 j' hj')
    obtain rfl : i = f := by omega
    exact absurd (za_e (e2.symm.trans hN) (by omega) (by omega)) e
variable {t : Nat → Nat} {len : Nat} {sl : Int32} {k d c p q f z e ok r : Nat} {g : Nat → Nat} {ln ap st er pl wt wn tg rf dp pt zs te pw sg bg bl dw es ct bd pr lt : Int32} {dg : Int64} {T so tA tB tC fN fO fQ fS tO oS oT oN oC oE oH cm kd vl pa na ty fr ta ou wk sp : Nat → Int32} {ln ps ba ct fl yp yb dp nn wN wT pr wg sc : Int32} {so tA tB tC fN fO fS yt fQ T be en ins wh kd yv pa na ty fr cm oN yT yC yE oH ou td : Nat → Int32} {ym : Nat → Int32}
theorem zt_tag (hB : zl_B t len T so tA tC fN fO fS tO yt) (hps : ps = nI z) (hz : z ≤ 96) (hkz : k < z) (hb : be k = nI q) (hq : q < len) (he : e ≤ 1) (h20 : t q ≠ 20) (hst : zw_st (t q)) (ht1 : ¬ tg = 0) (hOv : zt_Ov t len q ok r) (hen : en k = nI (r - 1)) (hwh : wh k = nI ok)
    (h0 : ok = 0 → ps = nI (k + 1) ∧ ba = nI r) (h1 : zw_num (t q) → ok = 1 → zl_H t len sl T so tA tB tC fN fO fQ fS tO yt be en ins wh ps ba (k + 1) 5 d r g) (I : zl_Inv t len sl so tA fN fO fS be en k e d c q g wt wn tg nn wN wT oS oT oN oC oE oH cm kd vl pa na ty fr ta yv ym yT yC yE) :
    zl_Out sl k (nI len, nI q, zl_st e, 0, -1, wt, wn, tg, rf, nI d, pt, zs, te, pw, sg, bg, dg, bl, dw, es, nI c, bd, pr, lt, T, so, tA, tB, tC, fN, fO, fQ, fS, tO, oS, oT, oN, oC, oE, oH, cm, kd, vl, pa, na, ty, fr, ta, ou, wk, sp) (nI len, ps, ba, nI c, 0, -1, yb, nI d, nn, wN, wT, pr, wg, sc, so, tA, tB, tC, fN, fO, fS, yt, fQ, T, be, en, ins, wh, kd, yv, pa, na, ty, fr, ym, oN, yT, yC, yE, oH, ou, td) := by
  have I0 := I
  have hB0 := hB
  obtain ⟨⟨a1, a2, a3, a4⟩, hLv, hTr, hEV, hcm, hbe, hg, hCx⟩ := I
  obtain ⟨hT, ht, hl, htab⟩ := hB
  obtain ⟨hw, rfl, t1, n0, f, j0, rfl, s6, hj0, hN0, hk3, hbj⟩ := zt_cx0t (t := t) hCx he ht1
  have hLf := (hLv f (by omega)).1
  obtain ⟨⟨j, hj, hN, h3, h4, h7⟩, hC, hE, hHH, s, hs, hT', hcase⟩ := hLf
  obtain rfl : j0 = j := za_e (hN0.symm.trans hN) (by omega) (by omega)
  have n4 : ¬ oS f = 4 := by rw [s6]; decide
  have hcs : so s = 6 ∧ yT f = -1 ∧ yE f = (1 : Int32) <<< (tA s &&& 31) ∧ oH f = nI s := by
    rcases hcase with h | h | h
    · exact absurd h.1 n4
    · rw [s6] at h; exact absurd h.1 (by decide)
    · exact h.2
  obtain ⟨hso, hyT, hyE, hyH⟩ := hcs
  obtain ⟨a, ha5, hA⟩ := (htab s hs).2.2.2.2.1 hso
  have htags := (htab s hs).2.2.2.2.2.2.1 hso
  have k4 : kd j0 = 4 := h4 n4
  have k3 : ¬ kd j0 = 3 := by rw [k4]; decide
  have h32 := ht q
  have hTq : T q = nI (t q) := hT q
  have hrk := zt_Ov_k hOv hq
  have cne : t q < 32 ∧ t q ≠ 13 ∧ t q ≠ 11 ∧ t q ≠ 15 ∧ t q ≠ 14 := by unfold zw_st at hst; omega
  have hwT : ¬ wT = 0 := by rw [hw, t1]; decide
  have yd : ∀ {ln1 ps1 ba1 ct1 fl1 yp1 yb1 dp1 nn1 wN1 wT1 pr1 wg1 sc1 : Int32} {so1 tA1 tB1 tC1 fN1 fO1 fS1 yt1 fQ1 T1 be1 en1 ins1 wh1 kd1 yv1 pa1 na1 ty1 fr1 cm1 oN1 yT1 yC1 yE1 oH1 ou1 td1 : Nat → Int32}, (∀ Q : SY → Prop, Q (ln1, ps1, ba1, ct1, fl1, yp1, yb1, dp1, nn1, wN1, wT1, pr1, wg1, sc1, so1, tA1, tB1, tC1, fN1, fO1, fS1, yt1, fQ1, T1, be1, en1, ins1, wh1, kd1, yv1, pa1, na1, ty1, fr1, cm1, oN1, yT1, yC1, yE1, oH1, ou1, td1) → wpY_bindTag Q (nI len, ps, ba, nI c, 0, -1, yb, nI (f + 1), nn, wN, wT, pr, wg, sc, so, tA, tB, tC, fN, fO, fS, yt, fQ, T, be, en, ins, wh, kd, yv, pa, na, ty, fr, ym, oN, yT, yC, yE, oH, ou, td) (nI k)) → ∀ P : SY → Prop, P (ln1, ps1, ba1, ct1, fl1, yp1, yb1, dp1, nn1, wN1, wT1, pr1, wg1, sc1, so1, tA1, tB1, tC1, fN1, fO1, fS1, yt1, fQ1, T1, be1, en1, ins1, wh1, kd1, yv1, pa1, na1, ty1, fr1, cm1, oN1, yT1, yC1, yE1, oH1, ou1, td1) → wpY_part P (nI len, ps, ba, nI c, 0, -1, yb, nI (f + 1), nn, wN, wT, pr, wg, sc, so, tA, tB, tC, fN, fO, fS, yt, fQ, T, be, en, ins, wh, kd, yv, pa, na, ty, fr, ym, oN, yT, yC, yE, oH, ou, td) (nI k) sl := by
    intro ln1 ps1 ba1 ct1 fl1 yp1 yb1 dp1 nn1 wN1 wT1 pr1 wg1 sc1 so1 tA1 tB1 tC1 fN1 fO1 fS1 yt1 fQ1 T1 be1 en1 ins1 wh1 kd1 yv1 pa1 na1 ty1 fr1 cm1 oN1 yT1 yC1 yE1 oH1 ou1 td1 hcl P hp
    exact yp_tag (by omega) hb (by omega) hTq cne (by omega) hN (by omega) k3 n0 hwT hcl hp
  by_cases num : zw_num (t q)
  · -- a number
    have hE' : ∃ qq, zn_end t len q r qq ∧ ((zn_acc qq ∧ ok = 1) ∨ (¬ zn_acc qq ∧ ok = 0)) := by
      rcases hOv with ⟨h, _⟩ | ⟨_, h⟩ | ⟨_, h, h', _⟩
      · unfold zw_num at num; omega
      · exact h
      · unfold zw_num at num; omega
    obtain ⟨qq, hEnd, hacc⟩ := hE'
    obtain ⟨D, z1, s1, F, PP, w1, D0, z0, s0, hN1, hst1, hrun⟩ := zq_all ht hl num hEnd
    have hqq : 1 ≤ qq ∧ qq ≤ 8 := by obtain ⟨_, _, _, _, _, _, _, h⟩ := hN1; exact h
    have x0 : zl_XS (nI len, nI q, zl_st 0, 0, -1, wt, wn, tg, rf, nI (f + 1), pt, zs, te, pw, sg, bg, dg, bl, dw, es, nI c, bd, pr, lt, T, so, tA, tB, tC, fN, fO, fQ, fS, tO, oS, oT, oN, oC, oE, oH, cm, kd, vl, pa, na, ty, fr, ta, ou, wk, sp) (nI len, nI r, 2, 0, -1, wt, wn, tg, rf, nI (f + 1), nI qq, nI z1, -nI F, nI PP, nI s1, bg, lN D, nI (zw_b (t q)), nI w1, es, nI c, bd, pr, lt, T, so, tA, tB, tC, fN, fO, fQ, fS, tO, oS, oT, oN, oC, oE, oH, cm, kd, vl, pa, na, ty, fr, ta, ou, wk, sp) :=
      zl_XS_tr (zl_read hT hl hq (by decide) (fun P hp => xr_val (Or.inl rfl) h32 h20 (fun Q hq => xv_tagn h32 num ht1 (fun Q hq => hst1 Q hq) hq) hp)) (hrun hT)
    rcases hacc with ⟨hacc, rfl⟩ | ⟨hacc, rfl⟩
    · obtain ⟨W, rr, x, hag, hXu, hYu⟩ := zq_agree (dc := 0) ht hN1 hacc (by omega) (by omega) (by omega)
      have xe : ∀ {st1 er1 pl1 wt1 wn1 tg1 rf1 dp1 pt1 zs1 te1 pw1 sg1 bg1 bl1 dw1 es1 ct1 bd1 pr1 lt1 : Int32} {dg1 : Int64} {T1 so1 tA1 tB1 tC1 fN1 fO1 fQ1 fS1 tO1 oS1 oT1 oN1 oC1 oE1 oH1 cm1 kd1 vl1 pa1 na1 ty1 fr1 ta1 ou1 wk1 sp1 : Nat → Int32}, (¬ er1 = 0 ∨ (er1 = 0 ∧ st1 = 1)) → (∀ Q : SX → Prop, Q (nI len, nI r, st1, er1, pl1, wt1, wn1, tg1, rf1, dp1, pt1, zs1, te1, pw1, sg1, bg1, dg1, bl1, dw1, es1, ct1, bd1, pr1, lt1, T1, so1, tA1, tB1, tC1, fN1, fO1, fQ1, fS1, tO1, oS1, oT1, oN1, oC1, oE1, oH1, cm1, kd1, vl1, pa1, na1, ty1, fr1, ta1, ou1, wk1, sp1) → wX_endNumber_43 Q (nI len) (nI r) 2 0 (-1) wt wn tg rf (nI (f + 1)) (nI qq) (nI z1) (-nI F) (nI PP) (nI s1) bg (lN D) (nI (zw_b (t q))) (nI w1) es (nI c) bd pr lt T so tA tB tC fN fO fQ fS tO oS oT oN oC oE oH cm kd vl pa na ty fr ta ou wk sp) → zl_XS (nI len, nI q, zl_st 0, 0, -1, wt, wn, tg, rf, nI (f + 1), pt, zs, te, pw, sg, bg, dg, bl, dw, es, nI c, bd, pr, lt, T, so, tA, tB, tC, fN, fO, fQ, fS, tO, oS, oT, oN, oC, oE, oH, cm, kd, vl, pa, na, ty, fr, ta, ou, wk, sp) (nI len, nI r, st1, er1, pl1, wt1, wn1, tg1, rf1, dp1, pt1, zs1, te1, pw1, sg1, bg1, dg1, bl1, dw1, es1, ct1, bd1, pr1, lt1, T1, so1, tA1, tB1, tC1, fN1, fO1, fQ1, fS1, tO1, oS1, oT1, oN1, oC1, oE1, oH1, cm1, kd1, vl1, pa1, na1, ty1, fr1, ta1, ou1, wk1, sp1) := by
        intro st1 er1 pl1 wt1 wn1 tg1 rf1 dp1 pt1 zs1 te1 pw1 sg1 bg1 bl1 dw1 es1 ct1 bd1 pr1 lt1 dg1 T1 so1 tA1 tB1 tC1 fN1 fO1 fQ1 fS1 tO1 oS1 oT1 oN1 oC1 oE1 oH1 cm1 kd1 vl1 pa1 na1 ty1 fr1 ta1 ou1 wk1 sp1 he1 he2
        exact zl_XS_tr x0 (zq_fin hT ht hl (by omega) hqq.1 hqq.2 hEnd.2 he1 (fun Q hq => xe_43 hacc (he2 Q hq)))
      have hYu' : ∀ Q : Int32 → SY → Prop, Q rr (nI len, ps, ba, nI c, 0, -1, yb, nI (f + 1), nn, wN, wT, pr, wg, x, so, tA, tB, tC, fN, fO, fS, yt, fQ, T, be, en, ins, wh, kd, yv, pa, na, ty, fr, ym, oN, yT, yC, yE, oH, ou, td) → wpY_units Q (nI len, ps, ba, nI c, 0, -1, yb, nI (f + 1), nn, wN, wT, pr, wg, sc, so, tA, tB, tC, fN, fO, fS, yt, fQ, T, be, en, ins, wh, kd, yv, pa, na, ty, fr, ym, oN, yT, yC, yE, oH, ou, td) (nI k) 0 := fun Q hq => hYu hT Q k (by omega) hb hen hq
      by_cases okk : ∃ gg v, gg ≤ 5 ∧ v < 12 ∧ rr = 1 ∧ x = nI gg ∧ tO (6 * s + gg) = nI v ∧ so v = 5
      · obtain ⟨gg, v, hgg, hv, hrr, rfl, htO, hsv⟩ := okk
        have hW : W = lN gg := by
          rcases hag with ⟨_, h⟩ | ⟨h, _⟩
          · rw [h]; exact nI_l (by omega)
          · rw [hrr] at h; exact absurd h (by decide)
        subst hrr
        have hx := xe (er1 := 0) (st1 := 1) (Or.inr ⟨rfl, rfl⟩) (fun Q hq => xe_tagok (by omega) hs hyH hA ha5 hgg hW htO hv hsv hN (by omega) ht1 (fun Q hq => hXu Q hq) hq)
        have hy := yd (fun Q hq => yn_tag53 (by omega) hb (by omega) hTq num (by omega) hyH (yn_tagok (by omega) hwh (by omega) hs hgg hv (by omega) hN ((htags gg (by omega)).1.symm.trans htO) hsv hYu' hq))
        have hbe' := zl_be I0 (Nat.le_refl _) hb hq hl (r := r) (by omega)
        obtain ⟨o1, o2⟩ := zt_sh a (by omega)
        have hUT : zl_UT t be en k gg := by
          intro ln ps ba ct fl yp yb dp nn wN wT pr wg sc so tA tB tC fN fO fS yt fQ T ins wh kd yv pa na ty fr cm oN yT yC yE oH ou td hT2 post hp
          exact hYu hT2 post k (by omega) hb hen hp
        have hCh : zl_Ch t be en (upd yv j0 (nI v)) fr (upd ta j0 (nI gg)) j0 := by
          refine ⟨⟨v, hv, pk_us⟩, gg, hgg, pk_us, k - 3, by omega, hbj, fun i hi => ?_, ?_⟩
          · obtain ⟨_, _, _, hne⟩ := hbe (k - 3) (by omega)
            rw [← hbj]; exact hne i hi
          · rw [show k - 3 + 3 = k from by omega]; exact hUT
        refine zl_Out_x hx (zl_Out_y hps hz hkz hy (h1 num rfl ⟨⟨a1, a2, by omega, by omega⟩, fun i hi => ⟨?_, fun hi2 => ?_⟩, zg_tag hj hN a2 k4 (fun j' e => pk_un e) (fun j' e => pk_un e) hCh (fun s' e1 e2 => ?_) hTr, ⟨fun j' hj' hno => ?_, fun i j' hi hj' e4 e5 => ?_⟩, fun s' hs' => ?_, hbe', fun i hi => ?_, fun _ => rfl, Or.inr (Or.inr (Or.inr (Or.inr (Or.inr (Or.inr (Or.inr ⟨rfl, rfl, by omega, fun f' e => ?_⟩))))))⟩))
        · by_cases ei : i = f
          · subst ei
            refine ⟨⟨j0, hj, hN, fun z => absurd z (by rw [pk_us]; decide), fun _ => k4, fun z => absurd z (by rw [pk_us]; decide)⟩, hC, ⟨2 ^ a, o2, by rw [pk_us, hA]; exact o1⟩, hHH, v, hv, pk_us, Or.inr (Or.inl ⟨pk_us, hsv, pk_us, ?_⟩)⟩
            rw [pk_us]; exact hyE
          · obtain ⟨b1, b2, b3, b4, b5⟩ := (hLv i hi).1
            unfold zl_Lv
            rw [pk_un ei, pk_un ei, pk_un ei, pk_un ei]
            exact ⟨b1, b2, b3, b4, b5⟩
        · rw [pk_un (by omega)]
          exact (hLv i hi).2 hi2
        · obtain rfl : s' = s := za_e (e1.symm.trans ((h7 s6).trans hT')) (by omega) (by omega)
          exact hso
        · by_cases e : j' = j0
          · subst e; rw [pk_us, pk_us]
          · rw [pk_un e, pk_un e]
            refine hEV.1 j' hj' (fun i hi e4 e5 => ?_)
            by_cases ei : i = f
            · subst ei; exact n4 e4
            · exact hno i hi (by rw [pk_un ei]; exact e4) e5
        · by_cases ei : i = f
          · subst ei; rw [pk_us] at e4; exact absurd e4 (by decide)
          · rw [pk_un ei] at e4
            obtain ⟨⟨j2, hj2, hN2, h32', _⟩, _⟩ := (hLv i hi).1
            obtain rfl : j' = j2 := za_e (e5.symm.trans hN2) (by omega) (by omega)
            have ne : j' ≠ j0 := fun z => by
              have := h32' e4
              rw [z, k4] at this
              exact absurd this (by decide)
            rw [pk_un ne]
            exact hEV.2 i j' hi hj' e4 e5
        · obtain ⟨m, hm, r9⟩ := hcm s' hs'
          exact ⟨m, by omega, r9⟩
        · by_cases ei : i = f
          · subst ei
            rw [pk_us, hg i hi, if_neg n4, if_neg (by decide)]
          · rw [pk_un ei]; exact hg i hi
        · obtain rfl : f' = f := by omega
          rw [pk_us]; exact Or.inr rfl
      · -- no such tag
        have hf2 : ((W < 0 ∨ ¬ W ≤ 5) ∧ (rr = 0 ∨ (¬ rr = 0 ∧ (x < 0 ∨ 5 < x)))) ∨ ∃ g, g ≤ 5 ∧ W = lN g ∧ x = nI g ∧ ¬ rr = 0 ∧ (tO (6 * s + g) = -1 ∨ ∃ v, v < 12 ∧ tO (6 * s + g) = nI v ∧ ¬ so v = 5) := by
          rcases hag with ⟨hr1, hW⟩ | ⟨hr0, hW⟩
          · have r1 : ¬ rr = 0 := by rw [hr1]; decide
            by_cases x0' : x < 0
            · exact Or.inl ⟨Or.inl (by rw [hW]; exact (zq_64 (b := 0)).1.mpr x0'), Or.inr ⟨r1, Or.inl x0'⟩⟩
            · by_cases x5 : 5 < x
              · refine Or.inl ⟨Or.inr (fun y => ?_), Or.inr ⟨r1, Or.inr x5⟩⟩
                rw [hW] at y
                exact Int32.not_le.mpr x5 ((zq_64 (b := 5)).2.mp y)
              · obtain ⟨gg, hgg, rfl⟩ := ze_rg (m := 5) (by decide) x0' x5
                refine Or.inr ⟨gg, hgg, by rw [hW]; exact nI_l (by omega), rfl, r1, ?_⟩
                rcases (htags gg (by omega)).2 with y | ⟨v, hv, y⟩
                · exact Or.inl y
                · exact Or.inr ⟨v, hv, y, fun y2 => okk ⟨gg, v, hgg, hv, hr1, rfl, y, y2⟩⟩
          · refine Or.inl ⟨?_, Or.inl hr0⟩
            rw [Int64.lt_iff_toInt_lt, Int64.le_iff_toInt_le, show ((0 : Int64)).toInt = 0 from by decide, show ((5 : Int64)).toInt = 5 from by decide]
            omega
        have hfX : (W < 0 ∨ ¬ W ≤ 5) ∨ ∃ g, g ≤ 5 ∧ W = lN g ∧ (tO (6 * s + g) = -1 ∨ ∃ v, v < 12 ∧ tO (6 * s + g) = nI v ∧ ¬ so v = 5) := by
          rcases hf2 with h | ⟨g, h1, h2, _, _, h5⟩
          · exact Or.inl h.1
          · exact Or.inr ⟨g, h1, h2, h5⟩
        have hfY : rr = 0 ∨ (¬ rr = 0 ∧ ((x < 0 ∨ 5 < x) ∨ ∃ g, g ≤ 5 ∧ x = nI g ∧ (yt (6 * s + g) = -1 ∨ ∃ v, v < 12 ∧ yt (6 * s + g) = nI v ∧ ¬ so v = 5))) := by
          rcases hf2 with ⟨_, h | ⟨h1, h2⟩⟩ | ⟨g, h1, _, h3, h4, h5⟩
          · exact Or.inl h
          · exact Or.inr ⟨h1, Or.inl h2⟩
          · refine Or.inr ⟨h4, Or.inr ⟨g, h1, h3, ?_⟩⟩
            rw [← (htags g (by omega)).1]; exact h5
        have hx := xe (er1 := 6) (Or.inl (by decide)) (fun Q hq => xe_tagf (by omega) (by omega) hs hyH ht1 (fun Q hq => hXu Q hq) hfX hq)
        have hy := yd (fun Q hq => yn_tag53 (by omega) hb (by omega) hTq num (by omega) hyH (yn_tagf (by omega) hwh hs hYu' hfY hq))
        rw [hen] at hy
        exact zl_Out_x hx (zl_Out_y hps hz hkz hy (zl_err hB0 (by decide)))
    · obtain ⟨p1, p2⟩ := h0 rfl
      have hx : zl_XS (nI len, nI q, zl_st 0, 0, -1, wt, wn, tg, rf, nI (f + 1), pt, zs, te, pw, sg, bg, dg, bl, dw, es, nI c, bd, pr, lt, T, so, tA, tB, tC, fN, fO, fQ, fS, tO, oS, oT, oN, oC, oE, oH, cm, kd, vl, pa, na, ty, fr, ta, ou, wk, sp) (nI len, nI r, 2, 1, nI r, wt, wn, tg, rf, nI (f + 1), nI qq, nI z1, -nI F, nI PP, nI s1, bg, lN D, nI (zw_b (t q)), nI w1, es, nI c, bd, pr, lt, T, so, tA, tB, tC, fN, fO, fQ, fS, tO, oS, oT, oN, oC, oE, oH, cm, kd, vl, pa, na, ty, fr, ta, ou, wk, sp) :=
        zl_XS_tr x0 (zq_fin hT ht hl (by omega) hqq.1 hqq.2 hEnd.2 (Or.inl (by decide)) (fun Q hq => xe_syn hqq.2 hacc hq))
      have hy := yd (fun Q hq => yn_tag53 (by omega) hb (by omega) hTq num (by omega) hyH (yn_tagn (by omega) hwh hq))
      exact zl_Out_x hx (zl_Out_y hps hz hkz hy (zl_syn hB0 (by omega) (by omega) p1 p2))
  · have hx : zl_XS (nI len, nI q, zl_st 0, 0, -1, wt, wn, tg, rf, nI (f + 1), pt, zs, te, pw, sg, bg, dg, bl, dw, es, nI c, bd, pr, lt, T, so, tA, tB, tC, fN, fO, fQ, fS, tO, oS, oT, oN, oC, oE, oH, cm, kd, vl, pa, na, ty, fr, ta, ou, wk, sp) (nI len, nI q, zl_st 0, 3, nI q, wt, wn, tg, rf, nI (f + 1), pt, zs, te, pw, sg, bg, dg, bl, dw, es, nI c, bd, pr, lt, T, so, tA, tB, tC, fN, fO, fQ, fS, tO, oS, oT, oN, oC, oE, oH, cm, kd, vl, pa, na, ty, fr, ta, ou, wk, sp) :=
      zl_read hT hl hq (by decide) (fun P hp => xr_val (Or.inl rfl) h32 h20 (fun Q hq => xv_tagt h32 hst num ht1 hq) hp)
    have hy := yd (fun Q hq => yn_tagt (by omega) hb (by omega) hTq (by unfold zw_num at num; omega) (by unfold zw_num at num; omega) h32 (by omega) hq)
    rw [hb] at hy
    exact zl_Out_x hx (zl_Out_y hps hz hkz hy (zl_err hB0 (by decide)))
end ZT5
end
section
/-! one more node on both sides: what holds behind it -/
section ZNN
/-- the reference's values: the new one's, and one more element where it stands in a list -/
def zv_in2 (kd yv : Nat → Int32) (c : Nat) (v x3 : Int32) : Nat → Int32 := if 0 ≤ x3 ∧ kd x3.toNatClampNeg = 3 then upd (upd yv c v) x3.toNatClampNeg (yv x3.toNatClampNeg + 1) else upd yv c v
/-- where the value stands -/
def zv_VC (d c : Nat) (wn : Int32) (so oS oT oN oC yT yC yC' kd yv : Nat → Int32) : Prop :=
  (d = 0 ∧ c = 0 ∧ wn = -1 ∧ yC' = yC) ∨
  (∃ f j s m, d = f + 1 ∧ j < c ∧ oN f = nI j ∧ kd j = 3 ∧ oS f = 4 ∧ s < 12 ∧ oT f = nI s ∧ so s = 4 ∧ yT f = nI s ∧ oC f = nI m ∧ m ≤ c ∧ yv j = nI m ∧ wn = nI m ∧ yC' = upd yC f (nI (m + 1))) ∨
  (∃ f j l, d = f + 1 ∧ j < c ∧ oN f = nI j ∧ kd j = 4 ∧ oS f = 5 ∧ yC' = yC ∧ l ≤ 5 ∧ wn = nI l)
variable {t : Nat → Nat} {len : Nat} {sl : Int32} {k e d c p q : Nat} {g : Nat → Nat} {ln ap st er pl wt wn tg rf dp pt zs te pw sg bg bl dw es ct bd pr lt : Int32} {dg : Int64} {T so tA tB tC fN fO fQ fS tO oS oT oN oC oE oH cm kd vl pa na ty fr ta ou wk sp : Nat → Int32} {ln ps ba ct fl yp yb dp nn wN wT pr wg sc : Int32} {so tA tB tC fN fO fS yt fQ T be en ins wh kd yv pa na ty fr cm oN yT yC yE oH ou td : Nat → Int32} {ym yC' : Nat → Int32} {v : Int32}
theorem zv_in2_c (h : zv_VC d c wn so oS oT oN oC yT yC yC' kd yv) (hc : c ≤ 40) : zv_in2 kd yv c v (zw_pa oN d) c = v := by
  unfold zv_in2
  rcases h with ⟨rfl, rfl, _⟩ | ⟨f, j, s, m, rfl, hj, hN, h3, _⟩ | ⟨f, j, l, rfl, hj, hN, h4, _⟩
  · have ep : zw_pa oN 0 = -1 := if_pos rfl
    rw [ep, if_neg (fun z => absurd z.1 (by decide)), pk_us]
  · have ep : zw_pa oN (f + 1) = nI j := by unfold zw_pa; rw [if_neg (by omega), Nat.add_sub_cancel, hN]
    rw [ep, nI_clamp (by omega), if_pos ⟨nI_pos' (by omega), h3⟩, pk_un (by omega), pk_us]
  · have ep : zw_pa oN (f + 1) = nI j := by unfold zw_pa; rw [if_neg (by omega), Nat.add_sub_cancel, hN]
    rw [ep, nI_clamp (by omega), if_neg (fun z => by rw [h4] at z; exact absurd z.2 (by decide)), pk_us]
theorem zv_564 {ln1 ps1 ba1 ct1 fl1 yp1 yb1 dp1 nn1 wN1 wT1 pr1 wg1 sc1 : Int32} {so1 tA1 tB1 tC1 fN1 fO1 fS1 yt1 fQ1 T1 be1 en1 ins1 wh1 pa1 na1 ty1 fr1 cm1 oN1 yT1 yC1 yE1 oH1 ou1 td1 : Nat → Int32} {P : SY → Prop} {K : Int32} (h : zv_VC d c wn so oS oT oN oC yT yC yC' kd yv) (hc : c < 40) (hp : P (ln1, ps1, ba1, ct1, fl1, yp1, yb1, dp1, nn1, wN1, wT1, pr1, wg1, sc1, so1, tA1, tB1, tC1, fN1, fO1, fS1, yt1, fQ1, T1, be1, en1, ins1, wh1, upd kd c K, zv_in2 kd yv c v (zw_pa oN d), pa1, na1, ty1, fr1, cm1, oN1, yT1, yC1, yE1, oH1, ou1, td1)) : wY_bindValue_564 P (zw_pa oN d) ln1 ps1 ba1 ct1 fl1 yp1 yb1 dp1 nn1 wN1 wT1 pr1 wg1 sc1 so1 tA1 tB1 tC1 fN1 fO1 fS1 yt1 fQ1 T1 be1 en1 ins1 wh1 (upd kd c K) (upd yv c v) pa1 na1 ty1 fr1 cm1 oN1 yT1 yC1 yE1 oH1 ou1 td1 := by
  unfold zv_in2 at hp
  rcases h with ⟨rfl, rfl, _⟩ | ⟨f, j, s, m, rfl, hj, hN, h3, _⟩ | ⟨f, j, l, rfl, hj, hN, h4, _⟩
  · have ep : zw_pa oN 0 = -1 := if_pos rfl
    rw [ep] at hp ⊢
    rw [if_neg (fun z => absurd z.1 (by decide))] at hp
    exact yc_564n (Or.inl rfl) hp
  · have ep : zw_pa oN (f + 1) = nI j := by unfold zw_pa; rw [if_neg (by omega), Nat.add_sub_cancel, hN]
    rw [ep] at hp ⊢
    rw [nI_clamp (by omega), if_pos ⟨nI_pos' (by omega), h3⟩] at hp
    refine yc_564l (by omega) (by rw [pk_un (by omega)]; exact h3) ?_
    rw [pk_un (f := yv) (by omega)]; exact hp
  · have ep : zw_pa oN (f + 1) = nI j := by unfold zw_pa; rw [if_neg (by omega), Nat.add_sub_cancel, hN]
    rw [ep] at hp ⊢
    rw [nI_clamp (by omega), if_neg (fun z => by rw [h4] at z; exact absurd z.2 (by decide))] at hp
    exact yc_564n (Or.inr ⟨j, by omega, rfl, by rw [pk_un (by omega), h4]; decide⟩) hp
theorem zv_in2_o (h : zv_VC d c wn so oS oT oN oC yT yC yC' kd yv) (hc : c ≤ 40) {j : Nat} (hj : j < c) : zv_in2 kd yv c v (zw_pa oN d) j = yv j ∨ (kd j = 3 ∧ ∃ m f, m ≤ c ∧ d = f + 1 ∧ oN f = nI j ∧ oS f = 4 ∧ oC f = nI m ∧ yv j = nI m ∧ zv_in2 kd yv c v (zw_pa oN d) j = nI (m + 1) ∧ zw_pa oN d = nI j ∧ wn = nI m) := by
  unfold zv_in2
  rcases h with ⟨rfl, rfl, _⟩ | ⟨f, j', s, m, rfl, hj', hN, h3, h4, _, _, _, _, hC, hm, hy, hw, _⟩ | ⟨f, j', l, rfl, hj', hN, h4, _⟩
  · omega
  · have ep : zw_pa oN (f + 1) = nI j' := by unfold zw_pa; rw [if_neg (by omega), Nat.add_sub_cancel, hN]
    rw [ep, nI_clamp (by omega), if_pos ⟨nI_pos' (by omega), h3⟩]
    by_cases e : j = j'
    · subst e
      exact Or.inr ⟨h3, m, f, hm, rfl, hN, h4, hC, hy, by rw [pk_us, hy, nI_1], rfl, hw⟩
    · rw [pk_un e, pk_un (by omega)]
      exact Or.inl rfl
  · have ep : zw_pa oN (f + 1) = nI j' := by unfold zw_pa; rw [if_neg (by omega), Nat.add_sub_cancel, hN]
    rw [ep, nI_clamp (by omega), if_neg (fun z => by rw [h4] at z; exact absurd z.2 (by decide)), pk_un (by omega)]
    exact Or.inl rfl
/-- what is open around -/
theorem zv_Lv {K s0 : Int32} (h : zv_VC d c wn so oS oT oN oC yT yC yC' kd yv) (hLv : ∀ i, i < d → zl_Lv so tA oS oT oN oC oE oH yT yC yE kd ty c i ∧ (i + 1 < d → ¬ oS i = 6)) : ∀ i, i < d → zl_Lv so tA oS oT oN (zw_oc oC d) oE oH yT yC' yE (upd kd c K) (upd ty c s0) (c + 1) i := by
  intro i hi
  obtain ⟨⟨j, hj, hN, h3, h4, h7⟩, ⟨m, hm, hC⟩, hE, hH, s, hs, hT', hcase⟩ := (hLv i hi).1
  have e1 : upd kd c K j = kd j := pk_un (by omega)
  have e2 : upd ty c s0 j = ty j := pk_un (by omega)
  by_cases top : i + 1 = d
  · subst top
    have eo : zw_oc oC (i + 1) i = nI (m + 1) := by
      unfold zw_oc; rw [if_neg (by omega), Nat.add_sub_cancel, pk_us, hC, nI_1]
    refine ⟨⟨j, by omega, hN, by rw [e1]; exact h3, by rw [e1]; exact h4, by rw [e2]; exact h7⟩, ⟨m + 1, by omega, eo⟩, hE, hH, s, hs, hT', ?_⟩
    rcases hcase with ⟨b1, b2, b3, b4⟩ | b | b
    · refine Or.inl ⟨b1, b2, b3, ?_⟩
      rw [eo]
      rcases h with ⟨z, _⟩ | ⟨f, j', s', m', e, _, _, _, _, _, _, _, _, hC', _, _, _, hy⟩ | ⟨f, j', l, e, _, _, _, h5, _⟩
      · omega
      · obtain rfl : i = f := by omega
        rw [hy, pk_us]
        have emm : nI m' = nI m := hC'.symm.trans hC
        rw [← nI_1 m', ← nI_1 m, emm]
      · obtain rfl : i = f := by omega
        rw [b1] at h5; exact absurd h5 (by decide)
    · exact Or.inr (Or.inl b)
    · exact Or.inr (Or.inr b)
  · have eo : zw_oc oC d i = oC i := by
      unfold zw_oc; rw [if_neg (by omega), pk_un (by omega)]
    have ey : yC' i = yC i := by
      rcases h with ⟨_, _, _, z⟩ | ⟨f, j', s', m', e, _, _, _, _, _, _, _, _, _, _, _, _, hy⟩ | ⟨f, j', l, e, _, _, _, _, z, _⟩
      · rw [z]
      · rw [hy, pk_un (by omega)]
      · rw [z]
    refine ⟨⟨j, by omega, hN, by rw [e1]; exact h3, by rw [e1]; exact h4, by rw [e2]; exact h7⟩, ⟨m, by omega, by rw [eo]; exact hC⟩, hE, hH, s, hs, hT', ?_⟩
    rw [eo, ey]; exact hcase
/-- the old nodes -/
theorem zv_Tr {d2 : Nat} {oN2 oS2 ta' : Nat → Int32} {K s0 q0 : Int32} (h : zv_VC d c wn so oS oT oN oC yT yC yC' kd yv) (htab : zr_Tab so tA tC fN fO fS tO yt) (hmu : ¬ zw_mu oS oT oC tC d) (hd : d ≤ 6) (hc : c < 40) (hTr : zl_Tr t len so be en c d oN oS kd yv pa na ty fr ta) (hta : ∀ j, j < c → ta' j = ta j) :
    ∃ dep', (∀ i j, i < d → j < c → oN i = nI j → dep' j = i) ∧ dep' c = d ∧ ((d = 0 ∧ c = 0) ∨ ∃ f j, d = f + 1 ∧ j < c ∧ upd pa c (zw_pa oN d) c = nI j ∧ dep' j = f) ∧
      ∀ j, j < c → zl_Nd t len so be en (c + 1) d2 oN2 oS2 (upd kd c K) (zv_in2 kd yv c v (zw_pa oN d)) (upd pa c (zw_pa oN d)) (upd na c wn) (upd ty c s0) (upd fr c q0) ta' dep' j := by
  have h6 : ∀ f, d = f + 1 → ¬ oS f = 6 := by
    intro f e
    rcases h with ⟨z, _⟩ | ⟨f', j', s', m', e', _, _, _, h4, _⟩ | ⟨f', j', l, e', _, _, _, h5, _⟩
    · omega
    · obtain rfl : f = f' := by omega
      rw [h4]; decide
    · obtain rfl : f = f' := by omega
      rw [h5]; decide
  have m20 : ∀ m f, m ≤ c → d = f + 1 → oS f = 4 → oC f = nI m → m + 1 ≤ 20 := by
    intro m f hmc e h4' hC'
    rcases h with ⟨z, _⟩ | ⟨f', j', s', m', e', _, _, _, h4, hs, hT', hso, _, hC, hm, _⟩ | ⟨f', j', l, e', _, _, _, h5, _⟩
    · omega
    · obtain rfl : f = f' := by omega
      obtain ⟨_, cc, hcc, hcc2⟩ := (htab s' hs).2.2.2.1 hso
      obtain rfl : m = m' := za_e (hC'.symm.trans hC) (by omega) (by omega)
      apply Nat.le_of_not_lt
      intro z
      apply hmu
      refine ⟨by omega, ?_, ?_⟩
      · rw [e, Nat.add_sub_cancel]; exact h4
      · rw [e, Nat.add_sub_cancel, hC, hT', nI_clamp (by omega), hcc2]
        exact nI_nlt (by omega) (by omega)
    · obtain rfl : f = f' := by omega
      rw [h5] at h4'; exact absurd h4' (by decide)
  obtain ⟨dep', g1, g2, g3⟩ := zg_new (d2 := d2) (oN2 := oN2) (oS2 := oS2) (ta' := ta') (K := K) (s0 := s0) (q0 := q0) (x := zw_pa oN d) (n0 := wn) (v0 := v) (oC := oC) (yv' := zv_in2 kd yv c v (zw_pa oN d)) hd hc hTr h6 hta (fun j hj => by
    rcases zv_in2_o (v := v) h (by omega) hj with z | ⟨k3, m, f, hmc, e, hN, h4, hC, hy, hy', hx, hw⟩
    · exact Or.inl z
    · exact Or.inr ⟨k3, m, m20 m f hmc e h4 hC, hy, hy', hx, hw⟩)
  refine ⟨dep', g1, g2, ?_, g3⟩
  rcases h with ⟨z, z2, _⟩ | ⟨f, j, s', m', e, hj, hN, _⟩ | ⟨f, j, l, e, hj, hN, _⟩
  · exact Or.inl ⟨z, z2⟩
  · refine Or.inr ⟨f, j, e, hj, ?_, g1 f j (by omega) hj hN⟩
    rw [pk_us, e]; unfold zw_pa; rw [if_neg (by omega), Nat.add_sub_cancel, hN]
  · refine Or.inr ⟨f, j, e, hj, ?_, g1 f j (by omega) hj hN⟩
    rw [pk_us, e]; unfold zw_pa; rw [if_neg (by omega), Nat.add_sub_cancel, hN]
/-- the values -/
theorem zv_EV (h : zv_VC d c wn so oS oT oN oC yT yC yC' kd yv) (hc : c ≤ 40) (hd : d ≤ 6) (hTr : zl_Tr t len so be en c d oN oS kd yv pa na ty fr ta) (hEV : zl_EV d c oS oN oC vl yv) :
    (∀ j, j < c → (∀ i, i < d → oS i = 4 → oN i ≠ nI j) → vl j = zv_in2 kd yv c v (zw_pa oN d) j) ∧ ∀ i j, i < d → j < c → oS i = 4 → oN i = nI j → zv_in2 kd yv c v (zw_pa oN d) j = zw_oc oC d i := by
  obtain ⟨dep, hdep, _⟩ := hTr
  refine ⟨fun j hj hno => ?_, fun i j hi hj h4 hN => ?_⟩
  · rcases zv_in2_o (v := v) h hc hj with z | ⟨_, m, f, _, e, hN, h4, _⟩
    · rw [z]; exact hEV.1 j hj hno
    · exact absurd hN (hno f (by omega) h4)
  · rcases zv_in2_o (v := v) h hc hj with z | ⟨k3, m, f, _, e, hN', h4', hC, hy, hy', _⟩
    · rw [z, hEV.2 i j hi hj h4 hN]
      unfold zw_oc
      by_cases top : i + 1 = d
      · subst top
        exfalso
        -- the innermost list's own node was counted
        rcases h with ⟨z1, _⟩ | ⟨f', j', s', m', e', hj', hN', h3', h4', _, _, _, _, hC', hm', hy', _⟩ | ⟨f', j', l, e', _, _, _, h5, _⟩
        · omega
        · obtain rfl : i = f' := by omega
          obtain rfl : j = j' := za_e (hN.symm.trans hN') (by omega) (by omega)
          unfold zv_in2 at z
          have ep : zw_pa oN (i + 1) = nI j := by unfold zw_pa; rw [if_neg (by omega), Nat.add_sub_cancel, hN']
          rw [ep, nI_clamp (by omega), if_pos ⟨nI_pos' (by omega), h3'⟩, pk_us, hy', nI_1] at z
          exact absurd (za_e z (by omega) (by omega)) (by omega)
        · obtain rfl : i = f' := by omega
          rw [h5] at h4; exact absurd h4 (by decide)
      · rw [if_neg (by omega), pk_un (by omega)]
    · have ei : i = f := by
        have a := hdep i j hi hj hN
        have b := hdep f j (by omega) hj hN'
        omega
      subst ei
      rw [hy', e]
      unfold zw_oc
      rw [if_neg (by omega), Nat.add_sub_cancel, pk_us, hC, nI_1]
end ZNN
end
section
section ZNI
variable {t : Nat → Nat} {len : Nat} {sl : Int32} {k e d c p q r s K : Nat} {g : Nat → Nat} {ln ap st er pl wt wn tg rf dp pt zs te pw sg bg bl dw es ct bd pr lt : Int32} {dg : Int64} {T so tA tB tC fN fO fQ fS tO oS oT oN oC oE oH cm kd vl pa na ty fr ta ou wk sp : Nat → Int32} {ln ps ba ct fl yp yb dp nn wN wT pr wg sc : Int32} {so tA tB tC fN fO fS yt fQ T be en ins wh kd yv pa na ty fr cm oN yT yC yE oH ou td : Nat → Int32} {ym yC' : Nat → Int32} {v : Int32}
theorem zv_top (h : zv_VC d c wn so oS oT oN oC yT yC yC' kd yv) : ∀ f, d = f + 1 → oS f = 4 ∨ oS f = 5 := by
  intro f e
  rcases h with ⟨z, _⟩ | ⟨f', j', s', m', e', _, _, _, h4, _⟩ | ⟨f', j', l, e', _, _, _, h5, _⟩
  · omega
  · obtain rfl : f = f' := by omega
    exact Or.inl h4
  · obtain rfl : f = f' := by omega
    exact Or.inr h5
/-- behind a value that is simple -/
theorem zv_leaf (hB : zl_B t len T so tA tC fN fO fS tO yt) (I : zl_Inv t len sl so tA fN fO fS be en k e d c q g wt wn tg nn wN wT oS oT oN oC oE oH cm kd vl pa na ty fr ta yv ym yT yC yE) (ht0 : tg = 0) (hVC : zv_VC d c wn so oS oT oN oC yT yC yC' kd yv) (hmu : ¬ zw_mu oS oT oC tC d) (hc : c < 40) (hb : be k = nI q) (hq : q < len) (hr : q < r) (hrl : r ≤ len) (hs : s < 12)
    (hK : (K = 0 ∧ so s = 1) ∨ (K = 1 ∧ t q = 16 ∧ (zs_sc t len 97 (q + 1)).1 = 1) ∨ K = 2 ∨ K = 5 ∨ K = 6) :
    zl_Inv t len sl so tA fN fO fS be en (k + 1) 5 d (c + 1) r g wt wn tg nn wN wT oS oT oN (zw_oc oC d) oE oH cm (upd kd c (nI K)) (upd vl c v) (upd pa c (zw_pa oN d)) (upd na c wn) (upd ty c (nI s)) (upd fr c (nI q)) ta (zv_in2 kd yv c v (zw_pa oN d)) ym yT yC' yE := by
  have I0 := I
  obtain ⟨⟨a1, a2, a3, a4⟩, hLv, hTr, hEV, hcm, hbe, hg, hwT, hCx⟩ := I
  obtain ⟨hT, ht, hl, htab⟩ := hB
  have ev := zv_EV (v := v) hVC a2 a1 hTr hEV
  have oNc : ∀ i, i < d → ¬ oN i = nI c := by
    intro i hi z
    obtain ⟨⟨j, hj, hN, _⟩, _⟩ := (hLv i hi).1
    have := za_e (hN.symm.trans z) (by omega) (by omega)
    omega
  refine ⟨⟨a1, by omega, by omega, hrl⟩, fun i hi => ⟨zv_Lv hVC hLv i hi, (hLv i hi).2⟩, ?_, ⟨fun j hj hno => ?_, fun i j hi hj h4 hN => ?_⟩, fun s hs => ?_, zl_be I0 (Nat.le_refl _) hb hq hl hr, hg, hwT, Or.inr (Or.inr (Or.inr (Or.inr (Or.inr (Or.inr (Or.inr ⟨rfl, ht0, by omega, zv_top hVC⟩))))))⟩
  · obtain ⟨dep', g1, g2, g3, g4⟩ := zv_Tr (v := v) (d2 := d) (oN2 := oN) (oS2 := oS) (ta' := ta) (K := nI K) (s0 := nI s) (q0 := nI q) hVC htab hmu a1 hc hTr (fun _ _ => rfl)
    refine ⟨dep', fun i j hi hj he => ?_, fun j hj => ?_⟩
    · by_cases e : j = c
      · subst e; exact absurd he (oNc i hi)
      · exact g1 i j hi (by omega) he
    · by_cases e : j = c
      · subst e
        refine zg_newN a1 g2 g3 hs pk_us ?_
        unfold zl_Kd
        rw [pk_us, pk_us]
        rcases hK with ⟨rfl, h⟩ | ⟨rfl, h1, h2⟩ | rfl | rfl | rfl
        · exact Or.inl ⟨rfl, h⟩
        · exact Or.inr (Or.inl ⟨rfl, q, rfl, hq, h1, h2⟩)
        · exact Or.inr (Or.inr (Or.inl rfl))
        · exact Or.inr (Or.inr (Or.inr (Or.inr (Or.inr (Or.inl rfl)))))
        · exact Or.inr (Or.inr (Or.inr (Or.inr (Or.inr (Or.inr rfl)))))
      · exact g4 j (by omega)
  · by_cases e : j = c
    · subst e
      rw [pk_us, zv_in2_c hVC a2]
    · rw [pk_un e]; exact ev.1 j (by omega) hno
  · by_cases e : j = c
    · subst e; exact absurd hN (oNc i hi)
    · exact ev.2 i j hi (by omega) h4 hN
  · obtain ⟨m, hm, r9⟩ := hcm s hs
    exact ⟨m, by omega, r9⟩
/-- behind what opens a list or a record -/
theorem zv_cont {KK e' ch : Nat} {hh yt' ye' wt' wn' : Int32} (hB : zl_B t len T so tA tC fN fO fS tO yt) (I : zl_Inv t len sl so tA fN fO fS be en k e d c q g wt wn tg nn wN wT oS oT oN oC oE oH cm kd vl pa na ty fr ta yv ym yT yC yE) (ht0 : tg = 0) (hVC : zv_VC d c wn so oS oT oN oC yT yC yC' kd yv) (hmu : ¬ zw_mu oS oT oC tC d) (hc : c < 40) (hd : d < 6) (hb : be k = nI q) (hq : q < len) (hs : s < 12)
    (hk : (KK = 4 ∧ K = 3 ∧ so s = 4 ∧ hh = -1 ∧ yt' = nI s ∧ ye' = 0 ∧ e' = 1 ∧ wt' = tA s ∧ wn' = 0 ∧ ch = 12 ∧ v = 0) ∨ (KK = 5 ∧ K = 4 ∧ so s = 5 ∧ hh = -1 ∧ yt' = nI s ∧ ye' = 0 ∧ e' = 2 ∧ ch = 10) ∨ (KK = 6 ∧ K = 4 ∧ so s = 6 ∧ hh = nI s ∧ yt' = -1 ∧ ye' = (1 : Int32) <<< (tA s &&& 31) ∧ e' = 2 ∧ ch = 10)) :
    zl_Inv t len sl so tA fN fO fS be en (k + 1) e' (d + 1) (c + 1) (q + 1) (zt_ng g d ch) wt' wn' tg nn 1 0 (upd oS d (nI KK)) (upd oT d (nI s)) (upd oN d (nI c)) (upd (zw_oc oC d) d 0) (upd oE d 0) (upd oH d hh) cm (upd kd c (nI K)) (upd vl c v) (upd pa c (zw_pa oN d)) (upd na c wn) (upd ty c (nI s)) (upd fr c (nI q)) (upd ta c (-1)) (zv_in2 kd yv c v (zw_pa oN d)) ym (upd yT d yt') (upd yC' d 0) (upd yE d ye') := by
  have I0 := I
  obtain ⟨⟨a1, a2, a3, a4⟩, hLv, hTr, hEV, hcm, hbe, hg, hwT, hCx⟩ := I
  obtain ⟨hT, ht, hl, htab⟩ := hB
  have ev := zv_EV (v := v) hVC a2 a1 hTr hEV
  have oNc : ∀ i, i < d → ¬ oN i = nI c := by
    intro i hi z
    obtain ⟨⟨j, hj, hN, _⟩, _⟩ := (hLv i hi).1
    have := za_e (hN.symm.trans z) (by omega) (by omega)
    omega
  have hch : ch = 10 ∨ ch = 12 := by rcases hk with h | h | h <;> omega
  refine ⟨⟨by omega, by omega, by omega, by omega⟩, fun i hi => ⟨?_, fun hi2 => ?_⟩, ?_, ⟨fun j hj hno => ?_, fun i j hi hj h4 hN => ?_⟩, fun s hs => ?_, zl_be I0 (Nat.le_refl _) hb hq hl (by omega), fun i hi => ?_, fun _ => ht0.symm, ?_⟩
  · by_cases ei : i = d
    · subst ei
      unfold zl_Lv
      rw [pk_us, pk_us, pk_us, pk_us, pk_us, pk_us, pk_us, pk_us, pk_us]
      refine ⟨⟨c, by omega, rfl, ?_⟩, ⟨0, by omega, rfl⟩, ⟨0, by decide, rfl⟩, ?_, s, hs, rfl, ?_⟩
      · rw [pk_us, pk_us]
        rcases hk with ⟨rfl, rfl, _⟩ | ⟨rfl, rfl, _⟩ | ⟨rfl, rfl, _⟩
        · exact ⟨fun _ => rfl, fun z => absurd rfl z, fun _ => rfl⟩
        · exact ⟨fun z => absurd z (by decide), fun _ => rfl, fun _ => rfl⟩
        · exact ⟨fun z => absurd z (by decide), fun _ => rfl, fun _ => rfl⟩
      · rcases hk with h | h | h
        · exact Or.inl h.2.2.2.1
        · exact Or.inl h.2.2.2.1
        · exact Or.inr ⟨s, hs, h.2.2.2.1⟩
      · rcases hk with ⟨rfl, _, h1, _, h2, h3, _⟩ | ⟨rfl, _, h1, _, h2, h3, _⟩ | ⟨rfl, _, h1, h0, h2, h3, _⟩
        · exact Or.inl ⟨rfl, h1, h2, rfl⟩
        · exact Or.inr (Or.inl ⟨rfl, h1, h2, h3⟩)
        · exact Or.inr (Or.inr ⟨rfl, h1, h2, h3, h0⟩)
    · have L := zv_Lv (K := nI K) (s0 := nI s) hVC hLv i (by omega)
      unfold zl_Lv at L ⊢
      rw [pk_un (f := oS) ei, pk_un (f := oT) ei, pk_un (f := oN) ei, pk_un (f := zw_oc oC d) ei, pk_un (f := oE) ei, pk_un (f := oH) ei, pk_un (f := yT) ei, pk_un (f := yC') ei, pk_un (f := yE) ei]
      exact L
  · rw [pk_un (by omega)]
    by_cases e2 : i + 1 < d
    · exact (hLv i (by omega)).2 e2
    · rcases zv_top hVC i (by omega) with h | h <;> (rw [h]; decide)
  · obtain ⟨dep', g1, g2, g3, g4⟩ := zv_Tr (v := v) (d2 := d + 1) (oN2 := upd oN d (nI c)) (oS2 := upd oS d (nI KK)) (ta' := upd ta c (-1)) (K := nI K) (s0 := nI s) (q0 := nI q) hVC htab hmu a1 hc hTr (fun j hj => pk_un (by omega))
    refine ⟨dep', fun i j hi hj he => ?_, fun j hj => ?_⟩
    · by_cases ei : i = d
      · subst ei
        rw [pk_us] at he
        obtain rfl : c = j := za_e he (by omega) (by omega)
        exact g2
      · rw [pk_un ei] at he
        by_cases e : j = c
        · subst e; exact absurd he (oNc i (Nat.lt_of_le_of_ne (Nat.le_of_lt_succ hi) ei))
        · exact g1 i j (Nat.lt_of_le_of_ne (Nat.le_of_lt_succ hi) ei) (Nat.lt_of_le_of_ne (Nat.le_of_lt_succ hj) e) he
    · by_cases e : j = c
      · subst e
        refine zg_newN a1 g2 g3 hs pk_us ?_
        unfold zl_Kd
        rw [pk_us, pk_us, pk_us, zv_in2_c hVC a2, g2]
        rcases hk with ⟨rfl, rfl, h1, _, _, _, _, _, _, _, hv⟩ | ⟨rfl, rfl, h1, _⟩ | ⟨rfl, rfl, h1, _⟩
        · exact Or.inr (Or.inr (Or.inr (Or.inl ⟨rfl, by omega, 0, by omega, hv, fun i hi => by omega⟩)))
        · exact Or.inr (Or.inr (Or.inr (Or.inr (Or.inl ⟨rfl, by omega, Or.inl ⟨h1, rfl⟩⟩))))
        · exact Or.inr (Or.inr (Or.inr (Or.inr (Or.inl ⟨rfl, by omega, Or.inr ⟨h1, Or.inl ⟨d, rfl, pk_us, pk_us⟩⟩⟩))))
      · exact g4 j (by omega)
  · by_cases e : j = c
    · subst e
      rw [pk_us, zv_in2_c hVC a2]
    · rw [pk_un e]
      refine ev.1 j (by omega) (fun i hi h4 hN => ?_)
      exact hno i (by omega) (by rw [pk_un (by omega)]; exact h4) (by rw [pk_un (by omega)]; exact hN)
  · by_cases ei : i = d
    · subst ei
      rw [pk_us] at h4 hN ⊢
      obtain rfl : c = j := za_e hN (by omega) (by omega)
      rw [zv_in2_c hVC a2]
      rcases hk with h | ⟨rfl, _⟩ | ⟨rfl, _⟩
      · exact h.2.2.2.2.2.2.2.2.2.2
      · exact absurd h4 (by decide)
      · exact absurd h4 (by decide)
    · rw [pk_un ei] at h4 hN ⊢
      by_cases e : j = c
      · subst e; exact absurd hN (oNc i (by omega))
      · exact ev.2 i j (by omega) (by omega) h4 hN
  · obtain ⟨m, hm, r9⟩ := hcm s hs
    exact ⟨m, by omega, r9⟩
  · unfold zt_ng
    by_cases ei : i = d
    · subst ei
      rw [if_pos ⟨hch, rfl⟩, pk_us]
      rcases hk with ⟨rfl, _, _, _, _, _, _, _, _, h, _⟩ | ⟨rfl, _, _, _, _, _, _, h⟩ | ⟨rfl, _, _, _, _, _, _, h⟩
      · rw [h]; rfl
      · rw [h]; rfl
      · rw [h]; rfl
    · rw [if_neg (by omega), pk_un ei]
      exact hg i (by omega)
  · rcases hk with ⟨rfl, _, h1, _, _, _, rfl, h5, h6, _⟩ | ⟨rfl, _, h1, _, _, _, rfl, _⟩ | ⟨rfl, _, h1, _, _, _, rfl, _⟩
    · exact Or.inr (Or.inl ⟨Nat.le_refl _, ht0, d, s, rfl, pk_us, hs, pk_us, h5, by rw [pk_us]; exact h6⟩)
    · exact Or.inr (Or.inr (Or.inr (Or.inr (Or.inl ⟨rfl, ht0, rfl, d, rfl, Or.inl pk_us⟩))))
    · exact Or.inr (Or.inr (Or.inr (Or.inr (Or.inl ⟨rfl, ht0, rfl, d, rfl, Or.inr ⟨pk_us, c, by omega, pk_us, by omega, by rw [pk_us, Nat.add_sub_cancel]; exact hb⟩⟩))))
end ZNI
end
section
/-! a value: where it stands, and the way to its first node entry -/
section ZVX
theorem zs_go_sc {t : Nat → Nat} {len A : Nat} : ∀ f i m h, ((zs_go t len A f i m h).1 = 0 → zs_sc t len f i = (1, (zs_go t len A f i m h).2.1)) ∧ (2 ≤ (zs_go t len A f i m h).1 → zs_sc t len f i = (0, (zs_go t len A f i m h).2.1)) := by
  intro f
  induction f with
  | zero => intro i m h; exact ⟨fun z => absurd (show (2 : Nat) = 0 from z) (by decide), fun _ => rfl⟩
  | succ f ih =>
    intro i m h
    rw [zs_gs, zs_s]
    by_cases c0 : len ≤ i
    · rw [if_pos c0, if_pos c0]; exact ⟨fun z => absurd (show (3 : Nat) = 0 from z) (by decide), fun _ => rfl⟩
    · rw [if_neg c0, if_neg c0]
      by_cases c1 : t i = 16
      · rw [if_pos c1, if_pos c1]; exact ⟨fun _ => rfl, fun z => absurd (show 2 ≤ 0 from z) (by decide)⟩
      · rw [if_neg c1, if_neg c1]
        by_cases c2 : t i = 30
        · rw [if_pos c2, if_pos c2]
          by_cases c3 : len ≤ i + 1
          · rw [if_pos c3, if_pos c3]; exact ⟨fun z => absurd (show (2 : Nat) = 0 from z) (by decide), fun _ => rfl⟩
          · rw [if_neg c3, if_neg c3]
            by_cases c4 : t (i + 1) = 16 ∨ t (i + 1) = 30
            · rw [if_pos c4, if_pos c4]
              by_cases c5 : m + 1 ≤ A
              · rw [if_pos c5]; exact ih _ _ _
              · rw [if_neg c5]; exact ⟨fun z => absurd (show (1 : Nat) = 0 from z) (by decide), fun z => absurd (show 2 ≤ 1 from z) (by decide)⟩
            · rw [if_neg c4, if_neg c4]; exact ⟨fun z => absurd (show (2 : Nat) = 0 from z) (by decide), fun _ => rfl⟩
        · rw [if_neg c2, if_neg c2]
          by_cases c5 : m + 1 ≤ A
          · rw [if_pos c5]; exact ih _ _ _
          · rw [if_neg c5]; exact ⟨fun z => absurd (show (1 : Nat) = 0 from z) (by decide), fun z => absurd (show 2 ≤ 1 from z) (by decide)⟩
theorem zw_stn {c : Nat} (h : zw_st c) : c < 32 ∧ c ≠ 13 ∧ c ≠ 11 ∧ c ≠ 15 ∧ c ≠ 14 := by unfold zw_st at h; omega
variable {t : Nat → Nat} {len : Nat} {sl : Int32} {k e d c p q r s s0 : Nat} {g : Nat → Nat} {ln ap st er pl wt wn tg rf dp pt zs te pw sg bg bl dw es ct bd pr lt : Int32} {dg : Int64} {T so tA tB tC fN fO fQ fS tO oS oT oN oC oE oH cm kd vl pa na ty fr ta ou wk sp : Nat → Int32} {ln ps ba ct fl yp yb dp nn wN wT pr wg sc : Int32} {so tA tB tC fN fO fS yt fQ T be en ins wh kd yv pa na ty fr cm oN yT yC yE oH ou td : Nat → Int32} {ym yC' : Nat → Int32} {v : Int32}
theorem zv_cx (h : zv_VC d c wn so oS oT oN oC yT yC yC' kd yv) (hc : c ≤ 40) : yv_cx kd yT d (zw_pa oN d) := by
  rcases h with ⟨rfl, _⟩ | ⟨f, j, s, m, rfl, hj, hN, h3, _, hs, _, _, hT, _⟩ | ⟨f, j, l, rfl, hj, hN, h4, _⟩
  · exact Or.inl (if_pos rfl)
  · have ep : zw_pa oN (f + 1) = nI j := by unfold zw_pa; rw [if_neg (by omega), Nat.add_sub_cancel, hN]
    refine Or.inr ⟨j, by omega, ep, Or.inr ⟨by omega, ?_⟩⟩
    rw [Nat.add_sub_cancel, hT]; exact vp_in_nI hs (by omega)
  · have ep : zw_pa oN (f + 1) = nI j := by unfold zw_pa; rw [if_neg (by omega), Nat.add_sub_cancel, hN]
    exact Or.inr ⟨j, by omega, ep, Or.inl (by rw [h4]; decide)⟩
theorem zv_mu (h : zv_VC d c wn so oS oT oN oC yT yC yC' kd yv) (hc : c ≤ 40) : zw_mu oS oT oC tC d ↔ yv_mu kd yT tC d (zw_pa oN d) wn := by
  unfold zw_mu yv_mu
  rcases h with ⟨rfl, _⟩ | ⟨f, j, s, m, rfl, hj, hN, h3, h4, hs, hT', _, hT, hC, _, _, hw, _⟩ | ⟨f, j, l, rfl, hj, hN, h4, h5, _⟩
  · have ep : zw_pa oN 0 = -1 := if_pos rfl
    rw [ep]
    exact ⟨fun z => absurd z.1 (by decide), fun ⟨j, hj, e, _⟩ => absurd e.symm (za_ne1 (by omega))⟩
  · have ep : zw_pa oN (f + 1) = nI j := by unfold zw_pa; rw [if_neg (by omega), Nat.add_sub_cancel, hN]
    rw [ep, Nat.add_sub_cancel, hC, hw, hT, hT']
    exact ⟨fun z => ⟨j, by omega, rfl, h3, z.2.2⟩, fun ⟨_, _, _, _, z⟩ => ⟨by omega, h4, z⟩⟩
  · have ep : zw_pa oN (f + 1) = nI j := by unfold zw_pa; rw [if_neg (by omega), Nat.add_sub_cancel, hN]
    rw [ep, Nat.add_sub_cancel]
    refine ⟨fun z => absurd z.2.1 (by rw [h5]; decide), fun ⟨j', hj', e, z, _⟩ => ?_⟩
    obtain rfl := za_e e (by omega) (by omega)
    rw [h4] at z; exact absurd z (by decide)
theorem zv_ctx (hB : zl_B t len T so tA tC fN fO fS tO yt) (hsl : sl = nI s0) (hs0 : s0 < 12) (hk : k < 96) (hb : be k = nI q) (hq : q < len) (hst : zw_st (t q)) (he : e ≤ 1) (ht0 : tg = 0) (I : zl_Inv t len sl so tA fN fO fS be en k e d c q g wt wn tg nn wN wT oS oT oN oC oE oH cm kd vl pa na ty fr ta yv ym yT yC yE) :
    ∃ (w : Nat) (yC' : Nat → Int32), w < 12 ∧ wt = nI w ∧ zb_ok wn ∧ zb_ok (zw_pa oN d) ∧ zv_VC d c wn so oS oT oN oC yT yC yC' kd yv ∧
      ∀ {ln1 ps1 ba1 ct1 fl1 yp1 yb1 dp1 nn1 wN1 wT1 pr1 wg1 sc1 : Int32} {so1 tA1 tB1 tC1 fN1 fO1 fS1 yt1 fQ1 T1 be1 en1 ins1 wh1 kd1 yv1 pa1 na1 ty1 fr1 cm1 oN1 yT1 yC1 yE1 oH1 ou1 td1 : Nat → Int32}, (∀ Q : SY → Prop, Q (ln1, ps1, ba1, ct1, fl1, yp1, yb1, dp1, nn1, wN1, wT1, pr1, wg1, sc1, so1, tA1, tB1, tC1, fN1, fO1, fS1, yt1, fQ1, T1, be1, en1, ins1, wh1, kd1, yv1, pa1, na1, ty1, fr1, cm1, oN1, yT1, yC1, yE1, oH1, ou1, td1) → wpY_bindValue Q (nI len, ps, ba, nI c, 0, -1, yb, nI d, nn, wN, wT, pr, wg, sc, so, tA, tB, tC, fN, fO, fS, yt, fQ, T, be, en, ins, wh, kd, yv, pa, na, ty, fr, ym, oN, yT, yC', yE, oH, ou, td) (nI k) (nI w) (zw_pa oN d) wn) → ∀ P : SY → Prop, P (ln1, ps1, ba1, ct1, fl1, yp1, yb1, dp1, nn1, wN1, wT1, pr1, wg1, sc1, so1, tA1, tB1, tC1, fN1, fO1, fS1, yt1, fQ1, T1, be1, en1, ins1, wh1, kd1, yv1, pa1, na1, ty1, fr1, cm1, oN1, yT1, yC1, yE1, oH1, ou1, td1) → wpY_part P (nI len, ps, ba, nI c, 0, -1, yb, nI d, nn, wN, wT, pr, wg, sc, so, tA, tB, tC, fN, fO, fS, yt, fQ, T, be, en, ins, wh, kd, yv, pa, na, ty, fr, ym, oN, yT, yC, yE, oH, ou, td) (nI k) sl := by
  obtain ⟨⟨a1, a2, a3, a4⟩, hLv, hTr, hEV, hcm, hbe, hg, hwT, hCx⟩ := I
  obtain ⟨hT, ht, hl, htab⟩ := hB
  have hTq := hT q
  have cne : t q < 32 ∧ t q ≠ 13 ∧ t q ≠ 11 ∧ t q ≠ 15 ∧ t q ≠ 14 := zw_stn hst
  rcases hCx with ⟨rfl, rfl, rfl, hw, hn, _⟩ | ⟨_, _, f, s, rfl, h4, hs, hT', hw, hn⟩ | ⟨_, _, n0, f, s, rfl, h5, hs, hT', x, l, n, hl5, hnn, hn4, hfS, hat, hw, hn⟩ | ⟨_, h, _⟩ | ⟨h, _⟩ | ⟨h, _⟩ | ⟨h, _⟩ | ⟨h, _⟩
  · have ep : zw_pa oN 0 = -1 := if_pos rfl
    refine ⟨s0, yC, hs0, hw.trans hsl, Or.inl hn, by rw [ep]; exact Or.inl rfl, Or.inl ⟨rfl, rfl, hn, rfl⟩, ?_⟩
    intro ln1 ps1 ba1 ct1 fl1 yp1 yb1 dp1 nn1 wN1 wT1 pr1 wg1 sc1 so1 tA1 tB1 tC1 fN1 fO1 fS1 yt1 fQ1 T1 be1 en1 ins1 wh1 kd1 yv1 pa1 na1 ty1 fr1 cm1 oN1 yT1 yC1 yE1 oH1 ou1 td1 hcl P hp
    rw [ep, hn, ← hsl] at hcl
    exact yp_root hk hb (by omega) hTq hcl hp
  · obtain ⟨⟨j, hj, hN, h3, h4', h7⟩, ⟨m, hm, hC⟩, hE, hH, s', hs', hT2, hcase⟩ := (hLv f (by omega)).1
    obtain rfl : s' = s := za_e (hT2.symm.trans hT') (by omega) (by omega)
    have hcs : so s' = 4 ∧ yT f = nI s' ∧ yC f = oC f := by
      rcases hcase with h | h | h
      · exact h.2
      · rw [h4] at h; exact absurd h.1 (by decide)
      · rw [h4] at h; exact absurd h.1 (by decide)
    obtain ⟨⟨a, ha, hA⟩, _⟩ := (htab s' hs).2.2.2.1 hcs.1
    have ep : zw_pa oN (f + 1) = nI j := by unfold zw_pa; rw [if_neg (by omega), Nat.add_sub_cancel, hN]
    refine ⟨a, upd yC f (nI (m + 1)), ha, hw.trans hA, by rw [hn, hC]; exact Or.inr ⟨m, by omega, rfl⟩, by rw [ep]; exact Or.inr ⟨j, by omega, rfl⟩, Or.inr (Or.inl ⟨f, j, s', m, rfl, hj, hN, h3 h4, h4, hs, hT', hcs.1, hcs.2.1, hC, hm, (hEV.2 f j (by omega) hj h4 hN).trans hC, hn.trans hC, rfl⟩), ?_⟩
    intro ln1 ps1 ba1 ct1 fl1 yp1 yb1 dp1 nn1 wN1 wT1 pr1 wg1 sc1 so1 tA1 tB1 tC1 fN1 fO1 fS1 yt1 fQ1 T1 be1 en1 ins1 wh1 kd1 yv1 pa1 na1 ty1 fr1 cm1 oN1 yT1 yC1 yE1 oH1 ou1 td1 hcl P hp
    rw [ep, hn, hC, ← hA] at hcl
    exact yp_list hk hb (by omega) hTq cne (by omega) hN (by omega) (h3 h4) (hcs.2.2.trans hC) hcs.2.1 hs hcl hp
  · obtain ⟨⟨j, hj, hN, h3, h4', h7⟩, ⟨m, hm, hC⟩, hE, hH, s', hs', hT2, hcase⟩ := (hLv f (by omega)).1
    obtain rfl : s' = s := za_e (hT2.symm.trans hT') (by omega) (by omega)
    have n4 : ¬ oS f = 4 := by rw [h5]; decide
    have hyT : yT f = nI s' := by
      rcases hcase with h | h | h
      · rw [h5] at h; exact absurd h.1 (by decide)
      · exact h.2.2.1
      · rw [h5] at h; exact absurd h.1 (by decide)
    obtain ⟨_, _, _, _, _, _, _, n', hn', hfS', hf', _⟩ := htab s' hs
    obtain rfl : n = n' := za_e (hfS.symm.trans hfS') (by omega) (by omega)
    obtain ⟨_, a, ha, hA⟩ := hf' x hat.1
    have ep : zw_pa oN (f + 1) = nI j := by unfold zw_pa; rw [if_neg (by omega), Nat.add_sub_cancel, hN]
    refine ⟨a, yC, ha, hw.trans hA, by rw [hn]; exact Or.inr ⟨l, by omega, rfl⟩, by rw [ep]; exact Or.inr ⟨j, by omega, rfl⟩, Or.inr (Or.inr ⟨f, j, l, rfl, hj, hN, h4' n4, h5, rfl, hl5, hn⟩), ?_⟩
    intro ln1 ps1 ba1 ct1 fl1 yp1 yb1 dp1 nn1 wN1 wT1 pr1 wg1 sc1 so1 tA1 tB1 tC1 fN1 fO1 fS1 yt1 fQ1 T1 be1 en1 ins1 wh1 kd1 yv1 pa1 na1 ty1 fr1 cm1 oN1 yT1 yC1 yE1 oH1 ou1 td1 hcl P hp
    rw [ep, hn, ← hnn, ← hA] at hcl
    exact yp_fval hk hb (by omega) hTq cne (by omega) hN (by omega) (by rw [h4' n4]; decide) n0 ((hwT (Nat.succ_pos _)).trans ht0) hyT hs hn4 hfS (by rw [hnn]; exact hat) hcl hp
  · rw [ht0] at h; exact absurd h (by decide)
  all_goals omega
end ZVX
end
section
/-! both sides over a value -/
section ZVL
theorem zt_ng_id {g : Nat → Nat} {L c : Nat} (h : c ≠ 10 ∧ c ≠ 12) : zt_ng g L c = g := by
  funext i
  unfold zt_ng
  rw [if_neg (by omega)]
theorem zt_ne_s {e gL c : Nat} (h : zw_st c) (h2 : c ≠ 10 ∧ c ≠ 12) (he : e ≤ 1) : zt_ne e gL c = 5 := by
  have := zw_stn h
  unfold zt_ne
  rw [if_neg (by omega), if_neg (by omega), if_neg (by omega), if_neg (by omega), if_neg (by omega), if_neg (by omega)]
theorem zt_nL_s {L c : Nat} (h : zw_st c) (h2 : c ≠ 10 ∧ c ≠ 12) : zt_nL L c = L := by
  have := zw_stn h
  unfold zt_nL
  rw [if_neg (by omega), if_neg (by omega)]
theorem zv_se {e c : Nat} (he : e ≤ 1) (h : zw_st c) : zl_st e = 0 ∨ (zl_st e = 8 ∧ c ≠ 13) := by
  have := zw_stn h
  have : e = 0 ∨ e = 1 := by omega
  rcases this with rfl | rfl
  · exact Or.inl rfl
  · exact Or.inr ⟨rfl, by omega⟩
variable {t : Nat → Nat} {len : Nat} {sl : Int32} {k e d c p q r s s0 z w kk ok : Nat} {g : Nat → Nat} {ln ap st er pl wt wn tg rf dp pt zs te pw sg bg bl dw es ct bd pr lt : Int32} {dg : Int64} {T so tA tB tC fN fO fQ fS tO oS oT oN oC oE oH cm kd vl pa na ty fr ta ou wk sp : Nat → Int32} {ln ps ba ct fl yp yb dp nn wN wT pr wg sc : Int32} {so tA tB tC fN fO fS yt fQ T be en ins wh kd yv pa na ty fr cm oN yT yC yE oH ou td : Nat → Int32} {ym yC' : Nat → Int32} {v : Int32}
theorem zt_num (hB : zl_B t len T so tA tC fN fO fS tO yt) (hps : ps = nI z) (hz : z ≤ 96) (hkz : k < z) (hb : be k = nI q) (hq : q < len) (he : e ≤ 1) (hst : zw_st (t q)) (num : zw_num (t q)) (hOv : zt_Ov t len q ok r) (hen : en k = nI (r - 1)) (hwh : wh k = nI ok)
    (h0 : ok = 0 → ps = nI (k + 1) ∧ ba = nI r) (h1 : ok = 1 → zl_H t len sl T so tA tB tC fN fO fQ fS tO yt be en ins wh ps ba (k + 1) 5 d r g) (I : zl_Inv t len sl so tA fN fO fS be en k e d c q g (nI w) wn 0 nn wN wT oS oT oN oC oE oH cm kd vl pa na ty fr ta yv ym yT yC yE) (hVC : zv_VC d c wn so oS oT oN oC yT yC yC' kd yv) (hmu : ¬ zw_mu oS oT oC tC d) (hc : c < 40) (hs : s < 12) (hk1 : 1 ≤ kk) (hk6 : kk ≤ 6) (hkk : so s = nI kk) (hk8 : kk = 1 ∨ so w = 8)
    (hno : zw_no so w (t q) = 0)
    (xo : ∀ {ln1 ap1 st1 er1 pl1 wt1 wn1 tg1 rf1 dp1 pt1 zs1 te1 pw1 sg1 bg1 bl1 dw1 es1 ct1 bd1 pr1 lt1 : Int32} {dg1 : Int64} {T1 so1 tA1 tB1 tC1 fN1 fO1 fQ1 fS1 tO1 oS1 oT1 oN1 oC1 oE1 oH1 cm1 kd1 vl1 pa1 na1 ty1 fr1 ta1 ou1 wk1 sp1 : Nat → Int32}, (∀ Q : SX → Prop, Q (ln1, ap1, st1, er1, pl1, wt1, wn1, tg1, rf1, dp1, pt1, zs1, te1, pw1, sg1, bg1, dg1, bl1, dw1, es1, ct1, bd1, pr1, lt1, T1, so1, tA1, tB1, tC1, fN1, fO1, fQ1, fS1, tO1, oS1, oT1, oN1, oC1, oE1, oH1, cm1, kd1, vl1, pa1, na1, ty1, fr1, ta1, ou1, wk1, sp1) → wX_open_153 Q (nI s) (nI kk) (nI (t q)) (nI c) (if t q = 28 then 1 else 0) (nI c) (nI len) (nI q) (zl_st e) 0 (-1) (nI w) wn 0 (nI (zw_rf so w (t q))) (nI d) pt zs te pw sg bg dg bl dw es (nI (c + 1)) bd pr lt T so tA tB tC fN fO fQ fS tO oS oT oN (zw_oc oC d) oE oH cm (upd kd c (nI (zw_kd (zw_no so w (t q)) (zw_rf so w (t q)) kk))) vl (upd pa c (zw_pa oN d)) (upd na c wn) (upd ty c (nI s)) (upd fr c (nI q)) ta ou wk sp) → zl_XS (nI len, nI q, zl_st e, 0, -1, nI w, wn, 0, rf, nI d, pt, zs, te, pw, sg, bg, dg, bl, dw, es, nI c, bd, pr, lt, T, so, tA, tB, tC, fN, fO, fQ, fS, tO, oS, oT, oN, oC, oE, oH, cm, kd, vl, pa, na, ty, fr, ta, ou, wk, sp) (ln1, ap1, st1, er1, pl1, wt1, wn1, tg1, rf1, dp1, pt1, zs1, te1, pw1, sg1, bg1, dg1, bl1, dw1, es1, ct1, bd1, pr1, lt1, T1, so1, tA1, tB1, tC1, fN1, fO1, fQ1, fS1, tO1, oS1, oT1, oN1, oC1, oE1, oH1, cm1, kd1, vl1, pa1, na1, ty1, fr1, ta1, ou1, wk1, sp1))
    (yo : ∀ {ln1 ps1 ba1 ct1 fl1 yp1 yb1 dp1 nn1 wN1 wT1 pr1 wg1 sc1 : Int32} {so1 tA1 tB1 tC1 fN1 fO1 fS1 yt1 fQ1 T1 be1 en1 ins1 wh1 kd1 yv1 pa1 na1 ty1 fr1 cm1 oN1 yT1 yC1 yE1 oH1 ou1 td1 : Nat → Int32}, (∀ Q : SY → Prop, Q (ln1, ps1, ba1, ct1, fl1, yp1, yb1, dp1, nn1, wN1, wT1, pr1, wg1, sc1, so1, tA1, tB1, tC1, fN1, fO1, fS1, yt1, fQ1, T1, be1, en1, ins1, wh1, kd1, yv1, pa1, na1, ty1, fr1, cm1, oN1, yT1, yC1, yE1, oH1, ou1, td1) → wY_bindValue_472 Q (nI k) (zw_pa oN d) wn (nI q) (nI (t q)) (nI s) (yv_8 so w) (zw_nf (t q)) (nI c) (yv_v0 ym kk (t q) s) (nI c) (nI len) ps ba (nI (c + 1)) 0 (-1) yb (nI d) nn wN wT pr wg sc so tA tB tC fN fO fS yt fQ T be en ins wh (upd kd c (nI (zw_kd (zw_no so w (t q)) (zw_rf so w (t q)) kk))) yv pa na ty fr ym oN yT yC' yE oH ou td) → ∀ P : SY → Prop, P (ln1, ps1, ba1, ct1, fl1, yp1, yb1, dp1, nn1, wN1, wT1, pr1, wg1, sc1, so1, tA1, tB1, tC1, fN1, fO1, fS1, yt1, fQ1, T1, be1, en1, ins1, wh1, kd1, yv1, pa1, na1, ty1, fr1, cm1, oN1, yT1, yC1, yE1, oH1, ou1, td1) → wpY_part P (nI len, ps, ba, nI c, 0, -1, yb, nI d, nn, wN, wT, pr, wg, sc, so, tA, tB, tC, fN, fO, fS, yt, fQ, T, be, en, ins, wh, kd, yv, pa, na, ty, fr, ym, oN, yT, yC, yE, oH, ou, td) (nI k) sl) :
    zl_Out sl k (nI len, nI q, zl_st e, 0, -1, nI w, wn, 0, rf, nI d, pt, zs, te, pw, sg, bg, dg, bl, dw, es, nI c, bd, pr, lt, T, so, tA, tB, tC, fN, fO, fQ, fS, tO, oS, oT, oN, oC, oE, oH, cm, kd, vl, pa, na, ty, fr, ta, ou, wk, sp) (nI len, ps, ba, nI c, 0, -1, yb, nI d, nn, wN, wT, pr, wg, sc, so, tA, tB, tC, fN, fO, fS, yt, fQ, T, be, en, ins, wh, kd, yv, pa, na, ty, fr, ym, oN, yT, yC, yE, oH, ou, td) := by
  have hB0 := hB
  obtain ⟨a1, a2, a3, a4⟩ := I.1
  obtain ⟨hT, ht, hl, htab⟩ := hB
  have h32 := ht q
  have hrk := zt_Ov_k hOv hq
  have n28 : ¬ t q = 28 := by unfold zw_num at num; omega
  rw [if_neg n28, hno] at xo
  rw [hno] at yo
  have ev0 : yv_v0 ym kk (t q) s = 0 := by unfold yv_v0; rw [if_neg (by unfold zw_num at num; omega), if_neg n28]
  rw [ev0] at yo
  have hnf : ¬ zw_nf (t q) = 0 := by rw [zw_nf_t num]; decide
  have hE' : ∃ qq, zn_end t len q r qq ∧ ((zn_acc qq ∧ ok = 1) ∨ (¬ zn_acc qq ∧ ok = 0)) := by
    rcases hOv with ⟨h, _⟩ | ⟨_, h⟩ | ⟨_, h, h', _⟩
    · unfold zw_num at num; omega
    · exact h
    · unfold zw_num at num; omega
  obtain ⟨qq, hEnd, hacc⟩ := hE'
  obtain ⟨D, z1, s1, F, PP, w1, D0, z0, sg0, hN1, hst1, hrun⟩ := zq_all ht hl num hEnd
  have hqq : 1 ≤ qq ∧ qq ≤ 8 := by obtain ⟨_, _, _, _, _, _, _, h⟩ := hN1; exact h
  have x0 := xo (fun Q hq => xo_num hc h32 num (fun Q hq => hst1 Q hq) hq)
  have x1 := zl_XS_tr x0 (hrun hT)
  rcases hacc with ⟨hacc, rfl⟩ | ⟨hacc, rfl⟩
  · -- whole
    have H : zl_H t len sl T so tA tB tC fN fO fQ fS tO yt be en ins wh ps ba (k + 1) 5 d r g := h1 rfl
    have xe : ∀ {st1 er1 pl1 wt1 wn1 tg1 rf1 dp1 pt1 zs1 te1 pw1 sg1 bg1 bl1 dw1 es1 ct1 bd1 pr1 lt1 : Int32} {dg1 : Int64} {T1 so1 tA1 tB1 tC1 fN1 fO1 fQ1 fS1 tO1 oS1 oT1 oN1 oC1 oE1 oH1 cm1 kd1 vl1 pa1 na1 ty1 fr1 ta1 ou1 wk1 sp1 : Nat → Int32}, (¬ er1 = 0 ∨ (er1 = 0 ∧ st1 = 1)) → (∀ Q : SX → Prop, Q (nI len, nI r, st1, er1, pl1, wt1, wn1, tg1, rf1, dp1, pt1, zs1, te1, pw1, sg1, bg1, dg1, bl1, dw1, es1, ct1, bd1, pr1, lt1, T1, so1, tA1, tB1, tC1, fN1, fO1, fQ1, fS1, tO1, oS1, oT1, oN1, oC1, oE1, oH1, cm1, kd1, vl1, pa1, na1, ty1, fr1, ta1, ou1, wk1, sp1) → wX_endNumber_43 Q (nI len) (nI r) 2 0 (-1) (nI w) wn 0 (nI (zw_rf so w (t q))) (nI d) (nI qq) (nI z1) (-nI F) (nI PP) (nI s1) bg (lN D) (nI (zw_b (t q))) (nI w1) es (nI (c + 1)) bd pr lt T so tA tB tC fN fO fQ fS tO oS oT oN (zw_oc oC d) oE oH cm (upd kd c (nI (zw_kd 0 (zw_rf so w (t q)) kk))) (upd vl c 0) (upd pa c (zw_pa oN d)) (upd na c wn) (upd ty c (nI s)) (upd fr c (nI q)) ta ou wk sp) → zl_XS (nI len, nI q, zl_st e, 0, -1, nI w, wn, 0, rf, nI d, pt, zs, te, pw, sg, bg, dg, bl, dw, es, nI c, bd, pr, lt, T, so, tA, tB, tC, fN, fO, fQ, fS, tO, oS, oT, oN, oC, oE, oH, cm, kd, vl, pa, na, ty, fr, ta, ou, wk, sp) (nI len, nI r, st1, er1, pl1, wt1, wn1, tg1, rf1, dp1, pt1, zs1, te1, pw1, sg1, bg1, dg1, bl1, dw1, es1, ct1, bd1, pr1, lt1, T1, so1, tA1, tB1, tC1, fN1, fO1, fQ1, fS1, tO1, oS1, oT1, oN1, oC1, oE1, oH1, cm1, kd1, vl1, pa1, na1, ty1, fr1, ta1, ou1, wk1, sp1) := by
      intro st1 er1 pl1 wt1 wn1 tg1 rf1 dp1 pt1 zs1 te1 pw1 sg1 bg1 bl1 dw1 es1 ct1 bd1 pr1 lt1 dg1 T1 so1 tA1 tB1 tC1 fN1 fO1 fQ1 fS1 tO1 oS1 oT1 oN1 oC1 oE1 oH1 cm1 kd1 vl1 pa1 na1 ty1 fr1 ta1 ou1 wk1 sp1 he1 he2
      exact zl_XS_tr x1 (zq_fin hT ht hl (by omega) hqq.1 hqq.2 hEnd.2 he1 (fun Q hq => xe_43 hacc (he2 Q hq)))
    -- the two outcomes, whatever the range
    have good : ∀ x : Int32, (∀ Q : SX → Prop, Q (nI len, nI r, 1, 0, -1, nI w, wn, 0, nI (zw_rf so w (t q)), nI d, nI qq, nI z1, -nI F, nI PP, nI s1, bg, lN D, nI (zw_b (t q)), nI w1, es, nI (c + 1), bd, pr, lt, T, so, tA, tB, tC, fN, fO, fQ, fS, tO, oS, oT, oN, zw_oc oC d, oE, oH, cm, upd kd c (nI (zw_kd 0 (zw_rf so w (t q)) kk)), upd vl c x, upd pa c (zw_pa oN d), upd na c wn, upd ty c (nI s), upd fr c (nI q), ta, ou, wk, sp) → wX_endNumber_43 Q (nI len) (nI r) 2 0 (-1) (nI w) wn 0 (nI (zw_rf so w (t q))) (nI d) (nI qq) (nI z1) (-nI F) (nI PP) (nI s1) bg (lN D) (nI (zw_b (t q))) (nI w1) es (nI (c + 1)) bd pr lt T so tA tB tC fN fO fQ fS tO oS oT oN (zw_oc oC d) oE oH cm (upd kd c (nI (zw_kd 0 (zw_rf so w (t q)) kk))) (upd vl c 0) (upd pa c (zw_pa oN d)) (upd na c wn) (upd ty c (nI s)) (upd fr c (nI q)) ta ou wk sp) →
        (∀ Q : SY → Prop, Q (nI len, ps, ba, nI (c + 1), 0, -1, yb, nI d, nn, wN, wT, pr, wg, x, so, tA, tB, tC, fN, fO, fS, yt, fQ, T, be, en, ins, wh, upd kd c (nI (zw_kd 0 (zw_rf so w (t q)) kk)), upd yv c x, upd pa c (zw_pa oN d), upd na c wn, upd ty c (nI s), upd fr c (nI q), ym, oN, yT, yC', yE, oH, ou, td) → wpY_bindNumber Q (nI len, ps, ba, nI (c + 1), 0, -1, yb, nI d, nn, wN, wT, pr, wg, sc, so, tA, tB, tC, fN, fO, fS, yt, fQ, T, be, en, ins, wh, upd kd c (nI (zw_kd 0 (zw_rf so w (t q)) kk)), upd yv c 0, upd pa c (zw_pa oN d), upd na c wn, upd ty c (nI s), upd fr c (nI q), ym, oN, yT, yC', yE, oH, ou, td) (nI k) (nI c) (yv_8 so w)) →
        zl_Out sl k (nI len, nI q, zl_st e, 0, -1, nI w, wn, 0, rf, nI d, pt, zs, te, pw, sg, bg, dg, bl, dw, es, nI c, bd, pr, lt, T, so, tA, tB, tC, fN, fO, fQ, fS, tO, oS, oT, oN, oC, oE, oH, cm, kd, vl, pa, na, ty, fr, ta, ou, wk, sp) (nI len, ps, ba, nI c, 0, -1, yb, nI d, nn, wN, wT, pr, wg, sc, so, tA, tB, tC, fN, fO, fS, yt, fQ, T, be, en, ins, wh, kd, yv, pa, na, ty, fr, ym, oN, yT, yC, yE, oH, ou, td) := by
      intro x hxx hyy
      have hx := xe (er1 := 0) (st1 := 1) (Or.inr ⟨rfl, rfl⟩) hxx
      have hy := yo (fun Q hq => yc_num hc hnf hyy (zv_564 (v := x) hVC hc hq))
      refine zl_Out_x hx (zl_Out_y hps hz hkz hy (H (zv_leaf hB0 I rfl hVC hmu hc hb hq (by omega) (by omega) hs ?_)))
      unfold zw_kd
      rw [if_neg (by decide)]
      by_cases r1 : zw_rf so w (t q) = 1
      · rw [if_pos r1]; exact Or.inr (Or.inr (Or.inr (Or.inr rfl)))
      · rw [if_neg r1]
        have k1 : kk = 1 := by
          rcases hk8 with h | h
          · exact h
          · exact absurd (if_pos ⟨h, num⟩) r1
        subst k1
        rw [if_neg (by decide)]
        exact Or.inl ⟨rfl, hkk⟩
    have badd : ∀ x : Int32, (∀ Q : SX → Prop, Q (nI len, nI r, 1, 6, nI (r - 1), nI w, wn, 0, nI (zw_rf so w (t q)), nI d, nI qq, nI z1, -nI F, nI PP, nI s1, bg, lN D, nI (zw_b (t q)), nI w1, es, nI (c + 1), bd, pr, lt, T, so, tA, tB, tC, fN, fO, fQ, fS, tO, oS, oT, oN, zw_oc oC d, oE, oH, cm, upd kd c (nI (zw_kd 0 (zw_rf so w (t q)) kk)), upd vl c 0, upd pa c (zw_pa oN d), upd na c wn, upd ty c (nI s), upd fr c (nI q), ta, ou, wk, sp) → wX_endNumber_43 Q (nI len) (nI r) 2 0 (-1) (nI w) wn 0 (nI (zw_rf so w (t q))) (nI d) (nI qq) (nI z1) (-nI F) (nI PP) (nI s1) bg (lN D) (nI (zw_b (t q))) (nI w1) es (nI (c + 1)) bd pr lt T so tA tB tC fN fO fQ fS tO oS oT oN (zw_oc oC d) oE oH cm (upd kd c (nI (zw_kd 0 (zw_rf so w (t q)) kk))) (upd vl c 0) (upd pa c (zw_pa oN d)) (upd na c wn) (upd ty c (nI s)) (upd fr c (nI q)) ta ou wk sp) →
        (∀ Q : SY → Prop, Q (nI len, ps, ba, nI (c + 1), 6, en k, yb, nI d, nn, wN, wT, pr, wg, x, so, tA, tB, tC, fN, fO, fS, yt, fQ, T, be, en, ins, wh, upd kd c (nI (zw_kd 0 (zw_rf so w (t q)) kk)), upd yv c x, upd pa c (zw_pa oN d), upd na c wn, upd ty c (nI s), upd fr c (nI q), ym, oN, yT, yC', yE, oH, ou, td) → wpY_bindNumber Q (nI len, ps, ba, nI (c + 1), 0, -1, yb, nI d, nn, wN, wT, pr, wg, sc, so, tA, tB, tC, fN, fO, fS, yt, fQ, T, be, en, ins, wh, upd kd c (nI (zw_kd 0 (zw_rf so w (t q)) kk)), upd yv c 0, upd pa c (zw_pa oN d), upd na c wn, upd ty c (nI s), upd fr c (nI q), ym, oN, yT, yC', yE, oH, ou, td) (nI k) (nI c) (yv_8 so w)) →
        zl_Out sl k (nI len, nI q, zl_st e, 0, -1, nI w, wn, 0, rf, nI d, pt, zs, te, pw, sg, bg, dg, bl, dw, es, nI c, bd, pr, lt, T, so, tA, tB, tC, fN, fO, fQ, fS, tO, oS, oT, oN, oC, oE, oH, cm, kd, vl, pa, na, ty, fr, ta, ou, wk, sp) (nI len, ps, ba, nI c, 0, -1, yb, nI d, nn, wN, wT, pr, wg, sc, so, tA, tB, tC, fN, fO, fS, yt, fQ, T, be, en, ins, wh, kd, yv, pa, na, ty, fr, ym, oN, yT, yC, yE, oH, ou, td) := by
      intro x hxx hyy
      have hx := xe (er1 := 6) (Or.inl (by decide)) hxx
      have hy := yo (fun Q hq => yc_num hc hnf hyy (zv_564 (v := x) hVC hc hq))
      rw [hen] at hy
      exact zl_Out_x hx (zl_Out_y hps hz hkz hy (zl_err hB0 (by decide)))
    by_cases c8 : so w = 8
    · -- a reference
      have r1 : zw_rf so w (t q) = 1 := if_pos ⟨c8, num⟩
      have e8 : yv_8 so w = 1 := if_pos c8
      obtain ⟨W, rr, x, hag, hXu, hYu⟩ := zq_agree (dc := 0) ht hN1 hacc (by omega) (by omega) (by omega)
      obtain ⟨m, hm, cm1, cm2⟩ := I.2.2.2.2.1 s hs
      have hlo : ((0 : Int32)).toInt64 = 0 := by decide
      have h6 : upd kd c (nI (zw_kd 0 (zw_rf so w (t q)) kk)) c = 6 := by
        rw [pk_us]; unfold zw_kd; rw [if_neg (by decide), if_pos r1]; rfl
      have hcv : (ym s - 1).toInt = (m : Int) - 1 := by
        rw [cm2, Int32.toInt_sub, nI_toInt (by omega), show ((1 : Int32)).toInt = 1 from by decide]
        exact Int.bmod_eq_of_le (by omega) (by omega)
      have hcw : ∀ W : Int64, (W ≤ (ym s - 1).toInt64 ↔ W < (cm s).toInt64) := by
        intro W
        rw [Int64.le_iff_toInt_le, Int64.lt_iff_toInt_lt, Int32.toInt_toInt64, Int32.toInt_toInt64, hcv, cm1, nI_toInt (by omega)]
        omega
      rcases zq_rg (lo := 0) (hi := ym s - 1) hag with ⟨g1, g2, g3, g4, g5, g6⟩ | ⟨g1, g2⟩
      · rw [hlo] at g4
        refine good x (fun Q hq => xe_ref (n := c) (s := s) (W := W) (by omega) hc hs pk_us h6 (fun Q hq => hXu Q hq) (fun _ _ => ?_) (fun y => ?_)) (fun Q hq => ?_)
        · rw [xs_uu, g6]; exact hq
        · exact absurd y (fun y => y.elim g4 (fun y => y ((hcw W).mp g5)))
        · rw [e8]
          refine yb_ref (n := c) (s := s) (x := x) (r := rr) (by omega) hwh hc hs pk_us (fun Q hq => hYu hT Q k (by omega) hb hen hq) (fun _ _ _ => ?_) (fun y => ?_)
          · rw [xs_uu]; exact hq
          · exact absurd y (fun y => y.elim g1 (fun y => y.elim g2 g3))
      · rw [hlo] at g2
        refine badd x (fun Q hq => xe_ref (n := c) (s := s) (W := W) (by omega) hc hs pk_us h6 (fun Q hq => hXu Q hq) (fun y1 y2 => ?_) (fun _ => hq)) (fun Q hq => ?_)
        · exact absurd g2 (fun y => y.elim y1 (fun y => y ((hcw W).mpr y2)))
        · rw [e8]
          refine yb_ref (n := c) (s := s) (x := x) (r := rr) (by omega) hwh hc hs pk_us (fun Q hq => hYu hT Q k (by omega) hb hen hq) (fun y1 y2 y3 => ?_) (fun _ => ?_)
          · exact absurd g1 (fun y => y.elim y1 (fun y => y.elim y2 y3))
          · rw [xs_uu]; exact hq
    · -- a number
      have k1 : kk = 1 := hk8.resolve_right c8
      subst k1
      have r0 : zw_rf so w (t q) = 0 := if_neg (fun y => c8 y.1)
      have e8 : yv_8 so w = 0 := if_neg c8
      obtain ⟨a, ha4, hA⟩ := (htab s hs).2.1 hkk
      obtain ⟨W, rr, x, hag, hXu, hYu⟩ := zq_agree (dc := a) ht hN1 hacc (by omega) (by omega) (by omega)
      have h6 : ¬ upd kd c (nI (zw_kd 0 (zw_rf so w (t q)) 1)) c = 6 := by
        rw [pk_us]; unfold zw_kd; rw [if_neg (by decide), r0]; decide
      rw [← hA] at hXu hYu
      rcases zq_rg (lo := tB s) (hi := tC s) hag with ⟨g1, g2, g3, g4, g5, g6⟩ | ⟨g1, g2⟩
      · refine good x (fun Q hq => xe_num (n := c) (s := s) (W := W) (by omega) hc hs pk_us h6 (fun Q hq => hXu Q hq) (fun _ _ => ?_) (fun y => ?_)) (fun Q hq => ?_)
        · rw [xs_uu, g6]; exact hq
        · exact absurd y (fun y => y.elim g4 (fun y => y g5))
        · rw [e8]
          refine yb_num (n := c) (s := s) (x := x) (r := rr) (by omega) hwh hc hs pk_us (fun Q hq => hYu hT Q k (by omega) hb hen hq) (fun _ _ _ => ?_) (fun y => ?_)
          · rw [xs_uu]; exact hq
          · exact absurd y (fun y => y.elim g1 (fun y => y.elim g2 g3))
      · refine badd x (fun Q hq => xe_num (n := c) (s := s) (W := W) (by omega) hc hs pk_us h6 (fun Q hq => hXu Q hq) (fun y1 y2 => ?_) (fun _ => hq)) (fun Q hq => ?_)
        · exact absurd g2 (fun y => y.elim y1 (fun y => y y2))
        · rw [e8]
          refine yb_num (n := c) (s := s) (x := x) (r := rr) (by omega) hwh hc hs pk_us (fun Q hq => hYu hT Q k (by omega) hb hen hq) (fun y1 y2 y3 => ?_) (fun _ => ?_)
          · exact absurd g1 (fun y => y.elim y1 (fun y => y.elim y2 y3))
          · rw [xs_uu]; exact hq
  · obtain ⟨p1, p2⟩ := h0 rfl
    have hx := zl_XS_tr x1 (zq_fin (er1 := 1) hT ht hl (by omega) hqq.1 hqq.2 hEnd.2 (Or.inl (by decide)) (fun Q hq => xe_syn hqq.2 hacc hq))
    have hy := yo (fun Q hq => yc_num hc hnf (fun Q hq => yb_nn (by omega) hwh hq) (zv_564 (v := 0) hVC hc hq))
    exact zl_Out_x hx (zl_Out_y hps hz hkz hy (zl_syn hB0 (by omega) (by omega) p1 p2))
end ZVL
end
section
section ZVM
variable {t : Nat → Nat} {len : Nat} {sl : Int32} {k e d c p q r s s0 z w kk ok : Nat} {g : Nat → Nat} {ln ap st er pl wt wn tg rf dp pt zs te pw sg bg bl dw es ct bd pr lt : Int32} {dg : Int64} {T so tA tB tC fN fO fQ fS tO oS oT oN oC oE oH cm kd vl pa na ty fr ta ou wk sp : Nat → Int32} {ln ps ba ct fl yp yb dp nn wN wT pr wg sc : Int32} {so tA tB tC fN fO fS yt fQ T be en ins wh kd yv pa na ty fr cm oN yT yC yE oH ou td : Nat → Int32} {ym yC' : Nat → Int32} {v : Int32}
theorem zt_str (hB : zl_B t len T so tA tC fN fO fS tO yt) (hps : ps = nI z) (hz : z ≤ 96) (hkz : k < z) (hb : be k = nI q) (hq : q < len) (h16 : t q = 16) (hsc : zs_sc t len 97 (q + 1) = (ok, r)) (hok : ok ≤ 1) (hr0 : q < r) (hrl : r ≤ len) (hen : en k = nI (r - 1)) (hwh : wh k = nI ok)
    (h0 : ok = 0 → ps = nI (k + 1) ∧ ba = nI r) (h1 : ok = 1 → zl_H t len sl T so tA tB tC fN fO fQ fS tO yt be en ins wh ps ba (k + 1) 5 d r g) (I : zl_Inv t len sl so tA fN fO fS be en k e d c q g (nI w) wn 0 nn wN wT oS oT oN oC oE oH cm kd vl pa na ty fr ta yv ym yT yC yE) (hVC : zv_VC d c wn so oS oT oN oC yT yC yC' kd yv) (hmu : ¬ zw_mu oS oT oC tC d) (hc : c < 40) (hs : s < 12) (hkk : so s = 2)
    (xo : ∀ {ln1 ap1 st1 er1 pl1 wt1 wn1 tg1 rf1 dp1 pt1 zs1 te1 pw1 sg1 bg1 bl1 dw1 es1 ct1 bd1 pr1 lt1 : Int32} {dg1 : Int64} {T1 so1 tA1 tB1 tC1 fN1 fO1 fQ1 fS1 tO1 oS1 oT1 oN1 oC1 oE1 oH1 cm1 kd1 vl1 pa1 na1 ty1 fr1 ta1 ou1 wk1 sp1 : Nat → Int32}, (∀ Q : SX → Prop, Q (ln1, ap1, st1, er1, pl1, wt1, wn1, tg1, rf1, dp1, pt1, zs1, te1, pw1, sg1, bg1, dg1, bl1, dw1, es1, ct1, bd1, pr1, lt1, T1, so1, tA1, tB1, tC1, fN1, fO1, fQ1, fS1, tO1, oS1, oT1, oN1, oC1, oE1, oH1, cm1, kd1, vl1, pa1, na1, ty1, fr1, ta1, ou1, wk1, sp1) → wX_open_153 Q (nI s) (nI 2) (nI 16) (nI c) 0 (nI c) (nI len) (nI q) (zl_st e) 0 (-1) (nI w) wn 0 (nI 0) (nI d) pt zs te pw sg bg dg bl dw es (nI (c + 1)) bd pr lt T so tA tB tC fN fO fQ fS tO oS oT oN (zw_oc oC d) oE oH cm (upd kd c (nI 1)) vl (upd pa c (zw_pa oN d)) (upd na c wn) (upd ty c (nI s)) (upd fr c (nI q)) ta ou wk sp) → zl_XS (nI len, nI q, zl_st e, 0, -1, nI w, wn, 0, rf, nI d, pt, zs, te, pw, sg, bg, dg, bl, dw, es, nI c, bd, pr, lt, T, so, tA, tB, tC, fN, fO, fQ, fS, tO, oS, oT, oN, oC, oE, oH, cm, kd, vl, pa, na, ty, fr, ta, ou, wk, sp) (ln1, ap1, st1, er1, pl1, wt1, wn1, tg1, rf1, dp1, pt1, zs1, te1, pw1, sg1, bg1, dg1, bl1, dw1, es1, ct1, bd1, pr1, lt1, T1, so1, tA1, tB1, tC1, fN1, fO1, fQ1, fS1, tO1, oS1, oT1, oN1, oC1, oE1, oH1, cm1, kd1, vl1, pa1, na1, ty1, fr1, ta1, ou1, wk1, sp1))
    (yo : ∀ {ln1 ps1 ba1 ct1 fl1 yp1 yb1 dp1 nn1 wN1 wT1 pr1 wg1 sc1 : Int32} {so1 tA1 tB1 tC1 fN1 fO1 fS1 yt1 fQ1 T1 be1 en1 ins1 wh1 kd1 yv1 pa1 na1 ty1 fr1 cm1 oN1 yT1 yC1 yE1 oH1 ou1 td1 : Nat → Int32}, (∀ Q : SY → Prop, Q (ln1, ps1, ba1, ct1, fl1, yp1, yb1, dp1, nn1, wN1, wT1, pr1, wg1, sc1, so1, tA1, tB1, tC1, fN1, fO1, fS1, yt1, fQ1, T1, be1, en1, ins1, wh1, kd1, yv1, pa1, na1, ty1, fr1, cm1, oN1, yT1, yC1, yE1, oH1, ou1, td1) → wY_bindValue_472 Q (nI k) (zw_pa oN d) wn (nI q) (nI 16) (nI s) (yv_8 so w) 0 (nI c) 0 (nI c) (nI len) ps ba (nI (c + 1)) 0 (-1) yb (nI d) nn wN wT pr wg sc so tA tB tC fN fO fS yt fQ T be en ins wh (upd kd c (nI 1)) yv pa na ty fr ym oN yT yC' yE oH ou td) → ∀ P : SY → Prop, P (ln1, ps1, ba1, ct1, fl1, yp1, yb1, dp1, nn1, wN1, wT1, pr1, wg1, sc1, so1, tA1, tB1, tC1, fN1, fO1, fS1, yt1, fQ1, T1, be1, en1, ins1, wh1, kd1, yv1, pa1, na1, ty1, fr1, cm1, oN1, yT1, yC1, yE1, oH1, ou1, td1) → wpY_part P (nI len, ps, ba, nI c, 0, -1, yb, nI d, nn, wN, wT, pr, wg, sc, so, tA, tB, tC, fN, fO, fS, yt, fQ, T, be, en, ins, wh, kd, yv, pa, na, ty, fr, ym, oN, yT, yC, yE, oH, ou, td) (nI k) sl) :
    zl_Out sl k (nI len, nI q, zl_st e, 0, -1, nI w, wn, 0, rf, nI d, pt, zs, te, pw, sg, bg, dg, bl, dw, es, nI c, bd, pr, lt, T, so, tA, tB, tC, fN, fO, fQ, fS, tO, oS, oT, oN, oC, oE, oH, cm, kd, vl, pa, na, ty, fr, ta, ou, wk, sp) (nI len, ps, ba, nI c, 0, -1, yb, nI d, nn, wN, wT, pr, wg, sc, so, tA, tB, tC, fN, fO, fS, yt, fQ, T, be, en, ins, wh, kd, yv, pa, na, ty, fr, ym, oN, yT, yC, yE, oH, ou, td) := by
  have hB0 := hB
  obtain ⟨a1, a2, a3, a4⟩ := I.1
  obtain ⟨hT, ht, hl, htab⟩ := hB
  obtain ⟨A, hA40, hA⟩ := (htab s hs).2.2.1 hkk
  have x0 := xo (fun Q hq => xo_str hc hq)
  have gsc := zs_go_sc (t := t) (len := len) (A := A) 97 (q + 1) 0 0
  have X := zs_x (n := c) (s := s) (A := A) (vl := vl) (wt := nI w) (wn := wn) (tg := 0) (rf := nI 0) (dp := nI d) (pt := pt) (zs := zs) (te := te) (pw := pw) (bg := bg) (dg := dg) (bl := bl) (dw := dw) (bd := bd) (pr := pr) (lt := lt) (T := T) (so := so) (tA := tA) (tB := tB) (tC := tC) (fN := fN) (fO := fO) (fQ := fQ) (fS := fS) (tO := tO) (oS := oS) (oT := oT) (oN := oN) (oC := zw_oc oC d) (oE := oE) (oH := oH) (cm := cm) (kd := upd kd c (nI 1)) (pa := upd pa c (zw_pa oN d)) (na := upd na c wn) (ty := upd ty c (nI s)) (fr := upd fr c (nI q)) (ta := ta) (ou := ou) (wk := wk) (sp := sp) hT ht hl hc hs pk_us hA hA40 97 (q + 1) 0 0 (by omega) (by omega) (by omega)
  have Yt : ∀ Q : SY → Prop, zs_YR t c (zs_go t len A 97 (q + 1) 0 0) Q (fun fl yp yv => (nI len, ps, ba, nI (c + 1), fl, yp, yb, nI d, nn, wN, wT, pr, wg, sc, so, tA, tB, tC, fN, fO, fS, yt, fQ, T, be, en, ins, wh, upd kd c (nI 1), yv, upd pa c (zw_pa oN d), upd na c wn, upd ty c (nI s), upd fr c (nI q), ym, oN, yT, yC', yE, oH, ou, td)) (upd yv c 0) (-1) → wpY_bindText Q (nI len, ps, ba, nI (c + 1), 0, -1, yb, nI d, nn, wN, wT, pr, wg, sc, so, tA, tB, tC, fN, fO, fS, yt, fQ, T, be, en, ins, wh, upd kd c (nI 1), upd yv c 0, upd pa c (zw_pa oN d), upd na c wn, upd ty c (nI s), upd fr c (nI q), ym, oN, yT, yC', yE, oH, ou, td) (nI k) (nI c) :=
    fun Q hQ => yb_text (A := A) hT ht hl (by omega) hc hs pk_us hA hA40 hq hb (by omega) (by omega) hen hwh hok hsc hQ
  generalize zs_go t len A 97 (q + 1) 0 0 = G at gsc X Yt
  rcases X with ⟨g0, sg', hx⟩ | ⟨g0, ap', sg', vl', hx⟩ | ⟨g0, hx⟩
  · have e1 := gsc.1 g0
    rw [hsc] at e1
    have eok : ok = 1 := congrArg Prod.fst e1
    have er : r = G.2.1 := congrArg Prod.snd e1
    have H : zl_H t len sl T so tA tB tC fN fO fQ fS tO yt be en ins wh ps ba (k + 1) 5 d r g := h1 eok
    dsimp only at hx
    rw [← er] at hx
    have hy : ∀ P : SY → Prop, P (nI len, ps, ba, nI (c + 1), 0, -1, yb, nI d, nn, wN, wT, pr, wg, sc, so, tA, tB, tC, fN, fO, fS, yt, fQ, T, be, en, ins, wh, upd kd c (nI 1), zv_in2 kd yv c G.2.2 (zw_pa oN d), upd pa c (zw_pa oN d), upd na c wn, upd ty c (nI s), upd fr c (nI q), ym, oN, yT, yC', yE, oH, ou, td) → wpY_part P (nI len, ps, ba, nI c, 0, -1, yb, nI d, nn, wN, wT, pr, wg, sc, so, tA, tB, tC, fN, fO, fS, yt, fQ, T, be, en, ins, wh, kd, yv, pa, na, ty, fr, ym, oN, yT, yC, yE, oH, ou, td) (nI k) sl := by
      refine yo (fun Q hq => yc_txt (yv1 := upd yv c G.2.2) hc rfl (fun Q hq => Yt Q ⟨fun _ => ?_, fun y => by rw [g0] at y; exact absurd y (by decide), fun y => by rw [g0] at y; exact absurd y (by decide), fun y => by rw [g0] at y; exact absurd y (by decide)⟩) (zv_564 (v := G.2.2) hVC hc hq))
      dsimp only
      rw [xs_uu]; exact hq
    exact zl_Out_x (zl_XS_tr x0 hx) (zl_Out_y hps hz hkz hy (H (zv_leaf (K := 1) hB0 I rfl hVC hmu hc hb hq hr0 hrl hs (Or.inr (Or.inl ⟨rfl, h16, by rw [hsc]; exact eok⟩)))))
  · dsimp only at hx
    have hy : ∀ P : SY → Prop, P (nI len, ps, ba, nI (c + 1), 6, nI G.2.1, yb, nI d, nn, wN, wT, pr, wg, sc, so, tA, tB, tC, fN, fO, fS, yt, fQ, T, be, en, ins, wh, upd kd c (nI 1), zv_in2 kd yv c (32 * G.2.2 + nI (t G.2.1)) (zw_pa oN d), upd pa c (zw_pa oN d), upd na c wn, upd ty c (nI s), upd fr c (nI q), ym, oN, yT, yC', yE, oH, ou, td) → wpY_part P (nI len, ps, ba, nI c, 0, -1, yb, nI d, nn, wN, wT, pr, wg, sc, so, tA, tB, tC, fN, fO, fS, yt, fQ, T, be, en, ins, wh, kd, yv, pa, na, ty, fr, ym, oN, yT, yC, yE, oH, ou, td) (nI k) sl := by
      refine yo (fun Q hq => yc_txt (yv1 := upd yv c (32 * G.2.2 + nI (t G.2.1))) hc rfl (fun Q hq => Yt Q ⟨fun y => by rw [g0] at y; exact absurd y (by decide), fun _ => ?_, fun y => by rw [g0] at y; exact absurd y (by decide), fun y => by rw [g0] at y; exact absurd y (by decide)⟩) (zv_564 (v := 32 * G.2.2 + nI (t G.2.1)) hVC hc hq))
      dsimp only
      rw [xs_uu]; exact hq
    exact zl_Out_x (zl_XS_tr x0 hx) (zl_Out_y hps hz hkz hy (zl_err hB0 (by decide)))
  · have e1 := gsc.2 g0
    rw [hsc] at e1
    have eok : ok = 0 := congrArg Prod.fst e1
    have er : r = G.2.1 := congrArg Prod.snd e1
    obtain ⟨p1, p2⟩ := h0 eok
    have hz9 : ∃ yv9 : Nat → Int32, ∀ P : SY → Prop, P (nI len, ps, ba, nI (c + 1), 0, -1, yb, nI d, nn, wN, wT, pr, wg, sc, so, tA, tB, tC, fN, fO, fS, yt, fQ, T, be, en, ins, wh, upd kd c (nI 1), yv9, upd pa c (zw_pa oN d), upd na c wn, upd ty c (nI s), upd fr c (nI q), ym, oN, yT, yC', yE, oH, ou, td) → wpY_part P (nI len, ps, ba, nI c, 0, -1, yb, nI d, nn, wN, wT, pr, wg, sc, so, tA, tB, tC, fN, fO, fS, yt, fQ, T, be, en, ins, wh, kd, yv, pa, na, ty, fr, ym, oN, yT, yC, yE, oH, ou, td) (nI k) sl := by
      by_cases g2 : G.1 = 2
      · exact ⟨_, yo (fun Q hq => yc_txt hc rfl (fun Q hq => Yt Q ⟨fun y => by rw [g2] at y; exact absurd y (by decide), fun y => by rw [g2] at y; exact absurd y (by decide), fun _ => hq, fun y => by rw [g2] at y; exact absurd y (by decide)⟩) (zv_564 (v := 0) hVC hc hq))⟩
      · refine ⟨_, yo (fun Q hq => yc_txt (yv1 := upd yv c G.2.2) hc rfl (fun Q hq => Yt Q ⟨fun y => by omega, fun y => by omega, fun y => absurd y g2, fun _ => ?_⟩) (zv_564 (v := G.2.2) hVC hc hq))⟩
        dsimp only
        rw [xs_uu]; exact hq
    obtain ⟨yv9, hy⟩ := hz9
    rcases hx with ⟨g1, es', sg', vl', hx⟩ | ⟨g1, ap', sg', vl', hx⟩
    · dsimp only at hx
      rw [g1] at er
      subst er
      exact zl_Out_x (zl_XS_tr x0 hx) (zl_Out_y hps hz hkz hy (zl_eofb hB0 (by omega) p1 p2 (by decide) (Or.inl (by decide))))
    · dsimp only at hx
      rw [← er] at hx
      exact zl_Out_x (zl_XS_tr x0 hx) (zl_Out_y hps hz hkz hy (zl_syn hB0 (by omega) (by omega) p1 p2))
end ZVM
end
section
section ZVN
variable {t : Nat → Nat} {len : Nat} {sl : Int32} {k e d c p q r s s0 z w kk ok : Nat} {g : Nat → Nat} {ln ap st er pl wt wn tg rf dp pt zs te pw sg bg bl dw es ct bd pr lt : Int32} {dg : Int64} {T so tA tB tC fN fO fQ fS tO oS oT oN oC oE oH cm kd vl pa na ty fr ta ou wk sp : Nat → Int32} {ln ps ba ct fl yp yb dp nn wN wT pr wg sc : Int32} {so tA tB tC fN fO fS yt fQ T be en ins wh kd yv pa na ty fr cm oN yT yC yE oH ou td : Nat → Int32} {ym yC' : Nat → Int32} {v : Int32}
theorem zt_val (hB : zl_B t len T so tA tC fN fO fS tO yt) (hsl : sl = nI s0) (hs0 : s0 < 12) (hps : ps = nI z) (hz : z ≤ 96) (hkz : k < z) (hb : be k = nI q) (hq : q < len) (he : e ≤ 1) (h20 : t q ≠ 20) (hst : zw_st (t q)) (ht0 : tg = 0) (hOv : zt_Ov t len q ok r) (hen : en k = nI (r - 1)) (hwh : wh k = nI ok)
    (h0 : ok = 0 → ps = nI (k + 1) ∧ ba = nI r) (h1 : ok = 1 → zl_H t len sl T so tA tB tC fN fO fQ fS tO yt be en ins wh ps ba (k + 1) (zt_ne e (g d) (t q)) (zt_nL d (t q)) r (zt_ng g d (t q))) (I : zl_Inv t len sl so tA fN fO fS be en k e d c q g wt wn tg nn wN wT oS oT oN oC oE oH cm kd vl pa na ty fr ta yv ym yT yC yE) :
    zl_Out sl k (nI len, nI q, zl_st e, 0, -1, wt, wn, tg, rf, nI d, pt, zs, te, pw, sg, bg, dg, bl, dw, es, nI c, bd, pr, lt, T, so, tA, tB, tC, fN, fO, fQ, fS, tO, oS, oT, oN, oC, oE, oH, cm, kd, vl, pa, na, ty, fr, ta, ou, wk, sp) (nI len, ps, ba, nI c, 0, -1, yb, nI d, nn, wN, wT, pr, wg, sc, so, tA, tB, tC, fN, fO, fS, yt, fQ, T, be, en, ins, wh, kd, yv, pa, na, ty, fr, ym, oN, yT, yC, yE, oH, ou, td) := by
  have hB0 := hB
  obtain ⟨a1, a2, a3, a4⟩ := I.1
  obtain ⟨hT, ht, hl, htab⟩ := hB
  obtain ⟨w, yC', hw, hwt, hwn, hpa, hVC, yd⟩ := zv_ctx (ps := ps) (ba := ba) (yb := yb) (pr := pr) (wg := wg) (sc := sc) (tB := tB) (fQ := fQ) (ins := ins) (wh := wh) (ou := ou) (td := td) hB0 hsl hs0 (by omega) hb hq hst he ht0 I
  subst hwt ht0
  have h32 := ht q
  have hTq := hT q
  have hcx := zv_cx hVC a2
  have hmuI := zv_mu (tC := tC) hVC a2
  have hse := zv_se he hst
  have hrk := zt_Ov_k hOv hq
  have hk96 : k < 96 := by omega
  have hq96 : q < 96 := by omega
  have rd : ∀ {ln1 ap1 st1 er1 pl1 wt1 wn1 tg1 rf1 dp1 pt1 zs1 te1 pw1 sg1 bg1 bl1 dw1 es1 ct1 bd1 pr1 lt1 : Int32} {dg1 : Int64} {T1 so1 tA1 tB1 tC1 fN1 fO1 fQ1 fS1 tO1 oS1 oT1 oN1 oC1 oE1 oH1 cm1 kd1 vl1 pa1 na1 ty1 fr1 ta1 ou1 wk1 sp1 : Nat → Int32}, (∀ Q : SX → Prop, Q (ln1, ap1, st1, er1, pl1, wt1, wn1, tg1, rf1, dp1, pt1, zs1, te1, pw1, sg1, bg1, dg1, bl1, dw1, es1, ct1, bd1, pr1, lt1, T1, so1, tA1, tB1, tC1, fN1, fO1, fQ1, fS1, tO1, oS1, oT1, oN1, oC1, oE1, oH1, cm1, kd1, vl1, pa1, na1, ty1, fr1, ta1, ou1, wk1, sp1) → wpX_value Q (nI len, nI q, zl_st e, 0, -1, nI w, wn, 0, rf, nI d, pt, zs, te, pw, sg, bg, dg, bl, dw, es, nI c, bd, pr, lt, T, so, tA, tB, tC, fN, fO, fQ, fS, tO, oS, oT, oN, oC, oE, oH, cm, kd, vl, pa, na, ty, fr, ta, ou, wk, sp) (nI (t q))) → zl_XS (nI len, nI q, zl_st e, 0, -1, nI w, wn, 0, rf, nI d, pt, zs, te, pw, sg, bg, dg, bl, dw, es, nI c, bd, pr, lt, T, so, tA, tB, tC, fN, fO, fQ, fS, tO, oS, oT, oN, oC, oE, oH, cm, kd, vl, pa, na, ty, fr, ta, ou, wk, sp) (ln1, ap1, st1, er1, pl1, wt1, wn1, tg1, rf1, dp1, pt1, zs1, te1, pw1, sg1, bg1, dg1, bl1, dw1, es1, ct1, bd1, pr1, lt1, T1, so1, tA1, tB1, tC1, fN1, fO1, fQ1, fS1, tO1, oS1, oT1, oN1, oC1, oE1, oH1, cm1, kd1, vl1, pa1, na1, ty1, fr1, ta1, ou1, wk1, sp1) := by
    intro ln1 ap1 st1 er1 pl1 wt1 wn1 tg1 rf1 dp1 pt1 zs1 te1 pw1 sg1 bg1 bl1 dw1 es1 ct1 bd1 pr1 lt1 dg1 T1 so1 tA1 tB1 tC1 fN1 fO1 fQ1 fS1 tO1 oS1 oT1 oN1 oC1 oE1 oH1 cm1 kd1 vl1 pa1 na1 ty1 fr1 ta1 ou1 wk1 sp1 hcl
    exact zl_read hT hl hq (zl_st_n e).1 (fun P hp => xr_val hse h32 h20 hcl hp)
  by_cases hu : zw_und so tA w
  · have hx := rd (fun Q hq => xv_un htab h32 hst hw hu hq)
    have hy := yd (fun Q hq => yv_un htab hk96 hb hq96 hTq h32 hw a1 hcx hu hq)
    exact zl_Out_x hx (zl_Out_y hps hz hkz hy (zl_err hB0 (by decide)))
  · by_cases hr : zw_rt so tA w (t q)
    · obtain ⟨kk, hk1, hk6, hkk⟩ := zw_kk htab hw hu
      have hin := (zw_in_lt htab hw).1
      have xg : ∀ {ln1 ap1 st1 er1 pl1 wt1 wn1 tg1 rf1 dp1 pt1 zs1 te1 pw1 sg1 bg1 bl1 dw1 es1 ct1 bd1 pr1 lt1 : Int32} {dg1 : Int64} {T1 so1 tA1 tB1 tC1 fN1 fO1 fQ1 fS1 tO1 oS1 oT1 oN1 oC1 oE1 oH1 cm1 kd1 vl1 pa1 na1 ty1 fr1 ta1 ou1 wk1 sp1 : Nat → Int32}, (∀ Q : SX → Prop, Q (ln1, ap1, st1, er1, pl1, wt1, wn1, tg1, rf1, dp1, pt1, zs1, te1, pw1, sg1, bg1, dg1, bl1, dw1, es1, ct1, bd1, pr1, lt1, T1, so1, tA1, tB1, tC1, fN1, fO1, fQ1, fS1, tO1, oS1, oT1, oN1, oC1, oE1, oH1, cm1, kd1, vl1, pa1, na1, ty1, fr1, ta1, ou1, wk1, sp1) → wX_value_297 Q (nI (t q)) (nI (zw_in so tA w)) (nI kk) (nI (zw_no so w (t q))) (nI len) (nI q) (zl_st e) 0 (-1) (nI w) wn 0 (nI (zw_rf so w (t q))) (nI d) pt zs te pw sg bg dg bl dw es (nI c) bd pr lt T so tA tB tC fN fO fQ fS tO oS oT oN oC oE oH cm kd vl pa na ty fr ta ou wk sp) → zl_XS (nI len, nI q, zl_st e, 0, -1, nI w, wn, 0, rf, nI d, pt, zs, te, pw, sg, bg, dg, bl, dw, es, nI c, bd, pr, lt, T, so, tA, tB, tC, fN, fO, fQ, fS, tO, oS, oT, oN, oC, oE, oH, cm, kd, vl, pa, na, ty, fr, ta, ou, wk, sp) (ln1, ap1, st1, er1, pl1, wt1, wn1, tg1, rf1, dp1, pt1, zs1, te1, pw1, sg1, bg1, dg1, bl1, dw1, es1, ct1, bd1, pr1, lt1, T1, so1, tA1, tB1, tC1, fN1, fO1, fQ1, fS1, tO1, oS1, oT1, oN1, oC1, oE1, oH1, cm1, kd1, vl1, pa1, na1, ty1, fr1, ta1, ou1, wk1, sp1) := by
        intro ln1 ap1 st1 er1 pl1 wt1 wn1 tg1 rf1 dp1 pt1 zs1 te1 pw1 sg1 bg1 bl1 dw1 es1 ct1 bd1 pr1 lt1 dg1 T1 so1 tA1 tB1 tC1 fN1 fO1 fQ1 fS1 tO1 oS1 oT1 oN1 oC1 oE1 oH1 cm1 kd1 vl1 pa1 na1 ty1 fr1 ta1 ou1 wk1 sp1 hcl
        exact rd (fun Q hq => xv_go htab h32 hst hw hu hr hk1 hk6 hkk (hcl Q hq))
      have yg : ∀ {ln1 ps1 ba1 ct1 fl1 yp1 yb1 dp1 nn1 wN1 wT1 pr1 wg1 sc1 : Int32} {so1 tA1 tB1 tC1 fN1 fO1 fS1 yt1 fQ1 T1 be1 en1 ins1 wh1 kd1 yv1 pa1 na1 ty1 fr1 cm1 oN1 yT1 yC1 yE1 oH1 ou1 td1 : Nat → Int32}, (∀ Q : SY → Prop, Q (ln1, ps1, ba1, ct1, fl1, yp1, yb1, dp1, nn1, wN1, wT1, pr1, wg1, sc1, so1, tA1, tB1, tC1, fN1, fO1, fS1, yt1, fQ1, T1, be1, en1, ins1, wh1, kd1, yv1, pa1, na1, ty1, fr1, cm1, oN1, yT1, yC1, yE1, oH1, ou1, td1) → wY_bindValue_271 Q (nI k) (zw_pa oN d) wn (nI q) (nI (t q)) (nI (zw_in so tA w)) (nI kk) (yv_8 so w) (zw_nf (t q)) (nI len) ps ba (nI c) 0 (-1) yb (nI d) nn wN wT pr wg sc so tA tB tC fN fO fS yt fQ T be en ins wh kd yv pa na ty fr ym oN yT yC' yE oH ou td) → ∀ P : SY → Prop, P (ln1, ps1, ba1, ct1, fl1, yp1, yb1, dp1, nn1, wN1, wT1, pr1, wg1, sc1, so1, tA1, tB1, tC1, fN1, fO1, fS1, yt1, fQ1, T1, be1, en1, ins1, wh1, kd1, yv1, pa1, na1, ty1, fr1, cm1, oN1, yT1, yC1, yE1, oH1, ou1, td1) → wpY_part P (nI len, ps, ba, nI c, 0, -1, yb, nI d, nn, wN, wT, pr, wg, sc, so, tA, tB, tC, fN, fO, fS, yt, fQ, T, be, en, ins, wh, kd, yv, pa, na, ty, fr, ym, oN, yT, yC, yE, oH, ou, td) (nI k) sl := by
        intro ln1 ps1 ba1 ct1 fl1 yp1 yb1 dp1 nn1 wN1 wT1 pr1 wg1 sc1 so1 tA1 tB1 tC1 fN1 fO1 fS1 yt1 fQ1 T1 be1 en1 ins1 wh1 kd1 yv1 pa1 na1 ty1 fr1 cm1 oN1 yT1 yC1 yE1 oH1 ou1 td1 hcl
        exact yd (fun Q hq => yv_go htab hk96 hb hq96 hTq h32 hst hw hu hr hkk (hcl Q hq))
      by_cases hdp : (t q = 10 ∨ t q = 12) ∧ d = 6
      · obtain ⟨hc10, rfl⟩ := hdp
        have hx := xg (fun Q hq => xo_deep hc10 hq)
        have hy := yg (fun Q hq => yv_deep hc10 hcx hq)
        exact zl_Out_x hx (zl_Out_y hps hz hkz hy (zl_err hB0 (by decide)))
      · by_cases h40 : c = 40
        · subst h40
          have hx := xg (fun Q hq => xo_330 h32 (by omega) hdp (xo_many hq))
          have hy := yg (fun Q hq => yv_300 h32 a1 hdp (yv_many a1 hcx hq))
          exact zl_Out_x hx (zl_Out_y hps hz hkz hy (zl_err hB0 (by decide)))
        · have hc : c < 40 := by omega
          have hoT : 0 < d → oS (d - 1) = 4 → vp_in (oT (d - 1)) 12 := fun z _ => zl_Lv_vp (I.2.1 (d - 1) (by omega)).1
          by_cases hmu : zw_mu oS oT oC tC d
          · have hx := xg (fun Q hq => xo_330 h32 (by omega) hdp (xo_much hc a1 hoT hmu hq))
            have hy := yg (fun Q hq => yv_300 h32 a1 hdp (yv_much hc a1 hcx (hmuI.mp hmu) hq))
            exact zl_Out_x hx (zl_Out_y hps hz hkz hy (zl_err hB0 (by decide)))
          · have hno1 : zw_no so w (t q) ≤ 1 := by unfold zw_no; split <;> omega
            have hrf1 : zw_rf so w (t q) ≤ 1 := by unfold zw_rf; split <;> omega
            have hoc : 0 < d → ∃ m, m < 120 ∧ oC (d - 1) = nI m := by
              intro z
              obtain ⟨_, ⟨m, hm, hC⟩, _⟩ := (I.2.1 (d - 1) (by omega)).1
              exact ⟨m, by omega, hC⟩
            have h27 : t q = 27 ↔ zw_no so w (t q) = 1 := by
              unfold zw_no
              constructor
              · intro z
                refine if_pos ⟨?_, z⟩
                unfold zw_rt zw_num at hr
                rcases hr with h | h | h | h | h | h
                · exact h.2
                all_goals omega
              · intro z
                by_cases y : so w = 7 ∧ t q = 27
                · exact y.2
                · rw [if_neg y] at z; omega
            have hrfi : zw_rf so w (t q) = 1 ↔ (so w = 8 ∧ zw_num (t q)) := by
              unfold zw_rf
              constructor
              · intro z
                by_cases y : so w = 8 ∧ (t q < 10 ∨ t q = 17)
                · exact y
                · rw [if_neg y] at z; omega
              · intro z
                exact if_pos z
            have xo : ∀ {ln1 ap1 st1 er1 pl1 wt1 wn1 tg1 rf1 dp1 pt1 zs1 te1 pw1 sg1 bg1 bl1 dw1 es1 ct1 bd1 pr1 lt1 : Int32} {dg1 : Int64} {T1 so1 tA1 tB1 tC1 fN1 fO1 fQ1 fS1 tO1 oS1 oT1 oN1 oC1 oE1 oH1 cm1 kd1 vl1 pa1 na1 ty1 fr1 ta1 ou1 wk1 sp1 : Nat → Int32}, (∀ Q : SX → Prop, Q (ln1, ap1, st1, er1, pl1, wt1, wn1, tg1, rf1, dp1, pt1, zs1, te1, pw1, sg1, bg1, dg1, bl1, dw1, es1, ct1, bd1, pr1, lt1, T1, so1, tA1, tB1, tC1, fN1, fO1, fQ1, fS1, tO1, oS1, oT1, oN1, oC1, oE1, oH1, cm1, kd1, vl1, pa1, na1, ty1, fr1, ta1, ou1, wk1, sp1) → wX_open_153 Q (nI (zw_in so tA w)) (nI kk) (nI (t q)) (nI c) (if t q = 28 then 1 else 0) (nI c) (nI len) (nI q) (zl_st e) 0 (-1) (nI w) wn 0 (nI (zw_rf so w (t q))) (nI d) pt zs te pw sg bg dg bl dw es (nI (c + 1)) bd pr lt T so tA tB tC fN fO fQ fS tO oS oT oN (zw_oc oC d) oE oH cm (upd kd c (nI (zw_kd (zw_no so w (t q)) (zw_rf so w (t q)) kk))) vl (upd pa c (zw_pa oN d)) (upd na c wn) (upd ty c (nI (zw_in so tA w))) (upd fr c (nI q)) ta ou wk sp) → zl_XS (nI len, nI q, zl_st e, 0, -1, nI w, wn, 0, rf, nI d, pt, zs, te, pw, sg, bg, dg, bl, dw, es, nI c, bd, pr, lt, T, so, tA, tB, tC, fN, fO, fQ, fS, tO, oS, oT, oN, oC, oE, oH, cm, kd, vl, pa, na, ty, fr, ta, ou, wk, sp) (ln1, ap1, st1, er1, pl1, wt1, wn1, tg1, rf1, dp1, pt1, zs1, te1, pw1, sg1, bg1, dg1, bl1, dw1, es1, ct1, bd1, pr1, lt1, T1, so1, tA1, tB1, tC1, fN1, fO1, fQ1, fS1, tO1, oS1, oT1, oN1, oC1, oE1, oH1, cm1, kd1, vl1, pa1, na1, ty1, fr1, ta1, ou1, wk1, sp1) := by
              intro ln1 ap1 st1 er1 pl1 wt1 wn1 tg1 rf1 dp1 pt1 zs1 te1 pw1 sg1 bg1 bl1 dw1 es1 ct1 bd1 pr1 lt1 dg1 T1 so1 tA1 tB1 tC1 fN1 fO1 fQ1 fS1 tO1 oS1 oT1 oN1 oC1 oE1 oH1 cm1 kd1 vl1 pa1 na1 ty1 fr1 ta1 ou1 wk1 sp1 hcl
              exact xg (fun Q hq => xo_330 h32 (by omega) hdp (xo_open hc a1 hoT hmu (fun Q hq => xo_43 hc hin (by omega) hk1 hno1 hrf1 h32 (by omega) a1 hpa hwn hoc (hcl Q hq)) hq))
            have yo : ∀ {ln1 ps1 ba1 ct1 fl1 yp1 yb1 dp1 nn1 wN1 wT1 pr1 wg1 sc1 : Int32} {so1 tA1 tB1 tC1 fN1 fO1 fS1 yt1 fQ1 T1 be1 en1 ins1 wh1 kd1 yv1 pa1 na1 ty1 fr1 cm1 oN1 yT1 yC1 yE1 oH1 ou1 td1 : Nat → Int32}, (∀ Q : SY → Prop, Q (ln1, ps1, ba1, ct1, fl1, yp1, yb1, dp1, nn1, wN1, wT1, pr1, wg1, sc1, so1, tA1, tB1, tC1, fN1, fO1, fS1, yt1, fQ1, T1, be1, en1, ins1, wh1, kd1, yv1, pa1, na1, ty1, fr1, cm1, oN1, yT1, yC1, yE1, oH1, ou1, td1) → wY_bindValue_472 Q (nI k) (zw_pa oN d) wn (nI q) (nI (t q)) (nI (zw_in so tA w)) (yv_8 so w) (zw_nf (t q)) (nI c) (yv_v0 ym kk (t q) (zw_in so tA w)) (nI c) (nI len) ps ba (nI (c + 1)) 0 (-1) yb (nI d) nn wN wT pr wg sc so tA tB tC fN fO fS yt fQ T be en ins wh (upd kd c (nI (zw_kd (zw_no so w (t q)) (zw_rf so w (t q)) kk))) yv pa na ty fr ym oN yT yC' yE oH ou td) → ∀ P : SY → Prop, P (ln1, ps1, ba1, ct1, fl1, yp1, yb1, dp1, nn1, wN1, wT1, pr1, wg1, sc1, so1, tA1, tB1, tC1, fN1, fO1, fS1, yt1, fQ1, T1, be1, en1, ins1, wh1, kd1, yv1, pa1, na1, ty1, fr1, cm1, oN1, yT1, yC1, yE1, oH1, ou1, td1) → wpY_part P (nI len, ps, ba, nI c, 0, -1, yb, nI d, nn, wN, wT, pr, wg, sc, so, tA, tB, tC, fN, fO, fS, yt, fQ, T, be, en, ins, wh, kd, yv, pa, na, ty, fr, ym, oN, yT, yC, yE, oH, ou, td) (nI k) sl := by
              intro ln1 ps1 ba1 ct1 fl1 yp1 yb1 dp1 nn1 wN1 wT1 pr1 wg1 sc1 so1 tA1 tB1 tC1 fN1 fO1 fS1 yt1 fQ1 T1 be1 en1 ins1 wh1 kd1 yv1 pa1 na1 ty1 fr1 cm1 oN1 yT1 yC1 yE1 oH1 ou1 td1 hcl
              exact yg (fun Q hq => yv_300 h32 a1 hdp (yv_359 hc a1 hcx (fun y => hmu (hmuI.mpr y)) (yc_359 hc hin hk1 hk6 h32 h27 hrfi (hcl Q hq))))
            clear hoc
            have q9 : ∀ m, m < 9 → so (zw_in so tA w) = nI m → kk = m := fun m hm y => za_e (hkk.symm.trans y) (by omega) (by omega)
            by_cases num : zw_num (t q)
            · have c12 : t q ≠ 10 ∧ t q ≠ 12 := by unfold zw_num at num; omega
              rw [zt_ne_s hst c12 he, zt_nL_s hst c12, zt_ng_id c12] at h1
              refine zt_num hB0 hps hz hkz hb hq he hst num hOv hen hwh h0 h1 I hVC hmu hc hin hk1 hk6 hkk ?_ ?_ xo yo
              · unfold zw_rt zw_num at hr
                unfold zw_num at num
                rcases hr with h | ⟨_, h | h⟩ | h | h | h | h
                · omega
                · exact Or.inl (q9 1 (by decide) h)
                · exact Or.inr h
                all_goals omega
              · apply Decidable.byContradiction
                intro y
                have := h27.mpr (by omega)
                unfold zw_num at num; omega
            · have hnf := zw_nf_f num
              have r0 : zw_rf so w (t q) = 0 := by
                apply Decidable.byContradiction
                intro y
                exact num (hrfi.mp (by omega)).2
              rw [hnf] at yo
              rw [r0] at xo yo
              by_cases c16 : t q = 16
              · have k2 : kk = 2 := by
                  unfold zw_rt zw_num at hr
                  rcases hr with h | h | h | h | h | h
                  · omega
                  · omega
                  · exact q9 2 (by decide) h.2
                  all_goals omega
                have n0 : zw_no so w (t q) = 0 := by
                  apply Decidable.byContradiction
                  intro y
                  have := h27.mpr (by omega)
                  omega
                subst k2
                have c12 : t q ≠ 10 ∧ t q ≠ 12 := by omega
                rw [zt_ne_s hst c12 he, zt_nL_s hst c12, zt_ng_id c12] at h1
                have ek : zw_kd 0 0 2 = 1 := rfl
                have ev : yv_v0 ym 2 16 (zw_in so tA w) = 0 := rfl
                have hsc : zs_sc t len 97 (q + 1) = (ok, r) := by
                  rcases hOv with h | ⟨h, _⟩ | ⟨h, _⟩
                  · exact h.2
                  · omega
                  · exact absurd c16 h
                rw [n0, c16] at xo yo
                rw [ev] at yo
                exact zt_str hB0 hps hz hkz hb hq c16 hsc hrk.2.2 hrk.1 hrk.2.1 hen hwh h0 h1 I hVC hmu hc hin hkk xo yo
              · have hO3 : ok = 1 ∧ r = q + 1 := by
                  rcases hOv with h | ⟨h, _⟩ | ⟨_, _, _, h1, h2⟩
                  · exact absurd h.1 c16
                  · exact absurd h num
                  · exact ⟨h1, h2⟩
                obtain ⟨rfl, rfl⟩ := hO3
                by_cases c1012 : t q = 10 ∨ t q = 12
                · have hd6 : d < 6 := by omega
                  have n27 : t q ≠ 27 := by omega
                  have n0 : zw_no so w (t q) = 0 := by
                    apply Decidable.byContradiction
                    intro y
                    exact n27 (h27.mpr (by omega))
                  have n28 : ¬ t q = 28 := by omega
                  rw [n0, if_neg n28] at xo
                  rw [n0] at yo
                  obtain ⟨m9, _, cm1, cm2⟩ := I.2.2.2.2.1 (zw_in so tA w) hin
                  by_cases c12 : t q = 12
                  · have k4 : kk = 4 := by
                      unfold zw_rt zw_num at hr
                      rcases hr with h | h | h | h | h | h
                      · omega
                      · omega
                      · omega
                      · exact q9 4 (by decide) h.2
                      · omega
                      · omega
                    subst k4
                    rw [c12] at xo yo h1
                    have e1 : zt_ne e (g d) 12 = 1 := by unfold zt_ne; rw [if_neg (by omega), if_neg (by omega), if_neg (by omega), if_neg (by omega), if_neg (by omega), if_pos rfl]
                    have e2 : zt_nL d 12 = d + 1 := by unfold zt_nL; rw [if_neg (by omega), if_pos (by omega)]
                    rw [e1, e2] at h1
                    have H : zl_H t len sl T so tA tB tC fN fO fQ fS tO yt be en ins wh ps ba (k + 1) 1 (d + 1) (q + 1) (zt_ng g d 12) := h1 rfl
                    have ev : yv_v0 ym 4 12 (zw_in so tA w) = 0 := rfl
                    rw [ev] at yo
                    have hx := xo (fun Q hq => xo_ins hc (Or.inr rfl) (fun Q hq => xo_inside hc hin hd6 (Or.inl rfl) (fun _ => hq) (fun y => absurd y (by decide)) (fun y => absurd y (by decide))) hq)
                    have hy := yo (fun Q hq => yc_ins hc rfl (Or.inr rfl) (fun Q hq => yo_rec hc hin hd6 (by rw [hkk]; decide) hq) (zv_564 (v := 0) hVC hc hq))
                    exact zl_Out_x hx (zl_Out_y hps hz hkz hy (H (zv_cont (KK := 4) (K := 3) (v := 0) hB0 I rfl hVC hmu hc hd6 hb hq hin (Or.inl ⟨rfl, rfl, hkk, rfl, rfl, rfl, rfl, rfl, rfl, rfl, rfl⟩))))
                  · have c10 : t q = 10 := by omega
                    rw [c10] at xo yo h1
                    have e1 : zt_ne e (g d) 10 = 2 := by unfold zt_ne; rw [if_neg (by omega), if_neg (by omega), if_neg (by omega), if_neg (by omega), if_pos rfl]
                    have e2 : zt_nL d 10 = d + 1 := by unfold zt_nL; rw [if_neg (by omega), if_pos (by omega)]
                    rw [e1, e2] at h1
                    have H : zl_H t len sl T so tA tB tC fN fO fQ fS tO yt be en ins wh ps ba (k + 1) 2 (d + 1) (q + 1) (zt_ng g d 10) := h1 rfl
                    have k56 : kk = 5 ∨ kk = 6 := by
                      unfold zw_rt zw_num at hr
                      rcases hr with h | h | h | h | ⟨_, h | h⟩ | h
                      · omega
                      · omega
                      · omega
                      · omega
                      · exact Or.inl (q9 5 (by decide) h)
                      · exact Or.inr (q9 6 (by decide) h)
                      · omega
                    rcases k56 with rfl | rfl
                    · have ev : yv_v0 ym 5 10 (zw_in so tA w) = nI m9 := cm2
                      rw [ev] at yo
                      have hx : zl_XS (nI len, nI q, zl_st e, 0, -1, nI w, wn, 0, rf, nI d, pt, zs, te, pw, sg, bg, dg, bl, dw, es, nI c, bd, pr, lt, T, so, tA, tB, tC, fN, fO, fQ, fS, tO, oS, oT, oN, oC, oE, oH, cm, kd, vl, pa, na, ty, fr, ta, ou, wk, sp) (nI len, nI (q + 1), 5, 0, -1, nI w, wn, 0, nI 0, nI (d + 1), pt, zs, te, pw, sg, bg, dg, bl, dw, es, nI (c + 1), bd, pr, lt, T, so, tA, tB, tC, fN, fO, fQ, fS, tO, upd oS d (nI 5), upd oT d (nI (zw_in so tA w)), upd oN d (nI c), upd (zw_oc oC d) d 0, upd oE d 0, upd oH d (-1), cm, upd kd c (nI 4), upd vl c (nI m9), upd pa c (zw_pa oN d), upd na c wn, upd ty c (nI (zw_in so tA w)), upd fr c (nI q), upd ta c (-1), ou, wk, sp) := by
                        refine xo (fun Q hq => xo_ins (vl1 := upd vl c (nI m9)) hc (Or.inl rfl) (fun Q hq => xo_inside hc hin hd6 (Or.inr (Or.inl rfl)) (fun y => absurd y (by decide)) (fun _ => ?_) (fun y => absurd y (by decide))) hq)
                        rw [xs_uu, cm1]; exact hq
                      have hy := yo (fun Q hq => yc_ins hc rfl (Or.inl rfl) (fun Q hq => yo_rec hc hin hd6 (by rw [hkk]; decide) hq) (zv_564 (v := nI m9) hVC hc hq))
                      exact zl_Out_x hx (zl_Out_y hps hz hkz hy (H (zv_cont (KK := 5) (K := 4) (v := nI m9) hB0 I rfl hVC hmu hc hd6 hb hq hin (Or.inr (Or.inl ⟨rfl, rfl, hkk, rfl, rfl, rfl, rfl, rfl⟩)))))
                    · have ev : yv_v0 ym 6 10 (zw_in so tA w) = 0 := rfl
                      rw [ev] at yo
                      have hx := xo (fun Q hq => xo_ins hc (Or.inl rfl) (fun Q hq => xo_inside hc hin hd6 (Or.inr (Or.inr rfl)) (fun y => absurd y (by decide)) (fun y => absurd y (by decide)) (fun _ => hq)) hq)
                      have hy := yo (fun Q hq => yc_ins hc rfl (Or.inl rfl) (fun Q hq => yo_ch hc hin hd6 hkk hq) (zv_564 (v := 0) hVC hc hq))
                      exact zl_Out_x hx (zl_Out_y hps hz hkz hy (H (zv_cont (KK := 6) (K := 4) (v := 0) hB0 I rfl hVC hmu hc hd6 hb hq hin (Or.inr (Or.inr ⟨rfl, rfl, hkk, rfl, rfl, rfl, rfl, rfl⟩)))))
                · have c12 : t q ≠ 10 ∧ t q ≠ 12 := by omega
                  rw [zt_ne_s hst c12 he, zt_nL_s hst c12, zt_ng_id c12] at h1
                  have H : zl_H t len sl T so tA tB tC fN fO fQ fS tO yt be en ins wh ps ba (k + 1) 5 d (q + 1) g := h1 rfl
                  have c27 : 27 ≤ t q := by unfold zw_st at hst; unfold zw_num at num; omega
                  have ev : yv_v0 ym kk (t q) (zw_in so tA w) = (if t q = 28 then 1 else 0) := by unfold yv_v0; rw [if_neg (by omega)]
                  rw [ev] at yo
                  have hx := xo (fun Q hq => xo_atm hc c27 h32 hq)
                  have hy := yo (fun Q hq => yc_atm hc rfl c27 h32 (zv_564 (v := if t q = 28 then 1 else 0) hVC hc hq))
                  refine zl_Out_x hx (zl_Out_y hps hz hkz hy (H (zv_leaf hB0 I rfl hVC hmu hc hb hq (by omega) (by omega) hin ?_)))
                  unfold zw_kd
                  by_cases n1 : zw_no so w (t q) = 1
                  · rw [if_pos n1]; exact Or.inr (Or.inr (Or.inr (Or.inl rfl)))
                  · have k3 : kk = 3 := by
                      have n27 : t q ≠ 27 := fun y => n1 (h27.mp y)
                      unfold zw_rt zw_num at hr
                      rcases hr with h | h | h | h | h | h
                      · omega
                      · exact absurd h.1 num
                      · omega
                      · omega
                      · omega
                      · exact q9 3 (by decide) h.2
                    subst k3
                    rw [if_neg n1, if_neg (by decide), if_neg (by decide)]
                    exact Or.inr (Or.inr (Or.inl rfl))
    · have hx := rd (fun Q hq => xv_ty htab h32 hst hw hu hr hq)
      have hy := yd (fun Q hq => yv_ty htab hk96 hb hq96 hTq h32 hst hw a1 hcx hu hr hq)
      exact zl_Out_x hx (zl_Out_y hps hz hkz hy (zl_err hB0 (by decide)))
end ZVN
end
section
/-! 'bind': both sides come to one outcome -/
section ZMB
variable {t : Nat → Nat} {len : Nat} {sl : Int32} {s0 : Nat} {T so tA tB tC fN fO fQ fS tO yt be en ins wh : Nat → Int32} {ps ba : Int32}
theorem zt_ng15 {g : Nat → Nat} {L c : Nat} (h1 : c ≠ 10) (h2 : c ≠ 12) : zt_ng g L c = g := zt_ng_id ⟨h1, h2⟩
theorem zl_main (hB : zl_B t len T so tA tC fN fO fS tO yt) (hsl : sl = nI s0) (hs0 : s0 < 12) : ∀ m k e d p g, zt_Sp t len be en wh ps ba m k d e g p → e ≤ 5 → zl_H t len sl T so tA tB tC fN fO fQ fS tO yt be en ins wh ps ba k e d p g := by
  intro m
  induction m with
  | zero => intro k e d p g h; exact h.elim
  | succ m ih =>
    intro k e d p g hSp he
    unfold zl_H
    intro c wt wn tg rf pt zs te pw sg bg bl dw es bd pr lt yb nn wN wT wg sc dg oS oT oN oC oE oH cm kd vl pa na ty fr ta ou wk sp yv yT yC yE td ym I
    obtain ⟨a1, a2, a3, a4⟩ := I.1
    have hl : len ≤ 96 := hB.2.2.1
    have hT := hB.1
    have ht := hB.2.1
    obtain ⟨z, hz1, hz2, hz3⟩ := zt_Sp_ps (m + 1) k d e g p hSp (by omega)
    obtain ⟨q, ⟨q1, q2, q3, q4⟩, hcase⟩ := hSp
    have x0 := xr_skip (q := q) (st := zl_st e) (pl := -1) (dp := nI d) (ct := nI c) (wt := wt) (wn := wn) (tg := tg) (rf := rf) (pt := pt) (zs := zs) (te := te) (pw := pw) (sg := sg) (bg := bg) (dg := dg) (bl := bl) (dw := dw) (es := es) (bd := bd) (pr := pr) (lt := lt) (T := T) (so := so) (tA := tA) (tB := tB) (tC := tC) (fN := fN) (fO := fO) (fQ := fQ) (fS := fS) (tO := tO) (oS := oS) (oT := oT) (oN := oN) (oC := oC) (oE := oE) (oH := oH) (cm := cm) (kd := kd) (vl := vl) (pa := pa) (na := na) (ty := ty) (fr := fr) (ta := ta) (ou := ou) (wk := wk) (sp := sp) hT hl (zl_st_n e).1 (zl_st_n e).2.1 (zl_st_n e).2.2 (q - p) p (by omega) q2 q3
    have Iq := zl_Inv_p I q1 q2
    clear I
    refine zl_Out_x x0 ?_
    rcases hcase with ⟨rfl, e5, d0, h1, h2⟩ | ⟨hbad, h1, h2⟩ | ⟨hq, hfit, hk96, ok, r, hOv, hbe, hen, hwh, hnext⟩
    · exact zt_eof hB h1 (by omega) he (Or.inl ⟨e5, d0, h2⟩) Iq
    · rcases hbad with ⟨rfl, hn⟩ | ⟨hq, hn⟩
      · exact zt_eof hB h1 (by omega) he (Or.inr ⟨hn, h2⟩) Iq
      · exact zt_bad hB h1 h2 (by omega) hq he (q4 hq) hn Iq
    · have h20 := q4 hq
      have hrk := zt_Ov_k hOv hq
      have hkz : k < z := by
        rcases hnext with ⟨_, h, _⟩ | ⟨_, h⟩
        · have := za_e (hz3.symm.trans h) (by omega) (by omega)
          omega
        · obtain ⟨z', y1, y2, y3⟩ := zt_Sp_ps m (k + 1) _ _ _ _ h (by omega)
          have := za_e (hz3.symm.trans y3) (by omega) (by omega)
          omega
      have h0 : ok = 0 → ps = nI (k + 1) ∧ ba = nI r := by
        intro y
        rcases hnext with ⟨_, h⟩ | ⟨y2, _⟩
        · exact h
        · omega
      have hN : ok = 1 → zl_H t len sl T so tA tB tC fN fO fQ fS tO yt be en ins wh ps ba (k + 1) (zt_ne e (g d) (t q)) (zt_nL d (t q)) r (zt_ng g d (t q)) := by
        intro y
        rcases hnext with ⟨y2, _⟩ | ⟨_, h⟩
        · omega
        · exact ih _ _ _ _ _ h (zt_ne5 _ _ _)
      clear hnext
      -- parts of one character
      have one : t q ≠ 16 → ¬ zw_num (t q) → ok = 1 ∧ r = q + 1 := by
        intro c16 num
        rcases hOv with h | ⟨h, _⟩ | ⟨_, _, _, h1, h2⟩
        · exact absurd h.1 c16
        · exact absurd h num
        · exact ⟨h1, h2⟩
      have hg := Iq.2.2.2.2.2.2.1
      have hLv := Iq.2.1
      have hCx := Iq.2.2.2.2.2.2.2
      have close : ∀ f, d = f + 1 → (t q = 13 ∨ t q = 11) → zl_H t len sl T so tA tB tC fN fO fQ fS tO yt be en ins wh ps ba (k + 1) 5 f (q + 1) g := by
        intro f hd hc
        obtain ⟨o1, o2⟩ := one (by omega) (by unfold zw_num; omega)
        have H := @hN o1
        have e1 : zt_ne e (g d) (t q) = 5 := if_pos hc
        have e2 : zt_nL d (t q) = f := by unfold zt_nL; rw [if_pos hc]; omega
        rw [zt_ng15 (by omega) (by omega), e1, e2, o2] at hN
        exact @hN o1
      have c1 : ∀ f, d = f + 1 → 1 ≤ c := by
        intro f hd
        obtain ⟨⟨j, hj, _⟩, _⟩ := (hLv f (by omega)).1
        omega
      by_cases hst : e < 2 ∧ zw_st (t q)
      · by_cases t0 : tg = 0
        · exact zt_val hB hsl hs0 hz3 hz2 hkz hbe hq (by omega) h20 hst.2 t0 hOv hen hwh h0 hN Iq
        · refine zt_tag hB hz3 hz2 hkz hbe hq (by omega) h20 hst.2 t0 hOv hen hwh h0 (fun num y => ?_) Iq
          have c12 : t q ≠ 10 ∧ t q ≠ 12 := by unfold zw_num at num; omega
          rw [zt_ne_s hst.2 c12 (by omega), zt_nL_s hst.2 c12, zt_ng_id c12] at hN
          exact @hN y
      · have hf2 : (e = 1 ∧ t q = 13) ∨ (e = 2 ∧ (t q = 16 ∨ t q = 11)) ∨ (e = 3 ∧ t q = 16) ∨ (e = 4 ∧ t q = 14) ∨ (e = 5 ∧ 0 < d ∧ (t q = 15 ∨ (t q = 13 ∧ g d = 12) ∨ (t q = 11 ∧ g d = 10))) := by
          unfold zt_fit at hfit
          unfold zw_st at hst
          rcases hfit with h | h
          · exact absurd h hst
          · exact h
        have name : (e = 2 ∨ e = 3) → t q = 16 → zl_Out sl k (nI len, nI q, zl_st e, 0, -1, wt, wn, tg, rf, nI d, pt, zs, te, pw, sg, bg, dg, bl, dw, es, nI c, bd, pr, lt, T, so, tA, tB, tC, fN, fO, fQ, fS, tO, oS, oT, oN, oC, oE, oH, cm, kd, vl, pa, na, ty, fr, ta, ou, wk, sp) (nI len, ps, ba, nI c, 0, -1, yb, nI d, nn, wN, wT, pr, wg, sc, so, tA, tB, tC, fN, fO, fS, yt, fQ, T, be, en, ins, wh, kd, yv, pa, na, ty, fr, ym, oN, yT, yC, yE, oH, ou, td) := by
          intro he2 c16
          have hsc : zs_sc t len 97 (q + 1) = (ok, r) := by
            rcases hOv with h | ⟨h, _⟩ | ⟨h, _⟩
            · exact h.2
            · omega
            · exact absurd c16 h
          have e1 : zt_ne e (g d) (t q) = 4 := by unfold zt_ne; rw [if_neg (by omega), if_neg (by omega), if_neg (by omega), if_pos he2]
          have e2 : zt_nL d (t q) = d := by unfold zt_nL; rw [if_neg (by omega), if_neg (by omega)]
          rw [zt_ng15 (by omega) (by omega), e1, e2] at hN
          exact zt_name hB hz3 hz2 hkz hbe hq he2 c16 hsc hen hwh h0 hN Iq
        rcases hf2 with ⟨rfl, c13⟩ | ⟨rfl, hc | hc⟩ | ⟨rfl, c16⟩ | ⟨rfl, c14⟩ | ⟨rfl, hd0, hc⟩
        · -- ] behind [
          have hC := hCx
          obtain ⟨w0, hC⟩ := hC
          have : ∃ f, d = f + 1 ∧ oS f = 4 ∧ tg = 0 := by
            rcases hC with ⟨y, _⟩ | ⟨_, y, f, s, hd, h4, _⟩ | ⟨y, _⟩ | ⟨y, _⟩ | ⟨y, _⟩ | ⟨y, _⟩ | ⟨y, _⟩ | ⟨y, _⟩
            · omega
            · exact ⟨f, hd, h4, y⟩
            all_goals omega
          obtain ⟨f, rfl, h4, t0⟩ := this
          exact zt_cl hB hz3 hz2 hkz hbe hq c13 (Or.inl rfl) (c1 f rfl) t0 ((w0 (Nat.succ_pos _)).trans t0) Iq h4 (close f rfl (Or.inl c13))
        · exact name (Or.inl rfl) hc
        · obtain ⟨w0, t0, _, f, rfl, hS⟩ := zt_cx2 hCx
          have n4 : ¬ oS f = 4 := by
            rcases hS with h | h
            · rw [h]; decide
            · rw [h.1]; decide
          exact zt_cr hB hz3 hz2 hkz hbe hq hc (Or.inl rfl) (c1 f rfl) t0 w0 Iq n4 (close f rfl (Or.inr hc))
        · exact name (Or.inr rfl) c16
        · have e1 : zt_ne 4 (g d) (t q) = 0 := by unfold zt_ne; rw [if_neg (by omega), if_neg (by omega), if_pos c14]
          have e2 : zt_nL d (t q) = d := by unfold zt_nL; rw [if_neg (by omega), if_neg (by omega)]
          obtain ⟨o1, o2⟩ := one (by omega) (by unfold zw_num; omega)
          rw [zt_ng15 (by omega) (by omega), e1, e2, o2] at hN
          exact zt_colon hB hz3 hz2 hkz hbe hq c14 Iq (hN o1)
        · obtain ⟨f, rfl⟩ : ∃ f, d = f + 1 := ⟨d - 1, by omega⟩
          obtain ⟨w0, t0, _, hS⟩ := zt_cx5 hCx
          have hgf := hg f (by omega)
          rcases hc with c15 | ⟨c13, g12⟩ | ⟨c11, g10⟩
          · have e2 : zt_nL (f + 1) (t q) = f + 1 := by unfold zt_nL; rw [if_neg (by omega), if_neg (by omega)]
            obtain ⟨o1, o2⟩ := one (by omega) (by unfold zw_num; omega)
            rw [zt_ng15 (by omega) (by omega), e2, o2] at hN
            refine zt_comma hB hz3 hz2 hkz hbe hq c15 Iq (fun h4 => ?_) (fun h4 => ?_)
            · rw [if_pos h4] at hgf
              have e1 : zt_ne 5 (g (f + 1)) (t q) = 0 := by unfold zt_ne; rw [if_neg (by omega), if_pos c15, if_pos hgf]
              rw [e1] at hN
              exact @hN o1
            · rw [if_neg h4] at hgf
              have e1 : zt_ne 5 (g (f + 1)) (t q) = 3 := by unfold zt_ne; rw [if_neg (by omega), if_pos c15, if_neg (by omega)]
              rw [e1] at hN
              exact @hN o1
          · have h4 : oS f = 4 := by
              apply Decidable.byContradiction
              intro y
              rw [if_neg y] at hgf; omega
            exact zt_cl hB hz3 hz2 hkz hbe hq c13 (Or.inr rfl) (c1 f rfl) t0 (w0 (Nat.succ_pos _)) Iq h4 (close f rfl (Or.inl c13))
          · have h4 : ¬ oS f = 4 := by
              intro y
              rw [if_pos y] at hgf; omega
            exact zt_cr hB hz3 hz2 hkz hbe hq c11 (Or.inr rfl) (c1 f rfl) t0 (w0 (Nat.succ_pos _)) Iq h4 (close f rfl (Or.inr c11))
end ZMB
section ZMB2
section ZMC
variable {len s0 : Nat} {ln ap st er pl wt wn tg rf dp pt zs te pw sg bg bl dw es ct bd pr lt : Int32} {dg : Int64} {T so tA tB tC fN fO fQ fS tO oS oT oN oC oE oH cm kd vl pa na ty fr ta ou wk sp : Nat → Int32} {ln ps ba ct fl yp yb dp nn wN wT pr wg sc : Int32} {so tA tB tC fN fO fS yt fQ T be en ins wh kd yv pa na ty fr cm oN yT yC yE oH ou td : Nat → Int32} {ym : Nat → Int32}
theorem zb_x52 : ∀ d j (cm : Nat → Int32), j + d = 12 → (∀ s, s < j → cm s = 0) → ∃ cm', (∀ s, s < 12 → cm' s = 0) ∧ ∀ (post : Int32 → SX → Prop) (x1 : Int32) n, d < n → wX_bind_52 post x1 ln ap st er pl wt wn tg rf dp pt zs te pw sg bg dg bl dw es ct bd pr lt 1 12 T so tA tB tC fN fO fQ fS tO oS oT oN oC oE oH cm' kd vl pa na ty fr ta ou wk sp → wX_bind_52 post x1 ln ap st er pl wt wn tg rf dp pt zs te pw sg bg dg bl dw es ct bd pr lt n (nI j) T so tA tB tC fN fO fQ fS tO oS oT oN oC oE oH cm kd vl pa na ty fr ta ou wk sp := by
  intro d
  induction d with
  | zero =>
    intro j cm h1 h2
    obtain rfl : j = 12 := by omega
    refine ⟨cm, h2, fun post x1 n hn h => ?_⟩
    obtain ⟨n, rfl⟩ : ∃ m, n = m + 1 := ⟨n - 1, by omega⟩
    have h' := h.1 (by decide)
    exact br_t (by decide) h'
  | succ d ih =>
    intro j cm h1 h2
    obtain ⟨cm', g1, g2⟩ := ih (j + 1) (upd cm j 0) (by omega) (fun s hs => by
      by_cases e : s = j
      · subst e; exact pk_us
      · rw [pk_un e]; exact h2 s (by omega))
    refine ⟨cm', g1, fun post x1 n hn h => ?_⟩
    obtain ⟨n, rfl⟩ : ∃ m, n = m + 1 := ⟨n - 1, by omega⟩
    exact br_f (nI_ge (b := 12) (by omega) (by omega)) ⟨vp_in_nI (by omega) (by omega), nm_r (e' := upd cm j 0) (by rw [nI_clamp (by omega), ze_b0]) (nm_r (nI_1 j) (g2 post x1 n (by omega) h))⟩
theorem zb_y52 : ∀ d j (cm : Nat → Int32), j + d = 12 → (∀ s, s < j → cm s = 0) → ∃ cm', (∀ s, s < 12 → cm' s = 0) ∧ ∀ (post : Int32 → SY → Prop) (x1 : Int32) n, d < n → (∃ n73, wY_bind_73 post x1 n73 0 ln ps ba ct fl yp yb dp nn wN wT pr wg sc so tA tB tC fN fO fS yt fQ T be en ins wh kd yv pa na ty fr cm' oN yT yC yE oH ou td) → wY_bind_52 post x1 ln ps ba ct fl yp yb dp nn wN wT pr wg sc n (nI j) so tA tB tC fN fO fS yt fQ T be en ins wh kd yv pa na ty fr cm oN yT yC yE oH ou td := by
  intro d
  induction d with
  | zero =>
    intro j cm h1 h2
    obtain rfl : j = 12 := by omega
    refine ⟨cm, h2, fun post x1 n hn h => ?_⟩
    obtain ⟨n, rfl⟩ : ∃ m, n = m + 1 := ⟨n - 1, by omega⟩
    exact br_t (by decide) h
  | succ d ih =>
    intro j cm h1 h2
    obtain ⟨cm', g1, g2⟩ := ih (j + 1) (upd cm j 0) (by omega) (fun s hs => by
      by_cases e : s = j
      · subst e; exact pk_us
      · rw [pk_un e]; exact h2 s (by omega))
    refine ⟨cm', g1, fun post x1 n hn h => ?_⟩
    obtain ⟨n, rfl⟩ : ∃ m, n = m + 1 := ⟨n - 1, by omega⟩
    exact br_f (nI_ge (b := 12) (by omega) (by omega)) ⟨vp_in_nI (by omega) (by omega), nm_r (e' := upd cm j 0) (by rw [nI_clamp (by omega)]) (nm_r (nI_1 j) (g2 post x1 n (by omega) h))⟩
end ZMC
theorem i_vc_bind {k : Nat} {u : SX} {v : SY} (I : i_Rel k u v) (hk : k + 6 ≤ 3072) (v1 : Int32) : wpX_bind (fun r u' => wpY_bind (fun r' v' => r' = r ∧ i_Rel (k + 6) u' v') v v1) u v1 := by
  refine zr_el (P := fun u v => wpX_bind (fun r u' => wpY_bind (fun r' v' => r' = r ∧ i_Rel (k + 6) u' v') v v1) u v1) ?_ I
  intro t len ap st er pl wt wn tg rf dp pt zs te pw sg bg dg bl dw es ct bd pr lt T so tA tB tC fN fO fQ fS tO oS oT oN oC oE oH cm kd vl pa na ty fr ta ou wk sp yc yd ps ba fl nn wN wT wg sc yt be en ins wh yv yT yC yE td ym h
  have b1 : ¬ (1 : Int32) = 0 := by decide
  obtain ⟨hT, ht, hl, htab, _⟩ := h
  unfold wpX_bind
  dsimp only
  rcases ze_ix v1 with hb | ⟨s0, hs0, rfl⟩
  · obtain ⟨cm', g1, g2⟩ := zb_x52 (ln := nI len) (ap := 0) (st := 0) (er := 0) (pl := -1) (wt := v1) (wn := -1) (tg := 0) (dp := 0) (ct := 0) (bd := 0) (rf := rf) (pt := pt) (zs := zs) (te := te) (pw := pw) (sg := sg) (bg := bg) (dg := dg) (bl := bl) (dw := dw) (es := es) (pr := pr) (lt := lt) (T := T) (so := so) (tA := tA) (tB := tB) (tC := tC) (fN := fN) (fO := fO) (fQ := fQ) (fS := fS) (tO := tO) (oS := oS) (oT := oT) (oN := oN) (oC := oC) (oE := oE) (oH := oH) (kd := kd) (vl := vl) (pa := pa) (na := na) (ty := ty) (fr := fr) (ta := ta) (ou := ou) (wk := wk) (sp := sp) 12 0 cm (by omega) (fun s hs => by omega)
    refine ⟨13, g2 _ v1 13 (by omega) (br_t (by decide) (ze_slot_f hb (br_t rfl ⟨1, br_f (by decide) (br_f (by decide) (br_f (by decide) (br_f (by decide) ?_)))⟩)))⟩
    unfold wpY_bind
    dsimp only
    exact ze_in_sf hb (br_t rfl (br_t rfl ⟨rfl, zr_in ⟨hT, ht, hl, htab, Or.inl rfl⟩⟩))
  · -- a slot: the split, then both loops
    obtain ⟨ps', ba', be', en', ins', wh', hSp, hspl⟩ := zy_split (t := t) (len := len) ht hl (ps := ps) (ba := ba) (ct := yc) (fl := 0) (yp := -1) (yb := 0) (dp := yd) (nn := nn) (wN := wN) (wT := wT) (pr := pr) (wg := wg) (sc := sc) (so := so) (tA := tA) (tB := tB) (tC := tC) (fN := fN) (fO := fO) (fS := fS) (yt := yt) (fQ := fQ) (T := T) (be := be) (en := en) (ins := ins) (wh := wh) (kd := kd) (yv := yv) (pa := pa) (na := na) (ty := ty) (fr := fr) (oN := oN) (yT := yT) (yC := yC) (yE := yE) (oH := oH) (ou := ou) (td := td) (cm := ym) hT
    have H := @zl_main t len (nI s0) s0 T so tA tB tC fN fO fQ fS tO yt be' en' ins' wh' ps' ba' ⟨hT, ht, hl, htab⟩ rfl hs0 97 0 0 0 0 (fun _ => 0) hSp (by omega)
    obtain ⟨cm', g1, g2⟩ := zb_x52 (ln := nI len) (ap := 0) (st := 0) (er := 0) (pl := -1) (wt := nI s0) (wn := -1) (tg := 0) (dp := 0) (ct := 0) (bd := 0) (rf := rf) (pt := pt) (zs := zs) (te := te) (pw := pw) (sg := sg) (bg := bg) (dg := dg) (bl := bl) (dw := dw) (es := es) (pr := pr) (lt := lt) (T := T) (so := so) (tA := tA) (tB := tB) (tC := tC) (fN := fN) (fO := fO) (fQ := fQ) (fS := fS) (tO := tO) (oS := oS) (oT := oT) (oN := oN) (oC := oC) (oE := oE) (oH := oH) (kd := kd) (vl := vl) (pa := pa) (na := na) (ty := ty) (fr := fr) (ta := ta) (ou := ou) (wk := wk) (sp := sp) 12 0 cm (by omega) (fun s hs => by omega)
    obtain ⟨ym', g3, g4⟩ := zb_y52 (ln := nI len) (ps := ps') (ba := ba') (ct := 0) (fl := 0) (yp := -1) (yb := 0) (dp := 0) (be := be') (en := en') (ins := ins') (wh := wh') (nn := nn) (wN := wN) (wT := wT) (pr := pr) (wg := wg) (sc := sc) (so := so) (tA := tA) (tB := tB) (tC := tC) (fN := fN) (fO := fO) (fS := fS) (yt := yt) (fQ := fQ) (T := T) (kd := kd) (yv := yv) (pa := pa) (na := na) (ty := ty) (fr := fr) (oN := oN) (yT := yT) (yC := yC) (yE := yE) (oH := oH) (ou := ou) (td := td) 12 0 ym (by omega) (fun s hs => by omega)
    have Inv0 : zl_Inv t len (nI s0) so tA fN fO fS be' en' 0 0 0 0 0 (fun _ => 0) (nI s0) (-1) 0 nn wN wT oS oT oN oC oE oH cm' kd vl pa na ty fr ta yv ym' yT yC yE :=
      ⟨⟨by omega, by omega, by omega, by omega⟩, fun i hi => by omega, ⟨fun _ => 0, fun i j hi => by omega, fun j hj => by omega⟩, ⟨fun j hj => by omega, fun i j hi => by omega⟩, fun s hs => ⟨0, by omega, g1 s hs, g3 s hs⟩, fun i hi => by omega, fun i hi => by omega, fun y => by omega, Or.inl ⟨rfl, rfl, rfl, rfl, rfl, rfl⟩⟩
    have O : zl_Out (nI s0) 0 (nI len, nI 0, zl_st 0, 0, -1, nI s0, -1, 0, rf, nI 0, pt, zs, te, pw, sg, bg, dg, bl, dw, es, nI 0, 0, pr, lt, T, so, tA, tB, tC, fN, fO, fQ, fS, tO, oS, oT, oN, oC, oE, oH, cm', kd, vl, pa, na, ty, fr, ta, ou, wk, sp) (nI len, ps', ba', nI 0, 0, -1, 0, nI 0, nn, wN, wT, pr, wg, sc, so, tA, tB, tC, fN, fO, fS, yt, fQ, T, be', en', ins', wh', kd, yv, pa, na, ty, fr, ym', oN, yT, yC, yE, oH, ou, td) := H Inv0
    obtain ⟨r, u', v', hrel, ⟨N, hx⟩, ⟨M, hy⟩⟩ := O
    refine ⟨13, g2 _ (nI s0) 13 (by omega) (br_t (by decide) (ze_slot_t hs0 (br_f b1 ⟨N + 1, hx _ ?_⟩)))⟩
    unfold wpY_bind
    dsimp only
    exact ze_in_s hs0 (br_f b1 (hspl _ ⟨13, g4 _ (nI s0) 13 (by omega) ⟨M, hy _ ⟨rfl, hrel (k + 6)⟩⟩⟩))
end ZMB2
end
section
/-! printing: what is written, and numbers -/
section ZP
def zp_o : List Nat → Nat → (Nat → Int32) → (Nat → Int32)
  | [], _, o => o
  | c :: L, n, o => zp_o L (n + 1) (if n < 192 then upd o n (nI c) else o)
theorem zp_app : ∀ (L M : List Nat) (n : Nat) (o : Nat → Int32), zp_o (L ++ M) n o = zp_o M (n + L.length) (zp_o L n o) := by
  intro L
  induction L with
  | nil => intro M n o; rfl
  | cons c L ih =>
    intro M n o
    simp only [List.cons_append, zp_o, List.length_cons]
    rw [ih, show n + 1 + L.length = n + (L.length + 1) from by omega]
/-- the digits of r from the i-th last on, with the point ahead of the b-th last -/
def zp_dg (r b : Nat) : Nat → List Nat
  | 0 => []
  | i + 1 => (if i + 1 = b then [18] else []) ++ (r / 10 ^ i % 10) :: zp_dg r b i
def zp_dy (r b : Nat) : Nat → List Nat
  | 0 => []
  | i + 1 => (r / 10 ^ i % 10) :: ((if i = b ∧ 0 < b then [18] else []) ++ zp_dy r b i)
theorem zp_dgy (r b : Nat) : ∀ i, zp_dg r b i = (if i = b ∧ 0 < b then [18] else []) ++ zp_dy r b i := by
  intro i
  induction i with
  | zero => simp only [zp_dg, zp_dy]; rw [if_neg (by omega)]; rfl
  | succ i ih =>
    simp only [zp_dg, zp_dy]
    rw [ih]
    by_cases c : i + 1 = b
    · rw [if_pos c, if_pos (c := i + 1 = b ∧ 0 < b) ⟨c, by omega⟩]
    · rw [if_neg c, if_neg (c := i + 1 = b ∧ 0 < b) (fun z => c z.1)]
/-- zeros behind the point go -/
def zp_st : Nat → Nat → Nat × Nat
  | 0, r => (0, r)
  | b + 1, r => if r % 10 = 0 then zp_st b (r / 10) else (b + 1, r)
theorem zp_st_le : ∀ b r, (zp_st b r).1 ≤ b ∧ (zp_st b r).2 ≤ r := by
  intro b
  induction b with
  | zero => intro r; exact ⟨Nat.le_refl _, Nat.le_refl _⟩
  | succ b ih =>
    intro r
    simp only [zp_st]
    split
    · have := ih (r / 10)
      omega
    · exact ⟨Nat.le_refl _, Nat.le_refl _⟩
/-- how many places: all digits, and one more than there are behind the point -/
theorem zp_pl (r b : Nat) (hr : r < 10 ^ 10) (hb : b ≤ 4) : ∃ e, e ≤ 9 ∧ r < 10 ^ (e + 1) ∧ (∀ i, i < e → 10 ^ (i + 1) ≤ r) := by
  obtain ⟨e, h1, h2⟩ := pk_least (fun e => r < 10 ^ (e + 1)) ⟨9, hr⟩
  refine ⟨e, ?_, h1, fun i hi => by have := h2 i hi; omega⟩
  apply Nat.le_of_not_lt
  intro z
  exact h2 9 z hr
def zp_ab (v : Int32) : Nat := v.toInt.natAbs
theorem zp_ab_lt (v : Int32) : zp_ab v < 10 ^ 10 := by
  unfold zp_ab
  have h1 := v.le_toInt
  have h2 := v.toInt_lt
  omega
section X
variable {n c : Nat} {o : Nat → Int32} {ln ap st er pl wt wn tg rf dp pt zs te pw sg bg bl dw es ct bd pr lt : Int32} {dg : Int64} {T so tA tB tC fN fO fQ fS tO oS oT oN oC oE oH cm kd vl pa na ty fr ta ou wk sp : Nat → Int32} {P : SX → Prop}
theorem xp_w (hn : n + 1 < 2 ^ 31) (hc : c < 128) (h : P (ln, ap, st, er, pl, wt, wn, tg, rf, dp, pt, zs, te, pw, sg, bg, dg, bl, dw, es, ct, bd, nI (n + 1), nI c, T, so, tA, tB, tC, fN, fO, fQ, fS, tO, oS, oT, oN, oC, oE, oH, cm, kd, vl, pa, na, ty, fr, ta, zp_o [c] n o, wk, sp)) : wpX_write P (ln, ap, st, er, pl, wt, wn, tg, rf, dp, pt, zs, te, pw, sg, bg, dg, bl, dw, es, ct, bd, nI n, lt, T, so, tA, tB, tC, fN, fO, fQ, fS, tO, oS, oT, oN, oC, oE, oH, cm, kd, vl, pa, na, ty, fr, ta, o, wk, sp) (nI c) := by
  simp only [zp_o] at h
  refine pk_le 192 n (fun z => ?_) (fun z => ?_)
  · rw [if_neg (by omega)] at h
    exact nm_r (nI_1 n) h
  · rw [if_pos z] at h
    exact ⟨vp_in_nI z (by omega), nm_r (e' := upd o n (nI c)) (by rw [nI_clamp (by omega), za_by2 hc]) (nm_r (nI_1 n) h)⟩
theorem xp_key {a : Nat} (hn : n + 4 < 2 ^ 31) (ha : a ≤ 5) (h : P (ln, ap, st, er, pl, wt, wn, tg, rf, dp, pt, zs, te, pw, sg, bg, dg, bl, dw, es, ct, bd, nI (n + 4), nI 14, T, so, tA, tB, tC, fN, fO, fQ, fS, tO, oS, oT, oN, oC, oE, oH, cm, kd, vl, pa, na, ty, fr, ta, zp_o [16, 21 + a, 16, 14] n o, wk, sp)) : wpX_key P (ln, ap, st, er, pl, wt, wn, tg, rf, dp, pt, zs, te, pw, sg, bg, dg, bl, dw, es, ct, bd, nI n, lt, T, so, tA, tB, tC, fN, fO, fQ, fS, tO, oS, oT, oN, oC, oE, oH, cm, kd, vl, pa, na, ty, fr, ta, o, wk, sp) (nI a) := by
  unfold wpX_key
  dsimp only
  refine xp_w (c := 16) (by omega) (by decide) ?_
  rw [show (21 : Int32) + nI a = nI (21 + a) from nI_add 21 a]
  exact xp_w (c := 21 + a) (by omega) (by omega) (xp_w (c := 16) (by omega) (by decide) (xp_w (c := 14) (by omega) (by decide) h))
theorem zp_10 (i : Nat) : 10 ^ (i + 1) / 10 = 10 ^ i := by rw [Nat.pow_succ]; exact Nat.mul_div_cancel _ (by decide)
theorem zp_10lt {i : Nat} (h : i ≤ 12) : 10 ^ i < 2 ^ 62 := by
  have : 10 ^ i ≤ 10 ^ 12 := Nat.pow_le_pow_right (by decide) h
  omega
theorem zp_dig {r i : Nat} (hr : r < 2 ^ 62) (hi : i ≤ 12) : ((lN r / lN (10 ^ i)) - (lN r / lN (10 ^ i)) / 10 * 10).toInt32 = nI (r / 10 ^ i % 10) := by
  have h1 := zp_10lt hi
  have h2 := za_p i
  rw [pk_lDiv (by omega) h2 (by omega), show (10 : Int64) = lN 10 from rfl, pk_lRem (Nat.lt_of_le_of_lt (Nat.div_le_self _ _) (by omega)) (by decide) (by decide), lN_i]
theorem xp_dg {r b : Nat} (hb : b ≤ 4) (hr : r < 2 ^ 62) : ∀ i n (o : Nat → Int32) (lt : Int32) (fu : Nat), i ≤ 12 → n + (zp_dg r b i).length < 2 ^ 31 - 1 → i < fu → (∀ l : Int32, ((i = 0 ∧ l = lt) ∨ ∃ x, x < 10 ∧ l = nI x) → P (ln, ap, st, er, pl, wt, wn, tg, rf, dp, pt, zs, te, pw, sg, bg, dg, bl, dw, es, ct, bd, nI (n + (zp_dg r b i).length), l, T, so, tA, tB, tC, fN, fO, fQ, fS, tO, oS, oT, oN, oC, oE, oH, cm, kd, vl, pa, na, ty, fr, ta, zp_o (zp_dg r b i) n o, wk, sp)) → wX_number_91 P (lN r) (nI b) fu (nI i) (lN (10 ^ i / 10)) ln ap st er pl wt wn tg rf dp pt zs te pw sg bg dg bl dw es ct bd (nI n) lt T so tA tB tC fN fO fQ fS tO oS oT oN oC oE oH cm kd vl pa na ty fr ta o wk sp := by
  intro i
  induction i with
  | zero =>
    intro n o lt fu h1 h2 h3 h
    obtain ⟨fu, rfl⟩ : ∃ m, fu = m + 1 := ⟨fu - 1, by omega⟩
    exact br_t (by decide) (h lt (Or.inl ⟨rfl, rfl⟩))
  | succ i ih =>
    intro n o lt fu h1 h2 h3 h
    obtain ⟨fu, rfl⟩ : ∃ m, fu = m + 1 := ⟨fu - 1, by omega⟩
    have hd : r / 10 ^ i % 10 < 10 := Nat.mod_lt _ (by decide)
    have hz : ¬ lN (10 ^ i) = 0 := by
      intro z
      have := (pk_lEQ (a := 10 ^ i) (b := 0) (by have := zp_10lt (i := i) (by omega); omega) (by omega)).mp z
      have := za_p i
      omega
    rw [zp_10]
    simp only [zp_dg] at h h2
    have k109 : ∀ (n : Nat) (o : Nat → Int32) (lt : Int32), n + 1 + (zp_dg r b i).length < 2 ^ 31 - 1 → (∀ l : Int32, ((i + 1 = 0 ∧ l = lt) ∨ ∃ x, x < 10 ∧ l = nI x) → P (ln, ap, st, er, pl, wt, wn, tg, rf, dp, pt, zs, te, pw, sg, bg, dg, bl, dw, es, ct, bd, nI (n + 1 + (zp_dg r b i).length), l, T, so, tA, tB, tC, fN, fO, fQ, fS, tO, oS, oT, oN, oC, oE, oH, cm, kd, vl, pa, na, ty, fr, ta, zp_o (zp_dg r b i) (n + 1) (zp_o [r / 10 ^ i % 10] n o), wk, sp)) → wX_number_109 P (wX_number_91 P (lN r) (nI b) fu) (lN r) (nI b) (nI (i + 1)) (lN (10 ^ i)) ln ap st er pl wt wn tg rf dp pt zs te pw sg bg dg bl dw es ct bd (nI n) lt T so tA tB tC fN fO fQ fS tO oS oT oN oC oE oH cm kd vl pa na ty fr ta o wk sp := by
      intro n o lt h2 h
      refine br_f hz ⟨hz, by decide, ?_⟩
      rw [zp_dig hr (by omega)]
      refine xp_w (by omega) (by omega) ⟨by decide, nm_r (e' := lN (10 ^ i / 10)) ?_ (nm_r (pk_m1 i) (ih (n + 1) _ _ fu (by omega) (by omega) (by omega) (fun l hl => h l ?_)))⟩
      · rw [show (10 : Int64) = lN 10 from rfl, pk_lDiv (by have := zp_10lt (i := i) (by omega); omega) (by decide) (by decide)]
      · rcases hl with ⟨rfl, rfl⟩ | hl
        · exact Or.inr ⟨_, hd, rfl⟩
        · exact Or.inr hl
    refine br_f (nI_nle (by omega) (by omega)) (pk_eq (i + 1) b (fun e => ?_) (fun e => ?_))
    · rw [if_pos e] at h h2
      simp only [List.cons_append, List.nil_append, List.length_cons] at h h2
      refine xp_w (c := 18) (by omega) (by decide) (k109 (n + 1) _ _ (by omega) (fun l hl => ?_))
      have := h l (Or.inr (hl.resolve_left (by omega)))
      rw [show n + 1 + 1 + (zp_dg r b i).length = n + ((zp_dg r b i).length + 1 + 1) from by omega]
      exact this
    · rw [if_neg e] at h h2
      simp only [List.nil_append, List.length_cons] at h h2
      refine k109 n o lt (by omega) (fun l hl => ?_)
      have := h l (Or.inr (hl.resolve_left (by omega)))
      rw [show n + 1 + (zp_dg r b i).length = n + ((zp_dg r b i).length + 1) from by omega]
      exact this
theorem xp_59 {r b e M : Nat} (hb : b ≤ 4) (hr : r < 10 ^ 10) (he : e ≤ 9) (h1 : r < 10 ^ (e + 1)) (h2 : ∀ i, i < e → 10 ^ (i + 1) ≤ r) (hM : M = max e b) (h : ∃ n91, wX_number_91 P (lN r) (nI b) n91 (nI (M + 1)) (lN (10 ^ M)) ln ap st er pl wt wn tg rf dp pt zs te pw sg bg dg bl dw es ct bd pr lt T so tA tB tC fN fO fQ fS tO oS oT oN oC oE oH cm kd vl pa na ty fr ta ou wk sp) : ∀ d j fu, j + d = M → d < fu → wX_number_59 P (lN r) (nI b) ln ap st er pl wt wn tg rf dp pt zs te pw sg bg dg bl dw es ct bd pr lt T so tA tB tC fN fO fQ fS tO oS oT oN oC oE oH cm kd vl pa na ty fr ta ou wk sp fu (nI (j + 1)) (lN (10 ^ j)) := by
  have hMb : M ≤ 9 := by omega
  intro d
  induction d with
  | zero =>
    intro j fu h3 h4
    obtain ⟨fu, rfl⟩ : ∃ m, fu = m + 1 := ⟨fu - 1, by omega⟩
    obtain rfl : j = M := by omega
    have p1 := zp_10lt (i := j + 1) (by omega)
    refine br_f ?_ (br_t (nI_lt (by omega) (by omega)) h)
    rw [show (10 : Int64) = lN 10 from rfl, lN_mul, ← Nat.pow_succ, pk_lLE (by omega) (by omega)]
    have : 10 ^ (e + 1) ≤ 10 ^ (j + 1) := Nat.pow_le_pow_right (by decide) (by omega)
    omega
  | succ d ih =>
    intro j fu h3 h4
    obtain ⟨fu, rfl⟩ : ∃ m, fu = m + 1 := ⟨fu - 1, by omega⟩
    have p1 := zp_10lt (i := j + 1) (by omega)
    have e1 : lN (10 ^ j) * 10 = lN (10 ^ (j + 1)) := by rw [show (10 : Int64) = lN 10 from rfl, lN_mul, ← Nat.pow_succ]
    have nx := ih (j + 1) fu (by omega) (by omega)
    by_cases c : j < e
    · refine br_t ?_ (nm_r e1 (nm_r (nI_1 (j + 1)) nx))
      rw [e1, pk_lLE (by omega) (by omega)]
      exact h2 j c
    · refine br_f ?_ (br_f (nI_nlt (by omega) (by omega)) (nm_r e1 (nm_r (nI_1 (j + 1)) nx)))
      rw [e1, pk_lLE (by omega) (by omega)]
      have : 10 ^ (e + 1) ≤ 10 ^ (j + 1) := Nat.pow_le_pow_right (by decide) (by omega)
      omega
theorem xp_16 {x1 : Int32} : ∀ b r fu, b ≤ 4 → r < 2 ^ 62 → b < fu → wX_number_43 P x1 (lN (zp_st b r).2) (nI (zp_st b r).1) ln ap st er pl wt wn tg rf dp pt zs te pw sg bg dg bl dw es ct bd pr lt T so tA tB tC fN fO fQ fS tO oS oT oN oC oE oH cm kd vl pa na ty fr ta ou wk sp → wX_number_16 P x1 ln ap st er pl wt wn tg rf dp pt zs te pw sg bg dg bl dw es ct bd pr lt T so tA tB tC fN fO fQ fS tO oS oT oN oC oE oH cm kd vl pa na ty fr ta ou wk sp fu (lN r) (nI b) := by
  intro b
  induction b with
  | zero =>
    intro r fu h1 h2 h3 h
    obtain ⟨fu, rfl⟩ : ∃ m, fu = m + 1 := ⟨fu - 1, by omega⟩
    exact br_t (by decide) h
  | succ b ih =>
    intro r fu h1 h2 h3 h
    obtain ⟨fu, rfl⟩ : ∃ m, fu = m + 1 := ⟨fu - 1, by omega⟩
    simp only [zp_st] at h
    have e1 : lN r - lN r / 10 * 10 = lN (r % 10) := by rw [show (10 : Int64) = lN 10 from rfl, pk_lRem (by omega) (by decide) (by decide)]
    refine br_f (nI_nle (by omega) (by omega)) ⟨by decide, ?_⟩
    rw [e1]
    by_cases c : r % 10 = 0
    · rw [if_pos c] at h
      refine br_t (by rw [c]; rfl) ⟨by decide, nm_r (e' := lN (r / 10)) ?_ (nm_r (pk_m1 b) (ih (r / 10) fu (by omega) (by omega) (by omega) h))⟩
      rw [show (10 : Int64) = lN 10 from rfl, pk_lDiv (by omega) (by decide) (by decide)]
    · rw [if_neg c] at h
      refine br_f ?_ h
      intro z
      have := (pk_lEQ (a := r % 10) (b := 0) (by omega) (by omega)).mp z
      exact c this
end X
end ZP
end
section
section ZP2
section Y
variable {n c : Nat} {o : Nat → Int32} {ln ps ba ct fl yp yb dp nn wN wT pr wg sc : Int32} {so tA tB tC fN fO fS yt fQ T be en ins wh kd yv pa na ty fr cm oN yT yC yE oH ou td : Nat → Int32} {P : SY → Prop}
theorem yp_w (hn : n + 1 < 2 ^ 31) (h : P (ln, ps, ba, ct, fl, yp, yb, dp, nn, wN, wT, nI (n + 1), wg, sc, so, tA, tB, tC, fN, fO, fS, yt, fQ, T, be, en, ins, wh, kd, yv, pa, na, ty, fr, cm, oN, yT, yC, yE, oH, zp_o [c] n o, td)) : wpY_out P (ln, ps, ba, ct, fl, yp, yb, dp, nn, wN, wT, nI n, wg, sc, so, tA, tB, tC, fN, fO, fS, yt, fQ, T, be, en, ins, wh, kd, yv, pa, na, ty, fr, cm, oN, yT, yC, yE, oH, o, td) (nI c) := by
  simp only [zp_o] at h
  refine pk_le 192 n (fun z => ?_) (fun z => ?_)
  · rw [if_neg (by omega)] at h
    exact nm_r (nI_1 n) h
  · rw [if_pos z] at h
    exact ⟨vp_in_nI z (by omega), nm_r (e' := upd o n (nI c)) (by rw [nI_clamp (by omega)]) (nm_r (nI_1 n) h)⟩
theorem yp_dy {r b : Nat} (hb : b ≤ 4) (hr : r < 2 ^ 62) : ∀ i n (o : Nat → Int32) (fu : Nat), i ≤ 12 → n + (zp_dy r b i).length < 2 ^ 31 - 1 → i < fu → P (ln, ps, ba, ct, fl, yp, yb, dp, nn, wN, wT, nI (n + (zp_dy r b i).length), wg, sc, so, tA, tB, tC, fN, fO, fS, yt, fQ, T, be, en, ins, wh, kd, yv, pa, na, ty, fr, cm, oN, yT, yC, yE, oH, zp_o (zp_dy r b i) n o, td) → wY_showNumber_132 P (lN r) (nI b) (nI (b + 1)) (lN (10 ^ b)) fu (lN (10 ^ i / 10)) ln ps ba ct fl yp yb dp nn wN wT (nI n) wg sc so tA tB tC fN fO fS yt fQ T be en ins wh kd yv pa na ty fr cm oN yT yC yE oH o td := by
  intro i
  induction i with
  | zero =>
    intro n o fu h1 h2 h3 h
    obtain ⟨fu, rfl⟩ : ∃ m, fu = m + 1 := ⟨fu - 1, by omega⟩
    exact br_t (by decide) h
  | succ i ih =>
    intro n o fu h1 h2 h3 h
    obtain ⟨fu, rfl⟩ : ∃ m, fu = m + 1 := ⟨fu - 1, by omega⟩
    have p1 := zp_10lt (i := i) (by omega)
    have p0 := za_p i
    have pb := zp_10lt (i := b) (by omega)
    have hz : ¬ lN (10 ^ i) = 0 := by
      intro z
      have := (pk_lEQ (a := 10 ^ i) (b := 0) (by omega) (by omega)).mp z
      omega
    rw [zp_10]
    simp only [zp_dy, List.length_cons, List.length_append] at h h2
    have e10 : lN (10 ^ i) / 10 = lN (10 ^ i / 10) := by rw [show (10 : Int64) = lN 10 from rfl, pk_lDiv (by omega) (by decide) (by decide)]
    refine br_f ?_ ⟨hz, by decide, nm_r (zp_dig hr (by omega)) (yp_w (by omega) ?_)⟩
    · rw [show (0 : Int64) = lN 0 from rfl, pk_lLE (by omega) (by omega)]; omega
    · have nx : ∀ (n : Nat) (o : Nat → Int32), n + (zp_dy r b i).length < 2 ^ 31 - 1 → P (ln, ps, ba, ct, fl, yp, yb, dp, nn, wN, wT, nI (n + (zp_dy r b i).length), wg, sc, so, tA, tB, tC, fN, fO, fS, yt, fQ, T, be, en, ins, wh, kd, yv, pa, na, ty, fr, cm, oN, yT, yC, yE, oH, zp_o (zp_dy r b i) n o, td) → (¬ (10 : Int64) = 0 ∧ ∀ x5 : Int64, x5 = lN (10 ^ i) / 10 → wY_showNumber_132 P (lN r) (nI b) (nI (b + 1)) (lN (10 ^ b)) fu x5 ln ps ba ct fl yp yb dp nn wN wT (nI n) wg sc so tA tB tC fN fO fS yt fQ T be en ins wh kd yv pa na ty fr cm oN yT yC yE oH o td) := fun n o hn hp => ⟨by decide, nm_r e10 (ih n o fu (by omega) hn (by omega) hp)⟩
      by_cases ib : i = b
      · subst ib
        refine br_t rfl (pk_le i 0 (fun z => ?_) (fun z => br_f ?_ (yp_w (c := 18) (by rw [if_pos ⟨rfl, z⟩] at h2; simp only [List.length_cons, List.length_nil] at h2; omega) ?_)))
        · rw [if_neg (by omega)] at h h2
          simp only [List.length_nil, List.nil_append] at h h2
          refine nx (n + 1) _ (by omega) ?_
          rw [show n + 1 + (zp_dy r i i).length = n + (0 + (zp_dy r i i).length + 1) from by omega]
          exact h
        · rw [show (1 : Int32) = nI 1 from rfl, nI_leI (by omega) (by omega)]; omega
        · rw [if_pos ⟨rfl, z⟩] at h h2
          simp only [List.length_nil, List.length_cons, List.cons_append, List.nil_append] at h h2
          refine nx (n + 1 + 1) _ (by omega) ?_
          rw [show n + 1 + 1 + (zp_dy r i i).length = n + (0 + 1 + (zp_dy r i i).length + 1) from by omega]
          exact h
      · rw [if_neg (fun z => ib z.1)] at h h2
        simp only [List.length_nil, List.nil_append] at h h2
        refine br_f ?_ (nx (n + 1) _ (by omega) ?_)
        · intro z
          have := (pk_lEQ (a := 10 ^ i) (b := 10 ^ b) (by omega) (by omega)).mp z
          rcases Nat.lt_trichotomy i b with q | q | q
          · have := Nat.pow_lt_pow_right (a := 10) (by decide) q
            omega
          · exact ib q
          · have := Nat.pow_lt_pow_right (a := 10) (by decide) q
            omega
        · rw [show n + 1 + (zp_dy r b i).length = n + (0 + (zp_dy r b i).length + 1) from by omega]
          exact h
theorem yp_99 {r b e M : Nat} (hb : b ≤ 4) (he : e ≤ 9) (hM : M = max e b) (h : ∃ n132, wY_showNumber_132 P (lN r) (nI b) (nI (b + 1)) (lN (10 ^ b)) n132 (lN (10 ^ M)) ln ps ba ct fl yp yb dp nn wN wT pr wg sc so tA tB tC fN fO fS yt fQ T be en ins wh kd yv pa na ty fr cm oN yT yC yE oH ou td) : ∀ d j fu, j + d = b → d < fu → wY_showNumber_99 P (lN r) (lN (10 ^ e)) (nI b) (nI (b + 1)) ln ps ba ct fl yp yb dp nn wN wT pr wg sc so tA tB tC fN fO fS yt fQ T be en ins wh kd yv pa na ty fr cm oN yT yC yE oH ou td fu (lN (10 ^ j)) (nI j) := by
  intro d
  induction d with
  | zero =>
    intro j fu h3 h4
    obtain ⟨fu, rfl⟩ : ∃ m, fu = m + 1 := ⟨fu - 1, by omega⟩
    obtain rfl : j = b := by omega
    have p1 := zp_10lt (i := j) (by omega)
    have p2 := zp_10lt (i := e) (by omega)
    refine br_t (nI_le (Nat.le_refl _) (by omega)) ?_
    by_cases c : j ≤ e
    · obtain rfl : M = e := by omega
      refine br_t ?_ h
      rw [pk_lLE (by omega) (by omega)]
      exact Nat.pow_le_pow_right (by decide) c
    · obtain rfl : M = j := by omega
      refine br_f ?_ h
      rw [pk_lLE (by omega) (by omega)]
      have : 10 ^ (e + 1) ≤ 10 ^ M := Nat.pow_le_pow_right (by decide) (by omega)
      rw [Nat.pow_succ] at this
      have := za_p e
      omega
  | succ d ih =>
    intro j fu h3 h4
    obtain ⟨fu, rfl⟩ : ∃ m, fu = m + 1 := ⟨fu - 1, by omega⟩
    exact br_f (nI_ge (by omega) (by omega)) (nm_r (e' := lN (10 ^ (j + 1))) (by rw [show (10 : Int64) = lN 10 from rfl, lN_mul, ← Nat.pow_succ]) (nm_r (nI_1 j) (ih (j + 1) fu (by omega) (by omega))))
theorem yp_65 {r b e : Nat} (hr : r < 10 ^ 10) (he : e ≤ 9) (h1 : r < 10 ^ (e + 1)) (h2 : ∀ i, i < e → 10 ^ (i + 1) ≤ r) (h : ∃ n99, wY_showNumber_99 P (lN r) (lN (10 ^ e)) (nI b) (nI (b + 1)) ln ps ba ct fl yp yb dp nn wN wT pr wg sc so tA tB tC fN fO fS yt fQ T be en ins wh kd yv pa na ty fr cm oN yT yC yE oH ou td n99 1 0) : ∀ d j fu, j + d = e → d < fu → wY_showNumber_65 P (lN r) (nI b) (nI (b + 1)) ln ps ba ct fl yp yb dp nn wN wT pr wg sc so tA tB tC fN fO fS yt fQ T be en ins wh kd yv pa na ty fr cm oN yT yC yE oH ou td fu (lN (10 ^ j)) (lN (r / 10 ^ j)) := by
  intro d
  induction d with
  | zero =>
    intro j fu h3 h4
    obtain ⟨fu, rfl⟩ : ∃ m, fu = m + 1 := ⟨fu - 1, by omega⟩
    obtain rfl : j = e := by omega
    have q1 : r / 10 ^ j < 10 := by
      rw [Nat.div_lt_iff_lt_mul (za_p j), ← Nat.pow_succ']
      exact h1
    refine br_t ?_ h
    rw [show (9 : Int64) = lN 9 from rfl, pk_lLE (by omega) (by omega)]; omega
  | succ d ih =>
    intro j fu h3 h4
    obtain ⟨fu, rfl⟩ : ∃ m, fu = m + 1 := ⟨fu - 1, by omega⟩
    have q1 : 10 ≤ r / 10 ^ j := by
      rw [Nat.le_div_iff_mul_le (za_p j), ← Nat.pow_succ']
      exact h2 j (by omega)
    have q2 : r / 10 ^ j ≤ r := Nat.div_le_self _ _
    refine br_f ?_ (nm_r (e' := lN (10 ^ (j + 1))) (by rw [show (10 : Int64) = lN 10 from rfl, lN_mul, ← Nat.pow_succ]) ⟨by decide, nm_r (e' := lN (r / 10 ^ (j + 1))) ?_ (ih (j + 1) fu (by omega) (by omega))⟩)
    · rw [show (9 : Int64) = lN 9 from rfl, pk_lLE (by omega) (by omega)]; omega
    · rw [show (10 : Int64) = lN 10 from rfl, pk_lDiv (by omega) (by decide) (by decide), Nat.div_div_eq_div_mul, ← Nat.pow_succ]
theorem yp_19 {x1 : Int32} {x5 : Int64} : ∀ b r fu, b ≤ 4 → r < 2 ^ 62 → b < fu → wY_showNumber_46 P x1 (lN (zp_st b r).2) x5 (nI (zp_st b r).1) ln ps ba ct fl yp yb dp nn wN wT pr wg sc so tA tB tC fN fO fS yt fQ T be en ins wh kd yv pa na ty fr cm oN yT yC yE oH ou td → wY_showNumber_19 P x1 x5 ln ps ba ct fl yp yb dp nn wN wT pr wg sc so tA tB tC fN fO fS yt fQ T be en ins wh kd yv pa na ty fr cm oN yT yC yE oH ou td fu (lN r) (nI b) := by
  intro b
  induction b with
  | zero =>
    intro r fu h1 h2 h3 h
    obtain ⟨fu, rfl⟩ : ∃ m, fu = m + 1 := ⟨fu - 1, by omega⟩
    exact br_t (by decide) h
  | succ b ih =>
    intro r fu h1 h2 h3 h
    obtain ⟨fu, rfl⟩ : ∃ m, fu = m + 1 := ⟨fu - 1, by omega⟩
    simp only [zp_st] at h
    have e1 : lN r - lN r / 10 * 10 = lN (r % 10) := by rw [show (10 : Int64) = lN 10 from rfl, pk_lRem (by omega) (by decide) (by decide)]
    refine br_f (nI_nle (by omega) (by omega)) ⟨by decide, ?_⟩
    rw [e1]
    by_cases c : r % 10 = 0
    · rw [if_pos c] at h
      refine br_t (by rw [c]; rfl) ⟨by decide, nm_r (e' := lN (r / 10)) ?_ (nm_r (pk_m1 b) (ih (r / 10) fu (by omega) (by omega) (by omega) h))⟩
      rw [show (10 : Int64) = lN 10 from rfl, pk_lDiv (by omega) (by decide) (by decide)]
    · rw [if_neg c] at h
      refine br_f ?_ h
      intro z
      have := (pk_lEQ (a := r % 10) (b := 0) (by omega) (by omega)).mp z
      exact c this
end Y
theorem zp_dglen (r b : Nat) : ∀ i, (zp_dg r b i).length ≤ 2 * i := by
  intro i
  induction i with
  | zero => exact Nat.le_refl _
  | succ i ih =>
    simp only [zp_dg, List.length_append, List.length_cons]
    split
    · simp only [List.length_cons, List.length_nil]; omega
    · simp only [List.length_nil]; omega
theorem zp_abs (v : Int32) : (0 ≤ v → v.toInt64 = lN (zp_ab v)) ∧ (¬ 0 ≤ v → -v.toInt64 = lN (zp_ab v)) := by
  have hb := zp_ab_lt v
  have h1 := v.le_toInt
  have h2 := v.toInt_lt
  constructor
  · intro h
    apply Int64.toInt_inj.mp
    rw [Int32.toInt_toInt64, pk_lT (by omega)]
    rw [Int32.le_iff_toInt_le, show ((0 : Int32)).toInt = 0 from by decide] at h
    unfold zp_ab; omega
  · intro h
    apply Int64.toInt_inj.mp
    rw [Int64.toInt_neg, Int32.toInt_toInt64, pk_lT (by omega)]
    rw [Int32.le_iff_toInt_le, show ((0 : Int32)).toInt = 0 from by decide] at h
    rw [Int.bmod_eq_of_le (by omega) (by omega)]
    unfold zp_ab; omega
theorem zp_number (v : Int32) {dc : Nat} (hdc : dc ≤ 4) : ∃ L : List Nat, L.length ≤ 40 ∧
    (∀ {ln ap st er pl wt wn tg rf dp pt zs te pw sg bg bl dw es ct bd lt : Int32} {dg : Int64} {T so tA tB tC fN fO fQ fS tO oS oT oN oC oE oH cm kd vl pa na ty fr ta wk sp : Nat → Int32} (n : Nat) (o : Nat → Int32) (P : SX → Prop), n + 40 < 2 ^ 31 - 1 → (∀ x, x < 10 → P (ln, ap, st, er, pl, wt, wn, tg, rf, dp, pt, zs, te, pw, sg, bg, dg, bl, dw, es, ct, bd, nI (n + L.length), nI x, T, so, tA, tB, tC, fN, fO, fQ, fS, tO, oS, oT, oN, oC, oE, oH, cm, kd, vl, pa, na, ty, fr, ta, zp_o L n o, wk, sp)) → wpX_number P (ln, ap, st, er, pl, wt, wn, tg, rf, dp, pt, zs, te, pw, sg, bg, dg, bl, dw, es, ct, bd, nI n, lt, T, so, tA, tB, tC, fN, fO, fQ, fS, tO, oS, oT, oN, oC, oE, oH, cm, kd, vl, pa, na, ty, fr, ta, o, wk, sp) v (nI dc)) ∧
    (∀ {ln ps ba ct fl yp yb dp nn wN wT wg sc : Int32} {so tA tB tC fN fO fS yt fQ T be en ins wh kd yv pa na ty fr cm oN yT yC yE oH td : Nat → Int32} (n : Nat) (o : Nat → Int32) (P : SY → Prop), n + 40 < 2 ^ 31 - 1 → P (ln, ps, ba, ct, fl, yp, yb, dp, nn, wN, wT, nI (n + L.length), wg, sc, so, tA, tB, tC, fN, fO, fS, yt, fQ, T, be, en, ins, wh, kd, yv, pa, na, ty, fr, cm, oN, yT, yC, yE, oH, zp_o L n o, td) → wpY_showNumber P (ln, ps, ba, ct, fl, yp, yb, dp, nn, wN, wT, nI n, wg, sc, so, tA, tB, tC, fN, fO, fS, yt, fQ, T, be, en, ins, wh, kd, yv, pa, na, ty, fr, cm, oN, yT, yC, yE, oH, o, td) v (nI dc)) := by
  have hab := zp_ab_lt v
  have hst := zp_st_le dc (zp_ab v)
  obtain ⟨ax, ay⟩ := zp_abs v
  generalize hs : zp_st dc (zp_ab v) = sb at *
  obtain ⟨b, r⟩ := sb
  dsimp only at hst
  obtain ⟨e, he, h1, h2⟩ := zp_pl r b (by omega) (by omega)
  have hM : max e b ≤ 9 := by omega
  have hlen := zp_dglen r b (max e b + 1)
  have edy : zp_dg r b (max e b + 1) = zp_dy r b (max e b + 1) := by
    rw [zp_dgy, if_neg (by omega)]; rfl
  have e1M : 10 ^ (max e b + 1) / 10 = 10 ^ max e b := zp_10 _
  by_cases neg : 0 ≤ v
  · refine ⟨zp_dg r b (max e b + 1), by omega, ?_, ?_⟩
    · intro ln ap st er pl wt wn tg rf dp pt zs te pw sg bg bl dw es ct bd lt dg T so tA tB tC fN fO fQ fS tO oS oT oN oC oE oH cm kd vl pa na ty fr ta wk sp n o P hn h
      have go := xp_dg (P := P) (ln := ln) (ap := ap) (st := st) (er := er) (pl := pl) (wt := wt) (wn := wn) (tg := tg) (rf := rf) (dp := dp) (pt := pt) (zs := zs) (te := te) (pw := pw) (sg := sg) (bg := bg) (dg := dg) (bl := bl) (dw := dw) (es := es) (ct := ct) (bd := bd) (T := T) (so := so) (tA := tA) (tB := tB) (tC := tC) (fN := fN) (fO := fO) (fQ := fQ) (fS := fS) (tO := tO) (oS := oS) (oT := oT) (oN := oN) (oC := oC) (oE := oE) (oH := oH) (cm := cm) (kd := kd) (vl := vl) (pa := pa) (na := na) (ty := ty) (fr := fr) (ta := ta) (wk := wk) (sp := sp) (b := b) (r := r) (by omega) (by omega) (max e b + 1) n o lt (max e b + 2) (by omega) (by omega) (by omega) (fun l hl => by
        rcases hl with ⟨z, _⟩ | ⟨x, hx, rfl⟩
        · omega
        · exact h x hx)
      rw [e1M] at go
      refine br_t neg ⟨dc + 1, ?_⟩
      rw [ax neg]
      refine xp_16 dc (zp_ab v) (dc + 1) hdc (by omega) (by omega) ?_
      rw [hs]
      exact br_t neg ⟨max e b + 1, xp_59 (by omega) (by omega) he h1 h2 rfl ⟨_, go⟩ (max e b) 0 (max e b + 1) (by omega) (by omega)⟩
    · intro ln ps ba ct fl yp yb dp nn wN wT wg sc so tA tB tC fN fO fS yt fQ T be en ins wh kd yv pa na ty fr cm oN yT yC yE oH td n o P hn h
      rw [edy] at h
      rw [edy] at hlen
      have go := yp_dy (P := P) (ln := ln) (ps := ps) (ba := ba) (ct := ct) (fl := fl) (yp := yp) (yb := yb) (dp := dp) (nn := nn) (wN := wN) (wT := wT) (wg := wg) (sc := sc) (so := so) (tA := tA) (tB := tB) (tC := tC) (fN := fN) (fO := fO) (fS := fS) (yt := yt) (fQ := fQ) (T := T) (be := be) (en := en) (ins := ins) (wh := wh) (kd := kd) (yv := yv) (pa := pa) (na := na) (ty := ty) (fr := fr) (cm := cm) (oN := oN) (yT := yT) (yC := yC) (yE := yE) (oH := oH) (td := td) (b := b) (r := r) (by omega) (by omega) (max e b + 1) n o (max e b + 2) (by omega) (by omega) (by omega) h
      rw [e1M] at go
      refine br_t neg ⟨dc + 1, ?_⟩
      rw [ax neg]
      refine yp_19 dc (zp_ab v) (dc + 1) hdc (by omega) (by omega) ?_
      rw [hs]
      refine br_t neg (nm_r (nI_1 b) ⟨e + 1, ?_⟩)
      have g65 := yp_65 (P := P) (ln := ln) (ps := ps) (ba := ba) (ct := ct) (fl := fl) (yp := yp) (yb := yb) (dp := dp) (nn := nn) (wN := wN) (wT := wT) (wg := wg) (sc := sc) (so := so) (tA := tA) (tB := tB) (tC := tC) (fN := fN) (fO := fO) (fS := fS) (yt := yt) (fQ := fQ) (T := T) (be := be) (en := en) (ins := ins) (wh := wh) (kd := kd) (yv := yv) (pa := pa) (na := na) (ty := ty) (fr := fr) (cm := cm) (oN := oN) (yT := yT) (yC := yC) (yE := yE) (oH := oH) (td := td) (pr := nI n) (ou := o) (b := b) (by omega) he h1 h2 ⟨b + 1, yp_99 (by omega) he rfl ⟨_, go⟩ b 0 (b + 1) (by omega) (by omega)⟩ e 0 (e + 1) (by omega) (by omega)
      rw [Nat.pow_zero, Nat.div_one] at g65
      exact g65
  · refine ⟨17 :: zp_dg r b (max e b + 1), by simp only [List.length_cons]; omega, ?_, ?_⟩
    · intro ln ap st er pl wt wn tg rf dp pt zs te pw sg bg bl dw es ct bd lt dg T so tA tB tC fN fO fQ fS tO oS oT oN oC oE oH cm kd vl pa na ty fr ta wk sp n o P hn h
      simp only [List.length_cons] at h
      have go := xp_dg (P := P) (ln := ln) (ap := ap) (st := st) (er := er) (pl := pl) (wt := wt) (wn := wn) (tg := tg) (rf := rf) (dp := dp) (pt := pt) (zs := zs) (te := te) (pw := pw) (sg := sg) (bg := bg) (dg := dg) (bl := bl) (dw := dw) (es := es) (ct := ct) (bd := bd) (T := T) (so := so) (tA := tA) (tB := tB) (tC := tC) (fN := fN) (fO := fO) (fQ := fQ) (fS := fS) (tO := tO) (oS := oS) (oT := oT) (oN := oN) (oC := oC) (oE := oE) (oH := oH) (cm := cm) (kd := kd) (vl := vl) (pa := pa) (na := na) (ty := ty) (fr := fr) (ta := ta) (wk := wk) (sp := sp) (b := b) (r := r) (by omega) (by omega) (max e b + 1) (n + 1) (zp_o [17] n o) (nI 17) (max e b + 2) (by omega) (by omega) (by omega) (fun l hl => by
        rcases hl with ⟨z, _⟩ | ⟨x, hx, rfl⟩
        · omega
        · rw [show n + 1 + (zp_dg r b (max e b + 1)).length = n + ((zp_dg r b (max e b + 1)).length + 1) from by omega]
          exact h x hx)
      rw [e1M] at go
      refine br_f neg (nm_r (ay neg) ⟨dc + 1, ?_⟩)
      refine xp_16 dc (zp_ab v) (dc + 1) hdc (by omega) (by omega) ?_
      rw [hs]
      refine br_f neg (xp_w (c := 17) (by omega) (by decide) ⟨max e b + 1, ?_⟩)
      exact xp_59 (by omega) (by omega) he h1 h2 rfl ⟨_, go⟩ (max e b) 0 (max e b + 1) (by omega) (by omega)
    · intro ln ps ba ct fl yp yb dp nn wN wT wg sc so tA tB tC fN fO fS yt fQ T be en ins wh kd yv pa na ty fr cm oN yT yC yE oH td n o P hn h
      rw [edy] at h
      rw [edy] at hlen
      simp only [List.length_cons] at h
      have go := yp_dy (P := P) (ln := ln) (ps := ps) (ba := ba) (ct := ct) (fl := fl) (yp := yp) (yb := yb) (dp := dp) (nn := nn) (wN := wN) (wT := wT) (wg := wg) (sc := sc) (so := so) (tA := tA) (tB := tB) (tC := tC) (fN := fN) (fO := fO) (fS := fS) (yt := yt) (fQ := fQ) (T := T) (be := be) (en := en) (ins := ins) (wh := wh) (kd := kd) (yv := yv) (pa := pa) (na := na) (ty := ty) (fr := fr) (cm := cm) (oN := oN) (yT := yT) (yC := yC) (yE := yE) (oH := oH) (td := td) (b := b) (r := r) (by omega) (by omega) (max e b + 1) (n + 1) (zp_o [17] n o) (max e b + 2) (by omega) (by omega) (by omega) (by
        rw [show n + 1 + (zp_dy r b (max e b + 1)).length = n + ((zp_dy r b (max e b + 1)).length + 1) from by omega]
        exact h)
      rw [e1M] at go
      refine br_f neg (nm_r (ay neg) ⟨dc + 1, ?_⟩)
      refine yp_19 dc (zp_ab v) (dc + 1) hdc (by omega) (by omega) ?_
      rw [hs]
      refine br_f neg (yp_w (c := 17) (by omega) (nm_r (nI_1 b) ⟨e + 1, ?_⟩))
      have g65 := yp_65 (P := P) (ln := ln) (ps := ps) (ba := ba) (ct := ct) (fl := fl) (yp := yp) (yb := yb) (dp := dp) (nn := nn) (wN := wN) (wT := wT) (wg := wg) (sc := sc) (so := so) (tA := tA) (tB := tB) (tC := tC) (fN := fN) (fO := fO) (fS := fS) (yt := yt) (fQ := fQ) (T := T) (be := be) (en := en) (ins := ins) (wh := wh) (kd := kd) (yv := yv) (pa := pa) (na := na) (ty := ty) (fr := fr) (cm := cm) (oN := oN) (yT := yT) (yC := yC) (yE := yE) (oH := oH) (td := td) (pr := nI (n + 1)) (ou := zp_o [17] n o) (b := b) (by omega) he h1 h2 ⟨b + 1, yp_99 (by omega) he rfl ⟨_, go⟩ b 0 (b + 1) (by omega) (by omega)⟩ e 0 (e + 1) (by omega) (by omega)
      rw [Nat.pow_zero, Nat.div_one] at g65
      exact g65
end ZP2
end
section
/-! printing: strings, and the search for a child -/
section ZPS
def zp_sl (t : Nat → Nat) : Nat → Nat → List Nat
  | 0, _ => []
  | f + 1, i => if t i = 16 then [] else if t i = 30 then 30 :: t (i + 1) :: zp_sl t f (i + 2) else t i :: zp_sl t f (i + 1)
variable {t : Nat → Nat} {len : Nat}
/-- a string that is closed goes on, or ends -/
theorem zp_cl {f i : Nat} (h : (zs_sc t len (f + 1) i).1 = 1) : i < len ∧ (t i = 16 ∨ (t i ≠ 16 ∧ t i = 30 ∧ i + 1 < len ∧ (zs_sc t len f (i + 2)).1 = 1) ∨ (t i ≠ 16 ∧ t i ≠ 30 ∧ (zs_sc t len f (i + 1)).1 = 1)) := by
  rw [zs_s] at h
  by_cases c0 : len ≤ i
  · rw [if_pos c0] at h; exact absurd (show (0 : Nat) = 1 from h) (by decide)
  · rw [if_neg c0] at h
    refine ⟨by omega, ?_⟩
    by_cases c1 : t i = 16
    · exact Or.inl c1
    · rw [if_neg c1] at h
      by_cases c2 : t i = 30
      · rw [if_pos c2] at h
        by_cases c3 : len ≤ i + 1
        · rw [if_pos c3] at h; exact absurd (show (0 : Nat) = 1 from h) (by decide)
        · rw [if_neg c3] at h
          by_cases c4 : t (i + 1) = 16 ∨ t (i + 1) = 30
          · rw [if_pos c4] at h
            exact Or.inr (Or.inl ⟨c1, c2, by omega, h⟩)
          · rw [if_neg c4] at h; exact absurd (show (0 : Nat) = 1 from h) (by decide)
      · rw [if_neg c2] at h
        exact Or.inr (Or.inr ⟨c1, c2, h⟩)
theorem zp_sllen : ∀ f i, (zs_sc t len f i).1 = 1 → (zp_sl t f i).length + i < len := by
  intro f
  induction f with
  | zero => intro i h; exact absurd (show (0 : Nat) = 1 from h) (by decide)
  | succ f ih =>
    intro i h
    obtain ⟨h0, h1 | ⟨h1, h2, h3, h4⟩ | ⟨h1, h2, h4⟩⟩ := zp_cl h
    · simp only [zp_sl]; rw [if_pos h1]; simp only [List.length_nil]; omega
    · have := ih _ h4
      simp only [zp_sl]; rw [if_neg h1, if_pos h2]; simp only [List.length_cons]; omega
    · have := ih _ h4
      simp only [zp_sl]; rw [if_neg h1, if_neg h2]; simp only [List.length_cons]; omega
theorem xp_sl {ln ap st er pl wt wn tg rf dp pt zs te pw sg bg bl dw es ct bd : Int32} {dg : Int64} {T so tA tB tC fN fO fQ fS tO oS oT oN oC oE oH cm kd vl pa na ty fr ta wk sp : Nat → Int32} {P : SX → Prop} (hT : ∀ i, T i = nI (t i)) (ht : ∀ i, t i < 32) (hl : len ≤ 96) : ∀ f i n (o : Nat → Int32) (lt : Int32) fu, (zs_sc t len f i).1 = 1 → n + 200 < 2 ^ 31 - (zp_sl t f i).length → 2 * f < fu → P (ln, ap, st, er, pl, wt, wn, tg, rf, dp, pt, zs, te, pw, sg, bg, dg, bl, dw, es, ct, bd, nI (n + (zp_sl t f i).length + 1), nI 16, T, so, tA, tB, tC, fN, fO, fQ, fS, tO, oS, oT, oN, oC, oE, oH, cm, kd, vl, pa, na, ty, fr, ta, zp_o (zp_sl t f i ++ [16]) n o, wk, sp) → wX_string_12 P fu 0 (nI i) ln ap st er pl wt wn tg rf dp pt zs te pw sg bg dg bl dw es ct bd (nI n) lt T so tA tB tC fN fO fQ fS tO oS oT oN oC oE oH cm kd vl pa na ty fr ta o wk sp := by
  intro f
  induction f with
  | zero => intro i n o lt fu h; exact absurd (show (0 : Nat) = 1 from h) (by decide)
  | succ f ih =>
    intro i n o lt fu h hn hfu hp
    obtain ⟨h0, hc⟩ := zp_cl h
    obtain ⟨fu, rfl⟩ : ∃ m, fu = m + 1 + 1 := ⟨fu - 2, by omega⟩
    have w : vp_in (nI i) 96 := vp_in_nI (by omega) (by omega)
    have e : T (nI i).toNatClampNeg = nI (t i) := by rw [nI_clamp (by omega), hT]
    have h32 := ht i
    rcases hc with h1 | ⟨h1, h2, h3, h4⟩ | ⟨h1, h2, h4⟩
    · simp only [zp_sl] at hp
      rw [if_pos h1] at hp
      refine br_t rfl ⟨w, br_t (by rw [e, h1]; rfl) (xp_w (c := 16) (by omega) (by decide) hp)⟩
    · simp only [zp_sl] at hp hn
      rw [if_neg h1, if_pos h2] at hp hn
      simp only [List.length_cons, List.cons_append] at hp hn
      have w2 : vp_in (nI (i + 1)) 96 := vp_in_nI (by omega) (by omega)
      have e2 : T (nI (i + 1)).toNatClampNeg = nI (t (i + 1)) := by rw [nI_clamp (by omega), hT]
      have h32' := ht (i + 1)
      refine br_t rfl ⟨w, br_f (by rw [e]; exact za_ne (b := 16) h1 (by omega) (by decide)) ⟨w, ?_⟩⟩
      rw [e]
      refine xp_w (c := t i) (by omega) (by omega) (br_t rfl ⟨w, ?_⟩)
      rw [e]
      refine br_t (by rw [h2]; rfl) (nm_r (nI_1 i) (br_f (by decide) ⟨w2, ?_⟩))
      rw [e2]
      refine xp_w (c := t (i + 1)) (by omega) (by omega) (br_f (by decide) (nm_r (nI_1 (i + 1)) (ih (i + 2) (n + 1 + 1) _ _ fu h4 (by omega) (by omega) ?_)))
      rw [show n + 1 + 1 + (zp_sl t f (i + 2)).length + 1 = n + ((zp_sl t f (i + 2)).length + 1 + 1) + 1 from by omega]
      rw [h2]
      exact hp
    · simp only [zp_sl] at hp hn
      rw [if_neg h1, if_neg h2] at hp hn
      simp only [List.length_cons, List.cons_append] at hp hn
      refine br_t rfl ⟨w, br_f (by rw [e]; exact za_ne (b := 16) h1 (by omega) (by decide)) ⟨w, ?_⟩⟩
      rw [e]
      refine xp_w (c := t i) (by omega) (by omega) (br_t rfl ⟨w, ?_⟩)
      rw [e]
      refine br_f (za_ne (b := 30) h2 (by omega) (by decide)) (nm_r (nI_1 i) (ih (i + 1) (n + 1) _ _ (fu + 1) h4 (by omega) (by omega) ?_))
      rw [show n + 1 + (zp_sl t f (i + 1)).length + 1 = n + ((zp_sl t f (i + 1)).length + 1) + 1 from by omega]
      exact hp
theorem yp_sl {ln ps ba ct fl yp yb dp nn wN wT wg sc : Int32} {so tA tB tC fN fO fS yt fQ T be en ins wh kd yv pa na ty fr cm oN yT yC yE oH td : Nat → Int32} {P : SY → Prop} (hT : ∀ i, T i = nI (t i)) (ht : ∀ i, t i < 32) (hl : len ≤ 96) : ∀ f j n (o : Nat → Int32) fu, (zs_sc t len f (j + 1)).1 = 1 → n + 200 < 2 ^ 31 - (zp_sl t f (j + 1)).length → f < fu → P (ln, ps, ba, ct, fl, yp, yb, dp, nn, wN, wT, nI (n + (zp_sl t f (j + 1)).length + 1), wg, sc, so, tA, tB, tC, fN, fO, fS, yt, fQ, T, be, en, ins, wh, kd, yv, pa, na, ty, fr, cm, oN, yT, yC, yE, oH, zp_o (zp_sl t f (j + 1) ++ [16]) n o, td) → wY_showText_36 P (wY_showText_2 P fu) (nI j) ln ps ba ct fl yp yb dp nn wN wT (nI n) wg sc so tA tB tC fN fO fS yt fQ T be en ins wh kd yv pa na ty fr cm oN yT yC yE oH o td := by
  intro f
  induction f with
  | zero => intro j n o fu h; exact absurd (show (0 : Nat) = 1 from h) (by decide)
  | succ f ih =>
    intro j n o fu h hn hfu hp
    obtain ⟨h0, hc⟩ := zp_cl h
    obtain ⟨fu, rfl⟩ : ∃ m, fu = m + 1 := ⟨fu - 1, by omega⟩
    have w : vp_in (nI (j + 1)) 96 := vp_in_nI (by omega) (by omega)
    have e : T (nI (j + 1)).toNatClampNeg = nI (t (j + 1)) := by rw [nI_clamp (by omega), hT]
    have h32 := ht (j + 1)
    refine nm_r (nI_1 j) ⟨w, ?_⟩
    rw [e]
    rcases hc with h1 | ⟨h1, h2, h3, h4⟩ | ⟨h1, h2, h4⟩
    · simp only [zp_sl] at hp
      rw [if_pos h1] at hp
      exact br_t (by rw [h1]; rfl) (yp_w (c := 16) (by omega) hp)
    · simp only [zp_sl] at hp hn
      rw [if_neg h1, if_pos h2] at hp hn
      simp only [List.length_cons, List.cons_append] at hp hn
      rw [show j + 1 + 2 = j + 1 + 1 + 1 from rfl] at hp hn h4
      have w2 : vp_in (nI (j + 1 + 1)) 96 := vp_in_nI (by omega) (by omega)
      have e2 : T (nI (j + 1 + 1)).toNatClampNeg = nI (t (j + 1 + 1)) := by rw [nI_clamp (by omega), hT]
      refine br_f (za_ne (b := 16) h1 (by omega) (by decide)) ⟨w, ?_⟩
      rw [e]
      refine yp_w (c := t (j + 1)) (by omega) ⟨w, ?_⟩
      rw [e]
      refine br_t (by rw [h2]; rfl) (nm_r (nI_1 (j + 1)) ⟨w2, ?_⟩)
      rw [e2]
      refine yp_w (c := t (j + 1 + 1)) (by omega) (ih (j + 1 + 1) (n + 1 + 1) _ fu h4 (by omega) (by omega) ?_)
      rw [show n + 1 + 1 + (zp_sl t f (j + 1 + 1 + 1)).length + 1 = n + ((zp_sl t f (j + 1 + 1 + 1)).length + 1 + 1) + 1 from by omega]
      rw [h2]
      exact hp
    · simp only [zp_sl] at hp hn
      rw [if_neg h1, if_neg h2] at hp hn
      simp only [List.length_cons, List.cons_append] at hp hn
      refine br_f (za_ne (b := 16) h1 (by omega) (by decide)) ⟨w, ?_⟩
      rw [e]
      refine yp_w (c := t (j + 1)) (by omega) ⟨w, ?_⟩
      rw [e]
      refine br_f (za_ne (b := 30) h2 (by omega) (by decide)) (ih (j + 1) (n + 1) _ fu h4 (by omega) (by omega) ?_)
      rw [show n + 1 + (zp_sl t f (j + 1 + 1)).length + 1 = n + ((zp_sl t f (j + 1 + 1)).length + 1) + 1 from by omega]
      exact hp
theorem zp_string (hl : len ≤ 96) {b : Nat} (hb : b < len) (h16 : t b = 16) (hc : (zs_sc t len 97 (b + 1)).1 = 1) : ∃ L : List Nat, L.length ≤ 98 ∧
    (∀ {ln ap st er pl wt wn tg rf dp pt zs te pw sg bg bl dw es ct bd lt : Int32} {dg : Int64} {T so tA tB tC fN fO fQ fS tO oS oT oN oC oE oH cm kd vl pa na ty fr ta wk sp : Nat → Int32} (n : Nat) (o : Nat → Int32) (P : SX → Prop), (∀ i, T i = nI (t i)) → (∀ i, t i < 32) → n + 400 < 2 ^ 31 → P (ln, ap, st, er, pl, wt, wn, tg, rf, dp, pt, zs, te, pw, sg, bg, dg, bl, dw, es, ct, bd, nI (n + L.length), nI 16, T, so, tA, tB, tC, fN, fO, fQ, fS, tO, oS, oT, oN, oC, oE, oH, cm, kd, vl, pa, na, ty, fr, ta, zp_o L n o, wk, sp) → wpX_string P (ln, ap, st, er, pl, wt, wn, tg, rf, dp, pt, zs, te, pw, sg, bg, dg, bl, dw, es, ct, bd, nI n, lt, T, so, tA, tB, tC, fN, fO, fQ, fS, tO, oS, oT, oN, oC, oE, oH, cm, kd, vl, pa, na, ty, fr, ta, o, wk, sp) (nI b)) ∧
    (∀ {ln ps ba ct fl yp yb dp nn wN wT wg sc : Int32} {so tA tB tC fN fO fS yt fQ T be en ins wh kd yv pa na ty fr cm oN yT yC yE oH td : Nat → Int32} (n : Nat) (o : Nat → Int32) (P : SY → Prop), (∀ i, T i = nI (t i)) → (∀ i, t i < 32) → n + 400 < 2 ^ 31 → P (ln, ps, ba, ct, fl, yp, yb, dp, nn, wN, wT, nI (n + L.length), wg, sc, so, tA, tB, tC, fN, fO, fS, yt, fQ, T, be, en, ins, wh, kd, yv, pa, na, ty, fr, cm, oN, yT, yC, yE, oH, zp_o L n o, td) → wpY_showText P (ln, ps, ba, ct, fl, yp, yb, dp, nn, wN, wT, nI n, wg, sc, so, tA, tB, tC, fN, fO, fS, yt, fQ, T, be, en, ins, wh, kd, yv, pa, na, ty, fr, cm, oN, yT, yC, yE, oH, o, td) (nI b)) := by
  have hlen := zp_sllen (t := t) (len := len) 97 (b + 1) hc
  refine ⟨16 :: (zp_sl t 97 (b + 1) ++ [16]), by simp only [List.length_cons, List.length_append, List.length_nil]; omega, ?_, ?_⟩
  · intro ln ap st er pl wt wn tg rf dp pt zs te pw sg bg bl dw es ct bd lt dg T so tA tB tC fN fO fQ fS tO oS oT oN oC oE oH cm kd vl pa na ty fr ta wk sp n o P hT ht hn hp
    simp only [List.length_cons, List.length_append, List.length_nil] at hp
    unfold wpX_string
    dsimp only
    refine xp_w (c := 16) (by omega) (by decide) (nm_r (nI_1 b) ⟨196, xp_sl hT ht hl 97 (b + 1) (n + 1) _ _ 196 hc (by omega) (by omega) ?_⟩)
    rw [show n + 1 + (zp_sl t 97 (b + 1)).length + 1 = n + ((zp_sl t 97 (b + 1)).length + (0 + 1) + 1) from by omega]
    exact hp
  · intro ln ps ba ct fl yp yb dp nn wN wT wg sc so tA tB tC fN fO fS yt fQ T be en ins wh kd yv pa na ty fr cm oN yT yC yE oH td n o P hT ht hn hp
    simp only [List.length_cons, List.length_append, List.length_nil] at hp
    have w : vp_in (nI b) 96 := vp_in_nI (by omega) (by omega)
    have e : T (nI b).toNatClampNeg = nI 16 := by rw [nI_clamp (by omega), hT, h16]
    refine ⟨99, w, ?_⟩
    rw [e]
    refine yp_w (c := 16) (by omega) ⟨w, ?_⟩
    rw [e]
    refine br_f (by decide) (yp_sl hT ht hl 97 b (n + 1) _ 98 hc (by omega) (by omega) ?_)
    rw [show n + 1 + (zp_sl t 97 (b + 1)).length + 1 = n + ((zp_sl t 97 (b + 1)).length + (0 + 1) + 1) from by omega]
    exact hp
/-! a child by its name -/
def zp_fd (pa na : Nat → Int32) (n : Nat) (w : Int32) : Nat → Nat → Option Nat
  | 0, _ => none
  | d + 1, j => if pa j = nI n ∧ na j = w then some j else zp_fd pa na n w d (j + 1)
def zp_c (pa na : Nat → Int32) (c n : Nat) (w : Int32) : Option Nat := zp_fd pa na n w (c - (n + 1)) (n + 1)
def zp_i : Option Nat → Int32
  | none => -1
  | some j => nI j
theorem zp_fd_s {pa na : Nat → Int32} {n : Nat} {w : Int32} : ∀ d j r, zp_fd pa na n w d j = some r → j ≤ r ∧ r < j + d ∧ pa r = nI n ∧ na r = w := by
  intro d
  induction d with
  | zero => intro j r h; exact absurd h (by simp [zp_fd])
  | succ d ih =>
    intro j r h
    simp only [zp_fd] at h
    by_cases c : pa j = nI n ∧ na j = w
    · rw [if_pos c] at h
      obtain rfl : j = r := Option.some.inj h
      exact ⟨Nat.le_refl _, by omega, c.1, c.2⟩
    · rw [if_neg c] at h
      have := ih (j + 1) r h
      exact ⟨by omega, by omega, this.2.2⟩
theorem zp_fd_n {pa na : Nat → Int32} {n : Nat} {w : Int32} : ∀ d j r, zp_fd pa na n w d j = none → j ≤ r → r < j + d → ¬ (pa r = nI n ∧ na r = w) := by
  intro d
  induction d with
  | zero => intro j r h h1 h2; omega
  | succ d ih =>
    intro j r h h1 h2
    simp only [zp_fd] at h
    by_cases c : pa j = nI n ∧ na j = w
    · rw [if_pos c] at h; exact absurd h (by simp)
    · rw [if_neg c] at h
      by_cases e : r = j
      · subst e; exact c
      · exact ih (j + 1) r h (by omega) (by omega)
theorem zp_xc {ln ap st er pl wt wn tg rf dp pt zs te pw sg bg bl dw es bd pr lt : Int32} {dg : Int64} {T so tA tB tC fN fO fQ fS tO oS oT oN oC oE oH cm kd vl pa na ty fr ta ou wk sp : Nat → Int32} {P : Int32 → Prop} {c n : Nat} {w : Int32} (hc : c ≤ 40) : ∀ d j fu, j + d = c → d < fu → P (zp_i (zp_fd pa na n w d j)) → wX_child_4 P (nI n) w ln ap st er pl wt wn tg rf dp pt zs te pw sg bg dg bl dw es (nI c) bd pr lt T so tA tB tC fN fO fQ fS tO oS oT oN oC oE oH cm kd vl pa na ty fr ta ou wk sp fu (nI j) := by
  intro d
  induction d with
  | zero =>
    intro j fu h1 h2 hp
    obtain ⟨fu, rfl⟩ : ∃ m, fu = m + 1 := ⟨fu - 1, by omega⟩
    exact br_t (nI_le (by omega) (by omega)) hp
  | succ d ih =>
    intro j fu h1 h2 hp
    obtain ⟨fu, rfl⟩ : ∃ m, fu = m + 1 := ⟨fu - 1, by omega⟩
    have wj : vp_in (nI j) 40 := vp_in_nI (by omega) (by omega)
    have e : (nI j).toNatClampNeg = j := nI_clamp (by omega)
    simp only [zp_fd] at hp
    refine br_f (nI_ge (by omega) (by omega)) ⟨wj, ?_⟩
    rw [e]
    by_cases c1 : pa j = nI n
    · refine br_t c1 ⟨wj, ?_⟩
      by_cases c2 : na j = w
      · rw [if_pos ⟨c1, c2⟩] at hp
        exact br_t c2 hp
      · rw [if_neg (fun z => c2 z.2)] at hp
        exact br_f c2 (nm_r (nI_1 j) (ih (j + 1) fu (by omega) (by omega) hp))
    · rw [if_neg (fun z => c1 z.1)] at hp
      exact br_f c1 (nm_r (nI_1 j) (ih (j + 1) fu (by omega) (by omega) hp))
theorem zp_yc {ln ps ba fl yp yb dp nn wN wT pr wg sc : Int32} {so tA tB tC fN fO fS yt fQ T be en ins wh kd yv pa na ty fr cm oN yT yC yE oH ou td : Nat → Int32} {P : Int32 → Prop} {c n : Nat} {w : Int32} (hc : c ≤ 40) : ∀ d j fu, j + d = c → d < fu → P (zp_i (zp_fd pa na n w d j)) → wY_child_4 P (nI n) w ln ps ba (nI c) fl yp yb dp nn wN wT pr wg sc so tA tB tC fN fO fS yt fQ T be en ins wh kd yv pa na ty fr cm oN yT yC yE oH ou td fu (nI j) := by
  intro d
  induction d with
  | zero =>
    intro j fu h1 h2 hp
    obtain ⟨fu, rfl⟩ : ∃ m, fu = m + 1 := ⟨fu - 1, by omega⟩
    exact br_t (nI_le (by omega) (by omega)) hp
  | succ d ih =>
    intro j fu h1 h2 hp
    obtain ⟨fu, rfl⟩ : ∃ m, fu = m + 1 := ⟨fu - 1, by omega⟩
    have wj : vp_in (nI j) 40 := vp_in_nI (by omega) (by omega)
    have e : (nI j).toNatClampNeg = j := nI_clamp (by omega)
    simp only [zp_fd] at hp
    refine br_f (nI_ge (by omega) (by omega)) ⟨wj, ?_⟩
    rw [e]
    by_cases c1 : pa j = nI n
    · refine br_t c1 ⟨wj, ?_⟩
      by_cases c2 : na j = w
      · rw [if_pos ⟨c1, c2⟩] at hp
        exact br_t c2 hp
      · rw [if_neg (fun z => c2 z.2)] at hp
        exact br_f c2 (nm_r (nI_1 j) (ih (j + 1) fu (by omega) (by omega) hp))
    · rw [if_neg (fun z => c1 z.1)] at hp
      exact br_f c1 (nm_r (nI_1 j) (ih (j + 1) fu (by omega) (by omega) hp))
theorem zp_xchild {ln ap st er pl wt wn tg rf dp pt zs te pw sg bg bl dw es bd pr lt : Int32} {dg : Int64} {T so tA tB tC fN fO fQ fS tO oS oT oN oC oE oH cm kd vl pa na ty fr ta ou wk sp : Nat → Int32} {P : Int32 → Prop} {c n : Nat} {w : Int32} (hc : c ≤ 40) (hn : n < c) (hp : P (zp_i (zp_c pa na c n w))) : wpX_child P (ln, ap, st, er, pl, wt, wn, tg, rf, dp, pt, zs, te, pw, sg, bg, dg, bl, dw, es, nI c, bd, pr, lt, T, so, tA, tB, tC, fN, fO, fQ, fS, tO, oS, oT, oN, oC, oE, oH, cm, kd, vl, pa, na, ty, fr, ta, ou, wk, sp) (nI n) w :=
  nm_r (nI_1 n) ⟨c + 1, zp_xc hc (c - (n + 1)) (n + 1) (c + 1) (by omega) (by omega) hp⟩
theorem zp_ychild {ln ps ba fl yp yb dp nn wN wT pr wg sc : Int32} {so tA tB tC fN fO fS yt fQ T be en ins wh kd yv pa na ty fr cm oN yT yC yE oH ou td : Nat → Int32} {P : Int32 → Prop} {c n : Nat} {w : Int32} (hc : c ≤ 40) (hn : n < c) (hp : P (zp_i (zp_c pa na c n w))) : wpY_child P (ln, ps, ba, nI c, fl, yp, yb, dp, nn, wN, wT, pr, wg, sc, so, tA, tB, tC, fN, fO, fS, yt, fQ, T, be, en, ins, wh, kd, yv, pa, na, ty, fr, cm, oN, yT, yC, yE, oH, ou, td) (nI n) w :=
  nm_r (nI_1 n) ⟨c + 1, zp_yc hc (c - (n + 1)) (n + 1) (c + 1) (by omega) (by omega) hp⟩
theorem zp_c_s {pa na : Nat → Int32} {c n r : Nat} {w : Int32} (h : zp_c pa na c n w = some r) : n < r ∧ r < c ∧ pa r = nI n ∧ na r = w := by
  have := zp_fd_s _ _ _ h
  exact ⟨by omega, by omega, this.2.2⟩
end ZPS
end
section
/-! printing: the two walks over a tree whose nodes are known -/
section ZW
abbrev ZK := List (List Nat × Int32)
def zp_nx (ch : Int32 → Option Nat) : ZK → Nat → Option (List Nat × Nat × Nat × ZK)
  | [], _ => none
  | (k, w) :: K, s => match ch w with
    | none => zp_nx ch K (s + 1)
    | some r => some (k, r, s + 1, K)
def zp_it (ch : Int32 → Option Nat) : Bool → ZK → List Nat
  | _, [] => []
  | b, (k, w) :: K => match ch w with
    | none => zp_it ch b K
    | some r => (if b = true then [] else [15]) ++ (k ++ (100 + r) :: zp_it ch false K)
def zp_fl (F : Nat → List Nat) : List Nat → List Nat
  | [] => []
  | x :: L => (if x < 100 then [x] else F (x - 100)) ++ zp_fl F L
def zp_full (hd im : Nat → List Nat) : Nat → Nat → List Nat
  | 0, _ => []
  | h + 1, j => hd j ++ zp_fl (zp_full hd im h) (im j)
theorem zp_fl_app (F : Nat → List Nat) (B : List Nat) : ∀ A, zp_fl F (A ++ B) = zp_fl F A ++ zp_fl F B := by
  intro A
  induction A with
  | nil => rfl
  | cons x A ih => simp only [List.cons_append, zp_fl, ih, List.append_assoc]
theorem zp_fl_id (F : Nat → List Nat) : ∀ k : List Nat, (∀ x, x ∈ k → x < 100) → zp_fl F k = k := by
  intro k
  induction k with
  | nil => intro h; rfl
  | cons x k ih =>
    intro h
    simp only [zp_fl]
    rw [if_pos (h x (List.mem_cons_self ..)), ih (fun y hy => h y (List.mem_cons_of_mem _ hy))]
    rfl
theorem zp_nx_n {ch : Int32 → Option Nat} : ∀ (K : ZK) s b, zp_nx ch K s = none → zp_it ch b K = [] := by
  intro K
  induction K with
  | nil => intro s b h; rfl
  | cons kw K ih =>
    intro s b h
    obtain ⟨k, w⟩ := kw
    simp only [zp_nx] at h
    simp only [zp_it]
    cases e : ch w with
    | none => rw [e] at h; exact ih (s + 1) b h
    | some r => rw [e] at h; exact absurd h (by simp)
theorem zp_nx_s {ch : Int32 → Option Nat} : ∀ (K : ZK) s k r s' K', zp_nx ch K s = some (k, r, s', K') → (∀ b, zp_it ch b K = (if b = true then [] else [15]) ++ (k ++ (100 + r) :: zp_it ch false K')) ∧ K'.length < K.length ∧ (∃ p, K = p ++ K' ∧ s + p.length = s') ∧ ∃ w, (k, w) ∈ K ∧ ch w = some r := by
  intro K
  induction K with
  | nil => intro s k r s' K' h; exact absurd h (by simp [zp_nx])
  | cons kw K ih =>
    intro s k r s' K' h
    obtain ⟨k0, w⟩ := kw
    simp only [zp_nx] at h
    simp only [zp_it]
    cases e : ch w with
    | none =>
      rw [e] at h
      obtain ⟨h1, h2, ⟨p, h3, h4⟩, w', h5, h6⟩ := ih (s + 1) k r s' K' h
      refine ⟨fun b => h1 b, by simp only [List.length_cons]; omega, ⟨(k0, w) :: p, by rw [h3]; rfl, by simp only [List.length_cons]; omega⟩, w', List.mem_cons_of_mem _ h5, h6⟩
    | some r0 =>
      rw [e] at h
      obtain ⟨rfl, rfl, rfl, rfl⟩ : k0 = k ∧ r0 = r ∧ s + 1 = s' ∧ K = K' := by simpa using h
      exact ⟨fun b => rfl, by simp only [List.length_cons]; omega, ⟨[(k0, w)], rfl, rfl⟩, w, List.mem_cons_self .., e⟩
abbrev ZX := Int32 → Int32 → (Nat → Int32) → (Nat → Int32) → (Nat → Int32) → SX
/-- what X's enter writes, and what is last then -/
def zp_XE (S : ZX) (j : Nat) (hd : List Nat) (fi : Bool) : Prop :=
  ∀ (n : Nat) (o : Nat → Int32) (l : Int32) (wk sp : Nat → Int32) (P : SX → Prop), n + 400 < 2 ^ 31 → (∀ l' : Int32, ((l' = 10 ∨ l' = 12) ↔ fi = true) → P (S (nI (n + hd.length)) l' (zp_o hd n o) wk sp)) → wpX_enter P (S (nI n) l o wk sp) (nI j)
/-- one turn of X's loop -/
def zp_XS (S : ZX) (J : Nat → Int32 → SX → Prop) (ch : Int32 → Option Nat) (j : Nat) (fi : Bool) (ks : ZK) (cl : List Nat) : Prop :=
  ∀ (d s : Nat) (K p : ZK) (wk sp : Nat → Int32) (n : Nat) (o : Nat → Int32) (l : Int32) (m : Nat) (b : Bool), d ≤ 6 → (ks ≠ [] → d ≤ 5) → wk d = nI j → sp d = nI s → ks = p ++ K → p.length = s → n + 400 < 2 ^ 31 → ((l = 10 ∨ l = 12) ↔ b = true) → (b = true → fi = true) →
    (zp_nx ch K s = none → ∀ (l' : Int32) (sp' : Nat → Int32), ¬ (l' = 10 ∨ l' = 12) → (∀ i, i < d → sp' i = sp i) → J m (nI d + (-1)) (S (nI (n + cl.length)) l' (zp_o cl n o) wk sp')) →
    (∀ k r s' K', zp_nx ch K s = some (k, r, s', K') → ∀ (l' : Int32) (wk' sp' : Nat → Int32), wk' (d + 1) = nI r → sp' (d + 1) = nI 0 → sp' d = nI s' → (∀ i, i < d + 1 → wk' i = wk i) → (∀ i, i < d → sp' i = sp i) → wpX_enter (J m (nI (d + 1))) (S (nI (n + ((if b = true then [] else [15]) ++ k).length)) l' (zp_o ((if b = true then [] else [15]) ++ k) n o) wk' sp') (nI r)) →
    J (m + 1) (nI d) (S (nI n) l o wk sp)
theorem zp_xw {S : ZX} {J : Nat → Int32 → SX → Prop} {ch : Nat → Int32 → Option Nat} {hd im : Nat → List Nat} {fi : Nat → Bool} {ks : Nat → ZK} {cl : Nat → List Nat} {c : Nat} {dep : Nat → Nat}
    (hE : ∀ j, j < c → zp_XE S j (hd j) (fi j)) (hS : ∀ j, j < c → zp_XS S J (ch j) j (fi j) (ks j) (cl j)) (him : ∀ j, im j = zp_it (ch j) (fi j) (ks j) ++ cl j)
    (hk : ∀ j, j < c → ∀ k w, (k, w) ∈ ks j → ∀ x, x ∈ k → x < 100) (hcl : ∀ j, j < c → ∀ x, x ∈ cl j → x < 100) (hch : ∀ j, j < c → ∀ w r, ch j w = some r → r < c ∧ dep r = dep j + 1) (h6 : ∀ j, j < c → dep j ≤ 6) (h5 : ∀ j, j < c → ks j ≠ [] → dep j ≤ 5) :
    ∀ h j, j < c → dep j + h = 6 → ∃ N, ∀ (wk sp : Nat → Int32) (n : Nat) (o : Nat → Int32) (l : Int32) (m : Nat), wk (dep j) = nI j → sp (dep j) = nI 0 → ((l = 10 ∨ l = 12) ↔ fi j = true) → n + (zp_fl (zp_full hd im h) (im j)).length + 400 < 2 ^ 31 → (∀ (l' : Int32) (wk' sp' : Nat → Int32), ¬ (l' = 10 ∨ l' = 12) → (∀ i, i < dep j → wk' i = wk i ∧ sp' i = sp i) → J m (nI (dep j) + (-1)) (S (nI (n + (zp_fl (zp_full hd im h) (im j)).length)) l' (zp_o (zp_fl (zp_full hd im h) (im j)) n o) wk' sp')) → J (m + N) (nI (dep j)) (S (nI n) l o wk sp) := by
  intro h
  induction h with
  | zero =>
    intro j hj hd0
    have k0 : ks j = [] := by
      apply Classical.byContradiction
      intro z
      have := h5 j hj z
      omega
    refine ⟨1, ?_⟩
    intro wk sp n o l m a1 a2 a3 a4 a5
    have e : zp_fl (zp_full hd im 0) (im j) = cl j := by
      rw [him, k0]
      exact zp_fl_id _ _ (hcl j hj)
    rw [e] at a4 a5
    refine hS j hj (dep j) 0 [] [] wk sp n o l m (fi j) (h6 j hj) (h5 j hj) a1 a2 k0 rfl (by omega) a3 (fun z => z) (fun _ l' sp' b1 b2 => a5 l' wk sp' b1 (fun i hi => ⟨rfl, b2 i hi⟩)) (fun k r s' K' z => absurd z (by simp [zp_nx]))
  | succ h ih =>
    intro j hj hd0
    have inner : ∀ q (K p : ZK) (s : Nat) (b : Bool), K.length = q → ks j = p ++ K → p.length = s → (b = true → fi j = true) → ∃ N, ∀ (wk sp : Nat → Int32) (n : Nat) (o : Nat → Int32) (l : Int32) (m : Nat), wk (dep j) = nI j → sp (dep j) = nI s → ((l = 10 ∨ l = 12) ↔ b = true) → n + (zp_fl (zp_full hd im (h + 1)) (zp_it (ch j) b K ++ cl j)).length + 400 < 2 ^ 31 → (∀ (l' : Int32) (wk' sp' : Nat → Int32), ¬ (l' = 10 ∨ l' = 12) → (∀ i, i < dep j → wk' i = wk i ∧ sp' i = sp i) → J m (nI (dep j) + (-1)) (S (nI (n + (zp_fl (zp_full hd im (h + 1)) (zp_it (ch j) b K ++ cl j)).length)) l' (zp_o (zp_fl (zp_full hd im (h + 1)) (zp_it (ch j) b K ++ cl j)) n o) wk' sp')) → J (m + N) (nI (dep j)) (S (nI n) l o wk sp) := by
      intro q
      induction q using Nat.strongRecOn with
      | _ q iq =>
        intro K p s b hq hp hs hb
        cases ez : zp_nx (ch j) K s with
        | none =>
          refine ⟨1, ?_⟩
          intro wk sp n o l m a1 a2 a3 a4 a5
          have e : zp_fl (zp_full hd im (h + 1)) (zp_it (ch j) b K ++ cl j) = cl j := by
            rw [zp_nx_n K s b ez]
            exact zp_fl_id _ _ (hcl j hj)
          rw [e] at a4 a5
          refine hS j hj (dep j) s K p wk sp n o l m b (h6 j hj) (h5 j hj) a1 a2 hp hs (by omega) a3 hb (fun _ l' sp' b1 b2 => a5 l' wk sp' b1 (fun i hi => ⟨rfl, b2 i hi⟩)) (fun k r s' K' z => absurd (ez.symm.trans z) (by simp))
        | some v =>
          obtain ⟨k, r, s', K'⟩ := v
          obtain ⟨e1, e2, ⟨p', e3, e4⟩, w, e5, e6⟩ := zp_nx_s K s k r s' K' ez
          obtain ⟨r1, r2⟩ := hch j hj w r e6
          obtain ⟨Nr, hr⟩ := ih r r1 (by omega)
          obtain ⟨N', hn⟩ := iq K'.length (by omega) K' (p ++ p') s' false rfl (by rw [hp, e3, List.append_assoc]) (by rw [List.length_append]; omega) (fun z => absurd z (by simp))
          have hkk : ∀ x, x ∈ k → x < 100 := hk j hj k w (by rw [hp]; exact List.mem_append_right _ e5)
          refine ⟨N' + Nr + 1, ?_⟩
          intro wk sp n o l m a1 a2 a3 a4 a5
          generalize hF : zp_full hd im (h + 1) = F at hn a4 a5
          have eF : F r = hd r ++ zp_fl (zp_full hd im h) (im r) := by rw [← hF]; rfl
          have eM : zp_fl F (zp_it (ch j) b K ++ cl j) = ((if b = true then [] else [15]) ++ k) ++ (hd r ++ (zp_fl (zp_full hd im h) (im r) ++ zp_fl F (zp_it (ch j) false K' ++ cl j))) := by
            have s1 : zp_fl F (if b = true then [] else [15]) = (if b = true then [] else [15]) := by
              apply zp_fl_id
              intro x hx
              by_cases c : b = true
              · rw [if_pos c] at hx; exact absurd hx (by simp)
              · rw [if_neg c] at hx
                have : x = 15 := by simpa using hx
                omega
            have s2 : zp_fl F ((100 + r) :: (zp_it (ch j) false K' ++ cl j)) = F r ++ zp_fl F (zp_it (ch j) false K' ++ cl j) := by
              simp only [zp_fl]
              rw [if_neg (by omega), show 100 + r - 100 = r from by omega]
            rw [e1 b, List.append_assoc, List.append_assoc, List.cons_append, zp_fl_app, zp_fl_app, s1, s2, zp_fl_id F k hkk, eF]
            simp only [List.append_assoc]
          rw [eM] at a4 a5
          generalize hA : (if b = true then [] else [15]) ++ k = A at a4 a5
          generalize hB : zp_fl (zp_full hd im h) (im r) = B at hr a4 a5
          generalize hC : zp_fl F (zp_it (ch j) false K' ++ cl j) = C at hn a4 a5
          simp only [List.length_append] at a4
          have e9 : m + (N' + Nr + 1) = m + N' + Nr + 1 := by omega
          rw [e9]
          refine hS j hj (dep j) s K p wk sp n o l (m + N' + Nr) b (h6 j hj) (h5 j hj) a1 a2 hp hs (by omega) a3 hb (fun z => absurd (ez.symm.trans z) (by simp)) ?_
          intro k1 r1' s1' K1 hz
          obtain ⟨rfl, rfl, rfl, rfl⟩ : k = k1 ∧ r = r1' ∧ s' = s1' ∧ K' = K1 := by
            have := ez.symm.trans hz
            simpa using this
          intro l' wk' sp' c1 c2 c3 c4 c5
          rw [hA]
          refine hE r r1 (n + A.length) _ l' wk' sp' _ (by omega) ?_
          intro l2 hl2
          rw [← r2]
          refine hr wk' sp' (n + A.length + (hd r).length) _ l2 (m + N') (by rw [r2]; exact c1) (by rw [r2]; exact c2) hl2 (by omega) ?_
          intro l3 wk3 sp3 d1 d2
          rw [r2, show nI (dep j + 1) + (-1) = nI (dep j) from pk_m1 (dep j)]
          rw [r2] at d2
          refine hn wk3 sp3 (n + A.length + (hd r).length + B.length) _ l3 m ((d2 (dep j) (by omega)).1.trans ((c4 _ (by omega)).trans a1)) ((d2 (dep j) (by omega)).2.trans c3) ⟨fun z => absurd z d1, fun z => absurd z (by simp)⟩ (by omega) ?_
          intro l4 wk4 sp4 f1 f2
          have := a5 l4 wk4 sp4 f1 (fun i hi => ⟨(f2 i hi).1.trans ((d2 i (by omega)).1.trans (c4 i (by omega))), (f2 i hi).2.trans ((d2 i (by omega)).2.trans (c5 i hi))⟩)
          rw [zp_app, zp_app, zp_app] at this
          simp only [List.length_append] at this
          rw [show n + A.length + (hd r).length + B.length + C.length = n + (A.length + ((hd r).length + (B.length + C.length))) from by omega]
          exact this
    obtain ⟨N, hN⟩ := inner _ (ks j) [] 0 (fi j) rfl rfl rfl (fun z => z)
    refine ⟨N, ?_⟩
    rw [him]
    exact hN
end ZW
end
section
section ZV
abbrev ZY := Int32 → Int32 → Int32 → (Nat → Int32) → (Nat → Int32) → SY
/-- what lies on the stack from g on, the top first -/
def zp_sk (td : Nat → Int32) (g : Nat) : List Nat → Prop
  | [] => True
  | x :: L => td (g + L.length) = nI x ∧ zp_sk td g L
theorem zp_sk_mono {td td' : Nat → Int32} {g : Nat} : ∀ L : List Nat, (∀ i, i < g + L.length → td' i = td i) → zp_sk td g L → zp_sk td' g L := by
  intro L
  induction L with
  | nil => intro _ h; exact trivial
  | cons x L ih =>
    intro h1 h2
    exact ⟨(h1 _ (by simp only [List.length_cons]; omega)).trans h2.1, ih (fun i hi => h1 i (by simp only [List.length_cons]; omega)) h2.2⟩
def zp_YS (S : ZY) (j : Nat) (hd im : List Nat) : Prop :=
  ∀ (n g : Nat) (sc : Int32) (o td : Nat → Int32) (P : SY → Prop), n + 400 < 2 ^ 31 → g ≤ 500 → (∀ (sc' : Int32) (td' : Nat → Int32), (∀ i, i < g → td' i = td i) → zp_sk td' g im → P (S (nI (n + hd.length)) (nI (g + im.length)) sc' (zp_o hd n o) td')) → wpY_show P (S (nI n) (nI g) sc o td) (nI j)
def zp_YP (S : ZY) (J : Nat → SY → Prop) : Prop :=
  ∀ (m n g : Nat) (sc : Int32) (o td : Nat → Int32), n + 400 < 2 ^ 31 → g ≤ 500 →
    (∀ x, x < 100 → td g = nI x → J m (S (nI (n + 1)) (nI g) sc (zp_o [x] n o) td) → J (m + 1) (S (nI n) (nI (g + 1)) sc o td))
    ∧ (∀ r, r ≤ 40 → td g = nI (100 + r) → wpY_show (J m) (S (nI n) (nI g) sc o td) (nI r) → J (m + 1) (S (nI n) (nI (g + 1)) sc o td))
theorem zp_yw {S : ZY} {J : Nat → SY → Prop} {hd im : Nat → List Nat} {c : Nat} {dep : Nat → Nat} (hc : c ≤ 40)
    (hP : zp_YP S J) (hS : ∀ j, j < c → zp_YS S j (hd j) (im j)) (hl : ∀ j, j < c → (im j).length ≤ 41) (hr : ∀ j, j < c → ∀ x, x ∈ im j → 100 ≤ x → x - 100 < c ∧ dep (x - 100) = dep j + 1) (h6 : ∀ j, j < c → dep j ≤ 6) :
    ∀ h j, j < c → dep j + h = 7 → ∃ N, ∀ (n g : Nat) (sc : Int32) (o td : Nat → Int32) (m : Nat), n + (zp_full hd im h j).length + 400 < 2 ^ 31 → g ≤ 41 * dep j → (∀ (sc' : Int32) (td' : Nat → Int32), (∀ i, i < g → td' i = td i) → J m (S (nI (n + (zp_full hd im h j).length)) (nI g) sc' (zp_o (zp_full hd im h j) n o) td')) → wpY_show (J (m + N)) (S (nI n) (nI g) sc o td) (nI j) := by
  intro h
  induction h with
  | zero => intro j hj h0; have := h6 j hj; omega
  | succ h ih =>
    intro j hj h0
    have inner : ∀ L : List Nat, (∀ x, x ∈ L → 100 ≤ x → x - 100 < c ∧ dep (x - 100) = dep j + 1) → ∃ N, ∀ (n g : Nat) (sc : Int32) (o td : Nat → Int32) (m : Nat), n + (zp_fl (zp_full hd im h) L).length + 400 < 2 ^ 31 → g + L.length ≤ 41 * (dep j + 1) → zp_sk td g L → (∀ (sc' : Int32) (td' : Nat → Int32), (∀ i, i < g → td' i = td i) → J m (S (nI (n + (zp_fl (zp_full hd im h) L).length)) (nI g) sc' (zp_o (zp_fl (zp_full hd im h) L) n o) td')) → J (m + N) (S (nI n) (nI (g + L.length)) sc o td) := by
      intro L
      induction L with
      | nil =>
        intro _
        exact ⟨0, fun n g sc o td m a1 a2 a3 a4 => a4 sc td (fun _ _ => rfl)⟩
      | cons x L il =>
        intro hx
        obtain ⟨N, hN⟩ := il (fun y hy => hx y (List.mem_cons_of_mem _ hy))
        have d6 := h6 j hj
        by_cases x1 : x < 100
        · refine ⟨N + 1, ?_⟩
          intro n g sc o td m a1 a2 a3 a4
          simp only [zp_fl] at a1 a4
          rw [if_pos x1] at a1 a4
          simp only [List.cons_append, List.nil_append, List.length_cons] at a1 a2 a4
          refine (hP (m + N) n (g + L.length) sc o td (by omega) (by omega)).1 x x1 a3.1 (hN (n + 1) g sc _ td m (by omega) (by omega) a3.2 ?_)
          intro sc' td' b1
          have := a4 sc' td' b1
          rw [show n + 1 + (zp_fl (zp_full hd im h) L).length = n + ((zp_fl (zp_full hd im h) L).length + 1) from by omega]
          exact this
        · obtain ⟨r1, r2⟩ := hx x (List.mem_cons_self ..) (by omega)
          obtain ⟨Nr, hNr⟩ := ih (x - 100) r1 (by omega)
          refine ⟨N + Nr + 1, ?_⟩
          intro n g sc o td m a1 a2 a3 a4
          simp only [zp_fl] at a1 a4
          rw [if_neg x1] at a1 a4
          simp only [List.length_append, List.length_cons] at a1 a2 a4
          refine (hP (m + (N + Nr)) n (g + L.length) sc o td (by omega) (by omega)).2 (x - 100) (by omega) (by rw [a3.1, show 100 + (x - 100) = x from by omega]) ?_
          rw [show m + (N + Nr) = m + N + Nr from by omega]
          refine hNr n (g + L.length) sc o td (m + N) (by omega) (by rw [r2]; omega) ?_
          intro sc' td' b1
          refine hN (n + (zp_full hd im h (x - 100)).length) g sc' _ td' m (by omega) (by omega) (zp_sk_mono L b1 a3.2) ?_
          intro sc2 td2 b2
          have := a4 sc2 td2 (fun i hi => (b2 i hi).trans (b1 i (by omega)))
          rw [zp_app] at this
          rw [Nat.add_assoc]
          exact this
    obtain ⟨N, hN⟩ := inner (im j) (hr j hj)
    refine ⟨N, ?_⟩
    intro n g sc o td m a1 a2 a3
    simp only [zp_full, List.length_append] at a1 a3
    have d6 := h6 j hj
    have l41 := hl j hj
    refine hS j hj n g sc o td _ (by omega) (by omega) ?_
    intro sc' td' b1 b2
    refine hN (n + (hd j).length) g sc' _ td' m (by omega) (by omega) b2 ?_
    intro sc2 td2 b3
    have := a3 sc2 td2 (fun i hi => (b3 i hi).trans (b1 i hi))
    rw [zp_app] at this
    rw [Nat.add_assoc]
    exact this
end ZV
end
section
/-! printing: X's next, one turn of X's loop -/
section ZXN
/-- the keys of a list from the s-th on, or of a record -/
def zp_KR (x4 : Int32) (fN : Nat → Int32) (slot : Nat) : Nat → ZK → Prop
  | _, [] => True
  | s, (k, w) :: K => ((x4 = 1 ∧ k = [] ∧ w = nI s) ∨ (x4 = 0 ∧ ∃ a, a ≤ 5 ∧ w = nI a ∧ fN (4 * slot + s) = nI a ∧ k = [16, 21 + a, 16, 14])) ∧ zp_KR x4 fN slot (s + 1) K
variable {ln ap st er pl wt wn tg rf dp pt zs te pw sg bg bl dw es bd : Int32} {dg : Int64} {T so tA tB tC fN fO fQ fS tO oS oT oN oC oE oH cm kd vl pa na ty fr ta wk : Nat → Int32} {c j d slot : Nat} {x3 x4 : Int32}
theorem xp_n153 {post : Int32 → SX → Prop} {n r s : Nat} {o sp : Nat → Int32} {ct lt w : Int32} {k : List Nat} (hk : (x4 = 1 ∧ k = [] ∧ w = nI s) ∨ (x4 = 0 ∧ ∃ a, a ≤ 5 ∧ w = nI a ∧ fN (4 * slot + s) = nI a ∧ k = [16, 21 + a, 16, 14])) (hn : n + 4 < 2 ^ 31) (hp : ∀ l' : Int32, post (nI r) (ln, ap, st, er, pl, wt, wn, tg, rf, dp, pt, zs, te, pw, sg, bg, dg, bl, dw, es, ct, bd, nI (n + k.length), l', T, so, tA, tB, tC, fN, fO, fQ, fS, tO, oS, oT, oN, oC, oE, oH, cm, kd, vl, pa, na, ty, fr, ta, zp_o k n o, wk, sp)) : wX_next_153 post x4 w (nI r) ln ap st er pl wt wn tg rf dp pt zs te pw sg bg dg bl dw es ct bd (nI n) lt T so tA tB tC fN fO fQ fS tO oS oT oN oC oE oH cm kd vl pa na ty fr ta o wk sp := by
  rcases hk with ⟨rfl, rfl, rfl⟩ | ⟨rfl, a, ha, rfl, _, rfl⟩
  · exact br_f (by decide) (hp lt)
  · exact br_t rfl (xp_key hn ha (hp _))
theorem xp_n64 {post : Int32 → SX → Prop} {n : Nat} {o : Nat → Int32} {lt : Int32} {b : Bool} (hc : c ≤ 40) (hj : j < c) (hd : d ≤ 6) (hn : n + 400 < 2 ^ 31) (hs : x4 = 0 → slot < 12 ∧ x3 = nI slot) (hb : (lt = 10 ∨ lt = 12) ↔ b = true) :
    ∀ (K : ZK) (s : Nat) (sp : Nat → Int32) (fu : Nat), zp_KR x4 fN slot s K → s + K.length ≤ 20 → (x4 = 0 → s + K.length ≤ 4) → sp d = nI s → K.length < fu →
      (zp_nx (zp_c pa na c j) K s = none → ∀ sp' : Nat → Int32, (∀ i, i < d → sp' i = sp i) → post (-1) (ln, ap, st, er, pl, wt, wn, tg, rf, dp, pt, zs, te, pw, sg, bg, dg, bl, dw, es, nI c, bd, nI n, lt, T, so, tA, tB, tC, fN, fO, fQ, fS, tO, oS, oT, oN, oC, oE, oH, cm, kd, vl, pa, na, ty, fr, ta, o, wk, sp')) →
      (∀ k r s' K', zp_nx (zp_c pa na c j) K s = some (k, r, s', K') → ∀ (l' : Int32) (sp' : Nat → Int32), sp' d = nI s' → (∀ i, i < d → sp' i = sp i) → post (nI r) (ln, ap, st, er, pl, wt, wn, tg, rf, dp, pt, zs, te, pw, sg, bg, dg, bl, dw, es, nI c, bd, nI (n + ((if b = true then [] else [15]) ++ k).length), l', T, so, tA, tB, tC, fN, fO, fQ, fS, tO, oS, oT, oN, oC, oE, oH, cm, kd, vl, pa, na, ty, fr, ta, zp_o ((if b = true then [] else [15]) ++ k) n o, wk, sp')) →
      wX_next_64 post (nI j) (nI d) x3 x4 (nI (s + K.length)) ln ap st er pl wt wn tg rf dp pt zs te pw sg bg dg bl dw es (nI c) bd (nI n) lt fu T so tA tB tC fN fO fQ fS tO oS oT oN oC oE oH cm kd vl pa na ty fr ta o wk sp := by
  intro K
  have w7 : vp_in (nI d) 7 := vp_in_nI (by omega) (by omega)
  have ed : (nI d).toNatClampNeg = d := nI_clamp (by omega)
  induction K with
  | nil =>
    intro s sp fu h1 h2 h3 h4 h5 p1 p2
    obtain ⟨fu, rfl⟩ : ∃ m, fu = m + 1 := ⟨fu - 1, by omega⟩
    refine ⟨w7, br_t ?_ (p1 rfl sp (fun _ _ => rfl))⟩
    rw [ed, h4]
    exact nI_le (by simp only [List.length_nil]; omega) (by simp only [List.length_nil] at h2; omega)
  | cons kw K ih =>
    intro s sp fu h1 h2 h3 h4 h5 p1 p2
    obtain ⟨fu, rfl⟩ : ∃ m, fu = m + 1 := ⟨fu - 1, by omega⟩
    obtain ⟨k, w⟩ := kw
    obtain ⟨hk, h1'⟩ := h1
    simp only [List.length_cons] at h2 h3 h5
    simp only [zp_nx] at p1 p2
    have k110 : ∀ z : Int32, z = w → wX_next_110 post (wX_next_64 post (nI j) (nI d) x3 x4 (nI (s + (K.length + 1))) ln ap st er pl wt wn tg rf dp pt zs te pw sg bg dg bl dw es (nI c) bd (nI n) lt fu) (nI j) (nI d) x3 x4 (nI (s + (K.length + 1))) z ln ap st er pl wt wn tg rf dp pt zs te pw sg bg dg bl dw es (nI c) bd (nI n) lt T so tA tB tC fN fO fQ fS tO oS oT oN oC oE oH cm kd vl pa na ty fr ta o wk (upd sp d (nI (s + 1))) := by
      rintro z rfl
      refine zp_xchild hc hj ?_
      cases e : zp_c pa na c j z with
      | none =>
        rw [e] at p1 p2
        refine br_f (by decide) ?_
        have := ih (s + 1) (upd sp d (nI (s + 1))) fu h1' (by omega) (fun z => by have := h3 z; omega) pk_us (by omega) (fun z sp' hsp => p1 z sp' (fun i hi => (hsp i hi).trans (pk_un (by omega)))) (fun k' r' s' K' z l' sp' q1 q2 => p2 k' r' s' K' z l' sp' q1 (fun i hi => (q2 i hi).trans (pk_un (by omega))))
        rw [show s + 1 + K.length = s + (K.length + 1) from by omega] at this
        exact this
      | some r =>
        rw [e] at p2
        have hr := zp_c_s e
        have p2' := p2 k r (s + 1) K rfl
        have kl : k.length ≤ 4 := by
          rcases hk with ⟨_, rfl, _⟩ | ⟨_, a, _, _, _, rfl⟩
          · exact Nat.zero_le _
          · exact Nat.le_refl _
        refine br_t (nI_le (Nat.zero_le _) (by omega)) ?_
        by_cases cb : b = true
        · have hl := hb.mpr cb
          rw [if_pos cb, List.nil_append] at p2'
          have fin := xp_n153 (post := post) (lt := lt) (ct := nI c) (ln := ln) (ap := ap) (st := st) (er := er) (pl := pl) (wt := wt) (wn := wn) (tg := tg) (rf := rf) (dp := dp) (pt := pt) (zs := zs) (te := te) (pw := pw) (sg := sg) (bg := bg) (dg := dg) (bl := bl) (dw := dw) (es := es) (bd := bd) (T := T) (so := so) (tA := tA) (tB := tB) (tC := tC) (fN := fN) (fO := fO) (fQ := fQ) (fS := fS) (tO := tO) (oS := oS) (oT := oT) (oN := oN) (oC := oC) (oE := oE) (oH := oH) (cm := cm) (kd := kd) (vl := vl) (pa := pa) (na := na) (ty := ty) (fr := fr) (ta := ta) (wk := wk) (sp := upd sp d (nI (s + 1))) (r := r) (n := n) (o := o) hk (by omega) (fun l' => p2' l' _ pk_us (fun i hi => pk_un (by omega)))
          by_cases l10 : lt = 10
          · exact br_t l10 fin
          · exact br_f l10 (br_t (hl.resolve_left l10) fin)
        · have hl : ¬ (lt = 10 ∨ lt = 12) := fun z => cb (hb.mp z)
          rw [if_neg cb] at p2'
          simp only [List.cons_append, List.nil_append, List.length_cons] at p2'
          refine br_f (fun z => hl (Or.inl z)) (br_f (fun z => hl (Or.inr z)) (xp_w (c := 15) (by omega) (by decide) ?_))
          refine xp_n153 (n := n + 1) hk (by omega) (fun l' => ?_)
          rw [show n + 1 + k.length = n + (k.length + 1) from by omega]
          exact p2' l' _ pk_us (fun i hi => pk_un (by omega))
    refine ⟨w7, br_f ?_ ⟨w7, w7, nm_r (e' := upd sp d (nI (s + 1))) ?_ (nm_r (e' := nI s) (by rw [ed, h4]) ?_)⟩⟩
    · rw [ed, h4]
      exact nI_ge (by simp only [List.length_cons]; omega) (by simp only [List.length_cons]; omega)
    · rw [ed, h4, nI_1, za_by2 (by omega)]
    · rcases hk with ⟨rfl, hk2, hk3⟩ | ⟨rfl, a, ha, hw, hf, hk2⟩
      · exact br_f (by decide) (k110 _ hk3.symm)
      · obtain ⟨s1, s2⟩ := hs rfl
        have hh := h3 rfl
        have e4 : (4 : Int32) * x3 + nI s = nI (4 * slot + s) := by rw [s2, ← nI_add, ← pk_mul]; rfl
        refine br_t rfl ⟨by rw [e4]; exact vp_in_nI (by omega) (by omega), k110 _ ?_⟩
        rw [e4, nI_clamp (by omega), hf, hw]
/-- X's next at a list or a record -/
theorem xp_next {post : Int32 → SX → Prop} {n s v : Nat} {o sp : Nat → Int32} {lt : Int32} {b : Bool} (K : ZK) (hc : c ≤ 40) (hj : j < c) (hd : d ≤ 6) (hn : n + 400 < 2 ^ 31) (hb : (lt = 10 ∨ lt = 12) ↔ b = true)
    (hkd : (kd j = 3 ∧ x4 = 1 ∧ vl j = nI v) ∨ (kd j = 4 ∧ x4 = 0 ∧ slot < 12 ∧ ((ta j < 0 ∧ ty j = nI slot) ∨ (¬ ta j < 0 ∧ vl j = nI slot)) ∧ fS slot = nI v)) (hv : v = s + K.length) (hK : zp_KR x4 fN slot s K) (h20 : s + K.length ≤ 20) (h4 : x4 = 0 → s + K.length ≤ 4) (hsp : sp d = nI s)
    (p1 : zp_nx (zp_c pa na c j) K s = none → ∀ sp' : Nat → Int32, (∀ i, i < d → sp' i = sp i) → post (-1) (ln, ap, st, er, pl, wt, wn, tg, rf, dp, pt, zs, te, pw, sg, bg, dg, bl, dw, es, nI c, bd, nI n, lt, T, so, tA, tB, tC, fN, fO, fQ, fS, tO, oS, oT, oN, oC, oE, oH, cm, kd, vl, pa, na, ty, fr, ta, o, wk, sp'))
    (p2 : ∀ k r s' K', zp_nx (zp_c pa na c j) K s = some (k, r, s', K') → ∀ (l' : Int32) (sp' : Nat → Int32), sp' d = nI s' → (∀ i, i < d → sp' i = sp i) → post (nI r) (ln, ap, st, er, pl, wt, wn, tg, rf, dp, pt, zs, te, pw, sg, bg, dg, bl, dw, es, nI c, bd, nI (n + ((if b = true then [] else [15]) ++ k).length), l', T, so, tA, tB, tC, fN, fO, fQ, fS, tO, oS, oT, oN, oC, oE, oH, cm, kd, vl, pa, na, ty, fr, ta, zp_o ((if b = true then [] else [15]) ++ k) n o, wk, sp')) :
    wpX_next post (ln, ap, st, er, pl, wt, wn, tg, rf, dp, pt, zs, te, pw, sg, bg, dg, bl, dw, es, nI c, bd, nI n, lt, T, so, tA, tB, tC, fN, fO, fQ, fS, tO, oS, oT, oN, oC, oE, oH, cm, kd, vl, pa, na, ty, fr, ta, o, wk, sp) (nI j) (nI d) := by
  subst hv
  have wj : vp_in (nI j) 40 := vp_in_nI (by omega) (by omega)
  have ej : (nI j).toNatClampNeg = j := nI_clamp (by omega)
  refine ⟨wj, ?_⟩
  rw [ej]
  rcases hkd with ⟨k1, rfl, k3⟩ | ⟨k1, rfl, k3, k4, k5⟩
  · have go : ∀ x3 : Int32, wX_next_24 post (nI j) (nI d) x3 ln ap st er pl wt wn tg rf dp pt zs te pw sg bg dg bl dw es (nI c) bd (nI n) lt T so tA tB tC fN fO fQ fS tO oS oT oN oC oE oH cm kd vl pa na ty fr ta o wk sp := by
      intro x3
      refine ⟨wj, br_t (by rw [ej]; exact k1) (br_f (by decide) ⟨wj, nm_r (e' := nI (s + K.length)) (by rw [ej]; exact k3) ⟨K.length + 1, ?_⟩⟩)⟩
      exact xp_n64 hc hj hd hn (fun z => absurd z (by decide)) hb K s sp (K.length + 1) hK h20 h4 hsp (by omega) p1 p2
    exact ⟨fun _ => ⟨wj, go _⟩, fun _ => ⟨wj, go _⟩⟩
  · have go : ∀ x3 : Int32, x3 = nI slot → wX_next_24 post (nI j) (nI d) x3 ln ap st er pl wt wn tg rf dp pt zs te pw sg bg dg bl dw es (nI c) bd (nI n) lt T so tA tB tC fN fO fQ fS tO oS oT oN oC oE oH cm kd vl pa na ty fr ta o wk sp := by
      rintro x3 rfl
      refine ⟨wj, br_f (by rw [ej, k1]; decide) (br_t rfl ⟨vp_in_nI (by omega) (by omega), nm_r (e' := nI (s + K.length)) (by rw [nI_clamp (by omega)]; exact k5) ⟨K.length + 1, ?_⟩⟩)⟩
      exact xp_n64 hc hj hd hn (fun _ => ⟨k3, rfl⟩) hb K s sp (K.length + 1) hK h20 h4 hsp (by omega) p1 p2
    rcases k4 with ⟨t1, t2⟩ | ⟨t1, t2⟩
    · exact br_t t1 ⟨wj, go _ t2⟩
    · exact br_f t1 ⟨wj, go _ t2⟩
end ZXN
end
section
section ZXT
variable {ln ap st er pl wt wn tg rf dp pt zs te pw sg bg bl dw es bd : Int32} {dg : Int64} {T so tA tB tC fN fO fQ fS tO oS oT oN oC oE oH cm kd vl pa na ty fr ta : Nat → Int32} {c j slot : Nat} {x4 : Int32} {post : Int32 → SX → Prop}
/-- X's loop at a list or a record -/
theorem zp_xsB {v : Nat} {ks : ZK} {cl : List Nat} {fi : Bool} (hc : c ≤ 40) (hj : j < c)
    (hkd : (kd j = 3 ∧ x4 = 1 ∧ vl j = nI v ∧ cl = [13]) ∨ (kd j = 4 ∧ x4 = 0 ∧ slot < 12 ∧ ((ta j < 0 ∧ ty j = nI slot) ∨ (¬ ta j < 0 ∧ vl j = nI slot)) ∧ fS slot = nI v ∧ cl = [11])) (hv : v = ks.length) (hK : ∀ p K, ks = p ++ K → zp_KR x4 fN slot p.length K) (h20 : ks.length ≤ 20) (h4 : x4 = 0 → ks.length ≤ 4) (h5 : ∀ d : Nat, (ks ≠ [] → d ≤ 5) → d ≤ 6 → ∀ k r s' K' K s, zp_nx (zp_c pa na c j) K s = some (k, r, s', K') → (∃ p, ks = p ++ K) → d ≤ 5) :
    zp_XS (fun pr lt ou wk sp => (ln, ap, st, er, pl, wt, wn, tg, rf, dp, pt, zs, te, pw, sg, bg, dg, bl, dw, es, nI c, bd, pr, lt, T, so, tA, tB, tC, fN, fO, fQ, fS, tO, oS, oT, oN, oC, oE, oH, cm, kd, vl, pa, na, ty, fr, ta, ou, wk, sp)) (fun m x1 u => match u with | (ln, ap, st, er, pl, wt, wn, tg, rf, dp, pt, zs, te, pw, sg, bg, dg, bl, dw, es, ct, bd, pr, lt, T, so, tA, tB, tC, fN, fO, fQ, fS, tO, oS, oT, oN, oC, oE, oH, cm, kd, vl, pa, na, ty, fr, ta, ou, wk, sp) => wX_print_35 post m x1 ln ap st er pl wt wn tg rf dp pt zs te pw sg bg dg bl dw es ct bd pr lt T so tA tB tC fN fO fQ fS tO oS oT oN oC oE oH cm kd vl pa na ty fr ta ou wk sp) (zp_c pa na c j) j fi ks cl := by
  intro d s K p wk sp n o l m b hd6 hd5 hwk hsp hp hs hn hb hbf p1 p2
  have w7 : vp_in (nI d) 7 := vp_in_nI (by omega) (by omega)
  have ed : (nI d).toNatClampNeg = d := nI_clamp (by omega)
  have wj : vp_in (nI j) 40 := vp_in_nI (by omega) (by omega)
  have ej : (nI j).toNatClampNeg = j := nI_clamp (by omega)
  have hl : s + K.length = ks.length := by rw [hp, List.length_append]; omega
  have hKR := hK p K hp
  rw [hs] at hKR
  have q66 : wX_print_66 post (wX_print_35 post m) (nI d) (nI j) ln ap st er pl wt wn tg rf dp pt zs te pw sg bg dg bl dw es (nI c) bd (nI n) l T so tA tB tC fN fO fQ fS tO oS oT oN oC oE oH cm kd vl pa na ty fr ta o wk sp := by
    refine xp_next (x4 := x4) (slot := slot) (v := v) (s := s) (b := b) K hc hj hd6 hn hb ?_ (by omega) hKR (by omega) (fun z => by have := h4 z; omega) hsp ?_ ?_
    · rcases hkd with ⟨a1, a2, a3, _⟩ | ⟨a1, a2, a3, a4, a5, _⟩
      · exact Or.inl ⟨a1, a2, a3⟩
      · exact Or.inr ⟨a1, a2, a3, a4, a5⟩
    · intro hz sp' hsp'
      refine br_t (by decide) ⟨wj, ?_⟩
      rw [ej]
      rcases hkd with ⟨a1, a2, a3, rfl⟩ | ⟨a1, a2, a3, a4, a5, rfl⟩
      · refine br_t a1 (xp_w (c := 13) (by omega) (by decide) ⟨wj, br_f (by rw [ej, a1]; decide) (nm_r rfl ?_)⟩)
        exact p1 hz (nI 13) sp' (by decide) hsp'
      · refine br_f (by rw [a1]; decide) ⟨wj, br_t (by rw [ej]; exact a1) (xp_w (c := 11) (by omega) (by decide) (nm_r rfl ?_))⟩
        exact p1 hz (nI 11) sp' (by decide) hsp'
    · intro k r s' K' hz l' sp' q1 q2
      have d5 := h5 d hd5 hd6 k r s' K' K s hz ⟨p, hp⟩
      obtain ⟨_, _, _, w, _, e6⟩ := zp_nx_s K s k r s' K' hz
      have hr := zp_c_s e6
      have w71 : vp_in (nI (d + 1)) 7 := vp_in_nI (by omega) (by omega)
      have ed1 : (nI (d + 1)).toNatClampNeg = d + 1 := nI_clamp (by omega)
      refine br_f (nI_nlt (b := 0) (Nat.zero_le _) (by omega)) (nm_r (nI_1 d) ⟨w71, nm_r (e' := upd wk (d + 1) (nI r)) (by rw [ed1, za_by2 (by omega)]) ⟨w71, nm_r (e' := upd sp' (d + 1) (nI 0)) (by rw [ed1]; rfl) ?_⟩⟩)
      exact p2 k r s' K' hz l' (upd wk (d + 1) (nI r)) (upd sp' (d + 1) (nI 0)) pk_us pk_us ((pk_un (by omega)).trans q1) (fun i hi => pk_un (by omega)) (fun i hi => (pk_un (by omega)).trans (q2 i hi))
  refine br_f (nI_nlt (b := 0) (Nat.zero_le _) (by omega)) ⟨w7, nm_r (e' := nI j) (by rw [ed]; exact hwk) ⟨wj, ?_⟩⟩
  rw [ej]
  rcases hkd with ⟨a1, _⟩ | ⟨a1, _⟩
  · exact br_t a1 q66
  · exact br_f (by rw [a1]; decide) ⟨wj, br_t a1 q66⟩
theorem zp_xsL (hc : c ≤ 40) (hj : j < c) (h3 : kd j ≠ 3) (h4 : kd j ≠ 4) :
    zp_XS (fun pr lt ou wk sp => (ln, ap, st, er, pl, wt, wn, tg, rf, dp, pt, zs, te, pw, sg, bg, dg, bl, dw, es, nI c, bd, pr, lt, T, so, tA, tB, tC, fN, fO, fQ, fS, tO, oS, oT, oN, oC, oE, oH, cm, kd, vl, pa, na, ty, fr, ta, ou, wk, sp)) (fun m x1 u => match u with | (ln, ap, st, er, pl, wt, wn, tg, rf, dp, pt, zs, te, pw, sg, bg, dg, bl, dw, es, ct, bd, pr, lt, T, so, tA, tB, tC, fN, fO, fQ, fS, tO, oS, oT, oN, oC, oE, oH, cm, kd, vl, pa, na, ty, fr, ta, ou, wk, sp) => wX_print_35 post m x1 ln ap st er pl wt wn tg rf dp pt zs te pw sg bg dg bl dw es ct bd pr lt T so tA tB tC fN fO fQ fS tO oS oT oN oC oE oH cm kd vl pa na ty fr ta ou wk sp) (zp_c pa na c j) j false [] [] := by
  intro d s K p wk sp n o l m b hd6 hd5 hwk hsp hp hs hn hb hbf p1 p2
  have w7 : vp_in (nI d) 7 := vp_in_nI (by omega) (by omega)
  have ed : (nI d).toNatClampNeg = d := nI_clamp (by omega)
  have wj : vp_in (nI j) 40 := vp_in_nI (by omega) (by omega)
  have ej : (nI j).toNatClampNeg = j := nI_clamp (by omega)
  obtain ⟨rfl, rfl⟩ : p = [] ∧ K = [] := by
    have := List.append_eq_nil_iff.mp hp.symm
    exact this
  refine br_f (nI_nlt (b := 0) (Nat.zero_le _) (by omega)) ⟨w7, nm_r (e' := nI j) (by rw [ed]; exact hwk) ⟨wj, ?_⟩⟩
  rw [ej]
  refine br_f h3 ⟨wj, br_f h4 (br_t (by decide) ⟨wj, ?_⟩)⟩
  rw [ej]
  refine br_f h3 ⟨wj, ?_⟩
  rw [ej]
  refine br_f h4 (nm_r rfl ?_)
  exact p1 rfl l sp (fun z => absurd (hbf (hb.mp z)) (by simp)) (fun _ _ => rfl)
/-! X's enter -/
theorem zp_xeL {s : Nat} (hj : j < 40) (hkd : kd j = 3) : zp_XE (fun pr lt ou wk sp => (ln, ap, st, er, pl, wt, wn, tg, rf, dp, pt, zs, te, pw, sg, bg, dg, bl, dw, es, nI c, bd, pr, lt, T, so, tA, tB, tC, fN, fO, fQ, fS, tO, oS, oT, oN, oC, oE, oH, cm, kd, vl, pa, na, ty, fr, ta, ou, wk, sp)) j [12] true := by
  intro n o l wk sp P hn hp
  have wj : vp_in (nI j) 40 := vp_in_nI (by omega) (by omega)
  have ej : (nI j).toNatClampNeg = j := nI_clamp (by omega)
  refine ⟨wj, nm_r rfl ⟨wj, nm_r (e' := 3) (by rw [ej]; exact hkd) ?_⟩⟩
  exact br_f (by decide) (br_f (by decide) (br_f (by decide) (br_f (by decide) (br_f (by decide) (br_t rfl (xp_w (c := 12) (by omega) (by decide) (hp (nI 12) (by decide))))))))
theorem zp_xeR (hj : j < 40) (hkd : kd j = 4) (ht : ta j < 0) : zp_XE (fun pr lt ou wk sp => (ln, ap, st, er, pl, wt, wn, tg, rf, dp, pt, zs, te, pw, sg, bg, dg, bl, dw, es, nI c, bd, pr, lt, T, so, tA, tB, tC, fN, fO, fQ, fS, tO, oS, oT, oN, oC, oE, oH, cm, kd, vl, pa, na, ty, fr, ta, ou, wk, sp)) j [10] true := by
  intro n o l wk sp P hn hp
  have wj : vp_in (nI j) 40 := vp_in_nI (by omega) (by omega)
  have ej : (nI j).toNatClampNeg = j := nI_clamp (by omega)
  refine ⟨wj, nm_r rfl ⟨wj, nm_r (e' := 4) (by rw [ej]; exact hkd) ?_⟩⟩
  refine br_f (by decide) (br_f (by decide) (br_f (by decide) (br_f (by decide) (br_f (by decide) (br_f (by decide) (br_t rfl (xp_w (c := 10) (by omega) (by decide) ⟨wj, ?_⟩)))))))
  rw [ej]
  exact br_t ht (hp (nI 10) (by decide))
theorem zp_xeC {s a g : Nat} (hj : j < 40) (hkd : kd j = 4) (hs : s < 12) (hty : ty j = nI s) (ha : a ≤ 5) (htA : tA s = nI a) (hg : g ≤ 5) (hta : ta j = nI g) : zp_XE (fun pr lt ou wk sp => (ln, ap, st, er, pl, wt, wn, tg, rf, dp, pt, zs, te, pw, sg, bg, dg, bl, dw, es, nI c, bd, pr, lt, T, so, tA, tB, tC, fN, fO, fQ, fS, tO, oS, oT, oN, oC, oE, oH, cm, kd, vl, pa, na, ty, fr, ta, ou, wk, sp)) j [10, 16, 21 + a, 16, 14, g] false := by
  intro n o l wk sp P hn hp
  have wj : vp_in (nI j) 40 := vp_in_nI (by omega) (by omega)
  have ej : (nI j).toNatClampNeg = j := nI_clamp (by omega)
  refine ⟨wj, nm_r rfl ⟨wj, nm_r (e' := 4) (by rw [ej]; exact hkd) ?_⟩⟩
  refine br_f (by decide) (br_f (by decide) (br_f (by decide) (br_f (by decide) (br_f (by decide) (br_f (by decide) (br_t rfl (xp_w (c := 10) (by omega) (by decide) ⟨wj, ?_⟩)))))))
  rw [ej]
  have ws : vp_in (ty j) 12 := by rw [hty]; exact vp_in_nI (by omega) (by omega)
  refine br_f (by rw [hta]; exact nI_nlt (b := 0) (Nat.zero_le _) (by omega)) ⟨wj, ?_⟩
  refine ⟨ws, ?_⟩
  rw [hty, nI_clamp (by omega), htA]
  refine xp_key (n := n + 1) (by omega) ha ⟨wj, ?_⟩
  rw [hta]
  refine xp_w (c := g) (n := n + 1 + 4) (by omega) (by omega) ?_
  have := hp (nI g) ⟨fun z => by
    rcases z with z | z
    · exact absurd z (za_ne (b := 10) (by omega) (by omega) (by decide))
    · exact absurd z (za_ne (b := 12) (by omega) (by omega) (by decide)), fun z => absurd z (by simp)⟩
  exact this
end ZXT
end
section
/-! printing: Y's lists and records -/
section ZYN
theorem zp_itlen {ch : Int32 → Option Nat} {q : Nat} : ∀ (K : ZK) b, (∀ k w, (k, w) ∈ K → k.length ≤ q) → (zp_it ch b K).length ≤ (q + 2) * K.length := by
  intro K
  induction K with
  | nil => intro b h; exact Nat.zero_le _
  | cons kw K ih =>
    intro b h
    obtain ⟨k, w⟩ := kw
    have h1 := h k w (List.mem_cons_self ..)
    have h2 := fun b' => ih b' (fun k' w' hm => h k' w' (List.mem_cons_of_mem _ hm))
    simp only [zp_it, List.length_cons, Nat.mul_succ]
    cases ch w with
    | none => have := h2 b; dsimp only; omega
    | some r =>
      have h3 := h2 false
      have h4 : (if b = true then ([] : List Nat) else [15]).length ≤ 1 := by
        by_cases c : b = true
        · rw [if_pos c]; exact Nat.zero_le _
        · rw [if_neg c]; exact Nat.le_refl _
      dsimp only
      simp only [List.length_append, List.length_cons]
      omega
def zp_kl : Nat → Nat → ZK
  | _, 0 => []
  | i, d + 1 => ([], nI i) :: zp_kl (i + 1) d
theorem zp_kllen : ∀ d i, (zp_kl i d).length = d := by
  intro d
  induction d with
  | zero => intro i; rfl
  | succ d ih => intro i; simp only [zp_kl, List.length_cons, ih]
theorem zp_klm : ∀ d i k w, (k, w) ∈ zp_kl i d → k = [] ∧ ∃ q, i ≤ q ∧ q < i + d ∧ w = nI q := by
  intro d
  induction d with
  | zero => intro i k w h; exact absurd h (by simp [zp_kl])
  | succ d ih =>
    intro i k w h
    simp only [zp_kl] at h
    rcases List.mem_cons.mp h with e | e
    · obtain ⟨rfl, rfl⟩ := Prod.mk.inj e
      exact ⟨rfl, i, Nat.le_refl _, by omega, rfl⟩
    · obtain ⟨h1, q, h2, h3, h4⟩ := ih (i + 1) k w e
      exact ⟨h1, q, by omega, by omega, h4⟩
def zp_kf (fN : Nat → Int32) (slot : Nat) : Nat → Nat → ZK
  | _, 0 => []
  | i, d + 1 => ([16, 21 + (fN (4 * slot + i)).toNatClampNeg, 16, 14], fN (4 * slot + i)) :: zp_kf fN slot (i + 1) d
theorem zp_kflen {fN : Nat → Int32} {slot : Nat} : ∀ d i, (zp_kf fN slot i d).length = d := by
  intro d
  induction d with
  | zero => intro i; rfl
  | succ d ih => intro i; simp only [zp_kf, List.length_cons, ih]
theorem zp_kfm {fN : Nat → Int32} {slot : Nat} : ∀ d i k w, (k, w) ∈ zp_kf fN slot i d → ∃ q, i ≤ q ∧ q < i + d ∧ w = fN (4 * slot + q) ∧ k = [16, 21 + (fN (4 * slot + q)).toNatClampNeg, 16, 14] := by
  intro d
  induction d with
  | zero => intro i k w h; exact absurd h (by simp [zp_kf])
  | succ d ih =>
    intro i k w h
    simp only [zp_kf] at h
    rcases List.mem_cons.mp h with e | e
    · obtain ⟨rfl, rfl⟩ := Prod.mk.inj e
      exact ⟨i, Nat.le_refl _, by omega, rfl, rfl⟩
    · obtain ⟨q, h2, h3, h4⟩ := ih (i + 1) k w e
      exact ⟨q, by omega, by omega, h4⟩
def zp_cn (ch : Int32 → Option Nat) (fN : Nat → Int32) (slot : Nat) : Nat → Nat
  | 0 => 0
  | i + 1 => zp_cn ch fN slot i + (if (ch (fN (4 * slot + i))).isSome = true then 1 else 0)
theorem zp_cn_le {ch : Int32 → Option Nat} {fN : Nat → Int32} {slot : Nat} : ∀ i, zp_cn ch fN slot i ≤ i := by
  intro i
  induction i with
  | zero => exact Nat.le_refl _
  | succ i ih => simp only [zp_cn]; split <;> omega
theorem zp_m1lt {m : Nat} (h : m < 2 ^ 30) : nI m + (-1) < nI m := by
  cases m with
  | zero => decide
  | succ m => rw [pk_m1]; exact nI_lt (by omega) (by omega)
variable {ln ps ba fl yp yb dp nn wN wT sc : Int32} {so tA tB tC fN fO fS yt fQ T be en ins wh kd yv pa na ty fr cm oN yT yC yE oH : Nat → Int32} {c j slot : Nat}
theorem yp_l {P : SY → Prop} {g : Nat} {ct pr x : Int32} {ou td : Nat → Int32} (hg : g < 600) (h : P (ln, ps, ba, ct, fl, yp, yb, dp, nn, wN, wT, pr, nI (g + 1), sc, so, tA, tB, tC, fN, fO, fS, yt, fQ, T, be, en, ins, wh, kd, yv, pa, na, ty, fr, cm, oN, yT, yC, yE, oH, ou, upd td g x)) : wpY_later P (ln, ps, ba, ct, fl, yp, yb, dp, nn, wN, wT, pr, nI g, sc, so, tA, tB, tC, fN, fO, fS, yt, fQ, T, be, en, ins, wh, kd, yv, pa, na, ty, fr, cm, oN, yT, yC, yE, oH, ou, td) x :=
  ⟨vp_in_nI (by omega) (by omega), nm_r (e' := upd td g x) (by rw [nI_clamp (by omega)]) (nm_r (nI_1 g) h)⟩
theorem zp_sk_p {td : Nat → Int32} {g x : Nat} {L : List Nat} (h : zp_sk td g L) : zp_sk (upd td (g + L.length) (nI x)) g (x :: L) :=
  ⟨pk_us, zp_sk_mono L (fun i hi => pk_un (by omega)) h⟩
theorem yp_lst {post : SY → Prop} {g v : Nat} {pr : Int32} {ou td0 : Nat → Int32} (hc : c ≤ 40) (hj : j < c) (hg : g ≤ 500) (hv : v ≤ 20) (hch : ∀ i, i < v → ∃ r, zp_c pa na c j (nI i) = some r)
    (hp : ∀ td' : Nat → Int32, (∀ i, i < g → td' i = td0 i) → zp_sk td' g (zp_it (zp_c pa na c j) true (zp_kl 0 v) ++ [13]) → post (ln, ps, ba, nI c, fl, yp, yb, dp, nn, wN, wT, pr, nI (g + (zp_it (zp_c pa na c j) true (zp_kl 0 v) ++ [13]).length), sc, so, tA, tB, tC, fN, fO, fS, yt, fQ, T, be, en, ins, wh, kd, yv, pa, na, ty, fr, cm, oN, yT, yC, yE, oH, ou, td')) :
    ∀ i d fu (td : Nat → Int32), i + d = v → i < fu → (∀ q, q < g → td q = td0 q) → zp_sk td g (zp_it (zp_c pa na c j) (decide (i = 0)) (zp_kl i d) ++ [13]) → wY_showList_21 post (nI j) fu (nI i + (-1)) ln ps ba (nI c) fl yp yb dp nn wN wT pr (nI (g + (zp_it (zp_c pa na c j) (decide (i = 0)) (zp_kl i d) ++ [13]).length)) sc so tA tB tC fN fO fS yt fQ T be en ins wh kd yv pa na ty fr cm oN yT yC yE oH ou td := by
  intro i
  induction i with
  | zero =>
    intro d fu td h1 h2 h3 h4
    obtain ⟨fu, rfl⟩ : ∃ m, fu = m + 1 := ⟨fu - 1, by omega⟩
    obtain rfl : d = v := by omega
    exact br_t (by decide) (hp td h3 h4)
  | succ i ih =>
    intro d fu td h1 h2 h3 h4
    obtain ⟨fu, rfl⟩ : ∃ m, fu = m + 1 := ⟨fu - 1, by omega⟩
    obtain ⟨r, hr⟩ := hch i (by omega)
    have hr' := zp_c_s hr
    rw [pk_m1]
    rw [show decide (i + 1 = 0) = false from by simp] at h4
    rw [show decide (i + 1 = 0) = false from by simp]
    have hlen : (zp_it (zp_c pa na c j) false (zp_kl (i + 1) d)).length ≤ 2 * d := by
      have := zp_itlen (ch := zp_c pa na c j) (q := 0) (zp_kl (i + 1) d) false (fun k w hm => by rw [(zp_klm _ _ _ _ hm).1]; exact Nat.le_refl _)
      rw [zp_kllen] at this
      omega
    have ih' := ih (d + 1) fu
    have e0 : ∀ b, zp_it (zp_c pa na c j) b (zp_kl i (d + 1)) = (if b = true then [] else [15]) ++ ((100 + r) :: zp_it (zp_c pa na c j) false (zp_kl (i + 1) d)) := by
      intro b
      simp only [zp_kl, zp_it]
      rw [hr]
      rfl
    rw [e0] at ih'
    generalize zp_it (zp_c pa na c j) false (zp_kl (i + 1) d) = L at h4 hlen ih'
    have hL : (L ++ [13]).length ≤ 2 * d + 1 := by simp only [List.length_append, List.length_cons, List.length_nil]; omega
    refine br_f (nI_nlt (b := 0) (Nat.zero_le _) (by omega)) (zp_ychild hc hj ?_)
    rw [hr]
    refine yp_l (by omega) ?_
    rw [show (100 : Int32) + zp_i (some r) = nI (100 + r) from nI_add 100 r]
    have s1 := zp_sk_p (x := 100 + r) h4
    have a1 : ∀ q, q < g → upd td (g + (L ++ [13]).length) (nI (100 + r)) q = td0 q := fun q hq => (pk_un (by omega)).trans (h3 q hq)
    refine pk_le i 0 (fun z => nm_r rfl ?_) (fun z => ?_)
    · obtain rfl : i = 0 := by omega
      exact ih' _ (by omega) (by omega) a1 s1
    · rw [show decide (i = 0) = false from by simp; omega] at ih'
      refine yp_l (by omega) (nm_r rfl ?_)
      exact ih' _ (by omega) (by omega) (fun q hq => (pk_un (by omega)).trans (a1 q hq)) (zp_sk_p (x := 15) s1)
theorem zp_ysL {v : Nat} (hc : c ≤ 40) (hj : j < c) (hkd : kd j = 3) (hv : v ≤ 20) (hyv : yv j = nI v) (hch : ∀ i, i < v → ∃ r, zp_c pa na c j (nI i) = some r) :
    zp_YS (fun pr wg sc ou td => (ln, ps, ba, nI c, fl, yp, yb, dp, nn, wN, wT, pr, wg, sc, so, tA, tB, tC, fN, fO, fS, yt, fQ, T, be, en, ins, wh, kd, yv, pa, na, ty, fr, cm, oN, yT, yC, yE, oH, ou, td)) j [12] (zp_it (zp_c pa na c j) true (zp_kl 0 v) ++ [13]) := by
  intro n g sc o td P hn hg hp
  have wj : vp_in (nI j) 40 := vp_in_nI (by omega) (by omega)
  have ej : (nI j).toNatClampNeg = j := nI_clamp (by omega)
  refine ⟨wj, nm_r (e' := 3) (by rw [ej]; exact hkd) (br_f (by decide) (br_f (by decide) (br_f (by decide) (br_t rfl ?_))))⟩
  unfold wpY_showList
  dsimp only
  refine yp_w (c := 12) (by omega) ?_
  dsimp only
  refine yp_l (g := g) (by omega) ?_
  refine ⟨wj, ?_⟩
  rw [ej]
  refine nm_r (e' := nI v + (-1)) (by show yv j - 1 = nI v + (-1); rw [hyv, Int32.sub_eq_add_neg]) ⟨v + 1, ?_⟩
  have := yp_lst (sc := sc) (ln := ln) (ps := ps) (ba := ba) (fl := fl) (yp := yp) (yb := yb) (dp := dp) (nn := nn) (wN := wN) (wT := wT) (so := so) (tA := tA) (tB := tB) (tC := tC) (fN := fN) (fO := fO) (fS := fS) (yt := yt) (fQ := fQ) (T := T) (be := be) (en := en) (ins := ins) (wh := wh) (kd := kd) (yv := yv) (pa := pa) (na := na) (ty := ty) (fr := fr) (cm := cm) (oN := oN) (yT := yT) (yC := yC) (yE := yE) (oH := oH) (post := fun u => match u with | (ln, ps, ba, ct, fl, yp, yb, dp, nn, wN, wT, pr, wg, sc, so, tA, tB, tC, fN, fO, fS, yt, fQ, T, be, en, ins, wh, kd, yv, pa, na, ty, fr, cm, oN, yT, yC, yE, oH, ou, td) => P (ln, ps, ba, ct, fl, yp, yb, dp, nn, wN, wT, pr, wg, sc, so, tA, tB, tC, fN, fO, fS, yt, fQ, T, be, en, ins, wh, kd, yv, pa, na, ty, fr, cm, oN, yT, yC, yE, oH, ou, td)) (td0 := td) (pr := nI (n + 1)) (ou := zp_o [12] n o) hc hj hg hv hch (fun td' q1 q2 => hp sc td' q1 q2) v 0 (v + 1) (upd td g 13) (by omega) (by omega) (fun q hq => pk_un (by omega)) (by simp only [zp_kl, zp_it]; exact ⟨pk_us, trivial⟩)
  exact this
end ZYN
end
section
section ZYR
variable {ln ps ba fl yp yb dp nn wN wT sc : Int32} {so tA tB tC fN fO fS yt fQ T be en ins wh kd yv pa na ty fr cm oN yT yC yE oH : Nat → Int32} {c j slot : Nat}
theorem yp_cnt {post : SY → Prop} {x2 x4 ct pr wg : Int32} {ou td : Nat → Int32} {fst n : Nat} (hc : c ≤ 40) (hj : j < c) (hs : slot < 12) (hn : n ≤ 4) (hf : fst ≤ 1) (hfS : fS slot = nI n) (hct : ct = nI c)
    (h : wY_showRecord_56 post (nI j) x2 (nI slot) x4 ln ps ba ct fl yp yb dp nn wN wT pr wg sc so tA tB tC fN fO fS yt fQ T be en ins wh kd yv pa na ty fr cm oN yT yC yE oH ou td 1 (nI (fst + zp_cn (zp_c pa na c j) fN slot n)) (nI (4 * slot + n))) :
    ∀ d i fu, i + d = n → d < fu → wY_showRecord_56 post (nI j) x2 (nI slot) x4 ln ps ba ct fl yp yb dp nn wN wT pr wg sc so tA tB tC fN fO fS yt fQ T be en ins wh kd yv pa na ty fr cm oN yT yC yE oH ou td fu (nI (fst + zp_cn (zp_c pa na c j) fN slot i)) (nI (4 * slot + i)) := by
  subst hct
  have ws : vp_in (nI slot) 12 := vp_in_nI (by omega) (by omega)
  have es : (nI slot).toNatClampNeg = slot := nI_clamp (by omega)
  have e4 : (4 : Int32) * nI slot + nI n = nI (4 * slot + n) := by rw [← nI_add, ← pk_mul]; rfl
  intro d
  induction d with
  | zero =>
    intro i fu h1 h2
    obtain ⟨fu, rfl⟩ : ∃ m, fu = m + 1 := ⟨fu - 1, by omega⟩
    obtain rfl : i = n := by omega
    have hle : (4 : Int32) * nI slot + fS (nI slot).toNatClampNeg ≤ nI (4 * slot + i) := by
      rw [es, hfS, e4]
      exact nI_le (Nat.le_refl _) (by omega)
    have h' := h.2.1 hle
    exact ⟨ws, br_t hle h'⟩
  | succ d ih =>
    intro i fu h1 h2
    obtain ⟨fu, rfl⟩ : ∃ m, fu = m + 1 := ⟨fu - 1, by omega⟩
    have w6 : vp_in (nI (4 * slot + i)) 48 := vp_in_nI (by omega) (by omega)
    have e6 : (nI (4 * slot + i)).toNatClampNeg = 4 * slot + i := nI_clamp (by omega)
    have ih' := ih (i + 1) fu (by omega) (by omega)
    have cl := zp_cn_le (ch := zp_c pa na c j) (fN := fN) (slot := slot) i
    refine ⟨ws, br_f (by rw [es, hfS, e4]; exact nI_ge (by omega) (by omega)) ⟨w6, zp_ychild hc hj ?_⟩⟩
    rw [e6]
    simp only [zp_cn] at ih'
    cases e : zp_c pa na c j (fN (4 * slot + i)) with
    | none =>
      rw [e, if_neg (by simp)] at ih'
      exact br_t (by decide) (nm_r (nI_1 (4 * slot + i)) ih')
    | some r =>
      have hr := zp_c_s e
      rw [e, if_pos (by simp)] at ih'
      exact br_f (nI_nlt (b := 0) (Nat.zero_le _) (by omega)) (nm_r (nI_1 _) (nm_r (nI_1 (4 * slot + i)) ih'))
theorem yp_rec {post : SY → Prop} {g fst n : Nat} {ct pr : Int32} {ou td0 : Nat → Int32} (hc : c ≤ 40) (hj : j < c) (hs : slot < 12) (hn : n ≤ 4) (hf : fst ≤ 1) (hg : g ≤ 500) (hct : ct = nI c) (hfN : ∀ f, f < n → ∃ a, a ≤ 5 ∧ fN (4 * slot + f) = nI a)
    (hp : ∀ td' : Nat → Int32, (∀ i, i < g → td' i = td0 i) → zp_sk td' g (zp_it (zp_c pa na c j) (decide (fst = 0)) (zp_kf fN slot 0 n) ++ [11]) → post (ln, ps, ba, ct, fl, yp, yb, dp, nn, wN, wT, pr, nI (g + (zp_it (zp_c pa na c j) (decide (fst = 0)) (zp_kf fN slot 0 n) ++ [11]).length), sc, so, tA, tB, tC, fN, fO, fS, yt, fQ, T, be, en, ins, wh, kd, yv, pa, na, ty, fr, cm, oN, yT, yC, yE, oH, ou, td')) :
    ∀ i d fu (td : Nat → Int32) (b : Bool), i + d = n → i < fu → (b = true ↔ fst + zp_cn (zp_c pa na c j) fN slot i = 0) → (∀ q, q < g → td q = td0 q) → zp_sk td g (zp_it (zp_c pa na c j) b (zp_kf fN slot i d) ++ [11]) → wY_showRecord_167 post (nI j) (nI slot) fu (nI (fst + zp_cn (zp_c pa na c j) fN slot i)) (nI (4 * slot + i) + (-1)) ln ps ba ct fl yp yb dp nn wN wT pr (nI (g + (zp_it (zp_c pa na c j) b (zp_kf fN slot i d) ++ [11]).length)) sc so tA tB tC fN fO fS yt fQ T be en ins wh kd yv pa na ty fr cm oN yT yC yE oH ou td := by
  subst hct
  have es : (4 : Int32) * nI slot = nI (4 * slot) := by rw [← pk_mul]; rfl
  intro i
  induction i with
  | zero =>
    intro d fu td b h1 h2 hb h3 h4
    obtain ⟨fu, rfl⟩ : ∃ m, fu = m + 1 := ⟨fu - 1, by omega⟩
    obtain rfl : d = n := by omega
    obtain rfl : b = decide (fst = 0) := by
      have hb2 : b = true ↔ fst = 0 := hb
      by_cases z : fst = 0
      · rw [hb2.mpr z]; simp [z]
      · cases b with
        | true => exact absurd (hb2.mp rfl) z
        | false => simp [z]
    exact br_t (by rw [es]; exact zp_m1lt (by omega)) (hp td h3 h4)
  | succ i ih =>
    intro d fu td b h1 h2 hb h3 h4
    obtain ⟨fu, rfl⟩ : ∃ m, fu = m + 1 := ⟨fu - 1, by omega⟩
    have w6 : vp_in (nI (4 * slot + i)) 48 := vp_in_nI (by omega) (by omega)
    have e6 : (nI (4 * slot + i)).toNatClampNeg = 4 * slot + i := nI_clamp (by omega)
    have cl := zp_cn_le (ch := zp_c pa na c j) (fN := fN) (slot := slot) i
    obtain ⟨a, ha, ea⟩ := hfN i (by omega)
    have ek : (fN (4 * slot + i)).toNatClampNeg = a := by rw [ea]; exact nI_clamp (by omega)
    have hlen : (zp_it (zp_c pa na c j) b (zp_kf fN slot (i + 1) d)).length ≤ 6 * d := by
      have := zp_itlen (ch := zp_c pa na c j) (q := 4) (zp_kf fN slot (i + 1) d) b (fun k w hm => by
        obtain ⟨q, _, _, _, rfl⟩ := zp_kfm _ _ _ _ hm
        exact Nat.le_refl _)
      rw [zp_kflen] at this
      omega
    have ih' := ih (d + 1) fu
    simp only [zp_kf, zp_it] at ih'
    rw [show 4 * slot + (i + 1) = 4 * slot + i + 1 from rfl, pk_m1]
    refine br_f (by rw [es]; exact nI_nlt (by omega) (by omega)) ⟨w6, zp_ychild hc hj ?_⟩
    rw [e6]
    simp only [zp_cn] at hb
    rw [show zp_cn (zp_c pa na c j) fN slot (i + 1) = zp_cn (zp_c pa na c j) fN slot i + (if (zp_c pa na c j (fN (4 * slot + i))).isSome = true then 1 else 0) from rfl]
    cases e : zp_c pa na c j (fN (4 * slot + i)) with
    | none =>
      rw [e] at ih' hb
      rw [if_neg (by simp)] at hb
      rw [if_neg (by simp)]
      refine br_f (by decide) (nm_r rfl ?_)
      exact ih' td b (by omega) (by omega) hb h3 h4
    | some r =>
      have hr := zp_c_s e
      rw [e] at ih' hb
      rw [if_pos (by simp)] at hb
      rw [if_pos (by simp)]
      obtain rfl : b = false := by
        cases b with
        | true => have := hb.mp rfl; omega
        | false => rfl
      generalize zp_it (zp_c pa na c j) false (zp_kf fN slot (i + 1) d) = L at h4 hlen ih'
      generalize zp_cn (zp_c pa na c j) fN slot i = cn at cl ih'
      rw [ek] at ih'
      have hL : (L ++ [11]).length ≤ 6 * d + 1 := by simp only [List.length_append, List.length_cons, List.length_nil]; omega
      refine br_t (nI_le (Nat.zero_le _) (by omega)) ?_
      rw [show (100 : Int32) + zp_i (some r) = nI (100 + r) from nI_add 100 r]
      have s1 := zp_sk_p (x := 100 + r) h4
      have s2 := zp_sk_p (x := 14) s1
      have s3 := zp_sk_p (x := 16) s2
      have s4 := zp_sk_p (x := 21 + a) s3
      have s5 := zp_sk_p (x := 16) s4
      have a5 := fun q (hq : q < g) => (show upd (upd (upd (upd (upd td (g + (L ++ [11]).length) (nI (100 + r))) (g + ((100 + r) :: (L ++ [11])).length) (nI 14)) (g + (14 :: (100 + r) :: (L ++ [11])).length) (nI 16)) (g + (16 :: 14 :: (100 + r) :: (L ++ [11])).length) (nI (21 + a))) (g + ((21 + a) :: 16 :: 14 :: (100 + r) :: (L ++ [11])).length) (nI 16) q = td0 q from (pk_un (by omega)).trans ((pk_un (by omega)).trans ((pk_un (by omega)).trans ((pk_un (by omega)).trans ((pk_un (by omega)).trans (h3 q hq))))))
      refine yp_l (by omega) ?_
      refine yp_l (by omega) ?_
      refine yp_l (by omega) ?_
      refine ⟨w6, ?_⟩
      rw [ea, show (21 : Int32) + nI a = nI (21 + a) from nI_add 21 a]
      refine yp_l (by omega) ?_
      refine yp_l (by omega) ?_
      refine nm_r (pk_m1 (fst + cn)) ?_
      refine pk_le (fst + cn) 0 (fun z => nm_r rfl ?_) (fun z => ?_)
      · have := ih' _ true (by omega) (by omega) ⟨fun _ => by omega, fun _ => rfl⟩ a5 s5
        exact this
      · refine yp_l (by omega) ?_
        refine nm_r rfl ?_
        have := ih' _ false (by omega) (by omega) ⟨fun y => absurd y (by simp), fun y => by omega⟩ (fun q hq => (pk_un (by omega)).trans (a5 q hq)) (zp_sk_p (x := 15) s5)
        exact this
theorem yp_147 {post : SY → Prop} {g fst n : Nat} {ct pr : Int32} {ou td : Nat → Int32} (hc : c ≤ 40) (hj : j < c) (hs : slot < 12) (hn : n ≤ 4) (hf : fst ≤ 1) (hg : g ≤ 500) (hct : ct = nI c) (hfS : fS slot = nI n) (hfN : ∀ f, f < n → ∃ a, a ≤ 5 ∧ fN (4 * slot + f) = nI a)
    (hp : ∀ td' : Nat → Int32, (∀ i, i < g → td' i = td i) → zp_sk td' g (zp_it (zp_c pa na c j) (decide (fst = 0)) (zp_kf fN slot 0 n) ++ [11]) → post (ln, ps, ba, ct, fl, yp, yb, dp, nn, wN, wT, pr, nI (g + (zp_it (zp_c pa na c j) (decide (fst = 0)) (zp_kf fN slot 0 n) ++ [11]).length), sc, so, tA, tB, tC, fN, fO, fS, yt, fQ, T, be, en, ins, wh, kd, yv, pa, na, ty, fr, cm, oN, yT, yC, yE, oH, ou, td')) :
    wY_showRecord_147 post (nI j) (nI slot) (nI (fst + zp_cn (zp_c pa na c j) fN slot n)) ln ps ba ct fl yp yb dp nn wN wT pr (nI g) sc so tA tB tC fN fO fS yt fQ T be en ins wh kd yv pa na ty fr cm oN yT yC yE oH ou td := by
  have ws : vp_in (nI slot) 12 := vp_in_nI (by omega) (by omega)
  have es : (nI slot).toNatClampNeg = slot := nI_clamp (by omega)
  have e4 : (4 : Int32) * nI slot + nI n = nI (4 * slot + n) := by rw [← nI_add, ← pk_mul]; rfl
  unfold wY_showRecord_147
  refine yp_l (g := g) (by omega) ⟨ws, nm_r (e' := nI (4 * slot + n) + (-1)) (by rw [es, hfS, e4, Int32.sub_eq_add_neg]) ⟨n + 1, ?_⟩⟩
  exact yp_rec hc hj hs hn hf hg hct hfN hp n 0 (n + 1) (upd td g 11) (decide (fst + zp_cn (zp_c pa na c j) fN slot n = 0)) (by omega) (by omega) (by simp) (fun q hq => pk_un (by omega)) ⟨pk_us, trivial⟩
theorem zp_ysR {s n : Nat} (hc : c ≤ 40) (hj : j < c) (hkd : kd j = 4) (hs : s < 12) (hty : ty j = nI s) (hso : so s = 5) (hn : n ≤ 4) (hfS : fS s = nI n) (hfN : ∀ f, f < n → ∃ a, a ≤ 5 ∧ fN (4 * s + f) = nI a) :
    zp_YS (fun pr wg sc ou td => (ln, ps, ba, nI c, fl, yp, yb, dp, nn, wN, wT, pr, wg, sc, so, tA, tB, tC, fN, fO, fS, yt, fQ, T, be, en, ins, wh, kd, yv, pa, na, ty, fr, cm, oN, yT, yC, yE, oH, ou, td)) j [10] (zp_it (zp_c pa na c j) true (zp_kf fN s 0 n) ++ [11]) := by
  intro k g sc o td P hk hg hp
  have wj : vp_in (nI j) 40 := vp_in_nI (by omega) (by omega)
  have ej : (nI j).toNatClampNeg = j := nI_clamp (by omega)
  have ws : vp_in (nI s) 12 := vp_in_nI (by omega) (by omega)
  have es : (nI s).toNatClampNeg = s := nI_clamp (by omega)
  have e4 : (4 : Int32) * nI s + nI n = nI (4 * s + n) := by rw [← nI_add, ← pk_mul]; rfl
  have s6 : ¬ so s = 6 := by rw [hso]; decide
  refine ⟨wj, nm_r (e' := 4) (by rw [ej]; exact hkd) (br_f (by decide) (br_f (by decide) (br_f (by decide) (br_f (by decide) (br_t rfl ?_)))))⟩
  refine ⟨wj, nm_r (e' := nI s) (by rw [ej]; exact hty) ⟨ws, ?_⟩⟩
  rw [es]
  refine br_f s6 ⟨ws, ?_⟩
  rw [es]
  refine br_f s6 (nm_r (e' := nI (4 * s + 0)) (by rw [Nat.add_zero, ← pk_mul]; rfl) ⟨n + 1, ?_⟩)
  refine yp_cnt (fst := 0) hc hj hs hn (by omega) hfS rfl ?_ n 0 (n + 1) (by omega) (by omega)
  refine ⟨ws, br_t (by rw [es, hfS, e4]; exact nI_le (Nat.le_refl _) (by omega)) (yp_w (c := 10) (by omega) (br_f (by decide) ?_))⟩
  exact yp_147 (fst := 0) hc hj hs hn (by omega) hg rfl hfS hfN (fun td' q1 q2 => hp sc td' q1 q2)
theorem yp_tagOf {post : Int32 → SY → Prop} {t : Nat → Nat} {ct pr wg : Int32} {ou td : Nat → Int32} {kk gg : Nat} (hj : j < 40) (hT : ∀ i, T i = nI (t i)) (hkk : kk + 3 < 96) (hb : be kk = fr j) (hb' : ∀ i, i < kk → be i ≠ fr j) (hU : zl_UT t be en (kk + 3) gg) (hp : post (nI gg) (ln, ps, ba, ct, fl, yp, yb, dp, nn, wN, wT, pr, wg, nI gg, so, tA, tB, tC, fN, fO, fS, yt, fQ, T, be, en, ins, wh, kd, yv, pa, na, ty, fr, cm, oN, yT, yC, yE, oH, ou, td)) : wpY_tagOf post (ln, ps, ba, ct, fl, yp, yb, dp, nn, wN, wT, pr, wg, sc, so, tA, tB, tC, fN, fO, fS, yt, fQ, T, be, en, ins, wh, kd, yv, pa, na, ty, fr, cm, oN, yT, yC, yE, oH, ou, td) (nI j) := by
  have wj : vp_in (nI j) 40 := vp_in_nI (by omega) (by omega)
  have ej : (nI j).toNatClampNeg = j := nI_clamp (by omega)
  have go : ∀ d i fu, i + d = kk → d < fu → wY_tagOf_2 post (nI j) ln ps ba ct fl yp yb dp nn wN wT pr wg sc so tA tB tC fN fO fS yt fQ T be en ins wh kd yv pa na ty fr cm oN yT yC yE oH ou td fu (nI i) := by
    intro d
    induction d with
    | zero =>
      intro i fu h1 h2
      obtain ⟨fu, rfl⟩ : ∃ m, fu = m + 1 := ⟨fu - 1, by omega⟩
      obtain rfl : i = kk := by omega
      refine ⟨vp_in_nI (by omega) (by omega), wj, br_t (by rw [ej, nI_clamp (by omega)]; exact hb) ?_⟩
      rw [show nI i + 3 = nI (i + 3) from nI_add i 3]
      refine hU (ln := ln) (ps := ps) (ba := ba) (ct := ct) (fl := fl) (yp := yp) (yb := yb) (dp := dp) (nn := nn) (wN := wN) (wT := wT) (pr := pr) (wg := wg) (sc := sc) (so := so) (tA := tA) (tB := tB) (tC := tC) (fN := fN) (fO := fO) (fS := fS) (yt := yt) (fQ := fQ) (T := T) (ins := ins) (wh := wh) (kd := kd) (yv := yv) (pa := pa) (na := na) (ty := ty) (fr := fr) (cm := cm) (oN := oN) (yT := yT) (yC := yC) (yE := yE) (oH := oH) (ou := ou) (td := td) hT _ ?_
      exact hp
    | succ d ih =>
      intro i fu h1 h2
      obtain ⟨fu, rfl⟩ : ∃ m, fu = m + 1 := ⟨fu - 1, by omega⟩
      exact ⟨vp_in_nI (by omega) (by omega), wj, br_f (by rw [ej, nI_clamp (by omega)]; exact hb' i (by omega)) (nm_r (nI_1 i) (ih (i + 1) fu (by omega) (by omega)))⟩
  exact ⟨kk + 1, go kk 0 (kk + 1) (by omega) (by omega)⟩
theorem zp_ysC {t : Nat → Nat} {s v n a gg kk : Nat} (hc : c ≤ 40) (hj : j < c) (hkd : kd j = 4) (hs : s < 12) (hty : ty j = nI s) (hso : so s = 6) (hv : v < 12) (hyv : yv j = nI v) (ha : a ≤ 5) (htA : tA s = nI a) (hn : n ≤ 4) (hfS : fS v = nI n) (hfN : ∀ f, f < n → ∃ a, a ≤ 5 ∧ fN (4 * v + f) = nI a)
    (hT : ∀ i, T i = nI (t i)) (hkk : kk + 3 < 96) (hb : be kk = fr j) (hb' : ∀ i, i < kk → be i ≠ fr j) (hU : zl_UT t be en (kk + 3) gg) :
    zp_YS (fun pr wg sc ou td => (ln, ps, ba, nI c, fl, yp, yb, dp, nn, wN, wT, pr, wg, sc, so, tA, tB, tC, fN, fO, fS, yt, fQ, T, be, en, ins, wh, kd, yv, pa, na, ty, fr, cm, oN, yT, yC, yE, oH, ou, td)) j [10, 16, 21 + a, 16, 14, gg] (zp_it (zp_c pa na c j) false (zp_kf fN v 0 n) ++ [11]) := by
  intro k g sc o td P hk hg hp
  have wj : vp_in (nI j) 40 := vp_in_nI (by omega) (by omega)
  have ej : (nI j).toNatClampNeg = j := nI_clamp (by omega)
  have ws : vp_in (nI s) 12 := vp_in_nI (by omega) (by omega)
  have es : (nI s).toNatClampNeg = s := nI_clamp (by omega)
  have wv : vp_in (nI v) 12 := vp_in_nI (by omega) (by omega)
  have ev : (nI v).toNatClampNeg = v := nI_clamp (by omega)
  have e4 : (4 : Int32) * nI v + nI n = nI (4 * v + n) := by rw [← nI_add, ← pk_mul]; rfl
  refine ⟨wj, nm_r (e' := 4) (by rw [ej]; exact hkd) (br_f (by decide) (br_f (by decide) (br_f (by decide) (br_f (by decide) (br_t rfl ?_)))))⟩
  refine ⟨wj, nm_r (e' := nI s) (by rw [ej]; exact hty) ⟨ws, ?_⟩⟩
  rw [es]
  refine br_t hso ⟨wj, ?_⟩
  rw [ej, hyv]
  refine ⟨ws, ?_⟩
  rw [es]
  refine br_t hso (nm_r (e' := nI (4 * v + 0)) (by rw [Nat.add_zero, ← pk_mul]; rfl) ⟨n + 1, ?_⟩)
  refine yp_cnt (fst := 1) hc hj hv hn (by omega) hfS rfl ?_ n 0 (n + 1) (by omega) (by omega)
  refine ⟨wv, br_t (by rw [ev, hfS, e4]; exact nI_le (Nat.le_refl _) (by omega)) (yp_w (c := 10) (by omega) (br_t rfl (yp_w (c := 16) (by omega) ⟨ws, ?_⟩)))⟩
  rw [es, htA, show (21 : Int32) + nI a = nI (21 + a) from nI_add 21 a]
  refine yp_w (c := 21 + a) (by omega) (yp_w (c := 16) (by omega) (yp_w (c := 14) (by omega) (yp_tagOf (by omega) hT hkk hb hb' hU (yp_w (c := gg) (by omega) ?_))))
  exact yp_147 (fst := 1) hc hj hv hn (by omega) hg rfl hfS hfN (fun td' q1 q2 => hp (nI gg) td' q1 q2)
end ZYR
end
section
/-! printing: one node on both sides -/
section ZPN
theorem zp_nl {x : Nat} (h : x < 10) : ((nI x = 10 ∨ nI x = 12) ↔ false = true) :=
  ⟨fun z => by
    rcases z with z | z
    · exact absurd z (za_ne (b := 10) (by omega) (by omega) (by decide))
    · exact absurd z (za_ne (b := 12) (by omega) (by omega) (by decide)), fun z => absurd z (by simp)⟩
theorem zp_klKR {fN : Nat → Int32} {slot : Nat} : ∀ d i, zp_KR 1 fN slot i (zp_kl i d) := by
  intro d
  induction d with
  | zero => intro i; exact trivial
  | succ d ih => intro i; exact ⟨Or.inl ⟨rfl, rfl, rfl⟩, ih (i + 1)⟩
theorem zp_klK {fN : Nat → Int32} {slot : Nat} : ∀ (p K : ZK) d i, zp_kl i d = p ++ K → zp_KR 1 fN slot (i + p.length) K := by
  intro p
  induction p with
  | nil => intro K d i h; rw [← (show zp_kl i d = K from h)]; exact zp_klKR d i
  | cons x p ih =>
    intro K d i h
    cases d with
    | zero => exact absurd h (by simp [zp_kl])
    | succ d =>
      have := ih K d (i + 1) (List.cons.inj h).2
      rw [show i + 1 + p.length = i + (x :: p).length from by simp only [List.length_cons]; omega] at this
      exact this
theorem zp_kfKR {fN : Nat → Int32} {slot n : Nat} (hfN : ∀ f, f < n → ∃ a, a ≤ 5 ∧ fN (4 * slot + f) = nI a) : ∀ d i, i + d ≤ n → zp_KR 0 fN slot i (zp_kf fN slot i d) := by
  intro d
  induction d with
  | zero => intro i h; exact trivial
  | succ d ih =>
    intro i h
    obtain ⟨a, ha, ea⟩ := hfN i (by omega)
    exact ⟨Or.inr ⟨rfl, a, ha, ea, ea, by rw [ea, nI_clamp (by omega)]⟩, ih (i + 1) (by omega)⟩
theorem zp_kfK {fN : Nat → Int32} {slot n : Nat} (hfN : ∀ f, f < n → ∃ a, a ≤ 5 ∧ fN (4 * slot + f) = nI a) : ∀ (p K : ZK) d i, i + d ≤ n → zp_kf fN slot i d = p ++ K → zp_KR 0 fN slot (i + p.length) K := by
  intro p
  induction p with
  | nil => intro K d i h0 h; rw [← (show zp_kf fN slot i d = K from h)]; exact zp_kfKR hfN d i h0
  | cons x p ih =>
    intro K d i h0 h
    cases d with
    | zero => exact absurd h (by simp [zp_kf])
    | succ d =>
      have := ih K d (i + 1) (by omega) (List.cons.inj h).2
      rw [show i + 1 + p.length = i + (x :: p).length from by simp only [List.length_cons]; omega] at this
      exact this
theorem zp_klP : ∀ d i, i + d ≤ 20 → (zp_kl i d).Pairwise (fun a b => a.2 ≠ b.2) := by
  intro d
  induction d with
  | zero => intro i h; exact List.Pairwise.nil
  | succ d ih =>
    intro i h
    refine List.Pairwise.cons (fun x hx => ?_) (ih (i + 1) (by omega))
    obtain ⟨k, w⟩ := x
    obtain ⟨_, q, h1, h2, rfl⟩ := zp_klm _ _ _ _ hx
    exact za_ne (by omega) (by omega) (by omega)
theorem zp_kfP {fN : Nat → Int32} {slot n : Nat} (hd : ∀ f f', f < n → f' < n → fN (4 * slot + f) = fN (4 * slot + f') → f = f') : ∀ d i, i + d ≤ n → (zp_kf fN slot i d).Pairwise (fun a b => a.2 ≠ b.2) := by
  intro d
  induction d with
  | zero => intro i h; exact List.Pairwise.nil
  | succ d ih =>
    intro i h
    refine List.Pairwise.cons (fun x hx => ?_) (ih (i + 1) (by omega))
    obtain ⟨k, w⟩ := x
    obtain ⟨q, h1, h2, rfl, _⟩ := zp_kfm _ _ _ _ hx
    intro z
    have := hd i q (by omega) (by omega) z
    omega
theorem zp_nx_ne {ch : Int32 → Option Nat} {ks : ZK} : ∀ d : Nat, (ks ≠ [] → d ≤ 5) → d ≤ 6 → ∀ k r s' K' K s, zp_nx ch K s = some (k, r, s', K') → (∃ p, ks = p ++ K) → d ≤ 5 := by
  intro d h5 _ k r s' K' K s hz hp
  obtain ⟨p, rfl⟩ := hp
  apply h5
  intro e
  obtain ⟨_, rfl⟩ := List.append_eq_nil_iff.mp e
  exact absurd hz (by simp [zp_nx])
theorem zp_c_ex {pa na : Nat → Int32} {c j q : Nat} {w : Int32} (h1 : j < q) (h2 : q < c) (h3 : pa q = nI j) (h4 : na q = w) : ∃ r, zp_c pa na c j w = some r := by
  cases e : zp_c pa na c j w with
  | some r => exact ⟨r, rfl⟩
  | none => exact absurd ⟨h3, h4⟩ (zp_fd_n _ _ q e (by omega) (by omega))
section L
variable {t : Nat → Nat} {len c j s : Nat} {ap : Int32} {st : Int32} {er : Int32} {pl : Int32} {wt : Int32} {wn : Int32} {tg : Int32} {rf : Int32} {dp : Int32} {pt : Int32} {zs : Int32} {te : Int32} {pw : Int32} {sg : Int32} {bg : Int32} {dg : Int64} {bl : Int32} {dw : Int32} {es : Int32} {ct : Int32} {bd : Int32} {pr : Int32} {lt : Int32} {T : Nat → Int32} {so : Nat → Int32} {tA : Nat → Int32} {tB : Nat → Int32} {tC : Nat → Int32} {fN : Nat → Int32} {fO : Nat → Int32} {fQ : Nat → Int32} {fS : Nat → Int32} {tO : Nat → Int32} {oS : Nat → Int32} {oT : Nat → Int32} {oN : Nat → Int32} {oC : Nat → Int32} {oE : Nat → Int32} {oH : Nat → Int32} {cm : Nat → Int32} {kd : Nat → Int32} {vl : Nat → Int32} {pa : Nat → Int32} {na : Nat → Int32} {ty : Nat → Int32} {fr : Nat → Int32} {ta : Nat → Int32} {ou : Nat → Int32} {wk : Nat → Int32} {sp : Nat → Int32} {yc : Int32} {yd : Int32} {ps : Int32} {ba : Int32} {fl : Int32} {nn : Int32} {wN : Int32} {wT : Int32} {wg : Int32} {sc : Int32} {yt : Nat → Int32} {be : Nat → Int32} {en : Nat → Int32} {ins : Nat → Int32} {wh : Nat → Int32} {yv : Nat → Int32} {yT : Nat → Int32} {yC : Nat → Int32} {yE : Nat → Int32} {td : Nat → Int32} {ym : Nat → Int32}
theorem zp_leaf (hT : ∀ i, T i = nI (t i)) (ht : ∀ i, t i < 32) (hl : len ≤ 96) (hc : c ≤ 40) (hj : j < c) (hs : s < 12) (hty : ty j = nI s) (hv : vl j = yv j)
    (hk : (kd j = 0 ∧ ∃ a, a ≤ 4 ∧ tA s = nI a) ∨ (kd j = 1 ∧ ∃ b, fr j = nI b ∧ b < len ∧ t b = 16 ∧ (zs_sc t len 97 (b + 1)).1 = 1) ∨ kd j = 2 ∨ kd j = 5 ∨ kd j = 6) :
    ∃ L : List Nat, L.length ≤ 98 ∧ zp_XE (fun pr lt ou wk sp => (nI len, ap, st, er, pl, wt, wn, tg, rf, dp, pt, zs, te, pw, sg, bg, dg, bl, dw, es, nI c, bd, pr, lt, T, so, tA, tB, tC, fN, fO, fQ, fS, tO, oS, oT, oN, oC, oE, oH, cm, kd, vl, pa, na, ty, fr, ta, ou, wk, sp)) j L false ∧ zp_YS (fun pr wg sc ou td => (nI len, ps, ba, nI c, fl, pl, bd, yd, nn, wN, wT, pr, wg, sc, so, tA, tB, tC, fN, fO, fS, yt, fQ, T, be, en, ins, wh, kd, yv, pa, na, ty, fr, ym, oN, yT, yC, yE, oH, ou, td)) j L [] := by
  have wj : vp_in (nI j) 40 := vp_in_nI (by omega) (by omega)
  have ej : (nI j).toNatClampNeg = j := nI_clamp (by omega)
  rcases hk with ⟨hk, a, ha, hta⟩ | ⟨hk, b, hb1, hb2, hb3, hb4⟩ | hk | hk | hk
  · obtain ⟨L, h1, h2, h3⟩ := zp_number (yv j) ha
    refine ⟨L, by omega, ?_, ?_⟩
    · intro n o l wk sp P hn hp
      refine ⟨wj, nm_r (e' := yv j) (by rw [ej]; exact hv) ⟨wj, nm_r (e' := 0) (by rw [ej]; exact hk) (br_f (by decide) (br_f (by decide) (br_t rfl ⟨wj, ?_⟩)))⟩⟩
      rw [ej, hty, nI_clamp (by omega), hta]
      exact ⟨vp_in_nI (by omega) (by omega), h2 n o _ (by omega) (fun x hx => hp (nI x) (zp_nl hx))⟩
    · intro n g sc o td P hn hg hp
      refine ⟨wj, nm_r (e' := 0) (by rw [ej]; exact hk) (br_t rfl ⟨wj, wj, ?_⟩)⟩
      rw [ej, hty, nI_clamp (by omega), hta]
      exact ⟨vp_in_nI (by omega) (by omega), h3 n o _ (by omega) (hp sc td (fun _ _ => rfl) trivial)⟩
  · obtain ⟨L, h1, h2, h3⟩ := zp_string hl hb2 hb3 hb4
    refine ⟨L, h1, ?_, ?_⟩
    · intro n o l wk sp P hn hp
      refine ⟨wj, nm_r rfl ⟨wj, nm_r (e' := 1) (by rw [ej]; exact hk) (br_f (by decide) (br_f (by decide) (br_f (by decide) (br_t rfl ⟨wj, ?_⟩))))⟩⟩
      rw [ej, hb1]
      exact h2 n o _ hT ht (by omega) (hp (nI 16) (by decide))
    · intro n g sc o td P hn hg hp
      refine ⟨wj, nm_r (e' := 1) (by rw [ej]; exact hk) (br_f (by decide) (br_t rfl ⟨wj, ?_⟩))⟩
      rw [ej, hb1]
      exact h3 n o _ hT ht (by omega) (hp sc td (fun _ _ => rfl) trivial)
  · have go : ∀ q : Nat, (q = 28 ∧ yv j = 1) ∨ (q = 29 ∧ ¬ yv j = 1) → ∃ L : List Nat, L.length ≤ 98 ∧ zp_XE (fun pr lt ou wk sp => (nI len, ap, st, er, pl, wt, wn, tg, rf, dp, pt, zs, te, pw, sg, bg, dg, bl, dw, es, nI c, bd, pr, lt, T, so, tA, tB, tC, fN, fO, fQ, fS, tO, oS, oT, oN, oC, oE, oH, cm, kd, vl, pa, na, ty, fr, ta, ou, wk, sp)) j L false ∧ zp_YS (fun pr wg sc ou td => (nI len, ps, ba, nI c, fl, pl, bd, yd, nn, wN, wT, pr, wg, sc, so, tA, tB, tC, fN, fO, fS, yt, fQ, T, be, en, ins, wh, kd, yv, pa, na, ty, fr, ym, oN, yT, yC, yE, oH, ou, td)) j L [] := by
      intro q hq
      refine ⟨[q], by simp only [List.length_cons, List.length_nil]; omega, ?_, ?_⟩
      · intro n o l wk sp P hn hp
        refine ⟨wj, nm_r (e' := yv j) (by rw [ej]; exact hv) ⟨wj, nm_r (e' := 2) (by rw [ej]; exact hk) (br_f (by decide) (br_f (by decide) (br_f (by decide) (br_f (by decide) (br_t rfl ?_)))))⟩⟩
        rcases hq with ⟨rfl, hq⟩ | ⟨rfl, hq⟩
        · exact br_t hq (xp_w (c := 28) (by omega) (by decide) (hp (nI 28) (by decide)))
        · exact br_f hq (xp_w (c := 29) (by omega) (by decide) (hp (nI 29) (by decide)))
      · intro n g sc o td P hn hg hp
        refine ⟨wj, nm_r (e' := 2) (by rw [ej]; exact hk) (br_f (by decide) (br_f (by decide) (br_t rfl ⟨wj, ?_⟩)))⟩
        rw [ej]
        rcases hq with ⟨rfl, hq⟩ | ⟨rfl, hq⟩
        · exact br_t hq (yp_w (c := 28) (by omega) (hp sc td (fun _ _ => rfl) trivial))
        · exact br_f hq (yp_w (c := 29) (by omega) (hp sc td (fun _ _ => rfl) trivial))
    by_cases q : yv j = 1
    · exact go 28 (Or.inl ⟨rfl, q⟩)
    · exact go 29 (Or.inr ⟨rfl, q⟩)
  · refine ⟨[27], by simp only [List.length_cons, List.length_nil]; omega, ?_, ?_⟩
    · intro n o l wk sp P hn hp
      refine ⟨wj, nm_r rfl ⟨wj, nm_r (e' := 5) (by rw [ej]; exact hk) (br_f (by decide) (br_f (by decide) (br_f (by decide) (br_f (by decide) (br_f (by decide) (br_f (by decide) (br_f (by decide) (br_t rfl ?_))))))))⟩⟩
      exact xp_w (c := 27) (by omega) (by decide) (hp (nI 27) (by decide))
    · intro n g sc o td P hn hg hp
      refine ⟨wj, nm_r (e' := 5) (by rw [ej]; exact hk) (br_f (by decide) (br_f (by decide) (br_f (by decide) (br_f (by decide) (br_f (by decide) (br_t rfl ?_))))))⟩
      exact yp_w (c := 27) (by omega) (hp sc td (fun _ _ => rfl) trivial)
  · obtain ⟨L, h1, h2, h3⟩ := zp_number (yv j) (dc := 0) (by omega)
    refine ⟨L, by omega, ?_, ?_⟩
    · intro n o l wk sp P hn hp
      refine ⟨wj, nm_r (e' := yv j) (by rw [ej]; exact hv) ⟨wj, nm_r (e' := 6) (by rw [ej]; exact hk) (br_f (by decide) (br_t (by decide) ?_))⟩⟩
      exact h2 n o _ (by omega) (fun x hx => hp (nI x) (zp_nl hx))
    · intro n g sc o td P hn hg hp
      refine ⟨wj, nm_r (e' := 6) (by rw [ej]; exact hk) (br_f (by decide) (br_f (by decide) (br_f (by decide) (br_f (by decide) (br_f (by decide) (br_f (by decide) ⟨wj, ?_⟩))))))⟩
      rw [ej]
      exact h3 n o _ (by omega) (hp sc td (fun _ _ => rfl) trivial)
end L
end ZPN
end
section
section ZPB
variable {t : Nat → Nat} {len c j : Nat} {ap : Int32} {st : Int32} {er : Int32} {pl : Int32} {wt : Int32} {wn : Int32} {tg : Int32} {rf : Int32} {dp : Int32} {pt : Int32} {zs : Int32} {te : Int32} {pw : Int32} {sg : Int32} {bg : Int32} {dg : Int64} {bl : Int32} {dw : Int32} {es : Int32} {ct : Int32} {bd : Int32} {pr : Int32} {lt : Int32} {T : Nat → Int32} {so : Nat → Int32} {tA : Nat → Int32} {tB : Nat → Int32} {tC : Nat → Int32} {fN : Nat → Int32} {fO : Nat → Int32} {fQ : Nat → Int32} {fS : Nat → Int32} {tO : Nat → Int32} {oS : Nat → Int32} {oT : Nat → Int32} {oN : Nat → Int32} {oC : Nat → Int32} {oE : Nat → Int32} {oH : Nat → Int32} {cm : Nat → Int32} {kd : Nat → Int32} {vl : Nat → Int32} {pa : Nat → Int32} {na : Nat → Int32} {ty : Nat → Int32} {fr : Nat → Int32} {ta : Nat → Int32} {ou : Nat → Int32} {wk : Nat → Int32} {sp : Nat → Int32} {yc : Int32} {yd : Int32} {ps : Int32} {ba : Int32} {fl : Int32} {nn : Int32} {wN : Int32} {wT : Int32} {wg : Int32} {sc : Int32} {yt : Nat → Int32} {be : Nat → Int32} {en : Nat → Int32} {ins : Nat → Int32} {wh : Nat → Int32} {yv : Nat → Int32} {yT : Nat → Int32} {yC : Nat → Int32} {yE : Nat → Int32} {td : Nat → Int32} {ym : Nat → Int32}
theorem zp_nodeD {dep : Nat → Nat} (hT : ∀ i, T i = nI (t i)) (ht : ∀ i, t i < 32) (hl : len ≤ 96) (hTab : zr_Tab so tA tC fN fO fS tO yt) (hc : c ≤ 40) (hj : j < c) (hv : vl j = yv j) (hN : zl_Nd t len so be en c 0 oN oS kd yv pa na ty fr ta dep j) :
    ∃ D : List Nat × Bool × ZK × List Nat, zp_XE (fun pr lt ou wk sp => (nI len, ap, st, er, pl, wt, wn, tg, rf, dp, pt, zs, te, pw, sg, bg, dg, bl, dw, es, nI c, bd, pr, lt, T, so, tA, tB, tC, fN, fO, fQ, fS, tO, oS, oT, oN, oC, oE, oH, cm, kd, vl, pa, na, ty, fr, ta, ou, wk, sp)) j D.1 D.2.1 ∧ (∀ post, zp_XS (fun pr lt ou wk sp => (nI len, ap, st, er, pl, wt, wn, tg, rf, dp, pt, zs, te, pw, sg, bg, dg, bl, dw, es, nI c, bd, pr, lt, T, so, tA, tB, tC, fN, fO, fQ, fS, tO, oS, oT, oN, oC, oE, oH, cm, kd, vl, pa, na, ty, fr, ta, ou, wk, sp)) (fun m x1 u => match u with | (ln, ap, st, er, pl, wt, wn, tg, rf, dp, pt, zs, te, pw, sg, bg, dg, bl, dw, es, ct, bd, pr, lt, T, so, tA, tB, tC, fN, fO, fQ, fS, tO, oS, oT, oN, oC, oE, oH, cm, kd, vl, pa, na, ty, fr, ta, ou, wk, sp) => wX_print_35 post m x1 ln ap st er pl wt wn tg rf dp pt zs te pw sg bg dg bl dw es ct bd pr lt T so tA tB tC fN fO fQ fS tO oS oT oN oC oE oH cm kd vl pa na ty fr ta ou wk sp) (zp_c pa na c j) j D.2.1 D.2.2.1 D.2.2.2)
      ∧ zp_YS (fun pr wg sc ou td => (nI len, ps, ba, nI c, fl, pl, bd, yd, nn, wN, wT, pr, wg, sc, so, tA, tB, tC, fN, fO, fS, yt, fQ, T, be, en, ins, wh, kd, yv, pa, na, ty, fr, ym, oN, yT, yC, yE, oH, ou, td)) j D.1 (zp_it (zp_c pa na c j) D.2.1 D.2.2.1 ++ D.2.2.2)
      ∧ D.1.length ≤ 98 ∧ (∀ k w, (k, w) ∈ D.2.2.1 → ∀ x, x ∈ k → x < 100) ∧ D.2.2.1.Pairwise (fun a b => a.2 ≠ b.2) ∧ (∀ x, x ∈ D.2.2.2 → x < 100) ∧ (D.2.2.1 ≠ [] → dep j ≤ 5) ∧ (zp_it (zp_c pa na c j) D.2.1 D.2.2.1 ++ D.2.2.2).length ≤ 41 := by
  obtain ⟨d6, par, s, hs, hty, hk⟩ := hN
  have leaf : kd j ≠ 3 → kd j ≠ 4 → ((kd j = 0 ∧ ∃ a, a ≤ 4 ∧ tA s = nI a) ∨ (kd j = 1 ∧ ∃ b, fr j = nI b ∧ b < len ∧ t b = 16 ∧ (zs_sc t len 97 (b + 1)).1 = 1) ∨ kd j = 2 ∨ kd j = 5 ∨ kd j = 6) → ∃ D : List Nat × Bool × ZK × List Nat, zp_XE (fun pr lt ou wk sp => (nI len, ap, st, er, pl, wt, wn, tg, rf, dp, pt, zs, te, pw, sg, bg, dg, bl, dw, es, nI c, bd, pr, lt, T, so, tA, tB, tC, fN, fO, fQ, fS, tO, oS, oT, oN, oC, oE, oH, cm, kd, vl, pa, na, ty, fr, ta, ou, wk, sp)) j D.1 D.2.1 ∧ (∀ post, zp_XS (fun pr lt ou wk sp => (nI len, ap, st, er, pl, wt, wn, tg, rf, dp, pt, zs, te, pw, sg, bg, dg, bl, dw, es, nI c, bd, pr, lt, T, so, tA, tB, tC, fN, fO, fQ, fS, tO, oS, oT, oN, oC, oE, oH, cm, kd, vl, pa, na, ty, fr, ta, ou, wk, sp)) (fun m x1 u => match u with | (ln, ap, st, er, pl, wt, wn, tg, rf, dp, pt, zs, te, pw, sg, bg, dg, bl, dw, es, ct, bd, pr, lt, T, so, tA, tB, tC, fN, fO, fQ, fS, tO, oS, oT, oN, oC, oE, oH, cm, kd, vl, pa, na, ty, fr, ta, ou, wk, sp) => wX_print_35 post m x1 ln ap st er pl wt wn tg rf dp pt zs te pw sg bg dg bl dw es ct bd pr lt T so tA tB tC fN fO fQ fS tO oS oT oN oC oE oH cm kd vl pa na ty fr ta ou wk sp) (zp_c pa na c j) j D.2.1 D.2.2.1 D.2.2.2)
      ∧ zp_YS (fun pr wg sc ou td => (nI len, ps, ba, nI c, fl, pl, bd, yd, nn, wN, wT, pr, wg, sc, so, tA, tB, tC, fN, fO, fS, yt, fQ, T, be, en, ins, wh, kd, yv, pa, na, ty, fr, ym, oN, yT, yC, yE, oH, ou, td)) j D.1 (zp_it (zp_c pa na c j) D.2.1 D.2.2.1 ++ D.2.2.2)
      ∧ D.1.length ≤ 98 ∧ (∀ k w, (k, w) ∈ D.2.2.1 → ∀ x, x ∈ k → x < 100) ∧ D.2.2.1.Pairwise (fun a b => a.2 ≠ b.2) ∧ (∀ x, x ∈ D.2.2.2 → x < 100) ∧ (D.2.2.1 ≠ [] → dep j ≤ 5) ∧ (zp_it (zp_c pa na c j) D.2.1 D.2.2.1 ++ D.2.2.2).length ≤ 41 := by
    intro n3 n4 hk'
    obtain ⟨L, l1, l2, l3⟩ := zp_leaf hT ht hl hc hj hs hty hv hk'
    exact ⟨(L, false, [], []), l2, fun post => zp_xsL hc hj n3 n4, l3, l1, fun k w hm => absurd hm (by simp), List.Pairwise.nil, fun x hm => absurd hm (by simp), fun z => absurd rfl z, Nat.zero_le _⟩
  have hTs := hTab s hs
  have rk : ∀ (f : Nat) (n : Nat), n ≤ 4 → (∀ q, q < n → ∃ a, a ≤ 5 ∧ fN (4 * f + q) = nI a) → (∀ k w, (k, w) ∈ zp_kf fN f 0 n → ∀ x, x ∈ k → x < 100) ∧ ∀ b, (zp_it (zp_c pa na c j) b (zp_kf fN f 0 n) ++ [11]).length ≤ 41 := by
    intro f n hn hf
    constructor
    · intro k w hm x hx
      obtain ⟨q, q1, q2, _, rfl⟩ := zp_kfm _ _ _ _ hm
      obtain ⟨a, ha, ea⟩ := hf q (by omega)
      rw [ea, nI_clamp (by omega)] at hx
      simp only [List.mem_cons, List.not_mem_nil, or_false] at hx
      omega
    · intro b
      have := zp_itlen (ch := zp_c pa na c j) (q := 4) (zp_kf fN f 0 n) b (fun k w hm => by
        obtain ⟨q, _, _, _, rfl⟩ := zp_kfm _ _ _ _ hm
        exact Nat.le_refl _)
      rw [zp_kflen] at this
      simp only [List.length_append, List.length_cons, List.length_nil]
      omega
  rcases hk with ⟨k0, s1⟩ | ⟨k1, hb⟩ | k2 | ⟨k3, d5, v, v20, hyv, hch⟩ | ⟨k4, d5, ⟨s5, hta⟩ | ⟨s6, ⟨i, z, _⟩ | hCh⟩⟩ | k5 | k6
  · exact leaf (by rw [k0]; decide) (by rw [k0]; decide) (Or.inl ⟨k0, hTs.2.1 s1⟩)
  · exact leaf (by rw [k1]; decide) (by rw [k1]; decide) (Or.inr (Or.inl ⟨k1, hb⟩))
  · exact leaf (by rw [k2]; decide) (by rw [k2]; decide) (Or.inr (Or.inr (Or.inl k2)))
  · have hch' : ∀ i, i < v → ∃ r, zp_c pa na c j (nI i) = some r := fun i hi => by
      obtain ⟨q, q1, q2, q3, q4⟩ := hch i hi
      exact zp_c_ex q1 q2 q3 q4
    refine ⟨([12], true, zp_kl 0 v, [13]), zp_xeL (s := 0) (by omega) k3, fun post => ?_, zp_ysL hc hj k3 v20 hyv hch', by simp only [List.length_cons, List.length_nil]; omega, ?_, zp_klP v 0 (by omega), ?_, fun _ => d5, ?_⟩
    · exact zp_xsB (x4 := 1) (slot := 0) (v := v) hc hj (Or.inl ⟨k3, rfl, hv.trans hyv, rfl⟩) (zp_kllen v 0).symm (fun p K h => by have := zp_klK (fN := fN) (slot := 0) p K v 0 h; rw [Nat.zero_add] at this; exact this) (by rw [zp_kllen]; exact v20) (fun z => absurd z (by decide)) zp_nx_ne
    · intro k w hm x hx
      rw [(zp_klm _ _ _ _ hm).1] at hx
      exact absurd hx (by simp)
    · intro x hx
      have : x = 13 := by simpa using hx
      omega
    · have := zp_itlen (ch := zp_c pa na c j) (q := 0) (zp_kl 0 v) true (fun k w hm => by rw [(zp_klm _ _ _ _ hm).1]; exact Nat.le_refl _)
      rw [zp_kllen] at this
      simp only [List.length_append, List.length_cons, List.length_nil]
      omega
  · obtain ⟨n, n4, hfS, hfN, hdi⟩ := hTs.2.2.2.2.2.2.2
    have hfN' : ∀ f, f < n → ∃ a, a ≤ 5 ∧ fN (4 * s + f) = nI a := fun f hf => (hfN f hf).1
    have htn : ta j < 0 := by rw [hta]; decide
    obtain ⟨r1, r2⟩ := rk s n n4 hfN'
    refine ⟨([10], true, zp_kf fN s 0 n, [11]), zp_xeR (by omega) k4 htn, fun post => ?_, zp_ysR hc hj k4 hs hty s5 n4 hfS hfN', by simp only [List.length_cons, List.length_nil]; omega, r1, zp_kfP hdi n 0 (by omega), ?_, fun _ => d5, r2 true⟩
    · exact zp_xsB (x4 := 0) (slot := s) (v := n) hc hj (Or.inr ⟨k4, rfl, hs, Or.inl ⟨htn, hty⟩, hfS, rfl⟩) (zp_kflen n 0).symm (fun p K h => by have := zp_kfK hfN' p K n 0 (by omega) h; rw [Nat.zero_add] at this; exact this) (by rw [zp_kflen]; omega) (fun _ => by rw [zp_kflen]; exact n4) zp_nx_ne
    · intro x hx
      have : x = 11 := by simpa using hx
      omega
  · omega
  · obtain ⟨⟨v, v12, hyv⟩, g, g5, hta, kk, kk3, hbe, hbe', hU⟩ := hCh
    obtain ⟨n, n4, hfS, hfN, hdi⟩ := (hTab v v12).2.2.2.2.2.2.2
    have hfN' : ∀ f, f < n → ∃ a, a ≤ 5 ∧ fN (4 * v + f) = nI a := fun f hf => (hfN f hf).1
    obtain ⟨a, a5, htA⟩ := hTs.2.2.2.2.1 s6
    have htn : ¬ ta j < 0 := by rw [hta]; exact nI_nlt (b := 0) (Nat.zero_le _) (by omega)
    obtain ⟨r1, r2⟩ := rk v n n4 hfN'
    refine ⟨([10, 16, 21 + a, 16, 14, g], false, zp_kf fN v 0 n, [11]), zp_xeC (by omega) k4 hs hty a5 htA g5 hta, fun post => ?_, zp_ysC hc hj k4 hs hty s6 v12 hyv a5 htA n4 hfS hfN' hT kk3 hbe hbe' hU, by simp only [List.length_cons, List.length_nil]; omega, r1, zp_kfP hdi n 0 (by omega), ?_, fun _ => d5, r2 false⟩
    · exact zp_xsB (x4 := 0) (slot := v) (v := n) hc hj (Or.inr ⟨k4, rfl, v12, Or.inr ⟨htn, hv.trans hyv⟩, hfS, rfl⟩) (zp_kflen n 0).symm (fun p K h => by have := zp_kfK hfN' p K n 0 (by omega) h; rw [Nat.zero_add] at this; exact this) (by rw [zp_kflen]; omega) (fun _ => by rw [zp_kflen]; exact n4) zp_nx_ne
    · intro x hx
      have : x = 11 := by simpa using hx
      omega
  · exact leaf (by rw [k5]; decide) (by rw [k5]; decide) (Or.inr (Or.inr (Or.inr (Or.inl k5))))
  · exact leaf (by rw [k6]; decide) (by rw [k6]; decide) (Or.inr (Or.inr (Or.inr (Or.inr k6))))
end ZPB
end
section
/-! printing: no more than some 40000 characters -/
section ZPL
def zp_kd : List Nat → List Nat
  | [] => []
  | x :: L => if x < 100 then zp_kd L else (x - 100) :: zp_kd L
theorem zp_kd_app (B : List Nat) : ∀ A, zp_kd (A ++ B) = zp_kd A ++ zp_kd B := by
  intro A
  induction A with
  | nil => rfl
  | cons x A ih =>
    simp only [List.cons_append, zp_kd]
    split
    · exact ih
    · rw [ih]; rfl
theorem zp_kd_nil : ∀ A : List Nat, (∀ x, x ∈ A → x < 100) → zp_kd A = [] := by
  intro A
  induction A with
  | nil => intro h; rfl
  | cons x A ih =>
    intro h
    simp only [zp_kd]
    rw [if_pos (h x (List.mem_cons_self ..))]
    exact ih (fun y hy => h y (List.mem_cons_of_mem _ hy))
theorem zp_kd_mem : ∀ (A : List Nat) r, r ∈ zp_kd A → 100 + r ∈ A := by
  intro A
  induction A with
  | nil => intro r h; exact absurd h (by simp [zp_kd])
  | cons x A ih =>
    intro r h
    simp only [zp_kd] at h
    by_cases c : x < 100
    · rw [if_pos c] at h
      exact List.mem_cons_of_mem _ (ih r h)
    · rw [if_neg c] at h
      rcases List.mem_cons.mp h with e | e
      · rw [e, show 100 + (x - 100) = x from by omega]; exact List.mem_cons_self ..
      · exact List.mem_cons_of_mem _ (ih r e)
theorem zp_kd_mem' : ∀ (A : List Nat) x, x ∈ A → 100 ≤ x → x - 100 ∈ zp_kd A := by
  intro A
  induction A with
  | nil => intro r h; exact absurd h (by simp)
  | cons y A ih =>
    intro x h hx
    simp only [zp_kd]
    rcases List.mem_cons.mp h with e | e
    · subst e
      rw [if_neg (by omega)]
      exact List.mem_cons_self ..
    · by_cases c : y < 100
      · rw [if_pos c]; exact ih x e hx
      · rw [if_neg c]; exact List.mem_cons_of_mem _ (ih x e hx)
theorem zp_kdit {ch : Int32 → Option Nat} : ∀ (K : ZK) b, (∀ k w, (k, w) ∈ K → ∀ x, x ∈ k → x < 100) → (∀ r, r ∈ zp_kd (zp_it ch b K) → ∃ k w, (k, w) ∈ K ∧ ch w = some r)
    ∧ ((∀ w w' r, ch w = some r → ch w' = some r → w = w') → K.Pairwise (fun a b => a.2 ≠ b.2) → (zp_kd (zp_it ch b K)).Nodup) := by
  intro K
  induction K with
  | nil => intro b h; exact ⟨fun r hr => absurd hr (by simp [zp_it, zp_kd]), fun _ _ => List.Pairwise.nil⟩
  | cons kw K ih =>
    intro b h
    obtain ⟨k, w⟩ := kw
    have hk := h k w (List.mem_cons_self ..)
    have ih' := fun b' => ih b' (fun k' w' hm => h k' w' (List.mem_cons_of_mem _ hm))
    simp only [zp_it]
    cases e : ch w with
    | none =>
      dsimp only
      refine ⟨fun r hr => ?_, fun h1 h2 => (ih' b).2 h1 (List.pairwise_cons.mp h2).2⟩
      obtain ⟨k', w', q1, q2⟩ := (ih' b).1 r hr
      exact ⟨k', w', List.mem_cons_of_mem _ q1, q2⟩
    | some r0 =>
      dsimp only
      have s0 : zp_kd (if b = true then [] else [15]) = [] := by
        by_cases c : b = true
        · rw [if_pos c]; rfl
        · rw [if_neg c]; rfl
      have ek : zp_kd ((if b = true then [] else [15]) ++ (k ++ (100 + r0) :: zp_it ch false K)) = r0 :: zp_kd (zp_it ch false K) := by
        rw [zp_kd_app, s0, zp_kd_app, zp_kd_nil k hk]
        simp only [zp_kd, List.nil_append]
        rw [if_neg (by omega), show 100 + r0 - 100 = r0 from by omega]
      rw [ek]
      refine ⟨fun r hr => ?_, fun h1 h2 => ?_⟩
      · rcases List.mem_cons.mp hr with q | q
        · exact ⟨k, w, List.mem_cons_self .., by rw [q]; exact e⟩
        · obtain ⟨k', w', q1, q2⟩ := (ih' false).1 r q
          exact ⟨k', w', List.mem_cons_of_mem _ q1, q2⟩
      · refine List.Pairwise.cons (fun r hr => ?_) ((ih' false).2 h1 (List.pairwise_cons.mp h2).2)
        rintro rfl
        obtain ⟨k', w', q1, q2⟩ := (ih' false).1 _ hr
        exact (List.pairwise_cons.mp h2).1 (k', w') q1 (h1 w w' _ e q2)
def zp_tl (F : Nat → List Nat) : List Nat → Nat
  | [] => 0
  | j :: Js => (F j).length + zp_tl F Js
theorem zp_tl_app (F : Nat → List Nat) (B : List Nat) : ∀ A, zp_tl F (A ++ B) = zp_tl F A + zp_tl F B := by
  intro A
  induction A with
  | nil => simp only [List.nil_append, zp_tl]; omega
  | cons x A ih => simp only [List.cons_append, zp_tl]; omega
theorem zp_fllen (F : Nat → List Nat) : ∀ L, (zp_fl F L).length ≤ L.length + zp_tl F (zp_kd L) := by
  intro L
  induction L with
  | nil => exact Nat.zero_le _
  | cons x L ih =>
    simp only [zp_fl, zp_kd, List.length_append, List.length_cons]
    by_cases c : x < 100
    · rw [if_pos c, if_pos c]; simp only [List.length_cons, List.length_nil]; omega
    · rw [if_neg c, if_neg c]; simp only [zp_tl]; omega
def zp_lv (im : Nat → List Nat) : List Nat → List Nat
  | [] => []
  | j :: Js => zp_kd (im j) ++ zp_lv im Js
theorem zp_lv_mem (im : Nat → List Nat) : ∀ Js r, r ∈ zp_lv im Js → ∃ j, j ∈ Js ∧ r ∈ zp_kd (im j) := by
  intro Js
  induction Js with
  | nil => intro r h; exact absurd h (by simp [zp_lv])
  | cons j Js ih =>
    intro r h
    simp only [zp_lv] at h
    rcases List.mem_append.mp h with e | e
    · exact ⟨j, List.mem_cons_self .., e⟩
    · obtain ⟨i, h1, h2⟩ := ih r e
      exact ⟨i, List.mem_cons_of_mem _ h1, h2⟩
variable {hd im : Nat → List Nat} {c : Nat}
theorem zp_lvg (hk : ∀ j, j < c → (zp_kd (im j)).Nodup) (hp : ∀ j r, j < c → r ∈ zp_kd (im j) → r < c) (hu : ∀ j j' r, j < c → j' < c → r ∈ zp_kd (im j) → r ∈ zp_kd (im j') → j = j') : ∀ Js : List Nat, Js.Nodup → (∀ j, j ∈ Js → j < c) → (zp_lv im Js).Nodup ∧ ∀ j, j ∈ zp_lv im Js → j < c := by
  intro Js
  induction Js with
  | nil => intro h1 h2; exact ⟨List.Pairwise.nil, fun j hj => absurd hj (by simp [zp_lv])⟩
  | cons j Js ih =>
    intro h1 h2
    have hj := h2 j (List.mem_cons_self ..)
    obtain ⟨h11, h12⟩ := List.nodup_cons.mp h1
    obtain ⟨i1, i2⟩ := ih h12 (fun i hi => h2 i (List.mem_cons_of_mem _ hi))
    simp only [zp_lv]
    refine ⟨List.nodup_append.mpr ⟨hk j hj, i1, ?_⟩, fun r hr => ?_⟩
    · intro a ha b hb e
      subst e
      obtain ⟨j', q1, q2⟩ := zp_lv_mem im Js a hb
      have := hu j j' a hj (h2 j' (List.mem_cons_of_mem _ q1)) ha q2
      subst this
      exact h11 q1
    · rcases List.mem_append.mp hr with e | e
      · exact hp j r hj e
      · exact i2 r e
theorem zp_tl1 (hh : ∀ j, j < c → (hd j).length ≤ 98) (hi : ∀ j, j < c → (im j).length ≤ 41) (h : Nat) : ∀ Js : List Nat, (∀ j, j ∈ Js → j < c) → zp_tl (zp_full hd im (h + 1)) Js ≤ 139 * Js.length + zp_tl (zp_full hd im h) (zp_lv im Js) := by
  intro Js
  induction Js with
  | nil => intro _; exact Nat.zero_le _
  | cons j Js ih =>
    intro h2
    have hj := h2 j (List.mem_cons_self ..)
    have i1 := ih (fun i hi => h2 i (List.mem_cons_of_mem _ hi))
    have q1 := hh j hj
    have q2 := hi j hj
    have q3 := zp_fllen (zp_full hd im h) (im j)
    simp only [zp_tl, zp_lv, zp_tl_app, List.length_cons, zp_full, List.length_append] at i1 ⊢
    omega
theorem zp_tlb (hc : c ≤ 40) (hh : ∀ j, j < c → (hd j).length ≤ 98) (hi : ∀ j, j < c → (im j).length ≤ 41) (hk : ∀ j, j < c → (zp_kd (im j)).Nodup) (hp : ∀ j r, j < c → r ∈ zp_kd (im j) → r < c) (hu : ∀ j j' r, j < c → j' < c → r ∈ zp_kd (im j) → r ∈ zp_kd (im j') → j = j') : ∀ h (Js : List Nat), Js.Nodup → (∀ j, j ∈ Js → j < c) → zp_tl (zp_full hd im h) Js ≤ 5560 * h := by
  intro h
  induction h with
  | zero =>
    intro Js _ _
    have : ∀ Js : List Nat, zp_tl (zp_full hd im 0) Js = 0 := by
      intro Js
      induction Js with
      | nil => rfl
      | cons j Js ih =>
        show 0 + zp_tl (zp_full hd im 0) Js = 0
        rw [ih]
    rw [this]
    exact Nat.zero_le _
  | succ h ih =>
    intro Js h1 h2
    have l1 : Js.length ≤ 40 := by
      have := List.Nodup.length_le_of_subset h1 (l₂ := List.range c) (fun j hj => List.mem_range.mpr (h2 j hj))
      rw [List.length_range] at this
      omega
    obtain ⟨g1, g2⟩ := zp_lvg hk hp hu Js h1 h2
    have i1 := ih _ g1 g2
    have i2 := zp_tl1 hh hi h Js h2
    omega
end ZPL
end
section
/-! printing -/
section ZPF
theorem zp_yp {ln ps ba ct fl yp yb dp nn wN wT : Int32} {so tA tB tC fN fO fS yt fQ T be en ins wh kd yv pa na ty fr cm oN yT yC yE oH : Nat → Int32} {post : Int32 → SY → Prop} : zp_YP (fun pr wg sc ou td => (ln, ps, ba, ct, fl, yp, yb, dp, nn, wN, wT, pr, wg, sc, so, tA, tB, tC, fN, fO, fS, yt, fQ, T, be, en, ins, wh, kd, yv, pa, na, ty, fr, cm, oN, yT, yC, yE, oH, ou, td)) (fun m u => match u with | (ln, ps, ba, ct, fl, yp, yb, dp, nn, wN, wT, pr, wg, sc, so, tA, tB, tC, fN, fO, fS, yt, fQ, T, be, en, ins, wh, kd, yv, pa, na, ty, fr, cm, oN, yT, yC, yE, oH, ou, td) => wY_print_23 post m ln ps ba ct fl yp yb dp nn wN wT pr wg sc so tA tB tC fN fO fS yt fQ T be en ins wh kd yv pa na ty fr cm oN yT yC yE oH ou td) := by
  intro m n g sc o td hn hg
  have wg1 : vp_in (nI g) 600 := vp_in_nI (by omega) (by omega)
  have eg : (nI g).toNatClampNeg = g := nI_clamp (by omega)
  constructor
  · intro x hx htd h
    refine br_f (nI_nle (by omega) (by omega)) (nm_r (nI_pred g) ⟨wg1, nm_r (e' := nI x) (by rw [eg]; exact htd) (br_f (nI_ge (b := 100) hx (by omega)) ?_)⟩)
    exact yp_w (by omega) h
  · intro r hr htd h
    refine br_f (nI_nle (by omega) (by omega)) (nm_r (nI_pred g) ⟨wg1, nm_r (e' := nI (100 + r)) (by rw [eg]; exact htd) (br_t (nI_le (a := 100) (by omega) (by omega)) ?_)⟩)
    have e : nI (100 + r) - 100 = nI r := by
      rw [Nat.add_comm, ← nI_add]
      exact Int32.add_sub_cancel ..
    rw [e]
    exact h
theorem i_vc_print {k : Nat} {u : SX} {v : SY} (I : i_Rel k u v) (hk : k + 6 ≤ 3072) : wpX_print (fun r u' => wpY_print (fun r' v' => r' = r ∧ i_Rel (k + 6) u' v') v) u := by
  refine zr_el (P := fun u v => wpX_print (fun r u' => wpY_print (fun r' v' => r' = r ∧ i_Rel (k + 6) u' v') v) u) ?_ I
  intro t len ap st er pl wt wn tg rf dp pt zs te pw sg bg dg bl dw es ct bd pr lt T so tA tB tC fN fO fQ fS tO oS oT oN oC oE oH cm kd vl pa na ty fr ta ou wk sp yc yd ps ba fl nn wN wT wg sc yt be en ins wh yv yT yC yE td ym h
  obtain ⟨hT, ht, hl, htab, hbd⟩ := id h
  rcases hbd with rfl | ⟨rfl, c, c1, c40, rfl, rfl, hvl, dep, _, hN⟩
  · exact br_t rfl (br_t rfl ⟨1, br_t (by decide) ⟨rfl, zr_in h⟩⟩)
  · have b1 : ¬ (1 : Int32) = 0 := by decide
    have hDx := fun j (hj : j < c) => zp_nodeD (len := len) (pl := pl) (bd := 1) (ap := ap) (st := st) (er := er) (wt := wt) (wn := wn) (tg := tg) (rf := rf) (dp := dp) (pt := pt) (zs := zs) (te := te) (pw := pw) (sg := sg) (bg := bg) (dg := dg) (bl := bl) (dw := dw) (es := es) (T := T) (so := so) (tA := tA) (tB := tB) (tC := tC) (fN := fN) (fO := fO) (fQ := fQ) (fS := fS) (tO := tO) (oS := oS) (oT := oT) (oN := oN) (oC := oC) (oE := oE) (oH := oH) (cm := cm) (kd := kd) (vl := vl) (pa := pa) (na := na) (ty := ty) (fr := fr) (ta := ta) (yd := yd) (ps := ps) (ba := ba) (fl := fl) (nn := nn) (wN := wN) (wT := wT) (yt := yt) (be := be) (en := en) (ins := ins) (wh := wh) (yv := yv) (yT := yT) (yC := yC) (yE := yE) (ym := ym) hT ht hl htab c40 hj (hvl j hj) (hN j hj)
    obtain ⟨D, hD⟩ := Classical.axiomOfChoice (fun j => show ∃ D : List Nat × Bool × ZK × List Nat, j < c → _ from if hj : j < c then (hDx j hj).elim (fun D q => ⟨D, fun _ => q⟩) else ⟨([], false, [], []), fun z => absurd z hj⟩)
    clear hDx
    have d0 : dep 0 = 0 := by
      rcases (hN 0 (by omega)).2.1 with ⟨_, z⟩ | ⟨q, z, _⟩
      · exact z
      · omega
    have hch : ∀ j, j < c → ∀ w r, zp_c pa na c j w = some r → r < c ∧ dep r = dep j + 1 := by
      intro j hj w r e
      obtain ⟨e1, e2, e3, e4⟩ := zp_c_s e
      refine ⟨e2, ?_⟩
      rcases (hN r e2).2.1 with ⟨z, _⟩ | ⟨q, z1, z2, z3⟩
      · omega
      · have : q = j := (nI_eq (by omega) (by omega)).mp (z2.symm.trans e3)
        rw [← this]; exact z3
    have h6 : ∀ j, j < c → dep j ≤ 6 := fun j hj => (hN j hj).1
    clear hN
    obtain ⟨im, him⟩ : ∃ im : Nat → List Nat, ∀ j, im j = zp_it (zp_c pa na c j) (D j).2.1 (D j).2.2.1 ++ (D j).2.2.2 := ⟨_, fun j => rfl⟩
    have kids : ∀ j, j < c → zp_kd (im j) = zp_kd (zp_it (zp_c pa na c j) (D j).2.1 (D j).2.2.1) := by
      intro j hj
      rw [him, zp_kd_app, zp_kd_nil _ (hD j hj).2.2.2.2.2.2.1, List.append_nil]
    have kmem : ∀ j, j < c → ∀ r, r ∈ zp_kd (im j) → ∃ w, zp_c pa na c j w = some r := by
      intro j hj r hr
      rw [kids j hj] at hr
      obtain ⟨_, w, _, q⟩ := (zp_kdit _ _ (hD j hj).2.2.2.2.1).1 r hr
      exact ⟨w, q⟩
    have knd : ∀ j, j < c → (zp_kd (im j)).Nodup := by
      intro j hj
      rw [kids j hj]
      exact (zp_kdit _ _ (hD j hj).2.2.2.2.1).2 (fun w w' r q1 q2 => (zp_c_s q1).2.2.2.symm.trans (zp_c_s q2).2.2.2) (hD j hj).2.2.2.2.2.1
    have kc : ∀ j r, j < c → r ∈ zp_kd (im j) → r < c := by
      intro j r hj hr
      obtain ⟨w, q⟩ := kmem j hj r hr
      exact (hch j hj w r q).1
    have ku : ∀ j j' r, j < c → j' < c → r ∈ zp_kd (im j) → r ∈ zp_kd (im j') → j = j' := by
      intro j j' r hj hj' hr hr'
      obtain ⟨w, q⟩ := kmem j hj r hr
      obtain ⟨w', q'⟩ := kmem j' hj' r hr'
      exact (nI_eq (by omega) (by omega)).mp ((zp_c_s q).2.2.1.symm.trans (zp_c_s q').2.2.1)
    have him41 : ∀ j, j < c → (im j).length ≤ 41 := by
      intro j hj
      rw [him]
      exact (hD j hj).2.2.2.2.2.2.2.2
    have tot : (zp_full (fun j => (D j).1) im 7 0).length ≤ 38920 := by
      have := zp_tlb (hd := fun j => (D j).1) (im := im) c40 (fun j hj => (hD j hj).2.2.2.1) him41 knd kc ku 7 [0] (List.nodup_cons.mpr ⟨by simp, List.Pairwise.nil⟩) (fun j hj => by
        have : j = 0 := by simpa using hj
        omega)
      simp only [zp_tl] at this
      omega
    have eF : zp_full (fun j => (D j).1) im 7 0 = (D 0).1 ++ zp_fl (zp_full (fun j => (D j).1) im 6) (im 0) := rfl
    have X : ∀ post : Int32 → SX → Prop, (∀ (l' : Int32) (wk' sp' : Nat → Int32), post (nI (zp_full (fun j => (D j).1) im 7 0).length) (nI len, ap, st, er, pl, wt, wn, tg, rf, dp, pt, zs, te, pw, sg, bg, dg, bl, dw, es, nI c, 1, nI (zp_full (fun j => (D j).1) im 7 0).length, l', T, so, tA, tB, tC, fN, fO, fQ, fS, tO, oS, oT, oN, oC, oE, oH, cm, kd, vl, pa, na, ty, fr, ta, zp_o (zp_full (fun j => (D j).1) im 7 0) 0 ou, wk', sp')) → wpX_print post (nI len, ap, st, er, pl, wt, wn, tg, rf, dp, pt, zs, te, pw, sg, bg, dg, bl, dw, es, nI c, 1, pr, lt, T, so, tA, tB, tC, fN, fO, fQ, fS, tO, oS, oT, oN, oC, oE, oH, cm, kd, vl, pa, na, ty, fr, ta, ou, wk, sp) := by
      intro post hp
      obtain ⟨N, hX⟩ := zp_xw (c := c) (dep := dep) (im := im) (hd := fun j => (D j).1) (fi := fun j => (D j).2.1) (ks := fun j => (D j).2.2.1) (cl := fun j => (D j).2.2.2) (fun j hj => (hD j hj).1) (fun j hj => (hD j hj).2.1 post) him (fun j hj => (hD j hj).2.2.2.2.1) (fun j hj => (hD j hj).2.2.2.2.2.2.1) hch h6 (fun j hj => (hD j hj).2.2.2.2.2.2.2.1) 6 0 (by omega) (by omega)
      rw [d0] at hX
      rw [eF, List.length_append] at tot
      rw [eF, zp_app, List.length_append, Nat.zero_add] at hp
      refine br_f b1 (nm_r (e' := upd wk 0 (nI 0)) (by rw [ze_b0]; rfl) (nm_r (e' := upd sp 0 (nI 0)) (by rw [ze_b0]; rfl) ?_))
      refine (hD 0 (by omega)).1 0 ou lt (upd wk 0 (nI 0)) (upd sp 0 (nI 0)) _ (by omega) ?_
      intro l' hl'
      refine ⟨1 + N, ?_⟩
      have := hX (upd wk 0 (nI 0)) (upd sp 0 (nI 0)) (0 + (D 0).1.length) (zp_o (D 0).1 0 ou) l' 1 pk_us pk_us hl' (by omega) (fun l2 wk2 sp2 q1 q2 => by
        refine br_t (by decide) ?_
        rw [Nat.zero_add]
        exact hp l2 wk2 sp2)
      exact this
    have Y : ∀ post : Int32 → SY → Prop, (∀ (sc' : Int32) (td' : Nat → Int32), post (nI (zp_full (fun j => (D j).1) im 7 0).length) (nI len, ps, ba, nI c, fl, pl, 1, yd, nn, wN, wT, nI (zp_full (fun j => (D j).1) im 7 0).length, nI 0, sc', so, tA, tB, tC, fN, fO, fS, yt, fQ, T, be, en, ins, wh, kd, yv, pa, na, ty, fr, ym, oN, yT, yC, yE, oH, zp_o (zp_full (fun j => (D j).1) im 7 0) 0 ou, td')) → wpY_print post (nI len, ps, ba, nI c, fl, pl, 1, yd, nn, wN, wT, pr, wg, sc, so, tA, tB, tC, fN, fO, fS, yt, fQ, T, be, en, ins, wh, kd, yv, pa, na, ty, fr, ym, oN, yT, yC, yE, oH, ou, td) := by
      intro post hp
      have yp := zp_yp (post := post) (ps := ps) (ba := ba) (fl := fl) (nn := nn) (wN := wN) (wT := wT) (so := so) (tA := tA) (tB := tB) (tC := tC) (fN := fN) (fO := fO) (fS := fS) (yt := yt) (fQ := fQ) (T := T) (be := be) (en := en) (ins := ins) (wh := wh) (kd := kd) (yv := yv) (pa := pa) (na := na) (ty := ty) (fr := fr) (oN := oN) (yT := yT) (yC := yC) (yE := yE) (oH := oH) (ln := nI len) (ct := nI c) (dp := yd) (yp := pl) (yb := 1) (cm := ym)
      obtain ⟨N, hY⟩ := zp_yw (c := c) (dep := dep) (im := im) (hd := fun j => (D j).1) c40 yp (fun j hj => by rw [him]; exact (hD j hj).2.2.1) him41 (fun j hj x hx x1 => by
        obtain ⟨w, q⟩ := kmem j hj _ (zp_kd_mem' _ x hx x1)
        exact hch j hj w _ q) h6 7 0 (by omega) (by omega)
      refine br_f b1 (yp_l (g := 0) (by omega) ⟨1 + N + 1, ?_⟩)
      have := (yp (1 + N) 0 0 sc ou (upd td 0 100) (by omega) (by omega)).2 0 (by omega) pk_us (hY 0 0 sc ou (upd td 0 100) 1 (by omega) (by omega) (fun sc' td' q1 => by
        refine br_t (by decide) ?_
        rw [Nat.zero_add]
        exact hp sc' td'))
      exact this
    exact X _ (fun l' wk' sp' => Y _ (fun sc' td' => ⟨rfl, zr_in h⟩))
end ZPF
end
