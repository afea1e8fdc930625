section
section
theorem pk_us {f : Nat → Int32} {k : Nat} {x : Int32} : upd f k x k = x := if_pos rfl
theorem pk_un {f : Nat → Int32} {k j : Nat} {x : Int32} (h : j ≠ k) : upd f k x j = f j := if_neg h
theorem pk_uLs {f : Nat → Int64} {k : Nat} {x : Int64} : vp_updL f k x k = x := if_pos rfl
theorem pk_uLn {f : Nat → Int64} {k j : Nat} {x : Int64} (h : j ≠ k) : vp_updL f k x j = f j := if_neg h
theorem pk_sub {a b : Nat} (h : b ≤ a) : nI a - nI b = nI (a - b) := by
  obtain ⟨c, rfl⟩ : ∃ c, a = c + b := ⟨a - b, by omega⟩
  rw [← nI_add, Int32.add_sub_cancel, Nat.add_sub_cancel]
theorem pk_m1 (n : Nat) : nI (n + 1) + (-1) = nI n := by
  rw [← nI_1, Int32.add_assoc, show (1 : Int32) + (-1) = 0 from rfl, Int32.add_zero]
theorem pk_mul (a b : Nat) : nI a * nI b = nI (a * b) := (Int32.ofNat_mul a b).symm
theorem pk_div {a d : Nat} (ha : a < 2 ^ 31) (h0 : 0 < d) (hd : d < 2 ^ 31) : nI a / nI d = nI (a / d) := by
  apply Int32.toInt_inj.mp
  rw [lg_idiv_nonneg (by rw [nI_toInt ha]; omega) (by rw [nI_toInt hd]; omega), nI_toInt ha, nI_toInt hd, nI_toInt (Nat.lt_of_le_of_lt (Nat.div_le_self a d) ha)]
  first | rfl | exact (Int.natCast_ediv _ _).symm
theorem pk_rem {a d : Nat} (ha : a < 2 ^ 31) (h0 : 0 < d) (hd : d < 2 ^ 31) : nI a - nI a / nI d * nI d = nI (a % d) := by
  rw [pk_div ha h0 hd, pk_mul, pk_sub (Nat.div_mul_le_self a d)]
  exact congrArg nI (by have := Nat.div_add_mod' a d; omega)
theorem pk_sub_toInt {a b : Nat} (ha : a < 2 ^ 30) (hb : b < 2 ^ 30) : (nI a - nI b).toInt = (a : Int) - b := by
  rw [Int32.toInt_sub, nI_toInt (by omega), nI_toInt (by omega)]
  exact Int.bmod_eq_of_le (by omega) (by omega)
theorem pk_sneg {a b : Nat} (hb : b < 2 ^ 30) (h : a < b) : nI a - nI b < 0 := by
  rw [Int32.lt_iff_toInt_lt, pk_sub_toInt (by omega) hb, show (0 : Int32).toInt = 0 from by decide]
  omega
theorem pk_ix (x : Int32) {n : Nat} (hn : n < 2 ^ 31) : x < 0 ∨ nI n ≤ x ∨ ∃ j : Nat, j < n ∧ x = nI j := by
  by_cases h : x < 0
  · exact Or.inl h
  · obtain ⟨j, hj, rfl⟩ := nI_of h
    by_cases h2 : j < n
    · exact Or.inr (Or.inr ⟨j, h2, rfl⟩)
    · exact Or.inr (Or.inl (nI_le (by omega) hj))
theorem pk_le {x y : Int32} {A B : Prop} (a b : Nat) (f : a ≤ b → A) (g : b < a → B) (hx : x = nI a := by rfl) (hy : y = nI b := by rfl) (ha : a < 2 ^ 31 := by omega) (hb : b < 2 ^ 31 := by omega) : (x ≤ y → A) ∧ (¬ x ≤ y → B) := by
  subst hx hy
  rw [nI_leI ha hb]
  exact ⟨f, fun z => g (by omega)⟩
theorem pk_lt {x y : Int32} {A B : Prop} (a b : Nat) (f : a < b → A) (g : b ≤ a → B) (hx : x = nI a := by rfl) (hy : y = nI b := by rfl) (ha : a < 2 ^ 31 := by omega) (hb : b < 2 ^ 31 := by omega) : (x < y → A) ∧ (¬ x < y → B) := by
  subst hx hy
  rw [nI_ltI ha hb]
  exact ⟨f, fun z => g (by omega)⟩
theorem pk_eq {x y : Int32} {A B : Prop} (a b : Nat) (f : a = b → A) (g : a ≠ b → B) (hx : x = nI a := by rfl) (hy : y = nI b := by rfl) (ha : a < 2 ^ 31 := by omega) (hb : b < 2 ^ 31 := by omega) : (x = y → A) ∧ (¬ x = y → B) := by
  subst hx hy
  rw [nI_eq ha hb]
  exact ⟨f, g⟩
theorem pk_in {x : Int32} (n N : Nat) (h : n < N) (hx : x = nI n := by rfl) (hN : N < 2 ^ 31 := by omega) : vp_in x N := by
  subst hx
  exact vp_in_nI h hN
theorem pk_cl {x : Int32} (n : Nat) (hx : x = nI n := by rfl) (h : n < 2 ^ 31 := by omega) : x.toNatClampNeg = n := by
  subst hx
  exact nI_clamp h
theorem pk_tn {n : Nat} (h : n < 2 ^ 32) : (nI n).toBitVec.toNat = n := Nat.mod_eq_of_lt h
theorem pk_and (x : Int32) {m : Int32} (k : Nat) (hm : m.toBitVec.toNat = 2 ^ k - 1) : x &&& m = nI (x.toBitVec.toNat % 2 ^ k) := by
  apply Int32.toBitVec_inj.mp
  apply BitVec.eq_of_toNat_eq
  rw [Int32.toBitVec_and, BitVec.toNat_and, hm, Nat.and_two_pow_sub_one_eq_mod]
  show _ = (BitVec.ofNat 32 _).toNat
  rw [BitVec.toNat_ofNat]
  exact (Nat.mod_eq_of_lt (Nat.lt_of_le_of_lt (Nat.mod_le _ _) x.toBitVec.isLt)).symm
theorem pk_andN {n : Nat} (h : n < 2 ^ 32) {m : Int32} (k : Nat) (hm : m.toBitVec.toNat = 2 ^ k - 1) : nI n &&& m = nI (n % 2 ^ k) := by
  rw [pk_and _ k hm, pk_tn h]
theorem pk_andE (x : Int32) {m : Int32} (k : Nat) (hm : m.toBitVec.toNat = 2 ^ k - 1) : ∃ j : Nat, j < 2 ^ k ∧ x &&& m = nI j := ⟨_, Nat.mod_lt _ (Nat.two_pow_pos k), pk_and x k hm⟩
theorem pk_andIn (x : Int32) {m : Int32} (k : Nat) (hm : m.toBitVec.toNat = 2 ^ k - 1) (hk : k ≤ 30) : vp_in (x &&& m) (2 ^ k) := by
  obtain ⟨j, hj, e⟩ := pk_andE x k hm
  rw [e]
  exact vp_in_nI hj (Nat.lt_of_le_of_lt (Nat.pow_le_pow_right (by decide) hk) (by decide))
theorem pk_shl (a s : Int32) (k : Nat) (hs : (s.toBitVec.smod 32).toNat = k) : (a <<< s).toBitVec.toNat = a.toBitVec.toNat * 2 ^ k % 2 ^ 32 := by
  show (a.toBitVec <<< (s.toBitVec.smod 32).toNat).toNat = _
  rw [hs, BitVec.toNat_shiftLeft, Nat.shiftLeft_eq]
theorem pk_shlN {n : Nat} (s : Int32) (k : Nat) (hs : (s.toBitVec.smod 32).toNat = k) (h : n * 2 ^ k < 2 ^ 32) : nI n <<< s = nI (n * 2 ^ k) := by
  apply Int32.toBitVec_inj.mp
  apply BitVec.eq_of_toNat_eq
  have hn : n < 2 ^ 32 := Nat.lt_of_le_of_lt (Nat.le_mul_of_pos_right n (Nat.two_pow_pos k)) h
  rw [pk_shl _ _ k hs, pk_tn hn, pk_tn h, Nat.mod_eq_of_lt h]
theorem pk_shr (a s : Int32) (k : Nat) (hs : (s.toBitVec.smod 32).toNat = k) : (a >>> s).toInt = a.toInt >>> k := by
  show (a.toBitVec.sshiftRight (s.toBitVec.smod 32).toNat).toInt = _
  rw [hs, BitVec.toInt_sshiftRight]
  rfl
theorem pk_shrN {n : Nat} (h : n < 2 ^ 31) (s : Int32) (k : Nat) (hs : (s.toBitVec.smod 32).toNat = k) : nI n >>> s = nI (n / 2 ^ k) := by
  apply Int32.toInt_inj.mp
  have h2 : n / 2 ^ k ≤ n := Nat.div_le_self _ _
  rw [pk_shr _ _ k hs, nI_toInt h, nI_toInt (by omega), Int.shiftRight_eq_div_pow]
  rfl
theorem pk_ushr (x s : Int32) (k : Nat) (hs : ((s.toUInt32 &&& Int32.toUInt32 31).toBitVec % 32).toNat = k) : (x.toUInt32 >>> (s.toUInt32 &&& Int32.toUInt32 31)).toInt32.toBitVec.toNat = x.toBitVec.toNat / 2 ^ k := by
  have e : (x.toUInt32 >>> (s.toUInt32 &&& Int32.toUInt32 31)).toInt32.toBitVec = x.toBitVec >>> k := by
    rw [← hs]
    exact UInt32.toBitVec_shiftRight _ _
  rw [e, BitVec.toNat_ushiftRight, Nat.shiftRight_eq_div_pow]
theorem pk_ushrN {n : Nat} (hn : n < 2 ^ 32) (s : Int32) (k : Nat) (hs : ((s.toUInt32 &&& Int32.toUInt32 31).toBitVec % 32).toNat = k) : ((nI n).toUInt32 >>> (s.toUInt32 &&& Int32.toUInt32 31)).toInt32 = nI (n / 2 ^ k) := by
  apply Int32.toBitVec_inj.mp
  apply BitVec.eq_of_toNat_eq
  rw [pk_ushr _ s k hs, pk_tn hn, pk_tn (Nat.lt_of_le_of_lt (Nat.div_le_self _ _) hn)]
theorem pk_nb (z : Int32) : narrow .byte (.int z.toInt8.toInt32) = .int z.toInt8.toInt32 := congrArg Value.int (by simp)
theorem pk_ns (z : Int32) : narrow .short (.int z.toInt16.toInt32) = .int z.toInt16.toInt32 := congrArg Value.int (by simp)
theorem pk_fb (r : Int32) : fits .byte (.int r.toInt8.toInt32) = true := by
  have ⟨a, b⟩ := lg_i2b_range r
  have h1 : (-128 : Int32).toInt = -128 := by decide
  have h2 : (127 : Int32).toInt = 127 := by decide
  simp only [fits, Bool.and_eq_true, decide_eq_true_eq, Int32.le_iff_toInt_le, h1, h2]
  omega
theorem pk_fs (r : Int32) : fits .short (.int r.toInt16.toInt32) = true := by
  have ⟨a, b⟩ := lg_i2s_range r
  have h1 : (-32768 : Int32).toInt = -32768 := by decide
  have h2 : (32767 : Int32).toInt = 32767 := by decide
  simp only [fits, Bool.and_eq_true, decide_eq_true_eq, Int32.le_iff_toInt_le, h1, h2]
  omega
theorem pk_charN {q : Nat} (hq : q < 65536) : narrow .char (.int (nI q)) = .int (nI q) ∧ fits .char (.int (nI q)) = true := by
  constructor
  · have e : (nI q).toUInt32.toUInt16.toUInt32.toInt32 = nI q := by
      apply Int32.toBitVec_inj.mp
      apply BitVec.eq_of_toNat_eq
      show (nI q).toUInt32.toUInt16.toUInt32.toNat = q % 2 ^ 32
      rw [UInt16.toNat_toUInt32, UInt32.toNat_toUInt16, show (nI q).toUInt32.toNat = q % 2 ^ 32 from rfl]
      omega
    exact congrArg Value.int e
  · have a : (0 : Int32) ≤ nI q := nI_pos' (by omega)
    have b : nI q ≤ 65535 := nI_le (b := 65535) (by omega) (by decide)
    show (decide ((0 : Int32) ≤ nI q) && decide (nI q ≤ 65535)) = true
    rw [decide_eq_true a, decide_eq_true b]
    rfl
theorem pk_char (x : Int32) : (x.toUInt32 % 65536).toInt32 = nI (x.toBitVec.toNat % 65536) := by
  apply Int32.toBitVec_inj.mp
  apply BitVec.eq_of_toNat_eq
  rw [pk_tn (by omega)]
  show (x.toUInt32 % 65536).toNat = _
  rw [UInt32.toNat_mod]
  rfl
theorem pk_nc (x : Int32) : narrow .char (.int (x.toUInt32 % 65536).toInt32) = .int (x.toUInt32 % 65536).toInt32 := by
  rw [pk_char]
  exact (pk_charN (Nat.mod_lt _ (by decide))).1
theorem pk_fc (x : Int32) : fits .char (.int (x.toUInt32 % 65536).toInt32) = true := by
  rw [pk_char]
  exact (pk_charN (Nat.mod_lt _ (by decide))).2
theorem pk_vb (z : Int32) : vp_nar .byte z.toInt8.toInt32 = z.toInt8.toInt32 := by rw [vp_nar_byte]; simp
theorem pk_vs (z : Int32) : vp_nar .short z.toInt16.toInt32 = z.toInt16.toInt32 := by rw [vp_nar_short]; simp
theorem pk_vc (z : Int32) : vp_nar .char (z.toUInt32 % 65536).toInt32 = (z.toUInt32 % 65536).toInt32 := Value.int.inj (pk_nc z)
def bt (x : Int32) (i : Nat) : Bool := x.toBitVec.getLsbD i
theorem b_ext {x y : Int32} (h : ∀ i, i < 32 → bt x i = bt y i) : x = y := Int32.toBitVec_inj.mp (BitVec.eq_of_getLsbD_eq (fun i hi => h i hi))
theorem b_or (x y : Int32) (i : Nat) : bt (x ||| y) i = (bt x i || bt y i) := by unfold bt; rw [Int32.toBitVec_or, BitVec.getLsbD_or]
theorem b_and (x y : Int32) (i : Nat) : bt (x &&& y) i = (bt x i && bt y i) := by unfold bt; rw [Int32.toBitVec_and, BitVec.getLsbD_and]
theorem b_xor (x y : Int32) (i : Nat) : bt (x ^^^ y) i = (bt x i ^^ bt y i) := by unfold bt; rw [Int32.toBitVec_xor, BitVec.getLsbD_xor]
theorem b_big {x : Int32} {i : Nat} (h : 32 ≤ i) : bt x i = false := BitVec.getLsbD_of_ge _ _ h
theorem b_255 (i : Nat) : bt 255 i = decide (i < 8) := by
  rcases Nat.lt_or_ge i 32 with h | h
  · exact (by decide +kernel : ∀ i, i < 32 → bt 255 i = decide (i < 8)) i h
  · rw [b_big h, decide_eq_false (by omega)]
theorem b_65535 (i : Nat) : bt 65535 i = decide (i < 16) := by
  rcases Nat.lt_or_ge i 32 with h | h
  · exact (by decide +kernel : ∀ i, i < 32 → bt 65535 i = decide (i < 16)) i h
  · rw [b_big h, decide_eq_false (by omega)]
theorem b_m1 : ∀ i, i < 32 → bt (-1) i = true := by decide +kernel
theorem b_0 (i : Nat) : bt 0 i = false := BitVec.getLsbD_zero
theorem s_l : ∀ n, n < 32 → ((nI n &&& 31).toBitVec.smod 32).toNat = n := by decide +kernel
theorem s_u : ∀ n, n < 32 → (((nI n).toUInt32 &&& Int32.toUInt32 31).toBitVec % 32).toNat = n := by decide +kernel
theorem b_shl (n : Nat) (hn : n < 32) (x : Int32) {i : Nat} (hi : i < 32) : bt (x <<< (nI n &&& 31)) i = (decide (n ≤ i) && bt x (i - n)) := by
  unfold bt
  rw [Int32.toBitVec_shiftLeft]
  show (x.toBitVec <<< ((nI n &&& 31).toBitVec.smod 32).toNat).getLsbD i = _
  rw [s_l n hn, BitVec.getLsbD_shiftLeft]
  rcases Nat.lt_or_ge i n with h | h
  · simp [h, Nat.not_le.mpr h]
  · simp [hi, h, Nat.not_lt.mpr h]
theorem b_ushr (n : Nat) (hn : n < 32) (x : Int32) (i : Nat) : bt ((x.toUInt32 >>> ((nI n).toUInt32 &&& Int32.toUInt32 31)).toInt32) i = bt x (n + i) := by
  show (x.toUInt32 >>> ((nI n).toUInt32 &&& Int32.toUInt32 31)).toBitVec.getLsbD i = x.toUInt32.toBitVec.getLsbD (n + i)
  rw [UInt32.toBitVec_shiftRight]
  show (x.toUInt32.toBitVec >>> (((nI n).toUInt32 &&& Int32.toUInt32 31).toBitVec % 32).toNat).getLsbD i = _
  rw [s_u n hn, BitVec.getLsbD_ushiftRight]
theorem b_sshr (n : Nat) (hn : n < 32) (x : Int32) {i : Nat} (hi : i < 32) : bt (x >>> (nI n &&& 31)) i = if n + i < 32 then bt x (n + i) else bt x 31 := by
  unfold bt
  rw [Int32.toBitVec_shiftRight]
  show (x.toBitVec.sshiftRight ((nI n &&& 31).toBitVec.smod 32).toNat).getLsbD i = _
  rw [s_l n hn, BitVec.getLsbD_sshiftRight, BitVec.msb_eq_getLsbD_last]
  simp [hi]
end
end
section
section
/-! the instructions by their numbers -/
def pj_nd (o : Nat) : Nat := if o = 4 ∨ o = 5 ∨ o = 7 ∨ o = 12 then 2 else if o = 2 ∨ o = 3 ∨ o = 6 ∨ o = 9 ∨ o = 13 then 1 else 0
def pj_gp (o : Nat) : Nat := if o = 0 ∨ o = 1 ∨ o = 3 ∨ o = 8 then 1 else 0
def pj_gm (o : Nat) : Nat := if o = 7 then 2 else if o = 2 ∨ o = 5 ∨ o = 9 ∨ o = 12 then 1 else 0
def pj_rf (G o h : Nat) : Nat := if h < pj_nd o then 1 else if pj_gp o = 1 ∧ G ≤ h then 2 else 0
def pj_nh (o h : Nat) : Nat := h + pj_gp o - pj_gm o
theorem pj_o14 {o : Nat} (h : o ≤ 13) : o = 0 ∨ o = 1 ∨ o = 2 ∨ o = 3 ∨ o = 4 ∨ o = 5 ∨ o = 6 ∨ o = 7 ∨ o = 8 ∨ o = 9 ∨ o = 10 ∨ o = 11 ∨ o = 12 ∨ o = 13 := by omega
theorem pj_gmnd : ∀ o, o < 14 → pj_gm o ≤ pj_nd o := by decide
theorem pj_rf_nd {G o h : Nat} (hr : pj_rf G o h = 0) : pj_nd o ≤ h := by
  unfold pj_rf at hr
  by_cases h1 : h < pj_nd o
  · rw [if_pos h1] at hr; omega
  · omega
theorem pj_rf_gp {G o h : Nat} (hr : pj_rf G o h = 0) (hg : pj_gp o = 1) : h < G := by
  unfold pj_rf at hr
  by_cases h1 : h < pj_nd o
  · rw [if_pos h1] at hr; omega
  · rw [if_neg h1] at hr
    by_cases h2 : pj_gp o = 1 ∧ G ≤ h
    · rw [if_pos h2] at hr; omega
    · by_cases h3 : h < G
      · exact h3
      · exact absurd ⟨hg, by omega⟩ h2
theorem pj_rf_mono {G o h : Nat} (hG : G ≤ 4) (hr : pj_rf G o h = 0) : pj_rf 4 o h = 0 := by
  have h1 := pj_rf_nd hr
  unfold pj_rf
  rw [if_neg (by omega)]
  by_cases h2 : pj_gp o = 1 ∧ 4 ≤ h
  · have := pj_rf_gp hr h2.1
    omega
  · rw [if_neg h2]
theorem pj_gp_le : ∀ o, o < 14 → pj_gp o ≤ 1 := by decide
theorem pj_nh_le {G o h : Nat} (ho : o ≤ 13) (hG : G ≤ 4) (hh : h ≤ 4) (hr : pj_rf G o h = 0) : pj_nh o h ≤ 4 := by
  unfold pj_nh
  have := pj_gp_le o (by omega)
  by_cases h1 : pj_gp o = 1
  · have := pj_rf_gp hr h1
    omega
  · omega
/-! stacks as numbers -/
def pj_tp (v : Nat) : Nat := (v - 1) % 3
def pj_rs (v : Nat) : Nat := (v - 1) / 3
def pj_dg : Nat → Nat → Nat
  | v, 0 => pj_tp v
  | v, j + 1 => pj_dg (pj_rs v) j
def pj_hv (v : Nat) : Nat := if v < 1 then 0 else if v < 4 then 1 else if v < 13 then 2 else if v < 40 then 3 else 4
def pj_cd (v pl : Nat) : Nat := pj_dg v (pj_hv v - 1 - pl)
def pj_ht (s : Nat) : Nat := pj_hv (s / 9)
def pj_D (s pl : Nat) : Nat := if pl = 4 then s / 3 % 3 else if pl = 5 then s % 3 else pj_cd (s / 9) pl
def pj_V (h pl : Nat) : Prop := pl < h ∨ pl = 4 ∨ pl = 5
theorem pj_hv_le (v : Nat) : pj_hv v ≤ 4 := by unfold pj_hv; (repeat' split) <;> omega
theorem pj_ht_le (s : Nat) : pj_ht s ≤ 4 := pj_hv_le _
theorem pj_tp_lt (v : Nat) : pj_tp v < 3 := by unfold pj_tp; omega
theorem pj_dg_lt (j : Nat) : ∀ v, pj_dg v j < 3 := by
  induction j with
  | zero => exact fun v => pj_tp_lt v
  | succ j ih => exact fun v => ih (pj_rs v)
theorem pj_D_lt (s pl : Nat) : pj_D s pl < 3 := by
  unfold pj_D
  split
  · omega
  · split
    · omega
    · exact pj_dg_lt _ _
theorem pj_hv_lt40 {v : Nat} (h : pj_hv v < 4) : v < 40 := by
  by_cases h2 : v < 40
  · exact h2
  · have : pj_hv v = 4 := by
      unfold pj_hv
      rw [if_neg (by omega), if_neg (by omega), if_neg (by omega), if_neg (by omega)]
    omega
theorem pj_tp_cd (v : Nat) : pj_tp v = pj_cd v (pj_hv v - 1) := by
  unfold pj_cd; rw [Nat.sub_self]; rfl
theorem pj_tp2_cd {v : Nat} (h : 2 ≤ pj_hv v) : pj_tp (pj_rs v) = pj_cd v (pj_hv v - 2) := by
  unfold pj_cd
  have e : pj_hv v - 1 - (pj_hv v - 2) = 0 + 1 := by omega
  rw [e]; rfl
theorem pj_D_tp {s : Nat} (h : 1 ≤ pj_ht s) : pj_D s (pj_ht s - 1) = pj_tp (s / 9) := by
  have := pj_ht_le s
  unfold pj_D
  rw [if_neg (by omega), if_neg (by omega), pj_tp_cd]
  rfl
theorem pj_D_tp2 {s : Nat} (h : 2 ≤ pj_ht s) : pj_D s (pj_ht s - 2) = pj_tp (pj_rs (s / 9)) := by
  have := pj_ht_le s
  unfold pj_D
  rw [if_neg (by omega), if_neg (by omega), pj_tp2_cd h]
  rfl
/-! one instruction on a situation -/
def pj_cv (o al v a b : Nat) : Nat :=
  if o = 0 then v * 3 + 1 else if o = 1 then v * 3 + 2 else if o = 2 then pj_rs v else if o = 3 then v * 3 + pj_tp v + 1
  else if o = 4 then (pj_rs (pj_rs v) * 3 + pj_tp v + 1) * 3 + pj_tp (pj_rs v) + 1
  else if o = 5 ∨ o = 12 then pj_rs (pj_rs v) * 3 + 1 else if o = 6 then pj_rs v * 3 + 1 else if o = 7 then pj_rs (pj_rs v)
  else if o = 8 then v * 3 + (if al = 0 then a else b) + 1 else if o = 9 then pj_rs v else v
def pj_ca (o al v a : Nat) : Nat := if o = 9 ∧ al = 0 then pj_tp v else a
def pj_cb (o al v b : Nat) : Nat := if o = 9 ∧ ¬ al = 0 then pj_tp v else b
def pj_ch (o al s : Nat) : Nat := pj_cv o al (s / 9) (s / 3 % 3) (s % 3) * 9 + pj_ca o al (s / 9) (s / 3 % 3) * 3 + pj_cb o al (s / 9) (s % 3)
/-- where the kind at place pl comes from: a place, 6 + a digit, 9 nothing -/
def pj_src (o al h pl : Nat) : Nat :=
  if o = 0 then (if pl = h then 6 else pl)
  else if o = 1 then (if pl = h then 7 else pl)
  else if o = 2 then (if pl + 1 = h then 9 else pl)
  else if o = 3 then (if pl = h then h - 1 else pl)
  else if o = 4 then (if pl + 1 = h then h - 2 else if pl + 2 = h then h - 1 else pl)
  else if o = 5 ∨ o = 12 then (if pl + 1 = h then 9 else if pl + 2 = h then 6 else pl)
  else if o = 6 then (if pl + 1 = h then 6 else pl)
  else if o = 7 then (if pl + 1 = h ∨ pl + 2 = h then 9 else pl)
  else if o = 8 then (if pl = h then 4 + al else pl)
  else if o = 9 then (if pl + 1 = h then 9 else if pl = 4 + al then h - 1 else pl)
  else pl
def pj_c1 (v o pl : Nat) : Bool := decide (pl < pj_nh o (pj_hv v) → (pj_src o 0 (pj_hv v) pl < 9 ∧ (pj_src o 0 (pj_hv v) pl < 6 → pj_src o 0 (pj_hv v) pl < pj_hv v) ∧ pj_cd (pj_cv o 0 v 0 0) pl = if pj_src o 0 (pj_hv v) pl < 6 then pj_cd v (pj_src o 0 (pj_hv v) pl) else pj_src o 0 (pj_hv v) pl - 6))
def pj_c2 (v o : Nat) : Bool := decide (¬ o = 8 → pj_rf 4 o (pj_hv v) = 0 → (pj_cv o 0 v 0 0 < 121 ∧ pj_hv (pj_cv o 0 v 0 0) = pj_nh o (pj_hv v) ∧ (List.range 4).all (fun pl => pj_c1 v o pl) = true))
theorem pj_c3 : ∀ v, v < 121 → ∀ o, o < 14 → pj_c2 v o = true := by decide +kernel
theorem pj_cells (v : Nat) (hv : v < 121) (o : Nat) (ho : o < 14) (h8 : ¬ o = 8) (hr : pj_rf 4 o (pj_hv v) = 0) : (pj_cv o 0 v 0 0 < 121 ∧ pj_hv (pj_cv o 0 v 0 0) = pj_nh o (pj_hv v) ∧ ∀ pl, pl < 4 → pl < pj_nh o (pj_hv v) → (pj_src o 0 (pj_hv v) pl < 9 ∧ (pj_src o 0 (pj_hv v) pl < 6 → pj_src o 0 (pj_hv v) pl < pj_hv v) ∧ pj_cd (pj_cv o 0 v 0 0) pl = if pj_src o 0 (pj_hv v) pl < 6 then pj_cd v (pj_src o 0 (pj_hv v) pl) else pj_src o 0 (pj_hv v) pl - 6)) := by
  obtain ⟨a, b, d⟩ := of_decide_eq_true (pj_c3 v hv o ho) h8 hr
  exact ⟨a, b, fun pl hp => of_decide_eq_true (List.all_eq_true.mp d pl (List.mem_range.mpr hp))⟩
theorem pj_cells8 : ∀ v, v < 40 → ∀ d, d < 3 → (v * 3 + d + 1 < 121 ∧ pj_hv (v * 3 + d + 1) = pj_hv v + 1 ∧ pj_cd (v * 3 + d + 1) (pj_hv v) = d ∧ ∀ pl, pl < 4 → pl < pj_hv v → pj_cd (v * 3 + d + 1) pl = pj_cd v pl) := by decide +kernel
theorem pj_cv_n8 {o al v a b : Nat} (h : ¬ o = 8) : pj_cv o al v a b = pj_cv o 0 v 0 0 := by
  unfold pj_cv
  simp only [if_neg h]
theorem pj_src_n8 {o al h pl : Nat} (h8 : ¬ o = 8) (hp : pl < 4) : pj_src o al h pl = pj_src o 0 h pl := by
  unfold pj_src
  simp only [if_neg h8, if_neg (show ¬ pl = 4 + al by omega), if_neg (show ¬ pl = 4 + 0 by omega)]
theorem pj_dec {v a b : Nat} (ha : a < 3) (hb : b < 3) : (v * 9 + a * 3 + b) / 9 = v ∧ (v * 9 + a * 3 + b) / 3 % 3 = a ∧ (v * 9 + a * 3 + b) % 3 = b := by omega
theorem pj_ca_lt {o al v a : Nat} (h : a < 3) : pj_ca o al v a < 3 := by
  unfold pj_ca; split
  · exact pj_tp_lt v
  · exact h
theorem pj_cb_lt {o al v a : Nat} (h : a < 3) : pj_cb o al v a < 3 := by
  unfold pj_cb; split
  · exact pj_tp_lt v
  · exact h
theorem pj_chdec (o al s : Nat) : pj_ch o al s / 9 = pj_cv o al (s / 9) (s / 3 % 3) (s % 3) ∧ pj_ch o al s / 3 % 3 = pj_ca o al (s / 9) (s / 3 % 3) ∧ pj_ch o al s % 3 = pj_cb o al (s / 9) (s % 3) :=
  pj_dec (pj_ca_lt (by omega)) (pj_cb_lt (by omega))
def pj_val (s c : Nat) : Nat := if c < 6 then pj_D s c else c - 6
def pj_c4 (o al h pl : Nat) : Bool := decide (pj_rf 4 o h = 0 → 4 ≤ pl → pj_src o al h pl = if o = 9 ∧ pl = 4 + al then h - 1 else pl)
theorem pj_c5 : ∀ o, o < 14 → ∀ al, al < 2 → ∀ h, h < 5 → ∀ pl, pl < 6 → pj_c4 o al h pl = true := by decide +kernel
theorem pj_src_loc (o : Nat) (ho : o < 14) (al : Nat) (hal : al < 2) (h : Nat) (hh : h < 5) (hr : pj_rf 4 o h = 0) (pl : Nat) (hp : pl < 6) (h4 : 4 ≤ pl) : pj_src o al h pl = if o = 9 ∧ pl = 4 + al then h - 1 else pl := of_decide_eq_true (pj_c5 o ho al hal h hh pl hp) hr h4
theorem pj_nd9 : pj_nd 9 = 1 := rfl
theorem pj_lawL {o al s pl : Nat} (ho : o ≤ 13) (hal : al < 2) (hr : pj_rf 4 o (pj_ht s) = 0) (hp : pl = 4 ∨ pl = 5) :
    pj_src o al (pj_ht s) pl < 9 ∧ (pj_src o al (pj_ht s) pl < 6 → pj_V (pj_ht s) (pj_src o al (pj_ht s) pl)) ∧ pj_D (pj_ch o al s) pl = pj_val s (pj_src o al (pj_ht s) pl) := by
  have hh := pj_ht_le s
  rw [pj_src_loc o (by omega) al hal (pj_ht s) (by omega) hr pl (by omega) (by omega)]
  have e := pj_chdec o al s
  by_cases h9 : o = 9 ∧ pl = 4 + al
  · rw [if_pos h9]
    have h1 : 1 ≤ pj_ht s := by
      have := pj_rf_nd hr
      rw [h9.1] at this
      exact this
    refine ⟨by omega, fun _ => Or.inl (by omega), ?_⟩
    unfold pj_val
    rw [if_pos (by omega), pj_D_tp h1]
    rcases hp with rfl | rfl
    · show pj_ch o al s / 3 % 3 = _
      rw [e.2.1]
      exact if_pos ⟨h9.1, by omega⟩
    · show pj_ch o al s % 3 = _
      rw [e.2.2]
      exact if_pos ⟨h9.1, by omega⟩
  · rw [if_neg h9]
    refine ⟨by omega, fun _ => Or.inr (by omega), ?_⟩
    unfold pj_val
    rw [if_pos (by omega)]
    rcases hp with rfl | rfl
    · show pj_ch o al s / 3 % 3 = s / 3 % 3
      rw [e.2.1]
      exact if_neg (fun z => h9 ⟨z.1, by omega⟩)
    · show pj_ch o al s % 3 = s % 3
      rw [e.2.2]
      exact if_neg (fun z => h9 ⟨z.1, by omega⟩)
theorem pj_D_cd {s pl : Nat} (h : pl < 4) : pj_D s pl = pj_cd (s / 9) pl := by
  unfold pj_D; rw [if_neg (by omega), if_neg (by omega)]
theorem pj_law1 {o al s : Nat} (hs : s < 1089) (ho : o ≤ 13) (hal : al < 2) (hr : pj_rf 4 o (pj_ht s) = 0) :
    pj_ch o al s < 1089 ∧ pj_ht (pj_ch o al s) = pj_nh o (pj_ht s) ∧ ∀ pl, pl < 4 → pl < pj_nh o (pj_ht s) → (pj_src o al (pj_ht s) pl < 9 ∧ (pj_src o al (pj_ht s) pl < 6 → pj_V (pj_ht s) (pj_src o al (pj_ht s) pl)) ∧ pj_D (pj_ch o al s) pl = pj_val s (pj_src o al (pj_ht s) pl)) := by
  have e := pj_chdec o al s
  have hh := pj_ht_le s
  have hc : pj_ca o al (s / 9) (s / 3 % 3) < 3 := pj_ca_lt (by omega)
  have hb : pj_cb o al (s / 9) (s % 3) < 3 := pj_cb_lt (by omega)
  have hlt : pj_cv o al (s / 9) (s / 3 % 3) (s % 3) < 121 → pj_ch o al s < 1089 := by
    intro h; unfold pj_ch; omega
  by_cases h8 : o = 8
  · subst h8
    have hG : pj_ht s < 4 := pj_rf_gp hr rfl
    have h40 : s / 9 < 40 := pj_hv_lt40 hG
    have ecv : pj_cv 8 al (s / 9) (s / 3 % 3) (s % 3) = s / 9 * 3 + (if al = 0 then s / 3 % 3 else s % 3) + 1 := rfl
    have hd : (if al = 0 then s / 3 % 3 else s % 3) < 3 := by split <;> omega
    obtain ⟨c1, c2, c3, c4⟩ := pj_cells8 (s / 9) h40 _ hd
    rw [← ecv] at c1 c2 c3 c4
    refine ⟨hlt c1, ?_, ?_⟩
    · show pj_hv (pj_ch 8 al s / 9) = _
      rw [e.1, c2]; rfl
    · intro pl hp hp2
      have hn : pj_nh 8 (pj_ht s) = pj_ht s + 1 := rfl
      have es : pj_src 8 al (pj_ht s) pl = if pl = pj_ht s then 4 + al else pl := rfl
      rw [es, pj_D_cd hp, e.1]
      by_cases hph : pl = pj_ht s
      · rw [if_pos hph]
        refine ⟨by omega, fun _ => Or.inr (by omega), ?_⟩
        unfold pj_val
        rw [if_pos (by omega), hph]
        refine c3.trans ?_
        by_cases ha : al = 0
        · subst ha; rfl
        · have : al = 1 := by omega
          subst this; rfl
      · rw [if_neg hph]
        refine ⟨by omega, fun _ => Or.inl (by omega), ?_⟩
        unfold pj_val
        rw [if_pos (by omega), pj_D_cd hp]
        exact c4 pl hp (show pl < pj_ht s by omega)
  · obtain ⟨c1, c2, c3⟩ := pj_cells (s / 9) (by omega) o (by omega) h8 hr
    rw [← pj_cv_n8 (al := al) (a := s / 3 % 3) (b := s % 3) h8] at c1 c2 c3
    refine ⟨hlt c1, ?_, ?_⟩
    · show pj_hv (pj_ch o al s / 9) = _
      rw [e.1, c2]; rfl
    · intro pl hp hp2
      obtain ⟨d1, d2, d3⟩ := c3 pl hp hp2
      rw [pj_src_n8 h8 hp, pj_D_cd hp, e.1]
      refine ⟨d1, fun z => Or.inl (d2 z), d3.trans ?_⟩
      unfold pj_val
      by_cases z : pj_src o 0 (pj_hv (s / 9)) pl < 6
      · have z' : pj_src o 0 (pj_ht s) pl < 6 := z
        rw [if_pos z, if_pos z', pj_D_cd (by have := d2 z; have := pj_hv_le (s / 9); exact (show pj_src o 0 (pj_hv (s / 9)) pl < 4 by omega))]
        rfl
      · have z' : ¬ pj_src o 0 (pj_ht s) pl < 6 := z
        rw [if_neg z, if_neg z']
        rfl
theorem pj_law {G o al s : Nat} (hG : G ≤ 4) (hs : s < 1089) (ho : o ≤ 13) (hal : al < 2) (hr : pj_rf G o (pj_ht s) = 0) :
    pj_ch o al s < 1089 ∧ pj_ht (pj_ch o al s) = pj_nh o (pj_ht s) ∧ ∀ pl, pj_V (pj_nh o (pj_ht s)) pl → (pj_src o al (pj_ht s) pl < 9 ∧ (pj_src o al (pj_ht s) pl < 6 → pj_V (pj_ht s) (pj_src o al (pj_ht s) pl)) ∧ pj_D (pj_ch o al s) pl = pj_val s (pj_src o al (pj_ht s) pl)) := by
  have h4 := pj_rf_mono hG hr
  obtain ⟨a, b, c⟩ := pj_law1 hs ho hal h4
  have hn := pj_nh_le ho hG (pj_ht_le s) hr
  refine ⟨a, b, ?_⟩
  intro pl hp
  rcases hp with hp | hp
  · exact c pl (by omega) hp
  · exact pj_lawL ho hal h4 hp
/-- beyond the new height nothing: and the sources of what is empty are empty -/
def pj_c6 (o al h pl : Nat) : Bool := decide (pj_rf 4 o h = 0 → (pl < 4 → ¬ pl < pj_nh o h → pj_src o al h pl = 9 ∨ (pj_src o al h pl < 4 ∧ ¬ pj_src o al h pl < h)) ∧ (pj_src o al h pl < 6 ∨ (6 ≤ pj_src o al h pl ∧ pj_src o al h pl < 10)))
theorem pj_c7 : ∀ o, o < 14 → ∀ al, al < 2 → ∀ h, h < 5 → ∀ pl, pl < 6 → pj_c6 o al h pl = true := by decide +kernel
theorem pj_src_out (o : Nat) (ho : o < 14) (al : Nat) (hal : al < 2) (h : Nat) (hh : h < 5) (hr : pj_rf 4 o h = 0) (pl : Nat) (hp : pl < 4) (hn : ¬ pl < pj_nh o h) : pj_src o al h pl = 9 ∨ (pj_src o al h pl < 4 ∧ ¬ pj_src o al h pl < h) := (of_decide_eq_true (pj_c7 o ho al hal h hh pl (by omega)) hr).1 hp hn
theorem pj_src_lt (o : Nat) (ho : o < 14) (al : Nat) (hal : al < 2) (h : Nat) (hh : h < 5) (hr : pj_rf 4 o h = 0) (pl : Nat) (hp : pl < 6) : pj_src o al h pl < 6 ∨ (6 ≤ pj_src o al h pl ∧ pj_src o al h pl < 10) := (of_decide_eq_true (pj_c7 o ho al hal h hh pl hp) hr).2
end
end
section
section
/-! the graph of situations -/
def pj_o (OP : Nat → Int32) (p : Nat) : Nat := (OP p).toNatClampNeg
def pj_al (AR : Nat → Int32) (p : Nat) : Nat := if AR p = 0 then 0 else 1
def pj_Tg (c : Nat) (OP AR : Nat → Int32) (p q : Nat) : Prop := q < c ∧ ((¬ pj_o OP p = 10 ∧ ¬ pj_o OP p = 13 ∧ q = p + 1) ∨ ((pj_o OP p = 10 ∨ pj_o OP p = 11) ∧ AR p = nI q))
def pj_E (c G : Nat) (OP AR : Nat → Int32) (s p t q : Nat) : Prop := pj_rf G (pj_o OP p) (pj_ht s) = 0 ∧ t = pj_ch (pj_o OP p) (pj_al AR p) s ∧ pj_Tg c OP AR p q
def pj_R (c G : Nat) (OP AR : Nat → Int32) : Nat → Nat → Nat → Prop
  | 0, s, p => s = 8 ∧ p = 0 ∧ 0 < c
  | d + 1, s, p => ∃ s0 p0, pj_R c G OP AR d s0 p0 ∧ pj_E c G OP AR s0 p0 s p
def pj_wf (c G : Nat) (OP AR : Nat → Int32) : Prop := c ≤ 16 ∧ 1 ≤ G ∧ G ≤ 4 ∧ ∀ p, p < c → (pj_o OP p ≤ 13 ∧ OP p = nI (pj_o OP p) ∧ ((pj_o OP p = 8 ∨ pj_o OP p = 9) → AR p = nI (pj_al AR p)))
variable {c G : Nat} {OP AR : Nat → Int32}
theorem pj_al_lt (AR : Nat → Int32) (p : Nat) : pj_al AR p < 2 := by unfold pj_al; split <;> omega
theorem pj_Rlt (W : pj_wf c G OP AR) : ∀ d s p, pj_R c G OP AR d s p → p < c ∧ s < 1089 := by
  intro d
  induction d with
  | zero =>
    intro s p h
    obtain ⟨h1, h2, h3⟩ := h
    omega
  | succ d ih =>
    intro s p h
    obtain ⟨s0, p0, h1, h2, h3, h4⟩ := h
    obtain ⟨a, b⟩ := ih s0 p0 h1
    refine ⟨h4.1, ?_⟩
    rw [h3]
    exact (pj_law W.2.2.1 b (W.2.2.2 p0 a).1 (pj_al_lt AR p0) h2).1
theorem pj_Rs {d s p q : Nat} (h : pj_R c G OP AR d s p) (hr : pj_rf G (pj_o OP p) (pj_ht s) = 0) (ht : pj_Tg c OP AR p q) : pj_R c G OP AR (d + 1) (pj_ch (pj_o OP p) (pj_al AR p) s) q := ⟨s, p, h, hr, rfl, ht⟩
theorem pj_ht8 : pj_ht 8 = 0 := by decide
/-! the kinds of a node -/
def pj_Nd (c G : Nat) (OP AR : Nat → Int32) (n : Nat) : Prop := ∃ d s, pj_R c G OP AR d s (n / 5) ∧ pj_ht s = n % 5
def pj_Wt (c G : Nat) (OP AR : Nat → Int32) (n pl k : Nat) : Prop := ∃ d s, pj_R c G OP AR d s (n / 5) ∧ pj_ht s = n % 5 ∧ pj_V (n % 5) pl ∧ pj_D s pl = k
theorem pj_WtNd {n pl k : Nat} (h : pj_Wt c G OP AR n pl k) : pj_Nd c G OP AR n := by
  obtain ⟨d, s, h1, h2, _⟩ := h
  exact ⟨d, s, h1, h2⟩
def pj_sb (m : Int32) (e k : Nat) : Bool := if e < 6 then bt m (3 * e + k) else decide (k + 6 = e)
theorem pj_nd5 {q h : Nat} (hh : h ≤ 4) : (q * 5 + h) / 5 = q ∧ (q * 5 + h) % 5 = h := by omega
theorem pj_WtE (W : pj_wf c G OP AR) {n q : Nat} {m : Int32} (hN : pj_Nd c G OP AR n) (hr : pj_rf G (pj_o OP (n / 5)) (n % 5) = 0) (ht : pj_Tg c OP AR (n / 5) q)
    (hm : ∀ pl, pl < 6 → ∀ k, k < 3 → bt m (3 * pl + k) = true → pj_Wt c G OP AR n pl k) (pl : Nat) (hp : pl < 6) (k : Nat) (hk : k < 3)
    (hb : pj_sb m (pj_src (pj_o OP (n / 5)) (pj_al AR (n / 5)) (n % 5) pl) k = true) : pj_Wt c G OP AR (q * 5 + pj_nh (pj_o OP (n / 5)) (n % 5)) pl k := by
  obtain ⟨d0, s0, hR0, hh0⟩ := hN
  have hpc := (pj_Rlt W _ _ _ hR0).1
  have ho := (W.2.2.2 _ hpc).1
  have hal := pj_al_lt AR (n / 5)
  have hn4 : pj_nh (pj_o OP (n / 5)) (n % 5) ≤ 4 := pj_nh_le ho W.2.2.1 (by omega) hr
  have e5 := pj_nd5 (q := q) hn4
  have key : ∀ d s, pj_R c G OP AR d s (n / 5) → pj_ht s = n % 5 → pj_V (pj_nh (pj_o OP (n / 5)) (n % 5)) pl → pj_val s (pj_src (pj_o OP (n / 5)) (pj_al AR (n / 5)) (n % 5) pl) = k → pj_Wt c G OP AR (q * 5 + pj_nh (pj_o OP (n / 5)) (n % 5)) pl k := by
    intro d s hR hh hV hv
    have hr' : pj_rf G (pj_o OP (n / 5)) (pj_ht s) = 0 := by rw [hh]; exact hr
    obtain ⟨l1, l2, l3⟩ := pj_law W.2.2.1 (pj_Rlt W _ _ _ hR).2 ho hal hr'
    rw [hh] at l2 l3
    refine ⟨d + 1, pj_ch (pj_o OP (n / 5)) (pj_al AR (n / 5)) s, ?_, ?_, ?_, ?_⟩
    · rw [e5.1]; exact pj_Rs hR hr' ht
    · rw [e5.2]; exact l2
    · rw [e5.2]; exact hV
    · rw [(l3 pl hV).2.2]; exact hv
  have hsrc := pj_src_lt _ (Nat.lt_succ_of_le ho) _ hal (n % 5) (by omega) (pj_rf_mono W.2.2.1 hr) pl hp
  by_cases hV : pj_V (pj_nh (pj_o OP (n / 5)) (n % 5)) pl
  · unfold pj_sb at hb
    by_cases h6 : pj_src (pj_o OP (n / 5)) (pj_al AR (n / 5)) (n % 5) pl < 6
    · rw [if_pos h6] at hb
      obtain ⟨d, s, w1, w2, w3, w4⟩ := hm _ h6 k hk hb
      refine key d s w1 w2 hV ?_
      unfold pj_val
      rw [if_pos h6]; exact w4
    · rw [if_neg h6] at hb
      have hb' := of_decide_eq_true hb
      refine key d0 s0 hR0 hh0 hV ?_
      unfold pj_val
      rw [if_neg h6]; omega
  · have hp4 : pl < 4 ∧ ¬ pl < pj_nh (pj_o OP (n / 5)) (n % 5) := by
      unfold pj_V at hV
      omega
    rcases pj_src_out _ (Nat.lt_succ_of_le ho) _ hal (n % 5) (by omega) (pj_rf_mono W.2.2.1 hr) pl hp4.1 hp4.2 with h9 | ⟨h4, h5⟩
    · rw [h9] at hb
      unfold pj_sb at hb
      rw [if_neg (by omega)] at hb
      have := of_decide_eq_true hb
      omega
    · unfold pj_sb at hb
      rw [if_pos (by omega)] at hb
      obtain ⟨d, s, w1, w2, w3, w4⟩ := hm _ (by omega) k hk hb
      unfold pj_V at w3
      omega
def pj_Cl (c G : Nat) (OP AR mk : Nat → Int32) (n : Nat) : Prop := ¬ mk n = 0 → pj_rf G (pj_o OP (n / 5)) (n % 5) = 0 → ∀ q, pj_Tg c OP AR (n / 5) q → ∀ pl, pl < 6 → ∀ k, k < 3 → pj_sb (mk n) (pj_src (pj_o OP (n / 5)) (pj_al AR (n / 5)) (n % 5) pl) k = true → bt (mk (q * 5 + pj_nh (pj_o OP (n / 5)) (n % 5))) (3 * pl + k) = true
theorem pj_full (W : pj_wf c G OP AR) {mk : Nat → Int32} (hcl : ∀ n, n < 80 → pj_Cl c G OP AR mk n) (h0 : 0 < c → bt (mk 0) 14 = true ∧ bt (mk 0) 17 = true) :
    ∀ d s p, pj_R c G OP AR d s p → ∀ pl, pj_V (pj_ht s) pl → bt (mk (p * 5 + pj_ht s)) (3 * pl + pj_D s pl) = true := by
  intro d
  induction d with
  | zero =>
    intro s p h pl hp
    obtain ⟨rfl, rfl, hc⟩ := h
    rw [pj_ht8] at hp ⊢
    unfold pj_V at hp
    rcases hp with hp | rfl | rfl
    · omega
    · exact (h0 hc).1
    · exact (h0 hc).2
  | succ d ih =>
    intro t q h pl hp
    obtain ⟨s, p, hR, hr, rfl, hT⟩ := h
    obtain ⟨hpc, hs⟩ := pj_Rlt W _ _ _ hR
    have ho := (W.2.2.2 _ hpc).1
    have hal := pj_al_lt AR p
    have hc16 := W.1
    obtain ⟨l1, l2, l3⟩ := pj_law W.2.2.1 hs ho hal hr
    rw [l2] at hp ⊢
    obtain ⟨m1, m2, m3⟩ := l3 pl hp
    have hh := pj_ht_le s
    have e5 := pj_nd5 (q := p) hh
    have hne : ¬ mk (p * 5 + pj_ht s) = 0 := by
      intro z
      have := ih s p hR 4 (Or.inr (Or.inl rfl))
      rw [z, b_0] at this
      exact Bool.noConfusion this
    have hC := hcl (p * 5 + pj_ht s) (by omega) hne
    rw [e5.1, e5.2] at hC
    have hV6 : pl < 6 := by
      have := pj_nh_le ho W.2.2.1 hh hr
      unfold pj_V at hp
      omega
    refine hC hr q hT pl hV6 _ (pj_D_lt _ _) ?_
    rw [m3]
    unfold pj_sb pj_val
    by_cases h6 : pj_src (pj_o OP p) (pj_al AR p) (pj_ht s) pl < 6
    · rw [if_pos h6, if_pos h6]
      exact ih s p hR _ (m2 h6)
    · rw [if_neg h6, if_neg h6]
      exact decide_eq_true (by omega)
/-! counting -/
def pj_cn (f : Nat → Bool) : Nat → Nat
  | 0 => 0
  | n + 1 => pj_cn f n + (if f n = true then 1 else 0)
theorem pj_cn_le (f : Nat → Bool) (n : Nat) : pj_cn f n ≤ n := by
  induction n with
  | zero => exact Nat.le_refl 0
  | succ n ih =>
    show pj_cn f n + (if f n = true then 1 else 0) ≤ n + 1
    split <;> omega
theorem pj_cn_mono {f g : Nat → Bool} {n : Nat} (h : ∀ i, i < n → f i = true → g i = true) : pj_cn f n ≤ pj_cn g n := by
  induction n with
  | zero => exact Nat.le_refl 0
  | succ n ih =>
    have h1 := ih (fun i hi => h i (by omega))
    show pj_cn f n + (if f n = true then 1 else 0) ≤ pj_cn g n + (if g n = true then 1 else 0)
    by_cases hf : f n = true
    · rw [if_pos hf, if_pos (h n (by omega) hf)]; omega
    · rw [if_neg hf]; omega
theorem pj_cn_lt {f g : Nat → Bool} {n j : Nat} (h : ∀ i, i < n → f i = true → g i = true) (hj : j < n) (hf : f j = false) (hg : g j = true) : pj_cn f n + 1 ≤ pj_cn g n := by
  induction n with
  | zero => omega
  | succ n ih =>
    show pj_cn f n + (if f n = true then 1 else 0) + 1 ≤ pj_cn g n + (if g n = true then 1 else 0)
    by_cases hjn : j = n
    · subst hjn
      have h1 := pj_cn_mono (f := f) (g := g) (n := j) (fun i hi => h i (by omega))
      rw [hf, if_neg (by decide), if_pos hg]; omega
    · have h1 := ih (fun i hi => h i (by omega)) (by omega)
      by_cases hf' : f n = true
      · rw [if_pos hf', if_pos (h n (by omega) hf')]; omega
      · rw [if_neg hf']; omega
theorem pj_nodup_len {N : Nat} : ∀ Q : List Nat, Q.Nodup → (∀ n, n ∈ Q → n < N) → Q.length ≤ pj_cn (fun n => decide (n ∈ Q)) N := by
  intro Q
  induction Q with
  | nil => intro _ _; exact Nat.zero_le _
  | cons a Q ih =>
    intro hd hb
    obtain ⟨h1, h2⟩ := List.nodup_cons.mp hd
    have h3 := ih h2 (fun n hn => hb n (List.mem_cons_of_mem a hn))
    have h4 : pj_cn (fun n => decide (n ∈ Q)) N + 1 ≤ pj_cn (fun n => decide (n ∈ a :: Q)) N :=
      pj_cn_lt (j := a) (fun i _ hi => decide_eq_true (List.mem_cons_of_mem a (of_decide_eq_true hi))) (hb a (List.mem_cons_self ..)) (decide_eq_false h1) (decide_eq_true (List.mem_cons_self ..))
    show Q.length + 1 ≤ _
    omega
theorem pj_nodup80 {N : Nat} {Q : List Nat} (h : Q.Nodup) (hb : ∀ n, n ∈ Q → n < N) : Q.length ≤ N := Nat.le_trans (pj_nodup_len Q h hb) (pj_cn_le _ _)
/-! the ring -/
def pj_QR (qu : Nat → Int32) (h : Nat) (Q : List Nat) : Prop := ∀ i n : Nat, Q[i]? = some n → qu ((h + i) % 128) = nI n
theorem pj_QRnil {qu : Nat → Int32} {h : Nat} : pj_QR qu h [] := by
  intro i n e
  rw [List.getElem?_nil] at e
  exact absurd e (by simp)
theorem pj_QRhd {qu : Nat → Int32} {h a : Nat} {Q : List Nat} (hq : pj_QR qu h (a :: Q)) (hh : h < 128) : qu h = nI a := by
  have := hq 0 a rfl
  rwa [Nat.add_zero, Nat.mod_eq_of_lt hh] at this
theorem pj_QRtl {qu : Nat → Int32} {h a : Nat} {Q : List Nat} (hq : pj_QR qu h (a :: Q)) : pj_QR qu (h + 1) Q := by
  intro i n e
  have := hq (i + 1) n e
  rwa [show h + (i + 1) = h + 1 + i by omega] at this
theorem pj_QRmod {qu : Nat → Int32} {h : Nat} {Q : List Nat} (hq : pj_QR qu h Q) : pj_QR qu (h % 128) Q := by
  intro i n e
  have := hq i n e
  rwa [show (h % 128 + i) % 128 = (h + i) % 128 by omega]
theorem pj_QRapp {qu : Nat → Int32} {h a : Nat} {Q : List Nat} (hq : pj_QR qu h Q) (hl : Q.length < 128) : pj_QR (upd qu ((h + Q.length) % 128) (nI a)) h (Q ++ [a]) := by
  intro i n e
  rw [List.getElem?_append] at e
  by_cases hi : i < Q.length
  · rw [if_pos hi] at e
    rw [pk_un (by omega)]
    exact hq i n e
  · rw [if_neg hi, List.getElem?_singleton] at e
    by_cases h0 : i - Q.length = 0
    · rw [if_pos h0] at e
      have : i = Q.length := by omega
      rw [this, pk_us]
      exact congrArg nI (Option.some.inj e)
    · rw [if_neg h0] at e
      exact absurd e (by simp)
end
end
section
section
/-! masks by their bits -/
theorem pj_b7 (i : Nat) : bt 7 i = decide (i < 3) := by
  rcases Nat.lt_or_ge i 32 with h | h
  · exact (by decide +kernel : ∀ i, i < 32 → bt 7 i = decide (i < 3)) i h
  · rw [b_big h, decide_eq_false (by omega)]
theorem pj_b1 (i : Nat) : bt 1 i = decide (i = 0) := by
  rcases Nat.lt_or_ge i 32 with h | h
  · exact (by decide +kernel : ∀ i, i < 32 → bt 1 i = decide (i = 0)) i h
  · rw [b_big h, decide_eq_false (by omega)]
theorem pj_b2 (i : Nat) : bt 2 i = decide (i = 1) := by
  rcases Nat.lt_or_ge i 32 with h | h
  · exact (by decide +kernel : ∀ i, i < 32 → bt 2 i = decide (i = 1)) i h
  · rw [b_big h, decide_eq_false (by omega)]
theorem pj_b4 (i : Nat) : bt 4 i = decide (i = 2) := by
  rcases Nat.lt_or_ge i 32 with h | h
  · exact (by decide +kernel : ∀ i, i < 32 → bt 4 i = decide (i = 2)) i h
  · rw [b_big h, decide_eq_false (by omega)]
theorem pj_3m (pl : Nat) : (3 : Int32) * nI pl = nI (3 * pl) := pk_mul 3 pl
def pj_ka (m : Int32) (pl : Nat) : Int32 := (m >>> ((3 * nI pl) &&& 31)) &&& 7
def pj_wk (m : Int32) (pl : Nat) (kk : Int32) : Int32 := (m &&& (((7 : Int32) <<< ((3 * nI pl) &&& 31)) ^^^ (-1))) ||| (kk <<< ((3 * nI pl) &&& 31))
theorem pj_ka_bt {m : Int32} {pl k : Nat} (hp : pl < 6) : bt (pj_ka m pl) k = (decide (k < 3) && bt m (3 * pl + k)) := by
  unfold pj_ka
  rw [b_and, pj_b7, pj_3m]
  by_cases hk : k < 3
  · rw [b_sshr (3 * pl) (by omega) m (show k < 32 by omega), if_pos (by omega), decide_eq_true hk, Bool.and_true, Bool.true_and]
  · rw [decide_eq_false hk, Bool.and_false, Bool.false_and]
theorem pj_ka_k {m : Int32} {pl k : Nat} (hp : pl < 6) (hk : k < 3) : bt (pj_ka m pl) k = bt m (3 * pl + k) := by
  rw [pj_ka_bt hp, decide_eq_true hk, Bool.true_and]
theorem pj_ka_hi {m : Int32} {pl k : Nat} (hp : pl < 6) (hk : 3 ≤ k) : bt (pj_ka m pl) k = false := by
  rw [pj_ka_bt hp, decide_eq_false (by omega), Bool.false_and]
theorem pj_wk_bt {m kk : Int32} {pl i : Nat} (hp : pl < 6) (hi : i < 32) (hkk : ∀ j, 3 ≤ j → bt kk j = false) : bt (pj_wk m pl kk) i = if 3 * pl ≤ i ∧ i < 3 * pl + 3 then bt kk (i - 3 * pl) else bt m i := by
  unfold pj_wk
  rw [pj_3m, b_or, b_and, b_xor, b_m1 i hi, b_shl (3 * pl) (by omega) 7 hi, b_shl (3 * pl) (by omega) kk hi, pj_b7]
  by_cases h1 : 3 * pl ≤ i
  · by_cases h2 : i < 3 * pl + 3
    · rw [if_pos ⟨h1, h2⟩, decide_eq_true h1, decide_eq_true (show i - 3 * pl < 3 by omega)]
      simp
    · rw [if_neg (fun z => h2 z.2), decide_eq_true h1, decide_eq_false (show ¬ i - 3 * pl < 3 by omega), hkk (i - 3 * pl) (by omega)]
      simp
  · rw [if_neg (fun z => h1 z.1), decide_eq_false h1]
    simp
theorem pj_wk_p {m kk : Int32} {pl : Nat} (hp : pl < 6) (hkk : ∀ j, 3 ≤ j → bt kk j = false) {e k : Nat} (he : e < 6) (hk : k < 3) : bt (pj_wk m pl kk) (3 * e + k) = if e = pl then bt kk k else bt m (3 * e + k) := by
  rw [pj_wk_bt hp (by omega) hkk]
  by_cases h : e = pl
  · subst h
    rw [if_pos (by omega), if_pos rfl, show 3 * e + k - 3 * e = k by omega]
  · rw [if_neg (by omega), if_neg h]
theorem pj_wk_hi {m kk : Int32} {pl : Nat} (hp : pl < 6) (hkk : ∀ j, 3 ≤ j → bt kk j = false) (hm : ∀ i, 18 ≤ i → bt m i = false) : ∀ i, 18 ≤ i → bt (pj_wk m pl kk) i = false := by
  intro i h
  rcases Nat.lt_or_ge i 32 with hi | hi
  · rw [pj_wk_bt hp hi hkk, if_neg (by omega)]
    exact hm i h
  · exact b_big hi
theorem pj_k1 : ∀ j, 3 ≤ j → bt 1 j = false := by intro j h; rw [pj_b1, decide_eq_false (by omega)]
theorem pj_k2 : ∀ j, 3 ≤ j → bt 2 j = false := by intro j h; rw [pj_b2, decide_eq_false (by omega)]
theorem pj_k4 : ∀ j, 3 ≤ j → bt 4 j = false := by intro j h; rw [pj_b4, decide_eq_false (by omega)]
theorem pj_k0 : ∀ j, 3 ≤ j → bt 0 j = false := by intro j h; rw [b_0]
theorem pj_s1 {h : Nat} (hh : 1 ≤ h) : nI h - 1 = nI (h - 1) := pk_sub hh
theorem pj_s2 {h : Nat} (hh : 2 ≤ h) : nI h - 2 = nI (h - 2) := pk_sub hh
theorem pj_wK {post : Int32 → Prop} {m x kk : Int32} {pl : Nat} (hx : x = nI pl) (hp : post (pj_wk m pl kk)) : wpX_withKind post m x kk := by
  subst hx
  exact nm_e hp
theorem pj_kA {post : Int32 → Prop} {m x : Int32} {pl : Nat} (hx : x = nI pl) (hp : post (pj_ka m pl)) : wpX_kindAt post m x := by
  subst hx
  exact hp
/-- what an instruction makes of a mask -/
def pj_Af (o al h : Nat) (m m' : Int32) : Prop := (∀ e, e < 6 → ∀ k, k < 3 → bt m' (3 * e + k) = pj_sb m (pj_src o al h e) k) ∧ ((∀ i, 18 ≤ i → bt m i = false) → ∀ i, 18 ≤ i → bt m' i = false)
theorem pj_sb_lt {m : Int32} {e k : Nat} (h : e < 6) : pj_sb m e k = bt m (3 * e + k) := if_pos h
theorem pj_sb_6 {m : Int32} {k : Nat} : pj_sb m 6 k = bt 1 k := by
  rw [pj_b1]; show decide (k + 6 = 6) = decide (k = 0)
  exact decide_eq_decide.mpr (by omega)
theorem pj_sb_7 {m : Int32} {k : Nat} : pj_sb m 7 k = bt 2 k := by
  rw [pj_b2]; show decide (k + 6 = 7) = decide (k = 1)
  exact decide_eq_decide.mpr (by omega)
theorem pj_sb_9 {m : Int32} {k : Nat} (hk : k < 3) : pj_sb m 9 k = bt 0 k := by
  rw [b_0]; exact decide_eq_false (by omega)
theorem pj_Af_id {o al h : Nat} {m : Int32} (hs : ∀ e, e < 6 → pj_src o al h e = e) : pj_Af o al h m m :=
  ⟨fun e he k hk => by rw [hs e he, pj_sb_lt he], fun h => h⟩
theorem pj_Af_1 {o al h pl : Nat} {m kk : Int32} (hp : pl < 6) (hkk : ∀ j, 3 ≤ j → bt kk j = false) (hs : ∀ e, e < 6 → ¬ e = pl → pj_src o al h e = e)
    (h1 : ∀ k, k < 3 → pj_sb m (pj_src o al h pl) k = bt kk k) : pj_Af o al h m (pj_wk m pl kk) := by
  refine ⟨fun e he k hk => ?_, pj_wk_hi hp hkk⟩
  rw [pj_wk_p hp hkk he hk]
  by_cases h : e = pl
  · subst h; rw [if_pos rfl, h1 k hk]
  · rw [if_neg h, hs e he h, pj_sb_lt he]
theorem pj_Af_2 {o al h pl qn : Nat} {m kk ll : Int32} (hp : pl < 6) (hq : qn < 6) (hne : ¬ qn = pl) (hkk : ∀ j, 3 ≤ j → bt kk j = false) (hll : ∀ j, 3 ≤ j → bt ll j = false) (hs : ∀ e, e < 6 → ¬ e = pl → ¬ e = qn → pj_src o al h e = e)
    (h1 : ∀ k, k < 3 → pj_sb m (pj_src o al h pl) k = bt kk k) (h2 : ∀ k, k < 3 → pj_sb m (pj_src o al h qn) k = bt ll k) : pj_Af o al h m (pj_wk (pj_wk m pl kk) qn ll) := by
  refine ⟨fun e he k hk => ?_, fun hm => pj_wk_hi hq hll (pj_wk_hi hp hkk hm)⟩
  rw [pj_wk_p hq hll he hk]
  by_cases h : e = qn
  · subst h; rw [if_pos rfl, h2 k hk]
  · rw [if_neg h, pj_wk_p hp hkk he hk]
    by_cases h' : e = pl
    · subst h'; rw [if_pos rfl, h1 k hk]
    · rw [if_neg h', hs e he h' h, pj_sb_lt he]
theorem pj_ka3 {m : Int32} {pl : Nat} (hp : pl < 6) : ∀ j, 3 ≤ j → bt (pj_ka m pl) j = false := fun _ h => pj_ka_hi hp h
theorem pj_sr0 (al h e : Nat) : pj_src 0 al h e = if e = h then 6 else e := rfl
theorem pj_sr1 (al h e : Nat) : pj_src 1 al h e = if e = h then 7 else e := rfl
theorem pj_sr2 (al h e : Nat) : pj_src 2 al h e = if e + 1 = h then 9 else e := rfl
theorem pj_sr3 (al h e : Nat) : pj_src 3 al h e = if e = h then h - 1 else e := rfl
theorem pj_sr4 (al h e : Nat) : pj_src 4 al h e = if e + 1 = h then h - 2 else if e + 2 = h then h - 1 else e := rfl
theorem pj_sr5 (al h e : Nat) : pj_src 5 al h e = if e + 1 = h then 9 else if e + 2 = h then 6 else e := rfl
theorem pj_sr12 (al h e : Nat) : pj_src 12 al h e = if e + 1 = h then 9 else if e + 2 = h then 6 else e := rfl
theorem pj_sr6 (al h e : Nat) : pj_src 6 al h e = if e + 1 = h then 6 else e := rfl
theorem pj_sr7 (al h e : Nat) : pj_src 7 al h e = if e + 1 = h ∨ e + 2 = h then 9 else e := rfl
theorem pj_sr8 (al h e : Nat) : pj_src 8 al h e = if e = h then 4 + al else e := rfl
theorem pj_sr9 (al h e : Nat) : pj_src 9 al h e = if e + 1 = h then 9 else if e = 4 + al then h - 1 else e := rfl
def pj_af (o al h : Nat) (m : Int32) : Int32 :=
  if o = 0 then pj_wk m h 1 else if o = 1 then pj_wk m h 2 else if o = 2 then pj_wk m (h - 1) 0 else if o = 3 then pj_wk m h (pj_ka m (h - 1))
  else if o = 4 then pj_wk (pj_wk m (h - 1) (pj_ka m (h - 2))) (h - 2) (pj_ka m (h - 1))
  else if o = 5 ∨ o = 12 then pj_wk (pj_wk m (h - 1) 0) (h - 2) 1 else if o = 6 then pj_wk m (h - 1) 1
  else if o = 7 then pj_wk (pj_wk m (h - 1) 0) (h - 2) 0 else if o = 8 then pj_wk m h (pj_ka m (4 + al))
  else if o = 9 then pj_wk (pj_wk m (h - 1) 0) (4 + al) (pj_ka m (h - 1)) else m
theorem pj_af0 (al h : Nat) (m : Int32) : pj_af 0 al h m = pj_wk m h 1 := rfl
theorem pj_af1 (al h : Nat) (m : Int32) : pj_af 1 al h m = pj_wk m h 2 := rfl
theorem pj_af2 (al h : Nat) (m : Int32) : pj_af 2 al h m = pj_wk m (h - 1) 0 := rfl
theorem pj_af3 (al h : Nat) (m : Int32) : pj_af 3 al h m = pj_wk m h (pj_ka m (h - 1)) := rfl
theorem pj_af4 (al h : Nat) (m : Int32) : pj_af 4 al h m = pj_wk (pj_wk m (h - 1) (pj_ka m (h - 2))) (h - 2) (pj_ka m (h - 1)) := rfl
theorem pj_af5 (al h : Nat) (m : Int32) : pj_af 5 al h m = pj_wk (pj_wk m (h - 1) 0) (h - 2) 1 := rfl
theorem pj_af6 (al h : Nat) (m : Int32) : pj_af 6 al h m = pj_wk m (h - 1) 1 := rfl
theorem pj_af7 (al h : Nat) (m : Int32) : pj_af 7 al h m = pj_wk (pj_wk m (h - 1) 0) (h - 2) 0 := rfl
theorem pj_af8 (al h : Nat) (m : Int32) : pj_af 8 al h m = pj_wk m h (pj_ka m (4 + al)) := rfl
theorem pj_af9 (al h : Nat) (m : Int32) : pj_af 9 al h m = pj_wk (pj_wk m (h - 1) 0) (4 + al) (pj_ka m (h - 1)) := rfl
theorem pj_af10 (al h : Nat) (m : Int32) : pj_af 10 al h m = m := rfl
theorem pj_af11 (al h : Nat) (m : Int32) : pj_af 11 al h m = m := rfl
theorem pj_af12 (al h : Nat) (m : Int32) : pj_af 12 al h m = pj_wk (pj_wk m (h - 1) 0) (h - 2) 1 := rfl
theorem pj_af13 (al h : Nat) (m : Int32) : pj_af 13 al h m = m := rfl
theorem pj_Af_ok {o al h : Nat} {m : Int32} (ho : o ≤ 13) (hal : al < 2) (hh : h ≤ 4) (hr : pj_rf 4 o h = 0) : pj_Af o al h m (pj_af o al h m) := by
  have hnd := pj_rf_nd hr
  have hg := fun z => pj_rf_gp hr z
  rcases pj_o14 ho with rfl | rfl | rfl | rfl | rfl | rfl | rfl | rfl | rfl | rfl | rfl | rfl | rfl | rfl
  · have := hg rfl
    rw [pj_af0]
    refine pj_Af_1 (by omega) pj_k1 (fun e he hn => (pj_sr0 al h e).trans (if_neg hn)) (fun k hk => ?_)
    rw [(pj_sr0 al h _).trans (if_pos rfl), pj_sb_6]
  · have := hg rfl
    rw [pj_af1]
    refine pj_Af_1 (by omega) pj_k2 (fun e he hn => (pj_sr1 al h e).trans (if_neg hn)) (fun k hk => ?_)
    rw [(pj_sr1 al h _).trans (if_pos rfl), pj_sb_7]
  · have h1 : 1 ≤ h := hnd
    rw [pj_af2]
    refine pj_Af_1 (by omega) pj_k0 (fun e he hn => (pj_sr2 al h e).trans (if_neg (by omega))) (fun k hk => ?_)
    rw [(pj_sr2 al h _).trans (if_pos (by omega)), pj_sb_9 hk]
  · have := hg rfl
    have h1 : 1 ≤ h := hnd
    rw [pj_af3]
    refine pj_Af_1 (by omega) (pj_ka3 (by omega)) (fun e he hn => (pj_sr3 al h e).trans (if_neg hn)) (fun k hk => ?_)
    rw [(pj_sr3 al h _).trans (if_pos rfl), pj_sb_lt (by omega), pj_ka_k (by omega) hk]
  · have h2 : 2 ≤ h := hnd
    rw [pj_af4]
    refine pj_Af_2 (by omega) (by omega) (by omega) (pj_ka3 (by omega)) (pj_ka3 (by omega)) (fun e he hn hn' => (pj_sr4 al h e).trans ((if_neg (by omega)).trans (if_neg (by omega)))) (fun k hk => ?_) (fun k hk => ?_)
    · rw [(pj_sr4 al h _).trans (if_pos (by omega)), pj_sb_lt (by omega), pj_ka_k (by omega) hk]
    · rw [(pj_sr4 al h _).trans ((if_neg (by omega)).trans (if_pos (by omega))), pj_sb_lt (by omega), pj_ka_k (by omega) hk]
  · have h2 : 2 ≤ h := hnd
    rw [pj_af5]
    refine pj_Af_2 (by omega) (by omega) (by omega) pj_k0 pj_k1 (fun e he hn hn' => (pj_sr5 al h e).trans ((if_neg (by omega)).trans (if_neg (by omega)))) (fun k hk => ?_) (fun k hk => ?_)
    · rw [(pj_sr5 al h _).trans (if_pos (by omega)), pj_sb_9 hk]
    · rw [(pj_sr5 al h _).trans ((if_neg (by omega)).trans (if_pos (by omega))), pj_sb_6]
  · have h1 : 1 ≤ h := hnd
    rw [pj_af6]
    refine pj_Af_1 (by omega) pj_k1 (fun e he hn => (pj_sr6 al h e).trans (if_neg (by omega))) (fun k hk => ?_)
    rw [(pj_sr6 al h _).trans (if_pos (by omega)), pj_sb_6]
  · have h2 : 2 ≤ h := hnd
    rw [pj_af7]
    refine pj_Af_2 (by omega) (by omega) (by omega) pj_k0 pj_k0 (fun e he hn hn' => (pj_sr7 al h e).trans (if_neg (by omega))) (fun k hk => ?_) (fun k hk => ?_)
    · rw [(pj_sr7 al h _).trans (if_pos (by omega)), pj_sb_9 hk]
    · rw [(pj_sr7 al h _).trans (if_pos (by omega)), pj_sb_9 hk]
  · have := hg rfl
    rw [pj_af8]
    refine pj_Af_1 (by omega) (pj_ka3 (by omega)) (fun e he hn => (pj_sr8 al h e).trans (if_neg hn)) (fun k hk => ?_)
    rw [(pj_sr8 al h _).trans (if_pos rfl), pj_sb_lt (by omega), pj_ka_k (by omega) hk]
  · have h1 : 1 ≤ h := hnd
    rw [pj_af9]
    refine pj_Af_2 (by omega) (by omega) (by omega) pj_k0 (pj_ka3 (by omega)) (fun e he hn hn' => (pj_sr9 al h e).trans ((if_neg (by omega)).trans (if_neg (by omega)))) (fun k hk => ?_) (fun k hk => ?_)
    · rw [(pj_sr9 al h _).trans (if_pos (by omega)), pj_sb_9 hk]
    · rw [(pj_sr9 al h _).trans ((if_neg (by omega)).trans (if_pos rfl)), pj_sb_lt (by omega), pj_ka_k (by omega) hk]
  · exact pj_Af_id (fun e he => rfl)
  · exact pj_Af_id (fun e he => rfl)
  · have h2 : 2 ≤ h := hnd
    rw [pj_af12]
    refine pj_Af_2 (by omega) (by omega) (by omega) pj_k0 pj_k1 (fun e he hn hn' => (pj_sr12 al h e).trans ((if_neg (by omega)).trans (if_neg (by omega)))) (fun k hk => ?_) (fun k hk => ?_)
    · rw [(pj_sr12 al h _).trans (if_pos (by omega)), pj_sb_9 hk]
    · rw [(pj_sr12 al h _).trans ((if_neg (by omega)).trans (if_pos (by omega))), pj_sb_6]
  · exact pj_Af_id (fun e he => rfl)
/-- the walk of 'after' -/
theorem pj_Xafter {post : Int32 → Prop} {o al h : Nat} {a m : Int32} (ho : o ≤ 13) (hr : pj_rf 4 o h = 0) (ha : (o = 8 ∨ o = 9) → a = nI al) (hp : post (pj_af o al h m)) : wpX_after post (nI o) a (nI h) m := by
  have hnd := pj_rf_nd hr
  have hb : o < 2 ^ 31 := by omega
  unfold wpX_after
  refine br_f (nI_pos hb) ?_
  refine pk_lt 12 o (fun h => ?_) (fun h12 => ?_) rfl rfl (by omega) hb
  · have : o = 13 := by omega
    subst this; exact hp
  refine pk_eq o 0 (fun h => ?_) (fun h0 => ?_) rfl rfl hb (by omega)
  · subst h
    rw [pj_af0] at hp
    exact pj_wK rfl hp
  refine pk_eq o 1 (fun h => ?_) (fun h1 => ?_) rfl rfl hb (by omega)
  · subst h
    rw [pj_af1] at hp
    exact pj_wK rfl hp
  refine pk_eq o 2 (fun h => ?_) (fun h2 => ?_) rfl rfl hb (by omega)
  · subst h
    rw [pj_af2] at hp
    exact pj_wK (pj_s1 hnd) hp
  refine pk_eq o 3 (fun h => ?_) (fun h3 => ?_) rfl rfl hb (by omega)
  · subst h
    rw [pj_af3] at hp
    unfold wpX_copied
    exact pj_kA (pj_s1 hnd) (pj_wK rfl hp)
  refine pk_eq o 4 (fun h => ?_) (fun h4 => ?_) rfl rfl hb (by omega)
  · subst h
    rw [pj_af4] at hp
    have h1 : 1 ≤ h := Nat.le_trans (by decide) hnd
    unfold wpX_swapped
    exact pj_kA (pj_s1 h1) (pj_kA (pj_s2 hnd) (pj_wK (pj_s1 h1) (pj_wK (pj_s2 hnd) hp)))
  refine pk_eq o 5 (fun h => ?_) (fun h5 => ?_) rfl rfl hb (by omega)
  · subst h
    rw [pj_af5] at hp
    have h1 : 1 ≤ h := Nat.le_trans (by decide) hnd
    unfold wX_after_106 wpX_merged
    exact pj_wK (pj_s1 h1) (pj_wK (pj_s2 hnd) hp)
  refine pk_eq o 6 (fun h => ?_) (fun h6 => ?_) rfl rfl hb (by omega)
  · subst h
    rw [pj_af6] at hp
    exact pj_wK (pj_s1 hnd) hp
  refine pk_eq o 7 (fun h => ?_) (fun h7 => ?_) rfl rfl hb (by omega)
  · subst h
    rw [pj_af7] at hp
    have h1 : 1 ≤ h := Nat.le_trans (by decide) hnd
    unfold wpX_dropped
    exact pj_wK (pj_s1 h1) (pj_wK (pj_s2 hnd) hp)
  refine pk_eq o 8 (fun h => ?_) (fun h8 => ?_) rfl rfl hb (by omega)
  · subst h
    rw [pj_af8] at hp
    have e4 : (4 : Int32) + a = nI (4 + al) := by rw [ha (Or.inl rfl)]; exact nI_add 4 al
    unfold wpX_copied
    exact pj_kA e4 (pj_wK rfl hp)
  refine pk_eq o 9 (fun h => ?_) (fun h9 => ?_) rfl rfl hb (by omega)
  · subst h
    rw [pj_af9] at hp
    have e4 : (4 : Int32) + a = nI (4 + al) := by rw [ha (Or.inr rfl)]; exact nI_add 4 al
    unfold wpX_kept
    exact pj_kA (pj_s1 hnd) (pj_wK (pj_s1 hnd) (pj_wK e4 hp))
  refine pk_eq o 10 (fun h => ?_) (fun h10 => ?_) rfl rfl hb (by omega)
  · subst h
    rw [pj_af10] at hp
    exact hp
  refine pk_eq o 11 (fun h => ?_) (fun h11 => ?_) rfl rfl hb (by omega)
  · subst h
    rw [pj_af11] at hp
    exact hp
  refine pk_eq o 12 (fun h => ?_) (fun h12 => ?_) rfl rfl hb (by omega)
  · subst h
    rw [pj_af12] at hp
    have h1 : 1 ≤ h := Nat.le_trans (by decide) hnd
    unfold wX_after_106 wpX_merged
    exact pj_wK (pj_s1 h1) (pj_wK (pj_s2 hnd) hp)
  exact trivial
end
end
section
section
variable {xMH xPO xSZ xQH xQC xJD xST xAT xTP xMD xCH xFK : Int32} {OP AR xMK xQD xQU xNT xFA xCE xLO xFI : Nat → Int32}
variable {c G : Nat}
theorem pj_Xneeds {post : Int32 → Prop} {o : Nat} (ho : o ≤ 13) (hp : post (nI (pj_nd o))) : wpX_needs post (nI o) := by
  have hb : o < 2 ^ 31 := by omega
  unfold wpX_needs
  refine pk_eq o 4 (fun h => ?_) (fun h4 => ?_) rfl rfl hb (by omega)
  · subst h; exact hp
  refine pk_eq o 5 (fun h => ?_) (fun h5 => ?_) rfl rfl hb (by omega)
  · subst h; exact hp
  refine pk_eq o 7 (fun h => ?_) (fun h7 => ?_) rfl rfl hb (by omega)
  · subst h; exact hp
  refine pk_eq o 12 (fun h => ?_) (fun h12 => ?_) rfl rfl hb (by omega)
  · subst h; exact hp
  refine pk_eq o 2 (fun h => ?_) (fun h2 => ?_) rfl rfl hb (by omega)
  · subst h; exact hp
  refine pk_eq o 3 (fun h => ?_) (fun h3 => ?_) rfl rfl hb (by omega)
  · subst h; exact hp
  refine pk_eq o 6 (fun h => ?_) (fun h6 => ?_) rfl rfl hb (by omega)
  · subst h; exact hp
  refine pk_eq o 9 (fun h => ?_) (fun h9 => ?_) rfl rfl hb (by omega)
  · subst h; exact hp
  refine pk_eq o 13 (fun h => ?_) (fun h13 => ?_) rfl rfl hb (by omega)
  · subst h; exact hp
  have e : pj_nd o = 0 := by unfold pj_nd; rw [if_neg (by omega), if_neg (by omega)]
  rw [e] at hp; exact hp
def pj_gr (o : Nat) : Int32 := if o = 7 then -2 else if o = 2 ∨ o = 5 ∨ o = 9 ∨ o = 12 then -1 else if o = 0 ∨ o = 1 ∨ o = 3 ∨ o = 8 then 1 else 0
theorem pj_Xgrowth {post : Int32 → Prop} {o : Nat} (ho : o ≤ 13) (hp : post (pj_gr o)) : wpX_growth post (nI o) := by
  have hb : o < 2 ^ 31 := by omega
  unfold wpX_growth
  refine pk_eq o 0 (fun h => ?_) (fun h0 => ?_) rfl rfl hb (by omega)
  · subst h; exact hp
  refine pk_eq o 1 (fun h => ?_) (fun h1 => ?_) rfl rfl hb (by omega)
  · subst h; exact hp
  refine pk_eq o 3 (fun h => ?_) (fun h3 => ?_) rfl rfl hb (by omega)
  · subst h; exact hp
  refine pk_eq o 8 (fun h => ?_) (fun h8 => ?_) rfl rfl hb (by omega)
  · subst h; exact hp
  refine pk_eq o 7 (fun h => ?_) (fun h7 => ?_) rfl rfl hb (by omega)
  · subst h; exact hp
  refine pk_eq o 2 (fun h => ?_) (fun h2 => ?_) rfl rfl hb (by omega)
  · subst h; exact hp
  refine pk_eq o 5 (fun h => ?_) (fun h5 => ?_) rfl rfl hb (by omega)
  · subst h; exact hp
  refine pk_eq o 9 (fun h => ?_) (fun h9 => ?_) rfl rfl hb (by omega)
  · subst h; exact hp
  refine pk_eq o 12 (fun h => ?_) (fun h12 => ?_) rfl rfl hb (by omega)
  · subst h; exact hp
  have e : pj_gr o = 0 := by unfold pj_gr; rw [if_neg (by omega), if_neg (by omega), if_neg (by omega)]
  rw [e] at hp; exact hp
theorem pj_gr_le : ∀ o, o < 14 → (pj_gp o = 1 → ¬ pj_gr o ≤ 0) ∧ (¬ pj_gp o = 1 → pj_gr o ≤ 0) := by decide +kernel
theorem pj_p1 {h : Nat} (hh : 1 ≤ h) : nI h + (-1) = nI (h - 1) := by
  obtain ⟨m, rfl⟩ : ∃ m, h = m + 1 := ⟨h - 1, by omega⟩
  exact pk_m1 m
theorem pj_p2 {h : Nat} (hh : 2 ≤ h) : nI h + (-2) = nI (h - 2) := by
  obtain ⟨m, rfl⟩ : ∃ m, h = m + 2 := ⟨h - 2, by omega⟩
  rw [← nI_add m 2, Int32.add_assoc, show nI 2 + (-2) = 0 from by decide, Int32.add_zero]
  rfl
theorem pj_gr_add {o h : Nat} (ho : o ≤ 13) (hh : pj_gm o ≤ h) : nI h + pj_gr o = nI (pj_nh o h) := by
  rcases pj_o14 ho with rfl | rfl | rfl | rfl | rfl | rfl | rfl | rfl | rfl | rfl | rfl | rfl | rfl | rfl
  · exact nI_1 h
  · exact nI_1 h
  · exact pj_p1 hh
  · exact nI_1 h
  · exact Int32.add_zero (nI h)
  · exact pj_p1 hh
  · exact Int32.add_zero (nI h)
  · exact pj_p2 hh
  · exact nI_1 h
  · exact pj_p1 hh
  · exact Int32.add_zero (nI h)
  · exact Int32.add_zero (nI h)
  · exact pj_p1 hh
  · exact Int32.add_zero (nI h)
theorem pj_nd_le : ∀ o, o < 14 → pj_nd o ≤ 2 := by decide
theorem pj_rf_1 {o h : Nat} (h1 : h < pj_nd o) : pj_rf G o h = 1 := if_pos h1
theorem pj_rf_2 {o h : Nat} (h1 : pj_nd o ≤ h) (h2 : pj_gp o = 1) (h3 : G ≤ h) : pj_rf G o h = 2 := (if_neg (by omega)).trans (if_pos ⟨h2, h3⟩)
theorem pj_rf_0 {o h : Nat} (h1 : pj_nd o ≤ h) (h2 : pj_gp o = 1 → h < G) : pj_rf G o h = 0 := (if_neg (by omega)).trans (if_neg (fun z => by have := h2 z.1; omega))
theorem pj_rf_lt {o h : Nat} : pj_rf G o h < 3 := by
  unfold pj_rf
  (repeat' split) <;> omega
theorem pj_Xroom {post : Int32 → Prop} {o h : Nat} (ho : o ≤ 13) (hh : h ≤ 4) (hG : G ≤ 4) (hp : post (nI (pj_rf G o h))) : wpX_roomFault post (nI G, xPO, xSZ, xQH, xQC, xJD, xST, xAT, xTP, xMD, xCH, xFK, OP, AR, xMK, xQD, xQU, xNT, xFA, xCE, xLO, xFI) (nI o) (nI h) := by
  unfold wpX_roomFault
  have hn := pj_nd_le o (by omega)
  refine pj_Xneeds ho ?_
  refine pk_le (pj_nd o) h (fun h1 => ?_) (fun h1 => ?_) rfl rfl (by omega) (by omega)
  · refine pj_Xgrowth ho ?_
    by_cases hg : pj_gp o = 1
    · refine br_f ((pj_gr_le o (by omega)).1 hg) ?_
      refine pk_lt h G (fun h2 => ?_) (fun h2 => ?_) rfl rfl (by omega) (by omega)
      · rw [pj_rf_0 h1 (fun _ => h2)] at hp; exact hp
      · rw [pj_rf_2 h1 hg h2] at hp; exact hp
    · refine br_t ((pj_gr_le o (by omega)).2 hg) ?_
      rw [pj_rf_0 h1 (fun z => absurd z hg)] at hp; exact hp
  · rw [pj_rf_1 h1] at hp; exact hp
def pj_nx (OP AR : Nat → Int32) (p : Nat) : Int32 := if pj_o OP p = 13 then -1 else if pj_o OP p = 10 then AR p else nI (p + 1)
theorem pj_Xnext {post : Int32 → Prop} {p : Nat} (hp16 : p < 16) (ho : pj_o OP p ≤ 13) (hO : OP p = nI (pj_o OP p)) (hp : post (pj_nx OP AR p)) : wpX_mainNext post (xMH, xPO, xSZ, xQH, xQC, xJD, xST, xAT, xTP, xMD, xCH, xFK, OP, AR, xMK, xQD, xQU, xNT, xFA, xCE, xLO, xFI) (nI p) := by
  unfold wpX_mainNext
  have hin : vp_in (nI p) 16 := vp_in_nI hp16 (by omega)
  have ec : (nI p).toNatClampNeg = p := nI_clamp (by omega)
  refine And.intro hin (nm_r (e' := nI (pj_o OP p)) (by rw [ec]; exact hO) ?_)
  unfold pj_nx at hp
  refine pk_eq (pj_o OP p) 13 (fun h => ?_) (fun h => ?_) rfl rfl (by omega) (by omega)
  · rw [if_pos h] at hp; exact hp
  · rw [if_neg h] at hp
    refine pk_eq (pj_o OP p) 10 (fun h => ?_) (fun h => ?_) rfl rfl (by omega) (by omega)
    · rw [if_pos h] at hp
      refine And.intro hin ?_
      rw [ec]; exact hp
    · rw [if_neg h] at hp
      rw [nI_1]; exact hp
theorem pj_XinT {post : Int32 → Prop} {q : Nat} (hq : q < c) (hc : c ≤ 16) (hp : post 1) : wpX_inside post (xMH, xPO, nI c, xQH, xQC, xJD, xST, xAT, xTP, xMD, xCH, xFK, OP, AR, xMK, xQD, xQU, xNT, xFA, xCE, xLO, xFI) (nI q) := by
  unfold wpX_inside
  exact br_f (nI_pos (by omega)) (br_f (nI_ge hq (by omega)) hp)
theorem pj_XinF {post : Int32 → Prop} {x : Int32} (hc : c ≤ 16) (hx : ¬ ∃ q, q < c ∧ x = nI q) (hp : post 0) : wpX_inside post (xMH, xPO, nI c, xQH, xQC, xJD, xST, xAT, xTP, xMD, xCH, xFK, OP, AR, xMK, xQD, xQU, xNT, xFA, xCE, xLO, xFI) x := by
  unfold wpX_inside
  refine br_c (fun _ => hp) (fun h0 => ?_)
  obtain ⟨j, hj, rfl⟩ := nI_of h0
  by_cases h : j < c
  · exact absurd ⟨j, h, rfl⟩ hx
  · exact br_t (nI_le (by omega) hj) hp
theorem pj_in_dec (c : Nat) (x : Int32) : (∃ q, q < c ∧ x = nI q) ∨ ¬ ∃ q, q < c ∧ x = nI q := Classical.em _
theorem pj_TgMain {p q : Nat} (hp : p < 16) (hc : c ≤ 16) (hq : q < c) (hx : pj_nx OP AR p = nI q) : pj_Tg c OP AR p q := by
  refine ⟨hq, ?_⟩
  unfold pj_nx at hx
  by_cases h13 : pj_o OP p = 13
  · rw [if_pos h13] at hx
    exact absurd hx ((by decide +kernel : ∀ q, q < 16 → ¬ (-1 : Int32) = nI q) q (by omega))
  · rw [if_neg h13] at hx
    by_cases h10 : pj_o OP p = 10
    · rw [if_pos h10] at hx
      exact Or.inr ⟨Or.inl h10, hx⟩
    · rw [if_neg h10] at hx
      exact Or.inl ⟨h10, h13, ((nI_eq (by omega) (by omega)).mp hx).symm⟩
theorem pj_TgInv {p q : Nat} (h : pj_Tg c OP AR p q) : pj_nx OP AR p = nI q ∨ (pj_o OP p = 11 ∧ AR p = nI q) := by
  obtain ⟨_, h | h⟩ := h
  · left
    unfold pj_nx
    rw [if_neg h.2.1, if_neg h.1, h.2.2]
  · rcases h with ⟨h10 | h11, hA⟩
    · left
      unfold pj_nx
      rw [if_neg (by omega), if_pos h10, hA]
    · exact Or.inr ⟨h11, hA⟩
/-! the walk over the nodes: the invariant -/
def pj_J (c G : Nat) (OP AR : Nat → Int32) (n0 : Nat) (mk qd qu : Nat → Int32) (h : Nat) (Q : List Nat) : Prop :=
  (∀ n, n < 80 → ∀ pl, pl < 6 → ∀ k, k < 3 → bt (mk n) (3 * pl + k) = true → pj_Wt c G OP AR n pl k) ∧
  (∀ n, n < 80 → ∀ i, 18 ≤ i → bt (mk n) i = false) ∧
  (∀ n, n < 80 → ¬ n ∈ Q → ¬ n = n0 → pj_Cl c G OP AR mk n) ∧
  (Q.Nodup ∧ ∀ n, n ∈ Q → n < 80 ∧ pj_Nd c G OP AR n) ∧
  (∀ n, n < 80 → (n ∈ Q ∧ qd n = 1) ∨ (¬ n ∈ Q ∧ qd n = 0)) ∧ pj_QR qu h Q
def pj_bits (mk : Nat → Int32) : Nat := pj_cn (fun i => bt (mk (i / 18)) (i % 18)) 1440
theorem pj_Cl_mono {mk mk' : Nat → Int32} {n : Nat} (hn : mk' n = mk n) (hle : ∀ j i, bt (mk j) i = true → bt (mk' j) i = true) (h : pj_Cl c G OP AR mk n) : pj_Cl c G OP AR mk' n := by
  intro h0 hr q hT pl hp k hk hb
  rw [hn] at h0 hb
  exact hle _ _ (h h0 hr q hT pl hp k hk hb)
theorem pj_up_le {mk : Nat → Int32} {t : Nat} {m : Int32} : ∀ j i, bt (mk j) i = true → bt (upd mk t (mk t ||| m) j) i = true := by
  intro j i h
  by_cases e : j = t
  · subst e; rw [pk_us, b_or, h, Bool.true_or]
  · rw [pk_un e]; exact h
theorem pj_newbit {a m : Int32} (hm : ∀ i, 18 ≤ i → bt m i = false) (hne : ¬ (a ||| m) = a) : ∃ i, i < 18 ∧ bt m i = true ∧ bt a i = false := by
  apply Classical.byContradiction
  intro hn
  apply hne
  apply b_ext
  intro i _
  rw [b_or]
  by_cases h18 : i < 18
  · cases ha : bt a i
    · cases hb : bt m i
      · rfl
      · exact absurd ⟨i, h18, hb, ha⟩ hn
    · rfl
  · rw [hm i (by omega), Bool.or_false]
theorem pj_reachP {n0 h t : Nat} {mk qd qu : Nat → Int32} {Q : List Nat} {m : Int32} (J : pj_J c G OP AR n0 mk qd qu h Q) (ht : t < 80)
    (hm : ∀ pl, pl < 6 → ∀ k, k < 3 → bt m (3 * pl + k) = true → pj_Wt c G OP AR t pl k) (hm18 : ∀ i, 18 ≤ i → bt m i = false) (hne : ¬ (mk t ||| m) = mk t) :
    (t ∈ Q → pj_J c G OP AR n0 (upd mk t (mk t ||| m)) qd qu h Q) ∧ (¬ t ∈ Q → pj_J c G OP AR n0 (upd mk t (mk t ||| m)) (upd qd t 1) (upd qu ((h + Q.length) % 128) (nI t)) h (Q ++ [t])) ∧ pj_bits mk + 1 ≤ pj_bits (upd mk t (mk t ||| m)) := by
  obtain ⟨j1, j2, j3, ⟨j4, j4'⟩, j5, j6⟩ := J
  obtain ⟨i, hi, hb, ha⟩ := pj_newbit hm18 hne
  have a1 : ∀ n, n < 80 → ∀ pl, pl < 6 → ∀ k, k < 3 → bt (upd mk t (mk t ||| m) n) (3 * pl + k) = true → pj_Wt c G OP AR n pl k := by
    intro n hn pl hp k hk hx
    by_cases e : n = t
    · subst e
      rw [pk_us, b_or, Bool.or_eq_true] at hx
      rcases hx with hx | hx
      · exact j1 n hn pl hp k hk hx
      · exact hm pl hp k hk hx
    · rw [pk_un e] at hx
      exact j1 n hn pl hp k hk hx
  have a2 : ∀ n, n < 80 → ∀ i, 18 ≤ i → bt (upd mk t (mk t ||| m) n) i = false := by
    intro n hn i hi
    by_cases e : n = t
    · subst e
      rw [pk_us, b_or, j2 n hn i hi, hm18 i hi]; rfl
    · rw [pk_un e]; exact j2 n hn i hi
  have a3 : ∀ n, n < 80 → ¬ n ∈ Q → ¬ n = n0 → ¬ n = t → pj_Cl c G OP AR (upd mk t (mk t ||| m)) n :=
    fun n hn h1 h2 h3 => pj_Cl_mono (pk_un h3) pj_up_le (j3 n hn h1 h2)
  refine ⟨fun hQ => ?_, fun hQ => ?_, ?_⟩
  · exact ⟨a1, a2, fun n hn h1 h2 => a3 n hn h1 h2 (fun e => h1 (e ▸ hQ)), ⟨j4, j4'⟩, j5, j6⟩
  · have hlen : Q.length ≤ 80 := pj_nodup80 j4 (fun n hn => (j4' n hn).1)
    have hNd : pj_Nd c G OP AR t := by
      have e3 : 3 * (i / 3) + i % 3 = i := by omega
      exact pj_WtNd (hm (i / 3) (by omega) (i % 3) (by omega) (by rw [e3]; exact hb))
    refine ⟨a1, a2, fun n hn h1 h2 => ?_, ⟨?_, ?_⟩, ?_, pj_QRapp j6 (by omega)⟩
    · rw [List.mem_append] at h1
      exact a3 n hn (fun z => h1 (Or.inl z)) h2 (fun e => h1 (Or.inr (List.mem_singleton.mpr e)))
    · rw [List.nodup_append]
      refine ⟨j4, List.nodup_cons.mpr ⟨List.not_mem_nil, List.nodup_nil⟩, ?_⟩
      intro x hx y hy e
      rw [List.mem_singleton] at hy
      exact hQ (hy ▸ e ▸ hx)
    · intro n hn
      rw [List.mem_append, List.mem_singleton] at hn
      rcases hn with hn | rfl
      · exact j4' n hn
      · exact ⟨ht, hNd⟩
    · intro n hn
      by_cases e : n = t
      · subst e
        exact Or.inl ⟨List.mem_append.mpr (Or.inr (List.mem_singleton.mpr rfl)), pk_us⟩
      · rcases j5 n hn with ⟨x, y⟩ | ⟨x, y⟩
        · exact Or.inl ⟨List.mem_append.mpr (Or.inl x), (pk_un e).trans y⟩
        · refine Or.inr ⟨fun z => ?_, (pk_un e).trans y⟩
          rw [List.mem_append, List.mem_singleton] at z
          exact z.elim x e
  · refine pj_cn_lt (j := t * 18 + i) (fun z _ hz => pj_up_le _ _ hz) (by omega) ?_ ?_
    · show bt (mk ((t * 18 + i) / 18)) ((t * 18 + i) % 18) = false
      rw [show (t * 18 + i) / 18 = t by omega, show (t * 18 + i) % 18 = i by omega]; exact ha
    · show bt (upd mk t (mk t ||| m) ((t * 18 + i) / 18)) ((t * 18 + i) % 18) = true
      rw [show (t * 18 + i) / 18 = t by omega, show (t * 18 + i) % 18 = i by omega, pk_us, b_or, hb, Bool.or_true]
theorem pj_by : ∀ t, t < 128 → (nI t).toInt8.toInt32 = nI t := by decide +kernel
theorem pj_nby {t : Nat} (h : t < 128) : vp_nar .byte (nI t).toInt8.toInt32 = nI t := by rw [pk_vb, pj_by t h]
theorem pj_nb0 : vp_nar .byte 0 = 0 := by decide
theorem pj_nb1 : vp_nar .byte 1 = 1 := by decide
theorem pj_ring {h l : Nat} (hh : h < 128) (hl : l < 128) : (nI h + nI l) &&& 127 = nI ((h + l) % 128) := by
  rw [nI_add]
  exact pk_andN (by omega) 7 (by decide)
theorem pj_node (p h : Nat) : nI p * 5 + nI h = nI (p * 5 + h) := (congrArg (· + nI h) (pk_mul p 5)).trans (nI_add _ _)
theorem pj_Xreach {post : SX → Prop} {n0 h p hh B : Nat} {Q : List Nat} {m : Int32} (J : pj_J c G OP AR n0 xMK xQD xQU h Q) (hh128 : h < 128) (ht : p * 5 + hh < 80)
    (hm : ∀ pl, pl < 6 → ∀ k, k < 3 → bt m (3 * pl + k) = true → pj_Wt c G OP AR (p * 5 + hh) pl k) (hm18 : ∀ i, 18 ≤ i → bt m i = false) (hB : B + Q.length ≤ pj_bits xMK)
    (K : ∀ (mk' qd' qu' : Nat → Int32) (Q' : List Nat), pj_J c G OP AR n0 mk' qd' qu' h Q' → (∀ j i, bt (xMK j) i = true → bt (mk' j) i = true) → (∀ i, bt m i = true → bt (mk' (p * 5 + hh)) i = true) → (∀ j, ¬ j ∈ Q' → mk' j = xMK j ∧ ¬ j ∈ Q) → B + Q'.length ≤ pj_bits mk' → post (xMH, xPO, xSZ, nI h, nI Q'.length, xJD, xST, xAT, xTP, xMD, xCH, xFK, OP, AR, mk', qd', qu', xNT, xFA, xCE, xLO, xFI)) :
    wpX_reach post (xMH, xPO, xSZ, nI h, nI Q.length, xJD, xST, xAT, xTP, xMD, xCH, xFK, OP, AR, xMK, xQD, xQU, xNT, xFA, xCE, xLO, xFI) (nI p) (nI hh) m := by
  have hin : vp_in (nI (p * 5 + hh)) 80 := vp_in_nI ht (by omega)
  have ec : (nI (p * 5 + hh)).toNatClampNeg = p * 5 + hh := nI_clamp (by omega)
  have hlen : Q.length ≤ 80 := pj_nodup80 J.2.2.2.1.1 (fun n hn => (J.2.2.2.1.2 n hn).1)
  unfold wpX_reach
  refine nm_r (e' := nI (p * 5 + hh)) (pj_node p hh) ?_
  refine And.intro hin (nm_r (e' := xMK (p * 5 + hh) ||| m) (by rw [ec]) (And.intro hin ?_))
  by_cases hne : (xMK (p * 5 + hh) ||| m) = xMK (p * 5 + hh)
  · refine br_t (by rw [ec]; exact hne) ?_
    refine K xMK xQD xQU Q J (fun _ _ z => z) (fun i hi => ?_) (fun j hj => ⟨rfl, hj⟩) hB
    rw [← hne, b_or, hi, Bool.or_true]
  · obtain ⟨r1, r2, r3⟩ := pj_reachP J ht hm hm18 hne
    have hself : ∀ i, bt m i = true → bt (upd xMK (p * 5 + hh) (xMK (p * 5 + hh) ||| m) (p * 5 + hh)) i = true := by
      intro i hi
      rw [pk_us, b_or, hi, Bool.or_true]
    refine br_f (by rw [ec]; exact hne) ?_
    refine And.intro hin (nm_r (e' := upd xMK (p * 5 + hh) (xMK (p * 5 + hh) ||| m)) (by rw [ec]) (And.intro hin ?_))
    rcases J.2.2.2.2.1 _ ht with ⟨hQ, hq⟩ | ⟨hQ, hq⟩
    · refine br_f (by rw [ec, hq]; decide) ?_
      exact K _ xQD xQU Q (r1 hQ) pj_up_le hself (fun j hj => ⟨pk_un (fun e => hj (e ▸ hQ)), hj⟩) (by omega)
    · refine br_t (by rw [ec, hq]) ?_
      refine And.intro hin (nm_r (e' := upd xQD (p * 5 + hh) 1) (by rw [ec, pj_nb1]) ?_)
      refine And.intro (by rw [pj_ring hh128 (by omega)]; exact vp_in_nI (Nat.mod_lt _ (by omega)) (by omega)) ?_
      refine nm_r (e' := upd xQU ((h + Q.length) % 128) (nI (p * 5 + hh))) ?_ ?_
      · rw [pj_ring hh128 (by omega), nI_clamp (Nat.lt_of_lt_of_le (Nat.mod_lt _ (by omega)) (by omega)), pj_nby (by omega)]
      · refine nm_r (e' := nI (Q ++ [p * 5 + hh]).length) ?_ ?_
        · rw [List.length_append]; exact nI_1 _
        · refine K _ _ _ _ (r2 hQ) pj_up_le hself (fun j hj => ?_) ?_
          · rw [List.mem_append, List.mem_singleton] at hj
            exact ⟨pk_un (fun e => hj (Or.inr e)), fun z => hj (Or.inl z)⟩
          · rw [List.length_append]
            show B + (Q.length + 1) ≤ _
            omega
end
end
section
section
variable {xMH xPO xSZ xQH xQC xJD xST xAT xTP xMD xCH xFK : Int32} {OP AR xMK xQD xQU xNT xFA xCE xLO xFI : Nat → Int32}
variable {c G : Nat}
theorem pj_J80 {n h : Nat} {mk qd qu : Nat → Int32} {Q : List Nat} (J : pj_J c G OP AR n mk qd qu h Q) (hC : ¬ n ∈ Q → pj_Cl c G OP AR mk n) : pj_J c G OP AR 80 mk qd qu h Q := by
  refine ⟨J.1, J.2.1, fun x hx h1 _ => ?_, J.2.2.2⟩
  by_cases e : x = n
  · subst e; exact hC h1
  · exact J.2.2.1 x hx h1 e
theorem pj_Jpop {a h : Nat} {mk qd qu : Nat → Int32} {Q : List Nat} (J : pj_J c G OP AR 80 mk qd qu h (a :: Q)) : pj_J c G OP AR a mk (upd qd a 0) qu ((h + 1) % 128) Q := by
  obtain ⟨j1, j2, j3, ⟨j4, j4'⟩, j5, j6⟩ := J
  obtain ⟨n1, n2⟩ := List.nodup_cons.mp j4
  refine ⟨j1, j2, fun n hn h1 h2 => ?_, ⟨n2, fun n hn => j4' n (List.mem_cons_of_mem a hn)⟩, fun n hn => ?_, pj_QRmod (pj_QRtl j6)⟩
  · refine j3 n hn (fun z => ?_) (by omega)
    rcases List.mem_cons.mp z with z | z
    · exact h2 z
    · exact h1 z
  · by_cases e : n = a
    · subst e
      exact Or.inr ⟨n1, pk_us⟩
    · rw [pk_un e]
      rcases j5 n hn with ⟨x, y⟩ | ⟨x, y⟩
      · left
        rcases List.mem_cons.mp x with x | x
        · exact absurd x e
        · exact ⟨x, y⟩
      · exact Or.inr ⟨fun z => x (List.mem_cons_of_mem a z), y⟩
theorem pj_Xsp74 {post : SX → Prop} {n h B p o nh : Nat} {Q : List Nat} {m : Int32} (hc : c ≤ 16) (hp16 : p < 16) (ho : o ≤ 13) (hnh : nh ≤ 4) (J : pj_J c G OP AR n xMK xQD xQU h Q) (hh128 : h < 128)
    (hm : ∀ q, q < c → o = 11 → AR p = nI q → ∀ pl, pl < 6 → ∀ k, k < 3 → bt m (3 * pl + k) = true → pj_Wt c G OP AR (q * 5 + nh) pl k) (hm18 : ∀ i, 18 ≤ i → bt m i = false) (hB : B + Q.length ≤ pj_bits xMK)
    (K : ∀ (mk' qd' qu' : Nat → Int32) (Q' : List Nat), pj_J c G OP AR n mk' qd' qu' h Q' → (∀ j i, bt (xMK j) i = true → bt (mk' j) i = true) → (∀ q, q < c → o = 11 → AR p = nI q → ∀ i, bt m i = true → bt (mk' (q * 5 + nh)) i = true) → (∀ j, ¬ j ∈ Q' → mk' j = xMK j ∧ ¬ j ∈ Q) → B + Q'.length ≤ pj_bits mk' → post (xMH, xPO, nI c, nI h, nI Q'.length, xJD, xST, xAT, xTP, xMD, xCH, xFK, OP, AR, mk', qd', qu', xNT, xFA, xCE, xLO, xFI)) :
    wX_spread_74 post (nI p) (nI o) m (nI nh) xMH xPO (nI c) (nI h) (nI Q.length) xJD xST xAT xTP xMD xCH xFK OP AR xMK xQD xQU xNT xFA xCE xLO xFI := by
  have hin : vp_in (nI p) 16 := vp_in_nI hp16 (by omega)
  have ec : (nI p).toNatClampNeg = p := nI_clamp (by omega)
  unfold wX_spread_74
  refine pk_eq o 11 (fun h11 => ?_) (fun h11 => ?_) rfl rfl (by omega) (by omega)
  · refine And.intro hin ?_
    rw [ec]
    rcases pj_in_dec c (AR p) with ⟨q, hq, hx⟩ | hx
    · rw [hx]
      refine pj_XinT hq hc ?_
      refine br_f (by decide) (And.intro hin ?_)
      refine pj_Xreach (B := B) J hh128 (by omega) (hm q hq h11 hx) hm18 hB ?_
      intro mk' qd' qu' Q' a1 a2 a3 a4 a5
      refine K mk' qd' qu' Q' a1 a2 (fun q' hq' _ hx' => ?_) a4 a5
      rw [hx] at hx'
      rw [← (nI_eq (by omega) (by omega)).mp hx']
      exact a3
    · refine pj_XinF hc hx ?_
      refine br_t rfl ?_
      exact K xMK xQD xQU Q J (fun _ _ z => z) (fun q hq _ hx' => absurd ⟨q, hq, hx'⟩ hx) (fun j hj => ⟨rfl, hj⟩) hB
  · exact K xMK xQD xQU Q J (fun _ _ z => z) (fun q hq h' _ => absurd h' h11) (fun j hj => ⟨rfl, hj⟩) hB
theorem pj_Xspread {post : SX → Prop} {n h B : Nat} {Q : List Nat} (W : pj_wf c G OP AR) (J : pj_J c G OP AR n xMK xQD xQU h Q) (hh128 : h < 128) (hn : n < 80) (hN : pj_Nd c G OP AR n) (hB : B + Q.length ≤ pj_bits xMK)
    (K : ∀ (mk' qd' qu' : Nat → Int32) (Q' : List Nat), pj_J c G OP AR 80 mk' qd' qu' h Q' → (∀ j i, bt (xMK j) i = true → bt (mk' j) i = true) → B + Q'.length ≤ pj_bits mk' → post (nI G, xPO, nI c, nI h, nI Q'.length, xJD, xST, xAT, xTP, xMD, xCH, xFK, OP, AR, mk', qd', qu', xNT, xFA, xCE, xLO, xFI)) :
    wpX_spread post (nI G, xPO, nI c, nI h, nI Q.length, xJD, xST, xAT, xTP, xMD, xCH, xFK, OP, AR, xMK, xQD, xQU, xNT, xFA, xCE, xLO, xFI) (nI (n / 5)) (nI (n % 5)) := by
  obtain ⟨d0, s0, hR0, hh0⟩ := id hN
  have hpc := (pj_Rlt W _ _ _ hR0).1
  have hc := W.1
  obtain ⟨ho, hO, hA⟩ := W.2.2.2 _ hpc
  have hal := pj_al_lt AR (n / 5)
  have hin : vp_in (nI (n / 5)) 16 := vp_in_nI (by omega) (by omega)
  have ec : (nI (n / 5)).toNatClampNeg = n / 5 := nI_clamp (by omega)
  have e5 : n / 5 * 5 + n % 5 = n := by omega
  unfold wpX_spread
  refine And.intro hin (nm_r (e' := nI (pj_o OP (n / 5))) (by rw [ec]; exact hO) ?_)
  refine pj_Xroom ho (by omega) W.2.2.1 ?_
  by_cases hr : pj_rf G (pj_o OP (n / 5)) (n % 5) = 0
  · have hr4 := pj_rf_mono W.2.2.1 hr
    have hnh : pj_nh (pj_o OP (n / 5)) (n % 5) ≤ 4 := pj_nh_le ho W.2.2.1 (by omega) hr
    obtain ⟨hm1, hm2⟩ := pj_Af_ok (m := xMK n) ho hal (by omega) hr4
    generalize hmm : pj_af (pj_o OP (n / 5)) (pj_al AR (n / 5)) (n % 5) (xMK n) = m at hm1 hm2
    have hm18 := hm2 (J.2.1 n hn)
    have hmW : ∀ q, pj_Tg c OP AR (n / 5) q → ∀ pl, pl < 6 → ∀ k, k < 3 → bt m (3 * pl + k) = true → pj_Wt c G OP AR (q * 5 + pj_nh (pj_o OP (n / 5)) (n % 5)) pl k := by
      intro q hT pl hp k hk hb
      rw [hm1 pl hp k hk] at hb
      exact pj_WtE W hN hr hT (J.1 n hn) pl hp k hk hb
    have hgm := pj_gmnd _ (Nat.lt_succ_of_le ho)
    have hnd := pj_rf_nd hr
    have TF : ∀ q, q < c → pj_o OP (n / 5) = 11 → AR (n / 5) = nI q → pj_Tg c OP AR (n / 5) q := fun q hq h11 hx => ⟨hq, Or.inr ⟨Or.inr h11, hx⟩⟩
    refine br_t (by rw [hr]; rfl) ?_
    refine And.intro hin (And.intro (by rw [pj_node, e5]; exact vp_in_nI hn (by omega)) ?_)
    rw [ec, pj_node, e5, nI_clamp (by omega)]
    refine pj_Xafter ho hr4 hA ?_
    rw [hmm]
    refine pj_Xgrowth ho ?_
    refine nm_r (e' := nI (pj_nh (pj_o OP (n / 5)) (n % 5))) (pj_gr_add ho (by omega)) ?_
    refine pj_Xnext (by omega) ho hO ?_
    rcases pj_in_dec c (pj_nx OP AR (n / 5)) with ⟨q, hq, hx⟩ | hx
    · have hTq := pj_TgMain (by omega) hc hq hx
      rw [hx]
      refine pj_XinT hq hc ?_
      refine br_f (by decide) ?_
      refine pj_Xreach (B := B) J hh128 (by omega) (hmW q hTq) hm18 hB ?_
      intro mk1 qd1 qu1 Q1 a1 a2 a3 a4 a5
      refine pj_Xsp74 (B := B) hc (by omega) ho hnh a1 hh128 (fun q' hq' h11 hx' => hmW q' (TF q' hq' h11 hx')) hm18 a5 ?_
      intro mk2 qd2 qu2 Q2 b1 b2 b3 b4 b5
      refine K mk2 qd2 qu2 Q2 (pj_J80 b1 (fun hnQ => ?_)) (fun j i z => b2 _ _ (a2 _ _ z)) b5
      obtain ⟨k1, k2⟩ := b4 n hnQ
      obtain ⟨k3, _⟩ := a4 n k2
      intro _ _ q' hT pl hp k hk hb
      rw [k1, k3, ← hm1 pl hp k hk] at hb
      rcases pj_TgInv hT with hm' | ⟨h11, hx'⟩
      · rw [hx] at hm'
        have hq' := hT.1
        rw [← (nI_eq (by omega) (by omega)).mp hm']
        exact b2 _ _ (a3 _ hb)
      · exact b3 q' hT.1 h11 hx' _ hb
    · refine pj_XinF hc hx ?_
      refine br_t rfl ?_
      refine pj_Xsp74 (B := B) hc (by omega) ho hnh J hh128 (fun q' hq' h11 hx' => hmW q' (TF q' hq' h11 hx')) hm18 hB ?_
      intro mk2 qd2 qu2 Q2 b1 b2 b3 b4 b5
      refine K mk2 qd2 qu2 Q2 (pj_J80 b1 (fun hnQ => ?_)) (fun j i z => b2 _ _ z) b5
      obtain ⟨k1, k2⟩ := b4 n hnQ
      intro _ _ q' hT pl hp k hk hb
      rw [k1, ← hm1 pl hp k hk] at hb
      rcases pj_TgInv hT with hm' | ⟨h11, hx'⟩
      · exact absurd ⟨q', hT.1, hm'⟩ hx
      · exact b3 q' hT.1 h11 hx' _ hb
  · refine br_f (fun z => hr ?_) ?_
    · have hlt := pj_rf_lt (G := G) (o := pj_o OP (n / 5)) (h := n % 5)
      exact (nI_eq (by omega) (by omega)).mp (z.trans nI_0.symm)
    · exact K xMK xQD xQU Q (pj_J80 J (fun _ _ z => absurd z hr)) (fun _ _ z => z) hB
theorem pj_d5 {a : Nat} (h : a < 2 ^ 31) : nI a / 5 = nI (a / 5) := pk_div (d := 5) h (by omega) (by omega)
theorem pj_m5 {a : Nat} (h : a < 2 ^ 31) : nI a - nI a / 5 * 5 = nI (a % 5) := pk_rem (d := 5) h (by omega) (by omega)
theorem pj_h1 {h : Nat} (hh : h < 128) : (nI h + 1) &&& 127 = nI ((h + 1) % 128) := pj_ring (l := 1) hh (by omega)
theorem pj_Xloop {post : SX → Prop} (W : pj_wf c G OP AR)
    (K : ∀ (h : Nat) (mk' qd' qu' : Nat → Int32), pj_J c G OP AR 80 mk' qd' qu' h [] → (bt (mk' 0) 14 = true ∧ bt (mk' 0) 17 = true) → wX_judge_122 post (nI G) xPO (nI c) (nI h) (nI 0) xJD xST xAT xTP xMD xCH xFK OP AR mk' qd' qu' xNT xFA xCE xLO xFI) :
    ∀ (n r h : Nat) (Q : List Nat) (mk qd qu : Nat → Int32), pj_J c G OP AR 80 mk qd qu h Q → h < 128 → r + Q.length ≤ pj_bits mk → (bt (mk 0) 14 = true ∧ bt (mk 0) 17 = true) → 1441 ≤ n + r →
      wX_judge_48 post n (nI r) (nI G) xPO (nI c) (nI h) (nI Q.length) xJD xST xAT xTP xMD xCH xFK OP AR mk qd qu xNT xFA xCE xLO xFI := by
  intro n
  induction n with
  | zero =>
    intro r h Q mk qd qu J hh hB h0 hn
    have := pj_cn_le (fun i => bt (mk (i / 18)) (i % 18)) 1440
    unfold pj_bits at hB
    omega
  | succ n ih =>
    intro r h Q mk qd qu J hh hB h0 hn
    have hcn := pj_cn_le (fun i => bt (mk (i / 18)) (i % 18)) 1440
    have hr : r ≤ 1440 := by unfold pj_bits at hB; omega
    refine br_f (nI_ge (a := r) (b := 1600) (by omega) (by omega)) ?_
    cases Q with
    | nil => exact br_t (by decide) (K h mk qd qu J h0)
    | cons a Q =>
      obtain ⟨ha, hN⟩ := J.2.2.2.1.2 a (List.mem_cons_self ..)
      have hl : Q.length + 1 ≤ 80 := pj_nodup80 J.2.2.2.1.1 (fun n hn => (J.2.2.2.1.2 n hn).1)
      have hB' : r + (Q.length + 1) ≤ pj_bits mk := hB
      refine br_f (nI_nle (n := Q.length + 1) (by omega) (by omega)) ?_
      refine And.intro (vp_in_nI hh (by omega)) (nm_r (e' := nI a) (by rw [nI_clamp (by omega)]; exact pj_QRhd J.2.2.2.2.2 hh) ?_)
      refine nm_r (e' := nI ((h + 1) % 128)) (pj_h1 hh) ?_
      refine nm_r (e' := nI Q.length) (nI_pred Q.length) ?_
      refine And.intro (vp_in_nI ha (by omega)) (nm_r (e' := upd qd a 0) (by rw [nI_clamp (by omega), pj_nb0]) ?_)
      refine And.intro (by decide) (And.intro (by decide) ?_)
      rw [pj_m5 (by omega), pj_d5 (by omega)]
      refine pj_Xspread (B := r + 1) W (pj_Jpop J) (Nat.mod_lt _ (by omega)) ha hN (by omega) ?_
      intro mk' qd' qu' Q' a1 a2 a3
      refine nm_r (e' := nI (r + 1)) (nI_1 r) ?_
      exact ih (r + 1) _ Q' mk' qd' qu' a1 (Nat.mod_lt _ (by omega)) a3 ⟨a2 _ _ h0.1, a2 _ _ h0.2⟩ (by omega)
/-- the masks hold the kinds of every node -/
def pj_MO (c G : Nat) (OP AR mk : Nat → Int32) : Prop := (∀ n, n < 80 → ∀ pl, pl < 6 → ∀ k, k < 3 → (bt (mk n) (3 * pl + k) = true ↔ pj_Wt c G OP AR n pl k)) ∧ (∀ n, n < 80 → ∀ i, 18 ≤ i → bt (mk n) i = false)
theorem pj_Mok (W : pj_wf c G OP AR) {h : Nat} {mk qd qu : Nat → Int32} (J : pj_J c G OP AR 80 mk qd qu h []) (h0 : bt (mk 0) 14 = true ∧ bt (mk 0) 17 = true) : pj_MO c G OP AR mk := by
  refine ⟨fun n hn pl hp k hk => ⟨J.1 n hn pl hp k hk, fun hw => ?_⟩, J.2.1⟩
  obtain ⟨d, s, hR, hh, hV, hD⟩ := hw
  have := pj_full W (fun n hn => J.2.2.1 n hn List.not_mem_nil (by omega)) (fun _ => h0) d s _ hR pl (by rw [hh]; exact hV)
  rwa [hh, hD, show n / 5 * 5 + n % 5 = n by omega] at this
theorem pj_MO_nz {mk : Nat → Int32} (M : pj_MO c G OP AR mk) {n : Nat} (hn : n < 80) : ¬ mk n = 0 ↔ pj_Nd c G OP AR n := by
  constructor
  · intro h
    have hb : ∃ i, i < 18 ∧ bt (mk n) i = true ∧ bt 0 i = false := pj_newbit (M.2 n hn) (by rw [Int32.zero_or]; exact h)
    obtain ⟨i, hi, hb, _⟩ := hb
    have e3 : 3 * (i / 3) + i % 3 = i := by omega
    exact pj_WtNd ((M.1 n hn (i / 3) (by omega) (i % 3) (by omega)).mp (by rw [e3]; exact hb))
  · intro ⟨d, s, hR, hh⟩ z
    have := (M.1 n hn 4 (by omega) (pj_D s 4) (pj_D_lt _ _)).mpr ⟨d, s, hR, hh, Or.inr (Or.inl rfl), rfl⟩
    rw [z, b_0] at this
    exact Bool.noConfusion this
end
end
section
section
variable {xMH xPO xSZ xQH xQC xJD xST xAT xTP xMD xCH xFK : Int32} {OP AR xMK xQD xQU xNT xFA xCE xLO xFI : Nat → Int32}
variable {c G : Nat}
/-! the faults of a situation -/
def pj_out (c : Nat) (x : Int32) : Bool := decide (x < 0 ∨ nI c ≤ x)
def pj_kb (o v : Nat) : Bool := decide ((o = 5 ∧ (¬ pj_tp v = 0 ∨ ¬ pj_tp (pj_rs v) = 0)) ∨ (o = 6 ∧ ¬ pj_tp v = 1) ∨ (o = 7 ∧ (¬ pj_tp v = 0 ∨ ¬ pj_tp (pj_rs v) = 1)) ∨ (o = 12 ∧ (¬ pj_tp v = 1 ∨ ¬ pj_tp (pj_rs v) = 1)) ∨ (o = 13 ∧ ¬ pj_tp v = 0))
def pj_lv (c : Nat) (OP AR : Nat → Int32) (p : Nat) : Bool := (decide (¬ pj_o OP p = 13) && pj_out c (pj_nx OP AR p)) || (decide (pj_o OP p = 11) && pj_out c (AR p))
def pj_kl (k l : Bool) : Nat := (if k = true then 4 else 0) + (if l = true then 8 else 0)
def pj_fl (c G : Nat) (OP AR : Nat → Int32) (s p : Nat) : Nat := if pj_rf G (pj_o OP p) (pj_ht s) = 0 then pj_kl (pj_kb (pj_o OP p) (s / 9)) (pj_lv c OP AR p) else pj_rf G (pj_o OP p) (pj_ht s)
theorem pj_kl_bt (k l : Bool) (i : Nat) : bt (nI (pj_kl k l)) i = ((decide (i = 2) && k) || (decide (i = 3) && l)) := by
  rcases Nat.lt_or_ge i 32 with h | h
  · cases k
    · cases l
      · exact (by decide +kernel : ∀ i, i < 32 → bt (nI (pj_kl false false)) i = ((decide (i = 2) && false) || (decide (i = 3) && false))) i h
      · exact (by decide +kernel : ∀ i, i < 32 → bt (nI (pj_kl false true)) i = ((decide (i = 2) && false) || (decide (i = 3) && true))) i h
    · cases l
      · exact (by decide +kernel : ∀ i, i < 32 → bt (nI (pj_kl true false)) i = ((decide (i = 2) && true) || (decide (i = 3) && false))) i h
      · exact (by decide +kernel : ∀ i, i < 32 → bt (nI (pj_kl true true)) i = ((decide (i = 2) && true) || (decide (i = 3) && true))) i h
  · rw [b_big h, decide_eq_false (by omega), decide_eq_false (by omega)]; rfl
theorem pj_b16 : ∀ x, x < 16 → ∀ i, i < 32 → 4 ≤ i → bt (nI x) i = false := by decide +kernel
theorem pj_kl_lt (k l : Bool) : pj_kl k l < 16 := by cases k <;> cases l <;> decide
theorem pj_fl_lt (s p : Nat) : pj_fl c G OP AR s p < 16 := by
  unfold pj_fl
  split
  · exact pj_kl_lt _ _
  · have := pj_rf_lt (G := G) (o := pj_o OP p) (h := pj_ht s)
    omega
theorem pj_fl_bt {s p i : Nat} (h : bt (nI (pj_fl c G OP AR s p)) i = true) : i < 4 := by
  by_cases h4 : i < 4
  · exact h4
  · rcases Nat.lt_or_ge i 32 with h32 | h32
    · rw [pj_b16 _ (pj_fl_lt s p) i h32 (by omega)] at h; exact Bool.noConfusion h
    · rw [b_big h32] at h; exact Bool.noConfusion h
def pj_FN (c G : Nat) (OP AR : Nat → Int32) (n i : Nat) : Prop := ∃ d s, (pj_R c G OP AR d s (n / 5) ∧ pj_ht s = n % 5) ∧ bt (nI (pj_fl c G OP AR s (n / 5))) i = true
theorem pj_kaU {mk : Nat → Int32} (M : pj_MO c G OP AR mk) {n pl e : Nat} {x : Int32} (hn : n < 80) (hN : pj_Nd c G OP AR n) (hp : pl < 6) (hV : pj_V (n % 5) pl) (he : e < 3) (hx : ∀ i, bt x i = decide (i = e)) :
    pj_ka (mk n) pl = x ↔ ∀ d s, (pj_R c G OP AR d s (n / 5) ∧ pj_ht s = n % 5) → pj_D s pl = e := by
  constructor
  · intro h d s ⟨hR, hh⟩
    have b := (M.1 n hn pl hp (pj_D s pl) (pj_D_lt _ _)).mpr ⟨d, s, hR, hh, hV, rfl⟩
    have b2 : bt (pj_ka (mk n) pl) (pj_D s pl) = true := by rw [pj_ka_k hp (pj_D_lt _ _), b]
    rw [h, hx] at b2
    exact of_decide_eq_true b2
  · intro h
    apply b_ext
    intro i _
    rw [hx]
    by_cases h3 : i < 3
    · rw [pj_ka_k hp h3]
      by_cases hi : i = e
      · rw [decide_eq_true hi]
        obtain ⟨d, s, hR, hh⟩ := hN
        exact (M.1 n hn pl hp i h3).mpr ⟨d, s, hR, hh, hV, (h d s ⟨hR, hh⟩).trans hi.symm⟩
      · rw [decide_eq_false hi]
        cases hb : bt (mk n) (3 * pl + i)
        · rfl
        · obtain ⟨d, s, hR, hh, _, hD⟩ := (M.1 n hn pl hp i h3).mp hb
          exact absurd (hD.symm.trans (h d s ⟨hR, hh⟩)) hi
    · rw [pj_ka_hi hp (by omega), decide_eq_false (by omega)]
theorem pj_ex2 {S : Nat → Nat → Prop} {P Q : Nat → Prop} {a b : Prop} (ha : a ↔ ∀ d s, S d s → P s) (hb : b ↔ ∀ d s, S d s → Q s) : (¬ a ∨ ¬ b) ↔ ∃ d s, S d s ∧ (¬ P s ∨ ¬ Q s) := by
  constructor
  · intro h
    apply Classical.byContradiction
    intro hn
    have hP : a := ha.mpr (fun d s hS => Classical.byContradiction (fun z => hn ⟨d, s, hS, Or.inl z⟩))
    have hQ : b := hb.mpr (fun d s hS => Classical.byContradiction (fun z => hn ⟨d, s, hS, Or.inr z⟩))
    exact h.elim (fun z => z hP) (fun z => z hQ)
  · intro ⟨d, s, hS, h⟩
    rcases h with h | h
    · exact Or.inl (fun z => h (ha.mp z d s hS))
    · exact Or.inr (fun z => h (hb.mp z d s hS))
theorem pj_ex1 {S : Nat → Nat → Prop} {P : Nat → Prop} {a : Prop} (ha : a ↔ ∀ d s, S d s → P s) : ¬ a ↔ ∃ d s, S d s ∧ ¬ P s := by
  constructor
  · intro h
    apply Classical.byContradiction
    intro hn
    exact h (ha.mpr (fun d s hS => Classical.byContradiction (fun z => hn ⟨d, s, hS, z⟩)))
  · intro ⟨d, s, hS, h⟩ z
    exact h (ha.mp z d s hS)
def pj_bad (o : Nat) (f z : Int32) : Bool := decide ((o = 5 ∧ (¬ f = 1 ∨ ¬ z = 1)) ∨ (o = 6 ∧ ¬ f = 2) ∨ (o = 7 ∧ (¬ f = 1 ∨ ¬ z = 2)) ∨ (o = 12 ∧ (¬ f = 2 ∨ ¬ z = 2)) ∨ (o = 13 ∧ ¬ f = 1))
theorem pj_156t {post : Int32 → Prop} {b : Bool} (h : b = true) (hp : post (if b = true then 4 else 0)) : wX_kindFault_156 post 1 := by
  rw [if_pos h] at hp; exact br_f (by decide) hp
theorem pj_156f {post : Int32 → Prop} {b : Bool} (h : b = false) (hp : post (if b = true then 4 else 0)) : wX_kindFault_156 post 0 := by
  rw [h, if_neg (by decide)] at hp; exact br_t rfl hp
theorem pj_Xkf32 {post : Int32 → Prop} {o : Nat} {f z : Int32} (ho : o ≤ 13) (hp : post (if pj_bad o f z = true then 4 else 0)) : wX_kindFault_32 post (nI o) f z := by
  have hb : o < 2 ^ 31 := by omega
  unfold wX_kindFault_32
  refine pk_eq o 5 (fun h => ?_) (fun h5 => ?_) rfl rfl hb (by omega)
  · subst h
    by_cases h1 : f = 1
    · by_cases h2 : z = 1
      · exact br_t h1 (br_t h2 (pj_156f (by simp [pj_bad, h1, h2]) hp))
      · exact br_t h1 (br_f h2 (pj_156t (by simp [pj_bad, h1, h2]) hp))
    · exact br_f h1 (pj_156t (by simp [pj_bad, h1]) hp)
  refine pk_eq o 6 (fun h => ?_) (fun h6 => ?_) rfl rfl hb (by omega)
  · subst h
    by_cases h1 : f = 2
    · exact br_t h1 (pj_156f (by simp [pj_bad, h1]) hp)
    · exact br_f h1 (pj_156t (by simp [pj_bad, h1]) hp)
  refine pk_eq o 7 (fun h => ?_) (fun h7 => ?_) rfl rfl hb (by omega)
  · subst h
    by_cases h1 : f = 1
    · by_cases h2 : z = 2
      · exact br_t h1 (br_t h2 (pj_156f (by simp [pj_bad, h1, h2]) hp))
      · exact br_t h1 (br_f h2 (pj_156t (by simp [pj_bad, h1, h2]) hp))
    · exact br_f h1 (pj_156t (by simp [pj_bad, h1]) hp)
  refine pk_eq o 12 (fun h => ?_) (fun h12 => ?_) rfl rfl hb (by omega)
  · subst h
    by_cases h1 : f = 2
    · by_cases h2 : z = 2
      · exact br_t h1 (br_t h2 (pj_156f (by simp [pj_bad, h1, h2]) hp))
      · exact br_t h1 (br_f h2 (pj_156t (by simp [pj_bad, h1, h2]) hp))
    · exact br_f h1 (pj_156t (by simp [pj_bad, h1]) hp)
  refine pk_eq o 13 (fun h => ?_) (fun h13 => ?_) rfl rfl hb (by omega)
  · subst h
    by_cases h1 : f = 1
    · exact br_t h1 (pj_156f (by simp [pj_bad, h1]) hp)
    · exact br_f h1 (pj_156t (by simp [pj_bad, h1]) hp)
  exact pj_156f (by simp [pj_bad, h5, h6, h7, h12, h13]) hp
def pj_f1 (m : Int32) (h : Nat) : Int32 := if h ≤ 0 then 0 else pj_ka m (h - 1)
def pj_f2 (m : Int32) (h : Nat) : Int32 := if h ≤ 1 then 0 else pj_ka m (h - 2)
theorem pj_Xkf15 {post : Int32 → Prop} {o h : Nat} {m f : Int32} (ho : o ≤ 13) (hh : h ≤ 4) (hp : post (if pj_bad o f (pj_f2 m h) = true then 4 else 0)) : wX_kindFault_15 post (nI o) (nI h) m f := by
  unfold wX_kindFault_15
  unfold pj_f2 at hp
  refine pk_le h 1 (fun h0 => ?_) (fun h0 => ?_) rfl rfl (by omega) (by omega)
  · rw [if_pos h0] at hp
    exact pj_Xkf32 ho hp
  · rw [if_neg (show ¬ h ≤ 1 by omega)] at hp
    exact pj_kA (pj_s2 (by omega)) (pj_Xkf32 ho hp)
theorem pj_Xkf {post : Int32 → Prop} {o h : Nat} {m : Int32} (ho : o ≤ 13) (hh : h ≤ 4) (hp : post (if pj_bad o (pj_f1 m h) (pj_f2 m h) = true then 4 else 0)) : wpX_kindFault post (nI o) (nI h) m := by
  unfold wpX_kindFault
  unfold pj_f1 at hp
  refine pk_le h 0 (fun h0 => ?_) (fun h0 => ?_) rfl rfl (by omega) (by omega)
  · rw [if_pos h0] at hp
    exact pj_Xkf15 ho hh hp
  · rw [if_neg (show ¬ h ≤ 0 by omega)] at hp
    exact pj_kA (pj_s1 (by omega)) (pj_Xkf15 ho hh hp)
theorem pj_KB (W : pj_wf c G OP AR) {mk : Nat → Int32} (M : pj_MO c G OP AR mk) {n o : Nat} (hn : n < 80) (hN : pj_Nd c G OP AR n) (ho : o ≤ 13) (hnd : pj_nd o ≤ n % 5) :
    pj_bad o (pj_f1 (mk n) (n % 5)) (pj_f2 (mk n) (n % 5)) = true ↔ ∃ d s, (pj_R c G OP AR d s (n / 5) ∧ pj_ht s = n % 5) ∧ pj_kb o (s / 9) = true := by
  have hF : ∀ e, e < 3 → ∀ x : Int32, (∀ i, bt x i = decide (i = e)) → 1 ≤ n % 5 → (pj_f1 (mk n) (n % 5) = x ↔ ∀ d s, (pj_R c G OP AR d s (n / 5) ∧ pj_ht s = n % 5) → pj_tp (s / 9) = e) := by
    intro e he x hx h1
    unfold pj_f1
    rw [if_neg (by omega), pj_kaU M hn hN (by omega) (Or.inl (by omega)) he hx]
    constructor
    · intro h d s hS
      have := h d s hS
      rw [← hS.2] at this h1
      rwa [pj_D_tp h1] at this
    · intro h d s hS
      have := h d s hS
      rw [← hS.2] at h1 ⊢
      rwa [pj_D_tp h1]
  have hZ : ∀ e, e < 3 → ∀ x : Int32, (∀ i, bt x i = decide (i = e)) → 2 ≤ n % 5 → (pj_f2 (mk n) (n % 5) = x ↔ ∀ d s, (pj_R c G OP AR d s (n / 5) ∧ pj_ht s = n % 5) → pj_tp (pj_rs (s / 9)) = e) := by
    intro e he x hx h1
    unfold pj_f2
    rw [if_neg (by omega), pj_kaU M hn hN (by omega) (Or.inl (by omega)) he hx]
    constructor
    · intro h d s hS
      have := h d s hS
      rw [← hS.2] at this h1
      rwa [pj_D_tp2 h1] at this
    · intro h d s hS
      have := h d s hS
      rw [← hS.2] at h1 ⊢
      rwa [pj_D_tp2 h1]
  by_cases h5 : o = 5
  · subst h5
    have e1 := pj_ex2 (hF 0 (by omega) 1 pj_b1 (Nat.le_trans (by decide) hnd)) (hZ 0 (by omega) 1 pj_b1 hnd)
    simp only [pj_bad, pj_kb, decide_eq_true_eq]
    simpa using e1
  by_cases h6 : o = 6
  · subst h6
    have e1 := pj_ex1 (hF 1 (by omega) 2 pj_b2 hnd)
    simp only [pj_bad, pj_kb, decide_eq_true_eq]
    simpa using e1
  by_cases h7 : o = 7
  · subst h7
    have e1 := pj_ex2 (hF 0 (by omega) 1 pj_b1 (Nat.le_trans (by decide) hnd)) (hZ 1 (by omega) 2 pj_b2 hnd)
    simp only [pj_bad, pj_kb, decide_eq_true_eq]
    simpa using e1
  by_cases h12 : o = 12
  · subst h12
    have e1 := pj_ex2 (hF 1 (by omega) 2 pj_b2 (Nat.le_trans (by decide) hnd)) (hZ 1 (by omega) 2 pj_b2 hnd)
    simp only [pj_bad, pj_kb, decide_eq_true_eq]
    simpa using e1
  by_cases h13 : o = 13
  · subst h13
    have e1 := pj_ex1 (hF 0 (by omega) 1 pj_b1 hnd)
    simp only [pj_bad, pj_kb, decide_eq_true_eq]
    simpa using e1
  simp [pj_bad, pj_kb, h5, h6, h7, h12, h13]
theorem pj_Xin {post : Int32 → Prop} {x : Int32} (hp : post (if pj_out c x = true then 0 else 1)) : wpX_inside post (xMH, xPO, nI c, xQH, xQC, xJD, xST, xAT, xTP, xMD, xCH, xFK, OP, AR, xMK, xQD, xQU, xNT, xFA, xCE, xLO, xFI) x := by
  unfold wpX_inside
  unfold pj_out at hp
  refine br_c (fun h0 => ?_) (fun h0 => br_c (fun h1 => ?_) (fun h1 => ?_))
  · rw [decide_eq_true (Or.inl h0)] at hp; exact hp
  · rw [decide_eq_true (Or.inr h1)] at hp; exact hp
  · rw [decide_eq_false (fun z => z.elim h0 h1)] at hp; exact hp
theorem pj_X91 {post : Int32 → Prop} {z : Bool} {x : Int32} (hp : post (if z = true then x ||| 8 else x)) : wX_faultsOf_91 post x (if z = true then 1 else 0) xMH xPO xSZ xQH xQC xJD xST xAT xTP xMD xCH xFK OP AR xMK xQD xQU xNT xFA xCE xLO xFI := by
  cases z
  · exact br_t rfl hp
  · exact br_f (by decide) hp
theorem pj_X67 {post : Int32 → Prop} {z : Bool} {x : Int32} {p o : Nat} (hp16 : p < 16) (ho : o ≤ 13) (hp : post (if (z || (decide (o = 11) && pj_out c (AR p))) = true then x ||| 8 else x)) : wX_faultsOf_67 post (nI p) (nI o) x (if z = true then 1 else 0) xMH xPO (nI c) xQH xQC xJD xST xAT xTP xMD xCH xFK OP AR xMK xQD xQU xNT xFA xCE xLO xFI := by
  have ec : (nI p).toNatClampNeg = p := nI_clamp (by omega)
  unfold wX_faultsOf_67
  refine pk_eq o 11 (fun h => ?_) (fun h => ?_) rfl rfl (by omega) (by omega)
  · refine And.intro (vp_in_nI hp16 (by omega)) ?_
    rw [ec]
    refine pj_Xin ?_
    rw [decide_eq_true h, Bool.true_and] at hp
    cases hout : pj_out c (AR p)
    · rw [hout, Bool.or_false] at hp
      rw [if_neg (by decide)]
      exact br_f (by decide) (pj_X91 hp)
    · rw [hout, Bool.or_true] at hp
      rw [if_pos rfl]
      exact br_t rfl (pj_X91 (z := true) hp)
  · rw [decide_eq_false h, Bool.false_and, Bool.or_false] at hp
    exact pj_X91 hp
theorem pj_kl_v (k l : Bool) : (if l = true then (if k = true then (4 : Int32) else 0) ||| 8 else (if k = true then 4 else 0)) = nI (pj_kl k l) := by
  cases k <;> cases l <;> decide
theorem pj_Xfaults {post : Int32 → Prop} {n : Nat} (W : pj_wf c G OP AR) (M : pj_MO c G OP AR xMK) (hn : n < 80) (hN : pj_Nd c G OP AR n) (K : ∀ r : Int32, (∀ i, bt r i = true ↔ pj_FN c G OP AR n i) → post r) :
    wpX_faultsOf post (nI G, xPO, nI c, xQH, xQC, xJD, xST, xAT, xTP, xMD, xCH, xFK, OP, AR, xMK, xQD, xQU, xNT, xFA, xCE, xLO, xFI) (nI (n / 5)) (nI (n % 5)) := by
  obtain ⟨d0, s0, hR0, hh0⟩ := id hN
  have hpc := (pj_Rlt W _ _ _ hR0).1
  have hc := W.1
  obtain ⟨ho, hO, hA⟩ := W.2.2.2 _ hpc
  have ec : (nI (n / 5)).toNatClampNeg = n / 5 := nI_clamp (by omega)
  have e5 : n / 5 * 5 + n % 5 = n := by omega
  unfold wpX_faultsOf
  refine And.intro (vp_in_nI (by omega) (by omega)) (nm_r (e' := nI (pj_o OP (n / 5))) (by rw [ec]; exact hO) ?_)
  refine pj_Xroom ho (by omega) W.2.2.1 ?_
  by_cases hr : pj_rf G (pj_o OP (n / 5)) (n % 5) = 0
  · refine br_t (by rw [hr]; rfl) ?_
    refine And.intro (by rw [pj_node, e5]; exact vp_in_nI hn (by omega)) ?_
    rw [pj_node, e5, nI_clamp (by omega)]
    have hKB := pj_KB W M hn hN ho (pj_rf_nd hr)
    have hfin : post (if pj_lv c OP AR (n / 5) = true then (if pj_bad (pj_o OP (n / 5)) (pj_f1 (xMK n) (n % 5)) (pj_f2 (xMK n) (n % 5)) = true then (4 : Int32) else 0) ||| 8 else (if pj_bad (pj_o OP (n / 5)) (pj_f1 (xMK n) (n % 5)) (pj_f2 (xMK n) (n % 5)) = true then 4 else 0)) := by
      rw [pj_kl_v]
      refine K _ (fun i => ?_)
      rw [pj_kl_bt, Bool.or_eq_true, Bool.and_eq_true, Bool.and_eq_true, decide_eq_true_eq, decide_eq_true_eq, hKB]
      have hfl : ∀ s, pj_ht s = n % 5 → pj_fl c G OP AR s (n / 5) = pj_kl (pj_kb (pj_o OP (n / 5)) (s / 9)) (pj_lv c OP AR (n / 5)) := by
        intro s hs
        unfold pj_fl
        rw [hs, if_pos hr]
      constructor
      · rintro (⟨hi, d, s, hS, hk⟩ | ⟨hi, hl⟩)
        · refine ⟨d, s, hS, ?_⟩
          rw [hfl s hS.2, pj_kl_bt, hk, hi]; rfl
        · refine ⟨d0, s0, ⟨hR0, hh0⟩, ?_⟩
          rw [hfl s0 hh0, pj_kl_bt, hl, hi]
          exact Bool.or_true _
      · rintro ⟨d, s, hS, hb⟩
        rw [hfl s hS.2, pj_kl_bt, Bool.or_eq_true, Bool.and_eq_true, Bool.and_eq_true, decide_eq_true_eq, decide_eq_true_eq] at hb
        rcases hb with ⟨hi, hk⟩ | hb
        · exact Or.inl ⟨hi, d, s, hS, hk⟩
        · exact Or.inr hb
    refine pj_Xkf ho (by omega) ?_
    refine pj_Xnext (by omega) ho hO ?_
    unfold pj_lv at hfin
    refine pk_eq (pj_o OP (n / 5)) 13 (fun h13 => ?_) (fun h13 => ?_) rfl rfl (by omega) (by omega)
    · rw [decide_eq_false (fun z => z h13), Bool.false_and] at hfin
      exact pj_X67 (z := false) (by omega) ho hfin
    · rw [decide_eq_true h13, Bool.true_and] at hfin
      refine pj_Xin ?_
      cases hout : pj_out c (pj_nx OP AR (n / 5))
      · rw [hout] at hfin
        rw [if_neg (by decide)]
        exact br_f (by decide) (pj_X67 (z := false) (by omega) ho hfin)
      · rw [hout] at hfin
        rw [if_pos rfl]
        exact br_t rfl (pj_X67 (z := true) (by omega) ho hfin)
  · have hlt := pj_rf_lt (G := G) (o := pj_o OP (n / 5)) (h := n % 5)
    refine br_f (fun z => hr ((nI_eq (by omega) (by omega)).mp (z.trans nI_0.symm))) ?_
    refine K _ (fun i => ?_)
    have hfl : ∀ s, pj_ht s = n % 5 → pj_fl c G OP AR s (n / 5) = pj_rf G (pj_o OP (n / 5)) (n % 5) := by
      intro s hs
      unfold pj_fl
      rw [hs, if_neg hr]
    constructor
    · intro h
      exact ⟨d0, s0, ⟨hR0, hh0⟩, by rw [hfl s0 hh0]; exact h⟩
    · rintro ⟨d, s, hS, hb⟩
      rw [hfl s hS.2] at hb
      exact hb
theorem pj_i8 {x : Int32} (h : ∀ i, 7 ≤ i → bt x i = false) : x.toInt8.toInt32 = x := by
  have hj : x.toBitVec.toNat < 2 ^ 7 := by
    apply Nat.lt_pow_two_of_testBit
    intro i hi
    exact h i hi
  have e : x = nI x.toBitVec.toNat := by
    apply Int32.toBitVec_inj.1
    show x.toBitVec = BitVec.ofNat 32 x.toBitVec.toNat
    simp
  rw [e]
  exact pj_by _ hj
def pj_NI (c G : Nat) (OP AR : Nat → Int32) (j : Nat) (nt : Nat → Int32) : Prop := ∀ p, p < 16 → ∀ i, (bt (nt p) i = true ↔ ∃ n, n < j ∧ n / 5 = p ∧ pj_FN c G OP AR n i)
theorem pj_Xnote2 {post : SX → Prop} (W : pj_wf c G OP AR) (M : pj_MO c G OP AR xMK)
    (K : ∀ nt : Nat → Int32, pj_NI c G OP AR 80 nt → post (nI G, xPO, nI c, xQH, xQC, xJD, xST, xAT, xTP, xMD, xCH, xFK, OP, AR, xMK, xQD, xQU, nt, xFA, xCE, xLO, xFI)) :
    ∀ (n j : Nat) (nt : Nat → Int32), pj_NI c G OP AR j nt → j ≤ 80 → 81 ≤ n + j → wX_note_2 post (nI G) xPO (nI c) xQH xQC xJD xST xAT xTP xMD xCH xFK n (nI j) OP AR xMK xQD xQU nt xFA xCE xLO xFI := by
  intro n
  induction n with
  | zero => intro j nt _ h1 h2; omega
  | succ n ih =>
    intro j nt hI h1 h2
    by_cases h80 : j = 80
    · subst h80
      exact br_t (nI_le (a := 80) (b := 80) (by omega) (by omega)) (K nt hI)
    · have hj : j < 80 := by omega
      have hv := vp_in_nI hj (show 80 < 2 ^ 31 by omega)
      have ec : (nI j).toNatClampNeg = j := nI_clamp (by omega)
      refine br_f (nI_ge (b := 80) hj (by omega)) (And.intro hv ?_)
      by_cases h0 : xMK j = 0
      · refine br_t (by rw [ec]; exact h0) (nm_r (e' := nI (j + 1)) (nI_1 j) ?_)
        refine ih (j + 1) nt (fun p hp i => ?_) (by omega) (by omega)
        rw [hI p hp i]
        constructor
        · rintro ⟨m, hm, hr⟩
          exact ⟨m, by omega, hr⟩
        · rintro ⟨m, hm, hr, hF⟩
          by_cases e : m = j
          · subst e
            obtain ⟨d, s, ⟨hR, hh⟩, _⟩ := hF
            exact absurd h0 ((pj_MO_nz M hj).mpr ⟨d, s, hR, hh⟩)
          · exact ⟨m, by omega, hr, hF⟩
      · have hN := (pj_MO_nz M hj).mp h0
        have ec5 : (nI (j / 5)).toNatClampNeg = j / 5 := nI_clamp (by omega)
        have hv5 : vp_in (nI (j / 5)) 16 := vp_in_nI (by omega) (by omega)
        refine br_f (by rw [ec]; exact h0) (And.intro (by decide) (nm_r (e' := nI (j / 5)) (pj_d5 (by omega)) ?_))
        refine And.intro hv5 (And.intro (by decide) ?_)
        rw [pj_m5 (by omega)]
        refine pj_Xfaults W M hj hN ?_
        intro r hr
        have hhi : ∀ i, 7 ≤ i → bt (nt (j / 5) ||| r) i = false := by
          intro i hi
          rw [b_or]
          cases ha : bt (nt (j / 5)) i
          · cases hb : bt r i
            · rfl
            · obtain ⟨d, s, _, hf⟩ := (hr i).mp hb
              have := pj_fl_bt hf
              omega
          · obtain ⟨m, _, _, d, s, _, hf⟩ := (hI _ (by omega) i).mp ha
            have := pj_fl_bt hf
            omega
        refine And.intro hv5 (nm_r (e' := upd nt (j / 5) (nt (j / 5) ||| r)) (by rw [ec5, pk_vb, pj_i8 hhi]) ?_)
        refine nm_r (e' := nI (j + 1)) (nI_1 j) ?_
        refine ih (j + 1) _ (fun p hp i => ?_) (by omega) (by omega)
        by_cases e : p = j / 5
        · subst e
          rw [pk_us, b_or, Bool.or_eq_true, hI _ hp i, hr i]
          constructor
          · rintro (⟨m, hm, hx⟩ | hF)
            · exact ⟨m, by omega, hx⟩
            · exact ⟨j, by omega, rfl, hF⟩
          · rintro ⟨m, hm, hx, hF⟩
            by_cases e : m = j
            · subst e; exact Or.inr hF
            · exact Or.inl ⟨m, by omega, hx, hF⟩
        · rw [pk_un e, hI p hp i]
          constructor
          · rintro ⟨m, hm, hx⟩
            exact ⟨m, by omega, hx⟩
          · rintro ⟨m, hm, hx, hF⟩
            by_cases e2 : m = j
            · subst e2; exact absurd hx.symm e
            · exact ⟨m, by omega, hx, hF⟩
def pj_NO (c G : Nat) (OP AR nt : Nat → Int32) : Prop := ∀ p, p < 16 → ∀ i, (bt (nt p) i = true ↔ ∃ d s, pj_R c G OP AR d s p ∧ bt (nI (pj_fl c G OP AR s p)) i = true)
theorem pj_NIO {nt : Nat → Int32} (h : pj_NI c G OP AR 80 nt) : pj_NO c G OP AR nt := by
  intro p hp i
  rw [h p hp i]
  constructor
  · rintro ⟨n, hn, rfl, d, s, hS, hb⟩
    exact ⟨d, s, hS.1, hb⟩
  · rintro ⟨d, s, hR, hb⟩
    have hh := pj_ht_le s
    have e5 := pj_nd5 (q := p) hh
    refine ⟨p * 5 + pj_ht s, by omega, e5.1, d, s, ?_, ?_⟩
    · rw [e5.1, e5.2]; exact ⟨hR, rfl⟩
    · rw [e5.1]; exact hb
end
end
section
section
variable {xMH xPO xSZ xQH xQC xJD xST xAT xTP xMD xCH xFK : Int32} {OP AR xMK xQD xQU xNT xFA xCE xLO xFI : Nat → Int32}
variable {c G : Nat}
/-! breadth first: D n = 0 not seen, else one more than the steps -/
def pj_ClF (c G : Nat) (OP AR : Nat → Int32) (D : Nat → Nat) (n : Nat) : Prop := pj_rf G (pj_o OP (n / 5)) (n % 5) = 0 → ∀ q, pj_Tg c OP AR (n / 5) q → (1 ≤ D (q * 5 + pj_nh (pj_o OP (n / 5)) (n % 5)) ∧ D (q * 5 + pj_nh (pj_o OP (n / 5)) (n % 5)) ≤ D n + 1)
def pj_I (c G : Nat) (OP AR : Nat → Int32) (M cur h : Nat) (Q : List Nat) (D : Nat → Nat) (fa qu : Nat → Int32) : Prop :=
  (∀ n, n < 80 → fa n = nI (D n) - 1) ∧ (∀ n, n < 80 → D n ≤ M + 1) ∧ M ≤ h ∧
  (∀ n, n < 80 → 1 ≤ D n → ∃ s, pj_R c G OP AR (D n - 1) s (n / 5) ∧ pj_ht s = n % 5) ∧
  (∀ n, n < 80 → 1 ≤ D n → n ∈ Q ∨ n = cur ∨ pj_ClF c G OP AR D n) ∧
  (∀ n, n ∈ Q → n < 80 ∧ M ≤ D n ∧ 1 ≤ D n) ∧ Q.Pairwise (fun a b => D a ≤ D b) ∧
  h + Q.length ≤ pj_cn (fun n => decide (1 ≤ D n)) 80 ∧ pj_QR qu h Q
theorem pj_sh : ∀ t, t < 128 → (nI t).toInt16.toInt32 = nI t := by decide +kernel
theorem pj_nsh {t : Nat} (h : t < 128) : vp_nar .short (nI t).toInt16.toInt32 = nI t := by rw [pk_vs, pj_sh t h]
theorem pj_nsm : vp_nar .short (-1) = -1 := by decide
theorem pj_visP {M cur h q hh : Nat} {Q : List Nat} {D : Nat → Nat} {fa qu : Nat → Int32} (I : pj_I c G OP AR M cur h Q D fa qu) (hn : q * 5 + hh < 80) (hhh : hh ≤ 4) (h0 : D (q * 5 + hh) = 0) (hR : ∃ s, pj_R c G OP AR M s q ∧ pj_ht s = hh) :
    pj_I c G OP AR M cur h (Q ++ [q * 5 + hh]) (fun j => if j = q * 5 + hh then M + 1 else D j) (upd fa (q * 5 + hh) (nI M)) (upd qu ((h + Q.length) % 128) (nI (q * 5 + hh))) := by
  obtain ⟨i1, i2, i2', i3, i4, i5, i6, i7, i8⟩ := I
  have hcn := pj_cn_le (fun n => decide (1 ≤ D n)) 80
  have e5 := pj_nd5 (q := q) hhh
  have hD : ∀ j, 1 ≤ D j → (if j = q * 5 + hh then M + 1 else D j) = D j := by
    intro j hj
    refine if_neg (fun e => ?_)
    rw [e, h0] at hj
    omega
  refine ⟨fun n hn' => ?_, fun n hn' => ?_, i2', fun n hn' h1 => ?_, fun n hn' h1 => ?_, fun n hn' => ?_, ?_, ?_, ?_⟩
  · by_cases e : n = q * 5 + hh
    · subst e
      show upd fa (q * 5 + hh) (nI M) (q * 5 + hh) = nI (if q * 5 + hh = q * 5 + hh then M + 1 else D (q * 5 + hh)) - 1
      rw [pk_us, if_pos rfl, nI_pred]
    · show upd fa (q * 5 + hh) (nI M) n = nI (if n = q * 5 + hh then M + 1 else D n) - 1
      rw [pk_un e, if_neg e]
      exact i1 n hn'
  · show (if n = q * 5 + hh then M + 1 else D n) ≤ M + 1
    split
    · exact Nat.le_refl _
    · exact i2 n hn'
  · by_cases e : n = q * 5 + hh
    · subst e
      rw [e5.1, e5.2]
      obtain ⟨s, hs⟩ := hR
      refine ⟨s, ?_⟩
      show pj_R c G OP AR ((if q * 5 + hh = q * 5 + hh then M + 1 else D (q * 5 + hh)) - 1) s q ∧ pj_ht s = hh
      rw [if_pos rfl]
      exact hs
    · have h1' : 1 ≤ (if n = q * 5 + hh then M + 1 else D n) := h1
      show ∃ s, pj_R c G OP AR ((if n = q * 5 + hh then M + 1 else D n) - 1) s (n / 5) ∧ pj_ht s = n % 5
      rw [if_neg e] at h1' ⊢
      exact i3 n hn' h1'
  · by_cases e : n = q * 5 + hh
    · left
      exact List.mem_append.mpr (Or.inr (List.mem_singleton.mpr e))
    · have h1' : 1 ≤ (if n = q * 5 + hh then M + 1 else D n) := h1
      rw [if_neg e] at h1'
      rcases i4 n hn' h1' with h | h | h
      · exact Or.inl (List.mem_append.mpr (Or.inl h))
      · exact Or.inr (Or.inl h)
      · refine Or.inr (Or.inr (fun hr q' hT => ?_))
        obtain ⟨a, b⟩ := h hr q' hT
        show 1 ≤ (if _ = q * 5 + hh then M + 1 else D _) ∧ (if _ = q * 5 + hh then M + 1 else D _) ≤ (if n = q * 5 + hh then M + 1 else D n) + 1
        rw [hD _ a, if_neg e]
        exact ⟨a, b⟩
  · rw [List.mem_append, List.mem_singleton] at hn'
    show n < 80 ∧ M ≤ (if n = q * 5 + hh then M + 1 else D n) ∧ 1 ≤ (if n = q * 5 + hh then M + 1 else D n)
    rcases hn' with h | h
    · obtain ⟨a, b, d⟩ := i5 n h
      rw [hD n d]
      exact ⟨a, b, d⟩
    · rw [if_pos h]
      omega
  · rw [List.pairwise_append]
    refine ⟨?_, List.pairwise_singleton _ _, ?_⟩
    · refine List.Pairwise.imp_of_mem (fun {a b} ha hb hab => ?_) i6
      show (if a = q * 5 + hh then M + 1 else D a) ≤ (if b = q * 5 + hh then M + 1 else D b)
      rw [hD a (i5 a ha).2.2, hD b (i5 b hb).2.2]
      exact hab
    · intro a ha b hb
      rw [List.mem_singleton] at hb
      show (if a = q * 5 + hh then M + 1 else D a) ≤ (if b = q * 5 + hh then M + 1 else D b)
      rw [hD a (i5 a ha).2.2, if_pos hb]
      exact i2 a (i5 a ha).1
  · have : pj_cn (fun n => decide (1 ≤ D n)) 80 + 1 ≤ pj_cn (fun n => decide (1 ≤ (if n = q * 5 + hh then M + 1 else D n))) 80 := by
      refine pj_cn_lt (j := q * 5 + hh) (fun i _ hi => ?_) hn (decide_eq_false (by omega)) ?_
      · have := of_decide_eq_true hi
        rw [hD i this]
        exact hi
      · rw [if_pos rfl]
        exact decide_eq_true (by omega)
    rw [List.length_append]
    show h + (Q.length + 1) ≤ _
    refine Nat.le_trans ?_ this
    omega
  · exact pj_QRapp i8 (by omega)
theorem pj_Xvisit {post : SX → Prop} {M cur h hh : Nat} {Q : List Nat} {D : Nat → Nat} {x : Int32} (hc : c ≤ 16) (I : pj_I c G OP AR M cur h Q D xFA xQU) (hhh : hh ≤ 4) (hR : ∀ q, q < c → x = nI q → ∃ s, pj_R c G OP AR M s q ∧ pj_ht s = hh)
    (K : ∀ (D' : Nat → Nat) (Q' : List Nat) (fa' qu' : Nat → Int32), pj_I c G OP AR M cur h Q' D' fa' qu' → (∀ n, 1 ≤ D n → D' n = D n) → (∀ q, q < c → x = nI q → 1 ≤ D' (q * 5 + hh)) → post (xMH, xPO, nI c, nI h, nI Q'.length, xJD, xST, xAT, xTP, xMD, xCH, xFK, OP, AR, xMK, xQD, qu', xNT, fa', xCE, xLO, xFI)) :
    wpX_visit post (xMH, xPO, nI c, nI h, nI Q.length, xJD, xST, xAT, xTP, xMD, xCH, xFK, OP, AR, xMK, xQD, xQU, xNT, xFA, xCE, xLO, xFI) x (nI hh) (nI M) := by
  have hcn := pj_cn_le (fun n => decide (1 ≤ D n)) 80
  have hI7 := I.2.2.2.2.2.2.2.1
  have hM := I.2.2.1
  unfold wpX_visit
  rcases pj_in_dec c x with ⟨q, hq, hx⟩ | hx
  · rw [hx]
    have hn : q * 5 + hh < 80 := by omega
    have hin : vp_in (nI (q * 5 + hh)) 80 := vp_in_nI hn (by omega)
    have ec : (nI (q * 5 + hh)).toNatClampNeg = q * 5 + hh := nI_clamp (by omega)
    have hfa := I.1 _ hn
    have hD2 := I.2.1 _ hn
    have hq' : ∀ q', q' < c → x = nI q' → q' = q := by
      intro q' hq1 hx'
      rw [hx] at hx'
      exact ((nI_eq (by omega) (by omega)).mp hx').symm
    refine pj_XinT hq hc ?_
    refine br_f (by decide) (nm_r (e' := nI (q * 5 + hh)) (pj_node q hh) (And.intro hin ?_))
    by_cases h0 : D (q * 5 + hh) = 0
    · refine br_f (by rw [ec, hfa, h0]; decide) (And.intro hin ?_)
      refine nm_r (e' := upd xFA (q * 5 + hh) (nI M)) (by rw [ec, pj_nsh (by omega)]) ?_
      refine And.intro (by rw [pj_ring (by omega) (by omega)]; exact vp_in_nI (Nat.mod_lt _ (by omega)) (by omega)) ?_
      refine nm_r (e' := upd xQU ((h + Q.length) % 128) (nI (q * 5 + hh))) ?_ ?_
      · rw [pj_ring (by omega) (by omega), nI_clamp (Nat.lt_of_lt_of_le (Nat.mod_lt _ (by omega)) (by omega)), pj_nby (by omega)]
      · refine nm_r (e' := nI (Q ++ [q * 5 + hh]).length) ?_ ?_
        · rw [List.length_append]; exact nI_1 _
        · refine K _ _ _ _ (pj_visP I hn hhh h0 (hR q hq hx)) (fun n h1 => ?_) (fun q' h1 h2 => ?_)
          · refine if_neg (fun e => ?_)
            rw [e, h0] at h1
            omega
          · rw [hq' q' h1 h2]
            show 1 ≤ (if q * 5 + hh = q * 5 + hh then M + 1 else D (q * 5 + hh))
            rw [if_pos rfl]
            omega
    · refine br_t ?_ ?_
      · rw [ec, hfa, pj_s1 (by omega)]
        exact nI_pos' (by omega)
      · refine K D Q xFA xQU I (fun _ _ => rfl) (fun q' h1 h2 => ?_)
        rw [hq' q' h1 h2]
        omega
  · refine pj_XinF hc hx ?_
    refine br_t rfl ?_
    exact K D Q xFA xQU I (fun _ _ => rfl) (fun q' h1 h2 => absurd ⟨q', h1, h2⟩ hx)
theorem pj_Ipop {M a h : Nat} {Q : List Nat} {D : Nat → Nat} {fa qu : Nat → Int32} (I : pj_I c G OP AR M 80 h (a :: Q) D fa qu) : pj_I c G OP AR (D a) a (h + 1) Q D fa qu := by
  obtain ⟨i1, i2, i2', i3, i4, i5, i6, i7, i8⟩ := I
  obtain ⟨a1, a2, a3⟩ := i5 a (List.mem_cons_self ..)
  have ha := i2 a a1
  obtain ⟨p1, p2⟩ := List.pairwise_cons.mp i6
  refine ⟨i1, fun n hn => ?_, by omega, i3, fun n hn h1 => ?_, fun n hn => ?_, p2, ?_, pj_QRtl i8⟩
  · have := i2 n hn
    omega
  · rcases i4 n hn h1 with h | h | h
    · rcases List.mem_cons.mp h with h | h
      · exact Or.inr (Or.inl h)
      · exact Or.inl h
    · omega
    · exact Or.inr (Or.inr h)
  · obtain ⟨b1, b2, b3⟩ := i5 n (List.mem_cons_of_mem a hn)
    exact ⟨b1, p1 n hn, b3⟩
  · have e : (a :: Q).length = Q.length + 1 := rfl
    rw [e] at i7
    omega
theorem pj_I80 {M a h : Nat} {Q : List Nat} {D : Nat → Nat} {fa qu : Nat → Int32} (I : pj_I c G OP AR M a h Q D fa qu) (hC : pj_ClF c G OP AR D a) : pj_I c G OP AR M 80 h Q D fa qu := by
  obtain ⟨i1, i2, i2', i3, i4, i5⟩ := I
  refine ⟨i1, i2, i2', i3, fun n hn h1 => ?_, i5⟩
  rcases i4 n hn h1 with h | h | h
  · exact Or.inl h
  · subst h; exact Or.inr (Or.inr hC)
  · exact Or.inr (Or.inr h)
theorem pj_Xmloop {post : SX → Prop} (W : pj_wf c G OP AR)
    (K : ∀ (M h : Nat) (D : Nat → Nat) (fa qu : Nat → Int32), pj_I c G OP AR M 80 h [] D fa qu → D 0 = 1 → h ≤ 80 → post (nI G, xPO, nI c, nI h, nI 0, xJD, xST, xAT, xTP, xMD, xCH, xFK, OP, AR, xMK, xQD, qu, xNT, fa, xCE, xLO, xFI)) :
    ∀ (n h M : Nat) (Q : List Nat) (D : Nat → Nat) (fa qu : Nat → Int32), pj_I c G OP AR M 80 h Q D fa qu → D 0 = 1 → h ≤ 80 → 81 ≤ n + h →
      wX_measure_19 post n (nI h) (nI G) xPO (nI c) (nI h) (nI Q.length) xJD xST xAT xTP xMD xCH xFK OP AR xMK xQD qu xNT fa xCE xLO xFI := by
  intro n
  induction n with
  | zero => intro h M Q D fa qu _ _ h1 h2; omega
  | succ n ih =>
    intro h M Q D fa qu I hD0 h1 h2
    have hcn := pj_cn_le (fun n => decide (1 ≤ D n)) 80
    have hI7 := I.2.2.2.2.2.2.2.1
    have hc := W.1
    by_cases h80 : h = 80
    · have hQ : Q = [] := List.length_eq_zero_iff.mp (by omega)
      subst hQ
      exact br_t (by rw [h80]; exact nI_le (a := 80) (b := 80) (by omega) (by omega)) (K M h D fa qu I hD0 h1)
    · refine br_f (nI_ge (b := 80) (by omega) (by omega)) ?_
      cases Q with
      | nil => exact br_t (by decide) (K M h D fa qu I hD0 h1)
      | cons a Q =>
        have hl : h + (Q.length + 1) ≤ 80 := Nat.le_trans hI7 hcn
        obtain ⟨ha, _, hDa⟩ := I.2.2.2.2.2.1 a (List.mem_cons_self ..)
        obtain ⟨s, hRs, hhs⟩ := I.2.2.2.1 a ha hDa
        have hpc := (pj_Rlt W _ _ _ hRs).1
        obtain ⟨ho, hO, hA⟩ := W.2.2.2 _ hpc
        have I1 := pj_Ipop I
        have hDle := I1.2.2.1
        have ec : (nI (a / 5)).toNatClampNeg = a / 5 := nI_clamp (by omega)
        have eca : (nI a).toNatClampNeg = a := nI_clamp (by omega)
        have hin : vp_in (nI (a / 5)) 16 := vp_in_nI (by omega) (by omega)
        refine br_f (nI_nle (n := Q.length + 1) (by omega) (by omega)) ?_
        refine And.intro (vp_in_nI (by omega) (by omega)) (nm_r (e' := nI a) (by rw [nI_clamp (by omega)]; exact pj_QRhd I.2.2.2.2.2.2.2.2 (by omega)) ?_)
        refine nm_r (e' := nI (h + 1)) (nI_1 h) ?_
        refine nm_r (e' := nI Q.length) (nI_pred Q.length) ?_
        refine And.intro (by decide) (nm_r (e' := nI (a / 5)) (pj_d5 (by omega)) ?_)
        refine And.intro hin (nm_r (e' := nI (pj_o OP (a / 5))) (by rw [ec]; exact hO) ?_)
        refine And.intro (by decide) (nm_r (e' := nI (a % 5)) (pj_m5 (by omega)) ?_)
        refine pj_Xroom ho (by omega) W.2.2.1 ?_
        by_cases hr : pj_rf G (pj_o OP (a / 5)) (a % 5) = 0
        · have hgm := pj_gmnd _ (Nat.lt_succ_of_le ho)
          have hnd := pj_rf_nd hr
          have hnh : pj_nh (pj_o OP (a / 5)) (a % 5) ≤ 4 := pj_nh_le ho W.2.2.1 (by omega) hr
          have hR : ∀ q, pj_Tg c OP AR (a / 5) q → ∃ s', pj_R c G OP AR (D a) s' q ∧ pj_ht s' = pj_nh (pj_o OP (a / 5)) (a % 5) := by
            intro q hT
            have hr' : pj_rf G (pj_o OP (a / 5)) (pj_ht s) = 0 := by rw [hhs]; exact hr
            have := pj_Rs hRs hr' hT
            rw [show D a - 1 + 1 = D a by omega] at this
            refine ⟨_, this, ?_⟩
            rw [(pj_law W.2.2.1 (pj_Rlt W _ _ _ hRs).2 ho (pj_al_lt AR _) hr').2.1, hhs]
          have fin : ∀ (z : Int32), (∀ q, q < c → z = nI q → pj_Tg c OP AR (a / 5) q) → (pj_o OP (a / 5) = 11 → z = AR (a / 5)) →
              ∀ (D' : Nat → Nat) (Q' : List Nat) (fa' qu' : Nat → Int32), pj_I c G OP AR (D a) a (h + 1) Q' D' fa' qu' → (∀ n, 1 ≤ D n → D' n = D n) → (∀ q, q < c → pj_nx OP AR (a / 5) = nI q → 1 ≤ D' (q * 5 + pj_nh (pj_o OP (a / 5)) (a % 5))) →
              wX_measure_144 post (wX_measure_19 post n) (nI h) (nI (pj_nh (pj_o OP (a / 5)) (a % 5))) (nI (D a)) z (nI G) xPO (nI c) (nI (h + 1)) (nI Q'.length) xJD xST xAT xTP xMD xCH xFK OP AR xMK xQD qu' xNT fa' xCE xLO xFI := by
            intro z hz1 hz2 D' Q' fa' qu' I' hk hm
            unfold wX_measure_144
            refine pj_Xvisit hc I' hnh (fun q hq hx => hR q (hz1 q hq hx)) ?_
            intro D2 Q2 fa2 qu2 I2 hk2 hm2
            refine nm_r (e' := nI (h + 1)) (nI_1 h) ?_
            have hDa2 : D2 a = D a := by rw [hk2 a (by rw [hk a hDa]; exact hDa), hk a hDa]
            refine ih (h + 1) (D a) Q2 D2 fa2 qu2 (pj_I80 I2 (fun _ q hT => ?_)) ?_ (by omega) (by omega)
            · have hq := hT.1
              have hle : D2 (q * 5 + pj_nh (pj_o OP (a / 5)) (a % 5)) ≤ D a + 1 := I2.2.1 _ (by omega)
              rw [hDa2]
              refine ⟨?_, hle⟩
              rcases pj_TgInv hT with h' | ⟨h11, h'⟩
              · rw [hk2 _ (hm q hq h')]
                exact hm q hq h'
              · exact hm2 q hq (by rw [hz2 h11, h'])
            · rw [hk2 0 (by rw [hk 0 (by omega)]; omega), hk 0 (by omega), hD0]
          refine br_t (by rw [hr]; rfl) ?_
          refine pj_Xgrowth ho ?_
          refine nm_r (e' := nI (pj_nh (pj_o OP (a / 5)) (a % 5))) (pj_gr_add ho (by omega)) ?_
          refine And.intro (vp_in_nI ha (by omega)) (nm_r (e' := nI (D a)) (by rw [eca, I.1 a ha]; exact Int32.sub_add_cancel _ _) ?_)
          refine pj_Xnext (by omega) ho hO ?_
          refine pj_Xvisit hc I1 hnh (fun q hq hx => hR q (pj_TgMain (by omega) hc hq hx)) ?_
          intro D' Q' fa' qu' I' hk hm
          refine pk_eq (pj_o OP (a / 5)) 11 (fun h11 => ?_) (fun h11 => ?_) rfl rfl (by omega) (by omega)
          · refine And.intro hin ?_
            rw [ec]
            exact fin (AR (a / 5)) (fun q hq hx => ⟨hq, Or.inr ⟨Or.inr h11, hx⟩⟩) (fun _ => rfl) D' Q' fa' qu' I' hk hm
          · refine fin (-1) (fun q hq hx => ?_) (fun z => absurd z h11) D' Q' fa' qu' I' hk hm
            exact absurd hx ((by decide +kernel : ∀ q, q < 16 → ¬ (-1 : Int32) = nI q) q (by omega))
        · have hlt := pj_rf_lt (G := G) (o := pj_o OP (a / 5)) (h := a % 5)
          refine br_f (fun z => hr ((nI_eq (by omega) (by omega)).mp (z.trans nI_0.symm))) ?_
          refine nm_r (e' := nI (h + 1)) (nI_1 h) ?_
          exact ih (h + 1) (D a) Q D fa qu (pj_I80 I1 (fun z => absurd z hr)) hD0 (by omega) (by omega)
def pj_FO (c G : Nat) (OP AR fa : Nat → Int32) : Prop := ∀ n, n < 80 → (fa n = -1 ∧ ¬ pj_Nd c G OP AR n) ∨ ∃ d, d < 81 ∧ fa n = nI d ∧ (∃ s, pj_R c G OP AR d s (n / 5) ∧ pj_ht s = n % 5) ∧ ∀ d' s, pj_R c G OP AR d' s (n / 5) → pj_ht s = n % 5 → d ≤ d'
theorem pj_Ffin (W : pj_wf c G OP AR) {M h : Nat} {D : Nat → Nat} {fa qu : Nat → Int32} (I : pj_I c G OP AR M 80 h [] D fa qu) (hD0 : D 0 = 1) (hh : h ≤ 80) : pj_FO c G OP AR fa := by
  obtain ⟨i1, i2, i2', i3, i4, i5⟩ := I
  have hall : ∀ d s p, pj_R c G OP AR d s p → 1 ≤ D (p * 5 + pj_ht s) ∧ D (p * 5 + pj_ht s) ≤ d + 1 := by
    intro d
    induction d with
    | zero =>
      intro s p hR
      obtain ⟨rfl, rfl, _⟩ := hR
      rw [pj_ht8]
      show 1 ≤ D 0 ∧ D 0 ≤ 1
      omega
    | succ d ih =>
      intro t q hR
      obtain ⟨s, p, hR, hr, rfl, hT⟩ := hR
      obtain ⟨hpc, hs⟩ := pj_Rlt W _ _ _ hR
      have hc := W.1
      have ho := (W.2.2.2 _ hpc).1
      obtain ⟨a, b⟩ := ih s p hR
      have hht := pj_ht_le s
      have e5 := pj_nd5 (q := p) hht
      rw [(pj_law W.2.2.1 hs ho (pj_al_lt AR p) hr).2.1]
      rcases i4 (p * 5 + pj_ht s) (by omega) a with h | h | h
      · exact absurd h List.not_mem_nil
      · omega
      · unfold pj_ClF at h
        rw [e5.1, e5.2] at h
        obtain ⟨x, y⟩ := h hr q hT
        omega
  intro n hn
  have hle := i2 n hn
  by_cases h0 : D n = 0
  · left
    refine ⟨?_, ?_⟩
    · rw [i1 n hn, h0]; decide
    · rintro ⟨d, s, hR, hs⟩
      have := (hall d s _ hR).1
      rw [hs, show n / 5 * 5 + n % 5 = n by omega] at this
      omega
  · right
    refine ⟨D n - 1, by omega, ?_, i3 n hn (by omega), fun d' s hR hs => ?_⟩
    · rw [i1 n hn, pj_s1 (by omega)]
    · have := (hall d' s _ hR).2
      rw [hs, show n / 5 * 5 + n % 5 = n by omega] at this
      omega
theorem pj_Xmeasure {post : SX → Prop} (W : pj_wf c G OP AR) (hc0 : 0 < c) (hfa : ∀ n, n < 80 → xFA n = -1)
    (K : ∀ (qh : Int32) (fa qu : Nat → Int32), pj_FO c G OP AR fa → post (nI G, xPO, nI c, qh, nI 0, xJD, xST, xAT, xTP, xMD, xCH, xFK, OP, AR, xMK, xQD, qu, xNT, fa, xCE, xLO, xFI)) : wpX_measure post (nI G, xPO, nI c, xQH, xQC, xJD, xST, xAT, xTP, xMD, xCH, xFK, OP, AR, xMK, xQD, xQU, xNT, xFA, xCE, xLO, xFI) := by
  have hc := W.1
  have I0 : pj_I c G OP AR 0 80 0 [] (fun _ => 0) xFA xQU := by
    refine ⟨fun n hn => ?_, fun n hn => Nat.zero_le _, Nat.le_refl _, fun n hn h => absurd h (Nat.not_succ_le_zero 0), fun n hn h => absurd h (Nat.not_succ_le_zero 0), fun n hn => absurd hn List.not_mem_nil, List.Pairwise.nil, Nat.zero_le _, pj_QRnil⟩
    rw [hfa n hn]
    exact (by decide : (-1 : Int32) = nI 0 - 1)
  unfold wpX_measure
  refine pj_Xvisit (M := 0) (cur := 80) (h := 0) (hh := 0) (Q := []) (D := fun _ => 0) (x := 0) hc I0 (by omega) ?_ ?_
  · intro q hq hx
    have : 0 = q := (nI_eq (by omega) (by omega)).mp (nI_0.trans hx)
    subst this
    exact ⟨8, ⟨rfl, rfl, hc0⟩, pj_ht8⟩
  · intro D' Q' fa' qu' I' _ hm
    have h1 := hm 0 hc0 nI_0.symm
    have h2 := I'.2.1 0 (by omega)
    have hD0 : D' 0 = 1 := by
      have h1' : 1 ≤ D' 0 := h1
      omega
    exact ⟨81, pj_Xmloop W (fun M h D fa qu I hD hh => K _ fa qu (pj_Ffin W I hD hh)) 81 0 0 Q' D' fa' qu' I' hD0 (by omega) (by omega)⟩
end
end
section
section
variable {xMH xPO xSZ xQH xQC xJD xST xAT xTP xMD xCH xFK : Int32} {OP AR xMK xQD xQU xNT xFA xCE xLO xFI : Nat → Int32}
variable {c G : Nat}
theorem pj_Xreset37 {post : SX → Prop} (K : ∀ nt : Nat → Int32, (∀ p, p < 16 → nt p = 0) → post (xMH, xPO, xSZ, 0, 0, xJD, xST, xAT, xTP, xMD, xCH, xFK, OP, AR, xMK, xQD, xQU, nt, xFA, xCE, xLO, xFI)) :
    ∀ (n j : Nat) (nt : Nat → Int32), (∀ p, p < j → nt p = 0) → j ≤ 16 → 17 ≤ n + j → wX_reset_37 post xMH xPO xSZ xQH xQC xJD xST xAT xTP xMD xCH xFK n (nI j) OP AR xMK xQD xQU nt xFA xCE xLO xFI := by
  intro n
  induction n with
  | zero => intro j nt _ h1 h2; omega
  | succ n ih =>
    intro j nt hI h1 h2
    by_cases h16 : j = 16
    · subst h16
      exact br_t (nI_le (a := 16) (b := 16) (by omega) (by omega)) (K nt hI)
    · refine br_f (nI_ge (b := 16) (by omega) (by omega)) (And.intro (vp_in_nI (by omega) (by omega)) ?_)
      refine nm_r (e' := upd nt j 0) (by rw [nI_clamp (by omega), pj_nb0]) (nm_r (e' := nI (j + 1)) (nI_1 j) ?_)
      refine ih (j + 1) _ (fun p hp => ?_) (by omega) (by omega)
      by_cases e : p = j
      · subst e; exact pk_us
      · rw [pk_un e]; exact hI p (by omega)
theorem pj_Xreset2 {post : SX → Prop} (K : ∀ mk qd fa : Nat → Int32, (∀ m, m < 80 → mk m = 0 ∧ qd m = 0 ∧ fa m = -1) → ∃ n37, wX_reset_37 post xMH xPO xSZ xQH xQC xJD xST xAT xTP xMD xCH xFK n37 0 OP AR mk qd xQU xNT fa xCE xLO xFI) :
    ∀ (n j : Nat) (mk qd fa : Nat → Int32), (∀ m, m < j → mk m = 0 ∧ qd m = 0 ∧ fa m = -1) → j ≤ 80 → 81 ≤ n + j → wX_reset_2 post xMH xPO xSZ xQH xQC xJD xST xAT xTP xMD xCH xFK n (nI j) OP AR mk qd xQU xNT fa xCE xLO xFI := by
  intro n
  induction n with
  | zero => intro j mk qd fa _ h1 h2; omega
  | succ n ih =>
    intro j mk qd fa hI h1 h2
    by_cases h80 : j = 80
    · subst h80
      exact br_t (nI_le (a := 80) (b := 80) (by omega) (by omega)) (K mk qd fa hI)
    · have hv : vp_in (nI j) 80 := vp_in_nI (by omega) (by omega)
      have ec : (nI j).toNatClampNeg = j := nI_clamp (by omega)
      refine br_f (nI_ge (b := 80) (by omega) (by omega)) (And.intro hv ?_)
      refine nm_r (e' := upd mk j 0) (by rw [ec]) (And.intro hv (nm_r (e' := upd qd j 0) (by rw [ec, pj_nb0]) (And.intro hv (nm_r (e' := upd fa j (-1)) (by rw [ec, pj_nsm]) (nm_r (e' := nI (j + 1)) (nI_1 j) ?_)))))
      refine ih (j + 1) _ _ _ (fun p hp => ?_) (by omega) (by omega)
      by_cases e : p = j
      · subst e; exact ⟨pk_us, pk_us, pk_us⟩
      · rw [pk_un e, pk_un e, pk_un e]; exact hI p (by omega)
theorem pj_Xreset {post : SX → Prop} (K : ∀ mk qd nt fa : Nat → Int32, (∀ m, m < 80 → mk m = 0 ∧ qd m = 0 ∧ fa m = -1) → (∀ p, p < 16 → nt p = 0) → post (xMH, xPO, xSZ, 0, 0, xJD, xST, xAT, xTP, xMD, xCH, xFK, OP, AR, mk, qd, xQU, nt, fa, xCE, xLO, xFI)) : wpX_reset post (xMH, xPO, xSZ, xQH, xQC, xJD, xST, xAT, xTP, xMD, xCH, xFK, OP, AR, xMK, xQD, xQU, xNT, xFA, xCE, xLO, xFI) := by
  unfold wpX_reset
  refine ⟨81, pj_Xreset2 (fun mk qd fa h1 => ⟨17, ?_⟩) 81 0 xMK xQD xFA (fun m hm => absurd hm (Nat.not_lt_zero m)) (by omega) (by omega)⟩
  exact pj_Xreset37 (fun nt h2 => K mk qd nt fa h1 h2) 17 0 xNT (fun m hm => absurd hm (Nat.not_lt_zero m)) (by omega) (by omega)
def pj_XO (c G : Nat) (OP AR mk nt fa : Nat → Int32) : Prop := pj_MO c G OP AR mk ∧ pj_NO c G OP AR nt ∧ pj_FO c G OP AR fa
def pj_m0 : Int32 := pj_wk (pj_wk 0 4 4) 5 4
theorem pj_m0b : ∀ i, i < 32 → bt pj_m0 i = (decide (i = 14) || decide (i = 17)) := by decide +kernel
theorem pj_m0W (hc : 0 < c) (pl : Nat) (hp : pl < 6) (k : Nat) (hk : k < 3) (hb : bt pj_m0 (3 * pl + k) = true) : pj_Wt c G OP AR 0 pl k := by
  rw [pj_m0b _ (by omega), Bool.or_eq_true, decide_eq_true_eq, decide_eq_true_eq] at hb
  rcases hb with hb | hb
  · have e1 : pl = 4 := by omega
    have e2 : k = 2 := by omega
    subst e1 e2
    exact ⟨0, 8, ⟨rfl, rfl, hc⟩, rfl, Or.inr (Or.inl rfl), rfl⟩
  · have e1 : pl = 5 := by omega
    have e2 : k = 2 := by omega
    subst e1 e2
    exact ⟨0, 8, ⟨rfl, rfl, hc⟩, rfl, Or.inr (Or.inr rfl), rfl⟩
theorem pj_Xtail {post : SX → Prop} (W : pj_wf c G OP AR) (hc0 : 0 < c) (M : pj_MO c G OP AR xMK) (h1 : ∀ m, m < 80 → xFA m = -1) (h2 : ∀ p, p < 16 → xNT p = 0)
    (K : ∀ (qh qc : Int32) (qu nt fa : Nat → Int32), pj_XO c G OP AR xMK nt fa → post (nI G, xPO, nI c, qh, qc, xJD, xST, xAT, xTP, xMD, xCH, xFK, OP, AR, xMK, xQD, qu, nt, fa, xCE, xLO, xFI)) : wX_judge_122 post (nI G) xPO (nI c) xQH xQC xJD xST xAT xTP xMD xCH xFK OP AR xMK xQD xQU xNT xFA xCE xLO xFI := by
  unfold wX_judge_122 wpX_note
  refine ⟨81, pj_Xnote2 W M (fun nt hn => ?_) 81 0 xNT (fun p hp i => ?_) (by omega) (by omega)⟩
  · refine pj_Xmeasure W hc0 h1 ?_
    intro qh fa qu hF
    exact K _ _ _ _ _ ⟨M, pj_NIO hn, hF⟩
  · rw [h2 p hp, b_0]
    constructor
    · intro z; exact Bool.noConfusion z
    · rintro ⟨n, hn, _⟩; exact absurd hn (Nat.not_lt_zero n)
theorem pj_XO0 (W : pj_wf 0 G OP AR) {mk nt fa : Nat → Int32} (h1 : ∀ m, m < 80 → mk m = 0 ∧ fa m = -1) (h2 : ∀ p, p < 16 → nt p = 0) : pj_XO 0 G OP AR mk nt fa := by
  have hR : ∀ d s p, ¬ pj_R 0 G OP AR d s p := fun d s p h => absurd (pj_Rlt W d s p h).1 (Nat.not_lt_zero p)
  refine ⟨⟨fun n hn pl hp k hk => ?_, fun n hn i hi => ?_⟩, fun p hp i => ?_, fun n hn => ?_⟩
  · rw [(h1 n hn).1, b_0]
    exact ⟨fun z => Bool.noConfusion z, fun ⟨d, s, h, _⟩ => absurd h (hR _ _ _)⟩
  · rw [(h1 n hn).1, b_0]
  · rw [h2 p hp, b_0]
    exact ⟨fun z => Bool.noConfusion z, fun ⟨d, s, h, _⟩ => absurd h (hR _ _ _)⟩
  · exact Or.inl ⟨(h1 n hn).2, fun ⟨d, s, h, _⟩ => absurd h (hR _ _ _)⟩
theorem pj_Xjudge {post : SX → Prop} (W : pj_wf c G OP AR) (hJ : ¬ xJD = 0 → pj_XO c G OP AR xMK xNT xFA)
    (K : ∀ (qh qc jd : Int32) (mk qd qu nt fa : Nat → Int32), ¬ jd = 0 → pj_XO c G OP AR mk nt fa → post (nI G, xPO, nI c, qh, qc, jd, xST, xAT, xTP, xMD, xCH, xFK, OP, AR, mk, qd, qu, nt, fa, xCE, xLO, xFI)) : wpX_judge post (nI G, xPO, nI c, xQH, xQC, xJD, xST, xAT, xTP, xMD, xCH, xFK, OP, AR, xMK, xQD, xQU, xNT, xFA, xCE, xLO, xFI) := by
  unfold wpX_judge
  refine br_c (fun hj => ?_) (fun hj => ?_)
  · refine pj_Xreset ?_
    intro mk qd nt fa h1 h2
    have hc16 := W.1
    by_cases hc : c = 0
    · subst hc
      refine br_t nI_0 ?_
      exact K _ _ _ _ _ _ _ _ (by decide) (pj_XO0 W (fun m hm => ⟨(h1 m hm).1, (h1 m hm).2.2⟩) h2)
    · have hc0 : 0 < c := by omega
      refine br_f (nI_ne0 hc0 (by omega)) ?_
      refine pj_wK (pl := 4) rfl (pj_wK (pl := 5) rfl ?_)
      have J0 : pj_J c G OP AR 80 mk qd xQU 0 [] := by
        refine ⟨fun n hn pl hp k hk hb => ?_, fun n hn i hi => ?_, fun n hn _ _ z => absurd (h1 n hn).1 z, ⟨List.nodup_nil, fun n hn => absurd hn List.not_mem_nil⟩, fun n hn => Or.inr ⟨List.not_mem_nil, (h1 n hn).2.1⟩, pj_QRnil⟩
        · rw [(h1 n hn).1, b_0] at hb; exact Bool.noConfusion hb
        · rw [(h1 n hn).1, b_0]
      refine pj_Xreach (p := 0) (hh := 0) (h := 0) (B := 0) (Q := []) J0 (by omega) (by omega) (pj_m0W hc0) (fun i hi => ?_) (Nat.zero_le _) ?_
      · rcases Nat.lt_or_ge i 32 with h | h
        · show bt pj_m0 i = false
          rw [pj_m0b i h, decide_eq_false (by omega), decide_eq_false (by omega)]; rfl
        · exact b_big h
      · intro mk' qd' qu' Q' J' _ hm _ hB
        have hst : bt (mk' 0) 14 = true ∧ bt (mk' 0) 17 = true := ⟨hm 14 (pj_m0b 14 (by omega)), hm 17 (pj_m0b 17 (by omega))⟩
        refine ⟨1441, pj_Xloop W (fun h mk2 qd2 qu2 J2 hs2 => ?_) 1441 0 0 Q' mk' qd' qu' J' (by omega) hB hst (by omega)⟩
        refine pj_Xtail W hc0 (pj_Mok W J2 hs2) (fun m hm => (h1 m hm).2.2) h2 ?_
        intro qh qc qu nt3 fa3 hXO
        exact K _ _ _ _ _ _ _ _ (by decide) hXO
  · exact K _ _ _ _ _ _ _ _ hj (hJ hj)
end
end
section
section
variable {yGR yPS yCT yDO yPC yTL yMD yFK yBT : Int32} {OP AR yRE yFR yCO yDI ySK yLO yFI : Nat → Int32}
variable {c G : Nat}
theorem pj_Yhv {post : Int32 → Prop} {v : Nat} (hv : v < 2 ^ 31) (hp : post (nI (pj_hv v))) : wpY_heightOf post (yGR, yPS, yCT, yDO, yPC, yTL, yMD, yFK, yBT, OP, AR, yRE, yFR, yCO, yDI, ySK, yLO, yFI) (nI v) := by
  unfold wpY_heightOf
  unfold pj_hv at hp
  refine pk_le 1 v (fun h1 => ?_) (fun h1 => ?_) rfl rfl (by omega) hv
  · rw [if_neg (by omega)] at hp
    refine pk_le 4 v (fun h2 => ?_) (fun h2 => ?_) rfl rfl (by omega) hv
    · rw [if_neg (by omega)] at hp
      refine pk_le 13 v (fun h3 => ?_) (fun h3 => ?_) rfl rfl (by omega) hv
      · rw [if_neg (by omega)] at hp
        refine pk_le 40 v (fun h4 => ?_) (fun h4 => ?_) rfl rfl (by omega) hv
        · rw [if_neg (by omega)] at hp; exact hp
        · rw [if_pos (by omega)] at hp; exact hp
      · rw [if_pos (by omega)] at hp; exact hp
    · rw [if_pos (by omega)] at hp; exact hp
  · rw [if_pos (by omega)] at hp; exact hp
theorem pj_Yneed {post : Int32 → Prop} {o : Nat} (ho : o ≤ 13) (hp : post (nI (pj_nd o))) : wpY_need post (yGR, yPS, yCT, yDO, yPC, yTL, yMD, yFK, yBT, OP, AR, yRE, yFR, yCO, yDI, ySK, yLO, yFI) (nI o) := by
  have hb : o < 2 ^ 31 := by omega
  unfold wpY_need
  refine pk_eq o 4 (fun h => ?_) (fun h4 => ?_) rfl rfl hb (by omega)
  · subst h; exact hp
  refine pk_eq o 5 (fun h => ?_) (fun h5 => ?_) rfl rfl hb (by omega)
  · subst h; exact hp
  refine pk_eq o 7 (fun h => ?_) (fun h7 => ?_) rfl rfl hb (by omega)
  · subst h; exact hp
  refine pk_eq o 12 (fun h => ?_) (fun h12 => ?_) rfl rfl hb (by omega)
  · subst h; exact hp
  refine pk_eq o 2 (fun h => ?_) (fun h2 => ?_) rfl rfl hb (by omega)
  · subst h; exact hp
  refine pk_eq o 3 (fun h => ?_) (fun h3 => ?_) rfl rfl hb (by omega)
  · subst h; exact hp
  refine pk_eq o 6 (fun h => ?_) (fun h6 => ?_) rfl rfl hb (by omega)
  · subst h; exact hp
  refine pk_eq o 9 (fun h => ?_) (fun h9 => ?_) rfl rfl hb (by omega)
  · subst h; exact hp
  refine pk_eq o 13 (fun h => ?_) (fun h13 => ?_) rfl rfl hb (by omega)
  · subst h; exact hp
  have e : pj_nd o = 0 := by unfold pj_nd; rw [if_neg (by omega), if_neg (by omega)]
  rw [e] at hp; exact hp
theorem pj_gpf {o : Nat} (h0 : ¬ o = 0) (h1 : ¬ o = 1) (h3 : ¬ o = 3) (h8 : ¬ o = 8) : ¬ pj_gp o = 1 := by
  unfold pj_gp; rw [if_neg (by omega)]; omega
theorem pj_Y49 {post : Int32 → Prop} {o h : Nat} (hh : h ≤ 4) (hG : G ≤ 4) (h1 : pj_nd o ≤ h) (hg : pj_gp o = 1) (hp : post (nI (pj_rf G o h))) : wY_stuck_49 post (nI h) (nI G) yPS yCT yDO yPC yTL yMD yFK yBT OP AR yRE yFR yCO yDI ySK yLO yFI := by
  unfold wY_stuck_49 wY_stuck_54
  refine br_f (by decide) ?_
  refine pk_lt h G (fun h2 => ?_) (fun h2 => ?_) rfl rfl (by omega) (by omega)
  · rw [pj_rf_0 h1 (fun _ => h2)] at hp; exact hp
  · rw [pj_rf_2 h1 hg h2] at hp; exact hp
theorem pj_d9 {a : Nat} (h : a < 2 ^ 31) : nI a / 9 = nI (a / 9) := pk_div (d := 9) h (by omega) (by omega)
theorem pj_d3 {a : Nat} (h : a < 2 ^ 31) : nI a / 3 = nI (a / 3) := pk_div (d := 3) h (by omega) (by omega)
theorem pj_r3 {a : Nat} (h : a < 2 ^ 31) : nI a - nI a / 3 * 3 = nI (a % 3) := pk_rem (d := 3) h (by omega) (by omega)
theorem pj_Ystuck {post : Int32 → Prop} {s p : Nat} (hs : s < 1089) (hp16 : p < 16) (hG : G ≤ 4) (ho : pj_o OP p ≤ 13) (hO : OP p = nI (pj_o OP p)) (hp : post (nI (pj_rf G (pj_o OP p) (pj_ht s)))) : wpY_stuck post (nI G, yPS, yCT, yDO, yPC, yTL, yMD, yFK, yBT, OP, AR, yRE, yFR, yCO, yDI, ySK, yLO, yFI) (nI s) (nI p) := by
  have ec : (nI p).toNatClampNeg = p := nI_clamp (by omega)
  have hh := pj_ht_le s
  have hn := pj_nd_le (pj_o OP p) (by omega)
  unfold wpY_stuck
  refine And.intro (vp_in_nI hp16 (by omega)) (nm_r (e' := nI (pj_o OP p)) (by rw [ec]; exact hO) (And.intro (by decide) ?_))
  rw [pj_d9 (by omega)]
  refine pj_Yhv (by omega) ?_
  refine pj_Yneed ho ?_
  refine pk_le (pj_nd (pj_o OP p)) (pj_ht s) (fun h1 => ?_) (fun h1 => ?_) rfl rfl (by omega) (by omega)
  · generalize pj_o OP p = o at *
    refine pk_eq o 0 (fun h => ?_) (fun h0 => ?_) rfl rfl (by omega) (by omega)
    · exact pj_Y49 hh hG h1 (by rw [h]; rfl) hp
    refine pk_eq o 1 (fun h => ?_) (fun h1' => ?_) rfl rfl (by omega) (by omega)
    · exact pj_Y49 hh hG h1 (by rw [h]; rfl) hp
    refine pk_eq o 3 (fun h => ?_) (fun h3 => ?_) rfl rfl (by omega) (by omega)
    · exact pj_Y49 hh hG h1 (by rw [h]; rfl) hp
    refine pk_eq o 8 (fun h => ?_) (fun h8 => ?_) rfl rfl (by omega) (by omega)
    · exact pj_Y49 hh hG h1 (by rw [h]; rfl) hp
    rw [pj_rf_0 h1 (fun z => absurd z (pj_gpf h0 h1' h3 h8))] at hp
    exact br_t rfl hp
  · rw [pj_rf_1 h1] at hp; exact hp
/-! 'changed' -/
theorem pj_m3 (v : Nat) : nI v * 3 = nI (v * 3) := pk_mul v 3
theorem pj_Y313 {post : Int32 → Prop} {x v a b : Nat} {y : Int32} (hy : y = nI v) (hx : x = v * 9 + a * 3 + b) (hp : post (nI x)) : wY_changed_313 post y (nI a) (nI b) yGR yPS yCT yDO yPC yTL yMD yFK yBT OP AR yRE yFR yCO yDI ySK yLO yFI := by
  subst hy hx
  unfold wY_changed_313
  rw [show nI v * 9 = nI (v * 9) from pk_mul v 9, pj_m3, nI_add, nI_add]
  exact hp
theorem pj_Y91 {post : Int32 → Prop} {p o al v a b : Nat} (hp16 : p < 16) (ho : o ≤ 13) (hal : (AR p = 0 ∧ al = 0) ∨ (¬ AR p = 0 ∧ ¬ al = 0)) (hp : post (nI (pj_cv o al v a b * 9 + pj_ca o al v a * 3 + pj_cb o al v b))) :
    wY_changed_91 post (nI p) (nI o) (nI v) (nI a) (nI b) (nI (pj_tp v)) (nI (pj_rs v)) (nI (pj_tp (pj_rs v))) (nI (pj_rs (pj_rs v))) yGR yPS yCT yDO yPC yTL yMD yFK yBT OP AR yRE yFR yCO yDI ySK yLO yFI := by
  have hb : o < 2 ^ 31 := by omega
  have ec : (nI p).toNatClampNeg = p := nI_clamp (by omega)
  have hin : vp_in (nI p) 16 := vp_in_nI hp16 (by omega)
  unfold wY_changed_91
  refine pk_eq o 0 (fun h => ?_) (fun h0 => ?_) rfl rfl hb (by omega)
  · subst h
    exact nm_r (e' := nI (v * 3 + 1)) (by rw [pj_m3, nI_1]) (pj_Y313 rfl rfl hp)
  refine pk_eq o 1 (fun h => ?_) (fun h1 => ?_) rfl rfl hb (by omega)
  · subst h
    exact nm_r (e' := nI (v * 3 + 2)) (by rw [pj_m3]; exact nI_add _ 2) (pj_Y313 rfl rfl hp)
  refine pk_eq o 2 (fun h => ?_) (fun h2 => ?_) rfl rfl hb (by omega)
  · subst h
    exact pj_Y313 rfl rfl hp
  refine pk_eq o 3 (fun h => ?_) (fun h3 => ?_) rfl rfl hb (by omega)
  · subst h
    exact nm_r (e' := nI (v * 3 + pj_tp v + 1)) (by rw [pj_m3, nI_add, nI_1]) (pj_Y313 rfl rfl hp)
  refine pk_eq o 4 (fun h => ?_) (fun h4 => ?_) rfl rfl hb (by omega)
  · subst h
    exact nm_r (e' := nI ((pj_rs (pj_rs v) * 3 + pj_tp v + 1) * 3 + pj_tp (pj_rs v) + 1)) (by rw [pj_m3, nI_add, nI_1, pj_m3, nI_add, nI_1]) (pj_Y313 rfl rfl hp)
  refine pk_eq o 5 (fun h => ?_) (fun h5 => ?_) rfl rfl hb (by omega)
  · subst h
    unfold wY_changed_192
    exact nm_r (e' := nI (pj_rs (pj_rs v) * 3 + 1)) (by rw [pj_m3, nI_1]) (pj_Y313 rfl rfl hp)
  refine pk_eq o 12 (fun h => ?_) (fun h12 => ?_) rfl rfl hb (by omega)
  · subst h
    unfold wY_changed_192
    exact nm_r (e' := nI (pj_rs (pj_rs v) * 3 + 1)) (by rw [pj_m3, nI_1]) (pj_Y313 rfl rfl hp)
  refine pk_eq o 6 (fun h => ?_) (fun h6 => ?_) rfl rfl hb (by omega)
  · subst h
    exact nm_r (e' := nI (pj_rs v * 3 + 1)) (by rw [pj_m3, nI_1]) (pj_Y313 rfl rfl hp)
  refine pk_eq o 7 (fun h => ?_) (fun h7 => ?_) rfl rfl hb (by omega)
  · subst h
    exact pj_Y313 rfl rfl hp
  refine pk_eq o 8 (fun h => ?_) (fun h8 => ?_) rfl rfl hb (by omega)
  · subst h
    refine And.intro hin ?_
    rcases hal with ⟨hA, rfl⟩ | ⟨hA, hl⟩
    · refine br_t (by rw [ec]; exact hA) ?_
      unfold wY_changed_259
      exact nm_r (e' := nI (v * 3 + a + 1)) (by rw [pj_m3, nI_add, nI_1]) (pj_Y313 rfl rfl hp)
    · refine br_f (by rw [ec]; exact hA) ?_
      unfold wY_changed_259
      refine nm_r (e' := nI (v * 3 + b + 1)) (by rw [pj_m3, nI_add, nI_1]) (pj_Y313 rfl ?_ hp)
      show (v * 3 + (if al = 0 then a else b) + 1) * 9 + a * 3 + b = _
      rw [if_neg hl]
  refine pk_eq o 9 (fun h => ?_) (fun h9 => ?_) rfl rfl hb (by omega)
  · subst h
    refine And.intro hin ?_
    rcases hal with ⟨hA, rfl⟩ | ⟨hA, hl⟩
    · refine br_t (by rw [ec]; exact hA) ?_
      unfold wY_changed_289
      refine And.intro hin (br_t (by rw [ec]; exact hA) ?_)
      unfold wY_changed_307
      exact pj_Y313 rfl rfl hp
    · refine br_f (by rw [ec]; exact hA) ?_
      unfold wY_changed_289
      refine And.intro hin (br_f (by rw [ec]; exact hA) ?_)
      unfold wY_changed_307
      refine pj_Y313 rfl ?_ hp
      show pj_rs v * 9 + (if 9 = 9 ∧ al = 0 then pj_tp v else a) * 3 + (if 9 = 9 ∧ ¬ al = 0 then pj_tp v else b) = _
      rw [if_neg (fun z => hl z.2), if_pos ⟨rfl, hl⟩]
  have e1 : pj_cv o al v a b = v := by
    unfold pj_cv
    rw [if_neg h0, if_neg h1, if_neg h2, if_neg h3, if_neg h4, if_neg (fun z => z.elim h5 h12), if_neg h6, if_neg h7, if_neg h8, if_neg h9]
  have e2 : pj_ca o al v a = a := if_neg (fun z => h9 z.1)
  have e3 : pj_cb o al v b = b := if_neg (fun z => h9 z.1)
  rw [e1, e2, e3] at hp
  exact pj_Y313 rfl rfl hp
theorem pj_Y74 {post : Int32 → Prop} {p o al v a b : Nat} (hv : v < 200) (hp16 : p < 16) (ho : o ≤ 13) (hal : (AR p = 0 ∧ al = 0) ∨ (¬ AR p = 0 ∧ ¬ al = 0)) (hp : post (nI (pj_cv o al v a b * 9 + pj_ca o al v a * 3 + pj_cb o al v b))) :
    wY_changed_74 post (nI p) (nI o) (nI v) (nI a) (nI b) (nI (pj_tp v)) (nI (pj_rs v)) (nI (pj_tp (pj_rs v))) yGR yPS yCT yDO yPC yTL yMD yFK yBT OP AR yRE yFR yCO yDI ySK yLO yFI := by
  unfold wY_changed_74
  have hr : pj_rs v < 200 := by unfold pj_rs; omega
  refine pk_le (pj_rs v) 0 (fun h => ?_) (fun h => ?_) rfl rfl (by omega) (by omega)
  · have e : pj_rs (pj_rs v) = 0 := by unfold pj_rs at h ⊢; omega
    have := pj_Y91 (yGR := yGR) (yPS := yPS) (yCT := yCT) (yDO := yDO) (yPC := yPC) (yTL := yTL) (yMD := yMD) (yFK := yFK) (yBT := yBT) (OP := OP) (AR := AR) (yRE := yRE) (yFR := yFR) (yCO := yCO) (yDI := yDI) (ySK := ySK) (yLO := yLO) (yFI := yFI) (b := b) hp16 ho hal hp
    rw [e] at this
    exact this
  · refine And.intro (by decide) ?_
    rw [pj_s1 (by omega), pj_d3 (by omega)]
    exact pj_Y91 (b := b) hp16 ho hal hp
theorem pj_Y57 {post : Int32 → Prop} {p o al v a b : Nat} (hv : v < 200) (hp16 : p < 16) (ho : o ≤ 13) (hal : (AR p = 0 ∧ al = 0) ∨ (¬ AR p = 0 ∧ ¬ al = 0)) (hp : post (nI (pj_cv o al v a b * 9 + pj_ca o al v a * 3 + pj_cb o al v b))) :
    wY_changed_57 post (nI p) (nI o) (nI v) (nI a) (nI b) (nI (pj_tp v)) (nI (pj_rs v)) yGR yPS yCT yDO yPC yTL yMD yFK yBT OP AR yRE yFR yCO yDI ySK yLO yFI := by
  unfold wY_changed_57
  have hr : pj_rs v < 200 := by unfold pj_rs; omega
  refine pk_le (pj_rs v) 0 (fun h => ?_) (fun h => ?_) rfl rfl (by omega) (by omega)
  · have e : pj_tp (pj_rs v) = 0 := by unfold pj_rs at h ⊢; unfold pj_tp; omega
    have := pj_Y74 (yGR := yGR) (yPS := yPS) (yCT := yCT) (yDO := yDO) (yPC := yPC) (yTL := yTL) (yMD := yMD) (yFK := yFK) (yBT := yBT) (OP := OP) (AR := AR) (yRE := yRE) (yFR := yFR) (yCO := yCO) (yDI := yDI) (ySK := ySK) (yLO := yLO) (yFI := yFI) (b := b) hv hp16 ho hal hp
    rw [e] at this
    exact this
  · refine And.intro (by decide) ?_
    rw [pj_s1 (by omega), pj_r3 (by omega)]
    exact pj_Y74 (b := b) hv hp16 ho hal hp
theorem pj_Y40 {post : Int32 → Prop} {p o al v a b : Nat} (hv : v < 200) (hp16 : p < 16) (ho : o ≤ 13) (hal : (AR p = 0 ∧ al = 0) ∨ (¬ AR p = 0 ∧ ¬ al = 0)) (hp : post (nI (pj_cv o al v a b * 9 + pj_ca o al v a * 3 + pj_cb o al v b))) :
    wY_changed_40 post (nI p) (nI o) (nI v) (nI a) (nI b) (nI (pj_tp v)) yGR yPS yCT yDO yPC yTL yMD yFK yBT OP AR yRE yFR yCO yDI ySK yLO yFI := by
  unfold wY_changed_40
  refine pk_le v 0 (fun h => ?_) (fun h => ?_) rfl rfl (by omega) (by omega)
  · have e : pj_rs v = 0 := by unfold pj_rs; omega
    have := pj_Y57 (yGR := yGR) (yPS := yPS) (yCT := yCT) (yDO := yDO) (yPC := yPC) (yTL := yTL) (yMD := yMD) (yFK := yFK) (yBT := yBT) (OP := OP) (AR := AR) (yRE := yRE) (yFR := yFR) (yCO := yCO) (yDI := yDI) (ySK := ySK) (yLO := yLO) (yFI := yFI) (b := b) hv hp16 ho hal hp
    rw [e] at this
    exact this
  · refine And.intro (by decide) ?_
    rw [pj_s1 (by omega), pj_d3 (by omega)]
    exact pj_Y57 (b := b) hv hp16 ho hal hp
theorem pj_alD (AR : Nat → Int32) (p : Nat) : (AR p = 0 ∧ pj_al AR p = 0) ∨ (¬ AR p = 0 ∧ ¬ pj_al AR p = 0) := by
  unfold pj_al
  by_cases h : AR p = 0
  · exact Or.inl ⟨h, if_pos h⟩
  · refine Or.inr ⟨h, ?_⟩
    rw [if_neg h]; omega
theorem pj_Ychanged {post : Int32 → Prop} {s p : Nat} (hs : s < 1089) (hp16 : p < 16) (ho : pj_o OP p ≤ 13) (hO : OP p = nI (pj_o OP p)) (hp : post (nI (pj_ch (pj_o OP p) (pj_al AR p) s))) : wpY_changed post (yGR, yPS, yCT, yDO, yPC, yTL, yMD, yFK, yBT, OP, AR, yRE, yFR, yCO, yDI, ySK, yLO, yFI) (nI s) (nI p) := by
  have ec : (nI p).toNatClampNeg = p := nI_clamp (by omega)
  have hhp : post (nI (pj_cv (pj_o OP p) (pj_al AR p) (s / 9) (s / 3 % 3) (s % 3) * 9 + pj_ca (pj_o OP p) (pj_al AR p) (s / 9) (s / 3 % 3) * 3 + pj_cb (pj_o OP p) (pj_al AR p) (s / 9) (s % 3))) := hp
  unfold wpY_changed
  refine And.intro (vp_in_nI hp16 (by omega)) (nm_r (e' := nI (pj_o OP p)) (by rw [ec]; exact hO) (And.intro (by decide) ?_))
  refine nm_r (e' := nI (s / 9)) (pj_d9 (by omega)) (And.intro (by decide) (And.intro (by decide) ?_))
  refine nm_r (e' := nI (s / 3 % 3)) (by rw [pj_d3 (by omega), pj_r3 (by omega)]) (And.intro (by decide) ?_)
  refine nm_r (e' := nI (s % 3)) (pj_r3 (by omega)) ?_
  have key := pj_Y40 (post := post) (yGR := yGR) (yPS := yPS) (yCT := yCT) (yDO := yDO) (yPC := yPC) (yTL := yTL) (yMD := yMD) (yFK := yFK) (yBT := yBT) (OP := OP) (AR := AR) (yRE := yRE) (yFR := yFR) (yCO := yCO) (yDI := yDI) (ySK := ySK) (yLO := yLO) (yFI := yFI) (by omega) hp16 ho (pj_alD AR p) hhp
  refine pk_le (s / 9) 0 (fun h => ?_) (fun h => ?_) rfl rfl (by omega) (by omega)
  · have e : pj_tp (s / 9) = 0 := by unfold pj_tp; omega
    rw [e] at key
    exact key
  · refine And.intro (by decide) ?_
    rw [pj_s1 (by omega), pj_r3 (by omega)]
    exact key
/-! 'reach' and 'goOn' -/
theorem pj_bit1 {q i : Nat} (hq : q < 32) : bt ((1 : Int32) <<< (nI q &&& 31)) i = decide (i = q) := by
  rcases Nat.lt_or_ge i 32 with h | h
  · rw [b_shl q hq 1 h, pj_b1]
    by_cases e : i = q
    · subst e
      rw [decide_eq_true (Nat.le_refl _), decide_eq_true (by omega), decide_eq_true rfl]; rfl
    · rw [decide_eq_false e]
      by_cases h2 : q ≤ i
      · rw [decide_eq_false (show ¬ i - q = 0 by omega), Bool.and_false]
      · rw [decide_eq_false h2, Bool.false_and]
  · rw [b_big h, decide_eq_false (by omega)]
theorem pj_Yreach {post : SY → Prop} {t : Nat} {x : Int32} (hc : c ≤ 16) (ht : t < 1089)
    (K : ∀ co : Nat → Int32, (∀ t' q', bt (co t') q' = true ↔ (bt (yCO t') q' = true ∨ (t' = t ∧ q' < c ∧ x = nI q'))) → post (yGR, yPS, nI c, yDO, yPC, yTL, yMD, yFK, yBT, OP, AR, yRE, yFR, co, yDI, ySK, yLO, yFI)) : wpY_reach post (yGR, yPS, nI c, yDO, yPC, yTL, yMD, yFK, yBT, OP, AR, yRE, yFR, yCO, yDI, ySK, yLO, yFI) (nI t) x := by
  have hout : (¬ ∃ q, q < c ∧ x = nI q) → post (yGR, yPS, nI c, yDO, yPC, yTL, yMD, yFK, yBT, OP, AR, yRE, yFR, yCO, yDI, ySK, yLO, yFI) := by
    intro hx
    refine K yCO (fun t' q' => ⟨Or.inl, ?_⟩)
    rintro (h | ⟨_, h1, h2⟩)
    · exact h
    · exact absurd ⟨q', h1, h2⟩ hx
  unfold wpY_reach
  refine br_c (fun h0 => hout ?_) (fun h0 => br_c (fun h1 => hout ?_) (fun h1 => ?_))
  · rintro ⟨q, hq, rfl⟩
    exact nI_pos (by omega) h0
  · rintro ⟨q, hq, rfl⟩
    exact nI_ge hq (by omega) h1
  · obtain ⟨q, hq31, rfl⟩ := nI_of h0
    have hq : q < c := by
      apply Classical.byContradiction
      intro z
      exact h1 (nI_le (by omega) hq31)
    refine br_f (nI_pos (by omega)) (br_f (nI_ge (b := 1089) ht (by omega)) ?_)
    have hin : vp_in (nI t) 1089 := vp_in_nI ht (by omega)
    have ec : (nI t).toNatClampNeg = t := nI_clamp (by omega)
    refine And.intro hin (And.intro hin (nm_r (e' := upd yCO t (yCO t ||| ((1 : Int32) <<< (nI q &&& 31)))) (by rw [ec]) ?_))
    refine K _ (fun t' q' => ?_)
    by_cases e : t' = t
    · subst e
      rw [pk_us, b_or, pj_bit1 (by omega), Bool.or_eq_true, decide_eq_true_eq]
      constructor
      · rintro (h | h)
        · exact Or.inl h
        · exact Or.inr ⟨rfl, by omega, by rw [h]⟩
      · rintro (h | ⟨_, h2, h3⟩)
        · exact Or.inl h
        · exact Or.inr ((nI_eq (by omega) (by omega)).mp h3).symm
    · rw [pk_un e]
      constructor
      · exact Or.inl
      · rintro (h | ⟨h, _⟩)
        · exact h
        · exact absurd h e
theorem pj_Y50 {post : SY → Prop} {t p : Nat} (hc : c ≤ 16) (ht : t < 1089) (hp16 : p < 16) (ho : pj_o OP p ≤ 13) (hO : OP p = nI (pj_o OP p))
    (K : ∀ co : Nat → Int32, (∀ t' q', bt (co t') q' = true ↔ (bt (yCO t') q' = true ∨ (t' = t ∧ q' < c ∧ ¬ pj_o OP p = 10 ∧ ¬ pj_o OP p = 13 ∧ q' = p + 1))) → post (yGR, yPS, nI c, yDO, yPC, yTL, yMD, yFK, yBT, OP, AR, yRE, yFR, co, yDI, ySK, yLO, yFI)) : wY_goOn_50 post (nI p) (nI t) yGR yPS (nI c) yDO yPC yTL yMD yFK yBT OP AR yRE yFR yCO yDI ySK yLO yFI := by
  have ec : (nI p).toNatClampNeg = p := nI_clamp (by omega)
  have hin : vp_in (nI p) 16 := vp_in_nI hp16 (by omega)
  unfold wY_goOn_50
  rw [ec, hO]
  refine And.intro hin (pk_eq (pj_o OP p) 10 (fun h => ?_) (fun h10 => ?_) rfl rfl (by omega) (by omega))
  · refine K yCO (fun t' q' => ⟨Or.inl, ?_⟩)
    rintro (z | ⟨_, _, z, _⟩)
    · exact z
    · exact absurd h z
  refine And.intro hin (pk_eq (pj_o OP p) 13 (fun h => ?_) (fun h13 => ?_) rfl rfl (by omega) (by omega))
  · refine K yCO (fun t' q' => ⟨Or.inl, ?_⟩)
    rintro (z | ⟨_, _, _, z, _⟩)
    · exact z
    · exact absurd h z
  · rw [nI_1]
    refine pj_Yreach hc ht ?_
    intro co hco
    refine K co (fun t' q' => ?_)
    rw [hco]
    constructor
    · rintro (z | ⟨z1, z2, z3⟩)
      · exact Or.inl z
      · exact Or.inr ⟨z1, z2, h10, h13, ((nI_eq (by omega) (by omega)).mp z3).symm⟩
    · rintro (z | ⟨z1, z2, _, _, z3⟩)
      · exact Or.inl z
      · exact Or.inr ⟨z1, z2, by rw [z3]⟩
theorem pj_Y39 {post : SY → Prop} {t p : Nat} (hc : c ≤ 16) (ht : t < 1089) (hp16 : p < 16) (ho : pj_o OP p ≤ 13) (hO : OP p = nI (pj_o OP p)) (h1011 : pj_o OP p = 10 ∨ pj_o OP p = 11)
    (K : ∀ co : Nat → Int32, (∀ t' q', bt (co t') q' = true ↔ (bt (yCO t') q' = true ∨ (t' = t ∧ pj_Tg c OP AR p q'))) → post (yGR, yPS, nI c, yDO, yPC, yTL, yMD, yFK, yBT, OP, AR, yRE, yFR, co, yDI, ySK, yLO, yFI)) : wY_goOn_39 post (nI p) (nI t) yGR yPS (nI c) yDO yPC yTL yMD yFK yBT OP AR yRE yFR yCO yDI ySK yLO yFI := by
  have ec : (nI p).toNatClampNeg = p := nI_clamp (by omega)
  unfold wY_goOn_39
  refine And.intro (vp_in_nI hp16 (by omega)) ?_
  rw [ec]
  refine pj_Yreach hc ht ?_
  intro co1 h1
  refine pj_Y50 hc ht hp16 ho hO ?_
  intro co2 h2
  refine K co2 (fun t' q' => ?_)
  rw [h2, h1]
  unfold pj_Tg
  constructor
  · rintro ((z | ⟨z1, z2, z3⟩) | ⟨z1, z2, z3⟩)
    · exact Or.inl z
    · exact Or.inr ⟨z1, z2, Or.inr ⟨h1011, z3⟩⟩
    · exact Or.inr ⟨z1, z2, Or.inl z3⟩
  · rintro (z | ⟨z1, z2, z3 | z3⟩)
    · exact Or.inl (Or.inl z)
    · exact Or.inr ⟨z1, z2, z3⟩
    · exact Or.inl (Or.inr ⟨z1, z2, z3.2⟩)
theorem pj_YgoOn {post : SY → Prop} {s p : Nat} (W : pj_wf c G OP AR) (hs : s < 1089) (hpc : p < c)
    (K : ∀ co : Nat → Int32, (∀ t' q', bt (co t') q' = true ↔ (bt (yCO t') q' = true ∨ pj_E c G OP AR s p t' q')) → post (nI G, yPS, nI c, yDO, yPC, yTL, yMD, yFK, yBT, OP, AR, yRE, yFR, co, yDI, ySK, yLO, yFI)) : wpY_goOn post (nI G, yPS, nI c, yDO, yPC, yTL, yMD, yFK, yBT, OP, AR, yRE, yFR, yCO, yDI, ySK, yLO, yFI) (nI s) (nI p) := by
  have hc := W.1
  obtain ⟨ho, hO, _⟩ := W.2.2.2 p hpc
  have hp16 : p < 16 := by omega
  have ec : (nI p).toNatClampNeg = p := nI_clamp (by omega)
  have hin : vp_in (nI p) 16 := vp_in_nI hp16 (by omega)
  unfold wpY_goOn
  refine pj_Ystuck hs hp16 W.2.2.1 ho hO ?_
  by_cases hr : pj_rf G (pj_o OP p) (pj_ht s) = 0
  · have ht := (pj_law W.2.2.1 hs ho (pj_al_lt AR p) hr).1
    refine br_t (by rw [hr]; rfl) ?_
    refine pj_Ychanged hs hp16 ho hO ?_
    refine And.intro hin ?_
    rw [ec, hO]
    refine pk_eq (pj_o OP p) 10 (fun h => ?_) (fun h10 => ?_) rfl rfl (by omega) (by omega)
    · refine pj_Y39 hc ht hp16 ho hO (Or.inl h) ?_
      intro co h'
      refine K co (fun t' q' => ?_)
      rw [h']
      exact or_congr Iff.rfl ⟨fun z => ⟨hr, z.1, z.2⟩, fun z => z.2⟩
    refine And.intro hin ?_
    refine pk_eq (pj_o OP p) 11 (fun h => ?_) (fun h11 => ?_) rfl rfl (by omega) (by omega)
    · refine pj_Y39 hc ht hp16 ho hO (Or.inr h) ?_
      intro co h'
      refine K co (fun t' q' => ?_)
      rw [h']
      exact or_congr Iff.rfl ⟨fun z => ⟨hr, z.1, z.2⟩, fun z => z.2⟩
    · refine pj_Y50 hc ht hp16 ho hO ?_
      intro co h'
      refine K co (fun t' q' => ?_)
      rw [h']
      refine or_congr Iff.rfl ⟨fun z => ⟨hr, z.1, z.2.1, Or.inl z.2.2⟩, fun z => ?_⟩
      obtain ⟨_, z1, z2, z3 | z3⟩ := z
      · exact ⟨z1, z2, z3⟩
      · exact absurd z3.1 (fun e => e.elim h10 h11)
  · have hlt := pj_rf_lt (G := G) (o := pj_o OP p) (h := pj_ht s)
    refine br_f (fun z => hr ((nI_eq (by omega) (by omega)).mp (z.trans nI_0.symm))) ?_
    refine K yCO (fun t' q' => ⟨Or.inl, ?_⟩)
    rintro (z | z)
    · exact z
    · exact absurd z.1 hr
end
end
section
section
variable {yGR yPS yCT yDO yPC yTL yMD yFK yBT : Int32} {OP AR yRE yFR yCO yDI ySK yLO yFI : Nat → Int32}
variable {c G : Nat}
theorem pj_tst {x : Int32} {j : Nat} (hj : j < 32) : ((x >>> (nI j &&& 31)) &&& 1) = 1 ↔ bt x j = true := by
  have hb : ∀ i, i < 32 → bt ((x >>> (nI j &&& 31)) &&& 1) i = (decide (i = 0) && bt x j) := by
    intro i hi
    rw [b_and, b_sshr j hj x hi, pj_b1]
    by_cases h : i = 0
    · subst h
      rw [if_pos (by omega), decide_eq_true rfl, Bool.and_true, Bool.true_and, Nat.add_zero]
    · rw [decide_eq_false h, Bool.and_false, Bool.false_and]
  constructor
  · intro h
    have := hb 0 (by omega)
    rw [h, pj_b1, decide_eq_true rfl, Bool.true_and] at this
    exact this.symm
  · intro h
    apply b_ext
    intro i hi
    rw [hb i hi, h, Bool.and_true, pj_b1]
/-- first marks: num where S and nothing stood before -/
def pj_DU (c : Nat) (num : Int32) (d0 d : Nat → Int32) (S : Nat → Prop) : Prop := ∀ p, p < c → ((S p ∧ d0 p < 0) → d p = num) ∧ (¬ (S p ∧ d0 p < 0) → d p = d0 p)
theorem pj_DUc {num : Int32} (hn : ¬ num < 0) {d0 d1 d2 : Nat → Int32} {S1 S2 S : Nat → Prop} (h1 : pj_DU c num d0 d1 S1) (h2 : pj_DU c num d1 d2 S2) (hS : ∀ p, p < c → (S p ↔ (S1 p ∨ S2 p))) : pj_DU c num d0 d2 S := by
  intro p hp
  obtain ⟨a1, a2⟩ := h1 p hp
  obtain ⟨b1, b2⟩ := h2 p hp
  by_cases c1 : S1 p ∧ d0 p < 0
  · have e1 := a1 c1
    have e2 : d2 p = num := by
      rw [b2 (fun z => hn (by rw [← e1]; exact z.2)), e1]
    exact ⟨fun _ => e2, fun z => absurd ⟨(hS p hp).mpr (Or.inl c1.1), c1.2⟩ z⟩
  · have e1 := a2 c1
    rw [e1] at b1 b2
    by_cases c2 : S2 p ∧ d0 p < 0
    · exact ⟨fun _ => b1 c2, fun z => absurd ⟨(hS p hp).mpr (Or.inr c2.1), c2.2⟩ z⟩
    · refine ⟨fun z => ?_, fun _ => b2 c2⟩
      rcases (hS p hp).mp z.1 with w | w
      · exact absurd ⟨w, z.2⟩ c1
      · exact absurd ⟨w, z.2⟩ c2
theorem pj_DU0 {num : Int32} {d : Nat → Int32} {S : Nat → Prop} (hS : ∀ p, p < c → ¬ S p) : pj_DU c num d d S :=
  fun p hp => ⟨fun z => absurd z.1 (hS p hp), fun _ => rfl⟩
theorem pj_DU1 {num : Int32} {d : Nat → Int32} {j : Nat} (h : d j < 0) : pj_DU c num d (upd d j num) (fun p => p = j) := by
  intro p _
  by_cases e : p = j
  · subst e
    exact ⟨fun _ => pk_us, fun z => absurd ⟨rfl, h⟩ z⟩
  · exact ⟨fun z => absurd z.1 e, fun _ => pk_un e⟩
theorem pj_DU1' {num : Int32} {d : Nat → Int32} {j : Nat} (h : ¬ d j < 0) : pj_DU c num d d (fun p => p = j) := by
  intro p _
  refine ⟨fun z => ?_, fun _ => rfl⟩
  obtain ⟨rfl, z2⟩ := z
  exact absurd z2 h
theorem pj_le0 {x : Int32} : 0 ≤ x ↔ ¬ x < 0 := Int32.not_lt.symm
theorem pj_Ysp2 {post : SY → Prop} {s : Nat} {num : Int32} (W : pj_wf c G OP AR) (hs : s < 1089) (hn : ¬ num < 0)
    (K : ∀ co di : Nat → Int32, (∀ t q, bt (co t) q = true ↔ (bt (yCO t) q = true ∨ ∃ p, p < c ∧ bt (yFR s) p = true ∧ pj_E c G OP AR s p t q)) → pj_DU c num yDI di (fun p => bt (yFR s) p = true) → post (nI G, yPS, nI c, yDO, yPC, yTL, yMD, yFK, yBT, OP, AR, yRE, yFR, co, di, ySK, yLO, yFI)) :
    ∀ (n j : Nat) (co di : Nat → Int32), (∀ t q, bt (co t) q = true ↔ (bt (yCO t) q = true ∨ ∃ p, p < j ∧ bt (yFR s) p = true ∧ pj_E c G OP AR s p t q)) → pj_DU c num yDI di (fun p => p < j ∧ bt (yFR s) p = true) → j ≤ c → c + 1 ≤ n + j →
      wY_spread_2 post (nI s) num n (nI j) (nI G) yPS (nI c) yDO yPC yTL yMD yFK yBT OP AR yRE yFR co di ySK yLO yFI := by
  have hc := W.1
  intro n
  induction n with
  | zero => intro j co di _ _ h1 h2; omega
  | succ n ih =>
    intro j co di hco hdi h1 h2
    by_cases hj : j = c
    · subst hj
      refine br_t (nI_le (Nat.le_refl j) (by omega)) (K co di hco (fun p hp => ?_))
      obtain ⟨a, b⟩ := hdi p hp
      exact ⟨fun z => a ⟨⟨hp, z.1⟩, z.2⟩, fun z => b (fun w => z ⟨w.1.2, w.2⟩)⟩
    · have hjc : j < c := by omega
      have ec : (nI j).toNatClampNeg = j := nI_clamp (by omega)
      have ecs : (nI s).toNatClampNeg = s := nI_clamp (by omega)
      have hin : vp_in (nI j) 16 := vp_in_nI (by omega) (by omega)
      refine br_f (nI_ge hjc (by omega)) (And.intro (vp_in_nI hs (by omega)) ?_)
      by_cases hb : bt (yFR s) j = true
      · have stepco : ∀ co' : Nat → Int32, (∀ t' q', bt (co' t') q' = true ↔ (bt (co t') q' = true ∨ pj_E c G OP AR s j t' q')) → ∀ t q, bt (co' t) q = true ↔ (bt (yCO t) q = true ∨ ∃ p, p < j + 1 ∧ bt (yFR s) p = true ∧ pj_E c G OP AR s p t q) := by
          intro co' h' t q
          rw [h', hco]
          constructor
          · rintro ((z | ⟨p, z1, z2⟩) | z)
            · exact Or.inl z
            · exact Or.inr ⟨p, by omega, z2⟩
            · exact Or.inr ⟨j, by omega, hb, z⟩
          · rintro (z | ⟨p, z1, z2, z3⟩)
            · exact Or.inl (Or.inl z)
            · by_cases e : p = j
              · subst e; exact Or.inr z3
              · exact Or.inl (Or.inr ⟨p, by omega, z2, z3⟩)
        have hS : ∀ p, p < c → ((p < j + 1 ∧ bt (yFR s) p = true) ↔ ((p < j ∧ bt (yFR s) p = true) ∨ p = j)) := by
          intro p _
          constructor
          · rintro ⟨z1, z2⟩
            by_cases e : p = j
            · exact Or.inr e
            · exact Or.inl ⟨by omega, z2⟩
          · rintro (⟨z1, z2⟩ | z)
            · exact ⟨by omega, z2⟩
            · subst z; exact ⟨by omega, hb⟩
        refine br_t (by rw [ecs]; exact (pj_tst (by omega)).mpr hb) (And.intro hin ?_)
        refine br_c (fun h0 => ?_) (fun h0 => ?_)
        · rw [ec] at h0
          unfold wY_spread_40
          refine pj_YgoOn W hs hjc ?_
          intro co' h'
          refine nm_r (e' := nI (j + 1)) (nI_1 j) ?_
          exact ih (j + 1) co' di (stepco co' h') (pj_DUc hn hdi (pj_DU1' (pj_le0.mp h0)) hS) (by omega) (by omega)
        · rw [ec] at h0
          refine And.intro hin (nm_r (e' := upd di j num) (by rw [ec]) ?_)
          unfold wY_spread_40
          refine pj_YgoOn W hs hjc ?_
          intro co' h'
          refine nm_r (e' := nI (j + 1)) (nI_1 j) ?_
          refine ih (j + 1) co' _ (stepco co' h') (pj_DUc hn hdi (pj_DU1 ?_) hS) (by omega) (by omega)
          exact Classical.byContradiction (fun z => h0 (pj_le0.mpr z))
      · refine br_f (by rw [ecs]; exact fun z => hb ((pj_tst (by omega)).mp z)) (nm_r (e' := nI (j + 1)) (nI_1 j) ?_)
        refine ih (j + 1) co di (fun t q => ?_) (fun p hp => ?_) (by omega) (by omega)
        · rw [hco]
          constructor
          · rintro (z | ⟨p, z1, z2⟩)
            · exact Or.inl z
            · exact Or.inr ⟨p, by omega, z2⟩
          · rintro (z | ⟨p, z1, z2, z3⟩)
            · exact Or.inl z
            · by_cases e : p = j
              · subst e; exact absurd z2 hb
              · exact Or.inr ⟨p, by omega, z2, z3⟩
        · obtain ⟨a, b⟩ := hdi p hp
          have hiff : (p < j + 1 ∧ bt (yFR s) p = true) ↔ (p < j ∧ bt (yFR s) p = true) := by
            constructor
            · rintro ⟨z1, z2⟩
              by_cases e : p = j
              · subst e; exact absurd z2 hb
              · exact ⟨by omega, z2⟩
            · rintro ⟨z1, z2⟩
              exact ⟨by omega, z2⟩
          exact ⟨fun z => a ⟨hiff.mp z.1, z.2⟩, fun z => b (fun w => z ⟨hiff.mpr w.1, w.2⟩)⟩
theorem pj_nobit {x : Int32} (h : x = 0) (i : Nat) : ¬ bt x i = true := by
  rw [h, b_0]; exact fun z => Bool.noConfusion z
theorem pj_Y85 {post : Int32 → SY → Prop} {num any : Int32} (W : pj_wf c G OP AR) (hn : ¬ num < 0) (hany : narrow .boolean (.int any) = .int any)
    (K : ∀ co di : Nat → Int32, (∀ t q, bt (co t) q = true ↔ (bt (yCO t) q = true ∨ ∃ s, s < 1089 ∧ ∃ p, p < c ∧ bt (yFR s) p = true ∧ pj_E c G OP AR s p t q)) → pj_DU c num yDI di (fun p => ∃ s, s < 1089 ∧ bt (yFR s) p = true) → post any (nI G, yPS, nI c, yDO, yPC, yTL, yMD, yFK, yBT, OP, AR, yRE, yFR, co, di, ySK, yLO, yFI)) :
    ∀ (n j : Nat) (co di : Nat → Int32), (∀ t q, bt (co t) q = true ↔ (bt (yCO t) q = true ∨ ∃ s, s < j ∧ ∃ p, p < c ∧ bt (yFR s) p = true ∧ pj_E c G OP AR s p t q)) → pj_DU c num yDI di (fun p => ∃ s, s < j ∧ bt (yFR s) p = true) → j ≤ 1089 → 1090 ≤ n + j →
      wY_round_85 post num any n (nI j) (nI G) yPS (nI c) yDO yPC yTL yMD yFK yBT OP AR yRE yFR co di ySK yLO yFI := by
  intro n
  induction n with
  | zero => intro j co di _ _ h1 h2; omega
  | succ n ih =>
    intro j co di hco hdi h1 h2
    by_cases hj : j = 1089
    · subst hj
      exact br_t (nI_le (a := 1089) (b := 1089) (by omega) (by omega)) (And.intro hany (K co di hco hdi))
    · have ec : (nI j).toNatClampNeg = j := nI_clamp (by omega)
      refine br_f (nI_ge (b := 1089) (by omega) (by omega)) (And.intro (vp_in_nI (by omega) (by omega)) ?_)
      by_cases h0 : yFR j = 0
      · refine br_t (by rw [ec]; exact h0) (nm_r (e' := nI (j + 1)) (nI_1 j) ?_)
        refine ih (j + 1) co di (fun t q => ?_) (fun p hp => ?_) (by omega) (by omega)
        · rw [hco]
          constructor
          · rintro (z | ⟨s, z1, z2⟩)
            · exact Or.inl z
            · exact Or.inr ⟨s, by omega, z2⟩
          · rintro (z | ⟨s, z1, p, z2, z3, z4⟩)
            · exact Or.inl z
            · by_cases e : s = j
              · subst e; exact absurd z3 (pj_nobit h0 p)
              · exact Or.inr ⟨s, by omega, p, z2, z3, z4⟩
        · obtain ⟨a, b⟩ := hdi p hp
          have hiff : (∃ s, s < j + 1 ∧ bt (yFR s) p = true) ↔ (∃ s, s < j ∧ bt (yFR s) p = true) := by
            constructor
            · rintro ⟨s, z1, z2⟩
              by_cases e : s = j
              · subst e; exact absurd z2 (pj_nobit h0 p)
              · exact ⟨s, by omega, z2⟩
            · rintro ⟨s, z1, z2⟩
              exact ⟨s, by omega, z2⟩
          exact ⟨fun z => a ⟨hiff.mp z.1, z.2⟩, fun z => b (fun w => z ⟨hiff.mpr w.1, w.2⟩)⟩
      · refine br_f (by rw [ec]; exact h0) ?_
        unfold wpY_spread
        refine ⟨c + 1, pj_Ysp2 (yCO := co) (yDI := di) W (by omega) hn ?_ (c + 1) 0 co di ?_ (pj_DU0 (fun p _ z => absurd z.1 (Nat.not_lt_zero p))) (Nat.zero_le _) (Nat.le_refl _)⟩
        · intro co' di' h' hd'
          refine nm_r (e' := nI (j + 1)) (nI_1 j) ?_
          refine ih (j + 1) co' di' (fun t q => ?_) (pj_DUc hn hdi hd' (fun p _ => ?_)) (by omega) (by omega)
          · rw [h', hco]
            constructor
            · rintro ((z | ⟨s, z1, z2⟩) | z)
              · exact Or.inl z
              · exact Or.inr ⟨s, by omega, z2⟩
              · exact Or.inr ⟨j, by omega, z⟩
            · rintro (z | ⟨s, z1, z2⟩)
              · exact Or.inl (Or.inl z)
              · by_cases e : s = j
                · subst e; exact Or.inr z2
                · exact Or.inl (Or.inr ⟨s, by omega, z2⟩)
          · constructor
            · rintro ⟨s, z1, z2⟩
              by_cases e : s = j
              · subst e; exact Or.inr z2
              · exact Or.inl ⟨s, by omega, z2⟩
            · rintro (⟨s, z1, z2⟩ | z)
              · exact ⟨s, by omega, z2⟩
              · exact ⟨j, by omega, z⟩
        · intro t q
          constructor
          · exact Or.inl
          · rintro (z | ⟨p, z, _⟩)
            · exact z
            · exact absurd z (Nat.not_lt_zero p)
theorem pj_Y4 {post : Int32 → SY → Prop} {num : Int32}
    (K : ∀ (any : Int32) (fr co re : Nat → Int32), (∀ s, s < 1089 → fr s = yCO s &&& (yRE s ^^^ (-1)) ∧ co s = 0 ∧ re s = yRE s ||| fr s) → ((any = 0 ∧ ∀ s, s < 1089 → fr s = 0) ∨ (any = 1 ∧ ∃ s, s < 1089 ∧ ¬ fr s = 0)) → ∃ n85, wY_round_85 post num any n85 0 yGR yPS yCT yDO yPC yTL yMD yFK yBT OP AR re fr co yDI ySK yLO yFI) :
    ∀ (n j : Nat) (any : Int32) (fr co re : Nat → Int32), (∀ s, s < j → fr s = yCO s &&& (yRE s ^^^ (-1)) ∧ co s = 0 ∧ re s = yRE s ||| fr s) → (∀ s, j ≤ s → co s = yCO s ∧ re s = yRE s) → ((any = 0 ∧ ∀ s, s < j → fr s = 0) ∨ (any = 1 ∧ ∃ s, s < j ∧ ¬ fr s = 0)) → j ≤ 1089 → 1090 ≤ n + j →
      wY_round_4 post num yGR yPS yCT yDO yPC yTL yMD yFK yBT n any (nI j) OP AR re fr co yDI ySK yLO yFI := by
  intro n
  induction n with
  | zero => intro j any fr co re _ _ _ h1 h2; omega
  | succ n ih =>
    intro j any fr co re hI hU hA h1 h2
    by_cases hj : j = 1089
    · subst hj
      exact br_t (nI_le (a := 1089) (b := 1089) (by omega) (by omega)) (K any fr co re hI hA)
    · have ec : (nI j).toNatClampNeg = j := nI_clamp (by omega)
      have hv : vp_in (nI j) 1089 := vp_in_nI (by omega) (by omega)
      obtain ⟨u1, u2⟩ := hU j (Nat.le_refl j)
      refine br_f (nI_ge (b := 1089) (by omega) (by omega)) (And.intro hv (And.intro hv (And.intro hv ?_)))
      refine nm_r (e' := upd fr j (yCO j &&& (yRE j ^^^ (-1)))) (by rw [ec, u1, u2]) (And.intro hv ?_)
      refine nm_r (e' := upd co j 0) (by rw [ec]) (And.intro hv (And.intro hv (And.intro hv ?_)))
      refine nm_r (e' := upd re j (yRE j ||| (yCO j &&& (yRE j ^^^ (-1))))) (by rw [ec, u2, pk_us]) ?_
      have hI' : ∀ s, s < j + 1 → upd fr j (yCO j &&& (yRE j ^^^ (-1))) s = yCO s &&& (yRE s ^^^ (-1)) ∧ upd co j 0 s = 0 ∧ upd re j (yRE j ||| (yCO j &&& (yRE j ^^^ (-1)))) s = yRE s ||| upd fr j (yCO j &&& (yRE j ^^^ (-1))) s := by
        intro s hs
        by_cases e : s = j
        · subst e
          rw [pk_us, pk_us, pk_us]
          exact ⟨rfl, rfl, rfl⟩
        · rw [pk_un e, pk_un e, pk_un e]
          exact hI s (by omega)
      have hU' : ∀ s, j + 1 ≤ s → upd co j 0 s = yCO s ∧ upd re j (yRE j ||| (yCO j &&& (yRE j ^^^ (-1)))) s = yRE s := by
        intro s hs
        rw [pk_un (by omega), pk_un (by omega)]
        exact hU s (by omega)
      rcases hA with ⟨rfl, hA⟩ | ⟨rfl, s0, hs0, hA⟩
      · refine br_t rfl (And.intro hv ?_)
        by_cases h0 : (yCO j &&& (yRE j ^^^ (-1))) = 0
        · refine br_t (by rw [ec, pk_us]; exact h0) (nm_r (e' := nI (j + 1)) (nI_1 j) ?_)
          refine ih (j + 1) 0 _ _ _ hI' hU' (Or.inl ⟨rfl, fun s hs => ?_⟩) (by omega) (by omega)
          by_cases e : s = j
          · subst e; rw [pk_us]; exact h0
          · rw [pk_un e]; exact hA s (by omega)
        · refine br_f (by rw [ec, pk_us]; exact h0) (nm_r (e' := nI (j + 1)) (nI_1 j) ?_)
          exact ih (j + 1) 1 _ _ _ hI' hU' (Or.inr ⟨rfl, j, by omega, by rw [pk_us]; exact h0⟩) (by omega) (by omega)
      · refine br_f (by decide) (nm_r (e' := nI (j + 1)) (nI_1 j) ?_)
        exact ih (j + 1) 1 _ _ _ hI' hU' (Or.inr ⟨rfl, s0, by omega, by rw [pk_un (by omega)]; exact hA⟩) (by omega) (by omega)
/-! a round -/
def pj_YI (c G : Nat) (OP AR : Nat → Int32) (k : Nat) (re co di : Nat → Int32) : Prop :=
  (∀ s, s < 1089 → ∀ p, (bt (re s) p = true ↔ ∃ d, d < k ∧ pj_R c G OP AR d s p)) ∧
  (∀ s, s < 1089 → ∀ p, bt (co s) p = true → pj_R c G OP AR k s p) ∧
  (∀ s p, pj_R c G OP AR k s p → bt (co s) p = true ∨ bt (re s) p = true) ∧
  (∀ p, p < c → (di p = -1 ∧ ∀ d s, d < k → ¬ pj_R c G OP AR d s p) ∨ ∃ d, d < k ∧ di p = nI d ∧ (∃ s, pj_R c G OP AR d s p) ∧ ∀ d' s, pj_R c G OP AR d' s p → d ≤ d')
def pj_rb (re : Nat → Int32) : Nat := pj_cn (fun i => bt (re (i / 16)) (i % 16)) 17424
theorem pj_frb (W : pj_wf c G OP AR) {k : Nat} {re co di fr : Nat → Int32} (I : pj_YI c G OP AR k re co di) (hf : ∀ s, s < 1089 → fr s = co s &&& (re s ^^^ (-1))) :
    ∀ s, s < 1089 → ∀ p, (bt (fr s) p = true ↔ (pj_R c G OP AR k s p ∧ ¬ ∃ d, d < k ∧ pj_R c G OP AR d s p)) := by
  intro s hs p
  obtain ⟨i1, i2, i3, _⟩ := I
  rw [← i1 s hs p]
  rcases Nat.lt_or_ge p 32 with h | h
  · rw [hf s hs, b_and, b_xor, b_m1 p h, Bool.and_eq_true]
    constructor
    · rintro ⟨a, b⟩
      refine ⟨i2 s hs p a, fun z => ?_⟩
      rw [z] at b
      exact Bool.noConfusion b
    · rintro ⟨a, b⟩
      rcases i3 s p a with z | z
      · refine ⟨z, ?_⟩
        cases hr : bt (re s) p
        · rfl
        · exact absurd hr b
      · exact absurd z b
  · rw [b_big h]
    constructor
    · intro z; exact Bool.noConfusion z
    · rintro ⟨a, _⟩
      have := (pj_Rlt W _ _ _ a).1
      have := W.1
      omega
theorem pj_YIs (W : pj_wf c G OP AR) {k : Nat} {re co di fr re' co' di' : Nat → Int32} (hk : k < 2 ^ 31) (I : pj_YI c G OP AR k re co di) (hf : ∀ s, s < 1089 → fr s = co s &&& (re s ^^^ (-1)))
    (hre : ∀ s, s < 1089 → re' s = re s ||| fr s)
    (hco : ∀ t, t < 1089 → ∀ q, (bt (co' t) q = true ↔ ∃ s, s < 1089 ∧ ∃ p, p < c ∧ bt (fr s) p = true ∧ pj_E c G OP AR s p t q))
    (hdi : pj_DU c (nI k) di di' (fun p => ∃ s, s < 1089 ∧ bt (fr s) p = true)) : pj_YI c G OP AR (k + 1) re' co' di' := by
  have F := pj_frb W I hf
  obtain ⟨i1, i2, i3, i4⟩ := I
  have hre' : ∀ s, s < 1089 → ∀ p, (bt (re' s) p = true ↔ ∃ d, d < k + 1 ∧ pj_R c G OP AR d s p) := by
    intro s hs p
    rw [hre s hs, b_or, Bool.or_eq_true, i1 s hs p, F s hs p]
    constructor
    · rintro (⟨d, z1, z2⟩ | ⟨z, _⟩)
      · exact ⟨d, by omega, z2⟩
      · exact ⟨k, by omega, z⟩
    · rintro ⟨d, z1, z2⟩
      by_cases e : d = k
      · subst e
        by_cases w : ∃ d', d' < d ∧ pj_R c G OP AR d' s p
        · exact Or.inl w
        · exact Or.inr ⟨z2, w⟩
      · exact Or.inl ⟨d, by omega, z2⟩
  refine ⟨hre', fun t ht q hq => ?_, fun t q hR => ?_, fun p hp => ?_⟩
  · obtain ⟨s, hs, p, hp, hb, hE⟩ := (hco t ht q).mp hq
    exact ⟨s, p, ((F s hs p).mp hb).1, hE⟩
  · have ht := (pj_Rlt W _ _ _ hR).2
    obtain ⟨s, p, hRs, hE⟩ := id hR
    obtain ⟨hpc, hs⟩ := pj_Rlt W _ _ _ hRs
    by_cases w : ∃ d', d' < k ∧ pj_R c G OP AR d' s p
    · obtain ⟨d', w1, w2⟩ := w
      exact Or.inr ((hre' t ht q).mpr ⟨d' + 1, by omega, s, p, w2, hE⟩)
    · exact Or.inl ((hco t ht q).mpr ⟨s, hs, p, hpc, (F s hs p).mpr ⟨hRs, w⟩, hE⟩)
  · obtain ⟨d1, d2⟩ := hdi p hp
    rcases i4 p hp with ⟨e, hno⟩ | ⟨d, hd, e, hR, hmin⟩
    · have hneg : di p < 0 := by rw [e]; decide
      by_cases w : ∃ s, s < 1089 ∧ bt (fr s) p = true
      · obtain ⟨s, hs, hb⟩ := id w
        refine Or.inr ⟨k, by omega, d1 ⟨w, hneg⟩, ⟨s, ((F s hs p).mp hb).1⟩, fun d' s' hR' => ?_⟩
        apply Classical.byContradiction
        intro z
        exact hno d' s' (by omega) hR'
      · refine Or.inl ⟨(d2 (fun z => w z.1)).trans e, fun d s hd hR => ?_⟩
        by_cases e' : d = k
        · subst e'
          have hs := (pj_Rlt W _ _ _ hR).2
          exact w ⟨s, hs, (F s hs p).mpr ⟨hR, fun ⟨d', z1, z2⟩ => hno d' s z1 z2⟩⟩
        · exact hno d s (by omega) hR
    · have hnn : ¬ di p < 0 := by rw [e]; exact nI_pos (by omega)
      exact Or.inr ⟨d, by omega, (d2 (fun z => hnn z.2)).trans e, hR, hmin⟩
theorem pj_bitof {x : Int32} (h : ¬ x = 0) : ∃ i, i < 32 ∧ bt x i = true := by
  apply Classical.byContradiction
  intro hn
  apply h
  apply b_ext
  intro i hi
  rw [b_0]
  cases hb : bt x i
  · rfl
  · exact absurd ⟨i, hi, hb⟩ hn
theorem pj_Yround {post : Int32 → SY → Prop} {k : Nat} (W : pj_wf c G OP AR) (I : pj_YI c G OP AR k yRE yCO yDI) (hk : k < 2 ^ 31)
    (K : ∀ (any : Int32) (re fr co di : Nat → Int32), pj_YI c G OP AR (k + 1) re co di → ((any = 0 ∧ ∀ s p, ¬ (pj_R c G OP AR k s p ∧ ¬ ∃ d, d < k ∧ pj_R c G OP AR d s p)) ∨ (any = 1 ∧ pj_rb yRE + 1 ≤ pj_rb re)) → post any (nI G, yPS, nI c, yDO, yPC, yTL, yMD, yFK, yBT, OP, AR, re, fr, co, di, ySK, yLO, yFI)) :
    wpY_round post (nI G, yPS, nI c, yDO, yPC, yTL, yMD, yFK, yBT, OP, AR, yRE, yFR, yCO, yDI, ySK, yLO, yFI) (nI k) := by
  have hc := W.1
  unfold wpY_round
  refine ⟨1090, pj_Y4 (fun any fr co re hI hA => ?_) 1090 0 0 yFR yCO yRE (fun s hs => absurd hs (Nat.not_lt_zero s)) (fun s _ => ⟨rfl, rfl⟩) (Or.inl ⟨rfl, fun s hs => absurd hs (Nat.not_lt_zero s)⟩) (by omega) (by omega)⟩
  have hany : narrow .boolean (.int any) = .int any := by
    rcases hA with ⟨rfl, _⟩ | ⟨rfl, _⟩
    · rfl
    · rfl
  have hf : ∀ s, s < 1089 → fr s = yCO s &&& (yRE s ^^^ (-1)) := fun s hs => (hI s hs).1
  have hre : ∀ s, s < 1089 → re s = yRE s ||| fr s := fun s hs => (hI s hs).2.2
  have F := pj_frb W I hf
  refine ⟨1090, pj_Y85 (yCO := co) (yDI := yDI) W (nI_pos hk) hany ?_ 1090 0 co yDI ?_ (pj_DU0 (fun p _ z => ?_)) (by omega) (by omega)⟩
  · intro co' di' hco' hdi'
    refine K any re fr co' di' (pj_YIs W hk I hf hre (fun t ht q => ?_) hdi') ?_
    · rw [hco', (hI t ht).2.1, b_0]
      constructor
      · rintro (z | z)
        · exact Bool.noConfusion z
        · exact z
      · exact Or.inr
    · rcases hA with ⟨h0, hA⟩ | ⟨h1, s, hs, hA⟩
      · refine Or.inl ⟨h0, fun s p hR => ?_⟩
        have hs := (pj_Rlt W _ _ _ hR.1).2
        exact pj_nobit (hA s hs) p ((F s hs p).mpr hR)
      · refine Or.inr ⟨h1, ?_⟩
        obtain ⟨p, hp, hb⟩ := pj_bitof hA
        have hR := (F s hs p).mp hb
        have hpc := (pj_Rlt W _ _ _ hR.1).1
        have e1 : (s * 16 + p) / 16 = s := by omega
        have e2 : (s * 16 + p) % 16 = p := by omega
        refine pj_cn_lt (j := s * 16 + p) (fun i hi hb' => ?_) (by omega) ?_ ?_
        · rw [hre _ (by omega), b_or, hb', Bool.true_or]
        · show bt (yRE ((s * 16 + p) / 16)) ((s * 16 + p) % 16) = false
          rw [e1, e2]
          cases hz : bt (yRE s) p
          · rfl
          · exact absurd ((I.1 s hs p).mp hz) hR.2
        · show bt (re ((s * 16 + p) / 16)) ((s * 16 + p) % 16) = true
          rw [e1, e2, hre s hs, b_or, hb, Bool.or_true]
  · intro t q
    constructor
    · exact Or.inl
    · rintro (z | ⟨s, z, _⟩)
      · exact z
      · exact absurd z (Nat.not_lt_zero s)
  · obtain ⟨s, z, _⟩ := z
    exact absurd z (Nat.not_lt_zero s)
def pj_YO (c G : Nat) (OP AR re di : Nat → Int32) : Prop := (∀ s, s < 1089 → ∀ p, (bt (re s) p = true ↔ ∃ d, pj_R c G OP AR d s p)) ∧
  (∀ p, p < c → (di p = -1 ∧ ∀ d s, ¬ pj_R c G OP AR d s p) ∨ ∃ d, d < 20000 ∧ di p = nI d ∧ (∃ s, pj_R c G OP AR d s p) ∧ ∀ d' s, pj_R c G OP AR d' s p → d ≤ d')
theorem pj_YIend {k : Nat} {re co di : Nat → Int32} (hk : k < 19000) (I : pj_YI c G OP AR (k + 1) re co di) (h : ∀ s p, ¬ (pj_R c G OP AR k s p ∧ ¬ ∃ d, d < k ∧ pj_R c G OP AR d s p)) : pj_YO c G OP AR re di := by
  have hk' : ∀ s p, pj_R c G OP AR k s p → ∃ d, d < k ∧ pj_R c G OP AR d s p := fun s p hR => Classical.byContradiction (fun z => h s p ⟨hR, z⟩)
  have hall : ∀ d s p, pj_R c G OP AR d s p → ∃ d', d' < k + 1 ∧ pj_R c G OP AR d' s p := by
    intro d
    induction d with
    | zero => intro s p hR; exact ⟨0, by omega, hR⟩
    | succ d ih =>
      intro t q hR
      obtain ⟨s, p, hR, hE⟩ := hR
      obtain ⟨d', h1, h2⟩ := ih s p hR
      by_cases e : d' = k
      · subst e
        obtain ⟨d2, h3, h4⟩ := hk' s p h2
        exact ⟨d2 + 1, by omega, s, p, h4, hE⟩
      · exact ⟨d' + 1, by omega, s, p, h2, hE⟩
  obtain ⟨i1, _, _, i4⟩ := I
  refine ⟨fun s hs p => ?_, fun p hp => ?_⟩
  · rw [i1 s hs p]
    exact ⟨fun ⟨d, _, z⟩ => ⟨d, z⟩, fun ⟨d, z⟩ => hall d s p z⟩
  · rcases i4 p hp with ⟨e, hno⟩ | ⟨d, hd, e, hR⟩
    · refine Or.inl ⟨e, fun d s z => ?_⟩
      obtain ⟨d', h1, h2⟩ := hall d s p z
      exact hno d' s h1 h2
    · exact Or.inr ⟨d, by omega, e, hR⟩
theorem pj_Y69 {post : SY → Prop} (W : pj_wf c G OP AR)
    (K : ∀ re fr co di : Nat → Int32, pj_YO c G OP AR re di → post (nI G, yPS, nI c, yDO, yPC, yTL, yMD, yFK, yBT, OP, AR, re, fr, co, di, ySK, yLO, yFI)) :
    ∀ (n k : Nat) (re fr co di : Nat → Int32), pj_YI c G OP AR k re co di → k ≤ pj_rb re → 17426 ≤ n + k →
      wY_judge_69 post n 1 (nI k) (nI G) yPS (nI c) yDO yPC yTL yMD yFK yBT OP AR re fr co di ySK yLO yFI := by
  intro n
  induction n with
  | zero =>
    intro k re fr co di I hk h
    have : pj_rb re ≤ 17424 := pj_cn_le _ _
    omega
  | succ n ih =>
    intro k re fr co di I hk h
    have hrb : pj_rb re ≤ 17424 := pj_cn_le _ _
    refine br_f (nI_ge (b := 17500) (by omega) (by omega)) (br_f (by decide) ?_)
    refine pj_Yround W I (by omega) ?_
    intro any re' fr' co' di' I' hA
    refine nm_r (e' := nI (k + 1)) (nI_1 k) ?_
    rcases hA with ⟨rfl, hA⟩ | ⟨rfl, hA⟩
    · cases n with
      | zero => omega
      | succ n => exact br_f (nI_ge (b := 17500) (by omega) (by omega)) (br_t rfl (K _ _ _ _ (pj_YIend (by omega) I' hA)))
    · exact ih (k + 1) re' fr' co' di' I' (by omega) (by omega)
theorem pj_Yj31 {post : SY → Prop} (K : ∀ di : Nat → Int32, (∀ p, p < 16 → di p = -1) → wY_judge_31 post yGR yPS yCT yDO yPC yTL yMD yFK yBT 1 (nI 16) OP AR yRE yFR yCO di ySK yLO yFI) :
    ∀ (n j : Nat) (di : Nat → Int32), (∀ p, p < j → di p = -1) → j ≤ 16 → n + j = 17 → wY_judge_31 post yGR yPS yCT yDO yPC yTL yMD yFK yBT n (nI j) OP AR yRE yFR yCO di ySK yLO yFI := by
  intro n
  induction n with
  | zero => intro j di _ h1 h2; omega
  | succ n ih =>
    intro j di hI h1 h2
    by_cases h16 : j = 16
    · subst h16
      have : n = 0 := by omega
      subst this
      exact K di hI
    · refine br_f (nI_ge (b := 16) (by omega) (by omega)) (And.intro (vp_in_nI (by omega) (by omega)) ?_)
      refine nm_r (e' := upd di j (-1)) (by rw [nI_clamp (by omega)]) (nm_r (e' := nI (j + 1)) (nI_1 j) ?_)
      refine ih (j + 1) _ (fun p hp => ?_) (by omega) (by omega)
      by_cases e : p = j
      · subst e; exact pk_us
      · rw [pk_un e]; exact hI p (by omega)
theorem pj_Yj2 {post : SY → Prop} (K : ∀ re co : Nat → Int32, (∀ s, s < 1089 → re s = 0 ∧ co s = 0) → ∃ n31, wY_judge_31 post yGR yPS yCT yDO yPC yTL yMD yFK yBT n31 0 OP AR re yFR co yDI ySK yLO yFI) :
    ∀ (n j : Nat) (re co : Nat → Int32), (∀ s, s < j → re s = 0 ∧ co s = 0) → j ≤ 1089 → 1090 ≤ n + j → wY_judge_2 post yGR yPS yCT yDO yPC yTL yMD yFK yBT n (nI j) OP AR re yFR co yDI ySK yLO yFI := by
  intro n
  induction n with
  | zero => intro j re co _ h1 h2; omega
  | succ n ih =>
    intro j re co hI h1 h2
    by_cases hj : j = 1089
    · subst hj
      exact br_t (nI_le (a := 1089) (b := 1089) (by omega) (by omega)) (K re co hI)
    · have ec : (nI j).toNatClampNeg = j := nI_clamp (by omega)
      have hv : vp_in (nI j) 1089 := vp_in_nI (by omega) (by omega)
      refine br_f (nI_ge (b := 1089) (by omega) (by omega)) (And.intro hv ?_)
      refine nm_r (e' := upd re j 0) (by rw [ec]) (And.intro hv (nm_r (e' := upd co j 0) (by rw [ec]) (nm_r (e' := nI (j + 1)) (nI_1 j) ?_)))
      refine ih (j + 1) _ _ (fun p hp => ?_) (by omega) (by omega)
      by_cases e : p = j
      · subst e; exact ⟨pk_us, pk_us⟩
      · rw [pk_un e, pk_un e]; exact hI p (by omega)
theorem pj_Yjudge {post : SY → Prop} (W : pj_wf c G OP AR)
    (K : ∀ re fr co di : Nat → Int32, pj_YO c G OP AR re di → post (nI G, yPS, nI c, yDO, yPC, yTL, yMD, yFK, yBT, OP, AR, re, fr, co, di, ySK, yLO, yFI)) : wpY_judge post (nI G, yPS, nI c, yDO, yPC, yTL, yMD, yFK, yBT, OP, AR, yRE, yFR, yCO, yDI, ySK, yLO, yFI) := by
  have hc := W.1
  unfold wpY_judge
  refine ⟨1090, pj_Yj2 (fun re co h1 => ⟨17, ?_⟩) 1090 0 yRE yCO (fun s hs => absurd hs (Nat.not_lt_zero s)) (by omega) (by omega)⟩
  refine pj_Yj31 (fun di h2 => ?_) 17 0 yDI (fun s hs => absurd hs (Nat.not_lt_zero s)) (by omega) (by omega)
  refine br_t (nI_le (a := 16) (b := 16) (by omega) (by omega)) ?_
  refine pk_le c 0 (fun h0 => ?_) (fun h0 => ?_) rfl rfl (by omega) (by omega)
  · refine ⟨17426, pj_Y69 W K 17426 0 re yFR co di ⟨fun s hs p => ?_, fun s hs p hb => ?_, fun s p hR => ?_, fun p hp => absurd hp (by omega)⟩ (Nat.zero_le _) (by omega)⟩
    · rw [(h1 s hs).1, b_0]
      exact ⟨fun z => Bool.noConfusion z, fun ⟨d, z, _⟩ => absurd z (Nat.not_lt_zero d)⟩
    · rw [(h1 s hs).2, b_0] at hb
      exact Bool.noConfusion hb
    · have := (pj_Rlt W _ _ _ hR).1
      omega
  · refine nm_e ⟨17426, pj_Y69 W K 17426 0 re yFR _ di ⟨fun s hs p => ?_, fun s hs p hb => ?_, fun s p hR => ?_, fun p hp => Or.inl ⟨h2 p (by omega), fun d s z => absurd z (Nat.not_lt_zero d)⟩⟩ (Nat.zero_le _) (by omega)⟩
    · rw [(h1 s hs).1, b_0]
      exact ⟨fun z => Bool.noConfusion z, fun ⟨d, z, _⟩ => absurd z (Nat.not_lt_zero d)⟩
    · by_cases e : s = 8
      · subst e
        rw [pk_us, pj_b1, decide_eq_true_eq] at hb
        exact ⟨rfl, hb, h0⟩
      · rw [pk_un e, (h1 s hs).2, b_0] at hb
        exact Bool.noConfusion hb
    · obtain ⟨rfl, rfl, _⟩ := hR
      left
      rw [pk_us, pj_b1]; rfl
end
end
section
section
variable {yGR yPS yCT yDO yPC yTL yMD yFK yBT : Int32} {OP AR yRE yFR yCO yDI ySK yLO yFI : Nat → Int32}
variable {c G : Nat}
theorem pj_pe {post : Int32 → Prop} {x y : Int32} (e : x = y) (h : post y) : post x := by rw [e]; exact h
theorem pj_Y235 {post : Int32 → Prop} {k f e : Bool} (hp : post (nI (pj_kl k (f || e)))) : wY_faultOf_235 post (if k = true then 1 else 0) (if f = true then 1 else 0) (if e = true then 1 else 0) yGR yPS yCT yDO yPC yTL yMD yFK yBT OP AR yRE yFR yCO yDI ySK yLO yFI := by
  cases k
  · cases f
    · cases e
      · exact br_t rfl (br_t rfl (br_t rfl (pj_pe (by decide) hp)))
      · exact br_t rfl (br_t rfl (br_f (by decide) (pj_pe (by decide) hp)))
    · cases e
      · exact br_t rfl (br_f (by decide) (pj_pe (by decide) hp))
      · exact br_t rfl (br_f (by decide) (pj_pe (by decide) hp))
  · cases f
    · cases e
      · exact br_f (by decide) (br_t rfl (br_t rfl (pj_pe (by decide) hp)))
      · exact br_f (by decide) (br_t rfl (br_f (by decide) (pj_pe (by decide) hp)))
    · cases e
      · exact br_f (by decide) (br_f (by decide) (pj_pe (by decide) hp))
      · exact br_f (by decide) (br_f (by decide) (pj_pe (by decide) hp))
theorem pj_Y204 {post : Int32 → Prop} {k f : Bool} {p o : Nat} (hp16 : p < 16) (hc : c ≤ 16) (ho : o ≤ 13) (hp : post (nI (pj_kl k (f || (decide (¬ o = 10 ∧ ¬ o = 13) && decide (c ≤ p + 1)))))) : wY_faultOf_204 post (nI p) (nI o) (if k = true then 1 else 0) (if f = true then 1 else 0) yGR yPS (nI c) yDO yPC yTL yMD yFK yBT OP AR yRE yFR yCO yDI ySK yLO yFI := by
  unfold wY_faultOf_204
  refine pk_eq o 10 (fun h => ?_) (fun h10 => ?_) rfl rfl (by omega) (by omega)
  · rw [decide_eq_false (fun z => z.1 h), Bool.false_and] at hp
    exact pj_Y235 (e := false) hp
  refine pk_eq o 13 (fun h => ?_) (fun h13 => ?_) rfl rfl (by omega) (by omega)
  · rw [decide_eq_false (fun z => z.2 h), Bool.false_and] at hp
    exact pj_Y235 (e := false) hp
  rw [decide_eq_true ⟨h10, h13⟩, Bool.true_and] at hp
  rw [nI_1]
  refine pk_lt (p + 1) c (fun h => ?_) (fun h => ?_) rfl rfl (by omega) (by omega)
  · rw [decide_eq_false (by omega)] at hp
    exact pj_Y235 (e := false) hp
  · rw [decide_eq_true h] at hp
    exact pj_Y235 (e := true) hp
theorem pj_Y177 {post : Int32 → Prop} {k : Bool} {p o : Nat} (hp16 : p < 16) (hc : c ≤ 16) (ho : o ≤ 13) (hp : post (nI (pj_kl k (pj_out c (AR p) || (decide (¬ o = 10 ∧ ¬ o = 13) && decide (c ≤ p + 1)))))) : wY_faultOf_177 post (nI p) (nI o) (if k = true then 1 else 0) yGR yPS (nI c) yDO yPC yTL yMD yFK yBT OP AR yRE yFR yCO yDI ySK yLO yFI := by
  have ec : (nI p).toNatClampNeg = p := nI_clamp (by omega)
  have hin : vp_in (nI p) 16 := vp_in_nI hp16 (by omega)
  unfold wY_faultOf_177
  rw [ec]
  unfold pj_out at hp
  refine And.intro hin (br_c (fun h0 => ?_) (fun h0 => And.intro hin (br_c (fun h1 => ?_) (fun h1 => ?_))))
  · rw [decide_eq_true (Or.inl h0)] at hp
    exact pj_Y204 (f := true) hp16 hc ho hp
  · rw [decide_eq_false (fun z => z.elim h0 (fun w => Int32.not_lt.mpr w h1))] at hp
    exact pj_Y204 (f := false) hp16 hc ho hp
  · rw [decide_eq_true (Or.inr (Int32.not_lt.mp h1))] at hp
    exact pj_Y204 (f := true) hp16 hc ho hp
def pj_lvY (c : Nat) (AR : Nat → Int32) (o p : Nat) : Bool := (decide (o = 10 ∨ o = 11) && pj_out c (AR p)) || (decide (¬ o = 10 ∧ ¬ o = 13) && decide (c ≤ p + 1))
theorem pj_out_nI {q : Nat} (hc : c ≤ 16) (hq : q < 2 ^ 31) : pj_out c (nI q) = decide (c ≤ q) := by
  unfold pj_out
  refine decide_eq_decide.mpr ⟨fun z => ?_, fun z => Or.inr (nI_le z hq)⟩
  rcases z with z | z
  · exact absurd z (nI_pos hq)
  · exact (nI_leI (by omega) hq).mp z
theorem pj_lvE {p : Nat} (hc : c ≤ 16) (hp : p < 16) : pj_lv c OP AR p = pj_lvY c AR (pj_o OP p) p := by
  unfold pj_lv pj_lvY pj_nx
  generalize pj_o OP p = o
  by_cases h10 : o = 10
  · subst h10
    rw [if_neg (by decide), if_pos rfl]
    cases pj_out c (AR p) <;> rfl
  · by_cases h13 : o = 13
    · subst h13
      cases pj_out c (AR p) <;> rfl
    · rw [if_neg h13, if_neg h10, pj_out_nI hc (by omega), decide_eq_true h13, decide_eq_true (show ¬ o = 10 ∧ ¬ o = 13 from ⟨h10, h13⟩), Bool.true_and, Bool.or_comm]
      have e : decide (o = 11) = decide (o = 10 ∨ o = 11) := decide_eq_decide.mpr ⟨Or.inr, fun z => z.elim (fun w => absurd w h10) (fun w => w)⟩
      rw [e]
theorem pj_Y161 {post : Int32 → Prop} {k : Bool} {p o : Nat} (hp16 : p < 16) (hc : c ≤ 16) (ho : o ≤ 13) (hp : post (nI (pj_kl k (pj_lvY c AR o p)))) : wY_faultOf_161 post (nI p) (nI o) (if k = true then 1 else 0) yGR yPS (nI c) yDO yPC yTL yMD yFK yBT OP AR yRE yFR yCO yDI ySK yLO yFI := by
  unfold wY_faultOf_161
  unfold pj_lvY at hp
  refine pk_eq o 10 (fun h => ?_) (fun h10 => ?_) rfl rfl (by omega) (by omega)
  · rw [decide_eq_true (Or.inl h : o = 10 ∨ o = 11), Bool.true_and] at hp
    exact pj_Y177 hp16 hc ho hp
  refine pk_eq o 11 (fun h => ?_) (fun h11 => ?_) rfl rfl (by omega) (by omega)
  · rw [decide_eq_true (Or.inr h : o = 10 ∨ o = 11), Bool.true_and] at hp
    exact pj_Y177 hp16 hc ho hp
  rw [decide_eq_false (fun z => z.elim h10 h11 : ¬ (o = 10 ∨ o = 11)), Bool.false_and] at hp
  exact pj_Y204 (f := false) hp16 hc ho hp
/-! the kind's fault -/
theorem pj_Y144 {post : Int32 → Prop} {p o t : Nat} (ho : o ≤ 13) (ht : t < 3) (H : ∀ k : Bool, (k = decide (o = 13 ∧ ¬ t = 0)) → wY_faultOf_161 post (nI p) (nI o) (if k = true then 1 else 0) yGR yPS yCT yDO yPC yTL yMD yFK yBT OP AR yRE yFR yCO yDI ySK yLO yFI) : wY_faultOf_144 post (nI p) (nI o) (nI t) yGR yPS yCT yDO yPC yTL yMD yFK yBT OP AR yRE yFR yCO yDI ySK yLO yFI := by
  unfold wY_faultOf_144
  refine pk_eq o 13 (fun h => ?_) (fun h' => ?_) rfl rfl (by omega) (by omega)
  · refine pk_eq t 0 (fun h1 => ?_) (fun h1 => ?_) rfl rfl (by omega) (by omega)
    · exact H false (decide_eq_false (fun z => z.2 h1)).symm
    · exact H true (decide_eq_true ⟨h, h1⟩).symm
  · exact H false (decide_eq_false (fun z => h' z.1)).symm
theorem pj_Y125 {post : Int32 → Prop} {p o t w : Nat} (ho : o ≤ 13) (ht : t < 3) (hw : w < 3) (H : ∀ k : Bool, (k = decide ((o = 12 ∧ (¬ t = 1 ∨ ¬ w = 1)) ∨ (o = 13 ∧ ¬ t = 0))) → wY_faultOf_161 post (nI p) (nI o) (if k = true then 1 else 0) yGR yPS yCT yDO yPC yTL yMD yFK yBT OP AR yRE yFR yCO yDI ySK yLO yFI) : wY_faultOf_125 post (nI p) (nI o) (nI t) (nI w) yGR yPS yCT yDO yPC yTL yMD yFK yBT OP AR yRE yFR yCO yDI ySK yLO yFI := by
  have hn : ¬ (o = 12 ∧ (¬ t = 1 ∨ ¬ w = 1)) → wY_faultOf_144 post (nI p) (nI o) (nI t) yGR yPS yCT yDO yPC yTL yMD yFK yBT OP AR yRE yFR yCO yDI ySK yLO yFI := fun h => pj_Y144 ho ht (fun k hk => H k (hk.trans (decide_eq_decide.mpr ⟨Or.inr, fun z => z.elim (fun x => absurd x h) (fun x => x)⟩)))
  have hy : (o = 12 ∧ (¬ t = 1 ∨ ¬ w = 1)) → wY_faultOf_156 post (nI p) (nI o) yGR yPS yCT yDO yPC yTL yMD yFK yBT OP AR yRE yFR yCO yDI ySK yLO yFI := fun h => H true (decide_eq_true (Or.inl h)).symm
  unfold wY_faultOf_125
  refine pk_eq o 12 (fun h => ?_) (fun h' => hn (fun z => h' z.1)) rfl rfl (by omega) (by omega)
  refine pk_eq t 1 (fun h1 => ?_) (fun h1 => hy ⟨h, Or.inl h1⟩) rfl rfl (by omega) (by omega)
  refine pk_eq w 1 (fun h2 => hn (fun z => z.2.elim (fun x => x h1) (fun x => x h2))) (fun h2 => hy ⟨h, Or.inr h2⟩) rfl rfl (by omega) (by omega)
theorem pj_Y107 {post : Int32 → Prop} {p o t w : Nat} (ho : o ≤ 13) (ht : t < 3) (hw : w < 3) (H : ∀ k : Bool, (k = decide ((o = 7 ∧ (¬ t = 0 ∨ ¬ w = 1)) ∨ (o = 12 ∧ (¬ t = 1 ∨ ¬ w = 1)) ∨ (o = 13 ∧ ¬ t = 0))) → wY_faultOf_161 post (nI p) (nI o) (if k = true then 1 else 0) yGR yPS yCT yDO yPC yTL yMD yFK yBT OP AR yRE yFR yCO yDI ySK yLO yFI) : wY_faultOf_107 post (nI p) (nI o) (nI t) (nI w) yGR yPS yCT yDO yPC yTL yMD yFK yBT OP AR yRE yFR yCO yDI ySK yLO yFI := by
  have hn : ¬ (o = 7 ∧ (¬ t = 0 ∨ ¬ w = 1)) → wY_faultOf_125 post (nI p) (nI o) (nI t) (nI w) yGR yPS yCT yDO yPC yTL yMD yFK yBT OP AR yRE yFR yCO yDI ySK yLO yFI := fun h => pj_Y125 ho ht hw (fun k hk => H k (hk.trans (decide_eq_decide.mpr ⟨Or.inr, fun z => z.elim (fun x => absurd x h) (fun x => x)⟩)))
  have hy : (o = 7 ∧ (¬ t = 0 ∨ ¬ w = 1)) → wY_faultOf_156 post (nI p) (nI o) yGR yPS yCT yDO yPC yTL yMD yFK yBT OP AR yRE yFR yCO yDI ySK yLO yFI := fun h => H true (decide_eq_true (Or.inl h)).symm
  unfold wY_faultOf_107
  refine pk_eq o 7 (fun h => ?_) (fun h' => hn (fun z => h' z.1)) rfl rfl (by omega) (by omega)
  refine pk_eq t 0 (fun h1 => ?_) (fun h1 => hy ⟨h, Or.inl h1⟩) rfl rfl (by omega) (by omega)
  refine pk_eq w 1 (fun h2 => hn (fun z => z.2.elim (fun x => x h1) (fun x => x h2))) (fun h2 => hy ⟨h, Or.inr h2⟩) rfl rfl (by omega) (by omega)
theorem pj_Y94 {post : Int32 → Prop} {p o t w : Nat} (ho : o ≤ 13) (ht : t < 3) (hw : w < 3) (H : ∀ k : Bool, (k = decide ((o = 6 ∧ ¬ t = 1) ∨ (o = 7 ∧ (¬ t = 0 ∨ ¬ w = 1)) ∨ (o = 12 ∧ (¬ t = 1 ∨ ¬ w = 1)) ∨ (o = 13 ∧ ¬ t = 0))) → wY_faultOf_161 post (nI p) (nI o) (if k = true then 1 else 0) yGR yPS yCT yDO yPC yTL yMD yFK yBT OP AR yRE yFR yCO yDI ySK yLO yFI) : wY_faultOf_94 post (nI p) (nI o) (nI t) (nI w) yGR yPS yCT yDO yPC yTL yMD yFK yBT OP AR yRE yFR yCO yDI ySK yLO yFI := by
  have hn : ¬ (o = 6 ∧ ¬ t = 1) → wY_faultOf_107 post (nI p) (nI o) (nI t) (nI w) yGR yPS yCT yDO yPC yTL yMD yFK yBT OP AR yRE yFR yCO yDI ySK yLO yFI := fun h => pj_Y107 ho ht hw (fun k hk => H k (hk.trans (decide_eq_decide.mpr ⟨Or.inr, fun z => z.elim (fun x => absurd x h) (fun x => x)⟩)))
  have hy : (o = 6 ∧ ¬ t = 1) → wY_faultOf_156 post (nI p) (nI o) yGR yPS yCT yDO yPC yTL yMD yFK yBT OP AR yRE yFR yCO yDI ySK yLO yFI := fun h => H true (decide_eq_true (Or.inl h)).symm
  unfold wY_faultOf_94
  refine pk_eq o 6 (fun h => ?_) (fun h' => hn (fun z => h' z.1)) rfl rfl (by omega) (by omega)
  refine pk_eq t 1 (fun h1 => hn (fun z => z.2 h1)) (fun h1 => hy ⟨h, h1⟩) rfl rfl (by omega) (by omega)
theorem pj_Y76 {post : Int32 → Prop} {p o t w : Nat} (ho : o ≤ 13) (ht : t < 3) (hw : w < 3) (H : ∀ k : Bool, (k = decide ((o = 5 ∧ (¬ t = 0 ∨ ¬ w = 0)) ∨ (o = 6 ∧ ¬ t = 1) ∨ (o = 7 ∧ (¬ t = 0 ∨ ¬ w = 1)) ∨ (o = 12 ∧ (¬ t = 1 ∨ ¬ w = 1)) ∨ (o = 13 ∧ ¬ t = 0))) → wY_faultOf_161 post (nI p) (nI o) (if k = true then 1 else 0) yGR yPS yCT yDO yPC yTL yMD yFK yBT OP AR yRE yFR yCO yDI ySK yLO yFI) : wY_faultOf_76 post (nI p) (nI o) (nI t) (nI w) yGR yPS yCT yDO yPC yTL yMD yFK yBT OP AR yRE yFR yCO yDI ySK yLO yFI := by
  have hn : ¬ (o = 5 ∧ (¬ t = 0 ∨ ¬ w = 0)) → wY_faultOf_94 post (nI p) (nI o) (nI t) (nI w) yGR yPS yCT yDO yPC yTL yMD yFK yBT OP AR yRE yFR yCO yDI ySK yLO yFI := fun h => pj_Y94 ho ht hw (fun k hk => H k (hk.trans (decide_eq_decide.mpr ⟨Or.inr, fun z => z.elim (fun x => absurd x h) (fun x => x)⟩)))
  have hy : (o = 5 ∧ (¬ t = 0 ∨ ¬ w = 0)) → wY_faultOf_156 post (nI p) (nI o) yGR yPS yCT yDO yPC yTL yMD yFK yBT OP AR yRE yFR yCO yDI ySK yLO yFI := fun h => H true (decide_eq_true (Or.inl h)).symm
  unfold wY_faultOf_76
  refine pk_eq o 5 (fun h => ?_) (fun h' => hn (fun z => h' z.1)) rfl rfl (by omega) (by omega)
  refine pk_eq t 0 (fun h1 => ?_) (fun h1 => hy ⟨h, Or.inl h1⟩) rfl rfl (by omega) (by omega)
  refine pk_eq w 0 (fun h2 => hn (fun z => z.2.elim (fun x => x h1) (fun x => x h2))) (fun h2 => hy ⟨h, Or.inr h2⟩) rfl rfl (by omega) (by omega)
theorem pj_YfaultOf {post : Int32 → Prop} {s p : Nat} (W : pj_wf c G OP AR) (hs : s < 1089) (hpc : p < c) (hp : post (nI (pj_fl c G OP AR s p))) : wpY_faultOf post (nI G, yPS, nI c, yDO, yPC, yTL, yMD, yFK, yBT, OP, AR, yRE, yFR, yCO, yDI, ySK, yLO, yFI) (nI s) (nI p) := by
  have hc := W.1
  obtain ⟨ho, hO, _⟩ := W.2.2.2 p hpc
  have hp16 : p < 16 := by omega
  have ec : (nI p).toNatClampNeg = p := nI_clamp (by omega)
  unfold wpY_faultOf
  refine pj_Ystuck hs hp16 W.2.2.1 ho hO ?_
  unfold pj_fl at hp
  by_cases hr : pj_rf G (pj_o OP p) (pj_ht s) = 0
  · rw [if_pos hr, pj_lvE hc hp16] at hp
    refine br_t (by rw [hr]; rfl) ?_
    refine And.intro (vp_in_nI hp16 (by omega)) (nm_r (e' := nI (pj_o OP p)) (by rw [ec]; exact hO) (And.intro (by decide) ?_))
    refine nm_r (e' := nI (s / 9)) (pj_d9 (by omega)) ?_
    have hv : s / 9 < 200 := by omega
    generalize s / 9 = v at hp hv
    have k76 : wY_faultOf_76 post (nI p) (nI (pj_o OP p)) (nI (pj_tp v)) (nI (pj_tp (pj_rs v))) (nI G) yPS (nI c) yDO yPC yTL yMD yFK yBT OP AR yRE yFR yCO yDI ySK yLO yFI := by
      refine pj_Y76 ho (pj_tp_lt _) (pj_tp_lt _) (fun k hk => pj_Y161 hp16 hc ho ?_)
      rw [hk]; exact hp
    have hrl : pj_rs v < 200 := by unfold pj_rs; omega
    have k59 : wY_faultOf_59 post (nI p) (nI (pj_o OP p)) (nI (pj_tp v)) (nI (pj_rs v)) (nI G) yPS (nI c) yDO yPC yTL yMD yFK yBT OP AR yRE yFR yCO yDI ySK yLO yFI := by
      unfold wY_faultOf_59
      refine pk_le (pj_rs v) 0 (fun h => ?_) (fun h => ?_) rfl rfl (by omega) (by omega)
      · have e : pj_tp (pj_rs v) = 0 := by unfold pj_rs at h ⊢; unfold pj_tp; omega
        rw [e] at k76
        exact k76
      · refine And.intro (by decide) ?_
        rw [pj_s1 (by omega), pj_r3 (by omega)]
        exact k76
    have k42 : wY_faultOf_42 post (nI p) (nI (pj_o OP p)) (nI v) (nI (pj_tp v)) (nI G) yPS (nI c) yDO yPC yTL yMD yFK yBT OP AR yRE yFR yCO yDI ySK yLO yFI := by
      unfold wY_faultOf_42
      refine pk_le v 0 (fun h => ?_) (fun h => ?_) rfl rfl (by omega) (by omega)
      · have e : pj_rs v = 0 := by unfold pj_rs; omega
        rw [e] at k59
        exact k59
      · refine And.intro (by decide) ?_
        rw [pj_s1 (by omega), pj_d3 (by omega)]
        exact k59
    refine pk_le v 0 (fun h => ?_) (fun h => ?_) rfl rfl (by omega) (by omega)
    · have e : pj_tp v = 0 := by unfold pj_tp; omega
      rw [e] at k42
      exact k42
    · refine And.intro (by decide) ?_
      rw [pj_s1 (by omega), pj_r3 (by omega)]
      exact k42
  · rw [if_neg hr] at hp
    have hlt := pj_rf_lt (G := G) (o := pj_o OP p) (h := pj_ht s)
    exact br_f (fun z => hr ((nI_eq (by omega) (by omega)).mp (z.trans nI_0.symm))) hp
/-! the loops over all situations -/
theorem pj_Yf16 {post : Int32 → Prop} {p : Nat} (W : pj_wf c G OP AR) (hpc : p < c)
    (K : ∀ r : Int32, (∀ i, bt r i = true ↔ ∃ s, s < 1089 ∧ bt (yRE s) p = true ∧ bt (nI (pj_fl c G OP AR s p)) i = true) → post r) :
    ∀ (n j : Nat) (r : Int32), (∀ i, bt r i = true ↔ ∃ s, s < j ∧ bt (yRE s) p = true ∧ bt (nI (pj_fl c G OP AR s p)) i = true) → j ≤ 1089 → 1090 ≤ n + j →
      wY_faults_16 post (nI p) (nI G) yPS (nI c) yDO yPC yTL yMD yFK yBT OP AR yRE yFR yCO yDI ySK yLO yFI n r (nI j) := by
  have hc := W.1
  intro n
  induction n with
  | zero => intro j r _ h1 h2; omega
  | succ n ih =>
    intro j r hr h1 h2
    by_cases hj : j = 1089
    · subst hj
      exact br_t (nI_le (a := 1089) (b := 1089) (by omega) (by omega)) (K r hr)
    · have ec : (nI j).toNatClampNeg = j := nI_clamp (by omega)
      refine br_f (nI_ge (b := 1089) (by omega) (by omega)) (And.intro (vp_in_nI (by omega) (by omega)) ?_)
      by_cases hb : bt (yRE j) p = true
      · refine br_t (by rw [ec]; exact (pj_tst (by omega)).mpr hb) ?_
        refine pj_YfaultOf W (by omega) hpc ?_
        refine nm_e (nm_r (e' := nI (j + 1)) (nI_1 j) ?_)
        refine ih (j + 1) _ (fun i => ?_) (by omega) (by omega)
        rw [b_or, Bool.or_eq_true, hr]
        constructor
        · rintro (⟨s, z1, z2⟩ | z)
          · exact ⟨s, by omega, z2⟩
          · exact ⟨j, by omega, hb, z⟩
        · rintro ⟨s, z1, z2, z3⟩
          by_cases e : s = j
          · subst e; exact Or.inr z3
          · exact Or.inl ⟨s, by omega, z2, z3⟩
      · refine br_f (by rw [ec]; exact fun z => hb ((pj_tst (by omega)).mp z)) (nm_r (e' := nI (j + 1)) (nI_1 j) ?_)
        refine ih (j + 1) r (fun i => ?_) (by omega) (by omega)
        rw [hr]
        constructor
        · rintro ⟨s, z1, z2⟩
          exact ⟨s, by omega, z2⟩
        · rintro ⟨s, z1, z2, z3⟩
          by_cases e : s = j
          · subst e; exact absurd z2 hb
          · exact ⟨s, by omega, z2, z3⟩
theorem pj_bit0 {P : Nat → Nat → Prop} : ∀ i, bt 0 i = true ↔ ∃ s, s < 0 ∧ P s i := by
  intro i
  rw [b_0]
  exact ⟨fun z => Bool.noConfusion z, fun ⟨s, z, _⟩ => absurd z (Nat.not_lt_zero s)⟩
theorem pj_Yfaults {post : Int32 → Prop} {p : Nat} {nt : Nat → Int32} (W : pj_wf c G OP AR) (Y : pj_YO c G OP AR yRE yDI) (N : pj_NO c G OP AR nt) (hpc : p < c) (hp : post (nt p)) : wpY_faults post (nI G, yPS, nI c, yDO, yPC, yTL, yMD, yFK, yBT, OP, AR, yRE, yFR, yCO, yDI, ySK, yLO, yFI) (nI p) := by
  have hc := W.1
  unfold wpY_faults
  refine br_f (nI_pos (by omega)) (br_f (nI_ge hpc (by omega)) ?_)
  refine ⟨1090, pj_Yf16 W hpc (fun r hr => ?_) 1090 0 0 pj_bit0 (by omega) (by omega)⟩
  have e : r = nt p := by
    apply b_ext
    intro i _
    rw [Bool.eq_iff_iff, hr, N p (by omega) i]
    constructor
    · rintro ⟨s, hs, hb, hf⟩
      obtain ⟨d, hR⟩ := (Y.1 s hs p).mp hb
      exact ⟨d, s, hR, hf⟩
    · rintro ⟨d, s, hR, hf⟩
      have hs := (pj_Rlt W _ _ _ hR).2
      exact ⟨s, hs, (Y.1 s hs p).mpr ⟨d, hR⟩, hf⟩
  rw [e]; exact hp
def pj_or (nt : Nat → Int32) : Nat → Int32
  | 0 => 0
  | n + 1 => pj_or nt n ||| nt n
theorem pj_Yv13 {post : Int32 → Prop} {nt : Nat → Int32} (W : pj_wf c G OP AR) (Y : pj_YO c G OP AR yRE yDI) (N : pj_NO c G OP AR nt) (hp : post (if pj_or nt c = 0 then 0 else 1)) :
    ∀ (n j : Nat), j ≤ c → c + 1 ≤ n + j → wY_verdict_13 post (nI G) yPS (nI c) yDO yPC yTL yMD yFK yBT OP AR yRE yFR yCO yDI ySK yLO yFI n (pj_or nt j) (nI j) := by
  have hc := W.1
  intro n
  induction n with
  | zero => intro j h1 h2; omega
  | succ n ih =>
    intro j h1 h2
    by_cases hj : j = c
    · subst hj
      refine br_t (nI_le (Nat.le_refl j) (by omega)) (br_c (fun h => ?_) (fun h => ?_))
      · rw [if_pos h] at hp; exact hp
      · rw [if_neg h] at hp; exact hp
    · refine br_f (nI_ge (by omega) (by omega)) ?_
      refine pj_Yfaults W Y N (by omega) ?_
      refine nm_e (nm_r (e' := nI (j + 1)) (nI_1 j) ?_)
      exact ih (j + 1) (by omega) (by omega)
theorem pj_Yverdict {post : Int32 → Prop} {nt : Nat → Int32} (W : pj_wf c G OP AR) (hc0 : 0 < c) (Y : pj_YO c G OP AR yRE yDI) (N : pj_NO c G OP AR nt) (hp : post (if pj_or nt c = 0 then 0 else 1)) : wpY_verdict post (nI G, yPS, nI c, yDO, yPC, yTL, yMD, yFK, yBT, OP, AR, yRE, yFR, yCO, yDI, ySK, yLO, yFI) := by
  have hc := W.1
  unfold wpY_verdict
  refine br_f (nI_ne0 hc0 (by omega)) ⟨c + 1, ?_⟩
  exact pj_Yv13 W Y N hp (c + 1) 0 (Nat.zero_le _) (Nat.le_refl _)
/-! heights -/
def pj_HV (c G : Nat) (OP AR : Nat → Int32) (p : Nat) (r : Int32) : Prop := ∀ i, bt r i = true ↔ ∃ d s, pj_R c G OP AR d s p ∧ pj_ht s = i
theorem pj_Yh16 {post : Int32 → Prop} {p : Nat} (hpc : p < 16)
    (K : ∀ r : Int32, (∀ i, bt r i = true ↔ ∃ s, s < 1089 ∧ bt (yRE s) p = true ∧ pj_ht s = i) → post r) :
    ∀ (n j : Nat) (r : Int32), (∀ i, bt r i = true ↔ ∃ s, s < j ∧ bt (yRE s) p = true ∧ pj_ht s = i) → j ≤ 1089 → 1090 ≤ n + j →
      wY_heights_16 post (nI p) yGR yPS yCT yDO yPC yTL yMD yFK yBT OP AR yRE yFR yCO yDI ySK yLO yFI n r (nI j) := by
  intro n
  induction n with
  | zero => intro j r _ h1 h2; omega
  | succ n ih =>
    intro j r hr h1 h2
    by_cases hj : j = 1089
    · subst hj
      exact br_t (nI_le (a := 1089) (b := 1089) (by omega) (by omega)) (K r hr)
    · have ec : (nI j).toNatClampNeg = j := nI_clamp (by omega)
      have hht := pj_ht_le j
      refine br_f (nI_ge (b := 1089) (by omega) (by omega)) (And.intro (vp_in_nI (by omega) (by omega)) ?_)
      by_cases hb : bt (yRE j) p = true
      · refine br_t (by rw [ec]; exact (pj_tst (by omega)).mpr hb) (And.intro (by decide) ?_)
        rw [pj_d9 (by omega)]
        refine pj_Yhv (by omega) ?_
        refine nm_e (nm_r (e' := nI (j + 1)) (nI_1 j) ?_)
        refine ih (j + 1) _ (fun i => ?_) (by omega) (by omega)
        rw [b_or, Bool.or_eq_true, hr, show bt ((1 : Int32) <<< (nI (pj_hv (j / 9)) &&& 31)) i = decide (i = pj_ht j) from pj_bit1 (show pj_ht j < 32 by omega), decide_eq_true_eq]
        constructor
        · rintro (⟨s, z1, z2⟩ | z)
          · exact ⟨s, by omega, z2⟩
          · exact ⟨j, by omega, hb, z.symm⟩
        · rintro ⟨s, z1, z2, z3⟩
          by_cases e : s = j
          · subst e; exact Or.inr z3.symm
          · exact Or.inl ⟨s, by omega, z2, z3⟩
      · refine br_f (by rw [ec]; exact fun z => hb ((pj_tst (by omega)).mp z)) (nm_r (e' := nI (j + 1)) (nI_1 j) ?_)
        refine ih (j + 1) r (fun i => ?_) (by omega) (by omega)
        rw [hr]
        constructor
        · rintro ⟨s, z1, z2⟩
          exact ⟨s, by omega, z2⟩
        · rintro ⟨s, z1, z2, z3⟩
          by_cases e : s = j
          · subst e; exact absurd z2 hb
          · exact ⟨s, by omega, z2, z3⟩
theorem pj_Yheights {post : Int32 → Prop} {p : Nat} (W : pj_wf c G OP AR) (Y : pj_YO c G OP AR yRE yDI) (hpc : p < c) (K : ∀ r, pj_HV c G OP AR p r → post r) : wpY_heights post (nI G, yPS, nI c, yDO, yPC, yTL, yMD, yFK, yBT, OP, AR, yRE, yFR, yCO, yDI, ySK, yLO, yFI) (nI p) := by
  have hc := W.1
  unfold wpY_heights
  refine br_f (nI_pos (by omega)) (br_f (nI_ge hpc (by omega)) ?_)
  refine ⟨1090, pj_Yh16 (by omega) (fun r hr => K r (fun i => ?_)) 1090 0 0 pj_bit0 (by omega) (by omega)⟩
  rw [hr]
  constructor
  · rintro ⟨s, hs, hb, hf⟩
    obtain ⟨d, hR⟩ := (Y.1 s hs p).mp hb
    exact ⟨d, s, hR, hf⟩
  · rintro ⟨d, s, hR, hf⟩
    have hs := (pj_Rlt W _ _ _ hR).2
    exact ⟨s, hs, (Y.1 s hs p).mpr ⟨d, hR⟩, hf⟩
/-! kinds -/
theorem pj_dg0 : ∀ m, pj_dg 0 m = 0 := by
  intro m
  induction m with
  | zero => rfl
  | succ m ih => exact ih
theorem pj_Yd31 {post : Int32 → Prop} {pl : Nat} (hpl : pl < 4) : ∀ (m n v : Nat), m < n → m < 5 → v < 200 → post (nI (pj_dg v m)) → wY_digitAt_31 post (nI pl) yGR yPS yCT yDO yPC yTL yMD yFK yBT OP AR yRE yFR yCO yDI ySK yLO yFI n (nI v) (nI (pl + m)) := by
  have k56 : ∀ v, v < 200 → post (nI (pj_tp v)) → wY_digitAt_56 post (nI v) yGR yPS yCT yDO yPC yTL yMD yFK yBT OP AR yRE yFR yCO yDI ySK yLO yFI := by
    intro v hv hp
    unfold wY_digitAt_56
    refine pk_le v 0 (fun h => ?_) (fun h => ?_) rfl rfl (by omega) (by omega)
    · have e : pj_tp v = 0 := by unfold pj_tp; omega
      rw [e] at hp; exact hp
    · refine And.intro (by decide) ?_
      rw [pj_s1 (by omega), pj_r3 (by omega)]
      exact hp
  intro m
  induction m with
  | zero =>
    intro n v hn _ hv hp
    cases n with
    | zero => omega
    | succ n => exact br_t (nI_le (Nat.le_refl pl) (by omega)) (k56 v hv hp)
  | succ m ih =>
    intro n v hn hm hv hp
    cases n with
    | zero => omega
    | succ n =>
      refine br_f (nI_ge (by omega) (by omega)) (pk_le v 0 (fun h => ?_) (fun h => ?_) rfl rfl (by omega) (by omega))
      · have e : v = 0 := by omega
        subst e
        rw [pj_dg0] at hp
        exact k56 0 (by omega) hp
      · refine And.intro (by decide) ?_
        refine nm_r (e' := nI (pj_rs v)) (by rw [pj_s1 (by omega), pj_d3 (by omega)]; rfl) ?_
        refine nm_r (e' := nI (pl + m)) (pk_m1 (pl + m)) ?_
        exact ih n (pj_rs v) (by omega) (by omega) (by unfold pj_rs; omega) hp
theorem pj_Ydigit {post : Int32 → Prop} {s pl : Nat} (hs : s < 1089) (hV : pj_V (pj_ht s) pl) (hp : post (nI (pj_D s pl))) : wpY_digitAt post (yGR, yPS, yCT, yDO, yPC, yTL, yMD, yFK, yBT, OP, AR, yRE, yFR, yCO, yDI, ySK, yLO, yFI) (nI s) (nI (pj_ht s)) (nI pl) := by
  have hht := pj_ht_le s
  have hpl : pl < 6 := by unfold pj_V at hV; omega
  unfold wpY_digitAt
  unfold pj_D at hp
  refine pk_eq pl 4 (fun h => ?_) (fun h4 => ?_) rfl rfl (by omega) (by omega)
  · rw [if_pos h] at hp
    refine And.intro (by decide) (And.intro (by decide) ?_)
    rw [pj_d3 (by omega), pj_r3 (by omega)]
    exact hp
  · rw [if_neg h4] at hp
    refine pk_eq pl 5 (fun h => ?_) (fun h5 => ?_) rfl rfl (by omega) (by omega)
    · rw [if_pos h] at hp
      refine And.intro (by decide) ?_
      rw [pj_r3 (by omega)]
      exact hp
    · rw [if_neg h5] at hp
      have hlt : pl < pj_ht s := by unfold pj_V at hV; omega
      refine And.intro (by decide) ?_
      refine nm_r (e' := nI (s / 9)) (pj_d9 (by omega)) ?_
      refine nm_r (e' := nI (pl + (pj_ht s - 1 - pl))) (by rw [pj_s1 (by omega)]; exact congrArg nI (by omega)) ?_
      exact ⟨6, pj_Yd31 (by omega) (pj_ht s - 1 - pl) 6 (s / 9) (by omega) (by omega) (by omega) hp⟩
theorem pj_Yk37 {post : Int32 → Prop} {p pl : Nat} {x : Int32} (hpc : p < 16) (hok : ∀ s, s < 1089 → nI (pj_ht s) = x → pj_V (pj_ht s) pl)
    (K : ∀ r : Int32, (∀ i, bt r i = true ↔ ∃ s, s < 1089 ∧ bt (yRE s) p = true ∧ nI (pj_ht s) = x ∧ pj_D s pl = i) → post r) :
    ∀ (n j : Nat) (r : Int32), (∀ i, bt r i = true ↔ ∃ s, s < j ∧ bt (yRE s) p = true ∧ nI (pj_ht s) = x ∧ pj_D s pl = i) → j ≤ 1089 → 1090 ≤ n + j →
      wY_kinds_37 post (nI p) x (nI pl) yGR yPS yCT yDO yPC yTL yMD yFK yBT OP AR yRE yFR yCO yDI ySK yLO yFI n r (nI j) := by
  intro n
  induction n with
  | zero => intro j r _ h1 h2; omega
  | succ n ih =>
    intro j r hr h1 h2
    by_cases hj : j = 1089
    · subst hj
      exact br_t (nI_le (a := 1089) (b := 1089) (by omega) (by omega)) (K r hr)
    · have ec : (nI j).toNatClampNeg = j := nI_clamp (by omega)
      have hD := pj_D_lt j pl
      have skip : (∀ i, ¬ (bt (yRE j) p = true ∧ nI (pj_ht j) = x ∧ pj_D j pl = i)) → ∀ i, bt r i = true ↔ ∃ s, s < j + 1 ∧ bt (yRE s) p = true ∧ nI (pj_ht s) = x ∧ pj_D s pl = i := by
        intro hn i
        rw [hr]
        constructor
        · rintro ⟨s, z1, z2⟩
          exact ⟨s, by omega, z2⟩
        · rintro ⟨s, z1, z2⟩
          by_cases e : s = j
          · subst e; exact absurd z2 (hn i)
          · exact ⟨s, by omega, z2⟩
      refine br_f (nI_ge (b := 1089) (by omega) (by omega)) (And.intro (vp_in_nI (by omega) (by omega)) ?_)
      by_cases hb : bt (yRE j) p = true
      · refine br_t (by rw [ec]; exact (pj_tst (by omega)).mpr hb) (And.intro (by decide) ?_)
        rw [pj_d9 (by omega)]
        refine pj_Yhv (by omega) ?_
        by_cases hx : nI (pj_ht j) = x
        · refine br_t hx ?_
          have hV := hok j (by omega) hx
          rw [← hx]
          refine pj_Ydigit (by omega) hV ?_
          rw [hx]
          refine nm_e (nm_r (e' := nI (j + 1)) (nI_1 j) ?_)
          refine ih (j + 1) _ (fun i => ?_) (by omega) (by omega)
          rw [b_or, Bool.or_eq_true, hr, pj_bit1 (by omega), decide_eq_true_eq]
          constructor
          · rintro (⟨s, z1, z2⟩ | z)
            · exact ⟨s, by omega, z2⟩
            · exact ⟨j, by omega, hb, hx, z.symm⟩
          · rintro ⟨s, z1, z2, z3, z4⟩
            by_cases e : s = j
            · subst e; exact Or.inr z4.symm
            · exact Or.inl ⟨s, by omega, z2, z3, z4⟩
        · refine br_f hx (nm_r (e' := nI (j + 1)) (nI_1 j) ?_)
          exact ih (j + 1) r (skip (fun i z => hx z.2.1)) (by omega) (by omega)
      · refine br_f (by rw [ec]; exact fun z => hb ((pj_tst (by omega)).mp z)) (nm_r (e' := nI (j + 1)) (nI_1 j) ?_)
        exact ih (j + 1) r (skip (fun i z => hb z.1)) (by omega) (by omega)
def pj_Ask (x2 x3 : Int32) : Prop := (¬ x3 < 0 ∧ x3 < x2) ∨ x3 = 4 ∨ x3 = 5
theorem pj_Ykinds {post : Int32 → Prop} {p : Nat} {x2 x3 : Int32} (W : pj_wf c G OP AR) (Y : pj_YO c G OP AR yRE yDI) (hpc : p < c)
    (K1 : ∀ pl : Nat, pl < 2 ^ 31 → x3 = nI pl → pj_Ask x2 x3 → ∀ r : Int32, (∀ i, bt r i = true ↔ ∃ d s, pj_R c G OP AR d s p ∧ nI (pj_ht s) = x2 ∧ pj_D s pl = i) → post r) (K2 : ¬ pj_Ask x2 x3 → post 0) : wpY_kinds post (nI G, yPS, nI c, yDO, yPC, yTL, yMD, yFK, yBT, OP, AR, yRE, yFR, yCO, yDI, ySK, yLO, yFI) (nI p) x2 x3 := by
  have hc := W.1
  have hask : pj_Ask x2 x3 → ∃ n37, wY_kinds_37 post (nI p) x2 x3 (nI G) yPS (nI c) yDO yPC yTL yMD yFK yBT OP AR yRE yFR yCO yDI ySK yLO yFI n37 0 0 := by
    intro hA
    have h3 : ¬ x3 < 0 := by
      rcases id hA with h | h | h
      · exact h.1
      · rw [h]; decide
      · rw [h]; decide
    obtain ⟨pl, hpl, rfl⟩ := nI_of h3
    refine ⟨1090, pj_Yk37 (by omega) (fun s hs hx => ?_) (fun r hr => K1 pl hpl rfl hA r (fun i => ?_)) 1090 0 0 pj_bit0 (by omega) (by omega)⟩
    · have hht := pj_ht_le s
      rcases hA with h | h | h
      · rw [← hx] at h
        exact Or.inl ((nI_ltI hpl (by omega)).mp h.2)
      · exact Or.inr (Or.inl ((nI_eq (b := 4) hpl (by omega)).mp h))
      · exact Or.inr (Or.inr ((nI_eq (b := 5) hpl (by omega)).mp h))
    · rw [hr]
      constructor
      · rintro ⟨s, hs, hb, hf⟩
        obtain ⟨d, hR⟩ := (Y.1 s hs p).mp hb
        exact ⟨d, s, hR, hf⟩
      · rintro ⟨d, s, hR, hf⟩
        have hs := (pj_Rlt W _ _ _ hR).2
        exact ⟨s, hs, (Y.1 s hs p).mpr ⟨d, hR⟩, hf⟩
  have k24 : ¬ (¬ x3 < 0 ∧ x3 < x2) → wY_kinds_24 post (nI p) x2 x3 0 (nI G) yPS (nI c) yDO yPC yTL yMD yFK yBT OP AR yRE yFR yCO yDI ySK yLO yFI := by
    intro hn
    unfold wY_kinds_24
    refine br_c (fun h => hask (Or.inr (Or.inl h))) (fun h4 => br_c (fun h => hask (Or.inr (Or.inr h))) (fun h5 => K2 ?_))
    rintro (h | h | h)
    · exact hn h
    · exact h4 h
    · exact h5 h
  unfold wpY_kinds
  refine br_f (nI_pos (by omega)) (br_f (nI_ge hpc (by omega)) ?_)
  exact br_c (fun h => k24 (fun z => z.1 h)) (fun h => br_c (fun h' => hask (Or.inl ⟨h, h'⟩)) (fun h' => k24 (fun z => h' z.2)))
end
end
section
section
variable {xMH xPO xSZ xQH xQC xJD xST xAT xTP xMD xCH xFK : Int32} {OP AR xMK xQD xQU xNT xFA xCE xLO xFI : Nat → Int32}
variable {c G : Nat}
theorem pj_Xv17 {post : Int32 → SX → Prop} (hc : c ≤ 16) (hp : post (if pj_or xNT c = 0 then 0 else 1) (xMH, xPO, nI c, xQH, xQC, xJD, xST, xAT, xTP, xMD, xCH, xFK, OP, AR, xMK, xQD, xQU, xNT, xFA, xCE, xLO, xFI)) :
    ∀ (n j : Nat), j ≤ c → c + 1 ≤ n + j → wX_verdict_17 post xMH xPO (nI c) xQH xQC xJD xST xAT xTP xMD xCH xFK OP AR xMK xQD xQU xNT xFA xCE xLO xFI n (pj_or xNT j) (nI j) := by
  intro n
  induction n with
  | zero => intro j h1 h2; omega
  | succ n ih =>
    intro j h1 h2
    by_cases hj : j = c
    · subst hj
      refine br_t (nI_le (Nat.le_refl j) (by omega)) (br_c (fun h => ?_) (fun h => ?_))
      · rw [if_pos h] at hp; exact hp
      · rw [if_neg h] at hp; exact hp
    · refine br_f (nI_ge (by omega) (by omega)) (And.intro (vp_in_nI (by omega) (by omega)) ?_)
      refine nm_r (e' := pj_or xNT (j + 1)) (by rw [nI_clamp (by omega)]; rfl) (nm_r (e' := nI (j + 1)) (nI_1 j) ?_)
      exact ih (j + 1) (by omega) (by omega)
theorem pj_Xverdict {post : Int32 → SX → Prop} (W : pj_wf c G OP AR) (hJ : ¬ xJD = 0 → pj_XO c G OP AR xMK xNT xFA) (hc0 : 0 < c)
    (K : ∀ (qh qc jd : Int32) (mk qd qu nt fa : Nat → Int32), ¬ jd = 0 → pj_XO c G OP AR mk nt fa → post (if pj_or nt c = 0 then 0 else 1) (nI G, xPO, nI c, qh, qc, jd, xST, xAT, xTP, xMD, xCH, xFK, OP, AR, mk, qd, qu, nt, fa, xCE, xLO, xFI)) : wpX_verdict post (nI G, xPO, nI c, xQH, xQC, xJD, xST, xAT, xTP, xMD, xCH, xFK, OP, AR, xMK, xQD, xQU, xNT, xFA, xCE, xLO, xFI) := by
  have hc := W.1
  unfold wpX_verdict
  refine br_f (nI_ne0 hc0 (by omega)) ?_
  refine pj_Xjudge W hJ ?_
  intro qh qc jd mk qd qu nt fa h1 h2
  exact ⟨c + 1, pj_Xv17 hc (K qh qc jd mk qd qu nt fa h1 h2) (c + 1) 0 (Nat.zero_le _) (Nat.le_refl _)⟩
theorem pj_XfaultsQ {post : Int32 → SX → Prop} {p : Nat} (W : pj_wf c G OP AR) (hJ : ¬ xJD = 0 → pj_XO c G OP AR xMK xNT xFA) (hpc : p < c)
    (K : ∀ (qh qc jd : Int32) (mk qd qu nt fa : Nat → Int32), ¬ jd = 0 → pj_XO c G OP AR mk nt fa → post (nt p) (nI G, xPO, nI c, qh, qc, jd, xST, xAT, xTP, xMD, xCH, xFK, OP, AR, mk, qd, qu, nt, fa, xCE, xLO, xFI)) : wpX_faults post (nI G, xPO, nI c, xQH, xQC, xJD, xST, xAT, xTP, xMD, xCH, xFK, OP, AR, xMK, xQD, xQU, xNT, xFA, xCE, xLO, xFI) (nI p) := by
  have hc := W.1
  unfold wpX_faults
  refine pj_XinT hpc hc ?_
  refine br_f (by decide) ?_
  refine pj_Xjudge W hJ ?_
  intro qh qc jd mk qd qu nt fa h1 h2
  refine And.intro (vp_in_nI (by omega) (by omega)) ?_
  rw [nI_clamp (by omega)]
  exact K qh qc jd mk qd qu nt fa h1 h2
theorem pj_Xh18 {post : Int32 → SX → Prop} {p : Nat} (hp16 : p < 16) (M : pj_MO c G OP AR xMK)
    (K : ∀ r : Int32, (∀ i, bt r i = true ↔ (i < 5 ∧ pj_Nd c G OP AR (p * 5 + i))) → post r (xMH, xPO, xSZ, xQH, xQC, xJD, xST, xAT, xTP, xMD, xCH, xFK, OP, AR, xMK, xQD, xQU, xNT, xFA, xCE, xLO, xFI)) :
    ∀ (n j : Nat) (r : Int32), (∀ i, bt r i = true ↔ (i < j ∧ pj_Nd c G OP AR (p * 5 + i))) → j ≤ 5 → 6 ≤ n + j → wX_heights_18 post (nI p) xMH xPO xSZ xQH xQC xJD xST xAT xTP xMD xCH xFK OP AR xMK xQD xQU xNT xFA xCE xLO xFI n r (nI j) := by
  intro n
  induction n with
  | zero => intro j r _ h1 h2; omega
  | succ n ih =>
    intro j r hr h1 h2
    by_cases hj : j = 5
    · subst hj
      exact br_t (nI_le (a := 5) (b := 5) (by omega) (by omega)) (K r hr)
    · have en : nI p * 5 + nI j = nI (p * 5 + j) := pj_node p j
      have ec : (nI (p * 5 + j)).toNatClampNeg = p * 5 + j := nI_clamp (by omega)
      refine br_f (nI_ge (b := 5) (by omega) (by omega)) ?_
      rw [en, ec]
      refine And.intro (vp_in_nI (by omega) (by omega)) ?_
      by_cases h0 : xMK (p * 5 + j) = 0
      · refine br_t h0 (nm_r (e' := nI (j + 1)) (nI_1 j) ?_)
        refine ih (j + 1) r (fun i => ?_) (by omega) (by omega)
        rw [hr]
        constructor
        · rintro ⟨z1, z2⟩; exact ⟨by omega, z2⟩
        · rintro ⟨z1, z2⟩
          by_cases e : i = j
          · subst e; exact absurd h0 ((pj_MO_nz M (by omega)).mpr z2)
          · exact ⟨by omega, z2⟩
      · refine br_f h0 (nm_e (nm_r (e' := nI (j + 1)) (nI_1 j) ?_))
        refine ih (j + 1) _ (fun i => ?_) (by omega) (by omega)
        rw [b_or, Bool.or_eq_true, hr, pj_bit1 (by omega), decide_eq_true_eq]
        constructor
        · rintro (⟨z1, z2⟩ | z)
          · exact ⟨by omega, z2⟩
          · subst z; exact ⟨by omega, (pj_MO_nz M (by omega)).mp h0⟩
        · rintro ⟨z1, z2⟩
          by_cases e : i = j
          · exact Or.inr e
          · exact Or.inl ⟨by omega, z2⟩
theorem pj_Nd5 {p i : Nat} (hi : i < 5) : pj_Nd c G OP AR (p * 5 + i) ↔ ∃ d s, pj_R c G OP AR d s p ∧ pj_ht s = i := by
  have e5 := pj_nd5 (q := p) (h := i) (by omega)
  unfold pj_Nd
  rw [e5.1, e5.2]
theorem pj_Xheights {post : Int32 → SX → Prop} {p : Nat} (W : pj_wf c G OP AR) (hJ : ¬ xJD = 0 → pj_XO c G OP AR xMK xNT xFA) (hpc : p < c)
    (K : ∀ (r qh qc jd : Int32) (mk qd qu nt fa : Nat → Int32), ¬ jd = 0 → pj_XO c G OP AR mk nt fa → pj_HV c G OP AR p r → post r (nI G, xPO, nI c, qh, qc, jd, xST, xAT, xTP, xMD, xCH, xFK, OP, AR, mk, qd, qu, nt, fa, xCE, xLO, xFI)) : wpX_heights post (nI G, xPO, nI c, xQH, xQC, xJD, xST, xAT, xTP, xMD, xCH, xFK, OP, AR, xMK, xQD, xQU, xNT, xFA, xCE, xLO, xFI) (nI p) := by
  have hc := W.1
  unfold wpX_heights
  refine pj_XinT hpc hc ?_
  refine br_f (by decide) ?_
  refine pj_Xjudge W hJ ?_
  intro qh qc jd mk qd qu nt fa h1 h2
  refine ⟨6, pj_Xh18 (by omega) h2.1 (fun r hr => K r qh qc jd mk qd qu nt fa h1 h2 (fun i => ?_)) 6 0 0 (fun i => ?_) (by omega) (by omega)⟩
  · rw [hr]
    constructor
    · rintro ⟨z1, z2⟩
      exact (pj_Nd5 z1).mp z2
    · rintro ⟨d, s, hR, hh⟩
      have := pj_ht_le s
      exact ⟨by omega, (pj_Nd5 (by omega)).mpr ⟨d, s, hR, hh⟩⟩
  · rw [b_0]
    exact ⟨fun z => Bool.noConfusion z, fun z => absurd z.1 (Nat.not_lt_zero i)⟩
theorem pj_Xkinds {post : Int32 → SX → Prop} {p : Nat} {x2 x3 : Int32} (W : pj_wf c G OP AR) (hJ : ¬ xJD = 0 → pj_XO c G OP AR xMK xNT xFA) (hpc : p < c)
    (K1 : ∀ (h pl : Nat), h < 5 → pl < 6 → x2 = nI h → x3 = nI pl → pj_V h pl → ∀ (qh qc jd : Int32) (mk qd qu nt fa : Nat → Int32), ¬ jd = 0 → pj_XO c G OP AR mk nt fa → post (pj_ka (mk (p * 5 + h)) pl) (nI G, xPO, nI c, qh, qc, jd, xST, xAT, xTP, xMD, xCH, xFK, OP, AR, mk, qd, qu, nt, fa, xCE, xLO, xFI))
    (K2 : ¬ (pj_Ask x2 x3 ∧ ∃ h, h < 5 ∧ x2 = nI h) → post 0 (nI G, xPO, nI c, xQH, xQC, xJD, xST, xAT, xTP, xMD, xCH, xFK, OP, AR, xMK, xQD, xQU, xNT, xFA, xCE, xLO, xFI)) : wpX_kinds post (nI G, xPO, nI c, xQH, xQC, xJD, xST, xAT, xTP, xMD, xCH, xFK, OP, AR, xMK, xQD, xQU, xNT, xFA, xCE, xLO, xFI) (nI p) x2 x3 := by
  have hc := W.1
  unfold wpX_kinds
  refine pj_XinT hpc hc ?_
  refine br_f (by decide) ?_
  refine br_c (fun h0 => K2 ?_) (fun h0 => br_c (fun h5 => ?_) (fun h5 => K2 ?_))
  · rintro ⟨_, h, hh, rfl⟩
    exact nI_pos (by omega) h0
  · obtain ⟨h, hh31, rfl⟩ := nI_of h0
    have hh : h < 5 := (nI_ltI (b := 5) hh31 (by omega)).mp h5
    have k52 : ∀ pl : Nat, pl < 6 → x3 = nI pl → pj_V h pl → wX_kinds_52 post (nI p) (nI h) x3 (nI G) xPO (nI c) xQH xQC xJD xST xAT xTP xMD xCH xFK OP AR xMK xQD xQU xNT xFA xCE xLO xFI := by
      intro pl hpl hx hV
      unfold wX_kinds_52
      refine pj_Xjudge W hJ ?_
      intro qh qc jd mk qd qu nt fa h1 h2
      rw [pj_node, nI_clamp (by omega)]
      refine And.intro (vp_in_nI (by omega) (by omega)) ?_
      exact pj_kA hx (K1 h pl hh hpl rfl hx hV qh qc jd mk qd qu nt fa h1 h2)
    have k32 : ¬ (¬ x3 < 0 ∧ x3 < nI h) → wX_kinds_32 post (nI p) (nI h) x3 (nI G) xPO (nI c) xQH xQC xJD xST xAT xTP xMD xCH xFK OP AR xMK xQD xQU xNT xFA xCE xLO xFI := by
      intro hn
      unfold wX_kinds_32 wX_kinds_33
      refine br_t rfl (br_c (fun h4 => k52 4 (by omega) h4 (Or.inr (Or.inl rfl))) (fun h4 => br_c (fun h5 => k52 5 (by omega) h5 (Or.inr (Or.inr rfl))) (fun h5 => K2 ?_)))
      rintro ⟨z | z | z, _⟩
      · exact hn z
      · exact h4 z
      · exact h5 z
    refine br_c (fun h3 => k32 (fun z => z.1 h3)) (fun h3 => br_c (fun h4 => k32 (fun z => Int32.not_lt.mpr h4 z.2)) (fun h4 => ?_))
    unfold wX_kinds_33
    refine br_f (by decide) ?_
    obtain ⟨pl, hpl, hx⟩ := nI_of h3
    have hlt : pl < h := by
      apply Classical.byContradiction
      intro z
      apply h4
      rw [hx]
      exact nI_le (by omega) hpl
    exact k52 pl (by omega) hx (Or.inl hlt)
  · rintro ⟨_, h, hh, rfl⟩
    exact h5 (nI_lt (b := 5) hh (by omega))
/-! distance -/
def pj_DV (c G : Nat) (OP AR : Nat → Int32) (p : Nat) (b : Int32) : Prop := (b = -1 ∧ ∀ d s, ¬ pj_R c G OP AR d s p) ∨ ∃ d, d < 20000 ∧ b = nI d ∧ (∃ s, pj_R c G OP AR d s p) ∧ ∀ d' s, pj_R c G OP AR d' s p → d ≤ d'
theorem pj_DVu {p : Nat} {a b : Int32} (ha : pj_DV c G OP AR p a) (hb : pj_DV c G OP AR p b) : a = b := by
  rcases ha with ⟨rfl, ha⟩ | ⟨d, _, rfl, ⟨s, hs⟩, hm⟩
  · rcases hb with ⟨rfl, _⟩ | ⟨d, _, rfl, ⟨s, hs⟩, _⟩
    · rfl
    · exact absurd hs (ha d s)
  · rcases hb with ⟨rfl, hb⟩ | ⟨d', _, rfl, ⟨s', hs'⟩, hm'⟩
    · exact absurd hs (hb d s)
    · have h1 := hm d' s' hs'
      have h2 := hm' d s hs
      exact congrArg nI (by omega)
def pj_DJ (fa : Nat → Int32) (p j : Nat) (b : Int32) : Prop := (b = -1 ∧ ∀ h, h < j → fa (p * 5 + h) = -1) ∨ ∃ d, d < 81 ∧ b = nI d ∧ (∃ h, h < j ∧ fa (p * 5 + h) = nI d) ∧ ∀ h d', h < j → d' < 81 → fa (p * 5 + h) = nI d' → d ≤ d'
theorem pj_m1n {d : Nat} (hd : d < 2 ^ 31) : ¬ (-1 : Int32) = nI d := by
  intro z
  have := nI_pos (n := d) hd
  rw [← z] at this
  exact this (by decide)
theorem pj_DJs1 {fa : Nat → Int32} {p j : Nat} {b : Int32} (h : pj_DJ fa p j b) (hf : fa (p * 5 + j) = -1) : pj_DJ fa p (j + 1) b := by
  rcases h with ⟨e, h⟩ | ⟨d, hd, e, ⟨h1, h2, h3⟩, hm⟩
  · refine Or.inl ⟨e, fun h' hh => ?_⟩
    by_cases z : h' = j
    · subst z; exact hf
    · exact h h' (by omega)
  · refine Or.inr ⟨d, hd, e, ⟨h1, by omega, h3⟩, fun h' d' hh hd' hx => ?_⟩
    by_cases z : h' = j
    · subst z
      rw [hf] at hx
      exact absurd hx (pj_m1n (by omega))
    · exact hm h' d' (by omega) hd' hx
theorem pj_DJs2 {fa : Nat → Int32} {p j d : Nat} {b : Int32} (h : pj_DJ fa p j b) (hd : d < 81) (hf : fa (p * 5 + j) = nI d) (hb : b = -1 ∨ ∃ d0, d0 < 81 ∧ b = nI d0 ∧ d < d0) : pj_DJ fa p (j + 1) (nI d) := by
  refine Or.inr ⟨d, hd, rfl, ⟨j, by omega, hf⟩, fun h' d' hh hd' hx => ?_⟩
  by_cases z : h' = j
  · subst z
    rw [hf] at hx
    have := (nI_eq (by omega) (by omega)).mp hx
    omega
  · rcases h with ⟨_, h⟩ | ⟨d1, hd1, e1, _, hm⟩
    · rw [h h' (by omega)] at hx
      exact absurd hx (pj_m1n (by omega))
    · rcases hb with hb | ⟨d0, hd0, hb, hlt⟩
      · rw [hb] at e1
        exact absurd e1 (pj_m1n (by omega))
      · rw [hb] at e1
        have := (nI_eq (by omega) (by omega)).mp e1
        have := hm h' d' (by omega) hd' hx
        omega
theorem pj_DJs3 {fa : Nat → Int32} {p j d d0 : Nat} {b : Int32} (h : pj_DJ fa p j b) (hd : d < 81) (hf : fa (p * 5 + j) = nI d) (hd0 : d0 < 81) (hb : b = nI d0) (hle : d0 ≤ d) : pj_DJ fa p (j + 1) b := by
  rcases h with ⟨e, _⟩ | ⟨d1, hd1, e1, ⟨h1, h2, h3⟩, hm⟩
  · rw [hb] at e
    exact absurd e.symm (pj_m1n (by omega))
  · have e2 : d1 = d0 := by
      rw [hb] at e1
      exact ((nI_eq (by omega) (by omega)).mp e1).symm
    refine Or.inr ⟨d1, hd1, e1, ⟨h1, by omega, h3⟩, fun h' d' hh hd' hx => ?_⟩
    by_cases z : h' = j
    · subst z
      rw [hf] at hx
      have := (nI_eq (by omega) (by omega)).mp hx
      omega
    · exact hm h' d' (by omega) hd' hx
theorem pj_Xd18 {post : Int32 → SX → Prop} {p : Nat} (hp16 : p < 16) (hF : ∀ n, n < 80 → xFA n = -1 ∨ ∃ d, d < 81 ∧ xFA n = nI d) (K : ∀ b : Int32, pj_DJ xFA p 5 b → post b (xMH, xPO, xSZ, xQH, xQC, xJD, xST, xAT, xTP, xMD, xCH, xFK, OP, AR, xMK, xQD, xQU, xNT, xFA, xCE, xLO, xFI)) :
    ∀ (n j : Nat) (b : Int32), pj_DJ xFA p j b → j ≤ 5 → 6 ≤ n + j → wX_distance_18 post (nI p) xMH xPO xSZ xQH xQC xJD xST xAT xTP xMD xCH xFK OP AR xMK xQD xQU xNT xFA xCE xLO xFI n b (nI j) := by
  intro n
  induction n with
  | zero => intro j r _ h1 h2; omega
  | succ n ih =>
    intro j b hb h1 h2
    by_cases hj : j = 5
    · subst hj
      exact br_t (nI_le (a := 5) (b := 5) (by omega) (by omega)) (K b hb)
    · have en : nI p * 5 + nI j = nI (p * 5 + j) := pj_node p j
      have ec : (nI (p * 5 + j)).toNatClampNeg = p * 5 + j := nI_clamp (by omega)
      refine br_f (nI_ge (b := 5) (by omega) (by omega)) ?_
      rw [en, ec]
      refine And.intro (vp_in_nI (by omega) (by omega)) ?_
      rcases hF (p * 5 + j) (by omega) with hf | ⟨d, hd, hf⟩
      · refine nm_r (e' := -1) hf ?_
        refine br_t (by decide) (nm_r (e' := nI (j + 1)) (nI_1 j) ?_)
        exact ih (j + 1) b (pj_DJs1 hb hf) (by omega) (by omega)
      · refine nm_r (e' := nI d) hf ?_
        refine br_f (nI_pos (by omega)) ?_
        rcases id hb with ⟨e, _⟩ | ⟨d0, hd0, e, _⟩
        · refine br_t (by rw [e]; decide) (nm_r (e' := nI (j + 1)) (nI_1 j) ?_)
          exact ih (j + 1) _ (pj_DJs2 hb hd hf (Or.inl e)) (by omega) (by omega)
        · refine br_f (by rw [e]; exact nI_pos (by omega)) ?_
          refine pk_le d0 d (fun hle => ?_) (fun hlt => ?_) e rfl (by omega) (by omega)
          · refine nm_r (e' := nI (j + 1)) (nI_1 j) ?_
            exact ih (j + 1) b (pj_DJs3 hb hd hf hd0 e hle) (by omega) (by omega)
          · refine nm_r (e' := nI (j + 1)) (nI_1 j) ?_
            exact ih (j + 1) _ (pj_DJs2 hb hd hf (Or.inr ⟨d0, hd0, e, hlt⟩)) (by omega) (by omega)
theorem pj_DJV {fa : Nat → Int32} {p : Nat} {b : Int32} (hp16 : p < 16) (F : pj_FO c G OP AR fa) (h : pj_DJ fa p 5 b) : pj_DV c G OP AR p b := by
  have F' : ∀ i, i < 5 → (fa (p * 5 + i) = -1 ∧ ∀ d s, pj_R c G OP AR d s p → ¬ pj_ht s = i) ∨ ∃ d, d < 81 ∧ fa (p * 5 + i) = nI d ∧ (∃ s, pj_R c G OP AR d s p ∧ pj_ht s = i) ∧ ∀ d' s, pj_R c G OP AR d' s p → pj_ht s = i → d ≤ d' := by
    intro i hi
    have := F (p * 5 + i) (by omega)
    have e5 := pj_nd5 (q := p) (h := i) (by omega)
    rw [e5.1, e5.2] at this
    rcases this with ⟨a, b⟩ | h
    · exact Or.inl ⟨a, fun d s hR hh => b ((pj_Nd5 hi).mpr ⟨d, s, hR, hh⟩)⟩
    · exact Or.inr h
  rcases h with ⟨e, h⟩ | ⟨d, hd, e, ⟨i, hi, hf⟩, hm⟩
  · refine Or.inl ⟨e, fun d s hR => ?_⟩
    have hht := pj_ht_le s
    rcases F' (pj_ht s) (by omega) with ⟨_, z⟩ | ⟨d', hd', z, _⟩
    · exact z d s hR rfl
    · rw [h (pj_ht s) (by omega)] at z
      exact absurd z (pj_m1n (by omega))
  · refine Or.inr ⟨d, by omega, e, ?_, fun d' s hR => ?_⟩
    · rcases F' i hi with ⟨z, _⟩ | ⟨d2, hd2, z, ⟨s, hs, _⟩, _⟩
      · rw [hf] at z
        exact absurd z.symm (pj_m1n (by omega))
      · rw [hf] at z
        rw [(nI_eq (by omega) (by omega)).mp z]
        exact ⟨s, hs⟩
    · have hht := pj_ht_le s
      rcases F' (pj_ht s) (by omega) with ⟨_, z⟩ | ⟨d2, hd2, z, _, hmin⟩
      · exact absurd rfl (z d' s hR)
      · have h1 := hm (pj_ht s) d2 (by omega) hd2 z
        have h2 := hmin d' s hR rfl
        omega
theorem pj_Xdistance {post : Int32 → SX → Prop} {p : Nat} (W : pj_wf c G OP AR) (hJ : ¬ xJD = 0 → pj_XO c G OP AR xMK xNT xFA) (hpc : p < c)
    (K : ∀ (r qh qc jd : Int32) (mk qd qu nt fa : Nat → Int32), ¬ jd = 0 → pj_XO c G OP AR mk nt fa → pj_DV c G OP AR p r → post r (nI G, xPO, nI c, qh, qc, jd, xST, xAT, xTP, xMD, xCH, xFK, OP, AR, mk, qd, qu, nt, fa, xCE, xLO, xFI)) : wpX_distance post (nI G, xPO, nI c, xQH, xQC, xJD, xST, xAT, xTP, xMD, xCH, xFK, OP, AR, xMK, xQD, xQU, xNT, xFA, xCE, xLO, xFI) (nI p) := by
  have hc := W.1
  unfold wpX_distance
  refine pj_XinT hpc hc ?_
  refine br_f (by decide) ?_
  refine pj_Xjudge W hJ ?_
  intro qh qc jd mk qd qu nt fa h1 h2
  refine ⟨6, pj_Xd18 (by omega) (fun n hn => ?_) (fun r hr => K r qh qc jd mk qd qu nt fa h1 h2 (pj_DJV (by omega) h2.2.2 hr)) 6 0 (-1) (Or.inl ⟨rfl, fun h hh => absurd hh (Nat.not_lt_zero h)⟩) (by omega) (by omega)⟩
  rcases h2.2.2 n hn with ⟨z, _⟩ | ⟨d, hd, z, _⟩
  · exact Or.inl z
  · exact Or.inr ⟨d, hd, z⟩
end
end
section
section
variable {xMH xPO xSZ xQH xQC xJD xST xAT xTP xMD xCH xFK yGR yPS yCT yDO yPC yTL yMD yFK yBT : Int32} {OP AR xMK xQD xQU xNT xFA xCE xLO xFI yRE yFR yCO yDI ySK yLO yFI : Nat → Int32}
variable {c G : Nat}
/-! the machine: what an instruction does to cells, locals, fields -/
def pj_ce (o : Nat) (a md : Int32) (h : Nat) (ce lo fi : Nat → Int32) : Nat → Int32 :=
  if o = 0 then upd ce h a else if o = 1 then upd ce h md else if o = 3 then upd ce h (ce (h - 1)) else if o = 4 then upd (upd ce (h - 1) (ce (h - 2))) (h - 2) (ce (h - 1))
  else if o = 5 then upd ce (h - 2) (ce (h - 1) + ce (h - 2)) else if o = 6 then upd ce (h - 1) (fi (ce (h - 1) &&& 7).toNatClampNeg)
  else if o = 8 then upd ce h (lo (a &&& 1).toNatClampNeg) else if o = 12 then upd ce (h - 2) (if ce (h - 1) = ce (h - 2) then 1 else 0) else ce
def pj_lo (o : Nat) (a : Int32) (h : Nat) (ce lo : Nat → Int32) : Nat → Int32 := if o = 9 then upd lo (a &&& 1).toNatClampNeg (ce (h - 1)) else lo
def pj_fi (o : Nat) (md : Int32) (h : Nat) (ce fi : Nat → Int32) : Nat → Int32 := if o = 1 then upd fi (md &&& 7).toNatClampNeg 0 else if o = 7 then upd fi (ce (h - 2) &&& 7).toNatClampNeg (ce (h - 1)) else fi
def pj_md (o : Nat) (md : Int32) : Int32 := if o = 1 then md + 1 else md
theorem pj_ce0 (a md : Int32) (h : Nat) (ce lo fi : Nat → Int32) : pj_ce 0 a md h ce lo fi = upd ce h a := rfl
theorem pj_lo0 (a : Int32) (h : Nat) (ce lo : Nat → Int32) : pj_lo 0 a h ce lo = lo := rfl
theorem pj_fi0 (md : Int32) (h : Nat) (ce fi : Nat → Int32) : pj_fi 0 md h ce fi = fi := rfl
theorem pj_md0 (md : Int32) : pj_md 0 md = md := rfl
theorem pj_nh0 (h : Nat) : pj_nh 0 h = h + 1 := rfl
theorem pj_ce1 (a md : Int32) (h : Nat) (ce lo fi : Nat → Int32) : pj_ce 1 a md h ce lo fi = upd ce h md := rfl
theorem pj_lo1 (a : Int32) (h : Nat) (ce lo : Nat → Int32) : pj_lo 1 a h ce lo = lo := rfl
theorem pj_fi1 (md : Int32) (h : Nat) (ce fi : Nat → Int32) : pj_fi 1 md h ce fi = upd fi (md &&& 7).toNatClampNeg 0 := rfl
theorem pj_md1 (md : Int32) : pj_md 1 md = md + 1 := rfl
theorem pj_nh1 (h : Nat) : pj_nh 1 h = h + 1 := rfl
theorem pj_ce2 (a md : Int32) (h : Nat) (ce lo fi : Nat → Int32) : pj_ce 2 a md h ce lo fi = ce := rfl
theorem pj_lo2 (a : Int32) (h : Nat) (ce lo : Nat → Int32) : pj_lo 2 a h ce lo = lo := rfl
theorem pj_fi2 (md : Int32) (h : Nat) (ce fi : Nat → Int32) : pj_fi 2 md h ce fi = fi := rfl
theorem pj_md2 (md : Int32) : pj_md 2 md = md := rfl
theorem pj_nh2 (h : Nat) : pj_nh 2 h = h - 1 := rfl
theorem pj_ce3 (a md : Int32) (h : Nat) (ce lo fi : Nat → Int32) : pj_ce 3 a md h ce lo fi = upd ce h (ce (h - 1)) := rfl
theorem pj_lo3 (a : Int32) (h : Nat) (ce lo : Nat → Int32) : pj_lo 3 a h ce lo = lo := rfl
theorem pj_fi3 (md : Int32) (h : Nat) (ce fi : Nat → Int32) : pj_fi 3 md h ce fi = fi := rfl
theorem pj_md3 (md : Int32) : pj_md 3 md = md := rfl
theorem pj_nh3 (h : Nat) : pj_nh 3 h = h + 1 := rfl
theorem pj_ce4 (a md : Int32) (h : Nat) (ce lo fi : Nat → Int32) : pj_ce 4 a md h ce lo fi = upd (upd ce (h - 1) (ce (h - 2))) (h - 2) (ce (h - 1)) := rfl
theorem pj_lo4 (a : Int32) (h : Nat) (ce lo : Nat → Int32) : pj_lo 4 a h ce lo = lo := rfl
theorem pj_fi4 (md : Int32) (h : Nat) (ce fi : Nat → Int32) : pj_fi 4 md h ce fi = fi := rfl
theorem pj_md4 (md : Int32) : pj_md 4 md = md := rfl
theorem pj_nh4 (h : Nat) : pj_nh 4 h = h := rfl
theorem pj_ce5 (a md : Int32) (h : Nat) (ce lo fi : Nat → Int32) : pj_ce 5 a md h ce lo fi = upd ce (h - 2) (ce (h - 1) + ce (h - 2)) := rfl
theorem pj_lo5 (a : Int32) (h : Nat) (ce lo : Nat → Int32) : pj_lo 5 a h ce lo = lo := rfl
theorem pj_fi5 (md : Int32) (h : Nat) (ce fi : Nat → Int32) : pj_fi 5 md h ce fi = fi := rfl
theorem pj_md5 (md : Int32) : pj_md 5 md = md := rfl
theorem pj_nh5 (h : Nat) : pj_nh 5 h = h - 1 := rfl
theorem pj_ce6 (a md : Int32) (h : Nat) (ce lo fi : Nat → Int32) : pj_ce 6 a md h ce lo fi = upd ce (h - 1) (fi (ce (h - 1) &&& 7).toNatClampNeg) := rfl
theorem pj_lo6 (a : Int32) (h : Nat) (ce lo : Nat → Int32) : pj_lo 6 a h ce lo = lo := rfl
theorem pj_fi6 (md : Int32) (h : Nat) (ce fi : Nat → Int32) : pj_fi 6 md h ce fi = fi := rfl
theorem pj_md6 (md : Int32) : pj_md 6 md = md := rfl
theorem pj_nh6 (h : Nat) : pj_nh 6 h = h := rfl
theorem pj_ce7 (a md : Int32) (h : Nat) (ce lo fi : Nat → Int32) : pj_ce 7 a md h ce lo fi = ce := rfl
theorem pj_lo7 (a : Int32) (h : Nat) (ce lo : Nat → Int32) : pj_lo 7 a h ce lo = lo := rfl
theorem pj_fi7 (md : Int32) (h : Nat) (ce fi : Nat → Int32) : pj_fi 7 md h ce fi = upd fi (ce (h - 2) &&& 7).toNatClampNeg (ce (h - 1)) := rfl
theorem pj_md7 (md : Int32) : pj_md 7 md = md := rfl
theorem pj_nh7 (h : Nat) : pj_nh 7 h = h - 2 := rfl
theorem pj_ce8 (a md : Int32) (h : Nat) (ce lo fi : Nat → Int32) : pj_ce 8 a md h ce lo fi = upd ce h (lo (a &&& 1).toNatClampNeg) := rfl
theorem pj_lo8 (a : Int32) (h : Nat) (ce lo : Nat → Int32) : pj_lo 8 a h ce lo = lo := rfl
theorem pj_fi8 (md : Int32) (h : Nat) (ce fi : Nat → Int32) : pj_fi 8 md h ce fi = fi := rfl
theorem pj_md8 (md : Int32) : pj_md 8 md = md := rfl
theorem pj_nh8 (h : Nat) : pj_nh 8 h = h + 1 := rfl
theorem pj_ce9 (a md : Int32) (h : Nat) (ce lo fi : Nat → Int32) : pj_ce 9 a md h ce lo fi = ce := rfl
theorem pj_lo9 (a : Int32) (h : Nat) (ce lo : Nat → Int32) : pj_lo 9 a h ce lo = upd lo (a &&& 1).toNatClampNeg (ce (h - 1)) := rfl
theorem pj_fi9 (md : Int32) (h : Nat) (ce fi : Nat → Int32) : pj_fi 9 md h ce fi = fi := rfl
theorem pj_md9 (md : Int32) : pj_md 9 md = md := rfl
theorem pj_nh9 (h : Nat) : pj_nh 9 h = h - 1 := rfl
theorem pj_ce12 (a md : Int32) (h : Nat) (ce lo fi : Nat → Int32) : pj_ce 12 a md h ce lo fi = upd ce (h - 2) (if ce (h - 1) = ce (h - 2) then 1 else 0) := rfl
theorem pj_lo12 (a : Int32) (h : Nat) (ce lo : Nat → Int32) : pj_lo 12 a h ce lo = lo := rfl
theorem pj_fi12 (md : Int32) (h : Nat) (ce fi : Nat → Int32) : pj_fi 12 md h ce fi = fi := rfl
theorem pj_md12 (md : Int32) : pj_md 12 md = md := rfl
theorem pj_nh12 (h : Nat) : pj_nh 12 h = h - 1 := rfl
theorem pj_i3 {x : Int32} : vp_in (x &&& 3) 4 := pk_andIn x 2 rfl (by omega)
theorem pj_i7 {x : Int32} : vp_in (x &&& 7) 8 := pk_andIn x 3 rfl (by omega)
theorem pj_i1 {x : Int32} : vp_in (x &&& 1) 2 := pk_andIn x 1 rfl (by omega)
theorem pj_a3 {k : Nat} (hk : k < 4) : (nI k &&& 3).toNatClampNeg = k := by
  rw [pk_andN (m := 3) (by omega) 2 rfl, show k % 2 ^ 2 = k from Nat.mod_eq_of_lt hk, nI_clamp (by omega)]
theorem pj_Xget {post : Int32 → Prop} {x : Int32} {k : Nat} (hx : x = nI k) (hk : k < 4) (hp : post (xCE k)) : wpX_getCell post (xMH, xPO, xSZ, xQH, xQC, xJD, xST, xAT, xTP, xMD, xCH, xFK, OP, AR, xMK, xQD, xQU, xNT, xFA, xCE, xLO, xFI) x := by
  subst hx
  unfold wpX_getCell
  refine And.intro pj_i3 ?_
  rw [pj_a3 hk]; exact hp
theorem pj_Xgetq {post : Int32 → Prop} {x : Int32} (hp : ∀ r, post r) : wpX_getCell post (xMH, xPO, xSZ, xQH, xQC, xJD, xST, xAT, xTP, xMD, xCH, xFK, OP, AR, xMK, xQD, xQU, xNT, xFA, xCE, xLO, xFI) x := by
  unfold wpX_getCell
  exact And.intro pj_i3 (hp _)
theorem pj_Xset {post : SX → Prop} {x y : Int32} {k : Nat} (hx : x = nI k) (hk : k < 4) (hp : post (xMH, xPO, xSZ, xQH, xQC, xJD, xST, xAT, xTP, xMD, xCH, xFK, OP, AR, xMK, xQD, xQU, xNT, xFA, upd xCE k y, xLO, xFI)) : wpX_setCell post (xMH, xPO, xSZ, xQH, xQC, xJD, xST, xAT, xTP, xMD, xCH, xFK, OP, AR, xMK, xQD, xQU, xNT, xFA, xCE, xLO, xFI) x y := by
  subst hx
  unfold wpX_setCell
  refine And.intro pj_i3 ?_
  rw [pj_a3 hk]; exact nm_e hp
theorem pj_lit {a b : Nat} (h : ¬ a = b) (ha : a < 100) (hb : b < 100) : ¬ nI a = nI b := fun z => h ((nI_eq (by omega) (by omega)).mp z)
theorem pj_Xco4 {post : SX → Prop} {h : Nat} (h1 : 2 ≤ h) (hh : h ≤ 4) (hp : post (xMH, xPO, xSZ, xQH, xQC, xJD, xST, xAT, nI h, xMD, xCH, xFK, OP, AR, xMK, xQD, xQU, xNT, xFA, pj_ce 4 0 0 h xCE xLO xFI, xLO, pj_fi 4 0 h xCE xFI)) : wpX_combine post (xMH, xPO, xSZ, xQH, xQC, xJD, xST, xAT, nI h, xMD, xCH, xFK, OP, AR, xMK, xQD, xQU, xNT, xFA, xCE, xLO, xFI) (nI 4) := by
  rw [pj_ce4, pj_fi4] at hp
  unfold wpX_combine
  refine pj_Xget (k := h - 1) (pj_s1 (by omega)) (by omega) ?_
  refine pj_Xget (k := h - 2) (pj_s2 (by omega)) (by omega) ?_
  refine br_t rfl ?_
  refine pj_Xset (k := h - 1) (pj_s1 (by omega)) (by omega) ?_
  exact pj_Xset (k := h - 2) (pj_s2 (by omega)) (by omega) hp
theorem pj_Xco5 {post : SX → Prop} {h : Nat} (h1 : 2 ≤ h) (hh : h ≤ 4) (hp : post (xMH, xPO, xSZ, xQH, xQC, xJD, xST, xAT, nI h, xMD, xCH, xFK, OP, AR, xMK, xQD, xQU, xNT, xFA, pj_ce 5 0 0 h xCE xLO xFI, xLO, pj_fi 5 0 h xCE xFI)) : wpX_combine post (xMH, xPO, xSZ, xQH, xQC, xJD, xST, xAT, nI h, xMD, xCH, xFK, OP, AR, xMK, xQD, xQU, xNT, xFA, xCE, xLO, xFI) (nI 5) := by
  rw [pj_ce5, pj_fi5] at hp
  unfold wpX_combine
  refine pj_Xget (k := h - 1) (pj_s1 (by omega)) (by omega) ?_
  refine pj_Xget (k := h - 2) (pj_s2 (by omega)) (by omega) ?_
  refine br_f (pj_lit (a := 5) (b := 4) (by decide) (by decide) (by decide)) ?_
  refine br_t rfl ?_
  exact pj_Xset (k := h - 2) (pj_s2 (by omega)) (by omega) hp
theorem pj_Xco6 {post : SX → Prop} {h : Nat} (h1 : 1 ≤ h) (hh : h ≤ 4) (hp : post (xMH, xPO, xSZ, xQH, xQC, xJD, xST, xAT, nI h, xMD, xCH, xFK, OP, AR, xMK, xQD, xQU, xNT, xFA, pj_ce 6 0 0 h xCE xLO xFI, xLO, pj_fi 6 0 h xCE xFI)) : wpX_combine post (xMH, xPO, xSZ, xQH, xQC, xJD, xST, xAT, nI h, xMD, xCH, xFK, OP, AR, xMK, xQD, xQU, xNT, xFA, xCE, xLO, xFI) (nI 6) := by
  rw [pj_ce6, pj_fi6] at hp
  unfold wpX_combine
  refine pj_Xget (k := h - 1) (pj_s1 (by omega)) (by omega) ?_
  refine pj_Xgetq (fun r => ?_)
  refine br_f (pj_lit (a := 6) (b := 4) (by decide) (by decide) (by decide)) ?_
  refine br_f (pj_lit (a := 6) (b := 5) (by decide) (by decide) (by decide)) ?_
  refine br_t rfl (And.intro pj_i7 ?_)
  exact pj_Xset (k := h - 1) (pj_s1 (by omega)) (by omega) hp
theorem pj_Xco7 {post : SX → Prop} {h : Nat} (h1 : 2 ≤ h) (hh : h ≤ 4) (hp : post (xMH, xPO, xSZ, xQH, xQC, xJD, xST, xAT, nI h, xMD, xCH, xFK, OP, AR, xMK, xQD, xQU, xNT, xFA, pj_ce 7 0 0 h xCE xLO xFI, xLO, pj_fi 7 0 h xCE xFI)) : wpX_combine post (xMH, xPO, xSZ, xQH, xQC, xJD, xST, xAT, nI h, xMD, xCH, xFK, OP, AR, xMK, xQD, xQU, xNT, xFA, xCE, xLO, xFI) (nI 7) := by
  rw [pj_ce7, pj_fi7] at hp
  unfold wpX_combine
  refine pj_Xget (k := h - 1) (pj_s1 (by omega)) (by omega) ?_
  refine pj_Xget (k := h - 2) (pj_s2 (by omega)) (by omega) ?_
  refine br_f (pj_lit (a := 7) (b := 4) (by decide) (by decide) (by decide)) ?_
  refine br_f (pj_lit (a := 7) (b := 5) (by decide) (by decide) (by decide)) ?_
  refine br_f (pj_lit (a := 7) (b := 6) (by decide) (by decide) (by decide)) ?_
  exact br_t rfl (And.intro pj_i7 (nm_e hp))
theorem pj_Xco12 {post : SX → Prop} {h : Nat} (h1 : 2 ≤ h) (hh : h ≤ 4) (hp : post (xMH, xPO, xSZ, xQH, xQC, xJD, xST, xAT, nI h, xMD, xCH, xFK, OP, AR, xMK, xQD, xQU, xNT, xFA, pj_ce 12 0 0 h xCE xLO xFI, xLO, pj_fi 12 0 h xCE xFI)) : wpX_combine post (xMH, xPO, xSZ, xQH, xQC, xJD, xST, xAT, nI h, xMD, xCH, xFK, OP, AR, xMK, xQD, xQU, xNT, xFA, xCE, xLO, xFI) (nI 12) := by
  rw [pj_ce12, pj_fi12] at hp
  unfold wpX_combine
  refine pj_Xget (k := h - 1) (pj_s1 (by omega)) (by omega) ?_
  refine pj_Xget (k := h - 2) (pj_s2 (by omega)) (by omega) ?_
  refine br_f (pj_lit (a := 12) (b := 4) (by decide) (by decide) (by decide)) ?_
  refine br_f (pj_lit (a := 12) (b := 5) (by decide) (by decide) (by decide)) ?_
  refine br_f (pj_lit (a := 12) (b := 6) (by decide) (by decide) (by decide)) ?_
  refine br_f (pj_lit (a := 12) (b := 7) (by decide) (by decide) (by decide)) ?_
  refine br_c (fun e => ?_) (fun e => ?_)
  · rw [if_pos e] at hp
    unfold wX_combine_137
    exact pj_Xset (k := h - 2) (pj_s2 (by omega)) (by omega) hp
  · rw [if_neg e] at hp
    unfold wX_combine_137
    exact pj_Xset (k := h - 2) (pj_s2 (by omega)) (by omega) hp
theorem pj_Xwork {post : SX → Prop} {o h : Nat} {a : Int32} (ho : o ≤ 13) (h10 : ¬ o = 10) (h11 : ¬ o = 11) (h13 : ¬ o = 13) (hr : pj_rf 4 o h = 0) (hh : h ≤ 4)
    (hp : post (xMH, xPO, xSZ, xQH, xQC, xJD, xST, xAT, nI (pj_nh o h), pj_md o xMD, xCH, xFK, OP, AR, xMK, xQD, xQU, xNT, xFA, pj_ce o a xMD h xCE xLO xFI, pj_lo o a h xCE xLO, pj_fi o xMD h xCE xFI)) : wpX_work post (xMH, xPO, xSZ, xQH, xQC, xJD, xST, xAT, nI h, xMD, xCH, xFK, OP, AR, xMK, xQD, xQU, xNT, xFA, xCE, xLO, xFI) (nI o) a := by
  have hnd := pj_rf_nd hr
  have hgm := pj_gmnd o (by omega)
  have hb : o < 2 ^ 31 := by omega
  unfold wpX_work
  refine pj_Xgrowth ho ?_
  refine nm_r (e' := nI (pj_nh o h)) (pj_gr_add ho (by omega)) ?_
  refine br_f (nI_pos hb) ?_
  refine pk_lt 9 o (fun h9 => ?_) (fun h9 => ?_) rfl rfl (by omega) hb
  · have : o = 12 := by omega
    subst this
    unfold wX_work_184
    exact pj_Xco12 hnd hh hp
  refine pk_eq o 0 (fun e => ?_) (fun e0 => ?_) rfl rfl hb (by omega)
  · subst e
    have hg := pj_rf_gp hr rfl
    exact pj_Xset rfl hg hp
  refine pk_eq o 1 (fun e => ?_) (fun e1 => ?_) rfl rfl hb (by omega)
  · subst e
    have hg := pj_rf_gp hr rfl
    refine pj_Xset rfl hg ?_
    exact And.intro pj_i7 (nm_e (nm_e hp))
  refine pk_eq o 2 (fun e => ?_) (fun e2 => ?_) rfl rfl hb (by omega)
  · subst e
    exact hp
  refine pk_eq o 3 (fun e => ?_) (fun e3 => ?_) rfl rfl hb (by omega)
  · subst e
    have hg := pj_rf_gp hr rfl
    refine And.intro pj_i3 (And.intro pj_i3 (nm_r (e' := upd xCE h (xCE (h - 1))) ?_ hp))
    rw [pj_s1 hnd, pj_a3 hg, pj_a3 (k := h - 1) (by omega)]
  refine pk_eq o 4 (fun e => ?_) (fun e4 => ?_) rfl rfl hb (by omega)
  · subst e
    unfold wX_work_184
    exact pj_Xco4 hnd hh hp
  refine pk_eq o 5 (fun e => ?_) (fun e5 => ?_) rfl rfl hb (by omega)
  · subst e
    unfold wX_work_184
    exact pj_Xco5 hnd hh hp
  refine pk_eq o 6 (fun e => ?_) (fun e6 => ?_) rfl rfl hb (by omega)
  · subst e
    unfold wX_work_184
    exact pj_Xco6 hnd hh hp
  refine pk_eq o 7 (fun e => ?_) (fun e7 => ?_) rfl rfl hb (by omega)
  · subst e
    unfold wX_work_184
    exact pj_Xco7 hnd hh hp
  refine pk_eq o 8 (fun e => ?_) (fun e8 => ?_) rfl rfl hb (by omega)
  · subst e
    have hg := pj_rf_gp hr rfl
    refine And.intro pj_i1 ?_
    exact pj_Xset rfl hg hp
  refine pk_eq o 9 (fun e => ?_) (fun e9 => ?_) rfl rfl hb (by omega)
  · subst e
    refine pj_Xget (k := h - 1) (pj_s1 hnd) (by omega) ?_
    exact And.intro pj_i1 (nm_e hp)
  exact trivial
theorem pj_Ypop {post : Int32 → SY → Prop} {h : Nat} (h1 : 1 ≤ h) (hh : h ≤ 4) (hp : post (ySK (h - 1)) (yGR, yPS, yCT, yDO, yPC, nI (h - 1), yMD, yFK, yBT, OP, AR, yRE, yFR, yCO, yDI, ySK, yLO, yFI)) : wpY_pop post (yGR, yPS, yCT, yDO, yPC, nI h, yMD, yFK, yBT, OP, AR, yRE, yFR, yCO, yDI, ySK, yLO, yFI) := by
  unfold wpY_pop
  refine pk_lt 0 h (fun _ => ?_) (fun z => ?_) rfl rfl (by omega) (by omega)
  · refine nm_r (e' := nI (h - 1)) (pj_s1 h1) (And.intro pj_i3 ?_)
    rw [pj_a3 (by omega)]; exact hp
  · omega
theorem pj_Ypush {post : SY → Prop} {h : Nat} {x : Int32} (hh : h < 4) (hp : post (yGR, yPS, yCT, yDO, yPC, nI (h + 1), yMD, yFK, yBT, OP, AR, yRE, yFR, yCO, yDI, upd ySK h x, yLO, yFI)) : wpY_push post (yGR, yPS, yCT, yDO, yPC, nI h, yMD, yFK, yBT, OP, AR, yRE, yFR, yCO, yDI, ySK, yLO, yFI) x := by
  unfold wpY_push
  refine br_f (nI_ge (b := 4) hh (by omega)) (And.intro pj_i3 ?_)
  rw [pj_a3 hh]
  exact nm_e (nm_r (e' := nI (h + 1)) (nI_1 h) hp)
theorem pj_Yc0 {post : SY → Prop} {o p : Nat} {a : Int32} (ho : o ≤ 13) (h0 : pj_nd o = 0 ∨ o = 13) (H : wY_carryOut_48 post (nI o) a 0 0 (nI (p + 1)) yGR yPS yCT yDO (nI p) yTL yMD yFK yBT OP AR yRE yFR yCO yDI ySK yLO yFI) : wpY_carryOut post (yGR, yPS, yCT, yDO, nI p, yTL, yMD, yFK, yBT, OP, AR, yRE, yFR, yCO, yDI, ySK, yLO, yFI) (nI o) a := by
  have h2 : ¬ pj_nd o = 2 := by
    rcases h0 with h | h
    · omega
    · subst h; decide
  have hn := pj_nd_le o (by omega)
  have k33 : wY_carryOut_33 post (nI o) a 0 0 (nI (p + 1)) yGR yPS yCT yDO (nI p) yTL yMD yFK yBT OP AR yRE yFR yCO yDI ySK yLO yFI := by
    unfold wY_carryOut_33
    refine pj_Yneed ho ?_
    exact pk_eq (pj_nd o) 2 (fun z => absurd z h2) (fun _ => H) rfl rfl (by omega) (by omega)
  unfold wpY_carryOut
  refine nm_r (e' := nI (p + 1)) (nI_1 p) ?_
  refine pj_Yneed ho ?_
  refine pk_lt (pj_nd o) 1 (fun _ => k33) (fun z => ?_) rfl rfl (by omega) (by omega)
  exact pk_eq o 13 (fun _ => k33) (fun z' => absurd h0 (by omega)) rfl rfl (by omega) (by omega)
theorem pj_Yc1 {post : SY → Prop} {o p h : Nat} {a : Int32} (ho : o ≤ 13) (h0 : pj_nd o = 1) (h13 : ¬ o = 13) (h1 : 1 ≤ h) (hh : h ≤ 4) (H : wY_carryOut_48 post (nI o) a (ySK (h - 1)) 0 (nI (p + 1)) yGR yPS yCT yDO (nI p) (nI (h - 1)) yMD yFK yBT OP AR yRE yFR yCO yDI ySK yLO yFI) : wpY_carryOut post (yGR, yPS, yCT, yDO, nI p, nI h, yMD, yFK, yBT, OP, AR, yRE, yFR, yCO, yDI, ySK, yLO, yFI) (nI o) a := by
  unfold wpY_carryOut
  refine nm_r (e' := nI (p + 1)) (nI_1 p) ?_
  refine pj_Yneed ho ?_
  refine pk_lt (pj_nd o) 1 (fun z => by omega) (fun z => ?_) rfl rfl (by omega) (by omega)
  refine pk_eq o 13 (fun z => absurd z h13) (fun _ => ?_) rfl rfl (by omega) (by omega)
  refine pj_Ypop h1 hh ?_
  show wY_carryOut_33 post _ _ _ _ _ _ _ _ _ _ _ _ _ _ _ _ _ _ _ _ _ _ _
  unfold wY_carryOut_33
  refine pj_Yneed ho ?_
  exact pk_eq (pj_nd o) 2 (fun z => by omega) (fun _ => H) rfl rfl (by omega) (by omega)
theorem pj_Yc2 {post : SY → Prop} {o p h : Nat} {a : Int32} (ho : o ≤ 13) (h0 : pj_nd o = 2) (h1 : 2 ≤ h) (hh : h ≤ 4) (H : wY_carryOut_48 post (nI o) a (ySK (h - 1)) (ySK (h - 2)) (nI (p + 1)) yGR yPS yCT yDO (nI p) (nI (h - 2)) yMD yFK yBT OP AR yRE yFR yCO yDI ySK yLO yFI) : wpY_carryOut post (yGR, yPS, yCT, yDO, nI p, nI h, yMD, yFK, yBT, OP, AR, yRE, yFR, yCO, yDI, ySK, yLO, yFI) (nI o) a := by
  have h13 : ¬ o = 13 := by
    intro z
    subst z
    exact absurd h0 (by decide)
  unfold wpY_carryOut
  refine nm_r (e' := nI (p + 1)) (nI_1 p) ?_
  refine pj_Yneed ho ?_
  refine pk_lt (pj_nd o) 1 (fun z => by omega) (fun z => ?_) rfl rfl (by omega) (by omega)
  refine pk_eq o 13 (fun z => absurd z h13) (fun _ => ?_) rfl rfl (by omega) (by omega)
  refine pj_Ypop (by omega) hh ?_
  show wY_carryOut_33 post _ _ _ _ _ _ _ _ _ _ _ _ _ _ _ _ _ _ _ _ _ _ _
  unfold wY_carryOut_33
  refine pj_Yneed ho ?_
  refine pk_eq (pj_nd o) 2 (fun _ => ?_) (fun z => absurd h0 z) rfl rfl (by omega) (by omega)
  refine pj_Ypop (h := h - 1) (by omega) (by omega) ?_
  exact H
theorem pj_upself (f : Nat → Int32) (k : Nat) : upd f k (f k) = f := by
  funext j
  by_cases e : j = k
  · subst e; exact pk_us
  · exact pk_un e
theorem pj_upcomm {f : Nat → Int32} {a b : Nat} {x y : Int32} (h : ¬ a = b) : upd (upd f a x) b y = upd (upd f b y) a x := by
  funext j
  by_cases e : j = a
  · subst e
    rw [pk_un h, pk_us, pk_us]
  · by_cases e2 : j = b
    · subst e2
      rw [pk_us, pk_un e, pk_us]
    · rw [pk_un e2, pk_un e, pk_un e, pk_un e2]
theorem pj_Yw0 {post : SY → Prop} {h p : Nat} {a : Int32} (hg : h < 4) (hh : h ≤ 4)
    (hp : post (yGR, yPS, yCT, yDO, nI (p + 1), nI (pj_nh 0 h), pj_md 0 yMD, yFK, yBT, OP, AR, yRE, yFR, yCO, yDI, pj_ce 0 a yMD h ySK yLO yFI, pj_lo 0 a h ySK yLO, pj_fi 0 yMD h ySK yFI)) : wpY_carryOut post (yGR, yPS, yCT, yDO, nI p, nI h, yMD, yFK, yBT, OP, AR, yRE, yFR, yCO, yDI, ySK, yLO, yFI) (nI 0) a := by
  rw [pj_nh0, pj_md0, pj_ce0, pj_lo0, pj_fi0] at hp
  refine pj_Yc0 (by omega) (Or.inl rfl) ?_
  unfold wY_carryOut_48
  refine br_t rfl ?_
  exact pj_Ypush hg hp
theorem pj_Yw1 {post : SY → Prop} {h p : Nat} {a : Int32} (hg : h < 4) (hh : h ≤ 4)
    (hp : post (yGR, yPS, yCT, yDO, nI (p + 1), nI (pj_nh 1 h), pj_md 1 yMD, yFK, yBT, OP, AR, yRE, yFR, yCO, yDI, pj_ce 1 a yMD h ySK yLO yFI, pj_lo 1 a h ySK yLO, pj_fi 1 yMD h ySK yFI)) : wpY_carryOut post (yGR, yPS, yCT, yDO, nI p, nI h, yMD, yFK, yBT, OP, AR, yRE, yFR, yCO, yDI, ySK, yLO, yFI) (nI 1) a := by
  rw [pj_nh1, pj_md1, pj_ce1, pj_lo1, pj_fi1] at hp
  refine pj_Yc0 (by omega) (Or.inl rfl) ?_
  unfold wY_carryOut_48
  refine br_f (pj_lit (a := 1) (b := 0) (by decide) (by decide) (by decide)) ?_
  refine br_t rfl (And.intro pj_i7 (nm_e ?_))
  refine pj_Ypush hg ?_
  exact nm_e hp
theorem pj_Yw2 {post : SY → Prop} {h p : Nat} {a : Int32} (h1 : 1 ≤ h) (hh : h ≤ 4)
    (hp : post (yGR, yPS, yCT, yDO, nI (p + 1), nI (pj_nh 2 h), pj_md 2 yMD, yFK, yBT, OP, AR, yRE, yFR, yCO, yDI, pj_ce 2 a yMD h ySK yLO yFI, pj_lo 2 a h ySK yLO, pj_fi 2 yMD h ySK yFI)) : wpY_carryOut post (yGR, yPS, yCT, yDO, nI p, nI h, yMD, yFK, yBT, OP, AR, yRE, yFR, yCO, yDI, ySK, yLO, yFI) (nI 2) a := by
  rw [pj_nh2, pj_md2, pj_ce2, pj_lo2, pj_fi2] at hp
  refine pj_Yc1 (by omega) rfl (by omega) h1 hh ?_
  unfold wY_carryOut_48
  refine br_f (pj_lit (a := 2) (b := 0) (by decide) (by decide) (by decide)) ?_
  refine br_f (pj_lit (a := 2) (b := 1) (by decide) (by decide) (by decide)) ?_
  refine br_f (pj_lit (a := 2) (b := 3) (by decide) (by decide) (by decide)) ?_
  refine br_f (pj_lit (a := 2) (b := 4) (by decide) (by decide) (by decide)) ?_
  refine br_f (pj_lit (a := 2) (b := 5) (by decide) (by decide) (by decide)) ?_
  refine br_f (pj_lit (a := 2) (b := 6) (by decide) (by decide) (by decide)) ?_
  refine br_f (pj_lit (a := 2) (b := 7) (by decide) (by decide) (by decide)) ?_
  refine br_f (pj_lit (a := 2) (b := 8) (by decide) (by decide) (by decide)) ?_
  refine br_f (pj_lit (a := 2) (b := 9) (by decide) (by decide) (by decide)) ?_
  refine br_f (pj_lit (a := 2) (b := 10) (by decide) (by decide) (by decide)) ?_
  refine br_f (pj_lit (a := 2) (b := 11) (by decide) (by decide) (by decide)) ?_
  refine br_f (pj_lit (a := 2) (b := 12) (by decide) (by decide) (by decide)) ?_
  refine br_f (pj_lit (a := 2) (b := 13) (by decide) (by decide) (by decide)) ?_
  exact hp
theorem pj_Yw3 {post : SY → Prop} {h p : Nat} {a : Int32} (h1 : 1 ≤ h) (hg : h < 4) (hh : h ≤ 4)
    (hp : post (yGR, yPS, yCT, yDO, nI (p + 1), nI (pj_nh 3 h), pj_md 3 yMD, yFK, yBT, OP, AR, yRE, yFR, yCO, yDI, pj_ce 3 a yMD h ySK yLO yFI, pj_lo 3 a h ySK yLO, pj_fi 3 yMD h ySK yFI)) : wpY_carryOut post (yGR, yPS, yCT, yDO, nI p, nI h, yMD, yFK, yBT, OP, AR, yRE, yFR, yCO, yDI, ySK, yLO, yFI) (nI 3) a := by
  rw [pj_nh3, pj_md3, pj_ce3, pj_lo3, pj_fi3] at hp
  refine pj_Yc1 (by omega) rfl (by omega) h1 hh ?_
  unfold wY_carryOut_48
  refine br_f (pj_lit (a := 3) (b := 0) (by decide) (by decide) (by decide)) ?_
  refine br_f (pj_lit (a := 3) (b := 1) (by decide) (by decide) (by decide)) ?_
  refine br_t rfl ?_
  refine pj_Ypush (h := h - 1) (by omega) ?_
  rw [pj_upself, show h - 1 + 1 = h by omega]
  exact pj_Ypush hg hp
theorem pj_Yw4 {post : SY → Prop} {h p : Nat} {a : Int32} (h1 : 2 ≤ h) (hh : h ≤ 4)
    (hp : post (yGR, yPS, yCT, yDO, nI (p + 1), nI (pj_nh 4 h), pj_md 4 yMD, yFK, yBT, OP, AR, yRE, yFR, yCO, yDI, pj_ce 4 a yMD h ySK yLO yFI, pj_lo 4 a h ySK yLO, pj_fi 4 yMD h ySK yFI)) : wpY_carryOut post (yGR, yPS, yCT, yDO, nI p, nI h, yMD, yFK, yBT, OP, AR, yRE, yFR, yCO, yDI, ySK, yLO, yFI) (nI 4) a := by
  rw [pj_nh4, pj_md4, pj_ce4, pj_lo4, pj_fi4] at hp
  refine pj_Yc2 (by omega) rfl h1 hh ?_
  unfold wY_carryOut_48
  refine br_f (pj_lit (a := 4) (b := 0) (by decide) (by decide) (by decide)) ?_
  refine br_f (pj_lit (a := 4) (b := 1) (by decide) (by decide) (by decide)) ?_
  refine br_f (pj_lit (a := 4) (b := 3) (by decide) (by decide) (by decide)) ?_
  refine br_t rfl ?_
  refine pj_Ypush (h := h - 2) (by omega) ?_
  rw [show h - 2 + 1 = h - 1 by omega]
  refine pj_Ypush (h := h - 1) (by omega) ?_
  rw [pj_upcomm (by omega), show h - 1 + 1 = h by omega]
  exact hp
theorem pj_Yw5 {post : SY → Prop} {h p : Nat} {a : Int32} (h1 : 2 ≤ h) (hh : h ≤ 4)
    (hp : post (yGR, yPS, yCT, yDO, nI (p + 1), nI (pj_nh 5 h), pj_md 5 yMD, yFK, yBT, OP, AR, yRE, yFR, yCO, yDI, pj_ce 5 a yMD h ySK yLO yFI, pj_lo 5 a h ySK yLO, pj_fi 5 yMD h ySK yFI)) : wpY_carryOut post (yGR, yPS, yCT, yDO, nI p, nI h, yMD, yFK, yBT, OP, AR, yRE, yFR, yCO, yDI, ySK, yLO, yFI) (nI 5) a := by
  rw [pj_nh5, pj_md5, pj_ce5, pj_lo5, pj_fi5] at hp
  refine pj_Yc2 (by omega) rfl h1 hh ?_
  unfold wY_carryOut_48
  refine br_f (pj_lit (a := 5) (b := 0) (by decide) (by decide) (by decide)) ?_
  refine br_f (pj_lit (a := 5) (b := 1) (by decide) (by decide) (by decide)) ?_
  refine br_f (pj_lit (a := 5) (b := 3) (by decide) (by decide) (by decide)) ?_
  refine br_f (pj_lit (a := 5) (b := 4) (by decide) (by decide) (by decide)) ?_
  refine br_t rfl ?_
  refine pj_Ypush (h := h - 2) (by omega) ?_
  rw [show h - 2 + 1 = h - 1 by omega]
  exact hp
theorem pj_Yw6 {post : SY → Prop} {h p : Nat} {a : Int32} (h1 : 1 ≤ h) (hh : h ≤ 4)
    (hp : post (yGR, yPS, yCT, yDO, nI (p + 1), nI (pj_nh 6 h), pj_md 6 yMD, yFK, yBT, OP, AR, yRE, yFR, yCO, yDI, pj_ce 6 a yMD h ySK yLO yFI, pj_lo 6 a h ySK yLO, pj_fi 6 yMD h ySK yFI)) : wpY_carryOut post (yGR, yPS, yCT, yDO, nI p, nI h, yMD, yFK, yBT, OP, AR, yRE, yFR, yCO, yDI, ySK, yLO, yFI) (nI 6) a := by
  rw [pj_nh6, pj_md6, pj_ce6, pj_lo6, pj_fi6] at hp
  refine pj_Yc1 (by omega) rfl (by omega) h1 hh ?_
  unfold wY_carryOut_48
  refine br_f (pj_lit (a := 6) (b := 0) (by decide) (by decide) (by decide)) ?_
  refine br_f (pj_lit (a := 6) (b := 1) (by decide) (by decide) (by decide)) ?_
  refine br_f (pj_lit (a := 6) (b := 3) (by decide) (by decide) (by decide)) ?_
  refine br_f (pj_lit (a := 6) (b := 4) (by decide) (by decide) (by decide)) ?_
  refine br_f (pj_lit (a := 6) (b := 5) (by decide) (by decide) (by decide)) ?_
  refine br_t rfl (And.intro pj_i7 ?_)
  refine pj_Ypush (h := h - 1) (by omega) ?_
  rw [show h - 1 + 1 = h by omega]
  exact hp
theorem pj_Yw7 {post : SY → Prop} {h p : Nat} {a : Int32} (h1 : 2 ≤ h) (hh : h ≤ 4)
    (hp : post (yGR, yPS, yCT, yDO, nI (p + 1), nI (pj_nh 7 h), pj_md 7 yMD, yFK, yBT, OP, AR, yRE, yFR, yCO, yDI, pj_ce 7 a yMD h ySK yLO yFI, pj_lo 7 a h ySK yLO, pj_fi 7 yMD h ySK yFI)) : wpY_carryOut post (yGR, yPS, yCT, yDO, nI p, nI h, yMD, yFK, yBT, OP, AR, yRE, yFR, yCO, yDI, ySK, yLO, yFI) (nI 7) a := by
  rw [pj_nh7, pj_md7, pj_ce7, pj_lo7, pj_fi7] at hp
  refine pj_Yc2 (by omega) rfl h1 hh ?_
  unfold wY_carryOut_48
  refine br_f (pj_lit (a := 7) (b := 0) (by decide) (by decide) (by decide)) ?_
  refine br_f (pj_lit (a := 7) (b := 1) (by decide) (by decide) (by decide)) ?_
  refine br_f (pj_lit (a := 7) (b := 3) (by decide) (by decide) (by decide)) ?_
  refine br_f (pj_lit (a := 7) (b := 4) (by decide) (by decide) (by decide)) ?_
  refine br_f (pj_lit (a := 7) (b := 5) (by decide) (by decide) (by decide)) ?_
  refine br_f (pj_lit (a := 7) (b := 6) (by decide) (by decide) (by decide)) ?_
  exact br_t rfl (And.intro pj_i7 (nm_e hp))
theorem pj_Yw8 {post : SY → Prop} {h p : Nat} {a : Int32} (hg : h < 4) (hh : h ≤ 4)
    (hp : post (yGR, yPS, yCT, yDO, nI (p + 1), nI (pj_nh 8 h), pj_md 8 yMD, yFK, yBT, OP, AR, yRE, yFR, yCO, yDI, pj_ce 8 a yMD h ySK yLO yFI, pj_lo 8 a h ySK yLO, pj_fi 8 yMD h ySK yFI)) : wpY_carryOut post (yGR, yPS, yCT, yDO, nI p, nI h, yMD, yFK, yBT, OP, AR, yRE, yFR, yCO, yDI, ySK, yLO, yFI) (nI 8) a := by
  rw [pj_nh8, pj_md8, pj_ce8, pj_lo8, pj_fi8] at hp
  refine pj_Yc0 (by omega) (Or.inl rfl) ?_
  unfold wY_carryOut_48
  refine br_f (pj_lit (a := 8) (b := 0) (by decide) (by decide) (by decide)) ?_
  refine br_f (pj_lit (a := 8) (b := 1) (by decide) (by decide) (by decide)) ?_
  refine br_f (pj_lit (a := 8) (b := 3) (by decide) (by decide) (by decide)) ?_
  refine br_f (pj_lit (a := 8) (b := 4) (by decide) (by decide) (by decide)) ?_
  refine br_f (pj_lit (a := 8) (b := 5) (by decide) (by decide) (by decide)) ?_
  refine br_f (pj_lit (a := 8) (b := 6) (by decide) (by decide) (by decide)) ?_
  refine br_f (pj_lit (a := 8) (b := 7) (by decide) (by decide) (by decide)) ?_
  refine br_t rfl (And.intro pj_i1 ?_)
  exact pj_Ypush hg hp
theorem pj_Yw9 {post : SY → Prop} {h p : Nat} {a : Int32} (h1 : 1 ≤ h) (hh : h ≤ 4)
    (hp : post (yGR, yPS, yCT, yDO, nI (p + 1), nI (pj_nh 9 h), pj_md 9 yMD, yFK, yBT, OP, AR, yRE, yFR, yCO, yDI, pj_ce 9 a yMD h ySK yLO yFI, pj_lo 9 a h ySK yLO, pj_fi 9 yMD h ySK yFI)) : wpY_carryOut post (yGR, yPS, yCT, yDO, nI p, nI h, yMD, yFK, yBT, OP, AR, yRE, yFR, yCO, yDI, ySK, yLO, yFI) (nI 9) a := by
  rw [pj_nh9, pj_md9, pj_ce9, pj_lo9, pj_fi9] at hp
  refine pj_Yc1 (by omega) rfl (by omega) h1 hh ?_
  unfold wY_carryOut_48
  refine br_f (pj_lit (a := 9) (b := 0) (by decide) (by decide) (by decide)) ?_
  refine br_f (pj_lit (a := 9) (b := 1) (by decide) (by decide) (by decide)) ?_
  refine br_f (pj_lit (a := 9) (b := 3) (by decide) (by decide) (by decide)) ?_
  refine br_f (pj_lit (a := 9) (b := 4) (by decide) (by decide) (by decide)) ?_
  refine br_f (pj_lit (a := 9) (b := 5) (by decide) (by decide) (by decide)) ?_
  refine br_f (pj_lit (a := 9) (b := 6) (by decide) (by decide) (by decide)) ?_
  refine br_f (pj_lit (a := 9) (b := 7) (by decide) (by decide) (by decide)) ?_
  refine br_f (pj_lit (a := 9) (b := 8) (by decide) (by decide) (by decide)) ?_
  exact br_t rfl (And.intro pj_i1 (nm_e hp))
theorem pj_Yw12 {post : SY → Prop} {h p : Nat} {a : Int32} (h1 : 2 ≤ h) (hh : h ≤ 4)
    (hp : post (yGR, yPS, yCT, yDO, nI (p + 1), nI (pj_nh 12 h), pj_md 12 yMD, yFK, yBT, OP, AR, yRE, yFR, yCO, yDI, pj_ce 12 a yMD h ySK yLO yFI, pj_lo 12 a h ySK yLO, pj_fi 12 yMD h ySK yFI)) : wpY_carryOut post (yGR, yPS, yCT, yDO, nI p, nI h, yMD, yFK, yBT, OP, AR, yRE, yFR, yCO, yDI, ySK, yLO, yFI) (nI 12) a := by
  rw [pj_nh12, pj_md12, pj_ce12, pj_lo12, pj_fi12] at hp
  refine pj_Yc2 (by omega) rfl h1 hh ?_
  unfold wY_carryOut_48
  refine br_f (pj_lit (a := 12) (b := 0) (by decide) (by decide) (by decide)) ?_
  refine br_f (pj_lit (a := 12) (b := 1) (by decide) (by decide) (by decide)) ?_
  refine br_f (pj_lit (a := 12) (b := 3) (by decide) (by decide) (by decide)) ?_
  refine br_f (pj_lit (a := 12) (b := 4) (by decide) (by decide) (by decide)) ?_
  refine br_f (pj_lit (a := 12) (b := 5) (by decide) (by decide) (by decide)) ?_
  refine br_f (pj_lit (a := 12) (b := 6) (by decide) (by decide) (by decide)) ?_
  refine br_f (pj_lit (a := 12) (b := 7) (by decide) (by decide) (by decide)) ?_
  refine br_f (pj_lit (a := 12) (b := 8) (by decide) (by decide) (by decide)) ?_
  refine br_f (pj_lit (a := 12) (b := 9) (by decide) (by decide) (by decide)) ?_
  refine br_f (pj_lit (a := 12) (b := 10) (by decide) (by decide) (by decide)) ?_
  refine br_f (pj_lit (a := 12) (b := 11) (by decide) (by decide) (by decide)) ?_
  refine br_t rfl (br_c (fun e => ?_) (fun e => ?_))
  · rw [if_pos e] at hp
    unfold wY_carryOut_308
    refine pj_Ypush (h := h - 2) (by omega) ?_
    rw [show h - 2 + 1 = h - 1 by omega]
    exact hp
  · rw [if_neg e] at hp
    unfold wY_carryOut_308
    refine pj_Ypush (h := h - 2) (by omega) ?_
    rw [show h - 2 + 1 = h - 1 by omega]
    exact hp
theorem pj_Ywork {post : SY → Prop} {o h p : Nat} {a : Int32} (ho : o ≤ 13) (h10 : ¬ o = 10) (h11 : ¬ o = 11) (h13 : ¬ o = 13) (hr : pj_rf 4 o h = 0) (hh : h ≤ 4)
    (hp : post (yGR, yPS, yCT, yDO, nI (p + 1), nI (pj_nh o h), pj_md o yMD, yFK, yBT, OP, AR, yRE, yFR, yCO, yDI, pj_ce o a yMD h ySK yLO yFI, pj_lo o a h ySK yLO, pj_fi o yMD h ySK yFI)) : wpY_carryOut post (yGR, yPS, yCT, yDO, nI p, nI h, yMD, yFK, yBT, OP, AR, yRE, yFR, yCO, yDI, ySK, yLO, yFI) (nI o) a := by
  have hnd := pj_rf_nd hr
  have hg := fun z => pj_rf_gp hr z
  rcases pj_o14 ho with rfl | rfl | rfl | rfl | rfl | rfl | rfl | rfl | rfl | rfl | rfl | rfl | rfl | rfl
  · exact pj_Yw0 (hg rfl) hh hp
  · exact pj_Yw1 (hg rfl) hh hp
  · exact pj_Yw2 hnd hh hp
  · exact pj_Yw3 hnd (hg rfl) hh hp
  · exact pj_Yw4 hnd hh hp
  · exact pj_Yw5 hnd hh hp
  · exact pj_Yw6 hnd hh hp
  · exact pj_Yw7 hnd hh hp
  · exact pj_Yw8 (hg rfl) hh hp
  · exact pj_Yw9 hnd hh hp
  · exact absurd rfl h10
  · exact absurd rfl h11
  · exact pj_Yw12 hnd hh hp
  · exact absurd rfl h13
end
end
section
section
variable {xMH xPO xSZ xQH xQC xJD xST xAT xTP xMD xCH xFK yGR yPS yCT yDO yPC yTL yMD yFK yBT : Int32} {OP AR xMK xQD xQU xNT xFA xCE xLO xFI yRE yFR yCO yDI ySK yLO yFI : Nat → Int32}
variable {c G : Nat}
theorem pj_tstu {x : Int32} {j : Nat} (hj : j < 32) : ((x.toUInt32 >>> ((nI j).toUInt32 &&& Int32.toUInt32 31)).toInt32 &&& 1) = 0 ↔ ¬ bt x j = true := by
  have hb : ∀ i, i < 32 → bt ((x.toUInt32 >>> ((nI j).toUInt32 &&& Int32.toUInt32 31)).toInt32 &&& 1) i = (decide (i = 0) && bt x j) := by
    intro i hi
    rw [b_and, b_ushr j hj x i, pj_b1]
    by_cases h : i = 0
    · subst h
      rw [decide_eq_true rfl, Bool.and_true, Bool.true_and, Nat.add_zero]
    · rw [decide_eq_false h, Bool.and_false, Bool.false_and]
  constructor
  · intro h z
    have := hb 0 (by omega)
    rw [h, b_0, decide_eq_true rfl, Bool.true_and, z] at this
    exact Bool.noConfusion this
  · intro h
    apply b_ext
    intro i hi
    rw [hb i hi, b_0]
    cases hx : bt x j
    · exact Bool.and_false _
    · exact absurd hx h
theorem pj_outF {x : Int32} (h : pj_out c x = false) : ∃ q, q < c ∧ x = nI q := by
  have h' := of_decide_eq_false h
  obtain ⟨q, hq, e⟩ := nI_of (fun z => h' (Or.inl z))
  refine ⟨q, ?_, e⟩
  apply Classical.byContradiction
  intro z
  apply h'
  right
  rw [e]
  exact nI_le (by omega) hq
theorem pj_fl0 {s p : Nat} (h : pj_fl c G OP AR s p = 0) : pj_rf G (pj_o OP p) (pj_ht s) = 0 ∧ pj_lv c OP AR p = false := by
  unfold pj_fl at h
  by_cases hr : pj_rf G (pj_o OP p) (pj_ht s) = 0
  · rw [if_pos hr] at h
    refine ⟨hr, ?_⟩
    cases hl : pj_lv c OP AR p
    · rfl
    · rw [hl] at h
      unfold pj_kl at h
      rw [if_pos rfl] at h
      omega
  · rw [if_neg hr] at h
    exact absurd h hr
theorem pj_lvF {p : Nat} (h : pj_lv c OP AR p = false) : (¬ pj_o OP p = 13 → ∃ q, q < c ∧ pj_nx OP AR p = nI q) ∧ (pj_o OP p = 11 → ∃ q, q < c ∧ AR p = nI q) := by
  unfold pj_lv at h
  rw [Bool.or_eq_false_iff] at h
  refine ⟨fun h13 => ?_, fun h11 => ?_⟩
  · rw [decide_eq_true h13, Bool.true_and] at h
    exact pj_outF h.1
  · rw [decide_eq_true h11, Bool.true_and] at h
    exact pj_outF h.2
theorem pj_Yc13 {post : SY → Prop} {p : Nat} {a : Int32} (hp : post (yGR, yPS, yCT, 2, nI p, yTL, yMD, yFK, yBT, OP, AR, yRE, yFR, yCO, yDI, ySK, yLO, yFI)) : wpY_carryOut post (yGR, yPS, yCT, yDO, nI p, yTL, yMD, yFK, yBT, OP, AR, yRE, yFR, yCO, yDI, ySK, yLO, yFI) (nI 13) a := by
  refine pj_Yc0 (by omega) (Or.inr rfl) ?_
  unfold wY_carryOut_48
  refine br_f (pj_lit (a := 13) (b := 0) (by decide) (by decide) (by decide)) ?_
  refine br_f (pj_lit (a := 13) (b := 1) (by decide) (by decide) (by decide)) ?_
  refine br_f (pj_lit (a := 13) (b := 3) (by decide) (by decide) (by decide)) ?_
  refine br_f (pj_lit (a := 13) (b := 4) (by decide) (by decide) (by decide)) ?_
  refine br_f (pj_lit (a := 13) (b := 5) (by decide) (by decide) (by decide)) ?_
  refine br_f (pj_lit (a := 13) (b := 6) (by decide) (by decide) (by decide)) ?_
  refine br_f (pj_lit (a := 13) (b := 7) (by decide) (by decide) (by decide)) ?_
  refine br_f (pj_lit (a := 13) (b := 8) (by decide) (by decide) (by decide)) ?_
  refine br_f (pj_lit (a := 13) (b := 9) (by decide) (by decide) (by decide)) ?_
  refine br_f (pj_lit (a := 13) (b := 10) (by decide) (by decide) (by decide)) ?_
  refine br_f (pj_lit (a := 13) (b := 11) (by decide) (by decide) (by decide)) ?_
  refine br_f (pj_lit (a := 13) (b := 12) (by decide) (by decide) (by decide)) ?_
  exact br_t rfl hp
theorem pj_Yc10 {post : SY → Prop} {p : Nat} {a : Int32} (hp : post (yGR, yPS, yCT, yDO, a, yTL, yMD, yFK, yBT, OP, AR, yRE, yFR, yCO, yDI, ySK, yLO, yFI)) : wpY_carryOut post (yGR, yPS, yCT, yDO, nI p, yTL, yMD, yFK, yBT, OP, AR, yRE, yFR, yCO, yDI, ySK, yLO, yFI) (nI 10) a := by
  refine pj_Yc0 (by omega) (Or.inl rfl) ?_
  unfold wY_carryOut_48
  refine br_f (pj_lit (a := 10) (b := 0) (by decide) (by decide) (by decide)) ?_
  refine br_f (pj_lit (a := 10) (b := 1) (by decide) (by decide) (by decide)) ?_
  refine br_f (pj_lit (a := 10) (b := 3) (by decide) (by decide) (by decide)) ?_
  refine br_f (pj_lit (a := 10) (b := 4) (by decide) (by decide) (by decide)) ?_
  refine br_f (pj_lit (a := 10) (b := 5) (by decide) (by decide) (by decide)) ?_
  refine br_f (pj_lit (a := 10) (b := 6) (by decide) (by decide) (by decide)) ?_
  refine br_f (pj_lit (a := 10) (b := 7) (by decide) (by decide) (by decide)) ?_
  refine br_f (pj_lit (a := 10) (b := 8) (by decide) (by decide) (by decide)) ?_
  refine br_f (pj_lit (a := 10) (b := 9) (by decide) (by decide) (by decide)) ?_
  exact br_t rfl hp
theorem pj_Yc11 {post : SY → Prop} {p j : Nat} {a : Int32} (hj : j < 32) (hf : yFK &&& 31 = nI j) (hp : post (yGR, yPS, yCT, yDO, if bt yBT j = true then a else nI (p + 1), yTL, yMD, yFK + 1, yBT, OP, AR, yRE, yFR, yCO, yDI, ySK, yLO, yFI)) : wpY_carryOut post (yGR, yPS, yCT, yDO, nI p, yTL, yMD, yFK, yBT, OP, AR, yRE, yFR, yCO, yDI, ySK, yLO, yFI) (nI 11) a := by
  refine pj_Yc0 (by omega) (Or.inl rfl) ?_
  unfold wY_carryOut_48
  refine br_f (pj_lit (a := 11) (b := 0) (by decide) (by decide) (by decide)) ?_
  refine br_f (pj_lit (a := 11) (b := 1) (by decide) (by decide) (by decide)) ?_
  refine br_f (pj_lit (a := 11) (b := 3) (by decide) (by decide) (by decide)) ?_
  refine br_f (pj_lit (a := 11) (b := 4) (by decide) (by decide) (by decide)) ?_
  refine br_f (pj_lit (a := 11) (b := 5) (by decide) (by decide) (by decide)) ?_
  refine br_f (pj_lit (a := 11) (b := 6) (by decide) (by decide) (by decide)) ?_
  refine br_f (pj_lit (a := 11) (b := 7) (by decide) (by decide) (by decide)) ?_
  refine br_f (pj_lit (a := 11) (b := 8) (by decide) (by decide) (by decide)) ?_
  refine br_f (pj_lit (a := 11) (b := 9) (by decide) (by decide) (by decide)) ?_
  refine br_f (pj_lit (a := 11) (b := 10) (by decide) (by decide) (by decide)) ?_
  refine br_t rfl ?_
  rw [hf]
  by_cases hb : bt yBT j = true
  · rw [if_pos hb] at hp
    exact br_t ((pj_tst hj).mpr hb) (nm_e hp)
  · rw [if_neg hb] at hp
    exact br_f (fun z => hb ((pj_tst hj).mp z)) (nm_e hp)
theorem pj_Xcarry {post : SX → Prop} {p o : Nat} (hp16 : p < 16) (ho : o ≤ 13) (hoe : pj_o OP p = o) (hO : OP p = nI o)
    (k13 : o = 13 → post (xMH, xPO, xSZ, xQH, xQC, xJD, 2, nI p, xTP, xMD, xCH, xFK, OP, AR, xMK, xQD, xQU, xNT, xFA, xCE, xLO, xFI))
    (k11 : o = 11 → ∃ j, j < 32 ∧ xFK &&& 31 = nI j ∧ post (xMH, xPO, xSZ, xQH, xQC, xJD, xST, if bt xCH j = true then AR p else nI (p + 1), xTP, xMD, xCH, xFK + 1, OP, AR, xMK, xQD, xQU, xNT, xFA, xCE, xLO, xFI))
    (k10 : o = 10 → post (xMH, xPO, xSZ, xQH, xQC, xJD, xST, AR p, xTP, xMD, xCH, xFK, OP, AR, xMK, xQD, xQU, xNT, xFA, xCE, xLO, xFI))
    (kw : ¬ o = 10 → ¬ o = 11 → ¬ o = 13 → wpX_work (fun u => match u with | (xMH, xPO, xSZ, xQH, xQC, xJD, xST, xAT, xTP, xMD, xCH, xFK, OP, AR, xMK, xQD, xQU, xNT, xFA, xCE, xLO, xFI) => post (xMH, xPO, xSZ, xQH, xQC, xJD, xST, nI (p + 1), xTP, xMD, xCH, xFK, OP, AR, xMK, xQD, xQU, xNT, xFA, xCE, xLO, xFI)) (xMH, xPO, xSZ, xQH, xQC, xJD, xST, nI p, xTP, xMD, xCH, xFK, OP, AR, xMK, xQD, xQU, xNT, xFA, xCE, xLO, xFI) (nI o) (AR p)) : wpX_carry post (xMH, xPO, xSZ, xQH, xQC, xJD, xST, nI p, xTP, xMD, xCH, xFK, OP, AR, xMK, xQD, xQU, xNT, xFA, xCE, xLO, xFI) := by
  have ec : (nI p).toNatClampNeg = p := nI_clamp (by omega)
  have hin : vp_in (nI p) 16 := vp_in_nI hp16 (by omega)
  have hb : o < 2 ^ 31 := by omega
  unfold wpX_carry
  refine And.intro hin (nm_r (e' := nI o) (by rw [ec]; exact hO) (And.intro hin (nm_r (e' := AR p) (by rw [ec]) ?_)))
  refine pj_Xnext hp16 (by omega) (by rw [hoe]; exact hO) ?_
  have hnx : ¬ o = 13 → ¬ o = 10 → pj_nx OP AR p = nI (p + 1) := by
    intro h13 h10
    unfold pj_nx
    rw [hoe, if_neg h13, if_neg h10]
  refine pk_eq o 13 (fun h => k13 h) (fun h13 => ?_) rfl rfl hb (by omega)
  refine pk_eq o 11 (fun h => ?_) (fun h11 => ?_) rfl rfl hb (by omega)
  · obtain ⟨j, hj, hf, hp⟩ := k11 h
    rw [hf, hnx h13 (by omega)]
    by_cases hbt : bt xCH j = true
    · rw [if_pos hbt] at hp
      exact br_f (fun z => (pj_tstu hj).mp z hbt) (nm_e hp)
    · rw [if_neg hbt] at hp
      exact br_t ((pj_tstu hj).mpr hbt) (nm_e hp)
  refine pk_eq o 10 (fun h => ?_) (fun h10 => ?_) rfl rfl hb (by omega)
  · have e : pj_nx OP AR p = AR p := by
      unfold pj_nx
      rw [hoe, if_neg h13, if_pos h]
    rw [e]
    exact k10 h
  · rw [hnx h13 h10]
    exact kw h10 h11 h13
theorem pj_carry {d s p : Nat} (W : pj_wf c G OP AR) (hR : pj_R c G OP AR d s p) (hS : pj_fl c G OP AR s p = 0) :
    ∃ (st pa tp md fk : Int32) (ce lo fi : Nat → Int32),
      (∀ post : SX → Prop, post (xMH, xPO, xSZ, xQH, xQC, xJD, st, pa, tp, md, xCH, fk, OP, AR, xMK, xQD, xQU, xNT, xFA, ce, lo, fi) → wpX_carry post (xMH, xPO, xSZ, xQH, xQC, xJD, 1, nI p, nI (pj_ht s), xMD, xCH, xFK, OP, AR, xMK, xQD, xQU, xNT, xFA, xCE, xLO, xFI)) ∧
      (∀ post : SY → Prop, post (yGR, yPS, yCT, st, pa, tp, md, fk, xCH, OP, AR, yRE, yFR, yCO, yDI, ce, lo, fi) → wpY_carryOut post (yGR, yPS, yCT, 1, nI p, nI (pj_ht s), xMD, xFK, xCH, OP, AR, yRE, yFR, yCO, yDI, xCE, xLO, xFI) (nI (pj_o OP p)) (AR p)) ∧
      (st = 2 ∨ (st = 1 ∧ ∃ s' p', pj_R c G OP AR (d + 1) s' p' ∧ pa = nI p' ∧ tp = nI (pj_ht s'))) := by
  obtain ⟨hpc, hs⟩ := pj_Rlt W _ _ _ hR
  have hc := W.1
  obtain ⟨ho, hO, hA⟩ := W.2.2.2 p hpc
  obtain ⟨hr, hl⟩ := pj_fl0 hS
  obtain ⟨hm, hf⟩ := pj_lvF hl
  have hh := pj_ht_le s
  have hr4 := pj_rf_mono W.2.2.1 hr
  have hch := (pj_law W.2.2.1 hs ho (pj_al_lt AR p) hr).2.1
  have hp16 : p < 16 := by omega
  generalize hoe : pj_o OP p = o at *
  by_cases h13 : o = 13
  · subst h13
    refine ⟨2, nI p, nI (pj_ht s), xMD, xFK, xCE, xLO, xFI, fun post hp => ?_, fun post hp => ?_, Or.inl rfl⟩
    · exact pj_Xcarry hp16 ho hoe hO (fun _ => hp) (fun z => absurd z (by decide)) (fun z => absurd z (by decide)) (fun _ _ z => absurd rfl z)
    · exact pj_Yc13 hp
  obtain ⟨q, hq, hx⟩ := hm h13
  have hTq : pj_Tg c OP AR p q := pj_TgMain hp16 hc hq hx
  have hRq := fun q (hT : pj_Tg c OP AR p q) => pj_Rs hR (by rw [hoe]; exact hr) hT
  rw [hoe] at hRq
  by_cases h10 : o = 10
  · subst h10
    have e : pj_nx OP AR p = AR p := by
      unfold pj_nx
      rw [hoe]; rfl
    refine ⟨1, AR p, nI (pj_ht s), xMD, xFK, xCE, xLO, xFI, fun post hp => ?_, fun post hp => ?_, Or.inr ⟨rfl, _, q, hRq q hTq, by rw [← e, hx], by rw [hch]; rfl⟩⟩
    · exact pj_Xcarry hp16 ho hoe hO (fun z => absurd z (by decide)) (fun z => absurd z (by decide)) (fun _ => hp) (fun z _ _ => absurd rfl z)
    · exact pj_Yc10 hp
  by_cases h11 : o = 11
  · subst h11
    have e : pj_nx OP AR p = nI (p + 1) := by
      unfold pj_nx
      rw [hoe]; rfl
    obtain ⟨q2, hq2, hx2⟩ := hf rfl
    obtain ⟨j, hj, hfk⟩ := pk_andE xFK (m := 31) 5 rfl
    refine ⟨1, if bt xCH j = true then AR p else nI (p + 1), nI (pj_ht s), xMD, xFK + 1, xCE, xLO, xFI, fun post hp => ?_, fun post hp => ?_, Or.inr ⟨rfl, ?_⟩⟩
    · exact pj_Xcarry hp16 ho hoe hO (fun z => absurd z (by decide)) (fun _ => ⟨j, hj, hfk, hp⟩) (fun z => absurd z (by decide)) (fun _ z _ => absurd rfl z)
    · exact pj_Yc11 hj hfk hp
    · by_cases hb : bt xCH j = true
      · rw [if_pos hb]
        exact ⟨_, q2, hRq q2 ⟨hq2, Or.inr ⟨Or.inr hoe, hx2⟩⟩, hx2, by rw [hch]; rfl⟩
      · rw [if_neg hb]
        exact ⟨_, q, hRq q hTq, by rw [← e, hx], by rw [hch]; rfl⟩
  · have e : pj_nx OP AR p = nI (p + 1) := by
      unfold pj_nx
      rw [hoe, if_neg h13, if_neg h10]
    refine ⟨1, nI (p + 1), nI (pj_nh o (pj_ht s)), pj_md o xMD, xFK, pj_ce o (AR p) xMD (pj_ht s) xCE xLO xFI, pj_lo o (AR p) (pj_ht s) xCE xLO, pj_fi o xMD (pj_ht s) xCE xFI, fun post hp => ?_, fun post hp => ?_, Or.inr ⟨rfl, _, q, hRq q hTq, by rw [← e, hx], by rw [hch]⟩⟩
    · exact pj_Xcarry hp16 ho hoe hO (fun z => absurd z h13) (fun z => absurd z h11) (fun z => absurd z h10) (fun _ _ _ => pj_Xwork ho h10 h11 h13 hr4 hh hp)
    · exact pj_Ywork ho h10 h11 h13 hr4 hh hp
def pj_Run (c G : Nat) (OP AR : Nat → Int32) (st pa tp : Int32) : Prop := st = 1 → ((∀ d s p, pj_R c G OP AR d s p → pj_fl c G OP AR s p = 0) ∧ ∃ d s p, pj_R c G OP AR d s p ∧ pa = nI p ∧ tp = nI (pj_ht s))
theorem pj_a15 {k : Nat} (hk : k < 16) : nI k &&& 15 = nI k := by
  rw [pk_andN (m := 15) (by omega) 4 rfl, show k % 2 ^ 4 = k from Nat.mod_eq_of_lt hk]
theorem pj_step (W : pj_wf c G OP AR) {L : Nat} (hL : L ≤ 64) : ∀ (n i : Nat) (dn st pa tp md fk : Int32) (ce lo fi : Nat → Int32), pj_Run c G OP AR st pa tp → ¬ st = 0 → i ≤ L → L + 1 ≤ n + i →
    ∃ (r st' pa' tp' md' fk' : Int32) (ce' lo' fi' : Nat → Int32), pj_Run c G OP AR st' pa' tp' ∧ ¬ st' = 0 ∧
      (∀ post : Int32 → SX → Prop, post r (xMH, xPO, xSZ, xQH, xQC, xJD, st', pa', tp', md', xCH, fk', OP, AR, xMK, xQD, xQU, xNT, xFA, ce', lo', fi') → wX_step_26 post (nI L) n dn (nI i) xMH xPO xSZ xQH xQC xJD st pa tp md xCH fk OP AR xMK xQD xQU xNT xFA ce lo fi) ∧
      (∀ post : Int32 → SY → Prop, post r (yGR, xPO, yCT, st', pa', tp', md', fk', xCH, OP, AR, yRE, yFR, yCO, yDI, ce', lo', fi') → wY_step_26 post (nI L) n dn (nI i) yGR xPO yCT st pa tp md fk xCH OP AR yRE yFR yCO yDI ce lo fi) := by
  intro n
  induction n with
  | zero => intro i dn st pa tp md fk ce lo fi _ _ h1 h2; omega
  | succ n ih =>
    intro i dn st pa tp md fk ce lo fi hRun h0 h1 h2
    by_cases hi : i = L
    · subst hi
      exact ⟨dn, st, pa, tp, md, fk, ce, lo, fi, hRun, h0, fun post hp => br_t (nI_le (Nat.le_refl i) (by omega)) hp, fun post hp => br_t (nI_le (Nat.le_refl i) (by omega)) hp⟩
    · have hb : ¬ nI L ≤ nI i := nI_ge (by omega) (by omega)
      by_cases h1' : st = 1
      · subst h1'
        obtain ⟨hSafe, d, s, p, hR, rfl, rfl⟩ := hRun rfl
        obtain ⟨hpc, hs⟩ := pj_Rlt W _ _ _ hR
        have hc := W.1
        obtain ⟨ho, hO, hA⟩ := W.2.2.2 p hpc
        have ec : (nI p).toNatClampNeg = p := nI_clamp (by omega)
        have ea : nI p &&& 15 = nI p := pj_a15 (by omega)
        have hin : vp_in (nI p) 16 := vp_in_nI (by omega) (by omega)
        by_cases hex : OP p = 1 ∧ ¬ md < xPO
        · obtain ⟨r, st', pa', tp', md', fk', ce', lo', fi', q1, q2, q3, q4⟩ := ih (i + 1) dn 3 (nI p) (nI (pj_ht s)) md fk ce lo fi (fun z => absurd z (by decide)) (by decide) (by omega) (by omega)
          refine ⟨r, st', pa', tp', md', fk', ce', lo', fi', q1, q2, fun post hp => ?_, fun post hp => ?_⟩
          · refine br_f hb (br_t rfl (And.intro hin ?_))
            rw [ec]
            exact br_t hex.1 (br_f hex.2 (nm_r (e' := nI (i + 1)) (nI_1 i) (q3 post hp)))
          · refine br_f hb (br_t rfl ?_)
            rw [ea, ec]
            exact And.intro hin (br_t hex.1 (br_f hex.2 (nm_r (e' := nI (i + 1)) (nI_1 i) (q4 post hp))))
        · obtain ⟨st1, pa1, tp1, md1, fk1, ce1, lo1, fi1, kX, kY, kS⟩ := pj_carry (xMH := xMH) (xPO := xPO) (xSZ := xSZ) (xQH := xQH) (xQC := xQC) (xJD := xJD) (xCH := xCH) (xMK := xMK) (xQD := xQD) (xQU := xQU) (xNT := xNT) (xFA := xFA) (yGR := yGR) (yCT := yCT) (yRE := yRE) (yFR := yFR) (yCO := yCO) (yDI := yDI) (yPS := xPO) (xMD := md) (xFK := fk) (xCE := ce) (xLO := lo) (xFI := fi) W hR (hSafe d s p hR)
          have hRun1 : pj_Run c G OP AR st1 pa1 tp1 := by
            intro z
            rcases kS with e | ⟨_, s', p', a1, a2, a3⟩
            · rw [e] at z
              exact absurd z (by decide)
            · exact ⟨hSafe, d + 1, s', p', a1, a2, a3⟩
          have h01 : ¬ st1 = 0 := by
            rcases kS with e | ⟨e, _⟩
            · rw [e]; decide
            · rw [e]; decide
          obtain ⟨r, st', pa', tp', md', fk', ce', lo', fi', q1, q2, q3, q4⟩ := ih (i + 1) (dn + 1) st1 pa1 tp1 md1 fk1 ce1 lo1 fi1 hRun1 h01 (by omega) (by omega)
          refine ⟨r, st', pa', tp', md', fk', ce', lo', fi', q1, q2, fun post hp => ?_, fun post hp => ?_⟩
          · have k72 : wX_step_72 post (wX_step_26 post (nI L) n) (nI L) dn (nI i) xMH xPO xSZ xQH xQC xJD 1 (nI p) (nI (pj_ht s)) md xCH fk OP AR xMK xQD xQU xNT xFA ce lo fi := by
              unfold wX_step_72
              refine kX _ ?_
              exact nm_e (nm_r (e' := nI (i + 1)) (nI_1 i) (q3 post hp))
            refine br_f hb (br_t rfl (And.intro hin ?_))
            rw [ec]
            refine br_c (fun e1 => br_c (fun _ => k72) (fun e2 => absurd ⟨e1, e2⟩ hex)) (fun _ => k72)
          · have k75 : wY_step_75 post (wY_step_26 post (nI L) n) (nI L) dn (nI i) yGR xPO yCT 1 (nI p) (nI (pj_ht s)) md fk xCH OP AR yRE yFR yCO yDI ce lo fi := by
              unfold wY_step_75
              rw [ea, ec, hO]
              refine And.intro hin (And.intro hin ?_)
              refine kY _ ?_
              exact nm_e (nm_r (e' := nI (i + 1)) (nI_1 i) (q4 post hp))
            refine br_f hb (br_t rfl ?_)
            rw [ea, ec]
            exact And.intro hin (br_c (fun e1 => br_c (fun _ => k75) (fun e2 => absurd ⟨e1, e2⟩ hex)) (fun _ => k75))
      · exact ⟨dn, st, pa, tp, md, fk, ce, lo, fi, hRun, h0, fun post hp => br_f hb (br_f h1' hp), fun post hp => br_f hb (br_f h1' hp)⟩
end
end
section
section
variable {xMH xPO xSZ xQH xQC xJD xST xAT xTP xMD xCH xFK yGR yPS yCT yDO yPC yTL yMD yFK yBT : Int32} {OP AR xMK xQD xQU xNT xFA xCE xLO xFI yRE yFR yCO yDI ySK yLO yFI : Nat → Int32}
variable {c G : Nat}
/-! the relation -/
def pj_Inv (c G : Nat) (OP AR : Nat → Int32) (jd st pa tp md yp yt ym : Int32) (mk nt fa re di : Nat → Int32) : Prop :=
  pj_wf c G OP AR ∧ pj_YO c G OP AR re di ∧ (¬ jd = 0 → pj_XO c G OP AR mk nt fa) ∧ (st = 0 → pa = 0 ∧ tp = 0 ∧ md = 0) ∧ (¬ st = 0 → yp = pa ∧ yt = tp ∧ ym = md) ∧ pj_Run c G OP AR st pa tp
def i_Rel (k : Nat) (u : SX) (v : SY) : Prop := ∃ (c G : Nat) (xPO xQH xQC xJD xST xAT xTP xMD xCH xFK yPC yTL yMD : Int32) (OP AR xMK xQD xQU xNT xFA xCE xLO xFI yRE yFR yCO yDI : Nat → Int32), u = (nI G, xPO, nI c, xQH, xQC, xJD, xST, xAT, xTP, xMD, xCH, xFK, OP, AR, xMK, xQD, xQU, xNT, xFA, xCE, xLO, xFI) ∧ v = (nI G, xPO, nI c, xST, yPC, yTL, yMD, xFK, xCH, OP, AR, yRE, yFR, yCO, yDI, xCE, xLO, xFI) ∧ pj_Inv c G OP AR xJD xST xAT xTP xMD yPC yTL yMD xMK xNT xFA yRE yDI
theorem pj_el {k : Nat} {P : SX → SY → Prop} {u : SX} {v : SY} (H : ∀ (c G : Nat) (xPO xQH xQC xJD xST xAT xTP xMD xCH xFK yPC yTL yMD : Int32) (OP AR xMK xQD xQU xNT xFA xCE xLO xFI yRE yFR yCO yDI : Nat → Int32), pj_Inv c G OP AR xJD xST xAT xTP xMD yPC yTL yMD xMK xNT xFA yRE yDI → P (nI G, xPO, nI c, xQH, xQC, xJD, xST, xAT, xTP, xMD, xCH, xFK, OP, AR, xMK, xQD, xQU, xNT, xFA, xCE, xLO, xFI) (nI G, xPO, nI c, xST, yPC, yTL, yMD, xFK, xCH, OP, AR, yRE, yFR, yCO, yDI, xCE, xLO, xFI)) (I : i_Rel k u v) : P u v :=
  Exists.elim I fun c I => Exists.elim I fun G I => Exists.elim I fun xPO I => Exists.elim I fun xQH I => Exists.elim I fun xQC I => Exists.elim I fun xJD I => Exists.elim I fun xST I => Exists.elim I fun xAT I => Exists.elim I fun xTP I => Exists.elim I fun xMD I => Exists.elim I fun xCH I => Exists.elim I fun xFK I => Exists.elim I fun yPC I => Exists.elim I fun yTL I => Exists.elim I fun yMD I => Exists.elim I fun OP I => Exists.elim I fun AR I => Exists.elim I fun xMK I => Exists.elim I fun xQD I => Exists.elim I fun xQU I => Exists.elim I fun xNT I => Exists.elim I fun xFA I => Exists.elim I fun xCE I => Exists.elim I fun xLO I => Exists.elim I fun xFI I => Exists.elim I fun yRE I => Exists.elim I fun yFR I => Exists.elim I fun yCO I => Exists.elim I fun yDI I => by rw [I.1, I.2.1]; exact H c G xPO xQH xQC xJD xST xAT xTP xMD xCH xFK yPC yTL yMD OP AR xMK xQD xQU xNT xFA xCE xLO xFI yRE yFR yCO yDI I.2.2
theorem pj_in {k : Nat} (h : pj_Inv c G OP AR xJD xST xAT xTP xMD yPC yTL yMD xMK xNT xFA yRE yDI) : i_Rel k (nI G, xPO, nI c, xQH, xQC, xJD, xST, xAT, xTP, xMD, xCH, xFK, OP, AR, xMK, xQD, xQU, xNT, xFA, xCE, xLO, xFI) (nI G, xPO, nI c, xST, yPC, yTL, yMD, xFK, xCH, OP, AR, yRE, yFR, yCO, yDI, xCE, xLO, xFI) := ⟨c, G, xPO, xQH, xQC, xJD, xST, xAT, xTP, xMD, xCH, xFK, yPC, yTL, yMD, OP, AR, xMK, xQD, xQU, xNT, xFA, xCE, xLO, xFI, yRE, yFR, yCO, yDI, rfl, rfl, h⟩
theorem pj_nInv {c G : Nat} {OP AR mk nt fa re di : Nat → Int32} {yp yt ym : Int32} (W : pj_wf c G OP AR) (Y : pj_YO c G OP AR re di) : pj_Inv c G OP AR 0 0 0 0 0 yp yt ym mk nt fa re di :=
  ⟨W, Y, fun z => absurd rfl z, fun _ => ⟨rfl, rfl, rfl⟩, fun z => absurd rfl z, fun z => absurd z (by decide)⟩
theorem pj_jInv {c G : Nat} {OP AR mk nt fa mk' nt' fa' re di : Nat → Int32} {jd jd' st pa tp md yp yt ym : Int32} (h : pj_Inv c G OP AR jd st pa tp md yp yt ym mk nt fa re di) (X : pj_XO c G OP AR mk' nt' fa') : pj_Inv c G OP AR jd' st pa tp md yp yt ym mk' nt' fa' re di :=
  ⟨h.1, h.2.1, fun _ => X, h.2.2.2⟩
/-! small walks -/
def pj_fo (x a : Int32) : Int32 := if x < 0 then -2 else if x ≤ 13 then (if (x = 8 ∨ x = 9) ∧ ¬ (a = 0 ∨ a = 1) then -3 else 0) else -2
theorem pj_01 {a : Int32} : (¬ a < 0 ∧ a ≤ 1) ↔ (a = 0 ∨ a = 1) := by
  constructor
  · rintro ⟨h1, h2⟩
    obtain ⟨j, hj, rfl⟩ := nI_of2 (M := 1) (n := 1) (by decide) h1 h2
    have : j = 0 ∨ j = 1 := by omega
    rcases this with rfl | rfl
    · exact Or.inl rfl
    · exact Or.inr rfl
  · rintro (rfl | rfl)
    · exact ⟨by decide, by decide⟩
    · exact ⟨by decide, by decide⟩
theorem pj_Xfo {post : Int32 → Prop} {x a : Int32} (hp : post (pj_fo x a)) : wpX_faultOf post x a := by
  have k30 : (x = 8 ∨ x = 9) → post (if (x = 8 ∨ x = 9) ∧ ¬ (a = 0 ∨ a = 1) then -3 else 0) → wX_faultOf_25 post a := by
    intro h hp
    unfold wX_faultOf_25 wX_faultOf_30
    refine br_f (by decide) ?_
    by_cases h1 : a < 0
    · rw [if_pos ⟨h, fun z => (pj_01.mpr z).1 h1⟩] at hp
      exact br_t h1 hp
    · by_cases h2 : a ≤ 1
      · rw [if_neg (fun z => z.2 (pj_01.mp ⟨h1, h2⟩))] at hp
        exact br_f h1 (br_t h2 hp)
      · rw [if_pos ⟨h, fun z => h2 (pj_01.mpr z).2⟩] at hp
        exact br_f h1 (br_f h2 hp)
  unfold wpX_faultOf
  unfold pj_fo at hp
  refine br_c (fun h0 => ?_) (fun h0 => br_c (fun h13 => ?_) (fun h13 => ?_))
  · rw [if_pos h0] at hp; exact hp
  · rw [if_neg h0, if_pos h13] at hp
    refine br_c (fun h8 => k30 (Or.inl h8) hp) (fun h8 => br_c (fun h9 => k30 (Or.inr h9) hp) (fun h9 => ?_))
    rw [if_neg (fun z => z.1.elim h8 h9)] at hp
    exact br_t rfl hp
  · rw [if_neg h0, if_neg h13] at hp; exact hp
theorem pj_Yfo {post : Int32 → Prop} {x a : Int32} (hp : post (pj_fo x a)) : wpY_complaint post (yGR, yPS, yCT, yDO, yPC, yTL, yMD, yFK, yBT, OP, AR, yRE, yFR, yCO, yDI, ySK, yLO, yFI) x a := by
  have k25 : (x = 8 ∨ x = 9) → post (if (x = 8 ∨ x = 9) ∧ ¬ (a = 0 ∨ a = 1) then -3 else 0) → wY_complaint_25 post a yGR yPS yCT yDO yPC yTL yMD yFK yBT OP AR yRE yFR yCO yDI ySK yLO yFI := by
    intro h hp
    unfold wY_complaint_25
    by_cases h1 : a = 0
    · rw [if_neg (fun z => z.2 (Or.inl h1))] at hp
      exact br_t h1 hp
    · by_cases h2 : a = 1
      · rw [if_neg (fun z => z.2 (Or.inr h2))] at hp
        exact br_f h1 (br_t h2 hp)
      · rw [if_pos ⟨h, fun z => z.elim h1 h2⟩] at hp
        exact br_f h1 (br_f h2 hp)
  unfold wpY_complaint
  unfold pj_fo at hp
  refine br_c (fun h0 => ?_) (fun h0 => br_c (fun h13 => ?_) (fun h13 => ?_))
  · rw [if_pos h0] at hp; exact hp
  · rw [if_neg h0, if_pos h13] at hp
    refine br_c (fun h8 => k25 (Or.inl h8) hp) (fun h8 => br_c (fun h9 => k25 (Or.inr h9) hp) (fun h9 => ?_))
    rw [if_neg (fun z => z.1.elim h8 h9)] at hp
    exact hp
  · rw [if_neg h0, if_neg h13] at hp; exact hp
theorem pj_fo0 {x a : Int32} (h : pj_fo x a = 0) : ∃ o : Nat, o ≤ 13 ∧ x = nI o ∧ ((o = 8 ∨ o = 9) → (a = 0 ∨ a = 1)) := by
  unfold pj_fo at h
  by_cases h0 : x < 0
  · rw [if_pos h0] at h
    exact absurd h (by decide)
  · rw [if_neg h0] at h
    by_cases h13 : x ≤ 13
    · rw [if_pos h13] at h
      obtain ⟨o, ho, e⟩ := nI_of2 (M := 13) (n := 13) (by decide) h0 h13
      refine ⟨o, ho, e, fun h89 => ?_⟩
      apply Classical.byContradiction
      intro z
      have h89' : x = 8 ∨ x = 9 := by
        rcases h89 with w | w
        · exact Or.inl (by rw [e, w]; rfl)
        · exact Or.inr (by rw [e, w]; rfl)
      rw [if_pos ⟨h89', z⟩] at h
      exact absurd h (by decide)
    · rw [if_neg h13] at h
      exact absurd h (by decide)
theorem pj_wfu {c' p0 o : Nat} {a : Int32} (W : pj_wf c G OP AR) (hc' : c' ≤ 16) (hle : ∀ p, p < c' → p < c ∨ p = p0) (ho : o ≤ 13) (ha : (o = 8 ∨ o = 9) → (a = 0 ∨ a = 1)) : pj_wf c' G (upd OP p0 (nI o)) (upd AR p0 a) := by
  refine ⟨hc', W.2.1, W.2.2.1, fun p hp => ?_⟩
  by_cases e : p = p0
  · subst e
    have e1 : pj_o (upd OP p (nI o)) p = o := by
      unfold pj_o
      rw [pk_us, nI_clamp (by omega)]
    rw [e1, pk_us, pk_us]
    refine ⟨ho, rfl, fun h => ?_⟩
    unfold pj_al
    rw [pk_us]
    rcases ha h with rfl | rfl
    · rfl
    · rfl
  · have e1 : pj_o (upd OP p0 (nI o)) p = pj_o OP p := by
      unfold pj_o
      rw [pk_un e]
    have e2 : pj_al (upd AR p0 a) p = pj_al AR p := by
      unfold pj_al
      rw [pk_un e]
    rw [e1, e2, pk_un e, pk_un e]
    exact W.2.2.2 p ((hle p hp).resolve_right e)
theorem pj_Yout {A B : Prop} {x : Int32} (hx : ¬ ∃ q, q < c ∧ x = nI q) (h : A) : (x < 0 → A) ∧ (¬ x < 0 → ((nI c ≤ x → A) ∧ (¬ nI c ≤ x → B))) := by
  refine br_c (fun _ => h) (fun h0 => br_c (fun _ => h) (fun h1 => ?_))
  obtain ⟨j, hj, e⟩ := nI_of h0
  refine absurd ⟨j, ?_, e⟩ hx
  apply Classical.byContradiction
  intro z
  apply h1
  rw [e]
  exact nI_le (by omega) hj
theorem pj_safe (hc : c ≤ 16) {nt : Nat → Int32} (W : pj_wf c G OP AR) (N : pj_NO c G OP AR nt) (h : pj_or nt c = 0) : ∀ d s p, pj_R c G OP AR d s p → pj_fl c G OP AR s p = 0 := by
  intro d s p hR
  have hpc := (pj_Rlt W _ _ _ hR).1
  have hor : ∀ j, p < j → ∀ i, bt (nt p) i = true → bt (pj_or nt j) i = true := by
    intro j
    induction j with
    | zero => intro z; omega
    | succ j ih =>
      intro z i hi
      show bt (pj_or nt j ||| nt j) i = true
      rw [b_or, Bool.or_eq_true]
      by_cases e : p = j
      · subst e; exact Or.inr hi
      · exact Or.inl (ih (by omega) i hi)
  have h0 : nI (pj_fl c G OP AR s p) = 0 := by
    apply b_ext
    intro i _
    rw [b_0]
    cases hb : bt (nI (pj_fl c G OP AR s p)) i
    · rfl
    · have := hor c hpc i ((N p (by omega) i).mpr ⟨d, s, hR, hb⟩)
      rw [h, b_0] at this
      exact Bool.noConfusion this
  have hlt := pj_fl_lt (c := c) (G := G) (OP := OP) (AR := AR) s p
  exact (nI_eq (by omega) (by omega)).mp (h0.trans nI_0.symm)
theorem pj_XYcell {v1 : Int32} (h0 : ¬ xST = 0) : ∃ r, (∀ post : Int32 → Prop, post r → wpX_cell post (xMH, xPO, xSZ, xQH, xQC, xJD, xST, xAT, xTP, xMD, xCH, xFK, OP, AR, xMK, xQD, xQU, xNT, xFA, xCE, xLO, xFI) v1) ∧ (∀ post : Int32 → Prop, post r → wpY_cell post (yGR, yPS, yCT, xST, yPC, xTP, xMD, yFK, yBT, OP, AR, yRE, yFR, yCO, yDI, xCE, xLO, xFI) v1) := by
  have k30 : ∃ r, (∀ post : Int32 → Prop, post r → wX_cell_30 post v1 xMH xPO xSZ xQH xQC xJD xST xAT xTP xMD xCH xFK OP AR xMK xQD xQU xNT xFA xCE xLO xFI) ∧ (∀ post : Int32 → Prop, post r → wY_cell_30 post v1 yGR yPS yCT xST yPC xTP xMD yFK yBT OP AR yRE yFR yCO yDI xCE xLO xFI) := by
    by_cases h4 : v1 = 4
    · have hi : vp_in (v1 - 4) 2 := by rw [h4]; exact vp_in_nI (n := 0) (by omega) (by omega)
      exact ⟨_, fun post hp => br_t h4 (And.intro hi hp), fun post hp => br_t h4 (And.intro hi hp)⟩
    · by_cases h5 : v1 = 5
      · have hi : vp_in (v1 - 4) 2 := by rw [h5]; exact vp_in_nI (n := 1) (by omega) (by omega)
        exact ⟨_, fun post hp => br_f h4 (br_t h5 (And.intro hi hp)), fun post hp => br_f h4 (br_t h5 (And.intro hi hp))⟩
      · by_cases h8 : v1 < 8
        · exact ⟨0, fun post hp => br_f h4 (br_f h5 (br_t h8 hp)), fun post hp => br_f h4 (br_f h5 (br_t h8 hp))⟩
        · by_cases hm : xMD ≤ v1 - 8
          · exact ⟨0, fun post hp => br_f h4 (br_f h5 (br_f h8 (br_t hm hp))), fun post hp => br_f h4 (br_f h5 (br_f h8 (br_t hm hp)))⟩
          · exact ⟨_, fun post hp => br_f h4 (br_f h5 (br_f h8 (br_f hm (And.intro pj_i7 hp)))), fun post hp => br_f h4 (br_f h5 (br_f h8 (br_f hm (And.intro pj_i7 hp))))⟩
  obtain ⟨r, kx, ky⟩ := k30
  by_cases h1 : v1 < 0
  · exact ⟨r, fun post hp => br_f h0 (br_t h1 (kx post hp)), fun post hp => br_f h0 (br_t h1 (ky post hp))⟩
  · by_cases h2 : xTP ≤ v1
    · exact ⟨r, fun post hp => br_f h0 (br_f h1 (br_t h2 (kx post hp))), fun post hp => br_f h0 (br_f h1 (br_t h2 (ky post hp)))⟩
    · exact ⟨_, fun post hp => br_f h0 (br_f h1 (br_f h2 (And.intro pj_i3 hp))), fun post hp => br_f h0 (br_f h1 (br_f h2 (And.intro pj_i3 hp)))⟩
theorem pj_XYlim (v1 : Int32) : ∃ L : Nat, L ≤ 64 ∧ (∀ (post : Int32 → SX → Prop), (∃ n, wX_step_26 post (nI L) n 0 0 xMH xPO xSZ xQH xQC xJD xST xAT xTP xMD xCH xFK OP AR xMK xQD xQU xNT xFA xCE xLO xFI) → wpX_step post (xMH, xPO, xSZ, xQH, xQC, xJD, xST, xAT, xTP, xMD, xCH, xFK, OP, AR, xMK, xQD, xQU, xNT, xFA, xCE, xLO, xFI) v1) ∧ (∀ (post : Int32 → SY → Prop), (∃ n, wY_step_26 post (nI L) n 0 0 yGR yPS yCT yDO yPC yTL yMD yFK yBT OP AR yRE yFR yCO yDI ySK yLO yFI) → wpY_step post (yGR, yPS, yCT, yDO, yPC, yTL, yMD, yFK, yBT, OP, AR, yRE, yFR, yCO, yDI, ySK, yLO, yFI) v1) := by
  by_cases h0 : 0 ≤ v1
  · by_cases h64 : v1 ≤ 64
    · obtain ⟨L, hL, rfl⟩ := nI_of2 (M := 64) (n := 64) (by decide) (pj_le0.mp h0) h64
      exact ⟨L, hL, fun post hp => br_t h0 (br_t h64 hp), fun post hp => br_t h0 (br_t h64 hp)⟩
    · exact ⟨64, by omega, fun post hp => br_t h0 (br_f h64 hp), fun post hp => br_t h0 (br_f h64 hp)⟩
  · exact ⟨0, by omega, fun post hp => br_f h0 hp, fun post hp => br_f h0 hp⟩
end
end
section
section
theorem i_up {k : Nat} {u : SX} {v : SY} (h : i_Rel k u v) : i_Rel (k + 4) u v := h
theorem pj_XYG (k0 k1 : Int32) : ∃ G : Nat, (1 ≤ G ∧ G ≤ 4) ∧ (∀ post : SX → Prop, wX_init_103 post k1 (nI G) 0 0 0 0 0 0 0 0 0 0 0 0 (fun _ => 0) (fun _ => 0) (fun _ => 0) (fun _ => 0) (fun _ => 0) (fun _ => 0) (fun _ => 0) (fun _ => 0) (fun _ => 0) (fun _ => 0) → wpX_init post k0 k1) ∧ (∀ post : SY → Prop, wY_init_97 post k1 (nI G) 0 0 0 0 0 0 0 0 0 (fun _ => 0) (fun _ => 0) (fun _ => 0) (fun _ => 0) (fun _ => 0) (fun _ => 0) (fun _ => 0) (fun _ => 0) (fun _ => 0) → wpY_init post k0 k1) := by
  by_cases h1 : 1 ≤ k0
  · by_cases h4 : k0 ≤ 4
    · obtain ⟨G, hG, e⟩ := nI_of2 (x := k0) (M := 4) (n := 4) (by decide) (fun z => absurd (Int32.lt_of_lt_of_le z (by decide : (0 : Int32) ≤ 1)) (Int32.not_lt.mpr h1)) h4
      subst e
      have hG1 : 1 ≤ G := (nI_leI (a := 1) (by omega) (by omega)).mp h1
      exact ⟨G, ⟨hG1, hG⟩, fun post hp => br_t h1 (br_t h4 hp), fun post hp => br_t h1 (br_t h4 hp)⟩
    · exact ⟨4, ⟨by omega, by omega⟩, fun post hp => br_t h1 (br_f h4 hp), fun post hp => br_t h1 (br_f h4 hp)⟩
  · exact ⟨1, ⟨by omega, by omega⟩, fun post hp => br_f h1 hp, fun post hp => br_f h1 hp⟩
theorem pj_XYP (k1 z : Int32) : ∃ pv : Int32, (∀ post : SX → Prop, post (z, pv, 0, 0, 0, 0, 0, 0, 0, 0, 0, 0, (fun _ => 0), (fun _ => 0), (fun _ => 0), (fun _ => 0), (fun _ => 0), (fun _ => 0), (fun _ => 0), (fun _ => 0), (fun _ => 0), (fun _ => 0)) → wX_init_103 post k1 z 0 0 0 0 0 0 0 0 0 0 0 0 (fun _ => 0) (fun _ => 0) (fun _ => 0) (fun _ => 0) (fun _ => 0) (fun _ => 0) (fun _ => 0) (fun _ => 0) (fun _ => 0) (fun _ => 0)) ∧ (∀ post : SY → Prop, wY_init_122 post pv z 0 0 0 0 0 0 0 0 (fun _ => 0) (fun _ => 0) (fun _ => 0) (fun _ => 0) (fun _ => 0) (fun _ => 0) (fun _ => 0) (fun _ => 0) (fun _ => 0) → wY_init_97 post k1 z 0 0 0 0 0 0 0 0 0 (fun _ => 0) (fun _ => 0) (fun _ => 0) (fun _ => 0) (fun _ => 0) (fun _ => 0) (fun _ => 0) (fun _ => 0) (fun _ => 0)) := by
  by_cases h1 : 1 ≤ k1
  · by_cases h8 : k1 ≤ 8
    · exact ⟨k1, fun post hp => br_t h1 (br_t h8 hp), fun post hp => br_t h1 (br_t h8 hp)⟩
    · exact ⟨8, fun post hp => br_t h1 (br_f h8 hp), fun post hp => br_t h1 (br_f h8 hp)⟩
  · exact ⟨1, fun post hp => br_f h1 hp, fun post hp => br_f h1 hp⟩
set_option maxHeartbeats 4000000 in
theorem i_vc0 (k0 : Int32) (k1 : Int32) : wpX_init (fun u => wpY_init (fun v => i_Rel 2 u v) k0 k1) k0 k1 := by
  obtain ⟨G, hG, gx, gy⟩ := pj_XYG k0 k1
  obtain ⟨pv, px, py⟩ := pj_XYP k1 (nI G)
  refine gx _ (px _ (gy _ (py _ ?_)))
  have W : pj_wf 0 G (fun _ => 0) (fun _ => 0) := ⟨Nat.zero_le _, hG.1, hG.2, fun p hp => absurd hp (Nat.not_lt_zero p)⟩
  unfold wY_init_122
  refine pj_Yjudge (c := 0) W ?_
  intro re fr co di hY
  exact pj_in (c := 0) (pj_nInv W hY)
set_option maxHeartbeats 4000000 in
theorem i_vc_emit {k : Nat} {u : SX} {v : SY} (I : i_Rel k u v) (hk : k + 4 ≤ 2050) (v1 : Int32) (v2 : Int32) : wpX_emit (fun r u' => wpY_emit (fun r' v' => r' = r ∧ i_Rel (k + 4) u' v') v v1 v2) u v1 v2 := by
  refine pj_el (P := fun u v => wpX_emit (fun r u' => wpY_emit (fun r' v' => r' = r ∧ i_Rel (k + 4) u' v') v v1 v2) u v1 v2) ?_ I
  intro c G xPO xQH xQC xJD xST xAT xTP xMD xCH xFK yPC yTL yMD OP AR xMK xQD xQU xNT xFA xCE xLO xFI yRE yFR yCO yDI h
  have W := h.1
  have hc16 := W.1
  unfold wpX_emit
  refine pk_lt c 16 (fun hc => ?_) (fun hc => ?_) rfl rfl (by omega) (by omega)
  · have ec : (nI c).toNatClampNeg = c := nI_clamp (by omega)
    have hin : vp_in (nI c) 16 := vp_in_nI hc (by omega)
    refine pj_Xfo ?_
    by_cases h0 : pj_fo v1 v2 = 0
    · refine br_t h0 ?_
      obtain ⟨o, ho, ev, ha⟩ := pj_fo0 h0
      have W' : pj_wf (c + 1) G (upd OP c (nI o)) (upd AR c v2) := pj_wfu W (by omega) (fun p hp => by omega) ho ha
      refine And.intro hin (nm_r (e' := upd OP c (nI o)) (by rw [ec, ev, pj_nby (by omega)]) (And.intro hin (nm_r (e' := upd AR c v2) (by rw [ec]) (nm_r (e' := nI (c + 1)) (nI_1 c) ?_))))
      unfold wpX_changed wpY_emit
      refine pk_lt c 16 (fun _ => ?_) (fun z => absurd hc (by omega)) rfl rfl (by omega) (by omega)
      refine pj_Yfo ?_
      refine br_t h0 (And.intro hin (nm_r (e' := upd OP c (nI o)) (by rw [ec, ev]) (And.intro hin (nm_r (e' := upd AR c v2) (by rw [ec]) (nm_r (e' := nI (c + 1)) (nI_1 c) ?_)))))
      refine pj_Yjudge W' ?_
      intro re fr co di hY
      exact ⟨rfl, pj_in (pj_nInv W' hY)⟩
    · refine br_f h0 ?_
      unfold wpY_emit
      refine pk_lt c 16 (fun _ => ?_) (fun z => absurd hc (by omega)) rfl rfl (by omega) (by omega)
      refine pj_Yfo ?_
      exact br_f h0 ⟨rfl, pj_in h⟩
  · unfold wpY_emit
    exact pk_lt c 16 (fun z => absurd z (by omega)) (fun _ => ⟨rfl, pj_in h⟩) rfl rfl (by omega) (by omega)
set_option maxHeartbeats 4000000 in
theorem i_vc_patch {k : Nat} {u : SX} {v : SY} (I : i_Rel k u v) (hk : k + 4 ≤ 2050) (v1 : Int32) (v2 : Int32) (v3 : Int32) : wpX_patch (fun r u' => wpY_patch (fun r' v' => r' = r ∧ i_Rel (k + 4) u' v') v v1 v2 v3) u v1 v2 v3 := by
  refine pj_el (P := fun u v => wpX_patch (fun r u' => wpY_patch (fun r' v' => r' = r ∧ i_Rel (k + 4) u' v') v v1 v2 v3) u v1 v2 v3) ?_ I
  intro c G xPO xQH xQC xJD xST xAT xTP xMD xCH xFK yPC yTL yMD OP AR xMK xQD xQU xNT xFA xCE xLO xFI yRE yFR yCO yDI h
  have W := h.1
  have hc16 := W.1
  rcases pj_in_dec c v1 with ⟨p, hp, hx⟩ | hx
  · subst hx
    have ec : (nI p).toNatClampNeg = p := nI_clamp (by omega)
    have hin : vp_in (nI p) 16 := vp_in_nI (by omega) (by omega)
    have h1 : ¬ nI p < 0 := nI_pos (by omega)
    have h2 : nI p < nI c := nI_lt hp (by omega)
    unfold wpX_patch
    refine br_f h1 (br_t h2 ?_)
    refine pj_Xfo ?_
    by_cases h0 : pj_fo v2 v3 = 0
    · refine br_t h0 ?_
      obtain ⟨o, ho, ev, ha⟩ := pj_fo0 h0
      have W' : pj_wf c G (upd OP p (nI o)) (upd AR p v3) := pj_wfu W hc16 (fun p hp => Or.inl hp) ho ha
      refine And.intro hin (nm_r (e' := upd OP p (nI o)) (by rw [ec, ev, pj_nby (by omega)]) (And.intro hin (nm_r (e' := upd AR p v3) (by rw [ec]) ?_)))
      unfold wpX_changed wpY_patch
      refine br_f h1 (br_t h2 ?_)
      refine pj_Yfo ?_
      refine br_t h0 (And.intro hin (nm_r (e' := upd OP p (nI o)) (by rw [ec, ev]) (And.intro hin (nm_r (e' := upd AR p v3) (by rw [ec]) ?_))))
      refine pj_Yjudge W' ?_
      intro re fr co di hY
      exact ⟨rfl, pj_in (pj_nInv W' hY)⟩
    · refine br_f h0 ?_
      unfold wpY_patch
      refine br_f h1 (br_t h2 ?_)
      refine pj_Yfo ?_
      exact br_f h0 ⟨rfl, pj_in h⟩
  · have hn : ¬ v1 < 0 → ¬ v1 < nI c := by
      intro h0 z
      obtain ⟨j, hj, e⟩ := nI_of h0
      rw [e] at z
      exact hx ⟨j, (nI_ltI hj (by omega)).mp z, e⟩
    unfold wpX_patch wpY_patch
    exact br_c (fun h0 => br_t h0 ⟨rfl, pj_in h⟩) (fun h0 => br_f (hn h0) (br_f h0 (br_f (hn h0) ⟨rfl, pj_in h⟩)))
set_option maxHeartbeats 4000000 in
theorem i_vc_clear {k : Nat} {u : SX} {v : SY} (I : i_Rel k u v) (hk : k + 4 ≤ 2050) : wpX_clear (fun u' => wpY_clear (fun v' => i_Rel (k + 4) u' v') v) u := by
  refine pj_el (P := fun u v => wpX_clear (fun u' => wpY_clear (fun v' => i_Rel (k + 4) u' v') v) u) ?_ I
  intro c G xPO xQH xQC xJD xST xAT xTP xMD xCH xFK yPC yTL yMD OP AR xMK xQD xQU xNT xFA xCE xLO xFI yRE yFR yCO yDI h
  have W' : pj_wf 0 G OP AR := ⟨Nat.zero_le _, h.1.2.1, h.1.2.2.1, fun p hp => absurd hp (Nat.not_lt_zero p)⟩
  unfold wpX_clear wpX_changed wpY_clear
  refine pj_Yjudge (c := 0) W' ?_
  intro re fr co di hY
  exact pj_in (c := 0) (pj_nInv W' hY)
set_option maxHeartbeats 4000000 in
theorem i_vc_length {k : Nat} {u : SX} {v : SY} (I : i_Rel k u v) (hk : k + 4 ≤ 2050) : wpX_length (fun r => wpY_length (fun r' => r' = r ∧ i_Rel (k + 4) u v) v) u := by
  refine pj_el (P := fun u v => wpX_length (fun r => wpY_length (fun r' => r' = r ∧ i_Rel (k + 4) u v) v) u) ?_ I
  intro c G xPO xQH xQC xJD xST xAT xTP xMD xCH xFK yPC yTL yMD OP AR xMK xQD xQU xNT xFA xCE xLO xFI yRE yFR yCO yDI h
  exact ⟨rfl, pj_in h⟩
set_option maxHeartbeats 4000000 in
theorem i_vc_verdict {k : Nat} {u : SX} {v : SY} (I : i_Rel k u v) (hk : k + 4 ≤ 2050) : wpX_verdict (fun r u' => wpY_verdict (fun r' => r' = r ∧ i_Rel (k + 4) u' v) v) u := by
  refine pj_el (P := fun u v => wpX_verdict (fun r u' => wpY_verdict (fun r' => r' = r ∧ i_Rel (k + 4) u' v) v) u) ?_ I
  intro c G xPO xQH xQC xJD xST xAT xTP xMD xCH xFK yPC yTL yMD OP AR xMK xQD xQU xNT xFA xCE xLO xFI yRE yFR yCO yDI h
  have hc := h.1.1
  by_cases hc0 : c = 0
  · subst hc0
    unfold wpX_verdict wpY_verdict
    exact br_t nI_0 (br_t nI_0 ⟨rfl, pj_in h⟩)
  · refine pj_Xverdict h.1 h.2.2.1 (by omega) ?_
    intro qh qc jd mk qd qu nt fa h1 h2
    refine pj_Yverdict h.1 (by omega) h.2.1 h2.2.1 ?_
    exact ⟨rfl, pj_in (pj_jInv h h2)⟩
set_option maxHeartbeats 4000000 in
theorem i_vc_faults {k : Nat} {u : SX} {v : SY} (I : i_Rel k u v) (hk : k + 4 ≤ 2050) (v1 : Int32) : wpX_faults (fun r u' => wpY_faults (fun r' => r' = r ∧ i_Rel (k + 4) u' v) v v1) u v1 := by
  refine pj_el (P := fun u v => wpX_faults (fun r u' => wpY_faults (fun r' => r' = r ∧ i_Rel (k + 4) u' v) v v1) u v1) ?_ I
  intro c G xPO xQH xQC xJD xST xAT xTP xMD xCH xFK yPC yTL yMD OP AR xMK xQD xQU xNT xFA xCE xLO xFI yRE yFR yCO yDI h
  have hc := h.1.1
  rcases pj_in_dec c v1 with ⟨p, hp, hx⟩ | hx
  · subst hx
    refine pj_XfaultsQ h.1 h.2.2.1 hp ?_
    intro qh qc jd mk qd qu nt fa h1 h2
    refine pj_Yfaults h.1 h.2.1 h2.2.1 hp ?_
    exact ⟨rfl, pj_in (pj_jInv h h2)⟩
  · unfold wpX_faults
    refine pj_XinF hc hx (br_t rfl ?_)
    unfold wpY_faults
    exact pj_Yout hx ⟨rfl, pj_in h⟩
set_option maxHeartbeats 4000000 in
theorem i_vc_heights {k : Nat} {u : SX} {v : SY} (I : i_Rel k u v) (hk : k + 4 ≤ 2050) (v1 : Int32) : wpX_heights (fun r u' => wpY_heights (fun r' => r' = r ∧ i_Rel (k + 4) u' v) v v1) u v1 := by
  refine pj_el (P := fun u v => wpX_heights (fun r u' => wpY_heights (fun r' => r' = r ∧ i_Rel (k + 4) u' v) v v1) u v1) ?_ I
  intro c G xPO xQH xQC xJD xST xAT xTP xMD xCH xFK yPC yTL yMD OP AR xMK xQD xQU xNT xFA xCE xLO xFI yRE yFR yCO yDI h
  have hc := h.1.1
  rcases pj_in_dec c v1 with ⟨p, hp, hx⟩ | hx
  · subst hx
    refine pj_Xheights h.1 h.2.2.1 hp ?_
    intro r qh qc jd mk qd qu nt fa h1 h2 h3
    refine pj_Yheights h.1 h.2.1 hp ?_
    intro r' h4
    exact ⟨b_ext (fun i _ => by rw [Bool.eq_iff_iff, h3 i, h4 i]), pj_in (pj_jInv h h2)⟩
  · unfold wpX_heights
    refine pj_XinF hc hx (br_t rfl ?_)
    unfold wpY_heights
    exact pj_Yout hx ⟨rfl, pj_in h⟩
set_option maxHeartbeats 4000000 in
theorem i_vc_kinds {k : Nat} {u : SX} {v : SY} (I : i_Rel k u v) (hk : k + 4 ≤ 2050) (v1 : Int32) (v2 : Int32) (v3 : Int32) : wpX_kinds (fun r u' => wpY_kinds (fun r' => r' = r ∧ i_Rel (k + 4) u' v) v v1 v2 v3) u v1 v2 v3 := by
  refine pj_el (P := fun u v => wpX_kinds (fun r u' => wpY_kinds (fun r' => r' = r ∧ i_Rel (k + 4) u' v) v v1 v2 v3) u v1 v2 v3) ?_ I
  intro c G xPO xQH xQC xJD xST xAT xTP xMD xCH xFK yPC yTL yMD OP AR xMK xQD xQU xNT xFA xCE xLO xFI yRE yFR yCO yDI h
  have hc := h.1.1
  rcases pj_in_dec c v1 with ⟨p, hp, hx⟩ | hx
  · subst hx
    refine pj_Xkinds h.1 h.2.2.1 hp ?_ ?_
    · intro hgt pl hh hpl e2 e3 hV qh qc jd mk qd qu nt fa h1 h2
      have hA : pj_Ask v2 v3 := by
        rcases hV with z | z | z
        · left
          rw [e3, e2]
          exact ⟨nI_pos (by omega), nI_lt z (by omega)⟩
        · exact Or.inr (Or.inl (by rw [e3, z]; rfl))
        · exact Or.inr (Or.inr (by rw [e3, z]; rfl))
      refine pj_Ykinds h.1 h.2.1 hp (fun pl' hpl' e3' _ r hr => ⟨b_ext (fun i _ => ?_), pj_in (pj_jInv h h2)⟩) (fun z => absurd hA z)
      have epl : pl' = pl := (nI_eq hpl' (by omega)).mp (e3'.symm.trans e3)
      subst epl
      have e5 := pj_nd5 (q := p) (h := hgt) (by omega)
      rw [Bool.eq_iff_iff, hr]
      by_cases h3 : i < 3
      · rw [pj_ka_k hpl h3, h2.1.1 _ (by omega) pl' hpl i h3]
        unfold pj_Wt
        rw [e5.1, e5.2]
        constructor
        · rintro ⟨d, s, z1, z2, z3⟩
          have hht := pj_ht_le s
          exact ⟨d, s, z1, (nI_eq (by omega) (by omega)).mp (z2.trans e2), hV, z3⟩
        · rintro ⟨d, s, z1, z2, _, z3⟩
          exact ⟨d, s, z1, by rw [z2, e2], z3⟩
      · rw [pj_ka_hi hpl (by omega)]
        constructor
        · rintro ⟨d, s, z1, z2, z3⟩
          have := pj_D_lt s pl'
          omega
        · intro z; exact Bool.noConfusion z
    · intro hn
      refine pj_Ykinds h.1 h.2.1 hp (fun pl hpl e3 hA r hr => ⟨b_ext (fun i _ => ?_), pj_in h⟩) (fun _ => ⟨rfl, pj_in h⟩)
      rw [Bool.eq_iff_iff, hr, b_0]
      constructor
      · rintro ⟨d, s, z1, z2, z3⟩
        have hht := pj_ht_le s
        exact absurd ⟨hA, pj_ht s, by omega, z2.symm⟩ hn
      · intro z; exact Bool.noConfusion z
  · unfold wpX_kinds
    refine pj_XinF hc hx (br_t rfl ?_)
    unfold wpY_kinds
    exact pj_Yout hx ⟨rfl, pj_in h⟩
set_option maxHeartbeats 4000000 in
theorem i_vc_distance {k : Nat} {u : SX} {v : SY} (I : i_Rel k u v) (hk : k + 4 ≤ 2050) (v1 : Int32) : wpX_distance (fun r u' => wpY_distance (fun r' => r' = r ∧ i_Rel (k + 4) u' v) v v1) u v1 := by
  refine pj_el (P := fun u v => wpX_distance (fun r u' => wpY_distance (fun r' => r' = r ∧ i_Rel (k + 4) u' v) v v1) u v1) ?_ I
  intro c G xPO xQH xQC xJD xST xAT xTP xMD xCH xFK yPC yTL yMD OP AR xMK xQD xQU xNT xFA xCE xLO xFI yRE yFR yCO yDI h
  have hc := h.1.1
  rcases pj_in_dec c v1 with ⟨p, hp, hx⟩ | hx
  · subst hx
    refine pj_Xdistance h.1 h.2.2.1 hp ?_
    intro r qh qc jd mk qd qu nt fa h1 h2 h3
    unfold wpY_distance
    refine br_f (nI_pos (by omega)) (br_f (nI_ge hp (by omega)) (And.intro (vp_in_nI (by omega) (by omega)) ?_))
    rw [nI_clamp (by omega)]
    exact ⟨pj_DVu (h.2.1.2 p hp) h3, pj_in (pj_jInv h h2)⟩
  · unfold wpX_distance
    refine pj_XinF hc hx (br_t rfl ?_)
    unfold wpY_distance
    exact pj_Yout hx ⟨rfl, pj_in h⟩
set_option maxHeartbeats 4000000 in
theorem i_vc_start {k : Nat} {u : SX} {v : SY} (I : i_Rel k u v) (hk : k + 4 ≤ 2050) (v1 : Int32) : wpX_start (fun r u' => wpY_start (fun r' v' => r' = r ∧ i_Rel (k + 4) u' v') v v1) u v1 := by
  refine pj_el (P := fun u v => wpX_start (fun r u' => wpY_start (fun r' v' => r' = r ∧ i_Rel (k + 4) u' v') v v1) u v1) ?_ I
  intro c G xPO xQH xQC xJD xST xAT xTP xMD xCH xFK yPC yTL yMD OP AR xMK xQD xQU xNT xFA xCE xLO xFI yRE yFR yCO yDI h
  have hc := h.1.1
  by_cases hc0 : c = 0
  · subst hc0
    unfold wpX_start wpX_verdict wpY_start wpY_verdict
    exact br_t nI_0 (br_f (by decide) (br_t nI_0 (br_f (by decide) ⟨rfl, pj_in h⟩)))
  · unfold wpX_start
    refine pj_Xverdict h.1 h.2.2.1 (by omega) ?_
    intro qh qc jd mk qd qu nt fa h1 h2
    by_cases h0 : pj_or nt c = 0
    · rw [if_pos h0]
      refine br_t rfl (nm_e (nm_e ?_))
      unfold wpY_start
      refine pj_Yverdict h.1 (by omega) h.2.1 h2.2.1 ?_
      rw [if_pos h0]
      refine br_t rfl (nm_e (nm_e ⟨rfl, ?_⟩))
      refine pj_in ⟨h.1, h.2.1, fun _ => h2, fun z => absurd z (by decide), fun _ => ⟨rfl, rfl, rfl⟩, fun _ => ⟨pj_safe hc h.1 h2.2.1 h0, 0, 8, 0, ⟨rfl, rfl, by omega⟩, rfl, rfl⟩⟩
    · rw [if_neg h0]
      refine br_f (by decide) ?_
      unfold wpY_start
      refine pj_Yverdict h.1 (by omega) h.2.1 h2.2.1 ?_
      rw [if_neg h0]
      exact br_f (by decide) ⟨rfl, pj_in (pj_jInv h h2)⟩
set_option maxHeartbeats 4000000 in
theorem i_vc_step {k : Nat} {u : SX} {v : SY} (I : i_Rel k u v) (hk : k + 4 ≤ 2050) (v1 : Int32) : wpX_step (fun r u' => wpY_step (fun r' v' => r' = r ∧ i_Rel (k + 4) u' v') v v1) u v1 := by
  refine pj_el (P := fun u v => wpX_step (fun r u' => wpY_step (fun r' v' => r' = r ∧ i_Rel (k + 4) u' v') v v1) u v1) ?_ I
  intro c G xPO xQH xQC xJD xST xAT xTP xMD xCH xFK yPC yTL yMD OP AR xMK xQD xQU xNT xFA xCE xLO xFI yRE yFR yCO yDI h
  obtain ⟨L, hL, kx, ky⟩ := pj_XYlim (xMH := nI G) (xPO := xPO) (xSZ := nI c) (xQH := xQH) (xQC := xQC) (xJD := xJD) (xST := xST) (xAT := xAT) (xTP := xTP) (xMD := xMD) (xCH := xCH) (xFK := xFK) (OP := OP) (AR := AR) (xMK := xMK) (xQD := xQD) (xQU := xQU) (xNT := xNT) (xFA := xFA) (xCE := xCE) (xLO := xLO) (xFI := xFI) (yGR := nI G) (yPS := xPO) (yCT := nI c) (yDO := xST) (yPC := yPC) (yTL := yTL) (yMD := yMD) (yFK := xFK) (yBT := xCH) (yRE := yRE) (yFR := yFR) (yCO := yCO) (yDI := yDI) (ySK := xCE) (yLO := xLO) (yFI := xFI) v1
  by_cases h0 : xST = 0
  · have hs : ¬ xST = 1 := by rw [h0]; decide
    refine kx _ ⟨1, br_c (fun _ => ?_) (fun _ => br_f hs ?_)⟩
    · refine ky _ ⟨1, br_c (fun _ => ?_) (fun _ => br_f hs ?_)⟩
      · exact ⟨rfl, pj_in h⟩
      · exact ⟨rfl, pj_in h⟩
    · refine ky _ ⟨1, br_c (fun _ => ?_) (fun _ => br_f hs ?_)⟩
      · exact ⟨rfl, pj_in h⟩
      · exact ⟨rfl, pj_in h⟩
  · obtain ⟨e1, e2, e3⟩ := h.2.2.2.2.1 h0
    subst e1 e2 e3
    obtain ⟨r, st', pa', tp', md', fk', ce', lo', fi', q1, q2, q3, q4⟩ := pj_step (xMH := nI G) (xPO := xPO) (xSZ := nI c) (xQH := xQH) (xQC := xQC) (xJD := xJD) (xCH := xCH) (xMK := xMK) (xQD := xQD) (xQU := xQU) (xNT := xNT) (xFA := xFA) (yGR := nI G) (yCT := nI c) (yRE := yRE) (yFR := yFR) (yCO := yCO) (yDI := yDI) h.1 hL (L + 1) 0 0 xST yPC yTL yMD xFK xCE xLO xFI h.2.2.2.2.2 h0 (Nat.zero_le _) (Nat.le_refl _)
    refine kx _ ⟨L + 1, q3 _ ?_⟩
    refine ky _ ⟨L + 1, q4 _ ?_⟩
    exact ⟨rfl, pj_in ⟨h.1, h.2.1, h.2.2.1, fun z => absurd z q2, fun _ => ⟨rfl, rfl, rfl⟩, q1⟩⟩
set_option maxHeartbeats 4000000 in
theorem i_vc_status {k : Nat} {u : SX} {v : SY} (I : i_Rel k u v) (hk : k + 4 ≤ 2050) : wpX_status (fun r => wpY_status (fun r' => r' = r ∧ i_Rel (k + 4) u v) v) u := by
  refine pj_el (P := fun u v => wpX_status (fun r => wpY_status (fun r' => r' = r ∧ i_Rel (k + 4) u v) v) u) ?_ I
  intro c G xPO xQH xQC xJD xST xAT xTP xMD xCH xFK yPC yTL yMD OP AR xMK xQD xQU xNT xFA xCE xLO xFI yRE yFR yCO yDI h
  exact ⟨rfl, pj_in h⟩
set_option maxHeartbeats 4000000 in
theorem i_vc_position {k : Nat} {u : SX} {v : SY} (I : i_Rel k u v) (hk : k + 4 ≤ 2050) : wpX_position (fun r => wpY_position (fun r' => r' = r ∧ i_Rel (k + 4) u v) v) u := by
  refine pj_el (P := fun u v => wpX_position (fun r => wpY_position (fun r' => r' = r ∧ i_Rel (k + 4) u v) v) u) ?_ I
  intro c G xPO xQH xQC xJD xST xAT xTP xMD xCH xFK yPC yTL yMD OP AR xMK xQD xQU xNT xFA xCE xLO xFI yRE yFR yCO yDI h
  by_cases h0 : xST = 0
  · exact br_t h0 ⟨(h.2.2.2.1 h0).1.symm, pj_in h⟩
  · exact br_f h0 ⟨(h.2.2.2.2.1 h0).1, pj_in h⟩
set_option maxHeartbeats 4000000 in
theorem i_vc_height {k : Nat} {u : SX} {v : SY} (I : i_Rel k u v) (hk : k + 4 ≤ 2050) : wpX_height (fun r => wpY_height (fun r' => r' = r ∧ i_Rel (k + 4) u v) v) u := by
  refine pj_el (P := fun u v => wpX_height (fun r => wpY_height (fun r' => r' = r ∧ i_Rel (k + 4) u v) v) u) ?_ I
  intro c G xPO xQH xQC xJD xST xAT xTP xMD xCH xFK yPC yTL yMD OP AR xMK xQD xQU xNT xFA xCE xLO xFI yRE yFR yCO yDI h
  by_cases h0 : xST = 0
  · exact br_t h0 ⟨(h.2.2.2.1 h0).2.1.symm, pj_in h⟩
  · exact br_f h0 ⟨(h.2.2.2.2.1 h0).2.1, pj_in h⟩
set_option maxHeartbeats 4000000 in
theorem i_vc_records {k : Nat} {u : SX} {v : SY} (I : i_Rel k u v) (hk : k + 4 ≤ 2050) : wpX_records (fun r => wpY_records (fun r' => r' = r ∧ i_Rel (k + 4) u v) v) u := by
  refine pj_el (P := fun u v => wpX_records (fun r => wpY_records (fun r' => r' = r ∧ i_Rel (k + 4) u v) v) u) ?_ I
  intro c G xPO xQH xQC xJD xST xAT xTP xMD xCH xFK yPC yTL yMD OP AR xMK xQD xQU xNT xFA xCE xLO xFI yRE yFR yCO yDI h
  by_cases h0 : xST = 0
  · exact br_t h0 ⟨(h.2.2.2.1 h0).2.2.symm, pj_in h⟩
  · exact br_f h0 ⟨(h.2.2.2.2.1 h0).2.2, pj_in h⟩
set_option maxHeartbeats 4000000 in
theorem i_vc_cell {k : Nat} {u : SX} {v : SY} (I : i_Rel k u v) (hk : k + 4 ≤ 2050) (v1 : Int32) : wpX_cell (fun r => wpY_cell (fun r' => r' = r ∧ i_Rel (k + 4) u v) v v1) u v1 := by
  refine pj_el (P := fun u v => wpX_cell (fun r => wpY_cell (fun r' => r' = r ∧ i_Rel (k + 4) u v) v v1) u v1) ?_ I
  intro c G xPO xQH xQC xJD xST xAT xTP xMD xCH xFK yPC yTL yMD OP AR xMK xQD xQU xNT xFA xCE xLO xFI yRE yFR yCO yDI h
  by_cases h0 : xST = 0
  · exact br_t h0 (br_t h0 ⟨rfl, pj_in h⟩)
  · obtain ⟨e1, e2, e3⟩ := h.2.2.2.2.1 h0
    subst e1 e2 e3
    obtain ⟨r, kx, ky⟩ := pj_XYcell (xMH := nI G) (xPO := xPO) (xSZ := nI c) (xQH := xQH) (xQC := xQC) (xJD := xJD) (xST := xST) (xAT := yPC) (xTP := yTL) (xMD := yMD) (xCH := xCH) (xFK := xFK) (OP := OP) (AR := AR) (xMK := xMK) (xQD := xQD) (xQU := xQU) (xNT := xNT) (xFA := xFA) (xCE := xCE) (xLO := xLO) (xFI := xFI) (yGR := nI G) (yPS := xPO) (yCT := nI c) (yPC := yPC) (yFK := xFK) (yBT := xCH) (yRE := yRE) (yFR := yFR) (yCO := yCO) (yDI := yDI) (v1 := v1) h0
    exact kx _ (ky _ ⟨rfl, pj_in h⟩)
end
end
