section
/-! rows taken from the kit's rows to paste (PURE-ROWS, BITS) -/
theorem pk_us {f : Nat → Int32} {k : Nat} {x : Int32} : upd f k x k = x := if_pos rfl
theorem pk_un {f : Nat → Int32} {k j : Nat} {x : Int32} (h : j ≠ k) : upd f k x j = f j := if_neg h
theorem pk_uLs {f : Nat → Int64} {k : Nat} {x : Int64} : vp_updL f k x k = x := if_pos rfl
theorem pk_uLn {f : Nat → Int64} {k j : Nat} {x : Int64} (h : j ≠ k) : vp_updL f k x j = f j := if_neg h
theorem pk_sub {a b : Nat} (h : b ≤ a) : nI a - nI b = nI (a - b) := by
  obtain ⟨c, rfl⟩ : ∃ c, a = c + b := ⟨a - b, by omega⟩
  rw [← nI_add, Int32.add_sub_cancel, Nat.add_sub_cancel]
theorem pk_mul (a b : Nat) : nI a * nI b = nI (a * b) := (Int32.ofNat_mul a b).symm
theorem pk_div {a d : Nat} (ha : a < 2 ^ 31) (h0 : 0 < d) (hd : d < 2 ^ 31) : nI a / nI d = nI (a / d) := by
  apply Int32.toInt_inj.mp
  rw [lg_idiv_nonneg (by rw [nI_toInt ha]; omega) (by rw [nI_toInt hd]; omega), nI_toInt ha, nI_toInt hd, nI_toInt (Nat.lt_of_le_of_lt (Nat.div_le_self a d) ha)]
  first | rfl | exact (Int.natCast_ediv _ _).symm
theorem pk_rem {a d : Nat} (ha : a < 2 ^ 31) (h0 : 0 < d) (hd : d < 2 ^ 31) : nI a - nI a / nI d * nI d = nI (a % d) := by
  rw [pk_div ha h0 hd, pk_mul, pk_sub (Nat.div_mul_le_self a d)]
  exact congrArg nI (by have := Nat.div_add_mod' a d; omega)
theorem pk_ix (x : Int32) {n : Nat} (hn : n < 2 ^ 31) : x < 0 ∨ nI n ≤ x ∨ ∃ j : Nat, j < n ∧ x = nI j := by
  by_cases h : x < 0
  · exact Or.inl h
  · obtain ⟨j, hj, rfl⟩ := nI_of h
    by_cases h2 : j < n
    · exact Or.inr (Or.inr ⟨j, h2, rfl⟩)
    · exact Or.inr (Or.inl (nI_le (by omega) hj))
theorem pk_shr (a s : Int32) (k : Nat) (hs : (s.toBitVec.smod 32).toNat = k) : (a >>> s).toInt = a.toInt >>> k := by
  show (a.toBitVec.sshiftRight (s.toBitVec.smod 32).toNat).toInt = _
  rw [hs, BitVec.toInt_sshiftRight]
  rfl
theorem pk_shrN {n : Nat} (h : n < 2 ^ 31) (s : Int32) (k : Nat) (hs : (s.toBitVec.smod 32).toNat = k) : nI n >>> s = nI (n / 2 ^ k) := by
  apply Int32.toInt_inj.mp
  have h2 : n / 2 ^ k ≤ n := Nat.div_le_self _ _
  rw [pk_shr _ _ k hs, nI_toInt h, nI_toInt (by omega), Int.shiftRight_eq_div_pow]
  rfl
theorem pk_lT {n : Nat} (h : n < 2 ^ 63) : (lN n).toInt = (n : Int) := lg_ofNat_toInt h
theorem pk_lLT {a b : Nat} (ha : a < 2 ^ 63) (hb : b < 2 ^ 63) : lN a < lN b ↔ a < b := by
  rw [Int64.lt_iff_toInt_lt, pk_lT ha, pk_lT hb]; omega
theorem pk_lLE {a b : Nat} (ha : a < 2 ^ 63) (hb : b < 2 ^ 63) : lN a ≤ lN b ↔ a ≤ b := by
  rw [Int64.le_iff_toInt_le, pk_lT ha, pk_lT hb]; omega
theorem pk_lEQ {a b : Nat} (ha : a < 2 ^ 63) (hb : b < 2 ^ 63) : lN a = lN b ↔ a = b := by
  rw [← Int64.toInt_inj, pk_lT ha, pk_lT hb]; omega
theorem pk_lDiv {a b : Nat} (ha : a < 2 ^ 63) (h0 : 0 < b) (hb : b < 2 ^ 63) : lN a / lN b = lN (a / b) := by
  apply Int64.toInt_inj.mp
  rw [lg_ldiv_nonneg (by rw [pk_lT ha]; omega) (by rw [pk_lT hb]; omega), pk_lT ha, pk_lT hb, pk_lT (Nat.lt_of_le_of_lt (Nat.div_le_self a b) ha)]
  rfl
theorem pk_least (P : Nat → Prop) (h : ∃ k, P k) : ∃ k, P k ∧ ∀ j, j < k → ¬ P j := by
  obtain ⟨k, hk⟩ := h
  induction k using Nat.strongRecOn with
  | ind k ih =>
    by_cases e : ∃ j, j < k ∧ P j
    · obtain ⟨j, hj, pj⟩ := e
      exact ih j hj pj
    · exact ⟨k, hk, fun j hj pj => e ⟨j, hj, pj⟩⟩
theorem sb_negT {w : Nat} (h : w < 2 ^ 31) : (-nI w).toInt = -(w : Int) := by
  rw [Int32.toInt_neg, nI_toInt h]
  exact Int.bmod_eq_of_le (by omega) (by omega)
theorem wb_tb (n : Nat) : (lN n).toBitVec = BitVec.ofNat 64 n := rfl
theorem wb_inj {a b : Int64} (h : a.toBitVec = b.toBitVec) : a = b := Int64.toBitVec_inj.mp h
theorem wb_tn {n : Nat} (h : n < 2 ^ 64) : (lN n).toBitVec.toNat = n := by rw [wb_tb, BitVec.toNat_ofNat, Nat.mod_eq_of_lt h]
theorem wb_cu : ∀ k, k < 64 → ((nI k).toInt64.toUInt64 &&& Int64.toUInt64 63) = UInt64.ofNat k := by decide +kernel
theorem wb_shr {n k : Nat} (hn : n < 2 ^ 64) (hk : k < 64) : ((lN n).toUInt64 >>> ((nI k).toInt64.toUInt64 &&& Int64.toUInt64 63)).toInt64 = lN (n / 2 ^ k) := by
  rw [wb_cu k hk]
  apply wb_inj
  apply BitVec.eq_of_toNat_eq
  show ((lN n).toUInt64 >>> UInt64.ofNat k).toNat = (BitVec.ofNat 64 _).toNat
  have h1 : (UInt64.ofNat k).toNat = k := by
    show (BitVec.ofNat 64 k).toNat = k
    rw [BitVec.toNat_ofNat, Nat.mod_eq_of_lt (by omega)]
  have h2 : (lN n).toUInt64.toNat = n := wb_tn hn
  rw [UInt64.toNat_shiftRight, h1, h2, Nat.mod_eq_of_lt hk, Nat.shiftRight_eq_div_pow, BitVec.toNat_ofNat, Nat.mod_eq_of_lt (Nat.lt_of_le_of_lt (Nat.div_le_self _ _) hn)]
end
section
/-! sums over the slots, tick prices, ceilings -/
def tl_sm (f : Nat → Nat) : Nat → Nat
  | 0 => 0
  | n + 1 => tl_sm f n + f n
theorem tl_sm_congr {f g : Nat → Nat} : ∀ {n : Nat}, (∀ i, i < n → f i = g i) → tl_sm f n = tl_sm g n := by
  intro n
  induction n with
  | zero => intro _; rfl
  | succ n ih =>
    intro h
    show tl_sm f n + f n = tl_sm g n + g n
    rw [ih (fun i hi => h i (by omega)), h n (by omega)]
theorem tl_sm_add (f g : Nat → Nat) (n : Nat) : tl_sm (fun i => f i + g i) n = tl_sm f n + tl_sm g n := by
  induction n with
  | zero => rfl
  | succ n ih =>
    show tl_sm (fun i => f i + g i) n + (f n + g n) = (tl_sm f n + f n) + (tl_sm g n + g n)
    omega
theorem tl_sm_le {f : Nat → Nat} {i : Nat} : ∀ {n : Nat}, i < n → f i ≤ tl_sm f n := by
  intro n
  induction n with
  | zero => intro h; omega
  | succ n ih =>
    intro h
    show f i ≤ tl_sm f n + f n
    by_cases e : i = n
    · subst e; omega
    · have := ih (by omega)
      omega
theorem tl_sm_bd {f : Nat → Nat} {B : Nat} (h : ∀ i, f i ≤ B) : ∀ n, tl_sm f n ≤ n * B := by
  intro n
  induction n with
  | zero => exact Nat.zero_le _
  | succ n ih =>
    show tl_sm f n + f n ≤ (n + 1) * B
    have := h n
    rw [Nat.succ_mul]
    omega
theorem tl_sm_pos {f : Nat → Nat} : ∀ {n : Nat}, 0 < tl_sm f n → ∃ i, i < n ∧ f i ≠ 0 := by
  intro n
  induction n with
  | zero => intro h; exact absurd h (Nat.lt_irrefl 0)
  | succ n ih =>
    intro h
    by_cases z : f n = 0
    · obtain ⟨i, hi, hf⟩ := ih (by have h' : 0 < tl_sm f n + f n := h; omega)
      exact ⟨i, by omega, hf⟩
    · exact ⟨n, by omega, z⟩
theorem tl_sm_up {f g : Nat → Nat} {i : Nat} (h : ∀ j, j ≠ i → g j = f j) : ∀ {n : Nat}, i < n → tl_sm g n + f i = tl_sm f n + g i := by
  intro n
  induction n with
  | zero => intro hi; omega
  | succ n ih =>
    intro hi
    show (tl_sm g n + g n) + f i = (tl_sm f n + f n) + g i
    by_cases e : i = n
    · subst e
      rw [tl_sm_congr (f := g) (g := f) (fun j hj => h j (by omega))]
      omega
    · have h1 := ih (by omega)
      have h2 := h n (by omega)
      omega
def tl_up (f : Nat → Nat) (k x : Nat) : Nat → Nat := fun j => if j = k then x else f j
theorem tl_up_s {f : Nat → Nat} {k x : Nat} : tl_up f k x k = x := if_pos rfl
theorem tl_up_n {f : Nat → Nat} {k x j : Nat} (h : j ≠ k) : tl_up f k x j = f j := if_neg h
/-! prices -/
def tl_R : Nat → Nat
  | 0 => 65536
  | n + 1 => tl_R n + tl_R n / 16
theorem tl_R_ge (n : Nat) : 65536 ≤ tl_R n := by
  induction n with
  | zero => exact Nat.le_refl _
  | succ n ih =>
    show 65536 ≤ tl_R n + tl_R n / 16
    omega
theorem tl_R_s (n : Nat) : tl_R n < tl_R (n + 1) := by
  have := tl_R_ge n
  show tl_R n < tl_R n + tl_R n / 16
  omega
theorem tl_R_lt {a b : Nat} (h : a < b) : tl_R a < tl_R b := by
  induction b with
  | zero => omega
  | succ b ih =>
    have := tl_R_s b
    by_cases e : a = b
    · subst e; exact this
    · have := ih (by omega)
      omega
theorem tl_R_le {a b : Nat} (h : a ≤ b) : tl_R a ≤ tl_R b := by
  rcases Nat.lt_or_ge a b with z | z
  · exact Nat.le_of_lt (tl_R_lt z)
  · have : a = b := by omega
    subst this
    exact Nat.le_refl _
theorem tl_R_lti {a b : Nat} : tl_R a < tl_R b ↔ a < b := by
  constructor
  · intro h
    rcases Nat.lt_or_ge a b with z | z
    · exact z
    · have := tl_R_le z
      omega
  · exact tl_R_lt
theorem tl_R_lei {a b : Nat} : tl_R a ≤ tl_R b ↔ a ≤ b := by
  constructor
  · intro h
    rcases Nat.lt_or_ge b a with z | z
    · have := tl_R_lt z
      omega
    · exact z
  · exact tl_R_le
theorem tl_R_inj {a b : Nat} (h : tl_R a = tl_R b) : a = b := by
  have h1 := (tl_R_lei (a := a) (b := b)).mp (by omega)
  have h2 := (tl_R_lei (a := b) (b := a)).mp (by omega)
  omega
theorem tl_R_st {n b : Nat} (h : tl_R n ≤ b) : tl_R (n + 1) ≤ b + b / 16 := by
  show tl_R n + tl_R n / 16 ≤ b + b / 16
  omega
theorem tl_R_32 : tl_R 32 ≤ 456014 := by
  have h0 : tl_R 0 ≤ 65536 := Nat.le_refl _
  have h1 : tl_R 1 ≤ 69632 := tl_R_st h0
  have h2 : tl_R 2 ≤ 73984 := tl_R_st h1
  have h3 : tl_R 3 ≤ 78608 := tl_R_st h2
  have h4 : tl_R 4 ≤ 83521 := tl_R_st h3
  have h5 : tl_R 5 ≤ 88741 := tl_R_st h4
  have h6 : tl_R 6 ≤ 94287 := tl_R_st h5
  have h7 : tl_R 7 ≤ 100179 := tl_R_st h6
  have h8 : tl_R 8 ≤ 106440 := tl_R_st h7
  have h9 : tl_R 9 ≤ 113092 := tl_R_st h8
  have h10 : tl_R 10 ≤ 120160 := tl_R_st h9
  have h11 : tl_R 11 ≤ 127670 := tl_R_st h10
  have h12 : tl_R 12 ≤ 135649 := tl_R_st h11
  have h13 : tl_R 13 ≤ 144127 := tl_R_st h12
  have h14 : tl_R 14 ≤ 153134 := tl_R_st h13
  have h15 : tl_R 15 ≤ 162704 := tl_R_st h14
  have h16 : tl_R 16 ≤ 172873 := tl_R_st h15
  have h17 : tl_R 17 ≤ 183677 := tl_R_st h16
  have h18 : tl_R 18 ≤ 195156 := tl_R_st h17
  have h19 : tl_R 19 ≤ 207353 := tl_R_st h18
  have h20 : tl_R 20 ≤ 220312 := tl_R_st h19
  have h21 : tl_R 21 ≤ 234081 := tl_R_st h20
  have h22 : tl_R 22 ≤ 248711 := tl_R_st h21
  have h23 : tl_R 23 ≤ 264255 := tl_R_st h22
  have h24 : tl_R 24 ≤ 280770 := tl_R_st h23
  have h25 : tl_R 25 ≤ 298318 := tl_R_st h24
  have h26 : tl_R 26 ≤ 316962 := tl_R_st h25
  have h27 : tl_R 27 ≤ 336772 := tl_R_st h26
  have h28 : tl_R 28 ≤ 357820 := tl_R_st h27
  have h29 : tl_R 29 ≤ 380183 := tl_R_st h28
  have h30 : tl_R 30 ≤ 403944 := tl_R_st h29
  have h31 : tl_R 31 ≤ 429190 := tl_R_st h30
  have h32 : tl_R 32 ≤ 456014 := tl_R_st h31
  exact h32
theorem tl_R_b {n : Nat} (h : n ≤ 32) : tl_R n ≤ 456014 := Nat.le_trans (tl_R_le h) tl_R_32
/-! ceilings -/
def tl_cd (n d : Nat) : Nat := if n / d * d = n then n / d else n / d + 1
theorem tl_cd_le {n d m : Nat} (hd : 0 < d) : tl_cd n d ≤ m ↔ n ≤ m * d := by
  have h1 : n / d * d ≤ n := Nat.div_mul_le_self n d
  have h2 : n < (n / d + 1) * d := by
    have a := Nat.div_add_mod n d
    have b := Nat.mod_lt n hd
    rw [Nat.mul_comm] at a
    rw [Nat.succ_mul]
    omega
  unfold tl_cd
  generalize n / d = q at h1 h2 ⊢
  by_cases e : q * d = n
  · rw [if_pos e]
    constructor
    · intro h
      rw [← e]
      exact Nat.mul_le_mul_right d h
    · intro h
      rw [← e] at h
      exact Nat.le_of_mul_le_mul_right h hd
  · rw [if_neg e]
    constructor
    · intro h
      have := Nat.mul_le_mul_right d h
      omega
    · intro h
      have h3 : q * d < m * d := by omega
      exact Nat.lt_of_mul_lt_mul_right h3
theorem tl_cd_lt {n d m : Nat} (hd : 0 < d) : m < tl_cd n d ↔ m * d < n := by
  have := tl_cd_le (n := n) (m := m) hd
  omega
theorem tl_cd_mul {n d : Nat} (hd : 0 < d) : n ≤ tl_cd n d * d := (tl_cd_le hd).mp (Nat.le_refl _)
/-- rounds once: what ratio and div compute -/
def tl_rt (n d : Int64) (u : Int32) : Int64 := if 0 < d then (if u = 0 then n / d else if n / d * d = n then n / d else n / d + 1) else 0
theorem tl_l0 : (0 : Int64) = lN 0 := rfl
theorem tl_rt0 {a b : Nat} (ha : a < 2 ^ 63) (h0 : 0 < b) (hb : b < 2 ^ 63) : tl_rt (lN a) (lN b) 0 = lN (a / b) := by
  unfold tl_rt
  rw [if_pos (show (0 : Int64) < lN b from (pk_lLT (a := 0) (by omega) hb).mpr h0), if_pos rfl, pk_lDiv ha h0 hb]
theorem tl_rt1 {a b : Nat} (ha : a < 2 ^ 63) (h0 : 0 < b) (hb : b < 2 ^ 63) : tl_rt (lN a) (lN b) 1 = lN (tl_cd a b) := by
  have hq : a / b * b ≤ a := Nat.div_mul_le_self a b
  unfold tl_rt tl_cd
  rw [if_pos (show (0 : Int64) < lN b from (pk_lLT (a := 0) (by omega) hb).mpr h0), if_neg (show ¬ (1 : Int32) = 0 by decide), pk_lDiv ha h0 hb, lN_mul]
  by_cases e : a / b * b = a
  · rw [if_pos e, if_pos (by rw [e])]
  · rw [if_neg e, if_neg (fun z => e ((pk_lEQ (by omega) ha).mp z)), lN_1]
/-! the stretch: what trade and the model compute -/
def tl_us (r : Int64) (F : Int32) : Int64 := (r * ((1000 - F).toInt64)) / 1000
def tl_mv (k : Nat) (l C n : Int64) : Int64 := if k = 0 then tl_rt ((l * 65536) * (C - n)) (n * C) 1 else tl_rt (l * (n - C)) 65536 1
def tl_ot (k : Nat) (l C n : Int64) : Int64 := if k = 0 then tl_rt (l * (C - n)) 65536 0 else tl_rt ((l * 65536) * (n - C)) (C * n) 0
def tl_rc (k : Nat) (l C w : Int64) : Int64 := if k = 0 then tl_rt ((l * 65536) * C) ((l * 65536) + (w * C)) 1 else C + tl_rt (w * 65536) l 0
def tl_nx (k : Nat) (l C G r : Int64) (F : Int32) : Int64 := if tl_us r F < tl_mv k l C G then tl_rc k l C (tl_us r F) else G
def tl_pd (k : Nat) (l C G r : Int64) (F : Int32) : Int64 := tl_mv k l C (tl_nx k l C G r F)
def tl_fe (k : Nat) (l C G r : Int64) (F : Int32) : Int64 := if tl_us r F < tl_mv k l C G then r - tl_pd k l C G r F else tl_rt (tl_mv k l C G * F.toInt64) ((1000 - F).toInt64) 1
theorem tl_kF {F : Nat} (hF : F ≤ 100) : ((1000 : Int32) - nI F).toInt64 = lN (1000 - F) := by
  have e : (1000 : Int32) - nI F = nI (1000 - F) := pk_sub (a := 1000) (by omega)
  rw [e, nI_l (by omega)]
theorem tl_usN {r F : Nat} (hr : r ≤ 1000000) (hF : F ≤ 100) : tl_us (lN r) (nI F) = lN (r * (1000 - F) / 1000) := by
  have h : r * (1000 - F) ≤ 1000000 * 1000 := Nat.mul_le_mul hr (by omega)
  unfold tl_us
  rw [tl_kF hF, lN_mul]
  exact pk_lDiv (b := 1000) (by omega) (by omega) (by omega)
theorem tl_mv0 {l C n : Nat} (hl : l ≤ 16000000) (hn : 1 ≤ n) (hC : n ≤ C) (hb : C ≤ 456014) : tl_mv 0 (lN l) (lN C) (lN n) = lN (tl_cd ((l * 65536) * (C - n)) (n * C)) := by
  have h1 : l * 65536 ≤ 16000000 * 65536 := Nat.mul_le_mul_right _ hl
  have h2 : (l * 65536) * (C - n) ≤ (16000000 * 65536) * 456014 := Nat.mul_le_mul h1 (by omega)
  have h3 : n * C ≤ 456014 * 456014 := Nat.mul_le_mul (by omega) hb
  have h4 : 0 < n * C := Nat.mul_pos (by omega) (by omega)
  unfold tl_mv
  rw [if_pos rfl, lN_sub hC, show (65536 : Int64) = lN 65536 from rfl, lN_mul, lN_mul, lN_mul]
  exact tl_rt1 (by omega) h4 (by omega)
theorem tl_mv1 {l C n : Nat} (hl : l ≤ 16000000) (hC : C ≤ n) (hb : n ≤ 456014) : tl_mv 1 (lN l) (lN C) (lN n) = lN (tl_cd (l * (n - C)) 65536) := by
  have h2 : l * (n - C) ≤ 16000000 * 456014 := Nat.mul_le_mul hl (by omega)
  unfold tl_mv
  rw [if_neg (by decide), lN_sub hC, lN_mul]
  exact tl_rt1 (b := 65536) (by omega) (by omega) (by omega)
theorem tl_feeN {r F p : Nat} (hr : r ≤ 1000000) (hF : F ≤ 100) (h : p ≤ r * (1000 - F) / 1000) : tl_rt (lN p * (nI F).toInt64) (((1000 : Int32) - nI F).toInt64) 1 = lN (tl_cd (p * F) (1000 - F)) ∧ p + tl_cd (p * F) (1000 - F) ≤ r := by
  have h1 : p * 1000 ≤ r * (1000 - F) := (Nat.le_div_iff_mul_le (by omega)).mp h
  have h2 : p ≤ r := by
    have a : r * (1000 - F) ≤ r * 1000 := Nat.mul_le_mul_left r (by omega)
    omega
  have h3 : p * F ≤ 1000000 * 100 := Nat.mul_le_mul (by omega) hF
  constructor
  · rw [tl_kF hF, nI_l (by omega), lN_mul]
    exact tl_rt1 (by omega) (by omega) (by omega)
  · have h4 : tl_cd (p * F) (1000 - F) ≤ r - p := by
      have h5 : p * F + p * (1000 - F) = p * 1000 := by
        rw [← Nat.mul_add, show F + (1000 - F) = 1000 by omega]
      rw [tl_cd_le (by omega), Nat.sub_mul]
      exact Nat.le_sub_of_add_le (by omega)
    omega
/-- a stretch down (token 0 in): the price stays between the goal and where it was; what is paid and the fee fit the rest -/
theorem tl_num0 {l C G r F : Nat} (l0 : 0 < l) (hl : l ≤ 16000000) (hG : 1 ≤ G) (hGC : G ≤ C) (hC : C ≤ 456014) (hr : r ≤ 1000000) (hF : F ≤ 100) :
    ∃ n p f : Nat, tl_nx 0 (lN l) (lN C) (lN G) (lN r) (nI F) = lN n ∧ tl_pd 0 (lN l) (lN C) (lN G) (lN r) (nI F) = lN p ∧ tl_fe 0 (lN l) (lN C) (lN G) (lN r) (nI F) = lN f ∧ G ≤ n ∧ n ≤ C ∧ p + f ≤ r ∧ (n = G ∨ p + f = r) := by
  have hm := tl_mv0 hl hG hGC hC
  have hu := tl_usN hr hF
  have hw : r * (1000 - F) / 1000 ≤ r := by
    have a : r * (1000 - F) ≤ r * 1000 := Nat.mul_le_mul_left r (by omega)
    omega
  have hgc : 0 < G * C := Nat.mul_pos (by omega) (by omega)
  unfold tl_fe tl_pd tl_nx
  rw [hu, hm]
  generalize hwe : r * (1000 - F) / 1000 = w at hw hu ⊢
  generalize hb : l * 65536 = b
  have hb1 : b ≤ 16000000 * 65536 := by rw [← hb]; exact Nat.mul_le_mul_right _ hl
  have hb0 : 0 < b := by omega
  have hneed : tl_cd (b * (C - G)) (G * C) ≤ b := by
    rw [tl_cd_le hgc]
    refine Nat.mul_le_mul_left b ?_
    have : C * 1 ≤ C * G := Nat.mul_le_mul_left C hG
    rw [Nat.mul_comm G C]
    omega
  by_cases e : w < tl_cd (b * (C - G)) (G * C)
  · have e' : lN w < lN (tl_cd (b * (C - G)) (G * C)) := (pk_lLT (by omega) (by omega)).mpr e
    have hd : 0 < b + w * C := by omega
    have hwC : w * C ≤ 1000000 * 456014 := Nat.mul_le_mul (by omega) hC
    have hbC : b * C ≤ (16000000 * 65536) * 456014 := Nat.mul_le_mul hb1 hC
    have hx : tl_rc 0 (lN l) (lN C) (lN w) = lN (tl_cd (b * C) (b + w * C)) := by
      unfold tl_rc
      rw [if_pos rfl, show (65536 : Int64) = lN 65536 from rfl, lN_mul, hb, lN_mul, lN_mul, lN_add]
      exact tl_rt1 (by omega) hd (by omega)
    have e2 : w * (G * C) < b * (C - G) := (tl_cd_lt hgc).mp e
    have n1 : G < tl_cd (b * C) (b + w * C) := by
      rw [tl_cd_lt hd, Nat.mul_add, Nat.mul_comm G b, show G * (w * C) = w * (G * C) from by rw [Nat.mul_left_comm]]
      rw [Nat.mul_sub] at e2
      omega
    have n2 : tl_cd (b * C) (b + w * C) ≤ C := by
      rw [tl_cd_le hd, Nat.mul_comm b C]
      exact Nat.mul_le_mul_left C (by omega)
    have n3 : b * C ≤ tl_cd (b * C) (b + w * C) * (b + w * C) := tl_cd_mul hd
    rw [if_pos e', if_pos e', hx]
    generalize tl_cd (b * C) (b + w * C) = n at n1 n2 n3 ⊢
    have hm2 := tl_mv0 (l := l) (C := C) (n := n) hl (by omega) n2 hC
    rw [hb] at hm2
    have hnc : 0 < n * C := Nat.mul_pos (by omega) (by omega)
    have n4 : tl_cd (b * (C - n)) (n * C) ≤ w := by
      rw [tl_cd_le hnc, Nat.mul_sub, show w * (n * C) = n * (w * C) from by rw [Nat.mul_left_comm]]
      rw [Nat.mul_add, Nat.mul_comm n b] at n3
      omega
    rw [hm2]
    refine ⟨n, _, r - tl_cd (b * (C - n)) (n * C), rfl, rfl, lN_sub (by omega), by omega, n2, by omega, Or.inr (by omega)⟩
  · have e' : ¬ lN w < lN (tl_cd (b * (C - G)) (G * C)) := fun z => e ((pk_lLT (by omega) (by omega)).mp z)
    rw [if_neg e', if_neg e', hm, hb]
    obtain ⟨f1, f2⟩ := tl_feeN (p := tl_cd (b * (C - G)) (G * C)) hr hF (by omega)
    exact ⟨G, _, _, rfl, rfl, f1, Nat.le_refl _, hGC, f2, Or.inl rfl⟩
/-- a stretch up (token 1 in) -/
theorem tl_num1 {l C G r F : Nat} (l0 : 0 < l) (hl : l ≤ 16000000) (hGC : C ≤ G) (hG : G ≤ 456014) (hr : r ≤ 1000000) (hF : F ≤ 100) :
    ∃ n p f : Nat, tl_nx 1 (lN l) (lN C) (lN G) (lN r) (nI F) = lN n ∧ tl_pd 1 (lN l) (lN C) (lN G) (lN r) (nI F) = lN p ∧ tl_fe 1 (lN l) (lN C) (lN G) (lN r) (nI F) = lN f ∧ C ≤ n ∧ n ≤ G ∧ p + f ≤ r ∧ (n = G ∨ p + f = r) := by
  have hm := tl_mv1 hl hGC hG
  have hu := tl_usN hr hF
  have hw : r * (1000 - F) / 1000 ≤ r := by
    have a : r * (1000 - F) ≤ r * 1000 := Nat.mul_le_mul_left r (by omega)
    omega
  unfold tl_fe tl_pd tl_nx
  rw [hu, hm]
  generalize hwe : r * (1000 - F) / 1000 = w at hw hu ⊢
  have hneed : tl_cd (l * (G - C)) 65536 ≤ l * (G - C) := by
    rw [tl_cd_le (by omega)]
    exact Nat.le_mul_of_pos_right _ (by omega)
  have hlG : l * (G - C) ≤ 16000000 * 456014 := Nat.mul_le_mul hl (by omega)
  by_cases e : w < tl_cd (l * (G - C)) 65536
  · have e' : lN w < lN (tl_cd (l * (G - C)) 65536) := (pk_lLT (by omega) (by omega)).mpr e
    have hx : tl_rc 1 (lN l) (lN C) (lN w) = lN (C + w * 65536 / l) := by
      unfold tl_rc
      rw [if_neg (by decide), show (65536 : Int64) = lN 65536 from rfl, lN_mul, tl_rt0 (by omega) l0 (by omega), lN_add]
    have e2 : w * 65536 < l * (G - C) := (tl_cd_lt (by omega)).mp e
    have n1 : w * 65536 / l < G - C := by
      rw [Nat.div_lt_iff_lt_mul l0, Nat.mul_comm (G - C) l]
      exact e2
    have n2 : l * (w * 65536 / l) ≤ w * 65536 := Nat.mul_div_le _ _
    rw [if_pos e', if_pos e', hx]
    generalize w * 65536 / l = d at n1 n2 ⊢
    have hm2 := tl_mv1 (l := l) (C := C) (n := C + d) hl (by omega) (by omega)
    rw [Nat.add_sub_cancel_left] at hm2
    have n4 : tl_cd (l * d) 65536 ≤ w := by
      rw [tl_cd_le (by omega)]
      exact n2
    rw [hm2]
    refine ⟨C + d, _, r - tl_cd (l * d) 65536, rfl, rfl, lN_sub (by omega), by omega, by omega, by omega, Or.inr (by omega)⟩
  · have e' : ¬ lN w < lN (tl_cd (l * (G - C)) 65536) := fun z => e ((pk_lLT (by omega) (by omega)).mp z)
    rw [if_neg e', if_neg e', hm]
    obtain ⟨f1, f2⟩ := tl_feeN (p := tl_cd (l * (G - C)) 65536) hr hF (by omega)
    exact ⟨G, _, _, rfl, rfl, f1, hGC, Nat.le_refl _, f2, Or.inl rfl⟩
end
section
/-! the facets of the relation, and what keeps them -/
def tl_B (x : Int64) (b : Nat) : Prop := ∃ n : Nat, x = lN n ∧ n ≤ b
def tl_I0 (T S F : Nat) : Prop := 8 ≤ T ∧ T ≤ 32 ∧ 2 ≤ S ∧ S ≤ 16 ∧ F ≤ 100
def tl_I1 (T : Nat) (L H A : Nat → Nat) (ud lo up : Nat → Int32) (am : Nat → Int64) : Prop :=
  ∀ i, lo i = nI (L i) ∧ up i = nI (H i) ∧ am i = lN (A i) ∧ L i ≤ T ∧ H i ≤ T ∧ A i ≤ 1000000 ∧ (ud i ≠ 0 → L i < H i) ∧ (A i ≠ 0 → ud i ≠ 0)
def tl_U (L H A : Nat → Nat) (S t : Nat) : Nat := tl_sm (fun i => if A i = 0 then 0 else (if L i = t then 1 else 0) + (if H i = t then 1 else 0)) S
def tl_N (L A : Nat → Nat) (S t : Nat) : Nat := tl_sm (fun i => if L i = t then A i else 0) S
def tl_In (L H A : Nat → Nat) (S c : Nat) : Nat := tl_sm (fun i => if L i ≤ c ∧ c < H i then A i else 0) S
def tl_I2 (S : Nat) (L H A : Nat → Nat) (us : Nat → Int32) (ne : Nat → Int64) (lb : Int64) : Prop :=
  ∀ t, us t = nI (tl_U L H A S t) ∧ ne t = lN (tl_N L A S t) - lN (tl_N H A S t) ∧ lb.toBitVec.getLsbD t = decide (0 < tl_U L H A S t)
def tl_Pr (T : Nat) (pr : Nat → Int64) : Prop := ∀ i, i ≤ T → pr i = lN (tl_R i)
def tl_I3 (T S C c : Nat) (L H A : Nat → Nat) (pr : Nat → Int64) (iF : Int64) : Prop :=
  tl_Pr T pr ∧ c < T ∧ tl_R c ≤ C ∧ C ≤ tl_R (c + 1) ∧ iF = lN (tl_In L H A S c)
def tl_be (l c t : Nat) (gr ou : Nat → Int64) : Int64 := if l ≤ c then ou (2 * l + t) else gr t - ou (2 * l + t)
def tl_ins (L H : Nat → Nat) (c : Nat) (gr ou : Nat → Int64) (i t : Nat) : Int64 := tl_be (H i) c t gr ou - tl_be (L i) c t gr ou
def tl_I4 (S c : Nat) (L H A : Nat → Nat) (gr ou cr mk cd : Nat → Int64) : Prop :=
  ∀ i, i < S → ∀ t, t < 2 → cd (2 * i + t) = cr (2 * i + t) + (tl_ins L H c gr ou i t - mk (2 * i + t)) * lN (A i)
def tl_I5 (bc br : Nat) (cd re : Nat → Int64) : Prop := (∀ j, tl_B (cd j) bc) ∧ (∀ j, tl_B (re j) br)
theorem tl_B_mono {x : Int64} {a b : Nat} (h : tl_B x a) (hab : a ≤ b) : tl_B x b := by
  obtain ⟨n, e, hn⟩ := h
  exact ⟨n, e, by omega⟩
theorem tl_I5_mono {a b a' b' : Nat} {cd re : Nat → Int64} (h : tl_I5 a b cd re) (h1 : a ≤ a') (h2 : b ≤ b') : tl_I5 a' b' cd re :=
  ⟨fun j => tl_B_mono (h.1 j) h1, fun j => tl_B_mono (h.2 j) h2⟩
theorem tl_B_up {f : Nat → Int64} {b k : Nat} {x : Int64} (h : ∀ j, tl_B (f j) b) (hx : tl_B x b) : ∀ j, tl_B (vp_updL f k x j) b := by
  intro j
  by_cases e : j = k
  · subst e
    rw [pk_uLs]
    exact hx
  · rw [pk_uLn e]
    exact h j
section
variable {L H A : Nat → Nat} {S T c t i : Nat}
theorem tl_U_pos (hi : i < S) (ha : A i ≠ 0) (h : L i = t ∨ H i = t) : 0 < tl_U L H A S t := by
  have h1 := tl_sm_le (f := fun i => if A i = 0 then 0 else (if L i = t then 1 else 0) + (if H i = t then 1 else 0)) hi
  refine Nat.lt_of_lt_of_le ?_ h1
  show 0 < if A i = 0 then 0 else (if L i = t then 1 else 0) + (if H i = t then 1 else 0)
  rw [if_neg ha]
  rcases h with h | h
  · rw [if_pos h]
    exact Nat.add_pos_left (by decide) _
  · rw [if_pos h]
    exact Nat.add_pos_right _ (by decide)
theorem tl_U_dead (h : tl_U L H A S t = 0) (hi : i < S) (ha : A i ≠ 0) : L i ≠ t ∧ H i ≠ t := by
  constructor
  · intro e
    have := tl_U_pos (L := L) (H := H) (A := A) hi ha (Or.inl e)
    omega
  · intro e
    have := tl_U_pos (L := L) (H := H) (A := A) hi ha (Or.inr e)
    omega
theorem tl_U_ex (h : 0 < tl_U L H A S t) : ∃ i, i < S ∧ A i ≠ 0 ∧ (L i = t ∨ H i = t) := by
  obtain ⟨i, hi, hf⟩ := tl_sm_pos h
  refine ⟨i, hi, ?_⟩
  by_cases ha : A i = 0
  · exact absurd (if_pos ha) hf
  · refine ⟨ha, ?_⟩
    by_cases h1 : L i = t
    · exact Or.inl h1
    · by_cases h2 : H i = t
      · exact Or.inr h2
      · have hf' : ¬ (if A i = 0 then 0 else (if L i = t then 1 else 0) + (if H i = t then 1 else 0)) = 0 := hf
        rw [if_neg ha, if_neg h1, if_neg h2] at hf'
        exact absurd rfl hf'
theorem tl_U_bd : tl_U L H A S t ≤ S * 2 := by
  refine tl_sm_bd (fun i => ?_) S
  split
  · omega
  · split <;> split <;> omega
theorem tl_U_big (hL : ∀ i, L i ≤ T) (hH : ∀ i, H i ≤ T) (ht : T < t) : tl_U L H A S t = 0 := by
  rcases Nat.eq_zero_or_pos (tl_U L H A S t) with h | h
  · exact h
  · obtain ⟨i, -, -, h1⟩ := tl_U_ex h
    have := hL i
    have := hH i
    omega
theorem tl_In_bd (hA : ∀ i, A i ≤ 1000000) (hS : S ≤ 16) : tl_In L H A S c ≤ 16000000 := by
  have h : tl_In L H A S c ≤ S * 1000000 := by
    refine tl_sm_bd (fun i => ?_) S
    have := hA i
    split <;> omega
  omega
theorem tl_In_le (hi : i < S) (h : L i ≤ c ∧ c < H i) : A i ≤ tl_In L H A S c := by
  have h1 := tl_sm_le (f := fun i => if L i ≤ c ∧ c < H i then A i else 0) hi
  have h2 : (if L i ≤ c ∧ c < H i then A i else 0) ≤ tl_In L H A S c := h1
  rw [if_pos h] at h2
  exact h2
theorem tl_In_move {c' : Nat} (hcc : c' ≤ c) (hd : ∀ t, c' < t → t ≤ c → tl_U L H A S t = 0) : tl_In L H A S c' = tl_In L H A S c := by
  refine tl_sm_congr (fun i hi => ?_)
  show (if L i ≤ c' ∧ c' < H i then A i else 0) = (if L i ≤ c ∧ c < H i then A i else 0)
  by_cases ha : A i = 0
  · rw [ha, ite_self, ite_self]
  · have d1 : ¬ (c' < L i ∧ L i ≤ c) := fun z => (tl_U_dead (hd _ z.1 z.2) hi ha).1 rfl
    have d2 : ¬ (c' < H i ∧ H i ≤ c) := fun z => (tl_U_dead (hd _ z.1 z.2) hi ha).2 rfl
    by_cases h : L i ≤ c ∧ c < H i
    · rw [if_pos h, if_pos (by omega)]
    · rw [if_neg h, if_neg (by omega)]
theorem tl_In_step (hLH : ∀ i, A i ≠ 0 → L i < H i) : tl_In L H A S (c + 1) + tl_N H A S (c + 1) = tl_In L H A S c + tl_N L A S (c + 1) := by
  unfold tl_In tl_N
  rw [← tl_sm_add, ← tl_sm_add]
  refine tl_sm_congr (fun i hi => ?_)
  try dsimp only
  by_cases ha : A i = 0
  · rw [ha, ite_self, ite_self, ite_self, ite_self]
  · have := hLH i ha
    split <;> split <;> split <;> split <;> omega
theorem tl_In_up (hLH : ∀ i, A i ≠ 0 → L i < H i) : lN (tl_In L H A S c) + (lN (tl_N L A S (c + 1)) - lN (tl_N H A S (c + 1))) = lN (tl_In L H A S (c + 1)) := by
  have h := congrArg lN (tl_In_step (S := S) (c := c) hLH)
  rw [← lN_add, ← lN_add] at h
  grind
theorem tl_In_dn (hLH : ∀ i, A i ≠ 0 → L i < H i) : lN (tl_In L H A S (c + 1)) - (lN (tl_N L A S (c + 1)) - lN (tl_N H A S (c + 1))) = lN (tl_In L H A S c) := by
  have h := congrArg lN (tl_In_step (S := S) (c := c) hLH)
  rw [← lN_add, ← lN_add] at h
  grind
/-! one slot's amount changes -/
theorem tl_smI {p : Nat → Prop} [DecidablePred p] {x : Nat} {ch : Int64} (hi : i < S) (hx : lN x = lN (A i) + ch) :
    lN (tl_sm (fun j => if p j then tl_up A i x j else 0) S) = lN (tl_sm (fun j => if p j then A j else 0) S) + (if p i then ch else 0) := by
  have h : tl_sm (fun j => if p j then tl_up A i x j else 0) S + (if p i then A i else 0) = tl_sm (fun j => if p j then A j else 0) S + (if p i then tl_up A i x i else 0) :=
    tl_sm_up (f := fun j => if p j then A j else 0) (g := fun j => if p j then tl_up A i x j else 0) (i := i) (fun j hj => by
      show (if p j then tl_up A i x j else 0) = if p j then A j else 0
      rw [tl_up_n hj]) hi
  rw [tl_up_s] at h
  by_cases hp : p i
  · rw [if_pos hp, if_pos hp] at h
    have h2 := congrArg lN h
    rw [← lN_add, ← lN_add, hx] at h2
    rw [if_pos hp]
    grind
  · rw [if_neg hp, if_neg hp] at h
    rw [if_neg hp, Int64.add_zero]
    exact congrArg lN h
theorem tl_N_ch {x : Nat} {ch : Int64} (hi : i < S) (hx : lN x = lN (A i) + ch) : lN (tl_N L (tl_up A i x) S t) = lN (tl_N L A S t) + (if L i = t then ch else 0) :=
  tl_smI (p := fun j => L j = t) hi hx
theorem tl_In_ch {x : Nat} {ch : Int64} (hi : i < S) (hx : lN x = lN (A i) + ch) : lN (tl_In L H (tl_up A i x) S c) = lN (tl_In L H A S c) + (if L i ≤ c ∧ c < H i then ch else 0) :=
  tl_smI (p := fun j => L j ≤ c ∧ c < H j) hi hx
theorem tl_U_same {A' : Nat → Nat} (h : ∀ j, (A' j = 0 ↔ A j = 0)) : tl_U L H A' S t = tl_U L H A S t := by
  refine tl_sm_congr (fun j _ => ?_)
  by_cases z : A j = 0
  · rw [if_pos z, if_pos ((h j).mpr z)]
  · rw [if_neg z, if_neg (fun y => z ((h j).mp y))]
theorem tl_U_add {x : Nat} (hi : i < S) (h0 : A i = 0) (hx : x ≠ 0) : tl_U L H (tl_up A i x) S t = tl_U L H A S t + ((if L i = t then 1 else 0) + (if H i = t then 1 else 0)) := by
  have h := tl_sm_up (f := fun j => if A j = 0 then 0 else (if L j = t then 1 else 0) + (if H j = t then 1 else 0)) (g := fun j => if tl_up A i x j = 0 then 0 else (if L j = t then 1 else 0) + (if H j = t then 1 else 0)) (i := i) (fun j hj => by
      try dsimp only
      rw [tl_up_n hj]) hi
  try dsimp only at h
  rw [tl_up_s, if_pos h0, if_neg hx] at h
  exact h
theorem tl_U_sub (hi : i < S) (h0 : A i ≠ 0) : tl_U L H (tl_up A i 0) S t + ((if L i = t then 1 else 0) + (if H i = t then 1 else 0)) = tl_U L H A S t := by
  have h := tl_sm_up (f := fun j => if A j = 0 then 0 else (if L j = t then 1 else 0) + (if H j = t then 1 else 0)) (g := fun j => if tl_up A i 0 j = 0 then 0 else (if L j = t then 1 else 0) + (if H j = t then 1 else 0)) (i := i) (fun j hj => by
      try dsimp only
      rw [tl_up_n hj]) hi
  try dsimp only at h
  rw [tl_up_s, if_neg h0, if_pos rfl] at h
  exact h
end
/-! growth below a tick -/
section
variable {l c c' t : Nat} {gr gr' ou ou' : Nat → Int64}
theorem tl_be_keep (h : l ≤ c' ↔ l ≤ c) : tl_be l c' t gr ou = tl_be l c t gr ou := by
  unfold tl_be
  by_cases z : l ≤ c
  · rw [if_pos z, if_pos (h.mpr z)]
  · rw [if_neg z, if_neg (fun y => z (h.mp y))]
theorem tl_be_ou (h : ou' (2 * l + t) = ou (2 * l + t)) : tl_be l c t gr ou' = tl_be l c t gr ou := by
  unfold tl_be
  rw [h]
theorem tl_be_dn (h1 : l ≠ c + 1 → ou' (2 * l + t) = ou (2 * l + t)) (h2 : ou' (2 * (c + 1) + t) = gr t - ou (2 * (c + 1) + t)) : tl_be l c t gr ou' = tl_be l (c + 1) t gr ou := by
  by_cases e : l = c + 1
  · subst e
    unfold tl_be
    rw [if_neg (by omega), if_pos (Nat.le_refl _), h2]
    grind
  · rw [tl_be_ou (h1 e)]
    exact tl_be_keep (by omega)
theorem tl_be_up (h1 : l ≠ c + 1 → ou' (2 * l + t) = ou (2 * l + t)) (h2 : ou' (2 * (c + 1) + t) = gr t - ou (2 * (c + 1) + t)) : tl_be l (c + 1) t gr ou' = tl_be l c t gr ou := by
  by_cases e : l = c + 1
  · subst e
    unfold tl_be
    rw [if_pos (Nat.le_refl _), if_neg (by omega), h2]
  · rw [tl_be_ou (h1 e)]
    exact tl_be_keep (by omega)
theorem tl_be_gr {e : Int64} (h : gr' t = gr t + e) : tl_be l c t gr' ou = tl_be l c t gr ou + (if l ≤ c then 0 else e) := by
  unfold tl_be
  by_cases z : l ≤ c
  · rw [if_pos z, if_pos z, if_pos z, Int64.add_zero]
  · rw [if_neg z, if_neg z, if_neg z, h]
    grind
theorem tl_be_g0 (h : gr' t = gr t) : tl_be l c t gr' ou = tl_be l c t gr ou := by
  unfold tl_be
  rw [h]
end
section
variable {L H A : Nat → Nat} {S c c' : Nat} {gr gr' ou ou' cr mk cd : Nat → Int64}
theorem tl_I4_of (h : tl_I4 S c L H A gr ou cr mk cd) (e : ∀ i, i < S → A i ≠ 0 → ∀ t, t < 2 → tl_ins L H c' gr' ou' i t = tl_ins L H c gr ou i t) : tl_I4 S c' L H A gr' ou' cr mk cd := by
  intro i hi t ht
  by_cases ha : A i = 0
  · have h1 := h i hi t ht
    rw [ha, show lN 0 = 0 from rfl, Int64.mul_zero] at h1 ⊢
    exact h1
  · rw [e i hi ha t ht]
    exact h i hi t ht
theorem tl_I4_move (hcc : c' ≤ c) (hd : ∀ t, c' < t → t ≤ c → tl_U L H A S t = 0) (h : tl_I4 S c L H A gr ou cr mk cd) : tl_I4 S c' L H A gr ou cr mk cd := by
  refine tl_I4_of h (fun i hi ha t _ => ?_)
  have d1 : ¬ (c' < L i ∧ L i ≤ c) := fun z => (tl_U_dead (hd _ z.1 z.2) hi ha).1 rfl
  have d2 : ¬ (c' < H i ∧ H i ≤ c) := fun z => (tl_U_dead (hd _ z.1 z.2) hi ha).2 rfl
  unfold tl_ins
  rw [tl_be_keep (l := H i) (c := c) (c' := c') (by omega), tl_be_keep (l := L i) (c := c) (c' := c') (by omega)]
theorem tl_I4_moveU (hcc : c ≤ c') (hd : ∀ t, c < t → t ≤ c' → tl_U L H A S t = 0) (h : tl_I4 S c L H A gr ou cr mk cd) : tl_I4 S c' L H A gr ou cr mk cd := by
  refine tl_I4_of h (fun i hi ha t _ => ?_)
  have d1 : ¬ (c < L i ∧ L i ≤ c') := fun z => (tl_U_dead (hd _ z.1 z.2) hi ha).1 rfl
  have d2 : ¬ (c < H i ∧ H i ≤ c') := fun z => (tl_U_dead (hd _ z.1 z.2) hi ha).2 rfl
  unfold tl_ins
  rw [tl_be_keep (l := H i) (c := c) (c' := c') (by omega), tl_be_keep (l := L i) (c := c) (c' := c') (by omega)]
theorem tl_I4_dn (h1 : ∀ s, s ≠ c + 1 → ∀ t, t < 2 → ou' (2 * s + t) = ou (2 * s + t)) (h2 : ∀ t, t < 2 → ou' (2 * (c + 1) + t) = gr t - ou (2 * (c + 1) + t)) (h : tl_I4 S (c + 1) L H A gr ou cr mk cd) : tl_I4 S c L H A gr ou' cr mk cd := by
  refine tl_I4_of h (fun i hi ha t ht => ?_)
  unfold tl_ins
  rw [tl_be_dn (fun z => h1 _ z t ht) (h2 t ht), tl_be_dn (fun z => h1 _ z t ht) (h2 t ht)]
theorem tl_I4_up (h1 : ∀ s, s ≠ c + 1 → ∀ t, t < 2 → ou' (2 * s + t) = ou (2 * s + t)) (h2 : ∀ t, t < 2 → ou' (2 * (c + 1) + t) = gr t - ou (2 * (c + 1) + t)) (h : tl_I4 S c L H A gr ou cr mk cd) : tl_I4 S (c + 1) L H A gr ou' cr mk cd := by
  refine tl_I4_of h (fun i hi ha t ht => ?_)
  unfold tl_ins
  rw [tl_be_up (fun z => h1 _ z t ht) (h2 t ht), tl_be_up (fun z => h1 _ z t ht) (h2 t ht)]
/-- a fee of token k is shared: growth by e, every covered position of the model is credited -/
theorem tl_I4_fee {cd' : Nat → Int64} {k : Nat} {e : Int64} {v : Nat → Prop} [DecidablePred v] (hk : k < 2) (hLH : ∀ i, A i ≠ 0 → L i < H i)
    (hv : ∀ i, i < S → A i ≠ 0 → (v i ↔ (L i ≤ c ∧ c < H i)))
    (hg : gr' k = gr k + e) (hg0 : ∀ t, t ≠ k → gr' t = gr t)
    (hc : ∀ i, i < S → cd' (2 * i + k) = cd (2 * i + k) + (if v i then e * lN (A i) else 0))
    (hc0 : ∀ i, i < S → ∀ t, t < 2 → t ≠ k → cd' (2 * i + t) = cd (2 * i + t))
    (h : tl_I4 S c L H A gr ou cr mk cd) : tl_I4 S c L H A gr' ou cr mk cd' := by
  intro i hi t ht
  have h1 := h i hi t ht
  by_cases htk : t = k
  · subst htk
    rw [hc i hi, h1]
    by_cases ha : A i = 0
    · rw [ha, show lN 0 = 0 from rfl, Int64.mul_zero, Int64.mul_zero, Int64.mul_zero, ite_self]
      grind
    · have h2 := hLH i ha
      have h3 := hv i hi ha
      unfold tl_ins
      rw [tl_be_gr (l := H i) hg, tl_be_gr (l := L i) hg]
      by_cases z : L i ≤ c ∧ c < H i
      · rw [if_pos (h3.mpr z), if_neg (show ¬ H i ≤ c by omega), if_pos z.1]
        grind
      · rw [if_neg (fun y => z (h3.mp y))]
        by_cases z1 : H i ≤ c
        · rw [if_pos z1, if_pos (show L i ≤ c by omega)]
          grind
        · rw [if_neg z1, if_neg (show ¬ L i ≤ c by omega)]
          grind
  · rw [hc0 i hi t ht htk, h1]
    unfold tl_ins
    rw [tl_be_g0 (hg0 t htk), tl_be_g0 (hg0 t htk)]
end
end
section
/-! small walks: ratio, between, stake, prices, slots, tokens -/
section
variable {xT xS xF xc : Int32} {xC iF lb rs tt : Int64} {hd re gr pr : Nat → Int64} {us : Nat → Int32} {ne ou : Nat → Int64} {ud lo up : Nat → Int32} {am cr mk cd : Nat → Int64}
theorem tl_xrat {post : Int64 → Prop} {n d : Int64} {u : Int32} (h : post (tl_rt n d u)) : wpX_ratio post (xT, xS, xF, xC, xc, iF, lb, rs, tt, hd, re, gr, pr, us, ne, ou, ud, lo, up, am, cr, mk) n d u := by
  unfold wpX_ratio
  unfold tl_rt at h
  by_cases h0 : 0 < d
  · rw [if_pos h0] at h
    refine br_t h0 ⟨fun z => ?_, nm_e ?_⟩
    · rw [z] at h0
      exact absurd h0 (by decide)
    · by_cases hu : u = 0
      · rw [if_pos hu] at h
        exact br_t hu h
      · rw [if_neg hu] at h
        by_cases e : n / d * d = n
        · rw [if_pos e] at h
          exact br_f hu (br_t e h)
        · rw [if_neg e] at h
          exact br_f hu (br_f e h)
  · rw [if_neg h0] at h
    exact br_f h0 h
theorem tl_yrat {post : Int64 → Prop} {n d : Int64} {u : Int32} (h : post (tl_rt n d u)) : wpY_div post (xT, xS, xF, xC, hd, re, ud, lo, up, am, cd) n d u := by
  unfold wpY_div
  unfold tl_rt at h
  by_cases h0 : 0 < d
  · rw [if_pos h0] at h
    refine br_t h0 ⟨fun z => ?_, nm_e ?_⟩
    · rw [z] at h0
      exact absurd h0 (by decide)
    · by_cases hu : u = 0
      · rw [if_pos hu] at h
        exact br_t hu h
      · rw [if_neg hu] at h
        by_cases e : n / d * d = n
        · rw [if_pos e] at h
          exact br_f hu (br_t e h)
        · rw [if_neg e] at h
          exact br_f hu (br_f e h)
  · rw [if_neg h0] at h
    exact br_f h0 h
theorem tl_i10 : ¬ (1 : Int32) = 0 := by decide
theorem tl_xbet0 {post : Int64 → Prop} {l a b : Int64} {u : Int32} (h : post (tl_rt ((l * 65536) * (b - a)) (a * b) u)) : wpX_between post (xT, xS, xF, xC, xc, iF, lb, rs, tt, hd, re, gr, pr, us, ne, ou, ud, lo, up, am, cr, mk) 0 l a b u := by
  unfold wpX_between
  exact br_t rfl (tl_xrat h)
theorem tl_xbet1 {post : Int64 → Prop} {l a b : Int64} {u : Int32} (h : post (tl_rt (l * (b - a)) 65536 u)) : wpX_between post (xT, xS, xF, xC, xc, iF, lb, rs, tt, hd, re, gr, pr, us, ne, ou, ud, lo, up, am, cr, mk) 1 l a b u := by
  unfold wpX_between
  exact br_f tl_i10 (tl_xrat h)
theorem tl_yam0 {post : Int64 → Prop} {l a b : Int64} {u : Int32} (h : post (tl_rt ((l * 65536) * (b - a)) (a * b) u)) : wpY_amount0 post (xT, xS, xF, xC, hd, re, ud, lo, up, am, cd) l a b u := by
  unfold wpY_amount0
  exact tl_yrat h
theorem tl_yam1 {post : Int64 → Prop} {l a b : Int64} {u : Int32} (h : post (tl_rt (l * (b - a)) 65536 u)) : wpY_amount1 post (xT, xS, xF, xC, hd, re, ud, lo, up, am, cd) l a b u := by
  unfold wpY_amount1
  exact tl_yrat h
def tl_md (a b C : Int64) : Int64 := if a ≤ C then (if C ≤ b then C else b) else a
def tl_sv (k : Nat) (a b m l : Int64) (u : Int32) : Int64 := if k = 0 then tl_rt ((l * 65536) * (b - m)) (m * b) u else tl_rt (l * (m - a)) 65536 u
theorem tl_xst56 {post : Int64 → Prop} {k : Nat} {l a b m : Int64} {u : Int32} (hk : k < 2) (h : post (tl_sv k a b m l u)) : wX_stake_56 post (nI k) l u a b m xT xS xF xC xc iF lb rs tt hd re gr pr us ne ou ud lo up am cr mk := by
  unfold wX_stake_56
  unfold tl_sv at h
  by_cases k0 : k = 0
  · subst k0
    rw [if_pos rfl] at h
    exact br_t nI_0 (tl_xbet0 h)
  · rw [if_neg k0] at h
    exact br_f (nI_ne0 (by omega) (by omega)) (tl_xbet1 h)
theorem tl_ysh58 {post : Int64 → Prop} {k : Nat} {l a b m : Int64} {u : Int32} (hk : k < 2) (h : post (tl_sv k a b m l u)) : wY_share_58 post (nI k) l u a b m xT xS xF xC hd re ud lo up am cd := by
  unfold wY_share_58
  unfold tl_sv at h
  by_cases k0 : k = 0
  · subst k0
    rw [if_pos rfl] at h
    exact br_t nI_0 (tl_yam0 h)
  · rw [if_neg k0] at h
    exact br_f (nI_ne0 (by omega) (by omega)) (tl_yam1 h)
/-! tick prices -/
theorem tl_ytpL {post : Int64 → Prop} {t : Nat} (ht : t ≤ 32) (h : post (lN (tl_R t))) : ∀ d j : Nat, j + d = t → wY_tickPrice_7 post (nI t) xT xS xF xC hd re ud lo up am cd (d + 1) (lN (tl_R j)) (nI j) := by
  intro d
  induction d with
  | zero =>
    intro j hj
    have e : j = t := by omega
    subst e
    exact br_t (nI_le (Nat.le_refl _) (by omega)) h
  | succ d ih =>
    intro j hj
    have hb := tl_R_b (n := j) (by omega)
    refine br_f (nI_ge (by omega) (by omega)) ⟨by decide, nm_r (e' := lN (tl_R (j + 1))) ?_ (nm_r (nI_1 j) (ih (j + 1) (by omega)))⟩
    rw [show (16 : Int64) = lN 16 from rfl, pk_lDiv (by omega) (by omega) (by omega), lN_add]
    rfl
theorem tl_ytp {post : Int64 → Prop} {t : Nat} (ht : t ≤ 32) (h : post (lN (tl_R t))) : wpY_tickPrice post (xT, xS, xF, xC, hd, re, ud, lo, up, am, cd) (nI t) := by
  unfold wpY_tickPrice
  exact ⟨t + 1, tl_ytpL ht h t 0 (by omega)⟩
/-! tokens -/
theorem tl_tok (p : Int32) : (∃ k : Nat, k < 2 ∧ p = nI k) ∨ (¬ p = 0 ∧ ¬ p = 1) := by
  by_cases h0 : p = 0
  · exact Or.inl ⟨0, by omega, h0⟩
  · by_cases h1 : p = 1
    · exact Or.inl ⟨1, by omega, h1⟩
    · exact Or.inr ⟨h0, h1⟩
theorem tl_tok2 {k : Nat} (hk : k < 2) : k = 0 ∨ k = 1 := by omega
theorem tl_xtok1 {k : Nat} (hk : k < 2) {post : Int32 → Prop} (h : post 1) : wpX_isToken post (xT, xS, xF, xC, xc, iF, lb, rs, tt, hd, re, gr, pr, us, ne, ou, ud, lo, up, am, cr, mk) (nI k) := by
  unfold wpX_isToken
  rcases tl_tok2 hk with rfl | rfl
  · exact br_t rfl h
  · exact br_f tl_i10 (br_t rfl h)
theorem tl_ytok1 {k : Nat} (hk : k < 2) {post : Int32 → Prop} (h : post 0) : wpY_badToken post (xT, xS, xF, xC, hd, re, ud, lo, up, am, cd) (nI k) := by
  unfold wpY_badToken
  rcases tl_tok2 hk with rfl | rfl
  · exact br_t rfl h
  · exact br_f tl_i10 (br_t rfl h)
theorem tl_xtok0 {p : Int32} (h0 : ¬ p = 0 ∧ ¬ p = 1) {post : Int32 → Prop} (h : post 0) : wpX_isToken post (xT, xS, xF, xC, xc, iF, lb, rs, tt, hd, re, gr, pr, us, ne, ou, ud, lo, up, am, cr, mk) p := by
  unfold wpX_isToken
  exact br_f h0.1 (br_f h0.2 h)
theorem tl_ytok0 {p : Int32} (h0 : ¬ p = 0 ∧ ¬ p = 1) {post : Int32 → Prop} (h : post 1) : wpY_badToken post (xT, xS, xF, xC, hd, re, ud, lo, up, am, cd) p := by
  unfold wpY_badToken
  exact br_f h0.1 (br_f h0.2 h)
/-! slots -/
def tl_bs (S : Nat) (ud : Nat → Int32) (p : Int32) : Prop := p < 0 ∨ (¬ p < 0 ∧ nI S ≤ p) ∨ ∃ i : Nat, i < S ∧ p = nI i ∧ ud i = 0
theorem tl_slot (S : Nat) (hS : S ≤ 16) (ud : Nat → Int32) (p : Int32) : (∃ i : Nat, i < S ∧ p = nI i ∧ ud i ≠ 0) ∨ tl_bs S ud p := by
  by_cases h0 : p < 0
  · exact Or.inr (Or.inl h0)
  · rcases pk_ix p (n := S) (by omega) with h | h | ⟨i, hi, rfl⟩
    · exact absurd h h0
    · exact Or.inr (Or.inr (Or.inl ⟨h0, h⟩))
    · by_cases hu : ud i = 0
      · exact Or.inr (Or.inr (Or.inr ⟨i, hi, rfl, hu⟩))
      · exact Or.inl ⟨i, hi, rfl, hu⟩
theorem tl_xslot1 {S i : Nat} (hS : S ≤ 16) (hi : i < S) (hu : ud i ≠ 0) {post : Int32 → Prop} (h : post 1) : wpX_isSlot post (xT, nI S, xF, xC, xc, iF, lb, rs, tt, hd, re, gr, pr, us, ne, ou, ud, lo, up, am, cr, mk) (nI i) := by
  have hu' : ¬ ud (nI i).toNatClampNeg = 0 := by rw [nI_clamp (by omega)]; exact hu
  unfold wpX_isSlot
  exact br_f (nI_pos (by omega)) (br_f (nI_ge hi (by omega)) ⟨vp_in_nI (by omega) (by omega), br_f hu' h⟩)
theorem tl_yslot1 {S i : Nat} (hS : S ≤ 16) (hi : i < S) (hu : ud i ≠ 0) {post : Int32 → Prop} (h : post 0) : wpY_badSlot post (xT, nI S, xF, xC, hd, re, ud, lo, up, am, cd) (nI i) := by
  have hu' : ¬ ud (nI i).toNatClampNeg = 0 := by rw [nI_clamp (by omega)]; exact hu
  unfold wpY_badSlot
  exact br_f (nI_pos (by omega)) (br_f (nI_ge hi (by omega)) ⟨vp_in_nI (by omega) (by omega), br_f hu' h⟩)
theorem tl_xslot0 {S : Nat} {p : Int32} (hS : S ≤ 16) (hb : tl_bs S ud p) {post : Int32 → Prop} (h : post 0) : wpX_isSlot post (xT, nI S, xF, xC, xc, iF, lb, rs, tt, hd, re, gr, pr, us, ne, ou, ud, lo, up, am, cr, mk) p := by
  unfold wpX_isSlot
  rcases hb with h0 | ⟨h0, h1⟩ | ⟨i, hi, rfl, hu⟩
  · exact br_t h0 h
  · exact br_f h0 (br_t h1 h)
  · have hu' : ud (nI i).toNatClampNeg = 0 := by rw [nI_clamp (by omega)]; exact hu
    exact br_f (nI_pos (by omega)) (br_f (nI_ge hi (by omega)) ⟨vp_in_nI (by omega) (by omega), br_t hu' h⟩)
theorem tl_yslot0 {S : Nat} {p : Int32} (hS : S ≤ 16) (hb : tl_bs S ud p) {post : Int32 → Prop} (h : post 1) : wpY_badSlot post (xT, nI S, xF, xC, hd, re, ud, lo, up, am, cd) p := by
  unfold wpY_badSlot
  rcases hb with h0 | ⟨h0, h1⟩ | ⟨i, hi, rfl, hu⟩
  · exact br_t h0 h
  · exact br_f h0 (br_t h1 h)
  · have hu' : ud (nI i).toNatClampNeg = 0 := by rw [nI_clamp (by omega)]; exact hu
    exact br_f (nI_pos (by omega)) (br_f (nI_ge hi (by omega)) ⟨vp_in_nI (by omega) (by omega), br_t hu' h⟩)
end
/-! stake and share -/
section
variable {T S F C c : Nat} {L H A : Nat → Nat} {iF lb rs tt : Int64} {hd re gr pr : Nat → Int64} {us : Nat → Int32} {ne ou : Nat → Int64} {ud lo up : Nat → Int32} {am cr mk cd : Nat → Int64}
theorem tl_xstk (h1 : tl_I1 T L H A ud lo up am) (hp : tl_Pr T pr) (hT : T ≤ 32) {i k : Nat} {l : Int64} {u : Int32} (hi : i < 16) (hk : k < 2) (hLH : L i ≤ H i) {post : Int64 → Prop}
    (h : post (tl_sv k (lN (tl_R (L i))) (lN (tl_R (H i))) (tl_md (lN (tl_R (L i))) (lN (tl_R (H i))) (lN C)) l u)) : wpX_stake post (nI T, nI S, nI F, lN C, nI c, iF, lb, rs, tt, hd, re, gr, pr, us, ne, ou, ud, lo, up, am, cr, mk) (nI i) (nI k) l u := by
  obtain ⟨e1, e2, -, hl, hh, -⟩ := h1 i
  have ci : (nI i).toNatClampNeg = i := nI_clamp (by omega)
  have cl : (lo (nI i).toNatClampNeg) = nI (L i) := by rw [ci, e1]
  have ch : (up (nI i).toNatClampNeg) = nI (H i) := by rw [ci, e2]
  have pl : pr (nI (L i)).toNatClampNeg = lN (tl_R (L i)) := by rw [nI_clamp (by omega)]; exact hp _ hl
  have ph : pr (nI (H i)).toNatClampNeg = lN (tl_R (H i)) := by rw [nI_clamp (by omega)]; exact hp _ hh
  have vi : vp_in (nI i) 16 := vp_in_nI hi (by omega)
  have vl : vp_in (nI (L i)) 33 := vp_in_nI (by omega) (by omega)
  have vh : vp_in (nI (H i)) 33 := vp_in_nI (by omega) (by omega)
  have hb := tl_R_le hLH
  have hb2 := tl_R_b (n := H i) (by omega)
  have hab : lN (tl_R (L i)) ≤ lN (tl_R (H i)) := (pk_lLE (by omega) (by omega)).mpr hb
  unfold wpX_stake
  dsimp only
  rw [cl, ch, pl, ph]
  refine ⟨vi, vl, nm_e ⟨vi, vh, nm_e ?_⟩⟩
  unfold tl_md at h
  by_cases q1 : lN (tl_R (L i)) ≤ lN C
  · rw [if_pos q1] at h
    refine br_t q1 ?_
    unfold wX_stake_44
    by_cases q2 : lN C ≤ lN (tl_R (H i))
    · rw [if_pos q2] at h
      exact br_t q2 (tl_xst56 hk h)
    · rw [if_neg q2] at h
      exact br_f q2 (tl_xst56 hk h)
  · rw [if_neg q1] at h
    refine br_f q1 ?_
    unfold wX_stake_44
    exact br_t hab (tl_xst56 hk h)
theorem tl_yshr (h1 : tl_I1 T L H A ud lo up am) (hT : T ≤ 32) {i k : Nat} {l : Int64} {u : Int32} (hi : i < 16) (hk : k < 2) {post : Int64 → Prop}
    (h : post (tl_sv k (lN (tl_R (L i))) (lN (tl_R (H i))) (tl_md (lN (tl_R (L i))) (lN (tl_R (H i))) (lN C)) l u)) : wpY_share post (nI T, nI S, nI F, lN C, hd, re, ud, lo, up, am, cd) (nI i) (nI k) l u := by
  obtain ⟨e1, e2, -, hl, hh, -⟩ := h1 i
  have ci : (nI i).toNatClampNeg = i := nI_clamp (by omega)
  have cl : (lo (nI i).toNatClampNeg) = nI (L i) := by rw [ci, e1]
  have ch : (up (nI i).toNatClampNeg) = nI (H i) := by rw [ci, e2]
  have vi : vp_in (nI i) 16 := vp_in_nI hi (by omega)
  unfold wpY_share
  dsimp only
  rw [cl, ch]
  refine ⟨vi, tl_ytp (by omega) ⟨vi, tl_ytp (by omega) ?_⟩⟩
  unfold tl_md at h
  by_cases q1 : lN (tl_R (L i)) ≤ lN C
  · rw [if_pos q1] at h
    by_cases q2 : lN C ≤ lN (tl_R (H i))
    · rw [if_pos q2] at h
      exact br_t q1 (br_t q2 (tl_ysh58 hk h))
    · rw [if_neg q2] at h
      exact br_t q1 (br_f q2 (tl_ysh58 hk h))
  · rw [if_neg q1] at h
    exact br_f q1 (tl_ysh58 hk h)
/-! inside, creditNow, mark, settle -/
theorem tl_ix (a b : Nat) : 2 * nI a + nI b = nI (2 * a + b) := by
  rw [show (2 : Int32) = nI 2 from rfl, pk_mul, nI_add]
theorem tl_ix0 (a : Nat) : 2 * nI a = nI (2 * a) := by
  rw [show (2 : Int32) = nI 2 from rfl, pk_mul]
theorem tl_ix1 (a : Nat) : 2 * nI a + 1 = nI (2 * a + 1) := tl_ix a 1
theorem tl_xins (h1 : tl_I1 T L H A ud lo up am) (hT : T ≤ 32) (hc : c < 2 ^ 31) {i t : Nat} (hi : i < 16) (ht : t < 2) {post : Int64 → Prop}
    (h : post (tl_ins L H c gr ou i t)) : wpX_inside post (nI T, nI S, nI F, lN C, nI c, iF, lb, rs, tt, hd, re, gr, pr, us, ne, ou, ud, lo, up, am, cr, mk) (nI i) (nI t) := by
  obtain ⟨e1, e2, -, hl, hh, -⟩ := h1 i
  have ci : (nI i).toNatClampNeg = i := nI_clamp (by omega)
  have cl : (lo (nI i).toNatClampNeg) = nI (L i) := by rw [ci, e1]
  have ch : (up (nI i).toNatClampNeg) = nI (H i) := by rw [ci, e2]
  have ct : gr (nI t).toNatClampNeg = gr t := by rw [nI_clamp (by omega)]
  have vi : vp_in (nI i) 16 := vp_in_nI hi (by omega)
  have vt : vp_in (nI t) 2 := vp_in_nI ht (by omega)
  have vl : vp_in (nI (2 * L i + t)) 66 := vp_in_nI (by omega) (by omega)
  have vh : vp_in (nI (2 * H i + t)) 66 := vp_in_nI (by omega) (by omega)
  have ol : ou (nI (2 * L i + t)).toNatClampNeg = ou (2 * L i + t) := by rw [nI_clamp (by omega)]
  have oh : ou (nI (2 * H i + t)).toNatClampNeg = ou (2 * H i + t) := by rw [nI_clamp (by omega)]
  have key : ∀ x7 : Int64, post ((gr t - x7) - (gr t - tl_be (H i) c t gr ou)) → wX_inside_50 post (nI t) (nI (H i)) (gr t) x7 (nI T) (nI S) (nI F) (lN C) (nI c) iF lb rs tt hd re gr pr us ne ou ud lo up am cr mk := by
    intro x7 h
    unfold wX_inside_50
    rw [tl_ix, oh]
    refine ⟨vh, nm_e ?_⟩
    unfold tl_be at h
    by_cases q : c < H i
    · rw [if_neg (by omega)] at h
      refine br_t (nI_lt q (by omega)) ?_
      have e : (gr t - x7) - (gr t - (gr t - ou (2 * H i + t))) = (gr t - x7) - ou (2 * H i + t) := by grind
      rw [e] at h
      exact h
    · rw [if_pos (by omega)] at h
      exact br_f (nI_nlt (by omega) hc) (nm_e h)
  unfold wpX_inside
  dsimp only
  rw [cl, ch, ct]
  refine ⟨vi, nm_e ⟨vi, nm_e ⟨vt, nm_e ?_⟩⟩⟩
  rw [tl_ix, ol]
  refine ⟨vl, nm_e ?_⟩
  unfold tl_ins at h
  by_cases q : L i ≤ c
  · refine br_t (nI_le q hc) (key _ ?_)
    have e : (gr t - ou (2 * L i + t)) - (gr t - tl_be (H i) c t gr ou) = tl_be (H i) c t gr ou - tl_be (L i) c t gr ou := by
      rw [show tl_be (L i) c t gr ou = ou (2 * L i + t) from if_pos q]
      grind
    rw [e]
    exact h
  · refine br_f (nI_ge (by omega) (by omega)) (nm_e (key _ ?_))
    have e : (gr t - (gr t - ou (2 * L i + t))) - (gr t - tl_be (H i) c t gr ou) = tl_be (H i) c t gr ou - tl_be (L i) c t gr ou := by
      rw [show tl_be (L i) c t gr ou = gr t - ou (2 * L i + t) from if_neg q]
      grind
    rw [e]
    exact h
def tl_cn (L H A : Nat → Nat) (c : Nat) (gr ou cr mk : Nat → Int64) (i t : Nat) : Int64 := cr (2 * i + t) + (tl_ins L H c gr ou i t - mk (2 * i + t)) * lN (A i)
theorem tl_xcn (h1 : tl_I1 T L H A ud lo up am) (hT : T ≤ 32) (hc : c < 2 ^ 31) {i t : Nat} (hi : i < 16) (ht : t < 2) {post : Int64 → Prop}
    (h : post (tl_cn L H A c gr ou cr mk i t)) : wpX_creditNow post (nI T, nI S, nI F, lN C, nI c, iF, lb, rs, tt, hd, re, gr, pr, us, ne, ou, ud, lo, up, am, cr, mk) (nI i) (nI t) := by
  have ci : (nI i).toNatClampNeg = i := nI_clamp (by omega)
  have cj : (nI (2 * i + t)).toNatClampNeg = 2 * i + t := nI_clamp (by omega)
  have v1 : vp_in (nI (2 * i + t)) 32 := vp_in_nI (by omega) (by omega)
  have v2 : vp_in (nI i) 16 := vp_in_nI hi (by omega)
  unfold wpX_creditNow
  refine nm_r (tl_ix i t) (tl_xins h1 hT hc hi ht ?_)
  rw [cj, ci, (h1 i).2.2.1]
  exact ⟨v1, nm_e ⟨v1, v2, h⟩⟩
theorem tl_2n {i t : Nat} (ht : t < 2) : 2 * i + t = 2 * i + 0 ∨ 2 * i + t = 2 * i + 1 := by omega
def tl_two (f : Nat → Int64) (i : Nat) (a b : Int64) : Nat → Int64 := vp_updL (vp_updL f (2 * i) a) (2 * i + 1) b
theorem tl_two_0 {f : Nat → Int64} {i : Nat} {a b : Int64} : tl_two f i a b (2 * i) = a := by
  unfold tl_two
  rw [pk_uLn (by omega), pk_uLs]
theorem tl_two_1 {f : Nat → Int64} {i : Nat} {a b : Int64} : tl_two f i a b (2 * i + 1) = b := pk_uLs
theorem tl_two_n {f : Nat → Int64} {i j : Nat} {a b : Int64} (h0 : j ≠ 2 * i) (h1 : j ≠ 2 * i + 1) : tl_two f i a b j = f j := by
  unfold tl_two
  rw [pk_uLn h1, pk_uLn h0]
theorem tl_two_e {f g : Nat → Int64} {i : Nat} : ∀ t, t < 2 → tl_two f i (g (2 * i + 0)) (g (2 * i + 1)) (2 * i + t) = g (2 * i + t) := by
  intro t ht
  have e : t = 0 ∨ t = 1 := by omega
  rcases e with rfl | rfl
  · exact tl_two_0
  · exact tl_two_1
theorem tl_two_t {f : Nat → Int64} {i : Nat} {g : Nat → Int64} : ∀ t, t < 2 → tl_two f i (g 0) (g 1) (2 * i + t) = g t := by
  intro t ht
  have e : t = 0 ∨ t = 1 := by omega
  rcases e with rfl | rfl
  · exact tl_two_0
  · exact tl_two_1
theorem tl_xmark (h1 : tl_I1 T L H A ud lo up am) (hT : T ≤ 32) (hc : c < 2 ^ 31) {i : Nat} (hi : i < 16) {post : SX → Prop}
    (h : post (nI T, nI S, nI F, lN C, nI c, iF, lb, rs, tt, hd, re, gr, pr, us, ne, ou, ud, lo, up, am, cr, tl_two mk i (tl_ins L H c gr ou i 0) (tl_ins L H c gr ou i 1))) : wpX_mark post (nI T, nI S, nI F, lN C, nI c, iF, lb, rs, tt, hd, re, gr, pr, us, ne, ou, ud, lo, up, am, cr, mk) (nI i) := by
  have c0 : (nI (2 * i)).toNatClampNeg = 2 * i := nI_clamp (by omega)
  have c1 : (nI (2 * i + 1)).toNatClampNeg = 2 * i + 1 := nI_clamp (by omega)
  have v0 : vp_in (nI (2 * i)) 32 := vp_in_nI (by omega) (by omega)
  have v1 : vp_in (nI (2 * i + 1)) 32 := vp_in_nI (by omega) (by omega)
  unfold wpX_mark
  refine tl_xins h1 hT hc hi (t := 0) (by omega) ?_
  rw [tl_ix0, nI_1, c0, c1]
  refine ⟨v0, nm_e (tl_xins h1 hT hc hi (t := 1) (by omega) ⟨v1, nm_e h⟩)⟩
theorem tl_xsettle (h1 : tl_I1 T L H A ud lo up am) (hT : T ≤ 32) (hc : c < 2 ^ 31) {i : Nat} (hi : i < 16) {post : SX → Prop}
    (h : post (nI T, nI S, nI F, lN C, nI c, iF, lb, rs, tt, hd, re, gr, pr, us, ne, ou, ud, lo, up, am, tl_two cr i (tl_cn L H A c gr ou cr mk i 0) (tl_cn L H A c gr ou cr mk i 1), tl_two mk i (tl_ins L H c gr ou i 0) (tl_ins L H c gr ou i 1))) : wpX_settle post (nI T, nI S, nI F, lN C, nI c, iF, lb, rs, tt, hd, re, gr, pr, us, ne, ou, ud, lo, up, am, cr, mk) (nI i) := by
  have c0 : (nI (2 * i)).toNatClampNeg = 2 * i := nI_clamp (by omega)
  have c1 : (nI (2 * i + 1)).toNatClampNeg = 2 * i + 1 := nI_clamp (by omega)
  have v0 : vp_in (nI (2 * i)) 32 := vp_in_nI (by omega) (by omega)
  have v1 : vp_in (nI (2 * i + 1)) 32 := vp_in_nI (by omega) (by omega)
  unfold wpX_settle
  refine tl_xcn h1 hT hc hi (t := 0) (by omega) ?_
  rw [tl_ix0, nI_1, c0, c1]
  refine ⟨v0, nm_e (tl_xcn h1 hT hc hi (t := 1) (by omega) ⟨v1, nm_e (tl_xmark h1 hT hc hi ?_)⟩)⟩
  have e : tl_cn L H A c gr ou (vp_updL cr (2 * i) (tl_cn L H A c gr ou cr mk i 0)) mk i 1 = tl_cn L H A c gr ou cr mk i 1 := by
    unfold tl_cn
    rw [pk_uLn (by omega)]
  rw [e]
  exact h
end
end
section
/-! the relation and the calls that only read -/
def tl_bc (k : Nat) : Nat := k * 70368744177664
def tl_br (k : Nat) : Nat := 16777216 + k * 1048576
/-- the two states: near equality; L, H, A: the slots' bounds and amounts -/
def i_Rel (k : Nat) (u : SX) (v : SY) : Prop := ∀ P : SX → SY → Prop, (∀ (T S F C c : Nat) (L H A : Nat → Nat) (iF lb rs tt : Int64) (hd re gr pr : Nat → Int64) (us : Nat → Int32) (ne ou : Nat → Int64) (ud lo up : Nat → Int32) (am cr mk cd : Nat → Int64),
  tl_I0 T S F → tl_I1 T L H A ud lo up am → tl_I2 S L H A us ne lb → tl_I3 T S C c L H A pr iF → tl_I4 S c L H A gr ou cr mk cd → tl_I5 (tl_bc k) (tl_br k) cd re → P (nI T, nI S, nI F, lN C, nI c, iF, lb, rs, tt, hd, re, gr, pr, us, ne, ou, ud, lo, up, am, cr, mk) (nI T, nI S, nI F, lN C, hd, re, ud, lo, up, am, cd)) → P u v
theorem tl_mk {k : Nat} {T S F C c : Nat} {L H A : Nat → Nat} {iF lb rs tt : Int64} {hd re gr pr : Nat → Int64} {us : Nat → Int32} {ne ou : Nat → Int64} {ud lo up : Nat → Int32} {am cr mk cd : Nat → Int64} (i0 : tl_I0 T S F) (i1 : tl_I1 T L H A ud lo up am) (i2 : tl_I2 S L H A us ne lb) (i3 : tl_I3 T S C c L H A pr iF) (i4 : tl_I4 S c L H A gr ou cr mk cd) (i5 : tl_I5 (tl_bc k) (tl_br k) cd re) : i_Rel k (nI T, nI S, nI F, lN C, nI c, iF, lb, rs, tt, hd, re, gr, pr, us, ne, ou, ud, lo, up, am, cr, mk) (nI T, nI S, nI F, lN C, hd, re, ud, lo, up, am, cd) :=
  fun P h => h T S F C c L H A iF lb rs tt hd re gr pr us ne ou ud lo up am cr mk cd i0 i1 i2 i3 i4 i5
theorem tl_I5_up {k : Nat} {cd re : Nat → Int64} (h : tl_I5 (tl_bc k) (tl_br k) cd re) : tl_I5 (tl_bc (k + 4)) (tl_br (k + 4)) cd re := by
  refine tl_I5_mono h ?_ ?_
  · unfold tl_bc
    omega
  · unfold tl_br
    omega
theorem i_up {k : Nat} {u : SX} {v : SY} (h : i_Rel k u v) : i_Rel (k + 4) u v := by
  refine h (fun u v => i_Rel (k + 4) u v) ?_
  intro T S F C c L H A iF lb rs tt hd re gr pr us ne ou ud lo up am cr mk cd i0 i1 i2 i3 i4 i5
  exact tl_mk i0 i1 i2 i3 i4 (tl_I5_up i5)
theorem i_vc_price {k : Nat} {u : SX} {v : SY} (I : i_Rel k u v) (hk : k + 4 ≤ 2052) : wpX_price (fun r => wpY_price (fun r' => r' = r ∧ i_Rel (k + 4) u v) v) u := by
  refine I (fun u v => wpX_price (fun r => wpY_price (fun r' => r' = r ∧ i_Rel (k + 4) u v) v) u) ?_
  intro T S F C c L H A iF lb rs tt hd re gr pr us ne ou ud lo up am cr mk cd i0 i1 i2 i3 i4 i5
  have rel := tl_mk (rs := rs) (tt := tt) (hd := hd) i0 i1 i2 i3 i4 (tl_I5_up i5)
  unfold wpX_price wpY_price
  exact And.intro rfl rel
theorem i_vc_holding {k : Nat} {u : SX} {v : SY} (I : i_Rel k u v) (hk : k + 4 ≤ 2052) (v1 : Int32) : wpX_holding (fun r => wpY_holding (fun r' => r' = r ∧ i_Rel (k + 4) u v) v v1) u v1 := by
  refine I (fun u v => wpX_holding (fun r => wpY_holding (fun r' => r' = r ∧ i_Rel (k + 4) u v) v v1) u v1) ?_
  intro T S F C c L H A iF lb rs tt hd re gr pr us ne ou ud lo up am cr mk cd i0 i1 i2 i3 i4 i5
  have rel := tl_mk (rs := rs) (tt := tt) (hd := hd) i0 i1 i2 i3 i4 (tl_I5_up i5)
  unfold wpX_holding
  rcases tl_tok v1 with ⟨t, ht, rfl⟩ | hn
  · have vt : vp_in (nI t) 2 := vp_in_nI ht (by omega)
    refine tl_xtok1 ht (br_f tl_i10 ⟨vt, ?_⟩)
    unfold wpY_holding
    exact tl_ytok1 ht (br_t rfl ⟨vt, rfl, rel⟩)
  · refine tl_xtok0 hn (br_t rfl ?_)
    unfold wpY_holding
    exact tl_ytok0 hn (br_f tl_i10 ⟨rfl, rel⟩)
theorem i_vc_residue {k : Nat} {u : SX} {v : SY} (I : i_Rel k u v) (hk : k + 4 ≤ 2052) (v1 : Int32) : wpX_residue (fun r => wpY_residue (fun r' => r' = r ∧ i_Rel (k + 4) u v) v v1) u v1 := by
  refine I (fun u v => wpX_residue (fun r => wpY_residue (fun r' => r' = r ∧ i_Rel (k + 4) u v) v v1) u v1) ?_
  intro T S F C c L H A iF lb rs tt hd re gr pr us ne ou ud lo up am cr mk cd i0 i1 i2 i3 i4 i5
  have rel := tl_mk (rs := rs) (tt := tt) (hd := hd) i0 i1 i2 i3 i4 (tl_I5_up i5)
  unfold wpX_residue
  rcases tl_tok v1 with ⟨t, ht, rfl⟩ | hn
  · have vt : vp_in (nI t) 2 := vp_in_nI ht (by omega)
    refine tl_xtok1 ht (br_f tl_i10 ⟨vt, ?_⟩)
    unfold wpY_residue
    exact tl_ytok1 ht (br_t rfl ⟨vt, rfl, rel⟩)
  · refine tl_xtok0 hn (br_t rfl ?_)
    unfold wpY_residue
    exact tl_ytok0 hn (br_f tl_i10 ⟨rfl, rel⟩)
theorem i_vc_liquidity {k : Nat} {u : SX} {v : SY} (I : i_Rel k u v) (hk : k + 4 ≤ 2052) (v1 : Int32) : wpX_liquidity (fun r => wpY_liquidity (fun r' => r' = r ∧ i_Rel (k + 4) u v) v v1) u v1 := by
  refine I (fun u v => wpX_liquidity (fun r => wpY_liquidity (fun r' => r' = r ∧ i_Rel (k + 4) u v) v v1) u v1) ?_
  intro T S F C c L H A iF lb rs tt hd re gr pr us ne ou ud lo up am cr mk cd i0 i1 i2 i3 i4 i5
  have rel := tl_mk (rs := rs) (tt := tt) (hd := hd) i0 i1 i2 i3 i4 (tl_I5_up i5)
  obtain ⟨-, hT, -, hS, -⟩ := i0
  unfold wpX_liquidity
  rcases tl_slot S hS ud v1 with ⟨i, hi, rfl, hu⟩ | hb
  · have vi : vp_in (nI i) 16 := vp_in_nI (by omega) (by omega)
    refine tl_xslot1 hS hi hu (br_f tl_i10 ⟨vi, ?_⟩)
    unfold wpY_liquidity
    exact tl_yslot1 hS hi hu (br_t rfl ⟨vi, rfl, rel⟩)
  · refine tl_xslot0 hS hb (br_t rfl ?_)
    unfold wpY_liquidity
    exact tl_yslot0 hS hb (br_f tl_i10 ⟨rfl, rel⟩)
theorem i_vc_edge {k : Nat} {u : SX} {v : SY} (I : i_Rel k u v) (hk : k + 4 ≤ 2052) (v1 : Int32) (v2 : Int32) : wpX_edge (fun r => wpY_edge (fun r' => r' = r ∧ i_Rel (k + 4) u v) v v1 v2) u v1 v2 := by
  refine I (fun u v => wpX_edge (fun r => wpY_edge (fun r' => r' = r ∧ i_Rel (k + 4) u v) v v1 v2) u v1 v2) ?_
  intro T S F C c L H A iF lb rs tt hd re gr pr us ne ou ud lo up am cr mk cd i0 i1 i2 i3 i4 i5
  have rel := tl_mk (rs := rs) (tt := tt) (hd := hd) i0 i1 i2 i3 i4 (tl_I5_up i5)
  obtain ⟨-, hT, -, hS, -⟩ := i0
  unfold wpX_edge
  rcases tl_slot S hS ud v1 with ⟨i, hi, rfl, hu⟩ | hb
  · have vi : vp_in (nI i) 16 := vp_in_nI (by omega) (by omega)
    by_cases h2 : v2 = 0
    · refine tl_xslot1 hS hi hu (br_f tl_i10 (br_t h2 ⟨vi, ?_⟩))
      unfold wpY_edge
      exact tl_yslot1 hS hi hu (br_t rfl (br_t h2 ⟨vi, rfl, rel⟩))
    · refine tl_xslot1 hS hi hu (br_f tl_i10 (br_f h2 ⟨vi, ?_⟩))
      unfold wpY_edge
      exact tl_yslot1 hS hi hu (br_t rfl (br_f h2 ⟨vi, rfl, rel⟩))
  · refine tl_xslot0 hS hb (br_t rfl ?_)
    unfold wpY_edge
    exact tl_yslot0 hS hb (br_f tl_i10 ⟨rfl, rel⟩)
theorem tl_n20 : ¬ (1048576 : Int64) = 0 := by decide
theorem i_vc_due {k : Nat} {u : SX} {v : SY} (I : i_Rel k u v) (hk : k + 4 ≤ 2052) (v1 : Int32) (v2 : Int32) : wpX_due (fun r => wpY_due (fun r' => r' = r ∧ i_Rel (k + 4) u v) v v1 v2) u v1 v2 := by
  refine I (fun u v => wpX_due (fun r => wpY_due (fun r' => r' = r ∧ i_Rel (k + 4) u v) v v1 v2) u v1 v2) ?_
  intro T S F C c L H A iF lb rs tt hd re gr pr us ne ou ud lo up am cr mk cd i0 i1 i2 i3 i4 i5
  have rel := tl_mk (rs := rs) (tt := tt) (hd := hd) i0 i1 i2 i3 i4 (tl_I5_up i5)
  obtain ⟨-, hT, -, hS, -⟩ := i0
  obtain ⟨-, hc, -⟩ := i3
  unfold wpX_due
  rcases tl_slot S hS ud v1 with ⟨i, hi, rfl, hu⟩ | hb
  · rcases tl_tok v2 with ⟨t, ht, rfl⟩ | hn
    · have vj : vp_in (2 * nI i + nI t) 32 := by rw [tl_ix]; exact vp_in_nI (by omega) (by omega)
      have e : cd (2 * nI i + nI t).toNatClampNeg = tl_cn L H A c gr ou cr mk i t := by
        rw [tl_ix, nI_clamp (by omega)]
        exact i4 i hi t ht
      refine tl_xslot1 hS hi hu (br_f tl_i10 (tl_xtok1 ht (br_f tl_i10 (tl_xcn i1 hT (by omega) (by omega) ht ⟨tl_n20, ?_⟩))))
      unfold wpY_due
      exact tl_yslot1 hS hi hu (br_t rfl (tl_ytok1 ht (br_t rfl ⟨vj, tl_n20, by rw [e], rel⟩)))
    · refine tl_xslot1 hS hi hu (br_f tl_i10 (tl_xtok0 hn (br_t rfl ?_)))
      unfold wpY_due
      exact tl_yslot1 hS hi hu (br_t rfl (tl_ytok0 hn (br_f tl_i10 ⟨rfl, rel⟩)))
  · refine tl_xslot0 hS hb (br_t rfl ?_)
    unfold wpY_due
    exact tl_yslot0 hS hb (br_f tl_i10 ⟨rfl, rel⟩)
theorem i_vc_dust {k : Nat} {u : SX} {v : SY} (I : i_Rel k u v) (hk : k + 4 ≤ 2052) (v1 : Int32) (v2 : Int32) : wpX_dust (fun r => wpY_dust (fun r' => r' = r ∧ i_Rel (k + 4) u v) v v1 v2) u v1 v2 := by
  refine I (fun u v => wpX_dust (fun r => wpY_dust (fun r' => r' = r ∧ i_Rel (k + 4) u v) v v1 v2) u v1 v2) ?_
  intro T S F C c L H A iF lb rs tt hd re gr pr us ne ou ud lo up am cr mk cd i0 i1 i2 i3 i4 i5
  have rel := tl_mk (rs := rs) (tt := tt) (hd := hd) i0 i1 i2 i3 i4 (tl_I5_up i5)
  obtain ⟨-, hT, -, hS, -⟩ := i0
  obtain ⟨-, hc, -⟩ := i3
  unfold wpX_dust
  rcases tl_slot S hS ud v1 with ⟨i, hi, rfl, hu⟩ | hb
  · rcases tl_tok v2 with ⟨t, ht, rfl⟩ | hn
    · have vj : vp_in (2 * nI i + nI t) 32 := by rw [tl_ix]; exact vp_in_nI (by omega) (by omega)
      have e : cd (2 * nI i + nI t).toNatClampNeg = tl_cn L H A c gr ou cr mk i t := by
        rw [tl_ix, nI_clamp (by omega)]
        exact i4 i hi t ht
      refine tl_xslot1 hS hi hu (br_f tl_i10 (tl_xtok1 ht (br_f tl_i10 (tl_xcn i1 hT (by omega) (by omega) ht ⟨tl_n20, ?_⟩))))
      unfold wpY_dust
      exact tl_yslot1 hS hi hu (br_t rfl (tl_ytok1 ht (br_t rfl ⟨vj, tl_n20, by rw [e], rel⟩)))
    · refine tl_xslot1 hS hi hu (br_f tl_i10 (tl_xtok0 hn (br_t rfl ?_)))
      unfold wpY_dust
      exact tl_yslot1 hS hi hu (br_t rfl (tl_ytok0 hn (br_f tl_i10 ⟨rfl, rel⟩)))
  · refine tl_xslot0 hS hb (br_t rfl ?_)
    unfold wpY_dust
    exact tl_yslot0 hS hb (br_f tl_i10 ⟨rfl, rel⟩)
theorem i_vc_worth {k : Nat} {u : SX} {v : SY} (I : i_Rel k u v) (hk : k + 4 ≤ 2052) (v1 : Int32) (v2 : Int32) : wpX_worth (fun r => wpY_worth (fun r' => r' = r ∧ i_Rel (k + 4) u v) v v1 v2) u v1 v2 := by
  refine I (fun u v => wpX_worth (fun r => wpY_worth (fun r' => r' = r ∧ i_Rel (k + 4) u v) v v1 v2) u v1 v2) ?_
  intro T S F C c L H A iF lb rs tt hd re gr pr us ne ou ud lo up am cr mk cd i0 i1 i2 i3 i4 i5
  have rel := tl_mk (rs := rs) (tt := tt) (hd := hd) i0 i1 i2 i3 i4 (tl_I5_up i5)
  obtain ⟨-, hT, -, hS, -⟩ := i0
  obtain ⟨hp, hc, -⟩ := i3
  unfold wpX_worth
  rcases tl_slot S hS ud v1 with ⟨i, hi, rfl, hu⟩ | hb
  · have vi : vp_in (nI i) 16 := vp_in_nI (by omega) (by omega)
    have hLH := (i1 i).2.2.2.2.2.2.1 hu
    rcases tl_tok v2 with ⟨t, ht, rfl⟩ | hn
    · refine tl_xslot1 hS hi hu (br_f tl_i10 (tl_xtok1 ht (br_f tl_i10 ⟨vi, tl_xstk i1 hp hT (by omega) ht (by omega) ?_⟩)))
      unfold wpY_worth
      exact tl_yslot1 hS hi hu (br_t rfl (tl_ytok1 ht (br_t rfl ⟨vi, tl_yshr i1 hT (by omega) ht ⟨rfl, rel⟩⟩)))
    · refine tl_xslot1 hS hi hu (br_f tl_i10 (tl_xtok0 hn (br_t rfl ?_)))
      unfold wpY_worth
      exact tl_yslot1 hS hi hu (br_t rfl (tl_ytok0 hn (br_f tl_i10 ⟨rfl, rel⟩)))
  · refine tl_xslot0 hS hb (br_t rfl ?_)
    unfold wpY_worth
    exact tl_yslot0 hS hb (br_f tl_i10 ⟨rfl, rel⟩)
end
section
/-! attach, detach, changeLiquidity: the walks and what they do to the ticks' facets -/
theorem tl_bit1 : ∀ t, t < 64 → ((1 : Int64) <<< ((nI t).toInt64 &&& 63)).toBitVec = BitVec.twoPow 64 t := by decide +kernel
theorem tl_m1bv : (-1 : Int64).toBitVec = BitVec.allOnes 64 := by decide +kernel
theorem tl_or_bit {lb : Int64} {t : Nat} (ht : t < 64) (s : Nat) : (lb ||| ((1 : Int64) <<< ((nI t).toInt64 &&& 63))).toBitVec.getLsbD s = (lb.toBitVec.getLsbD s || decide (t = s)) := by
  rw [Int64.toBitVec_or, BitVec.getLsbD_or, tl_bit1 t ht, BitVec.getLsbD_twoPow, decide_eq_true ht, Bool.true_and]
theorem tl_an_bit {lb : Int64} {t : Nat} (ht : t < 64) (s : Nat) : (lb &&& (((1 : Int64) <<< ((nI t).toInt64 &&& 63)) ^^^ (-1))).toBitVec.getLsbD s = (lb.toBitVec.getLsbD s && !decide (t = s)) := by
  rw [Int64.toBitVec_and, BitVec.getLsbD_and, Int64.toBitVec_xor, BitVec.getLsbD_xor, tl_bit1 t ht, BitVec.getLsbD_twoPow, decide_eq_true ht, Bool.true_and, tl_m1bv, BitVec.getLsbD_allOnes]
  by_cases hs : s < 64
  · rw [decide_eq_true hs, Bool.xor_true]
  · rw [BitVec.getLsbD_of_ge _ _ (by omega), Bool.false_and, Bool.false_and]
def tl_alb (us : Nat → Int32) (lb : Int64) (t : Nat) : Int64 := if us t = 0 then lb ||| ((1 : Int64) <<< ((nI t).toInt64 &&& 63)) else lb
def tl_aou (us : Nat → Int32) (c : Nat) (gr ou : Nat → Int64) (t : Nat) : Nat → Int64 := if us t = 0 then tl_two ou t (if t ≤ c then gr 0 else 0) (if t ≤ c then gr 1 else 0) else ou
def tl_dlb (us : Nat → Int32) (lb : Int64) (t : Nat) : Int64 := if us t - 1 = 0 then lb &&& (((1 : Int64) <<< ((nI t).toInt64 &&& 63)) ^^^ (-1)) else lb
/-- users and live bits as counts V -/
def tl_UV (V : Nat → Nat) (us : Nat → Int32) (lb : Int64) : Prop := ∀ s, us s = nI (V s) ∧ V s < 2 ^ 31 ∧ lb.toBitVec.getLsbD s = decide (0 < V s)
theorem tl_UV_att {V V' : Nat → Nat} {us : Nat → Int32} {lb : Int64} {t : Nat} (ht : t < 64) (h : tl_UV V us lb) (hV : ∀ s, V' s = V s + (if t = s then 1 else 0)) (hb : ∀ s, V' s < 2 ^ 31) : tl_UV V' (upd us t (us t + 1)) (tl_alb us lb t) := by
  intro s
  obtain ⟨u1, b1, l1⟩ := h s
  obtain ⟨u2, b2, l2⟩ := h t
  refine ⟨?_, hb s, ?_⟩
  · by_cases e : s = t
    · subst e
      rw [pk_us, u1, hV, if_pos rfl, nI_1]
    · rw [pk_un e, u1, hV, if_neg (fun z => e z.symm), Nat.add_zero]
  · unfold tl_alb
    by_cases z : us t = 0
    · rw [if_pos z, tl_or_bit ht, l1, hV]
      by_cases e : t = s
      · rw [if_pos e, decide_eq_true e, Bool.or_true, decide_eq_true (by omega)]
      · rw [if_neg e, decide_eq_false e, Bool.or_false, Nat.add_zero]
    · rw [if_neg z, l1, hV]
      by_cases e : t = s
      · subst e
        have hz : V t ≠ 0 := fun y => z (by rw [u2, y]; rfl)
        rw [if_pos rfl, decide_eq_true (by omega), decide_eq_true (by omega)]
      · rw [if_neg e, Nat.add_zero]
theorem tl_UV_det {V V' : Nat → Nat} {us : Nat → Int32} {lb : Int64} {t : Nat} (ht : t < 64) (h : tl_UV V us lb) (hV : ∀ s, V' s + (if t = s then 1 else 0) = V s) : tl_UV V' (upd us t (us t - 1)) (tl_dlb us lb t) := by
  intro s
  obtain ⟨u1, b1, l1⟩ := h s
  obtain ⟨u2, b2, l2⟩ := h t
  have hs := hV s
  have ht2 : V' t + 1 = V t := by
    have := hV t
    rw [if_pos rfl] at this
    exact this
  have e1 : us t - 1 = nI (V' t) := by rw [u2, ← ht2, nI_pred]
  refine ⟨?_, by omega, ?_⟩
  · by_cases e : s = t
    · subst e
      rw [pk_us, e1]
    · rw [if_neg (fun z => e z.symm)] at hs
      rw [pk_un e, u1, ← hs, Nat.add_zero]
  · unfold tl_dlb
    by_cases z : us t - 1 = 0
    · rw [if_pos z, tl_an_bit ht, l1]
      rw [e1] at z
      have z0 : V' t = 0 := (nI_eq (b := 0) (by omega) (by omega)).mp z
      by_cases e : t = s
      · subst e
        rw [decide_eq_true rfl, Bool.not_true, Bool.and_false, decide_eq_false (by omega)]
      · rw [if_neg e] at hs
        rw [decide_eq_false e, Bool.not_false, Bool.and_true, ← hs, Nat.add_zero]
    · rw [if_neg z, l1]
      by_cases e : t = s
      · subst e
        have hz : V' t ≠ 0 := fun y => z (by rw [e1, y]; rfl)
        rw [decide_eq_true (by omega), decide_eq_true (by omega)]
      · rw [if_neg e] at hs
        rw [← hs, Nat.add_zero]
theorem tl_aou_keep {V : Nat → Nat} {us : Nat → Int32} {lb : Int64} {c t s j : Nat} {gr ou : Nat → Int64} (h : tl_UV V us lb) (hs : 0 < V s) (hj : j < 2) : tl_aou us c gr ou t (2 * s + j) = ou (2 * s + j) := by
  unfold tl_aou
  by_cases z : us t = 0
  · obtain ⟨u2, b2, -⟩ := h t
    rw [u2] at z
    have z0 : V t = 0 := (nI_eq (b := 0) b2 (by omega)).mp z
    have e : s ≠ t := fun y => by rw [y] at hs; omega
    rw [if_pos (by rw [u2]; exact z)]
    exact tl_two_n (by omega) (by omega)
  · rw [if_neg z]
theorem tl_UV_of {L H A : Nat → Nat} {S : Nat} {us : Nat → Int32} {ne : Nat → Int64} {lb : Int64} (hS : S ≤ 16) (h : tl_I2 S L H A us ne lb) : tl_UV (fun t => tl_U L H A S t) us lb := by
  intro s
  obtain ⟨a, -, b⟩ := h s
  have := tl_U_bd (L := L) (H := H) (A := A) (S := S) (t := s)
  exact ⟨a, by show tl_U L H A S s < 2 ^ 31; omega, b⟩
section
variable {T S F C c : Nat} {L H A : Nat → Nat} {iF lb rs tt : Int64} {hd re gr pr : Nat → Int64} {us : Nat → Int32} {ne ou : Nat → Int64} {ud lo up : Nat → Int32} {am cr mk cd : Nat → Int64}
theorem tl_xatt75 {t : Nat} (ht : t ≤ 32) {post : SX → Prop} (h : post (nI T, nI S, nI F, lN C, nI c, iF, lb, rs, tt, hd, re, gr, pr, upd us t (us t + 1), ne, ou, ud, lo, up, am, cr, mk)) : wX_attach_75 post (nI t) (nI T) (nI S) (nI F) (lN C) (nI c) iF lb rs tt hd re gr pr us ne ou ud lo up am cr mk := by
  have v : vp_in (nI t) 33 := vp_in_nI (by omega) (by omega)
  unfold wX_attach_75
  rw [nI_clamp (show t < 2 ^ 31 by omega)]
  exact ⟨v, v, nm_e h⟩
theorem tl_xattach {t : Nat} (ht : t ≤ 32) (hc : c < 2 ^ 31) {post : SX → Prop} (h : post (nI T, nI S, nI F, lN C, nI c, iF, tl_alb us lb t, rs, tt, hd, re, gr, pr, upd us t (us t + 1), ne, tl_aou us c gr ou t, ud, lo, up, am, cr, mk)) : wpX_attach post (nI T, nI S, nI F, lN C, nI c, iF, lb, rs, tt, hd, re, gr, pr, us, ne, ou, ud, lo, up, am, cr, mk) (nI t) := by
  have v : vp_in (nI t) 33 := vp_in_nI (by omega) (by omega)
  have v0 : vp_in (nI (2 * t)) 66 := vp_in_nI (by omega) (by omega)
  have v1 : vp_in (nI (2 * t + 1)) 66 := vp_in_nI (by omega) (by omega)
  have c0 : (nI (2 * t)).toNatClampNeg = 2 * t := nI_clamp (by omega)
  have c1 : (nI (2 * t + 1)).toNatClampNeg = 2 * t + 1 := nI_clamp (by omega)
  have ct : (nI t).toNatClampNeg = t := nI_clamp (by omega)
  unfold wpX_attach
  dsimp only
  rw [ct, tl_ix0]
  refine ⟨v, ?_⟩
  unfold tl_alb tl_aou at h
  by_cases z : us t = 0
  · rw [if_pos z, if_pos z] at h
    refine br_t z (nm_e ?_)
    by_cases q : t ≤ c
    · have q' : ¬ nI c < nI t := nI_nlt q hc
      rw [if_pos q, if_pos q] at h
      refine br_f q' ?_
      unfold wX_attach_46
      rw [c0, tl_ix1]
      refine ⟨v0, nm_e (br_f q' ?_)⟩
      unfold wX_attach_74
      rw [c1]
      exact ⟨v1, nm_e (tl_xatt75 ht h)⟩
    · have q' : nI c < nI t := nI_lt (by omega) (by omega)
      rw [if_neg q, if_neg q] at h
      refine br_t q' ?_
      unfold wX_attach_46
      rw [c0, tl_ix1]
      refine ⟨v0, nm_e (br_t q' ?_)⟩
      unfold wX_attach_74
      rw [c1]
      exact ⟨v1, nm_e (tl_xatt75 ht h)⟩
  · rw [if_neg z, if_neg z] at h
    exact br_f z (tl_xatt75 ht h)
theorem tl_xdetach {t : Nat} (ht : t ≤ 32) {post : SX → Prop} (h : post (nI T, nI S, nI F, lN C, nI c, iF, tl_dlb us lb t, rs, tt, hd, re, gr, pr, upd us t (us t - 1), ne, ou, ud, lo, up, am, cr, mk)) : wpX_detach post (nI T, nI S, nI F, lN C, nI c, iF, lb, rs, tt, hd, re, gr, pr, us, ne, ou, ud, lo, up, am, cr, mk) (nI t) := by
  have v : vp_in (nI t) 33 := vp_in_nI (by omega) (by omega)
  have ct : (nI t).toNatClampNeg = t := nI_clamp (by omega)
  unfold wpX_detach
  dsimp only
  rw [ct]
  refine ⟨v, v, nm_e ⟨v, ?_⟩⟩
  rw [pk_us]
  unfold tl_dlb at h
  by_cases z : us t - 1 = 0
  · rw [if_pos z] at h
    exact br_t z (nm_e h)
  · rw [if_neg z] at h
    exact br_f z h
def tl_chn (ne : Nat → Int64) (l h : Nat) (ch : Int64) : Nat → Int64 := vp_updL (vp_updL ne l (ne l + ch)) h ((vp_updL ne l (ne l + ch)) h - ch)
theorem tl_xchg (h1 : tl_I1 T L H A ud lo up am) (hT : T ≤ 32) (hc : c < 2 ^ 31) {i : Nat} {ch : Int64} (hi : i < 16) {post : SX → Prop}
    (h : post (nI T, nI S, nI F, lN C, nI c, if L i ≤ c ∧ c < H i then iF + ch else iF, lb, rs, tt, hd, re, gr, pr, us, tl_chn ne (L i) (H i) ch, ou, ud, lo, up, vp_updL am i (am i + ch), cr, mk)) : wpX_changeLiquidity post (nI T, nI S, nI F, lN C, nI c, iF, lb, rs, tt, hd, re, gr, pr, us, ne, ou, ud, lo, up, am, cr, mk) (nI i) ch := by
  obtain ⟨e1, e2, -, hl, hh, -⟩ := h1 i
  have ci : (nI i).toNatClampNeg = i := nI_clamp (by omega)
  have cl : (nI (L i)).toNatClampNeg = L i := nI_clamp (by omega)
  have cu : (nI (H i)).toNatClampNeg = H i := nI_clamp (by omega)
  have vi : vp_in (nI i) 16 := vp_in_nI hi (by omega)
  have vl : vp_in (nI (L i)) 33 := vp_in_nI (by omega) (by omega)
  have vh : vp_in (nI (H i)) 33 := vp_in_nI (by omega) (by omega)
  unfold wpX_changeLiquidity
  dsimp only
  rw [ci, e1, e2]
  refine ⟨vi, nm_e ⟨vi, nm_e ⟨vi, vi, nm_e ⟨vl, vl, nm_e ⟨vh, vh, nm_e ?_⟩⟩⟩⟩⟩
  rw [cl, cu]
  by_cases q1 : L i ≤ c
  · refine br_f (nI_nlt q1 hc) ?_
    by_cases q2 : c < H i
    · rw [if_pos ⟨q1, q2⟩] at h
      exact br_f (nI_ge q2 (by omega)) (nm_e h)
    · rw [if_neg (fun z => q2 z.2)] at h
      exact br_t (nI_le (by omega) hc) h
  · rw [if_neg (fun z => q1 z.1)] at h
    exact br_t (nI_lt (by omega) (by omega)) h
end
section
variable {L H A : Nat → Nat} {S i x : Nat} {ch : Int64} {ne : Nat → Int64}
theorem tl_chn_n (hi : i < S) (hx : lN x = lN (A i) + ch) (hLH : L i ≠ H i) (h : ∀ t, ne t = lN (tl_N L A S t) - lN (tl_N H A S t)) : ∀ t, tl_chn ne (L i) (H i) ch t = lN (tl_N L (tl_up A i x) S t) - lN (tl_N H (tl_up A i x) S t) := by
  intro t
  rw [tl_N_ch (L := L) hi hx, tl_N_ch (L := H) hi hx]
  unfold tl_chn
  by_cases e : t = H i
  · subst e
    rw [pk_uLs, pk_uLn (fun z => hLH z.symm), if_neg hLH, if_pos rfl, h]
    grind
  · rw [pk_uLn e, if_neg (show ¬ H i = t from fun z => e z.symm)]
    by_cases e2 : t = L i
    · subst e2
      rw [pk_uLs, if_pos rfl, h]
      grind
    · rw [pk_uLn e2, if_neg (show ¬ L i = t from fun z => e2 z.symm), h]
      grind
theorem tl_I2_of {us : Nat → Int32} {lb : Int64} (h : tl_UV (fun t => tl_U L H A S t) us lb) (hn : ∀ t, ne t = lN (tl_N L A S t) - lN (tl_N H A S t)) : tl_I2 S L H A us ne lb :=
  fun t => ⟨(h t).1, hn t, (h t).2.2⟩
end
section
variable {L H A A' : Nat → Nat} {S c i : Nat} {gr ou ou' cr cr' mk mk' cd cd' : Nat → Int64}
/-- slot i is settled anew; the others stay -/
theorem tl_I4_set (h : tl_I4 S c L H A gr ou cr mk cd)
    (hc : ∀ t, t < 2 → cr' (2 * i + t) = cd' (2 * i + t)) (hm : ∀ t, t < 2 → mk' (2 * i + t) = tl_ins L H c gr ou' i t)
    (ho : ∀ j, j < S → j ≠ i → A' j = A j ∧ ∀ t, t < 2 → cd' (2 * j + t) = cd (2 * j + t) ∧ cr' (2 * j + t) = cr (2 * j + t) ∧ mk' (2 * j + t) = mk (2 * j + t) ∧ (A j ≠ 0 → tl_ins L H c gr ou' j t = tl_ins L H c gr ou j t)) :
    tl_I4 S c L H A' gr ou' cr' mk' cd' := by
  intro j hj t ht
  by_cases e : j = i
  · subst e
    rw [hc t ht, hm t ht]
    grind
  · obtain ⟨a, b⟩ := ho j hj e
    obtain ⟨b1, b2, b3, b4⟩ := b t ht
    rw [a, b1, b2, b3]
    have h0 := h j hj t ht
    by_cases z : A j = 0
    · rw [z, show lN 0 = 0 from rfl, Int64.mul_zero] at h0 ⊢
      exact h0
    · rw [b4 z]
      exact h0
end
end
section
/-! open, close, collect -/
theorem tl_first (ud : Nat → Int32) : ∀ S : Nat, (∀ j, j < S → ud j ≠ 0) ∨ ∃ i, i < S ∧ ud i = 0 ∧ ∀ j, j < i → ud j ≠ 0 := by
  intro S
  induction S with
  | zero => exact Or.inl (fun j hj => absurd hj (Nat.not_lt_zero j))
  | succ S ih =>
    rcases ih with h | ⟨i, hi, h1, h2⟩
    · by_cases z : ud S = 0
      · exact Or.inr ⟨S, by omega, z, h⟩
      · exact Or.inl (lt_s h z)
    · exact Or.inr ⟨i, by omega, h1, h2⟩
section
variable {T S F C c : Nat} {L H A : Nat → Nat} {iF lb rs tt : Int64} {hd re gr pr : Nat → Int64} {us : Nat → Int32} {ne ou : Nat → Int64} {ud lo up : Nat → Int32} {am cr mk cd : Nat → Int64}
theorem tl_xfreeL {e : Nat} (hS : S ≤ 16) (he : e ≤ S) (hu : ∀ j, j < e → ud j ≠ 0) {post : Int32 → Prop} {m : Nat} (h : wX_freeSlot_2 post (nI T) (nI S) (nI F) (lN C) (nI c) iF lb rs tt hd re gr pr us ne ou ud lo up am cr mk (m + 1) (nI e)) : ∀ d j : Nat, j + d = e → wX_freeSlot_2 post (nI T) (nI S) (nI F) (lN C) (nI c) iF lb rs tt hd re gr pr us ne ou ud lo up am cr mk (m + 1 + d) (nI j) := by
  intro d
  induction d with
  | zero =>
    intro j hj
    have z : j = e := by omega
    subst z
    exact h
  | succ d ih =>
    intro j hj
    have c1 : (nI j).toNatClampNeg = j := nI_clamp (by omega)
    have u1 : ¬ ud (nI j).toNatClampNeg = 0 := by rw [c1]; exact hu j (by omega)
    show wX_freeSlot_2 post (nI T) (nI S) (nI F) (lN C) (nI c) iF lb rs tt hd re gr pr us ne ou ud lo up am cr mk ((m + 1 + d) + 1) (nI j)
    exact br_f (nI_ge (by omega) (by omega)) ⟨vp_in_nI (by omega) (by omega), br_f u1 (nm_r (nI_1 j) (ih (j + 1) (by omega)))⟩
theorem tl_xfree1 {i : Nat} (hS : S ≤ 16) (hi : i < S) (h0 : ud i = 0) (hu : ∀ j, j < i → ud j ≠ 0) {post : Int32 → Prop} (h : post (nI i)) : wpX_freeSlot post (nI T, nI S, nI F, lN C, nI c, iF, lb, rs, tt, hd, re, gr, pr, us, ne, ou, ud, lo, up, am, cr, mk) := by
  have c1 : (nI i).toNatClampNeg = i := nI_clamp (by omega)
  have u1 : ud (nI i).toNatClampNeg = 0 := by rw [c1]; exact h0
  unfold wpX_freeSlot
  refine ⟨0 + 1 + i, tl_xfreeL hS (by omega) hu ?_ i 0 (by omega)⟩
  exact br_f (nI_ge (by omega) (by omega)) ⟨vp_in_nI (by omega) (by omega), br_t u1 h⟩
theorem tl_xfree0 (hS : S ≤ 16) (hu : ∀ j, j < S → ud j ≠ 0) {post : Int32 → Prop} (h : post (-1)) : wpX_freeSlot post (nI T, nI S, nI F, lN C, nI c, iF, lb, rs, tt, hd, re, gr, pr, us, ne, ou, ud, lo, up, am, cr, mk) := by
  unfold wpX_freeSlot
  refine ⟨0 + 1 + S, tl_xfreeL hS (Nat.le_refl _) hu ?_ S 0 (by omega)⟩
  exact br_t (nI_le (Nat.le_refl _) (by omega)) h
theorem tl_yopenL {e : Nat} {x1 x2 : Int32} (hS : S ≤ 16) (he : e ≤ S) (hu : ∀ j, j < e → ud j ≠ 0) {post : Int32 → SY → Prop} {m : Nat} (h : wY_open_22 post x1 x2 (nI T) (nI S) (nI F) (lN C) hd re ud lo up am cd (m + 1) (nI e)) : ∀ d j : Nat, j + d = e → wY_open_22 post x1 x2 (nI T) (nI S) (nI F) (lN C) hd re ud lo up am cd (m + 1 + d) (nI j) := by
  intro d
  induction d with
  | zero =>
    intro j hj
    have z : j = e := by omega
    subst z
    exact h
  | succ d ih =>
    intro j hj
    have c1 : (nI j).toNatClampNeg = j := nI_clamp (by omega)
    have u1 : ¬ ud (nI j).toNatClampNeg = 0 := by rw [c1]; exact hu j (by omega)
    show wY_open_22 post x1 x2 (nI T) (nI S) (nI F) (lN C) hd re ud lo up am cd ((m + 1 + d) + 1) (nI j)
    exact br_f (nI_ge (by omega) (by omega)) ⟨vp_in_nI (by omega) (by omega), br_f u1 (nm_r (nI_1 j) (ih (j + 1) (by omega)))⟩
theorem tl_yopen1 {i : Nat} {x1 x2 : Int32} (hS : S ≤ 16) (hi : i < S) (h0 : ud i = 0) {post : Int32 → SY → Prop}
    (h : post (nI i) (nI T, nI S, nI F, lN C, hd, re, upd ud i (vp_nar .boolean 1), upd lo i x1, upd up i x2, vp_updL am i 0, tl_two cd i 0 0)) : wY_open_22 post x1 x2 (nI T) (nI S) (nI F) (lN C) hd re ud lo up am cd (0 + 1) (nI i) := by
  have c1 : (nI i).toNatClampNeg = i := nI_clamp (by omega)
  have c2 : (nI (2 * i)).toNatClampNeg = 2 * i := nI_clamp (by omega)
  have c3 : (nI (2 * i + 1)).toNatClampNeg = 2 * i + 1 := nI_clamp (by omega)
  have vi : vp_in (nI i) 16 := vp_in_nI (by omega) (by omega)
  have v0 : vp_in (nI (2 * i)) 32 := vp_in_nI (by omega) (by omega)
  have v1 : vp_in (nI (2 * i + 1)) 32 := vp_in_nI (by omega) (by omega)
  show wY_open_22 post x1 x2 (nI T) (nI S) (nI F) (lN C) hd re ud lo up am cd (0 + 1) (nI i)
  unfold wY_open_22
  rw [c1, tl_ix0, nI_1, c2, c3]
  exact br_f (nI_ge (by omega) (by omega)) ⟨vi, br_t h0 ⟨vi, nm_e ⟨vi, nm_e ⟨vi, nm_e ⟨vi, nm_e ⟨v0, nm_e ⟨v1, nm_e h⟩⟩⟩⟩⟩⟩⟩
theorem tl_xopen63 {i : Nat} (hi : i < 16) {post : Int32 → SX → Prop} (h : post (nI i) (nI T, nI S, nI F, lN C, nI c, iF, lb, rs, tt, hd, re, gr, pr, us, ne, ou, ud, lo, up, am, tl_two cr i 0 0, tl_two mk i 0 0)) : wX_open_63 post (nI i) (nI T) (nI S) (nI F) (lN C) (nI c) iF lb rs tt 3 0 hd re gr pr us ne ou ud lo up am cr mk := by
  have e0 : 2 * nI i + 0 = nI (2 * i) := by rw [Int32.add_zero, tl_ix0]
  have c2 : (nI (2 * i)).toNatClampNeg = 2 * i := nI_clamp (by omega)
  have c3 : (nI (2 * i + 1)).toNatClampNeg = 2 * i + 1 := nI_clamp (by omega)
  have v0 : vp_in (nI (2 * i)) 32 := vp_in_nI (by omega) (by omega)
  have v1 : vp_in (nI (2 * i + 1)) 32 := vp_in_nI (by omega) (by omega)
  unfold wX_open_63
  rw [e0, c2]
  refine br_f (by decide) ⟨v0, nm_e ⟨v0, nm_e (nm_r (e' := (1 : Int32)) (by decide) ?_)⟩⟩
  unfold wX_open_63
  rw [tl_ix1, c3]
  refine br_f (by decide) ⟨v1, nm_e ⟨v1, nm_e (nm_r (e' := (2 : Int32)) (by decide) ?_)⟩⟩
  unfold wX_open_63
  exact br_t (by decide) h
end
section
variable {L H A : Nat → Nat} {S T i l h : Nat}
theorem tl_op_U (h0 : A i = 0) (t : Nat) : tl_U (tl_up L i l) (tl_up H i h) A S t = tl_U L H A S t := by
  refine tl_sm_congr (fun j _ => ?_)
  try dsimp only
  by_cases e : j = i
  · subst e
    rw [if_pos h0, if_pos h0]
  · rw [tl_up_n e, tl_up_n e]
theorem tl_op_N (h0 : A i = 0) (t : Nat) : tl_N (tl_up L i l) A S t = tl_N L A S t := by
  refine tl_sm_congr (fun j _ => ?_)
  try dsimp only
  by_cases e : j = i
  · subst e
    rw [h0, ite_self, ite_self]
  · rw [tl_up_n e]
theorem tl_op_In (h0 : A i = 0) (c : Nat) : tl_In (tl_up L i l) (tl_up H i h) A S c = tl_In L H A S c := by
  refine tl_sm_congr (fun j _ => ?_)
  try dsimp only
  by_cases e : j = i
  · subst e
    rw [h0, ite_self, ite_self]
  · rw [tl_up_n e, tl_up_n e]
end
theorem tl_i_m1 : ¬ (0 : Int32) ≤ -1 := by decide
theorem i_vc_open {k : Nat} {u : SX} {v : SY} (I : i_Rel k u v) (hk : k + 4 ≤ 2052) (v1 : Int32) (v2 : Int32) : wpX_open (fun r u' => wpY_open (fun r' v' => r' = r ∧ i_Rel (k + 4) u' v') v v1 v2) u v1 v2 := by
  refine I (fun u v => wpX_open (fun r u' => wpY_open (fun r' v' => r' = r ∧ i_Rel (k + 4) u' v') v v1 v2) u v1 v2) ?_
  intro T S F C c L H A iF lb rs tt hd re gr pr us ne ou ud lo up am cr mk cd i0 i1 i2 i3 i4 i5
  have rel := tl_mk (rs := rs) (tt := tt) (hd := hd) i0 i1 i2 i3 i4 (tl_I5_up i5)
  have i0' := i0
  obtain ⟨-, hT, -, hS, -⟩ := i0'
  unfold wpX_open
  by_cases q1 : v1 < 0
  · refine br_t q1 ?_
    unfold wpY_open
    exact br_t q1 ⟨rfl, rel⟩
  · by_cases q2 : v2 ≤ v1
    · refine br_f q1 (br_t q2 ?_)
      unfold wpY_open
      exact br_f q1 (br_t q2 ⟨rfl, rel⟩)
    · by_cases q3 : v2 ≤ nI T
      · rcases tl_first ud S with hu | ⟨i, hi, hu0, hu⟩
        · refine br_f q1 (br_f q2 (br_t q3 (tl_xfree0 hS hu (br_f tl_i_m1 ?_))))
          unfold wpY_open
          exact br_f q1 (br_f q2 (br_t q3 ⟨0 + 1 + S, tl_yopenL hS (Nat.le_refl _) hu (br_t (nI_le (Nat.le_refl _) (by omega)) ⟨rfl, rel⟩) S 0 (by omega)⟩))
        · obtain ⟨l, hl, rfl⟩ := nI_of q1
          have q2' : ¬ v2 < 0 := by
            intro z
            have a := Int32.lt_iff_toInt_lt.mp z
            have b : ¬ v2.toInt ≤ (nI l).toInt := fun y => q2 (Int32.le_iff_toInt_le.mpr y)
            rw [nI_toInt hl] at b
            have e0 : (0 : Int32).toInt = 0 := by decide
            omega
          obtain ⟨h, hh, rfl⟩ := nI_of q2'
          have q2n : ¬ h ≤ l := fun z => q2 ((nI_leI hh hl).mpr z)
          have q3n : h ≤ T := (nI_leI hh (by omega)).mp q3
          have ha : A i = 0 := by
            rcases Nat.eq_zero_or_pos (A i) with z | z
            · exact z
            · exact absurd hu0 ((i1 i).2.2.2.2.2.2.2 (by omega))
          have c1 : (nI i).toNatClampNeg = i := nI_clamp (by omega)
          have vi : vp_in (nI i) 16 := vp_in_nI (by omega) (by omega)
          have rel2 : i_Rel (k + 4) (nI T, nI S, nI F, lN C, nI c, iF, lb, rs, tt, hd, re, gr, pr, us, ne, ou, upd ud i (vp_nar .boolean 1), upd lo i (nI l), upd up i (nI h), vp_updL am i 0, tl_two cr i 0 0, tl_two mk i 0 0) (nI T, nI S, nI F, lN C, hd, re, upd ud i (vp_nar .boolean 1), upd lo i (nI l), upd up i (nI h), vp_updL am i 0, tl_two cd i 0 0) := by
            refine tl_mk (L := tl_up L i l) (H := tl_up H i h) (A := A) i0 ?_ ?_ ?_ ?_ ?_
            · intro j
              obtain ⟨a1, a2, a3, a4, a5, a6, a7, a8⟩ := i1 j
              by_cases e : j = i
              · subst e
                rw [pk_us, pk_us, pk_us, pk_uLs, tl_up_s, tl_up_s]
                exact ⟨rfl, rfl, by rw [ha]; rfl, by omega, q3n, a6, fun _ => by omega, fun z => absurd ha z⟩
              · rw [pk_un e, pk_un e, pk_un e, pk_uLn e, tl_up_n e, tl_up_n e]
                exact ⟨a1, a2, a3, a4, a5, a6, a7, a8⟩
            · intro t
              rw [tl_op_U ha, tl_op_N ha, tl_op_N ha]
              exact i2 t
            · obtain ⟨p1, p2, p3, p4, p5⟩ := i3
              refine ⟨p1, p2, p3, p4, ?_⟩
              rw [tl_op_In ha]
              exact p5
            · intro j hj t ht
              by_cases e : j = i
              · subst e
                rw [ha, show lN 0 = 0 from rfl, Int64.mul_zero, Int64.add_zero]
                rcases tl_tok2 ht with rfl | rfl
                · rw [Nat.add_zero, tl_two_0, tl_two_0]
                · rw [tl_two_1, tl_two_1]
              · rw [tl_two_n (by omega) (by omega), tl_two_n (by omega) (by omega), tl_two_n (by omega) (by omega)]
                unfold tl_ins
                rw [tl_up_n e, tl_up_n e]
                exact i4 j hj t ht
            · have i5' := tl_I5_up i5
              exact ⟨tl_B_up (tl_B_up i5'.1 ⟨0, rfl, Nat.zero_le _⟩) ⟨0, rfl, Nat.zero_le _⟩, i5'.2⟩
          refine br_f q1 (br_f q2 (br_t q3 (tl_xfree1 hS hi hu0 hu (br_t (nI_pos' (by omega)) ?_))))
          rw [c1]
          refine ⟨vi, nm_e ⟨vi, nm_e ⟨vi, nm_e ⟨vi, nm_e ⟨3, tl_xopen63 (by omega) ?_⟩⟩⟩⟩⟩
          unfold wpY_open
          exact br_f q1 (br_f q2 (br_t q3 ⟨0 + 1 + i, tl_yopenL hS (by omega) hu (tl_yopen1 hS hi hu0 ⟨rfl, rel2⟩) i 0 (by omega)⟩))
      · refine br_f q1 (br_f q2 (br_f q3 ?_))
        unfold wpY_open
        exact br_f q1 (br_f q2 (br_f q3 ⟨rfl, rel⟩))
end
section
/-! close and collect -/
section
variable {T S F C c : Nat} {L H A : Nat → Nat} {iF lb rs tt : Int64} {hd re gr pr : Nat → Int64} {us : Nat → Int32} {ne ou : Nat → Int64} {ud lo up : Nat → Int32} {am cr mk cd : Nat → Int64}
theorem tl_am0 (h1 : tl_I1 T L H A ud lo up am) {i : Nat} : am i = 0 ↔ A i = 0 := by
  obtain ⟨-, -, a3, -, -, a6, -⟩ := h1 i
  rw [a3]
  exact pk_lEQ (b := 0) (by omega) (by omega)
theorem tl_cn_cd {k i t : Nat} (h4 : tl_I4 S c L H A gr ou cr mk cd) (hi : i < S) (ht : t < 2) : tl_cn L H A c gr ou cr mk i t = cd (2 * i + t) := (h4 i hi t ht).symm
end
theorem tl_bcb {k : Nat} (hk : k + 4 ≤ 2052) : tl_bc k < 2 ^ 60 := by
  unfold tl_bc
  omega
theorem i_vc_close {k : Nat} {u : SX} {v : SY} (I : i_Rel k u v) (hk : k + 4 ≤ 2052) (v1 : Int32) : wpX_close (fun r u' => wpY_close (fun r' v' => r' = r ∧ i_Rel (k + 4) u' v') v v1) u v1 := by
  refine I (fun u v => wpX_close (fun r u' => wpY_close (fun r' v' => r' = r ∧ i_Rel (k + 4) u' v') v v1) u v1) ?_
  intro T S F C c L H A iF lb rs tt hd re gr pr us ne ou ud lo up am cr mk cd i0 i1 i2 i3 i4 i5
  have rel := tl_mk (rs := rs) (tt := tt) (hd := hd) i0 i1 i2 i3 i4 (tl_I5_up i5)
  have i0' := i0
  obtain ⟨-, hT, -, hS, -⟩ := i0'
  unfold wpX_close
  rcases tl_slot S hS ud v1 with ⟨i, hi, rfl, hu⟩ | hb
  · have ci : (nI i).toNatClampNeg = i := nI_clamp (by omega)
    have c0 : (nI (2 * i)).toNatClampNeg = 2 * i := nI_clamp (by omega)
    have c1 : (nI (2 * i + 1)).toNatClampNeg = 2 * i + 1 := nI_clamp (by omega)
    have vi : vp_in (nI i) 16 := vp_in_nI (by omega) (by omega)
    have w0 : vp_in (nI (2 * i)) 32 := vp_in_nI (by omega) (by omega)
    have w1 : vp_in (nI (2 * i + 1)) 32 := vp_in_nI (by omega) (by omega)
    refine tl_xslot1 hS hi hu (br_f tl_i10 (nm_r (tl_ix0 i) ?_))
    rw [ci, nI_1, c0, c1]
    by_cases ha : A i = 0
    · have ham : am i = 0 := (tl_am0 i1).mpr ha
      have e : ∀ t, t < 2 → cr (2 * i + t) = cd (2 * i + t) := by
        intro t ht
        have h := i4 i hi t ht
        rw [ha, show lN 0 = 0 from rfl, Int64.mul_zero, Int64.add_zero] at h
        exact h.symm
      have e0 : cr (2 * i) = cd (2 * i) := e 0 (by omega)
      have e1 : cr (2 * i + 1) = cd (2 * i + 1) := e 1 (by omega)
      rw [e0, e1]
      refine ⟨vi, br_t ham ⟨w0, ?_⟩⟩
      by_cases g0 : 1048576 ≤ cd (2 * i)
      · refine br_t g0 ?_
        unfold wpY_close
        refine tl_yslot1 hS hi hu (br_t rfl ?_)
        rw [tl_ix0, nI_1, ci, c0, c1]
        exact ⟨vi, br_t ham ⟨w0, br_t g0 ⟨rfl, rel⟩⟩⟩
      · by_cases g1 : cd (2 * i + 1) < 1048576
        · have rel2 : i_Rel (k + 4) (nI T, nI S, nI F, lN C, nI c, iF, lb, rs, tt, hd, vp_updL (vp_updL re 0 (re 0 + cd (2 * i))) 1 ((vp_updL re 0 (re 0 + cd (2 * i))) 1 + cd (2 * i + 1)), gr, pr, us, ne, ou, upd ud i (vp_nar .boolean 0), lo, up, am, cr, mk) (nI T, nI S, nI F, lN C, hd, vp_updL (vp_updL re 0 (re 0 + cd (2 * i))) 1 ((vp_updL re 0 (re 0 + cd (2 * i))) 1 + cd (2 * i + 1)), upd ud i (vp_nar .boolean 0), lo, up, am, cd) := by
            refine tl_mk i0 ?_ i2 i3 i4 ⟨(tl_I5_up i5).1, ?_⟩
            · intro j
              obtain ⟨a1, a2, a3, a4, a5, a6, a7, a8⟩ := i1 j
              by_cases z : j = i
              · subst z
                rw [pk_us]
                exact ⟨a1, a2, a3, a4, a5, a6, fun y => absurd rfl y, fun y => absurd ha y⟩
              · rw [pk_un z]
                exact ⟨a1, a2, a3, a4, a5, a6, a7, a8⟩
            · have hbk := tl_bcb hk
              have sm : ∀ j, ¬ 1048576 ≤ cd j → ∃ n : Nat, cd j = lN n ∧ n < 1048576 := by
                intro j hj
                obtain ⟨n, en, hn⟩ := i5.1 j
                refine ⟨n, en, ?_⟩
                rw [en] at hj
                rcases Nat.lt_or_ge n 1048576 with y | y
                · exact y
                · exact absurd ((pk_lLE (a := 1048576) (by omega) (by omega)).mpr y) hj
              have up1 : ∀ (f : Nat → Int64) (j m : Nat) (x : Int64), tl_B (f m) (tl_br k) → ¬ 1048576 ≤ cd j → tl_B (f m + cd j) (tl_br (k + 4)) := by
                intro f j m x hf hj
                obtain ⟨n, en, hn⟩ := sm j hj
                obtain ⟨p, ep, hp⟩ := hf
                refine ⟨p + n, by rw [en, ep, lN_add], ?_⟩
                unfold tl_br at hp ⊢
                omega
              have r5 := (tl_I5_up i5).2
              have b0 := up1 re (2 * i) 0 0 (i5.2 0) g0
              have g1' : ¬ 1048576 ≤ cd (2 * i + 1) := Int64.not_le.mpr g1
              have b1 := up1 re (2 * i + 1) 1 0 (i5.2 1) g1'
              refine tl_B_up (tl_B_up r5 b0) ?_
              rw [pk_uLn (by decide)]
              exact b1
          refine br_f g0 ⟨w1, br_t g1 ⟨w0, nm_e ⟨w1, nm_e ⟨vi, nm_e ?_⟩⟩⟩⟩
          unfold wpY_close
          refine tl_yslot1 hS hi hu (br_t rfl ?_)
          rw [tl_ix0, nI_1, ci, c0, c1]
          exact ⟨vi, br_t ham ⟨w0, br_f g0 ⟨w1, br_t g1 ⟨w0, nm_e ⟨w1, nm_e ⟨vi, nm_e ⟨rfl, rel2⟩⟩⟩⟩⟩⟩⟩
        · refine br_f g0 ⟨w1, br_f g1 ?_⟩
          unfold wpY_close
          refine tl_yslot1 hS hi hu (br_t rfl ?_)
          rw [tl_ix0, nI_1, ci, c0, c1]
          exact ⟨vi, br_t ham ⟨w0, br_f g0 ⟨w1, br_f g1 ⟨rfl, rel⟩⟩⟩⟩
    · have ham : ¬ am i = 0 := fun z => ha ((tl_am0 i1).mp z)
      refine ⟨vi, br_f ham ?_⟩
      unfold wpY_close
      refine tl_yslot1 hS hi hu (br_t rfl ?_)
      rw [ci]
      exact ⟨vi, br_f ham ⟨rfl, rel⟩⟩
  · refine tl_xslot0 hS hb (br_t rfl ?_)
    unfold wpY_close
    exact tl_yslot0 hS hb (br_f tl_i10 ⟨rfl, rel⟩)
theorem tl_upd_id {f : Nat → Int64} {j : Nat} {x : Int64} (h : x = f j) : vp_updL f j x = f := by
  funext m
  by_cases e : m = j
  · subst e
    rw [pk_uLs, h]
  · rw [pk_uLn e]
theorem i_vc_collect {k : Nat} {u : SX} {v : SY} (I : i_Rel k u v) (hk : k + 4 ≤ 2052) (v1 : Int32) (v2 : Int32) : wpX_collect (fun r u' => wpY_collect (fun r' v' => r' = r ∧ i_Rel (k + 4) u' v') v v1 v2) u v1 v2 := by
  refine I (fun u v => wpX_collect (fun r u' => wpY_collect (fun r' v' => r' = r ∧ i_Rel (k + 4) u' v') v v1 v2) u v1 v2) ?_
  intro T S F C c L H A iF lb rs tt hd re gr pr us ne ou ud lo up am cr mk cd i0 i1 i2 i3 i4 i5
  have rel := tl_mk (rs := rs) (tt := tt) (hd := hd) i0 i1 i2 i3 i4 (tl_I5_up i5)
  have i0' := i0
  obtain ⟨-, hT, -, hS, -⟩ := i0'
  obtain ⟨-, hc, -⟩ := id i3
  unfold wpX_collect
  rcases tl_slot S hS ud v1 with ⟨i, hi, rfl, hu⟩ | hb
  · rcases tl_tok v2 with ⟨t, ht, rfl⟩ | hn
    · have ci : (nI i).toNatClampNeg = i := nI_clamp (by omega)
      have ct : (nI t).toNatClampNeg = t := nI_clamp (by omega)
      have cj : (nI (2 * i + t)).toNatClampNeg = 2 * i + t := nI_clamp (by omega)
      have vt : vp_in (nI t) 2 := vp_in_nI (by omega) (by omega)
      have vj : vp_in (nI (2 * i + t)) 32 := vp_in_nI (by omega) (by omega)
      have hbk := tl_bcb hk
      obtain ⟨n, en, hn⟩ := i5.1 (2 * i + t)
      have eq : cd (2 * i + t) / 1048576 = lN (n / 1048576) := by
        rw [en]
        exact pk_lDiv (b := 1048576) (by omega) (by omega) (by omega)
      have ecr : tl_two cr i (tl_cn L H A c gr ou cr mk i 0) (tl_cn L H A c gr ou cr mk i 1) (2 * i + t) = cd (2 * i + t) := by
        rw [tl_two_t (g := fun t => tl_cn L H A c gr ou cr mk i t) t ht]
        exact tl_cn_cd (k := 0) i4 hi ht
      have rel2 : i_Rel (k + 4) (nI T, nI S, nI F, lN C, nI c, iF, lb, rs, tt, vp_updL hd t (hd t - lN (n / 1048576)), re, gr, pr, us, ne, ou, ud, lo, up, am, vp_updL (tl_two cr i (tl_cn L H A c gr ou cr mk i 0) (tl_cn L H A c gr ou cr mk i 1)) (2 * i + t) (cd (2 * i + t) - lN (n / 1048576) * 1048576), tl_two mk i (tl_ins L H c gr ou i 0) (tl_ins L H c gr ou i 1)) (nI T, nI S, nI F, lN C, vp_updL hd t (hd t - lN (n / 1048576)), re, ud, lo, up, am, vp_updL cd (2 * i + t) (cd (2 * i + t) - lN (n / 1048576) * 1048576)) := by
        refine tl_mk i0 i1 i2 i3 (tl_I4_set (i := i) i4 ?_ ?_ ?_) ⟨tl_B_up (tl_I5_up i5).1 ?_, (tl_I5_up i5).2⟩
        · intro s hs
          by_cases e : s = t
          · subst e
            rw [pk_uLs, pk_uLs]
          · rw [pk_uLn (by omega), pk_uLn (by omega), tl_two_t (g := fun t => tl_cn L H A c gr ou cr mk i t) s hs]
            exact tl_cn_cd (k := 0) i4 hi hs
        · intro s hs
          exact tl_two_t (g := fun t => tl_ins L H c gr ou i t) s hs
        · intro j hj hji
          refine ⟨rfl, fun s hs => ⟨?_, ?_, ?_, fun _ => rfl⟩⟩
          · rw [pk_uLn (by omega)]
          · rw [pk_uLn (by omega), tl_two_n (by omega) (by omega)]
          · rw [tl_two_n (by omega) (by omega)]
        · refine ⟨n - n / 1048576 * 1048576, ?_, ?_⟩
          · rw [en, show (1048576 : Int64) = lN 1048576 from rfl, lN_mul, lN_sub (Nat.div_mul_le_self n 1048576)]
          · unfold tl_bc at hn ⊢
            omega
      refine tl_xslot1 hS hi hu (br_f tl_i10 (tl_xtok1 ht (br_f tl_i10 (tl_xsettle i1 hT (by omega) (by omega) (nm_r (tl_ix i t) ?_)))))
      dsimp only
      rw [cj, ct, ecr, eq]
      refine ⟨vj, tl_n20, nm_e ⟨vj, vj, nm_e ⟨vt, vt, nm_e ?_⟩⟩⟩
      unfold wpY_collect wpY_due
      refine tl_yslot1 hS hi hu (br_t rfl (tl_ytok1 ht (br_t rfl ?_)))
      dsimp only
      rw [tl_ix, cj, ct, eq]
      refine ⟨vj, tl_n20, ?_⟩
      by_cases z : n / 1048576 = 0
      · have nz : ¬ (0 : Int64) < lN (n / 1048576) := fun y => by
          have := (pk_lLT (a := 0) (by omega) (by omega)).mp y
          omega
        have e1 : vp_updL hd t (hd t - lN (n / 1048576)) = hd := tl_upd_id (by rw [z]; exact Int64.sub_zero _)
        have e2 : vp_updL cd (2 * i + t) (cd (2 * i + t) - lN (n / 1048576) * 1048576) = cd := tl_upd_id (by rw [z, show lN 0 = 0 from rfl, Int64.zero_mul, Int64.sub_zero])
        rw [e1, e2] at rel2
        rw [e1]
        exact br_f nz ⟨rfl, rel2⟩
      · have nz : (0 : Int64) < lN (n / 1048576) := (pk_lLT (a := 0) (by omega) (by omega)).mpr (by omega)
        exact br_t nz ⟨vj, vj, nm_e ⟨vt, vt, nm_e ⟨rfl, rel2⟩⟩⟩
    · refine tl_xslot1 hS hi hu (br_f tl_i10 (tl_xtok0 hn (br_t rfl ?_)))
      unfold wpY_collect wpY_due
      refine tl_yslot1 hS hi hu (br_t rfl (tl_ytok0 hn (br_f tl_i10 ?_)))
      exact br_f (by decide) ⟨rfl, rel⟩
  · refine tl_xslot0 hS hb (br_t rfl ?_)
    unfold wpY_collect wpY_due
    refine tl_yslot0 hS hb (br_f tl_i10 ?_)
    exact br_f (by decide) ⟨rfl, rel⟩
end
section
/-! a slot's amount changes: the facets -/
section
variable {T S F C c : Nat} {L H A : Nat → Nat} {iF lb rs tt : Int64} {hd re gr pr : Nat → Int64} {us : Nat → Int32} {ne ou : Nat → Int64} {ud lo up : Nat → Int32} {am cr mk cd : Nat → Int64}
theorem tl_I1_ch {i x : Nat} {y : Int64} (h1 : tl_I1 T L H A ud lo up am) (hx : x ≤ 1000000) (hu : ud i ≠ 0) (e : y = lN x) : tl_I1 T L H (tl_up A i x) ud lo up (vp_updL am i y) := by
  intro j
  obtain ⟨a1, a2, a3, a4, a5, a6, a7, a8⟩ := h1 j
  by_cases z : j = i
  · subst z
    rw [pk_uLs, tl_up_s]
    exact ⟨a1, a2, e, a4, a5, hx, a7, fun _ => hu⟩
  · rw [pk_uLn z, tl_up_n z]
    exact ⟨a1, a2, a3, a4, a5, a6, a7, a8⟩
theorem tl_I3_ch {i x : Nat} {ch : Int64} (h3 : tl_I3 T S C c L H A pr iF) (hi : i < S) (hx : lN x = lN (A i) + ch) : tl_I3 T S C c L H (tl_up A i x) pr (if L i ≤ c ∧ c < H i then iF + ch else iF) := by
  obtain ⟨p1, p2, p3, p4, p5⟩ := h3
  refine ⟨p1, p2, p3, p4, ?_⟩
  rw [tl_In_ch hi hx, ← p5]
  by_cases z : L i ≤ c ∧ c < H i
  · rw [if_pos z, if_pos z]
  · rw [if_neg z, if_neg z, Int64.add_zero]
theorem tl_mint_rel1 {k i a : Nat} (i0 : tl_I0 T S F) (i1 : tl_I1 T L H A ud lo up am) (i2 : tl_I2 S L H A us ne lb) (i3 : tl_I3 T S C c L H A pr iF) (i4 : tl_I4 S c L H A gr ou cr mk cd) (i5 : tl_I5 (tl_bc k) (tl_br k) cd re)
    (hi : i < S) (hu : ud i ≠ 0) (ha : A i ≠ 0) (hm : A i + a ≤ 1000000) :
    i_Rel (k + 4) (nI T, nI S, nI F, lN C, nI c, if L i ≤ c ∧ c < H i then iF + lN a else iF, lb, rs, tt, hd, re, gr, pr, us, tl_chn ne (L i) (H i) (lN a), ou, ud, lo, up, vp_updL am i (am i + lN a), tl_two cr i (tl_cn L H A c gr ou cr mk i 0) (tl_cn L H A c gr ou cr mk i 1), tl_two mk i (tl_ins L H c gr ou i 0) (tl_ins L H c gr ou i 1)) (nI T, nI S, nI F, lN C, hd, re, ud, lo, up, vp_updL am i (am i + lN a), cd) := by
  have hx : lN (A i + a) = lN (A i) + lN a := (lN_add _ _).symm
  have hLH := (i1 i).2.2.2.2.2.2.1 hu
  obtain ⟨-, -, -, hS, -⟩ := id i0
  refine tl_mk (A := tl_up A i (A i + a)) i0 (tl_I1_ch i1 hm hu (by rw [(i1 i).2.2.1, hx])) (tl_I2_of ?_ (tl_chn_n hi hx (by omega) (fun t => (i2 t).2.1))) (tl_I3_ch i3 hi hx) (tl_I4_set (i := i) i4 ?_ ?_ ?_) (tl_I5_up i5)
  · have e : (fun t => tl_U L H (tl_up A i (A i + a)) S t) = fun t => tl_U L H A S t := by
      funext t
      refine tl_U_same (fun j => ?_)
      by_cases z : j = i
      · subst z
        rw [tl_up_s]
        omega
      · rw [tl_up_n z]
    rw [e]
    exact tl_UV_of hS i2
  · intro t ht
    rw [tl_two_t (g := fun t => tl_cn L H A c gr ou cr mk i t) t ht]
    exact tl_cn_cd (k := 0) i4 hi ht
  · intro t ht
    exact tl_two_t (g := fun t => tl_ins L H c gr ou i t) t ht
  · intro j hj hji
    exact ⟨tl_up_n hji, fun s hs => ⟨rfl, tl_two_n (by omega) (by omega), tl_two_n (by omega) (by omega), fun _ => rfl⟩⟩
theorem tl_mint_rel0 {k i a : Nat} {us1 : Nat → Int32} {ou2 : Nat → Int64} (e1 : us1 = upd us (L i) (us (L i) + 1)) (e2 : ou2 = tl_aou us1 c gr (tl_aou us c gr ou (L i)) (H i))
    (i0 : tl_I0 T S F) (i1 : tl_I1 T L H A ud lo up am) (i2 : tl_I2 S L H A us ne lb) (i3 : tl_I3 T S C c L H A pr iF) (i4 : tl_I4 S c L H A gr ou cr mk cd) (i5 : tl_I5 (tl_bc k) (tl_br k) cd re)
    (hi : i < S) (hu : ud i ≠ 0) (ha : A i = 0) (h0 : a ≠ 0) (hm : A i + a ≤ 1000000) :
    i_Rel (k + 4) (nI T, nI S, nI F, lN C, nI c, if L i ≤ c ∧ c < H i then iF + lN a else iF, tl_alb us1 (tl_alb us lb (L i)) (H i), rs, tt, hd, re, gr, pr, upd us1 (H i) (us1 (H i) + 1), tl_chn ne (L i) (H i) (lN a), ou2, ud, lo, up, vp_updL am i (am i + lN a), tl_two cr i (tl_cn L H A c gr ou cr mk i 0) (tl_cn L H A c gr ou cr mk i 1), tl_two (tl_two mk i (tl_ins L H c gr ou i 0) (tl_ins L H c gr ou i 1)) i (tl_ins L H c gr ou2 i 0) (tl_ins L H c gr ou2 i 1)) (nI T, nI S, nI F, lN C, hd, re, ud, lo, up, vp_updL am i (am i + lN a), cd) := by
  have hx : lN (A i + a) = lN (A i) + lN a := (lN_add _ _).symm
  have hLH := (i1 i).2.2.2.2.2.2.1 hu
  obtain ⟨-, hT, -, hS, -⟩ := id i0
  have hL := (i1 i).2.2.2.1
  have hH := (i1 i).2.2.2.2.1
  have V0 := tl_UV_of hS i2
  have bd : ∀ A' s, tl_U L H A' S s ≤ S * 2 := fun A' s => tl_U_bd
  have V1 : tl_UV (fun s => tl_U L H A S s + (if L i = s then 1 else 0)) us1 (tl_alb us lb (L i)) := by
    rw [e1]
    refine tl_UV_att (by omega) V0 (fun s => rfl) (fun s => ?_)
    have := bd A s
    try dsimp only
    split <;> omega
  have V2 : tl_UV (fun s => tl_U L H (tl_up A i (A i + a)) S s) (upd us1 (H i) (us1 (H i) + 1)) (tl_alb us1 (tl_alb us lb (L i)) (H i)) := by
    refine tl_UV_att (by omega) V1 (fun s => ?_) (fun s => ?_)
    · try dsimp only
      rw [tl_U_add hi ha (by omega), Nat.add_assoc]
    · have := bd (tl_up A i (A i + a)) s
      try dsimp only
      omega
  refine tl_mk (A := tl_up A i (A i + a)) i0 (tl_I1_ch i1 hm hu (by rw [(i1 i).2.2.1, hx])) (tl_I2_of V2 (tl_chn_n hi hx (by omega) (fun t => (i2 t).2.1))) (tl_I3_ch i3 hi hx) (tl_I4_set (i := i) i4 ?_ ?_ ?_) (tl_I5_up i5)
  · intro t ht
    rw [tl_two_t (g := fun t => tl_cn L H A c gr ou cr mk i t) t ht]
    exact tl_cn_cd (k := 0) i4 hi ht
  · intro t ht
    exact tl_two_t (g := fun t => tl_ins L H c gr ou2 i t) t ht
  · intro j hj hji
    refine ⟨tl_up_n hji, fun s hs => ⟨rfl, tl_two_n (by omega) (by omega), ?_, fun hA => ?_⟩⟩
    · rw [tl_two_n (by omega) (by omega), tl_two_n (by omega) (by omega)]
    · have keep : ∀ m, 0 < tl_U L H A S m → ou2 (2 * m + s) = ou (2 * m + s) := by
        intro m hm0
        rw [e2, tl_aou_keep V1 (Nat.add_pos_left hm0 _) hs, tl_aou_keep V0 hm0 hs]
      unfold tl_ins
      rw [tl_be_ou (keep (H j) (tl_U_pos hj hA (Or.inr rfl))), tl_be_ou (keep (L j) (tl_U_pos hj hA (Or.inl rfl)))]
def tl_add2 (f : Nat → Int64) (i : Nat) (x y : Int64) : Nat → Int64 := vp_updL (vp_updL f (2 * i) (f (2 * i) + x)) (2 * i + 1) ((vp_updL f (2 * i) (f (2 * i) + x)) (2 * i + 1) + y)
theorem tl_add2_0 {f : Nat → Int64} {i : Nat} {x y : Int64} : tl_add2 f i x y (2 * i) = f (2 * i) + x := by
  unfold tl_add2
  rw [pk_uLn (by omega), pk_uLs]
theorem tl_add2_1 {f : Nat → Int64} {i : Nat} {x y : Int64} : tl_add2 f i x y (2 * i + 1) = f (2 * i + 1) + y := by
  unfold tl_add2
  rw [pk_uLs, pk_uLn (by omega)]
theorem tl_add2_n {f : Nat → Int64} {i j : Nat} {x y : Int64} (h0 : j ≠ 2 * i) (h1 : j ≠ 2 * i + 1) : tl_add2 f i x y j = f j := by
  unfold tl_add2
  rw [pk_uLn h1, pk_uLn h0]
theorem tl_add2_e {f g : Nat → Int64} {i : Nat} {x y : Int64} (h : ∀ t, t < 2 → f (2 * i + t) = g (2 * i + t)) : ∀ t, t < 2 → tl_add2 f i x y (2 * i + t) = tl_add2 g i x y (2 * i + t) := by
  intro t ht
  rcases tl_tok2 ht with rfl | rfl
  · rw [Nat.add_zero, tl_add2_0, tl_add2_0]
    exact congrArg (· + x) (h 0 (by omega))
  · rw [tl_add2_1, tl_add2_1, h 1 (by omega)]
theorem tl_neg {x a : Nat} (hx : x ≤ 1000000) (ha : a ≤ x) : lN (x - a) = lN x + (-(nI a)).toInt64 := by
  apply Int64.toInt_inj.mp
  rw [Int64.toInt_add, Int32.toInt_toInt64, sb_negT (by omega), pk_lT (by omega), pk_lT (by omega), Int.bmod_eq_of_le (by omega) (by omega)]
  omega
/-- what a liquidity x stands for is at most eight times x -/
theorem tl_sv_b {k l h x : Nat} (hk : k < 2) (hlh : l ≤ h) (hh : h ≤ 32) (hC : C ≤ 456014) (hx : x ≤ 1000000) : tl_B (tl_sv k (lN (tl_R l)) (lN (tl_R h)) (tl_md (lN (tl_R l)) (lN (tl_R h)) (lN C)) (lN x) 0) (8 * x) := by
  have a1 := tl_R_ge l
  have a2 := tl_R_le hlh
  have a3 := tl_R_b hh
  generalize tl_R l = p at a1 a2 ⊢
  generalize tl_R h = q at a2 a3 ⊢
  have hm : ∃ m : Nat, tl_md (lN p) (lN q) (lN C) = lN m ∧ p ≤ m ∧ m ≤ q := by
    unfold tl_md
    by_cases q1 : lN p ≤ lN C
    · rw [if_pos q1]
      have q1' := (pk_lLE (by omega) (by omega)).mp q1
      by_cases q2 : lN C ≤ lN q
      · rw [if_pos q2]
        have q2' := (pk_lLE (by omega) (by omega)).mp q2
        exact ⟨C, rfl, q1', q2'⟩
      · rw [if_neg q2]
        exact ⟨q, rfl, a2, Nat.le_refl _⟩
    · rw [if_neg q1]
      exact ⟨p, rfl, Nat.le_refl _, a2⟩
  obtain ⟨m, em, m1, m2⟩ := hm
  rw [em]
  unfold tl_sv
  rcases tl_tok2 hk with rfl | rfl
  · have b1 : (x * 65536) * (q - m) ≤ (1000000 * 65536) * 456014 := Nat.mul_le_mul (Nat.mul_le_mul_right _ hx) (by omega)
    have b2 : m * q ≤ 456014 * 456014 := Nat.mul_le_mul (by omega) a3
    have b3 : 0 < m * q := Nat.mul_pos (by omega) (by omega)
    have b4 : (x * 65536) * (q - m) ≤ (m * q) * x := by
      rw [Nat.mul_comm (m * q) x, Nat.mul_assoc]
      exact Nat.mul_le_mul_left x (Nat.mul_le_mul (by omega) (by omega))
    rw [if_pos rfl, lN_sub m2, show (65536 : Int64) = lN 65536 from rfl, lN_mul, lN_mul, lN_mul, tl_rt0 (by omega) b3 (by omega)]
    refine ⟨_, rfl, ?_⟩
    have := Nat.div_le_of_le_mul b4
    omega
  · have b1 : x * (m - p) ≤ x * 456014 := Nat.mul_le_mul_left x (by omega)
    rw [if_neg (by decide), lN_sub m1, lN_mul, show (65536 : Int64) = lN 65536 from rfl, tl_rt0 (by omega) (by omega) (by omega)]
    refine ⟨_, rfl, ?_⟩
    omega
theorem tl_burn_I5 {k i x : Nat} {v w : Int64} (hx : x ≤ 1000000) (hv : tl_B v (8 * x)) (hw : tl_B w (8 * x)) (i5 : tl_I5 (tl_bc k) (tl_br k) cd re) : tl_I5 (tl_bc (k + 4)) (tl_br (k + 4)) (tl_add2 cd i (v * 1048576) (w * 1048576)) re := by
  refine ⟨fun j => ?_, (tl_I5_up i5).2⟩
  have st : ∀ (z : Int64) (m : Nat), tl_B z (8 * x) → tl_B (cd m + z * 1048576) (tl_bc (k + 4)) := by
    intro z m hz
    obtain ⟨n, en, hn⟩ := hz
    obtain ⟨p, ep, hp⟩ := i5.1 m
    refine ⟨p + n * 1048576, by rw [en, ep, show (1048576 : Int64) = lN 1048576 from rfl, lN_mul, lN_add], ?_⟩
    unfold tl_bc at hp ⊢
    omega
  by_cases e0 : j = 2 * i
  · subst e0
    rw [tl_add2_0]
    exact st v _ hv
  · by_cases e1 : j = 2 * i + 1
    · subst e1
      rw [tl_add2_1]
      exact st w _ hw
    · rw [tl_add2_n e0 e1]
      exact (tl_I5_up i5).1 j
/-- burn: what both branches share -/
theorem tl_burn_I4 {i a : Nat} {v w : Int64} (i4 : tl_I4 S c L H A gr ou cr mk cd) (hi : i < S) : tl_I4 S c L H (tl_up A i (A i - a)) gr ou (tl_add2 (tl_two cr i (tl_cn L H A c gr ou cr mk i 0) (tl_cn L H A c gr ou cr mk i 1)) i v w) (tl_two mk i (tl_ins L H c gr ou i 0) (tl_ins L H c gr ou i 1)) (tl_add2 cd i v w) := by
  refine tl_I4_set (i := i) i4 ?_ ?_ ?_
  · refine tl_add2_e (fun t ht => ?_)
    rw [tl_two_t (g := fun t => tl_cn L H A c gr ou cr mk i t) t ht]
    exact tl_cn_cd (k := 0) i4 hi ht
  · intro t ht
    exact tl_two_t (g := fun t => tl_ins L H c gr ou i t) t ht
  · intro j hj hji
    refine ⟨tl_up_n hji, fun s hs => ⟨tl_add2_n (by omega) (by omega), ?_, tl_two_n (by omega) (by omega), fun _ => rfl⟩⟩
    rw [tl_add2_n (by omega) (by omega), tl_two_n (by omega) (by omega)]
theorem tl_burn_UV1 {i a : Nat} (hS : S ≤ 16) (i2 : tl_I2 S L H A us ne lb) (hi : i < S) (ha : A i - a ≠ 0) : tl_UV (fun t => tl_U L H (tl_up A i (A i - a)) S t) us lb := by
  have e : (fun t => tl_U L H (tl_up A i (A i - a)) S t) = fun t => tl_U L H A S t := by
    funext t
    refine tl_U_same (fun j => ?_)
    by_cases z : j = i
    · subst z
      rw [tl_up_s]
      omega
    · rw [tl_up_n z]
  rw [e]
  exact tl_UV_of hS i2
theorem tl_burn_UV0 {i a : Nat} {us1 : Nat → Int32} (e1 : us1 = upd us (L i) (us (L i) - 1)) (hS : S ≤ 16) (hl : L i ≤ 32) (hh : H i ≤ 32) (i2 : tl_I2 S L H A us ne lb) (hi : i < S) (h0 : A i ≠ 0) (ha : A i - a = 0) : tl_UV (fun t => tl_U L H (tl_up A i (A i - a)) S t) (upd us1 (H i) (us1 (H i) - 1)) (tl_dlb us1 (tl_dlb us lb (L i)) (H i)) := by
  have V0 := tl_UV_of hS i2
  have V1 : tl_UV (fun s => tl_U L H (tl_up A i (A i - a)) S s + (if H i = s then 1 else 0)) us1 (tl_dlb us lb (L i)) := by
    rw [e1]
    refine tl_UV_det (by omega) V0 (fun s => ?_)
    have h := tl_U_sub (L := L) (H := H) (A := A) (S := S) (t := s) hi h0
    try dsimp only
    rw [ha, ← h]
    omega
  exact tl_UV_det (by omega) V1 (fun s => rfl)
end
end
section
/-! mint and burn -/
theorem tl_ge1 {v : Int32} (h : ¬ v < 1) : ∃ a : Nat, a < 2 ^ 31 ∧ v = nI a ∧ 1 ≤ a := by
  have h0 : ¬ v < 0 := by
    intro z
    apply h
    rw [Int32.lt_iff_toInt_lt] at z ⊢
    have e0 : (0 : Int32).toInt = 0 := by decide
    have e1 : (1 : Int32).toInt = 1 := by decide
    omega
  obtain ⟨a, ha, rfl⟩ := nI_of h0
  refine ⟨a, ha, rfl, ?_⟩
  rcases Nat.eq_zero_or_pos a with z | z
  · subst z
    exact absurd (by decide) h
  · exact z
section
variable {T S F C c : Nat} {L H A : Nat → Nat} {iF lb rs tt : Int64} {hd re gr pr : Nat → Int64} {us : Nat → Int32} {ne ou : Nat → Int64} {ud lo up : Nat → Int32} {am cr mk cd : Nat → Int64}
theorem tl_xm160 {i a : Nat} (h1 : tl_I1 T L H A ud lo up am) (hT : T ≤ 32) (hc : c < 2 ^ 31) (hi : i < 16) (ha : a < 2 ^ 31) {post : Int32 → SX → Prop}
    (h : post 0 (nI T, nI S, nI F, lN C, nI c, if L i ≤ c ∧ c < H i then iF + lN a else iF, lb, rs, tt, hd, re, gr, pr, us, tl_chn ne (L i) (H i) (lN a), ou, ud, lo, up, vp_updL am i (am i + lN a), cr, mk)) : wX_mint_160 post (nI i) (nI a) (nI T) (nI S) (nI F) (lN C) (nI c) iF lb rs tt hd re gr pr us ne ou ud lo up am cr mk := by
  unfold wX_mint_160
  rw [nI_l ha]
  exact tl_xchg h1 hT hc hi h
end
theorem i_vc_mint {k : Nat} {u : SX} {v : SY} (I : i_Rel k u v) (hk : k + 4 ≤ 2052) (v1 : Int32) (v2 : Int32) : wpX_mint (fun r u' => wpY_mint (fun r' v' => r' = r ∧ i_Rel (k + 4) u' v') v v1 v2) u v1 v2 := by
  refine I (fun u v => wpX_mint (fun r u' => wpY_mint (fun r' v' => r' = r ∧ i_Rel (k + 4) u' v') v v1 v2) u v1 v2) ?_
  intro T S F C c L H A iF lb rs tt hd re gr pr us ne ou ud lo up am cr mk cd i0 i1 i2 i3 i4 i5
  have rel := tl_mk (rs := rs) (tt := tt) (hd := hd) i0 i1 i2 i3 i4 (tl_I5_up i5)
  obtain ⟨-, hT, -, hS, -⟩ := id i0
  obtain ⟨hp, hc, -⟩ := id i3
  unfold wpX_mint
  rcases tl_slot S hS ud v1 with ⟨i, hi, rfl, hu⟩ | hb
  · have ci : (nI i).toNatClampNeg = i := nI_clamp (by omega)
    have vi : vp_in (nI i) 16 := vp_in_nI (by omega) (by omega)
    have hc31 : c < 2 ^ 31 := by omega
    have hi16 : i < 16 := by omega
    have hLH := (i1 i).2.2.2.2.2.2.1 hu
    have eam := (i1 i).2.2.1
    have hAb := (i1 i).2.2.2.2.2.1
    refine tl_xslot1 hS hi hu (br_f tl_i10 ?_)
    by_cases q1 : v2 < 1
    · refine br_t q1 ?_
      unfold wpY_mint
      exact tl_yslot1 hS hi hu (br_t rfl (br_t q1 ⟨rfl, rel⟩))
    · obtain ⟨a, ha31, rfl, ha1⟩ := tl_ge1 q1
      refine br_f q1 ?_
      by_cases q2 : 1000000 < (nI a).toInt64
      · refine br_t q2 ?_
        unfold wpY_mint
        exact tl_yslot1 hS hi hu (br_t rfl (br_f q1 (br_t q2 ⟨rfl, rel⟩)))
      · by_cases q3 : am (nI i).toNatClampNeg + (nI a).toInt64 ≤ 1000000
        · have q2' : ¬ 1000000 < a := by
            intro z
            apply q2
            rw [nI_l ha31]
            exact (pk_lLT (a := 1000000) (by omega) (by omega)).mpr z
          have q3' : A i + a ≤ 1000000 := by
            have z := q3
            rw [ci, eam, nI_l ha31, lN_add] at z
            exact (pk_lLE (b := 1000000) (by omega) (by omega)).mp z
          refine br_f q2 ⟨vi, br_t q3 (tl_xstk i1 hp hT hi16 (k := 0) (by omega) (by omega) (tl_xstk i1 hp hT hi16 (k := 1) (by omega) (by omega) ?_))⟩
          rw [nI_l ha31]
          generalize ex : tl_sv 0 (lN (tl_R (L i))) (lN (tl_R (H i))) (tl_md (lN (tl_R (L i))) (lN (tl_R (H i))) (lN C)) (lN a) 1 = x
          generalize ey : tl_sv 1 (lN (tl_R (L i))) (lN (tl_R (H i))) (tl_md (lN (tl_R (L i))) (lN (tl_R (H i))) (lN C)) (lN a) 1 = y
          have Y : ∀ post : Int32 → SY → Prop, ((20000000 < hd 0 + x → post (-8) (nI T, nI S, nI F, lN C, hd, re, ud, lo, up, am, cd)) ∧ (¬ 20000000 < hd 0 + x → ((hd 1 + y ≤ 20000000 → post 0 (nI T, nI S, nI F, lN C, vp_updL (vp_updL hd 0 (hd 0 + x)) 1 ((vp_updL hd 0 (hd 0 + x)) 1 + y), re, ud, lo, up, vp_updL am i (am i + lN a), cd)) ∧ (¬ hd 1 + y ≤ 20000000 → post (-8) (nI T, nI S, nI F, lN C, hd, re, ud, lo, up, am, cd))))) → wpY_mint post (nI T, nI S, nI F, lN C, hd, re, ud, lo, up, am, cd) (nI i) (nI a) := by
            intro post h
            unfold wpY_mint
            refine tl_yslot1 hS hi hu (br_t rfl (br_f q1 (br_f q2 ⟨vi, br_t q3 (tl_yshr i1 hT hi16 (k := 0) (by omega) (tl_yshr i1 hT hi16 (k := 1) (by omega) ?_))⟩)))
            rw [nI_l ha31, ex, ey, ci]
            exact ⟨h.1, fun z => ⟨fun z2 => nm_e (nm_e ⟨vi, vi, nm_e ((h.2 z).1 z2)⟩), (h.2 z).2⟩⟩
          by_cases q4 : 20000000 < hd 0 + x
          · exact br_t q4 (Y _ (br_t q4 ⟨rfl, rel⟩))
          · by_cases q5 : hd 1 + y ≤ 20000000
            · refine br_f q4 (br_t q5 (nm_e (nm_e (tl_xsettle i1 hT hc31 hi16 ?_))))
              dsimp only
              rw [ci, (i1 i).1]
              by_cases hA : A i = 0
              · have ham : am i = 0 := (tl_am0 i1).mpr hA
                refine ⟨vi, br_t ham ⟨vi, tl_xattach (by have := (i1 i).2.2.2.1; omega) hc31 ?_⟩⟩
                dsimp only
                rw [(i1 i).2.1]
                refine ⟨vi, tl_xattach (by have := (i1 i).2.2.2.2.1; omega) hc31 (tl_xmark i1 hT hc31 hi16 (tl_xm160 i1 hT hc31 hi16 ha31 (Y _ (br_f q4 (br_t q5 ⟨rfl, ?_⟩)))))⟩
                exact tl_mint_rel0 rfl rfl i0 i1 i2 i3 i4 i5 hi hu hA (by omega) q3'
              · have ham : ¬ am i = 0 := fun z => hA ((tl_am0 i1).mp z)
                refine ⟨vi, br_f ham (tl_xm160 i1 hT hc31 hi16 ha31 (Y _ (br_f q4 (br_t q5 ⟨rfl, ?_⟩))))⟩
                exact tl_mint_rel1 i0 i1 i2 i3 i4 i5 hi hu hA q3'
            · exact br_f q4 (br_f q5 (Y _ (br_f q4 (br_f q5 ⟨rfl, rel⟩))))
        · refine br_f q2 ⟨vi, br_f q3 ?_⟩
          unfold wpY_mint
          exact tl_yslot1 hS hi hu (br_t rfl (br_f q1 (br_f q2 ⟨vi, br_f q3 ⟨rfl, rel⟩⟩)))
  · refine tl_xslot0 hS hb (br_t rfl ?_)
    unfold wpY_mint
    exact tl_yslot0 hS hb (br_f tl_i10 ⟨rfl, rel⟩)
theorem i_vc_burn {k : Nat} {u : SX} {v : SY} (I : i_Rel k u v) (hk : k + 4 ≤ 2052) (v1 : Int32) (v2 : Int32) : wpX_burn (fun r u' => wpY_burn (fun r' v' => r' = r ∧ i_Rel (k + 4) u' v') v v1 v2) u v1 v2 := by
  refine I (fun u v => wpX_burn (fun r u' => wpY_burn (fun r' v' => r' = r ∧ i_Rel (k + 4) u' v') v v1 v2) u v1 v2) ?_
  intro T S F C c L H A iF lb rs tt hd re gr pr us ne ou ud lo up am cr mk cd i0 i1 i2 i3 i4 i5
  have rel := tl_mk (rs := rs) (tt := tt) (hd := hd) i0 i1 i2 i3 i4 (tl_I5_up i5)
  obtain ⟨-, hT, -, hS, -⟩ := id i0
  obtain ⟨hp, hc, -, hCb, -⟩ := id i3
  unfold wpX_burn
  rcases tl_slot S hS ud v1 with ⟨i, hi, rfl, hu⟩ | hb
  · have ci : (nI i).toNatClampNeg = i := nI_clamp (by omega)
    have c0 : (nI (2 * i)).toNatClampNeg = 2 * i := nI_clamp (by omega)
    have c1 : (nI (2 * i + 1)).toNatClampNeg = 2 * i + 1 := nI_clamp (by omega)
    have vi : vp_in (nI i) 16 := vp_in_nI (by omega) (by omega)
    have w0 : vp_in (nI (2 * i)) 32 := vp_in_nI (by omega) (by omega)
    have w1 : vp_in (nI (2 * i + 1)) 32 := vp_in_nI (by omega) (by omega)
    have hc31 : c < 2 ^ 31 := by omega
    have hi16 : i < 16 := by omega
    have hLH := (i1 i).2.2.2.2.2.2.1 hu
    have eam := (i1 i).2.2.1
    have hAb := (i1 i).2.2.2.2.2.1
    have hC : C ≤ 456014 := by
      have := tl_R_b (n := c + 1) (by omega)
      omega
    refine tl_xslot1 hS hi hu (br_f tl_i10 ?_)
    by_cases q1 : v2 < 1
    · refine br_t q1 ?_
      unfold wpY_burn
      exact tl_yslot1 hS hi hu (br_t rfl (br_t q1 ⟨rfl, rel⟩))
    · obtain ⟨a, ha31, rfl, ha1⟩ := tl_ge1 q1
      refine br_f q1 ⟨vi, ?_⟩
      by_cases q3 : (nI a).toInt64 ≤ am (nI i).toNatClampNeg
      · have q3' : a ≤ A i := by
          have z := q3
          rw [ci, eam, nI_l ha31] at z
          exact (pk_lLE (by omega) (by omega)).mp z
        have hx := tl_neg hAb q3'
        have hA0 : A i ≠ 0 := by omega
        have bx := tl_sv_b (C := C) (k := 0) (x := a) (by omega) (Nat.le_of_lt hLH) (by have := (i1 i).2.2.2.2.1; omega) hC (by omega)
        have bz := tl_sv_b (C := C) (k := 1) (x := a) (by omega) (Nat.le_of_lt hLH) (by have := (i1 i).2.2.2.2.1; omega) hC (by omega)
        refine br_t q3 (tl_xsettle i1 hT hc31 hi16 (tl_xstk i1 hp hT hi16 (k := 0) (by omega) (by omega) (tl_xstk i1 hp hT hi16 (k := 1) (by omega) (by omega) ?_)))
        dsimp only
        rw [nI_l ha31, tl_ix0, nI_1, c0, c1]
        generalize ex : tl_sv 0 (lN (tl_R (L i))) (lN (tl_R (H i))) (tl_md (lN (tl_R (L i))) (lN (tl_R (H i))) (lN C)) (lN a) 0 = x at bx ⊢
        generalize ey : tl_sv 1 (lN (tl_R (L i))) (lN (tl_R (H i))) (tl_md (lN (tl_R (L i))) (lN (tl_R (H i))) (lN C)) (lN a) 0 = y at bz ⊢
        have esub : am i - lN a = am i + (-(nI a)).toInt64 := by
          rw [eam, ← hx, lN_sub q3']
        have Y : ∀ post : Int32 → SY → Prop, post 0 (nI T, nI S, nI F, lN C, hd, re, ud, lo, up, vp_updL am i (am i + (-(nI a)).toInt64), tl_add2 cd i (x * 1048576) (y * 1048576)) → wpY_burn post (nI T, nI S, nI F, lN C, hd, re, ud, lo, up, am, cd) (nI i) (nI a) := by
          intro post h
          unfold wpY_burn
          refine tl_yslot1 hS hi hu (br_t rfl (br_f q1 ⟨vi, br_t q3 (tl_yshr i1 hT hi16 (k := 0) (by omega) (tl_yshr i1 hT hi16 (k := 1) (by omega) ?_))⟩))
          rw [nI_l ha31, ex, ey, ci, tl_ix0, nI_1, c0, c1, esub]
          exact ⟨vi, vi, nm_e ⟨w0, w0, nm_e ⟨w1, w1, nm_e h⟩⟩⟩
        refine ⟨w0, w0, nm_e ⟨w1, w1, nm_e (tl_xchg i1 hT hc31 hi16 ?_)⟩⟩
        dsimp only
        rw [ci, pk_uLs, (i1 i).1]
        have I1' := tl_I1_ch (x := A i - a) (y := am i + (-(nI a)).toInt64) i1 (by omega) hu (by rw [eam, hx])
        have I3' := tl_I3_ch i3 hi hx
        have N' := tl_chn_n hi hx (Nat.ne_of_lt hLH) (fun t => (i2 t).2.1)
        have I4' := tl_burn_I4 (a := a) (v := x * 1048576) (w := y * 1048576) i4 hi
        have I5' := tl_burn_I5 (i := i) (x := a) (by omega) bx bz i5
        by_cases hz : A i - a = 0
        · have ham : am i + (-(nI a)).toInt64 = 0 := by
            rw [eam, ← hx, hz]
            rfl
          refine ⟨vi, br_t ham ⟨vi, tl_xdetach (by have := (i1 i).2.2.2.1; omega) ?_⟩⟩
          dsimp only
          rw [(i1 i).2.1]
          refine ⟨vi, tl_xdetach (by have := (i1 i).2.2.2.2.1; omega) (Y _ ⟨rfl, ?_⟩)⟩
          have U' := tl_burn_UV0 (a := a) rfl hS (by have := (i1 i).2.2.2.1; omega) (by have := (i1 i).2.2.2.2.1; omega) i2 hi hA0 hz
          exact tl_mk i0 I1' (tl_I2_of U' N') I3' I4' I5'
        · have ham : ¬ am i + (-(nI a)).toInt64 = 0 := by
            rw [eam, ← hx]
            intro z
            exact hz ((pk_lEQ (b := 0) (by omega) (by omega)).mp z)
          refine ⟨vi, br_f ham (Y _ ⟨rfl, ?_⟩)⟩
          have U' := tl_burn_UV1 (a := a) hS i2 hi hz
          exact tl_mk i0 I1' (tl_I2_of U' N') I3' I4' I5'
      · refine br_f q3 ?_
        unfold wpY_burn
        exact tl_yslot1 hS hi hu (br_t rfl (br_f q1 ⟨vi, br_f q3 ⟨rfl, rel⟩⟩))
  · refine tl_xslot0 hS hb (br_t rfl ?_)
    unfold wpY_burn
    exact tl_yslot0 hS hb (br_f tl_i10 ⟨rfl, rel⟩)
end
section
/-! highestBit and goalTick -/
section
variable {xT xS xF xc : Int32} {xC iF lb rs tt : Int64} {hd re gr pr : Nat → Int64} {us : Nat → Int32} {ne ou : Nat → Int64} {ud lo up : Nat → Int32} {am cr mk cd : Nat → Int64}
theorem tl_hbL {post : Int32 → Prop} : ∀ (j w q pos : Nat), j ≤ 6 → 2 ^ q ≤ w → w < 2 ^ (q + 1) → w < 2 ^ (2 ^ j) → w < 2 ^ 62 → post (nI (pos + q)) → wX_highestBit_9 post xT xS xF xC xc iF lb rs tt hd re gr pr us ne ou ud lo up am cr mk (j + 1) (lN w) (nI pos) (nI (2 ^ j / 2)) := by
  intro j
  induction j with
  | zero =>
    intro w q pos _ h1 h2 h3 _ h
    have hw : w < 2 := h3
    have hq : q = 0 := by
      rcases Nat.eq_zero_or_pos q with z | z
      · exact z
      · have : 2 ^ 1 ≤ 2 ^ q := Nat.pow_le_pow_right (by decide) z
        omega
    subst hq
    exact br_t (by decide) h
  | succ j ih =>
    intro w q pos hj h1 h2 h3 h6 h
    have ek : 2 ^ (j + 1) / 2 = 2 ^ j := by
      rw [Nat.pow_succ]
      omega
    have kb : 2 ^ j ≤ 32 := by
      have : 2 ^ j ≤ 2 ^ 5 := Nat.pow_le_pow_right (by decide) (by omega)
      omega
    have k0 : 0 < 2 ^ j := Nat.two_pow_pos j
    have e3 : 2 ^ (2 ^ (j + 1)) = 2 ^ (2 ^ j) * 2 ^ (2 ^ j) := by
      rw [← Nat.pow_add, Nat.pow_succ]
      congr 1
      omega
    have wle : w / 2 ^ (2 ^ j) ≤ w := Nat.div_le_self _ _
    have esh := wb_shr (n := w) (k := 2 ^ j) (by omega) (by omega)
    have e6 : nI (2 ^ j) >>> ((1 : Int32) &&& 31) = nI (2 ^ j / 2) := pk_shrN (by omega) _ 1 (by decide)
    rw [ek]
    unfold wX_highestBit_9
    rw [esh, e6]
    refine br_f (nI_nle k0 (by omega)) ?_
    by_cases z : w / 2 ^ (2 ^ j) = 0
    · have z' : lN (w / 2 ^ (2 ^ j)) = 0 := by rw [z]; rfl
      refine br_t z' (nm_e (ih w q pos (by omega) h1 h2 ?_ h6 h))
      rcases Nat.lt_or_ge w (2 ^ (2 ^ j)) with y | y
      · exact y
      · have := Nat.div_pos y (Nat.two_pow_pos _)
        omega
    · have z' : ¬ lN (w / 2 ^ (2 ^ j)) = 0 := fun y => z ((pk_lEQ (b := 0) (by omega) (by omega)).mp y)
      refine br_f z' (nm_e (nm_r (nI_add pos (2 ^ j)) (nm_e ?_)))
      have hkq : 2 ^ j ≤ q := by
        rcases Nat.lt_or_ge q (2 ^ j) with y | y
        · exfalso
          have a : 2 ^ (q + 1) ≤ 2 ^ (2 ^ j) := Nat.pow_le_pow_right (by decide) y
          exact z (Nat.div_eq_of_lt (by omega))
        · exact y
      refine ih (w / 2 ^ (2 ^ j)) (q - 2 ^ j) (pos + 2 ^ j) (by omega) ?_ ?_ ?_ (by omega) ?_
      · rw [Nat.le_div_iff_mul_le (Nat.two_pow_pos _), ← Nat.pow_add, Nat.sub_add_cancel hkq]
        exact h1
      · rw [Nat.div_lt_iff_lt_mul (Nat.two_pow_pos _), ← Nat.pow_add, show q - 2 ^ j + 1 + 2 ^ j = q + 1 by omega]
        exact h2
      · rw [Nat.div_lt_iff_lt_mul (Nat.two_pow_pos _), ← e3]
        exact h3
      · rw [show pos + 2 ^ j + (q - 2 ^ j) = pos + q by omega]
        exact h
theorem tl_hb {post : Int32 → Prop} {w : Int64} {g : Nat} (hg : g < 60) (h1 : w.toBitVec.getLsbD g = true) (h2 : ∀ s, g < s → w.toBitVec.getLsbD s = false) (h : post (nI g)) : wpX_highestBit post (xT, xS, xF, xC, xc, iF, lb, rs, tt, hd, re, gr, pr, us, ne, ou, ud, lo, up, am, cr, mk) w := by
  have a1 : 2 ^ g ≤ w.toBitVec.toNat := Nat.ge_two_pow_of_testBit h1
  have a2 : w.toBitVec.toNat < 2 ^ (g + 1) := Nat.lt_pow_two_of_testBit _ (fun i hi => h2 i (by omega))
  have a3 : 2 ^ (g + 1) ≤ 2 ^ 60 := Nat.pow_le_pow_right (by decide) (by omega)
  have ew : w = lN w.toBitVec.toNat := wb_inj (by rw [wb_tb]; simp)
  rw [ew]
  generalize w.toBitVec.toNat = m at a1 a2
  unfold wpX_highestBit
  exact ⟨7, tl_hbL 6 m g 0 (by omega) a1 a2 (by omega) (by omega) (by rw [Nat.zero_add]; exact h)⟩
end
theorem tl_mask0 : ∀ c, c < 40 → ((((2 : Int64) <<< ((nI c).toInt64 &&& 63)) - 1).toBitVec.toNat = 2 ^ (c + 1) - 1) := by decide +kernel
theorem tl_mask1 : ∀ c, c < 40 → (((-2 : Int64) <<< ((nI c).toInt64 &&& 63)).toBitVec.toNat = 2 ^ 64 - 2 ^ (c + 1)) := by decide +kernel
theorem tl_mask0b {c : Nat} (hc : c < 40) (s : Nat) : ((((2 : Int64) <<< ((nI c).toInt64 &&& 63)) - 1).toBitVec.getLsbD s = decide (s < c + 1)) := by
  show (((2 : Int64) <<< ((nI c).toInt64 &&& 63)) - 1).toBitVec.toNat.testBit s = _
  rw [tl_mask0 c hc, Nat.testBit_two_pow_sub_one]
theorem tl_mask1b : ∀ c, c < 32 → ∀ s, s < 64 → (((-2 : Int64) <<< ((nI c).toInt64 &&& 63)).toBitVec.getLsbD s = decide (c < s)) := by decide +kernel
theorem tl_low {x : BitVec 64} {g : Nat} (hg : g < 64) (h1 : x.getLsbD g = true) (h2 : ∀ s, s < g → x.getLsbD s = false) (s : Nat) : (x &&& -x).getLsbD s = decide (s = g) := by
  rw [BitVec.getLsbD_and, BitVec.getLsbD_neg]
  by_cases hs : s < 64
  · rw [decide_eq_true hs, Bool.true_and]
    by_cases e : s = g
    · subst e
      have nx : ¬ ∃ j, j < s ∧ x.getLsbD j = true := by
        rintro ⟨j, hj, hx⟩
        rw [h2 j hj] at hx
        exact absurd hx (by decide)
      rw [h1, decide_eq_false nx, decide_eq_true rfl]
      rfl
    · rw [decide_eq_false e]
      rcases Nat.lt_or_ge s g with y | y
      · rw [h2 s y, Bool.false_and]
      · have ex : ∃ j, j < s ∧ x.getLsbD j = true := ⟨g, by omega, h1⟩
        rw [decide_eq_true ex, Bool.xor_true]
        cases x.getLsbD s <;> rfl
  · rw [BitVec.getLsbD_of_ge _ _ (by omega), Bool.false_and, decide_eq_false (by omega)]
theorem tl_top {P : Nat → Prop} {lim : Nat} (hp : P lim) : ∀ c, lim ≤ c → ∃ g, lim ≤ g ∧ g ≤ c ∧ P g ∧ ∀ s, g < s → s ≤ c → ¬ P s := by
  intro c
  induction c with
  | zero =>
    intro h
    have e : lim = 0 := by omega
    subst e
    exact ⟨0, Nat.le_refl _, Nat.le_refl _, hp, fun s a b => by omega⟩
  | succ c ih =>
    intro h
    by_cases z : P (c + 1)
    · exact ⟨c + 1, h, Nat.le_refl _, z, fun s a b => by omega⟩
    · have hl : lim ≤ c := by
        rcases Nat.lt_or_ge c lim with y | y
        · have e : lim = c + 1 := by omega
          rw [e] at hp
          exact absurd hp z
        · exact y
      obtain ⟨g, g1, g2, g3, g4⟩ := ih hl
      refine ⟨g, g1, by omega, g3, fun s a b => ?_⟩
      by_cases e : s = c + 1
      · rw [e]
        exact z
      · exact g4 s a (by omega)
section
variable {T S F C c : Nat} {L H A : Nat → Nat} {iF lb rs tt : Int64} {hd re gr pr : Nat → Int64} {us : Nat → Int32} {ne ou : Nat → Int64} {ud lo up : Nat → Int32} {am cr mk cd : Nat → Int64}
theorem tl_stop {lim s : Nat} (hl : lim < 64) (i2 : tl_I2 S L H A us ne lb) : (lb ||| ((1 : Int64) <<< ((nI lim).toInt64 &&& 63))).toBitVec.getLsbD s = (decide (0 < tl_U L H A S s) || decide (lim = s)) := by
  rw [tl_or_bit hl, (i2 s).2.2]
theorem tl_xgoal0 {lim : Nat} (i2 : tl_I2 S L H A us ne lb) (hc : c < 32) (hl : lim ≤ c) :
    ∃ g, lim ≤ g ∧ g ≤ c ∧ (0 < tl_U L H A S g ∨ lim = g) ∧ (∀ s, g < s → s ≤ c → tl_U L H A S s = 0) ∧
      ∀ post : Int32 → Prop, post (nI g) → wpX_goalTick post (nI T, nI S, nI F, lN C, nI c, iF, lb, rs, tt, hd, re, gr, pr, us, ne, ou, ud, lo, up, am, cr, mk) 0 (nI lim) := by
  obtain ⟨g, g1, g2, g3, g4⟩ := tl_top (P := fun s => 0 < tl_U L H A S s ∨ lim = s) (Or.inr rfl) c hl
  refine ⟨g, g1, g2, g3, fun s a b => ?_, fun post h => ?_⟩
  · have := g4 s a b
    omega
  · unfold wpX_goalTick
    refine nm_e (br_t rfl (tl_hb (g := g) (by omega) ?_ ?_ h))
    · rw [Int64.toBitVec_and, BitVec.getLsbD_and, tl_stop (by omega) i2, tl_mask0b (by omega), decide_eq_true (show g < c + 1 by omega), Bool.and_true]
      rcases g3 with y | y
      · rw [decide_eq_true y, Bool.true_or]
      · rw [decide_eq_true y, Bool.or_true]
    · intro s hs
      rw [Int64.toBitVec_and, BitVec.getLsbD_and, tl_stop (by omega) i2, tl_mask0b (by omega)]
      by_cases y : s < c + 1
      · have := g4 s hs (by omega)
        rw [decide_eq_false (fun z => this (Or.inl z)), decide_eq_false (fun z => this (Or.inr z))]
        rfl
      · rw [decide_eq_false y, Bool.and_false]
theorem tl_xgoal1 {lim : Nat} (i2 : tl_I2 S L H A us ne lb) (hc : c < 32) (hl : c < lim) (hlb : lim ≤ 32) :
    ∃ g, c < g ∧ g ≤ lim ∧ (0 < tl_U L H A S g ∨ lim = g) ∧ (∀ s, c < s → s < g → tl_U L H A S s = 0) ∧
      ∀ post : Int32 → Prop, post (nI g) → wpX_goalTick post (nI T, nI S, nI F, lN C, nI c, iF, lb, rs, tt, hd, re, gr, pr, us, ne, ou, ud, lo, up, am, cr, mk) 1 (nI lim) := by
  obtain ⟨g, ⟨g1, g2⟩, g3⟩ := pk_least (fun s => c < s ∧ (0 < tl_U L H A S s ∨ lim = s)) ⟨lim, hl, Or.inr rfl⟩
  have gl : g ≤ lim := by
    rcases Nat.lt_or_ge lim g with y | y
    · exact absurd ⟨hl, Or.inr rfl⟩ (g3 lim y)
    · exact y
  refine ⟨g, g1, gl, g2, fun s a b => ?_, fun post h => ?_⟩
  · have := g3 s b
    omega
  · unfold wpX_goalTick
    have bit : ∀ s, s < 64 → ((lb ||| ((1 : Int64) <<< ((nI lim).toInt64 &&& 63))) &&& ((-2 : Int64) <<< ((nI c).toInt64 &&& 63))).toBitVec.getLsbD s = ((decide (0 < tl_U L H A S s) || decide (lim = s)) && decide (c < s)) := by
      intro s hs
      rw [Int64.toBitVec_and, BitVec.getLsbD_and, tl_stop (by omega) i2, tl_mask1b c hc s hs]
    have b1 : ((lb ||| ((1 : Int64) <<< ((nI lim).toInt64 &&& 63))) &&& ((-2 : Int64) <<< ((nI c).toInt64 &&& 63))).toBitVec.getLsbD g = true := by
      rw [bit g (by omega), decide_eq_true g1, Bool.and_true]
      rcases g2 with y | y
      · rw [decide_eq_true y, Bool.true_or]
      · rw [decide_eq_true y, Bool.or_true]
    have b2 : ∀ s, s < g → ((lb ||| ((1 : Int64) <<< ((nI lim).toInt64 &&& 63))) &&& ((-2 : Int64) <<< ((nI c).toInt64 &&& 63))).toBitVec.getLsbD s = false := by
      intro s hs
      rw [bit s (by omega)]
      by_cases y : c < s
      · have hn := g3 s hs
        rw [decide_eq_false (fun z => hn ⟨y, Or.inl z⟩), decide_eq_false (fun z => hn ⟨y, Or.inr z⟩)]
        rfl
      · rw [decide_eq_false y, Bool.and_false]
    refine nm_e (br_f tl_i10 (nm_e (tl_hb (g := g) (by omega) ?_ ?_ h)))
    · rw [Int64.toBitVec_and, Int64.toBitVec_neg, tl_low (by omega) b1 b2, decide_eq_true rfl]
    · intro s hs
      rw [Int64.toBitVec_and, Int64.toBitVec_neg, tl_low (by omega) b1 b2, decide_eq_false (by omega)]
end
end
section
/-! X: flip, crossEdge, relocate -/
def tl_fl (us : Nat → Int32) (gr ou : Nat → Int64) (t : Nat) : Nat → Int64 := if us t ≤ 0 then ou else tl_two ou t (gr 0 - ou (2 * t)) (gr 1 - ou (2 * t + 1))
theorem tl_fl_n {us : Nat → Int32} {gr ou : Nat → Int64} {t : Nat} : ∀ s, s ≠ t → ∀ k, k < 2 → tl_fl us gr ou t (2 * s + k) = ou (2 * s + k) := by
  intro s hs k hk
  unfold tl_fl
  by_cases z : us t ≤ 0
  · rw [if_pos z]
  · rw [if_neg z]
    exact tl_two_n (by omega) (by omega)
theorem tl_fl_s {us : Nat → Int32} {gr ou : Nat → Int64} {t : Nat} (z : ¬ us t ≤ 0) : ∀ k, k < 2 → tl_fl us gr ou t (2 * t + k) = gr k - ou (2 * t + k) := by
  intro k hk
  unfold tl_fl
  rw [if_neg z]
  rcases tl_tok2 hk with rfl | rfl
  · exact tl_two_0
  · exact tl_two_1
section
variable {T S F C c : Nat} {L H A : Nat → Nat} {iF lb rs tt : Int64} {hd re gr pr : Nat → Int64} {us : Nat → Int32} {ne ou : Nat → Int64} {ud lo up : Nat → Int32} {am cr mk cd : Nat → Int64}
theorem tl_xflip {t : Nat} (ht : t ≤ 32) {post : SX → Prop} (h : post (nI T, nI S, nI F, lN C, nI c, iF, lb, rs, tt, hd, re, gr, pr, us, ne, tl_fl us gr ou t, ud, lo, up, am, cr, mk)) : wpX_flip post (nI T, nI S, nI F, lN C, nI c, iF, lb, rs, tt, hd, re, gr, pr, us, ne, ou, ud, lo, up, am, cr, mk) (nI t) := by
  have v : vp_in (nI t) 33 := vp_in_nI (by omega) (by omega)
  have ct : (nI t).toNatClampNeg = t := nI_clamp (by omega)
  have v0 : vp_in (nI (2 * t)) 66 := vp_in_nI (by omega) (by omega)
  have v1 : vp_in (nI (2 * t + 1)) 66 := vp_in_nI (by omega) (by omega)
  have c0 : (nI (2 * t)).toNatClampNeg = 2 * t := nI_clamp (by omega)
  have c1 : (nI (2 * t + 1)).toNatClampNeg = 2 * t + 1 := nI_clamp (by omega)
  unfold wpX_flip
  dsimp only
  rw [ct, tl_ix0, nI_1, c0, c1]
  unfold tl_fl at h
  by_cases z : us t ≤ 0
  · rw [if_pos z] at h
    exact ⟨v, br_t z h⟩
  · rw [if_neg z] at h
    refine ⟨v, br_f z ⟨v0, v0, nm_e ⟨v1, v1, nm_e ?_⟩⟩⟩
    rw [pk_uLn (by omega)]
    exact h
theorem tl_us0 {t : Nat} (hS : S ≤ 16) (i2 : tl_I2 S L H A us ne lb) : us t ≤ 0 ↔ tl_U L H A S t = 0 := by
  have hb := tl_U_bd (L := L) (H := H) (A := A) (S := S) (t := t)
  rw [(i2 t).1]
  have := nI_leI (a := tl_U L H A S t) (b := 0) (by omega) (by omega)
  rw [nI_0] at this
  rw [this]
  omega
/-- the price lies on the lower edge of its cell or above it; then above the cell's lower edge -/
theorem tl_xcross0 (hT : T ≤ 32) (hS : S ≤ 16) (i1 : tl_I1 T L H A ud lo up am) (i2 : tl_I2 S L H A us ne lb) (i3 : tl_I3 T S C c L H A pr iF) (i4 : tl_I4 S c L H A gr ou cr mk cd) (hC : tl_R 0 < C) :
    ∃ (c' : Nat) (iF' : Int64) (ou' : Nat → Int64), tl_I3 T S C c' L H A pr iF' ∧ tl_I4 S c' L H A gr ou' cr mk cd ∧ tl_R c' < C ∧ c' ≤ c ∧
      ∀ post : SX → Prop, post (nI T, nI S, nI F, lN C, nI c', iF', lb, rs, tt, hd, re, gr, pr, us, ne, ou', ud, lo, up, am, cr, mk) → wpX_crossEdge post (nI T, nI S, nI F, lN C, nI c, iF, lb, rs, tt, hd, re, gr, pr, us, ne, ou, ud, lo, up, am, cr, mk) 0 := by
  obtain ⟨p1, p2, p3, p4, p5⟩ := id i3
  have hLH : ∀ i, A i ≠ 0 → L i < H i := fun i h => (i1 i).2.2.2.2.2.2.1 ((i1 i).2.2.2.2.2.2.2 h)
  have hRb := tl_R_b (n := c) (by omega)
  have hRb1 := tl_R_b (n := c + 1) (by omega)
  have vc : vp_in (nI c) 33 := vp_in_nI (by omega) (by omega)
  have cc : (nI c).toNatClampNeg = c := nI_clamp (by omega)
  have epr : pr (nI c).toNatClampNeg = lN (tl_R c) := by rw [cc]; exact p1 c (by omega)
  by_cases e : C = tl_R c
  · cases c with
    | zero => omega
    | succ d =>
      refine ⟨d, iF - ne (d + 1), tl_fl us gr ou (d + 1), ⟨p1, by omega, ?_, by omega, ?_⟩, ?_, ?_, by omega, fun post h => ?_⟩
      · have := tl_R_s d
        omega
      · rw [p5, (i2 (d + 1)).2.1]
        exact tl_In_dn hLH
      · by_cases z : us (d + 1) ≤ 0
        · have z0 := (tl_us0 hS i2).mp z
          have ef : tl_fl us gr ou (d + 1) = ou := if_pos z
          rw [ef]
          exact tl_I4_move (by omega) (fun t a b => by rw [show t = d + 1 by omega]; exact z0) i4
        · exact tl_I4_dn tl_fl_n (tl_fl_s z) i4
      · have := tl_R_s d
        omega
      · unfold wpX_crossEdge
        have eC : lN C = pr (nI (d + 1)).toNatClampNeg := by rw [epr, e]
        refine br_t rfl (br_f (nI_nle (by omega) (by omega)) ⟨vc, br_t eC (tl_xflip (by omega) ?_)⟩)
        dsimp only
        rw [cc]
        exact ⟨vc, nm_e (nm_r (nI_pred d) h)⟩
  · refine ⟨c, iF, ou, i3, i4, by omega, Nat.le_refl _, fun post h => ?_⟩
    have h67 : wX_crossEdge_67 post 0 (nI T) (nI S) (nI F) (lN C) (nI c) iF lb rs tt hd re gr pr us ne ou ud lo up am cr mk := by
      unfold wX_crossEdge_67
      exact br_f (by decide) h
    have eC : ¬ lN C = pr (nI c).toNatClampNeg := by
      rw [epr]
      exact fun z => e ((pk_lEQ (by omega) (by omega)).mp z)
    unfold wpX_crossEdge
    by_cases z : nI c ≤ 0
    · exact br_t rfl (br_t z h67)
    · exact br_t rfl (br_f z ⟨vc, br_f eC h67⟩)
theorem tl_xcross1 (hT8 : 8 ≤ T) (hT : T ≤ 32) (hS : S ≤ 16) (i1 : tl_I1 T L H A ud lo up am) (i2 : tl_I2 S L H A us ne lb) (i3 : tl_I3 T S C c L H A pr iF) (i4 : tl_I4 S c L H A gr ou cr mk cd) (hC : C < tl_R T) :
    ∃ (c' : Nat) (iF' : Int64) (ou' : Nat → Int64), tl_I3 T S C c' L H A pr iF' ∧ tl_I4 S c' L H A gr ou' cr mk cd ∧ C < tl_R (c' + 1) ∧ c ≤ c' ∧
      ∀ post : SX → Prop, post (nI T, nI S, nI F, lN C, nI c', iF', lb, rs, tt, hd, re, gr, pr, us, ne, ou', ud, lo, up, am, cr, mk) → wpX_crossEdge post (nI T, nI S, nI F, lN C, nI c, iF, lb, rs, tt, hd, re, gr, pr, us, ne, ou, ud, lo, up, am, cr, mk) 1 := by
  obtain ⟨p1, p2, p3, p4, p5⟩ := id i3
  have hLH : ∀ i, A i ≠ 0 → L i < H i := fun i h => (i1 i).2.2.2.2.2.2.1 ((i1 i).2.2.2.2.2.2.2 h)
  have hRb := tl_R_b (n := c) (by omega)
  have hRb1 := tl_R_b (n := c + 1) (by omega)
  have vc : vp_in (nI (c + 1)) 33 := vp_in_nI (by omega) (by omega)
  have cc : (nI (c + 1)).toNatClampNeg = c + 1 := nI_clamp (by omega)
  have epr : pr (nI (c + 1)).toNatClampNeg = lN (tl_R (c + 1)) := by rw [cc]; exact p1 (c + 1) (by omega)
  have eT : nI T - 1 = nI (T - 1) := pk_sub (b := 1) (by omega)
  by_cases e : C = tl_R (c + 1)
  · have hcT : c + 1 < T := by
      rw [e] at hC
      exact tl_R_lti.mp hC
    refine ⟨c + 1, iF + ne (c + 1), tl_fl us gr ou (c + 1), ⟨p1, by omega, by omega, ?_, ?_⟩, ?_, ?_, by omega, fun post h => ?_⟩
    · have := tl_R_s (c + 1)
      omega
    · rw [p5, (i2 (c + 1)).2.1]
      exact tl_In_up hLH
    · by_cases z : us (c + 1) ≤ 0
      · have z0 := (tl_us0 hS i2).mp z
        have ef : tl_fl us gr ou (c + 1) = ou := if_pos z
        rw [ef]
        exact tl_I4_moveU (by omega) (fun t a b => by rw [show t = c + 1 by omega]; exact z0) i4
      · exact tl_I4_up tl_fl_n (tl_fl_s z) i4
    · have := tl_R_s (c + 1)
      omega
    · unfold wpX_crossEdge
      refine br_f tl_i10 ?_
      unfold wX_crossEdge_67
      rw [eT, nI_1]
      have eC : lN C = pr (nI (c + 1)).toNatClampNeg := by rw [epr, e]
      refine br_t rfl (br_f (nI_ge (by omega) (by omega)) ⟨vc, br_t eC (nm_e (tl_xflip (by omega) ?_))⟩)
      dsimp only
      rw [cc]
      exact ⟨vc, nm_e h⟩
  · refine ⟨c, iF, ou, i3, i4, by omega, Nat.le_refl _, fun post h => ?_⟩
    have eC : ¬ lN C = pr (nI (c + 1)).toNatClampNeg := by
      rw [epr]
      exact fun z => e ((pk_lEQ (by omega) (by omega)).mp z)
    unfold wpX_crossEdge
    refine br_f tl_i10 ?_
    unfold wX_crossEdge_67
    rw [eT, nI_1]
    by_cases z : nI (T - 1) ≤ nI c
    · exact br_t rfl (br_t z h)
    · exact br_t rfl (br_f z ⟨vc, br_f eC h⟩)
/-! relocate: the cell follows the price; the ticks passed lie beyond the price -/
theorem tl_xrel0L (hT : T ≤ 32) (hp : tl_Pr T pr) (hC0 : tl_R 0 ≤ C) (hCb : C ≤ 456014) : ∀ c, c < T → C ≤ tl_R (c + 1) → ∃ c', c' ≤ c ∧ tl_R c' ≤ C ∧ C ≤ tl_R (c' + 1) ∧ (∀ t, c' < t → t ≤ c → C < tl_R t) ∧
    ∀ post : SX → Prop, post (nI T, nI S, nI F, lN C, nI c', iF, lb, rs, tt, hd, re, gr, pr, us, ne, ou, ud, lo, up, am, cr, mk) → wX_relocate_4 post (nI T) (nI S) (nI F) (lN C) iF lb rs tt hd re gr pr us ne ou ud lo up am cr mk (c + 1) (nI c) := by
  intro c
  induction c with
  | zero =>
    intro _ h
    refine ⟨0, Nat.le_refl _, hC0, h, fun t a b => by omega, fun post q => ?_⟩
    unfold wX_relocate_4
    exact br_t (by decide) q
  | succ c ih =>
    intro hc h
    have hb := tl_R_b (n := c + 1) (by omega)
    have vc : vp_in (nI (c + 1)) 33 := vp_in_nI (by omega) (by omega)
    have epr : pr (nI (c + 1)).toNatClampNeg = lN (tl_R (c + 1)) := by rw [nI_clamp (by omega)]; exact hp (c + 1) (by omega)
    by_cases z : tl_R (c + 1) ≤ C
    · refine ⟨c + 1, Nat.le_refl _, z, h, fun t a b => by omega, fun post q => ?_⟩
      have z' : pr (nI (c + 1)).toNatClampNeg ≤ lN C := by rw [epr]; exact (pk_lLE (by omega) (by omega)).mpr z
      unfold wX_relocate_4
      exact br_f (nI_nle (by omega) (by omega)) ⟨vc, br_t z' q⟩
    · obtain ⟨c', g1, g2, g3, g4, g5⟩ := ih (by omega) (by omega)
      refine ⟨c', by omega, g2, g3, fun t a b => ?_, fun post q => ?_⟩
      · by_cases y : t = c + 1
        · rw [y]
          omega
        · exact g4 t a (by omega)
      · have z' : ¬ pr (nI (c + 1)).toNatClampNeg ≤ lN C := by rw [epr]; exact fun y => z ((pk_lLE (by omega) (by omega)).mp y)
        unfold wX_relocate_4
        exact br_f (nI_nle (by omega) (by omega)) ⟨vc, br_f z' (nm_r (nI_pred c) (g5 post q))⟩
theorem tl_xrel0 (hT : T ≤ 32) (hp : tl_Pr T pr) (hC0 : tl_R 0 ≤ C) (hCb : C ≤ 456014) (hc : c < T) (h : C ≤ tl_R (c + 1)) : ∃ c', c' ≤ c ∧ tl_R c' ≤ C ∧ C ≤ tl_R (c' + 1) ∧ (∀ t, c' < t → t ≤ c → C < tl_R t) ∧
    ∀ post : SX → Prop, post (nI T, nI S, nI F, lN C, nI c', iF, lb, rs, tt, hd, re, gr, pr, us, ne, ou, ud, lo, up, am, cr, mk) → wpX_relocate post (nI T, nI S, nI F, lN C, nI c, iF, lb, rs, tt, hd, re, gr, pr, us, ne, ou, ud, lo, up, am, cr, mk) 0 := by
  obtain ⟨c', g1, g2, g3, g4, g5⟩ := tl_xrel0L (S := S) (F := F) (iF := iF) (lb := lb) (rs := rs) (tt := tt) (hd := hd) (re := re) (gr := gr) (us := us) (ne := ne) (ou := ou) (ud := ud) (lo := lo) (up := up) (am := am) (cr := cr) (mk := mk) hT hp hC0 hCb c hc h
  refine ⟨c', g1, g2, g3, g4, fun post q => ?_⟩
  unfold wpX_relocate
  exact br_t rfl ⟨c + 1, g5 post q⟩
theorem tl_xrel1L (hT : T ≤ 32) (hT8 : 8 ≤ T) (hp : tl_Pr T pr) (hCb : C ≤ tl_R T) : ∀ d c, c + 1 + d = T → tl_R c ≤ C → ∃ c', c ≤ c' ∧ c' < T ∧ tl_R c' ≤ C ∧ C ≤ tl_R (c' + 1) ∧ (∀ t, c < t → t ≤ c' → tl_R t < C) ∧
    ∀ post : SX → Prop, post (nI T, nI S, nI F, lN C, nI c', iF, lb, rs, tt, hd, re, gr, pr, us, ne, ou, ud, lo, up, am, cr, mk) → wX_relocate_41 post (nI T) (nI S) (nI F) (lN C) iF lb rs tt hd re gr pr us ne ou ud lo up am cr mk (d + 1) (nI c) := by
  have hTb := tl_R_b (n := T) hT
  have eT : nI T - 1 = nI (T - 1) := pk_sub (b := 1) (by omega)
  intro d
  induction d with
  | zero =>
    intro c hc h
    refine ⟨c, Nat.le_refl _, by omega, h, by rw [show c + 1 = T by omega]; exact hCb, fun t a b => by omega, fun post q => ?_⟩
    unfold wX_relocate_41
    rw [eT]
    exact br_t (nI_le (by omega) (by omega)) q
  | succ d ih =>
    intro c hc h
    have hb := tl_R_b (n := c + 1) (by omega)
    have vc : vp_in (nI (c + 1)) 33 := vp_in_nI (by omega) (by omega)
    have epr : pr (nI (c + 1)).toNatClampNeg = lN (tl_R (c + 1)) := by rw [nI_clamp (by omega)]; exact hp (c + 1) (by omega)
    by_cases z : C ≤ tl_R (c + 1)
    · refine ⟨c, Nat.le_refl _, by omega, h, z, fun t a b => by omega, fun post q => ?_⟩
      have z' : lN C ≤ pr (nI (c + 1)).toNatClampNeg := by rw [epr]; exact (pk_lLE (by omega) (by omega)).mpr z
      unfold wX_relocate_41
      rw [eT, nI_1]
      exact br_f (nI_ge (by omega) (by omega)) ⟨vc, br_t z' q⟩
    · obtain ⟨c', g1, g2, g3, g4, g5, g6⟩ := ih (c + 1) (by omega) (by omega)
      refine ⟨c', by omega, g2, g3, g4, fun t a b => ?_, fun post q => ?_⟩
      · by_cases y : t = c + 1
        · rw [y]
          omega
        · exact g5 t (by omega) b
      · have z' : ¬ lN C ≤ pr (nI (c + 1)).toNatClampNeg := by rw [epr]; exact fun y => z ((pk_lLE (by omega) (by omega)).mp y)
        unfold wX_relocate_41
        rw [eT, nI_1]
        exact br_f (nI_ge (by omega) (by omega)) ⟨vc, br_f z' (nm_e (g6 post q))⟩
theorem tl_xrel1 (hT : T ≤ 32) (hT8 : 8 ≤ T) (hp : tl_Pr T pr) (hCb : C ≤ tl_R T) (hc : c < T) (h : tl_R c ≤ C) : ∃ c', c ≤ c' ∧ c' < T ∧ tl_R c' ≤ C ∧ C ≤ tl_R (c' + 1) ∧ (∀ t, c < t → t ≤ c' → tl_R t < C) ∧
    ∀ post : SX → Prop, post (nI T, nI S, nI F, lN C, nI c', iF, lb, rs, tt, hd, re, gr, pr, us, ne, ou, ud, lo, up, am, cr, mk) → wpX_relocate post (nI T, nI S, nI F, lN C, nI c, iF, lb, rs, tt, hd, re, gr, pr, us, ne, ou, ud, lo, up, am, cr, mk) 1 := by
  obtain ⟨c', g1, g2, g3, g4, g5, g6⟩ := tl_xrel1L (S := S) (F := F) (iF := iF) (lb := lb) (rs := rs) (tt := tt) (hd := hd) (re := re) (gr := gr) (us := us) (ne := ne) (ou := ou) (ud := ud) (lo := lo) (up := up) (am := am) (cr := cr) (mk := mk) hT hT8 hp hCb (T - 1 - c) c (by omega) h
  refine ⟨c', g1, g2, g3, g4, g5, fun post q => ?_⟩
  unfold wpX_relocate
  exact br_f tl_i10 ⟨T - 1 - c + 1, g6 post q⟩
end
end
section
/-! X: moved, reach, shareFee, trade -/
section
variable {xT xS xF xc : Int32} {xC iF lb rs tt : Int64} {hd re gr pr : Nat → Int64} {us : Nat → Int32} {ne ou : Nat → Int64} {ud lo up : Nat → Int32} {am cr mk cd : Nat → Int64}
theorem tl_1m0 : (1 : Int32) - nI 0 = 1 := by decide
theorem tl_1m1 : (1 : Int32) - nI 1 = 0 := by decide
theorem tl_1mk {k : Nat} (hk : k < 2) : (1 : Int32) - nI k = nI (1 - k) := by
  rcases tl_tok2 hk with rfl | rfl
  · decide
  · decide
theorem tl_xmv {k : Nat} (hk : k < 2) {n : Int64} {post : Int64 → Prop} (h : post (tl_mv k iF xC n)) : wpX_moved post (xT, xS, xF, xC, xc, iF, lb, rs, tt, hd, re, gr, pr, us, ne, ou, ud, lo, up, am, cr, mk) (nI k) (nI k) n 1 := by
  unfold wpX_moved
  unfold tl_mv at h
  rcases tl_tok2 hk with rfl | rfl
  · rw [if_pos rfl] at h
    exact br_t rfl (tl_xbet0 h)
  · rw [if_neg (by decide)] at h
    exact br_f tl_i10 (tl_xbet1 h)
theorem tl_xot {k : Nat} (hk : k < 2) {n : Int64} {post : Int64 → Prop} (h : post (tl_ot k iF xC n)) : wpX_moved post (xT, xS, xF, xC, xc, iF, lb, rs, tt, hd, re, gr, pr, us, ne, ou, ud, lo, up, am, cr, mk) (nI k) (1 - nI k) n 0 := by
  unfold wpX_moved
  unfold tl_ot at h
  rcases tl_tok2 hk with rfl | rfl
  · rw [if_pos rfl] at h
    rw [tl_1m0]
    exact br_t rfl (tl_xbet1 h)
  · rw [if_neg (by decide)] at h
    rw [tl_1m1]
    exact br_f tl_i10 (tl_xbet0 h)
theorem tl_xrc {k : Nat} (hk : k < 2) {w : Int64} {post : Int64 → Prop} (h : post (tl_rc k iF xC w)) : wpX_reach post (xT, xS, xF, xC, xc, iF, lb, rs, tt, hd, re, gr, pr, us, ne, ou, ud, lo, up, am, cr, mk) (nI k) w := by
  unfold wpX_reach
  unfold tl_rc at h
  rcases tl_tok2 hk with rfl | rfl
  · rw [if_pos rfl] at h
    exact br_t rfl (nm_e (tl_xrat h))
  · rw [if_neg (by decide)] at h
    exact br_f tl_i10 (tl_xrat h)
/-- the share of each unit of liquidity, and the pool's arrays after a fee f -/
def tl_ea (re : Nat → Int64) (k : Nat) (f l : Int64) : Int64 := tl_rt (re k + f * 1048576) l 0
def tl_rs (re : Nat → Int64) (k : Nat) (f l : Int64) : Nat → Int64 := vp_updL re k ((re k + f * 1048576) - tl_ea re k f l * l)
def tl_hs (hd : Nat → Int64) (k : Nat) (p o : Int64) : Nat → Int64 := vp_updL (vp_updL hd k (hd k + p)) (1 - k) ((vp_updL hd k (hd k + p)) (1 - k) - o)
theorem tl_xsh {k : Nat} (hk : k < 2) {f : Int64} {post : SX → Prop} (h : post (xT, xS, xF, xC, xc, iF, lb, rs, tt, hd, tl_rs re k f iF, vp_updL gr k (gr k + tl_ea re k f iF), pr, us, ne, ou, ud, lo, up, am, cr, mk)) : wpX_shareFee post (xT, xS, xF, xC, xc, iF, lb, rs, tt, hd, re, gr, pr, us, ne, ou, ud, lo, up, am, cr, mk) (nI k) f := by
  have v : vp_in (nI k) 2 := vp_in_nI hk (by omega)
  have ck : (nI k).toNatClampNeg = k := nI_clamp (by omega)
  unfold wpX_shareFee
  dsimp only
  rw [ck]
  exact ⟨v, nm_e (tl_xrat ⟨v, nm_e ⟨v, v, nm_e h⟩⟩)⟩
theorem tl_xt101 {k : Nat} (hk : k < 2) {n p f : Int64} {post : SX → Prop}
    (h : post (xT, xS, xF, n, xc, iF, lb, rs - (p + f), tt + tl_ot k iF xC n, tl_hs hd k (p + f) (tl_ot k iF xC n), tl_rs re k f iF, vp_updL gr k (gr k + tl_ea re k f iF), pr, us, ne, ou, ud, lo, up, am, cr, mk)) : wX_trade_101 post (nI k) n p f xT xS xF xC xc iF lb rs tt hd re gr pr us ne ou ud lo up am cr mk := by
  have v : vp_in (nI k) 2 := vp_in_nI hk (by omega)
  have v' : vp_in (nI (1 - k)) 2 := vp_in_nI (by omega) (by omega)
  have ck : (nI k).toNatClampNeg = k := nI_clamp (by omega)
  have ck' : (nI (1 - k)).toNatClampNeg = 1 - k := nI_clamp (by omega)
  unfold wX_trade_101
  refine tl_xot hk ?_
  rw [tl_1mk hk, ck, ck']
  exact ⟨v, v, nm_e ⟨v', v', nm_e (nm_e (nm_e (tl_xsh hk h)))⟩⟩
theorem tl_xtrade {k : Nat} (hk : k < 2) {G : Int64} {post : SX → Prop}
    (h : post (xT, xS, xF, tl_nx k iF xC G rs xF, xc, iF, lb, rs - (tl_pd k iF xC G rs xF + tl_fe k iF xC G rs xF), tt + tl_ot k iF xC (tl_nx k iF xC G rs xF), tl_hs hd k (tl_pd k iF xC G rs xF + tl_fe k iF xC G rs xF) (tl_ot k iF xC (tl_nx k iF xC G rs xF)), tl_rs re k (tl_fe k iF xC G rs xF) iF, vp_updL gr k (gr k + tl_ea re k (tl_fe k iF xC G rs xF) iF), pr, us, ne, ou, ud, lo, up, am, cr, mk)) : wpX_trade post (xT, xS, xF, xC, xc, iF, lb, rs, tt, hd, re, gr, pr, us, ne, ou, ud, lo, up, am, cr, mk) (nI k) G := by
  unfold wpX_trade
  refine tl_xmv hk ⟨by decide, nm_e ?_⟩
  by_cases z : tl_us rs xF < tl_mv k iF xC G
  · have e1 : tl_nx k iF xC G rs xF = tl_rc k iF xC (tl_us rs xF) := if_pos z
    have e3 : tl_fe k iF xC G rs xF = rs - tl_pd k iF xC G rs xF := if_pos z
    refine br_t z (tl_xrc hk (tl_xmv hk (nm_e (tl_xt101 hk ?_))))
    rw [e3] at h
    unfold tl_pd at h
    rw [e1] at h
    exact h
  · have e1 : tl_nx k iF xC G rs xF = G := if_neg z
    have e3 : tl_fe k iF xC G rs xF = tl_rt (tl_mv k iF xC G * xF.toInt64) ((1000 - xF).toInt64) 1 := if_neg z
    refine br_f z (tl_xrat (tl_xt101 hk ?_))
    rw [e3] at h
    unfold tl_pd at h
    rw [e1] at h
    exact h
end
end
section
/-! Y: covers, the sum, the credits, the goal -/
abbrev tl_cv (L H : Nat → Nat) (ud : Nat → Int32) (fr to : Nat) (i : Nat) : Prop := ud i ≠ 0 ∧ tl_R (L i) ≤ fr ∧ to ≤ tl_R (H i)
def tl_sc (L H A : Nat → Nat) (ud : Nat → Int32) (fr to : Nat) (i : Nat) : Nat := if tl_cv L H ud fr to i then A i else 0
def tl_cr (L H : Nat → Nat) (ud : Nat → Int32) (fr to k : Nat) (e : Int64) (am cd : Nat → Int64) : Nat → Nat → Int64
  | 0 => cd
  | n + 1 => if tl_cv L H ud fr to n then vp_updL (tl_cr L H ud fr to k e am cd n) (2 * n + k) (tl_cr L H ud fr to k e am cd n (2 * n + k) + e * am n) else tl_cr L H ud fr to k e am cd n
section
variable {L H : Nat → Nat} {ud : Nat → Int32} {fr to k : Nat} {e : Int64} {am cd : Nat → Int64}
theorem tl_cr_oth {j : Nat} : ∀ n, (∀ i, i < n → j ≠ 2 * i + k) → tl_cr L H ud fr to k e am cd n j = cd j := by
  intro n
  induction n with
  | zero => intro _; rfl
  | succ n ih =>
    intro h
    have h1 := ih (fun i hi => h i (by omega))
    unfold tl_cr
    split
    · rw [pk_uLn (h n (by omega))]
      exact h1
    · exact h1
theorem tl_cr_hit {i : Nat} : ∀ n, i < n → tl_cr L H ud fr to k e am cd n (2 * i + k) = cd (2 * i + k) + (if tl_cv L H ud fr to i then e * am i else 0) := by
  intro n
  induction n with
  | zero => intro h; omega
  | succ n ih =>
    intro h
    unfold tl_cr
    by_cases z : i = n
    · subst z
      have h0 : tl_cr L H ud fr to k e am cd i (2 * i + k) = cd (2 * i + k) := tl_cr_oth i (fun j hj => by omega)
      by_cases v : tl_cv L H ud fr to i
      · rw [if_pos v, if_pos v, pk_uLs, h0]
      · rw [if_neg v, if_neg v, h0, Int64.add_zero]
    · have h1 := ih (by omega)
      split
      · rw [pk_uLn (by omega)]
        exact h1
      · exact h1
end
section
variable {T S F C c : Nat} {L H A : Nat → Nat} {iF lb rs tt : Int64} {hd re gr pr : Nat → Int64} {us : Nat → Int32} {ne ou : Nat → Int64} {ud lo up : Nat → Int32} {am cr mk cd : Nat → Int64}
theorem tl_ycov1 {i fr to : Nat} (h1 : tl_I1 T L H A ud lo up am) (hT : T ≤ 32) (hi : i < 16) (hf : fr < 2 ^ 62) (ht : to < 2 ^ 62) (hv : tl_cv L H ud fr to i) {post : Int32 → Prop} (h : post 1) : wpY_covers post (nI T, nI S, nI F, lN C, hd, re, ud, lo, up, am, cd) (nI i) (lN fr) (lN to) := by
  obtain ⟨e1, e2, -, hl, hh, -⟩ := h1 i
  obtain ⟨v1, v2, v3⟩ := hv
  have b1 := tl_R_b (n := L i) (by omega)
  have b2 := tl_R_b (n := H i) (by omega)
  have ci : (nI i).toNatClampNeg = i := nI_clamp (by omega)
  have vi : vp_in (nI i) 16 := vp_in_nI hi (by omega)
  unfold wpY_covers
  dsimp only
  rw [ci, e1, e2]
  refine ⟨vi, br_f v1 ⟨vi, tl_ytp (by omega) (br_f (fun z => ?_) ⟨vi, tl_ytp (by omega) (br_f (fun z => ?_) h)⟩)⟩⟩
  · have := (pk_lLT (by omega) (by omega)).mp z
    omega
  · have := (pk_lLT (by omega) (by omega)).mp z
    omega
theorem tl_ycov0 {i fr to : Nat} (h1 : tl_I1 T L H A ud lo up am) (hT : T ≤ 32) (hi : i < 16) (hf : fr < 2 ^ 62) (ht : to < 2 ^ 62) (hv : ¬ tl_cv L H ud fr to i) {post : Int32 → Prop} (h : post 0) : wpY_covers post (nI T, nI S, nI F, lN C, hd, re, ud, lo, up, am, cd) (nI i) (lN fr) (lN to) := by
  obtain ⟨e1, e2, -, hl, hh, -⟩ := h1 i
  have b1 := tl_R_b (n := L i) (by omega)
  have b2 := tl_R_b (n := H i) (by omega)
  have ci : (nI i).toNatClampNeg = i := nI_clamp (by omega)
  have vi : vp_in (nI i) 16 := vp_in_nI hi (by omega)
  unfold wpY_covers
  dsimp only
  rw [ci, e1, e2]
  refine ⟨vi, ?_⟩
  by_cases v1 : ud i = 0
  · exact br_t v1 h
  · refine br_f v1 ⟨vi, tl_ytp (by omega) ?_⟩
    by_cases v2 : tl_R (L i) ≤ fr
    · refine br_f (fun z => ?_) ⟨vi, tl_ytp (by omega) (br_t ?_ h)⟩
      · have := (pk_lLT (by omega) (by omega)).mp z
        omega
      · refine (pk_lLT (by omega) (by omega)).mpr ?_
        rcases Nat.lt_or_ge (tl_R (H i)) to with y | y
        · exact y
        · exact absurd ⟨v1, v2, y⟩ hv
    · exact br_t ((pk_lLT (by omega) (by omega)).mpr (by omega)) h
theorem tl_y197 {fr to m : Nat} {post : Int64 → SY → Prop} {J : Int64 → Int64 → Int32 → Int64 → (Nat → Int64) → (Nat → Int64) → (Nat → Int32) → (Nat → Int32) → (Nat → Int32) → (Nat → Int64) → (Nat → Int64) → Prop} {x1 x10 : Int32} {x4 x6 x8 x11 : Int64}
    (h1 : tl_I1 T L H A ud lo up am) (hT : T ≤ 32) (hS : S ≤ 16) (hf : fr < 2 ^ 62) (ht : to < 2 ^ 62)
    (h : wY_swap_197 post J x1 x4 x6 x8 x10 x11 (lN fr) (lN to) (nI T) (nI S) (nI F) (lN C) hd re ud lo up am cd (m + 1) (lN (tl_sm (tl_sc L H A ud fr to) S)) (nI S)) :
    ∀ d j : Nat, j + d = S → wY_swap_197 post J x1 x4 x6 x8 x10 x11 (lN fr) (lN to) (nI T) (nI S) (nI F) (lN C) hd re ud lo up am cd (m + 1 + d) (lN (tl_sm (tl_sc L H A ud fr to) j)) (nI j) := by
  intro d
  induction d with
  | zero =>
    intro j hj
    have z : j = S := by omega
    subst z
    exact h
  | succ d ih =>
    intro j hj
    have cj : (nI j).toNatClampNeg = j := nI_clamp (by omega)
    have vj : vp_in (nI j) 16 := vp_in_nI (by omega) (by omega)
    have ih' := ih (j + 1) (by omega)
    have es : tl_sm (tl_sc L H A ud fr to) (j + 1) = tl_sm (tl_sc L H A ud fr to) j + tl_sc L H A ud fr to j := rfl
    show wY_swap_197 post J x1 x4 x6 x8 x10 x11 (lN fr) (lN to) (nI T) (nI S) (nI F) (lN C) hd re ud lo up am cd ((m + 1 + d) + 1) (lN (tl_sm (tl_sc L H A ud fr to) j)) (nI j)
    refine br_f (nI_ge (by omega) (by omega)) ?_
    by_cases v : tl_cv L H ud fr to j
    · have e : tl_sc L H A ud fr to j = A j := if_pos v
      rw [es, e] at ih'
      refine tl_ycov1 h1 hT (by omega) hf ht v (br_f tl_i10 ⟨vj, nm_r (e' := lN (tl_sm (tl_sc L H A ud fr to) j + A j)) ?_ (nm_r (nI_1 j) ih')⟩)
      rw [cj, (h1 j).2.2.1, lN_add]
    · have e : tl_sc L H A ud fr to j = 0 := if_neg v
      rw [es, e, Nat.add_zero] at ih'
      exact tl_ycov0 h1 hT (by omega) hf ht v (br_t rfl (nm_r (nI_1 j) ih'))
theorem tl_y556 {fr to k : Nat} {e : Int64} {post : Int64 → SY → Prop} {J : Int64 → Int64 → Int32 → Int64 → (Nat → Int64) → (Nat → Int64) → (Nat → Int32) → (Nat → Int32) → (Nat → Int32) → (Nat → Int64) → (Nat → Int64) → Prop} {x10 : Int32} {x4 x6 x8 x19 : Int64}
    (h1 : tl_I1 T L H A ud lo up am) (hT : T ≤ 32) (hS : S ≤ 16) (hk : k < 2) (hf : fr < 2 ^ 62) (ht : to < 2 ^ 62)
    (h : J x6 x8 (x10 + 1) x19 hd re ud lo up am (tl_cr L H ud fr to k e am cd S)) :
    ∀ d j : Nat, j + d = S → wY_swap_556 post J (nI k) x4 x6 x8 x10 (lN fr) (lN to) x19 e (nI T) (nI S) (nI F) (lN C) (d + 1) (nI j) hd re ud lo up am (tl_cr L H ud fr to k e am cd j) := by
  intro d
  induction d with
  | zero =>
    intro j hj
    have z : j = S := by omega
    subst z
    exact br_t (nI_le (Nat.le_refl _) (by omega)) (nm_e h)
  | succ d ih =>
    intro j hj
    have cj : (nI j).toNatClampNeg = j := nI_clamp (by omega)
    have c2 : (nI (2 * j + k)).toNatClampNeg = 2 * j + k := nI_clamp (by omega)
    have vj : vp_in (nI j) 16 := vp_in_nI (by omega) (by omega)
    have v2 : vp_in (2 * nI j + nI k) 32 := by rw [tl_ix]; exact vp_in_nI (by omega) (by omega)
    have ih' := ih (j + 1) (by omega)
    refine br_f (nI_ge (by omega) (by omega)) ?_
    by_cases v : tl_cv L H ud fr to j
    · refine tl_ycov1 h1 hT (by omega) hf ht v (br_f tl_i10 ⟨v2, vj, v2, nm_r (e' := tl_cr L H ud fr to k e am cd (j + 1)) ?_ (nm_r (nI_1 j) ih')⟩)
      rw [tl_ix, c2, cj]
      exact (if_pos v).symm
    · have ec : tl_cr L H ud fr to k e am cd (j + 1) = tl_cr L H ud fr to k e am cd j := if_neg v
      rw [ec] at ih'
      exact tl_ycov0 h1 hT (by omega) hf ht v (br_t rfl (nm_r (nI_1 j) ih'))
/-! the model's stretch -/
theorem tl_y467 {fr to k : Nat} {post : Int64 → SY → Prop} {J : Int64 → Int64 → Int32 → Int64 → (Nat → Int64) → (Nat → Int64) → (Nat → Int32) → (Nat → Int32) → (Nat → Int32) → (Nat → Int64) → (Nat → Int64) → Prop} {x10 : Int32} {x4 x6 x8 x17 x19 x21 x25 z0 : Int64}
    (h1 : tl_I1 T L H A ud lo up am) (hT : T ≤ 32) (hS : S ≤ 16) (hk : k < 2) (hf : fr < 2 ^ 62) (ht : to < 2 ^ 62)
    (h : J (x6 - (x21 + x25)) (x8 + z0) (x10 + 1) x19 (tl_hs hd k (x21 + x25) z0) (tl_rs re k x25 x17) ud lo up am (tl_cr L H ud fr to k (tl_ea re k x25 x17) am cd S)) :
    wY_swap_467 post J (nI k) x4 x6 x8 x10 (lN fr) (lN to) x17 x19 x21 x25 z0 (nI T) (nI S) (nI F) (lN C) hd re ud lo up am cd := by
  have v : vp_in (nI k) 2 := vp_in_nI hk (by omega)
  have v' : vp_in (nI (1 - k)) 2 := vp_in_nI (by omega) (by omega)
  have ck : (nI k).toNatClampNeg = k := nI_clamp (by omega)
  have ck' : (nI (1 - k)).toNatClampNeg = 1 - k := nI_clamp (by omega)
  unfold wY_swap_467
  rw [tl_1mk hk, ck, ck']
  refine ⟨v, v, nm_e ⟨v', v', nm_e (nm_e (nm_e ⟨v, nm_e (tl_yrat ⟨v, nm_e ⟨S + 1, ?_⟩⟩)⟩))⟩⟩
  exact tl_y556 h1 hT hS hk hf ht h S 0 (by omega)
theorem tl_y434 {fr to k : Nat} {post : Int64 → SY → Prop} {J : Int64 → Int64 → Int32 → Int64 → (Nat → Int64) → (Nat → Int64) → (Nat → Int32) → (Nat → Int32) → (Nat → Int32) → (Nat → Int64) → (Nat → Int64) → Prop} {x10 : Int32} {x4 x6 x8 x17 x19 x21 x25 : Int64}
    (h1 : tl_I1 T L H A ud lo up am) (hT : T ≤ 32) (hS : S ≤ 16) (hk : k < 2) (hf : fr < 2 ^ 62) (ht : to < 2 ^ 62)
    (h : J (x6 - (x21 + x25)) (x8 + tl_ot k x17 (lN C) x19) (x10 + 1) x19 (tl_hs hd k (x21 + x25) (tl_ot k x17 (lN C) x19)) (tl_rs re k x25 x17) ud lo up am (tl_cr L H ud fr to k (tl_ea re k x25 x17) am cd S)) :
    wY_swap_434 post J (nI k) x4 x6 x8 x10 (lN fr) (lN to) x17 x19 x21 x25 (nI T) (nI S) (nI F) (lN C) hd re ud lo up am cd := by
  unfold wY_swap_434
  unfold tl_ot at h
  rcases tl_tok2 hk with rfl | rfl
  · rw [if_pos rfl] at h
    exact br_t rfl (tl_yam1 (tl_y467 h1 hT hS hk hf ht h))
  · rw [if_neg (by decide)] at h
    exact br_f tl_i10 (tl_yam0 (tl_y467 h1 hT hS hk hf ht h))
theorem tl_y281 {fr to k : Nat} {post : Int64 → SY → Prop} {J : Int64 → Int64 → Int32 → Int64 → (Nat → Int64) → (Nat → Int64) → (Nat → Int32) → (Nat → Int32) → (Nat → Int32) → (Nat → Int64) → (Nat → Int64) → Prop} {x10 : Int32} {x4 x6 x8 x17 G : Int64}
    (h1 : tl_I1 T L H A ud lo up am) (hT : T ≤ 32) (hS : S ≤ 16) (hk : k < 2) (hf : fr < 2 ^ 62) (ht : to < 2 ^ 62)
    (h : J (x6 - (tl_pd k x17 (lN C) G x6 (nI F) + tl_fe k x17 (lN C) G x6 (nI F))) (x8 + tl_ot k x17 (lN C) (tl_nx k x17 (lN C) G x6 (nI F))) (x10 + 1) (tl_nx k x17 (lN C) G x6 (nI F)) (tl_hs hd k (tl_pd k x17 (lN C) G x6 (nI F) + tl_fe k x17 (lN C) G x6 (nI F)) (tl_ot k x17 (lN C) (tl_nx k x17 (lN C) G x6 (nI F)))) (tl_rs re k (tl_fe k x17 (lN C) G x6 (nI F)) x17) ud lo up am (tl_cr L H ud fr to k (tl_ea re k (tl_fe k x17 (lN C) G x6 (nI F)) x17) am cd S)) :
    wY_swap_281 post J (nI k) x4 x6 x8 x10 (lN fr) (lN to) x17 G (tl_mv k x17 (lN C) G) (nI T) (nI S) (nI F) (lN C) hd re ud lo up am cd := by
  unfold wY_swap_281
  refine ⟨by decide, nm_e (tl_yrat ?_)⟩
  by_cases z : tl_us x6 (nI F) < tl_mv k x17 (lN C) G
  · have e1 : tl_nx k x17 (lN C) G x6 (nI F) = tl_rc k x17 (lN C) (tl_us x6 (nI F)) := if_pos z
    have e3 : tl_fe k x17 (lN C) G x6 (nI F) = x6 - tl_pd k x17 (lN C) G x6 (nI F) := if_pos z
    rw [e3] at h
    unfold tl_pd at h
    rw [e1] at h
    have h392 : wY_swap_392 post J (nI k) x4 x6 x8 x10 (lN fr) (lN to) x17 (tl_rc k x17 (lN C) (tl_us x6 (nI F))) (nI T) (nI S) (nI F) (lN C) hd re ud lo up am cd := by
      generalize tl_rc k x17 (lN C) (tl_us x6 (nI F)) = n at h
      unfold wY_swap_392
      rcases tl_tok2 hk with rfl | rfl
      · refine br_t rfl (tl_yam0 ?_)
        unfold wY_swap_425
        exact nm_e (tl_y434 h1 hT hS hk hf ht h)
      · refine br_f tl_i10 (tl_yam1 ?_)
        unfold wY_swap_425
        exact nm_e (tl_y434 h1 hT hS hk hf ht h)
    refine br_f (Int64.not_le.mpr z) ?_
    unfold tl_rc at h392
    rcases tl_tok2 hk with rfl | rfl
    · rw [if_pos rfl] at h392
      exact br_t rfl (tl_yrat h392)
    · rw [if_neg (by decide)] at h392
      exact br_f tl_i10 (tl_yrat (nm_e h392))
  · have e1 : tl_nx k x17 (lN C) G x6 (nI F) = G := if_neg z
    have e3 : tl_fe k x17 (lN C) G x6 (nI F) = tl_rt (tl_mv k x17 (lN C) G * (nI F).toInt64) ((1000 - nI F).toInt64) 1 := if_neg z
    rw [e3] at h
    unfold tl_pd at h
    rw [e1] at h
    exact br_t (Int64.not_lt.mp z) (tl_y434 h1 hT hS hk hf ht h)
end
end
section
/-! Y's goal: the same tick as X's -/
def tl_sn (L H A : Nat → Nat) (m t : Nat) : Prop := ∃ i, A i ≠ 0 ∧ ((2 * i < m ∧ L i = t) ∨ (2 * i + 1 < m ∧ H i = t))
theorem tl_sn_s {L H A : Nat → Nat} {m t : Nat} (h : tl_sn L H A (m + 1) t) : tl_sn L H A m t ∨ (A (m / 2) ≠ 0 ∧ t = if m % 2 = 0 then L (m / 2) else H (m / 2)) := by
  obtain ⟨i, ha, h⟩ := h
  rcases h with ⟨h1, h2⟩ | ⟨h1, h2⟩
  · by_cases e : 2 * i < m
    · exact Or.inl ⟨i, ha, Or.inl ⟨e, h2⟩⟩
    · have e1 : m / 2 = i := by omega
      have e2 : m % 2 = 0 := by omega
      rw [e1, if_pos e2]
      exact Or.inr ⟨ha, h2.symm⟩
  · by_cases e : 2 * i + 1 < m
    · exact Or.inl ⟨i, ha, Or.inr ⟨e, h2⟩⟩
    · have e1 : m / 2 = i := by omega
      have e2 : ¬ m % 2 = 0 := by omega
      rw [e1, if_neg e2]
      exact Or.inr ⟨ha, h2.symm⟩
theorem tl_sn_U {L H A : Nat → Nat} {S t : Nat} (h : 0 < tl_U L H A S t) : tl_sn L H A (2 * S) t := by
  obtain ⟨i, hi, ha, h⟩ := tl_U_ex h
  rcases h with h | h
  · exact ⟨i, ha, Or.inl ⟨by omega, h⟩⟩
  · exact ⟨i, ha, Or.inr ⟨by omega, h⟩⟩
section
variable {T S F C c : Nat} {L H A : Nat → Nat} {iF lb rs tt : Int64} {hd re gr pr : Nat → Int64} {us : Nat → Int32} {ne ou : Nat → Int64} {ud lo up : Nat → Int32} {am cr mk cd : Nat → Int64}
/-- one bound is looked at: t is its tick -/
theorem tl_yg1 {post : Int64 → Prop} {x1 : Int32} {b m n : Nat} (h1 : tl_I1 T L H A ud lo up am) (hT : T ≤ 32) (hS : S ≤ 16) (hm : m < 2 * S)
    (hskip : A (m / 2) = 0 → wY_goal_6 post x1 (nI T) (nI S) (nI F) (lN C) hd re ud lo up am cd n (lN (tl_R b)) (nI (m + 1)))
    (hlook : A (m / 2) ≠ 0 → ∀ t, t = (if m % 2 = 0 then L (m / 2) else H (m / 2)) → t ≤ 32 → 0 < tl_U L H A S t → wY_goal_70 post (wY_goal_6 post x1 (nI T) (nI S) (nI F) (lN C) hd re ud lo up am cd n) x1 (lN (tl_R b)) (nI m) (nI t) (nI T) (nI S) (nI F) (lN C) hd re ud lo up am cd) :
    wY_goal_6 post x1 (nI T) (nI S) (nI F) (lN C) hd re ud lo up am cd (n + 1) (lN (tl_R b)) (nI m) := by
  obtain ⟨e1, e2, e3, hl, hh, hA, -, hud⟩ := h1 (m / 2)
  have ed : nI m / 2 = nI (m / 2) := pk_div (d := 2) (by omega) (by omega) (by omega)
  have er : nI m - nI (m / 2) * 2 = nI (m % 2) := by
    rw [← ed]
    exact pk_rem (d := 2) (by omega) (by omega) (by omega)
  have ci : (nI (m / 2)).toNatClampNeg = m / 2 := nI_clamp (by omega)
  have vi : vp_in (nI (m / 2)) 16 := vp_in_nI (by omega) (by omega)
  unfold wY_goal_6
  rw [ed, er, tl_ix0]
  refine br_f (nI_ge hm (by omega)) ⟨by decide, nm_e ?_⟩
  rw [ci, e1, e2, e3]
  refine ⟨vi, ?_⟩
  by_cases u : ud (m / 2) = 0
  · have a0 : A (m / 2) = 0 := by
      rcases Nat.eq_zero_or_pos (A (m / 2)) with z | z
      · exact z
      · exact absurd u (hud (by omega))
    exact br_t u (nm_r (nI_1 m) (hskip a0))
  · refine br_f u ⟨vi, ?_⟩
    by_cases a0 : A (m / 2) = 0
    · have z : lN (A (m / 2)) ≤ 0 := by rw [a0]; decide
      exact br_t z (nm_r (nI_1 m) (hskip a0))
    · have z : ¬ lN (A (m / 2)) ≤ 0 := fun y => by
        have := (pk_lLE (b := 0) (by omega) (by omega)).mp y
        omega
      refine br_f z ⟨by decide, ?_⟩
      by_cases p : m % 2 = 0
      · have q := hlook a0 (L (m / 2)) (by rw [if_pos p]) (by omega) (tl_U_pos (i := m / 2) (by omega) a0 (Or.inl rfl))
        exact br_t (by rw [p]; rfl) ⟨vi, q⟩
      · have q := hlook a0 (H (m / 2)) (by rw [if_neg p]) (by omega) (tl_U_pos (i := m / 2) (by omega) a0 (Or.inr rfl))
        exact br_f (nI_ne0 (by omega) (by omega)) ⟨vi, q⟩
theorem tl_yg0L {post : Int64 → Prop} {g lim : Nat} (h1 : tl_I1 T L H A ud lo up am) (hT : T ≤ 32) (hS : S ≤ 16)
    (hcT : c < T) (hC1 : tl_R c < C) (hC2 : C ≤ tl_R (c + 1)) (g1 : lim ≤ g) (g2 : g ≤ c) (g3 : 0 < tl_U L H A S g ∨ lim = g) (g4 : ∀ s, g < s → s ≤ c → tl_U L H A S s = 0)
    (h : post (lN (tl_R g))) : ∀ d m b, m + d = 2 * S → lim ≤ b → b ≤ g → (∀ t, tl_sn L H A m t → tl_R t < C → t ≤ b) → wY_goal_6 post 0 (nI T) (nI S) (nI F) (lN C) hd re ud lo up am cd (d + 1) (lN (tl_R b)) (nI m) := by
  have hCb := tl_R_b (n := c + 1) (by omega)
  intro d
  induction d with
  | zero =>
    intro m b hm b1 b2 b3
    have e : m = 2 * S := by omega
    subst e
    have eb : b = g := by
      rcases g3 with y | y
      · have := b3 g (tl_sn_U y) (by have := tl_R_le g2; omega)
        omega
      · omega
    rw [eb]
    unfold wY_goal_6
    rw [tl_ix0]
    exact br_t (nI_le (Nat.le_refl _) (by omega)) h
  | succ d ih =>
    intro m b hm b1 b2 b3
    refine tl_yg1 h1 hT hS (by omega) (fun a0 => ?_) (fun a0 t et ht hU => ?_)
    · refine ih (m + 1) b (by omega) b1 b2 (fun t ht hR => ?_)
      rcases tl_sn_s ht with y | ⟨y, -⟩
      · exact b3 t y hR
      · exact absurd a0 y
    · have hRt := tl_R_b (n := t) ht
      have hRb := tl_R_b (n := b) (by omega)
      unfold wY_goal_70
      refine tl_ytp ht (br_t rfl ?_)
      by_cases q1 : C ≤ tl_R t
      · refine br_t ((pk_lLE (by omega) (by omega)).mpr q1) (nm_r (nI_1 m) (ih (m + 1) b (by omega) b1 b2 (fun s hs hR => ?_)))
        rcases tl_sn_s hs with y | ⟨-, y⟩
        · exact b3 s y hR
        · rw [y, ← et] at hR
          omega
      · have q1' : ¬ lN C ≤ lN (tl_R t) := fun z => q1 ((pk_lLE (by omega) (by omega)).mp z)
        by_cases q2 : tl_R t ≤ tl_R b
        · refine br_f q1' (br_t ((pk_lLE (by omega) (by omega)).mpr q2) (nm_r (nI_1 m) (ih (m + 1) b (by omega) b1 b2 (fun s hs hR => ?_))))
          rcases tl_sn_s hs with y | ⟨-, y⟩
          · exact b3 s y hR
          · rw [y, ← et]
            exact tl_R_lei.mp q2
        · have q2' : ¬ lN (tl_R t) ≤ lN (tl_R b) := fun z => q2 ((pk_lLE (by omega) (by omega)).mp z)
          have hbt : b < t := tl_R_lti.mp (by omega)
          have htc : t ≤ c := by
            have : t < c + 1 := tl_R_lti.mp (by omega)
            omega
          have htg : t ≤ g := by
            rcases Nat.lt_or_ge g t with y | y
            · have := g4 t y htc
              omega
            · exact y
          refine br_f q1' (br_f q2' (nm_r (nI_1 m) (ih (m + 1) t (by omega) (by omega) htg (fun s hs hR => ?_))))
          rcases tl_sn_s hs with y | ⟨-, y⟩
          · have := b3 s y hR
            omega
          · rw [y, ← et]
            exact Nat.le_refl _
theorem tl_ygoal0 {post : Int64 → Prop} {g lim : Nat} (h1 : tl_I1 T L H A ud lo up am) (hT : T ≤ 32) (hS : S ≤ 16)
    (hcT : c < T) (hC1 : tl_R c < C) (hC2 : C ≤ tl_R (c + 1)) (g1 : lim ≤ g) (g2 : g ≤ c) (g3 : 0 < tl_U L H A S g ∨ lim = g) (g4 : ∀ s, g < s → s ≤ c → tl_U L H A S s = 0)
    (h : post (lN (tl_R g))) : wpY_goal post (nI T, nI S, nI F, lN C, hd, re, ud, lo, up, am, cd) 0 (lN (tl_R lim)) := by
  unfold wpY_goal
  refine ⟨2 * S + 1, tl_yg0L h1 hT hS hcT hC1 hC2 g1 g2 g3 g4 h (2 * S) 0 lim (by omega) (Nat.le_refl _) g1 (fun t ht => ?_)⟩
  obtain ⟨i, -, hi⟩ := ht
  omega
theorem tl_yg1L {post : Int64 → Prop} {g lim : Nat} (h1 : tl_I1 T L H A ud lo up am) (hT : T ≤ 32) (hS : S ≤ 16)
    (hcT : c < T) (hC1 : tl_R c ≤ C) (hC2 : C < tl_R (c + 1)) (hlim : lim ≤ 32) (g1 : g ≤ lim) (g2 : c < g) (g3 : 0 < tl_U L H A S g ∨ lim = g) (g4 : ∀ s, c < s → s < g → tl_U L H A S s = 0)
    (h : post (lN (tl_R g))) : ∀ d m b, m + d = 2 * S → b ≤ lim → g ≤ b → (∀ t, tl_sn L H A m t → C < tl_R t → b ≤ t) → wY_goal_6 post 1 (nI T) (nI S) (nI F) (lN C) hd re ud lo up am cd (d + 1) (lN (tl_R b)) (nI m) := by
  have hCb := tl_R_b (n := c + 1) (by omega)
  intro d
  induction d with
  | zero =>
    intro m b hm b1 b2 b3
    have e : m = 2 * S := by omega
    subst e
    have eb : b = g := by
      rcases g3 with y | y
      · have := b3 g (tl_sn_U y) (by have := tl_R_le (a := c + 1) (b := g) (by omega); omega)
        omega
      · omega
    rw [eb]
    unfold wY_goal_6
    rw [tl_ix0]
    exact br_t (nI_le (Nat.le_refl _) (by omega)) h
  | succ d ih =>
    intro m b hm b1 b2 b3
    refine tl_yg1 h1 hT hS (by omega) (fun a0 => ?_) (fun a0 t et ht hU => ?_)
    · refine ih (m + 1) b (by omega) b1 b2 (fun t ht hR => ?_)
      rcases tl_sn_s ht with y | ⟨y, -⟩
      · exact b3 t y hR
      · exact absurd a0 y
    · have hRt := tl_R_b (n := t) ht
      have hRb := tl_R_b (n := b) (by omega)
      unfold wY_goal_70
      refine tl_ytp ht (br_f tl_i10 ?_)
      by_cases q1 : tl_R t ≤ C
      · refine br_t ((pk_lLE (by omega) (by omega)).mpr q1) (nm_r (nI_1 m) (ih (m + 1) b (by omega) b1 b2 (fun s hs hR => ?_)))
        rcases tl_sn_s hs with y | ⟨-, y⟩
        · exact b3 s y hR
        · rw [y, ← et] at hR
          omega
      · have q1' : ¬ lN (tl_R t) ≤ lN C := fun z => q1 ((pk_lLE (by omega) (by omega)).mp z)
        by_cases q2 : tl_R b ≤ tl_R t
        · refine br_f q1' (br_t ((pk_lLE (by omega) (by omega)).mpr q2) (nm_r (nI_1 m) (ih (m + 1) b (by omega) b1 b2 (fun s hs hR => ?_))))
          rcases tl_sn_s hs with y | ⟨-, y⟩
          · exact b3 s y hR
          · rw [y, ← et]
            exact tl_R_lei.mp q2
        · have q2' : ¬ lN (tl_R b) ≤ lN (tl_R t) := fun z => q2 ((pk_lLE (by omega) (by omega)).mp z)
          have hbt : t < b := tl_R_lti.mp (by omega)
          have htc : c < t := tl_R_lti.mp (by omega)
          have htg : g ≤ t := by
            rcases Nat.lt_or_ge t g with y | y
            · have := g4 t htc y
              omega
            · exact y
          refine br_f q1' (br_f q2' (nm_r (nI_1 m) (ih (m + 1) t (by omega) (by omega) htg (fun s hs hR => ?_))))
          rcases tl_sn_s hs with y | ⟨-, y⟩
          · have := b3 s y hR
            omega
          · rw [y, ← et]
            exact Nat.le_refl _
theorem tl_ygoal1 {post : Int64 → Prop} {g lim : Nat} (h1 : tl_I1 T L H A ud lo up am) (hT : T ≤ 32) (hS : S ≤ 16)
    (hcT : c < T) (hC1 : tl_R c ≤ C) (hC2 : C < tl_R (c + 1)) (hlim : lim ≤ 32) (g1 : g ≤ lim) (g2 : c < g) (g3 : 0 < tl_U L H A S g ∨ lim = g) (g4 : ∀ s, c < s → s < g → tl_U L H A S s = 0)
    (h : post (lN (tl_R g))) : wpY_goal post (nI T, nI S, nI F, lN C, hd, re, ud, lo, up, am, cd) 1 (lN (tl_R lim)) := by
  unfold wpY_goal
  refine ⟨2 * S + 1, tl_yg1L h1 hT hS hcT hC1 hC2 hlim g1 g2 g3 g4 h (2 * S) 0 lim (by omega) (Nat.le_refl _) g1 (fun t ht => ?_)⟩
  obtain ⟨i, -, hi⟩ := ht
  omega
end
end
section
/-! a stretch's facets -/
section
variable {T S F C c : Nat} {L H A : Nat → Nat} {iF lb rs tt : Int64} {hd re gr pr : Nat → Int64} {us : Nat → Int32} {ne ou : Nat → Int64} {ud lo up : Nat → Int32} {am cr mk cd : Nat → Int64}
theorem tl_cv0 {g : Nat} (i1 : tl_I1 T L H A ud lo up am) (hC1 : tl_R c < C) (hC2 : C ≤ tl_R (c + 1)) (g2 : g ≤ c) (g4 : ∀ s, g < s → s ≤ c → tl_U L H A S s = 0) : ∀ i, i < S → A i ≠ 0 → (tl_cv L H ud (tl_R g) C i ↔ (L i ≤ c ∧ c < H i)) := by
  intro i hi ha
  constructor
  · rintro ⟨-, v2, v3⟩
    have a := tl_R_lei.mp v2
    have b : c < H i := tl_R_lti.mp (by omega)
    exact ⟨by omega, b⟩
  · rintro ⟨a, b⟩
    refine ⟨(i1 i).2.2.2.2.2.2.2 ha, tl_R_le ?_, ?_⟩
    · rcases Nat.lt_or_ge g (L i) with y | y
      · have := g4 (L i) y a
        have := tl_U_pos (L := L) (H := H) (A := A) hi ha (Or.inl rfl)
        omega
      · exact y
    · have := tl_R_le (a := c + 1) (b := H i) (by omega)
      omega
theorem tl_cv1 {g : Nat} (i1 : tl_I1 T L H A ud lo up am) (hC1 : tl_R c ≤ C) (hC2 : C < tl_R (c + 1)) (g2 : c < g) (g4 : ∀ s, c < s → s < g → tl_U L H A S s = 0) : ∀ i, i < S → A i ≠ 0 → (tl_cv L H ud C (tl_R g) i ↔ (L i ≤ c ∧ c < H i)) := by
  intro i hi ha
  constructor
  · rintro ⟨-, v2, v3⟩
    have a : L i < c + 1 := tl_R_lti.mp (by omega)
    have b := tl_R_lei.mp v3
    exact ⟨by omega, by omega⟩
  · rintro ⟨a, b⟩
    refine ⟨(i1 i).2.2.2.2.2.2.2 ha, ?_, tl_R_le ?_⟩
    · have := tl_R_le a
      omega
    · rcases Nat.lt_or_ge (H i) g with y | y
      · have := g4 (H i) b y
        have := tl_U_pos (L := L) (H := H) (A := A) hi ha (Or.inr rfl)
        omega
      · exact y
theorem tl_sc_In {fr to : Nat} (hv : ∀ i, i < S → A i ≠ 0 → (tl_cv L H ud fr to i ↔ (L i ≤ c ∧ c < H i))) : tl_sm (tl_sc L H A ud fr to) S = tl_In L H A S c := by
  refine tl_sm_congr (fun i hi => ?_)
  unfold tl_sc
  by_cases ha : A i = 0
  · rw [ha, ite_self, ite_self]
  · have h := hv i hi ha
    by_cases z : L i ≤ c ∧ c < H i
    · rw [if_pos z, if_pos (h.mpr z)]
    · rw [if_neg z, if_neg (fun y => z (h.mp y))]
theorem tl_fee_I {k f fr to bc br : Nat} (hk : k < 2) (hS : S ≤ 16) (i1 : tl_I1 T L H A ud lo up am) (i4 : tl_I4 S c L H A gr ou cr mk cd) (i5 : tl_I5 bc br cd re) (hl : 0 < tl_In L H A S c) (hf : f ≤ 1000000) (hbr : 16777216 ≤ br) (hbr2 : br ≤ 4294967296)
    (hv : ∀ i, i < S → A i ≠ 0 → (tl_cv L H ud fr to i ↔ (L i ≤ c ∧ c < H i))) :
    tl_I4 S c L H A (vp_updL gr k (gr k + tl_ea re k (lN f) (lN (tl_In L H A S c)))) ou cr mk (tl_cr L H ud fr to k (tl_ea re k (lN f) (lN (tl_In L H A S c))) am cd S) ∧
    tl_I5 (bc + 2199023255552) br (tl_cr L H ud fr to k (tl_ea re k (lN f) (lN (tl_In L H A S c))) am cd S) (tl_rs re k (lN f) (lN (tl_In L H A S c))) := by
  have hLH : ∀ i, A i ≠ 0 → L i < H i := fun i h => (i1 i).2.2.2.2.2.2.1 ((i1 i).2.2.2.2.2.2.2 h)
  have hlb := tl_In_bd (L := L) (H := H) (A := A) (S := S) (c := c) (fun i => (i1 i).2.2.2.2.2.1) hS
  have hle : ∀ i, i < S → L i ≤ c ∧ c < H i → A i ≤ tl_In L H A S c := fun i hi h => tl_In_le hi h
  obtain ⟨q, eq, hq⟩ := i5.2 k
  have ee : tl_ea re k (lN f) (lN (tl_In L H A S c)) = lN ((q + f * 1048576) / tl_In L H A S c) := by
    unfold tl_ea
    rw [eq, show (1048576 : Int64) = lN 1048576 from rfl, lN_mul, lN_add]
    exact tl_rt0 (by omega) hl (by omega)
  have ers : tl_rs re k (lN f) (lN (tl_In L H A S c)) = vp_updL re k (lN ((q + f * 1048576) - (q + f * 1048576) / tl_In L H A S c * tl_In L H A S c)) := by
    unfold tl_rs
    rw [ee, eq, show (1048576 : Int64) = lN 1048576 from rfl, lN_mul, lN_add, lN_mul, lN_sub (Nat.div_mul_le_self _ _)]
  constructor
  · refine tl_I4_fee (v := fun i => tl_cv L H ud fr to i) hk hLH hv pk_uLs (fun t ht => pk_uLn ht) (fun i hi => ?_) (fun i hi t ht htk => tl_cr_oth S (fun j hj => by omega)) i4
    rw [tl_cr_hit S hi, (i1 i).2.2.1]
  · rw [ers, ee]
    generalize tl_In L H A S c = l at hl hlb hle
    have hmod := Nat.div_add_mod (q + f * 1048576) l
    have hlt := Nat.mod_lt (q + f * 1048576) hl
    rw [Nat.mul_comm] at hmod
    have hdl : (q + f * 1048576) / l * l ≤ q + f * 1048576 := Nat.div_mul_le_self _ _
    refine ⟨fun j => ?_, tl_B_up i5.2 ⟨_, rfl, by omega⟩⟩
    obtain ⟨p, ep, hp⟩ := i5.1 j
    by_cases z : j % 2 = k ∧ j / 2 < S
    · have ej : j = 2 * (j / 2) + k := by omega
      rw [ej] at ep ⊢
      rw [tl_cr_hit S z.2, ep, (i1 (j / 2)).2.2.1]
      by_cases v : tl_cv L H ud fr to (j / 2)
      · rw [if_pos v, lN_mul, lN_add]
        refine ⟨_, rfl, ?_⟩
        by_cases ha : A (j / 2) = 0
        · rw [ha, Nat.mul_zero]
          omega
        · have h2 := hle (j / 2) z.2 ((hv (j / 2) z.2 ha).mp v)
          have h3 : (q + f * 1048576) / l * A (j / 2) ≤ (q + f * 1048576) / l * l := Nat.mul_le_mul_left _ h2
          omega
      · rw [if_neg v, Int64.add_zero]
        exact ⟨p, rfl, by omega⟩
    · rw [tl_cr_oth S (fun i hi => by omega), ep]
      exact ⟨p, rfl, by omega⟩
end
end
section
/-! one round of swap: both sides, one outcome -/
section
variable {T S F C c : Nat} {L H A : Nat → Nat} {iF lb rs tt : Int64} {hd re gr pr : Nat → Int64} {us : Nat → Int32} {ne ou : Nat → Int64} {ud lo up : Nat → Int32} {am cr mk cd : Nat → Int64}
theorem tl_round0 {lim r bc br : Nat} (i0 : tl_I0 T S F) (i1 : tl_I1 T L H A ud lo up am) (i2 : tl_I2 S L H A us ne lb) (i3 : tl_I3 T S C c L H A pr iF) (i4 : tl_I4 S c L H A gr ou cr mk cd) (i5 : tl_I5 bc br cd re)
    (hbr : 16777216 ≤ br) (hbr2 : br ≤ 4294967296) (hlim : lim ≤ T) (hd0 : tl_R lim < C) (hr0 : 0 < r) (hr : r ≤ 1000000) :
    ∃ (C' c' r' : Nat) (iF' tt' : Int64) (hd' re' gr' ou' cd' : Nat → Int64), tl_I3 T S C' c' L H A pr iF' ∧ tl_I4 S c' L H A gr' ou' cr mk cd' ∧ tl_I5 (bc + 2199023255552) br cd' re' ∧ r' ≤ r ∧ tl_R lim ≤ C' ∧ (r' = 0 ∨ ∃ g, C' = tl_R g ∧ tl_R g < C) ∧
      (∀ (post : Int64 → SX → Prop) (n q : Nat), q ≤ T → wX_swap_40 post 0 (nI lim) (lN (tl_R lim)) n (nI (q + 1)) (nI T) (nI S) (nI F) (lN C') (nI c') iF' lb (lN r') tt' hd' re' gr' pr us ne ou' ud lo up am cr mk → wX_swap_40 post 0 (nI lim) (lN (tl_R lim)) (n + 1) (nI q) (nI T) (nI S) (nI F) (lN C) (nI c) iF lb (lN r) tt hd re gr pr us ne ou ud lo up am cr mk) ∧
      (∀ (post : Int64 → SY → Prop) (n q : Nat), q < T → wY_swap_114 post 0 (lN (tl_R lim)) (nI T) (nI S) (nI F) n (lN r') tt' (nI (q + 1)) (lN C') hd' re' ud lo up am cd' → wY_swap_114 post 0 (lN (tl_R lim)) (nI T) (nI S) (nI F) (n + 1) (lN r) tt (nI q) (lN C) hd re ud lo up am cd) := by
  obtain ⟨hT8, hT, -, hS, hF⟩ := id i0
  have hLb := tl_R_b (n := lim) (by omega)
  have hCb0 : C ≤ 456014 := by
    have := tl_R_b (n := c + 1) (by have := i3.2.1; omega)
    have := i3.2.2.2.1
    omega
  obtain ⟨c1, iF1, ou1, j3, j4, hRc, hcc, X1⟩ := tl_xcross0 (F := F) (rs := lN r) (tt := tt) (hd := hd) (re := re) hT hS i1 i2 i3 i4 (by have := tl_R_le (Nat.zero_le lim); omega)
  obtain ⟨p1, p2, p3, p4, p5⟩ := id j3
  have hlc : lim ≤ c1 := by
    have : lim < c1 + 1 := tl_R_lti.mp (by omega)
    omega
  obtain ⟨g, g1, g2, g3, g4, X2⟩ := tl_xgoal0 (T := T) (S := S) (F := F) (C := C) (L := L) (H := H) (A := A) (lb := lb) (rs := lN r) (tt := tt) (hd := hd) (re := re) (gr := gr) (pr := pr) (us := us) (ne := ne) (ud := ud) (lo := lo) (up := up) (am := am) (cr := cr) (mk := mk) (c := c1) (iF := iF1) (ou := ou1) (lim := lim) i2 (by omega) hlc
  have hRg : tl_R g < C := by
    have := tl_R_le g2
    omega
  have hRl : tl_R lim ≤ tl_R g := tl_R_le g1
  have gT : g ≤ 32 := by omega
  have cv := tl_cv0 (S := S) i1 hRc p4 g2 g4
  have hRgb := tl_R_b gT
  have hRg0 := tl_R_ge g
  have vg : vp_in (nI g) 33 := vp_in_nI (by omega) (by omega)
  have eg : pr (nI g).toNatClampNeg = lN (tl_R g) := by rw [nI_clamp (by omega)]; exact p1 g (by omega)
  have eCl : ¬ lN C = lN (tl_R lim) := fun z => by
    have := (pk_lEQ (by omega) (by omega)).mp z
    omega
  have er0 : ¬ lN r ≤ 0 := fun z => by
    have := (pk_lLE (b := 0) (by omega) (by omega)).mp z
    omega
  have hIb := tl_In_bd (L := L) (H := H) (A := A) (S := S) (c := c1) (fun i => (i1 i).2.2.2.2.2.1) hS
  have esum := tl_sc_In cv
  have YW : ∀ (post : Int64 → SY → Prop) (n q : Nat), q < T → wY_swap_197 post (wY_swap_114 post 0 (lN (tl_R lim)) (nI T) (nI S) (nI F) n) 0 (lN (tl_R lim)) (lN r) tt (nI q) (lN (tl_R g)) (lN (tl_R g)) (lN (C)) (nI T) (nI S) (nI F) (lN C) hd re ud lo up am cd (0 + 1) (lN (tl_sm (tl_sc L H A ud (tl_R g) (C)) S)) (nI S) → wY_swap_114 post 0 (lN (tl_R lim)) (nI T) (nI S) (nI F) (n + 1) (lN r) tt (nI q) (lN C) hd re ud lo up am cd := by
    intro post n q hq h
    unfold wY_swap_114
    have b1 : lN (tl_R g) ≤ lN C := (pk_lLE (by omega) (by omega)).mpr (by omega)
    refine br_f (nI_ge hq (by omega)) (br_f er0 (br_f eCl (tl_ygoal0 i1 hT hS p2 hRc p4 g1 g2 g3 g4 (br_t b1 ?_))))
    unfold wY_swap_168
    exact br_t b1 ⟨0 + 1 + S, tl_y197 i1 hT hS (by omega) (by omega) h S 0 (by omega)⟩
  rw [esum] at YW
  have XW : ∀ (post : Int64 → SX → Prop) (n q : Nat), q ≤ T → ((iF1 ≤ 0 → wX_swap_115 post (wX_swap_40 post 0 (nI lim) (lN (tl_R lim)) n) 0 (nI lim) (lN (tl_R lim)) (nI q) (nI T) (nI S) (nI F) (lN (tl_R g)) (nI c1) iF1 lb (lN r) tt hd re gr pr us ne ou1 ud lo up am cr mk) ∧ (¬ iF1 ≤ 0 → wpX_trade (fun u => match u with | (yT, yS, yF, yC, yc, yiF, ylb, yrs, ytt, yhd, yre, ygr, ypr, yus, yne, you, yud, ylo, yup, yam, ycr, ymk) => wX_swap_115 post (wX_swap_40 post 0 (nI lim) (lN (tl_R lim)) n) 0 (nI lim) (lN (tl_R lim)) (nI q) yT yS yF yC yc yiF ylb yrs ytt yhd yre ygr ypr yus yne you yud ylo yup yam ycr ymk) (nI T, nI S, nI F, lN C, nI c1, iF1, lb, lN r, tt, hd, re, gr, pr, us, ne, ou1, ud, lo, up, am, cr, mk) 0 (lN (tl_R g)))) → wX_swap_40 post 0 (nI lim) (lN (tl_R lim)) (n + 1) (nI q) (nI T) (nI S) (nI F) (lN C) (nI c) iF lb (lN r) tt hd re gr pr us ne ou ud lo up am cr mk := by
    intro post n q hq h
    unfold wX_swap_40
    exact br_f (nI_nlt hq (by omega)) (br_f er0 (br_f eCl (X1 _ (X2 _ ⟨vg, nm_r eg h⟩))))
  by_cases hl : tl_In L H A S c1 = 0
  · have e0 : iF1 ≤ 0 := by
      rw [p5, hl]
      decide
    obtain ⟨c2, d1, d2, d3, d4, X3⟩ := tl_xrel0 (T := T) (S := S) (F := F) (C := tl_R g) (lb := lb) (rs := lN r) (tt := tt) (hd := hd) (re := re) (gr := gr) (pr := pr) (us := us) (ne := ne) (ud := ud) (lo := lo) (up := up) (am := am) (cr := cr) (mk := mk) (c := c1) (iF := iF1) (ou := ou1) hT p1 (tl_R_le (Nat.zero_le g)) hRgb p2 (by omega)
    have dead : ∀ t, c2 < t → t ≤ c1 → tl_U L H A S t = 0 := fun t a b => g4 t (tl_R_lti.mp (by have := d4 t a b; omega)) b
    refine ⟨tl_R g, c2, r, iF1, tt, hd, re, gr, ou1, cd, ⟨p1, by omega, d2, d3, by rw [p5, tl_In_move d1 dead]⟩, tl_I4_move d1 dead j4, tl_I5_mono i5 (by omega) (Nat.le_refl _), Nat.le_refl _, hRl, Or.inr ⟨g, rfl, hRg⟩, fun post n q hq h => ?_, fun post n q hq h => ?_⟩
    · refine XW post n q hq (br_t e0 ?_)
      unfold wX_swap_115
      exact X3 _ (nm_r (nI_1 q) h)
    · refine YW post n q hq ?_
      rw [hl]
      exact br_t (nI_le (Nat.le_refl _) (by omega)) (br_t (by decide) (nm_r (nI_1 q) h))
  · have hl0 : 0 < tl_In L H A S c1 := by omega
    have e0 : ¬ iF1 ≤ 0 := by
      rw [p5]
      intro z
      have := (pk_lLE (b := 0) (by omega) (by omega)).mp z
      omega
    obtain ⟨n1, pd, fe, q1, q2, q3, q4, q5, q6, q7⟩ := tl_num0 (G := tl_R g) (r := r) (F := F) hl0 hIb (by omega) (Nat.le_of_lt hRg) hCb0 hr hF
    obtain ⟨k4, k5⟩ := tl_fee_I (k := 0) (f := fe) (by decide) hS i1 j4 i5 hl0 (by omega) hbr hbr2 cv
    have ers : lN r - (lN pd + lN fe) = lN (r - (pd + fe)) := by rw [lN_add, lN_sub q6]
    obtain ⟨c2, d1, d2, d3, d4, X3⟩ := tl_xrel0 (T := T) (S := S) (F := F) (C := n1) (lb := lb) (rs := lN (r - (pd + fe))) (tt := tt + tl_ot 0 (lN (tl_In L H A S c1)) (lN C) (lN n1)) (hd := tl_hs hd 0 (lN pd + lN fe) (tl_ot 0 (lN (tl_In L H A S c1)) (lN C) (lN n1))) (re := tl_rs re 0 (lN fe) (lN (tl_In L H A S c1))) (gr := vp_updL gr 0 (gr 0 + tl_ea re 0 (lN fe) (lN (tl_In L H A S c1)))) (pr := pr) (us := us) (ne := ne) (ud := ud) (lo := lo) (up := up) (am := am) (cr := cr) (mk := mk) (c := c1) (iF := iF1) (ou := ou1) hT p1 (by have := tl_R_le (Nat.zero_le g); omega) (by omega) p2 (by omega)
    have dead : ∀ t, c2 < t → t ≤ c1 → tl_U L H A S t = 0 := fun t a b => g4 t (tl_R_lti.mp (by have := d4 t a b; omega)) b
    refine ⟨n1, c2, r - (pd + fe), iF1, tt + tl_ot 0 (lN (tl_In L H A S c1)) (lN C) (lN n1), tl_hs hd 0 (lN pd + lN fe) (tl_ot 0 (lN (tl_In L H A S c1)) (lN C) (lN n1)), tl_rs re 0 (lN fe) (lN (tl_In L H A S c1)), vp_updL gr 0 (gr 0 + tl_ea re 0 (lN fe) (lN (tl_In L H A S c1))), ou1, tl_cr L H ud (tl_R g) (C) 0 (tl_ea re 0 (lN fe) (lN (tl_In L H A S c1))) am cd S, ⟨p1, by omega, d2, d3, by rw [p5, tl_In_move d1 dead]⟩, tl_I4_move d1 dead k4, k5, by omega, by omega, ?_, fun post n q hq h => ?_, fun post n q hq h => ?_⟩
    · rcases q7 with y | y
      · exact Or.inr ⟨g, y, hRg⟩
      · exact Or.inl (by omega)
    · refine XW post n q hq (br_f e0 ?_)
      rw [p5] at X3 h ⊢
      refine tl_xtrade (k := 0) (by decide) ?_
      rw [q1, q2, q3, ers]
      unfold wX_swap_115
      exact X3 _ (nm_r (nI_1 q) h)
    · refine YW post n q hq ?_
      have z17 : ¬ lN (tl_In L H A S c1) ≤ 0 := by rw [← p5]; exact e0
      refine br_t (nI_le (Nat.le_refl _) (by omega)) (br_f z17 ?_)
      have y281 := tl_y281 (k := 0) (post := post) (J := wY_swap_114 post 0 (lN (tl_R lim)) (nI T) (nI S) (nI F) n) (x10 := nI q) (x4 := lN (tl_R lim)) (x6 := lN r) (x8 := tt) (x17 := lN (tl_In L H A S c1)) (G := lN (tl_R g)) (F := F) (C := C) (hd := hd) (re := re) (cd := cd) i1 hT hS (by decide) (show tl_R g < 2 ^ 62 by omega) (show C < 2 ^ 62 by omega) (by rw [q1, q2, q3, ers, nI_1]; exact h)
      unfold tl_mv at y281
      rw [if_pos rfl] at y281
      exact br_t rfl (tl_yam0 y281)
theorem tl_round1 {lim r bc br : Nat} (i0 : tl_I0 T S F) (i1 : tl_I1 T L H A ud lo up am) (i2 : tl_I2 S L H A us ne lb) (i3 : tl_I3 T S C c L H A pr iF) (i4 : tl_I4 S c L H A gr ou cr mk cd) (i5 : tl_I5 bc br cd re)
    (hbr : 16777216 ≤ br) (hbr2 : br ≤ 4294967296) (hlim : lim ≤ T) (hd0 : C < tl_R lim) (hr0 : 0 < r) (hr : r ≤ 1000000) :
    ∃ (C' c' r' : Nat) (iF' tt' : Int64) (hd' re' gr' ou' cd' : Nat → Int64), tl_I3 T S C' c' L H A pr iF' ∧ tl_I4 S c' L H A gr' ou' cr mk cd' ∧ tl_I5 (bc + 2199023255552) br cd' re' ∧ r' ≤ r ∧ C' ≤ tl_R lim ∧ (r' = 0 ∨ ∃ g, C' = tl_R g ∧ C < tl_R g) ∧
      (∀ (post : Int64 → SX → Prop) (n q : Nat), q ≤ T → wX_swap_40 post 1 (nI lim) (lN (tl_R lim)) n (nI (q + 1)) (nI T) (nI S) (nI F) (lN C') (nI c') iF' lb (lN r') tt' hd' re' gr' pr us ne ou' ud lo up am cr mk → wX_swap_40 post 1 (nI lim) (lN (tl_R lim)) (n + 1) (nI q) (nI T) (nI S) (nI F) (lN C) (nI c) iF lb (lN r) tt hd re gr pr us ne ou ud lo up am cr mk) ∧
      (∀ (post : Int64 → SY → Prop) (n q : Nat), q < T → wY_swap_114 post 1 (lN (tl_R lim)) (nI T) (nI S) (nI F) n (lN r') tt' (nI (q + 1)) (lN C') hd' re' ud lo up am cd' → wY_swap_114 post 1 (lN (tl_R lim)) (nI T) (nI S) (nI F) (n + 1) (lN r) tt (nI q) (lN C) hd re ud lo up am cd) := by
  obtain ⟨hT8, hT, -, hS, hF⟩ := id i0
  have hLb := tl_R_b (n := lim) (by omega)
  have hCb0 : C ≤ 456014 := by
    have := tl_R_b (n := c + 1) (by have := i3.2.1; omega)
    have := i3.2.2.2.1
    omega
  obtain ⟨c1, iF1, ou1, j3, j4, hRc, hcc, X1⟩ := tl_xcross1 (F := F) (rs := lN r) (tt := tt) (hd := hd) (re := re) hT8 hT hS i1 i2 i3 i4 (by have := tl_R_le hlim; omega)
  obtain ⟨p1, p2, p3, p4, p5⟩ := id j3
  have hlc : c1 < lim := by
    have : c1 < lim := tl_R_lti.mp (by omega)
    omega
  obtain ⟨g, g2, g1, g3, g4, X2⟩ := tl_xgoal1 (T := T) (S := S) (F := F) (C := C) (L := L) (H := H) (A := A) (lb := lb) (rs := lN r) (tt := tt) (hd := hd) (re := re) (gr := gr) (pr := pr) (us := us) (ne := ne) (ud := ud) (lo := lo) (up := up) (am := am) (cr := cr) (mk := mk) (c := c1) (iF := iF1) (ou := ou1) (lim := lim) i2 (by omega) hlc (by omega)
  have hRg : C < tl_R g := by
    have := tl_R_le (a := c1 + 1) (b := g) g2
    omega
  have hRl : tl_R g ≤ tl_R lim := tl_R_le g1
  have gT : g ≤ 32 := by omega
  have cv := tl_cv1 (S := S) i1 p3 hRc g2 g4
  have hRgb := tl_R_b gT
  have hRg0 := tl_R_ge g
  have vg : vp_in (nI g) 33 := vp_in_nI (by omega) (by omega)
  have eg : pr (nI g).toNatClampNeg = lN (tl_R g) := by rw [nI_clamp (by omega)]; exact p1 g (by omega)
  have eCl : ¬ lN C = lN (tl_R lim) := fun z => by
    have := (pk_lEQ (by omega) (by omega)).mp z
    omega
  have er0 : ¬ lN r ≤ 0 := fun z => by
    have := (pk_lLE (b := 0) (by omega) (by omega)).mp z
    omega
  have hIb := tl_In_bd (L := L) (H := H) (A := A) (S := S) (c := c1) (fun i => (i1 i).2.2.2.2.2.1) hS
  have esum := tl_sc_In cv
  have YW : ∀ (post : Int64 → SY → Prop) (n q : Nat), q < T → wY_swap_197 post (wY_swap_114 post 1 (lN (tl_R lim)) (nI T) (nI S) (nI F) n) 1 (lN (tl_R lim)) (lN r) tt (nI q) (lN (tl_R g)) (lN (C)) (lN (tl_R g)) (nI T) (nI S) (nI F) (lN C) hd re ud lo up am cd (0 + 1) (lN (tl_sm (tl_sc L H A ud (C) (tl_R g)) S)) (nI S) → wY_swap_114 post 1 (lN (tl_R lim)) (nI T) (nI S) (nI F) (n + 1) (lN r) tt (nI q) (lN C) hd re ud lo up am cd := by
    intro post n q hq h
    unfold wY_swap_114
    have b1 : ¬ lN (tl_R g) ≤ lN C := fun z => by
      have := (pk_lLE (by omega) (by omega)).mp z
      omega
    refine br_f (nI_ge hq (by omega)) (br_f er0 (br_f eCl (tl_ygoal1 i1 hT hS p2 p3 hRc (by omega) g1 g2 g3 g4 (br_f b1 ?_))))
    unfold wY_swap_168
    exact br_f b1 ⟨0 + 1 + S, tl_y197 i1 hT hS (by omega) (by omega) h S 0 (by omega)⟩
  rw [esum] at YW
  have XW : ∀ (post : Int64 → SX → Prop) (n q : Nat), q ≤ T → ((iF1 ≤ 0 → wX_swap_115 post (wX_swap_40 post 1 (nI lim) (lN (tl_R lim)) n) 1 (nI lim) (lN (tl_R lim)) (nI q) (nI T) (nI S) (nI F) (lN (tl_R g)) (nI c1) iF1 lb (lN r) tt hd re gr pr us ne ou1 ud lo up am cr mk) ∧ (¬ iF1 ≤ 0 → wpX_trade (fun u => match u with | (yT, yS, yF, yC, yc, yiF, ylb, yrs, ytt, yhd, yre, ygr, ypr, yus, yne, you, yud, ylo, yup, yam, ycr, ymk) => wX_swap_115 post (wX_swap_40 post 1 (nI lim) (lN (tl_R lim)) n) 1 (nI lim) (lN (tl_R lim)) (nI q) yT yS yF yC yc yiF ylb yrs ytt yhd yre ygr ypr yus yne you yud ylo yup yam ycr ymk) (nI T, nI S, nI F, lN C, nI c1, iF1, lb, lN r, tt, hd, re, gr, pr, us, ne, ou1, ud, lo, up, am, cr, mk) 1 (lN (tl_R g)))) → wX_swap_40 post 1 (nI lim) (lN (tl_R lim)) (n + 1) (nI q) (nI T) (nI S) (nI F) (lN C) (nI c) iF lb (lN r) tt hd re gr pr us ne ou ud lo up am cr mk := by
    intro post n q hq h
    unfold wX_swap_40
    exact br_f (nI_nlt hq (by omega)) (br_f er0 (br_f eCl (X1 _ (X2 _ ⟨vg, nm_r eg h⟩))))
  by_cases hl : tl_In L H A S c1 = 0
  · have e0 : iF1 ≤ 0 := by
      rw [p5, hl]
      decide
    obtain ⟨c2, d1, d1', d2, d3, d4, X3⟩ := tl_xrel1 (T := T) (S := S) (F := F) (C := tl_R g) (lb := lb) (rs := lN r) (tt := tt) (hd := hd) (re := re) (gr := gr) (pr := pr) (us := us) (ne := ne) (ud := ud) (lo := lo) (up := up) (am := am) (cr := cr) (mk := mk) (c := c1) (iF := iF1) (ou := ou1) hT hT8 p1 (tl_R_le (by omega)) p2 (by omega)
    have dead : ∀ t, c1 < t → t ≤ c2 → tl_U L H A S t = 0 := fun t a b => g4 t a (tl_R_lti.mp (d4 t a b))
    refine ⟨tl_R g, c2, r, iF1, tt, hd, re, gr, ou1, cd, ⟨p1, d1', d2, d3, by rw [p5, ← tl_In_move d1 dead]⟩, tl_I4_moveU d1 dead j4, tl_I5_mono i5 (by omega) (Nat.le_refl _), Nat.le_refl _, hRl, Or.inr ⟨g, rfl, hRg⟩, fun post n q hq h => ?_, fun post n q hq h => ?_⟩
    · refine XW post n q hq (br_t e0 ?_)
      unfold wX_swap_115
      exact X3 _ (nm_r (nI_1 q) h)
    · refine YW post n q hq ?_
      rw [hl]
      exact br_t (nI_le (Nat.le_refl _) (by omega)) (br_t (by decide) (nm_r (nI_1 q) h))
  · have hl0 : 0 < tl_In L H A S c1 := by omega
    have e0 : ¬ iF1 ≤ 0 := by
      rw [p5]
      intro z
      have := (pk_lLE (b := 0) (by omega) (by omega)).mp z
      omega
    obtain ⟨n1, pd, fe, q1, q2, q3, q4, q5, q6, q7⟩ := tl_num1 (G := tl_R g) (r := r) (F := F) hl0 hIb (Nat.le_of_lt hRg) hRgb hr hF
    obtain ⟨k4, k5⟩ := tl_fee_I (k := 1) (f := fe) (by decide) hS i1 j4 i5 hl0 (by omega) hbr hbr2 cv
    have ers : lN r - (lN pd + lN fe) = lN (r - (pd + fe)) := by rw [lN_add, lN_sub q6]
    obtain ⟨c2, d1, d1', d2, d3, d4, X3⟩ := tl_xrel1 (T := T) (S := S) (F := F) (C := n1) (lb := lb) (rs := lN (r - (pd + fe))) (tt := tt + tl_ot 1 (lN (tl_In L H A S c1)) (lN C) (lN n1)) (hd := tl_hs hd 1 (lN pd + lN fe) (tl_ot 1 (lN (tl_In L H A S c1)) (lN C) (lN n1))) (re := tl_rs re 1 (lN fe) (lN (tl_In L H A S c1))) (gr := vp_updL gr 1 (gr 1 + tl_ea re 1 (lN fe) (lN (tl_In L H A S c1)))) (pr := pr) (us := us) (ne := ne) (ud := ud) (lo := lo) (up := up) (am := am) (cr := cr) (mk := mk) (c := c1) (iF := iF1) (ou := ou1) hT hT8 p1 (by have := tl_R_le (a := g) (b := T) (by omega); omega) p2 (by omega)
    have dead : ∀ t, c1 < t → t ≤ c2 → tl_U L H A S t = 0 := fun t a b => g4 t a (tl_R_lti.mp (by have := d4 t a b; omega))
    refine ⟨n1, c2, r - (pd + fe), iF1, tt + tl_ot 1 (lN (tl_In L H A S c1)) (lN C) (lN n1), tl_hs hd 1 (lN pd + lN fe) (tl_ot 1 (lN (tl_In L H A S c1)) (lN C) (lN n1)), tl_rs re 1 (lN fe) (lN (tl_In L H A S c1)), vp_updL gr 1 (gr 1 + tl_ea re 1 (lN fe) (lN (tl_In L H A S c1))), ou1, tl_cr L H ud (C) (tl_R g) 1 (tl_ea re 1 (lN fe) (lN (tl_In L H A S c1))) am cd S, ⟨p1, d1', d2, d3, by rw [p5, ← tl_In_move d1 dead]⟩, tl_I4_moveU d1 dead k4, k5, by omega, by omega, ?_, fun post n q hq h => ?_, fun post n q hq h => ?_⟩
    · rcases q7 with y | y
      · exact Or.inr ⟨g, y, hRg⟩
      · exact Or.inl (by omega)
    · refine XW post n q hq (br_f e0 ?_)
      rw [p5] at X3 h ⊢
      refine tl_xtrade (k := 1) (by decide) ?_
      rw [q1, q2, q3, ers]
      unfold wX_swap_115
      exact X3 _ (nm_r (nI_1 q) h)
    · refine YW post n q hq ?_
      have z17 : ¬ lN (tl_In L H A S c1) ≤ 0 := by rw [← p5]; exact e0
      refine br_t (nI_le (Nat.le_refl _) (by omega)) (br_f z17 ?_)
      have y281 := tl_y281 (k := 1) (post := post) (J := wY_swap_114 post 1 (lN (tl_R lim)) (nI T) (nI S) (nI F) n) (x10 := nI q) (x4 := lN (tl_R lim)) (x6 := lN r) (x8 := tt) (x17 := lN (tl_In L H A S c1)) (G := lN (tl_R g)) (F := F) (C := C) (hd := hd) (re := re) (cd := cd) i1 hT hS (by decide) (show C < 2 ^ 62 by omega) (show tl_R g < 2 ^ 62 by omega) (by rw [q1, q2, q3, ers, nI_1]; exact h)
      unfold tl_mv at y281
      rw [if_neg (by decide)] at y281
      exact br_f tl_i10 (tl_yam1 y281)
end
end
section
/-! swap: the loop and the call -/
section
variable {T S F C c : Nat} {L H A : Nat → Nat} {iF lb rs tt : Int64} {hd re gr pr : Nat → Int64} {us : Nat → Int32} {ne ou : Nat → Int64} {ud lo up : Nat → Int32} {am cr mk cd : Nat → Int64}
theorem tl_xend0 {lim r m q : Nat} (hC : C ≤ 456014) (hlim : lim ≤ 32) (hr : r ≤ 1000000) (he : r = 0 ∨ C = tl_R lim) {post : Int64 → SX → Prop} (h : post tt (nI T, nI S, nI F, lN C, nI c, iF, lb, lN r, tt, hd, re, gr, pr, us, ne, ou, ud, lo, up, am, cr, mk)) : wX_swap_40 post 0 (nI lim) (lN (tl_R lim)) (m + 1) (nI q) (nI T) (nI S) (nI F) (lN C) (nI c) iF lb (lN r) tt hd re gr pr us ne ou ud lo up am cr mk := by
  unfold wX_swap_40
  by_cases a : nI T < nI q
  · exact br_t a h
  · refine br_f a ?_
    rcases he with y | y
    · exact br_t (by rw [y]; decide) h
    · by_cases b : lN r ≤ 0
      · exact br_t b h
      · exact br_f b (br_t (by rw [y]) h)
theorem tl_yend0 {lim r m q : Nat} (hC : C ≤ 456014) (hlim : lim ≤ 32) (hr : r ≤ 1000000) (he : r = 0 ∨ C = tl_R lim) {post : Int64 → SY → Prop} (h : post tt (nI T, nI S, nI F, lN C, hd, re, ud, lo, up, am, cd)) : wY_swap_114 post 0 (lN (tl_R lim)) (nI T) (nI S) (nI F) (m + 1) (lN r) tt (nI q) (lN C) hd re ud lo up am cd := by
  unfold wY_swap_114
  by_cases a : nI T ≤ nI q
  · exact br_t a h
  · refine br_f a ?_
    rcases he with y | y
    · exact br_t (by rw [y]; decide) h
    · by_cases b : lN r ≤ 0
      · exact br_t b h
      · exact br_f b (br_t (by rw [y]) h)
theorem tl_loop0 {lim k : Nat} (hk : k + 4 ≤ 2052) (i0 : tl_I0 T S F) (i1 : tl_I1 T L H A ud lo up am) (i2 : tl_I2 S L H A us ne lb) (hlim : lim ≤ T) :
    ∀ (M C c r p q bc : Nat) (iF tt : Int64) (hd re gr ou cd : Nat → Int64), tl_I3 T S C c L H A pr iF → tl_I4 S c L H A gr ou cr mk cd → tl_I5 bc (tl_br (k + 4)) cd re → tl_R lim ≤ C → r ≤ 1000000 → (r = 0 ∨ (C ≤ tl_R p ∧ p ≤ M ∧ q + p ≤ T)) → bc + M * 2199023255552 ≤ tl_bc (k + 4) →
    ∃ (x : Int64) (u : SX) (v : SY), i_Rel (k + 4) u v ∧ (∀ post : Int64 → SX → Prop, post x u → wX_swap_40 post 0 (nI lim) (lN (tl_R lim)) (M + 1) (nI q) (nI T) (nI S) (nI F) (lN C) (nI c) iF lb (lN r) tt hd re gr pr us ne ou ud lo up am cr mk) ∧ (∀ post : Int64 → SY → Prop, post x v → wY_swap_114 post 0 (lN (tl_R lim)) (nI T) (nI S) (nI F) (M + 1) (lN r) tt (nI q) (lN C) hd re ud lo up am cd) := by
  obtain ⟨hT8, hT, -, hS, hF⟩ := id i0
  intro M
  induction M with
  | zero =>
    intro C c r p q bc iF tt hd re gr ou cd i3 i4 i5 hdir hr hm hbc
    have hCb : C ≤ 456014 := by
      have := tl_R_b (n := c + 1) (by have := i3.2.1; omega)
      have := i3.2.2.2.1
      omega
    by_cases he : r = 0 ∨ C = tl_R lim
    · exact ⟨tt, _, _, tl_mk (rs := lN r) (tt := tt) (hd := hd) i0 i1 i2 i3 i4 (tl_I5_mono i5 (by omega) (Nat.le_refl _)), fun post h => tl_xend0 hCb (by omega) hr he h, fun post h => tl_yend0 hCb (by omega) hr he h⟩
    · have he1 : r ≠ 0 := fun y => he (Or.inl y)
      have he2 : C ≠ tl_R lim := fun y => he (Or.inr y)
      rcases hm with hm | ⟨m1, m2, m3⟩
      · exact absurd hm he1
      · have e : p = 0 := by omega
        have := tl_R_le (Nat.zero_le lim)
        rw [e] at m1
        omega
  | succ M ih =>
    intro C c r p q bc iF tt hd re gr ou cd i3 i4 i5 hdir hr hm hbc
    have hCb : C ≤ 456014 := by
      have := tl_R_b (n := c + 1) (by have := i3.2.1; omega)
      have := i3.2.2.2.1
      omega
    by_cases he : r = 0 ∨ C = tl_R lim
    · exact ⟨tt, _, _, tl_mk (rs := lN r) (tt := tt) (hd := hd) i0 i1 i2 i3 i4 (tl_I5_mono i5 (by omega) (Nat.le_refl _)), fun post h => tl_xend0 hCb (by omega) hr he h, fun post h => tl_yend0 hCb (by omega) hr he h⟩
    · have he1 : r ≠ 0 := fun y => he (Or.inl y)
      have he2 : C ≠ tl_R lim := fun y => he (Or.inr y)
      rcases hm with hm | ⟨m1, m2, m3⟩
      · exact absurd hm he1
      · have hp0 : p ≠ 0 := by
          intro e
          have := tl_R_le (Nat.zero_le lim)
          rw [e] at m1
          omega
        obtain ⟨C', c', r', iF', tt', hd', re', gr', ou', cd', j3, j4, j5, hr', hd1, hpr, XX, YY⟩ := tl_round0 (tt := tt) (hd := hd) i0 i1 i2 i3 i4 i5 (by unfold tl_br; omega) (by unfold tl_br; omega) hlim (by omega) (by omega) hr
        have hm' : ∃ p', r' = 0 ∨ (C' ≤ tl_R p' ∧ p' ≤ M ∧ (q + 1) + p' ≤ T) := by
          rcases hpr with y | ⟨g, y1, y2⟩
          · exact ⟨0, Or.inl y⟩
          · have hg : g < p := tl_R_lti.mp (by omega)
            exact ⟨g, Or.inr ⟨by omega, by omega, by omega⟩⟩
        obtain ⟨p', hm'⟩ := hm'
        obtain ⟨x, u, v, hR, hX, hY⟩ := ih C' c' r' p' (q + 1) (bc + 2199023255552) iF' tt' hd' re' gr' ou' cd' j3 j4 j5 hd1 (by omega) hm' (by omega)
        exact ⟨x, u, v, hR, fun post h => XX post (M + 1) q (by omega) (hX post h), fun post h => YY post (M + 1) q (by omega) (hY post h)⟩
theorem tl_swap0 {k : Nat} (hk : k + 4 ≤ 2052) (i0 : tl_I0 T S F) (i1 : tl_I1 T L H A ud lo up am) (i2 : tl_I2 S L H A us ne lb) (i3 : tl_I3 T S C c L H A pr iF) (i4 : tl_I4 S c L H A gr ou cr mk cd) (i5 : tl_I5 (tl_bc k) (tl_br k) cd re) (v2 v3 : Int32) :
    wpX_swap (fun r u' => wpY_swap (fun r' v' => r' = r ∧ i_Rel (k + 4) u' v') (nI T, nI S, nI F, lN C, hd, re, ud, lo, up, am, cd) 0 v2 v3) (nI T, nI S, nI F, lN C, nI c, iF, lb, rs, tt, hd, re, gr, pr, us, ne, ou, ud, lo, up, am, cr, mk) 0 v2 v3 := by
  have rel := tl_mk (rs := rs) (tt := tt) (hd := hd) i0 i1 i2 i3 i4 (tl_I5_up i5)
  obtain ⟨hT8, hT, -, hS, hF⟩ := id i0
  obtain ⟨p1, p2, p3, p4, p5⟩ := id i3
  have v0 : vp_in (0 : Int32) 2 := vp_in_nI (n := 0) (by decide) (by decide)
  have hCb : C ≤ 456014 := by
    have := tl_R_b (n := c + 1) (by omega)
    omega
  unfold wpX_swap wpX_testSwap
  refine tl_xtok1 (k := 0) (by decide) (br_f tl_i10 ?_)
  by_cases q1 : v2 < 1
  · refine br_t q1 (br_f (by decide) ?_)
    unfold wpY_swap
    exact tl_ytok1 (k := 0) (by decide) (br_t rfl (br_t q1 ⟨by decide, rel⟩))
  · obtain ⟨a, ha31, rfl, ha1⟩ := tl_ge1 q1
    refine br_f q1 ?_
    by_cases q2 : (nI a).toInt64 ≤ 1000000
    · refine br_t q2 ?_
      have q2' : a ≤ 1000000 := by
        have y := q2
        rw [nI_l ha31] at y
        exact (pk_lLE (b := 1000000) (by omega) (by omega)).mp y
      by_cases q3 : v3 < 0
      · refine br_t q3 (br_f (by decide) ?_)
        unfold wpY_swap
        exact tl_ytok1 (k := 0) (by decide) (br_t rfl (br_f q1 (br_t q2 (br_t q3 ⟨by decide, rel⟩))))
      · refine br_f q3 ?_
        by_cases q4 : v3 ≤ nI T
        · obtain ⟨lim, hl31, rfl⟩ := nI_of q3
          have q4' : lim ≤ T := (nI_leI hl31 (by omega)).mp q4
          have hLb := tl_R_b (n := lim) (by omega)
          have vl : vp_in (nI lim) 33 := vp_in_nI (by omega) (by omega)
          have el : pr (nI lim).toNatClampNeg = lN (tl_R lim) := by rw [nI_clamp (by omega)]; exact p1 lim q4'
          have YT : ∀ post : Int64 → SY → Prop, ((lN (tl_R lim) < lN C → wY_swap_84 post 0 (nI a) (lN (tl_R lim)) (nI T) (nI S) (nI F) (lN C) hd re ud lo up am cd) ∧ (¬ lN (tl_R lim) < lN C → post (-5) (nI T, nI S, nI F, lN C, hd, re, ud, lo, up, am, cd))) → wpY_swap post (nI T, nI S, nI F, lN C, hd, re, ud, lo, up, am, cd) 0 (nI a) (nI lim) := by
            intro post h
            unfold wpY_swap
            exact tl_ytok1 (k := 0) (by decide) (br_t rfl (br_f q1 (br_t q2 (br_f q3 (br_t q4 (tl_ytp (by omega) (br_t rfl h)))))))
          refine br_t q4 ⟨vl, nm_r el ?_⟩
          by_cases q5 : C ≤ tl_R lim
          · have q5' : lN C ≤ lN (tl_R lim) := (pk_lLE (by omega) (by omega)).mpr q5
            refine br_t rfl (br_t q5' ?_)
            unfold wX_testSwap_88
            refine br_t rfl (br_f (by decide) (YT _ (br_f (Int64.not_lt.mpr q5') ⟨by decide, rel⟩)))
          · have q5' : ¬ lN C ≤ lN (tl_R lim) := fun y => q5 ((pk_lLE (by omega) (by omega)).mp y)
            refine br_t rfl (br_f q5' ?_)
            unfold wX_testSwap_88
            refine br_f tl_i10 ⟨v0, ?_⟩
            by_cases q6 : hd (0 : Int32).toNatClampNeg + (nI a).toInt64 ≤ 20000000
            · refine br_t q6 (br_t rfl ⟨vl, nm_r el ?_⟩)
              have hbc : tl_bc k + (c + 1) * 2199023255552 ≤ tl_bc (k + 4) := by
                unfold tl_bc
                omega
              obtain ⟨x, u, v, hR, hX, hY⟩ := tl_loop0 hk i0 i1 i2 q4' (c + 1) C c a (c + 1) 0 (tl_bc k) iF 0 hd re gr ou cd i3 i4 (tl_I5_mono i5 (Nat.le_refl _) (by unfold tl_br; omega)) (by omega) q2' (Or.inr ⟨p4, Nat.le_refl _, by omega⟩) hbc
              rw [nI_l ha31]
              refine ⟨_, hX _ (YT _ (br_t (Int64.not_le.mp q5') ?_))⟩
              unfold wY_swap_84
              refine ⟨v0, br_t q6 ⟨c + 1 + 1, ?_⟩⟩
              rw [nI_l ha31]
              exact hY _ ⟨rfl, hR⟩
            · refine br_f q6 (br_f (by decide) (YT _ (br_t (Int64.not_le.mp q5') ?_)))
              unfold wY_swap_84
              exact ⟨v0, br_f q6 ⟨by decide, rel⟩⟩
        · refine br_f q4 (br_f (by decide) ?_)
          unfold wpY_swap
          exact tl_ytok1 (k := 0) (by decide) (br_t rfl (br_f q1 (br_t q2 (br_f q3 (br_f q4 ⟨by decide, rel⟩)))))
    · refine br_f q2 (br_f (by decide) ?_)
      unfold wpY_swap
      exact tl_ytok1 (k := 0) (by decide) (br_t rfl (br_f q1 (br_f q2 ⟨by decide, rel⟩)))
theorem tl_xend1 {lim r m q : Nat} (hC : C ≤ 456014) (hlim : lim ≤ 32) (hr : r ≤ 1000000) (he : r = 0 ∨ C = tl_R lim) {post : Int64 → SX → Prop} (h : post tt (nI T, nI S, nI F, lN C, nI c, iF, lb, lN r, tt, hd, re, gr, pr, us, ne, ou, ud, lo, up, am, cr, mk)) : wX_swap_40 post 1 (nI lim) (lN (tl_R lim)) (m + 1) (nI q) (nI T) (nI S) (nI F) (lN C) (nI c) iF lb (lN r) tt hd re gr pr us ne ou ud lo up am cr mk := by
  unfold wX_swap_40
  by_cases a : nI T < nI q
  · exact br_t a h
  · refine br_f a ?_
    rcases he with y | y
    · exact br_t (by rw [y]; decide) h
    · by_cases b : lN r ≤ 0
      · exact br_t b h
      · exact br_f b (br_t (by rw [y]) h)
theorem tl_yend1 {lim r m q : Nat} (hC : C ≤ 456014) (hlim : lim ≤ 32) (hr : r ≤ 1000000) (he : r = 0 ∨ C = tl_R lim) {post : Int64 → SY → Prop} (h : post tt (nI T, nI S, nI F, lN C, hd, re, ud, lo, up, am, cd)) : wY_swap_114 post 1 (lN (tl_R lim)) (nI T) (nI S) (nI F) (m + 1) (lN r) tt (nI q) (lN C) hd re ud lo up am cd := by
  unfold wY_swap_114
  by_cases a : nI T ≤ nI q
  · exact br_t a h
  · refine br_f a ?_
    rcases he with y | y
    · exact br_t (by rw [y]; decide) h
    · by_cases b : lN r ≤ 0
      · exact br_t b h
      · exact br_f b (br_t (by rw [y]) h)
theorem tl_loop1 {lim k : Nat} (hk : k + 4 ≤ 2052) (i0 : tl_I0 T S F) (i1 : tl_I1 T L H A ud lo up am) (i2 : tl_I2 S L H A us ne lb) (hlim : lim ≤ T) :
    ∀ (M C c r p q bc : Nat) (iF tt : Int64) (hd re gr ou cd : Nat → Int64), tl_I3 T S C c L H A pr iF → tl_I4 S c L H A gr ou cr mk cd → tl_I5 bc (tl_br (k + 4)) cd re → C ≤ tl_R lim → r ≤ 1000000 → (r = 0 ∨ (tl_R p ≤ C ∧ T ≤ p + M ∧ q ≤ p)) → bc + M * 2199023255552 ≤ tl_bc (k + 4) →
    ∃ (x : Int64) (u : SX) (v : SY), i_Rel (k + 4) u v ∧ (∀ post : Int64 → SX → Prop, post x u → wX_swap_40 post 1 (nI lim) (lN (tl_R lim)) (M + 1) (nI q) (nI T) (nI S) (nI F) (lN C) (nI c) iF lb (lN r) tt hd re gr pr us ne ou ud lo up am cr mk) ∧ (∀ post : Int64 → SY → Prop, post x v → wY_swap_114 post 1 (lN (tl_R lim)) (nI T) (nI S) (nI F) (M + 1) (lN r) tt (nI q) (lN C) hd re ud lo up am cd) := by
  obtain ⟨hT8, hT, -, hS, hF⟩ := id i0
  intro M
  induction M with
  | zero =>
    intro C c r p q bc iF tt hd re gr ou cd i3 i4 i5 hdir hr hm hbc
    have hCb : C ≤ 456014 := by
      have := tl_R_b (n := c + 1) (by have := i3.2.1; omega)
      have := i3.2.2.2.1
      omega
    by_cases he : r = 0 ∨ C = tl_R lim
    · exact ⟨tt, _, _, tl_mk (rs := lN r) (tt := tt) (hd := hd) i0 i1 i2 i3 i4 (tl_I5_mono i5 (by omega) (Nat.le_refl _)), fun post h => tl_xend1 hCb (by omega) hr he h, fun post h => tl_yend1 hCb (by omega) hr he h⟩
    · have he1 : r ≠ 0 := fun y => he (Or.inl y)
      have he2 : C ≠ tl_R lim := fun y => he (Or.inr y)
      rcases hm with hm | ⟨m1, m2, m3⟩
      · exact absurd hm he1
      · have := tl_R_le (a := T) (b := p) (by omega)
        have := tl_R_le hlim
        omega
  | succ M ih =>
    intro C c r p q bc iF tt hd re gr ou cd i3 i4 i5 hdir hr hm hbc
    have hCb : C ≤ 456014 := by
      have := tl_R_b (n := c + 1) (by have := i3.2.1; omega)
      have := i3.2.2.2.1
      omega
    by_cases he : r = 0 ∨ C = tl_R lim
    · exact ⟨tt, _, _, tl_mk (rs := lN r) (tt := tt) (hd := hd) i0 i1 i2 i3 i4 (tl_I5_mono i5 (by omega) (Nat.le_refl _)), fun post h => tl_xend1 hCb (by omega) hr he h, fun post h => tl_yend1 hCb (by omega) hr he h⟩
    · have he1 : r ≠ 0 := fun y => he (Or.inl y)
      have he2 : C ≠ tl_R lim := fun y => he (Or.inr y)
      rcases hm with hm | ⟨m1, m2, m3⟩
      · exact absurd hm he1
      · have hpT : p < T := by
          have := tl_R_le hlim
          exact tl_R_lti.mp (by omega)
        obtain ⟨C', c', r', iF', tt', hd', re', gr', ou', cd', j3, j4, j5, hr', hd1, hpr, XX, YY⟩ := tl_round1 (tt := tt) (hd := hd) i0 i1 i2 i3 i4 i5 (by unfold tl_br; omega) (by unfold tl_br; omega) hlim (by omega) (by omega) hr
        have hm' : ∃ p', r' = 0 ∨ (tl_R p' ≤ C' ∧ T ≤ p' + M ∧ (q + 1) ≤ p') := by
          rcases hpr with y | ⟨g, y1, y2⟩
          · exact ⟨0, Or.inl y⟩
          · have hg : p < g := tl_R_lti.mp (by omega)
            exact ⟨g, Or.inr ⟨by omega, by omega, by omega⟩⟩
        obtain ⟨p', hm'⟩ := hm'
        obtain ⟨x, u, v, hR, hX, hY⟩ := ih C' c' r' p' (q + 1) (bc + 2199023255552) iF' tt' hd' re' gr' ou' cd' j3 j4 j5 hd1 (by omega) hm' (by omega)
        exact ⟨x, u, v, hR, fun post h => XX post (M + 1) q (by omega) (hX post h), fun post h => YY post (M + 1) q (by omega) (hY post h)⟩
theorem tl_swap1 {k : Nat} (hk : k + 4 ≤ 2052) (i0 : tl_I0 T S F) (i1 : tl_I1 T L H A ud lo up am) (i2 : tl_I2 S L H A us ne lb) (i3 : tl_I3 T S C c L H A pr iF) (i4 : tl_I4 S c L H A gr ou cr mk cd) (i5 : tl_I5 (tl_bc k) (tl_br k) cd re) (v2 v3 : Int32) :
    wpX_swap (fun r u' => wpY_swap (fun r' v' => r' = r ∧ i_Rel (k + 4) u' v') (nI T, nI S, nI F, lN C, hd, re, ud, lo, up, am, cd) 1 v2 v3) (nI T, nI S, nI F, lN C, nI c, iF, lb, rs, tt, hd, re, gr, pr, us, ne, ou, ud, lo, up, am, cr, mk) 1 v2 v3 := by
  have rel := tl_mk (rs := rs) (tt := tt) (hd := hd) i0 i1 i2 i3 i4 (tl_I5_up i5)
  obtain ⟨hT8, hT, -, hS, hF⟩ := id i0
  obtain ⟨p1, p2, p3, p4, p5⟩ := id i3
  have v0 : vp_in (1 : Int32) 2 := vp_in_nI (n := 1) (by decide) (by decide)
  have hCb : C ≤ 456014 := by
    have := tl_R_b (n := c + 1) (by omega)
    omega
  unfold wpX_swap wpX_testSwap
  refine tl_xtok1 (k := 1) (by decide) (br_f tl_i10 ?_)
  by_cases q1 : v2 < 1
  · refine br_t q1 (br_f (by decide) ?_)
    unfold wpY_swap
    exact tl_ytok1 (k := 1) (by decide) (br_t rfl (br_t q1 ⟨by decide, rel⟩))
  · obtain ⟨a, ha31, rfl, ha1⟩ := tl_ge1 q1
    refine br_f q1 ?_
    by_cases q2 : (nI a).toInt64 ≤ 1000000
    · refine br_t q2 ?_
      have q2' : a ≤ 1000000 := by
        have y := q2
        rw [nI_l ha31] at y
        exact (pk_lLE (b := 1000000) (by omega) (by omega)).mp y
      by_cases q3 : v3 < 0
      · refine br_t q3 (br_f (by decide) ?_)
        unfold wpY_swap
        exact tl_ytok1 (k := 1) (by decide) (br_t rfl (br_f q1 (br_t q2 (br_t q3 ⟨by decide, rel⟩))))
      · refine br_f q3 ?_
        by_cases q4 : v3 ≤ nI T
        · obtain ⟨lim, hl31, rfl⟩ := nI_of q3
          have q4' : lim ≤ T := (nI_leI hl31 (by omega)).mp q4
          have hLb := tl_R_b (n := lim) (by omega)
          have vl : vp_in (nI lim) 33 := vp_in_nI (by omega) (by omega)
          have el : pr (nI lim).toNatClampNeg = lN (tl_R lim) := by rw [nI_clamp (by omega)]; exact p1 lim q4'
          have YT : ∀ post : Int64 → SY → Prop, ((lN C < lN (tl_R lim) → wY_swap_84 post 1 (nI a) (lN (tl_R lim)) (nI T) (nI S) (nI F) (lN C) hd re ud lo up am cd) ∧ (¬ lN C < lN (tl_R lim) → post (-5) (nI T, nI S, nI F, lN C, hd, re, ud, lo, up, am, cd))) → wpY_swap post (nI T, nI S, nI F, lN C, hd, re, ud, lo, up, am, cd) 1 (nI a) (nI lim) := by
            intro post h
            unfold wpY_swap
            exact tl_ytok1 (k := 1) (by decide) (br_t rfl (br_f q1 (br_t q2 (br_f q3 (br_t q4 (tl_ytp (by omega) (br_f tl_i10 h)))))))
          refine br_t q4 ⟨vl, nm_r el ?_⟩
          by_cases q5 : tl_R lim ≤ C
          · have q5' : lN (tl_R lim) ≤ lN C := (pk_lLE (by omega) (by omega)).mpr q5
            refine br_f tl_i10 (br_t q5' ?_)
            unfold wX_testSwap_88
            refine br_t rfl (br_f (by decide) (YT _ (br_f (Int64.not_lt.mpr q5') ⟨by decide, rel⟩)))
          · have q5' : ¬ lN (tl_R lim) ≤ lN C := fun y => q5 ((pk_lLE (by omega) (by omega)).mp y)
            refine br_f tl_i10 (br_f q5' ?_)
            unfold wX_testSwap_88
            refine br_f tl_i10 ⟨v0, ?_⟩
            by_cases q6 : hd (1 : Int32).toNatClampNeg + (nI a).toInt64 ≤ 20000000
            · refine br_t q6 (br_t rfl ⟨vl, nm_r el ?_⟩)
              have hbc : tl_bc k + (T) * 2199023255552 ≤ tl_bc (k + 4) := by
                unfold tl_bc
                omega
              obtain ⟨x, u, v, hR, hX, hY⟩ := tl_loop1 hk i0 i1 i2 q4' T C c a c 0 (tl_bc k) iF 0 hd re gr ou cd i3 i4 (tl_I5_mono i5 (Nat.le_refl _) (by unfold tl_br; omega)) (by omega) q2' (Or.inr ⟨p3, by omega, Nat.zero_le _⟩) hbc
              rw [nI_l ha31]
              refine ⟨_, hX _ (YT _ (br_t (Int64.not_le.mp q5') ?_))⟩
              unfold wY_swap_84
              refine ⟨v0, br_t q6 ⟨T + 1, ?_⟩⟩
              rw [nI_l ha31]
              exact hY _ ⟨rfl, hR⟩
            · refine br_f q6 (br_f (by decide) (YT _ (br_t (Int64.not_le.mp q5') ?_)))
              unfold wY_swap_84
              exact ⟨v0, br_f q6 ⟨by decide, rel⟩⟩
        · refine br_f q4 (br_f (by decide) ?_)
          unfold wpY_swap
          exact tl_ytok1 (k := 1) (by decide) (br_t rfl (br_f q1 (br_t q2 (br_f q3 (br_f q4 ⟨by decide, rel⟩)))))
    · refine br_f q2 (br_f (by decide) ?_)
      unfold wpY_swap
      exact tl_ytok1 (k := 1) (by decide) (br_t rfl (br_f q1 (br_f q2 ⟨by decide, rel⟩)))
end
theorem i_vc_swap {k : Nat} {u : SX} {v : SY} (I : i_Rel k u v) (hk : k + 4 ≤ 2052) (v1 : Int32) (v2 : Int32) (v3 : Int32) : wpX_swap (fun r u' => wpY_swap (fun r' v' => r' = r ∧ i_Rel (k + 4) u' v') v v1 v2 v3) u v1 v2 v3 := by
  refine I (fun u v => wpX_swap (fun r u' => wpY_swap (fun r' v' => r' = r ∧ i_Rel (k + 4) u' v') v v1 v2 v3) u v1 v2 v3) ?_
  intro T S F C c L H A iF lb rs tt hd re gr pr us ne ou ud lo up am cr mk cd i0 i1 i2 i3 i4 i5
  rcases tl_tok v1 with ⟨t, ht, rfl⟩ | hn
  · rcases tl_tok2 ht with rfl | rfl
    · exact tl_swap0 hk i0 i1 i2 i3 i4 i5 v2 v3
    · exact tl_swap1 hk i0 i1 i2 i3 i4 i5 v2 v3
  · have rel := tl_mk (rs := rs) (tt := tt) (hd := hd) i0 i1 i2 i3 i4 (tl_I5_up i5)
    unfold wpX_swap wpX_testSwap
    refine tl_xtok0 hn (br_t rfl (br_f (by decide) ?_))
    unfold wpY_swap
    exact tl_ytok0 hn (br_f tl_i10 ⟨by decide, rel⟩)
end
section
/-! active: the liquidity just below or just above the price -/
def tl_ac (L H A : Nat → Nat) (ud : Nat → Int32) (k C : Nat) (i : Nat) : Nat := if k = 0 then (if ud i ≠ 0 ∧ tl_R (L i) < C ∧ C ≤ tl_R (H i) then A i else 0) else (if ud i ≠ 0 ∧ tl_R (L i) ≤ C ∧ C < tl_R (H i) then A i else 0)
theorem tl_ac_0 {L H A : Nat → Nat} {ud : Nat → Int32} {C i : Nat} : tl_ac L H A ud 0 C i = if ud i ≠ 0 ∧ tl_R (L i) < C ∧ C ≤ tl_R (H i) then A i else 0 := if_pos rfl
theorem tl_ac_1 {L H A : Nat → Nat} {ud : Nat → Int32} {C i : Nat} : tl_ac L H A ud 1 C i = if ud i ≠ 0 ∧ tl_R (L i) ≤ C ∧ C < tl_R (H i) then A i else 0 := if_neg (by decide)
section
variable {T S F C c : Nat} {L H A : Nat → Nat} {iF lb rs tt : Int64} {hd re gr pr : Nat → Int64} {us : Nat → Int32} {ne ou : Nat → Int64} {ud lo up : Nat → Int32} {am cr mk cd : Nat → Int64}
theorem tl_yacL {k : Nat} (hk : k < 2) (h1 : tl_I1 T L H A ud lo up am) (hT : T ≤ 32) (hS : S ≤ 16) (hC : C ≤ 456014) {post : Int64 → Prop} (h : post (lN (tl_sm (tl_ac L H A ud k C) S))) :
    ∀ d j : Nat, j + d = S → wY_active_17 post (nI k) (nI T) (nI S) (nI F) (lN C) hd re ud lo up am cd (d + 1) (lN (tl_sm (tl_ac L H A ud k C) j)) (nI j) := by
  intro d
  induction d with
  | zero =>
    intro j hj
    have z : j = S := by omega
    subst z
    exact br_t (nI_le (Nat.le_refl _) (by omega)) h
  | succ d ih =>
    intro j hj
    obtain ⟨e1, e2, e3, hl, hh, hA, -⟩ := h1 j
    have b1 := tl_R_b (n := L j) (by omega)
    have b2 := tl_R_b (n := H j) (by omega)
    have cj : (nI j).toNatClampNeg = j := nI_clamp (by omega)
    have vj : vp_in (nI j) 16 := vp_in_nI (by omega) (by omega)
    have ih' := ih (j + 1) (by omega)
    have es : tl_sm (tl_ac L H A ud k C) (j + 1) = tl_sm (tl_ac L H A ud k C) j + tl_ac L H A ud k C j := rfl
    have no : tl_ac L H A ud k C j = 0 → wY_active_17 post (nI k) (nI T) (nI S) (nI F) (lN C) hd re ud lo up am cd (d + 1) (lN (tl_sm (tl_ac L H A ud k C) j)) (nI (j + 1)) := by
      intro z
      rw [es, z, Nat.add_zero] at ih'
      exact ih'
    have yes : tl_ac L H A ud k C j = A j → wY_active_109 post (wY_active_17 post (nI k) (nI T) (nI S) (nI F) (lN C) hd re ud lo up am cd (d + 1)) (nI k) (lN (tl_sm (tl_ac L H A ud k C) j)) (nI j) (nI T) (nI S) (nI F) (lN C) hd re ud lo up am cd := by
      intro z
      rw [es, z] at ih'
      unfold wY_active_109
      rw [cj, e3]
      exact ⟨vj, nm_r (lN_add _ _) (nm_r (nI_1 j) ih')⟩
    unfold wY_active_17
    rw [cj, e1, e2]
    refine br_f (nI_ge (by omega) (by omega)) ⟨vj, tl_ytp (by omega) ⟨vj, tl_ytp (by omega) ⟨vj, ?_⟩⟩⟩
    by_cases u : ud j = 0
    · refine br_t u (nm_r (nI_1 j) (no ?_))
      unfold tl_ac
      rw [if_neg (show ¬ (ud j ≠ 0 ∧ tl_R (L j) < C ∧ C ≤ tl_R (H j)) from fun y => y.1 u), if_neg (show ¬ (ud j ≠ 0 ∧ tl_R (L j) ≤ C ∧ C < tl_R (H j)) from fun y => y.1 u), ite_self]
    · refine br_f u ?_
      rcases tl_tok2 hk with rfl | rfl
      · rw [tl_ac_0] at no yes
        refine br_t rfl ?_
        by_cases q1 : C ≤ tl_R (L j)
        · exact br_t ((pk_lLE (by omega) (by omega)).mpr q1) (nm_r (nI_1 j) (no (if_neg (fun y => by omega))))
        · refine br_f (fun y => q1 ((pk_lLE (by omega) (by omega)).mp y)) ?_
          by_cases q2 : tl_R (H j) < C
          · exact br_t ((pk_lLT (by omega) (by omega)).mpr q2) (nm_r (nI_1 j) (no (if_neg (fun y => by omega))))
          · exact br_f (fun y => q2 ((pk_lLT (by omega) (by omega)).mp y)) (yes (if_pos ⟨u, by omega, by omega⟩))
      · rw [tl_ac_1] at no yes
        refine br_f tl_i10 ?_
        by_cases q1 : C < tl_R (L j)
        · exact br_t ((pk_lLT (by omega) (by omega)).mpr q1) (nm_r (nI_1 j) (no (if_neg (fun y => by omega))))
        · refine br_f (fun y => q1 ((pk_lLT (by omega) (by omega)).mp y)) ?_
          by_cases q2 : tl_R (H j) ≤ C
          · exact br_t ((pk_lLE (by omega) (by omega)).mpr q2) (nm_r (nI_1 j) (no (if_neg (fun y => by omega))))
          · exact br_f (fun y => q2 ((pk_lLE (by omega) (by omega)).mp y)) (yes (if_pos ⟨u, by omega, by omega⟩))
theorem tl_yac {k : Nat} (hk : k < 2) (h1 : tl_I1 T L H A ud lo up am) (hT : T ≤ 32) (hS : S ≤ 16) (hC : C ≤ 456014) {post : Int64 → Prop} (h : post (lN (tl_sm (tl_ac L H A ud k C) S))) : wpY_active post (nI T, nI S, nI F, lN C, hd, re, ud, lo, up, am, cd) (nI k) := by
  unfold wpY_active
  exact tl_ytok1 hk (br_t rfl ⟨S + 1, tl_yacL hk h1 hT hS hC h S 0 (by omega)⟩)
/-- the sums below and above, by the cell d in which they lie -/
theorem tl_ac0 {d : Nat} (i1 : tl_I1 T L H A ud lo up am) (a : tl_R d < C) (b : C ≤ tl_R (d + 1)) : tl_sm (tl_ac L H A ud 0 C) S = tl_In L H A S d := by
  refine tl_sm_congr (fun i hi => ?_)
  rw [tl_ac_0]
  by_cases ha : A i = 0
  · rw [ha, ite_self, ite_self]
  · have hu := (i1 i).2.2.2.2.2.2.2 ha
    by_cases z : L i ≤ d ∧ d < H i
    · have x1 := tl_R_le z.1
      have x2 := tl_R_le (a := d + 1) (b := H i) (by omega)
      rw [if_pos z, if_pos ⟨hu, by omega, by omega⟩]
    · rw [if_neg z, if_neg]
      rintro ⟨-, y1, y2⟩
      have x1 : L i < d + 1 := tl_R_lti.mp (by omega)
      have x2 : d < H i := tl_R_lti.mp (by omega)
      omega
theorem tl_ac1 {d : Nat} (i1 : tl_I1 T L H A ud lo up am) (a : tl_R d ≤ C) (b : C < tl_R (d + 1)) : tl_sm (tl_ac L H A ud 1 C) S = tl_In L H A S d := by
  refine tl_sm_congr (fun i hi => ?_)
  rw [tl_ac_1]
  by_cases ha : A i = 0
  · rw [ha, ite_self, ite_self]
  · have hu := (i1 i).2.2.2.2.2.2.2 ha
    by_cases z : L i ≤ d ∧ d < H i
    · have x1 := tl_R_le z.1
      have x2 := tl_R_le (a := d + 1) (b := H i) (by omega)
      rw [if_pos z, if_pos ⟨hu, by omega, by omega⟩]
    · rw [if_neg z, if_neg]
      rintro ⟨-, y1, y2⟩
      have x1 : L i < d + 1 := tl_R_lti.mp (by omega)
      have x2 : d < H i := tl_R_lti.mp (by omega)
      omega
/-- at the lowest tick nothing lies below the price -/
theorem tl_ac00 (i1 : tl_I1 T L H A ud lo up am) (a : C = tl_R 0) : lN (tl_In L H A S 0) - (lN (tl_N L A S 0) - lN (tl_N H A S 0)) = lN (tl_sm (tl_ac L H A ud 0 C) S) := by
  have hLH : ∀ i, A i ≠ 0 → L i < H i := fun i h => (i1 i).2.2.2.2.2.2.1 ((i1 i).2.2.2.2.2.2.2 h)
  have h : tl_In L H A S 0 + tl_N H A S 0 = tl_sm (tl_ac L H A ud 0 C) S + tl_N L A S 0 := by
    unfold tl_In tl_N
    rw [← tl_sm_add, ← tl_sm_add]
    refine tl_sm_congr (fun i hi => ?_)
    rw [tl_ac_0]
    by_cases ha : A i = 0
    · rw [ha, ite_self, ite_self, ite_self, ite_self]
    · have y := hLH i ha
      have x1 := tl_R_le (Nat.zero_le (L i))
      rw [if_neg (show ¬ (ud i ≠ 0 ∧ tl_R (L i) < C ∧ C ≤ tl_R (H i)) from fun z => by omega)]
      split <;> split <;> split <;> omega
  have h2 := congrArg lN h
  rw [← lN_add, ← lN_add] at h2
  grind
/-- at the highest tick nothing lies above it -/
theorem tl_ac1T {d : Nat} (i1 : tl_I1 T L H A ud lo up am) (hd1 : d + 1 = T) (a : C = tl_R (d + 1)) : lN (tl_In L H A S (d + 1)) = lN (tl_sm (tl_ac L H A ud 1 C) S) := by
  refine congrArg lN (Eq.symm (tl_sm_congr (fun i hi => ?_)))
  rw [tl_ac_1]
  obtain ⟨-, -, -, hl, hh, -⟩ := i1 i
  have x1 := tl_R_le (a := H i) (b := d + 1) (by omega)
  rw [if_neg (show ¬ (ud i ≠ 0 ∧ tl_R (L i) ≤ C ∧ C < tl_R (H i)) from fun z => by omega), if_neg (show ¬ (L i ≤ d + 1 ∧ d + 1 < H i) by omega)]
theorem tl_xac {k : Nat} (hk : k < 2) (hT : T ≤ 32) (i1 : tl_I1 T L H A ud lo up am) (i2 : tl_I2 S L H A us ne lb) (i3 : tl_I3 T S C c L H A pr iF) {post : Int64 → Prop} (h : post (lN (tl_sm (tl_ac L H A ud k C) S))) : wpX_active post (nI T, nI S, nI F, lN C, nI c, iF, lb, rs, tt, hd, re, gr, pr, us, ne, ou, ud, lo, up, am, cr, mk) (nI k) := by
  obtain ⟨p1, p2, p3, p4, p5⟩ := i3
  have hLH : ∀ i, A i ≠ 0 → L i < H i := fun i h => (i1 i).2.2.2.2.2.2.1 ((i1 i).2.2.2.2.2.2.2 h)
  have hb := tl_R_b (n := c) (by omega)
  have hb1 := tl_R_b (n := c + 1) (by omega)
  have vc : vp_in (nI c) 33 := vp_in_nI (by omega) (by omega)
  have vc1 : vp_in (nI (c + 1)) 33 := vp_in_nI (by omega) (by omega)
  have cc : (nI c).toNatClampNeg = c := nI_clamp (by omega)
  have cc1 : (nI (c + 1)).toNatClampNeg = c + 1 := nI_clamp (by omega)
  unfold wpX_active
  refine tl_xtok1 hk (br_f tl_i10 ?_)
  rcases tl_tok2 hk with rfl | rfl
  · refine br_t rfl ⟨vc, ?_⟩
    rw [cc, p1 c (by omega)]
    by_cases e : C = tl_R c
    · refine br_t (by rw [e]) ⟨vc, ?_⟩
      rw [p5, (i2 c).2.1]
      cases c with
      | zero =>
        rw [tl_ac00 i1 e]
        exact h
      | succ d =>
        rw [tl_In_dn hLH, ← tl_ac0 (ud := ud) i1 (d := d) (C := C) (by have := tl_R_s d; omega) (by omega)]
        exact h
    · refine br_f (fun y => e ((pk_lEQ (by omega) (by omega)).mp y)) ?_
      unfold wX_active_48
      refine br_f (by decide) ?_
      rw [p5, ← tl_ac0 (ud := ud) i1 (d := c) (C := C) (by omega) p4]
      exact h
  · refine br_f tl_i10 ?_
    unfold wX_active_48
    rw [nI_1, cc1, p1 (c + 1) (by omega)]
    refine br_t rfl ⟨vc1, ?_⟩
    by_cases e : C = tl_R (c + 1)
    · refine br_t (by rw [e]) ⟨vc1, ?_⟩
      rw [p5, (i2 (c + 1)).2.1, tl_In_up hLH]
      by_cases z : c + 1 = T
      · rw [tl_ac1T (ud := ud) i1 z e]
        exact h
      · rw [← tl_ac1 (ud := ud) i1 (d := c + 1) (C := C) (by omega) (by have := tl_R_s (c + 1); omega)]
        exact h
    · refine br_f (fun y => e ((pk_lEQ (by omega) (by omega)).mp y)) ?_
      rw [p5, ← tl_ac1 (ud := ud) i1 (d := c) (C := C) p3 (by omega)]
      exact h
end
theorem i_vc_active {k : Nat} {u : SX} {v : SY} (I : i_Rel k u v) (hk : k + 4 ≤ 2052) (v1 : Int32) : wpX_active (fun r => wpY_active (fun r' => r' = r ∧ i_Rel (k + 4) u v) v v1) u v1 := by
  refine I (fun u v => wpX_active (fun r => wpY_active (fun r' => r' = r ∧ i_Rel (k + 4) u v) v v1) u v1) ?_
  intro T S F C c L H A iF lb rs tt hd re gr pr us ne ou ud lo up am cr mk cd i0 i1 i2 i3 i4 i5
  have rel := tl_mk (rs := rs) (tt := tt) (hd := hd) i0 i1 i2 i3 i4 (tl_I5_up i5)
  obtain ⟨-, hT, -, hS, -⟩ := id i0
  rcases tl_tok v1 with ⟨t, ht, rfl⟩ | hn
  · have hCb : C ≤ 456014 := by
      have := tl_R_b (n := c + 1) (by have := i3.2.1; omega)
      have := i3.2.2.2.1
      omega
    exact tl_xac ht hT i1 i2 i3 (tl_yac ht i1 hT hS hCb ⟨rfl, rel⟩)
  · unfold wpX_active
    refine tl_xtok0 hn (br_t rfl ?_)
    unfold wpY_active
    exact tl_ytok0 hn (br_f tl_i10 ⟨rfl, rel⟩)
end
section
/-! the constructors -/
def tl_cl (p a b : Int32) : Int32 := if a ≤ p then (if p ≤ b then p else b) else a
theorem tl_cl_n (p : Int32) {a b : Nat} (hab : a ≤ b) (hb : b < 2 ^ 31) : ∃ m : Nat, a ≤ m ∧ m ≤ b ∧ tl_cl p (nI a) (nI b) = nI m := by
  unfold tl_cl
  by_cases q1 : nI a ≤ p
  · rw [if_pos q1]
    by_cases q2 : p ≤ nI b
    · rw [if_pos q2]
      have h0 : ¬ p < 0 := by
        intro z
        rw [Int32.lt_iff_toInt_lt] at z
        rw [Int32.le_iff_toInt_le, nI_toInt (by omega)] at q1
        have e0 : (0 : Int32).toInt = 0 := by decide
        omega
      obtain ⟨j, hj, rfl⟩ := nI_of h0
      exact ⟨j, (nI_leI (by omega) hj).mp q1, (nI_leI hj hb).mp q2, rfl⟩
    · rw [if_neg q2]
      exact ⟨b, hab, Nat.le_refl _, rfl⟩
  · rw [if_neg q1]
    exact ⟨a, Nat.le_refl _, hab, rfl⟩
theorem tl_cl_m {m b : Nat} (hm : m < 2 ^ 31) (hb : b < 2 ^ 31) : tl_cl (nI m) (nI 0) (nI b) = nI (if m ≤ b then m else b) := by
  unfold tl_cl
  rw [if_pos (nI_le (Nat.zero_le _) hm)]
  by_cases q : m ≤ b
  · rw [if_pos q, if_pos (nI_le q hb)]
  · rw [if_neg q, if_neg (nI_ge (by omega) hm)]
section
variable {xT xS xF xc : Int32} {xC iF lb rs tt : Int64} {hd re gr pr : Nat → Int64} {us : Nat → Int32} {ne ou : Nat → Int64} {ud lo up : Nat → Int32} {am cr mk cd : Nat → Int64}
theorem tl_xclamp {p a b : Int32} {post : Int32 → Prop} (h : post (tl_cl p a b)) : wpX_clamp post (xT, xS, xF, xC, xc, iF, lb, rs, tt, hd, re, gr, pr, us, ne, ou, ud, lo, up, am, cr, mk) p a b := by
  unfold wpX_clamp
  unfold tl_cl at h
  by_cases q1 : a ≤ p
  · rw [if_pos q1] at h
    by_cases q2 : p ≤ b
    · rw [if_pos q2] at h
      exact br_t q1 (br_t q2 h)
    · rw [if_neg q2] at h
      exact br_t q1 (br_f q2 h)
  · rw [if_neg q1] at h
    exact br_f q1 h
theorem tl_y131 {p z : Int32} {post : SY → Prop} (h : wY_init_161 post (tl_cl p 0 xT) xT xS z xC hd re ud lo up am cd) : wY_init_131 post p z xT xS xF xC hd re ud lo up am cd := by
  unfold wY_init_131
  unfold tl_cl at h
  by_cases q1 : 0 ≤ p
  · rw [if_pos q1] at h
    by_cases q2 : p ≤ xT
    · rw [if_pos q2] at h
      exact br_t q1 (br_t q2 h)
    · rw [if_neg q2] at h
      exact br_t q1 (br_f q2 h)
  · rw [if_neg q1] at h
    exact br_f q1 h
theorem tl_y107 {p x z : Int32} {post : SY → Prop} (h : wY_init_131 post x (tl_cl p 0 100) xT z xF xC hd re ud lo up am cd) : wY_init_107 post p x z xT xS xF xC hd re ud lo up am cd := by
  unfold wY_init_107
  unfold tl_cl at h
  by_cases q1 : 0 ≤ p
  · rw [if_pos q1] at h
    by_cases q2 : p ≤ 100
    · rw [if_pos q2] at h
      exact br_t q1 (br_t q2 h)
    · rw [if_neg q2] at h
      exact br_t q1 (br_f q2 h)
  · rw [if_neg q1] at h
    exact br_f q1 h
theorem tl_y82 {p x y z : Int32} {post : SY → Prop} (h : wY_init_107 post x y (tl_cl p 2 16) z xS xF xC hd re ud lo up am cd) : wY_init_82 post p x y z xT xS xF xC hd re ud lo up am cd := by
  unfold wY_init_82
  unfold tl_cl at h
  by_cases q1 : 2 ≤ p
  · rw [if_pos q1] at h
    by_cases q2 : p ≤ 16
    · rw [if_pos q2] at h
      exact br_t q1 (br_t q2 h)
    · rw [if_neg q2] at h
      exact br_t q1 (br_f q2 h)
  · rw [if_neg q1] at h
    exact br_f q1 h
theorem tl_yinit {p0 p1 p2 p3 : Int32} {st : Nat} (hst : st ≤ 32) (e : tl_cl p3 0 (tl_cl p0 8 32) = nI st) {post : SY → Prop}
    (h : post (tl_cl p0 8 32, tl_cl p1 2 16, tl_cl p2 0 100, lN (tl_R st), (fun _ => 0), (fun _ => 0), (fun _ => 0), (fun _ => 0), (fun _ => 0), (fun _ => 0), (fun _ => 0))) : wpY_init post p0 p1 p2 p3 := by
  have h2 : wY_init_82 post p1 p2 p3 (tl_cl p0 8 32) 0 0 0 0 (fun _ => 0) (fun _ => 0) (fun _ => 0) (fun _ => 0) (fun _ => 0) (fun _ => 0) (fun _ => 0) := by
    refine tl_y82 (tl_y107 (tl_y131 ?_))
    unfold wY_init_161
    rw [e]
    exact tl_ytp hst h
  unfold wpY_init
  generalize hc : tl_cl p0 8 32 = w at h2
  unfold tl_cl at hc
  by_cases q1 : 8 ≤ p0
  · rw [if_pos q1] at hc
    by_cases q2 : p0 ≤ 32
    · rw [if_pos q2] at hc
      subst hc
      exact br_t q1 (br_t q2 h2)
    · rw [if_neg q2] at hc
      subst hc
      exact br_t q1 (br_f q2 h2)
  · rw [if_neg q1] at hc
    subst hc
    exact br_f q1 h2
end
/-- X's start: everything zero but the prices -/
theorem tl_xinitL {T S F st : Nat} {x4 : Int32} (hT8 : 8 ≤ T) (hT : T ≤ 32) (hst : st ≤ T) (e : tl_cl x4 0 (nI T) = nI st) {post : SX → Prop}
    (h : ∀ pr : Nat → Int64, tl_Pr T pr → post (nI T, nI S, nI F, lN (tl_R st), nI (if st ≤ T - 1 then st else T - 1), 0, 0, 0, 0, (fun _ => 0), (fun _ => 0), (fun _ => 0), pr, (fun _ => 0), (fun _ => 0), (fun _ => 0), (fun _ => 0), (fun _ => 0), (fun _ => 0), (fun _ => 0), (fun _ => 0), (fun _ => 0))) :
    ∀ (d j : Nat) (pr : Nat → Int64), j + d = T → (∀ i, i ≤ j → pr i = lN (tl_R i)) → wX_init_154 post x4 (nI T) (nI S) (nI F) 0 0 0 0 0 0 (d + 1) (nI j) (fun _ => 0) (fun _ => 0) (fun _ => 0) pr (fun _ => 0) (fun _ => 0) (fun _ => 0) (fun _ => 0) (fun _ => 0) (fun _ => 0) (fun _ => 0) (fun _ => 0) (fun _ => 0) := by
  intro d
  induction d with
  | zero =>
    intro j pr hj hp
    have z : j = T := by omega
    subst z
    unfold wX_init_154
    refine br_t (nI_le (Nat.le_refl _) (by omega)) (tl_xclamp ?_)
    rw [e]
    have vs : vp_in (nI st) 33 := vp_in_nI (by omega) (by omega)
    have es : pr (nI st).toNatClampNeg = lN (tl_R st) := by rw [nI_clamp (by omega)]; exact hp st hst
    refine ⟨vs, nm_r es (tl_xclamp ?_)⟩
    have e2 : tl_cl (nI st) 0 (nI j - 1) = nI (if st ≤ j - 1 then st else j - 1) := by
      rw [show nI j - 1 = nI (j - 1) from pk_sub (b := 1) (by omega), ← nI_0]
      exact tl_cl_m (by omega) (by omega)
    rw [e2]
    exact h pr hp
  | succ d ih =>
    intro j pr hj hp
    have hb := tl_R_b (n := j) (by omega)
    have vj : vp_in (nI j) 33 := vp_in_nI (by omega) (by omega)
    have vj1 : vp_in (nI (j + 1)) 33 := vp_in_nI (by omega) (by omega)
    have cj : (nI j).toNatClampNeg = j := nI_clamp (by omega)
    have cj1 : (nI (j + 1)).toNatClampNeg = j + 1 := nI_clamp (by omega)
    have ev : pr j + pr j / 16 = lN (tl_R (j + 1)) := by
      rw [hp j (Nat.le_refl _), show (16 : Int64) = lN 16 from rfl, pk_lDiv (by omega) (by omega) (by omega), lN_add]
      rfl
    unfold wX_init_154
    rw [nI_1, cj, cj1, ev]
    refine br_f (nI_ge (by omega) (by omega)) ⟨vj, vj, by decide, vj1, nm_e (nm_e (ih (j + 1) _ (by omega) (fun i hi => ?_)))⟩
    by_cases z : i = j + 1
    · rw [z, pk_uLs]
    · rw [pk_uLn z]
      exact hp i (by omega)
theorem tl_xinit {T S F st : Nat} {p0 p1 p2 p3 : Int32} (hT8 : 8 ≤ T) (hT : T ≤ 32) (hst : st ≤ T) (eT : tl_cl p0 8 32 = nI T) (eS : tl_cl p1 2 16 = nI S) (eF : tl_cl p2 0 100 = nI F) (e : tl_cl p3 0 (nI T) = nI st) {post : SX → Prop}
    (h : ∀ pr : Nat → Int64, tl_Pr T pr → post (nI T, nI S, nI F, lN (tl_R st), nI (if st ≤ T - 1 then st else T - 1), 0, 0, 0, 0, (fun _ => 0), (fun _ => 0), (fun _ => 0), pr, (fun _ => 0), (fun _ => 0), (fun _ => 0), (fun _ => 0), (fun _ => 0), (fun _ => 0), (fun _ => 0), (fun _ => 0), (fun _ => 0))) : wpX_init post p0 p1 p2 p3 := by
  unfold wpX_init
  refine tl_xclamp (tl_xclamp (tl_xclamp (nm_e ⟨T + 1, ?_⟩)))
  rw [eT, eS, eF]
  refine tl_xinitL hT8 hT hst e h T 0 _ (by omega) (fun i hi => ?_)
  have z : i = 0 := by omega
  subst z
  exact pk_uLs
theorem tl_sm_0 {f : Nat → Nat} (h : ∀ i, f i = 0) : ∀ n, tl_sm f n = 0 := by
  intro n
  induction n with
  | zero => rfl
  | succ n ih =>
    show tl_sm f n + f n = 0
    rw [ih, h]
theorem i_vc0 (k0 : Int32) (k1 : Int32) (k2 : Int32) (k3 : Int32) : wpX_init (fun u => wpY_init (fun v => i_Rel 4 u v) k0 k1 k2 k3) k0 k1 k2 k3 := by
  obtain ⟨T, hT8, hT, eT⟩ := tl_cl_n k0 (a := 8) (b := 32) (by omega) (by omega)
  obtain ⟨S, hS2, hS, eS⟩ := tl_cl_n k1 (a := 2) (b := 16) (by omega) (by omega)
  obtain ⟨F, hF0, hF, eF⟩ := tl_cl_n k2 (a := 0) (b := 100) (by omega) (by omega)
  obtain ⟨st, hs0, hst, es⟩ := tl_cl_n k3 (a := 0) (b := T) (by omega) (by omega)
  have eT' : tl_cl k0 8 32 = nI T := eT
  have eS' : tl_cl k1 2 16 = nI S := eS
  have eF' : tl_cl k2 0 100 = nI F := eF
  have es' : tl_cl k3 0 (nI T) = nI st := es
  refine tl_xinit hT8 hT hst eT' eS' eF' es' (fun pr hp => tl_yinit (st := st) (by omega) (by rw [eT']; exact es') ?_)
  rw [eT', eS', eF']
  have U0 : ∀ t, tl_U (fun _ => 0) (fun _ => 0) (fun _ => 0) S t = 0 := fun t => tl_sm_0 (fun i => if_pos rfl) S
  have N0 : ∀ t, tl_N (fun _ => 0) (fun _ => 0) S t = 0 := fun t => tl_sm_0 (fun i => ite_self _) S
  have In0 : ∀ c, tl_In (fun _ => 0) (fun _ => 0) (fun _ => 0) S c = 0 := fun t => tl_sm_0 (fun i => ite_self _) S
  have hs := tl_R_s st
  refine tl_mk (L := fun _ => 0) (H := fun _ => 0) (A := fun _ => 0) ⟨hT8, hT, hS2, hS, hF⟩ ?_ ?_ ⟨hp, ?_, ?_, ?_, ?_⟩ ?_ ?_
  · intro i
    exact ⟨rfl, rfl, rfl, Nat.zero_le _, Nat.zero_le _, Nat.zero_le _, fun z => absurd rfl z, fun z => absurd rfl z⟩
  · intro t
    rw [U0, N0]
    refine ⟨rfl, rfl, ?_⟩
    show (0 : Int64).toBitVec.getLsbD t = _
    rw [decide_eq_false (Nat.lt_irrefl 0)]
    exact BitVec.getLsbD_zero
  · split <;> omega
  · split
    · exact Nat.le_refl _
    · exact tl_R_le (by omega)
  · split
    · exact Nat.le_of_lt hs
    · exact tl_R_le (by omega)
  · rw [In0]
    rfl
  · intro i hi t ht
    show (0 : Int64) = 0 + _ * lN 0
    rw [show lN 0 = 0 from rfl, Int64.mul_zero]
    rfl
  · exact ⟨fun j => ⟨0, rfl, Nat.zero_le _⟩, fun j => ⟨0, rfl, Nat.zero_le _⟩⟩
end
