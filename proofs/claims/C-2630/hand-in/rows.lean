section
theorem pk_us {f : Nat → Int32} {k : Nat} {x : Int32} : upd f k x k = x := if_pos rfl
theorem pk_un {f : Nat → Int32} {k j : Nat} {x : Int32} (h : j ≠ k) : upd f k x j = f j := if_neg h
theorem pk_sub {a b : Nat} (h : b ≤ a) : nI a - nI b = nI (a - b) := by
  obtain ⟨c, rfl⟩ : ∃ c, a = c + b := ⟨a - b, by omega⟩
  rw [← nI_add, Int32.add_sub_cancel, Nat.add_sub_cancel]
theorem pk_mul (a b : Nat) : nI a * nI b = nI (a * b) := (Int32.ofNat_mul a b).symm
theorem pk_div {a d : Nat} (ha : a < 2 ^ 31) (h0 : 0 < d) (hd : d < 2 ^ 31) : nI a / nI d = nI (a / d) := by
  apply Int32.toInt_inj.mp
  rw [lg_idiv_nonneg (by rw [nI_toInt ha]; omega) (by rw [nI_toInt hd]; omega), nI_toInt ha, nI_toInt hd, nI_toInt (Nat.lt_of_le_of_lt (Nat.div_le_self a d) ha)]
  first | rfl | exact (Int.natCast_ediv _ _).symm
theorem pk_rem {a d : Nat} (ha : a < 2 ^ 31) (h0 : 0 < d) (hd : d < 2 ^ 31) : nI a - nI a / nI d * nI d = nI (a % d) := by
  rw [pk_div ha h0 hd, pk_mul, pk_sub (Nat.div_mul_le_self a d)]
  exact congrArg nI (by have := Nat.div_add_mod' a d; omega)
theorem pk_tn {n : Nat} (h : n < 2 ^ 32) : (nI n).toBitVec.toNat = n := Nat.mod_eq_of_lt h
theorem pk_and (x : Int32) {m : Int32} (k : Nat) (hm : m.toBitVec.toNat = 2 ^ k - 1) : x &&& m = nI (x.toBitVec.toNat % 2 ^ k) := by
  apply Int32.toBitVec_inj.mp
  apply BitVec.eq_of_toNat_eq
  rw [Int32.toBitVec_and, BitVec.toNat_and, hm, Nat.and_two_pow_sub_one_eq_mod]
  show _ = (BitVec.ofNat 32 _).toNat
  rw [BitVec.toNat_ofNat]
  exact (Nat.mod_eq_of_lt (Nat.lt_of_le_of_lt (Nat.mod_le _ _) x.toBitVec.isLt)).symm
theorem pk_andN {n : Nat} (h : n < 2 ^ 32) {m : Int32} (k : Nat) (hm : m.toBitVec.toNat = 2 ^ k - 1) : nI n &&& m = nI (n % 2 ^ k) := by
  rw [pk_and _ k hm, pk_tn h]
theorem pk_andE (x : Int32) {m : Int32} (k : Nat) (hm : m.toBitVec.toNat = 2 ^ k - 1) : ∃ j : Nat, j < 2 ^ k ∧ x &&& m = nI j := ⟨_, Nat.mod_lt _ (Nat.two_pow_pos k), pk_and x k hm⟩
theorem pk_andIn (x : Int32) {m : Int32} (k : Nat) (hm : m.toBitVec.toNat = 2 ^ k - 1) (hk : k ≤ 30) : vp_in (x &&& m) (2 ^ k) := by
  obtain ⟨j, hj, e⟩ := pk_andE x k hm
  rw [e]
  exact vp_in_nI hj (Nat.lt_of_le_of_lt (Nat.pow_le_pow_right (by decide) hk) (by decide))
theorem pk_shr (a s : Int32) (k : Nat) (hs : (s.toBitVec.smod 32).toNat = k) : (a >>> s).toInt = a.toInt >>> k := by
  show (a.toBitVec.sshiftRight (s.toBitVec.smod 32).toNat).toInt = _
  rw [hs, BitVec.toInt_sshiftRight]
  rfl
theorem pk_shrN {n : Nat} (h : n < 2 ^ 31) (s : Int32) (k : Nat) (hs : (s.toBitVec.smod 32).toNat = k) : nI n >>> s = nI (n / 2 ^ k) := by
  apply Int32.toInt_inj.mp
  have h2 : n / 2 ^ k ≤ n := Nat.div_le_self _ _
  rw [pk_shr _ _ k hs, nI_toInt h, nI_toInt (by omega), Int.shiftRight_eq_div_pow]
  rfl
theorem nx_and (a b : Nat) : nI a &&& nI b = nI (a &&& b) := by
  apply Int32.toBitVec_inj.1
  show BitVec.ofNat 32 a &&& BitVec.ofNat 32 b = BitVec.ofNat 32 (a &&& b)
  apply BitVec.eq_of_getLsbD_eq
  intro i hi
  simp [hi]
theorem nx_mod (k : Nat) : nI k &&& 65535 = nI (k % 65536) := by
  show nI k &&& nI 65535 = _
  rw [nx_and, show (65535 : Nat) = 2 ^ 16 - 1 from rfl, Nat.and_two_pow_sub_one_eq_mod]
theorem nx_m16 {k : Nat} (h : k < 65536) : nI k &&& 65535 = nI k := by rw [nx_mod, Nat.mod_eq_of_lt h]
theorem nx_mask (x : Int32) : ∃ k, k < 65536 ∧ x &&& 65535 = nI k := by
  have e : x = nI x.toBitVec.toNat := by
    apply Int32.toBitVec_inj.1
    show x.toBitVec = BitVec.ofNat 32 x.toBitVec.toNat
    simp
  refine ⟨x.toBitVec.toNat % 65536, Nat.mod_lt _ (by omega), ?_⟩
  rw [← nx_mod, ← e]
end
section
/-! plain laws: words, sums under 65535, extension of a field, signs, the branch's condition -/
def mc_W (x : Int32) : Prop := ∃ n : Nat, n < 65536 ∧ x = nI n
theorem mc_Wm (x : Int32) : mc_W (x &&& 65535) := nx_mask x
theorem mc_W0 : mc_W 0 := ⟨0, by decide, nI_0.symm⟩
theorem mc_Wu {f : Nat → Int32} {k : Nat} {x : Int32} (h : ∀ j, mc_W (f j)) (hx : mc_W x) : ∀ j, mc_W (upd f k x j) := by
  intro j
  by_cases e : j = k
  · subst e
    rw [pk_us]
    exact hx
  · rw [pk_un e]
    exact h j
theorem mc_Wa {x : Int32} (h : mc_W x) : x &&& 65535 = x := by
  obtain ⟨n, hn, rfl⟩ := h
  exact nx_m16 hn
theorem mc_and (x : Int32) : x &&& 65535 = nI (x.toBitVec.toNat % 65536) := pk_and x 16 (by decide)
theorem mc_am (x y : Int32) : (x + (y &&& 65535)) &&& 65535 = (x + y) &&& 65535 := by
  rw [mc_and (x + (y &&& 65535)), mc_and (x + y), Int32.toBitVec_add, Int32.toBitVec_add, BitVec.toNat_add, BitVec.toNat_add, mc_and y, pk_tn (n := y.toBitVec.toNat % 65536) (by omega)]
  exact congrArg nI (by omega)
theorem mc_63 (x : Int32) : (x &&& 65535) &&& 63 = x &&& 63 := by
  rw [Int32.and_assoc, show (65535 : Int32) &&& 63 = 63 from by decide]
theorem mc_not (x : Int32) : (x ^^^ (-1)) &&& 65535 = (65535 - x) &&& 65535 := by
  have hx := x.toBitVec.isLt
  rw [mc_and (x ^^^ (-1)), mc_and (65535 - x), Int32.toBitVec_xor, show (-1 : Int32).toBitVec = BitVec.allOnes 32 from by decide, BitVec.xor_allOnes, BitVec.toNat_not, Int32.toBitVec_sub, BitVec.toNat_sub, show (65535 : Int32).toBitVec.toNat = 65535 from by decide]
  exact congrArg nI (by omega)
/-- a word and anything is a word -/
theorem mc_aw {x : Int32} (h : mc_W x) (y : Int32) : (x &&& y) &&& 65535 = x &&& y := by
  rw [Int32.and_assoc, Int32.and_comm y, ← Int32.and_assoc, mc_Wa h]
theorem mc_x0 {x : Int32} (h : mc_W x) : (x + 0) &&& 65535 = x := by
  rw [Int32.add_zero]
  exact mc_Wa h

/-- X's extension of the lowest b bits -/
def mx_ext (w b : Int32) : Int32 :=
  if ((w &&& (((1 : Int32) <<< (b &&& 31)) - 1)) >>> ((b - 1) &&& 31)) &&& 1 = 0 then w &&& (((1 : Int32) <<< (b &&& 31)) - 1)
  else (w &&& (((1 : Int32) <<< (b &&& 31)) - 1)) ||| (65535 &&& ((((1 : Int32) <<< (b &&& 31)) - 1) ^^^ (-1)))
/-- Y's signed reading of the lowest b bits -/
def my_sg (w b : Int32) : Int32 :=
  if w - w / ((1 : Int32) <<< (b &&& 31)) * ((1 : Int32) <<< (b &&& 31)) < ((1 : Int32) <<< ((b - 1) &&& 31)) then w - w / ((1 : Int32) <<< (b &&& 31)) * ((1 : Int32) <<< (b &&& 31))
  else (w - w / ((1 : Int32) <<< (b &&& 31)) * ((1 : Int32) <<< (b &&& 31))) - ((1 : Int32) <<< (b &&& 31))
/-- both, of the remainder -/
def mc_xe (n : Nat) (m c f : Int32) : Int32 := if (nI n >>> c) &&& 1 = 0 then nI n else nI n ||| f
def mc_ye (n : Nat) (h d : Int32) : Int32 := if nI n < h then nI n else nI n - d
theorem mc_t5 : ∀ n : Nat, n < 32 → mc_xe n 31 (((5 : Int32) - 1) &&& 31) (65535 &&& ((31 : Int32) ^^^ (-1))) = mc_ye n ((1 : Int32) <<< (((5 : Int32) - 1) &&& 31)) (nI 32) &&& 65535 := by decide +kernel
theorem mc_t6 : ∀ n : Nat, n < 64 → mc_xe n 63 (((6 : Int32) - 1) &&& 31) (65535 &&& ((63 : Int32) ^^^ (-1))) = mc_ye n ((1 : Int32) <<< (((6 : Int32) - 1) &&& 31)) (nI 64) &&& 65535 := by decide +kernel
theorem mc_t9 : ∀ n : Nat, n < 512 → mc_xe n 511 (((9 : Int32) - 1) &&& 31) (65535 &&& ((511 : Int32) ^^^ (-1))) = mc_ye n ((1 : Int32) <<< (((9 : Int32) - 1) &&& 31)) (nI 512) &&& 65535 := by decide +kernel
theorem mc_t11 : ∀ n : Nat, n < 2048 → mc_xe n 2047 (((11 : Int32) - 1) &&& 31) (65535 &&& ((2047 : Int32) ^^^ (-1))) = mc_ye n ((1 : Int32) <<< (((11 : Int32) - 1) &&& 31)) (nI 2048) &&& 65535 := by decide +kernel
theorem mc_x5 {x : Int32} (h : mc_W x) : mx_ext x 5 = my_sg x 5 &&& 65535 := by
  obtain ⟨w, hw, rfl⟩ := h
  have e : nI w &&& (31 : Int32) = nI (w % 32) := pk_andN (by omega) 5 (by decide)
  unfold mx_ext my_sg
  rw [show (1 : Int32) <<< ((5 : Int32) &&& 31) = nI 32 from by decide, show nI 32 - 1 = 31 from by decide, e, pk_rem (a := w) (d := 32) (by omega) (by decide) (by decide)]
  exact mc_t5 (w % 32) (Nat.mod_lt _ (by decide))
theorem mc_x6 {x : Int32} (h : mc_W x) : mx_ext x 6 = my_sg x 6 &&& 65535 := by
  obtain ⟨w, hw, rfl⟩ := h
  have e : nI w &&& (63 : Int32) = nI (w % 64) := pk_andN (by omega) 6 (by decide)
  unfold mx_ext my_sg
  rw [show (1 : Int32) <<< ((6 : Int32) &&& 31) = nI 64 from by decide, show nI 64 - 1 = 63 from by decide, e, pk_rem (a := w) (d := 64) (by omega) (by decide) (by decide)]
  exact mc_t6 (w % 64) (Nat.mod_lt _ (by decide))
theorem mc_x9 {x : Int32} (h : mc_W x) : mx_ext x 9 = my_sg x 9 &&& 65535 := by
  obtain ⟨w, hw, rfl⟩ := h
  have e : nI w &&& (511 : Int32) = nI (w % 512) := pk_andN (by omega) 9 (by decide)
  unfold mx_ext my_sg
  rw [show (1 : Int32) <<< ((9 : Int32) &&& 31) = nI 512 from by decide, show nI 512 - 1 = 511 from by decide, e, pk_rem (a := w) (d := 512) (by omega) (by decide) (by decide)]
  exact mc_t9 (w % 512) (Nat.mod_lt _ (by decide))
theorem mc_x11 {x : Int32} (h : mc_W x) : mx_ext x 11 = my_sg x 11 &&& 65535 := by
  obtain ⟨w, hw, rfl⟩ := h
  have e : nI w &&& (2047 : Int32) = nI (w % 2048) := pk_andN (by omega) 11 (by decide)
  unfold mx_ext my_sg
  rw [show (1 : Int32) <<< ((11 : Int32) &&& 31) = nI 2048 from by decide, show nI 2048 - 1 = 2047 from by decide, e, pk_rem (a := w) (d := 2048) (by omega) (by decide) (by decide)]
  exact mc_t11 (w % 2048) (Nat.mod_lt _ (by decide))

/-- the adder's answer, and the cell that it names -/
theorem mc_ad {x y e : Int32} (h : e = y &&& 65535) : (x + e) &&& 65535 = (x + y) &&& 65535 := by
  rw [h]
  exact mc_am x y
theorem mc_ac {x y e : Int32} (h : e = y &&& 65535) : ((x + e) &&& 65535) &&& 63 = (x + y) &&& 63 := by
  rw [mc_ad h, mc_63]

/-- the sign: X's three bits and Y's number -/
def mc_S (sb sg : Int32) : Prop := (sb = 4 ∧ sg = -1) ∨ (sb = 2 ∧ sg = 0) ∨ (sb = 1 ∧ sg = 1)
def mx_sb (b : Int32) : Int32 := if b < 32768 then (if b = 0 then 2 else 1) else 4
def my_s (x : Int32) : Int32 := if 0 ≤ my_sg x 16 then (if my_sg x 16 ≤ 0 then 0 else 1) else -1
theorem mc_s16 {n : Nat} (h : n < 65536) : my_sg (nI n) 16 = if nI n < 32768 then nI n else nI n - nI 65536 := by
  unfold my_sg
  rw [show (1 : Int32) <<< ((16 : Int32) &&& 31) = nI 65536 from by decide, show (1 : Int32) <<< (((16 : Int32) - 1) &&& 31) = 32768 from by decide, pk_rem (a := n) (d := 65536) (by omega) (by decide) (by decide), Nat.mod_eq_of_lt h]
theorem mc_sS {x : Int32} (h : mc_W x) : mc_S (mx_sb x) (my_s x) := by
  obtain ⟨n, hn, rfl⟩ := h
  unfold mx_sb my_s
  rw [mc_s16 hn]
  by_cases c : n < 32768
  · have c1 : nI n < 32768 := nI_lt (b := 32768) c (by decide)
    rw [if_pos c1, if_pos c1, if_pos (nI_pos' (by omega))]
    by_cases z : n = 0
    · subst z
      exact Or.inr (Or.inl ⟨rfl, rfl⟩)
    · rw [if_neg (nI_ne0 (by omega) (by omega)), if_neg (nI_nle (by omega) (by omega))]
      exact Or.inr (Or.inr ⟨rfl, rfl⟩)
  · have c1 : ¬ nI n < 32768 := nI_nlt (b := 32768) (by omega) (by omega)
    have c2 : ¬ 0 ≤ nI n - nI 65536 := by
      rw [Int32.le_iff_toInt_le, show (0 : Int32).toInt = 0 from by decide, Int32.toInt_sub, nI_toInt (by omega), nI_toInt (by decide), Int.bmod_eq_of_le (by omega) (by omega)]
      omega
    rw [if_neg c1, if_neg c1, if_neg c2]
    exact Or.inl ⟨rfl, rfl⟩
/-- a branch: X's test of its three bits and Y's -/
def my_tk (sg ir : Int32) : Int32 :=
  if 0 ≤ sg then (if sg = 0 then (if (ir >>> ((10 : Int32) &&& 31)) &&& 1 = 1 then 1 else 0) else (if (ir >>> ((9 : Int32) &&& 31)) &&& 1 = 1 then 1 else 0))
  else (if (ir >>> ((11 : Int32) &&& 31)) &&& 1 = 1 then 1 else 0)
theorem mc_tk4 : ∀ m : Nat, m < 128 → (nI m &&& 4 = 0 ↔ ¬ nI (m / 4) &&& 1 = 1) := by decide +kernel
theorem mc_tk2 : ∀ m : Nat, m < 128 → (nI m &&& 2 = 0 ↔ ¬ nI (m / 2) &&& 1 = 1) := by decide +kernel
theorem mc_tk1 : ∀ m : Nat, m < 128 → (nI m &&& 1 = 0 ↔ ¬ nI m &&& 1 = 1) := by decide +kernel
theorem mc_if10 {c : Prop} [Decidable c] : ((if c then (1 : Int32) else 0) = 0) ↔ ¬ c := by
  by_cases h : c
  · rw [if_pos h]
    exact ⟨fun z => absurd z (by decide), fun z => absurd h z⟩
  · rw [if_neg h]
    exact ⟨fun _ => h, fun _ => rfl⟩
theorem mc_tk {x sb sg : Int32} (h : mc_W x) (s : mc_S sb sg) : ((x >>> ((9 : Int32) &&& 31)) &&& sb = 0) ↔ my_tk sg x = 0 := by
  obtain ⟨w, hw, rfl⟩ := h
  have e9 : nI w >>> ((9 : Int32) &&& 31) = nI (w / 512) := pk_shrN (by omega) _ 9 (by decide)
  have e10 : nI w >>> ((10 : Int32) &&& 31) = nI (w / 1024) := pk_shrN (by omega) _ 10 (by decide)
  have e11 : nI w >>> ((11 : Int32) &&& 31) = nI (w / 2048) := pk_shrN (by omega) _ 11 (by decide)
  unfold my_tk
  rw [e9, e10, e11]
  rcases s with ⟨rfl, rfl⟩ | ⟨rfl, rfl⟩ | ⟨rfl, rfl⟩
  · rw [if_neg (by decide), mc_if10, mc_tk4 (w / 512) (by omega), Nat.div_div_eq_div_mul]
  · rw [if_pos (by decide), if_pos rfl, mc_if10, mc_tk2 (w / 512) (by omega), Nat.div_div_eq_div_mul]
  · rw [if_pos (by decide), if_neg (by decide), mc_if10, mc_tk1 (w / 512) (by omega)]
/-- the second operand -/
def mx_b (ir : Int32) (re : Nat → Int32) : Int32 := if (ir >>> ((5 : Int32) &&& 31)) &&& 1 = 0 then re (ir &&& 7).toNatClampNeg else mx_ext ir 5
def my_b (ir : Int32) (re : Nat → Int32) : Int32 := if (ir >>> ((5 : Int32) &&& 31)) &&& 1 = 0 then re (ir &&& 7).toNatClampNeg else my_sg ir 5
theorem mc_bb {ir : Int32} {re : Nat → Int32} (h : mc_W ir) (hr : ∀ j, mc_W (re j)) : mx_b ir re = my_b ir re &&& 65535 := by
  unfold mx_b my_b
  by_cases c : (ir >>> ((5 : Int32) &&& 31)) &&& 1 = 0
  · rw [if_pos c, if_pos c]
    exact (mc_Wa (hr _)).symm
  · rw [if_neg c, if_neg c]
    exact mc_x5 h
theorem mc_band {ir x : Int32} {re : Nat → Int32} (h : mc_W ir) (hr : ∀ j, mc_W (re j)) : x &&& mx_b ir re = (x &&& my_b ir re) &&& 65535 := by
  rw [mc_bb h hr, Int32.and_assoc]
end
section
/-! X's cycle as a pure step: mx_new of the control word -/
def mx_src (s ir : Int32) (re : Nat → Int32) : Int32 := if s &&& 1048576 = 0 then re ((ir >>> ((6 : Int32) &&& 31)) &&& 7).toNatClampNeg else re ((ir >>> ((9 : Int32) &&& 31)) &&& 7).toNatClampNeg
def mx_off (s ir : Int32) : Int32 := if s &&& 12582912 = 12582912 then mx_ext ir 11 else if s &&& 12582912 = 8388608 then mx_ext ir 9 else if s &&& 12582912 = 4194304 then mx_ext ir 6 else 0
def mx_add (s pc ir : Int32) (re : Nat → Int32) : Int32 := ((if s &&& 2097152 = 0 then pc else mx_src s ir re) + mx_off s ir) &&& 65535
def mx_alu (s ir : Int32) (re : Nat → Int32) : Int32 := if s &&& 50331648 = 16777216 then mx_src s ir re &&& mx_b ir re else if s &&& 50331648 = 33554432 then (mx_src s ir re ^^^ (-1)) &&& 65535 else if s &&& 50331648 = 50331648 then mx_src s ir re else (mx_src s ir re + mx_b ir re) &&& 65535
def mx_bus (s pc md ir : Int32) (re : Nat → Int32) (ad : Int32) : Int32 := if s &&& 114688 = 16384 then pc else if s &&& 114688 = 32768 then md else if s &&& 114688 = 49152 then mx_alu s ir re else if s &&& 114688 = 65536 then ad else 0
def mx_pci (s pc bus ad : Int32) : Int32 := if s &&& 393216 = 131072 then bus else if s &&& 393216 = 262144 then ad else (pc + 1) &&& 65535
def mx_nx (s ir sb : Int32) : Int32 := if s &&& 192 = 64 then ir >>> ((12 : Int32) &&& 31) else if s &&& 192 = 128 then (if (ir >>> ((9 : Int32) &&& 31)) &&& sb = 0 then s &&& 63 else (s &&& 63) ||| 4) else if s &&& 192 = 192 then (s &&& 63) ||| ((ir >>> ((11 : Int32) &&& 31)) &&& 1) else s &&& 63
def mx_fin (s bus fm pci nx pc sb st ex ma md ir : Int32) (ct me re : Nat → Int32) : SX :=
  (if s &&& 2048 = 0 then pc else pci,
   if s &&& 8192 = 0 then sb else mx_sb bus,
   if s &&& 536870912 = 0 then (if s &&& 268435456 = 0 then st else 1) else 2,
   ex, nx,
   if s &&& 256 = 0 then ma else bus,
   if s &&& 512 = 0 then md else if s &&& 67108864 = 0 then bus else fm,
   if s &&& 1024 = 0 then ir else bus,
   ct, me,
   if s &&& 4096 = 0 then re else upd re (if s &&& 524288 = 0 then (ir >>> ((9 : Int32) &&& 31)) &&& 7 else 7).toNatClampNeg bus)
def mx_new (s pc sb st ex ma md ir : Int32) (ct me re : Nat → Int32) : SX :=
  mx_fin s (mx_bus s pc md ir re (mx_add s pc ir re)) (me (ma &&& 63).toNatClampNeg) (mx_pci s pc (mx_bus s pc md ir re (mx_add s pc ir re)) (mx_add s pc ir re)) (mx_nx s ir sb) pc sb st ex ma md ir ct
    (if s &&& 134217728 = 0 then me else upd me (ma &&& 63).toNatClampNeg md) re

theorem mx_has {A B : Prop} {u : SX} {p q : Int32} (a : p &&& q = 0 → A) (b : ¬ p &&& q = 0 → B) : wpX_has (fun r => (r = 0 → A) ∧ (¬ r = 0 → B)) u p q := by
  obtain ⟨pc, sb, st, ex, se, ma, md, ir, ct, me, re⟩ := u
  exact br_c (fun c => br_t rfl (a c)) (fun c => br_f (by decide) (b c))
theorem mx_extended {post : Int32 → Prop} {u : SX} {w b : Int32} (h : post (mx_ext w b)) : wpX_extended post u w b := by
  obtain ⟨pc, sb, st, ex, se, ma, md, ir, ct, me, re⟩ := u
  unfold mx_ext at h
  intro x e
  subst e
  refine br_c (fun c => ?_) (fun c => ?_)
  · rw [if_pos c] at h
    exact h
  · rw [if_neg c] at h
    exact h
theorem mc_in7 (x : Int32) : vp_in (x &&& 7) 8 := pk_andIn x 3 (by decide) (by decide)
theorem mc_in63 (x : Int32) : vp_in (x &&& 63) 64 := pk_andIn x 6 (by decide) (by decide)

section
variable {post : Int32 → Prop} {s b k o pc sb st ex se ma md ir : Int32} {ct me re : Nat → Int32}
theorem mx_firstSource (h : post (mx_src s ir re)) : wpX_firstSource post (pc, sb, st, ex, se, ma, md, ir, ct, me, re) s := by
  unfold mx_src at h
  unfold wpX_firstSource
  refine mx_has (fun c => And.intro (mc_in7 _) ?_) (fun c => And.intro (mc_in7 _) ?_)
  · rw [if_pos c] at h
    exact h
  · rw [if_neg c] at h
    exact h
theorem mx_a67 (h : post ((b + (if k = 12582912 then mx_ext ir 11 else o)) &&& 65535)) : wX_adderOutput_67 post b k o pc sb st ex se ma md ir ct me re := by
  unfold wX_adderOutput_67
  refine br_c (fun c => mx_extended ?_) (fun c => ?_)
  · rw [if_pos c] at h
    exact h
  · rw [if_neg c] at h
    exact h
theorem mx_a49 (h : wX_adderOutput_67 post b k (if k = 8388608 then mx_ext ir 9 else o) pc sb st ex se ma md ir ct me re) : wX_adderOutput_49 post b k o pc sb st ex se ma md ir ct me re := by
  unfold wX_adderOutput_49
  refine br_c (fun c => mx_extended ?_) (fun c => ?_)
  · rw [if_pos c] at h
    exact h
  · rw [if_neg c] at h
    exact h
theorem mx_a22 (h : post ((b + mx_off s ir) &&& 65535)) : wX_adderOutput_22 post s b pc sb st ex se ma md ir ct me re := by
  unfold wX_adderOutput_22
  unfold mx_off at h
  intro x e
  subst e
  refine br_c (fun c => mx_extended (mx_a49 (mx_a67 ?_))) (fun c => mx_a49 (mx_a67 ?_))
  · rw [if_pos c] at h
    exact h
  · rw [if_neg c] at h
    exact h
theorem mx_adderOutput (h : post (mx_add s pc ir re)) : wpX_adderOutput post (pc, sb, st, ex, se, ma, md, ir, ct, me, re) s := by
  unfold mx_add at h
  unfold wpX_adderOutput
  refine mx_has (fun c => mx_a22 ?_) (fun c => mx_firstSource (mx_a22 ?_))
  · rw [if_pos c] at h
    exact h
  · rw [if_neg c] at h
    exact h
theorem mx_a41 (h : post (if s &&& 50331648 = 16777216 then b &&& o else if s &&& 50331648 = 33554432 then (b ^^^ (-1)) &&& 65535 else if s &&& 50331648 = 50331648 then b else (b + o) &&& 65535)) : wX_aluOutput_41 post s b o pc sb st ex se ma md ir ct me re := by
  unfold wX_aluOutput_41
  intro x e
  subst e
  refine br_c (fun c => ?_) (fun c => br_c (fun c2 => ?_) (fun c2 => br_c (fun c3 => ?_) (fun c3 => ?_)))
  · rw [if_pos c] at h
    exact h
  · rw [if_neg c, if_pos c2] at h
    exact h
  · rw [if_neg c, if_neg c2, if_pos c3] at h
    exact h
  · rw [if_neg c, if_neg c2, if_neg c3] at h
    exact h
theorem mx_aluOutput (h : post (mx_alu s ir re)) : wpX_aluOutput post (pc, sb, st, ex, se, ma, md, ir, ct, me, re) s := by
  unfold mx_alu mx_b at h
  unfold wpX_aluOutput
  refine mx_firstSource (br_c (fun c => And.intro (mc_in7 _) (mx_a41 ?_)) (fun c => mx_extended (mx_a41 ?_)))
  · rw [if_pos c] at h
    exact h
  · rw [if_neg c] at h
    exact h
theorem mx_busValue (h : post (mx_bus s pc md ir re o)) : wpX_busValue post (pc, sb, st, ex, se, ma, md, ir, ct, me, re) s o := by
  unfold mx_bus at h
  intro x e
  subst e
  refine br_c (fun c => ?_) (fun c => br_c (fun c2 => ?_) (fun c2 => br_c (fun c3 => mx_aluOutput ?_) (fun c3 => br_c (fun c4 => ?_) (fun c4 => ?_))))
  · rw [if_pos c] at h
    exact h
  · rw [if_neg c, if_pos c2] at h
    exact h
  · rw [if_neg c, if_neg c2, if_pos c3] at h
    exact h
  · rw [if_neg c, if_neg c2, if_neg c3, if_pos c4] at h
    exact h
  · rw [if_neg c, if_neg c2, if_neg c3, if_neg c4] at h
    exact h
theorem mx_pcInput (h : post (mx_pci s pc b o)) : wpX_pcInput post (pc, sb, st, ex, se, ma, md, ir, ct, me, re) s b o := by
  unfold mx_pci at h
  intro x e
  subst e
  refine br_c (fun c => ?_) (fun c => br_c (fun c2 => ?_) (fun c2 => ?_))
  · rw [if_pos c] at h
    exact h
  · rw [if_neg c, if_pos c2] at h
    exact h
  · rw [if_neg c, if_neg c2] at h
    exact h
theorem mx_nextState (h : post (mx_nx s ir sb)) : wpX_nextState post (pc, sb, st, ex, se, ma, md, ir, ct, me, re) s := by
  unfold mx_nx at h
  intro x e y f
  subst e f
  refine br_c (fun c => ?_) (fun c => br_c (fun c2 => br_c (fun c3 => ?_) (fun c3 => ?_)) (fun c2 => br_c (fun c3 => ?_) (fun c3 => ?_)))
  · rw [if_pos c] at h
    exact h
  · rw [if_neg c, if_pos c2, if_pos c3] at h
    exact h
  · rw [if_neg c, if_pos c2, if_neg c3] at h
    exact h
  · rw [if_neg c, if_neg c2, if_pos c3] at h
    exact h
  · rw [if_neg c, if_neg c2, if_neg c3] at h
    exact h
end

section
variable {post : SX → Prop} {s bus fm pci nx pc sb st ex se ma md ir : Int32} {ct me re : Nat → Int32}
theorem mx_250 (h : post (pc, sb, if s &&& 536870912 = 0 then st else 2, ex, nx, ma, md, ir, ct, me, re)) : wX_cycle_250 post s nx pc sb st ex se ma md ir ct me re := by
  unfold wX_cycle_250
  refine mx_has (fun c => ?_) (fun c => ?_)
  · rw [if_pos c] at h
    exact h
  · rw [if_neg c] at h
    exact h
theorem mx_235 (h : wX_cycle_250 post s nx pc sb (if s &&& 268435456 = 0 then st else 1) ex se ma md ir ct me re) : wX_cycle_235 post s nx pc sb st ex se ma md ir ct me re := by
  unfold wX_cycle_235
  refine mx_has (fun c => ?_) (fun c => ?_)
  · rw [if_pos c] at h
    exact h
  · rw [if_neg c] at h
    exact h
theorem mx_219 (h : wX_cycle_235 post s nx pc sb st ex se ma md (if s &&& 1024 = 0 then ir else bus) ct me re) : wX_cycle_219 post s bus nx pc sb st ex se ma md ir ct me re := by
  unfold wX_cycle_219
  refine mx_has (fun c => ?_) (fun c => ?_)
  · rw [if_pos c] at h
    exact h
  · rw [if_neg c] at h
    exact h
theorem mx_202 (h : wX_cycle_219 post s bus nx (if s &&& 2048 = 0 then pc else pci) sb st ex se ma md ir ct me re) : wX_cycle_202 post s bus pci nx pc sb st ex se ma md ir ct me re := by
  unfold wX_cycle_202
  refine mx_has (fun c => ?_) (fun c => ?_)
  · rw [if_pos c] at h
    exact h
  · rw [if_neg c] at h
    exact h
theorem mx_168 (h : wX_cycle_202 post s bus pci nx pc (if s &&& 8192 = 0 then sb else mx_sb bus) st ex se ma md ir ct me re) : wX_cycle_168 post s bus pci nx pc sb st ex se ma md ir ct me re := by
  unfold wX_cycle_168 wX_cycle_199
  unfold mx_sb at h
  refine mx_has (fun c => ?_) (fun c => br_c (fun c2 => br_c (fun c3 => ?_) (fun c3 => ?_)) (fun c2 => ?_))
  · rw [if_pos c] at h
    exact h
  · rw [if_neg c, if_pos c2, if_pos c3] at h
    exact h
  · rw [if_neg c, if_pos c2, if_neg c3] at h
    exact h
  · rw [if_neg c, if_neg c2] at h
    exact h
theorem mx_126 (h : wX_cycle_168 post s bus pci nx pc sb st ex se ma md ir ct me (if s &&& 4096 = 0 then re else upd re (if s &&& 524288 = 0 then (ir >>> ((9 : Int32) &&& 31)) &&& 7 else 7).toNatClampNeg bus)) : wX_cycle_126 post s bus pci nx pc sb st ex se ma md ir ct me re := by
  unfold wX_cycle_126 wX_cycle_166
  refine mx_has (fun c => ?_) (fun c => mx_has (fun c2 => And.intro (mc_in7 _) (nm_e ?_)) (fun c2 => And.intro (vp_in_nI (n := 7) (by decide) (by decide)) (nm_e ?_)))
  · rw [if_pos c] at h
    exact h
  · rw [if_neg c, if_pos c2] at h
    exact h
  · rw [if_neg c, if_neg c2] at h
    exact h
theorem mx_95 (h : wX_cycle_126 post s bus pci nx pc sb st ex se ma (if s &&& 512 = 0 then md else if s &&& 67108864 = 0 then bus else fm) ir ct me re) : wX_cycle_95 post s bus fm pci nx pc sb st ex se ma md ir ct me re := by
  unfold wX_cycle_95 wX_cycle_123
  refine mx_has (fun c => ?_) (fun c => mx_has (fun c2 => ?_) (fun c2 => ?_))
  · rw [if_pos c] at h
    exact h
  · rw [if_neg c, if_pos c2] at h
    exact h
  · rw [if_neg c, if_neg c2] at h
    exact h
theorem mx_79 (h : wX_cycle_95 post s bus fm pci nx pc sb st ex se (if s &&& 256 = 0 then ma else bus) md ir ct me re) : wX_cycle_79 post s bus fm pci nx pc sb st ex se ma md ir ct me re := by
  unfold wX_cycle_79
  refine mx_has (fun c => ?_) (fun c => ?_)
  · rw [if_pos c] at h
    exact h
  · rw [if_neg c] at h
    exact h
theorem mx_tail (h : post (mx_fin s bus fm pci nx pc sb st ex ma md ir ct me re)) : wX_cycle_79 post s bus fm pci nx pc sb st ex se ma md ir ct me re :=
  mx_79 (mx_95 (mx_126 (mx_168 (mx_202 (mx_219 (mx_235 (mx_250 h)))))))
theorem mx_cycle (hs : vp_in se 64) (h : post (mx_new (ct se.toNatClampNeg) pc sb st ex ma md ir ct me re)) : wpX_cycle post (pc, sb, st, ex, se, ma, md, ir, ct, me, re) := by
  unfold mx_new at h
  unfold wpX_cycle
  refine And.intro hs (nm_e (mx_adderOutput (mx_busValue (And.intro (mc_in63 _) (nm_e (mx_pcInput (mx_nextState (mx_has (fun c => mx_tail ?_) (fun c => And.intro (mc_in63 _) (nm_e (mx_tail ?_)))))))))))
  · rw [if_pos c] at h
    exact h
  · rw [if_neg c] at h
    exact h
end
end
section
/-! the control store, and what each of its words does (printed by wip/C-2630/gen.py) -/
def mc_CT : Nat → Int32 := (upd (upd (upd (upd (upd (upd (upd (upd (upd (upd (upd (upd (upd (upd (upd (upd (upd (upd (upd (upd (upd (upd (upd (upd (upd (upd (upd (upd (upd (upd (upd (fun _ => 0) 18 18721) 33 67109411) 35 33824) 32 64) 1 61458) 5 16838674) 9 33615890) 14 8466450) 2 8454425) 6 6357273) 10 8454424) 24 67109402) 26 33049) 25 67109403) 27 45074) 3 8454423) 7 6357271) 11 8454429) 29 67109407) 31 33047) 23 51429904) 16 134217746) 0 146) 22 8652818) 12 2361362) 4 212) 20 2906130) 21 13391890) 15 268435474) 8 536870930) 13 536870930)
/-- X goes from u to w by one cycle -/
def mx_st (u w : SX) : Prop := ∀ post : SX → Prop, post w → wpX_cycle post u
section
variable {pc sb st ex ma md ir : Int32} {me re : Nat → Int32}
theorem mx_e18 : mx_new 18721 pc sb st ex ma md ir mc_CT me re = ((pc + 1) &&& 65535, sb, st, ex, 33, pc, md, ir, mc_CT, me, re) := by
  simp (decide := true) only [mx_new, mx_fin, mx_bus, mx_add, mx_pci, mx_nx, mx_src, mx_off, mx_alu, ↓reduceIte, show (18721 : Int32) &&& 63 = 33 from by decide]
theorem mx_c18 : mx_st (pc, sb, st, ex, 18, ma, md, ir, mc_CT, me, re) ((pc + 1) &&& 65535, sb, st, ex, 33, pc, md, ir, mc_CT, me, re) := by
  intro post h
  refine mx_cycle (vp_in_nI (n := 18) (by decide) (by decide)) ?_
  rw [show mc_CT (18 : Int32).toNatClampNeg = 18721 from by decide, mx_e18]
  exact h
theorem mx_e33 : mx_new 67109411 pc sb st ex ma md ir mc_CT me re = (pc, sb, st, ex, 35, ma, me (ma &&& 63).toNatClampNeg, ir, mc_CT, me, re) := by
  simp (decide := true) only [mx_new, mx_fin, mx_bus, mx_add, mx_pci, mx_nx, mx_src, mx_off, mx_alu, ↓reduceIte, show (67109411 : Int32) &&& 63 = 35 from by decide]
theorem mx_c33 : mx_st (pc, sb, st, ex, 33, ma, md, ir, mc_CT, me, re) (pc, sb, st, ex, 35, ma, me (ma &&& 63).toNatClampNeg, ir, mc_CT, me, re) := by
  intro post h
  refine mx_cycle (vp_in_nI (n := 33) (by decide) (by decide)) ?_
  rw [show mc_CT (33 : Int32).toNatClampNeg = 67109411 from by decide, mx_e33]
  exact h
theorem mx_e35 : mx_new 33824 pc sb st ex ma md ir mc_CT me re = (pc, sb, st, ex, 32, ma, md, md, mc_CT, me, re) := by
  simp (decide := true) only [mx_new, mx_fin, mx_bus, mx_add, mx_pci, mx_nx, mx_src, mx_off, mx_alu, ↓reduceIte, show (33824 : Int32) &&& 63 = 32 from by decide]
theorem mx_c35 : mx_st (pc, sb, st, ex, 35, ma, md, ir, mc_CT, me, re) (pc, sb, st, ex, 32, ma, md, md, mc_CT, me, re) := by
  intro post h
  refine mx_cycle (vp_in_nI (n := 35) (by decide) (by decide)) ?_
  rw [show mc_CT (35 : Int32).toNatClampNeg = 33824 from by decide, mx_e35]
  exact h
theorem mx_e32 : mx_new 64 pc sb st ex ma md ir mc_CT me re = (pc, sb, st, ex, ir >>> ((12 : Int32) &&& 31), ma, md, ir, mc_CT, me, re) := by
  simp (decide := true) only [mx_new, mx_fin, mx_bus, mx_add, mx_pci, mx_nx, mx_src, mx_off, mx_alu, ↓reduceIte, show (64 : Int32) &&& 63 = 0 from by decide]
theorem mx_c32 : mx_st (pc, sb, st, ex, 32, ma, md, ir, mc_CT, me, re) (pc, sb, st, ex, ir >>> ((12 : Int32) &&& 31), ma, md, ir, mc_CT, me, re) := by
  intro post h
  refine mx_cycle (vp_in_nI (n := 32) (by decide) (by decide)) ?_
  rw [show mc_CT (32 : Int32).toNatClampNeg = 64 from by decide, mx_e32]
  exact h
theorem mx_e1 : mx_new 61458 pc sb st ex ma md ir mc_CT me re = (pc, mx_sb ((re ((ir >>> ((6 : Int32) &&& 31)) &&& 7).toNatClampNeg + mx_b ir re) &&& 65535), st, ex, 18, ma, md, ir, mc_CT, me, upd re ((ir >>> ((9 : Int32) &&& 31)) &&& 7).toNatClampNeg ((re ((ir >>> ((6 : Int32) &&& 31)) &&& 7).toNatClampNeg + mx_b ir re) &&& 65535)) := by
  simp (decide := true) only [mx_new, mx_fin, mx_bus, mx_add, mx_pci, mx_nx, mx_src, mx_off, mx_alu, ↓reduceIte, show (61458 : Int32) &&& 63 = 18 from by decide]
theorem mx_c1 : mx_st (pc, sb, st, ex, 1, ma, md, ir, mc_CT, me, re) (pc, mx_sb ((re ((ir >>> ((6 : Int32) &&& 31)) &&& 7).toNatClampNeg + mx_b ir re) &&& 65535), st, ex, 18, ma, md, ir, mc_CT, me, upd re ((ir >>> ((9 : Int32) &&& 31)) &&& 7).toNatClampNeg ((re ((ir >>> ((6 : Int32) &&& 31)) &&& 7).toNatClampNeg + mx_b ir re) &&& 65535)) := by
  intro post h
  refine mx_cycle (vp_in_nI (n := 1) (by decide) (by decide)) ?_
  rw [show mc_CT (1 : Int32).toNatClampNeg = 61458 from by decide, mx_e1]
  exact h
theorem mx_e5 : mx_new 16838674 pc sb st ex ma md ir mc_CT me re = (pc, mx_sb (re ((ir >>> ((6 : Int32) &&& 31)) &&& 7).toNatClampNeg &&& mx_b ir re), st, ex, 18, ma, md, ir, mc_CT, me, upd re ((ir >>> ((9 : Int32) &&& 31)) &&& 7).toNatClampNeg (re ((ir >>> ((6 : Int32) &&& 31)) &&& 7).toNatClampNeg &&& mx_b ir re)) := by
  simp (decide := true) only [mx_new, mx_fin, mx_bus, mx_add, mx_pci, mx_nx, mx_src, mx_off, mx_alu, ↓reduceIte, show (16838674 : Int32) &&& 63 = 18 from by decide]
theorem mx_c5 : mx_st (pc, sb, st, ex, 5, ma, md, ir, mc_CT, me, re) (pc, mx_sb (re ((ir >>> ((6 : Int32) &&& 31)) &&& 7).toNatClampNeg &&& mx_b ir re), st, ex, 18, ma, md, ir, mc_CT, me, upd re ((ir >>> ((9 : Int32) &&& 31)) &&& 7).toNatClampNeg (re ((ir >>> ((6 : Int32) &&& 31)) &&& 7).toNatClampNeg &&& mx_b ir re)) := by
  intro post h
  refine mx_cycle (vp_in_nI (n := 5) (by decide) (by decide)) ?_
  rw [show mc_CT (5 : Int32).toNatClampNeg = 16838674 from by decide, mx_e5]
  exact h
theorem mx_e9 : mx_new 33615890 pc sb st ex ma md ir mc_CT me re = (pc, mx_sb ((re ((ir >>> ((6 : Int32) &&& 31)) &&& 7).toNatClampNeg ^^^ (-1)) &&& 65535), st, ex, 18, ma, md, ir, mc_CT, me, upd re ((ir >>> ((9 : Int32) &&& 31)) &&& 7).toNatClampNeg ((re ((ir >>> ((6 : Int32) &&& 31)) &&& 7).toNatClampNeg ^^^ (-1)) &&& 65535)) := by
  simp (decide := true) only [mx_new, mx_fin, mx_bus, mx_add, mx_pci, mx_nx, mx_src, mx_off, mx_alu, ↓reduceIte, show (33615890 : Int32) &&& 63 = 18 from by decide]
theorem mx_c9 : mx_st (pc, sb, st, ex, 9, ma, md, ir, mc_CT, me, re) (pc, mx_sb ((re ((ir >>> ((6 : Int32) &&& 31)) &&& 7).toNatClampNeg ^^^ (-1)) &&& 65535), st, ex, 18, ma, md, ir, mc_CT, me, upd re ((ir >>> ((9 : Int32) &&& 31)) &&& 7).toNatClampNeg ((re ((ir >>> ((6 : Int32) &&& 31)) &&& 7).toNatClampNeg ^^^ (-1)) &&& 65535)) := by
  intro post h
  refine mx_cycle (vp_in_nI (n := 9) (by decide) (by decide)) ?_
  rw [show mc_CT (9 : Int32).toNatClampNeg = 33615890 from by decide, mx_e9]
  exact h
theorem mx_e14 : mx_new 8466450 pc sb st ex ma md ir mc_CT me re = (pc, mx_sb ((pc + mx_ext ir 9) &&& 65535), st, ex, 18, ma, md, ir, mc_CT, me, upd re ((ir >>> ((9 : Int32) &&& 31)) &&& 7).toNatClampNeg ((pc + mx_ext ir 9) &&& 65535)) := by
  simp (decide := true) only [mx_new, mx_fin, mx_bus, mx_add, mx_pci, mx_nx, mx_src, mx_off, mx_alu, ↓reduceIte, show (8466450 : Int32) &&& 63 = 18 from by decide]
theorem mx_c14 : mx_st (pc, sb, st, ex, 14, ma, md, ir, mc_CT, me, re) (pc, mx_sb ((pc + mx_ext ir 9) &&& 65535), st, ex, 18, ma, md, ir, mc_CT, me, upd re ((ir >>> ((9 : Int32) &&& 31)) &&& 7).toNatClampNeg ((pc + mx_ext ir 9) &&& 65535)) := by
  intro post h
  refine mx_cycle (vp_in_nI (n := 14) (by decide) (by decide)) ?_
  rw [show mc_CT (14 : Int32).toNatClampNeg = 8466450 from by decide, mx_e14]
  exact h
theorem mx_e2 : mx_new 8454425 pc sb st ex ma md ir mc_CT me re = (pc, sb, st, ex, 25, ((pc + mx_ext ir 9) &&& 65535), md, ir, mc_CT, me, re) := by
  simp (decide := true) only [mx_new, mx_fin, mx_bus, mx_add, mx_pci, mx_nx, mx_src, mx_off, mx_alu, ↓reduceIte, show (8454425 : Int32) &&& 63 = 25 from by decide]
theorem mx_c2 : mx_st (pc, sb, st, ex, 2, ma, md, ir, mc_CT, me, re) (pc, sb, st, ex, 25, ((pc + mx_ext ir 9) &&& 65535), md, ir, mc_CT, me, re) := by
  intro post h
  refine mx_cycle (vp_in_nI (n := 2) (by decide) (by decide)) ?_
  rw [show mc_CT (2 : Int32).toNatClampNeg = 8454425 from by decide, mx_e2]
  exact h
theorem mx_e6 : mx_new 6357273 pc sb st ex ma md ir mc_CT me re = (pc, sb, st, ex, 25, ((re ((ir >>> ((6 : Int32) &&& 31)) &&& 7).toNatClampNeg + mx_ext ir 6) &&& 65535), md, ir, mc_CT, me, re) := by
  simp (decide := true) only [mx_new, mx_fin, mx_bus, mx_add, mx_pci, mx_nx, mx_src, mx_off, mx_alu, ↓reduceIte, show (6357273 : Int32) &&& 63 = 25 from by decide]
theorem mx_c6 : mx_st (pc, sb, st, ex, 6, ma, md, ir, mc_CT, me, re) (pc, sb, st, ex, 25, ((re ((ir >>> ((6 : Int32) &&& 31)) &&& 7).toNatClampNeg + mx_ext ir 6) &&& 65535), md, ir, mc_CT, me, re) := by
  intro post h
  refine mx_cycle (vp_in_nI (n := 6) (by decide) (by decide)) ?_
  rw [show mc_CT (6 : Int32).toNatClampNeg = 6357273 from by decide, mx_e6]
  exact h
theorem mx_e10 : mx_new 8454424 pc sb st ex ma md ir mc_CT me re = (pc, sb, st, ex, 24, ((pc + mx_ext ir 9) &&& 65535), md, ir, mc_CT, me, re) := by
  simp (decide := true) only [mx_new, mx_fin, mx_bus, mx_add, mx_pci, mx_nx, mx_src, mx_off, mx_alu, ↓reduceIte, show (8454424 : Int32) &&& 63 = 24 from by decide]
theorem mx_c10 : mx_st (pc, sb, st, ex, 10, ma, md, ir, mc_CT, me, re) (pc, sb, st, ex, 24, ((pc + mx_ext ir 9) &&& 65535), md, ir, mc_CT, me, re) := by
  intro post h
  refine mx_cycle (vp_in_nI (n := 10) (by decide) (by decide)) ?_
  rw [show mc_CT (10 : Int32).toNatClampNeg = 8454424 from by decide, mx_e10]
  exact h
theorem mx_e24 : mx_new 67109402 pc sb st ex ma md ir mc_CT me re = (pc, sb, st, ex, 26, ma, me (ma &&& 63).toNatClampNeg, ir, mc_CT, me, re) := by
  simp (decide := true) only [mx_new, mx_fin, mx_bus, mx_add, mx_pci, mx_nx, mx_src, mx_off, mx_alu, ↓reduceIte, show (67109402 : Int32) &&& 63 = 26 from by decide]
theorem mx_c24 : mx_st (pc, sb, st, ex, 24, ma, md, ir, mc_CT, me, re) (pc, sb, st, ex, 26, ma, me (ma &&& 63).toNatClampNeg, ir, mc_CT, me, re) := by
  intro post h
  refine mx_cycle (vp_in_nI (n := 24) (by decide) (by decide)) ?_
  rw [show mc_CT (24 : Int32).toNatClampNeg = 67109402 from by decide, mx_e24]
  exact h
theorem mx_e26 : mx_new 33049 pc sb st ex ma md ir mc_CT me re = (pc, sb, st, ex, 25, md, md, ir, mc_CT, me, re) := by
  simp (decide := true) only [mx_new, mx_fin, mx_bus, mx_add, mx_pci, mx_nx, mx_src, mx_off, mx_alu, ↓reduceIte, show (33049 : Int32) &&& 63 = 25 from by decide]
theorem mx_c26 : mx_st (pc, sb, st, ex, 26, ma, md, ir, mc_CT, me, re) (pc, sb, st, ex, 25, md, md, ir, mc_CT, me, re) := by
  intro post h
  refine mx_cycle (vp_in_nI (n := 26) (by decide) (by decide)) ?_
  rw [show mc_CT (26 : Int32).toNatClampNeg = 33049 from by decide, mx_e26]
  exact h
theorem mx_e25 : mx_new 67109403 pc sb st ex ma md ir mc_CT me re = (pc, sb, st, ex, 27, ma, me (ma &&& 63).toNatClampNeg, ir, mc_CT, me, re) := by
  simp (decide := true) only [mx_new, mx_fin, mx_bus, mx_add, mx_pci, mx_nx, mx_src, mx_off, mx_alu, ↓reduceIte, show (67109403 : Int32) &&& 63 = 27 from by decide]
theorem mx_c25 : mx_st (pc, sb, st, ex, 25, ma, md, ir, mc_CT, me, re) (pc, sb, st, ex, 27, ma, me (ma &&& 63).toNatClampNeg, ir, mc_CT, me, re) := by
  intro post h
  refine mx_cycle (vp_in_nI (n := 25) (by decide) (by decide)) ?_
  rw [show mc_CT (25 : Int32).toNatClampNeg = 67109403 from by decide, mx_e25]
  exact h
theorem mx_e27 : mx_new 45074 pc sb st ex ma md ir mc_CT me re = (pc, mx_sb md, st, ex, 18, ma, md, ir, mc_CT, me, upd re ((ir >>> ((9 : Int32) &&& 31)) &&& 7).toNatClampNeg md) := by
  simp (decide := true) only [mx_new, mx_fin, mx_bus, mx_add, mx_pci, mx_nx, mx_src, mx_off, mx_alu, ↓reduceIte, show (45074 : Int32) &&& 63 = 18 from by decide]
theorem mx_c27 : mx_st (pc, sb, st, ex, 27, ma, md, ir, mc_CT, me, re) (pc, mx_sb md, st, ex, 18, ma, md, ir, mc_CT, me, upd re ((ir >>> ((9 : Int32) &&& 31)) &&& 7).toNatClampNeg md) := by
  intro post h
  refine mx_cycle (vp_in_nI (n := 27) (by decide) (by decide)) ?_
  rw [show mc_CT (27 : Int32).toNatClampNeg = 45074 from by decide, mx_e27]
  exact h
theorem mx_e3 : mx_new 8454423 pc sb st ex ma md ir mc_CT me re = (pc, sb, st, ex, 23, ((pc + mx_ext ir 9) &&& 65535), md, ir, mc_CT, me, re) := by
  simp (decide := true) only [mx_new, mx_fin, mx_bus, mx_add, mx_pci, mx_nx, mx_src, mx_off, mx_alu, ↓reduceIte, show (8454423 : Int32) &&& 63 = 23 from by decide]
theorem mx_c3 : mx_st (pc, sb, st, ex, 3, ma, md, ir, mc_CT, me, re) (pc, sb, st, ex, 23, ((pc + mx_ext ir 9) &&& 65535), md, ir, mc_CT, me, re) := by
  intro post h
  refine mx_cycle (vp_in_nI (n := 3) (by decide) (by decide)) ?_
  rw [show mc_CT (3 : Int32).toNatClampNeg = 8454423 from by decide, mx_e3]
  exact h
theorem mx_e7 : mx_new 6357271 pc sb st ex ma md ir mc_CT me re = (pc, sb, st, ex, 23, ((re ((ir >>> ((6 : Int32) &&& 31)) &&& 7).toNatClampNeg + mx_ext ir 6) &&& 65535), md, ir, mc_CT, me, re) := by
  simp (decide := true) only [mx_new, mx_fin, mx_bus, mx_add, mx_pci, mx_nx, mx_src, mx_off, mx_alu, ↓reduceIte, show (6357271 : Int32) &&& 63 = 23 from by decide]
theorem mx_c7 : mx_st (pc, sb, st, ex, 7, ma, md, ir, mc_CT, me, re) (pc, sb, st, ex, 23, ((re ((ir >>> ((6 : Int32) &&& 31)) &&& 7).toNatClampNeg + mx_ext ir 6) &&& 65535), md, ir, mc_CT, me, re) := by
  intro post h
  refine mx_cycle (vp_in_nI (n := 7) (by decide) (by decide)) ?_
  rw [show mc_CT (7 : Int32).toNatClampNeg = 6357271 from by decide, mx_e7]
  exact h
theorem mx_e11 : mx_new 8454429 pc sb st ex ma md ir mc_CT me re = (pc, sb, st, ex, 29, ((pc + mx_ext ir 9) &&& 65535), md, ir, mc_CT, me, re) := by
  simp (decide := true) only [mx_new, mx_fin, mx_bus, mx_add, mx_pci, mx_nx, mx_src, mx_off, mx_alu, ↓reduceIte, show (8454429 : Int32) &&& 63 = 29 from by decide]
theorem mx_c11 : mx_st (pc, sb, st, ex, 11, ma, md, ir, mc_CT, me, re) (pc, sb, st, ex, 29, ((pc + mx_ext ir 9) &&& 65535), md, ir, mc_CT, me, re) := by
  intro post h
  refine mx_cycle (vp_in_nI (n := 11) (by decide) (by decide)) ?_
  rw [show mc_CT (11 : Int32).toNatClampNeg = 8454429 from by decide, mx_e11]
  exact h
theorem mx_e29 : mx_new 67109407 pc sb st ex ma md ir mc_CT me re = (pc, sb, st, ex, 31, ma, me (ma &&& 63).toNatClampNeg, ir, mc_CT, me, re) := by
  simp (decide := true) only [mx_new, mx_fin, mx_bus, mx_add, mx_pci, mx_nx, mx_src, mx_off, mx_alu, ↓reduceIte, show (67109407 : Int32) &&& 63 = 31 from by decide]
theorem mx_c29 : mx_st (pc, sb, st, ex, 29, ma, md, ir, mc_CT, me, re) (pc, sb, st, ex, 31, ma, me (ma &&& 63).toNatClampNeg, ir, mc_CT, me, re) := by
  intro post h
  refine mx_cycle (vp_in_nI (n := 29) (by decide) (by decide)) ?_
  rw [show mc_CT (29 : Int32).toNatClampNeg = 67109407 from by decide, mx_e29]
  exact h
theorem mx_e31 : mx_new 33047 pc sb st ex ma md ir mc_CT me re = (pc, sb, st, ex, 23, md, md, ir, mc_CT, me, re) := by
  simp (decide := true) only [mx_new, mx_fin, mx_bus, mx_add, mx_pci, mx_nx, mx_src, mx_off, mx_alu, ↓reduceIte, show (33047 : Int32) &&& 63 = 23 from by decide]
theorem mx_c31 : mx_st (pc, sb, st, ex, 31, ma, md, ir, mc_CT, me, re) (pc, sb, st, ex, 23, md, md, ir, mc_CT, me, re) := by
  intro post h
  refine mx_cycle (vp_in_nI (n := 31) (by decide) (by decide)) ?_
  rw [show mc_CT (31 : Int32).toNatClampNeg = 33047 from by decide, mx_e31]
  exact h
theorem mx_e23 : mx_new 51429904 pc sb st ex ma md ir mc_CT me re = (pc, sb, st, ex, 16, ma, re ((ir >>> ((9 : Int32) &&& 31)) &&& 7).toNatClampNeg, ir, mc_CT, me, re) := by
  simp (decide := true) only [mx_new, mx_fin, mx_bus, mx_add, mx_pci, mx_nx, mx_src, mx_off, mx_alu, ↓reduceIte, show (51429904 : Int32) &&& 63 = 16 from by decide]
theorem mx_c23 : mx_st (pc, sb, st, ex, 23, ma, md, ir, mc_CT, me, re) (pc, sb, st, ex, 16, ma, re ((ir >>> ((9 : Int32) &&& 31)) &&& 7).toNatClampNeg, ir, mc_CT, me, re) := by
  intro post h
  refine mx_cycle (vp_in_nI (n := 23) (by decide) (by decide)) ?_
  rw [show mc_CT (23 : Int32).toNatClampNeg = 51429904 from by decide, mx_e23]
  exact h
theorem mx_e16 : mx_new 134217746 pc sb st ex ma md ir mc_CT me re = (pc, sb, st, ex, 18, ma, md, ir, mc_CT, upd me (ma &&& 63).toNatClampNeg md, re) := by
  simp (decide := true) only [mx_new, mx_fin, mx_bus, mx_add, mx_pci, mx_nx, mx_src, mx_off, mx_alu, ↓reduceIte, show (134217746 : Int32) &&& 63 = 18 from by decide]
theorem mx_c16 : mx_st (pc, sb, st, ex, 16, ma, md, ir, mc_CT, me, re) (pc, sb, st, ex, 18, ma, md, ir, mc_CT, upd me (ma &&& 63).toNatClampNeg md, re) := by
  intro post h
  refine mx_cycle (vp_in_nI (n := 16) (by decide) (by decide)) ?_
  rw [show mc_CT (16 : Int32).toNatClampNeg = 134217746 from by decide, mx_e16]
  exact h
theorem mx_e0 : mx_new 146 pc sb st ex ma md ir mc_CT me re = (pc, sb, st, ex, if (ir >>> ((9 : Int32) &&& 31)) &&& sb = 0 then 18 else 22, ma, md, ir, mc_CT, me, re) := by
  simp (decide := true) only [mx_new, mx_fin, mx_bus, mx_add, mx_pci, mx_nx, mx_src, mx_off, mx_alu, ↓reduceIte, show (146 : Int32) &&& 63 = 18 from by decide, show (18 : Int32) ||| 4 = 22 from by decide]
theorem mx_c0 : mx_st (pc, sb, st, ex, 0, ma, md, ir, mc_CT, me, re) (pc, sb, st, ex, if (ir >>> ((9 : Int32) &&& 31)) &&& sb = 0 then 18 else 22, ma, md, ir, mc_CT, me, re) := by
  intro post h
  refine mx_cycle (vp_in_nI (n := 0) (by decide) (by decide)) ?_
  rw [show mc_CT (0 : Int32).toNatClampNeg = 146 from by decide, mx_e0]
  exact h
theorem mx_e22 : mx_new 8652818 pc sb st ex ma md ir mc_CT me re = (((pc + mx_ext ir 9) &&& 65535), sb, st, ex, 18, ma, md, ir, mc_CT, me, re) := by
  simp (decide := true) only [mx_new, mx_fin, mx_bus, mx_add, mx_pci, mx_nx, mx_src, mx_off, mx_alu, ↓reduceIte, show (8652818 : Int32) &&& 63 = 18 from by decide]
theorem mx_c22 : mx_st (pc, sb, st, ex, 22, ma, md, ir, mc_CT, me, re) (((pc + mx_ext ir 9) &&& 65535), sb, st, ex, 18, ma, md, ir, mc_CT, me, re) := by
  intro post h
  refine mx_cycle (vp_in_nI (n := 22) (by decide) (by decide)) ?_
  rw [show mc_CT (22 : Int32).toNatClampNeg = 8652818 from by decide, mx_e22]
  exact h
theorem mx_e12 : mx_new 2361362 pc sb st ex ma md ir mc_CT me re = (((re ((ir >>> ((6 : Int32) &&& 31)) &&& 7).toNatClampNeg + 0) &&& 65535), sb, st, ex, 18, ma, md, ir, mc_CT, me, re) := by
  simp (decide := true) only [mx_new, mx_fin, mx_bus, mx_add, mx_pci, mx_nx, mx_src, mx_off, mx_alu, ↓reduceIte, show (2361362 : Int32) &&& 63 = 18 from by decide]
theorem mx_c12 : mx_st (pc, sb, st, ex, 12, ma, md, ir, mc_CT, me, re) (((re ((ir >>> ((6 : Int32) &&& 31)) &&& 7).toNatClampNeg + 0) &&& 65535), sb, st, ex, 18, ma, md, ir, mc_CT, me, re) := by
  intro post h
  refine mx_cycle (vp_in_nI (n := 12) (by decide) (by decide)) ?_
  rw [show mc_CT (12 : Int32).toNatClampNeg = 2361362 from by decide, mx_e12]
  exact h
theorem mx_e4 : mx_new 212 pc sb st ex ma md ir mc_CT me re = (pc, sb, st, ex, 20 ||| ((ir >>> ((11 : Int32) &&& 31)) &&& 1), ma, md, ir, mc_CT, me, re) := by
  simp (decide := true) only [mx_new, mx_fin, mx_bus, mx_add, mx_pci, mx_nx, mx_src, mx_off, mx_alu, ↓reduceIte, show (212 : Int32) &&& 63 = 20 from by decide]
theorem mx_c4 : mx_st (pc, sb, st, ex, 4, ma, md, ir, mc_CT, me, re) (pc, sb, st, ex, 20 ||| ((ir >>> ((11 : Int32) &&& 31)) &&& 1), ma, md, ir, mc_CT, me, re) := by
  intro post h
  refine mx_cycle (vp_in_nI (n := 4) (by decide) (by decide)) ?_
  rw [show mc_CT (4 : Int32).toNatClampNeg = 212 from by decide, mx_e4]
  exact h
theorem mx_e20 : mx_new 2906130 pc sb st ex ma md ir mc_CT me re = (((re ((ir >>> ((6 : Int32) &&& 31)) &&& 7).toNatClampNeg + 0) &&& 65535), sb, st, ex, 18, ma, md, ir, mc_CT, me, upd re 7 pc) := by
  simp (decide := true) only [mx_new, mx_fin, mx_bus, mx_add, mx_pci, mx_nx, mx_src, mx_off, mx_alu, ↓reduceIte, show (2906130 : Int32) &&& 63 = 18 from by decide, show (7 : Int32).toNatClampNeg = 7 from by decide]
theorem mx_c20 : mx_st (pc, sb, st, ex, 20, ma, md, ir, mc_CT, me, re) (((re ((ir >>> ((6 : Int32) &&& 31)) &&& 7).toNatClampNeg + 0) &&& 65535), sb, st, ex, 18, ma, md, ir, mc_CT, me, upd re 7 pc) := by
  intro post h
  refine mx_cycle (vp_in_nI (n := 20) (by decide) (by decide)) ?_
  rw [show mc_CT (20 : Int32).toNatClampNeg = 2906130 from by decide, mx_e20]
  exact h
theorem mx_e21 : mx_new 13391890 pc sb st ex ma md ir mc_CT me re = (((pc + mx_ext ir 11) &&& 65535), sb, st, ex, 18, ma, md, ir, mc_CT, me, upd re 7 pc) := by
  simp (decide := true) only [mx_new, mx_fin, mx_bus, mx_add, mx_pci, mx_nx, mx_src, mx_off, mx_alu, ↓reduceIte, show (13391890 : Int32) &&& 63 = 18 from by decide, show (7 : Int32).toNatClampNeg = 7 from by decide]
theorem mx_c21 : mx_st (pc, sb, st, ex, 21, ma, md, ir, mc_CT, me, re) (((pc + mx_ext ir 11) &&& 65535), sb, st, ex, 18, ma, md, ir, mc_CT, me, upd re 7 pc) := by
  intro post h
  refine mx_cycle (vp_in_nI (n := 21) (by decide) (by decide)) ?_
  rw [show mc_CT (21 : Int32).toNatClampNeg = 13391890 from by decide, mx_e21]
  exact h
theorem mx_e15 : mx_new 268435474 pc sb st ex ma md ir mc_CT me re = (pc, sb, 1, ex, 18, ma, md, ir, mc_CT, me, re) := by
  simp (decide := true) only [mx_new, mx_fin, mx_bus, mx_add, mx_pci, mx_nx, mx_src, mx_off, mx_alu, ↓reduceIte, show (268435474 : Int32) &&& 63 = 18 from by decide]
theorem mx_c15 : mx_st (pc, sb, st, ex, 15, ma, md, ir, mc_CT, me, re) (pc, sb, 1, ex, 18, ma, md, ir, mc_CT, me, re) := by
  intro post h
  refine mx_cycle (vp_in_nI (n := 15) (by decide) (by decide)) ?_
  rw [show mc_CT (15 : Int32).toNatClampNeg = 268435474 from by decide, mx_e15]
  exact h
theorem mx_e8 : mx_new 536870930 pc sb st ex ma md ir mc_CT me re = (pc, sb, 2, ex, 18, ma, md, ir, mc_CT, me, re) := by
  simp (decide := true) only [mx_new, mx_fin, mx_bus, mx_add, mx_pci, mx_nx, mx_src, mx_off, mx_alu, ↓reduceIte, show (536870930 : Int32) &&& 63 = 18 from by decide]
theorem mx_c8 : mx_st (pc, sb, st, ex, 8, ma, md, ir, mc_CT, me, re) (pc, sb, 2, ex, 18, ma, md, ir, mc_CT, me, re) := by
  intro post h
  refine mx_cycle (vp_in_nI (n := 8) (by decide) (by decide)) ?_
  rw [show mc_CT (8 : Int32).toNatClampNeg = 536870930 from by decide, mx_e8]
  exact h
theorem mx_e13 : mx_new 536870930 pc sb st ex ma md ir mc_CT me re = (pc, sb, 2, ex, 18, ma, md, ir, mc_CT, me, re) := by
  simp (decide := true) only [mx_new, mx_fin, mx_bus, mx_add, mx_pci, mx_nx, mx_src, mx_off, mx_alu, ↓reduceIte, show (536870930 : Int32) &&& 63 = 18 from by decide]
theorem mx_c13 : mx_st (pc, sb, st, ex, 13, ma, md, ir, mc_CT, me, re) (pc, sb, 2, ex, 18, ma, md, ir, mc_CT, me, re) := by
  intro post h
  refine mx_cycle (vp_in_nI (n := 13) (by decide) (by decide)) ?_
  rw [show mc_CT (13 : Int32).toNatClampNeg = 536870930 from by decide, mx_e13]
  exact h
end
end
section
/-! X: runs of cycles, and the inner loop of step -/
def mx_run : Nat → SX → SX → Prop
  | 0, u, w => u = w ∧ u.2.2.2.2.1 = 18
  | k + 1, u, w => ¬ u.2.2.2.2.1 = 18 ∧ ∃ u' : SX, mx_st u u' ∧ mx_run k u' w
section
variable {k : Nat} {w u' : SX} {pc sb st ex se ma md ir op ic : Int32} {ct me re : Nat → Int32}
theorem mx_r0 : mx_run 0 (pc, sb, st, ex, 18, ma, md, ir, ct, me, re) (pc, sb, st, ex, 18, ma, md, ir, ct, me, re) := And.intro rfl rfl
theorem mx_rs (h : ¬ se = 18) (a : mx_st (pc, sb, st, ex, se, ma, md, ir, ct, me, re) u') (b : mx_run k u' w) : mx_run (k + 1) (pc, sb, st, ex, se, ma, md, ir, ct, me, re) w := And.intro h ⟨u', a, b⟩
/-- the instruction from its fetch on: ic is the word fetched, op its opcode -/
theorem mx_ins (hi : me (pc &&& 63).toNatClampNeg = ic) (ho : ic >>> ((12 : Int32) &&& 31) = op) (h : mx_run k ((pc + 1) &&& 65535, sb, st, ex, op, pc, ic, ic, mc_CT, me, re) w) : mx_run (k + 3) ((pc + 1) &&& 65535, sb, st, ex, 33, pc, md, ir, mc_CT, me, re) w := by
  subst ho
  subst hi
  exact mx_rs (by decide) mx_c33 (mx_rs (by decide) mx_c35 (mx_rs (by decide) mx_c32 h))
end
/-- X goes from u to w by one instruction -/
def mx_ix (u w : SX) : Prop := ∃ (k : Nat) (u1 : SX), k ≤ 10 ∧ mx_st u u1 ∧ mx_run k u1 w
def mx_un (J : Int32 → Int32 → Int32 → Int32 → Int32 → Int32 → Int32 → Int32 → Int32 → (Nat → Int32) → (Nat → Int32) → (Nat → Int32) → Prop) (x : Int32) (u : SX) : Prop :=
  J x u.1 u.2.1 u.2.2.1 u.2.2.2.1 u.2.2.2.2.1 u.2.2.2.2.2.1 u.2.2.2.2.2.2.1 u.2.2.2.2.2.2.2.1 u.2.2.2.2.2.2.2.2.1 u.2.2.2.2.2.2.2.2.2.1 u.2.2.2.2.2.2.2.2.2.2
theorem mx_loop (post : Int32 → SX → Prop) (J : Int32 → Int32 → Int32 → Int32 → Int32 → Int32 → Int32 → Int32 → Int32 → (Nat → Int32) → (Nat → Int32) → (Nat → Int32) → Prop) (x2 x3 : Int32) (w : SX) (hJ : mx_un J (x3 + 1) w) :
    ∀ (k j : Nat) (u : SX), j + k ≤ 10 → mx_run k u w → mx_un (wX_step_42 post J x2 x3 (k + 1)) (nI j) u := by
  intro k
  induction k with
  | zero =>
    intro j u hj h
    obtain ⟨rfl, h18⟩ := h
    obtain ⟨pc, sb, st, ex, se, ma, md, ir, ct, me, re⟩ := u
    exact br_c (fun _ => nm_e hJ) (fun _ => br_t h18 (nm_e hJ))
  | succ k ih =>
    intro j u hj h
    obtain ⟨hn, u', hs, hr⟩ := h
    obtain ⟨pc, sb, st, ex, se, ma, md, ir, ct, me, re⟩ := u
    obtain ⟨pc', sb', st', ex', se', ma', md', ir', ct', me', re'⟩ := u'
    have h10 : ¬ (10 : Int32) ≤ nI j := nI_ge (b := 10) (by omega) (by decide)
    refine br_f h10 (br_f hn (hs _ ?_))
    intro y ey
    have e : y = nI (j + 1) := ey.trans (nI_1 j)
    subst e
    exact ih (j + 1) _ (by omega) hr
end
section
/-! Y: one instruction -/
section
variable {post : Int32 → Prop} {v : SY} {w b : Int32}
theorem my_signed (hb : ¬ ((1 : Int32) <<< (b &&& 31)) = 0) (h : post (my_sg w b)) : wpY_signed post v w b := by
  obtain ⟨pc, sg, st, cn, re, me⟩ := v
  unfold my_sg at h
  refine And.intro hb (fun x e => ?_)
  subst e
  refine br_c (fun c => ?_) (fun c => ?_)
  · rw [if_pos c] at h
    exact h
  · rw [if_neg c] at h
    exact h
end
section
variable {post : Int32 → Prop} {pc sg st cn ir : Int32} {re me : Nat → Int32}
theorem my_taken (h : post (my_tk sg ir)) : wpY_taken post (pc, sg, st, cn, re, me) ir := by
  unfold my_tk at h
  refine br_c (fun c => br_c (fun c2 => br_c (fun c3 => ?_) (fun c3 => ?_)) (fun c2 => br_c (fun c3 => ?_) (fun c3 => ?_))) (fun c => br_c (fun c2 => ?_) (fun c2 => ?_))
  · rw [if_pos c, if_pos c2, if_pos c3] at h
    exact h
  · rw [if_pos c, if_pos c2, if_neg c3] at h
    exact h
  · rw [if_pos c, if_neg c2, if_pos c3] at h
    exact h
  · rw [if_pos c, if_neg c2, if_neg c3] at h
    exact h
  · rw [if_neg c, if_pos c2] at h
    exact h
  · rw [if_neg c, if_neg c2] at h
    exact h
end
/-- parts of an instruction -/
def my_d (ir : Int32) : Int32 := (ir >>> ((9 : Int32) &&& 31)) &&& 7
def my_f (ir : Int32) : Int32 := (ir >>> ((6 : Int32) &&& 31)) &&& 7
def my_nr (pc ir : Int32) : Int32 := (pc + my_sg ir 9) &&& 63
def my_ba (ir : Int32) (re : Nat → Int32) : Int32 := (re (my_f ir).toNatClampNeg + my_sg ir 6) &&& 63
def my_fa (pc ir : Int32) (me : Nat → Int32) : Int32 := me (my_nr pc ir).toNatClampNeg &&& 63
section
variable {post : SY → Prop} {d x pc sg st cn op ir : Int32} {re me : Nat → Int32}
theorem my_give (hd : vp_in d 8) (h : post (pc, my_s (x &&& 65535), st, cn, upd re d.toNatClampNeg (x &&& 65535), me)) : wpY_give post (pc, sg, st, cn, re, me) d x := by
  refine And.intro hd (fun a e => And.intro hd ?_)
  subst e
  refine my_signed (by decide) ?_
  unfold my_s at h
  refine br_c (fun c => br_c (fun c2 => ?_) (fun c2 => ?_)) (fun c => ?_)
  · rw [pk_us] at c c2
    rw [if_pos c, if_pos c2] at h
    exact h
  · rw [pk_us] at c c2
    rw [if_pos c, if_neg c2] at h
    exact h
  · rw [pk_us] at c
    rw [if_neg c] at h
    exact h
/-! calculate -/
theorem my_calculate (h : wY_calculate_43 post op ir (my_d ir) (my_f ir) (my_b ir re) pc sg st cn re me) : wpY_calculate post (pc, sg, st, cn, re, me) op ir := by
  unfold my_b at h
  intro x e y f
  subst e f
  refine br_c (fun c => And.intro (mc_in7 _) ?_) (fun c => my_signed (by decide) ?_)
  · rw [if_pos c] at h
    exact h
  · rw [if_neg c] at h
    exact h
theorem my_calcN (h : post (pc, sg, st, cn, re, me)) (h1 : ¬ op = 1) (h5 : ¬ op = 5) (h9 : ¬ op = 9) (h14 : ¬ op = 14) : wpY_calculate post (pc, sg, st, cn, re, me) op ir := by
  refine my_calculate ?_
  unfold wY_calculate_43
  exact my_signed (by decide) (br_f h1 (br_f h5 (br_f h9 (br_f h14 h))))
theorem my_calc1 (h : post (pc, my_s ((re (my_f ir).toNatClampNeg + my_b ir re) &&& 65535), st, cn, upd re (my_d ir).toNatClampNeg ((re (my_f ir).toNatClampNeg + my_b ir re) &&& 65535), me)) : wpY_calculate post (pc, sg, st, cn, re, me) 1 ir := by
  refine my_calculate ?_
  unfold wY_calculate_43
  exact my_signed (by decide) (br_t rfl (And.intro (mc_in7 _) (my_give (mc_in7 _) (br_f (by decide) (br_f (by decide) (br_f (by decide) h))))))
theorem my_calc5 (h : post (pc, my_s ((re (my_f ir).toNatClampNeg &&& my_b ir re) &&& 65535), st, cn, upd re (my_d ir).toNatClampNeg ((re (my_f ir).toNatClampNeg &&& my_b ir re) &&& 65535), me)) : wpY_calculate post (pc, sg, st, cn, re, me) 5 ir := by
  refine my_calculate ?_
  unfold wY_calculate_43
  exact my_signed (by decide) (br_f (by decide) (br_t rfl (And.intro (mc_in7 _) (my_give (mc_in7 _) (br_f (by decide) (br_f (by decide) h))))))
theorem my_calc9 (h : post (pc, my_s ((65535 - re (my_f ir).toNatClampNeg) &&& 65535), st, cn, upd re (my_d ir).toNatClampNeg ((65535 - re (my_f ir).toNatClampNeg) &&& 65535), me)) : wpY_calculate post (pc, sg, st, cn, re, me) 9 ir := by
  refine my_calculate ?_
  unfold wY_calculate_43
  exact my_signed (by decide) (br_f (by decide) (br_f (by decide) (br_t rfl (And.intro (mc_in7 _) (my_give (mc_in7 _) (br_f (by decide) h))))))
theorem my_calc14 (h : post (pc, my_s ((pc + my_sg ir 9) &&& 65535), st, cn, upd re (my_d ir).toNatClampNeg ((pc + my_sg ir 9) &&& 65535), me)) : wpY_calculate post (pc, sg, st, cn, re, me) 14 ir := by
  refine my_calculate ?_
  unfold wY_calculate_43
  exact my_signed (by decide) (br_f (by decide) (br_f (by decide) (br_f (by decide) (br_t rfl (my_give (mc_in7 _) h)))))
/-! move -/
theorem my_moveN (h : post (pc, sg, st, cn, re, me)) (h2 : ¬ op = 2) (h6 : ¬ op = 6) (h10 : ¬ op = 10) (h3 : ¬ op = 3) (h7 : ¬ op = 7) (h11 : ¬ op = 11) : wpY_move post (pc, sg, st, cn, re, me) op ir := by
  unfold wpY_move
  exact nm_e (my_signed (by decide) (nm_e (And.intro (mc_in7 _) (my_signed (by decide) (nm_e (And.intro (mc_in63 _) (nm_e (br_f h2 (br_f h6 (br_f h10 (br_f h3 (br_f h7 (br_f h11 h)))))))))))))
theorem my_move2 (h : post (pc, my_s (me (my_nr pc ir).toNatClampNeg &&& 65535), st, cn, upd re (my_d ir).toNatClampNeg (me (my_nr pc ir).toNatClampNeg &&& 65535), me)) : wpY_move post (pc, sg, st, cn, re, me) 2 ir := by
  unfold wpY_move
  exact nm_e (my_signed (by decide) (nm_e (And.intro (mc_in7 _) (my_signed (by decide) (nm_e (And.intro (mc_in63 _) (nm_e (br_t rfl (And.intro (mc_in63 _) (my_give (mc_in7 _) (br_f (by decide) (br_f (by decide) (br_f (by decide) (br_f (by decide) (br_f (by decide) h)))))))))))))))
theorem my_move6 (h : post (pc, my_s (me (my_ba ir re).toNatClampNeg &&& 65535), st, cn, upd re (my_d ir).toNatClampNeg (me (my_ba ir re).toNatClampNeg &&& 65535), me)) : wpY_move post (pc, sg, st, cn, re, me) 6 ir := by
  unfold wpY_move
  exact nm_e (my_signed (by decide) (nm_e (And.intro (mc_in7 _) (my_signed (by decide) (nm_e (And.intro (mc_in63 _) (nm_e (br_f (by decide) (br_t rfl (And.intro (mc_in63 _) (my_give (mc_in7 _) (br_f (by decide) (br_f (by decide) (br_f (by decide) (br_f (by decide) h)))))))))))))))
theorem my_move10 (h : post (pc, my_s (me (my_fa pc ir me).toNatClampNeg &&& 65535), st, cn, upd re (my_d ir).toNatClampNeg (me (my_fa pc ir me).toNatClampNeg &&& 65535), me)) : wpY_move post (pc, sg, st, cn, re, me) 10 ir := by
  unfold wpY_move
  exact nm_e (my_signed (by decide) (nm_e (And.intro (mc_in7 _) (my_signed (by decide) (nm_e (And.intro (mc_in63 _) (nm_e (br_f (by decide) (br_f (by decide) (br_t rfl (And.intro (mc_in63 _) (my_give (mc_in7 _) (br_f (by decide) (br_f (by decide) (br_f (by decide) h)))))))))))))))
theorem my_move3 (h : post (pc, sg, st, cn, re, upd me (my_nr pc ir).toNatClampNeg (re (my_d ir).toNatClampNeg))) : wpY_move post (pc, sg, st, cn, re, me) 3 ir := by
  unfold wpY_move
  exact nm_e (my_signed (by decide) (nm_e (And.intro (mc_in7 _) (my_signed (by decide) (nm_e (And.intro (mc_in63 _) (nm_e (br_f (by decide) (br_f (by decide) (br_f (by decide) (br_t rfl (And.intro (mc_in7 _) (And.intro (mc_in63 _) (nm_e (br_f (by decide) (br_f (by decide) h))))))))))))))))
theorem my_move7 (h : post (pc, sg, st, cn, re, upd me (my_ba ir re).toNatClampNeg (re (my_d ir).toNatClampNeg))) : wpY_move post (pc, sg, st, cn, re, me) 7 ir := by
  unfold wpY_move
  exact nm_e (my_signed (by decide) (nm_e (And.intro (mc_in7 _) (my_signed (by decide) (nm_e (And.intro (mc_in63 _) (nm_e (br_f (by decide) (br_f (by decide) (br_f (by decide) (br_f (by decide) (br_t rfl (And.intro (mc_in7 _) (And.intro (mc_in63 _) (nm_e (br_f (by decide) h))))))))))))))))
theorem my_move11 (h : post (pc, sg, st, cn, re, upd me (my_fa pc ir me).toNatClampNeg (re (my_d ir).toNatClampNeg))) : wpY_move post (pc, sg, st, cn, re, me) 11 ir := by
  unfold wpY_move
  exact nm_e (my_signed (by decide) (nm_e (And.intro (mc_in7 _) (my_signed (by decide) (nm_e (And.intro (mc_in63 _) (nm_e (br_f (by decide) (br_f (by decide) (br_f (by decide) (br_f (by decide) (br_f (by decide) (br_t rfl (And.intro (mc_in7 _) (And.intro (mc_in63 _) (nm_e h))))))))))))))))
/-! go -/
theorem my_goN (h : post (pc, sg, st, cn, re, me)) (h0 : ¬ op = 0) (h12 : ¬ op = 12) (h4 : ¬ op = 4) (h15 : ¬ op = 15) (h8 : ¬ op = 8) (h13 : ¬ op = 13) : wpY_go post (pc, sg, st, cn, re, me) op ir := by
  unfold wpY_go
  exact And.intro (mc_in7 _) (nm_e (my_signed (by decide) (my_signed (by decide) (br_f h0 (br_f h12 (br_f h4 (br_f h15 (br_f h8 (br_f h13 h)))))))))
theorem my_go0 (h : post (if my_tk sg ir = 0 then pc else (pc + my_sg ir 9) &&& 65535, sg, st, cn, re, me)) : wpY_go post (pc, sg, st, cn, re, me) 0 ir := by
  unfold wpY_go
  refine And.intro (mc_in7 _) (nm_e (my_signed (by decide) (my_signed (by decide) (br_t rfl (my_taken (br_c (fun c => ?_) (fun c => ?_)))))))
  · rw [if_pos c] at h
    exact br_f (by decide) (br_f (by decide) (br_f (by decide) (br_f (by decide) (br_f (by decide) h))))
  · rw [if_neg c] at h
    exact br_f (by decide) (br_f (by decide) (br_f (by decide) (br_f (by decide) (br_f (by decide) h))))
theorem my_go12 (h : post (re (my_f ir).toNatClampNeg, sg, st, cn, re, me)) : wpY_go post (pc, sg, st, cn, re, me) 12 ir := by
  unfold wpY_go
  exact And.intro (mc_in7 _) (nm_e (my_signed (by decide) (my_signed (by decide) (br_f (by decide) (br_t rfl (br_f (by decide) (br_f (by decide) (br_f (by decide) (br_f (by decide) h)))))))))
theorem my_go4 (h : post (if (ir >>> ((11 : Int32) &&& 31)) &&& 1 = 1 then (pc + my_sg ir 11) &&& 65535 else re (my_f ir).toNatClampNeg, sg, st, cn, upd re 7 pc, me)) : wpY_go post (pc, sg, st, cn, re, me) 4 ir := by
  unfold wpY_go
  refine And.intro (mc_in7 _) (nm_e (my_signed (by decide) (my_signed (by decide) (br_f (by decide) (br_f (by decide) (br_t rfl (nm_e (br_c (fun c => ?_) (fun c => ?_)))))))))
  · rw [if_pos c] at h
    exact br_f (by decide) (br_f (by decide) (br_f (by decide) h))
  · rw [if_neg c] at h
    exact br_f (by decide) (br_f (by decide) (br_f (by decide) h))
theorem my_go15 (h : post (pc, sg, 1, cn, re, me)) : wpY_go post (pc, sg, st, cn, re, me) 15 ir := by
  unfold wpY_go
  exact And.intro (mc_in7 _) (nm_e (my_signed (by decide) (my_signed (by decide) (br_f (by decide) (br_f (by decide) (br_f (by decide) (br_t rfl (br_f (by decide) (br_f (by decide) h)))))))))
theorem my_go8 (h : post (pc, sg, 2, cn, re, me)) : wpY_go post (pc, sg, st, cn, re, me) 8 ir := by
  unfold wpY_go
  exact And.intro (mc_in7 _) (nm_e (my_signed (by decide) (my_signed (by decide) (br_f (by decide) (br_f (by decide) (br_f (by decide) (br_f (by decide) (br_t rfl h))))))))
theorem my_go13 (h : post (pc, sg, 2, cn, re, me)) : wpY_go post (pc, sg, st, cn, re, me) 13 ir := by
  unfold wpY_go
  exact And.intro (mc_in7 _) (nm_e (my_signed (by decide) (my_signed (by decide) (br_f (by decide) (br_f (by decide) (br_f (by decide) (br_f (by decide) (br_f (by decide) (br_t rfl h)))))))))
end
end
section
/-! Y: execute by opcode (printed by wip/C-2630/gen7.py) -/
/-- Y goes from v to w by one instruction -/
def my_st (v w : SY) : Prop := ∀ post : SY → Prop, post w → wpY_execute post v
section
variable {pc sg st cn ic : Int32} {re me : Nat → Int32}
theorem my_x0 (hi : me (pc &&& 63).toNatClampNeg = ic) (ho : ic >>> ((12 : Int32) &&& 31) = 0) : my_st (pc, sg, st, cn, re, me) (if my_tk sg ic = 0 then ((pc + 1) &&& 65535) else (((pc + 1) &&& 65535) + my_sg ic 9) &&& 65535, sg, st, cn, re, me) := by
  intro post h
  unfold wpY_execute
  exact And.intro (mc_in63 _) (nm_r hi (nm_r ho (my_calcN (my_moveN (my_go0 h) (by decide) (by decide) (by decide) (by decide) (by decide) (by decide)) (by decide) (by decide) (by decide) (by decide))))
theorem my_x1 (hi : me (pc &&& 63).toNatClampNeg = ic) (ho : ic >>> ((12 : Int32) &&& 31) = 1) : my_st (pc, sg, st, cn, re, me) (((pc + 1) &&& 65535), my_s ((re (my_f ic).toNatClampNeg + my_b ic re) &&& 65535), st, cn, upd re (my_d ic).toNatClampNeg ((re (my_f ic).toNatClampNeg + my_b ic re) &&& 65535), me) := by
  intro post h
  unfold wpY_execute
  exact And.intro (mc_in63 _) (nm_r hi (nm_r ho (my_calc1 (my_moveN (my_goN h (by decide) (by decide) (by decide) (by decide) (by decide) (by decide)) (by decide) (by decide) (by decide) (by decide) (by decide) (by decide)))))
theorem my_x2 (hi : me (pc &&& 63).toNatClampNeg = ic) (ho : ic >>> ((12 : Int32) &&& 31) = 2) : my_st (pc, sg, st, cn, re, me) (((pc + 1) &&& 65535), my_s (me (my_nr ((pc + 1) &&& 65535) ic).toNatClampNeg &&& 65535), st, cn, upd re (my_d ic).toNatClampNeg (me (my_nr ((pc + 1) &&& 65535) ic).toNatClampNeg &&& 65535), me) := by
  intro post h
  unfold wpY_execute
  exact And.intro (mc_in63 _) (nm_r hi (nm_r ho (my_calcN (my_move2 (my_goN h (by decide) (by decide) (by decide) (by decide) (by decide) (by decide))) (by decide) (by decide) (by decide) (by decide))))
theorem my_x3 (hi : me (pc &&& 63).toNatClampNeg = ic) (ho : ic >>> ((12 : Int32) &&& 31) = 3) : my_st (pc, sg, st, cn, re, me) (((pc + 1) &&& 65535), sg, st, cn, re, upd me (my_nr ((pc + 1) &&& 65535) ic).toNatClampNeg (re (my_d ic).toNatClampNeg)) := by
  intro post h
  unfold wpY_execute
  exact And.intro (mc_in63 _) (nm_r hi (nm_r ho (my_calcN (my_move3 (my_goN h (by decide) (by decide) (by decide) (by decide) (by decide) (by decide))) (by decide) (by decide) (by decide) (by decide))))
theorem my_x4 (hi : me (pc &&& 63).toNatClampNeg = ic) (ho : ic >>> ((12 : Int32) &&& 31) = 4) : my_st (pc, sg, st, cn, re, me) (if (ic >>> ((11 : Int32) &&& 31)) &&& 1 = 1 then (((pc + 1) &&& 65535) + my_sg ic 11) &&& 65535 else re (my_f ic).toNatClampNeg, sg, st, cn, upd re 7 ((pc + 1) &&& 65535), me) := by
  intro post h
  unfold wpY_execute
  exact And.intro (mc_in63 _) (nm_r hi (nm_r ho (my_calcN (my_moveN (my_go4 h) (by decide) (by decide) (by decide) (by decide) (by decide) (by decide)) (by decide) (by decide) (by decide) (by decide))))
theorem my_x5 (hi : me (pc &&& 63).toNatClampNeg = ic) (ho : ic >>> ((12 : Int32) &&& 31) = 5) : my_st (pc, sg, st, cn, re, me) (((pc + 1) &&& 65535), my_s ((re (my_f ic).toNatClampNeg &&& my_b ic re) &&& 65535), st, cn, upd re (my_d ic).toNatClampNeg ((re (my_f ic).toNatClampNeg &&& my_b ic re) &&& 65535), me) := by
  intro post h
  unfold wpY_execute
  exact And.intro (mc_in63 _) (nm_r hi (nm_r ho (my_calc5 (my_moveN (my_goN h (by decide) (by decide) (by decide) (by decide) (by decide) (by decide)) (by decide) (by decide) (by decide) (by decide) (by decide) (by decide)))))
theorem my_x6 (hi : me (pc &&& 63).toNatClampNeg = ic) (ho : ic >>> ((12 : Int32) &&& 31) = 6) : my_st (pc, sg, st, cn, re, me) (((pc + 1) &&& 65535), my_s (me (my_ba ic re).toNatClampNeg &&& 65535), st, cn, upd re (my_d ic).toNatClampNeg (me (my_ba ic re).toNatClampNeg &&& 65535), me) := by
  intro post h
  unfold wpY_execute
  exact And.intro (mc_in63 _) (nm_r hi (nm_r ho (my_calcN (my_move6 (my_goN h (by decide) (by decide) (by decide) (by decide) (by decide) (by decide))) (by decide) (by decide) (by decide) (by decide))))
theorem my_x7 (hi : me (pc &&& 63).toNatClampNeg = ic) (ho : ic >>> ((12 : Int32) &&& 31) = 7) : my_st (pc, sg, st, cn, re, me) (((pc + 1) &&& 65535), sg, st, cn, re, upd me (my_ba ic re).toNatClampNeg (re (my_d ic).toNatClampNeg)) := by
  intro post h
  unfold wpY_execute
  exact And.intro (mc_in63 _) (nm_r hi (nm_r ho (my_calcN (my_move7 (my_goN h (by decide) (by decide) (by decide) (by decide) (by decide) (by decide))) (by decide) (by decide) (by decide) (by decide))))
theorem my_x8 (hi : me (pc &&& 63).toNatClampNeg = ic) (ho : ic >>> ((12 : Int32) &&& 31) = 8) : my_st (pc, sg, st, cn, re, me) (((pc + 1) &&& 65535), sg, 2, cn, re, me) := by
  intro post h
  unfold wpY_execute
  exact And.intro (mc_in63 _) (nm_r hi (nm_r ho (my_calcN (my_moveN (my_go8 h) (by decide) (by decide) (by decide) (by decide) (by decide) (by decide)) (by decide) (by decide) (by decide) (by decide))))
theorem my_x9 (hi : me (pc &&& 63).toNatClampNeg = ic) (ho : ic >>> ((12 : Int32) &&& 31) = 9) : my_st (pc, sg, st, cn, re, me) (((pc + 1) &&& 65535), my_s ((65535 - re (my_f ic).toNatClampNeg) &&& 65535), st, cn, upd re (my_d ic).toNatClampNeg ((65535 - re (my_f ic).toNatClampNeg) &&& 65535), me) := by
  intro post h
  unfold wpY_execute
  exact And.intro (mc_in63 _) (nm_r hi (nm_r ho (my_calc9 (my_moveN (my_goN h (by decide) (by decide) (by decide) (by decide) (by decide) (by decide)) (by decide) (by decide) (by decide) (by decide) (by decide) (by decide)))))
theorem my_x10 (hi : me (pc &&& 63).toNatClampNeg = ic) (ho : ic >>> ((12 : Int32) &&& 31) = 10) : my_st (pc, sg, st, cn, re, me) (((pc + 1) &&& 65535), my_s (me (my_fa ((pc + 1) &&& 65535) ic me).toNatClampNeg &&& 65535), st, cn, upd re (my_d ic).toNatClampNeg (me (my_fa ((pc + 1) &&& 65535) ic me).toNatClampNeg &&& 65535), me) := by
  intro post h
  unfold wpY_execute
  exact And.intro (mc_in63 _) (nm_r hi (nm_r ho (my_calcN (my_move10 (my_goN h (by decide) (by decide) (by decide) (by decide) (by decide) (by decide))) (by decide) (by decide) (by decide) (by decide))))
theorem my_x11 (hi : me (pc &&& 63).toNatClampNeg = ic) (ho : ic >>> ((12 : Int32) &&& 31) = 11) : my_st (pc, sg, st, cn, re, me) (((pc + 1) &&& 65535), sg, st, cn, re, upd me (my_fa ((pc + 1) &&& 65535) ic me).toNatClampNeg (re (my_d ic).toNatClampNeg)) := by
  intro post h
  unfold wpY_execute
  exact And.intro (mc_in63 _) (nm_r hi (nm_r ho (my_calcN (my_move11 (my_goN h (by decide) (by decide) (by decide) (by decide) (by decide) (by decide))) (by decide) (by decide) (by decide) (by decide))))
theorem my_x12 (hi : me (pc &&& 63).toNatClampNeg = ic) (ho : ic >>> ((12 : Int32) &&& 31) = 12) : my_st (pc, sg, st, cn, re, me) (re (my_f ic).toNatClampNeg, sg, st, cn, re, me) := by
  intro post h
  unfold wpY_execute
  exact And.intro (mc_in63 _) (nm_r hi (nm_r ho (my_calcN (my_moveN (my_go12 h) (by decide) (by decide) (by decide) (by decide) (by decide) (by decide)) (by decide) (by decide) (by decide) (by decide))))
theorem my_x13 (hi : me (pc &&& 63).toNatClampNeg = ic) (ho : ic >>> ((12 : Int32) &&& 31) = 13) : my_st (pc, sg, st, cn, re, me) (((pc + 1) &&& 65535), sg, 2, cn, re, me) := by
  intro post h
  unfold wpY_execute
  exact And.intro (mc_in63 _) (nm_r hi (nm_r ho (my_calcN (my_moveN (my_go13 h) (by decide) (by decide) (by decide) (by decide) (by decide) (by decide)) (by decide) (by decide) (by decide) (by decide))))
theorem my_x14 (hi : me (pc &&& 63).toNatClampNeg = ic) (ho : ic >>> ((12 : Int32) &&& 31) = 14) : my_st (pc, sg, st, cn, re, me) (((pc + 1) &&& 65535), my_s ((((pc + 1) &&& 65535) + my_sg ic 9) &&& 65535), st, cn, upd re (my_d ic).toNatClampNeg ((((pc + 1) &&& 65535) + my_sg ic 9) &&& 65535), me) := by
  intro post h
  unfold wpY_execute
  exact And.intro (mc_in63 _) (nm_r hi (nm_r ho (my_calc14 (my_moveN (my_goN h (by decide) (by decide) (by decide) (by decide) (by decide) (by decide)) (by decide) (by decide) (by decide) (by decide) (by decide) (by decide)))))
theorem my_x15 (hi : me (pc &&& 63).toNatClampNeg = ic) (ho : ic >>> ((12 : Int32) &&& 31) = 15) : my_st (pc, sg, st, cn, re, me) (((pc + 1) &&& 65535), sg, 1, cn, re, me) := by
  intro post h
  unfold wpY_execute
  exact And.intro (mc_in63 _) (nm_r hi (nm_r ho (my_calcN (my_moveN (my_go15 h) (by decide) (by decide) (by decide) (by decide) (by decide) (by decide)) (by decide) (by decide) (by decide) (by decide))))
end
end
section
/-! one instruction in lockstep -/
def mc_R (u : SX) (v : SY) : Prop := ∃ (pc sb sg st ex ma md ir : Int32) (me re : Nat → Int32), u = (pc, sb, st, ex, 18, ma, md, ir, mc_CT, me, re) ∧ v = (pc, sg, st, ex, re, me) ∧ mc_W pc ∧ (∀ j, mc_W (me j)) ∧ (∀ j, mc_W (re j)) ∧ mc_S sb sg
def mc_Go (u : SX) (v : SY) : Prop := ∃ (u' : SX) (v' : SY), mx_ix u u' ∧ my_st v v' ∧ mc_R u' v'
theorem mc_01 (x : Int32) : x &&& 1 = 0 ∨ x &&& 1 = 1 := by
  have e : x &&& 1 = nI (x.toBitVec.toNat % 2) := pk_and x 1 (by decide)
  rw [e]
  rcases Nat.mod_two_eq_zero_or_one x.toBitVec.toNat with h | h
  · rw [h]
    exact Or.inl rfl
  · rw [h]
    exact Or.inr rfl
section
variable {p q a b x y pc sb sg st ex ma md ir ic op : Int32} {k i : Nat} {me re : Nat → Int32} {w : SX} {v' : SY}
theorem mc_Ri (e : p = q) (wq : mc_W q) (wm : ∀ j, mc_W (me j)) (wr : ∀ j, mc_W (re j)) (hs : mc_S sb sg) : mc_R (p, sb, st, ex, 18, ma, md, ir, mc_CT, me, re) (q, sg, st, ex, re, me) := by
  subst e
  exact ⟨p, sb, sg, st, ex, ma, md, ir, me, re, rfl, rfl, wq, wm, wr, hs⟩
theorem mc_Rg (e : x = y) (wy : mc_W y) (wp : mc_W p) (wm : ∀ j, mc_W (me j)) (wr : ∀ j, mc_W (re j)) : mc_R (p, mx_sb x, st, ex, 18, ma, md, ir, mc_CT, me, upd re i x) (p, my_s y, st, ex, upd re i y, me) := by
  subst e
  exact mc_Ri rfl wp wm (mc_Wu wr wy) (mc_sS wy)
theorem mc_Rs (e : a = b) (wx : mc_W x) (wp : mc_W p) (wm : ∀ j, mc_W (me j)) (wr : ∀ j, mc_W (re j)) (hs : mc_S sb sg) : mc_R (p, sb, st, ex, 18, ma, md, ir, mc_CT, upd me a.toNatClampNeg x, re) (p, sg, st, ex, re, upd me b.toNatClampNeg x) := by
  subst e
  exact mc_Ri rfl wp (mc_Wu wm wx) wr hs
theorem mc_goI (hi : me (pc &&& 63).toNatClampNeg = ic) (ho : ic >>> ((12 : Int32) &&& 31) = op) (hx : mx_run k ((pc + 1) &&& 65535, sb, st, ex, op, pc, ic, ic, mc_CT, me, re) w) (hk : k + 3 ≤ 10) (hy : my_st (pc, sg, st, ex, re, me) v') (hr : mc_R w v') : mc_Go (pc, sb, st, ex, 18, ma, md, ir, mc_CT, me, re) (pc, sg, st, ex, re, me) :=
  ⟨w, v', ⟨k + 3, _, hk, mx_c18, mx_ins hi ho hx⟩, hy, hr⟩
/-- what an instruction begins with -/
def mc_H (pc sb sg ic op : Int32) (me re : Nat → Int32) : Prop := me (pc &&& 63).toNatClampNeg = ic ∧ ic >>> ((12 : Int32) &&& 31) = op ∧ mc_W pc ∧ mc_W ic ∧ (∀ j, mc_W (me j)) ∧ (∀ j, mc_W (re j)) ∧ mc_S sb sg
theorem mc_op1 (H : mc_H pc sb sg ic 1 me re) : mc_Go (pc, sb, st, ex, 18, ma, md, ir, mc_CT, me, re) (pc, sg, st, ex, re, me) := by
  obtain ⟨hi, ho, wp, wi, wm, wr, hs⟩ := H
  exact mc_goI hi ho (mx_rs (by decide) mx_c1 mx_r0) (by decide) (my_x1 hi ho) (mc_Rg (mc_ad (mc_bb wi wr)) (mc_Wm _) (mc_Wm _) wm wr)
theorem mc_op5 (H : mc_H pc sb sg ic 5 me re) : mc_Go (pc, sb, st, ex, 18, ma, md, ir, mc_CT, me, re) (pc, sg, st, ex, re, me) := by
  obtain ⟨hi, ho, wp, wi, wm, wr, hs⟩ := H
  exact mc_goI hi ho (mx_rs (by decide) mx_c5 mx_r0) (by decide) (my_x5 hi ho) (mc_Rg (mc_band wi wr) (mc_Wm _) (mc_Wm _) wm wr)
theorem mc_op9 (H : mc_H pc sb sg ic 9 me re) : mc_Go (pc, sb, st, ex, 18, ma, md, ir, mc_CT, me, re) (pc, sg, st, ex, re, me) := by
  obtain ⟨hi, ho, wp, wi, wm, wr, hs⟩ := H
  exact mc_goI hi ho (mx_rs (by decide) mx_c9 mx_r0) (by decide) (my_x9 hi ho) (mc_Rg (mc_not _) (mc_Wm _) (mc_Wm _) wm wr)
theorem mc_op14 (H : mc_H pc sb sg ic 14 me re) : mc_Go (pc, sb, st, ex, 18, ma, md, ir, mc_CT, me, re) (pc, sg, st, ex, re, me) := by
  obtain ⟨hi, ho, wp, wi, wm, wr, hs⟩ := H
  exact mc_goI hi ho (mx_rs (by decide) mx_c14 mx_r0) (by decide) (my_x14 hi ho) (mc_Rg (mc_ad (mc_x9 wi)) (mc_Wm _) (mc_Wm _) wm wr)
theorem mc_op2 (H : mc_H pc sb sg ic 2 me re) : mc_Go (pc, sb, st, ex, 18, ma, md, ir, mc_CT, me, re) (pc, sg, st, ex, re, me) := by
  obtain ⟨hi, ho, wp, wi, wm, wr, hs⟩ := H
  exact mc_goI hi ho (mx_rs (by decide) mx_c2 (mx_rs (by decide) mx_c25 (mx_rs (by decide) mx_c27 mx_r0))) (by decide) (my_x2 hi ho)
    (mc_Rg ((congrArg (fun a : Int32 => me a.toNatClampNeg) (mc_ac (mc_x9 wi))).trans (mc_Wa (wm _)).symm) (mc_Wm _) (mc_Wm _) wm wr)
theorem mc_op6 (H : mc_H pc sb sg ic 6 me re) : mc_Go (pc, sb, st, ex, 18, ma, md, ir, mc_CT, me, re) (pc, sg, st, ex, re, me) := by
  obtain ⟨hi, ho, wp, wi, wm, wr, hs⟩ := H
  exact mc_goI hi ho (mx_rs (by decide) mx_c6 (mx_rs (by decide) mx_c25 (mx_rs (by decide) mx_c27 mx_r0))) (by decide) (my_x6 hi ho)
    (mc_Rg ((congrArg (fun a : Int32 => me a.toNatClampNeg) (mc_ac (mc_x6 wi))).trans (mc_Wa (wm _)).symm) (mc_Wm _) (mc_Wm _) wm wr)
theorem mc_op10 (H : mc_H pc sb sg ic 10 me re) : mc_Go (pc, sb, st, ex, 18, ma, md, ir, mc_CT, me, re) (pc, sg, st, ex, re, me) := by
  obtain ⟨hi, ho, wp, wi, wm, wr, hs⟩ := H
  exact mc_goI hi ho (mx_rs (by decide) mx_c10 (mx_rs (by decide) mx_c24 (mx_rs (by decide) mx_c26 (mx_rs (by decide) mx_c25 (mx_rs (by decide) mx_c27 mx_r0))))) (by decide) (my_x10 hi ho)
    (mc_Rg ((congrArg (fun a : Int32 => me (me a.toNatClampNeg &&& 63).toNatClampNeg) (mc_ac (mc_x9 wi))).trans (mc_Wa (wm _)).symm) (mc_Wm _) (mc_Wm _) wm wr)
theorem mc_op3 (H : mc_H pc sb sg ic 3 me re) : mc_Go (pc, sb, st, ex, 18, ma, md, ir, mc_CT, me, re) (pc, sg, st, ex, re, me) := by
  obtain ⟨hi, ho, wp, wi, wm, wr, hs⟩ := H
  exact mc_goI hi ho (mx_rs (by decide) mx_c3 (mx_rs (by decide) mx_c23 (mx_rs (by decide) mx_c16 mx_r0))) (by decide) (my_x3 hi ho)
    (mc_Rs (mc_ac (mc_x9 wi)) (wr _) (mc_Wm _) wm wr hs)
theorem mc_op7 (H : mc_H pc sb sg ic 7 me re) : mc_Go (pc, sb, st, ex, 18, ma, md, ir, mc_CT, me, re) (pc, sg, st, ex, re, me) := by
  obtain ⟨hi, ho, wp, wi, wm, wr, hs⟩ := H
  exact mc_goI hi ho (mx_rs (by decide) mx_c7 (mx_rs (by decide) mx_c23 (mx_rs (by decide) mx_c16 mx_r0))) (by decide) (my_x7 hi ho)
    (mc_Rs (mc_ac (mc_x6 wi)) (wr _) (mc_Wm _) wm wr hs)
theorem mc_op11 (H : mc_H pc sb sg ic 11 me re) : mc_Go (pc, sb, st, ex, 18, ma, md, ir, mc_CT, me, re) (pc, sg, st, ex, re, me) := by
  obtain ⟨hi, ho, wp, wi, wm, wr, hs⟩ := H
  exact mc_goI hi ho (mx_rs (by decide) mx_c11 (mx_rs (by decide) mx_c29 (mx_rs (by decide) mx_c31 (mx_rs (by decide) mx_c23 (mx_rs (by decide) mx_c16 mx_r0))))) (by decide) (my_x11 hi ho)
    (mc_Rs (congrArg (fun a : Int32 => me a.toNatClampNeg &&& 63) (mc_ac (mc_x9 wi))) (wr _) (mc_Wm _) wm wr hs)
theorem mc_op0 (H : mc_H pc sb sg ic 0 me re) : mc_Go (pc, sb, st, ex, 18, ma, md, ir, mc_CT, me, re) (pc, sg, st, ex, re, me) := by
  obtain ⟨hi, ho, wp, wi, wm, wr, hs⟩ := H
  have c0 := mx_c0 (pc := (pc + 1) &&& 65535) (sb := sb) (st := st) (ex := ex) (ma := pc) (md := ic) (ir := ic) (me := me) (re := re)
  by_cases c : (ic >>> ((9 : Int32) &&& 31)) &&& sb = 0
  · rw [if_pos c] at c0
    exact mc_goI hi ho (mx_rs (by decide) c0 mx_r0) (by decide) (my_x0 hi ho) (mc_Ri (if_pos ((mc_tk wi hs).mp c)).symm ((if_pos ((mc_tk wi hs).mp c)).symm ▸ mc_Wm _) wm wr hs)
  · rw [if_neg c] at c0
    have n : ¬ my_tk sg ic = 0 := fun z => c ((mc_tk wi hs).mpr z)
    exact mc_goI hi ho (mx_rs (by decide) c0 (mx_rs (by decide) mx_c22 mx_r0)) (by decide) (my_x0 hi ho) (mc_Ri ((mc_ad (mc_x9 wi)).trans (if_neg n).symm) ((if_neg n).symm ▸ mc_Wm _) wm wr hs)
theorem mc_op12 (H : mc_H pc sb sg ic 12 me re) : mc_Go (pc, sb, st, ex, 18, ma, md, ir, mc_CT, me, re) (pc, sg, st, ex, re, me) := by
  obtain ⟨hi, ho, wp, wi, wm, wr, hs⟩ := H
  exact mc_goI hi ho (mx_rs (by decide) mx_c12 mx_r0) (by decide) (my_x12 hi ho) (mc_Ri (mc_x0 (wr _)) (wr _) wm wr hs)
theorem mc_op4 (H : mc_H pc sb sg ic 4 me re) : mc_Go (pc, sb, st, ex, 18, ma, md, ir, mc_CT, me, re) (pc, sg, st, ex, re, me) := by
  obtain ⟨hi, ho, wp, wi, wm, wr, hs⟩ := H
  have c4 := mx_c4 (pc := (pc + 1) &&& 65535) (sb := sb) (st := st) (ex := ex) (ma := pc) (md := ic) (ir := ic) (me := me) (re := re)
  rcases mc_01 (ic >>> ((11 : Int32) &&& 31)) with c | c
  · rw [c, show (20 : Int32) ||| 0 = 20 from by decide] at c4
    have n : ¬ (ic >>> ((11 : Int32) &&& 31)) &&& 1 = 1 := by
      rw [c]
      decide
    exact mc_goI hi ho (mx_rs (by decide) c4 (mx_rs (by decide) mx_c20 mx_r0)) (by decide) (my_x4 hi ho) (mc_Ri ((mc_x0 (wr _)).trans (if_neg n).symm) ((if_neg n).symm ▸ wr _) wm (mc_Wu wr (mc_Wm _)) hs)
  · rw [c, show (20 : Int32) ||| 1 = 21 from by decide] at c4
    exact mc_goI hi ho (mx_rs (by decide) c4 (mx_rs (by decide) mx_c21 mx_r0)) (by decide) (my_x4 hi ho) (mc_Ri ((mc_ad (mc_x11 wi)).trans (if_pos c).symm) ((if_pos c).symm ▸ mc_Wm _) wm (mc_Wu wr (mc_Wm _)) hs)
theorem mc_op15 (H : mc_H pc sb sg ic 15 me re) : mc_Go (pc, sb, st, ex, 18, ma, md, ir, mc_CT, me, re) (pc, sg, st, ex, re, me) := by
  obtain ⟨hi, ho, wp, wi, wm, wr, hs⟩ := H
  exact mc_goI hi ho (mx_rs (by decide) mx_c15 mx_r0) (by decide) (my_x15 hi ho) (mc_Ri rfl (mc_Wm _) wm wr hs)
theorem mc_op8 (H : mc_H pc sb sg ic 8 me re) : mc_Go (pc, sb, st, ex, 18, ma, md, ir, mc_CT, me, re) (pc, sg, st, ex, re, me) := by
  obtain ⟨hi, ho, wp, wi, wm, wr, hs⟩ := H
  exact mc_goI hi ho (mx_rs (by decide) mx_c8 mx_r0) (by decide) (my_x8 hi ho) (mc_Ri rfl (mc_Wm _) wm wr hs)
theorem mc_op13 (H : mc_H pc sb sg ic 13 me re) : mc_Go (pc, sb, st, ex, 18, ma, md, ir, mc_CT, me, re) (pc, sg, st, ex, re, me) := by
  obtain ⟨hi, ho, wp, wi, wm, wr, hs⟩ := H
  exact mc_goI hi ho (mx_rs (by decide) mx_c13 mx_r0) (by decide) (my_x13 hi ho) (mc_Ri rfl (mc_Wm _) wm wr hs)
/-- one instruction from related states -/
theorem mc_go (wp : mc_W pc) (wm : ∀ j, mc_W (me j)) (wr : ∀ j, mc_W (re j)) (hs : mc_S sb sg) : mc_Go (pc, sb, st, ex, 18, ma, md, ir, mc_CT, me, re) (pc, sg, st, ex, re, me) := by
  obtain ⟨n, hn, hw⟩ := wm (pc &&& 63).toNatClampNeg
  have wi : mc_W (me (pc &&& 63).toNatClampNeg) := wm _
  have ho : me (pc &&& 63).toNatClampNeg >>> ((12 : Int32) &&& 31) = nI (n / 4096) := by
    rw [hw]
    exact pk_shrN (by omega) _ 12 (by decide)
  have hl : n / 4096 < 16 := by omega
  have K : ∀ o : Nat, n / 4096 = o → mc_H pc sb sg (me (pc &&& 63).toNatClampNeg) (nI o) me re := by
    intro o e
    subst e
    exact ⟨rfl, ho, wp, wi, wm, wr, hs⟩
  have c : n / 4096 = 0 ∨ n / 4096 = 1 ∨ n / 4096 = 2 ∨ n / 4096 = 3 ∨ n / 4096 = 4 ∨ n / 4096 = 5 ∨ n / 4096 = 6 ∨ n / 4096 = 7 ∨ n / 4096 = 8 ∨ n / 4096 = 9 ∨ n / 4096 = 10 ∨ n / 4096 = 11 ∨ n / 4096 = 12 ∨ n / 4096 = 13 ∨ n / 4096 = 14 ∨ n / 4096 = 15 := by omega
  rcases c with c | c | c | c | c | c | c | c | c | c | c | c | c | c | c | c
  · exact mc_op0 (K 0 c)
  · exact mc_op1 (K 1 c)
  · exact mc_op2 (K 2 c)
  · exact mc_op3 (K 3 c)
  · exact mc_op4 (K 4 c)
  · exact mc_op5 (K 5 c)
  · exact mc_op6 (K 6 c)
  · exact mc_op7 (K 7 c)
  · exact mc_op8 (K 8 c)
  · exact mc_op9 (K 9 c)
  · exact mc_op10 (K 10 c)
  · exact mc_op11 (K 11 c)
  · exact mc_op12 (K 12 c)
  · exact mc_op13 (K 13 c)
  · exact mc_op14 (K 14 c)
  · exact mc_op15 (K 15 c)
end
end
section
/-! the step loops in lockstep -/
def my_un (J : Int32 → Int32 → Int32 → Int32 → Int32 → (Nat → Int32) → (Nat → Int32) → Prop) (x : Int32) (v : SY) : Prop :=
  J x v.1 v.2.1 v.2.2.1 v.2.2.2.1 v.2.2.2.2.1 v.2.2.2.2.2
theorem mc_steps (m : Nat) (hm : m ≤ 100) : ∀ (d j : Nat) (u : SX) (v : SY), j + d = m → mc_R u v → ∃ (r : Int32) (u' : SX) (v' : SY), mc_R u' v' ∧ (∀ post : Int32 → SX → Prop, post r u' → mx_un (wX_step_23 post (nI m) (d + 1)) (nI j) u) ∧ (∀ post : Int32 → SY → Prop, post r v' → my_un (wY_step_26 post (nI m) (d + 1) (nI j)) (nI j) v) := by
  intro d
  induction d with
  | zero =>
    intro j u v hj I
    obtain ⟨pc, sb, sg, st, ex, ma, md, ir, me, re, rfl, rfl, wp, wm, wr, hs⟩ := I
    have h : nI m ≤ nI j := nI_le (by omega) (by omega)
    exact ⟨nI j, (pc, sb, st, ex + nI j, 18, ma, md, ir, mc_CT, me, re), (pc, sg, st, ex + nI j, re, me), mc_Ri rfl wp wm wr hs, fun post hp => br_t h (nm_e hp), fun post hp => br_t h (nm_e hp)⟩
  | succ d ih =>
    intro j u v hj I
    obtain ⟨pc, sb, sg, st, ex, ma, md, ir, me, re, rfl, rfl, wp, wm, wr, hs⟩ := I
    have h : ¬ nI m ≤ nI j := nI_ge (by omega) (by omega)
    by_cases z : st = 0
    · obtain ⟨u', v', ⟨k, u1, hk, hst, hr⟩, hy, I'⟩ := mc_go (ex := ex) (st := st) (ma := ma) (md := md) (ir := ir) wp wm wr hs
      obtain ⟨r, u2, v2, I2, hX, hY⟩ := ih (j + 1) u' v' (by omega) I'
      refine ⟨r, u2, v2, I2, fun post hp => br_f h (br_t z (hst _ ?_)), fun post hp => br_f h (br_t z (hy _ ?_))⟩
      · obtain ⟨pc1, sb1, st1, ex1, se1, ma1, md1, ir1, ct1, me1, re1⟩ := u1
        refine ⟨k + 1, ?_⟩
        have L := hX post hp
        rw [← nI_1] at L
        exact mx_loop post _ (nI m) (nI j) u' L k 0 _ (by omega) hr
      · obtain ⟨pc1, sg1, st1, cn1, re1, me1⟩ := v'
        have L := hY post hp
        rw [← nI_1] at L
        exact nm_e (nm_e L)
    · exact ⟨nI j, (pc, sb, st, ex + nI j, 18, ma, md, ir, mc_CT, me, re), (pc, sg, st, ex + nI j, re, me), mc_Ri rfl wp wm wr hs, fun post hp => br_f h (br_f z (nm_e hp)), fun post hp => br_f h (br_f z (nm_e hp))⟩
end
section
/-! what is owed -/
/-- the relation: the same machine, X at its fetch state with its control store filled -/
def i_Rel (_ : Nat) (u : SX) (v : SY) : Prop := mc_R u v
theorem i_up {k : Nat} {u : SX} {v : SY} (h : i_Rel k u v) : i_Rel (k + 3) u v := h
theorem mc_init : mc_R (0, 2, 0, 0, 18, 0, 0, 0, mc_CT, (fun _ => 0), (fun _ => 0)) (0, 0, 0, 0, (fun _ => 0), (fun _ => 0)) :=
  mc_Ri rfl mc_W0 (fun _ => mc_W0) (fun _ => mc_W0) (Or.inr (Or.inl ⟨rfl, rfl⟩))
theorem i_vc0 : wpX_init (fun u => wpY_init (fun v => i_Rel 0 u v)) := by
  unfold wpX_init wpX_fillFetchAndDecode
  refine nm_e (nm_e (nm_e (nm_e ?_)))
  unfold wpX_fillArithmetic
  refine nm_e (nm_e (nm_e (nm_e ?_)))
  unfold wpX_fillMemory
  refine nm_e (nm_e (nm_e (nm_e (nm_e (nm_e (nm_e (nm_e (nm_e (nm_e (nm_e (nm_e (nm_e (nm_e ?_)))))))))))))
  unfold wpX_fillFlow
  refine nm_e (nm_e (nm_e (nm_e (nm_e (nm_e (nm_e (nm_e (nm_e ?_))))))))
  exact mc_init
theorem mc_word {x : Int32} (h0 : ¬ x < 0) (h1 : x ≤ 65535) : mc_W x := by
  obtain ⟨j, hj, rfl⟩ := nI_of2 (n := 65535) (by decide) h0 h1
  exact ⟨j, by omega, rfl⟩
theorem mc_cell {x : Int32} (h0 : ¬ x < 0) (h1 : ¬ 63 < x) : vp_in x 64 := by
  obtain ⟨j, hj, rfl⟩ := nI_of2 (n := 63) (M := 63) (by decide) h0 (Int32.not_lt.mp h1)
  exact vp_in_nI (by omega) (by decide)
theorem mc_reg {x : Int32} (h0 : ¬ x < 0) (h1 : ¬ 7 < x) : vp_in x 8 := by
  obtain ⟨j, hj, rfl⟩ := nI_of2 (n := 7) (M := 7) (by decide) h0 (Int32.not_lt.mp h1)
  exact vp_in_nI (by omega) (by decide)
theorem my_isT {post : Int32 → Prop} {v : SY} {x : Int32} (h0 : ¬ x < 0) (h1 : x ≤ 65535) (h : post 1) : wpY_isWord post v x := by
  obtain ⟨pc, sg, st, cn, re, me⟩ := v
  exact br_f h0 (br_f (Int32.not_lt.mpr h1) h)
theorem my_isF {post : Int32 → Prop} {v : SY} {x : Int32} (h0 : x < 0 ∨ ¬ x ≤ 65535) (h : post 0) : wpY_isWord post v x := by
  obtain ⟨pc, sg, st, cn, re, me⟩ := v
  exact br_c (fun _ => h) (fun n => br_t (Int32.not_le.mp (h0.resolve_left n)) h)
theorem i_vc_poke {k : Nat} {u : SX} {v : SY} (I : i_Rel k u v) (hk : k + 3 ≤ 1536) (v1 : Int32) (v2 : Int32) : wpX_poke (fun r u' => wpY_poke (fun r' v' => r' = r ∧ i_Rel (k + 3) u' v') v v1 v2) u v1 v2 := by
  have I0 := I
  obtain ⟨pc, sb, sg, st, ex, ma, md, ir, me, re, rfl, rfl, wp, wm, wr, hs⟩ := I
  unfold wpX_poke wpY_poke
  refine br_c (fun a => br_t a ⟨rfl, I0⟩) (fun a => br_c (fun b => br_f a (br_t b ⟨rfl, I0⟩)) (fun b => br_c (fun c => ?_) (fun c => br_c (fun d => ?_) (fun d => ?_))))
  · exact br_f a (br_f b (my_isF (Or.inl c) (br_t rfl ⟨rfl, I0⟩)))
  · exact And.intro (mc_cell a b) (nm_e (br_f a (br_f b (my_isT c d (br_f (by decide) (And.intro (mc_cell a b) (nm_e ⟨rfl, mc_Ri rfl wp (mc_Wu wm (mc_word c d)) wr hs⟩)))))))
  · exact br_f a (br_f b (my_isF (Or.inr d) (br_t rfl ⟨rfl, I0⟩)))
theorem i_vc_peek {k : Nat} {u : SX} {v : SY} (I : i_Rel k u v) (hk : k + 3 ≤ 1536) (v1 : Int32) : wpX_peek (fun r => wpY_peek (fun r' => r' = r ∧ i_Rel (k + 3) u v) v v1) u v1 := by
  have I0 := I
  obtain ⟨pc, sb, sg, st, ex, ma, md, ir, me, re, rfl, rfl, wp, wm, wr, hs⟩ := I
  unfold wpX_peek wpY_peek
  refine br_c (fun a => br_t a ⟨rfl, I0⟩) (fun a => br_c (fun b => ?_) (fun b => br_f a (br_t (Int32.not_le.mp b) ⟨rfl, I0⟩)))
  exact And.intro (mc_cell a (Int32.not_lt.mpr b)) (br_f a (br_f (Int32.not_lt.mpr b) (And.intro (mc_cell a (Int32.not_lt.mpr b)) ⟨rfl, I0⟩)))
theorem i_vc_setRegister {k : Nat} {u : SX} {v : SY} (I : i_Rel k u v) (hk : k + 3 ≤ 1536) (v1 : Int32) (v2 : Int32) : wpX_setRegister (fun r u' => wpY_setRegister (fun r' v' => r' = r ∧ i_Rel (k + 3) u' v') v v1 v2) u v1 v2 := by
  have I0 := I
  obtain ⟨pc, sb, sg, st, ex, ma, md, ir, me, re, rfl, rfl, wp, wm, wr, hs⟩ := I
  unfold wpX_setRegister wpY_setRegister
  refine br_c (fun a => br_t a ⟨rfl, I0⟩) (fun a => br_c (fun b => br_f a (br_t b ⟨rfl, I0⟩)) (fun b => br_c (fun c => ?_) (fun c => br_c (fun d => ?_) (fun d => ?_))))
  · exact br_f a (br_f b (my_isF (Or.inl c) (br_t rfl ⟨rfl, I0⟩)))
  · exact And.intro (mc_reg a b) (nm_e (br_f a (br_f b (my_isT c d (br_f (by decide) (And.intro (mc_reg a b) (nm_e ⟨rfl, mc_Ri rfl wp wm (mc_Wu wr (mc_word c d)) hs⟩)))))))
  · exact br_f a (br_f b (my_isF (Or.inr d) (br_t rfl ⟨rfl, I0⟩)))
theorem i_vc_register {k : Nat} {u : SX} {v : SY} (I : i_Rel k u v) (hk : k + 3 ≤ 1536) (v1 : Int32) : wpX_register (fun r => wpY_register (fun r' => r' = r ∧ i_Rel (k + 3) u v) v v1) u v1 := by
  have I0 := I
  obtain ⟨pc, sb, sg, st, ex, ma, md, ir, me, re, rfl, rfl, wp, wm, wr, hs⟩ := I
  unfold wpX_register wpY_register
  refine br_c (fun a => br_t a ⟨rfl, I0⟩) (fun a => br_c (fun b => ?_) (fun b => br_f a (br_t (Int32.not_le.mp b) ⟨rfl, I0⟩)))
  exact And.intro (mc_reg a (Int32.not_lt.mpr b)) (br_f a (br_f (Int32.not_lt.mpr b) (And.intro (mc_reg a (Int32.not_lt.mpr b)) ⟨rfl, I0⟩)))
theorem i_vc_start {k : Nat} {u : SX} {v : SY} (I : i_Rel k u v) (hk : k + 3 ≤ 1536) (v1 : Int32) : wpX_start (fun r u' => wpY_start (fun r' v' => r' = r ∧ i_Rel (k + 3) u' v') v v1) u v1 := by
  have I0 := I
  obtain ⟨pc, sb, sg, st, ex, ma, md, ir, me, re, rfl, rfl, wp, wm, wr, hs⟩ := I
  unfold wpX_start wpY_start
  refine br_c (fun a => ?_) (fun a => br_c (fun b => ?_) (fun b => ?_))
  · exact my_isF (Or.inl a) (br_t rfl ⟨rfl, I0⟩)
  · exact my_isT a b (br_f (by decide) ⟨rfl, mc_Ri rfl (mc_word a b) wm wr hs⟩)
  · exact my_isF (Or.inr b) (br_t rfl ⟨rfl, I0⟩)
theorem mc_step {u : SX} {v : SY} (m : Nat) (hm : m ≤ 100) (I : mc_R u v) : ∃ (r : Int32) (u' : SX) (v' : SY), mc_R u' v' ∧ (∀ post : Int32 → SX → Prop, post r u' → ∃ n, mx_un (wX_step_23 post (nI m) n) 0 u) ∧ (∀ post : Int32 → SY → Prop, post r v' → ∃ n, my_un (wY_step_26 post (nI m) n 0) 0 v) := by
  obtain ⟨r, u', v', I', hX, hY⟩ := mc_steps m hm m 0 u v (by omega) I
  exact ⟨r, u', v', I', fun post hp => ⟨m + 1, hX post hp⟩, fun post hp => ⟨m + 1, hY post hp⟩⟩
theorem i_vc_step {k : Nat} {u : SX} {v : SY} (I : i_Rel k u v) (hk : k + 3 ≤ 1536) (v1 : Int32) : wpX_step (fun r u' => wpY_step (fun r' v' => r' = r ∧ i_Rel (k + 3) u' v') v v1) u v1 := by
  have I0 : mc_R u v := I
  obtain ⟨pc, sb, sg, st, ex, ma, md, ir, me, re, rfl, rfl, wp, wm, wr, hs⟩ := I
  unfold wpX_step wpY_step
  refine br_c (fun a => br_c (fun b => ?_) (fun b => ?_)) (fun a => ?_)
  · obtain ⟨m, hm, rfl⟩ := nI_of2 (n := 100) (M := 100) (by decide) (Int32.not_lt.mpr a) b
    obtain ⟨r, u', v', I', hX, hY⟩ := mc_step m hm I0
    exact hX _ (br_t a (br_t b (hY _ ⟨rfl, I'⟩)))
  · obtain ⟨r, u', v', I', hX, hY⟩ := mc_step 100 (by decide) I0
    exact hX _ (br_t a (br_f b (hY _ ⟨rfl, I'⟩)))
  · obtain ⟨r, u', v', I', hX, hY⟩ := mc_step 0 (by decide) I0
    exact hX _ (br_f a (hY _ ⟨rfl, I'⟩))
theorem i_vc_place {k : Nat} {u : SX} {v : SY} (I : i_Rel k u v) (hk : k + 3 ≤ 1536) : wpX_place (fun r => wpY_place (fun r' => r' = r ∧ i_Rel (k + 3) u v) v) u := by
  have I0 := I
  obtain ⟨pc, sb, sg, st, ex, ma, md, ir, me, re, rfl, rfl, wp, wm, wr, hs⟩ := I
  exact And.intro rfl I0
theorem i_vc_sign {k : Nat} {u : SX} {v : SY} (I : i_Rel k u v) (hk : k + 3 ≤ 1536) : wpX_sign (fun r => wpY_sign (fun r' => r' = r ∧ i_Rel (k + 3) u v) v) u := by
  have I0 := I
  obtain ⟨pc, sb, sg, st, ex, ma, md, ir, me, re, rfl, rfl, wp, wm, wr, hs⟩ := I
  unfold wpX_sign wpY_sign
  rcases hs with ⟨rfl, rfl⟩ | ⟨rfl, rfl⟩ | ⟨rfl, rfl⟩
  · exact br_t rfl (And.intro rfl I0)
  · exact br_f (by decide) (br_t rfl (And.intro rfl I0))
  · exact br_f (by decide) (br_f (by decide) (And.intro rfl I0))
theorem i_vc_status {k : Nat} {u : SX} {v : SY} (I : i_Rel k u v) (hk : k + 3 ≤ 1536) : wpX_status (fun r => wpY_status (fun r' => r' = r ∧ i_Rel (k + 3) u v) v) u := by
  have I0 := I
  obtain ⟨pc, sb, sg, st, ex, ma, md, ir, me, re, rfl, rfl, wp, wm, wr, hs⟩ := I
  exact And.intro rfl I0
theorem i_vc_count {k : Nat} {u : SX} {v : SY} (I : i_Rel k u v) (hk : k + 3 ≤ 1536) : wpX_count (fun r => wpY_count (fun r' => r' = r ∧ i_Rel (k + 3) u v) v) u := by
  have I0 := I
  obtain ⟨pc, sb, sg, st, ex, ma, md, ir, me, re, rfl, rfl, wp, wm, wr, hs⟩ := I
  exact And.intro rfl I0
end
